section
/-! rows of the kit's rows to paste (starting text) -/
theorem pk_us {f : Nat → Int32} {k : Nat} {x : Int32} : upd f k x k = x := if_pos rfl
theorem pk_un {f : Nat → Int32} {k j : Nat} {x : Int32} (h : j ≠ k) : upd f k x j = f j := if_neg h
theorem pk_sub {a b : Nat} (h : b ≤ a) : nI a - nI b = nI (a - b) := by
  obtain ⟨c, rfl⟩ : ∃ c, a = c + b := ⟨a - b, by omega⟩
  rw [← nI_add, Int32.add_sub_cancel, Nat.add_sub_cancel]
theorem pk_m1 (n : Nat) : nI (n + 1) + (-1) = nI n := by
  rw [← nI_1, Int32.add_assoc, show (1 : Int32) + (-1) = 0 from rfl, Int32.add_zero]
theorem pk_mul (a b : Nat) : nI a * nI b = nI (a * b) := (Int32.ofNat_mul a b).symm
theorem pk_div {a d : Nat} (ha : a < 2 ^ 31) (h0 : 0 < d) (hd : d < 2 ^ 31) : nI a / nI d = nI (a / d) := by
  apply Int32.toInt_inj.mp
  rw [lg_idiv_nonneg (by rw [nI_toInt ha]; omega) (by rw [nI_toInt hd]; omega), nI_toInt ha, nI_toInt hd, nI_toInt (Nat.lt_of_le_of_lt (Nat.div_le_self a d) ha)]
  first | rfl | exact (Int.natCast_ediv _ _).symm
theorem pk_rem {a d : Nat} (ha : a < 2 ^ 31) (h0 : 0 < d) (hd : d < 2 ^ 31) : nI a - nI a / nI d * nI d = nI (a % d) := by
  rw [pk_div ha h0 hd, pk_mul, pk_sub (Nat.div_mul_le_self a d)]
  exact congrArg nI (by have := Nat.div_add_mod' a d; omega)
theorem pk_sub_toInt {a b : Nat} (ha : a < 2 ^ 30) (hb : b < 2 ^ 30) : (nI a - nI b).toInt = (a : Int) - b := by
  rw [Int32.toInt_sub, nI_toInt (by omega), nI_toInt (by omega)]
  exact Int.bmod_eq_of_le (by omega) (by omega)
theorem pk_sneg {a b : Nat} (hb : b < 2 ^ 30) (h : a < b) : nI a - nI b < 0 := by
  rw [Int32.lt_iff_toInt_lt, pk_sub_toInt (by omega) hb, show (0 : Int32).toInt = 0 from by decide]
  omega
theorem pk_ix (x : Int32) {n : Nat} (hn : n < 2 ^ 31) : x < 0 ∨ nI n ≤ x ∨ ∃ j : Nat, j < n ∧ x = nI j := by
  by_cases h : x < 0
  · exact Or.inl h
  · obtain ⟨j, hj, rfl⟩ := nI_of h
    by_cases h2 : j < n
    · exact Or.inr (Or.inr ⟨j, h2, rfl⟩)
    · exact Or.inr (Or.inl (nI_le (by omega) hj))
theorem pk_le {x y : Int32} {A B : Prop} (a b : Nat) (f : a ≤ b → A) (g : b < a → B) (hx : x = nI a := by rfl) (hy : y = nI b := by rfl) (ha : a < 2 ^ 31 := by omega) (hb : b < 2 ^ 31 := by omega) : (x ≤ y → A) ∧ (¬ x ≤ y → B) := by
  subst hx hy
  rw [nI_leI ha hb]
  exact ⟨f, fun z => g (by omega)⟩
theorem pk_lt {x y : Int32} {A B : Prop} (a b : Nat) (f : a < b → A) (g : b ≤ a → B) (hx : x = nI a := by rfl) (hy : y = nI b := by rfl) (ha : a < 2 ^ 31 := by omega) (hb : b < 2 ^ 31 := by omega) : (x < y → A) ∧ (¬ x < y → B) := by
  subst hx hy
  rw [nI_ltI ha hb]
  exact ⟨f, fun z => g (by omega)⟩
theorem pk_eq {x y : Int32} {A B : Prop} (a b : Nat) (f : a = b → A) (g : a ≠ b → B) (hx : x = nI a := by rfl) (hy : y = nI b := by rfl) (ha : a < 2 ^ 31 := by omega) (hb : b < 2 ^ 31 := by omega) : (x = y → A) ∧ (¬ x = y → B) := by
  subst hx hy
  rw [nI_eq ha hb]
  exact ⟨f, g⟩
theorem pk_in {x : Int32} (n N : Nat) (h : n < N) (hx : x = nI n := by rfl) (hN : N < 2 ^ 31 := by omega) : vp_in x N := by
  subst hx
  exact vp_in_nI h hN
theorem pk_cl {x : Int32} (n : Nat) (hx : x = nI n := by rfl) (h : n < 2 ^ 31 := by omega) : x.toNatClampNeg = n := by
  subst hx
  exact nI_clamp h
theorem pk_tn {n : Nat} (h : n < 2 ^ 32) : (nI n).toBitVec.toNat = n := Nat.mod_eq_of_lt h
theorem pk_and (x : Int32) {m : Int32} (k : Nat) (hm : m.toBitVec.toNat = 2 ^ k - 1) : x &&& m = nI (x.toBitVec.toNat % 2 ^ k) := by
  apply Int32.toBitVec_inj.mp
  apply BitVec.eq_of_toNat_eq
  rw [Int32.toBitVec_and, BitVec.toNat_and, hm, Nat.and_two_pow_sub_one_eq_mod]
  show _ = (BitVec.ofNat 32 _).toNat
  rw [BitVec.toNat_ofNat]
  exact (Nat.mod_eq_of_lt (Nat.lt_of_le_of_lt (Nat.mod_le _ _) x.toBitVec.isLt)).symm
theorem pk_andN {n : Nat} (h : n < 2 ^ 32) {m : Int32} (k : Nat) (hm : m.toBitVec.toNat = 2 ^ k - 1) : nI n &&& m = nI (n % 2 ^ k) := by
  rw [pk_and _ k hm, pk_tn h]
theorem pk_shl (a s : Int32) (k : Nat) (hs : (s.toBitVec.smod 32).toNat = k) : (a <<< s).toBitVec.toNat = a.toBitVec.toNat * 2 ^ k % 2 ^ 32 := by
  show (a.toBitVec <<< (s.toBitVec.smod 32).toNat).toNat = _
  rw [hs, BitVec.toNat_shiftLeft, Nat.shiftLeft_eq]
theorem pk_shlN {n : Nat} (s : Int32) (k : Nat) (hs : (s.toBitVec.smod 32).toNat = k) (h : n * 2 ^ k < 2 ^ 32) : nI n <<< s = nI (n * 2 ^ k) := by
  apply Int32.toBitVec_inj.mp
  apply BitVec.eq_of_toNat_eq
  have hn : n < 2 ^ 32 := Nat.lt_of_le_of_lt (Nat.le_mul_of_pos_right n (Nat.two_pow_pos k)) h
  rw [pk_shl _ _ k hs, pk_tn hn, pk_tn h, Nat.mod_eq_of_lt h]
theorem pk_shr (a s : Int32) (k : Nat) (hs : (s.toBitVec.smod 32).toNat = k) : (a >>> s).toInt = a.toInt >>> k := by
  show (a.toBitVec.sshiftRight (s.toBitVec.smod 32).toNat).toInt = _
  rw [hs, BitVec.toInt_sshiftRight]
  rfl
theorem pk_shrN {n : Nat} (h : n < 2 ^ 31) (s : Int32) (k : Nat) (hs : (s.toBitVec.smod 32).toNat = k) : nI n >>> s = nI (n / 2 ^ k) := by
  apply Int32.toInt_inj.mp
  have h2 : n / 2 ^ k ≤ n := Nat.div_le_self _ _
  rw [pk_shr _ _ k hs, nI_toInt h, nI_toInt (by omega), Int.shiftRight_eq_div_pow]
  rfl
def bt (x : Int32) (i : Nat) : Bool := x.toBitVec.getLsbD i
theorem b_ext {x y : Int32} (h : ∀ i, i < 32 → bt x i = bt y i) : x = y := Int32.toBitVec_inj.mp (BitVec.eq_of_getLsbD_eq (fun i hi => h i hi))
theorem b_or (x y : Int32) (i : Nat) : bt (x ||| y) i = (bt x i || bt y i) := by unfold bt; rw [Int32.toBitVec_or, BitVec.getLsbD_or]
theorem b_and (x y : Int32) (i : Nat) : bt (x &&& y) i = (bt x i && bt y i) := by unfold bt; rw [Int32.toBitVec_and, BitVec.getLsbD_and]
theorem b_xor (x y : Int32) (i : Nat) : bt (x ^^^ y) i = (bt x i ^^ bt y i) := by unfold bt; rw [Int32.toBitVec_xor, BitVec.getLsbD_xor]
theorem b_big {x : Int32} {i : Nat} (h : 32 ≤ i) : bt x i = false := BitVec.getLsbD_of_ge _ _ h
theorem b_m1 : ∀ i, i < 32 → bt (-1) i = true := by decide +kernel
theorem b_0 (i : Nat) : bt 0 i = false := BitVec.getLsbD_zero
theorem s_l : ∀ n, n < 32 → ((nI n &&& 31).toBitVec.smod 32).toNat = n := by decide +kernel
theorem b_shl (n : Nat) (hn : n < 32) (x : Int32) {i : Nat} (hi : i < 32) : bt (x <<< (nI n &&& 31)) i = (decide (n ≤ i) && bt x (i - n)) := by
  unfold bt
  rw [Int32.toBitVec_shiftLeft]
  show (x.toBitVec <<< ((nI n &&& 31).toBitVec.smod 32).toNat).getLsbD i = _
  rw [s_l n hn, BitVec.getLsbD_shiftLeft]
  rcases Nat.lt_or_ge i n with h | h
  · simp [h, Nat.not_le.mpr h]
  · simp [hi, h, Nat.not_lt.mpr h]
theorem b_sshr (n : Nat) (hn : n < 32) (x : Int32) {i : Nat} (hi : i < 32) : bt (x >>> (nI n &&& 31)) i = if n + i < 32 then bt x (n + i) else bt x 31 := by
  unfold bt
  rw [Int32.toBitVec_shiftRight]
  show (x.toBitVec.sshiftRight ((nI n &&& 31).toBitVec.smod 32).toNat).getLsbD i = _
  rw [s_l n hn, BitVec.getLsbD_sshiftRight, BitVec.msb_eq_getLsbD_last]
  simp [hi]
theorem nx_and (a b : Nat) : nI a &&& nI b = nI (a &&& b) := by
  apply Int32.toBitVec_inj.1
  show BitVec.ofNat 32 a &&& BitVec.ofNat 32 b = BitVec.ofNat 32 (a &&& b)
  apply BitVec.eq_of_getLsbD_eq
  intro i hi
  simp [hi]
theorem nx_xor (a b : Nat) : nI a ^^^ nI b = nI (a ^^^ b) := by
  apply Int32.toBitVec_inj.1
  show BitVec.ofNat 32 a ^^^ BitVec.ofNat 32 b = BitVec.ofNat 32 (a ^^^ b)
  apply BitVec.eq_of_getLsbD_eq
  intro i hi
  simp [hi]
end
section
/-! P1: the grid's tables, the sets of cells, the borders, the pieces: pure -/
def sl_hs (m e : Nat) : Bool := m.testBit (23 - e)
def sl_A (e : Nat) : Nat := if e < 12 then e / 3 * 4 + e % 3 else e - 12
def sl_B (e : Nat) : Nat := if e < 12 then e / 3 * 4 + e % 3 + 1 else e - 8
/-- the edges of a point by their four places; 99: none -/
def sl_PT : List Nat := [0, 12, 99, 99, 0, 1, 13, 99, 1, 2, 14, 99, 2, 15, 99, 99, 3, 12, 16, 99, 3, 4, 13, 17, 4, 5, 14, 18, 5, 15, 19, 99, 6, 16, 20, 99, 6, 7, 17, 21, 7, 8, 18, 22, 8, 19, 23, 99, 9, 20, 99, 99, 9, 10, 21, 99, 10, 11, 22, 99, 11, 23, 99, 99]
def sl_P (j : Nat) : Nat := sl_PT.getD j 99
/-- the edges of a cell by their four places -/
def sl_CT : List Nat := [0, 3, 12, 13, 1, 4, 13, 14, 2, 5, 14, 15, 3, 6, 16, 17, 4, 7, 17, 18, 5, 8, 18, 19, 6, 9, 20, 21, 7, 10, 21, 22, 8, 11, 22, 23]
def sl_C (j : Nat) : Nat := sl_CT.getD j 99
/-- is the cell of row r - 1 and column c - 1 in the set s -/
def sl_in (s r c : Nat) : Bool := decide (1 ≤ r) && decide (r ≤ 3) && decide (1 ≤ c) && decide (c ≤ 3) && s.testBit ((r - 1) * 3 + (c - 1))
def sl_bes (q i : Nat) : Bool := sl_in q (i / 3) (i % 3 + 1) || sl_in q (i / 3 + 2) (i % 3 + 1) || sl_in q (i / 3 + 1) (i % 3) || sl_in q (i / 3 + 1) (i % 3 + 2)
def sl_cs (s q i : Nat) : Nat := if (sl_in s (i / 3 + 1) (i % 3 + 1) && sl_bes q i) = true then q ||| 1 <<< i else q
def sl_cp (s q : Nat) : Nat → Nat
  | 0 => q
  | i + 1 => sl_cs s (sl_cp s q i) i
def sl_low (s : Nat) : Nat := s &&& (512 - s)
def sl_cr (s : Nat) : Nat → Nat
  | 0 => sl_low s
  | k + 1 => sl_cp s (sl_cr s k) 9
def sl_conn (s : Nat) : Bool := Nat.beq (sl_cr s 9) s
def sl_out (s : Nat) : Bool := sl_in s 2 2 || !sl_in s 1 2 || !sl_in s 2 1 || !sl_in s 2 3 || !sl_in s 3 2
def sl_good (s : Nat) : Bool := decide (1 ≤ s) && sl_conn s && sl_out s
/-- edge e borders the set s -/
def sl_ed (s e : Nat) : Bool := if e < 12 then sl_in s (e / 3 + 1) (e % 3 + 1) != sl_in s (e / 3) (e % 3 + 1) else sl_in s ((e - 12) / 4 + 1) ((e - 12) % 4 + 1) != sl_in s ((e - 12) / 4 + 1) ((e - 12) % 4)
def sl_bd (s : Nat) : Nat → Nat
  | 0 => 0
  | e + 1 => if sl_ed s e = true then sl_bd s e ||| 1 <<< (23 - e) else sl_bd s e
def sl_brd (s : Nat) : Nat := sl_bd s 24
/-- one place's share of a count -/
def sl_t (C : Nat → Bool) (e : Nat) : Nat := if e < 24 ∧ C e = true then 1 else 0
def sl_dq (C : Nat → Bool) (E : Nat → Nat) : Nat → Nat
  | 0 => 0
  | k + 1 => sl_dq C E k + sl_t C (E k)
def sl_pe (p : Nat) : Nat → Nat := fun k => sl_P (p * 4 + k)
def sl_ce (c : Nat) : Nat → Nat := fun k => sl_C (c * 4 + k)
def sl_deg (C : Nat → Bool) (p : Nat) : Nat := sl_dq C (sl_pe p) 4
/-- the pieces -/
def sl_rt (pc : Nat → Nat) : Nat → Nat → Nat
  | 0, p => p
  | f + 1, p => if pc p = p then p else sl_rt pc f (pc p)
def sl_un (pc : Nat → Nat) (x y : Nat) : Nat → Nat := fun j => if j = x then y else pc j
def sl_uf (C : Nat → Bool) : Nat → (Nat → Nat) × Nat
  | 0 => (fun p => p, 0)
  | e + 1 => if C e = true then
      (if sl_rt (sl_uf C e).1 16 (sl_A e) = sl_rt (sl_uf C e).1 16 (sl_B e) then ((sl_uf C e).1, (sl_uf C e).2 + 1)
       else (sl_un (sl_uf C e).1 (sl_rt (sl_uf C e).1 16 (sl_A e)) (sl_rt (sl_uf C e).1 16 (sl_B e)), (sl_uf C e).2))
    else sl_uf C e
def sl_pn (C : Nat → Bool) : Nat → Nat
  | 0 => 0
  | p + 1 => sl_pn C p + (if (sl_uf C 24).1 p = p ∧ 0 < sl_deg C p then 1 else 0)
def sl_clo (C : Nat → Bool) : Nat := (sl_uf C 24).2
def sl_pcs (C : Nat → Bool) : Nat := sl_pn C 16
def sl_K0 : List (Nat × Nat × Nat) := [(0, 0, 0), (4, 2293776, 396704), (4, 36700416, 430529), (6, 54854160, 405944352), (4, 587206656, 464354), (0, 0, 0), (6, 877666560, 440581185), (8, 1164390928, 415678040096), (4, 150324903936, 530979), (6, 223340724240, 419644832), (0, 0, 0), (8, 369422172688, 429716027424), (0, 0, 0), (0, 0, 0), (0, 0, 0), (10, 516560597520, 440029203105824), (4, 2405198462976, 564804), (0, 0, 0), (6, 3573451587840, 454281665), (8, 4741700977168, 416116455456), (0, 0, 0), (0, 0, 0), (8, 5910754763008, 465184144449), (10, 7079272722960, 426103241410592), (6, 3594922229760, 543410307), (8, 4767466586128, 429705990560), (8, 3594928914688, 450441234881), (8, 4767464489488, 429706000416), (0, 0, 0), (0, 0, 0), (10, 5940822155520, 461251824237633), (10, 7113624072720, 440018935449632), (4, 38483175407616, 598629), (0, 0, 0), (0, 0, 0), (0, 0, 0), (6, 57175225405440, 488918498), (0, 0, 0), (8, 75867215634688, 451584572481), (10, 94559200162320, 425668055107616), (0, 0, 0), (0, 0, 0), (0, 0, 0), (0, 0, 0), (0, 0, 0), (0, 0, 0), (0, 0, 0), (12, 95220625256976, 450589917722413088), (6, 57518755676160, 578047140), (0, 0, 0), (8, 76279465378048, 465174107585), (10, 95040169378320, 426102920230944), (8, 57518862635008, 485909351906), (0, 0, 0), (8, 76279431831808, 465174117441), (10, 95040119058960, 426102920546336), (8, 76309523857408, 556442162307), (10, 95074522824720, 440018614260128), (10, 76309532770560, 461251814200769), (10, 95074520728080, 440018614269984), (10, 57544668549120, 497099723787746), (12, 132604484080656, 450579061335855520), (10, 76309499224320, 461251814210625), (10, 95074470408720, 440018614585376)]
def sl_K1 : List (Nat × Nat × Nat) := [(4, 9851692904349696, 665254), (0, 0, 0), (0, 0, 0), (0, 0, 0), (0, 0, 0), (0, 0, 0), (0, 0, 0), (0, 0, 0), (6, 14636857703792640, 558159395), (8, 19422005323825168, 430177961376), (0, 0, 0), (10, 28992300613435920, 440502232168480), (0, 0, 0), (0, 0, 0), (0, 0, 0), (12, 38562596960023056, 451074285731547168), (0, 0, 0), (0, 0, 0), (0, 0, 0), (0, 0, 0), (0, 0, 0), (0, 0, 0), (0, 0, 0), (0, 0, 0), (8, 24210451509280768, 571554908291), (10, 28996698657849360, 440502222131616), (10, 24210451518193920, 461266926946753), (10, 28996698655752720, 440502222141472), (0, 0, 0), (0, 0, 0), (12, 33782946619597056, 472337333193194561), (12, 38569194023498256, 451074275463890976), (0, 0, 0), (0, 0, 0), (0, 0, 0), (0, 0, 0), (0, 0, 0), (0, 0, 0), (0, 0, 0), (0, 0, 0), (0, 0, 0), (0, 0, 0), (0, 0, 0), (0, 0, 0), (0, 0, 0), (0, 0, 0), (0, 0, 0), (14, 48227450232844816, 461900068602846349344), (0, 0, 0), (0, 0, 0), (0, 0, 0), (0, 0, 0), (0, 0, 0), (0, 0, 0), (0, 0, 0), (0, 0, 0), (10, 33853315319070720, 585272216097923), (12, 38657154922250256, 451074275142701472), (12, 33853315330212096, 472337333183157697), (12, 38657154920153616, 451074275142711328), (12, 29049475895463936, 509030600765885922), (14, 48264834091668496, 461900057746459791776), (12, 33853315296665856, 472337333183167553), (12, 38657154869834256, 451074275143026720)]
def sl_K2 : List (Nat × Nat × Nat) := [(4, 157627086469595136, 699079), (0, 0, 0), (0, 0, 0), (0, 0, 0), (0, 0, 0), (0, 0, 0), (0, 0, 0), (0, 0, 0), (0, 0, 0), (0, 0, 0), (0, 0, 0), (0, 0, 0), (0, 0, 0), (0, 0, 0), (0, 0, 0), (0, 0, 0), (6, 234189723260682240, 592796228), (0, 0, 0), (8, 310752085181202688, 465646078401), (10, 387314447096021520, 426118023297056), (0, 0, 0), (0, 0, 0), (10, 463876809814974720, 476821584002113), (12, 540439171998364176, 436344855847208992), (8, 310752115239682048, 556914133123), (10, 387314481449467920, 440033717326240), (10, 310752115248595200, 461252286171585), (10, 387314481447371280, 440033717336096), (0, 0, 0), (0, 0, 0), (12, 463876848472432896, 472322341039422529), (12, 540439214937551376, 450594526543185952), (0, 0, 0), (0, 0, 0), (0, 0, 0), (0, 0, 0), (0, 0, 0), (0, 0, 0), (0, 0, 0), (0, 0, 0), (0, 0, 0), (0, 0, 0), (0, 0, 0), (0, 0, 0), (0, 0, 0), (0, 0, 0), (0, 0, 0), (0, 0, 0), (8, 387367224148492288, 607023025316), (0, 0, 0), (10, 463947178525589760, 476821573965249), (12, 540527132895019536, 436344855526029344), (10, 387367224291102720, 497586278780386), (0, 0, 0), (10, 463947178492043520, 476821573975105), (12, 540527132844700176, 436344855526344736), (10, 463947217171906560, 570280062325891), (12, 540527175836303376, 450594526221996448), (12, 463947217183047936, 472322341029385665), (12, 540527175834206736, 450594526222006304), (12, 387367258687082496, 509030132261080546), (14, 693687093128156176, 461408794851657847200), (12, 463947217149501696, 472322341029395521), (12, 540527175783887376, 450594526222321696)]
def sl_K3 : List (Nat × Nat × Nat) := [(6, 235596823249551360, 680876262), (0, 0, 0), (0, 0, 0), (0, 0, 0), (0, 0, 0), (0, 0, 0), (0, 0, 0), (0, 0, 0), (8, 312440690188484608, 571543854627), (10, 389284531358203920, 440501868414368), (0, 0, 0), (12, 542972213746926096, 451073913256032288), (0, 0, 0), (0, 0, 0), (0, 0, 0), (14, 696659897192624656, 461899687174168086560), (8, 235597261352992768, 591238879812), (0, 0, 0), (10, 312441102547288320, 476316481309121), (12, 389284943733916176, 436328692561033248), (0, 0, 0), (0, 0, 0), (12, 466128785724416256, 487748076860259393), (14, 542972627179614736, 446800581182489069600), (8, 312440552783085568, 571543865475), (10, 389284325250105360, 440501868761504), (10, 312440552791998720, 461266915903937), (10, 389284325248008720, 440501868771360), (0, 0, 0), (0, 0, 0), (12, 466128098530304256, 472337321885350977), (12, 542971871252656656, 451073913612896288), (0, 0, 0), (0, 0, 0), (0, 0, 0), (0, 0, 0), (0, 0, 0), (0, 0, 0), (0, 0, 0), (0, 0, 0), (0, 0, 0), (0, 0, 0), (0, 0, 0), (0, 0, 0), (0, 0, 0), (0, 0, 0), (0, 0, 0), (0, 0, 0), (10, 389337720784158720, 605428612615332), (0, 0, 0), (12, 466199154435031296, 487748076850222529), (14, 543060588076270096, 446800581182167889952), (12, 389337720962420736, 509512186505481698), (0, 0, 0), (12, 466199154401485056, 487748076850232385), (14, 543060588025950736, 446800581182168205344), (10, 466198467229777920, 585260908254339), (12, 543059832151408656, 451073913291706784), (12, 466198467240919296, 472337321875314113), (12, 543059832149312016, 451073913291716640), (12, 389337102487719936, 509030600412515810), (14, 696782561957729296, 461899687211041231264), (12, 466198467207373056, 472337321875323969), (12, 543059832098992656, 451073913292032032)]
def sl_K4 : List (Nat × Nat × Nat) := [(4, 2522033383513522176, 732904), (0, 0, 0), (0, 0, 0), (0, 0, 0), (0, 0, 0), (0, 0, 0), (0, 0, 0), (0, 0, 0), (0, 0, 0), (0, 0, 0), (0, 0, 0), (0, 0, 0), (0, 0, 0), (0, 0, 0), (0, 0, 0), (0, 0, 0), (0, 0, 0), (0, 0, 0), (0, 0, 0), (0, 0, 0), (0, 0, 0), (0, 0, 0), (0, 0, 0), (0, 0, 0), (0, 0, 0), (0, 0, 0), (0, 0, 0), (0, 0, 0), (0, 0, 0), (0, 0, 0), (0, 0, 0), (0, 0, 0), (6, 3747035572170915840, 627433061), (0, 0, 0), (0, 0, 0), (0, 0, 0), (8, 4972033362899243008, 501114195426), (0, 0, 0), (10, 6197031153536344320, 462437375130689), (12, 7422028944165777936, 435884561163323424), (0, 0, 0), (0, 0, 0), (0, 0, 0), (0, 0, 0), (0, 0, 0), (0, 0, 0), (0, 0, 0), (14, 7422029751619760656, 461404076220484126752), (8, 4972033843834912768, 592382250148), (0, 0, 0), (10, 6197031703191486720, 476353069159873), (12, 7422029562540392976, 436329863372257312), (10, 4972033843977523200, 497571638005218), (0, 0, 0), (10, 6197031703157940480, 476353069169729), (12, 7422029562490073616, 436329863372572704), (10, 6197031741837803520, 569811557520515), (12, 7422029605481676816, 450579534068224416), (12, 6197031741848944896, 472321872524580289), (12, 7422029605479580176, 450579534068234272), (12, 4972033878373502976, 509030117620305378), (14, 9872025332732482576, 461393442886195286432), (12, 6197031741815398656, 472321872524590145), (12, 7422029605429260816, 450579534068549664)]
def sl_K5 : List (Nat × Nat × Nat) := [(0, 0, 0), (0, 0, 0), (0, 0, 0), (0, 0, 0), (0, 0, 0), (0, 0, 0), (0, 0, 0), (0, 0, 0), (0, 0, 0), (0, 0, 0), (0, 0, 0), (0, 0, 0), (0, 0, 0), (0, 0, 0), (0, 0, 0), (0, 0, 0), (0, 0, 0), (0, 0, 0), (0, 0, 0), (0, 0, 0), (0, 0, 0), (0, 0, 0), (0, 0, 0), (0, 0, 0), (0, 0, 0), (0, 0, 0), (0, 0, 0), (0, 0, 0), (0, 0, 0), (0, 0, 0), (0, 0, 0), (0, 0, 0), (0, 0, 0), (0, 0, 0), (0, 0, 0), (0, 0, 0), (0, 0, 0), (0, 0, 0), (0, 0, 0), (0, 0, 0), (0, 0, 0), (0, 0, 0), (0, 0, 0), (0, 0, 0), (0, 0, 0), (0, 0, 0), (0, 0, 0), (16, 7479732130435510800, 472985670249787394852896), (0, 0, 0), (0, 0, 0), (0, 0, 0), (0, 0, 0), (0, 0, 0), (0, 0, 0), (0, 0, 0), (0, 0, 0), (12, 6240378896841179136, 599318764067591299), (14, 7470161835089264656, 461900058219192160672), (14, 6240378896854548736, 483673429194336474561), (14, 7470161835087168016, 461900058219192170528), (14, 5010595958808580096, 521247335184728837602), (16, 9929727711548232720, 472985659616453106012576), (14, 6240378896821002496, 483673429194336484417), (14, 7470161835036848656, 461900058219192485920)]
def sl_K6 : List (Nat × Nat × Nat) := [(6, 3769549171992821760, 715513095), (0, 0, 0), (0, 0, 0), (0, 0, 0), (0, 0, 0), (0, 0, 0), (0, 0, 0), (0, 0, 0), (0, 0, 0), (0, 0, 0), (0, 0, 0), (0, 0, 0), (0, 0, 0), (0, 0, 0), (0, 0, 0), (0, 0, 0), (8, 4999051043015753728, 607011971652), (0, 0, 0), (10, 6228552501731262720, 476821220248001), (12, 7458053960439104016, 436344844207077408), (0, 0, 0), (0, 0, 0), (12, 8687555419950817536, 488264929533672513), (14, 9917056878927229456, 446817120468038289440), (10, 6228552540377579520, 570279708608643), (12, 7458054003380387856, 450594514903044512), (12, 6228552540388720896, 472322340675668417), (12, 7458054003378291216, 450594514903054368), (0, 0, 0), (0, 0, 0), (14, 8687555467198341376, 483658076851884178497), (14, 9917056930454254096, 461408783260718696480), (8, 3769556181647884288, 626706996837), (0, 0, 0), (0, 0, 0), (0, 0, 0), (10, 4999057640756613120, 512635833142754), (0, 0, 0), (12, 6228559099742658816, 473519708838673473), (14, 7458060558719070736, 446345273405798320160), (0, 0, 0), (0, 0, 0), (0, 0, 0), (0, 0, 0), (0, 0, 0), (0, 0, 0), (0, 0, 0), (0, 0, 0), (8, 4999048844529369088, 607011982500), (0, 0, 0), (10, 6228549204001685760, 476821220595137), (12, 7458049563466334736, 436344844218185760), (10, 4999048844671979520, 497586267737570), (0, 0, 0), (10, 6228549203968139520, 476821220604993), (12, 7458049563416015376, 436344844218501152), (10, 6228549242648002560, 570279708955779), (12, 7458049606407618576, 450594514914152864), (12, 6228549242659143936, 472322340676015553), (12, 7458049606405521936, 450594514914162720), (12, 4999048879067959296, 509030132250037730), (14, 9917050333889909776, 461408783272426017184), (12, 6228549242625597696, 472322340676025409), (12, 7458049606355202576, 450594514914478112)]
def sl_K7 : List (Nat × Nat × Nat) := [(8, 5001020955519090688, 697206284518), (0, 0, 0), (0, 0, 0), (0, 0, 0), (0, 0, 0), (0, 0, 0), (0, 0, 0), (0, 0, 0), (10, 6230803927840849920, 585260554526243), (12, 7460586865803591696, 451073901972407712), (0, 0, 0), (14, 9920152741778096656, 461899675619745216544), (0, 0, 0), (0, 0, 0), (0, 0, 0), (16, 12379718618809578000, 472985267834619092764704), (10, 5001021539651420160, 605428601561668), (0, 0, 0), (12, 6230804477640704256, 487748076496505281), (14, 7460587415620354576, 446800581170848938016), (0, 0, 0), (0, 0, 0), (14, 8690370354403614976, 499454030332421127233), (16, 9920153292651835920, 457523795118949303552032), (10, 6230803790435450880, 585260554537091), (12, 7460586659695493136, 451073901972754848), (12, 6230803790446592256, 472337321521596865), (12, 7460586659693396496, 451073901972764704), (0, 0, 0), (0, 0, 0), (14, 8690369529770680576, 483673417238114909249), (14, 9920152399283827216, 461899675620102080544), (10, 3771247398035128320, 641243225120357), (0, 0, 0), (0, 0, 0), (0, 0, 0), (12, 5001030336449089536, 524922941469347298), (0, 0, 0), (14, 6230813274708910336, 484883664997398985793), (16, 7460596212957131280, 457057543428228595025952), (12, 8690367468709871616, 599306808201911843), (14, 9920150406957957136, 461899675631490418080), (0, 0, 0), (0, 0, 0), (14, 5001032672955928576, 537532886866848370146), (16, 12379713946954724880, 472985267846972841379232), (0, 0, 0), (0, 0, 0), (10, 5001019341165035520, 605428601572516), (0, 0, 0), (12, 6230801179911127296, 487748076496852417), (14, 7460583018647585296, 446800581170860046368), (12, 5001019341343297536, 509512186494438882), (0, 0, 0), (12, 6230801179877581056, 487748076496862273), (14, 7460583018597265936, 446800581170860361760), (10, 6230800492705873920, 585260554884227), (12, 7460582262722723856, 451073901983863200), (12, 6230800492717015296, 472337321521944001), (12, 7460582262720627216, 451073901983873056), (12, 5001018722868596736, 509030600401472994), (14, 9920145802719482896, 461899675631809401248), (12, 6230800492683469056, 472337321521953857), (12, 7460582262670307856, 451073901984188448)]
def sl_K (s : Nat) : Nat × Nat × Nat := (match s / 64 with | 0 => sl_K0 | 1 => sl_K1 | 2 => sl_K2 | 3 => sl_K3 | 4 => sl_K4 | 5 => sl_K5 | 6 => sl_K6 | _ => sl_K7).getD (s % 64) (0, 0, 0)
def sl_ix (c p : Nat) : Nat := c / 16 ^ p % 16
def sl_iv (c l : Nat) : Nat := c / 32 ^ l % 32
/-- the place of an edge in the loop: a, b its ends' places, k the length -/
def sl_pos (k a b : Nat) : Nat := if b = a + 1 then a else if a = b + 1 then b else k - 1
/-- what the certificate says of one edge -/
def sl_ck (k a b v e : Nat) : Bool := (decide (a < k) && decide (b < k)) && ((decide (b = a + 1) || decide (a = b + 1) || (decide (a = 0) && decide (b + 1 = k)) || (decide (b = 0) && decide (a + 1 = k))) && decide (v = e))
def sl_cke (s : Nat) (c : Nat × Nat × Nat) (e : Nat) : Bool := !sl_ed s e || sl_ck c.1 (sl_ix c.2.1 (sl_A e)) (sl_ix c.2.1 (sl_B e)) (sl_iv c.2.2 (sl_pos c.1 (sl_ix c.2.1 (sl_A e)) (sl_ix c.2.1 (sl_B e)))) e
def sl_d02 (C : Nat → Bool) : Bool := (List.range 16).all (fun p => decide (sl_deg C p = 0) || decide (sl_deg C p = 2))
/-- the check of one set of cells -/
def sl_chk (s : Nat) : Bool := if sl_good s = true then sl_d02 (sl_ed s) && decide (sl_clo (sl_ed s) = 1) && decide (sl_pcs (sl_ed s) = 1) && (List.range 24).all (sl_cke s (sl_K s))
  else decide (s = 0) || !sl_d02 (sl_ed s) || !(decide (sl_clo (sl_ed s) = 0) || (decide (sl_clo (sl_ed s) = 1) && decide (sl_pcs (sl_ed s) ≤ 1)))
end
section
/-! P2: the sets of cells one by one -/
theorem sl_chk0 : (List.range' 0 64).all sl_chk = true := by decide +kernel
theorem sl_chk1 : (List.range' 64 64).all sl_chk = true := by decide +kernel
theorem sl_chk2 : (List.range' 128 64).all sl_chk = true := by decide +kernel
theorem sl_chk3 : (List.range' 192 64).all sl_chk = true := by decide +kernel
theorem sl_chk4 : (List.range' 256 64).all sl_chk = true := by decide +kernel
theorem sl_chk5 : (List.range' 320 64).all sl_chk = true := by decide +kernel
theorem sl_chk6 : (List.range' 384 64).all sl_chk = true := by decide +kernel
theorem sl_chk7 : (List.range' 448 64).all sl_chk = true := by decide +kernel
theorem sl_chk_r {a n s : Nat} (h : (List.range' a n).all sl_chk = true) (h1 : a ≤ s) (h2 : s < a + n) : sl_chk s = true :=
  List.all_eq_true.mp h s (List.mem_range'_1.mpr ⟨h1, h2⟩)
theorem sl_chk_all {s : Nat} (h : s < 512) : sl_chk s = true := by
  rcases Nat.lt_or_ge s 64 with h0 | h0
  · exact sl_chk_r sl_chk0 (by omega) (by omega)
  rcases Nat.lt_or_ge s 128 with h1 | h1
  · exact sl_chk_r sl_chk1 (by omega) (by omega)
  rcases Nat.lt_or_ge s 192 with h2 | h2
  · exact sl_chk_r sl_chk2 (by omega) (by omega)
  rcases Nat.lt_or_ge s 256 with h3 | h3
  · exact sl_chk_r sl_chk3 (by omega) (by omega)
  rcases Nat.lt_or_ge s 320 with h4 | h4
  · exact sl_chk_r sl_chk4 (by omega) (by omega)
  rcases Nat.lt_or_ge s 384 with h5 | h5
  · exact sl_chk_r sl_chk5 (by omega) (by omega)
  rcases Nat.lt_or_ge s 448 with h6 | h6
  · exact sl_chk_r sl_chk6 (by omega) (by omega)
  · exact sl_chk_r sl_chk7 (by omega) (by omega)
/-- the number of loops -/
def sl_ct (p : Nat → Bool) : Nat → Nat
  | 0 => 0
  | n + 1 => sl_ct p n + (if p n = true then 1 else 0)
theorem sl_ct_good : sl_ct sl_good 512 = 213 := by decide +kernel
/-- a set of cells read off its border -/
def sl_dec (C : Nat → Bool) (i : Nat) : Bool := match i with
  | 0 => C 12
  | 1 => C 12 ^^ C 13
  | 2 => C 12 ^^ C 13 ^^ C 14
  | 3 => C 16
  | 4 => C 16 ^^ C 17
  | 5 => C 16 ^^ C 17 ^^ C 18
  | 6 => C 20
  | 7 => C 20 ^^ C 21
  | _ => C 20 ^^ C 21 ^^ C 22
def sl_num (b : Nat → Bool) : Nat → Nat
  | 0 => 0
  | i + 1 => sl_num b i + (if b i = true then 2 ^ i else 0)
theorem sl_inj_all : (List.range 512).all (fun s => Nat.beq (sl_num (sl_dec (sl_ed s)) 9) s) = true := by decide +kernel
end
section
/-! P3: even degrees: a border -/
def sl_u (C : Nat → Bool) (e : Nat) : Bool := decide (e < 24) && C e
theorem sl_t_u (C : Nat → Bool) (e : Nat) : sl_t C e = (sl_u C e).toNat := by
  unfold sl_t sl_u
  by_cases h : e < 24
  · cases hc : C e <;> simp [h]
  · simp [h]
theorem sl_par4 {C : Nat → Bool} {a b c d : Nat} (h : (0 + sl_t C a + sl_t C b + sl_t C c + sl_t C d) % 2 = 0) : (sl_u C a ^^ sl_u C b ^^ sl_u C c ^^ sl_u C d) = false := by
  rw [sl_t_u, sl_t_u, sl_t_u, sl_t_u] at h
  revert h
  cases sl_u C a <;> cases sl_u C b <;> cases sl_u C c <;> cases sl_u C d <;> decide
theorem sl_x2 : ∀ {a b : Bool}, (a ^^ b ^^ false ^^ false) = false → a = b := by decide
theorem sl_x2' : ∀ {a b : Bool}, (a ^^ b ^^ false ^^ false) = false → b = a := by decide
theorem sl_x31 : ∀ {a b c : Bool}, (a ^^ b ^^ c ^^ false) = false → a = (b ^^ c) := by decide
theorem sl_x32 : ∀ {a b c : Bool}, (a ^^ b ^^ c ^^ false) = false → b = (a ^^ c) := by decide
theorem sl_x33 : ∀ {a b c : Bool}, (a ^^ b ^^ c ^^ false) = false → c = (a ^^ b) := by decide
theorem sl_x42 : ∀ {a b c d : Bool}, (a ^^ b ^^ c ^^ d) = false → b = ((a ^^ c) ^^ d) := by decide
def sl_n9 (a b c d e f g h i : Bool) : Nat := a.toNat + 2 * (a ^^ b).toNat + 4 * ((a ^^ b) ^^ c).toNat + 8 * d.toNat + 16 * (d ^^ e).toNat + 32 * ((d ^^ e) ^^ f).toNat + 64 * g.toNat + 128 * (g ^^ h).toNat + 256 * ((g ^^ h) ^^ i).toNat
def sl_L9 (a b c d e f g h i : Bool) : List Bool :=
  [a, a ^^ b, (a ^^ b) ^^ c, a ^^ d, ((a ^^ d) ^^ b) ^^ e, ((((a ^^ d) ^^ b) ^^ e) ^^ c) ^^ f, d ^^ g, ((d ^^ g) ^^ e) ^^ h, ((((d ^^ g) ^^ e) ^^ h) ^^ f) ^^ i, g, g ^^ h, (g ^^ h) ^^ i,
   a, b, c, (a ^^ b) ^^ c, d, e, f, ((((((a ^^ d) ^^ b) ^^ e) ^^ c) ^^ f) ^^ ((a ^^ b) ^^ c)), g, h, i, ((((((d ^^ g) ^^ e) ^^ h) ^^ f) ^^ i) ^^ (((((((a ^^ d) ^^ b) ^^ e) ^^ c) ^^ f) ^^ ((a ^^ b) ^^ c))))]
theorem sl_ev9 : ∀ a b c d e f g h i : Bool, (decide (sl_n9 a b c d e f g h i < 512) && ((List.range 24).map (sl_ed (sl_n9 a b c d e f g h i)) == sl_L9 a b c d e f g h i)) = true := by decide +kernel
theorem sl_ev {C : Nat → Bool} (h : ∀ p, p < 16 → sl_deg C p % 2 = 0) : ∃ s, s < 512 ∧ ∀ e, e < 24 → C e = sl_ed s e := by
  have e0 : C 0 = C 12 := sl_x2 (sl_par4 (C := C) (a := 0) (b := 12) (c := 99) (d := 99) (h 0 (by decide)))
  have e1 : C 1 = (C 0 ^^ C 13) := sl_x32 (sl_par4 (C := C) (a := 0) (b := 1) (c := 13) (d := 99) (h 1 (by decide)))
  have e2 : C 2 = (C 1 ^^ C 14) := sl_x32 (sl_par4 (C := C) (a := 1) (b := 2) (c := 14) (d := 99) (h 2 (by decide)))
  have e15 : C 15 = C 2 := sl_x2' (sl_par4 (C := C) (a := 2) (b := 15) (c := 99) (d := 99) (h 3 (by decide)))
  have e3 : C 3 = (C 12 ^^ C 16) := sl_x31 (sl_par4 (C := C) (a := 3) (b := 12) (c := 16) (d := 99) (h 4 (by decide)))
  have e4 : C 4 = ((C 3 ^^ C 13) ^^ C 17) := sl_x42 (sl_par4 (C := C) (a := 3) (b := 4) (c := 13) (d := 17) (h 5 (by decide)))
  have e5 : C 5 = ((C 4 ^^ C 14) ^^ C 18) := sl_x42 (sl_par4 (C := C) (a := 4) (b := 5) (c := 14) (d := 18) (h 6 (by decide)))
  have e19 : C 19 = (C 5 ^^ C 15) := sl_x33 (sl_par4 (C := C) (a := 5) (b := 15) (c := 19) (d := 99) (h 7 (by decide)))
  have e6 : C 6 = (C 16 ^^ C 20) := sl_x31 (sl_par4 (C := C) (a := 6) (b := 16) (c := 20) (d := 99) (h 8 (by decide)))
  have e7 : C 7 = ((C 6 ^^ C 17) ^^ C 21) := sl_x42 (sl_par4 (C := C) (a := 6) (b := 7) (c := 17) (d := 21) (h 9 (by decide)))
  have e8 : C 8 = ((C 7 ^^ C 18) ^^ C 22) := sl_x42 (sl_par4 (C := C) (a := 7) (b := 8) (c := 18) (d := 22) (h 10 (by decide)))
  have e23 : C 23 = (C 8 ^^ C 19) := sl_x33 (sl_par4 (C := C) (a := 8) (b := 19) (c := 23) (d := 99) (h 11 (by decide)))
  have e9 : C 9 = C 20 := sl_x2 (sl_par4 (C := C) (a := 9) (b := 20) (c := 99) (d := 99) (h 12 (by decide)))
  have e10 : C 10 = (C 9 ^^ C 21) := sl_x32 (sl_par4 (C := C) (a := 9) (b := 10) (c := 21) (d := 99) (h 13 (by decide)))
  have e11 : C 11 = (C 10 ^^ C 22) := sl_x32 (sl_par4 (C := C) (a := 10) (b := 11) (c := 22) (d := 99) (h 14 (by decide)))
  have k := sl_ev9 (C 12) (C 13) (C 14) (C 16) (C 17) (C 18) (C 20) (C 21) (C 22)
  rw [Bool.and_eq_true, decide_eq_true_eq, beq_iff_eq] at k
  refine ⟨_, k.1, ?_⟩
  have l : (List.range 24).map C = sl_L9 (C 12) (C 13) (C 14) (C 16) (C 17) (C 18) (C 20) (C 21) (C 22) := by
    show [C 0, C 1, C 2, C 3, C 4, C 5, C 6, C 7, C 8, C 9, C 10, C 11, C 12, C 13, C 14, C 15, C 16, C 17, C 18, C 19, C 20, C 21, C 22, C 23] = _
    simp only [e23, e19, e15, e11, e10, e9, e8, e7, e6, e5, e4, e3, e2, e1, e0, sl_L9]
  intro e he
  exact List.map_inj_left.mp (l.trans k.2.symm) e (List.mem_range.mpr he)
/-! P4: pieces -/
theorem sl_rt_cut {χ : Nat → Bool} {pc : Nat → Nat} (h : ∀ p, χ (pc p) = χ p) : ∀ f p, χ (sl_rt pc f p) = χ p := by
  intro f
  induction f with
  | zero => intro p; rfl
  | succ f ih =>
    intro p
    unfold sl_rt
    by_cases c : pc p = p
    · rw [if_pos c]
    · rw [if_neg c, ih, h]
theorem sl_uf_s {C : Nat → Bool} {e : Nat} : sl_uf C (e + 1) = if C e = true then
      (if sl_rt (sl_uf C e).1 16 (sl_A e) = sl_rt (sl_uf C e).1 16 (sl_B e) then ((sl_uf C e).1, (sl_uf C e).2 + 1)
       else (sl_un (sl_uf C e).1 (sl_rt (sl_uf C e).1 16 (sl_A e)) (sl_rt (sl_uf C e).1 16 (sl_B e)), (sl_uf C e).2))
    else sl_uf C e := rfl
theorem sl_uf_cut {C χ : Nat → Bool} : ∀ n, (∀ g, g < n → C g = true → χ (sl_A g) = χ (sl_B g)) → ∀ p, χ ((sl_uf C n).1 p) = χ p := by
  intro n
  induction n with
  | zero => intro _ p; rfl
  | succ n ih =>
    intro h p
    have i := ih (fun g hg => h g (by omega))
    rw [sl_uf_s]
    by_cases c : C n = true
    · rw [if_pos c]
      by_cases d : sl_rt (sl_uf C n).1 16 (sl_A n) = sl_rt (sl_uf C n).1 16 (sl_B n)
      · rw [if_pos d]; exact i p
      · rw [if_neg d]
        show χ (if p = _ then _ else (sl_uf C n).1 p) = χ p
        by_cases q : p = sl_rt (sl_uf C n).1 16 (sl_A n)
        · rw [if_pos q, sl_rt_cut i, q, sl_rt_cut i]
          exact (h n (by omega) c).symm
        · rw [if_neg q]; exact i p
    · rw [if_neg c]; exact i p
theorem sl_uf_0 {C : Nat → Bool} (h : ∀ f, f < 24 → C f = true → ∃ χ : Nat → Bool, χ (sl_A f) ≠ χ (sl_B f) ∧ ∀ g, g < f → C g = true → χ (sl_A g) = χ (sl_B g)) : ∀ n, n ≤ 24 → (sl_uf C n).2 = 0 := by
  intro n
  induction n with
  | zero => intro _; rfl
  | succ n ih =>
    intro hn
    rw [sl_uf_s]
    by_cases c : C n = true
    · rw [if_pos c]
      obtain ⟨χ, h1, h2⟩ := h n (by omega) c
      have i := sl_uf_cut n h2
      by_cases d : sl_rt (sl_uf C n).1 16 (sl_A n) = sl_rt (sl_uf C n).1 16 (sl_B n)
      · have k := congrArg χ d
        rw [sl_rt_cut i, sl_rt_cut i] at k
        exact absurd k h1
      · rw [if_neg d]; exact ih (by omega)
    · rw [if_neg c]; exact ih (by omega)
/-- what a set of chosen edges below 24 decides -/
theorem sl_dq_c {C D : Nat → Bool} (h : ∀ e, e < 24 → C e = D e) (E : Nat → Nat) : ∀ k, sl_dq C E k = sl_dq D E k := by
  intro k
  induction k with
  | zero => rfl
  | succ k ih =>
    have t : sl_t C (E k) = sl_t D (E k) := by
      unfold sl_t
      by_cases c : E k < 24
      · rw [h _ c]
      · simp [c]
    show sl_dq C E k + _ = sl_dq D E k + _
    rw [ih, t]
theorem sl_deg_c {C D : Nat → Bool} (h : ∀ e, e < 24 → C e = D e) (p : Nat) : sl_deg C p = sl_deg D p := sl_dq_c h _ 4
theorem sl_uf_c {C D : Nat → Bool} (h : ∀ e, e < 24 → C e = D e) : ∀ n, n ≤ 24 → sl_uf C n = sl_uf D n := by
  intro n
  induction n with
  | zero => intro _; rfl
  | succ n ih =>
    intro hn
    rw [sl_uf_s, sl_uf_s, ih (by omega), h n (by omega)]
theorem sl_clo_c {C D : Nat → Bool} (h : ∀ e, e < 24 → C e = D e) : sl_clo C = sl_clo D := by
  unfold sl_clo; rw [sl_uf_c h 24 (by omega)]
theorem sl_pn_c {C D : Nat → Bool} (h : ∀ e, e < 24 → C e = D e) : ∀ n, sl_pn C n = sl_pn D n := by
  intro n
  induction n with
  | zero => rfl
  | succ n ih =>
    show sl_pn C n + (if (sl_uf C 24).1 n = n ∧ 0 < sl_deg C n then 1 else 0) = sl_pn D n + (if (sl_uf D 24).1 n = n ∧ 0 < sl_deg D n then 1 else 0)
    rw [ih, sl_uf_c h 24 (by omega), sl_deg_c h]
theorem sl_pcs_c {C D : Nat → Bool} (h : ∀ e, e < 24 → C e = D e) : sl_pcs C = sl_pcs D := sl_pn_c h 16
/-! the certificate -/
theorem sl_cutA {k a b i j : Nat} (ha : a < k) (hb : b < k) (h : b = a + 1 ∨ a = b + 1 ∨ (a = 0 ∧ b + 1 = k) ∨ (b = 0 ∧ a + 1 = k)) (hij : i < j) (hj : j < k) (h1 : sl_pos k a b ≠ i) (h2 : sl_pos k a b ≠ j) : decide (i < a ∧ a ≤ j) = decide (i < b ∧ b ≤ j) := by
  rw [decide_eq_decide]
  unfold sl_pos at h1 h2
  by_cases c : b = a + 1
  · rw [if_pos c] at h1 h2; omega
  · rw [if_neg c] at h1 h2
    by_cases d : a = b + 1
    · rw [if_pos d] at h1 h2; omega
    · rw [if_neg d] at h1 h2; omega
theorem sl_cutB {k a b i j : Nat} (ha : a < k) (hb : b < k) (h : b = a + 1 ∨ a = b + 1 ∨ (a = 0 ∧ b + 1 = k) ∨ (b = 0 ∧ a + 1 = k)) (hij : i < j) (hj : j < k) (h1 : sl_pos k a b = i ∨ sl_pos k a b = j) : decide (i < a ∧ a ≤ j) ≠ decide (i < b ∧ b ≤ j) := by
  intro z
  rw [decide_eq_decide] at z
  unfold sl_pos at h1
  by_cases c : b = a + 1
  · rw [if_pos c] at h1; omega
  · rw [if_neg c] at h1
    by_cases d : a = b + 1
    · rw [if_pos d] at h1; omega
    · rw [if_neg d] at h1; omega
theorem sl_pos_lt {k a b : Nat} (ha : a < k) (hb : b < k) : sl_pos k a b < k := by
  unfold sl_pos
  by_cases c : b = a + 1
  · rw [if_pos c]; omega
  · rw [if_neg c]
    by_cases d : a = b + 1
    · rw [if_pos d]; omega
    · rw [if_neg d]; omega
theorem sl_ck_m {k a b v e : Nat} (h : sl_ck k a b v e = true) : a < k ∧ b < k ∧ (b = a + 1 ∨ a = b + 1 ∨ (a = 0 ∧ b + 1 = k) ∨ (b = 0 ∧ a + 1 = k)) ∧ v = e := by
  unfold sl_ck at h
  simp only [Bool.and_eq_true, Bool.or_eq_true, decide_eq_true_eq] at h
  omega
theorem sl_good_f {s : Nat} (h : s < 512) (g : sl_good s = true) : sl_d02 (sl_ed s) = true ∧ sl_clo (sl_ed s) = 1 ∧ sl_pcs (sl_ed s) = 1 ∧ ∀ e, e < 24 → sl_cke s (sl_K s) e = true := by
  have k := sl_chk_all h
  unfold sl_chk at k
  rw [if_pos g] at k
  simp only [Bool.and_eq_true, decide_eq_true_eq] at k
  exact ⟨k.1.1.1, k.1.1.2, k.1.2, fun e he => List.all_eq_true.mp k.2 e (List.mem_range.mpr he)⟩
theorem sl_d02_m {C : Nat → Bool} : sl_d02 C = true ↔ ∀ p, p < 16 → sl_deg C p = 0 ∨ sl_deg C p = 2 := by
  unfold sl_d02
  rw [List.all_eq_true]
  constructor
  · intro h p hp
    have k := h p (List.mem_range.mpr hp)
    simpa using k
  · intro h p hp
    have k := h p (List.mem_range.mp hp)
    simpa using k
theorem sl_bad_f {s : Nat} (h : s < 512) (g : ¬ sl_good s = true) (h0 : s ≠ 0) (hd : sl_d02 (sl_ed s) = true) : ¬ (sl_clo (sl_ed s) = 0 ∨ (sl_clo (sl_ed s) = 1 ∧ sl_pcs (sl_ed s) ≤ 1)) := by
  have k := sl_chk_all h
  unfold sl_chk at k
  rw [if_neg g, hd] at k
  simp only [Bool.not_true, Bool.or_false, decide_eq_false h0, Bool.false_or] at k
  intro z
  rw [show (decide (sl_clo (sl_ed s) = 0) || decide (sl_clo (sl_ed s) = 1) && decide (sl_pcs (sl_ed s) ≤ 1)) = true from by simp only [Bool.and_eq_true, Bool.or_eq_true, decide_eq_true_eq]; exact z] at k
  exact absurd k (by decide)
theorem sl_cutx {s e f : Nat} (h : s < 512) (g : sl_good s = true) (he : e < 24) (hf : f < 24) (Se : sl_ed s e = true) (Sf : sl_ed s f = true) (hne : e ≠ f) : ∃ χ : Nat → Bool, χ (sl_A f) ≠ χ (sl_B f) ∧ ∀ g, g < 24 → sl_ed s g = true → g ≠ e → g ≠ f → χ (sl_A g) = χ (sl_B g) := by
  have ⟨_, _, _, ck⟩ := sl_good_f h g
  generalize sl_K s = c at ck
  obtain ⟨k, c1, c2⟩ := c
  have q : ∀ g, g < 24 → sl_ed s g = true → sl_ck k (sl_ix c1 (sl_A g)) (sl_ix c1 (sl_B g)) (sl_iv c2 (sl_pos k (sl_ix c1 (sl_A g)) (sl_ix c1 (sl_B g)))) g = true := by
    intro g hg Sg
    have z := ck g hg
    unfold sl_cke at z
    rw [Sg] at z
    exact z
  have inj : ∀ g g', g < 24 → g' < 24 → sl_ed s g = true → sl_ed s g' = true → sl_pos k (sl_ix c1 (sl_A g)) (sl_ix c1 (sl_B g)) = sl_pos k (sl_ix c1 (sl_A g')) (sl_ix c1 (sl_B g')) → g = g' := by
    intro g g' hg hg' Sg Sg' z
    have a := (sl_ck_m (q g hg Sg)).2.2.2
    have b := (sl_ck_m (q g' hg' Sg')).2.2.2
    rw [z] at a
    exact a.symm.trans b
  have main : ∀ i j, i < j → j < k → (sl_pos k (sl_ix c1 (sl_A f)) (sl_ix c1 (sl_B f)) = i ∨ sl_pos k (sl_ix c1 (sl_A f)) (sl_ix c1 (sl_B f)) = j) → (∀ g, g < 24 → sl_ed s g = true → g ≠ e → g ≠ f → sl_pos k (sl_ix c1 (sl_A g)) (sl_ix c1 (sl_B g)) ≠ i ∧ sl_pos k (sl_ix c1 (sl_A g)) (sl_ix c1 (sl_B g)) ≠ j) → ∃ χ : Nat → Bool, χ (sl_A f) ≠ χ (sl_B f) ∧ ∀ g, g < 24 → sl_ed s g = true → g ≠ e → g ≠ f → χ (sl_A g) = χ (sl_B g) := by
    intro i j hij hj hp hn
    refine ⟨fun p => decide (i < sl_ix c1 p ∧ sl_ix c1 p ≤ j), ?_, ?_⟩
    · have a := sl_ck_m (q f hf Sf)
      exact sl_cutB a.1 a.2.1 a.2.2.1 hij hj hp
    · intro g hg Sg n1 n2
      have a := sl_ck_m (q g hg Sg)
      have b := hn g hg Sg n1 n2
      exact sl_cutA a.1 a.2.1 a.2.2.1 hij hj b.1 b.2
  have ne : sl_pos k (sl_ix c1 (sl_A e)) (sl_ix c1 (sl_B e)) ≠ sl_pos k (sl_ix c1 (sl_A f)) (sl_ix c1 (sl_B f)) := fun z => hne (inj e f he hf Se Sf z)
  have le := sl_pos_lt (sl_ck_m (q e he Se)).1 (sl_ck_m (q e he Se)).2.1
  have lf := sl_pos_lt (sl_ck_m (q f hf Sf)).1 (sl_ck_m (q f hf Sf)).2.1
  rcases Nat.lt_or_gt_of_ne ne with l | l
  · exact main _ _ l lf (Or.inr rfl) (fun g hg Sg n1 n2 => ⟨fun z => n1 (inj g e hg he Sg Se z), fun z => n2 (inj g f hg hf Sg Sf z)⟩)
  · exact main _ _ l le (Or.inl rfl) (fun g hg Sg n1 n2 => ⟨fun z => n2 (inj g f hg hf Sg Sf z), fun z => n1 (inj g e hg he Sg Se z)⟩)
/-- a loop's proper part closes nothing -/
theorem sl_loopC {s : Nat} {C : Nat → Bool} (h : s < 512) (g : sl_good s = true) (hs : ∀ e, e < 24 → C e = true → sl_ed s e = true) : sl_clo C = 0 ∨ ((∀ e, e < 24 → C e = sl_ed s e) ∧ sl_clo C = 1 ∧ sl_pcs C = 1) := by
  by_cases q : ∀ e, e < 24 → C e = sl_ed s e
  · have k := sl_good_f h g
    exact Or.inr ⟨q, (sl_clo_c q).trans k.2.1, (sl_pcs_c q).trans k.2.2.1⟩
  · left
    have ⟨e, he, Se, Ce⟩ : ∃ e, e < 24 ∧ sl_ed s e = true ∧ C e = false := by
      apply Classical.byContradiction
      intro z
      apply q
      intro e he
      cases hc : C e with
      | true => exact (hs e he hc).symm
      | false =>
        cases hd : sl_ed s e with
        | false => rfl
        | true => exact absurd ⟨e, he, hd, hc⟩ z
    refine sl_uf_0 ?_ 24 (by omega)
    intro f hf Cf
    have hne : e ≠ f := by intro z; rw [z, Cf] at Ce; exact absurd Ce (by decide)
    obtain ⟨χ, h1, h2⟩ := sl_cutx h g he hf Se (hs f hf Cf) hne
    refine ⟨χ, h1, fun g' hg Cg => h2 g' (by omega) (hs g' (by omega) Cg) ?_ (by omega)⟩
    intro z; rw [z, Ce] at Cg; exact absurd Cg (by decide)
theorem sl_ed0 : ∀ e, e < 24 → sl_ed 0 e = false := by decide +kernel
theorem sl_leaf {C : Nat → Bool} (hd : ∀ p, p < 16 → sl_deg C p = 0 ∨ sl_deg C p = 2) (hc : sl_clo C = 0 ∨ (sl_clo C = 1 ∧ sl_pcs C ≤ 1)) : (∀ e, e < 24 → C e = false) ∨ ∃ s, s < 512 ∧ sl_good s = true ∧ ∀ e, e < 24 → C e = sl_ed s e := by
  obtain ⟨s, hs, q⟩ := sl_ev (C := C) (fun p hp => by rcases hd p hp with z | z <;> omega)
  by_cases g : sl_good s = true
  · exact Or.inr ⟨s, hs, g, q⟩
  · by_cases h0 : s = 0
    · left
      intro e he
      rw [q e he, h0]
      exact sl_ed0 e he
    · refine absurd ?_ (sl_bad_f hs g h0 (sl_d02_m.mpr (fun p hp => by rw [← sl_deg_c q]; exact hd p hp)))
      rw [← sl_clo_c q, ← sl_pcs_c q]
      exact hc
/-! the border's number -/
theorem sl_bd_bit (s : Nat) : ∀ n, n ≤ 24 → ∀ j, (sl_bd s n).testBit j = (decide (j ≤ 23 ∧ 23 - j < n) && sl_ed s (23 - j)) := by
  intro n
  induction n with
  | zero => intro _ j; simp [sl_bd]
  | succ n ih =>
    intro hn j
    have i := ih (by omega) j
    have e : sl_bd s (n + 1) = if sl_ed s n = true then sl_bd s n ||| 1 <<< (23 - n) else sl_bd s n := rfl
    rw [e]
    by_cases c : sl_ed s n = true
    · rw [if_pos c, Nat.testBit_or, i, Nat.one_shiftLeft, Nat.testBit_two_pow]
      by_cases d : j ≤ 23 ∧ 23 - j = n
      · have e1 : 23 - n = j := by omega
        rw [d.2, c]
        simp [e1, d.1]
      · have e1 : ¬ 23 - n = j := by omega
        have e2 : (j ≤ 23 ∧ 23 - j < n) ↔ (j ≤ 23 ∧ 23 - j < n + 1) := by omega
        rw [decide_eq_false e1, Bool.or_false, decide_eq_decide.mpr e2]
    · rw [if_neg c, i]
      by_cases d : j ≤ 23 ∧ 23 - j = n
      · rw [d.2]
        have c' : sl_ed s n = false := by cases z : sl_ed s n <;> simp_all
        simp [c']
      · have e2 : (j ≤ 23 ∧ 23 - j < n) ↔ (j ≤ 23 ∧ 23 - j < n + 1) := by omega
        rw [decide_eq_decide.mpr e2]
theorem sl_hs_brd {s e : Nat} (he : e < 24) : sl_hs (sl_brd s) e = sl_ed s e := by
  unfold sl_hs sl_brd
  rw [sl_bd_bit s 24 (by omega)]
  have h1 : 23 - (23 - e) = e := by omega
  rw [h1, decide_eq_true (by omega), Bool.true_and]
theorem sl_brd_lt (s : Nat) : sl_brd s < 2 ^ 24 := by
  apply Nat.lt_pow_two_of_testBit
  intro i hi
  unfold sl_brd
  rw [sl_bd_bit s 24 (by omega), decide_eq_false (by omega), Bool.false_and]
theorem sl_num_c {a b : Nat → Bool} : ∀ n, (∀ i, i < n → a i = b i) → sl_num a n = sl_num b n := by
  intro n
  induction n with
  | zero => intro _; rfl
  | succ n ih =>
    intro h
    show sl_num a n + (if a n = true then 2 ^ n else 0) = sl_num b n + (if b n = true then 2 ^ n else 0)
    rw [ih (fun i hi => h i (by omega)), h n (by omega)]
theorem sl_dec_c {C D : Nat → Bool} (h : ∀ e, e < 24 → C e = D e) : ∀ i, i < 9 → sl_dec C i = sl_dec D i := by
  intro i _
  unfold sl_dec
  rw [h 12 (by decide), h 13 (by decide), h 14 (by decide), h 16 (by decide), h 17 (by decide), h 18 (by decide), h 20 (by decide), h 21 (by decide), h 22 (by decide)]
theorem sl_brd_inj {s t : Nat} (hs : s < 512) (ht : t < 512) (h : sl_brd s = sl_brd t) : s = t := by
  have q : ∀ e, e < 24 → sl_ed s e = sl_ed t e := fun e he => by rw [← sl_hs_brd he, h, sl_hs_brd he]
  have a := Nat.eq_of_beq_eq_true (List.all_eq_true.mp sl_inj_all s (List.mem_range.mpr hs))
  have b := Nat.eq_of_beq_eq_true (List.all_eq_true.mp sl_inj_all t (List.mem_range.mpr ht))
  rw [← a, ← b]
  exact sl_num_c 9 (sl_dec_c q)
end
section
/-! P5: counts at a point or a cell; what a fill may do -/
def sl_ext (m : Nat) (σ : Nat → Int32) : Prop := ∀ e, e < 24 → (σ e = 1 → sl_hs m e = true) ∧ (σ e = 2 → sl_hs m e = false)
def sl_val (σ : Nat → Int32) : Prop := ∀ e, e < 24 → σ e = 0 ∨ σ e = 1 ∨ σ e = 2
def sl_tq (σ : Nat → Int32) (s : Int32) (e : Nat) : Nat := if e < 24 ∧ σ e = s then 1 else 0
def sl_cq (σ : Nat → Int32) (s : Int32) (E : Nat → Nat) : Nat → Nat
  | 0 => 0
  | k + 1 => sl_cq σ s E k + sl_tq σ s (E k)
theorem sl_tq_p {σ : Nat → Int32} {s : Int32} {e : Nat} (h : e < 24) (c : σ e = s) : sl_tq σ s e = 1 := if_pos ⟨h, c⟩
theorem sl_tq_n {σ : Nat → Int32} {s : Int32} {e : Nat} (c : ¬ σ e = s) : sl_tq σ s e = 0 := if_neg (fun z => c z.2)
theorem sl_tq_o {σ : Nat → Int32} {s : Int32} {e : Nat} (h : ¬ e < 24) : sl_tq σ s e = 0 := if_neg (fun z => h z.1)
theorem sl_t_p {C : Nat → Bool} {e : Nat} (h : e < 24) (c : C e = true) : sl_t C e = 1 := if_pos ⟨h, c⟩
theorem sl_t_n {C : Nat → Bool} {e : Nat} (c : C e = false) : sl_t C e = 0 := if_neg (fun z => by rw [c] at z; exact absurd z.2 (by decide))
theorem sl_t_o {C : Nat → Bool} {e : Nat} (h : ¬ e < 24) : sl_t C e = 0 := if_neg (fun z => h z.1)
theorem sl_slot {m : Nat} {σ : Nat → Int32} (hx : sl_ext m σ) (hv : sl_val σ) (e : Nat) : sl_tq σ 1 e ≤ sl_t (sl_hs m) e ∧ sl_t (sl_hs m) e ≤ sl_tq σ 1 e + sl_tq σ 0 e := by
  by_cases h : e < 24
  · rcases hv e h with c | c | c
    · rw [sl_tq_p h c, sl_tq_n (s := 1) (by rw [c]; decide)]
      have : sl_t (sl_hs m) e ≤ 1 := by unfold sl_t; split <;> omega
      omega
    · rw [sl_tq_p (s := 1) h c, sl_t_p h ((hx e h).1 c)]; omega
    · rw [sl_tq_n (s := 1) (by rw [c]; decide), sl_t_n ((hx e h).2 c)]; omega
  · rw [sl_tq_o h, sl_t_o h]; omega
theorem sl_sum {m : Nat} {σ : Nat → Int32} (hx : sl_ext m σ) (hv : sl_val σ) (E : Nat → Nat) : ∀ k, sl_cq σ 1 E k ≤ sl_dq (sl_hs m) E k ∧ sl_dq (sl_hs m) E k ≤ sl_cq σ 1 E k + sl_cq σ 0 E k := by
  intro k
  induction k with
  | zero => exact ⟨Nat.le_refl 0, Nat.le_refl 0⟩
  | succ k ih =>
    have s := sl_slot hx hv (E k)
    show sl_cq σ 1 E k + sl_tq σ 1 (E k) ≤ sl_dq (sl_hs m) E k + sl_t (sl_hs m) (E k) ∧ sl_dq (sl_hs m) E k + sl_t (sl_hs m) (E k) ≤ (sl_cq σ 1 E k + sl_tq σ 1 (E k)) + (sl_cq σ 0 E k + sl_tq σ 0 (E k))
    omega
theorem sl_eq2 {m : Nat} {σ : Nat → Int32} (hx : sl_ext m σ) (hv : sl_val σ) (E : Nat → Nat) : ∀ k, sl_dq (sl_hs m) E k = sl_cq σ 1 E k → ∀ i, i < k → E i < 24 → σ (E i) = 0 → sl_hs m (E i) = false := by
  intro k
  induction k with
  | zero => intro _ i hi; omega
  | succ k ih =>
    intro h i hi h24 h0
    have h' : sl_dq (sl_hs m) E k + sl_t (sl_hs m) (E k) = sl_cq σ 1 E k + sl_tq σ 1 (E k) := h
    have s := sl_slot hx hv (E k)
    have q := sl_sum hx hv E k
    by_cases c : i = k
    · subst c
      have t0 : sl_tq σ 1 (E i) = 0 := sl_tq_n (by rw [h0]; decide)
      cases b : sl_hs m (E i) with
      | false => rfl
      | true => rw [sl_t_p h24 b] at h' s; omega
    · exact ih (by omega) i (by omega) h24 h0
theorem sl_eq1 {m : Nat} {σ : Nat → Int32} (hx : sl_ext m σ) (hv : sl_val σ) (E : Nat → Nat) : ∀ k, sl_dq (sl_hs m) E k = sl_cq σ 1 E k + sl_cq σ 0 E k → ∀ i, i < k → E i < 24 → σ (E i) = 0 → sl_hs m (E i) = true := by
  intro k
  induction k with
  | zero => intro _ i hi; omega
  | succ k ih =>
    intro h i hi h24 h0
    have h' : sl_dq (sl_hs m) E k + sl_t (sl_hs m) (E k) = (sl_cq σ 1 E k + sl_tq σ 1 (E k)) + (sl_cq σ 0 E k + sl_tq σ 0 (E k)) := h
    have s := sl_slot hx hv (E k)
    have q := sl_sum hx hv E k
    by_cases c : i = k
    · subst c
      have t0 : sl_tq σ 0 (E i) = 1 := sl_tq_p h24 h0
      cases b : sl_hs m (E i) with
      | true => rfl
      | false => rw [sl_t_n b] at h' s; omega
    · exact ih (by omega) i (by omega) h24 h0
theorem sl_cq_0 {σ : Nat → Int32} {s : Int32} (E : Nat → Nat) : ∀ k, (∀ i, i < k → E i < 24 → σ (E i) ≠ s) → sl_cq σ s E k = 0 := by
  intro k
  induction k with
  | zero => intro _; rfl
  | succ k ih =>
    intro h
    show sl_cq σ s E k + sl_tq σ s (E k) = 0
    rw [ih (fun i hi => h i (by omega))]
    by_cases c : E k < 24
    · rw [sl_tq_n (h k (by omega) c)]
    · rw [sl_tq_o c]
theorem sl_cq_c {σ τ : Nat → Int32} (h : ∀ e, e < 24 → σ e = τ e) (s : Int32) (E : Nat → Nat) : ∀ k, sl_cq σ s E k = sl_cq τ s E k := by
  intro k
  induction k with
  | zero => rfl
  | succ k ih =>
    show sl_cq σ s E k + sl_tq σ s (E k) = sl_cq τ s E k + sl_tq τ s (E k)
    have t : sl_tq σ s (E k) = sl_tq τ s (E k) := by
      unfold sl_tq
      by_cases c : E k < 24
      · rw [h _ c]
      · simp [c]
    rw [ih, t]
theorem sl_cq_le (σ : Nat → Int32) (s : Int32) (E : Nat → Nat) : ∀ k, sl_cq σ s E k ≤ k := by
  intro k
  induction k with
  | zero => exact Nat.le_refl 0
  | succ k ih =>
    show sl_cq σ s E k + sl_tq σ s (E k) ≤ k + 1
    have : sl_tq σ s (E k) ≤ 1 := by unfold sl_tq; split <;> omega
    omega
def sl_ch (σ : Nat → Int32) : Nat → Bool := fun e => decide (σ e = 1)
theorem sl_cq_dq (σ : Nat → Int32) (E : Nat → Nat) : ∀ k, sl_cq σ 1 E k = sl_dq (sl_ch σ) E k := by
  intro k
  induction k with
  | zero => rfl
  | succ k ih =>
    show sl_cq σ 1 E k + sl_tq σ 1 (E k) = sl_dq (sl_ch σ) E k + sl_t (sl_ch σ) (E k)
    have t : sl_tq σ 1 (E k) = sl_t (sl_ch σ) (E k) := by
      unfold sl_tq sl_t sl_ch
      simp only [decide_eq_true_eq]
    rw [ih, t]
/-! the trail -/
def sl_dc (σ : Nat → Int32) : Nat → Nat
  | 0 => 0
  | n + 1 => sl_dc σ n + (if σ n = 0 then 0 else 1)
theorem sl_dc_le (σ : Nat → Int32) : ∀ n, sl_dc σ n ≤ n := by
  intro n
  induction n with
  | zero => exact Nat.le_refl 0
  | succ n ih =>
    show sl_dc σ n + (if σ n = 0 then 0 else 1) ≤ n + 1
    split <;> omega
theorem sl_dc_lt {σ : Nat → Int32} {e : Nat} (h0 : σ e = 0) : ∀ n, e < n → sl_dc σ n < n := by
  intro n
  induction n with
  | zero => intro h; omega
  | succ n ih =>
    intro h
    show sl_dc σ n + (if σ n = 0 then 0 else 1) < n + 1
    by_cases c : e = n
    · rw [if_pos (by rw [← c]; exact h0)]
      have := sl_dc_le σ n
      omega
    · have := ih (by omega)
      split <;> omega
theorem sl_dc_o {σ : Nat → Int32} {e : Nat} {s : Int32} : ∀ n, n ≤ e → sl_dc (upd σ e s) n = sl_dc σ n := by
  intro n
  induction n with
  | zero => intro _; rfl
  | succ n ih =>
    intro h
    show sl_dc (upd σ e s) n + (if upd σ e s n = 0 then 0 else 1) = sl_dc σ n + (if σ n = 0 then 0 else 1)
    rw [ih (by omega), pk_un (by omega)]
theorem sl_dc_u {σ : Nat → Int32} {e : Nat} {s : Int32} (h0 : σ e = 0) (hs : s ≠ 0) : ∀ n, e < n → sl_dc (upd σ e s) n = sl_dc σ n + 1 := by
  intro n
  induction n with
  | zero => intro h; omega
  | succ n ih =>
    intro h
    show sl_dc (upd σ e s) n + (if upd σ e s n = 0 then 0 else 1) = (sl_dc σ n + (if σ n = 0 then 0 else 1)) + 1
    by_cases c : e = n
    · subst c
      rw [sl_dc_o e (Nat.le_refl e), pk_us, if_neg hs, if_pos h0]
    · rw [ih (by omega), pk_un (by omega)]
      omega
theorem sl_dc_c {σ τ : Nat → Int32} : ∀ n, (∀ e, e < n → σ e = τ e) → sl_dc σ n = sl_dc τ n := by
  intro n
  induction n with
  | zero => intro _; rfl
  | succ n ih =>
    intro h
    show sl_dc σ n + (if σ n = 0 then 0 else 1) = sl_dc τ n + (if τ n = 0 then 0 else 1)
    rw [ih (fun e he => h e (by omega)), h n (by omega)]
def sl_ok (t : Nat) (te σ : Nat → Int32) : Prop := t = sl_dc σ 24 ∧ sl_val σ ∧ ∀ j, j < t → ∃ e, e < 24 ∧ te j = nI e
def sl_bk (L t : Nat) (te σ τ : Nat → Int32) : Prop := ∀ e, e < 24 → ((∃ j, L ≤ j ∧ j < t ∧ te j = nI e) → τ e = 0) ∧ ((¬ ∃ j, L ≤ j ∧ j < t ∧ te j = nI e) → τ e = σ e)
theorem sl_bk_r {t : Nat} {te σ : Nat → Int32} : sl_bk t t te σ σ := fun e _ => ⟨fun ⟨j, a, b, _⟩ => absurd b (by omega), fun _ => rfl⟩
theorem sl_bk_as {L t e : Nat} {te σ τ : Nat → Int32} {s : Int32} (hL : L ≤ t) (he : e < 24) (h0 : σ e = 0) (h : sl_bk L t te σ τ) : sl_bk L (t + 1) (upd te t (nI e)) (upd σ e s) τ := by
  have z0 : τ e = 0 := by
    by_cases c : ∃ j, L ≤ j ∧ j < t ∧ te j = nI e
    · exact (h e he).1 c
    · rw [(h e he).2 c, h0]
  intro f hf
  constructor
  · intro ⟨j, a, b, c⟩
    by_cases q : j = t
    · rw [q, pk_us] at c
      have : e = f := (nI_eq (by omega) (by omega)).mp c
      rw [← this]; exact z0
    · rw [pk_un q] at c
      exact (h f hf).1 ⟨j, a, by omega, c⟩
  · intro n
    have ne : f ≠ e := by
      intro z
      exact n ⟨t, hL, by omega, by rw [pk_us, z]⟩
    rw [pk_un ne]
    refine (h f hf).2 ?_
    intro ⟨j, a, b, c⟩
    exact n ⟨j, a, by omega, by rw [pk_un (by omega)]; exact c⟩
/-- backing over a part of the way -/
theorem sl_bk_2 {L K t : Nat} {te σ τ ρ : Nat → Int32} (hL : L ≤ K) (hK : K ≤ t) (h : sl_bk L t te σ τ) (k : sl_bk K t te σ ρ) : sl_bk L K te ρ τ := by
  intro e he
  constructor
  · intro ⟨j, a, b, c⟩
    exact (h e he).1 ⟨j, a, by omega, c⟩
  · intro n
    by_cases c : ∃ j, K ≤ j ∧ j < t ∧ te j = nI e
    · have d : ∃ j, L ≤ j ∧ j < t ∧ te j = nI e := by
        obtain ⟨j, a, b, c⟩ := c
        exact ⟨j, by omega, b, c⟩
      rw [(h e he).1 d, (k e he).1 c]
    · have d : ¬ ∃ j, L ≤ j ∧ j < t ∧ te j = nI e := by
        intro ⟨j, a, b, c'⟩
        by_cases q : K ≤ j
        · exact c ⟨j, q, b, c'⟩
        · exact n ⟨j, a, by omega, c'⟩
      rw [(h e he).2 d, (k e he).2 c]
/-! one relation for all that propagation does -/
def sl_H (V : Nat → Prop) (t : Nat) (dd : Int32) (σ te : Nat → Int32) (t' : Nat) (dd' : Int32) (σ' te' : Nat → Int32) : Prop :=
  sl_ok t' te' σ' ∧ t ≤ t' ∧ (∀ L τ, L ≤ t → sl_bk L t te σ τ → sl_bk L t' te' σ' τ) ∧ (∀ e, e < 24 → σ e ≠ 0 → σ' e = σ e) ∧ (∀ m, V m → dd = 0 → sl_ext m σ → dd' = 0 ∧ sl_ext m σ')
def sl_G (V : Nat → Prop) (t : Nat) (dd mv : Int32) (σ te : Nat → Int32) (t' : Nat) (dd' mv' : Int32) (σ' te' : Nat → Int32) : Prop :=
  sl_H V t dd σ te t' dd' σ' te' ∧ (mv' = 0 → mv = 0 ∧ ∀ e, e < 24 → σ' e = σ e) ∧ (mv' ≠ 0 → mv ≠ 0 ∨ t < t')
theorem sl_H_r {V : Nat → Prop} {t : Nat} {dd : Int32} {σ te : Nat → Int32} (h : sl_ok t te σ) : sl_H V t dd σ te t dd σ te :=
  ⟨h, Nat.le_refl t, fun _ _ _ b => b, fun _ _ _ => rfl, fun _ _ d x => ⟨d, x⟩⟩
theorem sl_G_r {V : Nat → Prop} {t : Nat} {dd mv : Int32} {σ te : Nat → Int32} (h : sl_ok t te σ) : sl_G V t dd mv σ te t dd mv σ te :=
  ⟨sl_H_r h, fun z => ⟨z, fun _ _ => rfl⟩, fun z => Or.inl z⟩
theorem sl_H_t {V : Nat → Prop} {t t' t'' : Nat} {dd dd' dd'' : Int32} {σ te σ' te' σ'' te'' : Nat → Int32} (h : sl_H V t dd σ te t' dd' σ' te') (k : sl_H V t' dd' σ' te' t'' dd'' σ'' te'') : sl_H V t dd σ te t'' dd'' σ'' te'' := by
  obtain ⟨_, h2, h3, h4, h5⟩ := h
  obtain ⟨k1, k2, k3, k4, k5⟩ := k
  refine ⟨k1, Nat.le_trans h2 k2, fun L τ hL b => k3 L τ (Nat.le_trans hL h2) (h3 L τ hL b), fun e he n => ?_, fun m hm d x => ?_⟩
  · have a := h4 e he n
    rw [← a] at n
    rw [k4 e he n, a]
  · have ⟨a, b⟩ := h5 m hm d x
    exact k5 m hm a b
theorem sl_G_t {V : Nat → Prop} {t t' t'' : Nat} {dd dd' dd'' mv mv' mv'' : Int32} {σ te σ' te' σ'' te'' : Nat → Int32} (h : sl_G V t dd mv σ te t' dd' mv' σ' te') (k : sl_G V t' dd' mv' σ' te' t'' dd'' mv'' σ'' te'') : sl_G V t dd mv σ te t'' dd'' mv'' σ'' te'' := by
  have h2 := h.1.2.1
  have k2 := k.1.2.1
  refine ⟨sl_H_t h.1 k.1, fun z => ?_, fun z => ?_⟩
  · have ⟨a, b⟩ := k.2.1 z
    have ⟨c, d⟩ := h.2.1 a
    exact ⟨c, fun e he => (b e he).trans (d e he)⟩
  · rcases k.2.2 z with a | a
    · rcases h.2.2 a with b | b
      · exact Or.inl b
      · exact Or.inr (by omega)
    · exact Or.inr (by omega)
theorem sl_G_as {V : Nat → Prop} {t e : Nat} {dd mv s : Int32} {σ te : Nat → Int32} (h : sl_ok t te σ) (he : e < 24) (h0 : σ e = 0) (hs : s = 1 ∨ s = 2) (hV : ∀ m, V m → sl_ext m σ → (s = 1 → sl_hs m e = true) ∧ (s = 2 → sl_hs m e = false)) : sl_G V t dd mv σ te (t + 1) dd 1 (upd σ e s) (upd te t (nI e)) := by
  have s0 : s ≠ 0 := by rcases hs with z | z <;> rw [z] <;> decide
  refine ⟨⟨⟨?_, ?_, ?_⟩, by omega, fun L τ hL b => sl_bk_as hL he h0 b, ?_, ?_⟩, fun z => absurd z (by decide), fun _ => Or.inr (by omega)⟩
  · rw [sl_dc_u h0 s0 24 he, ← h.1]
  · intro f hf
    by_cases c : f = e
    · rw [c, pk_us]; exact Or.inr hs
    · rw [pk_un c]; exact h.2.1 f hf
  · intro j hj
    by_cases c : j = t
    · rw [c, pk_us]; exact ⟨e, he, rfl⟩
    · rw [pk_un c]; exact h.2.2 j (by omega)
  · intro f hf n
    have ne : f ≠ e := fun z => n (by rw [z]; exact h0)
    exact pk_un ne
  · intro m hm d x
    refine ⟨d, fun f hf => ?_⟩
    by_cases c : f = e
    · rw [c, pk_us]; exact hV m hm x
    · rw [pk_un c]; exact x f hf
theorem sl_G_dead {V : Nat → Prop} {t : Nat} {dd mv dd' : Int32} {σ te : Nat → Int32} (h : sl_ok t te σ) (hV : ∀ m, V m → sl_ext m σ → False) : sl_G V t dd mv σ te t dd' mv σ te :=
  ⟨⟨h, Nat.le_refl t, fun _ _ _ b => b, fun _ _ _ => rfl, fun m hm _ x => (hV m hm x).elim⟩, fun z => ⟨z, fun _ _ => rfl⟩, fun z => Or.inl z⟩
theorem sl_H_x {V : Nat → Prop} {t t' : Nat} {dd dd' : Int32} {σ te σ' te' : Nat → Int32} (h : sl_H V t dd σ te t' dd' σ' te') {m : Nat} (x : sl_ext m σ') : sl_ext m σ := by
  intro e he
  have k := h.2.2.2.1 e he
  constructor
  · intro c
    have n : σ e ≠ 0 := by rw [c]; decide
    exact (x e he).1 ((k n).trans c)
  · intro c
    have n : σ e ≠ 0 := by rw [c]; decide
    exact (x e he).2 ((k n).trans c)
theorem sl_H_o {V : Nat → Prop} {t t' : Nat} {dd dd' : Int32} {σ te σ' te' : Nat → Int32} (h : sl_H V t dd σ te t' dd' σ' te') {e : Nat} (he : e < 24) (z : σ' e = 0) : σ e = 0 := by
  apply Classical.byContradiction
  intro n
  exact n ((h.2.2.2.1 e he n).symm.trans z)
/-- one more edge within a fill -/
theorem sl_G_f {V : Nat → Prop} {t t' e : Nat} {dd dd' mv mv' s : Int32} {σ te σ' te' : Nat → Int32} (h : sl_G V t dd mv σ te t' dd' mv' σ' te') (he : e < 24) (h0 : σ' e = 0) (hs : s = 1 ∨ s = 2) (hV : ∀ m, V m → sl_ext m σ → σ e = 0 → (s = 1 → sl_hs m e = true) ∧ (s = 2 → sl_hs m e = false)) : sl_G V t dd mv σ te (t' + 1) dd' 1 (upd σ' e s) (upd te' t' (nI e)) :=
  sl_G_t h (sl_G_as h.1.1 he h0 hs (fun m hm x => hV m hm (sl_H_x h.1 x) (sl_H_o h.1 he h0)))
end
section
/-! P6: what stands still; leaves; the list of solutions -/
def sl_FP (σ : Nat → Int32) (p : Nat) : Prop := sl_cq σ 1 (sl_pe p) 4 ≤ 2 ∧ (sl_cq σ 1 (sl_pe p) 4 = 1 → sl_cq σ 0 (sl_pe p) 4 ≠ 0) ∧ sl_cq σ 0 (sl_pe p) 4 ≠ 1
def sl_FC (cl σ : Nat → Int32) (c : Nat) : Prop := cl c = 5 ∨ ∃ v, v ≤ 5 ∧ cl c = nI v ∧ sl_cq σ 1 (sl_ce c) 4 ≤ v ∧ v ≤ sl_cq σ 1 (sl_ce c) 4 + sl_cq σ 0 (sl_ce c) 4
def sl_FU (σ : Nat → Int32) : Prop := sl_clo (sl_ch σ) = 0 ∨ (sl_clo (sl_ch σ) = 1 ∧ sl_pcs (sl_ch σ) ≤ 1)
def sl_FIX (cl σ : Nat → Int32) : Prop := (∀ p, p < 16 → sl_FP σ p) ∧ (∀ c, c < 9 → sl_FC cl σ c) ∧ sl_FU σ
theorem sl_FP_c {σ τ : Nat → Int32} (h : ∀ e, e < 24 → σ e = τ e) {p : Nat} (k : sl_FP σ p) : sl_FP τ p := by
  unfold sl_FP at k ⊢
  rw [← sl_cq_c h, ← sl_cq_c h]
  exact k
theorem sl_FC_c {cl σ τ : Nat → Int32} (h : ∀ e, e < 24 → σ e = τ e) {c : Nat} (k : sl_FC cl σ c) : sl_FC cl τ c := by
  unfold sl_FC at k ⊢
  rw [← sl_cq_c h, ← sl_cq_c h]
  exact k
theorem sl_ch_c {σ τ : Nat → Int32} (h : ∀ e, e < 24 → σ e = τ e) : ∀ e, e < 24 → sl_ch σ e = sl_ch τ e := by
  intro e he
  unfold sl_ch
  rw [h e he]
theorem sl_FU_c {σ τ : Nat → Int32} (h : ∀ e, e < 24 → σ e = τ e) (k : sl_FU σ) : sl_FU τ := by
  unfold sl_FU at k ⊢
  rw [← sl_clo_c (sl_ch_c h), ← sl_pcs_c (sl_ch_c h)]
  exact k
theorem sl_cq_1 {σ : Nat → Int32} {s : Int32} {E : Nat → Nat} {k : Nat} (hk : k < 4) (h24 : E k < 24) (h : σ (E k) = s) (hn : ∀ i, i < 4 → i ≠ k → sl_tq σ s (E i) = 0) : sl_cq σ s E 4 = 1 := by
  show 0 + sl_tq σ s (E 0) + sl_tq σ s (E 1) + sl_tq σ s (E 2) + sl_tq σ s (E 3) = 1
  have h1 := sl_tq_p h24 h
  have c : k = 0 ∨ k = 1 ∨ k = 2 ∨ k = 3 := by omega
  rcases c with c | c | c | c
  · subst c
    have a := hn 1 (by decide) (by decide)
    have b := hn 2 (by decide) (by decide)
    have d := hn 3 (by decide) (by decide)
    omega
  · subst c
    have a := hn 0 (by decide) (by decide)
    have b := hn 2 (by decide) (by decide)
    have d := hn 3 (by decide) (by decide)
    omega
  · subst c
    have a := hn 0 (by decide) (by decide)
    have b := hn 1 (by decide) (by decide)
    have d := hn 3 (by decide) (by decide)
    omega
  · subst c
    have a := hn 0 (by decide) (by decide)
    have b := hn 1 (by decide) (by decide)
    have d := hn 2 (by decide) (by decide)
    omega
theorem sl_down : ∀ p, p < 12 → ∃ k, k < 4 ∧ sl_pe p k = 12 + p ∧ ∀ i, i < 4 → i ≠ k → sl_pe p i < 12 + p ∨ 24 ≤ sl_pe p i := by decide +kernel
theorem sl_fix_v {cl σ : Nat → Int32} (h : sl_FIX cl σ) (h12 : ∀ e, e < 12 → σ e ≠ 0) : ∀ e, e < 24 → σ e ≠ 0 := by
  have key : ∀ n, n ≤ 12 → ∀ e, e < 12 + n → σ e ≠ 0 := by
    intro n
    induction n with
    | zero => intro _ e he; exact h12 e (by omega)
    | succ n ih =>
      intro hn e he
      by_cases c : e < 12 + n
      · exact ih (by omega) e c
      · have en : e = 12 + n := by omega
        intro z
        obtain ⟨k, hk, ek, ho⟩ := sl_down n (by omega)
        have f := (h.1 n (by omega)).2.2
        apply f
        refine sl_cq_1 hk (by omega) (by rw [ek, ← en]; exact z) ?_
        intro i hi ne
        rcases ho i hi ne with q | q
        · exact sl_tq_n (ih (by omega) _ q)
        · exact sl_tq_o (by omega)
  intro e he
  exact key 12 (by omega) e (by omega)
def sl_isL (m : Nat) : Prop := ∃ s, s < 512 ∧ sl_good s = true ∧ m = sl_brd s
def sl_cc (m i : Nat) : Nat := sl_dq (sl_hs m) (sl_ce i) 4
def sl_okC (cl : Nat → Int32) (m : Nat) : Prop := ∀ i, i < 9 → cl i = 5 ∨ cl i = nI (sl_cc m i)
def sl_V (cl : Nat → Int32) (m : Nat) : Prop := sl_isL m ∧ sl_okC cl m
theorem sl_isL_deg {m : Nat} (h : sl_isL m) : ∀ p, p < 16 → sl_deg (sl_hs m) p = 0 ∨ sl_deg (sl_hs m) p = 2 := by
  obtain ⟨s, hs, g, rfl⟩ := h
  intro p hp
  rw [sl_deg_c (fun e he => sl_hs_brd he)]
  exact sl_d02_m.mp (sl_good_f hs g).1 p hp
theorem sl_isL_uf {m : Nat} {C : Nat → Bool} (h : sl_isL m) (hs : ∀ e, e < 24 → C e = true → sl_hs m e = true) : sl_clo C = 0 ∨ ((∀ e, e < 24 → C e = sl_hs m e) ∧ sl_clo C = 1 ∧ sl_pcs C = 1) := by
  obtain ⟨s, h5, g, rfl⟩ := h
  rcases sl_loopC (C := C) h5 g (fun e he c => by rw [← sl_hs_brd he]; exact hs e he c) with z | ⟨a, b, c⟩
  · exact Or.inl z
  · exact Or.inr ⟨fun e he => by rw [sl_hs_brd he]; exact a e he, b, c⟩
theorem sl_isL_lt {m : Nat} (h : sl_isL m) : m < 2 ^ 24 := by
  obtain ⟨s, _, _, rfl⟩ := h
  exact sl_brd_lt s
theorem sl_isL_ne {m : Nat} (h : sl_isL m) : ∃ e, e < 24 ∧ sl_hs m e = true := by
  obtain ⟨s, hs, g, rfl⟩ := h
  apply Classical.byContradiction
  intro z
  have q : ∀ e, e < 24 → sl_ed s e = sl_ed 0 e := by
    intro e he
    rw [sl_ed0 e he]
    cases c : sl_ed s e with
    | false => rfl
    | true => exact absurd ⟨e, he, by rw [sl_hs_brd he]; exact c⟩ z
  have a := (sl_good_f hs g).2.1
  rw [sl_clo_c q] at a
  exact absurd a (by decide +kernel)
theorem sl_hs_inj {m n : Nat} (hm : m < 2 ^ 24) (hn : n < 2 ^ 24) (h : ∀ e, e < 24 → sl_hs m e = sl_hs n e) : m = n := by
  apply Nat.eq_of_testBit_eq
  intro i
  rcases Nat.lt_or_ge i 24 with c | c
  · have a := h (23 - i) (by omega)
    unfold sl_hs at a
    rw [show 23 - (23 - i) = i by omega] at a
    exact a
  · rw [Nat.testBit_lt_two_pow (Nat.lt_of_lt_of_le hm (Nat.pow_le_pow_right (by decide) c)), Nat.testBit_lt_two_pow (Nat.lt_of_lt_of_le hn (Nat.pow_le_pow_right (by decide) c))]
theorem sl_tb_lt {m n k : Nat} (h1 : m.testBit k = false) (h2 : n.testBit k = true) (h : ∀ j, k < j → m.testBit j = n.testBit j) : m < n := by
  have q : m / 2 ^ (k + 1) = n / 2 ^ (k + 1) := by
    apply Nat.eq_of_testBit_eq
    intro i
    rw [Nat.testBit_div_two_pow, Nat.testBit_div_two_pow]
    exact h _ (by omega)
  rw [Nat.testBit_eq_decide_div_mod_eq] at h1 h2
  have a := of_decide_eq_false h1
  have b := of_decide_eq_true h2
  rw [Nat.pow_succ, ← Nat.div_div_eq_div_mul, ← Nat.div_div_eq_div_mul] at q
  have c : m / 2 ^ k < n / 2 ^ k := by
    generalize m / 2 ^ k = x at *
    generalize n / 2 ^ k = y at *
    omega
  exact Nat.lt_of_div_lt_div c
theorem sl_hs_lt {m n e : Nat} (hm : m < 2 ^ 24) (hn : n < 2 ^ 24) (he : e < 24) (h : ∀ f, f < e → sl_hs m f = sl_hs n f) (h1 : sl_hs m e = false) (h2 : sl_hs n e = true) : m < n := by
  apply sl_tb_lt (k := 23 - e) h1 h2
  intro j hj
  rcases Nat.lt_or_ge j 24 with c | c
  · have a := h (23 - j) (by omega)
    unfold sl_hs at a
    rw [show 23 - (23 - j) = j by omega] at a
    exact a
  · rw [Nat.testBit_lt_two_pow (Nat.lt_of_lt_of_le hm (Nat.pow_le_pow_right (by decide) c)), Nat.testBit_lt_two_pow (Nat.lt_of_lt_of_le hn (Nat.pow_le_pow_right (by decide) c))]
/-! the solutions of a state -/
noncomputable def sl_b (p : Prop) : Bool := @decide p (Classical.propDecidable p)
theorem sl_b_t {p : Prop} : sl_b p = true ↔ p := by unfold sl_b; exact @decide_eq_true_iff p (Classical.propDecidable p)
theorem sl_b_f {p : Prop} : sl_b p = false ↔ ¬ p := by
  rw [← Bool.not_eq_true, sl_b_t]
noncomputable def sl_sols (cl : Nat → Int32) (LL : List Nat) (σ : Nat → Int32) : List Nat := LL.filter (fun m => sl_b (sl_okC cl m ∧ sl_ext m σ))
theorem sl_sols_c {cl : Nat → Int32} {LL : List Nat} {σ τ : Nat → Int32} (h : ∀ m, m ∈ LL → sl_okC cl m → (sl_ext m σ ↔ sl_ext m τ)) : sl_sols cl LL σ = sl_sols cl LL τ := by
  apply List.filter_congr
  intro m hm
  rw [Bool.eq_iff_iff, sl_b_t, sl_b_t]
  exact ⟨fun ⟨a, b⟩ => ⟨a, (h m hm a).mp b⟩, fun ⟨a, b⟩ => ⟨a, (h m hm a).mpr b⟩⟩
theorem sl_sols_n {cl : Nat → Int32} {LL : List Nat} {σ : Nat → Int32} (h : ∀ m, m ∈ LL → sl_okC cl m → ¬ sl_ext m σ) : sl_sols cl LL σ = [] := by
  apply List.filter_eq_nil_iff.mpr
  intro m hm z
  rw [sl_b_t] at z
  exact h m hm z.1 z.2
theorem sl_filter_split {l : List Nat} (hl : l.Pairwise (· < ·)) (p q : Nat → Bool) : (∀ a b, a ∈ l → b ∈ l → p a = true → p b = true → q a = true → q b = false → b < a) → l.filter p = l.filter (fun m => p m && !q m) ++ l.filter (fun m => p m && q m) := by
  induction l with
  | nil => intro _; rfl
  | cons a l ih =>
    intro h
    have hp := List.pairwise_cons.mp hl
    have i := ih hp.2 (fun x y hx hy => h x y (List.mem_cons_of_mem _ hx) (List.mem_cons_of_mem _ hy))
    cases pa : p a with
    | false => simp only [List.filter_cons, pa, Bool.false_and, Bool.false_eq_true, if_false]; exact i
    | true =>
      cases qa : q a with
      | false => simp only [List.filter_cons, pa, qa, Bool.not_false, Bool.and_true, Bool.and_false, Bool.false_eq_true, if_false, if_true, List.cons_append]; rw [i]
      | true =>
        have e : l.filter (fun m => p m && !q m) = [] := by
          apply List.filter_eq_nil_iff.mpr
          intro b hb z
          simp only [Bool.and_eq_true, Bool.not_eq_true'] at z
          have k := h a b (List.mem_cons_self ..) (List.mem_cons_of_mem _ hb) pa z.1 qa z.2
          have k2 := hp.1 b hb
          omega
        simp only [List.filter_cons, pa, qa, Bool.not_true, Bool.and_true, Bool.and_false, Bool.false_eq_true, if_false, if_true]
        rw [e, i, e]
        rfl
theorem sl_ext_2 {m e : Nat} {σ : Nat → Int32} (he : e < 24) (h0 : σ e = 0) : sl_ext m (upd σ e 2) ↔ sl_ext m σ ∧ sl_hs m e = false := by
  constructor
  · intro h
    refine ⟨fun f hf => ?_, (h e he).2 pk_us⟩
    by_cases c : f = e
    · rw [c, h0]; exact ⟨fun z => absurd z (by decide), fun z => absurd z (by decide)⟩
    · have k := h f hf
      rw [pk_un c] at k
      exact k
  · intro ⟨h, b⟩ f hf
    by_cases c : f = e
    · rw [c, pk_us]; exact ⟨fun z => absurd z (by decide), fun _ => b⟩
    · rw [pk_un c]; exact h f hf
theorem sl_ext_1 {m e : Nat} {σ : Nat → Int32} (he : e < 24) (h0 : σ e = 0) : sl_ext m (upd σ e 1) ↔ sl_ext m σ ∧ sl_hs m e = true := by
  constructor
  · intro h
    refine ⟨fun f hf => ?_, (h e he).1 pk_us⟩
    by_cases c : f = e
    · rw [c, h0]; exact ⟨fun z => absurd z (by decide), fun z => absurd z (by decide)⟩
    · have k := h f hf
      rw [pk_un c] at k
      exact k
  · intro ⟨h, b⟩ f hf
    by_cases c : f = e
    · rw [c, pk_us]; exact ⟨fun _ => b, fun z => absurd z (by decide)⟩
    · rw [pk_un c]; exact h f hf
theorem sl_split {cl σ : Nat → Int32} {LL : List Nat} {e : Nat} (hl : LL.Pairwise (· < ·)) (hL : ∀ m, m ∈ LL → m < 2 ^ 24) (hv : sl_val σ) (he : e < 24) (h0 : σ e = 0) (hb : ∀ f, f < e → σ f ≠ 0) : sl_sols cl LL σ = sl_sols cl LL (upd σ e 2) ++ sl_sols cl LL (upd σ e 1) := by
  have k := sl_filter_split hl (fun m => sl_b (sl_okC cl m ∧ sl_ext m σ)) (fun m => sl_hs m e) ?_
  · show LL.filter _ = LL.filter _ ++ LL.filter _
    rw [k]
    congr 1
    · apply List.filter_congr
      intro m _
      rw [Bool.eq_iff_iff, Bool.and_eq_true, sl_b_t, sl_b_t, Bool.not_eq_true', sl_ext_2 he h0]
      exact ⟨fun ⟨⟨a, b⟩, c⟩ => ⟨a, b, c⟩, fun ⟨a, b, c⟩ => ⟨⟨a, b⟩, c⟩⟩
    · apply List.filter_congr
      intro m _
      rw [Bool.eq_iff_iff, Bool.and_eq_true, sl_b_t, sl_b_t, sl_ext_1 he h0]
      exact ⟨fun ⟨⟨a, b⟩, c⟩ => ⟨a, b, c⟩, fun ⟨a, b, c⟩ => ⟨⟨a, b⟩, c⟩⟩
  · intro a b ha hb' pa pb qa qb
    rw [sl_b_t] at pa pb
    refine sl_hs_lt (hL b hb') (hL a ha) he ?_ qb qa
    intro f hf
    have xa := pa.2 f (by omega)
    have xb := pb.2 f (by omega)
    rcases hv f (by omega) with z | z | z
    · exact absurd z (hb f hf)
    · rw [xa.1 z, xb.1 z]
    · rw [xa.2 z, xb.2 z]
theorem sl_filter_1 {l : List Nat} (hl : l.Pairwise (· < ·)) {a : Nat} {p : Nat → Bool} : a ∈ l → (∀ b, b ∈ l → (p b = true ↔ b = a)) → l.filter p = [a] := by
  induction l with
  | nil => intro h; exact absurd h (by simp)
  | cons b l ih =>
    intro ha hp
    have hc := List.pairwise_cons.mp hl
    by_cases c : b = a
    · subst c
      have e : l.filter p = [] := by
        apply List.filter_eq_nil_iff.mpr
        intro x hx z
        have := (hp x (List.mem_cons_of_mem _ hx)).mp z
        have k := hc.1 x hx
        omega
      rw [List.filter_cons, if_pos ((hp b (List.mem_cons_self ..)).mpr rfl), e]
    · have n : ¬ p b = true := fun z => c ((hp b (List.mem_cons_self ..)).mp z)
      rw [List.filter_cons, if_neg n]
      refine ih hc.2 ?_ (fun x hx => hp x (List.mem_cons_of_mem _ hx))
      rcases List.mem_cons.mp ha with z | z
      · exact absurd z.symm c
      · exact z
/-- a state with all decided that stands still: no edge chosen and no solution, or just one -/
theorem sl_end {cl σ : Nat → Int32} {LL : List Nat} (hl : LL.Pairwise (· < ·)) (hL : ∀ m, m ∈ LL ↔ sl_isL m) (hF : sl_FIX cl σ) (hv : sl_val σ) (hd : ∀ e, e < 24 → σ e ≠ 0) : ((∀ e, e < 24 → sl_ch σ e = false) ∧ sl_sols cl LL σ = []) ∨ ((∃ e, e < 24 ∧ sl_ch σ e = true) ∧ ∃ m, sl_isL m ∧ (∀ e, e < 24 → sl_ch σ e = sl_hs m e) ∧ sl_sols cl LL σ = [m]) := by
  have x_iff : ∀ m, sl_ext m σ ↔ ∀ e, e < 24 → sl_ch σ e = sl_hs m e := by
    intro m
    constructor
    · intro x e he
      unfold sl_ch
      rcases hv e he with z | z | z
      · exact absurd z (hd e he)
      · rw [z, (x e he).1 z]; rfl
      · rw [z, (x e he).2 z]; rfl
    · intro x e he
      have k := x e he
      unfold sl_ch at k
      constructor
      · intro z; rw [z] at k; exact k.symm
      · intro z; rw [z] at k; exact k.symm
  have o0 : ∀ E : Nat → Nat, sl_cq σ 0 E 4 = 0 := fun E => sl_cq_0 E 4 (fun i _ h24 => hd _ h24)
  have dg : ∀ p, p < 16 → sl_deg (sl_ch σ) p = 0 ∨ sl_deg (sl_ch σ) p = 2 := by
    intro p hp
    have f := hF.1 p hp
    unfold sl_FP at f
    rw [o0, sl_cq_dq] at f
    have f2 := f.2.1
    show sl_dq (sl_ch σ) (sl_pe p) 4 = 0 ∨ sl_dq (sl_ch σ) (sl_pe p) 4 = 2
    have f1 := f.1
    by_cases c : sl_dq (sl_ch σ) (sl_pe p) 4 = 1
    · exact absurd rfl (f2 c)
    · omega
  rcases sl_leaf dg hF.2.2 with z | ⟨s, hs, g, q⟩
  · left
    refine ⟨z, sl_sols_n ?_⟩
    intro m hm _ x
    obtain ⟨e, he, k⟩ := sl_isL_ne ((hL m).mp hm)
    rw [← (x_iff m).mp x e he, z e he] at k
    exact absurd k (by decide)
  · right
    have hm : sl_isL (sl_brd s) := ⟨s, hs, g, rfl⟩
    have q' : ∀ e, e < 24 → sl_ch σ e = sl_hs (sl_brd s) e := fun e he => by rw [sl_hs_brd he]; exact q e he
    refine ⟨?_, sl_brd s, hm, q', ?_⟩
    · obtain ⟨e, he, k⟩ := sl_isL_ne hm
      exact ⟨e, he, by rw [q' e he]; exact k⟩
    · refine sl_filter_1 hl ((hL _).mpr hm) ?_
      intro b hb
      rw [sl_b_t]
      constructor
      · intro ⟨_, x⟩
        refine sl_hs_inj (sl_isL_lt ((hL b).mp hb)) (sl_brd_lt s) ?_
        intro e he
        rw [← (x_iff b).mp x e he, q' e he]
      · intro z
        rw [z]
        refine ⟨?_, (x_iff _).mpr q'⟩
        intro i hi
        rcases hF.2.1 i hi with c | ⟨v, _, c, h1, h2⟩
        · exact Or.inl c
        · right
          rw [o0, sl_cq_dq] at h2
          rw [sl_cq_dq] at h1
          rw [c]
          have e : sl_cc (sl_brd s) i = sl_dq (sl_ch σ) (sl_ce i) 4 := (sl_dq_c q' _ 4).symm
          rw [e]
          exact congrArg nI (by omega)
theorem sl_H_sols {cl σ te σ' te' : Nat → Int32} {LL : List Nat} {t t' : Nat} {dd' : Int32} (hL : ∀ m, m ∈ LL ↔ sl_isL m) (h : sl_H (sl_V cl) t 0 σ te t' dd' σ' te') (h0 : dd' = 0) : sl_sols cl LL σ = sl_sols cl LL σ' :=
  sl_sols_c (fun m hm c => ⟨fun x => (h.2.2.2.2 m ⟨(hL m).mp hm, c⟩ rfl x).2, fun x => sl_H_x h x⟩)
theorem sl_H_none {cl σ te σ' te' : Nat → Int32} {LL : List Nat} {t t' : Nat} {dd' : Int32} (hL : ∀ m, m ∈ LL ↔ sl_isL m) (h : sl_H (sl_V cl) t 0 σ te t' dd' σ' te') (h0 : dd' ≠ 0) : sl_sols cl LL σ = [] :=
  sl_sols_n (fun m hm c x => h0 (h.2.2.2.2 m ⟨(hL m).mp hm, c⟩ rfl x).1)
theorem sl_sols_e {cl σ τ : Nat → Int32} {LL : List Nat} (h : ∀ e, e < 24 → σ e = τ e) : sl_sols cl LL σ = sl_sols cl LL τ := by
  apply sl_sols_c
  intro m _ _
  constructor
  · intro x e he; rw [← h e he]; exact x e he
  · intro x e he; rw [h e he]; exact x e he
end
section
/-! X: one edge, back, counts and fills at a point -/
def sl_Tab (ea eb ce pe : Nat → Int32) : Prop := (∀ e, e < 24 → ea e = nI (sl_A e)) ∧ (∀ e, e < 24 → eb e = nI (sl_B e)) ∧ (∀ j, j < 36 → ce j = nI (sl_C j)) ∧ (∀ j, j < 64 → pe j = if sl_P j < 24 then nI (sl_P j) else -1)
theorem sl_A_lt : ∀ e, e < 24 → sl_A e < 16 := by decide +kernel
theorem sl_B_lt : ∀ e, e < 24 → sl_B e < 16 := by decide +kernel
theorem sl_C_lt : ∀ j, j < 36 → sl_C j < 24 := by decide +kernel
theorem sl_ix4 (p k : Nat) : nI p * 4 + nI k = nI (p * 4 + k) := by
  rw [show (4 : Int32) = nI 4 from rfl, pk_mul, nI_add]
theorem sl_Tab_p {ea eb ce pe : Nat → Int32} (T : sl_Tab ea eb ce pe) {p k : Nat} (hp : p < 16) (hk : k < 4) : pe (nI p * 4 + nI k).toNatClampNeg = if sl_pe p k < 24 then nI (sl_pe p k) else -1 := by
  rw [sl_ix4, nI_clamp (by omega), T.2.2.2 _ (by omega)]
  rfl
theorem sl_Tab_c {ea eb ce pe : Nat → Int32} (T : sl_Tab ea eb ce pe) {c k : Nat} (hc : c < 9) (hk : k < 4) : ce (nI c * 4 + nI k).toNatClampNeg = nI (sl_ce c k) := by
  rw [sl_ix4, nI_clamp (by omega), T.2.2.1 _ (by omega)]
  rfl
section SLP
variable {post : SX → Prop} {tr dd mv rd fd : Int32} {cl mk ea eb ce pe st te pc lE lT lD lo : Nat → Int32}
theorem xa_assign {e t : Nat} {s : Int32} (he : e < 24) (ht : t < 24) (h0 : st e = 0) (hs : s ≠ 0) (hp : post (nI (t + 1), dd, 1, rd, fd, cl, mk, ea, eb, ce, pe, upd st e s, upd te t (nI e), pc, lE, lT, lD, lo)) : wpX_assign post (nI t, dd, mv, rd, fd, cl, mk, ea, eb, ce, pe, st, te, pc, lE, lT, lD, lo) (nI e) s := by
  have c : (nI e).toNatClampNeg = e := nI_clamp (by omega)
  have ct : (nI t).toNatClampNeg = t := nI_clamp (by omega)
  unfold wpX_assign
  dsimp only
  rw [c, ct]
  exact ⟨pk_in e 24 he, br_f (by rw [h0]; exact fun z => hs z.symm) ⟨pk_in e 24 he, br_t h0 ⟨pk_in e 24 he, nm_e ⟨pk_in t 24 ht, nm_e (nm_r (nI_1 t) hp)⟩⟩⟩⟩
theorem sl_bk_b {L t e : Nat} {te σ τ : Nat → Int32} (hL : L ≤ t) (he : e < 24) (h : te t = nI e) (k : sl_bk L t te (upd σ e 0) τ) : sl_bk L (t + 1) te σ τ := by
  intro f hf
  constructor
  · intro ⟨j, a, b, c⟩
    by_cases q : j = t
    · rw [q, h] at c
      have ef : e = f := (nI_eq (by omega) (by omega)).mp c
      subst ef
      by_cases d : ∃ j, L ≤ j ∧ j < t ∧ te j = nI e
      · exact (k e hf).1 d
      · rw [(k e hf).2 d, pk_us]
    · exact (k f hf).1 ⟨j, a, by omega, c⟩
  · intro n
    have ne : f ≠ e := by
      intro z
      exact n ⟨t, hL, by omega, by rw [z]; exact h⟩
    rw [(k f hf).2 (fun ⟨j, a, b, c⟩ => n ⟨j, a, by omega, c⟩), pk_un ne]
theorem xb_backTo {L : Nat} (hL : L ≤ 24) : ∀ d st, L + d ≤ 24 → (∀ j, j < L + d → ∃ e, e < 24 ∧ te j = nI e) → (∀ st', sl_bk L (L + d) te st st' → post (nI L, 0, mv, rd, fd, cl, mk, ea, eb, ce, pe, st', te, pc, lE, lT, lD, lo)) → wX_backTo_0 post (nI L) dd mv rd fd (d + 1) (nI (L + d)) cl mk ea eb ce pe st te pc lE lT lD lo := by
  intro d
  induction d with
  | zero =>
    intro st _ _ hp
    exact br_t (nI_le (by omega) (by omega)) (hp st sl_bk_r)
  | succ d ih =>
    intro st h24 hte hp
    have hn : ¬ nI (L + (d + 1)) ≤ nI L := nI_ge (by omega) (by omega)
    obtain ⟨e, he, ee⟩ := hte (L + d) (by omega)
    have ct : (nI (L + d)).toNatClampNeg = L + d := nI_clamp (by omega)
    have e1 : te (nI (L + d)).toNatClampNeg = nI e := by rw [ct]; exact ee
    have e2 : (te (nI (L + d)).toNatClampNeg).toNatClampNeg = e := by rw [e1]; exact nI_clamp (by omega)
    refine br_f hn (nm_r (nI_pred (L + d)) ⟨pk_in (L + d) 24 (by omega), pk_in e 24 he e1, ?_⟩)
    refine nm_r (e' := upd st e 0) (by rw [e2]) ?_
    exact ih (upd st e 0) (by omega) (fun j hj => hte j (by omega)) (fun st' k => hp st' (sl_bk_b (t := L + d) (Nat.le_add_right L d) he ee k))
theorem xb_backToW {L t : Nat} (hL : L ≤ t) (ht : t ≤ 24) (hte : ∀ j, j < t → ∃ e, e < 24 ∧ te j = nI e) (hp : ∀ st', sl_bk L t te st st' → post (nI L, 0, mv, rd, fd, cl, mk, ea, eb, ce, pe, st', te, pc, lE, lT, lD, lo)) : wpX_backTo post (nI t, dd, mv, rd, fd, cl, mk, ea, eb, ce, pe, st, te, pc, lE, lT, lD, lo) (nI L) := by
  obtain ⟨d, rfl⟩ : ∃ d, t = L + d := ⟨t - L, by omega⟩
  exact ⟨d + 1, xb_backTo (by omega) d st ht hte hp⟩
theorem xk_countAt {ps : Int32 → Prop} {p : Nat} {s : Int32} (T : sl_Tab ea eb ce pe) (hp : p < 16) (h : ps (nI (sl_cq st s (sl_pe p) 4))) : ∀ d k, k + d = 4 → wX_countAt_5 ps (nI p) s tr dd mv rd fd cl mk ea eb ce pe st te pc lE lT lD lo (d + 1) (nI (sl_cq st s (sl_pe p) k)) (nI k) := by
  intro d
  induction d with
  | zero =>
    intro k hk
    have e : k = 4 := by omega
    subst e
    exact br_t (nI_le (a := 4) (b := 4) (by omega) (by decide)) h
  | succ d ih =>
    intro k hk
    have hn : ¬ (4 : Int32) ≤ nI k := nI_ge (a := k) (b := 4) (by omega) (by decide)
    have cE := sl_Tab_p T hp (k := k) (by omega)
    refine br_f hn ⟨pk_in (p * 4 + k) 64 (by omega) (sl_ix4 p k), ?_⟩
    have i := ih (k + 1) (by omega)
    have es : sl_cq st s (sl_pe p) (k + 1) = sl_cq st s (sl_pe p) k + sl_tq st s (sl_pe p k) := rfl
    by_cases q : sl_pe p k < 24
    · rw [if_pos q] at cE
      have cs : (nI (sl_pe p k)).toNatClampNeg = sl_pe p k := nI_clamp (by omega)
      refine nm_r cE (br_f (nI_pos (by omega)) ⟨pk_in _ 24 q, ?_⟩)
      by_cases r : st (sl_pe p k) = s
      · rw [es, sl_tq_p q r] at i
        exact br_t (by rw [cs]; exact r) (nm_r (nI_1 _) (nm_r (nI_1 k) i))
      · rw [es, sl_tq_n r] at i
        exact br_f (by rw [cs]; exact r) (nm_r (nI_1 k) i)
    · rw [if_neg q] at cE
      rw [es, sl_tq_o q] at i
      exact nm_r cE (br_t (by decide) (nm_r (nI_1 k) i))
theorem xk_countAtW {ps : Int32 → Prop} {p : Nat} {s : Int32} (T : sl_Tab ea eb ce pe) (hp : p < 16) (h : ps (nI (sl_cq st s (sl_pe p) 4))) : wpX_countAt ps (tr, dd, mv, rd, fd, cl, mk, ea, eb, ce, pe, st, te, pc, lE, lT, lD, lo) (nI p) s :=
  ⟨5, xk_countAt T hp h 4 0 rfl⟩
theorem xl_fillPoint {V : Nat → Prop} {p t0 : Nat} {s mv0 : Int32} {st0 te0 : Nat → Int32} (T : sl_Tab ea eb ce pe) (hp : p < 16) (hs : s = 1 ∨ s = 2) (snd : ∀ m, V m → sl_ext m st0 → ∀ k, k < 4 → sl_pe p k < 24 → st0 (sl_pe p k) = 0 → (s = 1 → sl_hs m (sl_pe p k) = true) ∧ (s = 2 → sl_hs m (sl_pe p k) = false))
    (hpost : ∀ t mv st te, sl_G V t0 dd mv0 st0 te0 t dd mv st te → (mv = 0 → ∀ k, k < 4 → sl_pe p k < 24 → st (sl_pe p k) ≠ 0) → post (nI t, dd, mv, rd, fd, cl, mk, ea, eb, ce, pe, st, te, pc, lE, lT, lD, lo)) : ∀ d k, k + d = 4 → ∀ t mv st te, sl_G V t0 dd mv0 st0 te0 t dd mv st te → (mv = 0 → ∀ i, i < k → sl_pe p i < 24 → st (sl_pe p i) ≠ 0) → wX_fillPoint_2 post (nI p) s (d + 1) (nI k) (nI t) dd mv rd fd cl mk ea eb ce pe st te pc lE lT lD lo := by
  have s0 : s ≠ 0 := by rcases hs with z | z <;> rw [z] <;> decide
  intro d
  induction d with
  | zero =>
    intro k hk t mv st te g hm
    have e : k = 4 := by omega
    subst e
    exact br_t (nI_le (a := 4) (b := 4) (by omega) (by decide)) (hpost t mv st te g hm)
  | succ d ih =>
    intro k hk t mv st te g hm
    have hn : ¬ (4 : Int32) ≤ nI k := nI_ge (a := k) (b := 4) (by omega) (by decide)
    have cE := sl_Tab_p T hp (k := k) (by omega)
    refine br_f hn ⟨pk_in (p * 4 + k) 64 (by omega) (sl_ix4 p k), ?_⟩
    by_cases q : sl_pe p k < 24
    · rw [if_pos q] at cE
      have cs : (nI (sl_pe p k)).toNatClampNeg = sl_pe p k := nI_clamp (by omega)
      refine nm_r cE (br_f (nI_pos (by omega)) ⟨pk_in _ 24 q, ?_⟩)
      by_cases r : st (sl_pe p k) = 0
      · have ht : t < 24 := by rw [g.1.1.1]; exact sl_dc_lt r 24 q
        refine br_t (by rw [cs]; exact r) (xa_assign q ht r s0 (nm_r (nI_1 k) ?_))
        exact ih (k + 1) (by omega) (t + 1) 1 (upd st (sl_pe p k) s) (upd te t (nI (sl_pe p k))) (sl_G_f g q r hs (fun m hV x z => snd m hV x k (by omega) q z)) (fun z => absurd z (by decide))
      · refine br_f (by rw [cs]; exact r) (nm_r (nI_1 k) ?_)
        refine ih (k + 1) (by omega) t mv st te g (fun z i hi h24 => ?_)
        by_cases c : i = k
        · rw [c]; exact r
        · exact hm z i (by omega) h24
    · rw [if_neg q] at cE
      refine nm_r cE (br_t (by decide) (nm_r (nI_1 k) ?_))
      refine ih (k + 1) (by omega) t mv st te g (fun z i hi h24 => ?_)
      by_cases c : i = k
      · rw [c] at h24; exact absurd h24 q
      · exact hm z i (by omega) h24
theorem xl_fillPointW {V : Nat → Prop} {p t : Nat} {s : Int32} (T : sl_Tab ea eb ce pe) (hok : sl_ok t te st) (hp : p < 16) (hs : s = 1 ∨ s = 2) (snd : ∀ m, V m → sl_ext m st → ∀ k, k < 4 → sl_pe p k < 24 → st (sl_pe p k) = 0 → (s = 1 → sl_hs m (sl_pe p k) = true) ∧ (s = 2 → sl_hs m (sl_pe p k) = false))
    (hpost : ∀ t' mv' st' te', sl_G V t dd mv st te t' dd mv' st' te' → (mv' = 0 → ∀ k, k < 4 → sl_pe p k < 24 → st' (sl_pe p k) ≠ 0) → post (nI t', dd, mv', rd, fd, cl, mk, ea, eb, ce, pe, st', te', pc, lE, lT, lD, lo)) : wpX_fillPoint post (nI t, dd, mv, rd, fd, cl, mk, ea, eb, ce, pe, st, te, pc, lE, lT, lD, lo) (nI p) s :=
  ⟨5, xl_fillPoint T hp hs snd hpost 4 0 rfl t mv st te (sl_G_r hok) (fun _ i hi => absurd hi (by omega))⟩
/-- what a point asks -/
theorem xc_36 {V : Nat → Prop} {p t : Nat} (T : sl_Tab ea eb ce pe) (hok : sl_ok t te st) (hp : p < 16) (hV : ∀ m, V m → sl_deg (sl_hs m) p = 0 ∨ sl_deg (sl_hs m) p = 2) (h2 : sl_cq st 1 (sl_pe p) 4 ≤ 2) (h1 : sl_cq st 1 (sl_pe p) 4 = 1 → sl_cq st 0 (sl_pe p) 4 ≠ 0)
    (hpost : ∀ t' dd' mv' st' te', sl_G V t dd mv st te t' dd' mv' st' te' → (mv' = 0 → dd' = 0 → sl_FP st' p) → post (nI t', dd', mv', rd, fd, cl, mk, ea, eb, ce, pe, st', te', pc, lE, lT, lD, lo)) : wX_checkPoint_36 post (nI p) (nI (sl_cq st 1 (sl_pe p) 4)) (nI (sl_cq st 0 (sl_pe p) 4)) (nI t) dd mv rd fd cl mk ea eb ce pe st te pc lE lT lD lo := by
  have l0 := sl_cq_le st 0 (sl_pe p) 4
  have aft : ∀ t' mv' st' te', sl_G V t dd mv st te t' dd mv' st' te' → (mv' = 0 → ∀ k, k < 4 → sl_pe p k < 24 → st' (sl_pe p k) ≠ 0) → post (nI t', dd, mv', rd, fd, cl, mk, ea, eb, ce, pe, st', te', pc, lE, lT, lD, lo) := by
    intro t' mv' st' te' g hm
    refine hpost t' dd mv' st' te' g (fun z _ => ?_)
    have q := (g.2.1 z).2
    have o := sl_cq_0 (s := 0) (sl_pe p) 4 (hm z)
    unfold sl_FP
    rw [o]
    rw [sl_cq_c q] at o ⊢
    exact ⟨h2, fun c => absurd o (h1 c), by decide⟩
  unfold wX_checkPoint_36
  refine pk_eq (sl_cq st 1 (sl_pe p) 4) 2 (fun c => ?_) (fun c => pk_eq (sl_cq st 0 (sl_pe p) 4) 1 (fun d => pk_eq (sl_cq st 1 (sl_pe p) 4) 1 (fun b => ?_) (fun b => ?_)) (fun d => ?_))
  · refine xl_fillPointW (V := V) T hok hp (Or.inr rfl) (fun m hm x k hk h24 h0 => ⟨fun z => absurd z (by decide), fun _ => ?_⟩) aft
    refine sl_eq2 x hok.2.1 (sl_pe p) 4 ?_ k hk h24 h0
    have s := (sl_sum x hok.2.1 (sl_pe p) 4)
    have g : sl_dq (sl_hs m) (sl_pe p) 4 = 0 ∨ sl_dq (sl_hs m) (sl_pe p) 4 = 2 := hV m hm
    omega
  · unfold wX_checkPoint_67
    refine xl_fillPointW (V := V) T hok hp (Or.inl rfl) (fun m hm x k hk h24 h0 => ⟨fun _ => ?_, fun z => absurd z (by decide)⟩) aft
    refine sl_eq1 x hok.2.1 (sl_pe p) 4 ?_ k hk h24 h0
    have s := (sl_sum x hok.2.1 (sl_pe p) 4)
    have g : sl_dq (sl_hs m) (sl_pe p) 4 = 0 ∨ sl_dq (sl_hs m) (sl_pe p) 4 = 2 := hV m hm
    omega
  · unfold wX_checkPoint_67
    refine xl_fillPointW (V := V) T hok hp (Or.inr rfl) (fun m hm x k hk h24 h0 => ⟨fun z => absurd z (by decide), fun _ => ?_⟩) aft
    refine sl_eq2 x hok.2.1 (sl_pe p) 4 ?_ k hk h24 h0
    have s := (sl_sum x hok.2.1 (sl_pe p) 4)
    have g : sl_dq (sl_hs m) (sl_pe p) 4 = 0 ∨ sl_dq (sl_hs m) (sl_pe p) 4 = 2 := hV m hm
    omega
  · exact hpost t dd mv st te (sl_G_r hok) (fun _ _ => ⟨h2, h1, d⟩)
theorem xc_point {V : Nat → Prop} {p t : Nat} (T : sl_Tab ea eb ce pe) (hok : sl_ok t te st) (hp : p < 16) (hV : ∀ m, V m → sl_deg (sl_hs m) p = 0 ∨ sl_deg (sl_hs m) p = 2)
    (hpost : ∀ t' dd' mv' st' te', sl_G V t 0 mv st te t' dd' mv' st' te' → (mv' = 0 → dd' = 0 → sl_FP st' p) → post (nI t', dd', mv', rd, fd, cl, mk, ea, eb, ce, pe, st', te', pc, lE, lT, lD, lo)) : wpX_checkPoint post (nI t, 0, mv, rd, fd, cl, mk, ea, eb, ce, pe, st, te, pc, lE, lT, lD, lo) (nI p) := by
  have l0 := sl_cq_le st 0 (sl_pe p) 4
  have l1 := sl_cq_le st 1 (sl_pe p) 4
  unfold wpX_checkPoint
  dsimp only
  refine xk_countAtW T hp (xk_countAtW T hp ?_)
  have bad : (∀ m, V m → sl_ext m st → False) → post (nI t, 1, mv, rd, fd, cl, mk, ea, eb, ce, pe, st, te, pc, lE, lT, lD, lo) := fun z => hpost t 1 mv st te (sl_G_dead hok z) (fun _ z => absurd z (by decide))
  refine pk_lt 2 (sl_cq st 1 (sl_pe p) 4) (fun c => bad (fun m hm x => ?_)) (fun c => pk_eq (sl_cq st 1 (sl_pe p) 4) 1 (fun d => pk_eq (sl_cq st 0 (sl_pe p) 4) 0 (fun b => bad (fun m hm x => ?_)) (fun b => ?_)) (fun d => ?_))
  · have s := (sl_sum x hok.2.1 (sl_pe p) 4)
    have g : sl_dq (sl_hs m) (sl_pe p) 4 = 0 ∨ sl_dq (sl_hs m) (sl_pe p) 4 = 2 := hV m hm
    omega
  · have s := (sl_sum x hok.2.1 (sl_pe p) 4)
    have g : sl_dq (sl_hs m) (sl_pe p) 4 = 0 ∨ sl_dq (sl_hs m) (sl_pe p) 4 = 2 := hV m hm
    omega
  · exact xc_36 T hok hp hV c (fun _ => b) hpost
  · exact xc_36 T hok hp hV c (fun z => absurd z d) hpost
end SLP
end
section
/-! X: counts and fills in a cell; the pieces -/
theorem sl_dq_le (C : Nat → Bool) (E : Nat → Nat) : ∀ k, sl_dq C E k ≤ k := by
  intro k
  induction k with
  | zero => exact Nat.le_refl 0
  | succ k ih =>
    show sl_dq C E k + sl_t C (E k) ≤ k + 1
    have : sl_t C (E k) ≤ 1 := by unfold sl_t; split <;> omega
    omega
section SLC
variable {post : SX → Prop} {tr dd mv rd fd : Int32} {cl mk ea eb ce pe st te pc lE lT lD lo : Nat → Int32}
theorem xk_countIn {ps : Int32 → Prop} {c : Nat} {s : Int32} (T : sl_Tab ea eb ce pe) (hc : c < 9) (h : ps (nI (sl_cq st s (sl_ce c) 4))) : ∀ d k, k + d = 4 → wX_countIn_5 ps (nI c) s tr dd mv rd fd cl mk ea eb ce pe st te pc lE lT lD lo (d + 1) (nI (sl_cq st s (sl_ce c) k)) (nI k) := by
  intro d
  induction d with
  | zero =>
    intro k hk
    have e : k = 4 := by omega
    subst e
    exact br_t (nI_le (a := 4) (b := 4) (by omega) (by decide)) h
  | succ d ih =>
    intro k hk
    have hn : ¬ (4 : Int32) ≤ nI k := nI_ge (a := k) (b := 4) (by omega) (by decide)
    have cE := sl_Tab_c T hc (k := k) (by omega)
    have q : sl_ce c k < 24 := sl_C_lt (c * 4 + k) (by omega)
    have cs : (ce (nI c * 4 + nI k).toNatClampNeg).toNatClampNeg = sl_ce c k := by rw [cE]; exact nI_clamp (by omega)
    refine br_f hn ⟨pk_in (c * 4 + k) 36 (by omega) (sl_ix4 c k), pk_in _ 24 q cE, ?_⟩
    have i := ih (k + 1) (by omega)
    have es : sl_cq st s (sl_ce c) (k + 1) = sl_cq st s (sl_ce c) k + sl_tq st s (sl_ce c k) := rfl
    by_cases r : st (sl_ce c k) = s
    · rw [es, sl_tq_p q r] at i
      exact br_t (by rw [cs]; exact r) (nm_r (nI_1 _) (nm_r (nI_1 k) i))
    · rw [es, sl_tq_n r] at i
      exact br_f (by rw [cs]; exact r) (nm_r (nI_1 k) i)
theorem xk_countInW {ps : Int32 → Prop} {c : Nat} {s : Int32} (T : sl_Tab ea eb ce pe) (hc : c < 9) (h : ps (nI (sl_cq st s (sl_ce c) 4))) : wpX_countIn ps (tr, dd, mv, rd, fd, cl, mk, ea, eb, ce, pe, st, te, pc, lE, lT, lD, lo) (nI c) s :=
  ⟨5, xk_countIn T hc h 4 0 rfl⟩
theorem xl_fillCell {V : Nat → Prop} {c t0 : Nat} {s mv0 : Int32} {st0 te0 : Nat → Int32} (T : sl_Tab ea eb ce pe) (hc : c < 9) (hs : s = 1 ∨ s = 2) (snd : ∀ m, V m → sl_ext m st0 → ∀ k, k < 4 → sl_ce c k < 24 → st0 (sl_ce c k) = 0 → (s = 1 → sl_hs m (sl_ce c k) = true) ∧ (s = 2 → sl_hs m (sl_ce c k) = false))
    (hpost : ∀ t mv st te, sl_G V t0 dd mv0 st0 te0 t dd mv st te → (mv = 0 → ∀ k, k < 4 → sl_ce c k < 24 → st (sl_ce c k) ≠ 0) → post (nI t, dd, mv, rd, fd, cl, mk, ea, eb, ce, pe, st, te, pc, lE, lT, lD, lo)) : ∀ d k, k + d = 4 → ∀ t mv st te, sl_G V t0 dd mv0 st0 te0 t dd mv st te → (mv = 0 → ∀ i, i < k → sl_ce c i < 24 → st (sl_ce c i) ≠ 0) → wX_fillCell_2 post (nI c) s (d + 1) (nI k) (nI t) dd mv rd fd cl mk ea eb ce pe st te pc lE lT lD lo := by
  have s0 : s ≠ 0 := by rcases hs with z | z <;> rw [z] <;> decide
  intro d
  induction d with
  | zero =>
    intro k hk t mv st te g hm
    have e : k = 4 := by omega
    subst e
    exact br_t (nI_le (a := 4) (b := 4) (by omega) (by decide)) (hpost t mv st te g hm)
  | succ d ih =>
    intro k hk t mv st te g hm
    have hn : ¬ (4 : Int32) ≤ nI k := nI_ge (a := k) (b := 4) (by omega) (by decide)
    have cE := sl_Tab_c T hc (k := k) (by omega)
    have q : sl_ce c k < 24 := sl_C_lt (c * 4 + k) (by omega)
    have cs : (nI (sl_ce c k)).toNatClampNeg = sl_ce c k := nI_clamp (by omega)
    refine br_f hn ⟨pk_in (c * 4 + k) 36 (by omega) (sl_ix4 c k), nm_r cE ⟨pk_in _ 24 q, ?_⟩⟩
    by_cases r : st (sl_ce c k) = 0
    · have ht : t < 24 := by rw [g.1.1.1]; exact sl_dc_lt r 24 q
      refine br_t (by rw [cs]; exact r) (xa_assign q ht r s0 (nm_r (nI_1 k) ?_))
      exact ih (k + 1) (by omega) (t + 1) 1 (upd st (sl_ce c k) s) (upd te t (nI (sl_ce c k))) (sl_G_f g q r hs (fun m hV x z => snd m hV x k (by omega) q z)) (fun z => absurd z (by decide))
    · refine br_f (by rw [cs]; exact r) (nm_r (nI_1 k) ?_)
      refine ih (k + 1) (by omega) t mv st te g (fun z i hi h24 => ?_)
      by_cases c : i = k
      · rw [c]; exact r
      · exact hm z i (by omega) h24
theorem xl_fillCellW {V : Nat → Prop} {c t : Nat} {s : Int32} (T : sl_Tab ea eb ce pe) (hok : sl_ok t te st) (hc : c < 9) (hs : s = 1 ∨ s = 2) (snd : ∀ m, V m → sl_ext m st → ∀ k, k < 4 → sl_ce c k < 24 → st (sl_ce c k) = 0 → (s = 1 → sl_hs m (sl_ce c k) = true) ∧ (s = 2 → sl_hs m (sl_ce c k) = false))
    (hpost : ∀ t' mv' st' te', sl_G V t dd mv st te t' dd mv' st' te' → (mv' = 0 → ∀ k, k < 4 → sl_ce c k < 24 → st' (sl_ce c k) ≠ 0) → post (nI t', dd, mv', rd, fd, cl, mk, ea, eb, ce, pe, st', te', pc, lE, lT, lD, lo)) : wpX_fillCell post (nI t, dd, mv, rd, fd, cl, mk, ea, eb, ce, pe, st, te, pc, lE, lT, lD, lo) (nI c) s :=
  ⟨5, xl_fillCell T hc hs snd hpost 4 0 rfl t mv st te (sl_G_r hok) (fun _ i hi => absurd hi (by omega))⟩
theorem xc_cell {V : Nat → Prop} {c t v : Nat} (T : sl_Tab ea eb ce pe) (hok : sl_ok t te st) (hc : c < 9) (hv : v ≤ 5) (hcl : cl c = nI v) (hV : ∀ m, V m → cl c = 5 ∨ cl c = nI (sl_cc m c))
    (hpost : ∀ t' dd' mv' st' te', sl_G V t 0 mv st te t' dd' mv' st' te' → (mv' = 0 → dd' = 0 → sl_FC cl st' c) → post (nI t', dd', mv', rd, fd, cl, mk, ea, eb, ce, pe, st', te', pc, lE, lT, lD, lo)) : wpX_checkCell post (nI t, 0, mv, rd, fd, cl, mk, ea, eb, ce, pe, st, te, pc, lE, lT, lD, lo) (nI c) := by
  have l0 := sl_cq_le st 0 (sl_ce c) 4
  have l1 := sl_cq_le st 1 (sl_ce c) 4
  have e : cl (nI c).toNatClampNeg = nI v := by rw [nI_clamp (by omega)]; exact hcl
  unfold wpX_checkCell
  dsimp only
  refine ⟨pk_in c 9 hc, nm_r e (pk_eq v 5 (fun h5 => ?_) (fun h5 => xk_countInW T hc (xk_countInW T hc ?_)))⟩
  · exact hpost t 0 mv st te (sl_G_r hok) (fun _ _ => Or.inl (by rw [hcl, h5]; rfl))
  have hV' : ∀ m, V m → sl_dq (sl_hs m) (sl_ce c) 4 = v := by
    intro m hm
    have l := sl_dq_le (sl_hs m) (sl_ce c) 4
    rcases hV m hm with z | z
    · rw [hcl] at z
      exact absurd ((nI_eq (b := 5) (by omega) (by decide)).mp z) h5
    · rw [hcl] at z
      exact ((nI_eq (by omega) (by unfold sl_cc; omega)).mp z).symm
  have bad : (∀ m, V m → sl_ext m st → False) → post (nI t, 1, mv, rd, fd, cl, mk, ea, eb, ce, pe, st, te, pc, lE, lT, lD, lo) := fun z => hpost t 1 mv st te (sl_G_dead hok z) (fun _ z => absurd z (by decide))
  have aft : sl_cq st 1 (sl_ce c) 4 ≤ v → v ≤ sl_cq st 1 (sl_ce c) 4 + sl_cq st 0 (sl_ce c) 4 → ∀ t' mv' st' te', sl_G V t 0 mv st te t' 0 mv' st' te' → (mv' = 0 → ∀ k, k < 4 → sl_ce c k < 24 → st' (sl_ce c k) ≠ 0) → post (nI t', 0, mv', rd, fd, cl, mk, ea, eb, ce, pe, st', te', pc, lE, lT, lD, lo) := by
    intro a b t' mv' st' te' g _
    refine hpost t' 0 mv' st' te' g (fun z _ => Or.inr ⟨v, hv, hcl, ?_, ?_⟩)
    · rw [sl_cq_c (g.2.1 z).2]; exact a
    · rw [sl_cq_c (g.2.1 z).2, sl_cq_c (g.2.1 z).2]; exact b
  rw [nI_add]
  refine pk_lt v (sl_cq st 1 (sl_ce c) 4) (fun a => bad (fun m hm x => ?_)) (fun a => pk_le v (sl_cq st 1 (sl_ce c) 4 + sl_cq st 0 (sl_ce c) 4) (fun b => pk_eq (sl_cq st 1 (sl_ce c) 4) v (fun d => ?_) (fun d => pk_eq (sl_cq st 1 (sl_ce c) 4 + sl_cq st 0 (sl_ce c) 4) v (fun f => ?_) (fun f => ?_))) (fun b => bad (fun m hm x => ?_)))
  · have s := sl_sum x hok.2.1 (sl_ce c) 4
    have g := hV' m hm
    omega
  · refine xl_fillCellW (V := V) T hok hc (Or.inr rfl) (fun m hm x k hk h24 h0 => ⟨fun z => absurd z (by decide), fun _ => ?_⟩) (aft a b)
    exact sl_eq2 x hok.2.1 (sl_ce c) 4 ((hV' m hm).trans d.symm) k hk h24 h0
  · refine xl_fillCellW (V := V) T hok hc (Or.inl rfl) (fun m hm x k hk h24 h0 => ⟨fun _ => ?_, fun z => absurd z (by decide)⟩) (aft a b)
    exact sl_eq1 x hok.2.1 (sl_ce c) 4 ((hV' m hm).trans f.symm) k hk h24 h0
  · exact hpost t 0 mv st te (sl_G_r hok) (fun _ _ => Or.inr ⟨v, hv, hcl, a, b⟩)
  · have s := sl_sum x hok.2.1 (sl_ce c) 4
    have g := hV' m hm
    omega
/-! the pieces -/
theorem sl_rt_lt {pn : Nat → Nat} (h : ∀ p, p < 16 → pn p < 16) : ∀ f p, p < 16 → sl_rt pn f p < 16 := by
  intro f
  induction f with
  | zero => intro p hp; exact hp
  | succ f ih =>
    intro p hp
    unfold sl_rt
    by_cases c : pn p = p
    · rw [if_pos c]; exact hp
    · rw [if_neg c]; exact ih _ (h p hp)
theorem xr_rootOf {ps : Int32 → Prop} {pn : Nat → Nat} (hq : ∀ p, p < 16 → pc p = nI (pn p)) (hl : ∀ p, p < 16 → pn p < 16) : ∀ d i p, i + d = 16 → p < 16 → ps (nI (sl_rt pn d p)) → wX_rootOf_4 ps tr dd mv rd fd cl mk ea eb ce pe st te pc lE lT lD lo (d + 1) (nI p) (nI i) := by
  intro d
  induction d with
  | zero =>
    intro i p hi hp h
    exact br_t (nI_le (a := 16) (b := i) (by omega) (by omega)) h
  | succ d ih =>
    intro i p hi hp h
    have e : pc (nI p).toNatClampNeg = nI (pn p) := by rw [nI_clamp (by omega)]; exact hq p hp
    have lp := hl p hp
    refine br_f (nI_ge (a := i) (b := 16) (by omega) (by decide)) ⟨pk_in p 16 hp, ?_⟩
    have es : sl_rt pn (d + 1) p = if pn p = p then p else sl_rt pn d (pn p) := rfl
    rw [es] at h
    refine pk_eq (pn p) p (fun c => ?_) (fun c => ?_) e
    · rw [if_pos c] at h; exact h
    · rw [if_neg c] at h
      exact ⟨pk_in p 16 hp, nm_r e (nm_r (nI_1 i) (ih (i + 1) (pn p) (by omega) lp h))⟩
theorem xr_rootOfW {ps : Int32 → Prop} {pn : Nat → Nat} {p : Nat} (hq : ∀ p, p < 16 → pc p = nI (pn p)) (hl : ∀ p, p < 16 → pn p < 16) (hp : p < 16) (h : ps (nI (sl_rt pn 16 p))) : wpX_rootOf ps (tr, dd, mv, rd, fd, cl, mk, ea, eb, ce, pe, st, te, pc, lE, lT, lD, lo) (nI p) :=
  ⟨17, xr_rootOf hq hl 16 0 p rfl hp h⟩
theorem xh_hasChosen {ps : Int32 → Prop} {p : Nat} (T : sl_Tab ea eb ce pe) (hp : p < 16) (h0 : sl_deg (sl_ch st) p = 0 → ps 0) (h1 : 0 < sl_deg (sl_ch st) p → ps 1) : wpX_hasChosen ps (tr, dd, mv, rd, fd, cl, mk, ea, eb, ce, pe, st, te, pc, lE, lT, lD, lo) (nI p) := by
  have l1 := sl_cq_le st 1 (sl_pe p) 4
  have e : sl_cq st 1 (sl_pe p) 4 = sl_deg (sl_ch st) p := sl_cq_dq st (sl_pe p) 4
  unfold wpX_hasChosen
  dsimp only
  refine xk_countAtW T hp ?_
  refine pk_le (sl_cq st 1 (sl_pe p) 4) 0 (fun c => h0 (by omega)) (fun c => h1 (by omega))
/-- all that isn't decided is crossed off -/
theorem xl_fillAll {V : Nat → Prop} {t0 : Nat} {mv0 : Int32} {st0 te0 : Nat → Int32} (snd : ∀ m, V m → sl_ext m st0 → ∀ e, e < 24 → st0 e = 0 → sl_hs m e = false)
    (hpost : ∀ t mv st te, sl_G V t0 dd mv0 st0 te0 t dd mv st te → post (nI t, dd, mv, rd, fd, cl, mk, ea, eb, ce, pe, st, te, pc, lE, lT, lD, lo)) : ∀ d e, e + d = 24 → ∀ t mv st te, sl_G V t0 dd mv0 st0 te0 t dd mv st te → wX_checkPieces_157 post (d + 1) (nI e) (nI t) dd mv rd fd cl mk ea eb ce pe st te pc lE lT lD lo := by
  intro d
  induction d with
  | zero =>
    intro e he t mv st te g
    exact br_t (nI_le (a := 24) (b := e) (by omega) (by omega)) (hpost t mv st te g)
  | succ d ih =>
    intro e he t mv st te g
    have h24 : e < 24 := by omega
    have cs : (nI e).toNatClampNeg = e := nI_clamp (by omega)
    refine br_f (nI_ge (a := e) (b := 24) (by omega) (by decide)) ⟨pk_in e 24 h24, ?_⟩
    by_cases r : st e = 0
    · have ht : t < 24 := by rw [g.1.1.1]; exact sl_dc_lt r 24 h24
      refine br_t (by rw [cs]; exact r) (xa_assign h24 ht r (by decide) (nm_r (nI_1 e) ?_))
      exact ih (e + 1) (by omega) (t + 1) 1 (upd st e 2) (upd te t (nI e)) (sl_G_f g h24 r (Or.inr rfl) (fun m hV x z => ⟨fun y => absurd y (by decide), fun _ => snd m hV x e h24 z⟩))
    · exact br_f (by rw [cs]; exact r) (nm_r (nI_1 e) (ih (e + 1) (by omega) t mv st te g))
theorem sl_pn_le (C : Nat → Bool) : ∀ p, sl_pn C p ≤ p := by
  intro p
  induction p with
  | zero => exact Nat.le_refl 0
  | succ p ih =>
    show sl_pn C p + (if (sl_uf C 24).1 p = p ∧ 0 < sl_deg C p then 1 else 0) ≤ p + 1
    split <;> omega
theorem sl_uf_le (C : Nat → Bool) : ∀ n, (sl_uf C n).2 ≤ n := by
  intro n
  induction n with
  | zero => exact Nat.le_refl 0
  | succ n ih =>
    rw [sl_uf_s]
    by_cases c : C n = true
    · rw [if_pos c]
      by_cases d : sl_rt (sl_uf C n).1 16 (sl_A n) = sl_rt (sl_uf C n).1 16 (sl_B n)
      · rw [if_pos d]; show (sl_uf C n).2 + 1 ≤ n + 1; omega
      · rw [if_neg d]; show (sl_uf C n).2 ≤ n + 1; omega
    · rw [if_neg c]; omega
theorem sl_uf_lt (C : Nat → Bool) : ∀ n, n ≤ 24 → ∀ p, p < 16 → (sl_uf C n).1 p < 16 := by
  intro n
  induction n with
  | zero => intro _ p hp; exact hp
  | succ n ih =>
    intro hn p hp
    have i := ih (by omega)
    rw [sl_uf_s]
    by_cases c : C n = true
    · rw [if_pos c]
      by_cases d : sl_rt (sl_uf C n).1 16 (sl_A n) = sl_rt (sl_uf C n).1 16 (sl_B n)
      · rw [if_pos d]; exact i p hp
      · rw [if_neg d]
        show (if p = _ then _ else (sl_uf C n).1 p) < 16
        by_cases q : p = sl_rt (sl_uf C n).1 16 (sl_A n)
        · rw [if_pos q]; exact sl_rt_lt i 16 _ (sl_B_lt n (by omega))
        · rw [if_neg q]; exact i p hp
    · rw [if_neg c]; exact i p hp
theorem xp_97 {V : Nat → Prop} {t : Nat} (T : sl_Tab ea eb ce pe) (hok : sl_ok t te st) (hV : ∀ m, V m → sl_isL m) (hq : ∀ p, p < 16 → pc p = nI ((sl_uf (sl_ch st) 24).1 p))
    (hpost : ∀ t' dd' mv' st' te', sl_G V t 0 mv st te t' dd' mv' st' te' → (mv' = 0 → dd' = 0 → sl_FU st') → post (nI t', dd', mv', rd, fd, cl, mk, ea, eb, ce, pe, st', te', pc, lE, lT, lD, lo)) : ∀ d p, p + d = 16 → wX_checkPieces_97 post (nI (sl_clo (sl_ch st))) (nI t) 0 mv rd fd cl mk ea eb ce pe st te pc lE lT lD lo (d + 1) (nI (sl_pn (sl_ch st) p)) (nI p) := by
  have lc : sl_clo (sl_ch st) ≤ 24 := sl_uf_le _ 24
  intro d
  induction d with
  | zero =>
    intro p hp
    have e16 : p = 16 := by omega
    subst e16
    have lp := sl_pn_le (sl_ch st) 16
    have uf : ∀ m, V m → sl_ext m st → sl_clo (sl_ch st) = 0 ∨ ((∀ e, e < 24 → sl_ch st e = sl_hs m e) ∧ sl_clo (sl_ch st) = 1 ∧ sl_pcs (sl_ch st) = 1) := by
      intro m hm x
      refine sl_isL_uf (hV m hm) (fun e he c => (x e he).1 ?_)
      unfold sl_ch at c
      exact of_decide_eq_true c
    have bad : (∀ m, V m → sl_ext m st → False) → post (nI t, 1, mv, rd, fd, cl, mk, ea, eb, ce, pe, st, te, pc, lE, lT, lD, lo) := fun z => hpost t 1 mv st te (sl_G_dead hok z) (fun _ z => absurd z (by decide))
    refine br_t (nI_le (a := 16) (b := 16) (by omega) (by decide)) ?_
    refine pk_eq (sl_clo (sl_ch st)) 0 (fun c => ?_) (fun c => pk_lt 1 (sl_clo (sl_ch st)) (fun b => bad (fun m hm x => ?_)) (fun b => pk_le (sl_pn (sl_ch st) 16) 1 (fun a => ⟨25, ?_⟩) (fun a => bad (fun m hm x => ?_))))
    · exact hpost t 0 mv st te (sl_G_r hok) (fun _ _ => Or.inl c)
    · rcases uf m hm x with z | z
      · exact c z
      · omega
    · refine xl_fillAll (V := V) (t0 := t) (mv0 := mv) (st0 := st) (te0 := te) (fun m hm x e he z => ?_) (fun t' mv' st' te' g => ?_) 24 0 rfl t mv st te (sl_G_r hok)
      · rcases uf m hm x with y | y
        · exact absurd y c
        · rw [← y.1 e he]; unfold sl_ch; rw [z]; decide
      · refine hpost t' 0 mv' st' te' g (fun z _ => sl_FU_c (fun e he => ((g.2.1 z).2 e he).symm) (Or.inr ⟨by omega, a⟩))
    · rcases uf m hm x with z | z
      · exact c z
      · have : sl_pn (sl_ch st) 16 = 1 := z.2.2
        omega
  | succ d ih =>
    intro p hp
    have p16 : p < 16 := by omega
    have i := ih (p + 1) (by omega)
    have lp := sl_pn_le (sl_ch st) p
    have ll := sl_uf_lt (sl_ch st) 24 (by omega) p p16
    have es : sl_pn (sl_ch st) (p + 1) = sl_pn (sl_ch st) p + (if (sl_uf (sl_ch st) 24).1 p = p ∧ 0 < sl_deg (sl_ch st) p then 1 else 0) := rfl
    have e : pc (nI p).toNatClampNeg = nI ((sl_uf (sl_ch st) 24).1 p) := by rw [nI_clamp (by omega)]; exact hq p p16
    refine br_f (nI_ge (a := p) (b := 16) (by omega) (by decide)) ⟨pk_in p 16 p16, ?_⟩
    refine pk_eq ((sl_uf (sl_ch st) 24).1 p) p (fun c => ?_) (fun c => ?_) e
    · refine xh_hasChosen T p16 (fun z => ?_) (fun z => ?_)
      · rw [es, if_neg (by omega)] at i
        exact br_t (by decide) (nm_r (nI_1 p) i)
      · rw [es, if_pos ⟨c, z⟩] at i
        exact br_f (by decide) (nm_r (nI_1 _) (nm_r (nI_1 p) i))
    · rw [es, if_neg (fun z => c z.1)] at i
      exact nm_r (nI_1 p) i
theorem xp_27 {V : Nat → Prop} {t : Nat} (T : sl_Tab ea eb ce pe) (hok : sl_ok t te st) (hV : ∀ m, V m → sl_isL m)
    (hpost : ∀ t' dd' mv' st' te' pc', sl_G V t 0 mv st te t' dd' mv' st' te' → (mv' = 0 → dd' = 0 → sl_FU st') → post (nI t', dd', mv', rd, fd, cl, mk, ea, eb, ce, pe, st', te', pc', lE, lT, lD, lo)) : ∀ d e, e + d = 24 → ∀ pc, (∀ p, p < 16 → pc p = nI ((sl_uf (sl_ch st) e).1 p)) → wX_checkPieces_27 post 0 (nI t) 0 mv rd fd (d + 1) (nI (sl_uf (sl_ch st) e).2) (nI e) cl mk ea eb ce pe st te pc lE lT lD lo := by
  intro d
  induction d with
  | zero =>
    intro e he pc hq
    have e24 : e = 24 := by omega
    subst e24
    exact br_t (nI_le (a := 24) (b := 24) (by omega) (by decide)) ⟨17, xp_97 T hok hV hq (fun t' dd' mv' st' te' g f => hpost t' dd' mv' st' te' pc g f) 16 0 rfl⟩
  | succ d ih =>
    intro e he pc hq
    have h24 : e < 24 := by omega
    have cs : (nI e).toNatClampNeg = e := nI_clamp (by omega)
    have ll := sl_uf_lt (sl_ch st) e (by omega)
    have eA : ea (nI e).toNatClampNeg = nI (sl_A e) := by rw [cs]; exact T.1 e h24
    have eB : eb (nI e).toNatClampNeg = nI (sl_B e) := by rw [cs]; exact T.2.1 e h24
    have lA := sl_rt_lt ll 16 _ (sl_A_lt e h24)
    have lB := sl_rt_lt ll 16 _ (sl_B_lt e h24)
    have i := ih (e + 1) (by omega)
    refine br_f (nI_ge (a := e) (b := 24) (by omega) (by decide)) ⟨pk_in e 24 h24, ?_⟩
    by_cases r : st e = 1
    · have cr : sl_ch st e = true := decide_eq_true r
      refine br_t (by rw [cs]; exact r) ⟨pk_in e 24 h24, ?_⟩
      rw [eA]
      refine xr_rootOfW hq ll (sl_A_lt e h24) ⟨pk_in e 24 h24, ?_⟩
      rw [eB]
      refine xr_rootOfW hq ll (sl_B_lt e h24) ?_
      refine pk_eq (sl_rt (sl_uf (sl_ch st) e).1 16 (sl_A e)) (sl_rt (sl_uf (sl_ch st) e).1 16 (sl_B e)) (fun c => ?_) (fun c => ?_)
      · rw [sl_uf_s, if_pos cr, if_pos c] at i
        exact nm_r (nI_1 _) (nm_r (nI_1 e) (i pc hq))
      · rw [sl_uf_s, if_pos cr, if_neg c] at i
        refine ⟨pk_in _ 16 lA, nm_r (e' := upd pc (sl_rt (sl_uf (sl_ch st) e).1 16 (sl_A e)) (nI (sl_rt (sl_uf (sl_ch st) e).1 16 (sl_B e)))) (by rw [nI_clamp (by omega)]) (nm_r (nI_1 e) ?_)⟩
        refine i _ (fun p hp => ?_)
        show _ = nI (if p = _ then _ else (sl_uf (sl_ch st) e).1 p)
        by_cases q : p = sl_rt (sl_uf (sl_ch st) e).1 16 (sl_A e)
        · rw [if_pos q, q, pk_us]
        · rw [if_neg q, pk_un q]; exact hq p hp
    · have cr : ¬ sl_ch st e = true := fun z => r (of_decide_eq_true z)
      rw [sl_uf_s, if_neg cr] at i
      exact br_f (by rw [cs]; exact r) (nm_r (nI_1 e) (i pc hq))
theorem xp_6 {V : Nat → Prop} {t : Nat} (T : sl_Tab ea eb ce pe) (hok : sl_ok t te st) (hV : ∀ m, V m → sl_isL m)
    (hpost : ∀ t' dd' mv' st' te' pc', sl_G V t 0 mv st te t' dd' mv' st' te' → (mv' = 0 → dd' = 0 → sl_FU st') → post (nI t', dd', mv', rd, fd, cl, mk, ea, eb, ce, pe, st', te', pc', lE, lT, lD, lo)) : ∀ d p, p + d = 16 → ∀ pc, (∀ j, j < p → pc j = nI j) → wX_checkPieces_6 post 0 0 (nI t) 0 mv rd fd (d + 1) (nI p) cl mk ea eb ce pe st te pc lE lT lD lo := by
  intro d
  induction d with
  | zero =>
    intro p hp pc hq
    exact br_t (nI_le (a := 16) (b := p) (by omega) (by omega)) ⟨25, xp_27 T hok hV hpost 24 0 rfl pc (fun j hj => hq j (by omega))⟩
  | succ d ih =>
    intro p hp pc hq
    refine br_f (nI_ge (a := p) (b := 16) (by omega) (by decide)) ⟨pk_in p 16 (by omega), nm_r (e' := upd pc p (nI p)) (by rw [nI_clamp (by omega)]) (nm_r (nI_1 p) ?_)⟩
    refine ih (p + 1) (by omega) _ (fun j hj => ?_)
    by_cases c : j = p
    · rw [c, pk_us]
    · rw [pk_un c]; exact hq j (by omega)
theorem xc_pieces {V : Nat → Prop} {t : Nat} (T : sl_Tab ea eb ce pe) (hok : sl_ok t te st) (hV : ∀ m, V m → sl_isL m)
    (hpost : ∀ t' dd' mv' st' te' pc', sl_G V t 0 mv st te t' dd' mv' st' te' → (mv' = 0 → dd' = 0 → sl_FU st') → post (nI t', dd', mv', rd, fd, cl, mk, ea, eb, ce, pe, st', te', pc', lE, lT, lD, lo)) : wpX_checkPieces post (nI t, 0, mv, rd, fd, cl, mk, ea, eb, ce, pe, st, te, pc, lE, lT, lD, lo) :=
  ⟨17, xp_6 T hok hV hpost 16 0 rfl pc (fun j hj => absurd hj (by omega))⟩
end SLC
end
section
/-! X: propagation -/
def sl_clv (cl : Nat → Int32) : Prop := ∀ c, c < 9 → ∃ v, v ≤ 5 ∧ cl c = nI v
section SLG
variable {post : SX → Prop} {tr dd mv rd fd : Int32} {cl mk ea eb ce pe st te pc lE lT lD lo : Nat → Int32}
variable {J7 : Int32 → Int32 → Int32 → Int32 → Int32 → Int32 → (Nat → Int32) → (Nat → Int32) → (Nat → Int32) → (Nat → Int32) → (Nat → Int32) → (Nat → Int32) → (Nat → Int32) → (Nat → Int32) → (Nat → Int32) → (Nat → Int32) → (Nat → Int32) → (Nat → Int32) → (Nat → Int32) → Prop}
theorem xg_84 {t0 t r : Nat} {st0 te0 : Nat → Int32} (T : sl_Tab ea eb ce pe)
    (hJ : ∀ t' dd' mv' st' te' pc', sl_G (sl_V cl) t0 0 0 st0 te0 t' dd' mv' st' te' → (mv' = 0 → dd' = 0 → sl_FIX cl st') → J7 (nI (r + 1)) (nI t') dd' mv' rd fd cl mk ea eb ce pe st' te' pc' lE lT lD lo)
    (g : sl_G (sl_V cl) t0 0 0 st0 te0 t dd mv st te) (hf : mv = 0 → dd = 0 → (∀ p, p < 16 → sl_FP st p) ∧ ∀ c, c < 9 → sl_FC cl st c) : wX_propagate_84 post J7 (nI r) (nI t) dd mv rd fd cl mk ea eb ce pe st te pc lE lT lD lo := by
  unfold wX_propagate_84
  by_cases z : dd = 0
  · subst z
    refine br_t rfl (xc_pieces (V := sl_V cl) T g.1.1 (fun m hm => hm.1) (fun t' dd' mv' st' te' pc' g' f => nm_r (nI_1 r) ?_))
    refine hJ t' dd' mv' st' te' pc' (sl_G_t g g') (fun a b => ?_)
    have q := g'.2.1 a
    have h := hf q.1 rfl
    exact ⟨fun p hp => sl_FP_c (fun e he => (q.2 e he).symm) (h.1 p hp), fun c hc => sl_FC_c (fun e he => (q.2 e he).symm) (h.2 c hc), f a b⟩
  · exact br_f z (nm_r (nI_1 r) (hJ t dd mv st te pc g (fun _ b => absurd b z)))
theorem xg_60 {t0 r : Nat} {st0 te0 : Nat → Int32} (T : sl_Tab ea eb ce pe) (hc : sl_clv cl)
    (hJ : ∀ t' dd' mv' st' te' pc', sl_G (sl_V cl) t0 0 0 st0 te0 t' dd' mv' st' te' → (mv' = 0 → dd' = 0 → sl_FIX cl st') → J7 (nI (r + 1)) (nI t') dd' mv' rd fd cl mk ea eb ce pe st' te' pc' lE lT lD lo) : ∀ d c, c + d = 9 → ∀ t dd mv st te, sl_G (sl_V cl) t0 0 0 st0 te0 t dd mv st te → (mv = 0 → dd = 0 → (∀ p, p < 16 → sl_FP st p) ∧ ∀ i, i < c → sl_FC cl st i) → wX_propagate_60 post J7 (nI r) (d + 1) (nI c) (nI t) dd mv rd fd cl mk ea eb ce pe st te pc lE lT lD lo := by
  intro d
  induction d with
  | zero =>
    intro c hd t dd mv st te g hf
    have e : c = 9 := by omega
    subst e
    exact br_t (nI_le (a := 9) (b := 9) (by omega) (by decide)) (xg_84 T hJ g hf)
  | succ d ih =>
    intro c hd t dd mv st te g hf
    refine br_f (nI_ge (a := c) (b := 9) (by omega) (by decide)) ?_
    by_cases z : dd = 0
    · subst z
      obtain ⟨v, hv, ev⟩ := hc c (by omega)
      refine br_t rfl (xc_cell (V := sl_V cl) T g.1.1 (by omega) hv ev (fun m hm => hm.2 c (by omega)) (fun t' dd' mv' st' te' g' f => nm_r (nI_1 c) ?_))
      refine ih (c + 1) (by omega) t' dd' mv' st' te' (sl_G_t g g') (fun a b => ?_)
      have q := g'.2.1 a
      have h := hf q.1 rfl
      refine ⟨fun p hp => sl_FP_c (fun e he => (q.2 e he).symm) (h.1 p hp), fun i hi => ?_⟩
      by_cases w : i = c
      · rw [w]; exact f a b
      · exact sl_FC_c (fun e he => (q.2 e he).symm) (h.2 i (by omega))
    · exact br_f z (xg_84 T hJ g (fun _ b => absurd b z))
theorem xg_34 {t0 r : Nat} {st0 te0 : Nat → Int32} (T : sl_Tab ea eb ce pe) (hc : sl_clv cl)
    (hJ : ∀ t' dd' mv' st' te' pc', sl_G (sl_V cl) t0 0 0 st0 te0 t' dd' mv' st' te' → (mv' = 0 → dd' = 0 → sl_FIX cl st') → J7 (nI (r + 1)) (nI t') dd' mv' rd fd cl mk ea eb ce pe st' te' pc' lE lT lD lo) : ∀ d p, p + d = 16 → ∀ t dd mv st te, sl_G (sl_V cl) t0 0 0 st0 te0 t dd mv st te → (mv = 0 → dd = 0 → ∀ i, i < p → sl_FP st i) → wX_propagate_34 post J7 (nI r) (d + 1) (nI p) (nI t) dd mv rd fd cl mk ea eb ce pe st te pc lE lT lD lo := by
  intro d
  induction d with
  | zero =>
    intro p hd t dd mv st te g hf
    have e : p = 16 := by omega
    subst e
    exact br_t (nI_le (a := 16) (b := 16) (by omega) (by decide)) ⟨10, xg_60 T hc hJ 9 0 rfl t dd mv st te g (fun a b => ⟨hf a b, fun i hi => absurd hi (by omega)⟩)⟩
  | succ d ih =>
    intro p hd t dd mv st te g hf
    refine br_f (nI_ge (a := p) (b := 16) (by omega) (by decide)) ?_
    by_cases z : dd = 0
    · subst z
      refine br_t rfl (xc_point (V := sl_V cl) T g.1.1 (by omega) (fun m hm => sl_isL_deg hm.1 p (by omega)) (fun t' dd' mv' st' te' g' f => nm_r (nI_1 p) ?_))
      refine ih (p + 1) (by omega) t' dd' mv' st' te' (sl_G_t g g') (fun a b i hi => ?_)
      have q := g'.2.1 a
      have h := hf q.1 rfl
      by_cases w : i = p
      · rw [w]; exact f a b
      · exact sl_FP_c (fun e he => (q.2 e he).symm) (h i (by omega))
    · exact br_f z ⟨10, xg_60 T hc hJ 9 0 rfl t dd mv st te g (fun _ b => absurd b z)⟩
theorem xg_7 {t0 : Nat} {st0 te0 : Nat → Int32} (T : sl_Tab ea eb ce pe) (hc : sl_clv cl)
    (hpost : ∀ t' dd' mv' st' te' pc', sl_H (sl_V cl) t0 0 st0 te0 t' dd' st' te' → (dd' = 0 → sl_FIX cl st') → post (nI t', dd', mv', rd, fd, cl, mk, ea, eb, ce, pe, st', te', pc', lE, lT, lD, lo)) : ∀ d r, r + d = 26 → ∀ t dd mv st te pc, sl_H (sl_V cl) t0 0 st0 te0 t dd st te → (mv ≠ 0 → r ≤ t) → (mv = 0 → dd = 0 → sl_FIX cl st) → wX_propagate_7 post (d + 1) (nI r) (nI t) dd mv rd fd cl mk ea eb ce pe st te pc lE lT lD lo := by
  intro d
  induction d with
  | zero =>
    intro r hd t dd mv st te pc h hm hf
    have t24 : t ≤ 24 := by rw [h.1.1]; exact sl_dc_le st 24
    have z : mv = 0 := by
      apply Classical.byContradiction
      intro n
      have := hm n
      omega
    exact br_t (nI_le (a := 26) (b := r) (by omega) (by omega)) (hpost t dd mv st te pc h (hf z))
  | succ d ih =>
    intro r hd t dd mv st te pc h hm hf
    refine br_f (nI_ge (a := r) (b := 26) (by omega) (by decide)) ?_
    by_cases z : mv = 0
    · exact br_t z (hpost t dd mv st te pc h (hf z))
    · refine br_f z ?_
      by_cases y : dd = 0
      · subst y
        refine br_t rfl ⟨17, ?_⟩
        refine xg_34 T hc (t0 := t) (st0 := st) (te0 := te) (fun t' dd' mv' st' te' pc' g f => ?_) 16 0 rfl t 0 0 st te (sl_G_r h.1) (fun _ _ i hi => absurd hi (by omega))
        refine ih (r + 1) (by omega) t' dd' mv' st' te' pc' (sl_H_t h g.1) (fun n => ?_) f
        rcases g.2.2 n with a | a
        · exact absurd rfl a
        · have := hm z
          omega
      · exact br_f y (hpost t dd mv st te pc h (fun b => absurd b y))
theorem xg_prop {t : Nat} (T : sl_Tab ea eb ce pe) (hc : sl_clv cl) (hok : sl_ok t te st)
    (hpost : ∀ t' dd' mv' st' te' pc', sl_H (sl_V cl) t 0 st te t' dd' st' te' → (dd' = 0 → sl_FIX cl st') → post (nI t', dd', mv', rd, fd, cl, mk, ea, eb, ce, pe, st', te', pc', lE, lT, lD, lo)) : wpX_propagate post (nI t, 0, mv, rd, fd, cl, mk, ea, eb, ce, pe, st, te, pc, lE, lT, lD, lo) :=
  ⟨27, xg_7 T hc hpost 26 0 rfl t 0 1 st te pc (sl_H_r hok) (fun _ => Nat.zero_le t) (fun z => absurd z (by decide))⟩
end SLG
end
section
/-! the search: levels, what remains, what it costs -/
def sl_ho (σ : Nat → Int32) : Nat → Nat
  | 0 => 0
  | n + 1 => sl_ho σ n + (if σ n = 0 then 1 else 0)
theorem sl_ho_le (σ : Nat → Int32) : ∀ n, sl_ho σ n ≤ n := by
  intro n
  induction n with
  | zero => exact Nat.le_refl 0
  | succ n ih =>
    show sl_ho σ n + (if σ n = 0 then 1 else 0) ≤ n + 1
    split <;> omega
theorem sl_ho_m {σ τ : Nat → Int32} : ∀ n, (∀ e, e < n → τ e = 0 → σ e = 0) → sl_ho τ n ≤ sl_ho σ n := by
  intro n
  induction n with
  | zero => intro _; exact Nat.le_refl 0
  | succ n ih =>
    intro h
    show sl_ho τ n + (if τ n = 0 then 1 else 0) ≤ sl_ho σ n + (if σ n = 0 then 1 else 0)
    have i := ih (fun e he => h e (by omega))
    by_cases c : τ n = 0
    · rw [if_pos c, if_pos (h n (by omega) c)]; omega
    · rw [if_neg c]; split <;> omega
theorem sl_ho_u {σ : Nat → Int32} {e : Nat} {s : Int32} (h0 : σ e = 0) (hs : s ≠ 0) : ∀ n, e < n → sl_ho (upd σ e s) n + 1 ≤ sl_ho σ n := by
  intro n
  induction n with
  | zero => intro h; omega
  | succ n ih =>
    intro h
    show sl_ho (upd σ e s) n + (if upd σ e s n = 0 then 1 else 0) + 1 ≤ sl_ho σ n + (if σ n = 0 then 1 else 0)
    by_cases c : e = n
    · subst c
      have m : sl_ho (upd σ e s) e ≤ sl_ho σ e := sl_ho_m e (fun f hf z => by rw [pk_un (by omega)] at z; exact z)
      rw [pk_us, if_neg hs, if_pos h0]
      omega
    · have i := ih (by omega)
      rw [pk_un (by omega)]
      omega
def sl_T : Nat → Nat
  | 0 => 0
  | h + 1 => 3 + 2 * sl_T h
theorem sl_T_m : ∀ {a b : Nat}, a ≤ b → sl_T a ≤ sl_T b := by
  intro a b h
  induction b generalizing a with
  | zero =>
    have : a = 0 := by omega
    subst this
    exact Nat.le_refl _
  | succ b ih =>
    cases a with
    | zero => exact Nat.zero_le _
    | succ a =>
      have i := ih (a := a) (by omega)
      show 3 + 2 * sl_T a ≤ 3 + 2 * sl_T b
      omega
theorem sl_T12 : sl_T 12 = 12285 := by decide
/-- what a level still costs: its edge, its state, how many sides were tried -/
def sl_c1 (x : Nat × (Nat → Int32) × Nat) : Nat := if x.2.2 = 0 then sl_T (sl_ho x.2.1 12) else if x.2.2 = 1 then 2 + sl_T (sl_ho x.2.1 12 - 1) else 1
def sl_cost : List (Nat × (Nat → Int32) × Nat) → Nat
  | [] => 0
  | x :: K => sl_c1 x + sl_cost K
noncomputable def sl_rem (cl : Nat → Int32) (LL : List Nat) (x : Nat × (Nat → Int32) × Nat) : List Nat := (if x.2.2 = 0 then sl_sols cl LL (upd x.2.1 x.1 2) else []) ++ (if x.2.2 ≤ 1 then sl_sols cl LL (upd x.2.1 x.1 1) else [])
noncomputable def sl_R (cl : Nat → Int32) (LL : List Nat) : List (Nat × (Nat → Int32) × Nat) → List Nat
  | [] => []
  | x :: K => sl_rem cl LL x ++ sl_R cl LL K
def sl_ent (lE lD : Nat → Int32) (n : Nat) (x : Nat × (Nat → Int32) × Nat) : Prop := lE n = nI x.1 ∧ lD n = nI x.2.2 ∧ x.2.2 ≤ 2 ∧ x.1 < 12 ∧ sl_val x.2.1 ∧ x.2.1 x.1 = 0 ∧ (∀ f, f < x.1 → x.2.1 f ≠ 0) ∧ sl_ho x.2.1 12 + n ≤ 12
def sl_stk (lE lT lD : Nat → Int32) (t : Nat) (te st : Nat → Int32) : List (Nat × (Nat → Int32) × Nat) → Nat → Prop
  | [], _ => True
  | x :: K, B => sl_ent lE lD K.length x ∧ ∃ L, L ≤ B ∧ lT K.length = nI L ∧ L = sl_dc x.2.1 24 ∧ sl_bk L t te st x.2.1 ∧ sl_stk lE lT lD t te st K L
theorem sl_stk_h {lE lT lD te st te' st' : Nat → Int32} {t t' : Nat} : ∀ K B, (∀ L τ, L ≤ B → sl_bk L t te st τ → sl_bk L t' te' st' τ) → sl_stk lE lT lD t te st K B → sl_stk lE lT lD t' te' st' K B := by
  intro K
  induction K with
  | nil => intro B _ _; trivial
  | cons x K ih =>
    intro B h ⟨a, L, b, c, d, e, f⟩
    exact ⟨a, L, b, c, d, h L _ b e, ih L (fun L' τ hL' k => h L' τ (by omega) k) f⟩
theorem sl_stk_b {lE lT lD te st : Nat → Int32} {t B B' : Nat} (hB : B ≤ B') {K : List (Nat × (Nat → Int32) × Nat)} (h : sl_stk lE lT lD t te st K B) : sl_stk lE lT lD t te st K B' := by
  cases K with
  | nil => trivial
  | cons x K =>
    obtain ⟨a, L, b, c⟩ := h
    exact ⟨a, L, by omega, c⟩
theorem sl_stk_u {lE lT lD lE' lT' lD' te st : Nat → Int32} {t : Nat} : ∀ K B, (∀ i, i < K.length → lE' i = lE i ∧ lT' i = lT i ∧ lD' i = lD i) → sl_stk lE lT lD t te st K B → sl_stk lE' lT' lD' t te st K B := by
  intro K
  induction K with
  | nil => intro B _ _; trivial
  | cons x K ih =>
    intro B h ⟨a, L, b, c, d, e, f⟩
    have q := h K.length (by simp)
    have a' : sl_ent lE' lD' K.length x := by
      unfold sl_ent at a ⊢
      rw [q.1, q.2.2]
      exact a
    exact ⟨a', L, b, by rw [q.2.1]; exact c, d, e, ih L (fun i hi => h i (by simp; omega)) f⟩
def sl_Fl (lo : Nat → Int32) (F : List Nat) : Prop := ∀ i, i < F.length → ∀ e, e < 24 → bt (lo i) e = sl_hs (F.getD i 0) e
theorem sl_Fl_a {lo : Nat → Int32} {F : List Nat} {m : Nat} {x : Int32} (h : sl_Fl lo F) (hx : ∀ e, e < 24 → bt x e = sl_hs m e) : sl_Fl (upd lo F.length x) (F ++ [m]) := by
  intro i hi e he
  rw [List.length_append, List.length_singleton] at hi
  by_cases c : i = F.length
  · subst c
    rw [pk_us, List.getD_eq_getElem?_getD, List.getElem?_append_right (Nat.le_refl _), Nat.sub_self]
    exact hx e he
  · rw [pk_un c, List.getD_eq_getElem?_getD, List.getElem?_append_left (by omega), ← List.getD_eq_getElem?_getD]
    exact h i (by omega) e he
def sl_Inv (cl : Nat → Int32) (LL Z : List Nat) (K : List (Nat × (Nat → Int32) × Nat)) (F : List Nat) (t : Nat) (st te lE lT lD lo : Nat → Int32) : Prop := sl_ok t te st ∧ sl_stk lE lT lD t te st K t ∧ sl_Fl lo F ∧ Z = F ++ sl_R cl LL K
theorem sl_stk_len {lE lT lD te st : Nat → Int32} {t B : Nat} {K : List (Nat × (Nat → Int32) × Nat)} (h : sl_stk lE lT lD t te st K B) : K.length ≤ 12 := by
  cases K with
  | nil => exact Nat.zero_le _
  | cons x K =>
    have a := h.1
    unfold sl_ent at a
    have b := a.2.2.2.2.2.2.2
    have p : 0 < sl_ho x.2.1 12 := by
      have := sl_ho_u (s := 1) a.2.2.2.2.2.1 (by decide) 12 a.2.2.2.1
      omega
    simp only [List.length_cons]
    omega
end
section
/-! X: the search -/
section SLS
variable {post : SX → Prop} {pr : Int32 → SX → Prop} {tr dd mv rd fd : Int32} {cl mk ea eb ce pe st te pc lE lT lD lo : Nat → Int32}
theorem sl_ch_t {σ : Nat → Int32} {e : Nat} (h : σ e = 1) : sl_ch σ e = true := decide_eq_true h
theorem sl_ch_f {σ : Nat → Int32} {e : Nat} (h : ¬ σ e = 1) : sl_ch σ e = false := decide_eq_false h
theorem xk_keep {f : Nat} (hf : f < 256) (h0 : (∀ e, e < 24 → sl_ch st e = false) → post (tr, dd, mv, rd, nI f, cl, mk, ea, eb, ce, pe, st, te, pc, lE, lT, lD, lo)) (h1 : (∃ e, e < 24 ∧ sl_ch st e = true) → ∀ x, (∀ e, e < 24 → bt x e = sl_ch st e) → post (tr, dd, mv, rd, nI (f + 1), cl, mk, ea, eb, ce, pe, st, te, pc, lE, lT, lD, upd lo f x)) : ∀ d e, e + d = 24 → ∀ x : Int32, (∀ i, i < 32 → bt x i = (decide (i < e) && sl_ch st i)) → wX_keepLoop_4 post tr dd mv rd (nI f) cl mk ea eb ce pe st te pc lE lT lD lo (d + 1) x (nI e) := by
  intro d
  induction d with
  | zero =>
    intro e he x hx
    have e24 : e = 24 := by omega
    subst e24
    refine br_t (nI_le (a := 24) (b := 24) (by omega) (by decide)) ?_
    have hb : ∀ e, e < 24 → bt x e = sl_ch st e := fun e he => by rw [hx e (by omega), decide_eq_true he, Bool.true_and]
    by_cases c : ∃ e, e < 24 ∧ sl_ch st e = true
    · have n : ¬ x = 0 := by
        obtain ⟨e, he, k⟩ := c
        intro z
        rw [← hb e he, z, b_0] at k
        exact absurd k (by decide)
      exact br_f n (br_t (nI_lt (a := f) (b := 256) hf (by decide)) ⟨pk_in f 256 hf, nm_r (e' := upd lo f x) (by rw [nI_clamp (by omega)]) (nm_r (nI_1 f) (h1 c x hb))⟩)
    · have n : ∀ e, e < 24 → sl_ch st e = false := fun e he => by
        cases k : sl_ch st e with
        | false => rfl
        | true => exact absurd ⟨e, he, k⟩ c
      have z : x = 0 := by
        apply b_ext
        intro i hi
        rw [hx i hi, b_0]
        by_cases q : i < 24
        · rw [n i q, Bool.and_false]
        · rw [decide_eq_false q, Bool.false_and]
      exact br_t z (h0 n)
  | succ d ih =>
    intro e he x hx
    have h24 : e < 24 := by omega
    have cs : (nI e).toNatClampNeg = e := nI_clamp (by omega)
    refine br_f (nI_ge (a := e) (b := 24) (by omega) (by decide)) ⟨pk_in e 24 h24, ?_⟩
    by_cases r : st e = 1
    · refine br_t (by rw [cs]; exact r) (nm_e (nm_r (nI_1 e) ?_))
      refine ih (e + 1) (by omega) _ (fun i hi => ?_)
      rw [b_or, hx i hi, b_shl e (by omega) 1 hi]
      by_cases c : i = e
      · subst c
        rw [sl_ch_t r, Nat.sub_self, decide_eq_true (Nat.le_refl i), decide_eq_true (Nat.lt_succ_self i)]
        have : bt 1 0 = true := by decide
        rw [this]
        simp
      · have o : (decide (e ≤ i) && bt 1 (i - e)) = false := by
          by_cases q : e ≤ i
          · have k : ∀ j, j < 32 → 0 < j → bt 1 j = false := by decide +kernel
            rw [k (i - e) (by omega) (by omega), Bool.and_false]
          · rw [decide_eq_false q, Bool.false_and]
        rw [o, Bool.or_false]
        have e2 : i < e ↔ i < e + 1 := by omega
        rw [decide_eq_decide.mpr e2]
    · refine br_f (by rw [cs]; exact r) (nm_r (nI_1 e) ?_)
      refine ih (e + 1) (by omega) _ (fun i hi => ?_)
      rw [hx i hi]
      by_cases c : i = e
      · subst c
        rw [sl_ch_f r, Bool.and_false, Bool.and_false]
      · have e2 : i < e ↔ i < e + 1 := by omega
        rw [decide_eq_decide.mpr e2]
theorem xk_keepW {f : Nat} (hf : f < 256) (h0 : (∀ e, e < 24 → sl_ch st e = false) → post (tr, dd, mv, rd, nI f, cl, mk, ea, eb, ce, pe, st, te, pc, lE, lT, lD, lo)) (h1 : (∃ e, e < 24 ∧ sl_ch st e = true) → ∀ x, (∀ e, e < 24 → bt x e = sl_ch st e) → post (tr, dd, mv, rd, nI (f + 1), cl, mk, ea, eb, ce, pe, st, te, pc, lE, lT, lD, upd lo f x)) : wpX_keepLoop post (tr, dd, mv, rd, nI f, cl, mk, ea, eb, ce, pe, st, te, pc, lE, lT, lD, lo) :=
  ⟨25, xk_keep hf h0 h1 24 0 rfl 0 (fun i _ => by rw [b_0, decide_eq_false (by omega), Bool.false_and])⟩
theorem xe_32 {d e f : Nat} (hd : d < 25) (hf : f < 256) (he : e ≤ 24)
    (h0 : e = 24 → (∀ e, e < 24 → sl_ch st e = false) → pr (nI d) (tr, dd, mv, rd, nI f, cl, mk, ea, eb, ce, pe, st, te, pc, lE, lT, lD, lo))
    (h1 : e = 24 → (∃ e, e < 24 ∧ sl_ch st e = true) → ∀ x, (∀ e, e < 24 → bt x e = sl_ch st e) → pr (nI d) (tr, dd, mv, rd, nI (f + 1), cl, mk, ea, eb, ce, pe, st, te, pc, lE, lT, lD, upd lo f x))
    (h2 : e < 24 → pr (nI (d + 1)) (tr, dd, mv, rd, nI f, cl, mk, ea, eb, ce, pe, st, te, pc, upd lE d (nI e), upd lT d tr, upd lD d 0, lo)) : wX_enter_32 pr (nI d) (nI e) tr dd mv rd (nI f) cl mk ea eb ce pe st te pc lE lT lD lo := by
  have cs : (nI d).toNatClampNeg = d := nI_clamp (by omega)
  unfold wX_enter_32
  rw [cs]
  refine pk_eq e 24 (fun c => ?_) (fun c => ?_)
  · exact xk_keepW hf (h0 c) (h1 c)
  · refine ⟨pk_in d 25 hd, nm_e ⟨pk_in d 25 hd, nm_e ⟨pk_in d 25 hd, nm_e ?_⟩⟩⟩
    rw [nI_1]
    exact h2 (by omega)
theorem xe_11 {d f : Nat} (hd : d < 25) (hf : f < 256)
    (h0 : (∀ e, e < 24 → st e ≠ 0) → (∀ e, e < 24 → sl_ch st e = false) → pr (nI d) (tr, dd, mv, rd, nI f, cl, mk, ea, eb, ce, pe, st, te, pc, lE, lT, lD, lo))
    (h1 : (∀ e, e < 24 → st e ≠ 0) → (∃ e, e < 24 ∧ sl_ch st e = true) → ∀ x, (∀ e, e < 24 → bt x e = sl_ch st e) → pr (nI d) (tr, dd, mv, rd, nI (f + 1), cl, mk, ea, eb, ce, pe, st, te, pc, lE, lT, lD, upd lo f x))
    (h2 : ∀ e, e < 24 → st e = 0 → (∀ i, i < e → st i ≠ 0) → pr (nI (d + 1)) (tr, dd, mv, rd, nI f, cl, mk, ea, eb, ce, pe, st, te, pc, upd lE d (nI e), upd lT d tr, upd lD d 0, lo)) : ∀ k e, e + k = 24 → (∀ i, i < e → st i ≠ 0) → wX_enter_11 pr (nI d) tr dd mv rd (nI f) cl mk ea eb ce pe st te pc lE lT lD lo (k + 1) (nI e) := by
  intro k
  induction k with
  | zero =>
    intro e he hi
    have e24 : e = 24 := by omega
    subst e24
    exact br_t (nI_le (a := 24) (b := 24) (by omega) (by decide)) (xe_32 hd hf (Nat.le_refl 24) (fun _ => h0 hi) (fun _ => h1 hi) (fun z => absurd z (by omega)))
  | succ k ih =>
    intro e he hi
    have h24 : e < 24 := by omega
    have cs : (nI e).toNatClampNeg = e := nI_clamp (by omega)
    refine br_f (nI_ge (a := e) (b := 24) (by omega) (by decide)) ⟨pk_in e 24 h24, ?_⟩
    by_cases r : st e = 0
    · exact br_t (by rw [cs]; exact r) (xe_32 hd hf (by omega) (fun z => absurd z (by omega)) (fun z => absurd z (by omega)) (fun _ => h2 e h24 r hi))
    · refine br_f (by rw [cs]; exact r) (nm_r (nI_1 e) (ih (e + 1) (by omega) (fun i hi' => ?_)))
      by_cases c : i = e
      · rw [c]; exact r
      · exact hi i (by omega)
/-- what enter does behind a propagation: X are the solutions of the present state -/
theorem xe_enter {LL Z X F : List Nat} {K : List (Nat × (Nat → Int32) × Nat)} {t c : Nat} (hl : LL.Pairwise (· < ·)) (hL : ∀ m, m ∈ LL ↔ sl_isL m) (hZ : Z.length < 256)
    (hok : sl_ok t te st) (hs : sl_stk lE lT lD t te st K t) (hF : sl_Fl lo F) (hx : dd = 0 → sl_FIX cl st) (hX0 : dd ≠ 0 → X = []) (hX1 : dd = 0 → X = sl_sols cl LL st) (hz : Z = F ++ (X ++ sl_R cl LL K))
    (hh : sl_ho st 12 + K.length ≤ 12) (hc : sl_T (sl_ho st 12) + sl_cost K ≤ c)
    (hpost : ∀ K' F' lE' lT' lD' lo', sl_Inv cl LL Z K' F' t st te lE' lT' lD' lo' → sl_cost K' ≤ c → pr (nI K'.length) (nI t, dd, mv, rd, nI F'.length, cl, mk, ea, eb, ce, pe, st, te, pc, lE', lT', lD', lo')) : wpX_enter pr (nI t, dd, mv, rd, nI F.length, cl, mk, ea, eb, ce, pe, st, te, pc, lE, lT, lD, lo) (nI K.length) := by
  have lf : F.length < 256 := by
    have := congrArg List.length hz
    rw [List.length_append] at this
    omega
  unfold wpX_enter
  dsimp only
  by_cases z : dd = 0
  · have q1 := hX1 z
    refine br_t z ⟨25, xe_11 (by omega) lf (fun hd h0 => ?_) (fun hd h1 x hb => ?_) (fun e he ho hi => ?_) 24 0 rfl (fun i hi => absurd hi (by omega))⟩
    · rcases sl_end hl hL (hx z) hok.2.1 hd with ⟨_, e⟩ | ⟨⟨e, he, k⟩, _⟩
      · refine hpost K F lE lT lD lo ⟨hok, hs, hF, ?_⟩ (by omega)
        rw [hz, q1, e]; rfl
      · rw [h0 e he] at k; exact absurd k (by decide)
    · rcases sl_end hl hL (hx z) hok.2.1 hd with ⟨a, _⟩ | ⟨_, m, _, hm, e⟩
      · obtain ⟨e, he, k⟩ := h1
        rw [a e he] at k; exact absurd k (by decide)
      · have k := hpost K (F ++ [m]) lE lT lD (upd lo F.length x) ⟨hok, hs, sl_Fl_a hF (fun e he => (hb e he).trans (hm e he)), by rw [hz, q1, e, List.append_assoc]⟩ (by omega)
        rw [List.length_append, List.length_singleton] at k
        exact k
    · have e12 : e < 12 := by
        apply Classical.byContradiction
        intro n
        exact sl_fix_v (hx z) (fun f hf => hi f (by omega)) e he ho
      have sp := sl_split (cl := cl) hl (fun m hm => sl_isL_lt ((hL m).mp hm)) hok.2.1 he ho hi
      have k := hpost ((e, st, 0) :: K) F (upd lE K.length (nI e)) (upd lT K.length (nI t)) (upd lD K.length 0) lo ⟨hok, ⟨⟨pk_us, pk_us, Nat.zero_le _, e12, hok.2.1, ho, hi, hh⟩, t, Nat.le_refl t, pk_us, hok.1, sl_bk_r, sl_stk_u K t (fun i hi => ⟨pk_un (by omega), pk_un (by omega), pk_un (by omega)⟩) hs⟩, hF, ?_⟩ ?_
      · exact k
      · rw [hz, q1, sp]
        show _ = F ++ (sl_rem cl LL (e, st, 0) ++ sl_R cl LL K)
        rfl
      · show sl_c1 (e, st, 0) + sl_cost K ≤ c
        exact hc
  · refine br_f z (hpost K F lE lT lD lo ⟨hok, hs, hF, ?_⟩ (by omega))
    rw [hz, hX0 z]; rfl
/-- one side of the innermost level's edge -/
theorem xs_58 {LL Z F : List Nat} {K : List (Nat × (Nat → Int32) × Nat)} {σ : Nat → Int32} {t e k c : Nat} {s : Int32} (T : sl_Tab ea eb ce pe) (hcl : sl_clv cl) (hl : LL.Pairwise (· < ·)) (hL : ∀ m, m ∈ LL ↔ sl_isL m) (hZ : Z.length < 256) (hs : s = 1 ∨ s = 2)
    (hok : sl_ok t te st) (hK : sl_stk lE lT lD t te st ((e, σ, k) :: K) t) (hσ : ∀ f, f < 24 → st f = σ f) (hF : sl_Fl lo F) (hz : Z = F ++ (sl_sols cl LL (upd σ e s) ++ sl_R cl LL ((e, σ, k) :: K)))
    (hc : sl_T (sl_ho σ 12 - 1) + sl_cost ((e, σ, k) :: K) ≤ c)
    (hpost : ∀ K' F' t' dd' mv' st' te' pc' lE' lT' lD' lo', sl_Inv cl LL Z K' F' t' st' te' lE' lT' lD' lo' → sl_cost K' ≤ c → pr (nI K'.length) (nI t', dd', mv', rd, nI F'.length, cl, mk, ea, eb, ce, pe, st', te', pc', lE', lT', lD', lo')) : wX_tryNext_58 pr (nI (K.length + 1)) s (nI e) (nI t) 0 mv rd (nI F.length) cl mk ea eb ce pe st te pc lE lT lD lo := by
  have s0 : s ≠ 0 := by rcases hs with z | z <;> rw [z] <;> decide
  have a := hK.1
  unfold sl_ent at a
  obtain ⟨_, _, _, e12, _, h0, _, hh⟩ := a
  have e12' : e < 12 := e12
  have h0' : σ e = 0 := h0
  have hh' : sl_ho σ 12 + K.length ≤ 12 := hh
  have e24 : e < 24 := by omega
  have o : st e = 0 := by rw [hσ e e24]; exact h0'
  have ht : t < 24 := by rw [hok.1]; exact sl_dc_lt o 24 e24
  have g0 : sl_G (fun _ => False) t 0 mv st te (t + 1) 0 1 (upd st e s) (upd te t (nI e)) := sl_G_as hok e24 o hs (fun _ z => z.elim)
  have hu : ∀ f, f < 24 → upd st e s f = upd σ e s f := by
    intro f hf
    by_cases q : f = e
    · rw [q, pk_us, pk_us]
    · rw [pk_un q, pk_un q]; exact hσ f hf
  unfold wX_tryNext_58
  refine xa_assign e24 ht o s0 ?_
  refine xg_prop T hcl g0.1.1 (fun t' dd' mv' st' te' pc' h f => ?_)
  have hsz := sl_stk_h _ _ (fun L τ hL' b => h.2.2.1 L τ (by omega) (g0.1.2.2.1 L τ hL' b)) hK
  have hsy := sl_stk_b (B' := t') (by have := h.2.1; omega) hsz
  have ho : sl_ho st' 12 + 1 ≤ sl_ho σ 12 := by
    have m1 : sl_ho st' 12 ≤ sl_ho (upd σ e s) 12 := sl_ho_m 12 (fun f hf z => by rw [← hu f (by omega)]; exact sl_H_o h (by omega) z)
    have m2 := sl_ho_u h0' s0 12 e12'
    omega
  have hT : sl_T (sl_ho st' 12) ≤ sl_T (sl_ho σ 12 - 1) := sl_T_m (by omega)
  refine xe_enter (X := sl_sols cl LL (upd σ e s)) (K := (e, σ, k) :: K) (c := c) hl hL hZ h.1 hsy hF f (fun z => ?_) (fun z => ?_) hz (by simp only [List.length_cons]; omega) (by omega) (fun K' F' lE' lT' lD' lo' i j => hpost K' F' t' dd' mv' st' te' pc' lE' lT' lD' lo' i j)
  · rw [← sl_sols_e hu]; exact sl_H_none hL h z
  · rw [← sl_sols_e hu]; exact sl_H_sols hL h z
end SLS
end
section
/-! X: tryNext and prepare -/
section SLT
variable {post : SX → Prop} {pr : Int32 → SX → Prop} {tr dd mv rd fd : Int32} {cl mk ea eb ce pe st te pc lE lT lD lo : Nat → Int32}
theorem sl_bk_e {L : Nat} {te σ τ : Nat → Int32} (h : sl_bk L L te σ τ) : ∀ f, f < 24 → σ f = τ f := fun f hf => ((h f hf).2 (fun ⟨j, a, b, _⟩ => absurd b (by omega))).symm
theorem xt_try {LL Z F : List Nat} {K : List (Nat × (Nat → Int32) × Nat)} {σ : Nat → Int32} {t e k c : Nat} (T : sl_Tab ea eb ce pe) (hcl : sl_clv cl) (hl : LL.Pairwise (· < ·)) (hL : ∀ m, m ∈ LL ↔ sl_isL m) (hZ : Z.length < 256)
    (hI : sl_Inv cl LL Z ((e, σ, k) :: K) F t st te lE lT lD lo) (hc : sl_cost ((e, σ, k) :: K) ≤ c + 1)
    (hpost : ∀ K' F' t' dd' mv' st' te' pc' lE' lT' lD' lo', sl_Inv cl LL Z K' F' t' st' te' lE' lT' lD' lo' → sl_cost K' ≤ c → pr (nI K'.length) (nI t', dd', mv', rd, nI F'.length, cl, mk, ea, eb, ce, pe, st', te', pc', lE', lT', lD', lo')) : wpX_tryNext pr (nI t, dd, mv, rd, nI F.length, cl, mk, ea, eb, ce, pe, st, te, pc, lE, lT, lD, lo) (nI (K.length + 1)) := by
  obtain ⟨hok, hs, hF, hz⟩ := hI
  have hlen := sl_stk_len hs
  simp only [List.length_cons] at hlen
  obtain ⟨he, L, hLt, elT, eL, hb, hs'⟩ := hs
  have he' := he
  obtain ⟨elE, elD, k2, e12, hv, h0, hi, hh⟩ := he
  have t24 : t ≤ 24 := by rw [hok.1]; exact sl_dc_le st 24
  have cs : (nI K.length).toNatClampNeg = K.length := nI_clamp (by omega)
  have hin : vp_in (nI K.length) 25 := pk_in K.length 25 (by omega)
  have hp : 1 ≤ sl_ho σ 12 := by
    have m : sl_ho (upd σ e 1) 12 + 1 ≤ sl_ho σ 12 := sl_ho_u (s := 1) h0 (by decide) 12 e12
    omega
  have hT : sl_T (sl_ho σ 12) = 3 + 2 * sl_T (sl_ho σ 12 - 1) := by
    obtain ⟨h, eh⟩ : ∃ h, sl_ho σ 12 = h + 1 := ⟨sl_ho σ 12 - 1, by omega⟩
    rw [eh]
    rfl
  unfold wpX_tryNext
  dsimp only
  refine nm_r (nI_pred K.length) ⟨hin, ?_⟩
  rw [cs, elT]
  refine xb_backToW hLt t24 hok.2.2 (fun st' hb' => ?_)
  dsimp only
  refine ⟨hin, ?_⟩
  have hbb : sl_bk L L te st' σ := sl_bk_2 (Nat.le_refl L) hLt hb hb'
  have hσ := sl_bk_e hbb
  have hok' : sl_ok L te st' := ⟨by rw [eL]; exact sl_dc_c 24 (fun f hf => (hσ f hf).symm), fun f hf => by rw [hσ f hf]; exact hv f hf, fun j hj => hok.2.2 j (by omega)⟩
  have hK : sl_stk lE lT lD L te st' K L := sl_stk_h K L (fun L' τ hL' b => sl_bk_2 hL' hLt b hb') hs'
  have kk : k = 0 ∨ k = 1 ∨ k = 2 := by have : k ≤ 2 := k2; omega
  have elD' : lD K.length = nI k := elD
  have elE' : lE K.length = nI e := elE
  rcases kk with z | z | z
  · subst z
    refine br_f (by rw [elD']; decide) ⟨hin, hin, nm_r (e' := upd lD K.length 1) (by rw [elD']; rfl) ⟨hin, hin, br_t pk_us ?_⟩⟩
    rw [elE']
    refine xs_58 (σ := σ) (k := 1) (F := F) (c := c) T hcl hl hL hZ (Or.inr rfl) hok' ⟨⟨elE', pk_us, (Nat.le_succ 1 : 1 ≤ 2), e12, hv, h0, hi, hh⟩, L, Nat.le_refl L, elT, eL, hbb, sl_stk_u K L (fun i hi => ⟨rfl, rfl, pk_un (by omega)⟩) hK⟩ hσ hF ?_ ?_ hpost
    · rw [hz]
      show F ++ ((sl_sols cl LL (upd σ e 2) ++ sl_sols cl LL (upd σ e 1)) ++ sl_R cl LL K) = F ++ (sl_sols cl LL (upd σ e 2) ++ (([] ++ sl_sols cl LL (upd σ e 1)) ++ sl_R cl LL K))
      rw [List.append_assoc, List.nil_append]
    · have a : sl_T (sl_ho σ 12) + sl_cost K ≤ c + 1 := hc
      show sl_T (sl_ho σ 12 - 1) + ((2 + sl_T (sl_ho σ 12 - 1)) + sl_cost K) ≤ c
      omega
  · subst z
    refine br_f (by rw [elD']; decide) ⟨hin, hin, nm_r (e' := upd lD K.length 2) (by rw [elD']; rfl) ⟨hin, hin, br_f (by rw [pk_us]; decide) ?_⟩⟩
    rw [elE']
    refine xs_58 (σ := σ) (k := 2) (F := F) (c := c) T hcl hl hL hZ (Or.inl rfl) hok' ⟨⟨elE', pk_us, (Nat.le_refl 2 : 2 ≤ 2), e12, hv, h0, hi, hh⟩, L, Nat.le_refl L, elT, eL, hbb, sl_stk_u K L (fun i hi => ⟨rfl, rfl, pk_un (by omega)⟩) hK⟩ hσ hF ?_ ?_ hpost
    · rw [hz]
      show F ++ (([] ++ sl_sols cl LL (upd σ e 1)) ++ sl_R cl LL K) = F ++ (sl_sols cl LL (upd σ e 1) ++ (([] ++ []) ++ sl_R cl LL K))
      rw [List.nil_append, List.nil_append, List.nil_append]
    · have a : (2 + sl_T (sl_ho σ 12 - 1)) + sl_cost K ≤ c + 1 := hc
      show sl_T (sl_ho σ 12 - 1) + (1 + sl_cost K) ≤ c
      omega
  · subst z
    refine br_t (by rw [elD']; rfl) (hpost K F L 0 mv st' te pc lE lT lD lo ⟨hok', hK, hF, ?_⟩ ?_)
    · rw [hz]
      show F ++ (([] ++ []) ++ sl_R cl LL K) = F ++ sl_R cl LL K
      rw [List.nil_append, List.nil_append]
    · have a : 1 + sl_cost K ≤ c + 1 := hc
      omega
theorem xt_95 {LL Z : List Nat} (T : sl_Tab ea eb ce pe) (hcl : sl_clv cl) (hl : LL.Pairwise (· < ·)) (hL : ∀ m, m ∈ LL ↔ sl_isL m) (hZ : Z.length < 256)
    (hpost : ∀ tr dd mv st te pc lE lT lD lo, sl_Fl lo Z → post (tr, dd, mv, rd, nI Z.length, cl, mk, ea, eb, ce, pe, st, te, pc, lE, lT, lD, lo)) : ∀ n q K F t dd mv st te pc lE lT lD lo, sl_Inv cl LL Z K F t st te lE lT lD lo → q + sl_cost K ≤ 30000 → sl_cost K < n → wX_prepare_95 post n (nI K.length) (nI q) (nI t) dd mv rd (nI F.length) cl mk ea eb ce pe st te pc lE lT lD lo := by
  intro n
  induction n with
  | zero => intro q K F t dd mv st te pc lE lT lD lo _ _ h; omega
  | succ n ih =>
    intro q K F t dd mv st te pc lE lT lD lo hI hq hn
    cases K with
    | nil =>
      have ez : Z = F := by
        have := hI.2.2.2
        rw [this]
        show F ++ [] = F
        exact List.append_nil F
      have p : post (nI t, dd, mv, rd, nI F.length, cl, mk, ea, eb, ce, pe, st, te, pc, lE, lT, lD, lo) := by
        have hF := hI.2.2.1
        rw [← ez] at hF ⊢
        exact hpost (nI t) dd mv st te pc lE lT lD lo hF
      exact br_c (fun _ => p) (fun _ => br_t (nI_le (a := 0) (b := 0) (by omega) (by decide)) p)
    | cons x K =>
      obtain ⟨e, σ, k⟩ := x
      have c1 : 1 ≤ sl_c1 (e, σ, k) := by
        have a := hI.2.1.1
        obtain ⟨_, _, k2, e12, hv, h0, hi, hh⟩ := a
        have m : sl_ho (upd σ e 1) 12 + 1 ≤ sl_ho σ 12 := sl_ho_u (s := 1) h0 (by decide) 12 e12
        obtain ⟨h, eh⟩ : ∃ h, sl_ho σ 12 = h + 1 := ⟨sl_ho σ 12 - 1, by omega⟩
        unfold sl_c1
        dsimp only
        rw [eh]
        have : sl_T (h + 1) = 3 + 2 * sl_T h := rfl
        split
        · omega
        · split <;> omega
      have cc : sl_cost ((e, σ, k) :: K) = sl_c1 (e, σ, k) + sl_cost K := rfl
      refine br_f (nI_ge (a := q) (b := 30000) (by omega) (by decide)) (br_f (nI_nle (by simp) (by have := sl_stk_len hI.2.1; omega)) ?_)
      refine xt_try (c := sl_cost ((e, σ, k) :: K) - 1) T hcl hl hL hZ hI (by omega) (fun K' F' t' dd' mv' st' te' pc' lE' lT' lD' lo' i j => nm_r (nI_1 q) ?_)
      exact ih (q + 1) K' F' t' dd' mv' st' te' pc' lE' lT' lD' lo' i (by omega) (by omega)
theorem xt_51 {LL : List Nat} (T : sl_Tab ea eb ce pe) (hcl : sl_clv cl) (hmk : sl_val mk) (hl : LL.Pairwise (· < ·)) (hL : ∀ m, m ∈ LL ↔ sl_isL m) (hZ : (sl_sols cl LL mk).length < 256)
    (hpost : ∀ tr dd mv st te pc lE lT lD lo, sl_Fl lo (sl_sols cl LL mk) → post (tr, dd, mv, rd, nI (sl_sols cl LL mk).length, cl, mk, ea, eb, ce, pe, st, te, pc, lE, lT, lD, lo)) : ∀ d i, i + d = 24 → ∀ t mv st te, sl_ok t te st → (∀ e, e < 24 → st e = if e < i then mk e else 0) → wX_prepare_51 post (d + 1) (nI i) (nI t) 0 mv rd 0 cl mk ea eb ce pe st te pc lE lT lD lo := by
  intro d
  induction d with
  | zero =>
    intro i hi t mv st te hok hst
    have hm : ∀ e, e < 24 → st e = mk e := fun e he => by rw [hst e he, if_pos (by omega)]
    refine br_t (nI_le (a := 24) (b := i) (by omega) (by omega)) (xg_prop T hcl hok (fun t' dd' mv' st' te' pc' h f => ?_))
    refine xe_enter (LL := LL) (Z := sl_sols cl LL mk) (X := sl_sols cl LL mk) (F := []) (K := []) (c := 12285) hl hL hZ h.1 trivial (fun i hi => absurd hi (by simp)) f (fun z => ?_) (fun z => ?_) ?_ ?_ ?_ (fun K' F' lE' lT' lD' lo' inv hc => ?_)
    · rw [← sl_sols_e hm]; exact sl_H_none hL h z
    · rw [← sl_sols_e hm]; exact sl_H_sols hL h z
    · show _ = [] ++ (_ ++ [])
      rw [List.append_nil, List.nil_append]
    · exact sl_ho_le st' 12
    · have a := sl_T_m (sl_ho_le st' 12)
      rw [sl_T12] at a
      exact a
    · exact ⟨12286, xt_95 T hcl hl hL hZ hpost 12286 0 K' F' t' dd' mv' st' te' pc' lE' lT' lD' lo' inv (by omega) (by omega)⟩
  | succ d ih =>
    intro i hi t mv st te hok hst
    have h24 : i < 24 := by omega
    have cs : (nI i).toNatClampNeg = i := nI_clamp (by omega)
    have o : st i = 0 := by rw [hst i h24, if_neg (by omega)]
    refine br_f (nI_ge (a := i) (b := 24) (by omega) (by decide)) ⟨pk_in i 24 h24, ?_⟩
    rw [cs]
    by_cases r : mk i = 0
    · refine br_t r (nm_r (nI_1 i) (ih (i + 1) (by omega) t mv st te hok (fun e he => ?_)))
      rw [hst e he]
      by_cases c : e = i
      · subst c; rw [if_neg (by omega), if_pos (by omega), r]
      · by_cases q : e < i
        · rw [if_pos q, if_pos (by omega)]
        · rw [if_neg q, if_neg (by omega)]
    · have ht : t < 24 := by rw [hok.1]; exact sl_dc_lt o 24 h24
      have hs : mk i = 1 ∨ mk i = 2 := by
        rcases hmk i h24 with z | z
        · exact absurd z r
        · exact z
      have g0 : sl_G (fun _ => False) t 0 mv st te (t + 1) 0 1 (upd st i (mk i)) (upd te t (nI i)) := sl_G_as hok h24 o hs (fun _ z => z.elim)
      refine br_f r ⟨pk_in i 24 h24, xa_assign h24 ht o r (nm_r (nI_1 i) ?_)⟩
      refine ih (i + 1) (by omega) (t + 1) 1 _ _ g0.1.1 (fun e he => ?_)
      by_cases c : e = i
      · subst c; rw [pk_us, if_pos (by omega)]
      · rw [pk_un c, hst e he]
        by_cases q : e < i
        · rw [if_pos q, if_pos (by omega)]
        · rw [if_neg q, if_neg (by omega)]
theorem sl_dc_z {σ : Nat → Int32} : ∀ n, (∀ e, e < n → σ e = 0) → sl_dc σ n = 0 := by
  intro n
  induction n with
  | zero => intro _; rfl
  | succ n ih =>
    intro h
    show sl_dc σ n + (if σ n = 0 then 0 else 1) = 0
    rw [ih (fun e he => h e (by omega)), if_pos (h n (by omega))]
theorem xt_30 {LL : List Nat} (T : sl_Tab ea eb ce pe) (hcl : sl_clv cl) (hmk : sl_val mk) (hl : LL.Pairwise (· < ·)) (hL : ∀ m, m ∈ LL ↔ sl_isL m) (hZ : (sl_sols cl LL mk).length < 256)
    (hpost : ∀ tr dd mv st te pc lE lT lD lo, sl_Fl lo (sl_sols cl LL mk) → post (tr, dd, mv, 1, nI (sl_sols cl LL mk).length, cl, mk, ea, eb, ce, pe, st, te, pc, lE, lT, lD, lo)) : ∀ d i, i + d = 24 → ∀ st, (∀ e, e < i → st e = 0) → wX_prepare_30 post 0 0 mv 1 0 (d + 1) (nI i) cl mk ea eb ce pe st te pc lE lT lD lo := by
  intro d
  induction d with
  | zero =>
    intro i hi st hst
    have hz : ∀ e, e < 24 → st e = 0 := fun e he => hst e (by omega)
    refine br_t (nI_le (a := 24) (b := i) (by omega) (by omega)) ⟨25, ?_⟩
    exact xt_51 T hcl hmk hl hL hZ hpost 24 0 rfl 0 mv st te ⟨(sl_dc_z 24 hz).symm, fun e he => Or.inl (hz e he), fun j hj => absurd hj (by omega)⟩ (fun e he => by rw [if_neg (by omega)]; exact hz e he)
  | succ d ih =>
    intro i hi st hst
    refine br_f (nI_ge (a := i) (b := 24) (by omega) (by decide)) ⟨pk_in i 24 (by omega), nm_r (e' := upd st i 0) (by rw [nI_clamp (by omega)]) (nm_r (nI_1 i) (ih (i + 1) (by omega) _ (fun e he => ?_)))⟩
    by_cases c : e = i
    · rw [c, pk_us]
    · rw [pk_un c]; exact hst e (by omega)
/-- prepare: the loops found are the solutions, in order -/
theorem xt_prepare {LL : List Nat} (T : sl_Tab ea eb ce pe) (hcl : sl_clv cl) (hmk : sl_val mk) (hl : LL.Pairwise (· < ·)) (hL : ∀ m, m ∈ LL ↔ sl_isL m) (hN : LL.length < 256)
    (hr : rd ≠ 0 → fd = nI (sl_sols cl LL mk).length ∧ sl_Fl lo (sl_sols cl LL mk))
    (hpost : ∀ tr dd mv rd st te pc lE lT lD lo, (rd ≠ 0) → sl_Fl lo (sl_sols cl LL mk) → post (tr, dd, mv, rd, nI (sl_sols cl LL mk).length, cl, mk, ea, eb, ce, pe, st, te, pc, lE, lT, lD, lo)) : wpX_prepare post (tr, dd, mv, rd, fd, cl, mk, ea, eb, ce, pe, st, te, pc, lE, lT, lD, lo) := by
  have hZ : (sl_sols cl LL mk).length < 256 := Nat.lt_of_le_of_lt (List.length_filter_le _ _) hN
  unfold wpX_prepare
  dsimp only
  by_cases z : rd = 0
  · exact br_t z ⟨25, xt_30 T hcl hmk hl hL hZ (fun tr dd mv st te pc lE lT lD lo h => hpost tr dd mv 1 st te pc lE lT lD lo (by decide) h) 24 0 rfl st (fun e he => absurd he (by omega))⟩
  · obtain ⟨a, b⟩ := hr z
    subst a
    exact br_f z (hpost tr dd mv rd st te pc lE lT lD lo z b)
end SLT
end
section
/-! bits of loops; Y: has, holds -/
theorem sl_nb {b : Bool} : nI b.toNat = if b = true then 1 else 0 := by cases b <;> rfl
theorem sl_bt1 : ∀ j, j < 32 → 0 < j → bt 1 j = false := by decide +kernel
theorem sl_xbit (x : Int32) {k : Nat} (hk : k < 32) : (x >>> (nI k &&& 31)) &&& 1 = nI (bt x k).toNat := by
  apply b_ext
  intro i hi
  rw [b_and, b_sshr k hk x hi]
  by_cases c : i = 0
  · subst c
    rw [if_pos (by omega), Nat.add_zero]
    cases bt x k <;> decide
  · rw [sl_bt1 i hi (by omega), Bool.and_false]
    cases bt x k
    · exact (b_0 i).symm
    · exact (sl_bt1 i hi (by omega)).symm
theorem sl_btN (m : Nat) {k : Nat} (hk : k < 32) : bt (nI m) k = m.testBit k := by
  show (BitVec.ofNat 32 m).getLsbD k = m.testBit k
  rw [BitVec.getLsbD_ofNat, decide_eq_true hk, Bool.true_and]
theorem sl_ybit (m : Nat) {k : Nat} (hk : k < 32) : (nI m >>> (nI k &&& 31)) &&& 1 = nI (m.testBit k).toNat := by
  rw [sl_xbit _ hk, sl_btN m hk]
theorem sl_nor (a b : Nat) : nI a ||| nI b = nI (a ||| b) := by
  apply Int32.toBitVec_inj.1
  show BitVec.ofNat 32 a ||| BitVec.ofNat 32 b = BitVec.ofNat 32 (a ||| b)
  apply BitVec.eq_of_getLsbD_eq
  intro i hi
  simp [hi]
theorem sl_one {k : Nat} (hk : k < 31) : (1 : Int32) <<< (nI k &&& 31) = nI (1 <<< k) := by
  have h : 1 * 2 ^ k < 2 ^ 32 := by rw [Nat.one_mul]; exact Nat.pow_lt_pow_right (by decide) (by omega)
  have e := pk_shlN (n := 1) (nI k &&& 31) k (s_l k (by omega)) h
  rw [Nat.one_mul] at e
  rw [Nat.one_shiftLeft]
  exact e
section SLY
variable {ps : Int32 → Prop} {ls : Int32} {yl cl mk : Nat → Int32}
theorem yh_has {m e : Nat} (he : e < 24) (h1 : sl_hs m e = true → ps 1) (h0 : sl_hs m e = false → ps 0) : wpY_has ps (ls, yl, cl, mk) (nI m) (nI e) := by
  have e1 : (23 : Int32) - nI e = nI (23 - e) := pk_sub (a := 23) (by omega)
  unfold wpY_has
  dsimp only
  rw [e1, sl_ybit m (by omega)]
  unfold sl_hs at h1 h0
  cases c : m.testBit (23 - e) with
  | true => exact br_t rfl (h1 c)
  | false => exact br_f (by decide) (h0 c)
theorem sl_ce0 : ∀ i, i < 9 → sl_ce i 0 = i ∧ sl_ce i 1 = i + 3 ∧ sl_ce i 2 = 12 + i / 3 * 4 + i % 3 ∧ sl_ce i 3 = 13 + i / 3 * 4 + i % 3 := by decide +kernel
theorem sl_t_b {C : Nat → Bool} {e : Nat} (he : e < 24) : sl_t C e = (C e).toNat := by
  cases c : C e with
  | true => rw [sl_t_p he c]; rfl
  | false => rw [sl_t_n c]; rfl
theorem sl_cc_e {m i : Nat} (hi : i < 9) : sl_cc m i = (sl_hs m i).toNat + (sl_hs m (i + 3)).toNat + (sl_hs m (12 + i / 3 * 4 + i % 3)).toNat + (sl_hs m (13 + i / 3 * 4 + i % 3)).toNat := by
  obtain ⟨a, b, c, d⟩ := sl_ce0 i hi
  show 0 + sl_t (sl_hs m) (sl_ce i 0) + sl_t (sl_hs m) (sl_ce i 1) + sl_t (sl_hs m) (sl_ce i 2) + sl_t (sl_hs m) (sl_ce i 3) = _
  rw [a, b, c, d, sl_t_b (by omega), sl_t_b (by omega), sl_t_b (by omega), sl_t_b (by omega), Nat.zero_add]
theorem yh_160 {J : Int32 → Prop} {x1 : Int32} {i k : Nat} (hi : i < 9) (hg : (cl i = 5 ∨ cl i = nI k) → J (nI (i + 1))) (hb : ¬ (cl i = 5 ∨ cl i = nI k) → ps 0) : wY_holds_160 ps J x1 (nI i) (nI k) ls yl cl mk := by
  have cs : (nI i).toNatClampNeg = i := nI_clamp (by omega)
  unfold wY_holds_160
  rw [cs]
  refine ⟨pk_in i 9 hi, br_c (fun a => nm_r (nI_1 i) (hg (Or.inl a))) (fun a => ⟨pk_in i 9 hi, br_c (fun b => nm_r (nI_1 i) (hg (Or.inr b))) (fun b => hb (fun z => z.elim a b))⟩)⟩
theorem yh_132 {J : Int32 → Prop} {m i k : Nat} (hi : i < 9) (hg : (cl i = 5 ∨ cl i = nI (k + (sl_hs m (13 + i / 3 * 4 + i % 3)).toNat)) → J (nI (i + 1))) (hb : ¬ (cl i = 5 ∨ cl i = nI (k + (sl_hs m (13 + i / 3 * 4 + i % 3)).toNat)) → ps 0) : wY_holds_132 ps J (nI m) (nI i) (nI (i / 3)) (nI (i % 3)) (nI k) ls yl cl mk := by
  have e : ((13 : Int32) + (nI (i / 3) * 4)) + nI (i % 3) = nI (13 + i / 3 * 4 + i % 3) := by
    rw [show (4 : Int32) = nI 4 from rfl, show (13 : Int32) = nI 13 from rfl, pk_mul, nI_add, nI_add]
  unfold wY_holds_132
  rw [e]
  refine yh_has (by omega) (fun c => ?_) (fun c => ?_)
  · rw [c] at hg hb
    refine br_f (by decide) ?_
    rw [nI_1]
    exact yh_160 hi hg hb
  · rw [c] at hg hb
    exact br_t rfl (yh_160 hi hg hb)
theorem yh_104 {J : Int32 → Prop} {m i k : Nat} (hi : i < 9) (hg : (cl i = 5 ∨ cl i = nI (k + (sl_hs m (12 + i / 3 * 4 + i % 3)).toNat + (sl_hs m (13 + i / 3 * 4 + i % 3)).toNat)) → J (nI (i + 1))) (hb : ¬ (cl i = 5 ∨ cl i = nI (k + (sl_hs m (12 + i / 3 * 4 + i % 3)).toNat + (sl_hs m (13 + i / 3 * 4 + i % 3)).toNat)) → ps 0) : wY_holds_104 ps J (nI m) (nI i) (nI (i / 3)) (nI (i % 3)) (nI k) ls yl cl mk := by
  have e : ((12 : Int32) + (nI (i / 3) * 4)) + nI (i % 3) = nI (12 + i / 3 * 4 + i % 3) := by
    rw [show (4 : Int32) = nI 4 from rfl, show (12 : Int32) = nI 12 from rfl, pk_mul, nI_add, nI_add]
  unfold wY_holds_104
  rw [e]
  refine yh_has (by omega) (fun c => ?_) (fun c => ?_)
  · rw [c] at hg hb
    refine br_f (by decide) ?_
    rw [nI_1]
    exact yh_132 hi hg hb
  · rw [c] at hg hb
    exact br_t rfl (yh_132 hi hg hb)
theorem yh_82 {J : Int32 → Prop} {m i k : Nat} (hi : i < 9) (hg : (cl i = 5 ∨ cl i = nI (k + (sl_hs m (i + 3)).toNat + (sl_hs m (12 + i / 3 * 4 + i % 3)).toNat + (sl_hs m (13 + i / 3 * 4 + i % 3)).toNat)) → J (nI (i + 1))) (hb : ¬ (cl i = 5 ∨ cl i = nI (k + (sl_hs m (i + 3)).toNat + (sl_hs m (12 + i / 3 * 4 + i % 3)).toNat + (sl_hs m (13 + i / 3 * 4 + i % 3)).toNat)) → ps 0) : wY_holds_82 ps J (nI m) (nI i) (nI (i / 3)) (nI (i % 3)) (nI k) ls yl cl mk := by
  have e : nI i + (3 : Int32) = nI (i + 3) := nI_add i 3
  unfold wY_holds_82
  rw [e]
  refine yh_has (by omega) (fun c => ?_) (fun c => ?_)
  · rw [c] at hg hb
    refine br_f (by decide) ?_
    rw [nI_1]
    exact yh_104 hi hg hb
  · rw [c] at hg hb
    exact br_t rfl (yh_104 hi hg hb)
theorem yh_53 {m : Nat} (h1 : sl_okC cl m → ps 1) (h0 : ¬ sl_okC cl m → ps 0) : ∀ d i, i + d = 9 → (∀ j, j < i → cl j = 5 ∨ cl j = nI (sl_cc m j)) → wY_holds_53 ps (nI m) ls yl cl mk (d + 1) (nI i) := by
  intro d
  induction d with
  | zero =>
    intro i hi h
    exact br_t (nI_le (a := 9) (b := i) (by omega) (by omega)) (h1 (fun j hj => h j (by omega)))
  | succ d ih =>
    intro i hi h
    have h9 : i < 9 := by omega
    have e1 : nI i / 3 = nI (i / 3) := pk_div (d := 3) (by omega) (by decide) (by decide)
    have e2 : nI i - nI i / 3 * 3 = nI (i % 3) := pk_rem (d := 3) (by omega) (by decide) (by decide)
    have hc := sl_cc_e (m := m) h9
    have hg : (cl i = 5 ∨ cl i = nI (sl_cc m i)) → wY_holds_53 ps (nI m) ls yl cl mk (d + 1) (nI (i + 1)) := by
      intro z
      refine ih (i + 1) (by omega) (fun j hj => ?_)
      by_cases c : j = i
      · rw [c]; exact z
      · exact h j (by omega)
    have hb : ¬ (cl i = 5 ∨ cl i = nI (sl_cc m i)) → ps 0 := fun z => h0 (fun k => z (k i h9))
    rw [hc] at hg hb
    refine br_f (nI_ge (a := i) (b := 9) (by omega) (by decide)) ⟨by decide, nm_r e1 ⟨by decide, nm_r e2 ?_⟩⟩
    refine yh_has (by omega) (fun c => ?_) (fun c => ?_)
    · rw [c] at hg hb
      exact br_f (by decide) (yh_82 (k := 1) h9 hg hb)
    · rw [c] at hg hb
      exact br_t rfl (yh_82 (k := 0) h9 hg hb)
theorem yh_29 {J : Int32 → Prop} {x1 : Int32} {e : Nat} {b : Bool} (he : e < 24) (hg : (mk e = 2 → b = false) → J (nI (e + 1))) (hb : ¬ (mk e = 2 → b = false) → ps 0) : wY_holds_29 ps J x1 (nI e) (nI b.toNat) ls yl cl mk := by
  have cs : (nI e).toNatClampNeg = e := nI_clamp (by omega)
  unfold wY_holds_29
  rw [cs]
  refine ⟨pk_in e 24 he, br_c (fun a => ?_) (fun a => nm_r (nI_1 e) (hg (fun z => absurd z a)))⟩
  cases b with
  | true => exact br_f (by decide) (hb (fun z => absurd (z a) (by decide)))
  | false => exact br_t rfl (nm_r (nI_1 e) (hg (fun _ => rfl)))
theorem yh_2 {m : Nat} (h1 : sl_okC cl m ∧ sl_ext m mk → ps 1) (h0 : ¬ (sl_okC cl m ∧ sl_ext m mk) → ps 0) : ∀ d e, e + d = 24 → (∀ f, f < e → (mk f = 1 → sl_hs m f = true) ∧ (mk f = 2 → sl_hs m f = false)) → wY_holds_2 ps (nI m) ls yl cl mk (d + 1) (nI e) := by
  intro d
  induction d with
  | zero =>
    intro e he h
    have hx : sl_ext m mk := fun f hf => h f (by omega)
    exact br_t (nI_le (a := 24) (b := e) (by omega) (by omega)) ⟨10, yh_53 (fun z => h1 ⟨z, hx⟩) (fun z => h0 (fun k => z k.1)) 9 0 rfl (fun j hj => absurd hj (by omega))⟩
  | succ d ih =>
    intro e he h
    have h24 : e < 24 := by omega
    have cs : (nI e).toNatClampNeg = e := nI_clamp (by omega)
    have nxt : (mk e = 1 → sl_hs m e = true) → (mk e = 2 → sl_hs m e = false) → wY_holds_2 ps (nI m) ls yl cl mk (d + 1) (nI (e + 1)) := by
      intro a b
      refine ih (e + 1) (by omega) (fun f hf => ?_)
      by_cases c : f = e
      · rw [c]; exact ⟨a, b⟩
      · exact h f (by omega)
    have bad1 : ¬ (mk e = 1 → sl_hs m e = true) → ps 0 := fun z => h0 (fun k => z ((k.2 e h24).1))
    have bad2 : ¬ (mk e = 2 → sl_hs m e = false) → ps 0 := fun z => h0 (fun k => z ((k.2 e h24).2))
    refine br_f (nI_ge (a := e) (b := 24) (by omega) (by decide)) ?_
    have fin : ∀ b : Bool, sl_hs m e = b → vp_in (nI e) 24 ∧ ((mk (nI e).toNatClampNeg = 1 → ((nI b.toNat = 0 → ps 0) ∧ (¬ nI b.toNat = 0 → wY_holds_29 ps (wY_holds_2 ps (nI m) ls yl cl mk (d + 1)) (nI m) (nI e) (nI b.toNat) ls yl cl mk))) ∧ (¬ mk (nI e).toNatClampNeg = 1 → wY_holds_29 ps (wY_holds_2 ps (nI m) ls yl cl mk (d + 1)) (nI m) (nI e) (nI b.toNat) ls yl cl mk)) := by
      intro b eb
      rw [cs]
      refine ⟨pk_in e 24 h24, br_c (fun a => ?_) (fun a => ?_)⟩
      · cases b with
        | true => exact br_f (by decide) (yh_29 h24 (fun z => nxt (fun _ => eb) (fun y => by rw [eb]; exact z y)) (fun z => bad2 (fun k => z (fun y => by rw [← eb]; exact k y))))
        | false => exact br_t rfl (bad1 (fun k => by rw [k a] at eb; exact absurd eb (by decide)))
      · exact yh_29 h24 (fun z => nxt (fun y => absurd y a) (fun y => by rw [eb]; exact z y)) (fun z => bad2 (fun k => z (fun y => by rw [← eb]; exact k y)))
    exact yh_has h24 (fun c => fin true c) (fun c => fin false c)
theorem yh_holds {m : Nat} (h1 : sl_okC cl m ∧ sl_ext m mk → ps 1) (h0 : ¬ (sl_okC cl m ∧ sl_ext m mk) → ps 0) : wpY_holds ps (ls, yl, cl, mk) (nI m) :=
  ⟨25, yh_2 h1 h0 24 0 rfl (fun f hf => absurd hf (by omega))⟩
end SLY
end
section
/-! Y: the questions, over the list of loops -/
noncomputable def sl_okb (cl mk : Nat → Int32) (m : Nat) : Bool := sl_b (sl_okC cl m ∧ sl_ext m mk)
theorem sl_sols_f {cl mk : Nat → Int32} {LL : List Nat} : sl_sols cl LL mk = LL.filter (sl_okb cl mk) := rfl
def sl_ys (LL : List Nat) (ls : Int32) (yl : Nat → Int32) : Prop := ls = nI LL.length ∧ LL.length < 256 ∧ ∀ i, i < LL.length → yl i = nI (LL.getD i 0)
theorem sl_at {LL P S : List Nat} {m : Nat} (h : LL = P ++ m :: S) : LL.getD P.length 0 = m := by
  rw [h, List.getD_eq_getElem?_getD, List.getElem?_append_right (Nat.le_refl _), Nat.sub_self]
  rfl
theorem sl_at_l {LL P S : List Nat} {m : Nat} (h : LL = P ++ m :: S) : P.length < LL.length := by
  rw [h, List.length_append, List.length_cons]
  omega
theorem sl_at_n {LL P S : List Nat} {m : Nat} (h : LL = P ++ m :: S) : LL = (P ++ [m]) ++ S := by
  rw [h, List.append_assoc]
  rfl
theorem sl_f_t {P : List Nat} {m : Nat} {p : Nat → Bool} (h : p m = true) : (P ++ [m]).filter p = P.filter p ++ [m] := by
  rw [List.filter_append, List.filter_cons, if_pos h]
  rfl
theorem sl_f_f {P : List Nat} {m : Nat} {p : Nat → Bool} (h : ¬ p m = true) : (P ++ [m]).filter p = P.filter p := by
  rw [List.filter_append, List.filter_cons, if_neg h]
  exact List.append_nil _
theorem sl_len1 {P : List Nat} {m : Nat} : (P ++ [m]).length = P.length + 1 := by
  rw [List.length_append]
  rfl
section SLQ
variable {ps : Int32 → Prop} {ls : Int32} {yl cl mk : Nat → Int32} {LL : List Nat}
theorem yq_sols (hy : sl_ys LL ls yl) (h : ps (nI (sl_sols cl LL mk).length)) : ∀ S P, LL = P ++ S → wY_solutions_4 ps ls yl cl mk (S.length + 1) (nI (P.filter (sl_okb cl mk)).length) (nI P.length) := by
  obtain ⟨h1, h2, h3⟩ := hy
  intro S
  induction S with
  | nil =>
    intro P hP
    rw [List.append_nil] at hP
    rw [sl_sols_f, hP] at h
    exact br_t (by rw [h1, hP]; exact nI_le (Nat.le_refl _) (by rw [← hP]; omega)) h
  | cons m S ih =>
    intro P hP
    have hl := sl_at_l hP
    have ey : yl (nI P.length).toNatClampNeg = nI m := by rw [nI_clamp (by omega), h3 _ hl, sl_at hP]
    have i := ih (P ++ [m]) (sl_at_n hP)
    refine br_f (by rw [h1]; exact nI_ge hl (by omega)) ⟨pk_in P.length 256 (by omega), ?_⟩
    rw [ey]
    refine yh_holds (fun c => ?_) (fun c => ?_)
    · rw [sl_f_t (sl_b_t.mpr c), sl_len1, sl_len1] at i
      exact br_f (by decide) (nm_r (nI_1 _) (nm_r (nI_1 _) i))
    · rw [sl_f_f (fun z => c (sl_b_t.mp z)), sl_len1] at i
      exact br_t rfl (nm_r (nI_1 _) i)
theorem yq_solsW (hy : sl_ys LL ls yl) (h : ps (nI (sl_sols cl LL mk).length)) : wpY_solutions ps (ls, yl, cl, mk) :=
  ⟨LL.length + 1, yq_sols hy h LL [] rfl⟩
theorem yq_solution {x : Int32} (hy : sl_ys LL ls yl) (hj : ∀ j, j < (sl_sols cl LL mk).length → x = nI j → ps (nI ((sl_sols cl LL mk).getD j 0))) (hn : (∀ j, j < (sl_sols cl LL mk).length → x ≠ nI j) → ps 0) : ∀ S P, LL = P ++ S → (∀ j, j < (P.filter (sl_okb cl mk)).length → x ≠ nI j) → wY_solution_4 ps x ls yl cl mk (S.length + 1) (nI (P.filter (sl_okb cl mk)).length) (nI P.length) := by
  obtain ⟨h1, h2, h3⟩ := hy
  intro S
  induction S with
  | nil =>
    intro P hP hx
    rw [List.append_nil] at hP
    rw [sl_sols_f, hP] at hn
    exact br_t (by rw [h1, hP]; exact nI_le (Nat.le_refl _) (by rw [← hP]; omega)) (hn hx)
  | cons m S ih =>
    intro P hP hx
    have hl := sl_at_l hP
    have ey : yl (nI P.length).toNatClampNeg = nI m := by rw [nI_clamp (by omega), h3 _ hl, sl_at hP]
    have i := ih (P ++ [m]) (sl_at_n hP)
    refine br_f (by rw [h1]; exact nI_ge hl (by omega)) ⟨pk_in P.length 256 (by omega), ?_⟩
    rw [ey]
    refine yh_holds (fun c => ?_) (fun c => ?_)
    · have ez : sl_sols cl LL mk = P.filter (sl_okb cl mk) ++ m :: S.filter (sl_okb cl mk) := by
        rw [sl_sols_f, hP, List.filter_append, List.filter_cons, if_pos (show sl_okb cl mk m = true from sl_b_t.mpr c)]
      refine br_f (by decide) ?_
      by_cases q : nI (P.filter (sl_okb cl mk)).length = x
      · have k := hj _ (sl_at_l ez) q.symm
        rw [sl_at ez] at k
        exact br_t q ⟨pk_in P.length 256 (by omega), k⟩
      · rw [sl_f_t (sl_b_t.mpr c), sl_len1, sl_len1] at i
        refine br_f q (nm_r (nI_1 _) (nm_r (nI_1 _) (i (fun j hj' => ?_))))
        by_cases z : j = (P.filter (sl_okb cl mk)).length
        · rw [z]; exact fun y => q y.symm
        · exact hx j (by omega)
    · rw [sl_f_f (fun z => c (sl_b_t.mp z)), sl_len1] at i
      exact br_t rfl (nm_r (nI_1 _) (i hx))
theorem yq_solutionW {x : Int32} (hy : sl_ys LL ls yl) (hj : ∀ j, j < (sl_sols cl LL mk).length → x = nI j → ps (nI ((sl_sols cl LL mk).getD j 0))) (hn : (∀ j, j < (sl_sols cl LL mk).length → x ≠ nI j) → ps 0) : wpY_solution ps (ls, yl, cl, mk) x :=
  ⟨LL.length + 1, yq_solution hy hj hn LL [] rfl (fun j hj => absurd hj (by simp))⟩
/-- the votes for an edge -/
def sl_vt (Z : List Nat) (e : Nat) : Nat := (Z.filter (fun m => sl_hs m e)).length
theorem yq_votes {e : Nat} (he : e < 24) (hy : sl_ys LL ls yl) (h : ps (nI (LL.filter (fun m => sl_hs m e && sl_okb cl mk m)).length)) : ∀ S P, LL = P ++ S → wY_votes_17 ps (nI e) ls yl cl mk (S.length + 1) (nI (P.filter (fun m => sl_hs m e && sl_okb cl mk m)).length) (nI P.length) := by
  obtain ⟨h1, h2, h3⟩ := hy
  intro S
  induction S with
  | nil =>
    intro P hP
    rw [List.append_nil] at hP
    rw [hP] at h
    exact br_t (by rw [h1, hP]; exact nI_le (Nat.le_refl _) (by rw [← hP]; omega)) h
  | cons m S ih =>
    intro P hP
    have hl := sl_at_l hP
    have ey : yl (nI P.length).toNatClampNeg = nI m := by rw [nI_clamp (by omega), h3 _ hl, sl_at hP]
    have i := ih (P ++ [m]) (sl_at_n hP)
    refine br_f (by rw [h1]; exact nI_ge hl (by omega)) ⟨pk_in P.length 256 (by omega), ?_⟩
    rw [ey]
    refine yh_has he (fun a => ?_) (fun a => ?_)
    · refine br_f (by decide) ⟨pk_in P.length 256 (by omega), ?_⟩
      refine yh_holds (fun c => ?_) (fun c => ?_)
      · rw [sl_f_t (by rw [a, Bool.true_and]; exact sl_b_t.mpr c), sl_len1, sl_len1] at i
        exact br_f (by decide) (nm_r (nI_1 _) (nm_r (nI_1 _) i))
      · rw [sl_f_f (by rw [a, Bool.true_and]; exact (fun z => c (sl_b_t.mp z))), sl_len1] at i
        exact br_t rfl (nm_r (nI_1 _) i)
    · rw [sl_f_f (by rw [a, Bool.false_and]; decide), sl_len1] at i
      exact br_t rfl (nm_r (nI_1 _) i)
theorem sl_vt_f {e : Nat} : (LL.filter (fun m => sl_hs m e && sl_okb cl mk m)).length = sl_vt (sl_sols cl LL mk) e := by
  unfold sl_vt
  rw [sl_sols_f, List.filter_filter]
theorem yq_votesW {e : Nat} (he : e < 24) (hy : sl_ys LL ls yl) (h : ps (nI (sl_vt (sl_sols cl LL mk) e))) : wpY_votes ps (ls, yl, cl, mk) (nI e) := by
  rw [← sl_vt_f] at h
  unfold wpY_votes
  dsimp only
  exact br_f (nI_pos (by omega)) (br_t (nI_le (a := e) (b := 23) (by omega) (by decide)) ⟨LL.length + 1, yq_votes he hy h LL [] rfl⟩)
/-! one loop -/
theorem sl_ct_s {p : Nat → Bool} {n : Nat} : sl_ct p (n + 1) = sl_ct p n + (if p n = true then 1 else 0) := rfl
theorem sl_ct_le (p : Nat → Bool) : ∀ n, sl_ct p n ≤ n := by
  intro n
  induction n with
  | zero => exact Nat.le_refl 0
  | succ n ih =>
    rw [sl_ct_s]
    split <;> omega
theorem sl_ct_c {p q : Nat → Bool} : ∀ n, (∀ i, i < n → p i = q i) → sl_ct p n = sl_ct q n := by
  intro n
  induction n with
  | zero => intro _; rfl
  | succ n ih =>
    intro h
    rw [sl_ct_s, sl_ct_s, ih (fun i hi => h i (by omega)), h n (by omega)]
theorem yq_edges {m : Nat} (h : ps (nI (sl_ct (sl_hs m) 24))) : ∀ d e, e + d = 24 → wY_edges_4 ps (nI m) ls yl cl mk (d + 1) (nI (sl_ct (sl_hs m) e)) (nI e) := by
  intro d
  induction d with
  | zero =>
    intro e he
    have e24 : e = 24 := by omega
    subst e24
    exact br_t (nI_le (a := 24) (b := 24) (by omega) (by decide)) h
  | succ d ih =>
    intro e he
    have i := ih (e + 1) (by omega)
    rw [sl_ct_s] at i
    refine br_f (nI_ge (a := e) (b := 24) (by omega) (by decide)) (yh_has (by omega) (fun a => ?_) (fun a => ?_))
    · rw [if_pos a] at i
      exact br_f (by decide) (nm_r (nI_1 _) (nm_r (nI_1 _) i))
    · rw [if_neg (by rw [a]; decide)] at i
      exact br_t rfl (nm_r (nI_1 _) i)
theorem yq_edgesW {m : Nat} (h : ps (nI (sl_ct (sl_hs m) 24))) : wpY_edges ps (ls, yl, cl, mk) (nI m) :=
  ⟨25, yq_edges h 24 0 rfl⟩
def sl_par (C : Nat → Bool) (r : Nat) : Nat → Bool
  | 0 => false
  | k + 1 => sl_par C r k ^^ C (12 + r * 4 + k)
def sl_ins (C : Nat → Bool) (i : Nat) : Bool := sl_par C (i / 3) (i % 3 + 1)
theorem yq_in24 {J : Int32 → Int32 → Prop} {m i c : Nat} (hi : i < 9) (h : J (nI (c + (if sl_ins (sl_hs m) i = true then 1 else 0))) (nI (i + 1))) : ∀ d k, k + d = i % 3 + 1 → wY_inside_24 ps J (nI m) (nI c) (nI i) ls yl cl mk (d + 1) (nI (sl_par (sl_hs m) (i / 3) k).toNat) (nI k) := by
  have e1 : nI i / 3 = nI (i / 3) := pk_div (d := 3) (by omega) (by decide) (by decide)
  have e2 : nI i - nI i / 3 * 3 = nI (i % 3) := pk_rem (d := 3) (by omega) (by decide) (by decide)
  intro d
  induction d with
  | zero =>
    intro k hk
    have ek : k = i % 3 + 1 := by omega
    subst ek
    refine ⟨by decide, br_t (by rw [e2]; exact nI_lt (by omega) (by omega)) ?_⟩
    unfold sl_ins at h
    cases c : sl_par (sl_hs m) (i / 3) (i % 3 + 1) with
    | true =>
      rw [c, if_pos rfl] at h
      exact br_f (by decide) (nm_r (nI_1 _) (nm_r (nI_1 _) h))
    | false =>
      rw [c, if_neg (by decide)] at h
      exact br_t rfl (nm_r (nI_1 _) h)
  | succ d ih =>
    intro k hk
    have e3 : ((12 : Int32) + ((nI i / 3) * 4)) + nI k = nI (12 + i / 3 * 4 + k) := by
      rw [e1, show (4 : Int32) = nI 4 from rfl, show (12 : Int32) = nI 12 from rfl, pk_mul, nI_add, nI_add]
    have j := ih (k + 1) (by omega)
    have es : sl_par (sl_hs m) (i / 3) (k + 1) = (sl_par (sl_hs m) (i / 3) k ^^ sl_hs m (12 + i / 3 * 4 + k)) := rfl
    rw [es] at j
    refine ⟨by decide, br_f (by rw [e2]; exact nI_nlt (by omega) (by omega)) ⟨by decide, ?_⟩⟩
    rw [e3]
    refine yh_has (by omega) (fun a => ?_) (fun a => ?_)
    · rw [a] at j
      cases c : sl_par (sl_hs m) (i / 3) k with
      | true =>
        rw [c] at j
        exact br_t rfl (nm_r (nI_1 _) j)
      | false =>
        rw [c] at j
        exact br_f (by decide) (nm_r (nI_1 _) j)
    · rw [a] at j
      cases c : sl_par (sl_hs m) (i / 3) k with
      | true =>
        rw [c] at j
        exact br_f (by decide) (nm_r (nI_1 _) j)
      | false =>
        rw [c] at j
        exact br_t rfl (nm_r (nI_1 _) j)
theorem yq_in11 {m : Nat} (h : ps (nI (sl_ct (sl_ins (sl_hs m)) 9))) : ∀ d i, i + d = 9 → wY_inside_11 ps (nI m) ls yl cl mk (d + 1) (nI (sl_ct (sl_ins (sl_hs m)) i)) (nI i) := by
  intro d
  induction d with
  | zero =>
    intro i hi
    have e9 : i = 9 := by omega
    subst e9
    exact br_t (nI_le (a := 9) (b := 9) (by omega) (by decide)) h
  | succ d ih =>
    intro i hi
    have j := ih (i + 1) (by omega)
    rw [sl_ct_s] at j
    exact br_f (nI_ge (a := i) (b := 9) (by omega) (by decide)) ⟨i % 3 + 1 + 1, yq_in24 (by omega) j (i % 3 + 1) 0 (by omega)⟩
/-- how the shortest is kept -/
def sl_shf (l m : Nat) : Nat := if l = 0 then sl_ct (sl_hs m) 24 else if l ≤ sl_ct (sl_hs m) 24 then l else sl_ct (sl_hs m) 24
def sl_sh (Z : List Nat) : Nat := Z.foldl sl_shf 0
theorem sl_sh_a {P : List Nat} {m : Nat} : sl_sh (P ++ [m]) = sl_shf (sl_sh P) m := by
  unfold sl_sh
  rw [List.foldl_append]
  rfl
theorem sl_shf_le {l m : Nat} (h : l ≤ 24) : sl_shf l m ≤ 24 := by
  have := sl_ct_le (sl_hs m) 24
  unfold sl_shf
  split
  · exact this
  · split <;> omega
theorem sl_sh_le : ∀ (Z : List Nat) (l : Nat), l ≤ 24 → Z.foldl sl_shf l ≤ 24 := by
  intro Z
  induction Z with
  | nil => intro l h; exact h
  | cons m Z ih =>
    intro l h
    exact ih _ (sl_shf_le h)
theorem yq_short (hy : sl_ys LL ls yl) (h : ps (nI (sl_sh (sl_sols cl LL mk)))) : ∀ S P, LL = P ++ S → wY_shortest_4 ps ls yl cl mk (S.length + 1) (nI (sl_sh (P.filter (sl_okb cl mk)))) (nI P.length) := by
  obtain ⟨h1, h2, h3⟩ := hy
  intro S
  induction S with
  | nil =>
    intro P hP
    rw [List.append_nil] at hP
    rw [sl_sols_f, hP] at h
    exact br_t (by rw [h1, hP]; exact nI_le (Nat.le_refl _) (by rw [← hP]; omega)) h
  | cons m S ih =>
    intro P hP
    have hl := sl_at_l hP
    have ey : yl (nI P.length).toNatClampNeg = nI m := by rw [nI_clamp (by omega), h3 _ hl, sl_at hP]
    have i := ih (P ++ [m]) (sl_at_n hP)
    have l1 : sl_sh (P.filter (sl_okb cl mk)) ≤ 24 := sl_sh_le _ 0 (by omega)
    have l2 := sl_ct_le (sl_hs m) 24
    refine br_f (by rw [h1]; exact nI_ge hl (by omega)) ⟨pk_in P.length 256 (by omega), ?_⟩
    rw [ey]
    refine yh_holds (fun c => ?_) (fun c => ?_)
    · rw [sl_f_t (sl_b_t.mpr c), sl_len1, sl_sh_a] at i
      unfold sl_shf at i
      refine br_f (by decide) ⟨pk_in P.length 256 (by omega), yq_edgesW ?_⟩
      refine pk_eq (sl_sh (P.filter (sl_okb cl mk))) 0 (fun a => ?_) (fun a => pk_le (sl_sh (P.filter (sl_okb cl mk))) (sl_ct (sl_hs m) 24) (fun b => ?_) (fun b => ?_))
      · rw [if_pos a] at i
        exact nm_r (nI_1 _) i
      · rw [if_neg a, if_pos b] at i
        exact nm_r (nI_1 _) i
      · rw [if_neg a, if_neg (by omega)] at i
        exact nm_r (nI_1 _) i
    · rw [sl_f_f (fun z => c (sl_b_t.mp z)), sl_len1] at i
      exact br_t rfl (nm_r (nI_1 _) i)
theorem yq_shortW (hy : sl_ys LL ls yl) (h : ps (nI (sl_sh (sl_sols cl LL mk)))) : wpY_shortest ps (ls, yl, cl, mk) :=
  ⟨LL.length + 1, yq_short hy h LL [] rfl⟩
def sl_dd (Z : List Nat) (e : Nat) : Bool := decide (0 < Z.length) && (decide (sl_vt Z e = 0) || decide (sl_vt Z e = Z.length))
theorem sl_vt_le (Z : List Nat) (e : Nat) : sl_vt Z e ≤ Z.length := List.length_filter_le _ _
theorem yq_dec (hy : sl_ys LL ls yl) (h : ps (nI (sl_ct (sl_dd (sl_sols cl LL mk)) 24))) : ∀ d e, e + d = 24 → wY_decided_9 ps (nI (sl_sols cl LL mk).length) ls yl cl mk (d + 1) (nI (sl_ct (sl_dd (sl_sols cl LL mk)) e)) (nI e) := by
  have l1 : (sl_sols cl LL mk).length < 256 := Nat.lt_of_le_of_lt (List.length_filter_le _ _) hy.2.1
  intro d
  induction d with
  | zero =>
    intro e he
    have e24 : e = 24 := by omega
    subst e24
    exact br_t (nI_le (a := 24) (b := 24) (by omega) (by decide)) h
  | succ d ih =>
    intro e he
    have i := ih (e + 1) (by omega)
    have l2 := sl_vt_le (sl_sols cl LL mk) e
    rw [sl_ct_s] at i
    refine br_f (nI_ge (a := e) (b := 24) (by omega) (by decide)) (yq_votesW (by omega) hy ?_)
    refine pk_le (sl_sols cl LL mk).length 0 (fun a => ?_) (fun a => pk_eq (sl_vt (sl_sols cl LL mk) e) 0 (fun b => ?_) (fun b => pk_eq (sl_vt (sl_sols cl LL mk) e) (sl_sols cl LL mk).length (fun c => ?_) (fun c => ?_)))
    · rw [if_neg (by unfold sl_dd; rw [decide_eq_false (by omega), Bool.false_and]; decide)] at i
      exact nm_r (nI_1 _) i
    · rw [if_pos (by unfold sl_dd; rw [decide_eq_true a, decide_eq_true b]; rfl)] at i
      exact nm_r (nI_1 _) (nm_r (nI_1 _) i)
    · rw [if_pos (by unfold sl_dd; rw [decide_eq_true a, decide_eq_true c, Bool.or_true]; rfl)] at i
      exact nm_r (nI_1 _) (nm_r (nI_1 _) i)
    · rw [if_neg (by unfold sl_dd; rw [decide_eq_false b, decide_eq_false c, Bool.or_false, Bool.and_false]; decide)] at i
      exact nm_r (nI_1 _) i
theorem yq_decW (hy : sl_ys LL ls yl) (h : ps (nI (sl_ct (sl_dd (sl_sols cl LL mk)) 24))) : wpY_decided ps (ls, yl, cl, mk) := by
  unfold wpY_decided
  dsimp only
  exact yq_solsW hy ⟨25, yq_dec hy h 24 0 rfl⟩
end SLQ
end
section
/-! Y: the list of loops -/
section SLN
variable {ps : Int32 → Prop} {ls : Int32} {yl cl mk : Nat → Int32}
theorem yi_in {s r c : Nat} {x y : Int32} (hr : r ≤ 8) (hc : c ≤ 8) (hx : x = nI r - 1) (hy : y = nI c - 1) (h1 : sl_in s r c = true → ps 1) (h0 : sl_in s r c = false → ps 0) : wpY_in ps (ls, yl, cl, mk) (nI s) x y := by
  unfold wpY_in
  dsimp only
  cases r with
  | zero =>
    subst hx
    exact br_t (by decide) (h0 (by simp [sl_in]))
  | succ r =>
    rw [nI_pred] at hx
    subst hx
    refine br_f (nI_pos (by omega)) ?_
    refine pk_le 3 r (fun a => h0 ?_) (fun a => ?_)
    · unfold sl_in
      rw [decide_eq_false (p := r + 1 ≤ 3) (by omega)]
      simp
    · cases c with
      | zero =>
        subst hy
        exact br_t (by decide) (h0 (by simp [sl_in]))
      | succ c =>
        rw [nI_pred] at hy
        subst hy
        refine br_f (nI_pos (by omega)) ?_
        refine pk_le 3 c (fun b => h0 ?_) (fun b => ?_)
        · unfold sl_in
          rw [decide_eq_false (p := c + 1 ≤ 3) (by omega)]
          simp
        · have e : nI r * 3 + nI c = nI (r * 3 + c) := by rw [show (3 : Int32) = nI 3 from rfl, pk_mul, nI_add]
          have ei : sl_in s (r + 1) (c + 1) = s.testBit (r * 3 + c) := by
            unfold sl_in
            rw [decide_eq_true (p := 1 ≤ r + 1) (by omega), decide_eq_true (p := r + 1 ≤ 3) (by omega), decide_eq_true (p := 1 ≤ c + 1) (by omega), decide_eq_true (p := c + 1 ≤ 3) (by omega)]
            rfl
          rw [e, sl_ybit s (by omega)]
          rw [ei] at h1 h0
          cases q : s.testBit (r * 3 + c) with
          | true => exact br_t rfl (h1 q)
          | false => exact br_f (by decide) (h0 q)
theorem sl_orl {q i : Nat} (hq : q < 512) (hi : i < 9) : q ||| 1 <<< i < 512 := by
  have h : 1 <<< i < 2 ^ 9 := by rw [Nat.one_shiftLeft]; exact Nat.pow_lt_pow_right (by decide) hi
  exact Nat.or_lt_two_pow (n := 9) hq h
theorem sl_cs_lt {s q i : Nat} (hq : q < 512) (hi : i < 9) : sl_cs s q i < 512 := by
  unfold sl_cs
  split
  · exact sl_orl hq hi
  · exact hq
theorem sl_cp_lt {s q : Nat} (hq : q < 512) : ∀ i, i ≤ 9 → sl_cp s q i < 512 := by
  intro i
  induction i with
  | zero => intro _; exact hq
  | succ i ih => intro h; exact sl_cs_lt (ih (by omega)) (by omega)
theorem sl_cr_lt {s : Nat} (hs : s < 512) : ∀ k, sl_cr s k < 512 := by
  intro k
  induction k with
  | zero => exact Nat.lt_of_le_of_lt Nat.and_le_left hs
  | succ k ih => exact sl_cp_lt ih 9 (Nat.le_refl 9)
theorem yc_96 {J7 J : Int32 → Int32 → Prop} {x3 : Int32} {s q i : Nat} {b : Bool} (hi : i < 9) (hb : sl_bes q i = b) (h : J (nI (sl_cs s q i)) (nI (i + 1))) : wY_connected_96 ps J7 J (nI s) (nI q) x3 (nI i) (nI (i / 3)) (nI (i % 3)) (nI b.toNat) ls yl cl mk := by
  unfold wY_connected_96
  refine yi_in (r := i / 3 + 1) (c := i % 3 + 1) (by omega) (by omega) (nI_pred _).symm (nI_pred _).symm (fun a => ?_) (fun a => ?_)
  · refine br_f (by decide) ?_
    unfold sl_cs at h
    rw [a, hb] at h
    cases b with
    | true =>
      rw [if_pos (by decide)] at h
      refine br_f (by decide) (nm_r (e' := nI (q ||| 1 <<< i)) ?_ (nm_r (nI_1 i) h))
      rw [sl_one (by omega), sl_nor]
    | false =>
      rw [if_neg (by decide)] at h
      exact br_t rfl (nm_r (nI_1 i) h)
  · unfold sl_cs at h
    rw [a, Bool.false_and, if_neg (by decide)] at h
    exact br_t rfl (nm_r (nI_1 i) h)
theorem yc_16 {J : Int32 → Int32 → Prop} {s q k : Nat} (h : J (nI (sl_cp s q 9)) (nI (k + 1))) : ∀ d i, i + d = 9 → wY_connected_16 ps J (nI s) (nI k) ls yl cl mk (d + 1) (nI (sl_cp s q i)) (nI i) := by
  intro d
  induction d with
  | zero =>
    intro i hi
    have e9 : i = 9 := by omega
    subst e9
    exact br_t (nI_le (a := 9) (b := 9) (by omega) (by decide)) (nm_r (nI_1 k) h)
  | succ d ih =>
    intro i hi
    have h9 : i < 9 := by omega
    have e1 : nI i / 3 = nI (i / 3) := pk_div (d := 3) (by omega) (by decide) (by decide)
    have e2 : nI i - nI i / 3 * 3 = nI (i % 3) := pk_rem (d := 3) (by omega) (by decide) (by decide)
    have j : wY_connected_16 ps J (nI s) (nI k) ls yl cl mk (d + 1) (nI (sl_cs s (sl_cp s q i) i)) (nI (i + 1)) := ih (i + 1) (by omega)
    generalize sl_cp s q i = Q at j ⊢
    have p1 : nI (i % 3) + 1 = nI (i % 3 + 2) - 1 := by rw [nI_1]; exact (nI_pred (i % 3 + 1)).symm
    have p2 : nI (i / 3) + 1 = nI (i / 3 + 2) - 1 := by rw [nI_1]; exact (nI_pred (i / 3 + 1)).symm
    refine br_f (nI_ge (a := i) (b := 9) (by omega) (by decide)) ⟨by decide, nm_r e1 ⟨by decide, nm_r e2 ?_⟩⟩
    have yes : sl_bes Q i = true → wY_connected_91 ps J (wY_connected_16 ps J (nI s) (nI k) ls yl cl mk (d + 1)) (nI s) (nI Q) (nI k) (nI i) (nI (i / 3)) (nI (i % 3)) ls yl cl mk := fun z => yc_96 h9 z j
    refine yi_in (r := i / 3) (c := i % 3 + 1) (by omega) (by omega) rfl (nI_pred _).symm (fun a => br_f (by decide) (yes ?_)) (fun a => br_t rfl ?_)
    · unfold sl_bes; rw [a]; rfl
    refine yi_in (r := i / 3 + 2) (c := i % 3 + 1) (by omega) (by omega) p2 (nI_pred _).symm (fun b => br_f (by decide) (yes ?_)) (fun b => br_t rfl ?_)
    · unfold sl_bes; rw [a, b]; rfl
    refine yi_in (r := i / 3 + 1) (c := i % 3) (by omega) (by omega) (nI_pred _).symm rfl (fun c => br_f (by decide) (yes ?_)) (fun c => br_t rfl ?_)
    · unfold sl_bes; rw [a, b, c]; rfl
    refine yi_in (r := i / 3 + 1) (c := i % 3 + 2) (by omega) (by omega) (nI_pred _).symm p1 (fun e => br_f (by decide) (yes ?_)) (fun e => br_t rfl ?_)
    · unfold sl_bes; rw [a, b, c, e]; rfl
    · exact yc_96 (b := false) h9 (by unfold sl_bes; rw [a, b, c, e]; rfl) j
theorem yc_7 {s : Nat} (hs : s < 512) (h1 : sl_conn s = true → ps 1) (h0 : sl_conn s = false → ps 0) : ∀ d k, k + d = 9 → wY_connected_7 ps (nI s) ls yl cl mk (d + 1) (nI (sl_cr s k)) (nI k) := by
  intro d
  induction d with
  | zero =>
    intro k hk
    have e9 : k = 9 := by omega
    subst e9
    have l := sl_cr_lt hs 9
    refine br_t (nI_le (a := 9) (b := 9) (by omega) (by decide)) (pk_eq (sl_cr s 9) s (fun a => h1 ?_) (fun a => h0 ?_))
    · unfold sl_conn
      rw [a]
      exact Nat.beq_refl s
    · unfold sl_conn
      cases q : Nat.beq (sl_cr s 9) s with
      | false => rfl
      | true => exact absurd (Nat.eq_of_beq_eq_true q) a
  | succ d ih =>
    intro k hk
    exact br_f (nI_ge (a := k) (b := 9) (by omega) (by decide)) ⟨10, yc_16 (q := sl_cr s k) (ih (k + 1) (by omega)) 9 0 rfl⟩
theorem sl_low_e : ∀ s, s < 512 → 1 ≤ s → nI s &&& (-(nI s)) = nI (sl_low s) := by decide +kernel
theorem yc_conn {s : Nat} (hs : s < 512) (hp : 1 ≤ s) (h1 : sl_conn s = true → ps 1) (h0 : sl_conn s = false → ps 0) : wpY_connected ps (ls, yl, cl, mk) (nI s) := by
  unfold wpY_connected
  dsimp only
  exact nm_r (sl_low_e s hs hp) ⟨10, yc_7 hs h1 h0 9 0 rfl⟩
/-! the border -/
theorem yb_92 {J : Int32 → Int32 → Prop} {s e : Nat} {x1 : Int32} {a b : Bool} (he : e < 24) (hd : sl_ed s e = (a != b)) (h : J (nI (sl_bd s (e + 1))) (nI (e + 1))) : wY_border_92 ps J x1 (nI (sl_bd s e)) (nI e) (nI a.toNat) (nI b.toNat) ls yl cl mk := by
  have es : sl_bd s (e + 1) = if sl_ed s e = true then sl_bd s e ||| 1 <<< (23 - e) else sl_bd s e := rfl
  rw [es, hd] at h
  unfold wY_border_92
  have e1 : (23 : Int32) - nI e = nI (23 - e) := pk_sub (a := 23) (by omega)
  have e2 : nI (sl_bd s e) ||| ((1 : Int32) <<< (((23 : Int32) - nI e) &&& 31)) = nI (sl_bd s e ||| 1 <<< (23 - e)) := by
    rw [e1, sl_one (by omega), sl_nor]
  cases a <;> cases b
  · rw [if_neg (by decide)] at h
    exact br_t rfl (nm_r (nI_1 e) h)
  · rw [if_pos (by decide)] at h
    exact br_f (by decide) (nm_r e2 (nm_r (nI_1 e) h))
  · rw [if_pos (by decide)] at h
    exact br_f (by decide) (nm_r e2 (nm_r (nI_1 e) h))
  · rw [if_neg (by decide)] at h
    exact br_t rfl (nm_r (nI_1 e) h)
theorem yb_4 {s : Nat} (h : ps (nI (sl_brd s))) : ∀ d e, e + d = 24 → wY_border_4 ps (nI s) ls yl cl mk (d + 1) (nI (sl_bd s e)) (nI e) := by
  intro d
  induction d with
  | zero =>
    intro e he
    have e24 : e = 24 := by omega
    subst e24
    exact br_t (nI_le (a := 24) (b := 24) (by omega) (by decide)) h
  | succ d ih =>
    intro e he
    have j := ih (e + 1) (by omega)
    have h24 : e < 24 := by omega
    refine br_f (nI_ge (a := e) (b := 24) (by omega) (by decide)) ?_
    by_cases c : 12 ≤ e
    · have hc : (12 : Int32) ≤ nI e := nI_le (a := 12) (b := e) c (by omega)
      have e0 : nI e - 12 = nI (e - 12) := pk_sub (b := 12) c
      have e1 : (nI e - 12) / 4 = nI ((e - 12) / 4) := by rw [e0]; exact pk_div (d := 4) (by omega) (by decide) (by decide)
      have e2 : (nI e - 12) - (nI e - 12) / 4 * 4 = nI ((e - 12) % 4) := by rw [e0]; exact pk_rem (d := 4) (by omega) (by decide) (by decide)
      have ed : sl_ed s e = (sl_in s ((e - 12) / 4 + 1) ((e - 12) % 4 + 1) != sl_in s ((e - 12) / 4 + 1) ((e - 12) % 4)) := if_neg (by omega)
      refine br_t hc ⟨by decide, ?_⟩
      rw [e1]
      unfold wY_border_28
      refine br_t hc ⟨by decide, ?_⟩
      rw [e2]
      unfold wY_border_48
      have fin : ∀ a b : Bool, sl_in s ((e - 12) / 4 + 1) ((e - 12) % 4 + 1) = a → sl_in s ((e - 12) / 4 + 1) ((e - 12) % 4) = b → wY_border_92 ps (wY_border_4 ps (nI s) ls yl cl mk (d + 1)) (nI s) (nI (sl_bd s e)) (nI e) (nI a.toNat) (nI b.toNat) ls yl cl mk := by
        intro a b ha hb
        exact yb_92 h24 (by rw [ed, ha, hb]) j
      refine yi_in (r := (e - 12) / 4 + 1) (c := (e - 12) % 4 + 1) (by omega) (by omega) (nI_pred _).symm (nI_pred _).symm (fun a => br_t hc ?_) (fun a => br_t hc ?_)
      · exact yi_in (r := (e - 12) / 4 + 1) (c := (e - 12) % 4) (by omega) (by omega) (nI_pred _).symm rfl (fun b => fin true true a b) (fun b => fin true false a b)
      · exact yi_in (r := (e - 12) / 4 + 1) (c := (e - 12) % 4) (by omega) (by omega) (nI_pred _).symm rfl (fun b => fin false true a b) (fun b => fin false false a b)
    · have hc : ¬ (12 : Int32) ≤ nI e := nI_ge (a := e) (b := 12) (by omega) (by decide)
      have e1 : nI e / 3 = nI (e / 3) := pk_div (d := 3) (by omega) (by decide) (by decide)
      have e2 : nI e - nI e / 3 * 3 = nI (e % 3) := pk_rem (d := 3) (by omega) (by decide) (by decide)
      have ed : sl_ed s e = (sl_in s (e / 3 + 1) (e % 3 + 1) != sl_in s (e / 3) (e % 3 + 1)) := if_pos (by omega)
      refine br_f hc ⟨by decide, ?_⟩
      unfold wY_border_28
      refine br_f hc ⟨by decide, ?_⟩
      rw [e2, e1]
      unfold wY_border_48
      have fin : ∀ a b : Bool, sl_in s (e / 3 + 1) (e % 3 + 1) = a → sl_in s (e / 3) (e % 3 + 1) = b → wY_border_92 ps (wY_border_4 ps (nI s) ls yl cl mk (d + 1)) (nI s) (nI (sl_bd s e)) (nI e) (nI a.toNat) (nI b.toNat) ls yl cl mk := by
        intro a b ha hb
        exact yb_92 h24 (by rw [ed, ha, hb]) j
      refine yi_in (r := e / 3 + 1) (c := e % 3 + 1) (by omega) (by omega) (nI_pred _).symm (nI_pred _).symm (fun a => br_f hc ?_) (fun a => br_f hc ?_)
      · exact yi_in (r := e / 3) (c := e % 3 + 1) (by omega) (by omega) rfl (nI_pred _).symm (fun b => fin true true a b) (fun b => fin true false a b)
      · exact yi_in (r := e / 3) (c := e % 3 + 1) (by omega) (by omega) rfl (nI_pred _).symm (fun b => fin false true a b) (fun b => fin false false a b)
theorem yb_border {s : Nat} (h : ps (nI (sl_brd s))) : wpY_border ps (ls, yl, cl, mk) (nI s) :=
  ⟨25, yb_4 h 24 0 rfl⟩
end SLN
end
section
/-! Y: listing, sorting -/
theorem sl_ct_m {p : Nat → Bool} {a : Nat} : ∀ {b : Nat}, a ≤ b → sl_ct p a ≤ sl_ct p b := by
  intro b
  induction b with
  | zero => intro h; have : a = 0 := by omega
            subst this; exact Nat.le_refl _
  | succ b ih =>
    intro h
    by_cases c : a = b + 1
    · rw [c]; exact Nat.le_refl _
    · have i := ih (by omega)
      rw [sl_ct_s]
      split <;> omega
theorem sl_ct_r {p : Nat → Bool} {k : Nat} : ∀ {n : Nat}, k < sl_ct p n → ∃ s, s < n ∧ p s = true ∧ sl_ct p s = k := by
  intro n
  induction n with
  | zero => intro h; exact absurd h (by simp [sl_ct])
  | succ n ih =>
    intro h
    by_cases c : k < sl_ct p n
    · obtain ⟨s, a, b⟩ := ih c
      exact ⟨s, by omega, b⟩
    · rw [sl_ct_s] at h
      by_cases d : p n = true
      · rw [if_pos d] at h
        exact ⟨n, by omega, d, by omega⟩
      · rw [if_neg d] at h
        omega
theorem sl_ct_lt {p : Nat → Bool} {s n : Nat} (h : s < n) (hp : p s = true) : sl_ct p s < sl_ct p n := by
  have a := sl_ct_m (p := p) (a := s + 1) (b := n) (by omega)
  rw [sl_ct_s, if_pos hp] at a
  omega
theorem sl_ct_i {p : Nat → Bool} {s t : Nat} (hs : p s = true) (ht : p t = true) (h : sl_ct p s = sl_ct p t) : s = t := by
  rcases Nat.lt_trichotomy s t with c | c | c
  · have := sl_ct_lt c hs; omega
  · exact c
  · have := sl_ct_lt c ht; omega
/-- the list's places: each loop once -/
def sl_so (N : Nat) (b : Nat → Nat) : Prop := (∀ m, (∃ j, j < N ∧ b j = m) ↔ sl_isL m) ∧ ∀ j k, j < N → k < N → b j = b k → j = k
def sl_pf (N i : Nat) (b : Nat → Nat) : Prop := ∀ p q, p < i → p < q → q < N → b p ≤ b q
def sl_tau (i j k : Nat) : Nat := if k = j then i else if k = i then j else k
theorem sl_tau2 (i j k : Nat) : sl_tau i j (sl_tau i j k) = k := by
  unfold sl_tau
  by_cases a : k = j
  · rw [if_pos a]
    by_cases b : i = j
    · rw [if_pos b]; omega
    · rw [if_neg b, if_pos rfl]; omega
  · rw [if_neg a]
    by_cases b : k = i
    · rw [if_pos b, if_pos rfl]; omega
    · rw [if_neg b, if_neg a, if_neg b]
theorem sl_tau_lt {i j k N : Nat} (hi : i < N) (hj : j < N) (hk : k < N) : sl_tau i j k < N := by
  unfold sl_tau
  split
  · exact hi
  · split
    · exact hj
    · exact hk
theorem sl_so_sw {N i j : Nat} {b : Nat → Nat} (hi : i < N) (hj : j < N) (h : sl_so N b) : sl_so N (fun k => b (sl_tau i j k)) := by
  constructor
  · intro m
    rw [← h.1 m]
    constructor
    · intro ⟨k, hk, e⟩
      exact ⟨sl_tau i j k, sl_tau_lt hi hj hk, e⟩
    · intro ⟨k, hk, e⟩
      exact ⟨sl_tau i j k, sl_tau_lt hi hj hk, by show b (sl_tau i j (sl_tau i j k)) = m; rw [sl_tau2]; exact e⟩
  · intro k l hk hl e
    have a := h.2 _ _ (sl_tau_lt hi hj hk) (sl_tau_lt hi hj hl) e
    have c := congrArg (sl_tau i j) a
    rw [sl_tau2, sl_tau2] at c
    exact c
def sl_ra (N : Nat) (a : Nat → Int32) (b : Nat → Nat) : Prop := ∀ k, k < N → a k = nI (b k)
theorem sl_so_b {N : Nat} {b : Nat → Nat} (h : sl_so N b) {k : Nat} (hk : k < N) : b k < 2 ^ 24 := sl_isL_lt ((h.1 (b k)).mp ⟨k, hk, rfl⟩)
section SLO
variable {post : SY → Prop} {ls : Int32} {yl cl mk : Nat → Int32}
theorem yn_183 {J : Int32 → (Nat → Int32) → (Nat → Int32) → (Nat → Int32) → Prop} {N i : Nat} (hN : N < 256) (hi : i < N) (hJ : ∀ a b, sl_ra N a b → sl_so N b → sl_pf N (i + 1) b → J (nI (i + 1)) a cl mk) : ∀ d j, j + d = N → i < j → ∀ a b, sl_ra N a b → sl_so N b → sl_pf N i b → (∀ q, i < q → q < j → b i ≤ b q) → wY_init_183 post J (nI i) (nI N) (d + 1) (nI j) a cl mk := by
  intro d
  induction d with
  | zero =>
    intro j hj hij a b ra so pf hq
    refine br_t (nI_le (a := N) (b := j) (by omega) (by omega)) (nm_r (nI_1 i) (hJ a b ra so ?_))
    intro p q hp hpq hqN
    by_cases c : p = i
    · rw [c]; exact hq q (by omega) (by omega)
    · exact pf p q (by omega) hpq hqN
  | succ d ih =>
    intro j hj hij a b ra so pf hq
    have hjN : j < N := by omega
    have ei : a (nI i).toNatClampNeg = nI (b i) := by rw [nI_clamp (by omega)]; exact ra i hi
    have ej : a (nI j).toNatClampNeg = nI (b j) := by rw [nI_clamp (by omega)]; exact ra j hjN
    have bi := sl_so_b so hi
    have bj := sl_so_b so hjN
    have vi : vp_in (nI i) 256 := pk_in i 256 (by omega)
    have vj : vp_in (nI j) 256 := pk_in j 256 (by omega)
    refine br_f (nI_ge (a := j) (b := N) hjN (by omega)) ⟨vj, vi, ?_⟩
    refine pk_le (b i) (b j) (fun c => ?_) (fun c => ?_) ei ej
    · refine nm_r (nI_1 j) (ih (j + 1) (by omega) (by omega) a b ra so pf (fun q h1 h2 => ?_))
      by_cases e : q = j
      · rw [e]; exact c
      · exact hq q h1 (by omega)
    · refine ⟨vi, nm_r ei ⟨vj, vi, nm_r (e' := upd a i (nI (b j))) (by rw [ej, nI_clamp (by omega)]) ⟨vj, nm_r (e' := upd (upd a i (nI (b j))) j (nI (b i))) (by rw [nI_clamp (by omega)]) (nm_r (nI_1 j) ?_)⟩⟩⟩
      have ti : sl_tau i j i = j := by unfold sl_tau; rw [if_neg (by omega), if_pos rfl]
      have tj : sl_tau i j j = i := by unfold sl_tau; rw [if_pos rfl]
      have to : ∀ k, k ≠ i → k ≠ j → sl_tau i j k = k := fun k h1 h2 => by unfold sl_tau; rw [if_neg h2, if_neg h1]
      refine ih (j + 1) (by omega) (by omega) _ (fun k => b (sl_tau i j k)) ?_ (sl_so_sw hi hjN so) ?_ ?_
      · intro k hk
        show _ = nI (b (sl_tau i j k))
        by_cases e : k = j
        · rw [e, tj, pk_us]
        · rw [pk_un e]
          by_cases f : k = i
          · rw [f, ti, pk_us]
          · rw [pk_un f, to k f e]; exact ra k hk
      · intro p q hp hpq hqN
        show b (sl_tau i j p) ≤ b (sl_tau i j q)
        rw [to p (by omega) (by omega)]
        by_cases e : q = j
        · rw [e, tj]; exact pf p i hp hp hi
        · by_cases f : q = i
          · rw [f, ti]; exact pf p j hp (by omega) hjN
          · rw [to q f e]; exact pf p q hp hpq hqN
      · intro q h1 h2
        show b (sl_tau i j i) ≤ b (sl_tau i j q)
        rw [ti]
        by_cases e : q = j
        · rw [e, tj]; omega
        · rw [to q (by omega) e]
          have := hq q h1 (by omega)
          omega
theorem yn_171 {N : Nat} (hN : N < 256) (hpost : ∀ a b, sl_ra N a b → sl_so N b → sl_pf N N b → post (nI N, a, cl, mk)) : ∀ d i, i + d = N → ∀ a b, sl_ra N a b → sl_so N b → sl_pf N i b → wY_init_171 post (nI N) (d + 1) (nI i) a cl mk := by
  intro d
  induction d with
  | zero =>
    intro i hi a b ra so pf
    have e : i = N := by omega
    subst e
    exact br_t (nI_le (Nat.le_refl _) (by omega)) (hpost a b ra so pf)
  | succ d ih =>
    intro i hi a b ra so pf
    refine br_f (nI_ge (a := i) (b := N) (by omega) (by omega)) (nm_r (nI_1 i) ⟨d + 1, ?_⟩)
    exact yn_183 hN (by omega) (fun a b ra so pf => ih (i + 1) (by omega) a b ra so pf) d (i + 1) (by omega) (by omega) a b ra so pf (fun q h1 h2 => absurd h2 (by omega))
/-! listing -/
def sl_lst (s : Nat) (a : Nat → Int32) : Prop := ∀ t, t < s → sl_good t = true → a (sl_ct sl_good t) = nI (sl_brd t)
theorem sl_lst_so {a : Nat → Int32} (h : sl_lst 512 a) : ∃ b, sl_ra (sl_ct sl_good 512) a b ∧ sl_so (sl_ct sl_good 512) b := by
  have key : ∀ k, k < sl_ct sl_good 512 → ∃ s, s < 512 ∧ sl_good s = true ∧ sl_ct sl_good s = k ∧ a k = nI (sl_brd s) ∧ (a k).toNatClampNeg = sl_brd s := by
    intro k hk
    obtain ⟨s, h1, h2, h3⟩ := sl_ct_r hk
    have e : a k = nI (sl_brd s) := by rw [← h3]; exact h s h1 h2
    have l := sl_brd_lt s
    exact ⟨s, h1, h2, h3, e, by rw [e]; exact nI_clamp (by omega)⟩
  refine ⟨fun k => (a k).toNatClampNeg, ?_, ?_, ?_⟩
  · intro k hk
    obtain ⟨s, _, _, _, h4, h5⟩ := key k hk
    show a k = nI (a k).toNatClampNeg
    rw [h5]; exact h4
  · intro m
    constructor
    · intro ⟨j, hj, e⟩
      obtain ⟨s, h1, h2, _, _, h5⟩ := key j hj
      exact ⟨s, h1, h2, by rw [← e]; exact h5⟩
    · intro ⟨s, h1, h2, e⟩
      refine ⟨sl_ct sl_good s, sl_ct_lt h1 h2, ?_⟩
      show (a (sl_ct sl_good s)).toNatClampNeg = m
      have l := sl_brd_lt s
      rw [h s h1 h2, nI_clamp (by omega), e]
  · intro j k hj hk e
    obtain ⟨s, h1, _, h3, _, h5⟩ := key j hj
    obtain ⟨t, g1, _, g3, _, g5⟩ := key k hk
    have e' : (a j).toNatClampNeg = (a k).toNatClampNeg := e
    rw [h5, g5] at e'
    rw [← h3, ← g3, sl_brd_inj h1 g1 e']
theorem yn_120 {J : Int32 → Int32 → (Nat → Int32) → (Nat → Int32) → (Nat → Int32) → Prop} {s n : Nat} {p q : Bool} (hs : s < 512) (hn : n < 256) (hg : p = true → q = true → J (nI (s + 1)) (nI (n + 1)) (upd yl n (nI (sl_brd s))) cl mk) (hb : ¬ (p = true ∧ q = true) → J (nI (s + 1)) (nI n) yl cl mk) : wY_init_120 post J (nI s) (nI p.toNat) (nI q.toNat) (nI n) yl cl mk := by
  unfold wY_init_120
  cases p with
  | false => exact br_t rfl (nm_r (nI_1 s) (hb (fun z => absurd z.1 (by decide))))
  | true =>
    refine br_f (by decide) ?_
    cases q with
    | false => exact br_t rfl (nm_r (nI_1 s) (hb (fun z => absurd z.2 (by decide))))
    | true =>
      refine br_f (by decide) (br_f (nI_ge (a := n) (b := 256) hn (by decide)) (yb_border ⟨pk_in n 256 hn, nm_r (e' := upd yl n (nI (sl_brd s))) (by rw [nI_clamp (by omega)]) (nm_r (nI_1 n) (nm_r (nI_1 s) (hg rfl rfl)))⟩))
theorem yn_52 (hpost : ∀ a b, sl_ra (sl_ct sl_good 512) a b → sl_so (sl_ct sl_good 512) b → sl_pf (sl_ct sl_good 512) (sl_ct sl_good 512) b → post (nI (sl_ct sl_good 512), a, cl, mk)) : ∀ d s, s + d = 512 → 1 ≤ s → ∀ yl, sl_lst s yl → wY_init_52 post (d + 1) (nI s) (nI (sl_ct sl_good s)) yl cl mk := by
  intro d
  induction d with
  | zero =>
    intro s hs h1 yl hl
    have e : s = 512 := by omega
    subst e
    obtain ⟨b, ra, so⟩ := sl_lst_so hl
    refine br_t (nI_le (a := 512) (b := 512) (by omega) (by decide)) ⟨sl_ct sl_good 512 + 1, ?_⟩
    exact yn_171 (by rw [sl_ct_good]; decide) hpost _ 0 (Nat.zero_add _) yl b ra so (fun p q hp => absurd hp (by omega))
  | succ d ih =>
    intro s hs h1 yl hl
    have h5 : s < 512 := by omega
    have hn : sl_ct sl_good s < 256 := by
      have a := sl_ct_m (p := sl_good) (a := s) (b := 512) (by omega)
      rw [sl_ct_good] at a
      omega
    have j := ih (s + 1) (by omega) (by omega)
    rw [sl_ct_s] at j
    have eg : sl_good s = (sl_conn s && sl_out s) := by
      unfold sl_good
      rw [decide_eq_true h1, Bool.true_and]
    refine br_f (nI_ge (a := s) (b := 512) h5 (by decide)) ?_
    have fin : ∀ p q : Bool, sl_conn s = p → sl_out s = q → wY_init_120 post (wY_init_52 post (d + 1)) (nI s) (nI p.toNat) (nI q.toNat) (nI (sl_ct sl_good s)) yl cl mk := by
      intro p q ep eq
      rw [ep, eq] at eg
      refine yn_120 h5 hn (fun a b => ?_) (fun a => ?_)
      · rw [a, b] at eg
        have eg' : sl_good s = true := eg
        rw [if_pos eg'] at j
        refine j _ (fun t ht gt => ?_)
        by_cases c : t = s
        · rw [c, pk_us]
        · have := sl_ct_lt (p := sl_good) (s := t) (n := s) (by omega) gt
          rw [pk_un (by omega)]
          exact hl t (by omega) gt
      · have eg' : ¬ sl_good s = true := by
          rw [eg]
          intro z
          rw [Bool.and_eq_true] at z
          exact a z
        rw [if_neg eg'] at j
        refine j _ (fun t ht gt => ?_)
        by_cases c : t = s
        · rw [c] at gt; exact absurd gt eg'
        · exact hl t (by omega) gt
    have l1 : (1 : Int32) = nI 2 - 1 := by decide
    have l0 : (0 : Int32) = nI 1 - 1 := by decide
    have l2 : (2 : Int32) = nI 3 - 1 := by decide
    have o : ∀ p : Bool, sl_conn s = p → wpY_in (fun r_24 => (((r_24 = 0 → (wpY_in (fun r_45 => (((r_45 = 0 → (wY_init_115 post (wY_init_52 post (d + 1)) (nI s) (nI p.toNat) (nI (sl_ct sl_good s)) yl cl mk)) ∧ (¬ r_45 = 0 → (wpY_in (fun r_51 => (((r_51 = 0 → (wY_init_115 post (wY_init_52 post (d + 1)) (nI s) (nI p.toNat) (nI (sl_ct sl_good s)) yl cl mk)) ∧ (¬ r_51 = 0 → (wpY_in (fun r_57 => (((r_57 = 0 → (wY_init_115 post (wY_init_52 post (d + 1)) (nI s) (nI p.toNat) (nI (sl_ct sl_good s)) yl cl mk)) ∧ (¬ r_57 = 0 → (wpY_in (fun r_63 => (((r_63 = 0 → (wY_init_115 post (wY_init_52 post (d + 1)) (nI s) (nI p.toNat) (nI (sl_ct sl_good s)) yl cl mk)) ∧ (¬ r_63 = 0 → (wY_init_120 post (wY_init_52 post (d + 1)) (nI s) (nI p.toNat) 0 (nI (sl_ct sl_good s)) yl cl mk))))) (nI (sl_ct sl_good s), yl, cl, mk) (nI s) 2 1))))) (nI (sl_ct sl_good s), yl, cl, mk) (nI s) 1 2))))) (nI (sl_ct sl_good s), yl, cl, mk) (nI s) 1 0))))) (nI (sl_ct sl_good s), yl, cl, mk) (nI s) 0 1)) ∧ (¬ r_24 = 0 → (wY_init_115 post (wY_init_52 post (d + 1)) (nI s) (nI p.toNat) (nI (sl_ct sl_good s)) yl cl mk))))) (nI (sl_ct sl_good s), yl, cl, mk) (nI s) 1 1 := by
      intro p ep
      have yes : sl_out s = true → wY_init_115 post (wY_init_52 post (d + 1)) (nI s) (nI p.toNat) (nI (sl_ct sl_good s)) yl cl mk := fun z => fin p true ep z
      refine yi_in (r := 2) (c := 2) (by decide) (by decide) l1 l1 (fun a => br_f (by decide) (yes ?_)) (fun a => br_t rfl ?_)
      · unfold sl_out; rw [a]; rfl
      refine yi_in (r := 1) (c := 2) (by decide) (by decide) l0 l1 (fun b => br_f (by decide) ?_) (fun b => br_t rfl (yes ?_))
      rotate_left
      · unfold sl_out; rw [a, b]; rfl
      refine yi_in (r := 2) (c := 1) (by decide) (by decide) l1 l0 (fun c => br_f (by decide) ?_) (fun c => br_t rfl (yes ?_))
      rotate_left
      · unfold sl_out; rw [a, b, c]; rfl
      refine yi_in (r := 2) (c := 3) (by decide) (by decide) l1 l2 (fun e => br_f (by decide) ?_) (fun e => br_t rfl (yes ?_))
      rotate_left
      · unfold sl_out; rw [a, b, c, e]; rfl
      refine yi_in (r := 3) (c := 2) (by decide) (by decide) l2 l1 (fun f => br_f (by decide) ?_) (fun f => br_t rfl (yes ?_))
      rotate_left
      · unfold sl_out; rw [a, b, c, e, f]; rfl
      exact fin p false ep (by unfold sl_out; rw [a, b, c, e, f]; rfl)
    exact yc_conn h5 h1 (fun z => o true z) (fun z => o false z)
def sl_fl (a : Nat → Int32) (v : Int32) (i : Nat) : Nat → Int32 := fun j => if j < i then v else a j
theorem sl_fl_u {a : Nat → Int32} {v : Int32} {i : Nat} : upd (sl_fl a v i) i v = sl_fl a v (i + 1) := by
  funext j
  by_cases c : j = i
  · subst c
    rw [pk_us]
    exact (if_pos (by omega)).symm
  · rw [pk_un c]
    by_cases d : j < i
    · show (if j < i then v else a j) = (if j < i + 1 then v else a j)
      rw [if_pos d, if_pos (by omega)]
    · show (if j < i then v else a j) = (if j < i + 1 then v else a j)
      rw [if_neg d, if_neg (by omega)]
theorem sl_fl_0 {a : Nat → Int32} {v : Int32} : sl_fl a v 0 = a := by
  funext j
  exact if_neg (by omega)
theorem yn_31 {c0 : Nat → Int32} (hpost : ∀ a b, sl_ra (sl_ct sl_good 512) a b → sl_so (sl_ct sl_good 512) b → sl_pf (sl_ct sl_good 512) (sl_ct sl_good 512) b → post (nI (sl_ct sl_good 512), a, sl_fl c0 5 9, mk)) : ∀ d i, i + d = 9 → wY_init_31 post 0 (d + 1) (nI i) yl (sl_fl c0 5 i) mk := by
  intro d
  induction d with
  | zero =>
    intro i hi
    have e : i = 9 := by omega
    subst e
    refine br_t (nI_le (a := 9) (b := 9) (by omega) (by decide)) ⟨512, ?_⟩
    have g0 : ∀ t, t < 1 → ¬ sl_good t = true := by decide +kernel
    exact yn_52 hpost 511 1 rfl (by omega) yl (fun t ht gt => absurd gt (g0 t ht))
  | succ d ih =>
    intro i hi
    exact br_f (nI_ge (a := i) (b := 9) (by omega) (by decide)) ⟨pk_in i 9 (by omega), nm_r (e' := sl_fl c0 5 (i + 1)) (by rw [nI_clamp (by omega), sl_fl_u]) (nm_r (nI_1 i) (ih (i + 1) (by omega)))⟩
/-- the constructor of Y: the loops in order -/
theorem yn_init (hpost : ∀ LL yl, sl_ys LL (nI LL.length) yl → LL.Pairwise (· < ·) → (∀ m, m ∈ LL ↔ sl_isL m) → post (nI LL.length, yl, sl_fl (fun _ => 0) 5 9, fun _ => 0)) : wpY_init post := by
  refine ⟨10, ?_⟩
  have k := yn_31 (post := post) (yl := fun _ => 0) (mk := fun _ => 0) (c0 := fun _ => 0) (fun a b ra so pf => ?_) 9 0 rfl
  · rw [sl_fl_0] at k
    exact k
  · generalize eN : sl_ct sl_good 512 = N at ra so pf ⊢
    have hN : N < 256 := by rw [← eN, sl_ct_good]; decide
    have ll : ((List.range N).map b).length = N := by rw [List.length_map, List.length_range]
    have g : ∀ i, i < N → ((List.range N).map b).getD i 0 = b i := by
      intro i hi
      rw [List.getD_eq_getElem?_getD, List.getElem?_map, List.getElem?_range hi]
      rfl
    have h := hpost ((List.range N).map b) a ⟨rfl, by rw [ll]; exact hN, fun i hi => by rw [ll] at hi; rw [g i hi]; exact ra i hi⟩ ?_ ?_
    · rw [ll] at h
      exact h
    · rw [List.pairwise_map]
      refine List.Pairwise.imp_of_mem ?_ List.pairwise_lt_range
      intro i j hi hj hij
      rw [List.mem_range] at hi hj
      have a1 := pf i j hi hij hj
      have a2 : b i ≠ b j := fun z => by have := so.2 i j hi hj z; omega
      omega
    · intro m
      rw [← so.1 m, List.mem_map]
      constructor
      · intro ⟨j, h1, h2⟩
        exact ⟨j, List.mem_range.mp h1, h2⟩
      · intro ⟨j, h1, h2⟩
        exact ⟨j, List.mem_range.mpr h1, h2⟩
end SLO
end
section
/-! X: the constructor -/
def sl_pi (e : Nat) (pe : Nat → Int32) : Prop := ∀ j, j < 64 → pe j = if sl_P j < e then nI (sl_P j) else -1
theorem sl_place : ∀ e, e < 24 → ∃ k, k < 4 ∧ ∃ l, l < 4 ∧ sl_P (sl_A e * 4 + k) = e ∧ (∀ i, i < k → sl_P (sl_A e * 4 + i) < e) ∧ sl_P (sl_B e * 4 + l) = e ∧ (∀ i, i < l → sl_P (sl_B e * 4 + i) < e) ∧ sl_A e ≠ sl_B e ∧ ∀ j, j < 64 → sl_P j = e → j = sl_A e * 4 + k ∨ j = sl_B e * 4 + l := by decide +kernel
theorem sl_P_n : ∀ j, j < 64 → sl_P j < 24 ∨ sl_P j = 99 := by decide +kernel
section SLI
variable {post : SX → Prop} {tr dd mv rd fd : Int32} {cl mk ea eb ce pe st te pc lE lT lD lo : Nat → Int32}
theorem xj_26 {p k : Nat} {x : Int32} (hp : p < 16) (hk : k < 4) (h : post (tr, dd, mv, rd, fd, cl, mk, ea, eb, ce, upd pe (p * 4 + k) x, st, te, pc, lE, lT, lD, lo)) : wX_join_26 post (nI p) x (nI k) tr dd mv rd fd cl mk ea eb ce pe st te pc lE lT lD lo := by
  unfold wX_join_26
  rw [sl_ix4, nI_clamp (by omega)]
  exact ⟨pk_in (p * 4 + k) 64 (by omega), nm_e h⟩
theorem xj_2 {p k : Nat} {x : Int32} (hp : p < 16) (hk : k < 4) (hl : ∀ i, i < k → ¬ pe (p * 4 + i) < 0) (h0 : pe (p * 4 + k) < 0) (h : post (tr, dd, mv, rd, fd, cl, mk, ea, eb, ce, upd pe (p * 4 + k) x, st, te, pc, lE, lT, lD, lo)) : ∀ d i, i + d = k → wX_join_2 post (nI p) x tr dd mv rd fd cl mk ea eb ce pe st te pc lE lT lD lo (d + 1) (nI i) := by
  intro d
  induction d with
  | zero =>
    intro i hi
    have e : i = k := by omega
    subst e
    have ix : pe (nI p * 4 + nI i).toNatClampNeg = pe (p * 4 + i) := by rw [sl_ix4, nI_clamp (by omega)]
    refine br_c (fun _ => xj_26 hp hk h) (fun _ => ⟨pk_in (p * 4 + i) 64 (by omega) (sl_ix4 p i), br_t (by rw [ix]; exact h0) (xj_26 hp hk h)⟩)
  | succ d ih =>
    intro i hi
    have ix : pe (nI p * 4 + nI i).toNatClampNeg = pe (p * 4 + i) := by rw [sl_ix4, nI_clamp (by omega)]
    exact br_f (nI_ge (a := i) (b := 3) (by omega) (by decide)) ⟨pk_in (p * 4 + i) 64 (by omega) (sl_ix4 p i), br_f (by rw [ix]; exact hl i (by omega)) (nm_r (nI_1 i) (ih (i + 1) (by omega)))⟩
theorem xj_join {p k : Nat} {x : Int32} (hp : p < 16) (hk : k < 4) (hl : ∀ i, i < k → ¬ pe (p * 4 + i) < 0) (h0 : pe (p * 4 + k) < 0) (h : post (tr, dd, mv, rd, fd, cl, mk, ea, eb, ce, upd pe (p * 4 + k) x, st, te, pc, lE, lT, lD, lo)) : wpX_join post (tr, dd, mv, rd, fd, cl, mk, ea, eb, ce, pe, st, te, pc, lE, lT, lD, lo) (nI p) x :=
  ⟨k + 1, xj_2 hp hk hl h0 h k 0 (Nat.zero_add k)⟩
theorem xi_place {e : Nat} (he : e < 24) (hi : sl_pi e pe) (h : ∀ pe', sl_pi (e + 1) pe' → post (tr, dd, mv, rd, fd, cl, mk, upd ea e (nI (sl_A e)), upd eb e (nI (sl_B e)), ce, pe', st, te, pc, lE, lT, lD, lo)) : wpX_place post (tr, dd, mv, rd, fd, cl, mk, ea, eb, ce, pe, st, te, pc, lE, lT, lD, lo) (nI e) (nI (sl_A e)) (nI (sl_B e)) := by
  obtain ⟨k, hk, l, hl, a1, a2, b1, b2, ne, u⟩ := sl_place e he
  have lA := sl_A_lt e he
  have lB := sl_B_lt e he
  have cs : (nI e).toNatClampNeg = e := nI_clamp (by omega)
  have neg : ((-1 : Int32)) < 0 := by decide
  unfold wpX_place
  dsimp only
  rw [cs]
  refine ⟨pk_in e 24 he, nm_e ⟨pk_in e 24 he, nm_e ?_⟩⟩
  refine xj_join lA hk (fun i h' => ?_) ?_ ?_
  · have := a2 i h'
    rw [hi _ (by omega), if_pos this]
    exact nI_pos (by omega)
  · rw [hi _ (by omega), if_neg (by omega)]
    exact neg
  dsimp only
  refine xj_join lB hl (fun i h' => ?_) ?_ (h (upd (upd pe (sl_A e * 4 + k) (nI e)) (sl_B e * 4 + l) (nI e)) ?_)
  · have := b2 i h'
    rw [pk_un (by omega), hi _ (by omega), if_pos this]
    exact nI_pos (by omega)
  · rw [pk_un (by omega), hi _ (by omega), if_neg (by omega)]
    exact neg
  · intro j hj
    by_cases c : j = sl_B e * 4 + l
    · rw [c, pk_us, b1, if_pos (by omega)]
    · rw [pk_un c]
      by_cases d : j = sl_A e * 4 + k
      · rw [d, pk_us, a1, if_pos (by omega)]
      · rw [pk_un d, hi j hj]
        have n : sl_P j ≠ e := fun z => (u j hj z).elim d c
        by_cases q : sl_P j < e
        · rw [if_pos q, if_pos (by omega)]
        · rw [if_neg q, if_neg (by omega)]
theorem xi_220 (h1 : ∀ e, e < 24 → ea e = nI (sl_A e)) (h2 : ∀ e, e < 24 → eb e = nI (sl_B e)) (h4 : sl_pi 24 pe) (hpost : ∀ ce, sl_Tab ea eb ce pe → post (tr, dd, mv, rd, fd, cl, mk, ea, eb, ce, pe, st, te, pc, lE, lT, lD, lo)) : ∀ d c, c + d = 9 → ∀ ce, (∀ j, j < c * 4 → ce j = nI (sl_C j)) → wX_init_220 post tr dd mv rd fd (d + 1) (nI c) cl mk ea eb ce pe st te pc lE lT lD lo := by
  intro d
  induction d with
  | zero =>
    intro c hc ce hj
    exact br_t (nI_le (a := 9) (b := c) (by omega) (by omega)) (hpost ce ⟨h1, h2, fun j h => hj j (by omega), h4⟩)
  | succ d ih =>
    intro c hc ce hj
    have h9 : c < 9 := by omega
    obtain ⟨k0, k1, k2, k3⟩ := sl_ce0 c h9
    have e1 : nI c / 3 = nI (c / 3) := pk_div (d := 3) (by omega) (by decide) (by decide)
    have e2 : nI c - nI c / 3 * 3 = nI (c % 3) := pk_rem (d := 3) (by omega) (by decide) (by decide)
    have i0 : nI c * 4 = nI (c * 4) := pk_mul c 4
    have i1 : nI c * 4 + 1 = nI (c * 4 + 1) := by rw [i0]; exact nI_add _ 1
    have i2 : nI c * 4 + 2 = nI (c * 4 + 2) := by rw [i0]; exact nI_add _ 2
    have i3 : nI c * 4 + 3 = nI (c * 4 + 3) := by rw [i0]; exact nI_add _ 3
    have v0 : nI (c / 3) * 3 + nI (c % 3) = nI (sl_C (c * 4)) := by
      rw [show (3 : Int32) = nI 3 from rfl, pk_mul, nI_add]
      exact congrArg nI ((by omega : c / 3 * 3 + c % 3 = c).trans k0.symm)
    have v1 : (nI (c / 3) * 3 + 3) + nI (c % 3) = nI (sl_C (c * 4 + 1)) := by
      rw [show (3 : Int32) = nI 3 from rfl, pk_mul, nI_add, nI_add]
      exact congrArg nI ((by omega : c / 3 * 3 + 3 + c % 3 = c + 3).trans k1.symm)
    have v2 : ((12 : Int32) + nI (c / 3) * 4) + nI (c % 3) = nI (sl_C (c * 4 + 2)) := by
      rw [show (4 : Int32) = nI 4 from rfl, show (12 : Int32) = nI 12 from rfl, pk_mul, nI_add, nI_add]
      exact congrArg nI k2.symm
    have v3 : ((13 : Int32) + nI (c / 3) * 4) + nI (c % 3) = nI (sl_C (c * 4 + 3)) := by
      rw [show (4 : Int32) = nI 4 from rfl, show (13 : Int32) = nI 13 from rfl, pk_mul, nI_add, nI_add]
      exact congrArg nI k3.symm
    refine br_f (nI_ge (a := c) (b := 9) (by omega) (by decide)) ⟨by decide, nm_r e1 ⟨by decide, nm_r e2 ?_⟩⟩
    refine ⟨pk_in (c * 4) 36 (by omega) i0, nm_r (e' := upd ce (c * 4) (nI (sl_C (c * 4)))) (by rw [i0, nI_clamp (by omega), v0]) ?_⟩
    refine ⟨pk_in (c * 4 + 1) 36 (by omega) i1, nm_r (e' := upd (upd ce (c * 4) (nI (sl_C (c * 4)))) (c * 4 + 1) (nI (sl_C (c * 4 + 1)))) (by rw [i1, nI_clamp (by omega), v1]) ?_⟩
    refine ⟨pk_in (c * 4 + 2) 36 (by omega) i2, nm_r (e' := upd (upd (upd ce (c * 4) (nI (sl_C (c * 4)))) (c * 4 + 1) (nI (sl_C (c * 4 + 1)))) (c * 4 + 2) (nI (sl_C (c * 4 + 2)))) (by rw [i2, nI_clamp (by omega), v2]) ?_⟩
    refine ⟨pk_in (c * 4 + 3) 36 (by omega) i3, nm_r (e' := upd (upd (upd (upd ce (c * 4) (nI (sl_C (c * 4)))) (c * 4 + 1) (nI (sl_C (c * 4 + 1)))) (c * 4 + 2) (nI (sl_C (c * 4 + 2)))) (c * 4 + 3) (nI (sl_C (c * 4 + 3)))) (by rw [i3, nI_clamp (by omega), v3]) ?_⟩
    refine nm_r (nI_1 c) (ih (c + 1) (by omega) _ (fun j h => ?_))
    by_cases c3 : j = c * 4 + 3
    · rw [c3, pk_us]
    rw [pk_un c3]
    by_cases c2 : j = c * 4 + 2
    · rw [c2, pk_us]
    rw [pk_un c2]
    by_cases c1 : j = c * 4 + 1
    · rw [c1, pk_us]
    rw [pk_un c1]
    by_cases c0 : j = c * 4
    · rw [c0, pk_us]
    rw [pk_un c0]
    exact hj j (by omega)
theorem sl_pA {ea : Nat → Int32} {e : Nat} {f : Nat → Nat} (h : ∀ i, i < e → ea i = nI (f i)) : ∀ i, i < e + 1 → upd ea e (nI (f e)) i = nI (f i) := by
  intro i hi
  by_cases c : i = e
  · rw [c, pk_us]
  · rw [pk_un c]; exact h i (by omega)
theorem xi_193 (hpost : ∀ ea eb ce pe, sl_Tab ea eb ce pe → post (tr, dd, mv, rd, fd, cl, mk, ea, eb, ce, pe, st, te, pc, lE, lT, lD, lo)) : ∀ d e, e + d = 24 → 12 ≤ e → ∀ ea eb pe, (∀ i, i < e → ea i = nI (sl_A i)) → (∀ i, i < e → eb i = nI (sl_B i)) → sl_pi e pe → wX_init_193 post (d + 1) (nI e) tr dd mv rd fd cl mk ea eb ce pe st te pc lE lT lD lo := by
  intro d
  induction d with
  | zero =>
    intro e he h12 ea eb pe h1 h2 h4
    have e24 : e = 24 := by omega
    subst e24
    exact br_t (nI_le (a := 24) (b := 24) (by omega) (by decide)) ⟨10, xi_220 h1 h2 h4 (fun ce T => hpost ea eb ce pe T) 9 0 rfl ce (fun j hj => absurd hj (by omega))⟩
  | succ d ih =>
    intro e he h12 ea eb pe h1 h2 h4
    have a : nI e - 12 = nI (sl_A e) := by
      rw [show nI e - 12 = nI (e - 12) from pk_sub (b := 12) h12]
      unfold sl_A
      rw [if_neg (by omega)]
    have b : nI e - 8 = nI (sl_B e) := by
      rw [show nI e - 8 = nI (e - 8) from pk_sub (b := 8) (by omega)]
      unfold sl_B
      rw [if_neg (by omega)]
    refine br_f (nI_ge (a := e) (b := 24) (by omega) (by decide)) ?_
    rw [a, b]
    refine xi_place (by omega) h4 (fun pe' h4' => nm_r (nI_1 e) ?_)
    exact ih (e + 1) (by omega) (by omega) _ _ pe' (sl_pA h1) (sl_pA h2) h4'
theorem xi_153 (hpost : ∀ ea eb ce pe, sl_Tab ea eb ce pe → post (tr, dd, mv, rd, fd, cl, mk, ea, eb, ce, pe, st, te, pc, lE, lT, lD, lo)) : ∀ d e, e + d = 12 → ∀ ea eb pe, (∀ i, i < e → ea i = nI (sl_A i)) → (∀ i, i < e → eb i = nI (sl_B i)) → sl_pi e pe → wX_init_153 post (d + 1) (nI e) tr dd mv rd fd cl mk ea eb ce pe st te pc lE lT lD lo := by
  intro d
  induction d with
  | zero =>
    intro e he ea eb pe h1 h2 h4
    have e12 : e = 12 := by omega
    subst e12
    exact br_t (nI_le (a := 12) (b := 12) (by omega) (by decide)) ⟨13, xi_193 hpost 12 12 rfl (Nat.le_refl 12) ea eb pe h1 h2 h4⟩
  | succ d ih =>
    intro e he ea eb pe h1 h2 h4
    have e1 : nI e / 3 = nI (e / 3) := pk_div (d := 3) (by omega) (by decide) (by decide)
    have e2 : nI e - nI e / 3 * 3 = nI (e % 3) := pk_rem (d := 3) (by omega) (by decide) (by decide)
    have a : nI e / 3 * 4 + (nI e - nI e / 3 * 3) = nI (sl_A e) := by
      rw [e2, e1, sl_ix4]
      unfold sl_A
      rw [if_pos (by omega)]
    have b : (nI e / 3 * 4 + (nI e - nI e / 3 * 3)) + 1 = nI (sl_B e) := by
      rw [a, nI_1]
      unfold sl_A sl_B
      rw [if_pos (by omega), if_pos (by omega)]
    refine br_f (nI_ge (a := e) (b := 12) (by omega) (by decide)) ⟨by decide, by decide, by decide, by decide, ?_⟩
    rw [b, a]
    refine xi_place (by omega) h4 (fun pe' h4' => nm_r (nI_1 e) ?_)
    exact ih (e + 1) (by omega) _ _ pe' (sl_pA h1) (sl_pA h2) h4'
theorem xi_132 (hpost : ∀ ea eb ce pe, sl_Tab ea eb ce pe → post (tr, dd, mv, rd, fd, cl, mk, ea, eb, ce, pe, st, te, pc, lE, lT, lD, lo)) : ∀ d i, i + d = 64 → ∀ pe, (∀ j, j < i → pe j = -1) → wX_init_132 post tr dd mv rd fd (d + 1) (nI i) cl mk ea eb ce pe st te pc lE lT lD lo := by
  intro d
  induction d with
  | zero =>
    intro i hi pe h
    refine br_t (nI_le (a := 64) (b := i) (by omega) (by omega)) ⟨13, xi_153 hpost 12 0 rfl ea eb pe (fun j hj => absurd hj (by omega)) (fun j hj => absurd hj (by omega)) (fun j hj => ?_)⟩
    rw [if_neg (by omega)]
    exact h j (by omega)
  | succ d ih =>
    intro i hi pe h
    refine br_f (nI_ge (a := i) (b := 64) (by omega) (by decide)) ⟨pk_in i 64 (by omega), nm_r (e' := upd pe i (-1)) (by rw [nI_clamp (by omega)]) (nm_r (nI_1 i) (ih (i + 1) (by omega) _ (fun j hj => ?_)))⟩
    by_cases c : j = i
    · rw [c, pk_us]
    · rw [pk_un c]; exact h j (by omega)
theorem xi_111 {c0 : Nat → Int32} (hpost : ∀ ea eb ce pe, sl_Tab ea eb ce pe → post (tr, dd, mv, rd, fd, sl_fl c0 5 9, mk, ea, eb, ce, pe, st, te, pc, lE, lT, lD, lo)) : ∀ d i, i + d = 9 → wX_init_111 post tr dd mv rd fd (d + 1) (nI i) (sl_fl c0 5 i) mk ea eb ce pe st te pc lE lT lD lo := by
  intro d
  induction d with
  | zero =>
    intro i hi
    have e : i = 9 := by omega
    subst e
    exact br_t (nI_le (a := 9) (b := 9) (by omega) (by decide)) ⟨65, xi_132 hpost 64 0 rfl pe (fun j hj => absurd hj (by omega))⟩
  | succ d ih =>
    intro i hi
    exact br_f (nI_ge (a := i) (b := 9) (by omega) (by decide)) ⟨pk_in i 9 (by omega), nm_r (e' := sl_fl c0 5 (i + 1)) (by rw [nI_clamp (by omega), sl_fl_u]) (nm_r (nI_1 i) (ih (i + 1) (by omega)))⟩
theorem xi_init (hpost : ∀ ea eb ce pe, sl_Tab ea eb ce pe → post (0, 0, 0, 0, 0, sl_fl (fun _ => 0) 5 9, (fun _ => 0), ea, eb, ce, pe, (fun _ => 0), (fun _ => 0), (fun _ => 0), (fun _ => 0), (fun _ => 0), (fun _ => 0), (fun _ => 0))) : wpX_init post := by
  refine ⟨10, ?_⟩
  have k := xi_111 (post := post) (tr := 0) (dd := 0) (mv := 0) (rd := 0) (fd := 0) (mk := fun _ => 0) (ea := fun _ => 0) (eb := fun _ => 0) (ce := fun _ => 0) (pe := fun _ => 0) (st := fun _ => 0) (te := fun _ => 0) (pc := fun _ => 0) (lE := fun _ => 0) (lT := fun _ => 0) (lD := fun _ => 0) (lo := fun _ => 0) (c0 := fun _ => 0) hpost 9 0 rfl
  rw [sl_fl_0] at k
  exact k
end SLI
end
section
/-! X: the questions -/
theorem sl_tn (b : Bool) : b.toNat = if b = true then 1 else 0 := by cases b <;> rfl
section SLX
variable {ps : Int32 → Prop} {pr : Int32 → SX → Prop} {tr dd mv rd fd : Int32} {cl mk ea eb ce pe st te pc lE lT lD lo : Nat → Int32}
theorem xq_ones {x : Int32} (h : ps (nI (sl_ct (bt x) 24))) : ∀ d e, e + d = 24 → wX_ones_4 ps x (d + 1) (nI (sl_ct (bt x) e)) (nI e) := by
  intro d
  induction d with
  | zero =>
    intro e he
    have e24 : e = 24 := by omega
    subst e24
    exact br_t (nI_le (a := 24) (b := 24) (by omega) (by decide)) h
  | succ d ih =>
    intro e he
    have i := ih (e + 1) (by omega)
    have q : nI (sl_ct (bt x) e) + ((x >>> (nI e &&& 31)) &&& 1) = nI (sl_ct (bt x) (e + 1)) := by
      rw [sl_xbit x (by omega), nI_add, sl_ct_s, sl_tn]
    exact br_f (nI_ge (a := e) (b := 24) (by omega) (by decide)) (nm_r q (nm_r (nI_1 e) i))
theorem xq_onesW {x : Int32} (h : ps (nI (sl_ct (bt x) 24))) : wpX_ones ps x :=
  ⟨25, xq_ones h 24 0 rfl⟩
theorem sl_vt_a {P : List Nat} {m e : Nat} : sl_vt (P ++ [m]) e = sl_vt P e + (sl_hs m e).toNat := by
  unfold sl_vt
  cases c : sl_hs m e with
  | true => rw [sl_f_t (p := fun m => sl_hs m e) c, sl_len1]; rfl
  | false => rw [sl_f_f (p := fun m => sl_hs m e) (by rw [c]; decide)]; rfl
theorem sl_Fl_at {Z P S : List Nat} {m : Nat} (hF : sl_Fl lo Z) (h : Z = P ++ m :: S) {e : Nat} (he : e < 24) : bt (lo P.length) e = sl_hs m e := by
  have k := hF P.length (sl_at_l h) e he
  rw [sl_at h] at k
  exact k
theorem xq_votes {Z : List Nat} {e : Nat} (he : e < 24) (hZ : Z.length < 256) (hF : sl_Fl lo Z) (h : pr (nI (sl_vt Z e)) (tr, dd, mv, rd, nI Z.length, cl, mk, ea, eb, ce, pe, st, te, pc, lE, lT, lD, lo)) : ∀ S P, Z = P ++ S → wX_votes_21 pr (nI e) tr dd mv rd (nI Z.length) cl mk ea eb ce pe st te pc lE lT lD lo (S.length + 1) (nI (sl_vt P e)) (nI P.length) := by
  intro S
  induction S with
  | nil =>
    intro P hP
    rw [List.append_nil] at hP
    subst hP
    exact br_t (nI_le (Nat.le_refl _) (by omega)) h
  | cons m S ih =>
    intro P hP
    have hl := sl_at_l hP
    have i := ih (P ++ [m]) (sl_at_n hP)
    rw [sl_len1, sl_vt_a] at i
    have q : nI (sl_vt P e) + (((lo (nI P.length).toNatClampNeg) >>> (nI e &&& 31)) &&& 1) = nI (sl_vt P e + (sl_hs m e).toNat) := by
      rw [nI_clamp (by omega), sl_xbit _ (by omega), sl_Fl_at hF hP he, nI_add]
    exact br_f (nI_ge hl (by omega)) ⟨pk_in P.length 256 (by omega), nm_r q (nm_r (nI_1 _) i)⟩
theorem sl_nx (a b : Bool) : nI a.toNat ^^^ nI b.toNat = nI (a ^^ b).toNat := by cases a <;> cases b <;> decide
theorem xq_in33 {J : Int32 → Int32 → Prop} {C : Nat → Bool} {j r : Nat} (hj : j < 256) (hr : r < 3) (hC : ∀ e, e < 24 → bt (lo j) e = C e) (h : J (nI (sl_ct (sl_ins C) (r * 3 + 3))) (nI (r + 1))) : ∀ d k, k + d = 3 → wX_inside_33 pr J (nI j) (nI r) tr dd mv rd fd cl mk ea eb ce pe st te pc lE lT lD lo (d + 1) (nI (sl_ct (sl_ins C) (r * 3 + k))) (nI (sl_par C r k).toNat) (nI k) := by
  intro d
  induction d with
  | zero =>
    intro k hk
    have e3 : k = 3 := by omega
    subst e3
    exact br_t (nI_le (a := 3) (b := 3) (by omega) (by decide)) (nm_r (nI_1 r) h)
  | succ d ih =>
    intro k hk
    have i := ih (k + 1) (by omega)
    have e1 : ((12 : Int32) + nI r * 4) + nI k = nI (12 + r * 4 + k) := by
      rw [show (4 : Int32) = nI 4 from rfl, show (12 : Int32) = nI 12 from rfl, pk_mul, nI_add, nI_add]
    have es : sl_par C r (k + 1) = (sl_par C r k ^^ C (12 + r * 4 + k)) := rfl
    have q : nI (sl_par C r k).toNat ^^^ (((lo (nI j).toNatClampNeg) >>> ((((12 : Int32) + nI r * 4) + nI k) &&& 31)) &&& 1) = nI (sl_par C r (k + 1)).toNat := by
      rw [e1, nI_clamp (by omega), sl_xbit _ (by omega), hC _ (by omega), sl_nx, es]
    have ei : sl_ins C (r * 3 + k) = sl_par C r (k + 1) := by
      unfold sl_ins
      rw [show (r * 3 + k) / 3 = r by omega, show (r * 3 + k) % 3 = k by omega]
    have ec : sl_ct (sl_ins C) (r * 3 + (k + 1)) = sl_ct (sl_ins C) (r * 3 + k) + (sl_par C r (k + 1)).toNat := by
      rw [← ei, sl_tn]
      rfl
    rw [ec, ← nI_add] at i
    exact br_f (nI_ge (a := k) (b := 3) (by omega) (by decide)) ⟨pk_in j 256 hj, nm_r q (nm_e (nm_r (nI_1 k) i))⟩
theorem xq_in22 {C : Nat → Bool} {j : Nat} (hj : j < 256) (hC : ∀ e, e < 24 → bt (lo j) e = C e) (h : pr (nI (sl_ct (sl_ins C) 9)) (tr, dd, mv, rd, fd, cl, mk, ea, eb, ce, pe, st, te, pc, lE, lT, lD, lo)) : ∀ d r, r + d = 3 → wX_inside_22 pr (nI j) tr dd mv rd fd cl mk ea eb ce pe st te pc lE lT lD lo (d + 1) (nI (sl_ct (sl_ins C) (r * 3))) (nI r) := by
  intro d
  induction d with
  | zero =>
    intro r hr
    have e3 : r = 3 := by omega
    subst e3
    exact br_t (nI_le (a := 3) (b := 3) (by omega) (by decide)) h
  | succ d ih =>
    intro r hr
    have i := ih (r + 1) (by omega)
    rw [show (r + 1) * 3 = r * 3 + 3 by omega] at i
    exact br_f (nI_ge (a := r) (b := 3) (by omega) (by decide)) ⟨4, xq_in33 hj (by omega) hC i 3 0 rfl⟩
/-- the edges of all, of some -/
def sl_al (Z : List Nat) (e : Nat) : Bool := Z.all (fun m => sl_hs m e)
def sl_an (Z : List Nat) (e : Nat) : Bool := Z.any (fun m => sl_hs m e)
theorem sl_al_a {P : List Nat} {m e : Nat} : sl_al (P ++ [m]) e = (sl_al P e && sl_hs m e) := by
  unfold sl_al
  rw [List.all_append]
  simp
theorem sl_an_a {P : List Nat} {m e : Nat} : sl_an (P ++ [m]) e = (sl_an P e || sl_hs m e) := by
  unfold sl_an
  rw [List.any_append]
  simp
theorem xq_dec {Z : List Nat} (hZ : Z.length < 256) (hF : sl_Fl lo Z) (h : pr (nI (sl_ct (sl_al Z) 24 + 24 - sl_ct (sl_an Z) 24)) (tr, dd, mv, rd, nI Z.length, cl, mk, ea, eb, ce, pe, st, te, pc, lE, lT, lD, lo)) : ∀ S P, Z = P ++ S → ∀ x y : Int32, (∀ e, e < 24 → bt x e = sl_al P e) → (∀ e, e < 24 → bt y e = sl_an P e) → wX_decided_19 pr tr dd mv rd (nI Z.length) cl mk ea eb ce pe st te pc lE lT lD lo (S.length + 1) x y (nI P.length) := by
  intro S
  induction S with
  | nil =>
    intro P hP x y hx hy
    rw [List.append_nil] at hP
    subst hP
    refine br_t (nI_le (Nat.le_refl _) (by omega)) (xq_onesW (xq_onesW ?_))
    rw [sl_ct_c 24 hx, sl_ct_c 24 hy]
    have l := sl_ct_le (sl_an Z) 24
    have q : nI (sl_ct (sl_al Z) 24) + 24 - nI (sl_ct (sl_an Z) 24) = nI (sl_ct (sl_al Z) 24 + 24 - sl_ct (sl_an Z) 24) := by
      rw [show nI (sl_ct (sl_al Z) 24) + 24 = nI (sl_ct (sl_al Z) 24 + 24) from nI_add _ 24]
      exact pk_sub (by omega)
    show pr (nI (sl_ct (sl_al Z) 24) + 24 - nI (sl_ct (sl_an Z) 24)) _
    rw [q]
    exact h
  | cons m S ih =>
    intro P hP x y hx hy
    have hl := sl_at_l hP
    have vi : vp_in (nI P.length) 256 := pk_in P.length 256 (by omega)
    have i := ih (P ++ [m]) (sl_at_n hP) (x &&& lo P.length) (y ||| lo P.length) (fun e he => by rw [b_and, hx e he, sl_Fl_at hF hP he, sl_al_a]) (fun e he => by rw [b_or, hy e he, sl_Fl_at hF hP he, sl_an_a])
    rw [sl_len1] at i
    exact br_f (nI_ge hl (by omega)) ⟨vi, nm_r (e' := x &&& lo P.length) (by rw [nI_clamp (by omega)]) ⟨vi, nm_r (e' := y ||| lo P.length) (by rw [nI_clamp (by omega)]) (nm_r (nI_1 _) i)⟩⟩
theorem sl_vt_0 {Z : List Nat} {e : Nat} : sl_vt Z e = 0 ↔ sl_an Z e = false := by
  unfold sl_vt sl_an
  rw [List.length_eq_zero_iff, List.filter_eq_nil_iff, List.any_eq_false]
theorem sl_vt_n {Z : List Nat} {e : Nat} : sl_vt Z e = Z.length ↔ sl_al Z e = true := by
  unfold sl_vt sl_al
  rw [List.length_filter_eq_length_iff, List.all_eq_true]
theorem sl_dec_eq {Z : List Nat} (hZ : 0 < Z.length) : ∀ n, sl_ct (sl_dd Z) n + sl_ct (sl_an Z) n = sl_ct (sl_al Z) n + n := by
  intro n
  induction n with
  | zero => rfl
  | succ n ih =>
    rw [sl_ct_s, sl_ct_s, sl_ct_s]
    have hd : sl_dd Z n = (decide (sl_vt Z n = 0) || decide (sl_vt Z n = Z.length)) := by
      unfold sl_dd
      rw [decide_eq_true hZ, Bool.true_and]
    by_cases a : sl_vt Z n = 0
    · have a1 := sl_vt_0.mp a
      have a2 : ¬ sl_al Z n = true := fun z => by have := sl_vt_n.mpr z; omega
      rw [hd, decide_eq_true a, a1, if_neg a2, if_pos (by rfl), if_neg (by decide)]
      omega
    · have a1 : sl_an Z n = true := by
        cases c : sl_an Z n with
        | true => rfl
        | false => exact absurd (sl_vt_0.mpr c) a
      rw [a1, if_pos rfl]
      by_cases b : sl_vt Z n = Z.length
      · rw [hd, decide_eq_true b, Bool.or_true, if_pos rfl, sl_vt_n.mp b, if_pos rfl]
        omega
      · have a2 : ¬ sl_al Z n = true := fun z => b (sl_vt_n.mpr z)
        rw [hd, decide_eq_false a, decide_eq_false b, if_neg a2, if_neg (by decide)]
        omega
theorem xq_short {Z : List Nat} (hZ : Z.length < 256) (hF : sl_Fl lo Z) (h : pr (nI (sl_sh Z)) (tr, dd, mv, rd, nI Z.length, cl, mk, ea, eb, ce, pe, st, te, pc, lE, lT, lD, lo)) : ∀ S P, Z = P ++ S → wX_shortest_8 pr tr dd mv rd (nI Z.length) cl mk ea eb ce pe st te pc lE lT lD lo (S.length + 1) (nI (sl_sh P)) (nI P.length) := by
  intro S
  induction S with
  | nil =>
    intro P hP
    rw [List.append_nil] at hP
    subst hP
    exact br_t (nI_le (Nat.le_refl _) (by omega)) h
  | cons m S ih =>
    intro P hP
    have hl := sl_at_l hP
    have i := ih (P ++ [m]) (sl_at_n hP)
    have l1 : sl_sh P ≤ 24 := sl_sh_le _ 0 (by omega)
    have l2 := sl_ct_le (sl_hs m) 24
    have ec : sl_ct (bt (lo (nI P.length).toNatClampNeg)) 24 = sl_ct (sl_hs m) 24 := by
      rw [nI_clamp (by omega)]
      exact sl_ct_c 24 (fun e he => sl_Fl_at hF hP he)
    rw [sl_len1, sl_sh_a] at i
    unfold sl_shf at i
    refine br_f (nI_ge hl (by omega)) ⟨pk_in P.length 256 (by omega), xq_onesW ?_⟩
    rw [ec]
    refine pk_eq (sl_sh P) 0 (fun a => ?_) (fun a => pk_le (sl_sh P) (sl_ct (sl_hs m) 24) (fun b => ?_) (fun b => ?_))
    · rw [if_pos a] at i
      exact nm_r (nI_1 _) i
    · rw [if_neg a, if_pos b] at i
      exact nm_r (nI_1 _) i
    · rw [if_neg a, if_neg (by omega)] at i
      exact nm_r (nI_1 _) i
/-- a number of a call: one of the list's, or none -/
theorem sl_pick (x : Int32) {n : Nat} (hn : n < 256) : (∃ j, j < n ∧ x = nI j) ∨ ((x < 0 ∨ (¬ x < 0 ∧ nI n ≤ x)) ∧ ∀ j, j < n → x ≠ nI j) := by
  rcases pk_ix x (n := n) (by omega) with c | c | c
  · exact Or.inr ⟨Or.inl c, fun j hj z => by rw [z] at c; exact nI_pos (by omega) c⟩
  · refine Or.inr ⟨?_, fun j hj z => by rw [z] at c; exact nI_ge (b := n) hj (by omega) c⟩
    by_cases d : x < 0
    · exact Or.inl d
    · exact Or.inr ⟨d, c⟩
  · exact Or.inl c
end SLX
end
section
/-! the relation; small laws of both sides -/
abbrev sl_Q (rd fd : Int32) (cl mk ea eb ce pe lo : Nat → Int32) (ls : Int32) (yl cl2 mk2 : Nat → Int32) : Prop := cl2 = cl ∧ mk2 = mk ∧ sl_clv cl ∧ sl_val mk ∧ sl_Tab ea eb ce pe ∧ ∃ LL : List Nat, sl_ys LL ls yl ∧ LL.Pairwise (· < ·) ∧ (∀ m, m ∈ LL ↔ sl_isL m) ∧ (rd ≠ 0 → fd = nI (sl_sols cl LL mk).length ∧ sl_Fl lo (sl_sols cl LL mk))
/-- the relation at the head of a turn -/
def i_Rel (k : Nat) (u : SX) (v : SY) : Prop := match u, v with
  | (tr, dd, mv, rd, fd, cl, mk1, ea, eb, ce, pe, st, te, pc, lE, lT, lD, lo), (ls, yl, cl2, mk2) => sl_Q rd fd cl mk1 ea eb ce pe lo ls yl cl2 mk2
theorem i_up {k : Nat} {u : SX} {v : SY} (h : i_Rel k u v) : i_Rel (k + 4) u v := h
section SLR
variable {ps : Int32 → Prop} {post : SX → Prop} {pr : Int32 → SX → Prop} {py : SY → Prop} {tr dd mv rd fd : Int32} {cl mk ea eb ce pe st te pc lE lT lD lo : Nat → Int32}
variable {ls : Int32} {yl : Nat → Int32} {LL : List Nat}
theorem yq_pick {x : Int32} {j : Nat} (hy : sl_ys LL ls yl) (hx : x = nI j) (hj : j < (sl_sols cl LL mk).length) (h : ps (nI ((sl_sols cl LL mk).getD j 0))) : wpY_solution ps (ls, yl, cl, mk) x := by
  have l : (sl_sols cl LL mk).length < 256 := Nat.lt_of_le_of_lt (List.length_filter_le _ _) hy.2.1
  refine yq_solutionW hy (fun i hi e => ?_) (fun n => absurd hx (n j hj))
  rw [hx] at e
  have : j = i := (nI_eq (by omega) (by omega)).mp e
  rw [← this]
  exact h
theorem yq_none {x : Int32} (hy : sl_ys LL ls yl) (hx : ∀ j, j < (sl_sols cl LL mk).length → x ≠ nI j) (h : ps 0) : wpY_solution ps (ls, yl, cl, mk) x :=
  yq_solutionW hy (fun i hi e => absurd e (hx i hi)) (fun _ => h)
theorem sl_edge (x : Int32) : x < 0 ∨ (¬ x < 0 ∧ ¬ x < 24 ∧ ¬ x ≤ 23) ∨ ∃ e, e < 24 ∧ x = nI e := by
  by_cases h : x < 0
  · exact Or.inl h
  · obtain ⟨j, hj, rfl⟩ := nI_of h
    by_cases c : j < 24
    · exact Or.inr (Or.inr ⟨j, c, rfl⟩)
    · exact Or.inr (Or.inl ⟨h, nI_nlt (a := j) (b := 24) (by omega) hj, nI_ge (a := 23) (b := j) (by omega) hj⟩)
theorem xcl_23 {m0 : Nat → Int32} (h : post (tr, dd, mv, 0, fd, cl, sl_fl m0 0 24, ea, eb, ce, pe, st, te, pc, lE, lT, lD, lo)) : ∀ d i, i + d = 24 → wX_clear_23 post tr dd mv rd fd (d + 1) (nI i) cl (sl_fl m0 0 i) ea eb ce pe st te pc lE lT lD lo := by
  intro d
  induction d with
  | zero =>
    intro i hi
    have e : i = 24 := by omega
    subst e
    exact br_t (nI_le (a := 24) (b := 24) (by omega) (by decide)) h
  | succ d ih =>
    intro i hi
    exact br_f (nI_ge (a := i) (b := 24) (by omega) (by decide)) ⟨pk_in i 24 (by omega), nm_r (e' := sl_fl m0 0 (i + 1)) (by rw [nI_clamp (by omega), sl_fl_u]) (nm_r (nI_1 i) (ih (i + 1) (by omega)))⟩
theorem xcl_2 {c0 : Nat → Int32} (h : post (tr, dd, mv, 0, fd, sl_fl c0 5 9, sl_fl mk 0 24, ea, eb, ce, pe, st, te, pc, lE, lT, lD, lo)) : ∀ d i, i + d = 9 → wX_clear_2 post tr dd mv rd fd (d + 1) (nI i) (sl_fl c0 5 i) mk ea eb ce pe st te pc lE lT lD lo := by
  intro d
  induction d with
  | zero =>
    intro i hi
    have e : i = 9 := by omega
    subst e
    have k := xcl_23 (post := post) (m0 := mk) (tr := tr) (dd := dd) (mv := mv) (rd := rd) (fd := fd) h 24 0 rfl
    rw [sl_fl_0] at k
    exact br_t (nI_le (a := 9) (b := 9) (by omega) (by decide)) ⟨25, k⟩
  | succ d ih =>
    intro i hi
    exact br_f (nI_ge (a := i) (b := 9) (by omega) (by decide)) ⟨pk_in i 9 (by omega), nm_r (e' := sl_fl c0 5 (i + 1)) (by rw [nI_clamp (by omega), sl_fl_u]) (nm_r (nI_1 i) (ih (i + 1) (by omega)))⟩
theorem xcl_W (h : post (tr, dd, mv, 0, fd, sl_fl cl 5 9, sl_fl mk 0 24, ea, eb, ce, pe, st, te, pc, lE, lT, lD, lo)) : wpX_clear post (tr, dd, mv, rd, fd, cl, mk, ea, eb, ce, pe, st, te, pc, lE, lT, lD, lo) := by
  have k := xcl_2 (c0 := cl) (rd := rd) h 9 0 rfl
  rw [sl_fl_0] at k
  exact ⟨10, k⟩
theorem ycl_23 {m0 : Nat → Int32} (h : py (ls, yl, cl, sl_fl m0 0 24)) : ∀ d i, i + d = 24 → wY_clear_23 py ls (d + 1) (nI i) yl cl (sl_fl m0 0 i) := by
  intro d
  induction d with
  | zero =>
    intro i hi
    have e : i = 24 := by omega
    subst e
    exact br_t (nI_le (a := 24) (b := 24) (by omega) (by decide)) h
  | succ d ih =>
    intro i hi
    exact br_f (nI_ge (a := i) (b := 24) (by omega) (by decide)) ⟨pk_in i 24 (by omega), nm_r (e' := sl_fl m0 0 (i + 1)) (by rw [nI_clamp (by omega), sl_fl_u]) (nm_r (nI_1 i) (ih (i + 1) (by omega)))⟩
theorem ycl_2 {c0 : Nat → Int32} (h : py (ls, yl, sl_fl c0 5 9, sl_fl mk 0 24)) : ∀ d i, i + d = 9 → wY_clear_2 py ls (d + 1) (nI i) yl (sl_fl c0 5 i) mk := by
  intro d
  induction d with
  | zero =>
    intro i hi
    have e : i = 9 := by omega
    subst e
    have k := ycl_23 (py := py) (m0 := mk) h 24 0 rfl
    rw [sl_fl_0] at k
    exact br_t (nI_le (a := 9) (b := 9) (by omega) (by decide)) ⟨25, k⟩
  | succ d ih =>
    intro i hi
    exact br_f (nI_ge (a := i) (b := 9) (by omega) (by decide)) ⟨pk_in i 9 (by omega), nm_r (e' := sl_fl c0 5 (i + 1)) (by rw [nI_clamp (by omega), sl_fl_u]) (nm_r (nI_1 i) (ih (i + 1) (by omega)))⟩
theorem ycl_W (h : py (ls, yl, sl_fl cl 5 9, sl_fl mk 0 24)) : wpY_clear py (ls, yl, cl, mk) := by
  have k := ycl_2 (c0 := cl) h 9 0 rfl
  rw [sl_fl_0] at k
  exact ⟨10, k⟩
theorem sl_clv_f (c0 : Nat → Int32) : sl_clv (sl_fl c0 5 9) := fun c hc => ⟨5, by omega, if_pos hc⟩
theorem sl_val_f (m0 : Nat → Int32) : sl_val (sl_fl m0 0 24) := fun e he => Or.inl (if_pos he)
theorem sl_clv_u {i v : Nat} (h : sl_clv cl) (hv : v ≤ 5) : sl_clv (upd cl i (nI v)) := by
  intro c hc
  by_cases q : c = i
  · rw [q, pk_us]; exact ⟨v, hv, rfl⟩
  · rw [pk_un q]; exact h c hc
theorem sl_val_u {i v : Nat} (h : sl_val mk) (hv : v ≤ 2) : sl_val (upd mk i (nI v)) := by
  intro c hc
  by_cases q : c = i
  · rw [q, pk_us]
    have : v = 0 ∨ v = 1 ∨ v = 2 := by omega
    rcases this with z | z | z
    · rw [z]; exact Or.inl rfl
    · rw [z]; exact Or.inr (Or.inl rfl)
    · rw [z]; exact Or.inr (Or.inr rfl)
  · rw [pk_un q]; exact h c hc
theorem sl_ct0 : sl_ct (sl_hs 0) 24 = 0 := by decide +kernel
theorem sl_in0 : sl_ct (sl_ins (sl_hs 0)) 9 = 0 := by decide +kernel
theorem sl_hs0 (e : Nat) : sl_hs 0 e = false := Nat.zero_testBit _
end SLR
theorem i_vc0 : wpX_init (fun u => wpY_init (fun v => i_Rel 0 u v)) := by
  refine xi_init (fun ea eb ce pe T => yn_init (fun LL yl hy hl hL => ?_))
  show sl_Q _ _ _ _ _ _ _ _ _ _ _ _ _
  exact ⟨rfl, rfl, sl_clv_f _, fun e _ => Or.inl rfl, T, LL, hy, hl, hL, fun z => absurd rfl z⟩
end
section
/-! what is owed, one a method -/
theorem i_vc_clue {k : Nat} {u : SX} {v : SY} (I : i_Rel k u v) (hk : k + 4 ≤ 2048) (v1 : Int32) (v2 : Int32) (v3 : Int32) : wpX_clue (fun r u' => wpY_clue (fun r' v' => r' = r ∧ i_Rel (k + 4) u' v') v v1 v2 v3) u v1 v2 v3 := by
  have I0 := i_up I
  obtain ⟨tr, dd, mv, rd, fd, cl, mk1, ea, eb, ce, pe, st, te, pc, lE, lT, lD, lo⟩ := u
  obtain ⟨ls, yl, cl2, mk2⟩ := v
  obtain ⟨e1, e2, hc, hm, T, LL, hy, hl, hL, hr⟩ : sl_Q rd fd cl mk1 ea eb ce pe lo ls yl cl2 mk2 := I
  subst e1 e2
  unfold wpX_clue wpY_clue
  dsimp only
  by_cases a1 : v1 < 0
  · exact br_t a1 (br_t a1 ⟨rfl, I0⟩)
  refine br_f a1 ?_
  by_cases a2 : 2 < v1
  · exact br_t a2 (br_f a1 (br_t a2 ⟨rfl, I0⟩))
  refine br_f a2 ?_
  by_cases a3 : v2 < 0
  · exact br_t a3 (br_f a1 (br_f a2 (br_t a3 ⟨rfl, I0⟩)))
  refine br_f a3 ?_
  by_cases a4 : v2 ≤ 2
  rotate_left
  · exact br_f a4 (br_f a1 (br_f a2 (br_f a3 (br_f a4 ⟨rfl, I0⟩))))
  refine br_t a4 ?_
  by_cases a5 : v3 < 0
  · exact br_t a5 (br_f a1 (br_f a2 (br_f a3 (br_t a4 (br_t a5 ⟨rfl, I0⟩)))))
  refine br_f a5 ?_
  by_cases a6 : v3 ≤ 5
  rotate_left
  · exact br_f a6 (br_f a1 (br_f a2 (br_f a3 (br_t a4 (br_f a5 (br_f a6 ⟨rfl, I0⟩))))))
  refine br_t a6 ?_
  obtain ⟨r, hr2, rfl⟩ := nI_of2 (M := 2) (n := 2) (by decide) a1 (Int32.not_lt.mp a2)
  obtain ⟨c, hc2, rfl⟩ := nI_of2 (M := 2) (n := 2) (by decide) a3 a4
  obtain ⟨w, hw, rfl⟩ := nI_of2 (M := 5) (n := 5) (by decide) a5 a6
  have ix : nI r * 3 + nI c = nI (r * 3 + c) := by rw [show (3 : Int32) = nI 3 from rfl, pk_mul, nI_add]
  have vi : vp_in (nI r * 3 + nI c) 9 := pk_in (r * 3 + c) 9 (by omega) ix
  refine ⟨vi, nm_e ⟨vi, nm_e (br_f a1 (br_f a2 (br_f a3 (br_t a4 (br_f a5 (br_t a6 ⟨vi, nm_e ⟨vi, nm_e ⟨rfl, ?_⟩⟩⟩))))))⟩⟩
  rw [ix, nI_clamp (by omega)]
  show sl_Q _ _ _ _ _ _ _ _ _ _ _ _ _
  exact ⟨rfl, rfl, sl_clv_u hc hw, hm, T, LL, hy, hl, hL, fun z => absurd rfl z⟩
theorem i_vc_mark {k : Nat} {u : SX} {v : SY} (I : i_Rel k u v) (hk : k + 4 ≤ 2048) (v1 : Int32) (v2 : Int32) : wpX_mark (fun r u' => wpY_mark (fun r' v' => r' = r ∧ i_Rel (k + 4) u' v') v v1 v2) u v1 v2 := by
  have I0 := i_up I
  obtain ⟨tr, dd, mv, rd, fd, cl, mk1, ea, eb, ce, pe, st, te, pc, lE, lT, lD, lo⟩ := u
  obtain ⟨ls, yl, cl2, mk2⟩ := v
  obtain ⟨e1, e2, hc, hm, T, LL, hy, hl, hL, hr⟩ : sl_Q rd fd cl mk1 ea eb ce pe lo ls yl cl2 mk2 := I
  subst e1 e2
  unfold wpX_mark wpY_mark
  dsimp only
  rcases sl_edge v1 with a1 | ⟨a1, a2, a3⟩ | ⟨e, he, rfl⟩
  · exact br_t a1 (br_t a1 ⟨rfl, I0⟩)
  · exact br_f a1 (br_f a2 (br_f a1 (br_f a3 ⟨rfl, I0⟩)))
  have a1 : ¬ nI e < 0 := nI_pos (by omega)
  have a2 : nI e < 24 := nI_lt (a := e) (b := 24) he (by decide)
  have a3 : nI e ≤ 23 := nI_le (a := e) (b := 23) (by omega) (by decide)
  refine br_f a1 (br_t a2 ?_)
  by_cases a5 : v2 < 0
  · exact br_t a5 (br_f a1 (br_t a3 (br_t a5 ⟨rfl, I0⟩)))
  refine br_f a5 ?_
  by_cases a6 : v2 ≤ 2
  rotate_left
  · exact br_f a6 (br_f a1 (br_t a3 (br_f a5 (br_f a6 ⟨rfl, I0⟩))))
  refine br_t a6 ?_
  obtain ⟨w, hw, rfl⟩ := nI_of2 (M := 2) (n := 2) (by decide) a5 a6
  have vi : vp_in (nI e) 24 := pk_in e 24 he
  refine ⟨vi, nm_e ⟨vi, nm_e (br_f a1 (br_t a3 (br_f a5 (br_t a6 ⟨vi, nm_e ⟨vi, nm_e ⟨rfl, ?_⟩⟩⟩))))⟩⟩
  rw [nI_clamp (by omega)]
  show sl_Q _ _ _ _ _ _ _ _ _ _ _ _ _
  exact ⟨rfl, rfl, hc, sl_val_u hm hw, T, LL, hy, hl, hL, fun z => absurd rfl z⟩
theorem i_vc_clear {k : Nat} {u : SX} {v : SY} (I : i_Rel k u v) (hk : k + 4 ≤ 2048) : wpX_clear (fun u' => wpY_clear (fun v' => i_Rel (k + 4) u' v') v) u := by
  obtain ⟨tr, dd, mv, rd, fd, cl, mk1, ea, eb, ce, pe, st, te, pc, lE, lT, lD, lo⟩ := u
  obtain ⟨ls, yl, cl2, mk2⟩ := v
  obtain ⟨e1, e2, hc, hm, T, LL, hy, hl, hL, hr⟩ : sl_Q rd fd cl mk1 ea eb ce pe lo ls yl cl2 mk2 := I
  subst e1 e2
  refine xcl_W (ycl_W ?_)
  show sl_Q _ _ _ _ _ _ _ _ _ _ _ _ _
  exact ⟨rfl, rfl, sl_clv_f _, sl_val_f _, T, LL, hy, hl, hL, fun z => absurd rfl z⟩
theorem i_vc_solutions {k : Nat} {u : SX} {v : SY} (I : i_Rel k u v) (hk : k + 4 ≤ 2048) : wpX_solutions (fun r u' => wpY_solutions (fun r' => r' = r ∧ i_Rel (k + 4) u' v) v) u := by
  obtain ⟨tr, dd, mv, rd, fd, cl, mk1, ea, eb, ce, pe, st, te, pc, lE, lT, lD, lo⟩ := u
  obtain ⟨ls, yl, cl2, mk2⟩ := v
  obtain ⟨e1, e2, hc, hm, T, LL, hy, hl, hL, hr⟩ : sl_Q rd fd cl mk1 ea eb ce pe lo ls yl cl2 mk2 := I
  subst e1 e2
  unfold wpX_solutions
  dsimp only
  refine xt_prepare T hc hm hl hL hy.2.1 hr (fun tr dd mv rd st te pc lE lT lD lo hr' hF => ?_)
  dsimp only
  refine yq_solsW hy ⟨rfl, ?_⟩
  show sl_Q _ _ _ _ _ _ _ _ _ _ _ _ _
  exact ⟨rfl, rfl, hc, hm, T, LL, hy, hl, hL, fun _ => ⟨rfl, hF⟩⟩
theorem i_vc_votes {k : Nat} {u : SX} {v : SY} (I : i_Rel k u v) (hk : k + 4 ≤ 2048) (v1 : Int32) : wpX_votes (fun r u' => wpY_votes (fun r' => r' = r ∧ i_Rel (k + 4) u' v) v v1) u v1 := by
  have I0 := i_up I
  obtain ⟨tr, dd, mv, rd, fd, cl, mk1, ea, eb, ce, pe, st, te, pc, lE, lT, lD, lo⟩ := u
  obtain ⟨ls, yl, cl2, mk2⟩ := v
  obtain ⟨e1, e2, hc, hm, T, LL, hy, hl, hL, hr⟩ : sl_Q rd fd cl mk1 ea eb ce pe lo ls yl cl2 mk2 := I
  subst e1 e2
  unfold wpX_votes
  dsimp only
  rcases sl_edge v1 with a1 | ⟨a1, a2, a3⟩ | ⟨e, he, rfl⟩
  · refine br_t a1 ?_
    unfold wpY_votes
    exact br_t a1 ⟨rfl, I0⟩
  · refine br_f a1 (br_f a2 ?_)
    unfold wpY_votes
    exact br_f a1 (br_f a3 ⟨rfl, I0⟩)
  have l : (sl_sols cl2 LL mk2).length < 256 := Nat.lt_of_le_of_lt (List.length_filter_le _ _) hy.2.1
  refine br_f (nI_pos (by omega)) (br_t (nI_lt (a := e) (b := 24) he (by decide)) ?_)
  refine xt_prepare T hc hm hl hL hy.2.1 hr (fun tr dd mv rd st te pc lE lT lD lo hr' hF => ?_)
  dsimp only
  refine ⟨(sl_sols cl2 LL mk2).length + 1, xq_votes he l hF ?_ (sl_sols cl2 LL mk2) [] rfl⟩
  refine yq_votesW he hy ⟨rfl, ?_⟩
  show sl_Q _ _ _ _ _ _ _ _ _ _ _ _ _
  exact ⟨rfl, rfl, hc, hm, T, LL, hy, hl, hL, fun _ => ⟨rfl, hF⟩⟩
theorem i_vc_chosen {k : Nat} {u : SX} {v : SY} (I : i_Rel k u v) (hk : k + 4 ≤ 2048) (v1 : Int32) (v2 : Int32) : wpX_chosen (fun r u' => wpY_chosen (fun r' => r' = r ∧ i_Rel (k + 4) u' v) v v1 v2) u v1 v2 := by
  have I0 := i_up I
  obtain ⟨tr, dd, mv, rd, fd, cl, mk1, ea, eb, ce, pe, st, te, pc, lE, lT, lD, lo⟩ := u
  obtain ⟨ls, yl, cl2, mk2⟩ := v
  obtain ⟨e1, e2, hc, hm, T, LL, hy, hl, hL, hr⟩ : sl_Q rd fd cl mk1 ea eb ce pe lo ls yl cl2 mk2 := I
  subst e1 e2
  unfold wpX_chosen
  dsimp only
  rcases sl_edge v2 with a1 | ⟨a1, a2, a3⟩ | ⟨e, he, rfl⟩
  · refine br_t a1 ?_
    unfold wpY_chosen
    exact br_t a1 ⟨rfl, I0⟩
  · refine br_f a1 (br_f a2 ?_)
    unfold wpY_chosen
    exact br_f a1 (br_f a3 ⟨rfl, I0⟩)
  have l : (sl_sols cl2 LL mk2).length < 256 := Nat.lt_of_le_of_lt (List.length_filter_le _ _) hy.2.1
  refine br_f (nI_pos (by omega)) (br_t (nI_lt (a := e) (b := 24) he (by decide)) ?_)
  refine xt_prepare T hc hm hl hL hy.2.1 hr (fun tr dd mv rd st te pc lE lT lD lo hr' hF => ?_)
  have J : i_Rel (k + 4) (tr, dd, mv, rd, nI (sl_sols cl2 LL mk2).length, cl2, mk2, ea, eb, ce, pe, st, te, pc, lE, lT, lD, lo) (ls, yl, cl2, mk2) := by
    show sl_Q _ _ _ _ _ _ _ _ _ _ _ _ _
    exact ⟨rfl, rfl, hc, hm, T, LL, hy, hl, hL, fun _ => ⟨rfl, hF⟩⟩
  dsimp only
  unfold wpY_chosen
  dsimp only
  have b1 : ¬ nI e < 0 := nI_pos (by omega)
  have b2 : nI e ≤ 23 := nI_le (a := e) (b := 23) (by omega) (by decide)
  rcases sl_pick v1 l with ⟨j, hj, rfl⟩ | ⟨hx, hn⟩
  · have cs : (nI j).toNatClampNeg = j := nI_clamp (by omega)
    have q : ((lo (nI j).toNatClampNeg) >>> (nI e &&& 31)) &&& 1 = nI (sl_hs ((sl_sols cl2 LL mk2).getD j 0) e).toNat := by
      rw [cs, sl_xbit _ (by omega), hF j hj e he]
    refine br_f (nI_pos (by omega)) (br_f (nI_ge hj (by omega)) ⟨pk_in j 256 (by omega), ?_⟩)
    rw [q]
    cases c : sl_hs ((sl_sols cl2 LL mk2).getD j 0) e with
    | true => exact br_t rfl (br_f b1 (br_t b2 (yq_pick hy rfl hj (yh_has he (fun _ => ⟨narrow_b1, rfl, J⟩) (fun z => by rw [c] at z; exact absurd z (by decide))))))
    | false => exact br_f (by decide) (br_f b1 (br_t b2 (yq_pick hy rfl hj (yh_has he (fun z => by rw [c] at z; exact absurd z (by decide)) (fun _ => ⟨narrow_b0, rfl, J⟩)))))
  · have fin : wpY_solution (fun r_3 => wpY_has (fun r_8 => narrow .boolean (.int r_8) = .int r_8 ∧ (r_8 = 0 ∧ i_Rel (k + 4) (tr, dd, mv, rd, nI (sl_sols cl2 LL mk2).length, cl2, mk2, ea, eb, ce, pe, st, te, pc, lE, lT, lD, lo) (ls, yl, cl2, mk2))) (ls, yl, cl2, mk2) r_3 (nI e)) (ls, yl, cl2, mk2) v1 :=
      yq_none hy hn (yh_has (m := 0) he (fun z => by rw [sl_hs0] at z; exact absurd z (by decide)) (fun _ => ⟨narrow_b0, rfl, J⟩))
    rcases hx with z | ⟨z1, z2⟩
    · exact br_t z (br_f b1 (br_t b2 fin))
    · exact br_f z1 (br_t z2 (br_f b1 (br_t b2 fin)))
theorem i_vc_length {k : Nat} {u : SX} {v : SY} (I : i_Rel k u v) (hk : k + 4 ≤ 2048) (v1 : Int32) : wpX_length (fun r u' => wpY_length (fun r' => r' = r ∧ i_Rel (k + 4) u' v) v v1) u v1 := by
  obtain ⟨tr, dd, mv, rd, fd, cl, mk1, ea, eb, ce, pe, st, te, pc, lE, lT, lD, lo⟩ := u
  obtain ⟨ls, yl, cl2, mk2⟩ := v
  obtain ⟨e1, e2, hc, hm, T, LL, hy, hl, hL, hr⟩ : sl_Q rd fd cl mk1 ea eb ce pe lo ls yl cl2 mk2 := I
  subst e1 e2
  unfold wpX_length
  dsimp only
  have l : (sl_sols cl2 LL mk2).length < 256 := Nat.lt_of_le_of_lt (List.length_filter_le _ _) hy.2.1
  refine xt_prepare T hc hm hl hL hy.2.1 hr (fun tr dd mv rd st te pc lE lT lD lo hr' hF => ?_)
  have J : i_Rel (k + 4) (tr, dd, mv, rd, nI (sl_sols cl2 LL mk2).length, cl2, mk2, ea, eb, ce, pe, st, te, pc, lE, lT, lD, lo) (ls, yl, cl2, mk2) := by
    show sl_Q _ _ _ _ _ _ _ _ _ _ _ _ _
    exact ⟨rfl, rfl, hc, hm, T, LL, hy, hl, hL, fun _ => ⟨rfl, hF⟩⟩
  dsimp only
  unfold wpY_length
  dsimp only
  rcases sl_pick v1 l with ⟨j, hj, rfl⟩ | ⟨hx, hn⟩
  · have ec : sl_ct (bt (lo (nI j).toNatClampNeg)) 24 = sl_ct (sl_hs ((sl_sols cl2 LL mk2).getD j 0)) 24 := by
      rw [nI_clamp (by omega)]
      exact sl_ct_c 24 (fun e he => hF j hj e he)
    refine br_f (nI_pos (by omega)) (br_t (nI_lt hj (by omega)) ⟨pk_in j 256 (by omega), xq_onesW ?_⟩)
    rw [ec]
    exact yq_pick hy rfl hj (yq_edgesW ⟨rfl, J⟩)
  · have fin : wpY_solution (fun r_1 => wpY_edges (fun r_6 => r_6 = 0 ∧ i_Rel (k + 4) (tr, dd, mv, rd, nI (sl_sols cl2 LL mk2).length, cl2, mk2, ea, eb, ce, pe, st, te, pc, lE, lT, lD, lo) (ls, yl, cl2, mk2)) (ls, yl, cl2, mk2) r_1) (ls, yl, cl2, mk2) v1 :=
      yq_none hy hn (yq_edgesW (m := 0) ⟨by rw [sl_ct0]; rfl, J⟩)
    rcases hx with z | ⟨z1, z2⟩
    · exact br_t z fin
    · exact br_f z1 (br_f (Int32.not_lt.mpr z2) fin)
theorem i_vc_inside {k : Nat} {u : SX} {v : SY} (I : i_Rel k u v) (hk : k + 4 ≤ 2048) (v1 : Int32) : wpX_inside (fun r u' => wpY_inside (fun r' => r' = r ∧ i_Rel (k + 4) u' v) v v1) u v1 := by
  obtain ⟨tr, dd, mv, rd, fd, cl, mk1, ea, eb, ce, pe, st, te, pc, lE, lT, lD, lo⟩ := u
  obtain ⟨ls, yl, cl2, mk2⟩ := v
  obtain ⟨e1, e2, hc, hm, T, LL, hy, hl, hL, hr⟩ : sl_Q rd fd cl mk1 ea eb ce pe lo ls yl cl2 mk2 := I
  subst e1 e2
  unfold wpX_inside
  dsimp only
  have l : (sl_sols cl2 LL mk2).length < 256 := Nat.lt_of_le_of_lt (List.length_filter_le _ _) hy.2.1
  refine xt_prepare T hc hm hl hL hy.2.1 hr (fun tr dd mv rd st te pc lE lT lD lo hr' hF => ?_)
  have J : i_Rel (k + 4) (tr, dd, mv, rd, nI (sl_sols cl2 LL mk2).length, cl2, mk2, ea, eb, ce, pe, st, te, pc, lE, lT, lD, lo) (ls, yl, cl2, mk2) := by
    show sl_Q _ _ _ _ _ _ _ _ _ _ _ _ _
    exact ⟨rfl, rfl, hc, hm, T, LL, hy, hl, hL, fun _ => ⟨rfl, hF⟩⟩
  dsimp only
  unfold wpY_inside
  dsimp only
  rcases sl_pick v1 l with ⟨j, hj, rfl⟩ | ⟨hx, hn⟩
  · refine br_f (nI_pos (by omega)) (br_t (nI_lt hj (by omega)) ⟨4, xq_in22 (C := sl_hs ((sl_sols cl2 LL mk2).getD j 0)) (by omega) (fun e he => hF j hj e he) ?_ 3 0 rfl⟩)
    exact yq_pick hy rfl hj ⟨10, yq_in11 ⟨rfl, J⟩ 9 0 rfl⟩
  · have fin : wpY_solution (fun r_1 => ∃ n11 : Nat, wY_inside_11 (fun r_6 => r_6 = 0 ∧ i_Rel (k + 4) (tr, dd, mv, rd, nI (sl_sols cl2 LL mk2).length, cl2, mk2, ea, eb, ce, pe, st, te, pc, lE, lT, lD, lo) (ls, yl, cl2, mk2)) r_1 ls yl cl2 mk2 n11 0 0) (ls, yl, cl2, mk2) v1 :=
      yq_none hy hn ⟨10, yq_in11 (m := 0) ⟨by rw [sl_in0]; rfl, J⟩ 9 0 rfl⟩
    rcases hx with z | ⟨z1, z2⟩
    · exact br_t z fin
    · exact br_f z1 (br_f (Int32.not_lt.mpr z2) fin)
theorem i_vc_decided {k : Nat} {u : SX} {v : SY} (I : i_Rel k u v) (hk : k + 4 ≤ 2048) : wpX_decided (fun r u' => wpY_decided (fun r' => r' = r ∧ i_Rel (k + 4) u' v) v) u := by
  obtain ⟨tr, dd, mv, rd, fd, cl, mk1, ea, eb, ce, pe, st, te, pc, lE, lT, lD, lo⟩ := u
  obtain ⟨ls, yl, cl2, mk2⟩ := v
  obtain ⟨e1, e2, hc, hm, T, LL, hy, hl, hL, hr⟩ : sl_Q rd fd cl mk1 ea eb ce pe lo ls yl cl2 mk2 := I
  subst e1 e2
  unfold wpX_decided
  dsimp only
  have l : (sl_sols cl2 LL mk2).length < 256 := Nat.lt_of_le_of_lt (List.length_filter_le _ _) hy.2.1
  refine xt_prepare T hc hm hl hL hy.2.1 hr (fun tr dd mv rd st te pc lE lT lD lo hr' hF => ?_)
  have J : i_Rel (k + 4) (tr, dd, mv, rd, nI (sl_sols cl2 LL mk2).length, cl2, mk2, ea, eb, ce, pe, st, te, pc, lE, lT, lD, lo) (ls, yl, cl2, mk2) := by
    show sl_Q _ _ _ _ _ _ _ _ _ _ _ _ _
    exact ⟨rfl, rfl, hc, hm, T, LL, hy, hl, hL, fun _ => ⟨rfl, hF⟩⟩
  dsimp only
  refine pk_eq (sl_sols cl2 LL mk2).length 0 (fun a => ?_) (fun a => ?_)
  · refine yq_decW hy ⟨?_, J⟩
    have q : sl_ct (sl_dd (sl_sols cl2 LL mk2)) 24 = sl_ct (fun _ => false) 24 := sl_ct_c 24 (fun e _ => by unfold sl_dd; rw [decide_eq_false (by omega), Bool.false_and])
    rw [q]
    decide
  · refine ⟨(sl_sols cl2 LL mk2).length + 1, xq_dec l hF ?_ (sl_sols cl2 LL mk2) [] rfl (-1) 0 (fun e he => b_m1 e (by omega)) (fun e _ => b_0 e)⟩
    refine yq_decW hy ⟨?_, J⟩
    have q := sl_dec_eq (Z := sl_sols cl2 LL mk2) (by omega) 24
    exact congrArg nI (by omega)
theorem i_vc_shortest {k : Nat} {u : SX} {v : SY} (I : i_Rel k u v) (hk : k + 4 ≤ 2048) : wpX_shortest (fun r u' => wpY_shortest (fun r' => r' = r ∧ i_Rel (k + 4) u' v) v) u := by
  obtain ⟨tr, dd, mv, rd, fd, cl, mk1, ea, eb, ce, pe, st, te, pc, lE, lT, lD, lo⟩ := u
  obtain ⟨ls, yl, cl2, mk2⟩ := v
  obtain ⟨e1, e2, hc, hm, T, LL, hy, hl, hL, hr⟩ : sl_Q rd fd cl mk1 ea eb ce pe lo ls yl cl2 mk2 := I
  subst e1 e2
  unfold wpX_shortest
  dsimp only
  have l : (sl_sols cl2 LL mk2).length < 256 := Nat.lt_of_le_of_lt (List.length_filter_le _ _) hy.2.1
  refine xt_prepare T hc hm hl hL hy.2.1 hr (fun tr dd mv rd st te pc lE lT lD lo hr' hF => ?_)
  have J : i_Rel (k + 4) (tr, dd, mv, rd, nI (sl_sols cl2 LL mk2).length, cl2, mk2, ea, eb, ce, pe, st, te, pc, lE, lT, lD, lo) (ls, yl, cl2, mk2) := by
    show sl_Q _ _ _ _ _ _ _ _ _ _ _ _ _
    exact ⟨rfl, rfl, hc, hm, T, LL, hy, hl, hL, fun _ => ⟨rfl, hF⟩⟩
  dsimp only
  exact ⟨(sl_sols cl2 LL mk2).length + 1, xq_short l hF (yq_shortW hy ⟨rfl, J⟩) (sl_sols cl2 LL mk2) [] rfl⟩
end
