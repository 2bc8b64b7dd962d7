section
/-! ===== bits of longs ===== -/
theorem ts_bit {w : Int64} {s : UInt64} {j : Nat} (hj : j < 64) (hs : s.toNat = j) : ((w.toUInt64 >>> s).toInt64 &&& 1) = 0 ↔ w.toBitVec.getLsbD j = false := by
  have e : (w.toUInt64 >>> s).toInt64.toBitVec = w.toBitVec >>> j := by
    apply BitVec.eq_of_toNat_eq
    show (w.toUInt64 >>> s).toNat = _
    rw [UInt64.toNat_shiftRight, hs, Nat.mod_eq_of_lt hj, BitVec.toNat_ushiftRight]
    rfl
  rw [← Int64.toBitVec_inj, Int64.toBitVec_and, e]
  show w.toBitVec >>> j &&& 1#64 = 0#64 ↔ _
  constructor
  · intro h
    have t := congrArg (fun x => x.getLsbD 0) h
    simpa using t
  · intro h
    apply BitVec.eq_of_getLsbD_eq
    intro i hi
    cases i with
    | zero => simp [h]
    | succ i => simp
def nj_t (w : Int64) (d : Nat) : Bool := w.toBitVec.getLsbD d
theorem nj_t_and (a b : Int64) (d : Nat) : nj_t (a &&& b) d = (nj_t a d && nj_t b d) := by
  unfold nj_t
  rw [Int64.toBitVec_and, BitVec.getLsbD_and]
theorem nj_t_or (a b : Int64) (d : Nat) : nj_t (a ||| b) d = (nj_t a d || nj_t b d) := by
  unfold nj_t
  rw [Int64.toBitVec_or, BitVec.getLsbD_or]
theorem nj_t_0 (d : Nat) : nj_t 0 d = false := BitVec.getLsbD_zero
theorem nj_t_m1 (d : Nat) : nj_t (-1) d = decide (d < 64) := by
  unfold nj_t
  rw [show (-1 : Int64).toBitVec = BitVec.allOnes 64 by decide, BitVec.getLsbD_allOnes]
theorem nj_t_big (w : Int64) {d : Nat} (h : 64 ≤ d) : nj_t w d = false := BitVec.getLsbD_of_ge _ _ h
theorem nj_obv : ∀ l, l < 64 → ((1 : Int64) <<< ((nI l).toInt64 &&& 63)).toBitVec = BitVec.twoPow 64 l := by decide +kernel
theorem nj_t_one {k : Nat} (hk : k < 64) (d : Nat) : nj_t ((1 : Int64) <<< ((nI k).toInt64 &&& 63)) d = decide (d = k) := by
  unfold nj_t
  rw [nj_obv k hk, BitVec.getLsbD_twoPow]
  by_cases e : d = k
  · subst e; simp [hk]
  · simp [e, show ¬ k = d from fun z => e z.symm]
theorem nj_t_z {w : Int64} : w = 0 ↔ ∀ d, nj_t w d = false := by
  constructor
  · intro h d; rw [h, nj_t_0]
  · intro h
    apply Int64.toBitVec_inj.mp
    apply BitVec.eq_of_getLsbD_eq
    intro i _
    exact (h i).trans (nj_t_0 i).symm
theorem nj_cnt : ∀ j, j < 64 → ((nI j &&& 63).toInt64.toUInt64 &&& Int64.toUInt64 63).toNat = j := by decide +kernel
theorem nj_inW {post : Int32 → Prop} {d : Nat} {a b c : Int64} (hd : d < 64) (h1 : nj_t a d = true → post 1) (h0 : nj_t a d = false → post 0) : wpX_inWords post () (nI d) a b c := by
  refine br_f (nI_ge (b := 64) hd (by decide)) ?_
  have e := ts_bit (w := a) hd (nj_cnt d hd)
  refine br_c (fun z => h0 (e.mp z)) (fun z => h1 ?_)
  cases h : nj_t a d
  · exact absurd (e.mpr h) z
  · rfl
/-! ===== ones ===== -/
def nj_o1 (x : Int64) : Int64 := x - (((x.toUInt64 >>> ((1 : Int32).toInt64.toUInt64 &&& Int64.toUInt64 63)).toInt64) &&& 6148914691236517205)
def nj_o2 (x : Int64) : Int64 := (x &&& 3689348814741910323) + (((x.toUInt64 >>> ((2 : Int32).toInt64.toUInt64 &&& Int64.toUInt64 63)).toInt64) &&& 3689348814741910323)
def nj_o3 (x : Int64) : Int64 := (x + ((x.toUInt64 >>> ((4 : Int32).toInt64.toUInt64 &&& Int64.toUInt64 63)).toInt64)) &&& 1085102592571150095
def nj_on (x : Int64) : Int32 := (((nj_o3 (nj_o2 (nj_o1 x)) * 72340172838076673).toUInt64 >>> ((56 : Int32).toInt64.toUInt64 &&& Int64.toUInt64 63)).toInt64).toInt32
theorem nj_ones {post : Int32 → Prop} {x : Int64} (h : post (nj_on x)) : wpX_ones post () x := by
  intro x1 e1 x2 e2 x3 e3
  subst e1 e2 e3
  exact h
theorem nj_on0 : nj_on 0 = 0 := by decide +kernel
theorem nj_on1 : nj_on 1 = 1 := by decide +kernel
/-! ===== small ints ===== -/
theorem nj_bit : ∀ s, s < 64 → ∀ p, p < 6 → (((nI s >>> (nI p &&& 31)) &&& 1) = 0 ↔ s.testBit p = false) := by decide +kernel
/-- s without P -/
def nj_di (s P : Nat) : Nat := s ^^^ (s &&& P)
theorem nj_dif : ∀ s, s < 64 → ∀ P, P < 64 → (nI s &&& (nI P ^^^ (-1)) = nI (nj_di s P) ∧ nj_di s P < 64) := by decide +kernel
theorem nj_di_t (s P p : Nat) : (nj_di s P).testBit p = (s.testBit p && !P.testBit p) := by
  unfold nj_di
  rw [Nat.testBit_xor, Nat.testBit_and]
  cases s.testBit p <;> cases P.testBit p <;> rfl
theorem nj_and (a b : Nat) : nI a &&& nI b = nI (a &&& b) := by
  apply Int32.toBitVec_inj.1
  show BitVec.ofNat 32 a &&& BitVec.ofNat 32 b = BitVec.ofNat 32 (a &&& b)
  apply BitVec.eq_of_getLsbD_eq
  intro i hi
  simp [hi]
theorem nj_or (a b : Nat) : nI a ||| nI b = nI (a ||| b) := by
  apply Int32.toBitVec_inj.1
  show BitVec.ofNat 32 a ||| BitVec.ofNat 32 b = BitVec.ofNat 32 (a ||| b)
  apply BitVec.eq_of_getLsbD_eq
  intro i hi
  simp [hi]
/-- the marking behind a firing -/
def nj_nx (m P Q : Nat) : Nat := nj_di m P ||| Q
theorem nj_nx_t (m P Q p : Nat) : (nj_nx m P Q).testBit p = ((m.testBit p && !P.testBit p) || Q.testBit p) := by
  unfold nj_nx
  rw [Nat.testBit_or, nj_di_t]
theorem nj_nx_lt {m P Q : Nat} (hm : m < 64) (hP : P < 64) (hQ : Q < 64) : nj_nx m P Q < 64 := Nat.or_lt_two_pow (n := 6) (nj_dif m hm P hP).2 hQ
theorem nj_nxI {m P Q : Nat} (hm : m < 64) (hP : P < 64) : (nI m &&& (nI P ^^^ (-1))) ||| nI Q = nI (nj_nx m P Q) := by
  rw [(nj_dif m hm P hP).1, nj_or]
  rfl
theorem nj_ext {a b : Nat} (ha : a < 64) (hb : b < 64) (h : ∀ p, p < 6 → a.testBit p = b.testBit p) : a = b := by
  apply Nat.eq_of_testBit_eq
  intro i
  rcases Nat.lt_or_ge i 6 with hi | hi
  · exact h i hi
  · have : 2 ^ 6 ≤ 2 ^ i := Nat.pow_le_pow_right (by decide) hi
    rw [Nat.testBit_lt_two_pow (by omega), Nat.testBit_lt_two_pow (by omega)]
theorem nj_z64 {a : Nat} (ha : a < 64) : a = 0 ↔ ∀ p, p < 6 → a.testBit p = false := by
  constructor
  · intro h p _
    rw [h, Nat.zero_testBit]
  · intro h
    exact nj_ext ha (by omega) (fun p hp => by rw [h p hp, Nat.zero_testBit])
/-- P is held by x -/
theorem nj_rdyI {P x : Nat} (hP : P < 64) (hx : x < 64) : nI P &&& (nI x ^^^ (-1)) = 0 ↔ ∀ p, p < 6 → P.testBit p = true → x.testBit p = true := by
  obtain ⟨e, hl⟩ := nj_dif P hP x hx
  rw [e, ← nI_0, nI_eq (by omega) (by omega), nj_z64 hl]
  constructor
  · intro h p hp h1
    have := h p hp
    rw [nj_di_t, h1] at this
    revert this
    cases x.testBit p <;> simp
  · intro h p hp
    rw [nj_di_t]
    have := h p hp
    revert this
    cases P.testBit p <;> cases x.testBit p <;> simp
theorem nj_clrI {P Q x : Nat} (hP : P < 64) (hQ : Q < 64) (hx : x < 64) : (nI Q &&& (nI P ^^^ (-1))) &&& nI x = 0 ↔ ∀ p, p < 6 → Q.testBit p = true → x.testBit p = true → P.testBit p = true := by
  obtain ⟨e, hl⟩ := nj_dif Q hQ P hP
  have hl2 : nj_di Q P &&& x < 64 := Nat.and_lt_two_pow (n := 6) _ hx
  rw [e, nj_and, ← nI_0, nI_eq (by omega) (by omega), nj_z64 hl2]
  constructor
  · intro h p hp h1 h2
    have := h p hp
    rw [Nat.testBit_and, nj_di_t, h1, h2] at this
    revert this
    cases P.testBit p <;> simp
  · intro h p hp
    rw [Nat.testBit_and, nj_di_t]
    have := h p hp
    revert this
    cases P.testBit p <;> cases Q.testBit p <;> cases x.testBit p <;> simp
end
section
/-! ===== spread ===== -/
def nj_sp (x : Int32) : Nat → Int64
  | 0 => 0
  | i + 1 => if ((x >>> (nI i &&& 31)) &&& 1) = 0 then nj_sp x i else nj_sp x i ||| ((1 : Int64) <<< ((8 * nI i).toInt64 &&& 63))
theorem nj_spread {post : Int64 → Prop} {x : Int32} (h : post (nj_sp x 6)) : wpX_spread post () x :=
  pk_loop (fun n i s => wX_spread_4 post x n s (nI i)) (fun i s => s = nj_sp x i) 6 0 0 (by omega) rfl
    (fun n s hs => br_t (by decide) (by subst hs; exact h))
    (fun n i s hi hs hw => br_f (nI_ge (b := 6) hi (by decide)) (br_c (fun z => nm_r (nI_1 i) (hw _ (by subst hs; exact (if_pos z).symm))) (fun z => nm_e (nm_r (nI_1 i) (hw _ (by subst hs; exact (if_neg z).symm))))))
/-- six tokens' counts as bytes -/
def nj_sn (s : Nat) : Nat := s / 1 % 2 + 256 * (s / 2 % 2) + 65536 * (s / 4 % 2) + 16777216 * (s / 8 % 2) + 4294967296 * (s / 16 % 2) + 1099511627776 * (s / 32 % 2)
theorem nj_spv : ∀ s, s < 64 → nj_sp (nI s) 6 = lN (nj_sn s) := by decide +kernel
/-! ===== the marking of counted tokens ===== -/
def nj_mk (x : Int64) : Nat → Int32
  | 0 => 0
  | i + 1 => if ((x >>> ((8 * nI i).toInt64 &&& 63)) &&& 255) = 0 then nj_mk x i else nj_mk x i ||| ((1 : Int32) <<< (nI i &&& 31))
def nj_mn (d : Nat → Nat) : Nat → Nat
  | 0 => 0
  | i + 1 => if d i = 0 then nj_mn d i else nj_mn d i ||| 2 ^ i
theorem nj_mn_t (d : Nat → Nat) (p : Nat) : ∀ i, (nj_mn d i).testBit p = (decide (p < i) && decide (d p ≠ 0))
  | 0 => by simp [nj_mn]
  | i + 1 => by
    have ih := nj_mn_t d p i
    unfold nj_mn
    by_cases e : p = i
    · subst e
      by_cases h : d p = 0
      · rw [if_pos h, ih]; simp [h]
      · rw [if_neg h, Nat.testBit_or, ih, Nat.testBit_two_pow]; simp [h]
    · have e1 : decide (p < i + 1) = decide (p < i) := by
        by_cases q : p < i
        · simp [q, show p < i + 1 by omega]
        · simp [q, show ¬ p < i + 1 by omega]
      by_cases h : d i = 0
      · rw [if_pos h, ih, e1]
      · rw [if_neg h, Nat.testBit_or, ih, Nat.testBit_two_pow, e1]
        simp [show ¬ i = p from fun z => e z.symm]
theorem nj_mn_lt (d : Nat → Nat) : ∀ i, nj_mn d i < 2 ^ i
  | 0 => by simp [nj_mn]
  | i + 1 => by
    have ih := nj_mn_lt d i
    have h2 : 2 ^ i < 2 ^ (i + 1) := Nat.pow_lt_pow_right (by decide) (by omega)
    unfold nj_mn
    by_cases h : d i = 0
    · rw [if_pos h]; omega
    · rw [if_neg h]
      exact Nat.or_lt_two_pow (by omega) h2
theorem nj_orp : ∀ i, i < 6 → ∀ r, r < 64 → nI r ||| ((1 : Int32) <<< (nI i &&& 31)) = nI (r ||| 2 ^ i) := by decide +kernel
theorem nj_sh8 : ∀ i, i < 6 → (((8 * nI i).toInt64 &&& 63).toBitVec.smod 64).toNat = 8 * i := by decide +kernel
theorem nj_shr {a d : Nat} {D : Int64} (hD : (D.toBitVec.smod 64).toNat = d) (h : a < 2 ^ 62) : lN a >>> D = lN (a / 2 ^ d) := by
  have hd : a / 2 ^ d ≤ a := Nat.div_le_self _ _
  apply Int64.toInt_inj.mp
  have e : (lN a >>> D).toInt = (lN a).toInt >>> d := by
    rw [← hD]
    exact BitVec.toInt_sshiftRight ..
  rw [e, Int.shiftRight_eq_div_pow, pk_lT (by omega), pk_lT (by omega)]
  rfl
theorem nj_m255 {a : Nat} (ha : a < 2 ^ 62) : lN a &&& 255 = lN (a % 256) := by
  show lN a &&& lN 255 = lN (a % 256)
  apply Int64.toBitVec_inj.mp
  rw [Int64.toBitVec_and]
  show BitVec.ofNat 64 a &&& BitVec.ofNat 64 255 = BitVec.ofNat 64 (a % 256)
  apply BitVec.eq_of_toNat_eq
  rw [BitVec.toNat_and, BitVec.toNat_ofNat, BitVec.toNat_ofNat, BitVec.toNat_ofNat, Nat.mod_eq_of_lt (show a < 2 ^ 64 by omega), Nat.mod_eq_of_lt (show 255 < 2 ^ 64 by omega), Nat.mod_eq_of_lt (show a % 256 < 2 ^ 64 by omega)]
  exact Nat.and_two_pow_sub_one_eq_mod a 8
theorem nj_mkc {D i : Nat} (hD : D < 2 ^ 62) (hi : i < 6) : ((lN D >>> ((8 * nI i).toInt64 &&& 63)) &&& 255) = 0 ↔ D / 2 ^ (8 * i) % 256 = 0 := by
  have hd : D / 2 ^ (8 * i) ≤ D := Nat.div_le_self _ _
  rw [nj_shr (nj_sh8 i hi) hD, nj_m255 (by omega)]
  show lN _ = lN 0 ↔ _
  generalize D / 2 ^ (8 * i) = z
  rw [lN_eq (by omega) (by omega)]
theorem nj_mkn {D : Nat} {d : Nat → Nat} (hD : D < 2 ^ 62) : ∀ i, i ≤ 6 → (∀ p, p < i → D / 2 ^ (8 * p) % 256 = d p) → nj_mk (lN D) i = nI (nj_mn d i)
  | 0, _, _ => rfl
  | i + 1, hi, h => by
    have ih := nj_mkn hD i (by omega) (fun p hp => h p (by omega))
    have hl := nj_mn_lt d i
    have h6 : 2 ^ i ≤ 2 ^ 6 := Nat.pow_le_pow_right (by decide) (by omega)
    unfold nj_mk nj_mn
    by_cases e : d i = 0
    · rw [if_pos ((nj_mkc hD (by omega)).mpr ((h i (by omega)).trans e)), if_pos e, ih]
    · rw [if_neg (fun z => e ((h i (by omega)).symm.trans ((nj_mkc hD (by omega)).mp z))), if_neg e, ih, nj_orp i (by omega) _ (by omega)]
theorem nj_dig {d0 d1 d2 d3 d4 d5 D : Nat} (h0 : d0 < 4) (h1 : d1 < 4) (h2 : d2 < 4) (h3 : d3 < 4) (h4 : d4 < 4) (h5 : d5 < 4)
    (e : D = d0 + 256 * d1 + 65536 * d2 + 16777216 * d3 + 4294967296 * d4 + 1099511627776 * d5) :
    D < 2 ^ 62 ∧ D % 256 = d0 ∧ D / 256 % 256 = d1 ∧ D / 65536 % 256 = d2 ∧ D / 16777216 % 256 = d3 ∧ D / 4294967296 % 256 = d4 ∧ D / 1099511627776 % 256 = d5 := by
  refine ⟨by omega, by omega, by omega, by omega, by omega, by omega, by omega⟩
theorem nj_lin {c m0 m1 m2 m3 m4 m5 y0 y1 y2 y3 y4 y5 x0 x1 x2 x3 x4 x5 d0 d1 d2 d3 d4 d5 : Nat} (hc : c = 1 ∨ c = 2) (k0 : m0 + c * y0 = c * x0 + d0) (k1 : m1 + c * y1 = c * x1 + d1) (k2 : m2 + c * y2 = c * x2 + d2) (k3 : m3 + c * y3 = c * x3 + d3) (k4 : m4 + c * y4 = c * x4 + d4) (k5 : m5 + c * y5 = c * x5 + d5) :
    m0 + 256 * m1 + 65536 * m2 + 16777216 * m3 + 4294967296 * m4 + 1099511627776 * m5 + c * (y0 + 256 * y1 + 65536 * y2 + 16777216 * y3 + 4294967296 * y4 + 1099511627776 * y5) =
    c * (x0 + 256 * x1 + 65536 * x2 + 16777216 * x3 + 4294967296 * x4 + 1099511627776 * x5) + (d0 + 256 * d1 + 65536 * d2 + 16777216 * d3 + 4294967296 * d4 + 1099511627776 * d5) := by
  rcases hc with rfl | rfl
  · omega
  · omega
/-- the count at a place -/
def nj_dg (m P Q c p : Nat) : Nat := m / 2 ^ p % 2 + c * (Q / 2 ^ p % 2) - c * (P / 2 ^ p % 2)
theorem nj_dg4 {m P Q c : Nat} (hc : c = 1 ∨ c = 2) (p : Nat) : nj_dg m P Q c p < 4 := by
  unfold nj_dg
  have l1 : m / 2 ^ p % 2 < 2 := Nat.mod_lt _ (by decide)
  have l3 : Q / 2 ^ p % 2 < 2 := Nat.mod_lt _ (by decide)
  generalize m / 2 ^ p % 2 = x at *
  generalize P / 2 ^ p % 2 = y at *
  generalize Q / 2 ^ p % 2 = z at *
  rcases hc with rfl | rfl
  · omega
  · omega
theorem nj_mkv {m P Q c : Nat} (hc : c = 1 ∨ c = 2) (h : ∀ p, p < 6 → c * (P / 2 ^ p % 2) ≤ m / 2 ^ p % 2 + c * (Q / 2 ^ p % 2)) :
    c * nj_sn P ≤ nj_sn m + c * nj_sn Q ∧ nj_mk (lN (nj_sn m + c * nj_sn Q - c * nj_sn P)) 6 = nI (nj_mn (nj_dg m P Q c) 6) := by
  have g : ∀ p, p < 6 → m / 2 ^ p % 2 + c * (Q / 2 ^ p % 2) = c * (P / 2 ^ p % 2) + nj_dg m P Q c p := fun p hp => (Nat.add_sub_cancel' (h p hp)).symm
  have k0 := g 0 (by omega)
  have k1 := g 1 (by omega)
  have k2 := g 2 (by omega)
  have k3 := g 3 (by omega)
  have k4 := g 4 (by omega)
  have k5 := g 5 (by omega)
  simp only [Nat.reducePow] at k0 k1 k2 k3 k4 k5
  have eE : nj_sn m + c * nj_sn Q = c * nj_sn P + (nj_dg m P Q c 0 + 256 * nj_dg m P Q c 1 + 65536 * nj_dg m P Q c 2 + 16777216 * nj_dg m P Q c 3 + 4294967296 * nj_dg m P Q c 4 + 1099511627776 * nj_dg m P Q c 5) := by
    unfold nj_sn
    exact nj_lin hc k0 k1 k2 k3 k4 k5
  have eD : c * nj_sn P ≤ nj_sn m + c * nj_sn Q ∧ nj_sn m + c * nj_sn Q - c * nj_sn P = nj_dg m P Q c 0 + 256 * nj_dg m P Q c 1 + 65536 * nj_dg m P Q c 2 + 16777216 * nj_dg m P Q c 3 + 4294967296 * nj_dg m P Q c 4 + 1099511627776 * nj_dg m P Q c 5 := by
    rw [eE]
    exact ⟨Nat.le_add_right _ _, Nat.add_sub_cancel_left _ _⟩
  have b := nj_dg4 (m := m) (P := P) (Q := Q) hc
  refine ⟨eD.1, ?_⟩
  have eD2 := eD.2
  clear eE k0 k1 k2 k3 k4 k5 g eD h
  generalize nj_sn m + c * nj_sn Q - c * nj_sn P = D at eD2 ⊢
  obtain ⟨t, t0, t1, t2, t3, t4, t5⟩ := nj_dig (b 0) (b 1) (b 2) (b 3) (b 4) (b 5) eD2
  refine nj_mkn t 6 (by omega) ?_
  intro p hp
  have hp' : p = 0 ∨ p = 1 ∨ p = 2 ∨ p = 3 ∨ p = 4 ∨ p = 5 := by omega
  rcases hp' with rfl | rfl | rfl | rfl | rfl | rfl
  · simp only [Nat.reduceMul, Nat.reducePow, Nat.div_one]; exact t0
  · simp only [Nat.reduceMul, Nat.reducePow]; exact t1
  · simp only [Nat.reduceMul, Nat.reducePow]; exact t2
  · simp only [Nat.reduceMul, Nat.reducePow]; exact t3
  · simp only [Nat.reduceMul, Nat.reducePow]; exact t4
  · simp only [Nat.reduceMul, Nat.reducePow]; exact t5
theorem nj_bt (s p : Nat) : s.testBit p = decide (s / 2 ^ p % 2 = 1) := Nat.testBit_eq_decide_div_mod_eq
/-- the count's marking is the marking behind the firing: one firing, or two where P lies in Q -/
theorem nj_mnx {m P Q c : Nat} (hm : m < 64) (hP : P < 64) (hQ : Q < 64) (hc : c = 1 ∨ c = 2) (hr : ∀ p, p < 6 → P.testBit p = true → m.testBit p = true)
    (h2 : c = 2 → ∀ p, p < 6 → P.testBit p = true → Q.testBit p = true) :
    (∀ p, p < 6 → c * (P / 2 ^ p % 2) ≤ m / 2 ^ p % 2 + c * (Q / 2 ^ p % 2)) ∧ nj_mn (nj_dg m P Q c) 6 = nj_nx m P Q := by
  have key : ∀ p, p < 6 → c * (P / 2 ^ p % 2) ≤ m / 2 ^ p % 2 + c * (Q / 2 ^ p % 2) ∧ decide (nj_dg m P Q c p ≠ 0) = (nj_nx m P Q).testBit p := by
    intro p hp
    have a := hr p hp
    have b := fun z => h2 z p hp
    rw [nj_nx_t]
    unfold nj_dg
    rw [nj_bt P, nj_bt m, nj_bt Q] at *
    have l1 : m / 2 ^ p % 2 < 2 := Nat.mod_lt _ (by decide)
    have l2 : P / 2 ^ p % 2 < 2 := Nat.mod_lt _ (by decide)
    have l3 : Q / 2 ^ p % 2 < 2 := Nat.mod_lt _ (by decide)
    generalize m / 2 ^ p % 2 = x at *
    generalize P / 2 ^ p % 2 = y at *
    generalize Q / 2 ^ p % 2 = z at *
    rcases hc with hc | hc
    · subst hc
      have ex : x = 0 ∨ x = 1 := by omega
      have ey : y = 0 ∨ y = 1 := by omega
      have ez : z = 0 ∨ z = 1 := by omega
      rcases ex with rfl | rfl <;> rcases ey with rfl | rfl <;> rcases ez with rfl | rfl <;> simp at a b ⊢
    · subst hc
      have ex : x = 0 ∨ x = 1 := by omega
      have ey : y = 0 ∨ y = 1 := by omega
      have ez : z = 0 ∨ z = 1 := by omega
      rcases ex with rfl | rfl <;> rcases ey with rfl | rfl <;> rcases ez with rfl | rfl <;> simp at a b ⊢
  refine ⟨fun p hp => (key p hp).1, nj_ext (nj_mn_lt _ 6) (nj_nx_lt hm hP hQ) (fun p hp => ?_)⟩
  rw [nj_mn_t, ← (key p hp).2]
  simp [hp]
end
section
/-! ===== the places of a set, in order ===== -/
def nj_ls (s i : Nat) : List Nat := (List.range i).filter (fun p => s.testBit p)
theorem nj_ls_t {s i : Nat} (h : s.testBit i = true) : nj_ls s (i + 1) = nj_ls s i ++ [i] := by
  unfold nj_ls
  rw [List.range_succ, List.filter_append]
  simp [h]
theorem nj_ls_f {s i : Nat} (h : s.testBit i = false) : nj_ls s (i + 1) = nj_ls s i := by
  unfold nj_ls
  rw [List.range_succ, List.filter_append]
  simp [h]
theorem nj_ls_m {s i p : Nat} : p ∈ nj_ls s i ↔ p < i ∧ s.testBit p = true := by
  unfold nj_ls
  rw [List.mem_filter, List.mem_range]
theorem nj_ls_len (s i : Nat) : (nj_ls s i).length ≤ i := by
  unfold nj_ls
  have := List.length_filter_le (fun p => s.testBit p) (List.range i)
  rwa [List.length_range] at this
theorem nj_ls_mono (s : Nat) {i j : Nat} (h : i ≤ j) : (nj_ls s i).length ≤ (nj_ls s j).length := by
  induction j with
  | zero => rw [show i = 0 by omega]; exact Nat.le_refl _
  | succ j ih =>
    by_cases e : i = j + 1
    · rw [e]; exact Nat.le_refl _
    · have := ih (by omega)
      cases hb : s.testBit j
      · rw [nj_ls_f hb]; exact this
      · rw [nj_ls_t hb, List.length_append]; omega
theorem nj_ls_pw (s i : Nat) : (nj_ls s i).Pairwise (fun a b => a < b) := by
  unfold nj_ls
  exact List.Pairwise.filter _ List.pairwise_lt_range
theorem nj_srt {L : List Nat} (h : L.Pairwise (fun a b => a < b)) {a b p q : Nat} (ha : L[a]? = some p) (hb : L[b]? = some q) (hl : a < b) : p < q := by
  obtain ⟨h1, e1⟩ := List.getElem?_eq_some_iff.mp ha
  obtain ⟨h2, e2⟩ := List.getElem?_eq_some_iff.mp hb
  have := List.pairwise_iff_getElem.mp h a b h1 h2 hl
  rwa [e1, e2] at this
theorem nj_inj {L : List Nat} (h : L.Pairwise (fun a b => a < b)) {a b p : Nat} (ha : L[a]? = some p) (hb : L[b]? = some p) : a = b := by
  rcases Nat.lt_trichotomy a b with z | z | z
  · exact absurd (nj_srt h ha hb z) (Nat.lt_irrefl _)
  · exact z
  · exact absurd (nj_srt h hb ha z) (Nat.lt_irrefl _)
theorem nj_gl {L : List Nat} {j p : Nat} (h : L[j]? = some p) : j < L.length := (List.getElem?_eq_some_iff.mp h).1
theorem nj_ge {L : List Nat} {j : Nat} (h : j < L.length) : ∃ p, L[j]? = some p := ⟨L[j], List.getElem?_eq_getElem h⟩
theorem nj_gm {L : List Nat} {p : Nat} : p ∈ L ↔ ∃ j : Nat, L[j]? = some p := List.mem_iff_getElem?
theorem nj_ga {L M : List Nat} {j p : Nat} : (L ++ M)[j]? = some p ↔ L[j]? = some p ∨ (L.length ≤ j ∧ M[j - L.length]? = some p) := by
  rw [List.getElem?_append]
  by_cases h : j < L.length
  · rw [if_pos h]
    exact ⟨fun z => .inl z, fun z => z.elim id (fun w => absurd w.1 (by omega))⟩
  · rw [if_neg h]
    exact ⟨fun z => .inr ⟨by omega, z⟩, fun z => z.elim (fun w => absurd (nj_gl w) h) (fun w => w.2)⟩
theorem nj_gc {L : List Nat} {j p q : Nat} : (L ++ [q])[j]? = some p ↔ L[j]? = some p ∨ (j = L.length ∧ p = q) := by
  rw [nj_ga]
  constructor
  · rintro (h | ⟨h, g⟩)
    · exact .inl h
    · have := nj_gl g
      rw [List.length_singleton] at this
      have e : j - L.length = 0 := by omega
      rw [e] at g
      exact .inr ⟨by omega, (Option.some.inj g).symm⟩
  · rintro (h | ⟨h, g⟩)
    · exact .inl h
    · subst h g
      exact .inr ⟨Nat.le_refl _, by rw [Nat.sub_self]; rfl⟩
/-! ===== which start conditions the transition takes ===== -/
def nj_co (m P j : Nat) : Bool := match (nj_ls m 6)[j]? with
  | some p => P.testBit p
  | none => false
theorem nj_co_s {m P j p : Nat} (h : (nj_ls m 6)[j]? = some p) : nj_co m P j = P.testBit p := by
  unfold nj_co
  rw [h]
theorem nj_co_n {m P j : Nat} (h : (nj_ls m 6).length ≤ j) : nj_co m P j = false := by
  unfold nj_co
  rw [List.getElem?_eq_none h]
/-- who stands beside whom -/
def nj_B (m P j d : Nat) : Bool := decide (j ≠ d) && !(nj_co m P j && decide ((nj_ls m 6).length ≤ d)) && !(nj_co m P d && decide ((nj_ls m 6).length ≤ j))
theorem nj_B_s (m P j d : Nat) : nj_B m P j d = nj_B m P d j := by
  unfold nj_B
  rw [show decide (j ≠ d) = decide (d ≠ j) from by by_cases e : j = d <;> simp [e, eq_comm]]
  cases decide (d ≠ j) <;> cases (nj_co m P j && decide ((nj_ls m 6).length ≤ d)) <;> cases (nj_co m P d && decide ((nj_ls m 6).length ≤ j)) <;> rfl
theorem nj_B_r (m P j : Nat) : nj_B m P j j = false := by
  unfold nj_B
  simp
theorem nj_B_o {m P j d : Nat} (hj : j < (nj_ls m 6).length) (hd : d < (nj_ls m 6).length) : nj_B m P j d = decide (j ≠ d) := by
  unfold nj_B
  rw [decide_eq_false (show ¬ (nj_ls m 6).length ≤ d by omega), decide_eq_false (show ¬ (nj_ls m 6).length ≤ j by omega)]
  simp
theorem nj_B_n {m P j d : Nat} (hd : (nj_ls m 6).length ≤ d) (hjd : j < d) : nj_B m P j d = !nj_co m P j := by
  unfold nj_B
  rw [nj_co_n hd, decide_eq_true hd, decide_eq_true (show j ≠ d by omega)]
  simp
/-! ===== the picture of the conditions ===== -/
def nj_Cd (L : List Nat) (m P : Nat) (a4 : Nat → Int32) (a5 a6 a7 a8 : Nat → Int64) : Prop :=
  (∀ j p, L[j]? = some p → a4 j = nI p) ∧ (∀ j, j < L.length → a5 j = (if j < (nj_ls m 6).length then 0 else 1)) ∧
  (∀ j d, j < L.length → nj_t (a6 j) d = (decide (d < L.length) && nj_B m P j d)) ∧ (∀ j, j < L.length → a7 j = 0 ∧ a8 j = 0)
theorem nj_Cd_0 {m P : Nat} {a4 : Nat → Int32} {a5 a6 a7 a8 : Nat → Int64} : nj_Cd [] m P a4 a5 a6 a7 a8 := by
  refine ⟨fun j p h => ?_, fun j h => absurd h (Nat.not_lt_zero _), fun j d h => absurd h (Nat.not_lt_zero _), fun j h => absurd h (Nat.not_lt_zero _)⟩
  exact absurd (nj_gl h) (Nat.not_lt_zero _)
/-- what a row of putBeside does to the words -/
def nj_mb (a : Nat → Int64) (k n : Nat) : Nat → Int64 := vp_updL a k (a k ||| ((1 : Int64) <<< ((nI n).toInt64 &&& 63)))
theorem nj_mb_t {a : Nat → Int64} {k n : Nat} (hn : n < 64) (j d : Nat) : nj_t (nj_mb a k n j) d = (nj_t (a j) d || (decide (j = k) && decide (d = n))) := by
  unfold nj_mb
  by_cases e : j = k
  · subst e
    rw [pk_uLs, nj_t_or, nj_t_one hn]
    simp
  · rw [pk_uLn e]
    simp [e]
def nj_A6 (a a' : Nat → Int64) (bes : Nat → Bool) (n i : Nat) : Prop :=
  ∀ j d, nj_t (a' j) d = (nj_t (a j) d || (decide (d = n) && decide (j < i) && bes j) || (decide (j = n) && decide (d < i) && bes d))
theorem nj_A6_0 {a : Nat → Int64} {bes : Nat → Bool} {n : Nat} : nj_A6 a a bes n 0 := by
  intro j d
  simp
theorem nj_A6_f {a a' : Nat → Int64} {bes : Nat → Bool} {n i : Nat} (h : nj_A6 a a' bes n i) (hb : bes i = false) : nj_A6 a a' bes n (i + 1) := by
  intro j d
  rw [h j d]
  have e : ∀ x, (decide (x < i + 1) && bes x) = (decide (x < i) && bes x) := by
    intro x
    by_cases e : x = i
    · subst e; simp [hb]
    · by_cases q : x < i
      · simp [q, show x < i + 1 by omega]
      · simp [q, show ¬ x < i + 1 by omega]
  rw [Bool.and_assoc, Bool.and_assoc, Bool.and_assoc, Bool.and_assoc, e j, e d]
theorem nj_A6_t {a a' : Nat → Int64} {bes : Nat → Bool} {n i : Nat} (hi : i < n) (hn : n < 64) (h : nj_A6 a a' bes n i) (hb : bes i = true) : nj_A6 a (nj_mb (nj_mb a' i n) n i) bes n (i + 1) := by
  intro j d
  rw [nj_mb_t (by omega), nj_mb_t hn, h j d, Bool.eq_iff_iff]
  simp only [Bool.or_eq_true, Bool.and_eq_true, decide_eq_true_eq]
  constructor
  · rintro ((((h1 | ⟨⟨h1, h2⟩, h3⟩) | ⟨⟨h1, h2⟩, h3⟩) | ⟨h1, h2⟩) | ⟨h1, h2⟩)
    · exact .inl (.inl h1)
    · exact .inl (.inr ⟨⟨h1, by omega⟩, h3⟩)
    · exact .inr ⟨⟨h1, by omega⟩, h3⟩
    · exact .inl (.inr ⟨⟨h2, by omega⟩, by rw [h1]; exact hb⟩)
    · exact .inr ⟨⟨h1, by omega⟩, by rw [h2]; exact hb⟩
  · rintro ((h1 | ⟨⟨h1, h2⟩, h3⟩) | ⟨⟨h1, h2⟩, h3⟩)
    · exact .inl (.inl (.inl (.inl h1)))
    · by_cases e : j = i
      · exact .inl (.inr ⟨e, h1⟩)
      · exact .inl (.inl (.inl (.inr ⟨⟨h1, by omega⟩, h3⟩)))
    · by_cases e : d = i
      · exact .inr ⟨h1, e⟩
      · exact .inl (.inl (.inr ⟨⟨h1, by omega⟩, h3⟩))
/-- one condition more -/
theorem nj_Cd_add {L : List Nat} {m P p n : Nat} {a4 : Nat → Int32} {a5 a6 a7 a8 a6' : Nat → Int64} {past : Int64} {bes : Nat → Bool} (h : nj_Cd L m P a4 a5 a6 a7 a8) (hn : L.length = n)
    (hp : past = if n < (nj_ls m 6).length then 0 else 1) (hb : ∀ k, k < n → bes k = nj_B m P k n) (h6 : nj_A6 (vp_updL a6 n 0) a6' bes n n) :
    nj_Cd (L ++ [p]) m P (upd a4 n (nI p)) (vp_updL a5 n past) a6' (vp_updL a7 n 0) (vp_updL a8 n 0) := by
  obtain ⟨c1, c2, c3, c4⟩ := h
  have hl : (L ++ [p]).length = n + 1 := by rw [List.length_append, hn]; rfl
  refine ⟨fun j q hj => ?_, fun j hj => ?_, fun j d hj => ?_, fun j hj => ?_⟩
  · rcases nj_gc.mp hj with g | ⟨g1, g2⟩
    · have := nj_gl g
      rw [pk_un (by omega)]
      exact c1 j q g
    · rw [g1, hn, pk_us, g2]
  · rw [hl] at hj
    by_cases e : j = n
    · rw [e, pk_uLs, hp]
    · rw [pk_uLn e]
      exact c2 j (by omega)
  · rw [hl] at hj ⊢
    rw [h6 j d]
    by_cases e : j = n
    · subst e
      rw [pk_uLs, nj_t_0, decide_eq_false (show ¬ j < j by omega), nj_B_s]
      by_cases q : d < j
      · rw [← hb d q]
        simp [q, show d < j + 1 by omega]
      · by_cases q' : d = j
        · subst q'
          rw [nj_B_r]
          simp
        · simp [q, show ¬ d < j + 1 by omega]
    · rw [pk_uLn e, c3 j d (by omega), hn]
      by_cases q : d = n
      · subst q
        rw [← hb j (by omega)]
        simp [e, show j < d by omega]
      · by_cases q' : d < n
        · simp [q, q', e, show d < n + 1 by omega]
        · simp [q, q', e, show ¬ d < n + 1 by omega]
  · rw [hl] at hj
    by_cases e : j = n
    · rw [e, pk_uLs, pk_uLs]
      exact ⟨rfl, rfl⟩
    · rw [pk_uLn e, pk_uLn e]
      exact c4 j (by omega)
end
section
/-! ===== small methods ===== -/
theorem nj_b6 : ∀ p, p < 6 → (nI p).toInt8.toInt32 = nI p := by decide +kernel
section
variable {fp : Int32} {fi : Int32} {fs : Int32} {fg : Int32} {fj : Int32} {fu : Int32} {fc : Int32} {fe : Int32} {a1 : Nat → Int32} {a2 : Nat → Int32} {a3 : Nat → Int32} {a4 : Nat → Int32} {a5 : Nat → Int64} {a6 : Nat → Int64} {a7 : Nat → Int64} {a8 : Nat → Int64} {a9 : Nat → Int64} {a10 : Nat → Int64} {a11 : Nat → Int32} {a12 : Nat → Int32} {a13 : Nat → Int32} {a14 : Nat → Int32} {a15 : Nat → Int64} {a16 : Nat → Int32} {a17 : Nat → Int32} {a18 : Nat → Int64} {a19 : Nat → Int64} {a20 : Nat → Int64} {a21 : Nat → Int64}
theorem nj_has {post : Int32 → Prop} {i : Nat} (hi : i < 8) (h0 : ((fs >>> (nI i &&& 31)) &&& 1) = 0 → post 0) (h1 : ¬ ((fs >>> (nI i &&& 31)) &&& 1) = 0 → post 1) : wpX_has post (fp, fi, fs, fg, fj, fu, fc, fe, a1, a2, a3, a4, a5, a6, a7, a8, a9, a10, a11, a12, a13, a14, a15, a16, a17, a18, a19, a20, a21) (nI i) :=
  br_f (nI_pos (by omega)) (br_f (nI_ge (b := 8) hi (by decide)) (br_c h0 h1))
theorem nj_effect {post : Int64 → Prop} {i : Nat} (hi : i < 8) (h : post (nj_sp (a2 i) 6 - nj_sp (a1 i) 6)) : wpX_effect post (fp, fi, fs, fg, fj, fu, fc, fe, a1, a2, a3, a4, a5, a6, a7, a8, a9, a10, a11, a12, a13, a14, a15, a16, a17, a18, a19, a20, a21) (nI i) := by
  refine ⟨vp_in_nI hi (by decide), nj_spread ⟨vp_in_nI hi (by decide), nj_spread ?_⟩⟩
  rw [nI_clamp (by omega)]
  exact h
theorem nj_mof66 {post : Int32 → Prop} {x : Int64} (h : post (nj_mk x 6)) : ∃ N, wX_markingOf_66 post x fp fi fs fg fj fu fc fe a1 a2 a3 a4 a5 a6 a7 a8 a9 a10 a11 a12 a13 a14 a15 a16 a17 a18 a19 a20 a21 N 0 0 :=
  pk_loop (fun n i s => wX_markingOf_66 post x fp fi fs fg fj fu fc fe a1 a2 a3 a4 a5 a6 a7 a8 a9 a10 a11 a12 a13 a14 a15 a16 a17 a18 a19 a20 a21 n s (nI i)) (fun i s => s = nj_mk x i) 6 0 0 (by omega) rfl
    (fun n s hs => br_t (by decide) (by subst hs; exact h))
    (fun n i s hi hs hw => br_f (nI_ge (b := 6) hi (by decide)) (br_c (fun z => nm_r (nI_1 i) (hw _ (by subst hs; exact (if_pos z).symm))) (fun z => nm_e (nm_r (nI_1 i) (hw _ (by subst hs; exact (if_neg z).symm))))))
theorem nj_mof18 {post : Int32 → Prop} {past base : Int64} {t : Nat} {y : Int64} (ht : t < 8) (h9 : ∀ i, i < 8 → i ≠ t → a9 i = 0)
    (hy : y = base + (nj_sp (a2 t) 6 - nj_sp (a1 t) 6) * (nj_on (past &&& a9 t)).toInt64) (h : post (nj_mk y 6)) : ∃ N, wX_markingOf_18 post past fp fi fs fg fj fu fc fe a1 a2 a3 a4 a5 a6 a7 a8 a9 a10 a11 a12 a13 a14 a15 a16 a17 a18 a19 a20 a21 N base 0 := by
  refine pk_loop (fun n i s => wX_markingOf_18 post past fp fi fs fg fj fu fc fe a1 a2 a3 a4 a5 a6 a7 a8 a9 a10 a11 a12 a13 a14 a15 a16 a17 a18 a19 a20 a21 n s (nI i)) (fun i s => s = if t < i then y else base) 8 0 base (by omega) rfl ?_ ?_
  · intro n s hs
    have hs' : s = y := hs.trans (if_pos ht)
    subst hs'
    exact br_t (by decide) (nj_mof66 h)
  · intro n i s hi hs hw
    refine br_f (nI_ge (b := 8) hi (by decide)) ⟨vp_in_nI hi (by decide), nj_ones (nj_effect hi (nm_e (nm_r (nI_1 i) (hw _ ?_))))⟩
    rw [nI_clamp (by omega), hs]
    by_cases e : i = t
    · subst e
      rw [if_neg (by omega), if_pos (by omega), hy]
    · rw [h9 i hi e, show past &&& (0 : Int64) = 0 from Int64.and_zero, nj_on0, show (0 : Int32).toInt64 = 0 by decide, Int64.mul_zero, Int64.add_zero]
      by_cases q : t < i
      · rw [if_pos q, if_pos (by omega)]
      · rw [if_neg q, if_neg (by omega)]
/-- the net: transition t alone, with P and Q -/
def nj_G (t P Q : Nat) (fs : Int32) (a1 a2 : Nat → Int32) : Prop :=
  t < 8 ∧ P < 64 ∧ Q < 64 ∧ a1 t = nI P ∧ a2 t = nI Q ∧ ∀ i, i < 8 → (((fs >>> (nI i &&& 31)) &&& 1) = 0 ↔ i ≠ t)
def nj_le (P m : Nat) : Prop := ∀ p, p < 6 → P.testBit p = true → m.testBit p = true
theorem nj_mof {post : Int32 → Prop} {past : Int64} {t m P Q k : Nat} (hG : nj_G t P Q fs a1 a2) (hm : m < 64) (h9 : ∀ i, i < 8 → i ≠ t → a9 i = 0) (hk : nj_on (past &&& a9 t) = nI k) (hk1 : k = 0 ∨ k = 1)
    (hr : nj_le P m) (h2 : k = 1 → nj_le P Q) (H : post (nI (nj_nx m P Q))) : wpX_markingOf post (fp, nI m, fs, fg, fj, fu, fc, fe, a1, a2, a3, a4, a5, a6, a7, a8, a9, a10, a11, a12, a13, a14, a15, a16, a17, a18, a19, a20, a21) past (nI t) := by
  obtain ⟨ht, hP, hQ, e1, e2, _⟩ := hG
  have hc : k + 1 = 1 ∨ k + 1 = 2 := by omega
  obtain ⟨d1, d2⟩ := nj_mnx hm hP hQ hc hr (fun z => h2 (by omega))
  obtain ⟨d3, d4⟩ := nj_mkv hc d1
  refine nj_spread (nj_effect ht (nm_e ?_))
  refine nj_mof18 ht h9 rfl ?_
  rw [hk, nI_l (by omega), e1, e2, nj_spv m hm, nj_spv P hP, nj_spv Q hQ]
  have e : lN (nj_sn m) + (lN (nj_sn Q) - lN (nj_sn P)) + (lN (nj_sn Q) - lN (nj_sn P)) * lN k = lN (nj_sn m + (k + 1) * nj_sn Q - (k + 1) * nj_sn P) := by
    rw [← lN_sub d3, ← lN_add, ← lN_mul, ← lN_mul, ← lN_1]
    generalize lN (nj_sn m) = a
    generalize lN (nj_sn Q) = b
    generalize lN (nj_sn P) = c
    generalize lN k = d
    grind
  rw [e, d4, d2]
  exact H
theorem nj_mark {post : St2 → Prop} {k n : Nat} (hk : k < 136) (hn : n < 64) (h : post (fp, fi, fs, fg, fj, fu, fc, fe, a1, a2, a3, a4, a5, nj_mb a6 k n, a7, a8, a9, a10, a11, a12, a13, a14, a15, a16, a17, a18, a19, a20, a21)) : wpX_mark post (fp, fi, fs, fg, fj, fu, fc, fe, a1, a2, a3, a4, a5, a6, a7, a8, a9, a10, a11, a12, a13, a14, a15, a16, a17, a18, a19, a20, a21) (nI k) (nI n) := by
  refine br_f (nI_ge (b := 64) hn (by decide)) ⟨vp_in_nI hk (by decide), vp_in_nI hk (by decide), nm_e ?_⟩
  rw [nI_clamp (by omega)]
  exact h
theorem nj_putB {post : St2 → Prop} {k n : Nat} (hk : k < 64) (hn : n < 64) (h : post (fp, fi, fs, fg, fj, fu, fc, fe, a1, a2, a3, a4, a5, nj_mb (nj_mb a6 k n) n k, a7, a8, a9, a10, a11, a12, a13, a14, a15, a16, a17, a18, a19, a20, a21)) : wpX_putBeside post (fp, fi, fs, fg, fj, fu, fc, fe, a1, a2, a3, a4, a5, a6, a7, a8, a9, a10, a11, a12, a13, a14, a15, a16, a17, a18, a19, a20, a21) (nI k) (nI n) := by
  unfold wpX_putBeside
  refine nj_mark (by omega) hn ?_
  exact nj_mark (by omega) hk h
theorem nj_newC {post : Int32 → St2 → Prop} {n p : Nat} {past : Int64} (hn : n < 136) (hp : p < 6) (h : post (nI n) (fp, fi, fs, fg, fj, fu, nI (n + 1), fe, a1, a2, a3, upd a4 n (nI p), vp_updL a5 n past, vp_updL a6 n 0, vp_updL a7 n 0, vp_updL a8 n 0, a9, a10, a11, a12, a13, a14, a15, a16, a17, a18, a19, a20, a21)) :
    wpX_newCondition post (fp, fi, fs, fg, fj, fu, nI n, fe, a1, a2, a3, a4, a5, a6, a7, a8, a9, a10, a11, a12, a13, a14, a15, a16, a17, a18, a19, a20, a21) (nI p) past := by
  have hi : vp_in (nI n) 136 := vp_in_nI hn (by decide)
  refine br_f (nI_ge (b := 136) hn (by decide)) ⟨hi, nm_e ⟨hi, nm_e ⟨hi, nm_e ⟨hi, nm_e ⟨hi, nm_e (nm_r (nI_1 n) ?_)⟩⟩⟩⟩⟩
  rw [nI_clamp (by omega), nj_b6 p hp]
  exact h
theorem nj_ready {post : Int32 → Prop} {i P x : Nat} (hi : i < 8) (hP : P < 64) (hx : x < 64) (e1 : a1 i = nI P) (h1 : nj_le P x → post 1) (h0 : ¬ nj_le P x → post 0) : wpX_ready post (fp, fi, fs, fg, fj, fu, fc, fe, a1, a2, a3, a4, a5, a6, a7, a8, a9, a10, a11, a12, a13, a14, a15, a16, a17, a18, a19, a20, a21) (nI i) (nI x) := by
  refine ⟨vp_in_nI hi (by decide), ?_⟩
  rw [nI_clamp (by omega), e1]
  exact ek_if (nj_rdyI hP hx) h1 h0
/-- nothing of Q lies in x but what P takes -/
def nj_cl (P Q x : Nat) : Prop := ∀ p, p < 6 → Q.testBit p = true → x.testBit p = true → P.testBit p = true
theorem nj_clear {post : Int32 → Prop} {i P Q x : Nat} (hi : i < 8) (hP : P < 64) (hQ : Q < 64) (hx : x < 64) (e1 : a1 i = nI P) (e2 : a2 i = nI Q) (h1 : nj_le P x → nj_cl P Q x → post 1) (h0 : ¬ (nj_le P x ∧ nj_cl P Q x) → post 0) :
    wpX_clear post (fp, fi, fs, fg, fj, fu, fc, fe, a1, a2, a3, a4, a5, a6, a7, a8, a9, a10, a11, a12, a13, a14, a15, a16, a17, a18, a19, a20, a21) (nI i) (nI x) := by
  unfold wpX_clear
  refine nj_ready hi hP hx e1 (fun z => ?_) (fun z => ?_)
  · refine br_f (by decide) ⟨vp_in_nI hi (by decide), vp_in_nI hi (by decide), ?_⟩
    rw [nI_clamp (by omega), e1, e2]
    exact ek_if (nj_clrI hP hQ hx) (fun w => h1 z w) (fun w => h0 (fun q => w q.2))
  · exact br_t rfl (h0 (fun w => z w.1))
end
end
section
/-! ===== offer, pairUp, extend ===== -/
theorem nj_t8 : ∀ p, p < 8 → (nI p).toInt8.toInt32 = nI p := by decide +kernel
theorem nj_o16 : ∀ p, p < 136 → (nI p).toInt16.toInt32 = nI p := by decide +kernel
section
variable {fp : Int32} {fi : Int32} {fs : Int32} {fg : Int32} {fj : Int32} {fu : Int32} {fc : Int32} {fe : Int32} {a1 : Nat → Int32} {a2 : Nat → Int32} {a3 : Nat → Int32} {a4 : Nat → Int32} {a5 : Nat → Int64} {a6 : Nat → Int64} {a7 : Nat → Int64} {a8 : Nat → Int64} {a9 : Nat → Int64} {a10 : Nat → Int64} {a11 : Nat → Int32} {a12 : Nat → Int32} {a13 : Nat → Int32} {a14 : Nat → Int32} {a15 : Nat → Int64} {a16 : Nat → Int32} {a17 : Nat → Int32} {a18 : Nat → Int64} {a19 : Nat → Int64} {a20 : Nat → Int64} {a21 : Nat → Int64}
theorem nj_of_c {post : St2 → Prop} {past : Int64} {x2 x3 : Int32} {t m P Q k : Nat} (hG : nj_G t P Q fs a1 a2) (hm : m < 64) (h9 : ∀ i, i < 8 → i ≠ t → a9 i = 0) (hk : nj_on (past &&& a9 t) = nI k) (hk1 : k = 0 ∨ k = 1)
    (hr : nj_le P m) (h2 : k = 1 → nj_le P Q) (hc : ¬ a11 (nj_nx m P Q) = 0) (H : post (fp, nI m, fs, fg, fj, fu, fc, fe, a1, a2, a3, a4, a5, a6, a7, a8, a9, a10, a11, a12, a13, a14, a15, a16, a17, a18, a19, a20, a21)) : wX_offer_23 post (nI t) x2 x3 past fp (nI m) fs fg fj fu fc fe a1 a2 a3 a4 a5 a6 a7 a8 a9 a10 a11 a12 a13 a14 a15 a16 a17 a18 a19 a20 a21 := by
  have hl := nj_nx_lt hm hG.2.1 hG.2.2.1
  unfold wX_offer_23
  refine nj_mof hG hm h9 hk hk1 hr h2 ?_
  refine ⟨vp_in_nI hl (by decide), ?_⟩
  rw [nI_clamp (by omega)]
  exact br_f hc H
theorem nj_of_n {post : St2 → Prop} {past : Int64} {x3 : Int32} {t m P Q k one : Nat} (hG : nj_G t P Q fs a1 a2) (hm : m < 64) (h9 : ∀ i, i < 8 → i ≠ t → a9 i = 0) (hk : nj_on (past &&& a9 t) = nI k) (hk1 : k = 0 ∨ k = 1)
    (hr : nj_le P m) (h2 : k = 1 → nj_le P Q) (ho : one < 136) (h3 : x3.toInt16.toInt32 = x3) (hc : a11 (nj_nx m P Q) = 0) (hn : a12 (nj_nx m P Q) < 0)
    (H : post (fp, nI m, fs, fg, fj, fu, fc, fe, a1, a2, a3, a4, a5, a6, a7, a8, a9, a10, a11, upd a12 (nj_nx m P Q) (nI t), upd a13 (nj_nx m P Q) (nI one), upd a14 (nj_nx m P Q) x3, vp_updL a15 (nj_nx m P Q) past, a16, a17, a18, a19, a20, a21)) : wX_offer_23 post (nI t) (nI one) x3 past fp (nI m) fs fg fj fu fc fe a1 a2 a3 a4 a5 a6 a7 a8 a9 a10 a11 a12 a13 a14 a15 a16 a17 a18 a19 a20 a21 := by
  have hl := nj_nx_lt hm hG.2.1 hG.2.2.1
  have hv : vp_in (nI (nj_nx m P Q)) 64 := vp_in_nI hl (by decide)
  have e8 := nj_t8 t hG.1
  have e16 := nj_o16 one ho
  have ec : (nI (nj_nx m P Q)).toNatClampNeg = nj_nx m P Q := nI_clamp (by omega)
  unfold wX_offer_23
  refine nj_mof hG hm h9 hk hk1 hr h2 ?_
  refine ⟨hv, ?_⟩
  rw [ec]
  refine br_t hc ⟨hv, nm_e (br_t hn ⟨hv, nm_e ⟨hv, nm_e ⟨hv, nm_e ⟨hv, nm_e ?_⟩⟩⟩⟩)⟩
  rw [ec, e8, e16, h3]
  exact H
theorem nj_off1 {post : St2 → Prop} {t one : Nat} (h1 : one < 136) (H : wX_offer_23 post (nI t) (nI one) (-1) (a5 one) fp fi fs fg fj fu fc fe a1 a2 a3 a4 a5 a6 a7 a8 a9 a10 a11 a12 a13 a14 a15 a16 a17 a18 a19 a20 a21) : wpX_offer post (fp, fi, fs, fg, fj, fu, fc, fe, a1, a2, a3, a4, a5, a6, a7, a8, a9, a10, a11, a12, a13, a14, a15, a16, a17, a18, a19, a20, a21) (nI t) (nI one) (-1) :=
  ⟨vp_in_nI h1 (by decide), nm_r (e' := a5 one) (by rw [nI_clamp (by omega)]) (br_t (by decide) H)⟩
theorem nj_off2 {post : St2 → Prop} {t one d : Nat} (h1 : one < 136) (h2 : d < 136) (H : wX_offer_23 post (nI t) (nI one) (nI d) (a5 one ||| a5 d) fp fi fs fg fj fu fc fe a1 a2 a3 a4 a5 a6 a7 a8 a9 a10 a11 a12 a13 a14 a15 a16 a17 a18 a19 a20 a21) : wpX_offer post (fp, fi, fs, fg, fj, fu, fc, fe, a1, a2, a3, a4, a5, a6, a7, a8, a9, a10, a11, a12, a13, a14, a15, a16, a17, a18, a19, a20, a21) (nI t) (nI one) (nI d) :=
  ⟨vp_in_nI h1 (by decide), nm_r (e' := a5 one) (by rw [nI_clamp (by omega)]) (br_f (nI_pos (by omega)) ⟨vp_in_nI h2 (by decide), nm_r (e' := a5 one ||| a5 d) (by rw [nI_clamp (by omega)]) H⟩)⟩
/-- condition d has the other place and stands beside c -/
def nj_mt (a4 : Nat → Int32) (a6 : Nat → Int64) (c : Nat) (ot : Int32) (d : Nat) : Prop := (1 : Int32) <<< (a4 d &&& 31) = ot ∧ nj_t (a6 c) d = true
theorem nj_pu_s {post : St2 → Prop} {t c n : Nat} {ot : Int32} (hc : c ≤ 64) : ∀ r i, (∀ d, i ≤ d → d < i + r → ¬ nj_mt a4 a6 c ot d) → i + r ≤ c → wX_pairUp_3 post (nI t) (nI c) ot n (nI (i + r)) fp fi fs fg fj fu fc fe a1 a2 a3 a4 a5 a6 a7 a8 a9 a10 a11 a12 a13 a14 a15 a16 a17 a18 a19 a20 a21 → wX_pairUp_3 post (nI t) (nI c) ot (n + r) (nI i) fp fi fs fg fj fu fc fe a1 a2 a3 a4 a5 a6 a7 a8 a9 a10 a11 a12 a13 a14 a15 a16 a17 a18 a19 a20 a21 := by
  intro r
  induction r with
  | zero => intro i _ _ h; exact h
  | succ r ih =>
    intro i h1 h2 h
    have h' := ih (i + 1) (fun d z1 z2 => h1 d (by omega) (by omega)) (by omega) (by rw [show i + 1 + r = i + (r + 1) by omega]; exact h)
    show wX_pairUp_3 post (nI t) (nI c) ot ((n + r) + 1) (nI i) fp fi fs fg fj fu fc fe a1 a2 a3 a4 a5 a6 a7 a8 a9 a10 a11 a12 a13 a14 a15 a16 a17 a18 a19 a20 a21
    have hv : vp_in (nI c) 136 := vp_in_nI (by omega) (by decide)
    refine br_f (nI_ge (show i < c by omega) (by omega)) ⟨vp_in_nI (by omega) (by decide), ?_⟩
    rw [nI_clamp (show i < 2 ^ 31 by omega), nI_clamp (show c < 2 ^ 31 by omega)]
    exact br_c (fun z => ⟨hv, hv, hv, nj_inW (by omega) (fun w => absurd ⟨z, w⟩ (h1 i (by omega) (by omega))) (fun w => br_t rfl (nm_r (nI_1 i) h'))⟩) (fun z => nm_r (nI_1 i) h')
theorem nj_pu_n {post : St2 → Prop} {t c : Nat} {ot : Int32} (hc : c ≤ 64) (h : ∀ d, d < c → ¬ nj_mt a4 a6 c ot d) (H : post (fp, fi, fs, fg, fj, fu, fc, fe, a1, a2, a3, a4, a5, a6, a7, a8, a9, a10, a11, a12, a13, a14, a15, a16, a17, a18, a19, a20, a21)) : wpX_pairUp post (fp, fi, fs, fg, fj, fu, fc, fe, a1, a2, a3, a4, a5, a6, a7, a8, a9, a10, a11, a12, a13, a14, a15, a16, a17, a18, a19, a20, a21) (nI t) (nI c) ot := by
  have k := nj_pu_s (n := 1) (t := t) (ot := ot) (post := post) hc c 0 (fun d _ hd => h d (by omega)) (by omega) (by rw [Nat.zero_add]; exact br_t (nI_le (Nat.le_refl _) (by omega)) H)
  exact ⟨1 + c, k⟩
theorem nj_pu_a {post : St2 → Prop} {t c d0 : Nat} {ot : Int32} {b12 b13 b14 : Nat → Int32} {b15 : Nat → Int64} (hc : c ≤ 64) (hd : d0 < c) (hm : nj_mt a4 a6 c ot d0) (hu : ∀ d, d < c → d ≠ d0 → ¬ nj_mt a4 a6 c ot d)
    (Hoff : ∀ post' : St2 → Prop, post' (fp, fi, fs, fg, fj, fu, fc, fe, a1, a2, a3, a4, a5, a6, a7, a8, a9, a10, a11, b12, b13, b14, b15, a16, a17, a18, a19, a20, a21) → wpX_offer post' (fp, fi, fs, fg, fj, fu, fc, fe, a1, a2, a3, a4, a5, a6, a7, a8, a9, a10, a11, a12, a13, a14, a15, a16, a17, a18, a19, a20, a21) (nI t) (nI c) (nI d0)) (H : post (fp, fi, fs, fg, fj, fu, fc, fe, a1, a2, a3, a4, a5, a6, a7, a8, a9, a10, a11, b12, b13, b14, b15, a16, a17, a18, a19, a20, a21)) : wpX_pairUp post (fp, fi, fs, fg, fj, fu, fc, fe, a1, a2, a3, a4, a5, a6, a7, a8, a9, a10, a11, a12, a13, a14, a15, a16, a17, a18, a19, a20, a21) (nI t) (nI c) ot := by
  have hv : vp_in (nI c) 136 := vp_in_nI (by omega) (by decide)
  have k2 : wX_pairUp_3 post (nI t) (nI c) ot (1 + (c - d0 - 1)) (nI (d0 + 1)) fp fi fs fg fj fu fc fe a1 a2 a3 a4 a5 a6 a7 a8 a9 a10 a11 b12 b13 b14 b15 a16 a17 a18 a19 a20 a21 :=
    nj_pu_s hc (c - d0 - 1) (d0 + 1) (fun d z1 z2 => hu d (by omega) (by omega)) (by omega) (by rw [show d0 + 1 + (c - d0 - 1) = c by omega]; exact br_t (nI_le (Nat.le_refl _) (by omega)) H)
  have k1 : wX_pairUp_3 post (nI t) (nI c) ot (1 + (c - d0 - 1) + 1) (nI d0) fp fi fs fg fj fu fc fe a1 a2 a3 a4 a5 a6 a7 a8 a9 a10 a11 a12 a13 a14 a15 a16 a17 a18 a19 a20 a21 := by
    refine br_f (nI_ge (show d0 < c by omega) (by omega)) ⟨vp_in_nI (by omega) (by decide), ?_⟩
    rw [nI_clamp (show d0 < 2 ^ 31 by omega), nI_clamp (show c < 2 ^ 31 by omega)]
    refine br_t hm.1 ⟨hv, hv, hv, nj_inW (by omega) (fun w => br_f (by decide) (Hoff _ ?_)) (fun w => absurd (w.symm.trans hm.2) (by decide))⟩
    exact nm_r (nI_1 d0) k2
  have k0 := nj_pu_s (n := 1 + (c - d0 - 1) + 1) (t := t) (ot := ot) (post := post) hc d0 0 (fun d _ z2 => hu d (by omega) (by omega)) (by omega) (by rw [Nat.zero_add]; exact k1)
  exact ⟨_, k0⟩
theorem nj_ex_s {post : St2 → Prop} {x1 x2 : Int32} {n : Nat} : ∀ r i, (∀ d, i ≤ d → d < i + r → ((fs >>> (nI d &&& 31)) &&& 1) = 0) → i + r ≤ 8 → wX_extend_9 post x1 x2 n (nI (i + r)) fp fi fs fg fj fu fc fe a1 a2 a3 a4 a5 a6 a7 a8 a9 a10 a11 a12 a13 a14 a15 a16 a17 a18 a19 a20 a21 → wX_extend_9 post x1 x2 (n + r) (nI i) fp fi fs fg fj fu fc fe a1 a2 a3 a4 a5 a6 a7 a8 a9 a10 a11 a12 a13 a14 a15 a16 a17 a18 a19 a20 a21 := by
  intro r
  induction r with
  | zero => intro i _ _ h; exact h
  | succ r ih =>
    intro i h1 h2 h
    have h' := ih (i + 1) (fun d z1 z2 => h1 d (by omega) (by omega)) (by omega) (by rw [show i + 1 + r = i + (r + 1) by omega]; exact h)
    show wX_extend_9 post x1 x2 ((n + r) + 1) (nI i) fp fi fs fg fj fu fc fe a1 a2 a3 a4 a5 a6 a7 a8 a9 a10 a11 a12 a13 a14 a15 a16 a17 a18 a19 a20 a21
    exact br_f (nI_ge (b := 8) (by omega) (by decide)) (nj_has (by omega) (fun _ => br_t rfl (nm_r (nI_1 i) h')) (fun z => absurd (h1 i (by omega) (by omega)) z))
/-- no transition at all -/
theorem nj_ex_0 {post : St2 → Prop} {c : Nat} (hc : c < 136) (hs : ∀ i, i < 8 → ((fs >>> (nI i &&& 31)) &&& 1) = 0) (H : post (fp, fi, fs, fg, fj, fu, fc, fe, a1, a2, a3, a4, a5, a6, a7, a8, a9, a10, a11, a12, a13, a14, a15, a16, a17, a18, a19, a20, a21)) : wpX_extend post (fp, fi, fs, fg, fj, fu, fc, fe, a1, a2, a3, a4, a5, a6, a7, a8, a9, a10, a11, a12, a13, a14, a15, a16, a17, a18, a19, a20, a21) (nI c) := by
  refine ⟨vp_in_nI hc (by decide), nm_e ⟨1 + 8, ?_⟩⟩
  exact nj_ex_s (n := 1) 8 0 (fun d _ z => hs d (by omega)) (by omega) (br_t (by decide) H)
theorem nj_ex_g {post : St2 → Prop} {t P Q c : Nat} {x2 : Int32} {b12 b13 b14 : Nat → Int32} {b15 : Nat → Int64} (hG : nj_G t P Q fs a1 a2) (hc : c < 136) (h4 : a4 c = x2)
    (Hst : ∀ n, wX_extend_9 post (nI c) x2 n (nI (t + 1)) fp fi fs fg fj fu fc fe a1 a2 a3 a4 a5 a6 a7 a8 a9 a10 a11 b12 b13 b14 b15 a16 a17 a18 a19 a20 a21 → wX_extend_9 post (nI c) x2 (n + 1) (nI t) fp fi fs fg fj fu fc fe a1 a2 a3 a4 a5 a6 a7 a8 a9 a10 a11 a12 a13 a14 a15 a16 a17 a18 a19 a20 a21) (H : post (fp, fi, fs, fg, fj, fu, fc, fe, a1, a2, a3, a4, a5, a6, a7, a8, a9, a10, a11, b12, b13, b14, b15, a16, a17, a18, a19, a20, a21)) : wpX_extend post (fp, fi, fs, fg, fj, fu, fc, fe, a1, a2, a3, a4, a5, a6, a7, a8, a9, a10, a11, a12, a13, a14, a15, a16, a17, a18, a19, a20, a21) (nI c) := by
  have hs := hG.2.2.2.2.2
  have ht := hG.1
  refine ⟨vp_in_nI hc (by decide), nm_r (e' := x2) (by rw [nI_clamp (by omega)]; exact h4) ⟨1 + (7 - t) + 1 + t, ?_⟩⟩
  have k2 : wX_extend_9 post (nI c) x2 (1 + (7 - t)) (nI (t + 1)) fp fi fs fg fj fu fc fe a1 a2 a3 a4 a5 a6 a7 a8 a9 a10 a11 b12 b13 b14 b15 a16 a17 a18 a19 a20 a21 :=
    nj_ex_s (7 - t) (t + 1) (fun d z1 z2 => (hs d (by omega)).mpr (by omega)) (by omega) (by rw [show t + 1 + (7 - t) = 8 by omega]; exact br_t (by decide) H)
  exact nj_ex_s t 0 (fun d _ z2 => (hs d (by omega)).mpr (by omega)) (by omega) (by rw [Nat.zero_add]; exact Hst _ k2)
def nj_ot (P p : Nat) : Int32 := nI P &&& (((1 : Int32) <<< (nI p &&& 31)) ^^^ (-1))
/-- the place isn't taken from -/
theorem nj_ex_n {post : St2 → Prop} {t P Q c p : Nat} (hG : nj_G t P Q fs a1 a2) (hc : c < 136) (hp : p < 6) (h4 : a4 c = nI p) (hb : P.testBit p = false) (H : post (fp, fi, fs, fg, fj, fu, fc, fe, a1, a2, a3, a4, a5, a6, a7, a8, a9, a10, a11, a12, a13, a14, a15, a16, a17, a18, a19, a20, a21)) : wpX_extend post (fp, fi, fs, fg, fj, fu, fc, fe, a1, a2, a3, a4, a5, a6, a7, a8, a9, a10, a11, a12, a13, a14, a15, a16, a17, a18, a19, a20, a21) (nI c) := by
  obtain ⟨ht, hP, hQ, e1, e2, hs⟩ := id hG
  refine nj_ex_g hG hc h4 (fun n h => ?_) H
  refine br_f (nI_ge (b := 8) ht (by decide)) (nj_has ht (fun z => absurd rfl ((hs t ht).mp z)) (fun z => br_f (by decide) ⟨vp_in_nI ht (by decide), ?_⟩))
  rw [nI_clamp (by omega), e1]
  exact br_t ((nj_bit P hP p hp).mpr hb) (nm_r (nI_1 t) h)
theorem nj_ex_o {post : St2 → Prop} {t P Q c p : Nat} {b12 b13 b14 : Nat → Int32} {b15 : Nat → Int64} (hG : nj_G t P Q fs a1 a2) (hc : c < 136) (hp : p < 6) (h4 : a4 c = nI p) (hb : P.testBit p = true) (ho : nj_ot P p = 0)
    (Hoff : ∀ post' : St2 → Prop, post' (fp, fi, fs, fg, fj, fu, fc, fe, a1, a2, a3, a4, a5, a6, a7, a8, a9, a10, a11, b12, b13, b14, b15, a16, a17, a18, a19, a20, a21) → wpX_offer post' (fp, fi, fs, fg, fj, fu, fc, fe, a1, a2, a3, a4, a5, a6, a7, a8, a9, a10, a11, a12, a13, a14, a15, a16, a17, a18, a19, a20, a21) (nI t) (nI c) (-1)) (H : post (fp, fi, fs, fg, fj, fu, fc, fe, a1, a2, a3, a4, a5, a6, a7, a8, a9, a10, a11, b12, b13, b14, b15, a16, a17, a18, a19, a20, a21)) : wpX_extend post (fp, fi, fs, fg, fj, fu, fc, fe, a1, a2, a3, a4, a5, a6, a7, a8, a9, a10, a11, a12, a13, a14, a15, a16, a17, a18, a19, a20, a21) (nI c) := by
  obtain ⟨ht, hP, hQ, e1, e2, hs⟩ := id hG
  refine nj_ex_g hG hc h4 (fun n h => ?_) H
  refine br_f (nI_ge (b := 8) ht (by decide)) (nj_has ht (fun z => absurd rfl ((hs t ht).mp z)) (fun z => br_f (by decide) ⟨vp_in_nI ht (by decide), ?_⟩))
  rw [nI_clamp (by omega), e1]
  refine br_f (fun w => absurd (hb.symm.trans ((nj_bit P hP p hp).mp w)) (by decide)) ⟨vp_in_nI ht (by decide), nm_r (e' := 0) ho (br_t rfl (Hoff _ ?_))⟩
  exact nm_r (nI_1 t) h
theorem nj_ex_p {post : St2 → Prop} {t P Q c p : Nat} {b12 b13 b14 : Nat → Int32} {b15 : Nat → Int64} (hG : nj_G t P Q fs a1 a2) (hc : c < 136) (hp : p < 6) (h4 : a4 c = nI p) (hb : P.testBit p = true) (ho : ¬ nj_ot P p = 0)
    (Hoff : ∀ post' : St2 → Prop, post' (fp, fi, fs, fg, fj, fu, fc, fe, a1, a2, a3, a4, a5, a6, a7, a8, a9, a10, a11, b12, b13, b14, b15, a16, a17, a18, a19, a20, a21) → wpX_pairUp post' (fp, fi, fs, fg, fj, fu, fc, fe, a1, a2, a3, a4, a5, a6, a7, a8, a9, a10, a11, a12, a13, a14, a15, a16, a17, a18, a19, a20, a21) (nI t) (nI c) (nj_ot P p)) (H : post (fp, fi, fs, fg, fj, fu, fc, fe, a1, a2, a3, a4, a5, a6, a7, a8, a9, a10, a11, b12, b13, b14, b15, a16, a17, a18, a19, a20, a21)) : wpX_extend post (fp, fi, fs, fg, fj, fu, fc, fe, a1, a2, a3, a4, a5, a6, a7, a8, a9, a10, a11, a12, a13, a14, a15, a16, a17, a18, a19, a20, a21) (nI c) := by
  obtain ⟨ht, hP, hQ, e1, e2, hs⟩ := id hG
  refine nj_ex_g hG hc h4 (fun n h => ?_) H
  refine br_f (nI_ge (b := 8) ht (by decide)) (nj_has ht (fun z => absurd rfl ((hs t ht).mp z)) (fun z => br_f (by decide) ⟨vp_in_nI ht (by decide), ?_⟩))
  rw [nI_clamp (by omega), e1]
  refine br_f (fun w => absurd (hb.symm.trans ((nj_bit P hP p hp).mp w)) (by decide)) ⟨vp_in_nI ht (by decide), nm_r (e' := nj_ot P p) rfl (br_f ho (Hoff _ ?_))⟩
  exact nm_r (nI_1 t) h
/-- the place is taken from, but there is no partner -/
theorem nj_ex_q {post : St2 → Prop} {t P Q c p : Nat} (hG : nj_G t P Q fs a1 a2) (hc : c ≤ 64) (hp : p < 6) (h4 : a4 c = nI p) (hb : P.testBit p = true) (ho : ¬ nj_ot P p = 0) (hn : ∀ d, d < c → ¬ nj_mt a4 a6 c (nj_ot P p) d)
    (H : post (fp, fi, fs, fg, fj, fu, fc, fe, a1, a2, a3, a4, a5, a6, a7, a8, a9, a10, a11, a12, a13, a14, a15, a16, a17, a18, a19, a20, a21)) : wpX_extend post (fp, fi, fs, fg, fj, fu, fc, fe, a1, a2, a3, a4, a5, a6, a7, a8, a9, a10, a11, a12, a13, a14, a15, a16, a17, a18, a19, a20, a21) (nI c) :=
  nj_ex_p hG (by omega) hp h4 hb ho (fun post' h => nj_pu_n hc hn h) H
/-! rows of extends -/
theorem nj_pl_s {post : St2 → Prop} {n0 n : Nat} (hn0 : n0 ≤ 64) : ∀ r i, (∀ c, i ≤ c → c < i + r → ∀ post' : St2 → Prop, post' (fp, fi, fs, fg, fj, fu, fc, fe, a1, a2, a3, a4, a5, a6, a7, a8, a9, a10, a11, a12, a13, a14, a15, a16, a17, a18, a19, a20, a21) → wpX_extend post' (fp, fi, fs, fg, fj, fu, fc, fe, a1, a2, a3, a4, a5, a6, a7, a8, a9, a10, a11, a12, a13, a14, a15, a16, a17, a18, a19, a20, a21) (nI c)) → i + r ≤ n0 → wX_plant_60 post (nI n0) n (nI (i + r)) fp fi fs fg fj fu fc fe a1 a2 a3 a4 a5 a6 a7 a8 a9 a10 a11 a12 a13 a14 a15 a16 a17 a18 a19 a20 a21 → wX_plant_60 post (nI n0) (n + r) (nI i) fp fi fs fg fj fu fc fe a1 a2 a3 a4 a5 a6 a7 a8 a9 a10 a11 a12 a13 a14 a15 a16 a17 a18 a19 a20 a21 := by
  intro r
  induction r with
  | zero => intro i _ _ h; exact h
  | succ r ih =>
    intro i h1 h2 h
    have h' := ih (i + 1) (fun d z1 z2 => h1 d (by omega) (by omega)) (by omega) (by rw [show i + 1 + r = i + (r + 1) by omega]; exact h)
    show wX_plant_60 post (nI n0) ((n + r) + 1) (nI i) fp fi fs fg fj fu fc fe a1 a2 a3 a4 a5 a6 a7 a8 a9 a10 a11 a12 a13 a14 a15 a16 a17 a18 a19 a20 a21
    refine br_f (nI_ge (show i < n0 by omega) (by omega)) (h1 i (by omega) (by omega) _ ?_)
    exact nm_r (nI_1 i) h'
theorem nj_pl_n {post : St2 → Prop} {n0 : Nat} (hn0 : n0 ≤ 64) (h : ∀ c, c < n0 → ∀ post' : St2 → Prop, post' (fp, fi, fs, fg, fj, fu, fc, fe, a1, a2, a3, a4, a5, a6, a7, a8, a9, a10, a11, a12, a13, a14, a15, a16, a17, a18, a19, a20, a21) → wpX_extend post' (fp, fi, fs, fg, fj, fu, fc, fe, a1, a2, a3, a4, a5, a6, a7, a8, a9, a10, a11, a12, a13, a14, a15, a16, a17, a18, a19, a20, a21) (nI c)) (H : post (fp, fi, fs, fg, fj, fu, fc, fe, a1, a2, a3, a4, a5, a6, a7, a8, a9, a10, a11, a12, a13, a14, a15, a16, a17, a18, a19, a20, a21)) : ∃ N, wX_plant_60 post (nI n0) N 0 fp fi fs fg fj fu fc fe a1 a2 a3 a4 a5 a6 a7 a8 a9 a10 a11 a12 a13 a14 a15 a16 a17 a18 a19 a20 a21 := by
  have k := nj_pl_s (n := 1) (post := post) hn0 n0 0 (fun c _ z => h c (by omega)) (by omega) (by rw [Nat.zero_add]; exact br_t (nI_le (Nat.le_refl _) (by omega)) H)
  exact ⟨_, k⟩
theorem nj_pl_a {post : St2 → Prop} {n0 i : Nat} {b12 b13 b14 : Nat → Int32} {b15 : Nat → Int64} (hn0 : n0 ≤ 64) (hi : i < n0) (h1 : ∀ c, c < i → ∀ post' : St2 → Prop, post' (fp, fi, fs, fg, fj, fu, fc, fe, a1, a2, a3, a4, a5, a6, a7, a8, a9, a10, a11, a12, a13, a14, a15, a16, a17, a18, a19, a20, a21) → wpX_extend post' (fp, fi, fs, fg, fj, fu, fc, fe, a1, a2, a3, a4, a5, a6, a7, a8, a9, a10, a11, a12, a13, a14, a15, a16, a17, a18, a19, a20, a21) (nI c))
    (h2 : ∀ post' : St2 → Prop, post' (fp, fi, fs, fg, fj, fu, fc, fe, a1, a2, a3, a4, a5, a6, a7, a8, a9, a10, a11, b12, b13, b14, b15, a16, a17, a18, a19, a20, a21) → wpX_extend post' (fp, fi, fs, fg, fj, fu, fc, fe, a1, a2, a3, a4, a5, a6, a7, a8, a9, a10, a11, a12, a13, a14, a15, a16, a17, a18, a19, a20, a21) (nI i))
    (h3 : ∀ c, i < c → c < n0 → ∀ post' : St2 → Prop, post' (fp, fi, fs, fg, fj, fu, fc, fe, a1, a2, a3, a4, a5, a6, a7, a8, a9, a10, a11, b12, b13, b14, b15, a16, a17, a18, a19, a20, a21) → wpX_extend post' (fp, fi, fs, fg, fj, fu, fc, fe, a1, a2, a3, a4, a5, a6, a7, a8, a9, a10, a11, b12, b13, b14, b15, a16, a17, a18, a19, a20, a21) (nI c))
    (H : post (fp, fi, fs, fg, fj, fu, fc, fe, a1, a2, a3, a4, a5, a6, a7, a8, a9, a10, a11, b12, b13, b14, b15, a16, a17, a18, a19, a20, a21)) : ∃ N, wX_plant_60 post (nI n0) N 0 fp fi fs fg fj fu fc fe a1 a2 a3 a4 a5 a6 a7 a8 a9 a10 a11 a12 a13 a14 a15 a16 a17 a18 a19 a20 a21 := by
  have k2 : wX_plant_60 post (nI n0) (1 + (n0 - i - 1)) (nI (i + 1)) fp fi fs fg fj fu fc fe a1 a2 a3 a4 a5 a6 a7 a8 a9 a10 a11 b12 b13 b14 b15 a16 a17 a18 a19 a20 a21 :=
    nj_pl_s hn0 (n0 - i - 1) (i + 1) (fun c z1 z2 => h3 c (by omega) (by omega)) (by omega) (by rw [show i + 1 + (n0 - i - 1) = n0 by omega]; exact br_t (nI_le (Nat.le_refl _) (by omega)) H)
  have k1 : wX_plant_60 post (nI n0) (1 + (n0 - i - 1) + 1) (nI i) fp fi fs fg fj fu fc fe a1 a2 a3 a4 a5 a6 a7 a8 a9 a10 a11 a12 a13 a14 a15 a16 a17 a18 a19 a20 a21 := by
    refine br_f (nI_ge (show i < n0 by omega) (by omega)) (h2 _ ?_)
    exact nm_r (nI_1 i) k2
  have k0 := nj_pl_s (n := 1 + (n0 - i - 1) + 1) (post := post) hn0 i 0 (fun c _ z2 => h1 c (by omega)) (by omega) (by rw [Nat.zero_add]; exact k1)
  exact ⟨_, k0⟩
theorem nj_in_s {post : St2 → Prop} {n1 n : Nat} (hn1 : n1 ≤ 64) : ∀ r i, (∀ c, i ≤ c → c < i + r → ∀ post' : St2 → Prop, post' (fp, fi, fs, fg, fj, fu, fc, fe, a1, a2, a3, a4, a5, a6, a7, a8, a9, a10, a11, a12, a13, a14, a15, a16, a17, a18, a19, a20, a21) → wpX_extend post' (fp, fi, fs, fg, fj, fu, fc, fe, a1, a2, a3, a4, a5, a6, a7, a8, a9, a10, a11, a12, a13, a14, a15, a16, a17, a18, a19, a20, a21) (nI c)) → i + r ≤ n1 → wX_insert_226 post (nI n1) n (nI (i + r)) fp fi fs fg fj fu fc fe a1 a2 a3 a4 a5 a6 a7 a8 a9 a10 a11 a12 a13 a14 a15 a16 a17 a18 a19 a20 a21 → wX_insert_226 post (nI n1) (n + r) (nI i) fp fi fs fg fj fu fc fe a1 a2 a3 a4 a5 a6 a7 a8 a9 a10 a11 a12 a13 a14 a15 a16 a17 a18 a19 a20 a21 := by
  intro r
  induction r with
  | zero => intro i _ _ h; exact h
  | succ r ih =>
    intro i h1 h2 h
    have h' := ih (i + 1) (fun d z1 z2 => h1 d (by omega) (by omega)) (by omega) (by rw [show i + 1 + r = i + (r + 1) by omega]; exact h)
    show wX_insert_226 post (nI n1) ((n + r) + 1) (nI i) fp fi fs fg fj fu fc fe a1 a2 a3 a4 a5 a6 a7 a8 a9 a10 a11 a12 a13 a14 a15 a16 a17 a18 a19 a20 a21
    refine br_f (nI_ge (show i < n1 by omega) (by omega)) (h1 i (by omega) (by omega) _ ?_)
    exact nm_r (nI_1 i) h'
theorem nj_in_n {post : St2 → Prop} {n0 n1 : Nat} (hn1 : n1 ≤ 64) (h01 : n0 ≤ n1) (h : ∀ c, n0 ≤ c → c < n1 → ∀ post' : St2 → Prop, post' (fp, fi, fs, fg, fj, fu, fc, fe, a1, a2, a3, a4, a5, a6, a7, a8, a9, a10, a11, a12, a13, a14, a15, a16, a17, a18, a19, a20, a21) → wpX_extend post' (fp, fi, fs, fg, fj, fu, fc, fe, a1, a2, a3, a4, a5, a6, a7, a8, a9, a10, a11, a12, a13, a14, a15, a16, a17, a18, a19, a20, a21) (nI c)) (H : post (fp, fi, fs, fg, fj, fu, fc, fe, a1, a2, a3, a4, a5, a6, a7, a8, a9, a10, a11, a12, a13, a14, a15, a16, a17, a18, a19, a20, a21)) : ∃ N, wX_insert_226 post (nI n1) N (nI n0) fp fi fs fg fj fu fc fe a1 a2 a3 a4 a5 a6 a7 a8 a9 a10 a11 a12 a13 a14 a15 a16 a17 a18 a19 a20 a21 := by
  have k := nj_in_s (n := 1) (post := post) hn1 (n1 - n0) n0 (fun c z1 z2 => h c (by omega) (by omega)) (by omega) (by rw [show n0 + (n1 - n0) = n1 by omega]; exact br_t (nI_le (Nat.le_refl _) (by omega)) H)
  exact ⟨_, k⟩
end
end
section
/-! ===== plant ===== -/
/-- one or two places -/
def nj_12 (P : Nat) : Bool := decide (nj_on (nI P).toInt64 = 1) || decide (nj_on (nI P).toInt64 = 2)
theorem nj_shp : ∀ P, P < 64 → nj_12 P = true → (∃ p, p < 6 ∧ P = 2 ^ p) ∨ (∃ q, q < 6 ∧ ∃ p, p < q ∧ P = 2 ^ p + 2 ^ q) := by decide +kernel
theorem nj_s1 : ∀ p, p < 6 → ∀ x, x < 6 → (2 ^ p).testBit x = decide (x = p) := by decide +kernel
theorem nj_s2 : ∀ p, p < 6 → nj_ot (2 ^ p) p = 0 := by decide +kernel
theorem nj_d1 : ∀ q, q < 6 → ∀ p, p < q → ∀ x, x < 6 → (2 ^ p + 2 ^ q).testBit x = (decide (x = p) || decide (x = q)) := by decide +kernel
theorem nj_d2 : ∀ q, q < 6 → ∀ p, p < q → (nj_ot (2 ^ p + 2 ^ q) q = nI (2 ^ p) ∧ nj_ot (2 ^ p + 2 ^ q) p = nI (2 ^ q)) := by decide +kernel
theorem nj_d3 : ∀ x, x < 6 → ∀ p, p < 6 → ((1 : Int32) <<< (nI x &&& 31) = nI (2 ^ p) ↔ x = p) := by decide +kernel
theorem nj_d4 : ∀ p, p < 6 → ¬ nI (2 ^ p) = 0 := by decide +kernel
/-- the conditions that the event takes -/
def nj_On (m P one : Nat) (two : Int32) : Prop :=
  one < (nj_ls m 6).length ∧ ((two = -1 ∧ ∀ k, k < (nj_ls m 6).length → nj_co m P k = decide (k = one)) ∨
    (∃ d, d < (nj_ls m 6).length ∧ two = nI d ∧ ∀ k, k < (nj_ls m 6).length → nj_co m P k = (decide (k = one) || decide (k = d))))
section
variable {fp : Int32} {fi : Int32} {fs : Int32} {fg : Int32} {fj : Int32} {fu : Int32} {fc : Int32} {fe : Int32} {a1 : Nat → Int32} {a2 : Nat → Int32} {a3 : Nat → Int32} {a4 : Nat → Int32} {a5 : Nat → Int64} {a6 : Nat → Int64} {a7 : Nat → Int64} {a8 : Nat → Int64} {a9 : Nat → Int64} {a10 : Nat → Int64} {a11 : Nat → Int32} {a12 : Nat → Int32} {a13 : Nat → Int32} {a14 : Nat → Int32} {a15 : Nat → Int64} {a16 : Nat → Int32} {a17 : Nat → Int32} {a18 : Nat → Int64} {a19 : Nat → Int64} {a20 : Nat → Int64} {a21 : Nat → Int64}
theorem nj_pl30 {post : St2 → Prop} {J : Int32 → Int32 → Int32 → Int32 → Int32 → Int32 → Int32 → Int32 → Int32 → (Nat → Int32) → (Nat → Int32) → (Nat → Int32) → (Nat → Int32) → (Nat → Int64) → (Nat → Int64) → (Nat → Int64) → (Nat → Int64) → (Nat → Int64) → (Nat → Int64) → (Nat → Int32) → (Nat → Int32) → (Nat → Int32) → (Nat → Int32) → (Nat → Int64) → (Nat → Int32) → (Nat → Int32) → (Nat → Int64) → (Nat → Int64) → (Nat → Int64) → (Nat → Int64) → Prop} {p n : Nat} (hn : n < 64) (H : ∀ b6, nj_A6 a6 b6 (fun _ => true) n n → J (nI (p + 1)) fp fi fs fg fj fu fc fe a1 a2 a3 a4 a5 b6 a7 a8 a9 a10 a11 a12 a13 a14 a15 a16 a17 a18 a19 a20 a21) : ∃ N, wX_plant_30 post J (nI p) (nI n) N 0 fp fi fs fg fj fu fc fe a1 a2 a3 a4 a5 a6 a7 a8 a9 a10 a11 a12 a13 a14 a15 a16 a17 a18 a19 a20 a21 :=
  pk_loop (fun k i s => wX_plant_30 post J (nI p) (nI n) k (nI i) fp fi fs fg fj fu fc fe a1 a2 a3 a4 a5 s a7 a8 a9 a10 a11 a12 a13 a14 a15 a16 a17 a18 a19 a20 a21) (fun i s => nj_A6 a6 s (fun _ => true) n i) n 0 a6 (by omega) nj_A6_0
    (fun k s h => br_t (nI_le (Nat.le_refl _) (by omega)) (nm_r (nI_1 p) (H s h)))
    (fun k i s hi h hw => br_f (nI_ge hi (by omega)) (nj_putB (by omega) hn (nm_r (nI_1 i) (hw _ (nj_A6_t hi hn h rfl)))))
theorem nj_pl2 {post : St2 → Prop} {m P : Nat} (hm : m < 64)
    (H : ∀ b4 b5 b6 b7 b8, nj_Cd (nj_ls m 6) m P b4 b5 b6 b7 b8 → ∃ N, wX_plant_60 post (nI (nj_ls m 6).length) N 0 6 (nI m) fs fg fj fu (nI (nj_ls m 6).length) fe a1 a2 a3 b4 b5 b6 b7 b8 a9 a10 a11 a12 a13 a14 a15 a16 a17 a18 a19 a20 a21) :
    wpX_plant post (6, nI m, fs, fg, fj, fu, 0, fe, a1, a2, a3, a4, a5, a6, a7, a8, a9, a10, a11, a12, a13, a14, a15, a16, a17, a18, a19, a20, a21) := by
  refine pk_loop (σ := Int32 × (Nat → Int32) × (Nat → Int64) × (Nat → Int64) × (Nat → Int64) × (Nat → Int64))
    (fun k i s => wX_plant_2 post k (nI i) 6 (nI m) fs fg fj fu s.1 fe a1 a2 a3 s.2.1 s.2.2.1 s.2.2.2.1 s.2.2.2.2.1 s.2.2.2.2.2 a9 a10 a11 a12 a13 a14 a15 a16 a17 a18 a19 a20 a21)
    (fun i s => s.1 = nI (nj_ls m i).length ∧ nj_Cd (nj_ls m i) m P s.2.1 s.2.2.1 s.2.2.2.1 s.2.2.2.2.1 s.2.2.2.2.2) 6 0 (0, a4, a5, a6, a7, a8) (by omega) ⟨rfl, nj_Cd_0⟩ ?_ ?_
  · rintro k ⟨c, b4, b5, b6, b7, b8⟩ ⟨h1, h2⟩
    have h1' : c = nI (nj_ls m 6).length := h1
    subst h1'
    exact br_t (by decide) (H b4 b5 b6 b7 b8 h2)
  · rintro k i ⟨c, b4, b5, b6, b7, b8⟩ hi ⟨h1, h2⟩ hw
    have h1' : c = nI (nj_ls m i).length := h1
    subst h1'
    have hl := nj_ls_len m i
    refine br_f (nI_ge (b := 6) hi (by decide)) ?_
    refine ek_if (nj_bit m hm i hi) (fun z => ?_) (fun z => ?_)
    · refine nm_r (nI_1 i) (hw (nI (nj_ls m i).length, b4, b5, b6, b7, b8) ?_)
      rw [nj_ls_f z]
      exact ⟨rfl, h2⟩
    · have z' : m.testBit i = true := by
        cases hb : m.testBit i
        · exact absurd hb z
        · rfl
      have hm6 := nj_ls_mono m (show i + 1 ≤ 6 by omega)
      have e1 := nj_ls_t z'
      have el : (nj_ls m (i + 1)).length = (nj_ls m i).length + 1 := by rw [e1, List.length_append]; rfl
      refine nj_newC (by omega) hi (nj_pl30 (by omega) (fun c6 h6 => hw (nI ((nj_ls m i).length + 1), upd b4 (nj_ls m i).length (nI i), vp_updL b5 (nj_ls m i).length 0, c6, vp_updL b7 (nj_ls m i).length 0, vp_updL b8 (nj_ls m i).length 0) ⟨?_, ?_⟩))
      · rw [el]
      · rw [e1]
        exact nj_Cd_add h2 rfl (by rw [if_pos (by omega)]) (fun k hk => by rw [nj_B_o (by omega) (by omega)]; simp; omega) h6
/-- what the extends of the start conditions do: nothing, but for one of them if the transition is ready -/
theorem nj_pl_k {t m P Q : Nat} (hG : nj_G t P Q fs a1 a2) (hP2 : nj_12 P = true) (hC : nj_Cd (nj_ls m 6) m P a4 a5 a6 a7 a8) :
    (¬ nj_le P m ∧ ∀ c, c < (nj_ls m 6).length → ∀ (b12 b13 b14 : Nat → Int32) (b15 : Nat → Int64) (post' : St2 → Prop), post' (fp, fi, fs, fg, fj, fu, fc, fe, a1, a2, a3, a4, a5, a6, a7, a8, a9, a10, a11, b12, b13, b14, b15, a16, a17, a18, a19, a20, a21) → wpX_extend post' (fp, fi, fs, fg, fj, fu, fc, fe, a1, a2, a3, a4, a5, a6, a7, a8, a9, a10, a11, b12, b13, b14, b15, a16, a17, a18, a19, a20, a21) (nI c)) ∨
    (nj_le P m ∧ ∃ i two, nj_On m P i two ∧ two.toInt16.toInt32 = two ∧
      (∀ c, c < (nj_ls m 6).length → c ≠ i → ∀ (b12 b13 b14 : Nat → Int32) (b15 : Nat → Int64) (post' : St2 → Prop), post' (fp, fi, fs, fg, fj, fu, fc, fe, a1, a2, a3, a4, a5, a6, a7, a8, a9, a10, a11, b12, b13, b14, b15, a16, a17, a18, a19, a20, a21) → wpX_extend post' (fp, fi, fs, fg, fj, fu, fc, fe, a1, a2, a3, a4, a5, a6, a7, a8, a9, a10, a11, b12, b13, b14, b15, a16, a17, a18, a19, a20, a21) (nI c)) ∧
      (∀ (b12 b13 b14 : Nat → Int32) (b15 : Nat → Int64), (∀ post' : St2 → Prop, post' (fp, fi, fs, fg, fj, fu, fc, fe, a1, a2, a3, a4, a5, a6, a7, a8, a9, a10, a11, b12, b13, b14, b15, a16, a17, a18, a19, a20, a21) → wX_offer_23 post' (nI t) (nI i) two 0 fp fi fs fg fj fu fc fe a1 a2 a3 a4 a5 a6 a7 a8 a9 a10 a11 a12 a13 a14 a15 a16 a17 a18 a19 a20 a21) →
        ∀ post' : St2 → Prop, post' (fp, fi, fs, fg, fj, fu, fc, fe, a1, a2, a3, a4, a5, a6, a7, a8, a9, a10, a11, b12, b13, b14, b15, a16, a17, a18, a19, a20, a21) → wpX_extend post' (fp, fi, fs, fg, fj, fu, fc, fe, a1, a2, a3, a4, a5, a6, a7, a8, a9, a10, a11, a12, a13, a14, a15, a16, a17, a18, a19, a20, a21) (nI i))) := by
  obtain ⟨c1, c2, c3, c4⟩ := hC
  have hpw := nj_ls_pw m 6
  have hlen := nj_ls_len m 6
  have hpl : ∀ {c x}, (nj_ls m 6)[c]? = some x → x < 6 ∧ m.testBit x = true := fun h => nj_ls_m.mp (nj_gm.mpr ⟨_, h⟩)
  have c2' : ∀ j, j < (nj_ls m 6).length → a5 j = 0 := fun j hj => (c2 j hj).trans (if_pos hj)
  rcases nj_shp P hG.2.1 hP2 with ⟨p, hp, eP⟩ | ⟨q, hq, p, hpq, eP⟩
  · have hno : ∀ c, c < (nj_ls m 6).length → (nj_ls m 6)[c]? ≠ some p → ∀ (b12 b13 b14 : Nat → Int32) (b15 : Nat → Int64) (post' : St2 → Prop), post' (fp, fi, fs, fg, fj, fu, fc, fe, a1, a2, a3, a4, a5, a6, a7, a8, a9, a10, a11, b12, b13, b14, b15, a16, a17, a18, a19, a20, a21) → wpX_extend post' (fp, fi, fs, fg, fj, fu, fc, fe, a1, a2, a3, a4, a5, a6, a7, a8, a9, a10, a11, b12, b13, b14, b15, a16, a17, a18, a19, a20, a21) (nI c) := by
      intro c hc hne b12 b13 b14 b15 post' h
      obtain ⟨x, hx⟩ := nj_ge hc
      refine nj_ex_n hG (by omega) (hpl hx).1 (c1 c x hx) ?_ h
      rw [eP, nj_s1 p hp x (hpl hx).1]
      exact decide_eq_false (fun e => hne (by rw [← e]; exact hx))
    cases hb : m.testBit p
    · refine .inl ⟨fun hr => ?_, fun c hc => hno c hc (fun z => ?_)⟩
      · have := hr p hp (by rw [eP, nj_s1 p hp p hp]; simp)
        rw [hb] at this
        exact absurd this (by decide)
      · have := (hpl z).2
        rw [hb] at this
        exact absurd this (by decide)
    · obtain ⟨i, hi⟩ := nj_gm.mp (nj_ls_m.mpr ⟨hp, hb⟩)
      have hil := nj_gl hi
      refine .inr ⟨fun x hx h => ?_, i, -1, ⟨hil, .inl ⟨rfl, fun k hk => ?_⟩⟩, by decide, fun c hc hne => hno c hc (fun z => hne (nj_inj hpw z hi)), fun b12 b13 b14 b15 Hof post' h => ?_⟩
      · rw [eP, nj_s1 p hp x hx] at h
        rw [of_decide_eq_true h]
        exact hb
      · obtain ⟨x, hx⟩ := nj_ge hk
        rw [nj_co_s hx, eP, nj_s1 p hp x (hpl hx).1]
        by_cases e : k = i
        · subst e
          rw [hi] at hx
          simp [Option.some.inj hx]
        · have : ¬ x = p := fun z => e (nj_inj hpw hx (by rw [z]; exact hi))
          simp [e, this]
      · refine nj_ex_o hG (by omega) hp (c1 i p hi) (by rw [eP, nj_s1 p hp p hp]; simp) (by rw [eP]; exact nj_s2 p hp) (fun post'' h' => nj_off1 (by omega) ?_) h
        rw [c2' i hil]
        exact Hof _ h'
  · have hp : p < 6 := by omega
    have hbt : ∀ x, x < 6 → P.testBit x = (decide (x = p) || decide (x = q)) := fun x hx => by rw [eP]; exact nj_d1 q hq p hpq x hx
    have hPq : P.testBit q = true := by rw [hbt q hq]; simp
    have hPp : P.testBit p = true := by rw [hbt p hp]; simp
    have hoq : nj_ot P q = nI (2 ^ p) := by rw [eP]; exact (nj_d2 q hq p hpq).1
    have hop : nj_ot P p = nI (2 ^ q) := by rw [eP]; exact (nj_d2 q hq p hpq).2
    have hmt : ∀ {c d y x}, d < c → c < (nj_ls m 6).length → y < 6 → (nj_ls m 6)[d]? = some x → nj_mt a4 a6 c (nI (2 ^ y)) d → x = y := by
      intro c d y x _ _ hy hx h
      have h1 := h.1
      rw [c1 d x hx] at h1
      exact (nj_d3 x (hpl hx).1 y hy).mp h1
    -- no action where the place is neither, or the smaller one, or the larger one without a partner
    have hno : ∀ c x, (nj_ls m 6)[c]? = some x → (x = q → m.testBit p = false) → ∀ (b12 b13 b14 : Nat → Int32) (b15 : Nat → Int64) (post' : St2 → Prop), post' (fp, fi, fs, fg, fj, fu, fc, fe, a1, a2, a3, a4, a5, a6, a7, a8, a9, a10, a11, b12, b13, b14, b15, a16, a17, a18, a19, a20, a21) → wpX_extend post' (fp, fi, fs, fg, fj, fu, fc, fe, a1, a2, a3, a4, a5, a6, a7, a8, a9, a10, a11, b12, b13, b14, b15, a16, a17, a18, a19, a20, a21) (nI c) := by
      intro c x hx hxq b12 b13 b14 b15 post' h
      have hc := nj_gl hx
      by_cases e1 : x = p
      · subst e1
        refine nj_ex_q hG (by omega) hp (c1 c x hx) hPp (by rw [hop]; exact nj_d4 q hq) (fun d hd hm => ?_) h
        rw [hop] at hm
        obtain ⟨y, hy⟩ := nj_ge (show d < (nj_ls m 6).length by omega)
        have e := hmt hd hc hq hy hm
        have := nj_srt hpw hy hx hd
        omega
      · by_cases e2 : x = q
        · subst e2
          refine nj_ex_q hG (by omega) hq (c1 c x hx) hPq (by rw [hoq]; exact nj_d4 p hp) (fun d hd hm => ?_) h
          rw [hoq] at hm
          obtain ⟨y, hy⟩ := nj_ge (show d < (nj_ls m 6).length by omega)
          have e := hmt hd hc hp hy hm
          have t := (hpl hy).2
          rw [e, hxq rfl] at t
          exact absurd t (by decide)
        · refine nj_ex_n hG (by omega) (hpl hx).1 (c1 c x hx) ?_ h
          rw [hbt x (hpl hx).1]
          simp [e1, e2]
    by_cases hr : m.testBit p = true ∧ m.testBit q = true
    · obtain ⟨hmp, hmq⟩ := hr
      obtain ⟨i, hi⟩ := nj_gm.mp (nj_ls_m.mpr ⟨hq, hmq⟩)
      obtain ⟨d, hd⟩ := nj_gm.mp (nj_ls_m.mpr ⟨hp, hmp⟩)
      have hil := nj_gl hi
      have hdl := nj_gl hd
      have hdi : d < i := by
        rcases Nat.lt_trichotomy d i with z | z | z
        · exact z
        · subst z
          rw [hi] at hd
          have := Option.some.inj hd
          omega
        · have := nj_srt hpw hi hd z
          omega
      refine .inr ⟨fun x hx h => ?_, i, nI d, ⟨hil, .inr ⟨d, hdl, rfl, fun k hk => ?_⟩⟩, nj_o16 d (by omega), fun c hc hne => ?_, fun b12 b13 b14 b15 Hof post' h => ?_⟩
      · rw [hbt x hx, Bool.or_eq_true, decide_eq_true_eq, decide_eq_true_eq] at h
        rcases h with h | h
        · rw [h]; exact hmp
        · rw [h]; exact hmq
      · obtain ⟨x, hx⟩ := nj_ge hk
        rw [nj_co_s hx, hbt x (hpl hx).1]
        have t1 : x = q ↔ k = i := ⟨fun z => nj_inj hpw hx (by rw [z]; exact hi), fun z => by subst z; rw [hi] at hx; exact (Option.some.inj hx).symm⟩
        have t2 : x = p ↔ k = d := ⟨fun z => nj_inj hpw hx (by rw [z]; exact hd), fun z => by subst z; rw [hd] at hx; exact (Option.some.inj hx).symm⟩
        rw [decide_eq_decide.mpr t1, decide_eq_decide.mpr t2, Bool.or_comm]
      · obtain ⟨x, hx⟩ := nj_ge hc
        exact hno c x hx (fun z => absurd (nj_inj hpw hx (by rw [z]; exact hi)) hne)
      · refine nj_ex_p hG (by omega) hq (c1 i q hi) hPq (by rw [hoq]; exact nj_d4 p hp) (fun post'' h' => nj_pu_a (d0 := d) (by omega) hdi ⟨?_, ?_⟩ (fun d' hd' hne hm => ?_) (fun post3 h3 => nj_off2 (by omega) (by omega) ?_) h') h
        · rw [hoq, c1 d p hd]
          exact (nj_d3 p hp p hp).mpr rfl
        · rw [c3 i d hil, nj_B_o hil hdl, decide_eq_true hdl, decide_eq_true (show i ≠ d by omega)]
          rfl
        · rw [hoq] at hm
          obtain ⟨y, hy⟩ := nj_ge (show d' < (nj_ls m 6).length by omega)
          have e := hmt hd' hil hp hy hm
          exact hne (nj_inj hpw hy (by rw [e]; exact hd))
        · rw [c2' i hil, c2' d hdl, show (0 : Int64) ||| 0 = 0 by decide]
          exact Hof _ h3
    · refine .inl ⟨fun h => hr ⟨h p hp hPp, h q hq hPq⟩, fun c hc => ?_⟩
      obtain ⟨x, hx⟩ := nj_ge hc
      refine hno c x hx (fun z => ?_)
      have := (hpl hx).2
      rw [z] at this
      cases hb : m.testBit p
      · rfl
      · exact absurd ⟨hb, this⟩ hr
theorem nj_plant {post : St2 → Prop} {t m P Q : Nat} (hG : nj_G t P Q fs a1 a2) (hm : m < 64) (hP2 : nj_12 P = true) (h9 : ∀ i, i < 8 → a9 i = 0) (h11 : ∀ x, x < 64 → a11 x = if x = m then 1 else 0) (h12 : ∀ x, x < 64 → a12 x = -1)
    (H0 : (¬ nj_le P m ∨ nj_nx m P Q = m) → ∀ b4 b5 b6 b7 b8, nj_Cd (nj_ls m 6) m P b4 b5 b6 b7 b8 → post (6, nI m, fs, fg, fj, fu, nI (nj_ls m 6).length, fe, a1, a2, a3, b4, b5, b6, b7, b8, a9, a10, a11, a12, a13, a14, a15, a16, a17, a18, a19, a20, a21))
    (H1 : nj_le P m → nj_nx m P Q ≠ m → ∀ b4 b5 b6 b7 b8 one two, nj_Cd (nj_ls m 6) m P b4 b5 b6 b7 b8 → nj_On m P one two →
      post (6, nI m, fs, fg, fj, fu, nI (nj_ls m 6).length, fe, a1, a2, a3, b4, b5, b6, b7, b8, a9, a10, a11, upd a12 (nj_nx m P Q) (nI t), upd a13 (nj_nx m P Q) (nI one), upd a14 (nj_nx m P Q) two, vp_updL a15 (nj_nx m P Q) 0, a16, a17, a18, a19, a20, a21)) :
    wpX_plant post (6, nI m, fs, fg, fj, fu, 0, fe, a1, a2, a3, a4, a5, a6, a7, a8, a9, a10, a11, a12, a13, a14, a15, a16, a17, a18, a19, a20, a21) := by
  refine nj_pl2 (P := P) hm (fun b4 b5 b6 b7 b8 hC => ?_)
  have hlen := nj_ls_len m 6
  have hl := nj_nx_lt hm hG.2.1 hG.2.2.1
  have hk : nj_on ((0 : Int64) &&& a9 t) = nI 0 := by
    rw [h9 t hG.1, show (0 : Int64) &&& 0 = 0 by decide]
    exact nj_on0
  rcases nj_pl_k (fp := 6) (fi := nI m) (fg := fg) (fj := fj) (fu := fu) (fc := nI (nj_ls m 6).length) (fe := fe) (a3 := a3) (a9 := a9) (a10 := a10) (a11 := a11) (a12 := a12) (a13 := a13) (a14 := a14) (a15 := a15) (a16 := a16) (a17 := a17) (a18 := a18) (a19 := a19) (a20 := a20) (a21 := a21) hG hP2 hC with ⟨hr, hno⟩ | ⟨hr, i, two, hO, h16, hno, hact⟩
  · exact nj_pl_n (by omega) (fun c hc post' h => hno c hc _ _ _ _ post' h) (H0 (.inl hr) b4 b5 b6 b7 b8 hC)
  · by_cases hx : nj_nx m P Q = m
    · have hcl : ¬ a11 (nj_nx m P Q) = 0 := by
        rw [h11 _ hl, if_pos hx]
        decide
      exact nj_pl_a (by omega) hO.1 (fun c hc post' h => hno c (by have := hO.1; omega) (by omega) _ _ _ _ post' h)
        (hact _ _ _ _ (fun post' h => nj_of_c hG hm (fun i hi _ => h9 i hi) hk (.inl rfl) hr (fun z => absurd z (by decide)) hcl h))
        (fun c hc1 hc2 post' h => hno c hc2 (by omega) _ _ _ _ post' h) (H0 (.inr hx) b4 b5 b6 b7 b8 hC)
    · have hcl : a11 (nj_nx m P Q) = 0 := by
        rw [h11 _ hl, if_neg hx]
      exact nj_pl_a (by omega) hO.1 (fun c hc post' h => hno c (by have := hO.1; omega) (by omega) _ _ _ _ post' h)
        (hact _ _ _ _ (fun post' h => nj_of_n hG hm (fun i hi _ => h9 i hi) hk (.inl rfl) hr (fun z => absurd z (by decide)) (by have := hO.1; omega) h16 hcl (by rw [h12 _ hl]; decide) h))
        (fun c hc1 hc2 post' h => hno c hc2 (by omega) _ _ _ _ post' h) (H1 hr hx b4 b5 b6 b7 b8 i two hC hO)
end
end
section
/-! ===== settle, insert ===== -/
theorem nj_QP : ∀ q, q < 6 → ∀ p, p < q → ∀ Q, Q < 64 → (nj_12 Q && Q.testBit p && Q.testBit q) = true → Q = 2 ^ p + 2 ^ q := by decide +kernel
theorem nj_dne (a b : Nat) : decide (a ≠ b) = !decide (b = a) := by
  by_cases e : a = b
  · subst e; simp
  · rw [decide_eq_true e, decide_eq_false (fun z => e z.symm)]; rfl
theorem nj_nxm {m P : Nat} (hm : m < 64) (hP : P < 64) (h : nj_le P m) : nj_nx m P P = m := by
  refine nj_ext (nj_nx_lt hm hP hP) hm (fun p hp => ?_)
  rw [nj_nx_t]
  have := h p hp
  revert this
  cases P.testBit p <;> cases m.testBit p <;> simp
/-- clear, as far as place i -/
def nj_cu (P Q m i : Nat) : Prop := ∀ p, p < i → Q.testBit p = true → m.testBit p = true → P.testBit p = true
section
variable {fp : Int32} {fi : Int32} {fs : Int32} {fg : Int32} {fj : Int32} {fu : Int32} {fc : Int32} {fe : Int32} {a1 : Nat → Int32} {a2 : Nat → Int32} {a3 : Nat → Int32} {a4 : Nat → Int32} {a5 : Nat → Int64} {a6 : Nat → Int64} {a7 : Nat → Int64} {a8 : Nat → Int64} {a9 : Nat → Int64} {a10 : Nat → Int64} {a11 : Nat → Int32} {a12 : Nat → Int32} {a13 : Nat → Int32} {a14 : Nat → Int32} {a15 : Nat → Int64} {a16 : Nat → Int32} {a17 : Nat → Int32} {a18 : Nat → Int64} {a19 : Nat → Int64} {a20 : Nat → Int64} {a21 : Nat → Int64}
theorem nj_settle {post : St2 → Prop} {n n0 : Nat} {w1 w2 w3 : Int64} {bes : Nat → Bool} (hn : n < 64) (hn0 : n0 < 2 ^ 31) (hb1 : ∀ k, k < n → n0 ≤ k → bes k = true) (hb2 : ∀ k, k < n → k < n0 → bes k = nj_t w1 k)
    (H : ∀ b6 u, nj_A6 a6 b6 bes n n → ((u = fu ∧ ∀ k, k < n → bes k = true → a4 k ≠ a4 n) ∨ (u = 1 ∧ ∃ k, k < n ∧ bes k = true ∧ a4 k = a4 n)) → post (fp, fi, fs, fg, fj, u, fc, fe, a1, a2, a3, a4, a5, b6, a7, a8, a9, a10, a11, a12, a13, a14, a15, a16, a17, a18, a19, a20, a21)) : wpX_settle post (fp, fi, fs, fg, fj, fu, fc, fe, a1, a2, a3, a4, a5, a6, a7, a8, a9, a10, a11, a12, a13, a14, a15, a16, a17, a18, a19, a20, a21) (nI n) (nI n0) w1 w2 w3 := by
  refine pk_loop (σ := (Nat → Int64) × Int32) (fun k i s => wX_settle_3 post (nI n) (nI n0) w1 w2 w3 k (nI i) fp fi fs fg fj s.2 fc fe a1 a2 a3 a4 a5 s.1 a7 a8 a9 a10 a11 a12 a13 a14 a15 a16 a17 a18 a19 a20 a21)
    (fun i s => nj_A6 a6 s.1 bes n i ∧ ((s.2 = fu ∧ ∀ k, k < i → bes k = true → a4 k ≠ a4 n) ∨ (s.2 = 1 ∧ ∃ k, k < i ∧ bes k = true ∧ a4 k = a4 n))) n 0 (a6, fu) (by omega)
    ⟨nj_A6_0, .inl ⟨rfl, fun k hk => absurd hk (by omega)⟩⟩ ?_ ?_
  · rintro k ⟨b6, u⟩ ⟨h1, h2⟩
    exact br_t (nI_le (Nat.le_refl _) (by omega)) (H b6 u h1 h2)
  · rintro k i ⟨b6, u⟩ hi ⟨h1, h2⟩ hw
    have hY : bes i = true → wX_settle_33 post (wX_settle_3 post (nI n) (nI n0) w1 w2 w3 k) (nI n) (nI n0) w1 w2 w3 (nI i) 1 fp fi fs fg fj u fc fe a1 a2 a3 a4 a5 b6 a7 a8 a9 a10 a11 a12 a13 a14 a15 a16 a17 a18 a19 a20 a21 := by
      intro hb
      refine br_f (by decide) (nj_putB (by omega) hn ?_)
      refine ⟨vp_in_nI (by omega) (by decide), vp_in_nI (by omega) (by decide), ?_⟩
      rw [nI_clamp (show i < 2 ^ 31 by omega), nI_clamp (show n < 2 ^ 31 by omega)]
      refine br_c (fun z => nm_r (nI_1 i) (hw (nj_mb (nj_mb b6 i n) n i, 1) ⟨nj_A6_t hi hn h1 hb, .inr ⟨rfl, i, by omega, hb, z⟩⟩)) (fun z => nm_r (nI_1 i) (hw (nj_mb (nj_mb b6 i n) n i, u) ⟨nj_A6_t hi hn h1 hb, ?_⟩))
      rcases h2 with ⟨e, g⟩ | ⟨e, k', g1, g2, g3⟩
      · refine .inl ⟨e, fun k' hk' hb' => ?_⟩
        by_cases q : k' = i
        · rw [q]; exact z
        · exact g k' (by omega) hb'
      · exact .inr ⟨e, k', by omega, g2, g3⟩
    have hN : bes i = false → wX_settle_33 post (wX_settle_3 post (nI n) (nI n0) w1 w2 w3 k) (nI n) (nI n0) w1 w2 w3 (nI i) 0 fp fi fs fg fj u fc fe a1 a2 a3 a4 a5 b6 a7 a8 a9 a10 a11 a12 a13 a14 a15 a16 a17 a18 a19 a20 a21 := by
      intro hb
      refine br_t rfl (nm_r (nI_1 i) (hw (b6, u) ⟨nj_A6_f h1 hb, ?_⟩))
      rcases h2 with ⟨e, g⟩ | ⟨e, k', g1, g2, g3⟩
      · refine .inl ⟨e, fun k' hk' hb' => ?_⟩
        by_cases q : k' = i
        · rw [q, hb] at hb'
          exact absurd hb' (by decide)
        · exact g k' (by omega) hb'
      · exact .inr ⟨e, k', by omega, g2, g3⟩
    exact br_f (nI_ge hi (by omega)) (pk_le n0 i (fun z => hY (hb1 i hi z)) (fun z => nj_inW (by omega) (fun w => br_f (by decide) (hY ((hb2 i hi z).trans w))) (fun w => br_t rfl (hN ((hb2 i hi z).trans w)))))
theorem nj_depth0 {post : Int32 → Prop} (h : post 1) : wpX_depthAfter post (fp, fi, fs, fg, fj, fu, fc, fe, a1, a2, a3, a4, a5, a6, a7, a8, a9, a10, a11, a12, a13, a14, a15, a16, a17, a18, a19, a20, a21) 0 :=
  pk_loop (fun n i s => wX_depthAfter_5 post 0 fp fi fs fg fj fu fc fe a1 a2 a3 a4 a5 a6 a7 a8 a9 a10 a11 a12 a13 a14 a15 a16 a17 a18 a19 a20 a21 n s (nI i)) (fun i s => s = 1) 65 1 1 (by omega) rfl
    (fun n s hs => br_t (by decide) (by subst hs; exact h))
    (fun n i s hi hs hw => br_f (nI_ge (b := 65) hi (by decide)) ⟨vp_in_nI (by omega) (by decide), br_t Int64.and_zero (nm_r (nI_1 i) (hw s hs))⟩)
theorem nj_in160 {post : St2 → Prop} {t m P Q : Nat} {w1 w2 w3 : Int64} (ht : t < 8) (hQ : Q < 64) (e2 : a2 t = nI Q) (hw1 : ∀ k, k < (nj_ls m 6).length → nj_t w1 k = !nj_co m P k) (hC : nj_Cd (nj_ls m 6) m P a4 a5 a6 a7 a8)
    (H : ∀ b4 b5 b6 b7 b8 u, nj_Cd (nj_ls m 6 ++ nj_ls Q 6) m P b4 b5 b6 b7 b8 → ((u = 0 ∧ nj_cl P Q m) ∨ (u = 1 ∧ ¬ nj_cl P Q m)) →
      ∃ N, wX_insert_226 post (nI (nj_ls m 6 ++ nj_ls Q 6).length) N (nI (nj_ls m 6).length) 6 fi fs fg fj u (nI (nj_ls m 6 ++ nj_ls Q 6).length) fe a1 a2 a3 b4 b5 b6 b7 b8 a9 a10 a11 a12 a13 a14 a15 a16 a17 a18 a19 a20 a21) :
    ∃ N, wX_insert_160 post (nI t) 0 1 w1 w2 w3 (nI (nj_ls m 6).length) N 0 6 fi fs fg fj 0 (nI (nj_ls m 6).length) fe a1 a2 a3 a4 a5 a6 a7 a8 a9 a10 a11 a12 a13 a14 a15 a16 a17 a18 a19 a20 a21 := by
  have hlm := nj_ls_len m 6
  refine pk_loop (σ := Int32 × Int32 × (Nat → Int32) × (Nat → Int64) × (Nat → Int64) × (Nat → Int64) × (Nat → Int64))
    (fun k i s => wX_insert_160 post (nI t) 0 1 w1 w2 w3 (nI (nj_ls m 6).length) k (nI i) 6 fi fs fg fj s.1 s.2.1 fe a1 a2 a3 s.2.2.1 s.2.2.2.1 s.2.2.2.2.1 s.2.2.2.2.2.1 s.2.2.2.2.2.2 a9 a10 a11 a12 a13 a14 a15 a16 a17 a18 a19 a20 a21)
    (fun i s => s.2.1 = nI (nj_ls m 6 ++ nj_ls Q i).length ∧ nj_Cd (nj_ls m 6 ++ nj_ls Q i) m P s.2.2.1 s.2.2.2.1 s.2.2.2.2.1 s.2.2.2.2.2.1 s.2.2.2.2.2.2 ∧ ((s.1 = 0 ∧ nj_cu P Q m i) ∨ (s.1 = 1 ∧ ¬ nj_cu P Q m i)))
    6 0 (0, nI (nj_ls m 6).length, a4, a5, a6, a7, a8) (by omega) ⟨?_, ?_, .inl ⟨rfl, fun p hp => absurd hp (by omega)⟩⟩ ?_ ?_
  · rw [show nj_ls Q 0 = [] from rfl, List.append_nil]
  · rw [show nj_ls Q 0 = [] from rfl, List.append_nil]
    exact hC
  · rintro k ⟨u, c, b4, b5, b6, b7, b8⟩ ⟨h1, h2, h3⟩
    have h1' : c = nI (nj_ls m 6 ++ nj_ls Q 6).length := h1
    subst h1'
    exact br_t (by decide) (H b4 b5 b6 b7 b8 u h2 h3)
  · rintro k i ⟨u, c, b4, b5, b6, b7, b8⟩ hi ⟨h1, h2, h3⟩ hw
    have h1' : c = nI (nj_ls m 6 ++ nj_ls Q i).length := h1
    subst h1'
    have hlq := nj_ls_len Q i
    have hla : (nj_ls m 6 ++ nj_ls Q i).length = (nj_ls m 6).length + (nj_ls Q i).length := List.length_append
    refine br_f (nI_ge (b := 6) hi (by decide)) ⟨vp_in_nI ht (by decide), ?_⟩
    rw [nI_clamp (by omega), e2]
    refine ek_if (nj_bit Q hQ i hi) (fun z => ?_) (fun z => ?_)
    · refine nm_r (nI_1 i) (hw (u, nI (nj_ls m 6 ++ nj_ls Q i).length, b4, b5, b6, b7, b8) ?_)
      rw [nj_ls_f z]
      refine ⟨rfl, h2, ?_⟩
      have ec : nj_cu P Q m (i + 1) ↔ nj_cu P Q m i := by
        constructor
        · exact fun h p hp => h p (by omega)
        · intro h p hp hq
          by_cases e : p = i
          · rw [e, z] at hq
            exact absurd hq (by decide)
          · exact h p (by omega) hq
      rw [ec]
      exact h3
    · have z' : Q.testBit i = true := by
        cases hb : Q.testBit i
        · exact absurd hb z
        · rfl
      have e1 : nj_ls m 6 ++ nj_ls Q (i + 1) = (nj_ls m 6 ++ nj_ls Q i) ++ [i] := by rw [nj_ls_t z', List.append_assoc]
      have el : (nj_ls m 6 ++ nj_ls Q (i + 1)).length = (nj_ls m 6 ++ nj_ls Q i).length + 1 := by rw [e1, List.length_append]; rfl
      refine nj_newC (n := (nj_ls m 6 ++ nj_ls Q i).length) (by omega) hi ?_
      refine nj_settle (bes := fun k => nj_B m P k (nj_ls m 6 ++ nj_ls Q i).length) (by omega) (by omega) (fun k hk h0 => ?_) (fun k hk h0 => ?_) (fun c6 u' h6 hu => ?_)
      · show nj_B m P k _ = true
        rw [nj_B_n (by omega) hk, nj_co_n h0]
        rfl
      · show nj_B m P k _ = _
        rw [nj_B_n (by omega) hk, hw1 k h0]
      · refine nm_r (nI_1 i) (hw (u', nI ((nj_ls m 6 ++ nj_ls Q i).length + 1), upd b4 (nj_ls m 6 ++ nj_ls Q i).length (nI i), vp_updL b5 (nj_ls m 6 ++ nj_ls Q i).length (0 ||| 1), c6, vp_updL b7 (nj_ls m 6 ++ nj_ls Q i).length 0, vp_updL b8 (nj_ls m 6 ++ nj_ls Q i).length 0) ⟨?_, ?_, ?_⟩)
        · rw [el]
        · rw [e1]
          exact nj_Cd_add h2 rfl (by rw [if_neg (by omega)]; decide) (fun k hk => rfl) h6
        · show (u' = 0 ∧ nj_cu P Q m (i + 1)) ∨ (u' = 1 ∧ ¬ nj_cu P Q m (i + 1))
          have hpl : ∀ k p, (nj_ls m 6 ++ nj_ls Q i)[k]? = some p → upd b4 (nj_ls m 6 ++ nj_ls Q i).length (nI i) k = nI p := by
            intro k p hk
            have := nj_gl hk
            rw [pk_un (by omega)]
            exact h2.1 k p hk
          rcases hu with ⟨hu, g⟩ | ⟨hu, k, g1, g2, g3⟩
          · have key : m.testBit i = true → P.testBit i = true := by
              intro hmi
              obtain ⟨k, hk⟩ := nj_gm.mp (nj_ls_m.mpr ⟨hi, hmi⟩)
              have hkl := nj_gl hk
              cases hb : P.testBit i
              · refine absurd ?_ (g k (by omega) ?_)
                · rw [pk_us, hpl k i (nj_ga.mpr (.inl hk))]
                · show nj_B m P k _ = true
                  rw [nj_B_n (by omega) (by omega), nj_co_s hk, hb]
                  rfl
              · rfl
            have ec : nj_cu P Q m (i + 1) ↔ nj_cu P Q m i := by
              constructor
              · exact fun h p hp => h p (by omega)
              · intro h p hp hq hmp
                by_cases e : p = i
                · rw [e] at hmp ⊢
                  exact key hmp
                · exact h p (by omega) hq hmp
            rw [ec, hu]
            exact h3
          · refine .inr ⟨hu, fun hcu => ?_⟩
            rw [pk_us] at g3
            obtain ⟨p, hp⟩ := nj_ge g1
            rw [hpl k p hp] at g3
            have g2' : nj_B m P k (nj_ls m 6 ++ nj_ls Q i).length = true := g2
            rw [nj_B_n (by omega) g1] at g2'
            rcases nj_ga.mp hp with q | ⟨q0, q⟩
            · have hpm := nj_ls_m.mp (nj_gm.mpr ⟨k, q⟩)
              have e : p = i := (nI_eq (by omega) (by omega)).mp g3
              subst e
              rw [nj_co_s q, hcu p (by omega) z' hpm.2] at g2'
              exact absurd g2' (by decide)
            · have hpm := nj_ls_m.mp (nj_gm.mpr ⟨_, q⟩)
              have e : p = i := (nI_eq (by omega) (by omega)).mp g3
              omega
/-- the extends of the new conditions change nothing -/
theorem nj_new_ex {t m P Q c : Nat} (hG : nj_G t P Q fs a1 a2) (hm : m < 64) (hP2 : nj_12 P = true) (hQ2 : nj_12 Q = true) (hr : nj_le P m) (hne : nj_nx m P Q ≠ m) (h9 : ∀ i, i < 8 → i ≠ t → a9 i = 0) (h9t : a9 t = 1)
    (h11 : ¬ a11 (nj_nx m P Q) = 0) (hC : nj_Cd (nj_ls m 6 ++ nj_ls Q 6) m P a4 a5 a6 a7 a8) (h0 : (nj_ls m 6).length ≤ c) (h1 : c < (nj_ls m 6 ++ nj_ls Q 6).length)
    (post : St2 → Prop) (h : post (fp, nI m, fs, fg, fj, fu, fc, fe, a1, a2, a3, a4, a5, a6, a7, a8, a9, a10, a11, a12, a13, a14, a15, a16, a17, a18, a19, a20, a21)) : wpX_extend post (fp, nI m, fs, fg, fj, fu, fc, fe, a1, a2, a3, a4, a5, a6, a7, a8, a9, a10, a11, a12, a13, a14, a15, a16, a17, a18, a19, a20, a21) (nI c) := by
  obtain ⟨c1, c2, c3, c4⟩ := hC
  have hla : (nj_ls m 6 ++ nj_ls Q 6).length = (nj_ls m 6).length + (nj_ls Q 6).length := List.length_append
  have hlm := nj_ls_len m 6
  have hlq := nj_ls_len Q 6
  obtain ⟨x, hx⟩ := nj_ge h1
  have hxQ : x < 6 ∧ Q.testBit x = true := by
    rcases nj_ga.mp hx with q | ⟨_, q⟩
    · exact absurd (nj_gl q) (by omega)
    · exact nj_ls_m.mp (nj_gm.mpr ⟨_, q⟩)
  have hnb : ∀ d y, d < c → y < 6 → P.testBit y = true → Q.testBit y = false → ¬ nj_mt a4 a6 c (nI (2 ^ y)) d := by
    intro d y hd hy hPy hQy hmt
    obtain ⟨z, hz⟩ := nj_ge (show d < (nj_ls m 6 ++ nj_ls Q 6).length by omega)
    have t1 := hmt.1
    have t2 := hmt.2
    rw [c1 d z hz] at t1
    rw [c3 c d h1] at t2
    rcases nj_ga.mp hz with q | ⟨_, q⟩
    · have hz6 := (nj_ls_m.mp (nj_gm.mpr ⟨_, q⟩)).1
      have e := (nj_d3 z hz6 y hy).mp t1
      rw [nj_B_s, nj_B_n h0 hd, nj_co_s q, e, hPy] at t2
      simp at t2
    · have hz6 := nj_ls_m.mp (nj_gm.mpr ⟨_, q⟩)
      have e := (nj_d3 z hz6.1 y hy).mp t1
      rw [e, hQy] at hz6
      exact absurd hz6.2 (by decide)
  rcases nj_shp P hG.2.1 hP2 with ⟨p, hp, eP⟩ | ⟨q, hq, p, hpq, eP⟩
  · by_cases e : x = p
    · subst e
      refine nj_ex_o hG (by omega) hp (c1 c x hx) (by rw [eP, nj_s1 x hp x hp]; simp) (by rw [eP]; exact nj_s2 x hp) (fun post'' h' => nj_off1 (by omega) ?_) h
      refine nj_of_c hG hm h9 (k := 1) ?_ (.inr rfl) hr (fun _ y hy hPy => ?_) h11 h'
      · rw [c2 c h1, if_neg (by omega), h9t, show (1 : Int64) &&& 1 = 1 by decide]
        exact nj_on1
      · rw [eP, nj_s1 x hp y hy] at hPy
        rw [of_decide_eq_true hPy]
        exact hxQ.2
    · refine nj_ex_n hG (by omega) hxQ.1 (c1 c x hx) ?_ h
      rw [eP, nj_s1 p hp x hxQ.1]
      exact decide_eq_false e
  · have hp : p < 6 := by omega
    have hbt : ∀ x, x < 6 → P.testBit x = (decide (x = p) || decide (x = q)) := fun x hx => by rw [eP]; exact nj_d1 q hq p hpq x hx
    have hPq : P.testBit q = true := by rw [hbt q hq]; simp
    have hPp : P.testBit p = true := by rw [hbt p hp]; simp
    have hoq : nj_ot P q = nI (2 ^ p) := by rw [eP]; exact (nj_d2 q hq p hpq).1
    have hop : nj_ot P p = nI (2 ^ q) := by rw [eP]; exact (nj_d2 q hq p hpq).2
    have hnot : ¬ (Q.testBit p = true ∧ Q.testBit q = true) := by
      rintro ⟨g1, g2⟩
      have e := nj_QP q hq p hpq Q hG.2.2.1 (by rw [hQ2, g1, g2]; rfl)
      rw [← eP] at e
      exact hne (by rw [e]; exact nj_nxm hm hG.2.1 hr)
    by_cases e1 : x = p
    · subst e1
      have hQq : Q.testBit q = false := by
        cases hb : Q.testBit q
        · rfl
        · exact absurd ⟨hxQ.2, hb⟩ hnot
      exact nj_ex_q hG (by omega) hp (c1 c x hx) hPp (by rw [hop]; exact nj_d4 q hq) (fun d hd => by rw [hop]; exact hnb d q hd hq hPq hQq) h
    · by_cases e2 : x = q
      · subst e2
        have hQp : Q.testBit p = false := by
          cases hb : Q.testBit p
          · rfl
          · exact absurd ⟨hb, hxQ.2⟩ hnot
        exact nj_ex_q hG (by omega) hq (c1 c x hx) hPq (by rw [hoq]; exact nj_d4 p hp) (fun d hd => by rw [hoq]; exact hnb d p hd hp hPp hQp) h
      · refine nj_ex_n hG (by omega) hxQ.1 (c1 c x hx) ?_ h
        rw [hbt x hxQ.1]
        simp [e1, e2]
theorem nj_insert {post : St2 → Prop} {t m P Q one : Nat} {two : Int32} (hG : nj_G t P Q fs a1 a2) (hm : m < 64) (hP2 : nj_12 P = true) (hQ2 : nj_12 Q = true) (hr : nj_le P m) (hne : nj_nx m P Q ≠ m) (h9 : ∀ i, i < 8 → a9 i = 0)
    (hC : nj_Cd (nj_ls m 6) m P a4 a5 a6 a7 a8) (hO : nj_On m P one two) (e12 : a12 (nj_nx m P Q) = nI t) (e13 : a13 (nj_nx m P Q) = nI one) (e14 : a14 (nj_nx m P Q) = two) (e15 : a15 (nj_nx m P Q) = 0)
    (H : ∀ b4 b5 b6 b7 b8 b9 b10 u, nj_Cd (nj_ls m 6 ++ nj_ls Q 6) m P b4 b5 b6 b7 b8 → ((u = 0 ∧ nj_cl P Q m) ∨ (u = 1 ∧ ¬ nj_cl P Q m)) →
      post (6, nI m, fs, fg, fj, u, nI (nj_ls m 6 ++ nj_ls Q 6).length, nI 1, a1, a2, a3, b4, b5, b6, b7, b8, b9, b10, upd a11 (nj_nx m P Q) 1, a12, a13, a14, a15, a16, a17, a18, a19, a20, a21)) :
    wpX_insert post (6, nI m, fs, fg, fj, 0, nI (nj_ls m 6).length, 0, a1, a2, a3, a4, a5, a6, a7, a8, a9, a10, a11, a12, a13, a14, a15, a16, a17, a18, a19, a20, a21) (nI (nj_nx m P Q)) := by
  obtain ⟨ht, hP, hQ, e1, e2, hs⟩ := id hG
  have hl := nj_nx_lt hm hP hQ
  have hla : (nj_ls m 6 ++ nj_ls Q 6).length = (nj_ls m 6).length + (nj_ls Q 6).length := List.length_append
  have hlm := nj_ls_len m 6
  have hlq := nj_ls_len Q 6
  obtain ⟨ho, hO2⟩ := id hO
  have hv : vp_in (nI (nj_nx m P Q)) 64 := vp_in_nI hl (by decide)
  have vt : vp_in (nI t) 8 := vp_in_nI ht (by decide)
  have vo : vp_in (nI one) 136 := vp_in_nI (by omega) (by decide)
  have ec : (nI (nj_nx m P Q)).toNatClampNeg = nj_nx m P Q := nI_clamp (by omega)
  have et : (nI t).toNatClampNeg = t := nI_clamp (by omega)
  have eo : (nI one).toNatClampNeg = one := nI_clamp (by omega)
  have v1 : vp_in 1 66 := vp_in_nI (n := 1) (by decide) (by decide)
  have ew : ∀ k, k < (nj_ls m 6).length → ∀ j, j < (nj_ls m 6).length → nj_t (a6 j) k = decide (j ≠ k) := by
    intro k hk j hj
    rw [hC.2.2.1 j k hj, decide_eq_true hk, nj_B_o hj hk]
    rfl
  have tail : ∀ b10 w1 w2 w3, (∀ k, k < (nj_ls m 6).length → nj_t w1 k = !nj_co m P k) →
      ∃ N, wX_insert_160 post (nI t) 0 1 w1 w2 w3 (nI (nj_ls m 6).length) N 0 6 (nI m) fs fg fj 0 (nI (nj_ls m 6).length) (nI 1) a1 a2 a3 a4 a5 a6 a7 a8 (vp_updL a9 t 1) b10 (upd a11 (nj_nx m P Q) 1) a12 a13 a14 a15 a16 a17 a18 a19 a20 a21 := by
    intro b10 w1 w2 w3 hw
    refine nj_in160 ht hQ e2 hw hC (fun b4 b5 b6 b7 b8 u hC' hu => ?_)
    refine nj_in_n (by omega) (by omega) (fun c z1 z2 post' h => ?_) (H b4 b5 b6 b7 b8 _ b10 u hC' hu)
    exact nj_new_ex hG hm hP2 hQ2 hr hne (fun i hi hne => by rw [pk_uLn hne]; exact h9 i hi) pk_uLs (by rw [pk_us]; decide) hC' z1 z2 post' h
  refine ⟨hv, nm_r (e' := nI t) (by rw [ec, e12]) ⟨hv, nm_r (e' := nI one) (by rw [ec, e13]) ⟨hv, nm_r (e' := two) (by rw [ec, e14]) ⟨hv, nm_r (e' := 0) (by rw [ec, e15]) ⟨hv, nm_r (e' := upd a11 (nj_nx m P Q) 1) (by rw [ec]) (nm_r (e' := 1) (by decide) ?_)⟩⟩⟩⟩⟩
  refine nj_depth0 ?_
  refine nm_r (e' := nI 1) (by decide) ⟨vt, vt, nm_r (e' := vp_updL a9 t 1) (by rw [et, h9 t ht, show (0 : Int64) ||| 1 = 1 by decide]) ⟨v1, v1, nm_e ⟨vo, nm_r (e' := a6 one) (by rw [eo]) ⟨vo, nm_e ⟨vo, nm_e ?_⟩⟩⟩⟩⟩
  rcases hO2 with ⟨h2, hk⟩ | ⟨d, hd, h2, hk⟩
  · subst h2
    refine br_t (by decide) (tail _ _ _ _ (fun k hk' => ?_))
    rw [ew k hk' one ho, hk k hk']
    rw [nj_dne]
  · subst h2
    have vd : vp_in (nI d) 136 := vp_in_nI (by omega) (by decide)
    have ed : (nI d).toNatClampNeg = d := nI_clamp (by omega)
    refine br_f (nI_pos (by omega)) ⟨vd, nm_r (e' := a6 one &&& a6 d) (by rw [ed]) ⟨vd, nm_e ⟨vd, nm_e (tail _ _ _ _ (fun k hk' => ?_))⟩⟩⟩
    rw [nj_t_and, ew k hk' one ho, ew k hk' d hd, hk k hk']
    rw [nj_dne, nj_dne, Bool.not_or]
end
end
section
/-! ===== leastCandidate, unfold ===== -/
section
variable {fp : Int32} {fi : Int32} {fs : Int32} {fg : Int32} {fj : Int32} {fu : Int32} {fc : Int32} {fe : Int32} {a1 : Nat → Int32} {a2 : Nat → Int32} {a3 : Nat → Int32} {a4 : Nat → Int32} {a5 : Nat → Int64} {a6 : Nat → Int64} {a7 : Nat → Int64} {a8 : Nat → Int64} {a9 : Nat → Int64} {a10 : Nat → Int64} {a11 : Nat → Int32} {a12 : Nat → Int32} {a13 : Nat → Int32} {a14 : Nat → Int32} {a15 : Nat → Int64} {a16 : Nat → Int32} {a17 : Nat → Int32} {a18 : Nat → Int64} {a19 : Nat → Int64} {a20 : Nat → Int64} {a21 : Nat → Int64}
theorem nj_lc_n {post : Int32 → Prop} (h : ∀ x, x < 64 → a12 x < 0 ∨ ¬ a11 x = 0) (H : post (-1)) : wpX_leastCandidate post (fp, fi, fs, fg, fj, fu, fc, fe, a1, a2, a3, a4, a5, a6, a7, a8, a9, a10, a11, a12, a13, a14, a15, a16, a17, a18, a19, a20, a21) := by
  refine pk_loop (fun n i s => wX_leastCandidate_4 post fp fi fs fg fj fu fc fe a1 a2 a3 a4 a5 a6 a7 a8 a9 a10 a11 a12 a13 a14 a15 a16 a17 a18 a19 a20 a21 n s (nI i)) (fun i s => s = -1) 64 0 (-1) (by omega) rfl
    (fun n s hs => br_t (by decide) (by subst hs; exact H)) ?_
  intro n i s hi hs hw
  refine br_f (nI_ge (b := 64) hi (by decide)) ⟨vp_in_nI hi (by decide), ?_⟩
  rw [nI_clamp (by omega)]
  rcases h i hi with z | z
  · exact br_t z (nm_r (nI_1 i) (hw s hs))
  · exact br_c (fun _ => nm_r (nI_1 i) (hw s hs)) (fun _ => ⟨vp_in_nI hi (by decide), br_f z (nm_r (nI_1 i) (hw s hs))⟩)
theorem nj_lc_1 {post : Int32 → Prop} {y : Nat} (hy : y < 64) (h12 : ¬ a12 y < 0) (h11 : a11 y = 0) (h : ∀ x, x < 64 → x ≠ y → a12 x < 0) (H : post (nI y)) : wpX_leastCandidate post (fp, fi, fs, fg, fj, fu, fc, fe, a1, a2, a3, a4, a5, a6, a7, a8, a9, a10, a11, a12, a13, a14, a15, a16, a17, a18, a19, a20, a21) := by
  refine pk_loop (fun n i s => wX_leastCandidate_4 post fp fi fs fg fj fu fc fe a1 a2 a3 a4 a5 a6 a7 a8 a9 a10 a11 a12 a13 a14 a15 a16 a17 a18 a19 a20 a21 n s (nI i)) (fun i s => s = if y < i then nI y else -1) 64 0 (-1) (by omega) rfl
    (fun n s hs => br_t (by decide) (by have hs' : s = nI y := hs.trans (if_pos hy); subst hs'; exact H)) ?_
  intro n i s hi hs hw
  refine br_f (nI_ge (b := 64) hi (by decide)) ⟨vp_in_nI hi (by decide), ?_⟩
  rw [nI_clamp (by omega)]
  by_cases e : i = y
  · subst e
    have hs' : s = -1 := hs.trans (if_neg (by omega))
    subst hs'
    exact br_f h12 ⟨vp_in_nI hi (by decide), br_t h11 (br_t (by decide) (nm_r (nI_1 i) (hw (nI i) (if_pos (by omega)).symm)))⟩
  · refine br_t (h i hi e) (nm_r (nI_1 i) (hw s ?_))
    rw [hs]
    by_cases q : y < i
    · rw [if_pos q, if_pos (by omega)]
    · rw [if_neg q, if_neg (by omega)]
theorem nj_u96_e {post : St2 → Prop} {i n : Nat} (hi : i < 64) (h : ∀ x, x < 64 → a12 x < 0 ∨ ¬ a11 x = 0) (H : post (fp, fi, fs, fg, fj, 0, fc, fe, a1, a2, a3, a4, a5, a6, a7, a8, a9, a10, a11, a12, a13, a14, a15, a16, a17, a18, a19, a20, a21)) : wX_unfold_96 post (n + 1) (nI i) fp fi fs fg fj 0 fc fe a1 a2 a3 a4 a5 a6 a7 a8 a9 a10 a11 a12 a13 a14 a15 a16 a17 a18 a19 a20 a21 :=
  br_f (nI_ge (b := 64) hi (by decide)) (br_t rfl (nj_lc_n h (br_f (by decide) H)))
theorem nj_u96_x {post : St2 → Prop} {i n : Nat} (hi : i < 64) (hu : ¬ fu = 0) (H : post (fp, fi, fs, fg, fj, fu, fc, fe, a1, a2, a3, a4, a5, a6, a7, a8, a9, a10, a11, a12, a13, a14, a15, a16, a17, a18, a19, a20, a21)) : wX_unfold_96 post (n + 1) (nI i) fp fi fs fg fj fu fc fe a1 a2 a3 a4 a5 a6 a7 a8 a9 a10 a11 a12 a13 a14 a15 a16 a17 a18 a19 a20 a21 :=
  br_f (nI_ge (b := 64) hi (by decide)) (br_f hu H)
theorem nj_unf0 {post : St2 → Prop} {m : Nat} (hm : m < 64)
    (H : ∀ (b9 b10 : Nat → Int64) (b11 b12 : Nat → Int32), (∀ i, i < 8 → b9 i = 0) → (∀ x, x < 64 → b11 x = if x = m then 1 else 0) → (∀ x, x < 64 → b12 x = -1) →
      ∀ ψ : St2 → Prop, (∀ {fpc : Int32} {fic : Int32} {fsc : Int32} {fgc : Int32} {fjc : Int32} {fuc : Int32} {fcc : Int32} {fec : Int32} {a1c : Nat → Int32} {a2c : Nat → Int32} {a3c : Nat → Int32} {a4c : Nat → Int32} {a5c : Nat → Int64} {a6c : Nat → Int64} {a7c : Nat → Int64} {a8c : Nat → Int64} {a9c : Nat → Int64} {a10c : Nat → Int64} {a11c : Nat → Int32} {a12c : Nat → Int32} {a13c : Nat → Int32} {a14c : Nat → Int32} {a15c : Nat → Int64} {a16c : Nat → Int32} {a17c : Nat → Int32} {a18c : Nat → Int64} {a19c : Nat → Int64} {a20c : Nat → Int64} {a21c : Nat → Int64}, (∃ N, wX_unfold_96 post N 0 fpc fic fsc fgc fjc fuc fcc fec a1c a2c a3c a4c a5c a6c a7c a8c a9c a10c a11c a12c a13c a14c a15c a16c a17c a18c a19c a20c a21c) → ψ (fpc, fic, fsc, fgc, fjc, fuc, fcc, fec, a1c, a2c, a3c, a4c, a5c, a6c, a7c, a8c, a9c, a10c, a11c, a12c, a13c, a14c, a15c, a16c, a17c, a18c, a19c, a20c, a21c)) → wpX_plant ψ (fp, nI m, fs, fg, fj, fu, 0, 0, a1, a2, a3, a4, a5, a6, a7, a8, b9, b10, b11, b12, a13, a14, a15, a16, a17, a18, a19, a20, a21)) :
    wpX_unfold post (fp, nI m, fs, fg, fj, fu, fc, fe, a1, a2, a3, a4, a5, a6, a7, a8, a9, a10, a11, a12, a13, a14, a15, a16, a17, a18, a19, a20, a21) := by
  refine pk_loop (fun n i s => wX_unfold_12 post fp (nI m) fs fg fj fu 0 0 n (nI i) a1 a2 a3 a4 a5 a6 a7 a8 s a10 a11 a12 a13 a14 a15 a16 a17 a18 a19 a20 a21) (fun i s => ∀ j, j < i → s j = 0) 8 0 a9 (by omega) (fun j hj => absurd hj (by omega)) ?_ ?_
  · intro n b9 h9
    refine br_t (by decide) ?_
    refine pk_loop (fun n i s => wX_unfold_33 post fp (nI m) fs fg fj fu 0 0 n (nI i) a1 a2 a3 a4 a5 a6 a7 a8 b9 s a11 a12 a13 a14 a15 a16 a17 a18 a19 a20 a21) (fun i s => True) 66 0 a10 (by omega) trivial ?_ ?_
    · intro n b10 _
      refine br_t (by decide) ?_
      refine pk_loop (σ := (Nat → Int32) × (Nat → Int32)) (fun n i s => wX_unfold_54 post fp (nI m) fs fg fj fu 0 0 n (nI i) a1 a2 a3 a4 a5 a6 a7 a8 b9 b10 s.1 s.2 a13 a14 a15 a16 a17 a18 a19 a20 a21) (fun i s => ∀ j, j < i → s.1 j = 0 ∧ s.2 j = -1) 64 0 (a11, a12) (by omega) (fun j hj => absurd hj (by omega)) ?_ ?_
      · rintro n ⟨b11, b12⟩ h
        refine br_t (by decide) ⟨vp_in_nI hm (by decide), nm_r (e' := upd b11 m 1) (by rw [nI_clamp (by omega)]) (H b9 b10 (upd b11 m 1) b12 h9 (fun x hx => ?_) (fun x hx => (h x hx).2) _ ?_)⟩
        · by_cases e : x = m
          · rw [e, pk_us, if_pos rfl]
          · rw [pk_un e, if_neg e]
            exact (h x hx).1
        · intros
          assumption
      · rintro n i ⟨b11, b12⟩ hi h hw
        refine br_f (nI_ge (b := 64) hi (by decide)) ⟨vp_in_nI hi (by decide), nm_r (e' := upd b11 i 0) (by rw [nI_clamp (by omega)]) ⟨vp_in_nI hi (by decide), nm_r (e' := upd b12 i (-1)) (by rw [nI_clamp (by omega)]) (nm_r (nI_1 i) (hw (upd b11 i 0, upd b12 i (-1)) (fun j hj => ?_)))⟩⟩
        by_cases e : j = i
        · rw [e]
          exact ⟨pk_us, pk_us⟩
        · have := h j (by omega)
          exact ⟨(pk_un e).trans this.1, (pk_un e).trans this.2⟩
    · intro n i s hi _ hw
      exact br_f (nI_ge (b := 66) hi (by decide)) ⟨vp_in_nI hi (by decide), nm_e (nm_r (nI_1 i) (hw _ trivial))⟩
  · intro n i s hi h hw
    refine br_f (nI_ge (b := 8) hi (by decide)) ⟨vp_in_nI hi (by decide), nm_r (e' := vp_updL s i 0) (by rw [nI_clamp (by omega)]) (nm_r (nI_1 i) (hw _ (fun j hj => ?_)))⟩
    by_cases e : j = i
    · rw [e, pk_uLs]
    · rw [pk_uLn e]
      exact h j (by omega)
theorem nj_unfoldN {post : St2 → Prop} {m : Nat} (hm : m < 64) (hs : ∀ i, i < 8 → ((fs >>> (nI i &&& 31)) &&& 1) = 0)
    (H : ∀ e b4 b5 b6 b7 b8 b9 b10 b11 b12 b13 b14 b15, nj_Cd (nj_ls m 6) m 0 b4 b5 b6 b7 b8 → post (6, nI m, fs, fg, fj, 0, nI (nj_ls m 6).length, e, a1, a2, a3, b4, b5, b6, b7, b8, b9, b10, b11, b12, b13, b14, b15, a16, a17, a18, a19, a20, a21)) :
    wpX_unfold post (6, nI m, fs, fg, fj, 0, fc, fe, a1, a2, a3, a4, a5, a6, a7, a8, a9, a10, a11, a12, a13, a14, a15, a16, a17, a18, a19, a20, a21) := by
  have hlen := nj_ls_len m 6
  refine nj_unf0 hm (fun b9 b10 b11 b12 h9 h11 h12 ψ hψ => nj_pl2 (P := 0) hm (fun b4 b5 b6 b7 b8 hC => nj_pl_n (by omega) (fun c hc post' h => nj_ex_0 (by omega) hs h) (hψ ⟨1, ?_⟩)))
  exact nj_u96_e (i := 0) (n := 0) (by decide) (fun x hx => .inl (by rw [h12 x hx]; decide)) (H _ _ _ _ _ _ _ _ _ _ _ _ _ hC)
theorem nj_unfold {post : St2 → Prop} {t m P Q : Nat} (hG : nj_G t P Q fs a1 a2) (hm : m < 64) (hP2 : nj_12 P = true) (hQ2 : nj_12 Q = true)
    (H0 : (¬ nj_le P m ∨ nj_nx m P Q = m) → ∀ e b4 b5 b6 b7 b8 b9 b10 b11 b12 b13 b14 b15, nj_Cd (nj_ls m 6) m P b4 b5 b6 b7 b8 → post (6, nI m, fs, fg, fj, 0, nI (nj_ls m 6).length, e, a1, a2, a3, b4, b5, b6, b7, b8, b9, b10, b11, b12, b13, b14, b15, a16, a17, a18, a19, a20, a21))
    (H1 : nj_le P m → nj_nx m P Q ≠ m → nj_cl P Q m → ∀ e b4 b5 b6 b7 b8 b9 b10 b11 b12 b13 b14 b15, nj_Cd (nj_ls m 6 ++ nj_ls Q 6) m P b4 b5 b6 b7 b8 → post (6, nI m, fs, fg, fj, 0, nI (nj_ls m 6 ++ nj_ls Q 6).length, e, a1, a2, a3, b4, b5, b6, b7, b8, b9, b10, b11, b12, b13, b14, b15, a16, a17, a18, a19, a20, a21))
    (H2 : nj_le P m → nj_nx m P Q ≠ m → ¬ nj_cl P Q m → ∀ c e b4 b5 b6 b7 b8 b9 b10 b11 b12 b13 b14 b15, post (6, nI m, fs, fg, fj, 1, c, e, a1, a2, a3, b4, b5, b6, b7, b8, b9, b10, b11, b12, b13, b14, b15, a16, a17, a18, a19, a20, a21)) :
    wpX_unfold post (6, nI m, fs, fg, fj, 0, fc, fe, a1, a2, a3, a4, a5, a6, a7, a8, a9, a10, a11, a12, a13, a14, a15, a16, a17, a18, a19, a20, a21) := by
  have hl := nj_nx_lt hm hG.2.1 hG.2.2.1
  refine nj_unf0 hm (fun b9 b10 b11 b12 h9 h11 h12 ψ hψ => nj_plant hG hm hP2 h9 h11 h12 (fun hc b4 b5 b6 b7 b8 hC => hψ ⟨1, ?_⟩) (fun hr hx b4 b5 b6 b7 b8 one two hC hO => hψ ⟨1 + 1, ?_⟩))
  · exact nj_u96_e (i := 0) (n := 0) (by decide) (fun x hx => .inl (by rw [h12 x hx]; decide)) (H0 hc _ _ _ _ _ _ _ _ _ _ _ _ _ hC)
  · have hlt : ∀ x, x < 64 → x ≠ nj_nx m P Q → upd b12 (nj_nx m P Q) (nI t) x < 0 := by
      intro x hx' hne
      rw [pk_un hne, h12 x hx']
      decide
    have ht := hG.1
    refine br_f (by decide) (br_t rfl (nj_lc_1 hl (by rw [pk_us]; exact nI_pos (by omega)) (by rw [h11 _ hl, if_neg hx]) hlt (br_t (nI_pos' (by omega)) (nj_insert hG hm hP2 hQ2 hr hx h9 hC hO pk_us pk_us pk_us pk_uLs (fun c4 c5 c6 c7 c8 c9 c10 u hC' hu => ?_)))))
    refine nm_r (e' := nI 1) (by decide) ?_
    rcases hu with ⟨hu, hcl⟩ | ⟨hu, hcl⟩
    · subst hu
      refine nj_u96_e (i := 1) (n := 0) (by decide) (fun x hx' => ?_) (H1 hr hx hcl _ _ _ _ _ _ _ _ _ _ _ _ _ hC')
      by_cases e : x = nj_nx m P Q
      · right
        rw [e, pk_us]
        decide
      · exact .inl (hlt x hx' e)
    · subst hu
      exact nj_u96_x (i := 1) (n := 0) (by decide) (by decide) (H2 hr hx hcl _ _ _ _ _ _ _ _ _ _ _ _ _ _)
end
end
section
/-! ===== leastCut: the walk ===== -/
/-- a row of conditions, each by f -/
def nj_sc (f : Nat → Int32 → Int32) : Nat → Nat → Int32 → Int32
  | 0, _, b => b
  | r + 1, c, b => nj_sc f r (c + 1) (f c b)
/-- what one condition does at a level -/
def nj_fs (pl : Nat → Nat) (a5 a6 : Nat → Int64) (p : Nat) (last : Bool) (rec : Int64 → Int64 → Int32 → Int32) (w h : Int64) (c : Nat) (b : Int32) : Int32 :=
  if pl c = p ∧ nj_t w c = true then
    (if b < 0 ∨ ¬ b ≤ nj_on (h ||| a5 c) then (if last = true then (if w &&& a6 c = 0 then nj_on (h ||| a5 c) else b) else rec (w &&& a6 c) (h ||| a5 c) b) else b)
  else b
/-- the search -/
def nj_df (n : Nat) (pl : Nat → Nat) (a5 a6 : Nat → Int64) : List Nat → Int64 → Int64 → Int32 → Int32
  | [] => fun _ _ b => b
  | p :: ws => fun w h b => nj_sc (nj_fs pl a5 a6 p ws.isEmpty (nj_df n pl a5 a6 ws) w h) n 0 b
theorem nj_sc_id {f : Nat → Int32 → Int32} {b : Int32} : ∀ r c, (∀ d, c ≤ d → d < c + r → f d b = b) → nj_sc f r c b = b := by
  intro r
  induction r with
  | zero => intro c _; rfl
  | succ r ih =>
    intro c h
    show nj_sc f r (c + 1) (f c b) = b
    rw [h c (by omega) (by omega)]
    exact ih (c + 1) (fun d z1 z2 => h d (by omega) (by omega))
theorem nj_sc_sk {f : Nat → Int32 → Int32} {b : Int32} : ∀ k r c, (∀ d, c ≤ d → d < c + k → f d b = b) → nj_sc f (k + r) c b = nj_sc f r (c + k) b := by
  intro k
  induction k with
  | zero => intro r c _; rw [Nat.zero_add]; rfl
  | succ k ih =>
    intro r c h
    rw [show k + 1 + r = (k + r) + 1 by omega]
    show nj_sc f (k + r) (c + 1) (f c b) = _
    rw [h c (by omega) (by omega), ih r (c + 1) (fun d z1 z2 => h d (by omega) (by omega)), show c + 1 + k = c + (k + 1) by omega]
/-- the first one in a row, or none -/
theorem nj_fst (q : Nat → Prop) (n : Nat) : ∀ r j, j + r = n → (∀ c, j ≤ c → c < n → ¬ q c) ∨ ∃ c, j ≤ c ∧ c < n ∧ q c ∧ ∀ d, j ≤ d → d < c → ¬ q d := by
  intro r
  induction r with
  | zero => intro j h; exact .inl (fun c z1 z2 => absurd z1 (by omega))
  | succ r ih =>
    intro j h
    by_cases e : q j
    · exact .inr ⟨j, Nat.le_refl _, by omega, e, fun d z1 z2 => absurd z1 (by omega)⟩
    · rcases ih (j + 1) (by omega) with g | ⟨c, g1, g2, g3, g4⟩
      · refine .inl (fun c z1 z2 => ?_)
        by_cases ec : c = j
        · rw [ec]; exact e
        · exact g c (by omega) z2
      · refine .inr ⟨c, by omega, g2, g3, fun d z1 z2 => ?_⟩
        by_cases ec : d = j
        · rw [ec]; exact e
        · exact g4 d (by omega) z2
section
variable {fp : Int32} {fi : Int32} {fs : Int32} {fg : Int32} {fj : Int32} {fu : Int32} {fc : Int32} {fe : Int32} {a1 : Nat → Int32} {a2 : Nat → Int32} {a3 : Nat → Int32} {a4 : Nat → Int32} {a5 : Nat → Int64} {a6 : Nat → Int64} {a7 : Nat → Int64} {a8 : Nat → Int64} {a9 : Nat → Int64} {a10 : Nat → Int64} {a11 : Nat → Int32} {a12 : Nat → Int32} {a13 : Nat → Int32} {a14 : Nat → Int32} {a15 : Nat → Int64} {a16 : Nat → Int32} {a17 : Nat → Int32} {a18 : Nat → Int64} {a19 : Nat → Int64} {a20 : Nat → Int64} {a21 : Nat → Int64}
theorem nj_enter {post : St2 → Prop} {l : Nat} {h w1 w2 w3 : Int64} (hl : l < 6) (H : post (fp, fi, fs, fg, fj, fu, fc, fe, a1, a2, a3, a4, a5, a6, a7, a8, a9, a10, a11, a12, a13, a14, a15, a16, upd a17 l (-1), vp_updL a18 l h, vp_updL a19 l w1, vp_updL a20 l w2, vp_updL a21 l w3)) : wpX_enter post (fp, fi, fs, fg, fj, fu, fc, fe, a1, a2, a3, a4, a5, a6, a7, a8, a9, a10, a11, a12, a13, a14, a15, a16, a17, a18, a19, a20, a21) (nI l) h w1 w2 w3 := by
  have hv : vp_in (nI l) 6 := vp_in_nI hl (by decide)
  refine ⟨hv, nm_e ⟨hv, nm_e ⟨hv, nm_e ⟨hv, nm_e ⟨hv, nm_e ?_⟩⟩⟩⟩⟩
  rw [nI_clamp (by omega)]
  exact H
theorem nj_nx_n {post : Int32 → Prop} {l j n p : Nat} {pl : Nat → Nat} (hl : l < 6) (hn : n ≤ 64) (hj : j ≤ n) (e16 : a16 l = nI p) (e17 : a17 l + 1 = nI j) (h4 : ∀ c, c < n → a4 c = nI (pl c) ∧ pl c < 6) (hp : p < 6)
    (hq : ∀ c, j ≤ c → c < n → ¬ (pl c = p ∧ nj_t (a19 l) c = true)) (H : post (-1)) : wpX_nextOpen post (fp, fi, fs, fg, fj, fu, nI n, fe, a1, a2, a3, a4, a5, a6, a7, a8, a9, a10, a11, a12, a13, a14, a15, a16, a17, a18, a19, a20, a21) (nI l) := by
  have hv : vp_in (nI l) 6 := vp_in_nI hl (by decide)
  have ec : (nI l).toNatClampNeg = l := nI_clamp (by omega)
  refine ⟨hv, nm_r (e' := nI p) (by rw [ec, e16]) ⟨hv, nm_r (e' := nI j) (by rw [ec, e17]) ?_⟩⟩
  refine pk_loop (σ := Unit) (fun k i _ => wX_nextOpen_16 post (nI l) (nI p) fp fi fs fg fj fu (nI n) fe a1 a2 a3 a4 a5 a6 a7 a8 a9 a10 a11 a12 a13 a14 a15 a16 a17 a18 a19 a20 a21 k (nI i)) (fun i _ => j ≤ i) n j () hj (Nat.le_refl _) (fun k _ _ => br_t (nI_le (Nat.le_refl _) (by omega)) H) ?_
  intro k i _ hi hji hw
  refine br_f (nI_ge hi (by omega)) ⟨vp_in_nI (by omega) (by decide), ?_⟩
  rw [nI_clamp (show i < 2 ^ 31 by omega), ec]
  have hw' := hw () (Nat.le_succ_of_le hji)
  refine br_c (fun z => ⟨hv, hv, hv, nj_inW (by omega) (fun w => absurd ⟨?_, w⟩ (hq i hji hi)) (fun w => br_t rfl (nm_r (nI_1 i) hw'))⟩) (fun z => nm_r (nI_1 i) hw')
  rw [(h4 i hi).1] at z
  have := (h4 i hi).2
  exact (nI_eq (by omega) (by omega)).mp z
theorem nj_nx_c {post : Int32 → Prop} {l j n p c0 : Nat} {pl : Nat → Nat} (hl : l < 6) (hn : n ≤ 64) (hj : j ≤ c0) (hc0 : c0 < n) (e16 : a16 l = nI p) (e17 : a17 l + 1 = nI j) (h4 : ∀ c, c < n → a4 c = nI (pl c) ∧ pl c < 6) (hp : p < 6)
    (hq : ∀ c, j ≤ c → c < c0 → ¬ (pl c = p ∧ nj_t (a19 l) c = true)) (hq0 : pl c0 = p ∧ nj_t (a19 l) c0 = true) (H : post (nI c0)) : wpX_nextOpen post (fp, fi, fs, fg, fj, fu, nI n, fe, a1, a2, a3, a4, a5, a6, a7, a8, a9, a10, a11, a12, a13, a14, a15, a16, a17, a18, a19, a20, a21) (nI l) := by
  have hv : vp_in (nI l) 6 := vp_in_nI hl (by decide)
  have ec : (nI l).toNatClampNeg = l := nI_clamp (by omega)
  refine ⟨hv, nm_r (e' := nI p) (by rw [ec, e16]) ⟨hv, nm_r (e' := nI j) (by rw [ec, e17]) ?_⟩⟩
  refine pk_loop (σ := Unit) (fun k i _ => wX_nextOpen_16 post (nI l) (nI p) fp fi fs fg fj fu (nI n) fe a1 a2 a3 a4 a5 a6 a7 a8 a9 a10 a11 a12 a13 a14 a15 a16 a17 a18 a19 a20 a21 k (nI i)) (fun i _ => j ≤ i) c0 j () hj (Nat.le_refl _) (fun k _ _ => ?_) ?_
  · refine br_f (nI_ge hc0 (by omega)) ⟨vp_in_nI (by omega) (by decide), ?_⟩
    rw [nI_clamp (show c0 < 2 ^ 31 by omega), ec]
    exact br_t (by rw [(h4 c0 hc0).1, hq0.1]) ⟨hv, hv, hv, nj_inW (by omega) (fun w => br_f (by decide) H) (fun w => absurd (w.symm.trans hq0.2) (by decide))⟩
  · intro k i _ hi hji hw
    refine br_f (nI_ge (show i < n by omega) (by omega)) ⟨vp_in_nI (by omega) (by decide), ?_⟩
    rw [nI_clamp (show i < 2 ^ 31 by omega), ec]
    have hw' := hw () (Nat.le_succ_of_le hji)
    refine br_c (fun z => ⟨hv, hv, hv, nj_inW (by omega) (fun w => absurd ⟨?_, w⟩ (hq i hji hi)) (fun w => br_t rfl (nm_r (nI_1 i) hw'))⟩) (fun z => nm_r (nI_1 i) hw')
    rw [(h4 i (by omega)).1] at z
    have := (h4 i (by omega)).2
    exact (nI_eq (by omega) (by omega)).mp z
/-- one turn of the search: none left -/
theorem nj_bd_n {post : Int32 → St2 → Prop} {cnt N l j n p st : Nat} {b : Int32} {pl : Nat → Nat} (hl : l < 6) (hn : n ≤ 64) (hj : j ≤ n) (e16 : a16 l = nI p) (e17 : a17 l + 1 = nI j) (h4 : ∀ c, c < n → a4 c = nI (pl c) ∧ pl c < 6) (hp : p < 6) (hst : st < 1073741824)
    (hq : ∀ c, j ≤ c → c < n → ¬ (pl c = p ∧ nj_t (a19 l) c = true)) (H : wX_leastCut_77 post (nI cnt) N (nI l + (-1)) b (nI (st + 1)) fp fi fs fg fj fu (nI n) fe a1 a2 a3 a4 a5 a6 a7 a8 a9 a10 a11 a12 a13 a14 a15 a16 a17 a18 a19 a20 a21) :
    wX_leastCut_77 post (nI cnt) (N + 1) (nI l) b (nI st) fp fi fs fg fj fu (nI n) fe a1 a2 a3 a4 a5 a6 a7 a8 a9 a10 a11 a12 a13 a14 a15 a16 a17 a18 a19 a20 a21 :=
  br_f (nI_ge (b := 1073741824) hst (by decide)) (br_f (nI_pos (by omega)) (nj_nx_n hl hn hj e16 e17 h4 hp hq (br_f (by decide) (nm_e (nm_r (nI_1 st) H)))))
/-- one turn of the search: condition c is taken -/
theorem nj_bd_c {post : Int32 → St2 → Prop} {cnt N l j n p c st : Nat} {b : Int32} {pl : Nat → Nat} (hl : l < cnt) (hcnt : cnt ≤ 6) (hn : n ≤ 64) (hj : j ≤ c) (hc : c < n) (e16 : a16 l = nI p) (e17 : a17 l + 1 = nI j) (h4 : ∀ c, c < n → a4 c = nI (pl c) ∧ pl c < 6) (hp : p < 6)
    (h78 : a7 c = 0 ∧ a8 c = 0) (hst : st < 1073741824) (hq : ∀ d, j ≤ d → d < c → ¬ (pl d = p ∧ nj_t (a19 l) d = true)) (hq0 : pl c = p ∧ nj_t (a19 l) c = true)
    (Hn : ¬ (b < 0 ∨ ¬ b ≤ nj_on (a18 l ||| a5 c)) → wX_leastCut_77 post (nI cnt) N (nI l) b (nI (st + 1)) fp fi fs fg fj fu (nI n) fe a1 a2 a3 a4 a5 a6 a7 a8 a9 a10 a11 a12 a13 a14 a15 a16 (upd a17 l (nI c)) a18 a19 a20 a21)
    (H0 : (b < 0 ∨ ¬ b ≤ nj_on (a18 l ||| a5 c)) → l + 1 = cnt → a19 l &&& a6 c = 0 → wX_leastCut_77 post (nI cnt) N (nI l) (nj_on (a18 l ||| a5 c)) (nI (st + 1)) fp fi fs fg fj fu (nI n) fe a1 a2 a3 a4 a5 a6 a7 a8 a9 a10 a11 a12 a13 a14 a15 a16 (upd a17 l (nI c)) a18 a19 a20 a21)
    (H1 : (b < 0 ∨ ¬ b ≤ nj_on (a18 l ||| a5 c)) → l + 1 = cnt → ¬ a19 l &&& a6 c = 0 → wX_leastCut_77 post (nI cnt) N (nI l) b (nI (st + 1)) fp fi fs fg fj fu (nI n) fe a1 a2 a3 a4 a5 a6 a7 a8 a9 a10 a11 a12 a13 a14 a15 a16 (upd a17 l (nI c)) a18 a19 a20 a21)
    (Hd : (b < 0 ∨ ¬ b ≤ nj_on (a18 l ||| a5 c)) → l + 1 < cnt → wX_leastCut_77 post (nI cnt) N (nI (l + 1)) b (nI (st + 1)) fp fi fs fg fj fu (nI n) fe a1 a2 a3 a4 a5 a6 a7 a8 a9 a10 a11 a12 a13 a14 a15 a16 (upd (upd a17 l (nI c)) (l + 1) (-1)) (vp_updL a18 (l + 1) (a18 l ||| a5 c)) (vp_updL a19 (l + 1) (a19 l &&& a6 c)) (vp_updL a20 (l + 1) 0) (vp_updL a21 (l + 1) 0)) :
    wX_leastCut_77 post (nI cnt) (N + 1) (nI l) b (nI st) fp fi fs fg fj fu (nI n) fe a1 a2 a3 a4 a5 a6 a7 a8 a9 a10 a11 a12 a13 a14 a15 a16 a17 a18 a19 a20 a21 := by
  have hv : vp_in (nI l) 6 := vp_in_nI (by omega) (by decide)
  have hw : vp_in (nI c) 136 := vp_in_nI (by omega) (by decide)
  have el : (nI l).toNatClampNeg = l := nI_clamp (by omega)
  have ec : (nI c).toNatClampNeg = c := nI_clamp (by omega)
  have e7 : a20 l &&& a7 c = 0 := by rw [h78.1]; exact Int64.and_zero
  have e8 : a21 l &&& a8 c = 0 := by rw [h78.2]; exact Int64.and_zero
  have hpos : (b < 0 ∨ ¬ b ≤ nj_on (a18 l ||| a5 c)) → wX_leastCut_198 post (wX_leastCut_77 post (nI cnt) N) (nI cnt) (nI l) b (nI st) (a18 l ||| a5 c) (nj_on (a18 l ||| a5 c)) (a19 l &&& a6 c) 0 0 fp fi fs fg fj fu (nI n) fe a1 a2 a3 a4 a5 a6 a7 a8 a9 a10 a11 a12 a13 a14 a15 a16 (upd a17 l (nI c)) a18 a19 a20 a21 := by
    intro hwo
    refine br_f (by decide) ?_
    rw [show nI cnt - 1 = nI (cnt - 1) from pk_sub (b := 1) (by omega)]
    refine pk_le (cnt - 1) l (fun z => ?_) (fun z => ?_)
    · refine br_f (by decide) ?_
      rw [show (a19 l &&& a6 c ||| 0) ||| 0 = a19 l &&& a6 c by rw [Int64.or_zero, Int64.or_zero]]
      exact br_c (fun y => nm_r (nI_1 st) (H0 hwo (by omega) y)) (fun y => nm_r (nI_1 st) (H1 hwo (by omega) y))
    · refine nm_r (nI_1 l) (nj_enter (by omega) ?_)
      exact nm_r (nI_1 st) (Hd hwo (by omega))
  have hneg : ¬ (b < 0 ∨ ¬ b ≤ nj_on (a18 l ||| a5 c)) → wX_leastCut_203 post (wX_leastCut_77 post (nI cnt) N) (nI cnt) (nI l) b (nI st) (a18 l ||| a5 c) (nj_on (a18 l ||| a5 c)) (a19 l &&& a6 c) 0 0 0 fp fi fs fg fj fu (nI n) fe a1 a2 a3 a4 a5 a6 a7 a8 a9 a10 a11 a12 a13 a14 a15 a16 (upd a17 l (nI c)) a18 a19 a20 a21 :=
    fun hwo => br_t rfl (br_t rfl (nm_r (nI_1 st) (Hn hwo)))
  refine br_f (nI_ge (b := 1073741824) hst (by decide)) (br_f (nI_pos (by omega)) (nj_nx_c (by omega) hn hj hc e16 e17 h4 hp hq hq0 (br_t (nI_pos' (by omega)) ?_)))
  refine ⟨hv, nm_r (e' := upd a17 l (nI c)) (by rw [el, nj_o16 c (by omega)]) ⟨hv, hw, nm_r (e' := a18 l ||| a5 c) (by rw [el, ec]) (nj_ones ?_)⟩⟩
  refine ⟨hv, hw, nm_r (e' := a19 l &&& a6 c) (by rw [el, ec]) ⟨hv, hw, nm_r (e' := 0) (by rw [el, ec, e7]) ⟨hv, hw, nm_r (e' := 0) (by rw [el, ec, e8]) ?_⟩⟩⟩
  exact br_c (fun z => hpos (.inl z)) (fun z => br_c (fun y => hneg (fun q => q.elim z (fun g => g y))) (fun y => hpos (.inr y)))
end
end
section
/-! ===== leastCut: the walk is the search ===== -/
def nj_ag (l : Nat) (b17 c17 : Nat → Int32) (b18 c18 b19 c19 : Nat → Int64) : Prop := ∀ i, i < l → c17 i = b17 i ∧ c18 i = b18 i ∧ c19 i = b19 i
section
variable {fp : Int32} {fi : Int32} {fs : Int32} {fg : Int32} {fj : Int32} {fu : Int32} {fc : Int32} {fe : Int32} {a1 : Nat → Int32} {a2 : Nat → Int32} {a3 : Nat → Int32} {a4 : Nat → Int32} {a5 : Nat → Int64} {a6 : Nat → Int64} {a7 : Nat → Int64} {a8 : Nat → Int64} {a9 : Nat → Int64} {a10 : Nat → Int64} {a11 : Nat → Int32} {a12 : Nat → Int32} {a13 : Nat → Int32} {a14 : Nat → Int32} {a15 : Nat → Int64} {a16 : Nat → Int32} {a17 : Nat → Int32} {a18 : Nat → Int64} {a19 : Nat → Int64} {a20 : Nat → Int64} {a21 : Nat → Int64}
theorem nj_dfs1 {post : Int32 → St2 → Prop} {cnt l n p T : Nat} {last : Bool} {pl : Nat → Nat} {rec : Int64 → Int64 → Int32 → Int32} (hl : l < cnt) (hcnt : cnt ≤ 6) (hn : n ≤ 8) (e16 : a16 l = nI p) (hp : p < 6)
    (h4 : ∀ c, c < n → a4 c = nI (pl c) ∧ pl c < 6) (h78 : ∀ c, c < n → a7 c = 0 ∧ a8 c = 0) (hlast : last = true ↔ l + 1 = cnt) (hT : 1 ≤ T)
    (Hdeep : l + 1 < cnt → ∀ (b : Int32) (st : Nat) (b17 : Nat → Int32) (b18 b19 b20 b21 : Nat → Int64), b17 (l + 1) = -1 → st + T ≤ 1073741825 →
      (∀ (st' : Nat) (c17 : Nat → Int32) (c18 c19 c20 c21 : Nat → Int64), st' + 1 ≤ st + T → nj_ag (l + 1) b17 c17 b18 c18 b19 c19 → ∃ N, wX_leastCut_77 post (nI cnt) N (nI (l + 1) + (-1)) (rec (b19 (l + 1)) (b18 (l + 1)) b) (nI st') fp fi fs fg fj fu (nI n) fe a1 a2 a3 a4 a5 a6 a7 a8 a9 a10 a11 a12 a13 a14 a15 a16 c17 c18 c19 c20 c21) →
      ∃ N, wX_leastCut_77 post (nI cnt) N (nI (l + 1)) b (nI st) fp fi fs fg fj fu (nI n) fe a1 a2 a3 a4 a5 a6 a7 a8 a9 a10 a11 a12 a13 a14 a15 a16 b17 b18 b19 b20 b21) :
    ∀ (r j : Nat), j + r = n → ∀ (b : Int32) (st : Nat) (b17 : Nat → Int32) (b18 b19 b20 b21 : Nat → Int64), b17 l + 1 = nI j → st + 1 + r * T ≤ 1073741824 →
      (∀ (st' : Nat) (c17 : Nat → Int32) (c18 c19 c20 c21 : Nat → Int64), st' ≤ st + 1 + r * T → nj_ag l b17 c17 b18 c18 b19 c19 → ∃ N, wX_leastCut_77 post (nI cnt) N (nI l + (-1)) (nj_sc (nj_fs pl a5 a6 p last rec (b19 l) (b18 l)) r j b) (nI st') fp fi fs fg fj fu (nI n) fe a1 a2 a3 a4 a5 a6 a7 a8 a9 a10 a11 a12 a13 a14 a15 a16 c17 c18 c19 c20 c21) →
      ∃ N, wX_leastCut_77 post (nI cnt) N (nI l) b (nI st) fp fi fs fg fj fu (nI n) fe a1 a2 a3 a4 a5 a6 a7 a8 a9 a10 a11 a12 a13 a14 a15 a16 b17 b18 b19 b20 b21 := by
  intro r
  induction r using Nat.strongRecOn with
  | _ r ih =>
    intro j hj b st b17 b18 b19 b20 b21 e17 hb Hc
    have hf : ∀ d, ¬ (pl d = p ∧ nj_t (b19 l) d = true) → nj_fs pl a5 a6 p last rec (b19 l) (b18 l) d b = b := fun d hd => if_neg hd
    rcases nj_fst (fun c => pl c = p ∧ nj_t (b19 l) c = true) n r j hj with hno | ⟨c, hc1, hc2, hc3, hc4⟩
    · obtain ⟨N, hN⟩ := Hc (st + 1) b17 b18 b19 b20 b21 (by omega) (fun i hi => ⟨rfl, rfl, rfl⟩)
      rw [nj_sc_id r j (fun d z1 z2 => hf d (hno d z1 (by omega)))] at hN
      exact ⟨N + 1, nj_bd_n (by omega) (by omega) (by omega) e16 e17 h4 hp (by omega) hno hN⟩
    · obtain ⟨r', hr'⟩ : ∃ r', r' = n - c - 1 := ⟨_, rfl⟩
      have hrr : r' < r := by omega
      have hmul : r' * T + T ≤ r * T := by
        rw [← Nat.succ_mul]
        exact Nat.mul_le_mul_right _ hrr
      have hsc : nj_sc (nj_fs pl a5 a6 p last rec (b19 l) (b18 l)) r j b = nj_sc (nj_fs pl a5 a6 p last rec (b19 l) (b18 l)) r' (c + 1) (nj_fs pl a5 a6 p last rec (b19 l) (b18 l) c b) := by
        rw [show r = (c - j) + (r' + 1) by omega, nj_sc_sk (c - j) (r' + 1) j (fun d z1 z2 => hf d (hc4 d z1 (by omega))), show j + (c - j) = c by omega]
        rfl
      rw [hsc] at Hc
      have hfc : nj_fs pl a5 a6 p last rec (b19 l) (b18 l) c b = (if b < 0 ∨ ¬ b ≤ nj_on (b18 l ||| a5 c) then (if last = true then (if b19 l &&& a6 c = 0 then nj_on (b18 l ||| a5 c) else b) else rec (b19 l &&& a6 c) (b18 l ||| a5 c) b) else b) := if_pos hc3
      have hsame : nj_fs pl a5 a6 p last rec (b19 l) (b18 l) c b = b → ∃ N, wX_leastCut_77 post (nI cnt) N (nI l) b (nI (st + 1)) fp fi fs fg fj fu (nI n) fe a1 a2 a3 a4 a5 a6 a7 a8 a9 a10 a11 a12 a13 a14 a15 a16 (upd b17 l (nI c)) b18 b19 b20 b21 := by
        intro e
        rw [e] at Hc
        refine ih r' hrr (c + 1) (by omega) b (st + 1) (upd b17 l (nI c)) b18 b19 b20 b21 (by rw [pk_us, nI_1]) (by omega) (fun st' c17 c18 c19 c20 c21 h1 h2 => Hc st' c17 c18 c19 c20 c21 (by omega) (fun i hi => ?_))
        have := h2 i hi
        rwa [pk_un (by omega)] at this
      by_cases hwo : b < 0 ∨ ¬ b ≤ nj_on (b18 l ||| a5 c)
      · rw [if_pos hwo] at hfc
        by_cases hla : l + 1 = cnt
        · rw [if_pos (hlast.mpr hla)] at hfc
          by_cases hz : b19 l &&& a6 c = 0
          · rw [if_pos hz] at hfc
            rw [hfc] at Hc
            have hex : ∃ N, wX_leastCut_77 post (nI cnt) N (nI l) (nj_on (b18 l ||| a5 c)) (nI (st + 1)) fp fi fs fg fj fu (nI n) fe a1 a2 a3 a4 a5 a6 a7 a8 a9 a10 a11 a12 a13 a14 a15 a16 (upd b17 l (nI c)) b18 b19 b20 b21 := by
              refine ih r' hrr (c + 1) (by omega) _ (st + 1) (upd b17 l (nI c)) b18 b19 b20 b21 (by rw [pk_us, nI_1]) (by omega) (fun st' c17 c18 c19 c20 c21 h1 h2 => Hc st' c17 c18 c19 c20 c21 (by omega) (fun i hi => ?_))
              have := h2 i hi
              rwa [pk_un (by omega)] at this
            obtain ⟨N, hN⟩ := hex
            exact ⟨N + 1, nj_bd_c hl hcnt (by omega) hc1 hc2 e16 e17 h4 hp (h78 c hc2) (by omega) hc4 hc3 (fun w => absurd hwo w) (fun _ _ _ => hN) (fun _ _ w => absurd hz w) (fun _ w => absurd w (by omega))⟩
          · rw [if_neg hz] at hfc
            obtain ⟨N, hN⟩ := hsame hfc
            exact ⟨N + 1, nj_bd_c hl hcnt (by omega) hc1 hc2 e16 e17 h4 hp (h78 c hc2) (by omega) hc4 hc3 (fun w => absurd hwo w) (fun _ _ w => absurd w hz) (fun _ _ _ => hN) (fun _ w => absurd w (by omega))⟩
        · rw [if_neg (fun z => hla (hlast.mp z))] at hfc
          rw [hfc] at Hc
          have hex : ∃ N, wX_leastCut_77 post (nI cnt) N (nI (l + 1)) b (nI (st + 1)) fp fi fs fg fj fu (nI n) fe a1 a2 a3 a4 a5 a6 a7 a8 a9 a10 a11 a12 a13 a14 a15 a16 (upd (upd b17 l (nI c)) (l + 1) (-1)) (vp_updL b18 (l + 1) (b18 l ||| a5 c)) (vp_updL b19 (l + 1) (b19 l &&& a6 c)) (vp_updL b20 (l + 1) 0) (vp_updL b21 (l + 1) 0) := by
            refine Hdeep (by omega) b (st + 1) _ _ _ _ _ pk_us (by omega) (fun st' c17 c18 c19 c20 c21 h1 h2 => ?_)
            rw [pk_m1, pk_uLs, pk_uLs]
            have hag : ∀ i, i < l + 1 → c17 i = upd b17 l (nI c) i ∧ c18 i = b18 i ∧ c19 i = b19 i := by
              intro i hi
              have := h2 i hi
              rwa [pk_un (by omega), pk_uLn (by omega), pk_uLn (by omega)] at this
            obtain ⟨g1, g2, g3⟩ := hag l (by omega)
            rw [pk_us] at g1
            refine ih r' hrr (c + 1) (by omega) _ st' c17 c18 c19 c20 c21 (by rw [g1, nI_1]) (by omega) (fun st2 d17 d18 d19 d20 d21 k1 k2 => ?_)
            rw [g2, g3]
            refine Hc st2 d17 d18 d19 d20 d21 (by omega) (fun i hi => ?_)
            have q1 := k2 i hi
            have q2 := hag i (by omega)
            rw [pk_un (by omega)] at q2
            exact ⟨q1.1.trans q2.1, q1.2.1.trans q2.2.1, q1.2.2.trans q2.2.2⟩
          obtain ⟨N, hN⟩ := hex
          exact ⟨N + 1, nj_bd_c hl hcnt (by omega) hc1 hc2 e16 e17 h4 hp (h78 c hc2) (by omega) hc4 hc3 (fun w => absurd hwo w) (fun _ w => absurd w hla) (fun _ w => absurd w hla) (fun _ _ => hN)⟩
      · rw [if_neg hwo] at hfc
        obtain ⟨N, hN⟩ := hsame hfc
        exact ⟨N + 1, nj_bd_c hl hcnt (by omega) hc1 hc2 e16 e17 h4 hp (h78 c hc2) (by omega) hc4 hc3 (fun _ => hN) (fun w => absurd w hwo) (fun w => absurd w hwo) (fun w => absurd w hwo)⟩
theorem nj_dfs {post : Int32 → St2 → Prop} {cnt n : Nat} {pl : Nat → Nat} (hcnt : cnt ≤ 6) (hn : n ≤ 8) (h4 : ∀ c, c < n → a4 c = nI (pl c) ∧ pl c < 6) (h78 : ∀ c, c < n → a7 c = 0 ∧ a8 c = 0) :
    ∀ (ws : List Nat) (p l : Nat), l + ws.length + 1 = cnt → (∀ i q, (p :: ws)[i]? = some q → a16 (l + i) = nI q ∧ q < 6) →
    ∀ (r j : Nat), j + r = n → ∀ (b : Int32) (st : Nat) (b17 : Nat → Int32) (b18 b19 b20 b21 : Nat → Int64), b17 l + 1 = nI j → st + 1 + r * 10 ^ ws.length ≤ 1073741824 →
      (∀ (st' : Nat) (c17 : Nat → Int32) (c18 c19 c20 c21 : Nat → Int64), st' ≤ st + 1 + r * 10 ^ ws.length → nj_ag l b17 c17 b18 c18 b19 c19 → ∃ N, wX_leastCut_77 post (nI cnt) N (nI l + (-1)) (nj_sc (nj_fs pl a5 a6 p ws.isEmpty (nj_df n pl a5 a6 ws) (b19 l) (b18 l)) r j b) (nI st') fp fi fs fg fj fu (nI n) fe a1 a2 a3 a4 a5 a6 a7 a8 a9 a10 a11 a12 a13 a14 a15 a16 c17 c18 c19 c20 c21) →
      ∃ N, wX_leastCut_77 post (nI cnt) N (nI l) b (nI st) fp fi fs fg fj fu (nI n) fe a1 a2 a3 a4 a5 a6 a7 a8 a9 a10 a11 a12 a13 a14 a15 a16 b17 b18 b19 b20 b21 := by
  intro ws
  induction ws with
  | nil =>
    intro p l hlen h16
    have h0 := h16 0 p rfl
    have hle : l + 1 = cnt := hlen
    exact nj_dfs1 (T := 10 ^ [].length) (last := [].isEmpty) (by omega) hcnt hn h0.1 h0.2 h4 h78 ⟨fun _ => hle, fun _ => rfl⟩ (by decide) (fun z => absurd z (by omega))
  | cons q ws ih =>
    intro p l hlen h16
    have h0 := h16 0 p rfl
    have hle : l + (ws.length + 1) + 1 = cnt := hlen
    have hpow : 10 ^ (q :: ws).length = 10 * 10 ^ ws.length := by rw [List.length_cons, Nat.pow_succ, Nat.mul_comm]
    have hpos : 1 ≤ 10 ^ ws.length := Nat.one_le_pow _ _ (by decide)
    have hnm : n * 10 ^ ws.length ≤ 8 * 10 ^ ws.length := Nat.mul_le_mul_right _ hn
    refine nj_dfs1 (T := 10 ^ (q :: ws).length) (last := (q :: ws).isEmpty) (rec := nj_df n pl a5 a6 (q :: ws)) (by omega) hcnt hn h0.1 h0.2 h4 h78 ⟨fun z => Bool.noConfusion (show false = true from z), fun z => absurd z (by omega)⟩ (by rw [hpow]; omega) (fun _ b st b17 b18 b19 b20 b21 e hst Hc => ?_)
    rw [hpow] at hst Hc
    refine ih q (l + 1) (by omega) (fun i y hy => ?_) n 0 (by omega) b st b17 b18 b19 b20 b21 (by rw [e]; decide) (by omega) (fun st' c17 c18 c19 c20 c21 k1 k2 => Hc st' c17 c18 c19 c20 c21 (by omega) k2)
    have := h16 (i + 1) y hy
    rwa [show l + (i + 1) = l + 1 + i by omega] at this
theorem nj_lcut {post : Int32 → St2 → Prop} {x n : Nat} {pl : Nat → Nat} (hx : x < 64) (hx0 : x ≠ 0) (hn : n ≤ 8) (h4 : ∀ c, c < n → a4 c = nI (pl c) ∧ pl c < 6) (h78 : ∀ c, c < n → a7 c = 0 ∧ a8 c = 0)
    (H : ∀ b16 b17 b18 b19 b20 b21, post (nj_df n pl a5 a6 (nj_ls x 6) (-1) 0 (-1)) (6, fi, fs, fg, fj, fu, nI n, fe, a1, a2, a3, a4, a5, a6, a7, a8, a9, a10, a11, a12, a13, a14, a15, b16, b17, b18, b19, b20, b21)) : wpX_leastCut post (6, fi, fs, fg, fj, fu, nI n, fe, a1, a2, a3, a4, a5, a6, a7, a8, a9, a10, a11, a12, a13, a14, a15, a16, a17, a18, a19, a20, a21) (nI x) := by
  refine br_f (nI_ne0 (by omega) (by omega)) ?_
  refine pk_loop (σ := Int32 × (Nat → Int32)) (fun k i s => wX_leastCut_21 post (nI x) 6 fi fs fg fj fu (nI n) fe k s.1 (nI i) a1 a2 a3 a4 a5 a6 a7 a8 a9 a10 a11 a12 a13 a14 a15 s.2 a17 a18 a19 a20 a21) (fun i s => s.1 = nI (nj_ls x i).length ∧ ∀ j p, (nj_ls x i)[j]? = some p → s.2 j = nI p) 6 0 (0, a16) (by omega)
    ⟨rfl, fun j p h => absurd (nj_gl h) (Nat.not_lt_zero _)⟩ ?_ ?_
  · rintro k ⟨c, b16⟩ ⟨h1, h2⟩
    have h1' : c = nI (nj_ls x 6).length := h1
    subst h1'
    refine br_t (by decide) (nj_enter (l := 0) (by decide) ?_)
    have hlen := nj_ls_len x 6
    have h6 : ∀ i q, (nj_ls x 6)[i]? = some q → b16 i = nI q ∧ q < 6 := fun i q h => ⟨h2 i q h, (nj_ls_m.mp (nj_gm.mpr ⟨i, h⟩)).1⟩
    cases hL : nj_ls x 6 with
    | nil =>
      exfalso
      apply hx0
      refine (nj_z64 hx).mpr (fun p hp => ?_)
      cases hb : x.testBit p
      · rfl
      · have := nj_ls_m.mpr ⟨hp, hb⟩
        rw [hL] at this
        exact absurd this (List.not_mem_nil)
    | cons p ws =>
      rw [hL] at hlen h6 H
      have hlen' : ws.length + 1 ≤ 6 := hlen
      have hpw : 10 ^ ws.length ≤ 10 ^ 5 := Nat.pow_le_pow_right (by decide) (by omega)
      have hnm : n * 10 ^ ws.length ≤ 8 * 10 ^ 5 := Nat.mul_le_mul hn hpw
      refine nj_dfs (cnt := (p :: ws).length) (by omega) hn h4 h78 ws p 0 (by rw [List.length_cons]; omega) (fun i q h => by rw [Nat.zero_add]; exact h6 i q h) n 0 (by omega) (-1) 0 _ _ _ _ _ (by rw [pk_us]; decide) (by omega) (fun st' c17 c18 c19 c20 c21 k1 k2 => ⟨1, ?_⟩)
      refine br_f (nI_ge (b := 1073741824) (by omega) (by decide)) (br_t (by decide) ?_)
      exact H b16 c17 c18 c19 c20 c21
  · rintro k i ⟨c, b16⟩ hi ⟨h1, h2⟩ hw
    have h1' : c = nI (nj_ls x i).length := h1
    subst h1'
    have hl := nj_ls_len x i
    refine br_f (nI_ge (b := 6) hi (by decide)) ?_
    refine ek_if (nj_bit x hx i hi) (fun z => ?_) (fun z => ?_)
    · refine nm_r (nI_1 i) (hw (nI (nj_ls x i).length, b16) ?_)
      rw [nj_ls_f z]
      exact ⟨rfl, h2⟩
    · have z' : x.testBit i = true := by
        cases hb : x.testBit i
        · exact absurd hb z
        · rfl
      refine ⟨vp_in_nI (by omega) (by decide), nm_r (e' := upd b16 (nj_ls x i).length (nI i)) (by rw [nI_clamp (by omega), nj_b6 i hi]) (nm_r (nI_1 _) (nm_r (nI_1 i) (hw (nI ((nj_ls x i).length + 1), upd b16 (nj_ls x i).length (nI i)) ?_)))⟩
      rw [nj_ls_t z']
      refine ⟨by rw [List.length_append]; rfl, fun j p h => ?_⟩
      rcases nj_gc.mp h with g | ⟨g1, g2⟩
      · have := nj_gl g
        show upd b16 (nj_ls x i).length (nI i) j = nI p
        rw [pk_un (by omega)]
        exact h2 j p g
      · show upd b16 (nj_ls x i).length (nI i) j = nI p
        rw [g1, pk_us, g2]
end
end
section
/-! ===== the search finds the least cut ===== -/
/-- a cut that goes on from here: the places ws still to fill, w what may stand there, h the past so far, g the past in the end -/
def nj_Cp (n : Nat) (pl : Nat → Nat) (a5 a6 : Nat → Int64) : List Nat → Int64 → Int64 → Int64 → Prop
  | [], w, h, g => w = 0 ∧ g = h
  | p :: ws, w, h, g => ∃ c, c < n ∧ pl c = p ∧ nj_t w c = true ∧ nj_Cp n pl a5 a6 ws (w &&& a6 c) (h ||| a5 c) g
def nj_01 (h : Int64) : Prop := h = 0 ∨ h = 1
theorem nj_01_or {a b : Int64} (ha : nj_01 a) (hb : nj_01 b) : nj_01 (a ||| b) ∧ (a ||| b = 1 ↔ a = 1 ∨ b = 1) := by
  rcases ha with rfl | rfl <;> rcases hb with rfl | rfl
  · exact ⟨.inl (by decide), by decide⟩
  · exact ⟨.inr (by decide), by decide⟩
  · exact ⟨.inr (by decide), by decide⟩
  · exact ⟨.inr (by decide), by decide⟩
theorem nj_01_on {a : Int64} (ha : nj_01 a) : 0 ≤ nj_on a := by
  rcases ha with rfl | rfl
  · rw [nj_on0]; decide
  · rw [nj_on1]; decide
section
variable {n : Nat} {pl : Nat → Nat} {a5 a6 : Nat → Int64}
theorem nj_Cp_01 (h5 : ∀ c, c < n → nj_01 (a5 c)) : ∀ (ws : List Nat) (w h g : Int64), nj_01 h → nj_Cp n pl a5 a6 ws w h g → nj_01 g ∧ nj_on h ≤ nj_on g := by
  intro ws
  induction ws with
  | nil =>
    rintro w h g hh ⟨_, rfl⟩
    exact ⟨hh, Int32.le_refl _⟩
  | cons p ws ih =>
    rintro w h g hh ⟨c, hc, _, _, hC⟩
    have ho := nj_01_or hh (h5 c hc)
    obtain ⟨g1, g2⟩ := ih _ _ _ ho.1 hC
    refine ⟨g1, Int32.le_trans ?_ g2⟩
    rcases hh with rfl | rfl
    · rw [nj_on0]
      exact nj_01_on ho.1
    · rw [ho.2.mpr (.inl rfl)]
      exact Int32.le_refl _
/-- b' is the least of b and the ends in C (below 0: none) -/
def nj_U (C : Int64 → Prop) (b b' : Int32) : Prop := (b' = b ∨ ∃ g, C g ∧ b' = nj_on g) ∧ (∀ g, C g → 0 ≤ b' ∧ b' ≤ nj_on g) ∧ (0 ≤ b → 0 ≤ b' ∧ b' ≤ b)
theorem nj_U_0 {C : Int64 → Prop} {b : Int32} (h : ∀ g, ¬ C g) : nj_U C b b := ⟨.inl rfl, fun g z => absurd z (h g), fun z => ⟨z, Int32.le_refl _⟩⟩
theorem nj_U_tr {C D E : Int64 → Prop} {b b1 b2 : Int32} (hE : ∀ g, E g ↔ C g ∨ D g) (h1 : nj_U C b b1) (h2 : nj_U D b1 b2) : nj_U E b b2 := by
  obtain ⟨p1, p2, p3⟩ := h1
  obtain ⟨q1, q2, q3⟩ := h2
  refine ⟨?_, ?_, ?_⟩
  · rcases q1 with rfl | ⟨g, hg, e⟩
    · rcases p1 with rfl | ⟨g, hg, e⟩
      · exact .inl rfl
      · exact .inr ⟨g, (hE g).mpr (.inl hg), e⟩
    · exact .inr ⟨g, (hE g).mpr (.inr hg), e⟩
  · intro g hg
    rcases (hE g).mp hg with z | z
    · obtain ⟨r1, r2⟩ := p2 g z
      obtain ⟨s1, s2⟩ := q3 r1
      exact ⟨s1, Int32.le_trans s2 r2⟩
    · exact q2 g z
  · intro z
    obtain ⟨r1, r2⟩ := p3 z
    obtain ⟨s1, s2⟩ := q3 r1
    exact ⟨s1, Int32.le_trans s2 r2⟩
theorem nj_U_eq {C D : Int64 → Prop} {b b1 : Int32} (hE : ∀ g, C g ↔ D g) (h1 : nj_U C b b1) : nj_U D b b1 := by
  have : C = D := funext (fun g => propext (hE g))
  rwa [this] at h1
theorem nj_U_sc {f : Nat → Int32 → Int32} {C : Nat → Int64 → Prop} : ∀ (r j : Nat) (b : Int32), (∀ c, j ≤ c → c < j + r → ∀ b, nj_U (C c) b (f c b)) → nj_U (fun g => ∃ c, j ≤ c ∧ c < j + r ∧ C c g) b (nj_sc f r j b) := by
  intro r
  induction r with
  | zero =>
    intro j b _
    refine nj_U_0 (fun g => ?_)
    rintro ⟨c, h1, h2, _⟩
    omega
  | succ r ih =>
    intro j b h
    refine nj_U_tr (fun g => ?_) (h j (by omega) (by omega) b) (ih (j + 1) (f j b) (fun c z1 z2 => h c (by omega) (by omega)))
    constructor
    · rintro ⟨c, h1, h2, h3⟩
      by_cases e : c = j
      · rw [e] at h3; exact .inl h3
      · exact .inr ⟨c, by omega, by omega, h3⟩
    · rintro (z | ⟨c, h1, h2, h3⟩)
      · exact ⟨j, by omega, by omega, z⟩
      · exact ⟨c, by omega, by omega, h3⟩
theorem nj_lt_not {a b : Int32} (h : ¬ a ≤ b) : b ≤ a := by
  rw [Int32.le_iff_toInt_le] at *
  omega
theorem nj_neg_not {a : Int32} (h : a < 0) : ¬ 0 ≤ a := by
  rw [Int32.lt_iff_toInt_lt] at h
  rw [Int32.le_iff_toInt_le]
  omega
theorem nj_not_neg {a : Int32} (h : ¬ a < 0) : 0 ≤ a := by
  rw [Int32.lt_iff_toInt_lt] at h
  rw [Int32.le_iff_toInt_le]
  omega
theorem nj_U_fs (h5 : ∀ c, c < n → nj_01 (a5 c)) {p : Nat} {ws : List Nat} {w h : Int64} (hh : nj_01 h) {c : Nat} (hc : c < n)
    (hrec : ws ≠ [] → ∀ w h b, nj_01 h → nj_U (nj_Cp n pl a5 a6 ws w h) b (nj_df n pl a5 a6 ws w h b)) (b : Int32) :
    nj_U (fun g => pl c = p ∧ nj_t w c = true ∧ nj_Cp n pl a5 a6 ws (w &&& a6 c) (h ||| a5 c) g) b (nj_fs pl a5 a6 p ws.isEmpty (nj_df n pl a5 a6 ws) w h c b) := by
  have ho := (nj_01_or hh (h5 c hc)).1
  unfold nj_fs
  by_cases h1 : pl c = p ∧ nj_t w c = true
  · rw [if_pos h1]
    refine nj_U_eq (C := nj_Cp n pl a5 a6 ws (w &&& a6 c) (h ||| a5 c)) (fun g => ⟨fun z => ⟨h1.1, h1.2, z⟩, fun z => z.2.2⟩) ?_
    by_cases h2 : b < 0 ∨ ¬ b ≤ nj_on (h ||| a5 c)
    · rw [if_pos h2]
      cases ws with
      | nil =>
        rw [if_pos (show List.isEmpty ([] : List Nat) = true from rfl)]
        by_cases h3 : w &&& a6 c = 0
        · rw [if_pos h3]
          refine ⟨.inr ⟨_, ⟨h3, rfl⟩, rfl⟩, fun g hg => ?_, fun z => ⟨nj_01_on ho, ?_⟩⟩
          · rw [hg.2]
            exact ⟨nj_01_on ho, Int32.le_refl _⟩
          · rcases h2 with h2 | h2
            · exact absurd z (nj_neg_not h2)
            · exact nj_lt_not h2
        · rw [if_neg h3]
          exact nj_U_0 (fun g z => h3 z.1)
      | cons q ws =>
        rw [if_neg (show ¬ List.isEmpty (q :: ws) = true from fun z => Bool.noConfusion (show false = true from z))]
        exact hrec (List.cons_ne_nil _ _) _ _ b ho
    · rw [if_neg h2]
      have hb0 : 0 ≤ b := nj_not_neg (fun z => h2 (.inl z))
      have hb1 : b ≤ nj_on (h ||| a5 c) := Classical.byContradiction (fun z => h2 (.inr z))
      exact ⟨.inl rfl, fun g hg => ⟨hb0, Int32.le_trans hb1 (nj_Cp_01 h5 ws _ _ _ ho hg).2⟩, fun z => ⟨z, Int32.le_refl _⟩⟩
  · rw [if_neg h1]
    exact nj_U_0 (fun g z => h1 ⟨z.1, z.2.1⟩)
theorem nj_U_df (h5 : ∀ c, c < n → nj_01 (a5 c)) : ∀ (ws : List Nat), ws ≠ [] → ∀ w h b, nj_01 h → nj_U (nj_Cp n pl a5 a6 ws w h) b (nj_df n pl a5 a6 ws w h b) := by
  intro ws
  induction ws with
  | nil => intro z; exact absurd rfl z
  | cons p ws ih =>
    intro _ w h b hh
    refine nj_U_eq (fun g => ?_) (nj_U_sc (C := fun c g => pl c = p ∧ nj_t w c = true ∧ nj_Cp n pl a5 a6 ws (w &&& a6 c) (h ||| a5 c) g) n 0 b (fun c _ hc b => nj_U_fs h5 hh (by omega) ih b))
    constructor
    · rintro ⟨c, _, hc, hC⟩
      exact ⟨c, by omega, hC⟩
    · rintro ⟨c, hc, hC⟩
      exact ⟨c, by omega, by omega, hC⟩
/-! from a cut to its conditions and back -/
theorem nj_Cp_l (h5 : ∀ c, c < n → nj_01 (a5 c)) : ∀ (ws : List Nat) (w h g : Int64), nj_01 h → nj_Cp n pl a5 a6 ws w h g →
    ∃ cs : List Nat, cs.map pl = ws ∧ (∀ c, c ∈ cs → c < n ∧ nj_t w c = true) ∧ cs.Pairwise (fun c d => nj_t (a6 c) d = true) ∧ (∀ d, nj_t w d = true → ∃ c, c ∈ cs ∧ nj_t (a6 c) d = false) ∧ (g = 1 ↔ h = 1 ∨ ∃ c, c ∈ cs ∧ a5 c = 1) := by
  intro ws
  induction ws with
  | nil =>
    rintro w h g hh ⟨rfl, rfl⟩
    refine ⟨[], rfl, fun c hc => absurd hc List.not_mem_nil, List.Pairwise.nil, fun d hd => ?_, ⟨fun z => .inl z, fun z => z.elim id (fun ⟨c, hc, _⟩ => absurd hc List.not_mem_nil)⟩⟩
    rw [nj_t_0] at hd
    exact absurd hd (by decide)
  | cons p ws ih =>
    rintro w h g hh ⟨c, hc, hp, hw, hC⟩
    have ho := nj_01_or hh (h5 c hc)
    obtain ⟨cs, g1, g2, g3, g4, g5⟩ := ih _ _ _ ho.1 hC
    have g2' : ∀ d, d ∈ cs → d < n ∧ nj_t w d = true ∧ nj_t (a6 c) d = true := by
      intro d hd
      have := g2 d hd
      rw [nj_t_and, Bool.and_eq_true] at this
      exact this
    refine ⟨c :: cs, by rw [List.map_cons, g1, hp], fun d hd => ?_, List.pairwise_cons.mpr ⟨fun d hd => (g2' d hd).2.2, g3⟩, fun d hd => ?_, ?_⟩
    · rcases List.mem_cons.mp hd with e | e
      · rw [e]; exact ⟨hc, hw⟩
      · exact ⟨(g2' d e).1, (g2' d e).2.1⟩
    · cases hb : nj_t (a6 c) d
      · exact ⟨c, List.mem_cons_self, hb⟩
      · obtain ⟨e, he, hf⟩ := g4 d (by rw [nj_t_and, hd, hb]; rfl)
        exact ⟨e, List.mem_cons_of_mem _ he, hf⟩
    · rw [g5, ho.2]
      constructor
      · rintro ((z | z) | ⟨d, hd, z⟩)
        · exact .inl z
        · exact .inr ⟨c, List.mem_cons_self, z⟩
        · exact .inr ⟨d, List.mem_cons_of_mem _ hd, z⟩
      · rintro (z | ⟨d, hd, z⟩)
        · exact .inl (.inl z)
        · rcases List.mem_cons.mp hd with e | e
          · rw [e] at z; exact .inl (.inr z)
          · exact .inr ⟨d, e, z⟩
theorem nj_l_Cp (h5 : ∀ c, c < n → nj_01 (a5 c)) : ∀ (cs : List Nat) (w h : Int64), nj_01 h → (∀ c, c ∈ cs → c < n ∧ nj_t w c = true) → cs.Pairwise (fun c d => nj_t (a6 c) d = true) → (∀ d, nj_t w d = true → ∃ c, c ∈ cs ∧ nj_t (a6 c) d = false) →
    ∃ g, nj_Cp n pl a5 a6 (cs.map pl) w h g ∧ (g = 1 ↔ h = 1 ∨ ∃ c, c ∈ cs ∧ a5 c = 1) := by
  intro cs
  induction cs with
  | nil =>
    intro w h hh _ _ h3
    refine ⟨h, ⟨nj_t_z.mpr (fun d => ?_), rfl⟩, ⟨fun z => .inl z, fun z => z.elim id (fun ⟨c, hc, _⟩ => absurd hc List.not_mem_nil)⟩⟩
    cases hb : nj_t w d
    · rfl
    · obtain ⟨c, hc, _⟩ := h3 d hb
      exact absurd hc List.not_mem_nil
  | cons c cs ih =>
    intro w h hh h1 h2 h3
    obtain ⟨hc, hw⟩ := h1 c List.mem_cons_self
    have ho := nj_01_or hh (h5 c hc)
    obtain ⟨p1, p2⟩ := List.pairwise_cons.mp h2
    obtain ⟨g, g1, g2⟩ := ih (w &&& a6 c) (h ||| a5 c) ho.1 (fun d hd => by
        obtain ⟨q1, q2⟩ := h1 d (List.mem_cons_of_mem _ hd)
        exact ⟨q1, by rw [nj_t_and, q2, p1 d hd]; rfl⟩) p2 (fun d hd => by
        rw [nj_t_and, Bool.and_eq_true] at hd
        obtain ⟨e, he, hf⟩ := h3 d hd.1
        rcases List.mem_cons.mp he with z | z
        · rw [z, hd.2] at hf
          exact absurd hf (by decide)
        · exact ⟨e, z, hf⟩)
    refine ⟨g, ⟨c, hc, rfl, hw, g1⟩, ?_⟩
    rw [g2, ho.2]
    constructor
    · rintro ((z | z) | ⟨d, hd, z⟩)
      · exact .inl z
      · exact .inr ⟨c, List.mem_cons_self, z⟩
      · exact .inr ⟨d, List.mem_cons_of_mem _ hd, z⟩
    · rintro (z | ⟨d, hd, z⟩)
      · exact .inl (.inl z)
      · rcases List.mem_cons.mp hd with e | e
        · rw [e] at z; exact .inl (.inr z)
        · exact .inr ⟨d, e, z⟩
theorem nj_sel (h5 : ∀ c, c < n → nj_01 (a5 c)) (hn : n ≤ 64) {ws : List Nat} (hpw : ws.Pairwise (fun a b => a < b)) (s : Nat → Nat) (hs : ∀ p, p ∈ ws → s p < n ∧ pl (s p) = p) (hB : ∀ p q, p ∈ ws → q ∈ ws → p ≠ q → nj_t (a6 (s p)) (s q) = true)
    (hmax : ∀ d, d < 64 → ∃ p, p ∈ ws ∧ nj_t (a6 (s p)) d = false) : ∃ g, nj_Cp n pl a5 a6 ws (-1) 0 g ∧ (g = 1 ↔ ∃ p, p ∈ ws ∧ a5 (s p) = 1) := by
  have hm : (ws.map s).map pl = ws := by
    rw [List.map_map]
    refine (List.map_congr_left (fun p hp => ?_)).trans (List.map_id ws)
    exact (hs p hp).2
  obtain ⟨g, g1, g2⟩ := nj_l_Cp (pl := pl) (a6 := a6) h5 (ws.map s) (-1) 0 (.inl rfl) (fun c hc => by
      obtain ⟨p, hp, e⟩ := List.mem_map.mp hc
      have := (hs p hp).1
      rw [← e]
      exact ⟨this, by rw [nj_t_m1]; exact decide_eq_true (by omega)⟩) (by
      rw [List.pairwise_map]
      exact List.Pairwise.imp_of_mem (fun {p q} hp hq hlt => hB p q hp hq (by omega)) hpw) (fun d hd => by
      rw [nj_t_m1] at hd
      obtain ⟨p, hp, hf⟩ := hmax d (of_decide_eq_true hd)
      exact ⟨s p, List.mem_map.mpr ⟨p, hp, rfl⟩, hf⟩)
  rw [hm] at g1
  refine ⟨g, g1, ?_⟩
  rw [g2]
  constructor
  · rintro (z | ⟨c, hc, z⟩)
    · exact absurd z (by decide)
    · obtain ⟨p, hp, e⟩ := List.mem_map.mp hc
      rw [← e] at z
      exact ⟨p, hp, z⟩
  · rintro ⟨p, hp, z⟩
    exact .inr ⟨s p, List.mem_map.mpr ⟨p, hp, rfl⟩, z⟩
end
theorem nj_lsx {x m : Nat} (hx : x < 64) (hm : m < 64) (h : ∀ p, p ∈ nj_ls x 6 ↔ p ∈ nj_ls m 6) : x = m := by
  refine nj_ext hx hm (fun p hp => ?_)
  have := h p
  rw [nj_ls_m, nj_ls_m] at this
  rw [Bool.eq_iff_iff]
  exact ⟨fun z => (this.mp ⟨hp, z⟩).2, fun z => (this.mpr ⟨hp, z⟩).2⟩
/-- the place of a condition -/
def nj_plc (L : List Nat) (c : Nat) : Nat := L[c]?.getD 0
theorem nj_plc_s {L : List Nat} {c p : Nat} (h : L[c]? = some p) : nj_plc L c = p := by
  unfold nj_plc
  rw [h]
  rfl
theorem nj_plc_g {L : List Nat} {c : Nat} (h : c < L.length) : L[c]? = some (nj_plc L c) := by
  obtain ⟨p, hp⟩ := nj_ge h
  rw [nj_plc_s hp]
  exact hp
section
variable {m P Q : Nat} {a4 : Nat → Int32} {a5 a6 a7 a8 : Nat → Int64}
theorem nj_Cd_01 {L : List Nat} (hC : nj_Cd L m P a4 a5 a6 a7 a8) : ∀ c, c < L.length → nj_01 (a5 c) := by
  intro c hc
  rw [hC.2.1 c hc]
  by_cases e : c < (nj_ls m 6).length
  · rw [if_pos e]; exact .inl rfl
  · rw [if_neg e]; exact .inr rfl
/-- no event: the one cut is the start -/
theorem nj_far0 (hm : m < 64) (hC : nj_Cd (nj_ls m 6) m P a4 a5 a6 a7 a8) {x : Nat} (hx : x < 64) (hx0 : x ≠ 0) :
    nj_df (nj_ls m 6).length (nj_plc (nj_ls m 6)) a5 a6 (nj_ls x 6) (-1) 0 (-1) = if x = m then 0 else -1 := by
  have h5 := nj_Cd_01 hC
  have hlen := nj_ls_len m 6
  have hne : nj_ls x 6 ≠ [] := by
    intro e
    refine hx0 ((nj_z64 hx).mpr (fun p hp => ?_))
    cases hb : x.testBit p
    · rfl
    · have := nj_ls_m.mpr ⟨hp, hb⟩
      rw [e] at this
      exact absurd this List.not_mem_nil
  obtain ⟨u1, u2, u3⟩ := nj_U_df h5 (pl := nj_plc (nj_ls m 6)) (a6 := a6) (nj_ls x 6) hne (-1) 0 (-1) (.inl rfl)
  have c6 : ∀ c d, c < (nj_ls m 6).length → d < (nj_ls m 6).length → nj_t (a6 c) d = decide (c ≠ d) := by
    intro c d hc hd
    rw [hC.2.2.1 c d hc, nj_B_o hc hd, decide_eq_true hd, Bool.true_and]
  have fwd : ∀ g, nj_Cp (nj_ls m 6).length (nj_plc (nj_ls m 6)) a5 a6 (nj_ls x 6) (-1) 0 g → x = m ∧ g = 0 := by
    intro g hg
    obtain ⟨cs, s1, s2, s3, s4, s5⟩ := nj_Cp_l h5 _ _ _ _ (.inl rfl) hg
    have hall : ∀ d, d < (nj_ls m 6).length → d ∈ cs := by
      intro d hd
      obtain ⟨c, hc, hf⟩ := s4 d (by rw [nj_t_m1]; exact decide_eq_true (by omega))
      rw [c6 c d (s2 c hc).1 hd] at hf
      have : c = d := Classical.byContradiction (fun z => absurd hf (by rw [decide_eq_true z]; decide))
      rw [← this]
      exact hc
    refine ⟨nj_lsx hx hm (fun p => ?_), ?_⟩
    · constructor
      · intro hp
        rw [← s1] at hp
        obtain ⟨c, hc, e⟩ := List.mem_map.mp hp
        rw [← e]
        exact nj_gm.mpr ⟨c, nj_plc_g (s2 c hc).1⟩
      · intro hp
        obtain ⟨j, hj⟩ := nj_gm.mp hp
        rw [← s1]
        exact List.mem_map.mpr ⟨j, hall j (nj_gl hj), nj_plc_s hj⟩
    · rcases (nj_Cp_01 h5 _ _ _ _ (.inl rfl) hg).1 with z | z
      · exact z
      · rcases s5.mp z with y | ⟨c, hc, y⟩
        · exact absurd y (by decide)
        · rw [hC.2.1 c (s2 c hc).1, if_pos (s2 c hc).1] at y
          exact absurd y (by decide)
  by_cases e : x = m
  · subst e
    rw [if_pos rfl]
    obtain ⟨s, hs⟩ := Classical.axiomOfChoice (r := fun p j => p ∈ nj_ls x 6 → (nj_ls x 6)[j]? = some p) (fun p => by
      by_cases h : p ∈ nj_ls x 6
      · obtain ⟨j, hj⟩ := nj_gm.mp h
        exact ⟨j, fun _ => hj⟩
      · exact ⟨0, fun z => absurd z h⟩)
    obtain ⟨g, hg, _⟩ := nj_sel (pl := nj_plc (nj_ls x 6)) (a6 := a6) h5 (by omega) (nj_ls_pw x 6) s (fun p hp => ⟨nj_gl (hs p hp), nj_plc_s (hs p hp)⟩)
      (fun p q hp hq hpq => by
        rw [c6 _ _ (nj_gl (hs p hp)) (nj_gl (hs q hq))]
        refine decide_eq_true (fun z => hpq ?_)
        have h1 := hs p hp
        have h2 := hs q hq
        rw [z, h2] at h1
        exact (Option.some.inj h1).symm)
      (fun d hd => by
        by_cases q : d < (nj_ls x 6).length
        · obtain ⟨p, hp⟩ := nj_ge q
          have hpm := nj_gm.mpr ⟨d, hp⟩
          refine ⟨p, hpm, ?_⟩
          have : s p = d := nj_inj (nj_ls_pw x 6) (hs p hpm) hp
          rw [this, c6 d d q q]
          simp
        · cases hL : nj_ls x 6 with
          | nil => exact absurd hL hne
          | cons y ys =>
            have hy : y ∈ nj_ls x 6 := by rw [hL]; exact List.mem_cons_self
            refine ⟨y, List.mem_cons_self, ?_⟩
            rw [hC.2.2.1 _ d (nj_gl (hs y hy)), decide_eq_false q]
            rfl)
    have hg0 := (fwd g hg).2
    obtain ⟨v1, v2⟩ := u2 g hg
    rw [hg0, nj_on0] at v2
    exact Int32.le_antisymm v2 v1
  · rw [if_neg e]
    rcases u1 with z | ⟨g, hg, _⟩
    · exact z
    · exact absurd (fwd g hg).1 e
end
end
section
/-! ===== one event: the cuts are the start and what follows ===== -/
section
variable {m P Q : Nat} {a4 : Nat → Int32} {a5 a6 a7 a8 : Nat → Int64}
theorem nj_far1 (hm : m < 64) (hP : P < 64) (hQ : Q < 64) (hr : nj_le P m) (hcl : nj_cl P Q m) (hne : nj_nx m P Q ≠ m) (hP0 : ∃ p, p < 6 ∧ P.testBit p = true) (hQ0 : ∃ p, p < 6 ∧ Q.testBit p = true)
    (hC : nj_Cd (nj_ls m 6 ++ nj_ls Q 6) m P a4 a5 a6 a7 a8) {x : Nat} (hx : x < 64) (hx0 : x ≠ 0) :
    nj_df (nj_ls m 6 ++ nj_ls Q 6).length (nj_plc (nj_ls m 6 ++ nj_ls Q 6)) a5 a6 (nj_ls x 6) (-1) 0 (-1) = if x = m then 0 else if x = nj_nx m P Q then 1 else -1 := by
  have h5 := nj_Cd_01 hC
  obtain ⟨p0, hp0, hPp0⟩ := hP0
  obtain ⟨q0, hq0, hQq0⟩ := hQ0
  have hlm := nj_ls_len m 6
  have hlq := nj_ls_len Q 6
  have hla : (nj_ls m 6 ++ nj_ls Q 6).length = (nj_ls m 6).length + (nj_ls Q 6).length := List.length_append
  have hnl := nj_nx_lt hm hP hQ
  have hxne : nj_ls x 6 ≠ [] := by
    intro e
    refine hx0 ((nj_z64 hx).mpr (fun p hp => ?_))
    cases hb : x.testBit p
    · rfl
    · have := nj_ls_m.mpr ⟨hp, hb⟩
      rw [e] at this
      exact absurd this List.not_mem_nil
  obtain ⟨u1, u2, u3⟩ := nj_U_df h5 (pl := nj_plc (nj_ls m 6 ++ nj_ls Q 6)) (a6 := a6) (nj_ls x 6) hxne (-1) 0 (-1) (.inl rfl)
  have c6 : ∀ c d, c < (nj_ls m 6 ++ nj_ls Q 6).length → d < (nj_ls m 6 ++ nj_ls Q 6).length → nj_t (a6 c) d = nj_B m P c d := by
    intro c d hc hd
    rw [hC.2.2.1 c d hc, decide_eq_true hd, Bool.true_and]
  have old : ∀ {c}, c < (nj_ls m 6).length → ∃ p, (nj_ls m 6)[c]? = some p ∧ (nj_ls m 6 ++ nj_ls Q 6)[c]? = some p ∧ p < 6 ∧ m.testBit p = true := by
    intro c hc
    obtain ⟨p, hp⟩ := nj_ge hc
    exact ⟨p, hp, nj_ga.mpr (.inl hp), nj_ls_m.mp (nj_gm.mpr ⟨c, hp⟩)⟩
  have new : ∀ {c}, (nj_ls m 6).length ≤ c → c < (nj_ls m 6 ++ nj_ls Q 6).length → ∃ p, (nj_ls Q 6)[c - (nj_ls m 6).length]? = some p ∧ (nj_ls m 6 ++ nj_ls Q 6)[c]? = some p ∧ p < 6 ∧ Q.testBit p = true := by
    intro c hc hc2
    obtain ⟨p, hp⟩ := nj_ge (show c - (nj_ls m 6).length < (nj_ls Q 6).length by omega)
    exact ⟨p, hp, nj_ga.mpr (.inr ⟨hc, hp⟩), nj_ls_m.mp (nj_gm.mpr ⟨_, hp⟩)⟩
  have fwd : ∀ g, nj_Cp (nj_ls m 6 ++ nj_ls Q 6).length (nj_plc (nj_ls m 6 ++ nj_ls Q 6)) a5 a6 (nj_ls x 6) (-1) 0 g → (x = m ∧ g = 0) ∨ (x = nj_nx m P Q ∧ g = 1) := by
    intro g hg
    obtain ⟨cs, s1, s2, s3, s4, s5⟩ := nj_Cp_l h5 _ _ _ _ (.inl rfl) hg
    have hB : ∀ c d, c ∈ cs → d ∈ cs → c ≠ d → nj_B m P c d = true := by
      intro c d hc hd hcd
      obtain ⟨i, hi⟩ := nj_gm.mp hc
      obtain ⟨j, hj⟩ := nj_gm.mp hd
      obtain ⟨i1, i2⟩ := List.getElem?_eq_some_iff.mp hi
      obtain ⟨j1, j2⟩ := List.getElem?_eq_some_iff.mp hj
      have hp := List.pairwise_iff_getElem.mp s3
      rcases Nat.lt_trichotomy i j with z | z | z
      · have := hp i j i1 j1 z
        rw [i2, j2, c6 c d (s2 c hc).1 (s2 d hd).1] at this
        exact this
      · subst z
        exact absurd (i2.symm.trans j2) hcd
      · have := hp j i j1 i1 z
        rw [i2, j2, c6 d c (s2 d hd).1 (s2 c hc).1, nj_B_s] at this
        exact this
    have hmax : ∀ d, d < (nj_ls m 6 ++ nj_ls Q 6).length → ∃ c, c ∈ cs ∧ nj_B m P c d = false := by
      intro d hd
      obtain ⟨c, hc, hf⟩ := s4 d (by rw [nj_t_m1]; exact decide_eq_true (by omega))
      rw [c6 c d (s2 c hc).1 hd] at hf
      exact ⟨c, hc, hf⟩
    have g01 := (nj_Cp_01 h5 _ _ _ _ (.inl rfl) hg).1
    by_cases hnew : ∃ c, c ∈ cs ∧ (nj_ls m 6).length ≤ c
    · right
      obtain ⟨c', hc', hc'n⟩ := hnew
      have hco : ∀ c, c ∈ cs → nj_co m P c = false := by
        intro c hc
        by_cases e : c < (nj_ls m 6).length
        · have := hB c c' hc hc' (by omega)
          rw [nj_B_n hc'n (by omega)] at this
          revert this
          cases nj_co m P c <;> simp
        · exact nj_co_n (by omega)
      have hall : ∀ d, d < (nj_ls m 6 ++ nj_ls Q 6).length → nj_co m P d = false → d ∈ cs := by
        intro d hd hdc
        obtain ⟨c, hc, hf⟩ := hmax d hd
        unfold nj_B at hf
        rw [hco c hc, hdc] at hf
        have : c = d := Classical.byContradiction (fun z => absurd hf (by rw [decide_eq_true z]; simp))
        rw [← this]
        exact hc
      refine ⟨nj_lsx hx hnl (fun p => ?_), ?_⟩
      · rw [← s1, List.mem_map, nj_ls_m, nj_nx_t]
        constructor
        · rintro ⟨c, hc, e⟩
          have hcn := (s2 c hc).1
          by_cases q : c < (nj_ls m 6).length
          · obtain ⟨y, y1, y2, y3, y4⟩ := old q
            rw [nj_plc_s y2] at e
            subst e
            have := hco c hc
            rw [nj_co_s y1] at this
            rw [y4, this]
            exact ⟨y3, rfl⟩
          · obtain ⟨y, y1, y2, y3, y4⟩ := new (by omega) hcn
            rw [nj_plc_s y2] at e
            subst e
            rw [y4]
            exact ⟨y3, Bool.or_true _⟩
        · rintro ⟨hp, h⟩
          cases hb : Q.testBit p
          · rw [hb, Bool.or_false, Bool.and_eq_true] at h
            obtain ⟨j, hj⟩ := nj_gm.mp (nj_ls_m.mpr ⟨hp, h.1⟩)
            have hjl := nj_gl hj
            refine ⟨j, hall j (by omega) ?_, nj_plc_s (nj_ga.mpr (.inl hj))⟩
            rw [nj_co_s hj]
            have := h.2
            revert this
            cases P.testBit p <;> simp
          · obtain ⟨j, hj⟩ := nj_gm.mp (nj_ls_m.mpr ⟨hp, hb⟩)
            have hjl := nj_gl hj
            have hg' : (nj_ls m 6 ++ nj_ls Q 6)[(nj_ls m 6).length + j]? = some p := nj_ga.mpr (.inr ⟨by omega, by rw [Nat.add_sub_cancel_left]; exact hj⟩)
            exact ⟨_, hall _ (nj_gl hg') (nj_co_n (by omega)), nj_plc_s hg'⟩
      · refine s5.mpr (.inr ⟨c', hc', ?_⟩)
        rw [hC.2.1 c' (s2 c' hc').1, if_neg (by omega)]
    · left
      have hold : ∀ c, c ∈ cs → c < (nj_ls m 6).length := by
        intro c hc
        rcases Nat.lt_or_ge c (nj_ls m 6).length with z | z
        · exact z
        · exact absurd ⟨c, hc, z⟩ hnew
      have hall : ∀ d, d < (nj_ls m 6).length → d ∈ cs := by
        intro d hd
        obtain ⟨c, hc, hf⟩ := hmax d (by omega)
        rw [nj_B_o (hold c hc) hd] at hf
        have : c = d := Classical.byContradiction (fun z => absurd hf (by rw [decide_eq_true z]; decide))
        rw [← this]
        exact hc
      refine ⟨nj_lsx hx hm (fun p => ?_), ?_⟩
      · rw [← s1, List.mem_map]
        constructor
        · rintro ⟨c, hc, e⟩
          obtain ⟨y, y1, y2, y3, y4⟩ := old (hold c hc)
          rw [nj_plc_s y2] at e
          subst e
          exact nj_ls_m.mpr ⟨y3, y4⟩
        · intro hp
          obtain ⟨j, hj⟩ := nj_gm.mp hp
          exact ⟨j, hall j (nj_gl hj), nj_plc_s (nj_ga.mpr (.inl hj))⟩
      · rcases g01 with z | z
        · exact z
        · rcases s5.mp z with y | ⟨c, hc, y⟩
          · exact absurd y (by decide)
          · rw [hC.2.1 c (s2 c hc).1, if_pos (hold c hc)] at y
            exact absurd y (by decide)
  by_cases e : x = m
  · subst e
    rw [if_pos rfl]
    obtain ⟨s, hs⟩ := Classical.axiomOfChoice (r := fun p j => p ∈ nj_ls x 6 → (nj_ls x 6)[j]? = some p) (fun p => by
      by_cases h : p ∈ nj_ls x 6
      · obtain ⟨j, hj⟩ := nj_gm.mp h
        exact ⟨j, fun _ => hj⟩
      · exact ⟨0, fun z => absurd z h⟩)
    have hp0m : p0 ∈ nj_ls x 6 := nj_ls_m.mpr ⟨hp0, hr p0 hp0 hPp0⟩
    obtain ⟨g, hg, hg1⟩ := nj_sel (pl := nj_plc (nj_ls x 6 ++ nj_ls Q 6)) (a6 := a6) h5 (by omega) (nj_ls_pw x 6) s (fun p hp => ⟨by have := nj_gl (hs p hp); omega, nj_plc_s (nj_ga.mpr (.inl (hs p hp)))⟩)
      (fun p q hp hq hpq => by
        have l1 := nj_gl (hs p hp)
        have l2 := nj_gl (hs q hq)
        rw [c6 _ _ (by omega) (by omega), nj_B_o l1 l2]
        refine decide_eq_true (fun z => hpq ?_)
        have h1 := hs p hp
        have h2 := hs q hq
        rw [z, h2] at h1
        exact (Option.some.inj h1).symm)
      (fun d hd => by
        have l0 := nj_gl (hs p0 hp0m)
        by_cases q : d < (nj_ls x 6).length
        · obtain ⟨p, hp⟩ := nj_ge q
          have hpm := nj_gm.mpr ⟨d, hp⟩
          refine ⟨p, hpm, ?_⟩
          have : s p = d := nj_inj (nj_ls_pw x 6) (hs p hpm) hp
          rw [this, c6 d d (by omega) (by omega), nj_B_r]
        · refine ⟨p0, hp0m, ?_⟩
          by_cases q' : d < (nj_ls x 6 ++ nj_ls Q 6).length
          · rw [c6 _ d (by omega) q', nj_B_n (by omega) (by omega), nj_co_s (hs p0 hp0m), hPp0]
            rfl
          · rw [hC.2.2.1 _ d (by omega), decide_eq_false q']
            rfl)
    have hg0 : g = 0 := by
      rcases fwd g hg with z | z
      · exact z.2
      · exact absurd z.1.symm hne
    obtain ⟨v1, v2⟩ := u2 g hg
    rw [hg0, nj_on0] at v2
    exact Int32.le_antisymm v2 v1
  · rw [if_neg e]
    by_cases e' : x = nj_nx m P Q
    · rw [if_pos e']
      have hmem : ∀ p, p ∈ nj_ls x 6 ↔ p < 6 ∧ ((m.testBit p && !P.testBit p) || Q.testBit p) = true := fun p => by rw [nj_ls_m, e', nj_nx_t]
      obtain ⟨s, hs⟩ := Classical.axiomOfChoice (r := fun p j => p ∈ nj_ls x 6 → (nj_ls m 6 ++ nj_ls Q 6)[j]? = some p ∧ nj_co m P j = false ∧ (Q.testBit p = true → (nj_ls m 6).length ≤ j) ∧ (Q.testBit p = false → j < (nj_ls m 6).length)) (fun p => by
        by_cases h : p ∈ nj_ls x 6
        · obtain ⟨hp, h'⟩ := (hmem p).mp h
          cases hb : Q.testBit p
          · rw [hb, Bool.or_false, Bool.and_eq_true] at h'
            obtain ⟨j, hj⟩ := nj_gm.mp (nj_ls_m.mpr ⟨hp, h'.1⟩)
            have hjl := nj_gl hj
            refine ⟨j, fun _ => ⟨nj_ga.mpr (.inl hj), ?_, fun z => absurd z (by decide), fun _ => hjl⟩⟩
            rw [nj_co_s hj]
            have := h'.2
            revert this
            cases P.testBit p <;> simp
          · obtain ⟨j, hj⟩ := nj_gm.mp (nj_ls_m.mpr ⟨hp, hb⟩)
            refine ⟨(nj_ls m 6).length + j, fun _ => ⟨nj_ga.mpr (.inr ⟨by omega, by rw [Nat.add_sub_cancel_left]; exact hj⟩), nj_co_n (by omega), fun _ => by omega, fun z => absurd z (by decide)⟩⟩
        · exact ⟨0, fun z => absurd z h⟩)
      have hq0m : q0 ∈ nj_ls x 6 := (hmem q0).mpr ⟨hq0, by rw [hQq0, Bool.or_true]⟩
      obtain ⟨g, hg, hg1⟩ := nj_sel (pl := nj_plc (nj_ls m 6 ++ nj_ls Q 6)) (a6 := a6) h5 (by omega) (nj_ls_pw x 6) s (fun p hp => ⟨nj_gl (hs p hp).1, nj_plc_s (hs p hp).1⟩)
        (fun p q hp hq hpq => by
          obtain ⟨t1, t2, _⟩ := hs p hp
          obtain ⟨r1, r2, _⟩ := hs q hq
          have hst : s p ≠ s q := by
            intro z
            rw [z, r1] at t1
            exact hpq (Option.some.inj t1).symm
          rw [c6 _ _ (nj_gl t1) (nj_gl r1)]
          unfold nj_B
          rw [t2, r2, decide_eq_true hst]
          rfl)
        (fun d hd => by
          obtain ⟨t1, t2, t3, _⟩ := hs q0 hq0m
          have t3' := t3 hQq0
          have tl := nj_gl t1
          by_cases q : d < (nj_ls m 6 ++ nj_ls Q 6).length
          · by_cases hco : nj_co m P d = true
            · refine ⟨q0, hq0m, ?_⟩
              rw [c6 _ _ tl q]
              unfold nj_B
              rw [hco, decide_eq_true t3']
              simp
            · have hco' : nj_co m P d = false := by
                revert hco
                cases nj_co m P d <;> simp
              by_cases ho : d < (nj_ls m 6).length
              · obtain ⟨y, y1, y2, y3, y4⟩ := old ho
                rw [nj_co_s y1] at hco'
                have hQy : Q.testBit y = false := by
                  cases hb : Q.testBit y
                  · rfl
                  · have := hcl y y3 hb y4
                    rw [hco'] at this
                    exact absurd this (by decide)
                have hym : y ∈ nj_ls x 6 := (hmem y).mpr ⟨y3, by rw [y4, hco']; rfl⟩
                obtain ⟨w1, _, _, w4⟩ := hs y hym
                have w4' := w4 hQy
                have : s y = d := by
                  rcases nj_ga.mp w1 with z | z
                  · exact nj_inj (nj_ls_pw m 6) z y1
                  · exact absurd z.1 (by omega)
                refine ⟨y, hym, ?_⟩
                rw [this, c6 d d q q, nj_B_r]
              · obtain ⟨y, y1, y2, y3, y4⟩ := new (by omega) q
                have hym : y ∈ nj_ls x 6 := (hmem y).mpr ⟨y3, by rw [y4, Bool.or_true]⟩
                obtain ⟨w1, _, w3, _⟩ := hs y hym
                have w3' := w3 y4
                have : s y = d := by
                  rcases nj_ga.mp w1 with z | z
                  · exact absurd (nj_gl z) (by omega)
                  · have := nj_inj (nj_ls_pw Q 6) z.2 y1
                    omega
                refine ⟨y, hym, ?_⟩
                rw [this, c6 d d q q, nj_B_r]
          · refine ⟨q0, hq0m, ?_⟩
            rw [hC.2.2.1 _ d tl, decide_eq_false q]
            rfl)
      have hgg : g = 1 := by
        rcases fwd g hg with z | z
        · exact absurd z.1 e
        · exact z.2
      obtain ⟨v1, v2⟩ := u2 g hg
      rcases u1 with z | ⟨g', hg', z⟩
      · rw [z] at v1
        exact absurd v1 (by decide)
      · rcases fwd g' hg' with w | w
        · exact absurd w.1 e
        · rw [z, w.2, nj_on1]
    · rw [if_neg e']
      rcases u1 with z | ⟨g, hg, _⟩
      · exact z
      · rcases fwd g hg with w | w
        · exact absurd w.1 e
        · exact absurd w.1 e'
end
end
section
/-! ===== judge ===== -/
theorem nj_q2 : ∀ Q, Q < 64 → nj_12 Q = true → (nj_ls Q 6).length ≤ 2 ∧ ∃ p, p < 6 ∧ Q.testBit p = true := by decide +kernel
/-- what far holds -/
def nj_FS (K : Prop) (m y : Nat) (b3 : Nat → Int32) : Prop := b3 m = 0 ∧ (K → y ≠ m → b3 y = 1) ∧ ∀ x, x < 64 → x ≠ m → ¬ (K ∧ x = y) → b3 x = -1
/-- the event that could happen again and again -/
def nj_ag2 (P Q m : Nat) : Prop := nj_le P m ∧ nj_cl P Q m ∧ nj_le P Q ∧ P ≠ Q
def nj_SF (P Q m : Nat) : Prop := (nj_le P m → nj_cl P Q m) ∧ ¬ nj_ag2 P Q m
section
variable {fp : Int32} {fi : Int32} {fs : Int32} {fg : Int32} {fj : Int32} {fu : Int32} {fc : Int32} {fe : Int32} {a1 : Nat → Int32} {a2 : Nat → Int32} {a3 : Nat → Int32} {a4 : Nat → Int32} {a5 : Nat → Int64} {a6 : Nat → Int64} {a7 : Nat → Int64} {a8 : Nat → Int64} {a9 : Nat → Int64} {a10 : Nat → Int64} {a11 : Nat → Int32} {a12 : Nat → Int32} {a13 : Nat → Int32} {a14 : Nat → Int32} {a15 : Nat → Int64} {a16 : Nat → Int32} {a17 : Nat → Int32} {a18 : Nat → Int64} {a19 : Nat → Int64} {a20 : Nat → Int64} {a21 : Nat → Int64}
theorem nj_clash {post : Int32 → Prop} {t P Q x : Nat} (hG : nj_G t P Q fs a1 a2) (hx : x < 64) (h1 : nj_le P x ∧ ¬ nj_cl P Q x → post 1) (h0 : ¬ (nj_le P x ∧ ¬ nj_cl P Q x) → post 0) : wpX_clashes post (fp, fi, fs, fg, fj, fu, fc, fe, a1, a2, a3, a4, a5, a6, a7, a8, a9, a10, a11, a12, a13, a14, a15, a16, a17, a18, a19, a20, a21) (nI x) := by
  obtain ⟨ht, hP, hQ, e1, e2, hs⟩ := hG
  refine pk_loop (σ := Unit) (fun n i _ => wX_clashes_2 post (nI x) fp fi fs fg fj fu fc fe a1 a2 a3 a4 a5 a6 a7 a8 a9 a10 a11 a12 a13 a14 a15 a16 a17 a18 a19 a20 a21 n (nI i)) (fun i _ => t < i → ¬ (nj_le P x ∧ ¬ nj_cl P Q x)) 8 0 () (by omega) (fun z => absurd z (by omega)) (fun n _ h => br_t (by decide) (h0 (h ht))) ?_
  intro n i _ hi h hw
  refine br_f (nI_ge (b := 8) hi (by decide)) (nj_has hi (fun z => ?_) (fun z => ?_))
  · have hne := (hs i hi).mp z
    exact br_t rfl (nm_r (nI_1 i) (hw () (fun w => h (by omega))))
  · have hit : i = t := Classical.byContradiction (fun w => z ((hs i hi).mpr w))
    subst hit
    refine br_f (by decide) (nj_ready hi hP hx e1 (fun r => ?_) (fun r => ?_))
    · refine br_f (by decide) (nj_clear hi hP hQ hx e1 e2 (fun _ c => ?_) (fun c => ?_))
      · exact br_f (by decide) (nm_r (nI_1 i) (hw () (fun _ w => w.2 c)))
      · exact br_t rfl (h1 ⟨r, fun w => c ⟨r, w⟩⟩)
    · exact br_t rfl (nm_r (nI_1 i) (hw () (fun _ w => r w.1)))
theorem nj_clash0 {post : Int32 → Prop} {x : Int32} (hs : ∀ i, i < 8 → ((fs >>> (nI i &&& 31)) &&& 1) = 0) (h0 : post 0) : wpX_clashes post (fp, fi, fs, fg, fj, fu, fc, fe, a1, a2, a3, a4, a5, a6, a7, a8, a9, a10, a11, a12, a13, a14, a15, a16, a17, a18, a19, a20, a21) x := by
  refine pk_loop (σ := Unit) (fun n i _ => wX_clashes_2 post x fp fi fs fg fj fu fc fe a1 a2 a3 a4 a5 a6 a7 a8 a9 a10 a11 a12 a13 a14 a15 a16 a17 a18 a19 a20 a21 n (nI i)) (fun i _ => True) 8 0 () (by omega) trivial (fun n _ h => br_t (by decide) h0) ?_
  intro n i _ hi h hw
  exact br_f (nI_ge (b := 8) hi (by decide)) (nj_has hi (fun z => br_t rfl (nm_r (nI_1 i) (hw () trivial))) (fun z => absurd (hs i hi) z))
theorem nj_j85 {post : St2 → Prop} {FR : Nat → Int32} {cl : Nat → Prop} (hcl : ∀ x, x < 64 → ∀ (u : Int32) (post' : Int32 → Prop), (cl x → post' 1) → (¬ cl x → post' 0) → wpX_clashes post' (fp, fi, fs, fg, fj, u, fc, fe, a1, a2, a3, a4, a5, a6, a7, a8, a9, a10, a11, a12, a13, a14, a15, a16, a17, a18, a19, a20, a21) (nI x)) (h3 : ∀ x, x < 64 → a3 x = FR x)
    (H : ∀ u, ((u = 0 ∧ ∀ x, x < 64 → ¬ FR x < 0 → ¬ cl x) ∨ (u = 1 ∧ ∃ x, x < 64 ∧ ¬ FR x < 0 ∧ cl x)) → post (fp, fi, fs, fg, fj, u, fc, fe, a1, a2, a3, a4, a5, a6, a7, a8, a9, a10, a11, a12, a13, a14, a15, a16, a17, a18, a19, a20, a21)) : ∃ N, wX_judge_85 post (nI 64) fp fi fs fg fj fc fe a1 a2 a3 a4 a5 a6 a7 a8 a9 a10 a11 a12 a13 a14 a15 a16 a17 a18 a19 a20 a21 N 0 0 := by
  refine pk_loop (fun n i s => wX_judge_85 post (nI 64) fp fi fs fg fj fc fe a1 a2 a3 a4 a5 a6 a7 a8 a9 a10 a11 a12 a13 a14 a15 a16 a17 a18 a19 a20 a21 n (nI i) s) (fun i s => (s = 0 ∧ ∀ x, x < i → ¬ FR x < 0 → ¬ cl x) ∨ (s = 1 ∧ ∃ x, x < 64 ∧ ¬ FR x < 0 ∧ cl x)) 64 0 0 (by omega) (.inl ⟨rfl, fun x hx => absurd hx (by omega)⟩)
    (fun n s h => br_t (nI_le (Nat.le_refl _) (by decide)) (H s h)) ?_
  intro n i s hi h hw
  have hgo : (¬ FR i < 0 → ¬ cl i) → ((s = 0 ∧ ∀ x, x < i + 1 → ¬ FR x < 0 → ¬ cl x) ∨ (s = 1 ∧ ∃ x, x < 64 ∧ ¬ FR x < 0 ∧ cl x)) := by
    intro hq
    rcases h with ⟨h1, h2⟩ | h
    · refine .inl ⟨h1, fun x hx => ?_⟩
      by_cases e : x = i
      · rw [e]; exact hq
      · exact h2 x (by omega)
    · exact .inr h
  refine br_f (nI_ge hi (by decide)) ⟨vp_in_nI hi (by decide), ?_⟩
  rw [nI_clamp (by omega), h3 i hi]
  refine br_c (fun z => nm_r (nI_1 i) (hw s (hgo (fun w => absurd z w)))) (fun z => ?_)
  refine hcl i hi s _ (fun c => ?_) (fun c => ?_)
  · exact br_f (by decide) (nm_r (nI_1 i) (hw 1 (.inr ⟨rfl, i, hi, z, c⟩)))
  · exact br_t rfl (nm_r (nI_1 i) (hw s (hgo (fun _ => c))))
theorem nj_j60 {post : St2 → Prop} {FR : Nat → Int32} (hFR : ∀ x, x < 64 → (FR x).toInt8.toInt32 = FR x)
    (hlc : ∀ x, x < 64 → ∀ b3 b16 b17 b18 b19 b20 b21 (post' : Int32 → St2 → Prop), (∀ c16 c17 c18 c19 c20 c21, post' (FR x) (fp, fi, fs, fg, fj, fu, fc, fe, a1, a2, b3, a4, a5, a6, a7, a8, a9, a10, a11, a12, a13, a14, a15, c16, c17, c18, c19, c20, c21)) → wpX_leastCut post' (fp, fi, fs, fg, fj, fu, fc, fe, a1, a2, b3, a4, a5, a6, a7, a8, a9, a10, a11, a12, a13, a14, a15, b16, b17, b18, b19, b20, b21) (nI x))
    (H : ∀ (b3 b16 b17 : Nat → Int32) (b18 b19 b20 b21 : Nat → Int64), (∀ x, x < 64 → b3 x = FR x) → ∃ N, wX_judge_85 post (nI 64) fp fi fs fg fj fc fe a1 a2 b3 a4 a5 a6 a7 a8 a9 a10 a11 a12 a13 a14 a15 b16 b17 b18 b19 b20 b21 N 0 fu) : ∃ N, wX_judge_60 post (nI 64) N 0 fp fi fs fg fj fu fc fe a1 a2 a3 a4 a5 a6 a7 a8 a9 a10 a11 a12 a13 a14 a15 a16 a17 a18 a19 a20 a21 := by
  refine pk_loop (σ := (Nat → Int32) × (Nat → Int32) × (Nat → Int32) × (Nat → Int64) × (Nat → Int64) × (Nat → Int64) × (Nat → Int64))
    (fun n i s => wX_judge_60 post (nI 64) n (nI i) fp fi fs fg fj fu fc fe a1 a2 s.1 a4 a5 a6 a7 a8 a9 a10 a11 a12 a13 a14 a15 s.2.1 s.2.2.1 s.2.2.2.1 s.2.2.2.2.1 s.2.2.2.2.2.1 s.2.2.2.2.2.2)
    (fun i s => ∀ x, x < i → s.1 x = FR x) 64 0 (a3, a16, a17, a18, a19, a20, a21) (by omega) (fun x hx => absurd hx (by omega)) ?_ ?_
  · rintro n ⟨b3, b16, b17, b18, b19, b20, b21⟩ h
    exact br_t (nI_le (Nat.le_refl _) (by decide)) (H b3 b16 b17 b18 b19 b20 b21 h)
  · rintro n i ⟨b3, b16, b17, b18, b19, b20, b21⟩ hi h hw
    refine br_f (nI_ge hi (by decide)) (hlc i hi b3 b16 b17 b18 b19 b20 b21 _ (fun c16 c17 c18 c19 c20 c21 => ?_))
    refine ⟨vp_in_nI hi (by decide), nm_r (e' := upd b3 i (FR i)) (by rw [nI_clamp (by omega), hFR i hi]) (nm_r (nI_1 i) (hw (upd b3 i (FR i), c16, c17, c18, c19, c20, c21) (fun x hx => ?_)))⟩
    show upd b3 i (FR i) x = FR x
    by_cases e : x = i
    · rw [e, pk_us]
    · rw [pk_un e]
      exact h x (by omega)
theorem nj_j24 {post : St2 → Prop} (H : ∀ b3, (fu = 0 → ∃ N, wX_judge_60 post (nI 64) N 0 6 fi fs fg fj fu fc fe a1 a2 b3 a4 a5 a6 a7 a8 a9 a10 a11 a12 a13 a14 a15 a16 a17 a18 a19 a20 a21) ∧ (¬ fu = 0 → post (6, fi, fs, fg, fj, fu, fc, fe, a1, a2, b3, a4, a5, a6, a7, a8, a9, a10, a11, a12, a13, a14, a15, a16, a17, a18, a19, a20, a21))) : ∃ N, wX_judge_24 post 6 fi fs fg fj fu fc fe N 0 a1 a2 a3 a4 a5 a6 a7 a8 a9 a10 a11 a12 a13 a14 a15 a16 a17 a18 a19 a20 a21 := by
  refine pk_loop (fun n i s => wX_judge_24 post 6 fi fs fg fj fu fc fe n (nI i) a1 a2 s a4 a5 a6 a7 a8 a9 a10 a11 a12 a13 a14 a15 a16 a17 a18 a19 a20 a21) (fun i s => True) 64 0 a3 (by omega) trivial (fun n s _ => br_t (by decide) ?_) ?_
  · exact br_c (fun z => nm_r (e' := nI 64) (by decide) ((H s).1 z)) (fun z => (H s).2 z)
  · intro n i s hi _ hw
    exact br_f (nI_ge (b := 64) hi (by decide)) ⟨vp_in_nI hi (by decide), nm_e (nm_r (nI_1 i) (hw _ trivial))⟩
theorem nj_lc0 {post : Int32 → St2 → Prop} {m : Nat} (hm : m < 64) (h1 : m = 0 → post 0 (fp, nI m, fs, fg, fj, fu, fc, fe, a1, a2, a3, a4, a5, a6, a7, a8, a9, a10, a11, a12, a13, a14, a15, a16, a17, a18, a19, a20, a21)) (h0 : m ≠ 0 → post (-1) (fp, nI m, fs, fg, fj, fu, fc, fe, a1, a2, a3, a4, a5, a6, a7, a8, a9, a10, a11, a12, a13, a14, a15, a16, a17, a18, a19, a20, a21)) : wpX_leastCut post (fp, nI m, fs, fg, fj, fu, fc, fe, a1, a2, a3, a4, a5, a6, a7, a8, a9, a10, a11, a12, a13, a14, a15, a16, a17, a18, a19, a20, a21) (nI 0) :=
  br_t rfl (pk_eq m 0 h1 h0)
/-- the end of judge, the conditions being known -/
theorem nj_jend {post : St2 → Prop} {m n : Nat} {pl : Nat → Nat} {FR : Nat → Int32} {cl : Nat → Prop} (hm : m < 64) (hn : n ≤ 8) (h4 : ∀ c, c < n → a4 c = nI (pl c) ∧ pl c < 6) (h78 : ∀ c, c < n → a7 c = 0 ∧ a8 c = 0)
    (hFR : ∀ x, x < 64 → (FR x).toInt8.toInt32 = FR x) (hF0 : FR 0 = if m = 0 then 0 else -1) (hF : ∀ x, x < 64 → x ≠ 0 → nj_df n pl a5 a6 (nj_ls x 6) (-1) 0 (-1) = FR x)
    (hcl : ∀ x, x < 64 → ∀ (u : Int32) b3 b16 b17 b18 b19 b20 b21 (post' : Int32 → Prop), (cl x → post' 1) → (¬ cl x → post' 0) → wpX_clashes post' (6, nI m, fs, fg, fj, u, nI n, fe, a1, a2, b3, a4, a5, a6, a7, a8, a9, a10, a11, a12, a13, a14, a15, b16, b17, b18, b19, b20, b21) (nI x))
    (H : ∀ u (b3 : Nat → Int32) b16 b17 b18 b19 b20 b21, (∀ x, x < 64 → b3 x = FR x) → ((u = 0 ∧ ∀ x, x < 64 → ¬ FR x < 0 → ¬ cl x) ∨ (u = 1 ∧ ∃ x, x < 64 ∧ ¬ FR x < 0 ∧ cl x)) → post (6, nI m, fs, fg, fj, u, nI n, fe, a1, a2, b3, a4, a5, a6, a7, a8, a9, a10, a11, a12, a13, a14, a15, b16, b17, b18, b19, b20, b21)) :
    ∃ N, wX_judge_24 post 6 (nI m) fs fg fj 0 (nI n) fe N 0 a1 a2 a3 a4 a5 a6 a7 a8 a9 a10 a11 a12 a13 a14 a15 a16 a17 a18 a19 a20 a21 := by
  refine nj_j24 (fun b3 => ⟨fun _ => nj_j60 hFR (fun x hx b3 b16 b17 b18 b19 b20 b21 post' h => ?_) (fun b3 b16 b17 b18 b19 b20 b21 h3 => nj_j85 (cl := cl) (fun x hx u post' z1 z0 => hcl x hx u b3 b16 b17 b18 b19 b20 b21 post' z1 z0) h3 (fun u hu => H u b3 b16 b17 b18 b19 b20 b21 h3 hu)), fun z => absurd rfl z⟩)
  by_cases e : x = 0
  · subst e
    rw [hF0] at h
    refine nj_lc0 hm (fun z => ?_) (fun z => ?_)
    · rw [if_pos z] at h
      exact h _ _ _ _ _ _
    · rw [if_neg z] at h
      exact h _ _ _ _ _ _
  · refine nj_lcut hx e hn h4 h78 (fun c16 c17 c18 c19 c20 c21 => ?_)
    rw [hF x hx e]
    exact h _ _ _ _ _ _
theorem nj_Cd_4 {L : List Nat} {m P : Nat} (hL : ∀ p, p ∈ L → p < 6) (hC : nj_Cd L m P a4 a5 a6 a7 a8) : ∀ c, c < L.length → a4 c = nI (nj_plc L c) ∧ nj_plc L c < 6 := by
  intro c hc
  have h := nj_plc_g hc
  exact ⟨hC.1 c _ h, hL _ (nj_gm.mpr ⟨c, h⟩)⟩
theorem nj_judgeN {post : St2 → Prop} {m : Nat} (hm : m < 64) (hs : ∀ i, i < 8 → ((fs >>> (nI i &&& 31)) &&& 1) = 0)
    (H : ∀ c e b3 b4 b5 b6 b7 b8 b9 b10 b11 b12 b13 b14 b15 b16 b17 b18 b19 b20 b21, nj_FS False m 0 b3 → post (6, nI m, fs, fg, 1, 0, c, e, a1, a2, b3, b4, b5, b6, b7, b8, b9, b10, b11, b12, b13, b14, b15, b16, b17, b18, b19, b20, b21)) :
    wpX_judge post (6, nI m, fs, fg, 0, fu, fc, fe, a1, a2, a3, a4, a5, a6, a7, a8, a9, a10, a11, a12, a13, a14, a15, a16, a17, a18, a19, a20, a21) := by
  have hlm := nj_ls_len m 6
  refine br_t rfl (nj_unfoldN hm hs (fun e b4 b5 b6 b7 b8 b9 b10 b11 b12 b13 b14 b15 hC => ?_))
  refine nj_jend (FR := fun x => if x = m then 0 else -1) (cl := fun _ => False) hm (by omega) (nj_Cd_4 (fun p hp => (nj_ls_m.mp hp).1) hC) hC.2.2.2 (fun x hx => ?_) ?_ (fun x hx hx0 => nj_far0 hm hC hx hx0) (fun x hx u b3 b16 b17 b18 b19 b20 b21 post' _ h0 => nj_clash0 hs (h0 id)) (fun u b3 b16 b17 b18 b19 b20 b21 h3 hu => ?_)
  · show (if x = m then (0 : Int32) else -1).toInt8.toInt32 = if x = m then 0 else -1
    by_cases e : x = m
    · rw [if_pos e]; decide
    · rw [if_neg e]; decide
  · show (if 0 = m then (0 : Int32) else -1) = if m = 0 then 0 else -1
    by_cases e : m = 0
    · rw [if_pos e, if_pos e.symm]
    · rw [if_neg e, if_neg (fun z => e z.symm)]
  · rcases hu with ⟨hu, _⟩ | ⟨_, x, _, _, hf⟩
    · subst hu
      refine H _ _ _ _ _ _ _ _ _ _ _ _ _ _ _ _ _ _ _ _ _ ⟨(h3 m hm).trans (if_pos rfl), fun z => z.elim, fun x hx hne _ => (h3 x hx).trans (if_neg hne)⟩
    · exact hf.elim
end
end
section
/-! ===== judge, one transition ===== -/
theorem nj_eqPQ {P Q : Nat} (hP : P < 64) (hQ : Q < 64) (h1 : nj_le P Q) (h2 : nj_le Q P) : P = Q :=
  nj_ext hP hQ (fun p hp => by
    have a := h1 p hp
    have b := h2 p hp
    revert a b
    cases P.testBit p <;> cases Q.testBit p <;> simp)
/-- no event: safe is 'ready means clear' -/
theorem nj_sf0 {P Q m : Nat} (hm : m < 64) (hP : P < 64) (hQ : Q < 64) (hc : ¬ nj_le P m ∨ nj_nx m P Q = m) (h : nj_le P m → nj_cl P Q m) : nj_SF P Q m := by
  refine ⟨h, ?_⟩
  rintro ⟨h1, h2, h3, h4⟩
  rcases hc with hc | hc
  · exact hc h1
  · refine h4 (nj_eqPQ hP hQ h3 (fun p hp hq => h2 p hp hq ?_))
    have := nj_nx_t m P Q p
    rw [hc, hq, Bool.or_true] at this
    exact this
/-- an event: safe is 'no clash behind it' -/
theorem nj_sf1 {P Q m : Nat} (hP : P < 64) (hQ : Q < 64) (hr : nj_le P m) (hcl : nj_cl P Q m) : nj_SF P Q m ↔ ¬ (nj_le P (nj_nx m P Q) ∧ ¬ nj_cl P Q (nj_nx m P Q)) := by
  constructor
  · rintro ⟨_, h⟩ ⟨h1, h2⟩
    refine h ⟨hr, hcl, fun p hp hq => ?_, fun e => h2 (fun p hp hq _ => by rw [e]; exact hq)⟩
    have := h1 p hp hq
    rw [nj_nx_t, hq] at this
    revert this
    cases m.testBit p <;> cases Q.testBit p <;> simp
  · intro h
    refine ⟨fun _ => hcl, ?_⟩
    rintro ⟨h1, h2, h3, h4⟩
    refine h ⟨fun p hp hq => ?_, fun hc => h4 (nj_eqPQ hP hQ h3 (fun p hp hq => hc p hp hq ?_))⟩
    · rw [nj_nx_t, h3 p hp hq, Bool.or_true]
    · rw [nj_nx_t, hq, Bool.or_true]
section
variable {fp : Int32} {fi : Int32} {fs : Int32} {fg : Int32} {fj : Int32} {fu : Int32} {fc : Int32} {fe : Int32} {a1 : Nat → Int32} {a2 : Nat → Int32} {a3 : Nat → Int32} {a4 : Nat → Int32} {a5 : Nat → Int64} {a6 : Nat → Int64} {a7 : Nat → Int64} {a8 : Nat → Int64} {a9 : Nat → Int64} {a10 : Nat → Int64} {a11 : Nat → Int32} {a12 : Nat → Int32} {a13 : Nat → Int32} {a14 : Nat → Int32} {a15 : Nat → Int64} {a16 : Nat → Int32} {a17 : Nat → Int32} {a18 : Nat → Int64} {a19 : Nat → Int64} {a20 : Nat → Int64} {a21 : Nat → Int64}
theorem nj_judgeG {post : St2 → Prop} {t m P Q : Nat} (hG : nj_G t P Q fs a1 a2) (hm : m < 64) (hP2 : nj_12 P = true) (hQ2 : nj_12 Q = true)
    (H : ∀ u c e b3 b4 b5 b6 b7 b8 b9 b10 b11 b12 b13 b14 b15 b16 b17 b18 b19 b20 b21, ((u = 0 ∧ nj_SF P Q m ∧ nj_FS (nj_le P m ∧ nj_cl P Q m) m (nj_nx m P Q) b3) ∨ (u = 1 ∧ ¬ nj_SF P Q m)) → post (6, nI m, fs, fg, 1, u, c, e, a1, a2, b3, b4, b5, b6, b7, b8, b9, b10, b11, b12, b13, b14, b15, b16, b17, b18, b19, b20, b21)) :
    wpX_judge post (6, nI m, fs, fg, 0, fu, fc, fe, a1, a2, a3, a4, a5, a6, a7, a8, a9, a10, a11, a12, a13, a14, a15, a16, a17, a18, a19, a20, a21) := by
  have hlm := nj_ls_len m 6
  obtain ⟨hlq, hQ0⟩ := nj_q2 Q hG.2.2.1 hQ2
  obtain ⟨_, hP0⟩ := nj_q2 P hG.2.1 hP2
  have hP := hG.2.1
  have hQ := hG.2.2.1
  have hnl := nj_nx_lt hm hP hQ
  have hla : (nj_ls m 6 ++ nj_ls Q 6).length = (nj_ls m 6).length + (nj_ls Q 6).length := List.length_append
  refine br_t rfl (nj_unfold hG hm hP2 hQ2 (fun hc e b4 b5 b6 b7 b8 b9 b10 b11 b12 b13 b14 b15 hC => ?_) (fun hr hne hcl e b4 b5 b6 b7 b8 b9 b10 b11 b12 b13 b14 b15 hC => ?_) (fun hr hne hcl c e b4 b5 b6 b7 b8 b9 b10 b11 b12 b13 b14 b15 => ?_))
  · refine nj_jend (FR := fun x => if x = m then 0 else -1) (cl := fun x => nj_le P x ∧ ¬ nj_cl P Q x) hm (by omega) (nj_Cd_4 (fun p hp => (nj_ls_m.mp hp).1) hC) hC.2.2.2 (fun x hx => ?_) ?_ (fun x hx hx0 => nj_far0 hm hC hx hx0) (fun x hx u b3 b16 b17 b18 b19 b20 b21 post' h1 h0 => nj_clash hG hx h1 h0) (fun u b3 b16 b17 b18 b19 b20 b21 h3 hu => ?_)
    · show (if x = m then (0 : Int32) else -1).toInt8.toInt32 = if x = m then 0 else -1
      by_cases e : x = m
      · rw [if_pos e]; decide
      · rw [if_neg e]; decide
    · show (if 0 = m then (0 : Int32) else -1) = if m = 0 then 0 else -1
      by_cases e : m = 0
      · rw [if_pos e, if_pos e.symm]
      · rw [if_neg e, if_neg (fun z => e z.symm)]
    · refine H _ _ _ _ _ _ _ _ _ _ _ _ _ _ _ _ _ _ _ _ _ _ ?_
      rcases hu with ⟨hu, hq⟩ | ⟨hu, x, hx, hf, hcx⟩
      · have hq' := hq m hm (by rw [if_pos rfl]; decide)
        refine .inl ⟨hu, nj_sf0 hm hP hQ hc (fun z => Classical.byContradiction (fun w => hq' ⟨z, w⟩)), (h3 m hm).trans (if_pos rfl), fun hk hne => ?_, fun x hx hne _ => (h3 x hx).trans (if_neg hne)⟩
        rcases hc with hc | hc
        · exact absurd hk.1 hc
        · exact absurd hc hne
      · have hxm : x = m := Classical.byContradiction (fun w => hf (by rw [if_neg w]; decide))
        subst hxm
        exact .inr ⟨hu, fun hs => hcx.2 (hs.1 hcx.1)⟩
  · have hn0 : nj_nx m P Q ≠ 0 := by
      obtain ⟨q, hq, hQq⟩ := hQ0
      intro z
      have := nj_nx_t m P Q q
      rw [z, hQq, Bool.or_true, Nat.zero_testBit] at this
      exact absurd this (by decide)
    refine nj_jend (FR := fun x => if x = m then 0 else if x = nj_nx m P Q then 1 else -1) (cl := fun x => nj_le P x ∧ ¬ nj_cl P Q x) hm (by omega) (nj_Cd_4 (fun p hp => (List.mem_append.mp hp).elim (fun z => (nj_ls_m.mp z).1) (fun z => (nj_ls_m.mp z).1)) hC) hC.2.2.2 (fun x hx => ?_) ?_ (fun x hx hx0 => nj_far1 hm hP hQ hr hcl hne hP0 hQ0 hC hx hx0) (fun x hx u b3 b16 b17 b18 b19 b20 b21 post' h1 h0 => nj_clash hG hx h1 h0) (fun u b3 b16 b17 b18 b19 b20 b21 h3 hu => ?_)
    · show (if x = m then (0 : Int32) else if x = nj_nx m P Q then 1 else -1).toInt8.toInt32 = if x = m then 0 else if x = nj_nx m P Q then 1 else -1
      by_cases e : x = m
      · rw [if_pos e]; decide
      · rw [if_neg e]
        by_cases e' : x = nj_nx m P Q
        · rw [if_pos e']; decide
        · rw [if_neg e']; decide
    · show (if 0 = m then (0 : Int32) else if 0 = nj_nx m P Q then 1 else -1) = if m = 0 then 0 else -1
      by_cases e : m = 0
      · rw [if_pos e, if_pos e.symm]
      · rw [if_neg e, if_neg (fun z => e z.symm), if_neg (fun z => hn0 z.symm)]
    · refine H _ _ _ _ _ _ _ _ _ _ _ _ _ _ _ _ _ _ _ _ _ _ ?_
      rcases hu with ⟨hu, hq⟩ | ⟨hu, x, hx, hf, hcx⟩
      · have hq' := hq (nj_nx m P Q) hnl (by rw [if_neg hne, if_pos rfl]; decide)
        refine .inl ⟨hu, (nj_sf1 hP hQ hr hcl).mpr hq', (h3 m hm).trans (if_pos rfl), fun _ _ => (h3 _ hnl).trans ((if_neg hne).trans (if_pos rfl)), fun x hx hxm hk => (h3 x hx).trans ((if_neg hxm).trans (if_neg (fun z => hk ⟨⟨hr, hcl⟩, z⟩)))⟩
      · refine .inr ⟨hu, fun hs => ?_⟩
        by_cases e1 : x = m
        · rw [e1] at hcx
          exact hcx.2 hcl
        · by_cases e2 : x = nj_nx m P Q
          · rw [e2] at hcx
            exact (nj_sf1 hP hQ hr hcl).mp hs hcx
          · exact hf (by rw [if_neg e1, if_neg e2]; decide)
  · refine nj_j24 (fun b3 => ⟨fun z => absurd z (by decide), fun _ => ?_⟩)
    exact H _ _ _ _ _ _ _ _ _ _ _ _ _ _ _ _ _ _ _ _ _ _ (.inr ⟨rfl, fun hs => hcl (hs.1 hr)⟩)
end
end
section
/-! ===== the answers ===== -/
theorem nj_bey : ∀ P, P < 64 → nI P &&& ((((1 : Int32) <<< ((6 : Int32) &&& 31)) - 1) ^^^ (-1)) = 0 := by decide +kernel
section
variable {fp : Int32} {fi : Int32} {fs : Int32} {fg : Int32} {fj : Int32} {fu : Int32} {fc : Int32} {fe : Int32} {a1 : Nat → Int32} {a2 : Nat → Int32} {a3 : Nat → Int32} {a4 : Nat → Int32} {a5 : Nat → Int64} {a6 : Nat → Int64} {a7 : Nat → Int64} {a8 : Nat → Int64} {a9 : Nat → Int64} {a10 : Nat → Int64} {a11 : Nat → Int32} {a12 : Nat → Int32} {a13 : Nat → Int32} {a14 : Nat → Int32} {a15 : Nat → Int64} {a16 : Nat → Int32} {a17 : Nat → Int32} {a18 : Nat → Int64} {a19 : Nat → Int64} {a20 : Nat → Int64} {a21 : Nat → Int64}
theorem nj_beyond {post : Int32 → Prop} {p : Nat} (hp : p < 64) (h : post 0) : wpX_beyond post (6, fi, fs, fg, fj, fu, fc, fe, a1, a2, a3, a4, a5, a6, a7, a8, a9, a10, a11, a12, a13, a14, a15, a16, a17, a18, a19, a20, a21) (nI p) := br_t (nj_bey p hp) h
theorem nj_verdG {post : Int32 → St2 → Prop} {t m P Q : Nat} (hG : nj_G t P Q fs a1 a2) (hm : m < 64) (hP2 : nj_12 P = true) (hQ2 : nj_12 Q = true)
    (H0 : nj_SF P Q m → ∀ c e b3 b4 b5 b6 b7 b8 b9 b10 b11 b12 b13 b14 b15 b16 b17 b18 b19 b20 b21, nj_FS (nj_le P m ∧ nj_cl P Q m) m (nj_nx m P Q) b3 → post 0 (6, nI m, fs, fg, 1, 0, c, e, a1, a2, b3, b4, b5, b6, b7, b8, b9, b10, b11, b12, b13, b14, b15, b16, b17, b18, b19, b20, b21))
    (H1 : ¬ nj_SF P Q m → ∀ c e b3 b4 b5 b6 b7 b8 b9 b10 b11 b12 b13 b14 b15 b16 b17 b18 b19 b20 b21, post 1 (6, nI m, fs, fg, 1, 1, c, e, a1, a2, b3, b4, b5, b6, b7, b8, b9, b10, b11, b12, b13, b14, b15, b16, b17, b18, b19, b20, b21)) :
    wpX_verdict post (6, nI m, fs, fg, 0, fu, fc, fe, a1, a2, a3, a4, a5, a6, a7, a8, a9, a10, a11, a12, a13, a14, a15, a16, a17, a18, a19, a20, a21) := by
  unfold wpX_verdict
  refine nj_judgeG hG hm hP2 hQ2 (fun u c e b3 b4 b5 b6 b7 b8 b9 b10 b11 b12 b13 b14 b15 b16 b17 b18 b19 b20 b21 hu => ?_)
  rcases hu with ⟨hu, h1, h2⟩ | ⟨hu, h1⟩
  · subst hu
    exact br_t rfl (H0 h1 _ _ _ _ _ _ _ _ _ _ _ _ _ _ _ _ _ _ _ _ _ h2)
  · subst hu
    exact br_f (by decide) (H1 h1 _ _ _ _ _ _ _ _ _ _ _ _ _ _ _ _ _ _ _ _ _)
theorem nj_verdN {post : Int32 → St2 → Prop} {m : Nat} (hm : m < 64) (hs : ∀ i, i < 8 → ((fs >>> (nI i &&& 31)) &&& 1) = 0)
    (H0 : ∀ c e b3 b4 b5 b6 b7 b8 b9 b10 b11 b12 b13 b14 b15 b16 b17 b18 b19 b20 b21, nj_FS False m 0 b3 → post 0 (6, nI m, fs, fg, 1, 0, c, e, a1, a2, b3, b4, b5, b6, b7, b8, b9, b10, b11, b12, b13, b14, b15, b16, b17, b18, b19, b20, b21)) :
    wpX_verdict post (6, nI m, fs, fg, 0, fu, fc, fe, a1, a2, a3, a4, a5, a6, a7, a8, a9, a10, a11, a12, a13, a14, a15, a16, a17, a18, a19, a20, a21) := by
  unfold wpX_verdict
  refine nj_judgeN hm hs (fun c e b3 b4 b5 b6 b7 b8 b9 b10 b11 b12 b13 b14 b15 b16 b17 b18 b19 b20 b21 h2 => ?_)
  exact br_t rfl (H0 _ _ _ _ _ _ _ _ _ _ _ _ _ _ _ _ _ _ _ _ _ h2)
/-! markings -/
theorem nj_mkU {post : Int32 → St2 → Prop} (H : post 0 (fp, fi, fs, fg, 1, 1, fc, fe, a1, a2, a3, a4, a5, a6, a7, a8, a9, a10, a11, a12, a13, a14, a15, a16, a17, a18, a19, a20, a21)) : wpX_markings post (fp, fi, fs, fg, 1, 1, fc, fe, a1, a2, a3, a4, a5, a6, a7, a8, a9, a10, a11, a12, a13, a14, a15, a16, a17, a18, a19, a20, a21) := by
  unfold wpX_markings
  refine br_f (by decide) ?_
  exact br_f (by decide) H
theorem nj_mk1 {post : Int32 → St2 → Prop} {m : Nat} (hm : m < 64) (h0 : a3 m = 0) (h : ∀ x, x < 64 → x ≠ m → a3 x = -1) (H : post 1 (fp, fi, fs, fg, 1, 0, fc, fe, a1, a2, a3, a4, a5, a6, a7, a8, a9, a10, a11, a12, a13, a14, a15, a16, a17, a18, a19, a20, a21)) : wpX_markings post (fp, fi, fs, fg, 1, 0, fc, fe, a1, a2, a3, a4, a5, a6, a7, a8, a9, a10, a11, a12, a13, a14, a15, a16, a17, a18, a19, a20, a21) := by
  unfold wpX_markings
  refine br_f (by decide) ?_
  refine br_t rfl ?_
  refine pk_loop (fun n i s => wX_markings_17 post fp fi fs fg 1 0 fc fe a1 a2 a3 a4 a5 a6 a7 a8 a9 a10 a11 a12 a13 a14 a15 a16 a17 a18 a19 a20 a21 n s (nI i)) (fun i s => s = if m < i then 1 else 0) 64 0 0 (by omega) rfl (fun n s hs => br_t (by decide) (by have hs' : s = 1 := hs.trans (if_pos hm); subst hs'; exact H)) ?_
  intro n i s hi hs hw
  refine br_f (nI_ge (b := 64) hi (by decide)) ⟨vp_in_nI hi (by decide), ?_⟩
  rw [nI_clamp (by omega)]
  by_cases e : i = m
  · subst e
    rw [h0]
    have hs' : s = 0 := hs.trans (if_neg (by omega))
    subst hs'
    exact br_f (by decide) (nm_r (e' := 1) (by decide) (nm_r (nI_1 i) (hw 1 (if_pos (by omega)).symm)))
  · rw [h i hi e]
    refine br_t (by decide) (nm_r (nI_1 i) (hw s ?_))
    rw [hs]
    by_cases q : m < i
    · rw [if_pos q, if_pos (by omega)]
    · rw [if_neg q, if_neg (by omega)]
theorem nj_mk2 {post : Int32 → St2 → Prop} {m y : Nat} (hm : m < 64) (hy : y < 64) (hym : y ≠ m) (h0 : a3 m = 0) (h1 : a3 y = 1) (h : ∀ x, x < 64 → x ≠ m → x ≠ y → a3 x = -1) (H : post 2 (fp, fi, fs, fg, 1, 0, fc, fe, a1, a2, a3, a4, a5, a6, a7, a8, a9, a10, a11, a12, a13, a14, a15, a16, a17, a18, a19, a20, a21)) : wpX_markings post (fp, fi, fs, fg, 1, 0, fc, fe, a1, a2, a3, a4, a5, a6, a7, a8, a9, a10, a11, a12, a13, a14, a15, a16, a17, a18, a19, a20, a21) := by
  unfold wpX_markings
  refine br_f (by decide) ?_
  refine br_t rfl ?_
  refine pk_loop (fun n i s => wX_markings_17 post fp fi fs fg 1 0 fc fe a1 a2 a3 a4 a5 a6 a7 a8 a9 a10 a11 a12 a13 a14 a15 a16 a17 a18 a19 a20 a21 n s (nI i)) (fun i s => s = nI ((if m < i then 1 else 0) + (if y < i then 1 else 0))) 64 0 0 (by omega) rfl
    (fun n s hs => br_t (by decide) (by have hs' : s = 2 := hs.trans (by rw [if_pos hm, if_pos hy]; rfl); subst hs'; exact H)) ?_
  intro n i s hi hs hw
  refine br_f (nI_ge (b := 64) hi (by decide)) ⟨vp_in_nI hi (by decide), ?_⟩
  rw [nI_clamp (by omega)]
  by_cases e : i = m
  · subst e
    rw [h0]
    refine br_f (by decide) (nm_r (e' := s + 1) rfl (nm_r (nI_1 i) (hw (s + 1) ?_)))
    rw [hs, nI_1, if_neg (show ¬ i < i by omega), if_pos (show i < i + 1 by omega)]
    by_cases q : y < i
    · rw [if_pos q, if_pos (show y < i + 1 by omega)]
    · rw [if_neg q, if_neg (show ¬ y < i + 1 by omega)]
  · by_cases e' : i = y
    · subst e'
      rw [h1]
      refine br_f (by decide) (nm_r (e' := s + 1) rfl (nm_r (nI_1 i) (hw (s + 1) ?_)))
      rw [hs, nI_1, if_neg (show ¬ i < i by omega), if_pos (show i < i + 1 by omega)]
      by_cases q : m < i
      · rw [if_pos q, if_pos (show m < i + 1 by omega)]
      · rw [if_neg q, if_neg (show ¬ m < i + 1 by omega)]
    · rw [h i hi e e']
      refine br_t (by decide) (nm_r (nI_1 i) (hw s ?_))
      rw [hs]
      have e1 : (m < i + 1) ↔ (m < i) := by omega
      have e2 : (y < i + 1) ↔ (y < i) := by omega
      by_cases q : m < i <;> by_cases q' : y < i <;> simp only [q, q', e1, e2]
/-! covers, firstFiring -/
theorem nj_cvU {post : Int32 → St2 → Prop} {p : Nat} (hp : p < 64) (H : post (-1) (6, fi, fs, fg, 1, 1, fc, fe, a1, a2, a3, a4, a5, a6, a7, a8, a9, a10, a11, a12, a13, a14, a15, a16, a17, a18, a19, a20, a21)) : wpX_covers post (6, fi, fs, fg, 1, 1, fc, fe, a1, a2, a3, a4, a5, a6, a7, a8, a9, a10, a11, a12, a13, a14, a15, a16, a17, a18, a19, a20, a21) (nI p) := by
  unfold wpX_covers
  refine nj_beyond hp ?_
  refine br_t rfl ?_
  refine br_f (by decide) ?_
  exact br_f (by decide) H
theorem nj_cvN {post : Int32 → St2 → Prop} {p m : Nat} (hp : p < 64) (hm : m < 64) (hr : ¬ nj_le p m) (h : ∀ x, x < 64 → x ≠ m → a3 x = -1) (H : post (-1) (6, fi, fs, fg, 1, 0, fc, fe, a1, a2, a3, a4, a5, a6, a7, a8, a9, a10, a11, a12, a13, a14, a15, a16, a17, a18, a19, a20, a21)) : wpX_covers post (6, fi, fs, fg, 1, 0, fc, fe, a1, a2, a3, a4, a5, a6, a7, a8, a9, a10, a11, a12, a13, a14, a15, a16, a17, a18, a19, a20, a21) (nI p) := by
  unfold wpX_covers
  refine nj_beyond hp ?_
  refine br_t rfl ?_
  refine br_f (by decide) ?_
  refine br_t rfl ?_
  refine pk_loop (fun n i s => wX_covers_27 post (nI p) 6 fi fs fg 1 0 fc fe a1 a2 a3 a4 a5 a6 a7 a8 a9 a10 a11 a12 a13 a14 a15 a16 a17 a18 a19 a20 a21 n s (nI i)) (fun i s => s = -1) 64 0 (-1) (by omega) rfl (fun n s hs => br_t (by decide) (by subst hs; exact H)) ?_
  intro n i s hi hs hw
  refine br_f (nI_ge (b := 64) hi (by decide)) ⟨vp_in_nI hi (by decide), ?_⟩
  rw [nI_clamp (by omega)]
  by_cases e : i = m
  · subst e
    refine br_c (fun z => nm_r (nI_1 i) (hw s hs)) (fun z => ?_)
    exact br_f (fun w => hr ((nj_rdyI hp hi).mp w)) (nm_r (nI_1 i) (hw s hs))
  · rw [h i hi e]
    exact br_t (by decide) (nm_r (nI_1 i) (hw s hs))
theorem nj_cvR {post : Int32 → St2 → Prop} {p m : Nat} (hp : p < 64) (hm : m < 64) (hr : nj_le p m) (h0 : a3 m = 0) (h : ∀ x, x < 64 → x ≠ m → a3 x = -1 ∨ a3 x = 1) (H : post 0 (6, fi, fs, fg, 1, 0, fc, fe, a1, a2, a3, a4, a5, a6, a7, a8, a9, a10, a11, a12, a13, a14, a15, a16, a17, a18, a19, a20, a21)) : wpX_covers post (6, fi, fs, fg, 1, 0, fc, fe, a1, a2, a3, a4, a5, a6, a7, a8, a9, a10, a11, a12, a13, a14, a15, a16, a17, a18, a19, a20, a21) (nI p) := by
  unfold wpX_covers
  refine nj_beyond hp ?_
  refine br_t rfl ?_
  refine br_f (by decide) ?_
  refine br_t rfl ?_
  refine pk_loop (fun n i s => wX_covers_27 post (nI p) 6 fi fs fg 1 0 fc fe a1 a2 a3 a4 a5 a6 a7 a8 a9 a10 a11 a12 a13 a14 a15 a16 a17 a18 a19 a20 a21 n s (nI i)) (fun i s => (m < i ∧ s = 0) ∨ (¬ m < i ∧ (s = -1 ∨ s = 1))) 64 0 (-1) (by omega) (.inr ⟨by omega, .inl rfl⟩)
    (fun n s hs => br_t (by decide) (by rcases hs with ⟨_, hs⟩ | ⟨z, _⟩; · subst hs; exact H
                                        · exact absurd hm z)) ?_
  intro n i s hi hs hw
  refine br_f (nI_ge (b := 64) hi (by decide)) ⟨vp_in_nI hi (by decide), ?_⟩
  rw [nI_clamp (by omega)]
  by_cases e : i = m
  · subst e
    rw [h0]
    have hw0 := hw 0 (.inl ⟨by omega, rfl⟩)
    refine br_f (by decide) (br_t ((nj_rdyI hp hi).mpr hr) ?_)
    rcases hs with ⟨z, _⟩ | ⟨_, rfl | rfl⟩
    · exact absurd z (by omega)
    · exact br_t (by decide) ⟨vp_in_nI hi (by decide), nm_r (e' := 0) rfl (nm_r (nI_1 i) hw0)⟩
    · exact br_f (by decide) ⟨vp_in_nI hi (by decide), br_f (by decide) ⟨vp_in_nI hi (by decide), nm_r (e' := 0) rfl (nm_r (nI_1 i) hw0)⟩⟩
  · have hks : (m < i + 1 ∧ s = 0) ∨ (¬ m < i + 1 ∧ (s = -1 ∨ s = 1)) := by
      rcases hs with ⟨z, w⟩ | ⟨z, w⟩
      · exact .inl ⟨by omega, w⟩
      · exact .inr ⟨by omega, w⟩
    rcases h i hi e with z | z
    · rw [z]
      exact br_t (by decide) (nm_r (nI_1 i) (hw s hks))
    · rw [z]
      refine br_f (by decide) (br_c (fun _ => ?_) (fun _ => nm_r (nI_1 i) (hw s hks)))
      rcases hs with ⟨y, rfl⟩ | ⟨y, rfl | rfl⟩
      · exact br_f (by decide) ⟨vp_in_nI hi (by decide), br_t (by decide) (nm_r (nI_1 i) (hw 0 (.inl ⟨by omega, rfl⟩)))⟩
      · exact br_t (by decide) ⟨vp_in_nI hi (by decide), nm_r (e' := 1) rfl (nm_r (nI_1 i) (hw 1 (.inr ⟨by omega, .inr rfl⟩)))⟩
      · exact br_f (by decide) ⟨vp_in_nI hi (by decide), br_t (by decide) (nm_r (nI_1 i) (hw 1 (.inr ⟨by omega, .inr rfl⟩)))⟩
theorem nj_ffG {post : Int32 → St2 → Prop} {t P Q : Nat} {r : Int32} (hG : nj_G t P Q fs a1 a2) (Hc : ∀ post' : Int32 → St2 → Prop, post' r (fp, fi, fs, fg, fj, fu, fc, fe, a1, a2, a3, a4, a5, a6, a7, a8, a9, a10, a11, a12, a13, a14, a15, a16, a17, a18, a19, a20, a21) → wpX_covers post' (fp, fi, fs, fg, fj, fu, fc, fe, a1, a2, a3, a4, a5, a6, a7, a8, a9, a10, a11, a12, a13, a14, a15, a16, a17, a18, a19, a20, a21) (nI P)) (h1 : 0 ≤ r → post (r + 1) (fp, fi, fs, fg, fj, fu, fc, fe, a1, a2, a3, a4, a5, a6, a7, a8, a9, a10, a11, a12, a13, a14, a15, a16, a17, a18, a19, a20, a21)) (h0 : ¬ 0 ≤ r → post (-1) (fp, fi, fs, fg, fj, fu, fc, fe, a1, a2, a3, a4, a5, a6, a7, a8, a9, a10, a11, a12, a13, a14, a15, a16, a17, a18, a19, a20, a21)) : wpX_firstFiring post (fp, fi, fs, fg, fj, fu, fc, fe, a1, a2, a3, a4, a5, a6, a7, a8, a9, a10, a11, a12, a13, a14, a15, a16, a17, a18, a19, a20, a21) (nI t) := by
  obtain ⟨ht, hP, hQ, e1, e2, hs⟩ := hG
  unfold wpX_firstFiring
  refine nj_has ht (fun z => absurd rfl ((hs t ht).mp z)) (fun z => ?_)
  refine br_f (by decide) ⟨vp_in_nI ht (by decide), ?_⟩
  rw [nI_clamp (by omega), e1]
  refine Hc _ ?_
  exact br_c h1 h0
/-! enabled, fire, distance -/
theorem nj_enG {post : Int32 → Prop} {t P Q m : Nat} (hG : nj_G t P Q fs a1 a2) (hm : m < 64) (h1 : nj_le P m → nj_cl P Q m → post ((1 : Int32) <<< (nI t &&& 31))) (h0 : ¬ (nj_le P m ∧ nj_cl P Q m) → post 0) : wpX_enabled post (fp, fi, fs, nI m, fj, fu, fc, fe, a1, a2, a3, a4, a5, a6, a7, a8, a9, a10, a11, a12, a13, a14, a15, a16, a17, a18, a19, a20, a21) := by
  obtain ⟨ht, hP, hQ, e1, e2, hs⟩ := hG
  refine pk_loop (fun n i s => wX_enabled_4 post fp fi fs (nI m) fj fu fc fe a1 a2 a3 a4 a5 a6 a7 a8 a9 a10 a11 a12 a13 a14 a15 a16 a17 a18 a19 a20 a21 n s (nI i)) (fun i s => (s = 0 ∧ (t < i → ¬ (nj_le P m ∧ nj_cl P Q m))) ∨ (t < i ∧ nj_le P m ∧ nj_cl P Q m ∧ s = (1 : Int32) <<< (nI t &&& 31))) 8 0 0 (by omega) (.inl ⟨rfl, fun z => absurd z (by omega)⟩) ?_ ?_
  · intro n s h
    refine br_t (by decide) ?_
    rcases h with ⟨h1', h2⟩ | ⟨_, h2, h3, h4⟩
    · subst h1'
      exact h0 (h2 ht)
    · subst h4
      exact h1 h2 h3
  · intro n i s hi h hw
    refine br_f (nI_ge (b := 8) hi (by decide)) (nj_has hi (fun z => ?_) (fun z => ?_))
    · have hne := (hs i hi).mp z
      refine br_t rfl (nm_r (nI_1 i) (hw s ?_))
      rcases h with ⟨h1', h2⟩ | ⟨h1', h2⟩
      · exact .inl ⟨h1', fun w => h2 (by omega)⟩
      · exact .inr ⟨by omega, h2⟩
    · have hit : i = t := Classical.byContradiction (fun w => z ((hs i hi).mpr w))
      subst hit
      have hs0 : s = 0 := by
        rcases h with h | h
        · exact h.1
        · exact absurd h.1 (by omega)
      subst hs0
      refine br_f (by decide) (nj_clear hi hP hQ hm e1 e2 (fun r c => ?_) (fun c => ?_))
      · exact br_f (by decide) (nm_r (e' := (1 : Int32) <<< (nI i &&& 31)) Int32.zero_or (nm_r (nI_1 i) (hw _ (.inr ⟨by omega, r, c, rfl⟩))))
      · exact br_t rfl (nm_r (nI_1 i) (hw 0 (.inl ⟨rfl, fun _ => c⟩)))
theorem nj_enN {post : Int32 → Prop} (hs : ∀ i, i < 8 → ((fs >>> (nI i &&& 31)) &&& 1) = 0) (h0 : post 0) : wpX_enabled post (fp, fi, fs, fg, fj, fu, fc, fe, a1, a2, a3, a4, a5, a6, a7, a8, a9, a10, a11, a12, a13, a14, a15, a16, a17, a18, a19, a20, a21) := by
  refine pk_loop (fun n i s => wX_enabled_4 post fp fi fs fg fj fu fc fe a1 a2 a3 a4 a5 a6 a7 a8 a9 a10 a11 a12 a13 a14 a15 a16 a17 a18 a19 a20 a21 n s (nI i)) (fun i s => s = 0) 8 0 0 (by omega) rfl (fun n s h => br_t (by decide) (by subst h; exact h0)) ?_
  intro n i s hi h hw
  exact br_f (nI_ge (b := 8) hi (by decide)) (nj_has hi (fun z => br_t rfl (nm_r (nI_1 i) (hw s h))) (fun z => absurd (hs i hi) z))
theorem nj_fiG {post : Int32 → St2 → Prop} {t P Q m : Nat} (hG : nj_G t P Q fs a1 a2) (hm : m < 64) (h1 : nj_le P m → nj_cl P Q m → post 1 (fp, fi, fs, nI (nj_nx m P Q), fj, fu, fc, fe, a1, a2, a3, a4, a5, a6, a7, a8, a9, a10, a11, a12, a13, a14, a15, a16, a17, a18, a19, a20, a21)) (h0 : ¬ (nj_le P m ∧ nj_cl P Q m) → post 0 (fp, fi, fs, nI m, fj, fu, fc, fe, a1, a2, a3, a4, a5, a6, a7, a8, a9, a10, a11, a12, a13, a14, a15, a16, a17, a18, a19, a20, a21)) : wpX_fire post (fp, fi, fs, nI m, fj, fu, fc, fe, a1, a2, a3, a4, a5, a6, a7, a8, a9, a10, a11, a12, a13, a14, a15, a16, a17, a18, a19, a20, a21) (nI t) := by
  obtain ⟨ht, hP, hQ, e1, e2, hs⟩ := hG
  unfold wpX_fire
  refine nj_has ht (fun z => absurd rfl ((hs t ht).mp z)) (fun z => ?_)
  refine br_f (by decide) (nj_clear ht hP hQ hm e1 e2 (fun r c => ?_) (fun c => ?_))
  · exact br_f (by decide) ⟨vp_in_nI ht (by decide), vp_in_nI ht (by decide), nm_r (e' := nI (nj_nx m P Q)) (by rw [nI_clamp (by omega), e1, e2]; exact nj_nxI hm hP) (h1 r c)⟩
  · exact br_t rfl (h0 c)
theorem nj_diU {post : Int32 → St2 → Prop} {y : Nat} (hy : y < 64) (H : post (-1) (6, fi, fs, fg, 1, 1, fc, fe, a1, a2, a3, a4, a5, a6, a7, a8, a9, a10, a11, a12, a13, a14, a15, a16, a17, a18, a19, a20, a21)) : wpX_distance post (6, fi, fs, fg, 1, 1, fc, fe, a1, a2, a3, a4, a5, a6, a7, a8, a9, a10, a11, a12, a13, a14, a15, a16, a17, a18, a19, a20, a21) (nI y) := by
  unfold wpX_distance
  refine nj_beyond hy ?_
  refine br_t rfl ?_
  refine br_f (by decide) ?_
  exact br_f (by decide) H
theorem nj_di0 {post : Int32 → St2 → Prop} {y : Nat} (hy : y < 64) (H : post (a3 y) (6, fi, fs, fg, 1, 0, fc, fe, a1, a2, a3, a4, a5, a6, a7, a8, a9, a10, a11, a12, a13, a14, a15, a16, a17, a18, a19, a20, a21)) : wpX_distance post (6, fi, fs, fg, 1, 0, fc, fe, a1, a2, a3, a4, a5, a6, a7, a8, a9, a10, a11, a12, a13, a14, a15, a16, a17, a18, a19, a20, a21) (nI y) := by
  unfold wpX_distance
  refine nj_beyond hy ?_
  refine br_t rfl ?_
  refine br_f (by decide) ?_
  refine br_t rfl ⟨vp_in_nI hy (by decide), ?_⟩
  rw [nI_clamp (by omega)]
  exact H
/-- no transition: has says no, whatever it is asked -/
theorem nj_has0 {post : Int32 → Prop} {x : Int32} (h : post 0) : wpX_has post (fp, fi, 0, fg, fj, fu, fc, fe, a1, a2, a3, a4, a5, a6, a7, a8, a9, a10, a11, a12, a13, a14, a15, a16, a17, a18, a19, a20, a21) x := by
  refine br_c (fun _ => h) (fun z => br_c (fun _ => h) (fun w => br_c (fun _ => h) (fun y => absurd ?_ y)))
  rcases pk_ix x (n := 8) (by decide) with q | q | ⟨j, hj, rfl⟩
  · exact absurd q z
  · exact absurd q w
  · exact (by decide +kernel : ∀ i, i < 8 → (((0 : Int32) >>> (nI i &&& 31)) &&& 1) = 0) j hj
end
end
section
/-! ===== setTransition and the law's own checks ===== -/
theorem nj_64 {x : Int32} (h : x &&& (-64) = 0) : ∃ P, P < 64 ∧ x = nI P := by
  obtain ⟨j, hj, e⟩ := pk_andE x (m := 63) 6 (by decide)
  refine ⟨j, hj, ?_⟩
  rw [← e]
  apply Int32.toBitVec_inj.mp
  apply BitVec.eq_of_getLsbD_eq
  intro i hi
  have h' := congrArg (fun y : Int32 => y.toBitVec.getLsbD i) h
  simp only [Int32.toBitVec_and, BitVec.getLsbD_and] at h'
  rw [Int32.toBitVec_and, BitVec.getLsbD_and]
  have e1 : ∀ i, i < 32 → (63 : Int32).toBitVec.getLsbD i = decide (i < 6) := by decide +kernel
  have e2 : ∀ i, i < 32 → (-64 : Int32).toBitVec.getLsbD i = !decide (i < 6) := by decide +kernel
  have e3 : ∀ i, i < 32 → (0 : Int32).toBitVec.getLsbD i = false := by decide +kernel
  rw [e2 i hi, e3 i hi] at h'
  rw [e1 i hi]
  revert h'
  cases x.toBitVec.getLsbD i <;> cases decide (i < 6) <;> simp
theorem nj_m64 : ∀ P, P < 64 → nI P &&& (-64) = 0 := by decide +kernel
theorem nj_one2 : ∀ P, P < 64 → (nj_12 P = true ↔ (¬ nI P = 0 ∧ ((nI P &&& (nI P - 1)) &&& ((nI P &&& (nI P - 1)) - 1)) = 0)) := by decide +kernel
/-- a set of one or two of the six places -/
def nj_ok (x : Int32) : Prop := ∃ P, P < 64 ∧ x = nI P ∧ nj_12 P = true
theorem nj_oot {post : Int32 → Prop} {x : Int32} (h1 : nj_ok x → post 1) (h0 : ¬ nj_ok x → post 0) : wpL_oneOrTwo post () x := by
  refine nm_e (br_c (fun z => h0 ?_) (fun z => br_c (fun w => br_c (fun y => h1 ?_) (fun y => h0 ?_)) (fun w => h0 ?_)))
  · rintro ⟨P, hP, rfl, h⟩
    exact ((nj_one2 P hP).mp h).1 z
  · obtain ⟨P, hP, rfl⟩ := nj_64 w
    exact ⟨P, hP, rfl, (nj_one2 P hP).mpr ⟨z, y⟩⟩
  · rintro ⟨P, hP, rfl, h⟩
    exact y ((nj_one2 P hP).mp h).2
  · rintro ⟨P, hP, rfl, h⟩
    exact w (nj_m64 P hP)
section
variable {fp : Int32} {fi : Int32} {fs : Int32} {fg : Int32} {fj : Int32} {fu : Int32} {fc : Int32} {fe : Int32} {a1 : Nat → Int32} {a2 : Nat → Int32} {a3 : Nat → Int32} {a4 : Nat → Int32} {a5 : Nat → Int64} {a6 : Nat → Int64} {a7 : Nat → Int64} {a8 : Nat → Int64} {a9 : Nat → Int64} {a10 : Nat → Int64} {a11 : Nat → Int32} {a12 : Nat → Int32} {a13 : Nat → Int32} {a14 : Nat → Int32} {a15 : Nat → Int64} {a16 : Nat → Int32} {a17 : Nat → Int32} {a18 : Nat → Int64} {a19 : Nat → Int64} {a20 : Nat → Int64} {a21 : Nat → Int64}
theorem nj_sOk {post : Int32 → Prop} {x : Int32} (h1 : nj_ok x → post 1) (h0 : ¬ nj_ok x → post 0) : wpX_setOk post (6, fi, fs, fg, fj, fu, fc, fe, a1, a2, a3, a4, a5, a6, a7, a8, a9, a10, a11, a12, a13, a14, a15, a16, a17, a18, a19, a20, a21) x := by
  unfold wpX_setOk
  have em : (((1 : Int32) <<< ((6 : Int32) &&& 31)) - 1) ^^^ (-1) = -64 := by decide
  refine br_c (fun z => ?_) (fun z => ?_)
  · rw [em] at z
    refine br_t rfl (nj_ones ?_)
    obtain ⟨P, hP, rfl⟩ := nj_64 z
    refine br_c (fun y => h1 ⟨P, hP, rfl, ?_⟩) (fun y => br_c (fun w => h1 ⟨P, hP, rfl, ?_⟩) (fun w => h0 ?_))
    · unfold nj_12
      rw [decide_eq_true y, Bool.true_or]
    · unfold nj_12
      rw [decide_eq_true w, Bool.or_true]
    · rintro ⟨P', hP', e, h⟩
      have e' : P = P' := (nI_eq (by omega) (by omega)).mp e
      subst e'
      unfold nj_12 at h
      rw [decide_eq_false y, decide_eq_false w] at h
      exact absurd h (by decide)
  · rw [em] at z
    refine br_f (by decide) (h0 ?_)
    rintro ⟨P, hP, rfl, _⟩
    exact z (nj_m64 P hP)
/-- not set: nothing changes -/
theorem nj_stN {post : Int32 → St2 → Prop} {t p q : Int32} (hn : ¬ (¬ t < 0 ∧ ¬ 8 ≤ t ∧ nj_ok p ∧ nj_ok q)) (H : post 0 (6, fi, fs, fg, fj, fu, fc, fe, a1, a2, a3, a4, a5, a6, a7, a8, a9, a10, a11, a12, a13, a14, a15, a16, a17, a18, a19, a20, a21)) : wpX_setTransition post (6, fi, fs, fg, fj, fu, fc, fe, a1, a2, a3, a4, a5, a6, a7, a8, a9, a10, a11, a12, a13, a14, a15, a16, a17, a18, a19, a20, a21) t p q := by
  refine br_c (fun _ => H) (fun z1 => br_c (fun _ => H) (fun z2 => ?_))
  refine nj_sOk (fun k1 => ?_) (fun k1 => ?_)
  · refine br_f (by decide) (nj_sOk (fun k2 => absurd ⟨z1, z2, k1, k2⟩ hn) (fun k2 => ?_))
    exact br_t rfl H
  · exact br_t rfl H
theorem nj_b64 : ∀ P, P < 64 → (nI P).toInt8.toInt32 = nI P := by decide +kernel
theorem nj_stG {post : Int32 → St2 → Prop} {t P Q : Nat} (ht : t < 8) (hP : P < 64) (hQ : Q < 64) (hP2 : nj_12 P = true) (hQ2 : nj_12 Q = true)
    (H : post 1 (6, fi, (1 : Int32) <<< (nI t &&& 31), fi, 0, fu, fc, fe, upd a1 t (nI P), upd a2 t (nI Q), a3, a4, a5, a6, a7, a8, a9, a10, a11, a12, a13, a14, a15, a16, a17, a18, a19, a20, a21)) : wpX_setTransition post (6, fi, 0, fg, fj, fu, fc, fe, a1, a2, a3, a4, a5, a6, a7, a8, a9, a10, a11, a12, a13, a14, a15, a16, a17, a18, a19, a20, a21) (nI t) (nI P) (nI Q) := by
  refine br_f (nI_pos (by omega)) (br_f (nI_ge (b := 8) ht (by decide)) ?_)
  refine nj_sOk (fun _ => ?_) (fun k => absurd ⟨P, hP, rfl, hP2⟩ k)
  refine br_f (by decide) (nj_sOk (fun _ => ?_) (fun k => absurd ⟨Q, hQ, rfl, hQ2⟩ k))
  refine br_f (by decide) ⟨vp_in_nI ht (by decide), nm_r (e' := upd a1 t (nI P)) (by rw [nI_clamp (by omega), nj_b64 P hP]) ⟨vp_in_nI ht (by decide), nm_r (e' := upd a2 t (nI Q)) (by rw [nI_clamp (by omega), nj_b64 Q hQ]) (nm_r (e' := (1 : Int32) <<< (nI t &&& 31)) Int32.zero_or ?_)⟩⟩
  exact H
end
theorem nj_init {post : St2 → Prop} {m : Nat} {x : Int32} (e : x &&& 63 = nI m) (H : post (6, nI m, 0, nI m, 0, 0, 0, 0, (fun _ => 0), (fun _ => 0), (fun _ => 0), (fun _ => 0), (fun _ => 0), (fun _ => 0), (fun _ => 0), (fun _ => 0), (fun _ => 0), (fun _ => 0), (fun _ => 0), (fun _ => 0), (fun _ => 0), (fun _ => 0), (fun _ => 0), (fun _ => 0), (fun _ => 0), (fun _ => 0), (fun _ => 0), (fun _ => 0), (fun _ => 0))) :
    wpX_init post 21 1190 (0, 0, 0, 0, 0, 0, 0, 0) 6 x := by
  refine ⟨by decide, by decide, by decide, by decide, by decide, by decide, by decide, by decide, by decide, by decide, by decide, by decide, by decide, by decide, by decide, by decide, by decide, by decide, by decide, by decide, by decide, by decide, by decide, by decide, by decide, by decide, by decide, by decide, by decide, by decide, by decide, by decide, by decide, by decide, by decide, by decide, by decide, by decide, by decide, by decide, by decide, by decide, ?_⟩
  refine br_t (by decide) (br_t (by decide) (nm_r (e' := nI m) ?_ H))
  rw [show ((1 : Int32) <<< ((6 : Int32) &&& 31)) - 1 = 63 by decide]
  exact e
/-! the law's table of answers -/
section
variable {post : Int32 → St0 → Prop} {mc ms kc ks : Nat} {x1 x2 x3 x5 x9 x11 x13 x14 x16 x17 : Int32}
/-- not safe -/
theorem nj_cU (h : post 1 ()) (h9 : x9 = if x16 = 0 then 0 else (1 : Int32) <<< (x1 &&& 31)) : wL_lawOf_219 post mc ms x1 x14 1 0 (-1) x9 x16 x17 (-1) x13 x14 x16 x17 kc ks := by
  refine br_t rfl (br_t rfl (br_t rfl (br_t rfl (br_t rfl (br_t rfl (br_t rfl (br_t rfl (br_c (fun z => ?_) (fun z => ?_)))))))))
  · rw [if_pos z] at h9
    exact br_t h9 (br_t rfl (br_t rfl (br_t rfl h)))
  · rw [if_neg z] at h9
    exact br_t h9 (br_t rfl (br_t rfl (br_t rfl h)))
/-- safe, not clear -/
theorem nj_cS0 (h : post 1 ()) : wL_lawOf_220 post mc ms x1 x14 0 1 (-1) 0 0 x13 0 x13 x14 0 x13 1 kc ks :=
  br_f (by decide) (br_t rfl (br_f (by decide) (br_t rfl (br_t rfl (br_f (by decide) (br_t rfl (br_t rfl (br_f (by decide) (br_t rfl (br_t rfl (br_t rfl (br_t rfl (br_t rfl (br_t rfl (br_t rfl h)))))))))))))))
/-- safe, clear, the marking stays -/
theorem nj_cS1 (h : post 1 ()) : wL_lawOf_220 post mc ms x1 1 0 1 1 ((1 : Int32) <<< (x1 &&& 31)) 1 x13 0 x13 1 1 x13 1 kc ks :=
  br_f (by decide) (br_f (by decide) (br_t rfl (br_f (by decide) (br_t rfl (br_t rfl (br_f (by decide) (br_t rfl (br_t rfl (br_f (by decide) (br_f (by decide) (br_t rfl (br_f (by decide) (br_t rfl (br_t rfl (br_t rfl (br_t rfl h))))))))))))))))
/-- safe, clear, another marking -/
theorem nj_cS2 (h : post 1 ()) (hne : ¬ x17 = x13) : wL_lawOf_220 post mc ms x1 1 0 2 1 ((1 : Int32) <<< (x1 &&& 31)) 1 x17 1 x13 1 1 x17 1 kc ks :=
  br_f (by decide) (br_f (by decide) (br_f hne (br_f (by decide) (br_f hne (br_t rfl (br_f (by decide) (br_t rfl (br_t rfl (br_f (by decide) (br_f (by decide) (br_t rfl (br_f (by decide) (br_t rfl (br_t rfl (br_t rfl (br_t rfl h))))))))))))))))
/-- not good -/
theorem nj_ckN (h : post 1 ()) : wL_lawOf_109 post mc ms x1 x2 x3 0 0 1 (-1) 0 0 x13 0 x13 kc ks :=
  br_t rfl (br_t rfl (br_t rfl (br_t rfl (br_t rfl (br_t rfl (nj_cS0 h))))))
/-- not ready -/
theorem nj_ckR (h : post 1 ()) (hr : ¬ (x13 &&& x2) = x2) : wL_lawOf_110 post mc ms x1 x2 x3 1 0 1 (-1) 0 0 x13 0 x13 1 kc ks :=
  br_f (by decide) (br_f hr (br_t rfl (br_t rfl (br_t rfl (br_t rfl (br_t rfl (nj_cS0 h)))))))
/-- ready, not clear -/
theorem nj_ckC (h : post 1 ()) (hr : (x13 &&& x2) = x2) (hc : ¬ ((x13 &&& x3) &&& (x2 ^^^ (-1))) = 0) : wL_lawOf_110 post mc ms x1 x2 x3 1 1 0 (-1) 0 0 x13 (-1) x13 1 kc ks :=
  br_f (by decide) (br_t hr (br_f (by decide) (br_f hc (br_t rfl (br_t rfl (br_f (by decide) (br_t rfl (nj_cU h rfl))))))))
/-- clear, again -/
theorem nj_ckA (h : post 1 ()) (hr : (x13 &&& x2) = x2) (hc : ((x13 &&& x3) &&& (x2 ^^^ (-1))) = 0) (h1 : (x2 &&& (x3 ^^^ (-1))) = 0) (h2 : ¬ x2 = x3) (e : x11 = (x13 &&& (x2 ^^^ (-1))) ||| x3) :
    wL_lawOf_110 post mc ms x1 x2 x3 1 1 0 (-1) ((1 : Int32) <<< (x1 &&& 31)) 1 x11 (-1) x13 1 kc ks := by
  subst e
  exact br_f (by decide) (br_t hr (br_f (by decide) (br_t hc (br_f (by decide) (br_f (by decide) (br_t h1 (br_f h2 (br_f (by decide) (br_f (by decide) (br_f (by decide) (nj_cU h rfl)))))))))))
/-- clear, not again, from the place where again is known -/
theorem nj_ckT (hr : (x13 &&& x2) = x2) (hc : ((x13 &&& x3) &&& (x2 ^^^ (-1))) = 0) (hn : (x2 &&& (x3 ^^^ (-1))) = 0 → x2 = x3) {x6 x7 x8 x10 x12 : Int32}
    (H : wL_lawOf_220 post mc ms x1 x5 x6 x7 x8 x9 x10 x11 x12 x13 1 1 ((x13 &&& (x2 ^^^ (-1))) ||| x3) 1 kc ks) : wL_lawOf_110 post mc ms x1 x2 x3 x5 x6 x7 x8 x9 x10 x11 x12 x13 1 kc ks := by
  refine br_f (by decide) (br_t hr (br_f (by decide) (br_t hc (br_f (by decide) (br_f (by decide) (br_c (fun z => br_t (hn z) ?_) (fun z => ?_)))))))
  · exact br_f (by decide) (br_f (by decide) (br_t rfl H))
  · exact br_f (by decide) (br_f (by decide) (br_t rfl H))
end
end
section
/-! ===== the law ===== -/
theorem nj_hs : ∀ t, t < 8 → ∀ i, i < 8 → ((((1 : Int32) <<< (nI t &&& 31)) >>> (nI i &&& 31)) &&& 1 = 0 ↔ i ≠ t) := by decide +kernel
theorem nj_hs0 : ∀ i, i < 8 → (((0 : Int32) >>> (nI i &&& 31)) &&& 1) = 0 := by decide +kernel
theorem nj_rE {m P : Nat} (hm : m < 64) (hP : P < 64) : nI m &&& nI P = nI P ↔ nj_le P m := by
  have hl : m &&& P < 64 := Nat.and_lt_two_pow (n := 6) _ hP
  rw [nj_and, nI_eq (by omega) (by omega)]
  constructor
  · intro h p hp hq
    have := congrArg (fun y => y.testBit p) h
    simp only [Nat.testBit_and, hq, Bool.and_true] at this
    exact this
  · intro h
    refine nj_ext hl hP (fun p hp => ?_)
    rw [Nat.testBit_and]
    have := h p hp
    revert this
    cases P.testBit p <;> cases m.testBit p <;> simp
theorem nj_cE {m P Q : Nat} (hm : m < 64) (hP : P < 64) (hQ : Q < 64) : ((nI m &&& nI Q) &&& (nI P ^^^ (-1))) = 0 ↔ nj_cl P Q m := by
  rw [Int32.and_comm (nI m) (nI Q), Int32.and_assoc, Int32.and_comm (nI m), ← Int32.and_assoc]
  exact nj_clrI hP hQ hm
theorem nj_87 {t : Int32} (h : ¬ 7 < t) : ¬ 8 ≤ t := by
  have e7 : (7 : Int32).toInt = 7 := by decide
  have e8 : (8 : Int32).toInt = 8 := by decide
  rw [Int32.lt_iff_toInt_lt] at h
  rw [Int32.le_iff_toInt_le]
  omega
theorem nj_n7 {t : Nat} (h : t < 8) : ¬ 7 < nI t := nI_nlt (a := 7) (b := t) (by omega) (by decide) |> fun z => by
  intro w
  rw [Int32.lt_iff_toInt_lt, nI_toInt (by omega)] at w
  have e7 : (7 : Int32).toInt = 7 := by decide
  omega
section
variable {fp : Int32} {fi : Int32} {fs : Int32} {fg : Int32} {fj : Int32} {fu : Int32} {fc : Int32} {fe : Int32} {a1 : Nat → Int32} {a2 : Nat → Int32} {a3 : Nat → Int32} {a4 : Nat → Int32} {a5 : Nat → Int64} {a6 : Nat → Int64} {a7 : Nat → Int64} {a8 : Nat → Int64} {a9 : Nat → Int64} {a10 : Nat → Int64} {a11 : Nat → Int32} {a12 : Nat → Int32} {a13 : Nat → Int32} {a14 : Nat → Int32} {a15 : Nat → Int64} {a16 : Nat → Int32} {a17 : Nat → Int32} {a18 : Nat → Int64} {a19 : Nat → Int64} {a20 : Nat → Int64} {a21 : Nat → Int64}
theorem nj_ff1 {post : Int32 → St2 → Prop} {t P Q : Nat} (hG : nj_G t P Q fs a1 a2) (Hc : ∀ post' : Int32 → St2 → Prop, post' 0 (fp, fi, fs, fg, fj, fu, fc, fe, a1, a2, a3, a4, a5, a6, a7, a8, a9, a10, a11, a12, a13, a14, a15, a16, a17, a18, a19, a20, a21) → wpX_covers post' (fp, fi, fs, fg, fj, fu, fc, fe, a1, a2, a3, a4, a5, a6, a7, a8, a9, a10, a11, a12, a13, a14, a15, a16, a17, a18, a19, a20, a21) (nI P)) (h : post 1 (fp, fi, fs, fg, fj, fu, fc, fe, a1, a2, a3, a4, a5, a6, a7, a8, a9, a10, a11, a12, a13, a14, a15, a16, a17, a18, a19, a20, a21)) : wpX_firstFiring post (fp, fi, fs, fg, fj, fu, fc, fe, a1, a2, a3, a4, a5, a6, a7, a8, a9, a10, a11, a12, a13, a14, a15, a16, a17, a18, a19, a20, a21) (nI t) :=
  nj_ffG hG Hc (fun _ => by rw [show (0 : Int32) + 1 = 1 by decide]; exact h) (fun z => absurd (by decide) z)
theorem nj_ffm {post : Int32 → St2 → Prop} {t P Q : Nat} (hG : nj_G t P Q fs a1 a2) (Hc : ∀ post' : Int32 → St2 → Prop, post' (-1) (fp, fi, fs, fg, fj, fu, fc, fe, a1, a2, a3, a4, a5, a6, a7, a8, a9, a10, a11, a12, a13, a14, a15, a16, a17, a18, a19, a20, a21) → wpX_covers post' (fp, fi, fs, fg, fj, fu, fc, fe, a1, a2, a3, a4, a5, a6, a7, a8, a9, a10, a11, a12, a13, a14, a15, a16, a17, a18, a19, a20, a21) (nI P)) (h : post (-1) (fp, fi, fs, fg, fj, fu, fc, fe, a1, a2, a3, a4, a5, a6, a7, a8, a9, a10, a11, a12, a13, a14, a15, a16, a17, a18, a19, a20, a21)) : wpX_firstFiring post (fp, fi, fs, fg, fj, fu, fc, fe, a1, a2, a3, a4, a5, a6, a7, a8, a9, a10, a11, a12, a13, a14, a15, a16, a17, a18, a19, a20, a21) (nI t) :=
  nj_ffG hG Hc (fun z => absurd z (by decide)) (fun _ => h)
end
theorem nj_lawN {post : Int32 → St0 → Prop} (h : post 1 ()) {p0 t p2 p3 : Int32} {m : Nat} (hm : m < 64) (em : p0 &&& 63 = nI m) (hg : ¬ (¬ t < 0 ∧ ¬ 8 ≤ t ∧ nj_ok p2 ∧ nj_ok p3)) : wpL_lawOf post 842 13472 () p0 t p2 p3 := by
  refine ⟨by decide, by decide, 21, 1190, by decide, by decide, nj_init em ?_⟩
  refine nj_stN hg ?_
  refine nj_verdN hm nj_hs0 (fun c e b3 b4 b5 b6 b7 b8 b9 b10 b11 b12 b13 b14 b15 b16 b17 b18 b19 b20 b21 hF => ?_)
  refine nj_mk1 hm hF.1 (fun x hx hne => hF.2.2 x hx hne (fun w => w.1)) ?_
  unfold wpX_firstFiring
  refine nj_has0 ?_
  refine br_t rfl ?_
  refine nj_enN nj_hs0 ?_
  unfold wpX_fire
  refine nj_has0 ?_
  refine br_t rfl ?_
  unfold wpX_current
  refine nj_di0 hm ?_
  rw [hF.1]
  exact nm_r em (br_c (fun _ => nj_ckN h) (fun z1 => br_c (fun _ => nj_ckN h) (fun z2 => nj_oot (fun k1 => br_f (by decide) (nj_oot (fun k2 => absurd ⟨z1, nj_87 z2, k1, k2⟩ hg) (fun _ => br_t rfl (nj_ckN h)))) (fun _ => br_t rfl (nj_ckN h)))))
theorem nj_lawG {post : Int32 → St0 → Prop} (h : post 1 ()) {p0 : Int32} {t m P Q : Nat} (hm : m < 64) (em : p0 &&& 63 = nI m) (ht : t < 8) (hP : P < 64) (hQ : Q < 64) (hP2 : nj_12 P = true) (hQ2 : nj_12 Q = true) : wpL_lawOf post 842 13472 () p0 (nI t) (nI P) (nI Q) := by
  have kP : nj_ok (nI P) := ⟨P, hP, rfl, hP2⟩
  have kQ : nj_ok (nI Q) := ⟨Q, hQ, rfl, hQ2⟩
  have hnl := nj_nx_lt hm hP hQ
  have t0 : ¬ nI t < 0 := nI_pos (by omega)
  have t7 := nj_n7 ht
  refine ⟨by decide, by decide, 21, 1190, by decide, by decide, nj_init em ?_⟩
  refine nj_stG ht hP hQ hP2 hQ2 ?_
  have hG : nj_G t P Q ((1 : Int32) <<< (nI t &&& 31)) (upd (fun _ => 0) t (nI P)) (upd (fun _ => 0) t (nI Q)) := ⟨ht, hP, hQ, pk_us, pk_us, nj_hs t ht⟩
  refine nj_verdG hG hm hP2 hQ2 (fun hS c e b3 b4 b5 b6 b7 b8 b9 b10 b11 b12 b13 b14 b15 b16 b17 b18 b19 b20 b21 hF => ?_) (fun hS c e b3 b4 b5 b6 b7 b8 b9 b10 b11 b12 b13 b14 b15 b16 b17 b18 b19 b20 b21 => ?_)
  · by_cases hr : nj_le P m
    · have hcl := hS.1 hr
      have hnag : (nI P &&& (nI Q ^^^ (-1))) = 0 → nI P = nI Q := by
        intro z
        by_cases e : P = Q
        · rw [e]
        · exact absurd ⟨hr, hcl, (nj_rdyI hP hQ).mp z, e⟩ hS.2
      by_cases hx : nj_nx m P Q = m
      · refine nj_mk1 hm hF.1 (fun x hx' hne => hF.2.2 x hx' hne (fun w => hne (w.2.trans hx))) ?_
        refine nj_ff1 hG (fun post' h' => nj_cvR hP hm hr hF.1 (fun x hx' hne => .inl (hF.2.2 x hx' hne (fun w => hne (w.2.trans hx)))) h') ?_
        refine nj_enG hG hm (fun _ _ => ?_) (fun z => absurd ⟨hr, hcl⟩ z)
        refine nj_fiG hG hm (fun _ _ => ?_) (fun z => absurd ⟨hr, hcl⟩ z)
        unfold wpX_current
        refine nj_di0 hnl ?_
        rw [hx, hF.1]
        refine nm_r em (br_f t0 (br_f t7 (nj_oot (fun _ => br_f (by decide) (nj_oot (fun _ => br_f (by decide) ?_) (fun k => absurd kQ k))) (fun k => absurd kP k))))
        refine nj_ckT ((nj_rE hm hP).mpr hr) ((nj_cE hm hP hQ).mpr hcl) hnag ?_
        rw [nj_nxI hm hP, hx]
        exact nj_cS1 h
      · refine nj_mk2 hm hnl hx hF.1 (hF.2.1 ⟨hr, hcl⟩ hx) (fun x hx' hne hne' => hF.2.2 x hx' hne (fun w => hne' w.2)) ?_
        refine nj_ff1 hG (fun post' h' => nj_cvR hP hm hr hF.1 (fun x hx' hne => ?_) h') ?_
        · by_cases e : x = nj_nx m P Q
          · right
            rw [e]
            exact hF.2.1 ⟨hr, hcl⟩ hx
          · exact .inl (hF.2.2 x hx' hne (fun w => e w.2))
        refine nj_enG hG hm (fun _ _ => ?_) (fun z => absurd ⟨hr, hcl⟩ z)
        refine nj_fiG hG hm (fun _ _ => ?_) (fun z => absurd ⟨hr, hcl⟩ z)
        unfold wpX_current
        refine nj_di0 hnl ?_
        rw [hF.2.1 ⟨hr, hcl⟩ hx]
        refine nm_r em (br_f t0 (br_f t7 (nj_oot (fun _ => br_f (by decide) (nj_oot (fun _ => br_f (by decide) ?_) (fun k => absurd kQ k))) (fun k => absurd kP k))))
        refine nj_ckT ((nj_rE hm hP).mpr hr) ((nj_cE hm hP hQ).mpr hcl) hnag ?_
        rw [nj_nxI hm hP]
        exact nj_cS2 h (fun z => hx ((nI_eq (by omega) (by omega)).mp z))
    · have hk : ∀ x, x < 64 → x ≠ m → b3 x = -1 := fun x hx hne => hF.2.2 x hx hne (fun w => hr w.1.1)
      refine nj_mk1 hm hF.1 hk ?_
      refine nj_ffm hG (fun post' h' => nj_cvN hP hm hr hk h') ?_
      refine nj_enG hG hm (fun z _ => absurd z hr) (fun _ => ?_)
      refine nj_fiG hG hm (fun z _ => absurd z hr) (fun _ => ?_)
      unfold wpX_current
      refine nj_di0 hm ?_
      rw [hF.1]
      refine nm_r em (br_f t0 (br_f t7 (nj_oot (fun _ => br_f (by decide) (nj_oot (fun _ => br_f (by decide) ?_) (fun k => absurd kQ k))) (fun k => absurd kP k))))
      exact nj_ckR h (fun z => hr ((nj_rE hm hP).mp z))
  · have hr : nj_le P m := Classical.byContradiction (fun z => hS ⟨fun w => absurd w z, fun w => z w.1⟩)
    refine nj_mkU ?_
    refine nj_ffm hG (fun post' h' => nj_cvU hP h') ?_
    by_cases hcl : nj_cl P Q m
    · have hag : nj_ag2 P Q m := Classical.byContradiction (fun z => hS ⟨fun _ => hcl, z⟩)
      refine nj_enG hG hm (fun _ _ => ?_) (fun z => absurd ⟨hr, hcl⟩ z)
      refine nj_fiG hG hm (fun _ _ => ?_) (fun z => absurd ⟨hr, hcl⟩ z)
      unfold wpX_current
      refine nj_diU hnl ?_
      refine nm_r em (br_f t0 (br_f t7 (nj_oot (fun _ => br_f (by decide) (nj_oot (fun _ => br_f (by decide) ?_) (fun k => absurd kQ k))) (fun k => absurd kP k))))
      exact nj_ckA h ((nj_rE hm hP).mpr hr) ((nj_cE hm hP hQ).mpr hcl) ((nj_rdyI hP hQ).mpr hag.2.2.1) (fun z => hag.2.2.2 ((nI_eq (by omega) (by omega)).mp z)) (nj_nxI hm hP).symm
    · refine nj_enG hG hm (fun _ z => absurd z hcl) (fun _ => ?_)
      refine nj_fiG hG hm (fun _ z => absurd z hcl) (fun _ => ?_)
      unfold wpX_current
      refine nj_diU hm ?_
      refine nm_r em (br_f t0 (br_f t7 (nj_oot (fun _ => br_f (by decide) (nj_oot (fun _ => br_f (by decide) ?_) (fun k => absurd kQ k))) (fun k => absurd kP k))))
      exact nj_ckC h ((nj_rE hm hP).mpr hr) (fun z => hcl ((nj_cE hm hP hQ).mp z))
theorem nj_lawOf {post : Int32 → St0 → Prop} (h : post 1 ()) (p0 t p2 p3 : Int32) : wpL_lawOf post 842 13472 () p0 t p2 p3 := by
  obtain ⟨m, hm, em⟩ := pk_andE p0 (m := 63) 6 (by decide)
  by_cases hg : ¬ t < 0 ∧ ¬ 8 ≤ t ∧ nj_ok p2 ∧ nj_ok p3
  · obtain ⟨h1, h2, ⟨P, hP, rfl, hP2⟩, ⟨Q, hQ, rfl, hQ2⟩⟩ := hg
    rcases pk_ix t (n := 8) (by decide) with q | q | ⟨j, hj, rfl⟩
    · exact absurd q h1
    · exact absurd q h2
    · exact nj_lawG h hm em hj hP hQ hP2 hQ2
  · exact nj_lawN h hm em hg
theorem nj_cell {post : Int32 → Prop} {L : Nat} {xs : Nat → Int32} (hL : L ≤ 4) (k : Nat) (hk : k < 4) (h : ∀ v, post v) : wpL_cellAt post L xs () (nI k) :=
  pk_le L k (fun _ => h 0) (fun z => ⟨vp_in_nI z (by omega), h _⟩)
end
section
theorem i_vc (xs : Nat → Int32) (L : Nat) (hL : L ≤ 4) : wpL_law (fun r => r = 1) L xs := by
  unfold wpL_law
  refine nj_cell hL 0 (by decide) (fun r1 => ?_)
  refine nj_cell hL 1 (by decide) (fun r2 => ?_)
  refine nj_cell hL 2 (by decide) (fun r3 => ?_)
  refine nj_cell hL 3 (by decide) (fun r4 => ?_)
  exact ⟨842, 13472, by decide, by decide, nj_lawOf rfl r1 r2 r3 r4⟩
end
