section
/-! bits: the mask of the first bits and one bit of an address, over naturals -/
theorem rt_sl : ∀ n, n < 32 → ((nI n &&& 31).toBitVec.smod 32).toNat = n := by decide +kernel
theorem rt_su : ∀ n, n < 32 → (((nI n).toUInt32 &&& Int32.toUInt32 31).toBitVec % 32).toNat = n := by decide +kernel
theorem rt_and (a b : Nat) : nI a &&& nI b = nI (a &&& b) := by
  apply Int32.toBitVec_inj.1
  show BitVec.ofNat 32 a &&& BitVec.ofNat 32 b = BitVec.ofNat 32 (a &&& b)
  apply BitVec.eq_of_getLsbD_eq
  intro i hi
  simp [hi]
theorem rt_m16 {k : Nat} (h : k < 65536) : nI k &&& 65535 = nI k := by
  rw [show nI k &&& 65535 = nI (k % 2 ^ 16) from pk_andN (by omega) 16 (by decide)]
  rw [Nat.mod_eq_of_lt (by omega)]
theorem rt_msk {m j : Nat} (hm : m < 65536) : (m &&& (65535 * 2 ^ j)) &&& 65535 = m / 2 ^ j * 2 ^ j := by
  rw [← Nat.shiftLeft_eq, ← Nat.shiftLeft_eq, ← Nat.shiftRight_eq_div_pow]
  apply Nat.eq_of_testBit_eq
  intro i
  rw [show (65535 : Nat) = 2 ^ 16 - 1 from rfl]
  simp only [Nat.testBit_and, Nat.testBit_shiftLeft, Nat.testBit_shiftRight, Nat.testBit_two_pow_sub_one]
  by_cases h16 : i < 16
  · by_cases hj : j ≤ i
    · have e : j + (i - j) = i := by omega
      have h2 : i - j < 16 := by omega
      simp [h16, hj, e, h2]
    · simp [hj]
  · have e2 : m.testBit i = false := Nat.testBit_lt_two_pow (Nat.lt_of_lt_of_le hm (show 2 ^ 16 ≤ 2 ^ i from Nat.pow_le_pow_right (by decide) (show 16 ≤ i by omega)))
    by_cases hj : j ≤ i
    · have e : j + (i - j) = i := by omega
      simp [h16, e, e2]
    · simp [hj, h16]
theorem rt_cutE {m l : Nat} (hm : m < 65536) (hl : l ≤ 16) : (nI m &&& ((65535 : Int32) <<< ((16 - nI l) &&& 31))) &&& 65535 = nI (m / 2 ^ (16 - l) * 2 ^ (16 - l)) := by
  have e1 : (16 : Int32) - nI l = nI (16 - l) := pk_sub (a := 16) hl
  have hp : 2 ^ (16 - l) ≤ 2 ^ 16 := Nat.pow_le_pow_right (by decide) (by omega)
  have hb : 65535 * 2 ^ (16 - l) < 2 ^ 32 := Nat.lt_of_le_of_lt (Nat.mul_le_mul_left 65535 hp) (by decide)
  have e2 : (65535 : Int32) <<< (nI (16 - l) &&& 31) = nI (65535 * 2 ^ (16 - l)) := pk_shlN (n := 65535) (nI (16 - l) &&& 31) (16 - l) (rt_sl _ (by omega)) hb
  rw [e1, e2]
  show (nI m &&& nI (65535 * 2 ^ (16 - l))) &&& nI 65535 = _
  rw [rt_and, rt_and, rt_msk hm]
theorem rt_bitE {m l : Nat} (hm : m < 65536) (hl : l ≤ 15) : ((((nI m).toUInt32 >>> ((15 - nI l).toUInt32 &&& Int32.toUInt32 31)).toInt32) &&& 1) = nI (m / 2 ^ (15 - l) % 2) := by
  have e1 : (15 : Int32) - nI l = nI (15 - l) := pk_sub (a := 15) hl
  rw [e1, pk_ushrN (by omega) (nI (15 - l)) (15 - l) (rt_su _ (by omega))]
  exact pk_andN (Nat.lt_of_le_of_lt (Nat.div_le_self _ _) (by omega)) 1 (by decide)
theorem rt_sz {l : Nat} (hl : l ≤ 16) : (65536 : Int32) >>> (nI l &&& 31) = nI (65536 / 2 ^ l) := pk_shrN (n := 65536) (by decide) (nI l &&& 31) l (rt_sl _ (by omega))
/-! indices -/
theorem rt_ix (i b : Nat) : 2 * nI i + nI b = nI (2 * i + b) := by
  rw [← nI_add, ← pk_mul]
  rfl
theorem rt_i2 (i : Nat) : 2 * nI i = nI (2 * i) := by
  rw [← pk_mul]
  rfl
theorem rt_cx {i b : Nat} (h : 2 * i + b < 2 ^ 31) : (2 * nI i + nI b).toNatClampNeg = 2 * i + b := by rw [rt_ix, nI_clamp h]
theorem rt_c1 {i : Nat} (h : 2 * i + 1 < 2 ^ 31) : (2 * nI i + 1).toNatClampNeg = 2 * i + 1 := rt_cx (b := 1) h
theorem rt_c2 {i : Nat} (h : 2 * i < 2 ^ 31) : (2 * nI i).toNatClampNeg = 2 * i := by rw [rt_i2, nI_clamp h]
theorem rt_m1 : (-1 : Int32) < 0 := by decide
theorem rt_m1' : ¬ (0 : Int32) ≤ -1 := by decide
/-! the small static methods -/
theorem rt_bit {post : Int32 → Prop} {u : St0} {x y : Int32} (m l v : Nat) (hx : x = nI m) (hy : y = nI l) (hm : m < 65536) (hl : l ≤ 15) (hv : m / 2 ^ (15 - l) % 2 = v) (H : post (nI v)) : wpX_bitAt post u x y := by
  subst hx hy hv
  unfold wpX_bitAt
  rw [rt_bitE hm hl]
  exact H
theorem rt_cut {post : Int32 → Prop} {u : St0} {x y : Int32} (m l v : Nat) (hx : x = nI m) (hy : y = nI l) (hm : m < 65536) (hl : l ≤ 16) (hv : m / 2 ^ (16 - l) * 2 ^ (16 - l) = v) (H : post (nI v)) : wpX_cut post u x y := by
  subst hx hy hv
  unfold wpX_cut
  rw [rt_cutE hm hl]
  exact H
section
variable {h r f ab fu : Int32} {a1 a2 a3 a4 a5 a6 a7 a8 a9 : Nat → Int32}
theorem rt_cov {post : Int32 → Prop} (i m l v : Nat) (hi : i < 64) (hl : a3 i = nI l) (hl6 : l ≤ 16) (hb : a2 i = nI v) (hv : v < 65536) (hm : m < 65536) (ht : m / 2 ^ (16 - l) * 2 ^ (16 - l) = v → post 1) (hf : m / 2 ^ (16 - l) * 2 ^ (16 - l) ≠ v → post 0) : wpX_covers post (h, r, f, ab, fu, a1, a2, a3, a4, a5, a6, a7, a8, a9) (nI i) (nI m) := by
  unfold wpX_covers
  have e : (nI i).toNatClampNeg = i := nI_clamp (by omega)
  have hle : m / 2 ^ (16 - l) * 2 ^ (16 - l) ≤ m := Nat.div_mul_le_self _ _
  refine ⟨pk_in i 64 hi, ?_⟩
  refine rt_cut m l _ rfl (by rw [e]; exact hl) hm hl6 rfl ⟨pk_in i 64 hi, ?_⟩
  rw [e, hb]
  exact pk_eq (m / 2 ^ (16 - l) * 2 ^ (16 - l)) v ht hf rfl rfl (by omega) (by omega)
/-! find: its steps -/
theorem rt_f_none {post : Int32 → St2 → Prop} {x y : Int32} {n : Nat} (st : Nat) (hst : st < 18) (H : post (-1) (h, r, f, ab, fu, a1, a2, a3, a4, a5, a6, a7, a8, a9)) : wX_find_18 post x y h r f a1 a2 a3 a4 a5 a6 a7 a8 a9 (n + 1) (-1) (nI st) ab fu :=
  pk_le 18 st (fun z => absurd z (by omega)) (fun _ => br_t rt_m1 H)
theorem rt_f_step {post : Int32 → St2 → Prop} {n : Nat} (i m len st l v b : Nat) (c : Int32) (hst : st < 18) (hi : i < 64) (hl : a3 i = nI l) (hll : l < len) (hlen : len ≤ 16) (hb : a2 i = nI v) (hv : v < 65536) (hm : m < 65536) (hc : m / 2 ^ (16 - l) * 2 ^ (16 - l) = v) (hbt : m / 2 ^ (15 - l) % 2 = b) (hk : a5 (2 * i + b) = c)
    (H : wX_find_18 post (nI m) (nI len) h r f a1 a2 a3 a4 a5 a6 a7 a8 a9 n c (nI (st + 1)) (nI i) ab) : wX_find_18 post (nI m) (nI len) h r f a1 a2 a3 a4 a5 a6 a7 a8 a9 (n + 1) (nI i) (nI st) ab fu := by
  have e : (nI i).toNatClampNeg = i := nI_clamp (by omega)
  have hb2 : b < 2 := by rw [← hbt]; exact Nat.mod_lt _ (by decide)
  refine pk_le 18 st (fun z => absurd z (by omega)) (fun _ => br_f (nI_pos (by omega)) ⟨pk_in i 64 hi, ?_⟩)
  rw [e, hl]
  refine pk_lt len l (fun z => absurd z (by omega)) (fun _ => ?_)
  refine rt_cov i m l v hi hl (by omega) hb hv hm (fun _ => ?_) (fun z => absurd hc z)
  refine br_f (by decide) ⟨pk_in i 64 hi, ?_⟩
  refine pk_eq l len (fun z => absurd z (by omega)) (fun _ => ⟨pk_in i 64 hi, ?_⟩)
  refine rt_bit m l b rfl rfl hm (by omega) hbt ⟨pk_in (2 * i + b) 128 (by omega) (rt_ix i b), ?_⟩
  exact nm_r (by rw [rt_cx (by omega), hk]) (nm_r (nI_1 st) H)
theorem rt_f_hit {post : Int32 → St2 → Prop} {n : Nat} (i m len st v : Nat) (hst : st < 18) (hi : i < 64) (hl : a3 i = nI len) (hlen : len ≤ 16) (hb : a2 i = nI v) (hv : v < 65536) (hm : m < 65536) (hc : m / 2 ^ (16 - len) * 2 ^ (16 - len) = v)
    (H : post (nI i) (h, r, f, ab, fu, a1, a2, a3, a4, a5, a6, a7, a8, a9)) : wX_find_18 post (nI m) (nI len) h r f a1 a2 a3 a4 a5 a6 a7 a8 a9 (n + 1) (nI i) (nI st) ab fu := by
  have e : (nI i).toNatClampNeg = i := nI_clamp (by omega)
  refine pk_le 18 st (fun z => absurd z (by omega)) (fun _ => br_f (nI_pos (by omega)) ⟨pk_in i 64 hi, ?_⟩)
  rw [e, hl]
  refine pk_lt len len (fun z => absurd z (by omega)) (fun _ => ?_)
  refine rt_cov i m len v hi hl (by omega) hb hv hm (fun _ => ?_) (fun z => absurd hc z)
  refine br_f (by decide) ⟨pk_in i 64 hi, ?_⟩
  exact br_t rfl H
theorem rt_f_long {post : Int32 → St2 → Prop} {n : Nat} {x : Int32} (i len st l : Nat) (hst : st < 18) (hi : i < 64) (hl : a3 i = nI l) (hll : len < l) (hl6 : l ≤ 16)
    (H : post (-1) (h, r, f, ab, fu, a1, a2, a3, a4, a5, a6, a7, a8, a9)) : wX_find_18 post x (nI len) h r f a1 a2 a3 a4 a5 a6 a7 a8 a9 (n + 1) (nI i) (nI st) ab fu := by
  have e : (nI i).toNatClampNeg = i := nI_clamp (by omega)
  refine pk_le 18 st (fun z => absurd z (by omega)) (fun _ => br_f (nI_pos (by omega)) ⟨pk_in i 64 hi, ?_⟩)
  rw [e, hl]
  exact pk_lt len l (fun _ => H) (fun z => absurd z (by omega))
theorem rt_find {post : Int32 → St2 → Prop} {x y : Int32} (n : Nat) (H : wX_find_18 post x y h r f a1 a2 a3 a4 a5 a6 a7 a8 a9 n r 0 (-1) (-1)) : wpX_find post (h, r, f, ab, fu, a1, a2, a3, a4, a5, a6, a7, a8, a9) x y := by
  unfold wpX_find
  exact ⟨n, H⟩
/-! settling: its steps -/
theorem rt_s_none {post : Int32 → Prop} {x best : Int32} {n : Nat} (st : Nat) (hst : st < 18) (H : post best) : wX_settling_10 post x h r f ab fu a1 a2 a3 a4 a5 a6 a7 a8 a9 (n + 1) best (-1) (nI st) :=
  pk_le 18 st (fun z => absurd z (by omega)) (fun _ => br_t rt_m1 H)
theorem rt_s_un {post : Int32 → Prop} {best : Int32} {n : Nat} (i m st l v : Nat) (hst : st < 18) (hi : i < 64) (hl : a3 i = nI l) (hl6 : l ≤ 16) (hb : a2 i = nI v) (hv : v < 65536) (hm : m < 65536) (hc : m / 2 ^ (16 - l) * 2 ^ (16 - l) ≠ v)
    (H : post best) : wX_settling_10 post (nI m) h r f ab fu a1 a2 a3 a4 a5 a6 a7 a8 a9 (n + 1) best (nI i) (nI st) := by
  refine pk_le 18 st (fun z => absurd z (by omega)) (fun _ => br_f (nI_pos (by omega)) ?_)
  exact rt_cov i m l v hi hl (by omega) hb hv hm (fun z => absurd z hc) (fun _ => br_t rfl H)
theorem rt_s_44 {post : Int32 → Prop} {J : Int32 → Int32 → Int32 → Prop} {best : Int32} (i m st l b : Nat) (c : Int32) (hi : i < 64) (hl : a3 i = nI l) (hl5 : l ≤ 15) (hm : m < 65536) (hbt : m / 2 ^ (15 - l) % 2 = b) (hk : a5 (2 * i + b) = c)
    (H : J best c (nI (st + 1))) : wX_settling_44 post J (nI m) (nI i) (nI st) best h r f ab fu a1 a2 a3 a4 a5 a6 a7 a8 a9 := by
  unfold wX_settling_44
  have e : (nI i).toNatClampNeg = i := nI_clamp (by omega)
  have hb2 : b < 2 := by rw [← hbt]; exact Nat.mod_lt _ (by decide)
  refine ⟨pk_in i 64 hi, ?_⟩
  rw [e, hl]
  refine pk_eq l 16 (fun z => absurd z (by omega)) (fun _ => ⟨pk_in i 64 hi, ?_⟩)
  refine rt_bit m l b rfl rfl hm (by omega) hbt ⟨pk_in (2 * i + b) 128 (by omega) (rt_ix i b), ?_⟩
  exact nm_r (by rw [rt_cx (by omega), hk]) (nm_r (nI_1 st) H)
theorem rt_s_held {post : Int32 → Prop} {best : Int32} {n : Nat} (i m st l v b p : Nat) (c : Int32) (hst : st < 18) (hi : i < 64) (hl : a3 i = nI l) (hl5 : l ≤ 15) (hb : a2 i = nI v) (hv : v < 65536) (hm : m < 65536) (hc : m / 2 ^ (16 - l) * 2 ^ (16 - l) = v) (hp : a4 i = nI p) (hp8 : p < 8) (hbt : m / 2 ^ (15 - l) % 2 = b) (hk : a5 (2 * i + b) = c)
    (H : wX_settling_10 post (nI m) h r f ab fu a1 a2 a3 a4 a5 a6 a7 a8 a9 n (nI i) c (nI (st + 1))) : wX_settling_10 post (nI m) h r f ab fu a1 a2 a3 a4 a5 a6 a7 a8 a9 (n + 1) best (nI i) (nI st) := by
  have e : (nI i).toNatClampNeg = i := nI_clamp (by omega)
  refine pk_le 18 st (fun z => absurd z (by omega)) (fun _ => br_f (nI_pos (by omega)) ?_)
  refine rt_cov i m l v hi hl (by omega) hb hv hm (fun _ => ?_) (fun z => absurd hc z)
  refine br_f (by decide) ⟨pk_in i 64 hi, ?_⟩
  refine br_f (by rw [e, hp]; exact nI_pos (by omega)) ?_
  exact rt_s_44 i m st l b c hi hl hl5 hm hbt hk H
theorem rt_s_fork {post : Int32 → Prop} {best : Int32} {n : Nat} (i m st l v b : Nat) (c : Int32) (hst : st < 18) (hi : i < 64) (hl : a3 i = nI l) (hl5 : l ≤ 15) (hb : a2 i = nI v) (hv : v < 65536) (hm : m < 65536) (hc : m / 2 ^ (16 - l) * 2 ^ (16 - l) = v) (hp : a4 i = -1) (hbt : m / 2 ^ (15 - l) % 2 = b) (hk : a5 (2 * i + b) = c)
    (H : wX_settling_10 post (nI m) h r f ab fu a1 a2 a3 a4 a5 a6 a7 a8 a9 n best c (nI (st + 1))) : wX_settling_10 post (nI m) h r f ab fu a1 a2 a3 a4 a5 a6 a7 a8 a9 (n + 1) best (nI i) (nI st) := by
  have e : (nI i).toNatClampNeg = i := nI_clamp (by omega)
  refine pk_le 18 st (fun z => absurd z (by omega)) (fun _ => br_f (nI_pos (by omega)) ?_)
  refine rt_cov i m l v hi hl (by omega) hb hv hm (fun _ => ?_) (fun z => absurd hc z)
  refine br_f (by decide) ⟨pk_in i 64 hi, ?_⟩
  refine br_t (by rw [e, hp]; exact rt_m1) ?_
  exact rt_s_44 i m st l b c hi hl hl5 hm hbt hk H
theorem rt_settling {post : Int32 → Prop} {x : Int32} (n : Nat) (H : wX_settling_10 post x h r f ab fu a1 a2 a3 a4 a5 a6 a7 a8 a9 n (-1) r 0) : wpX_settling post (h, r, f, ab, fu, a1, a2, a3, a4, a5, a6, a7, a8, a9) x := by
  unfold wpX_settling
  exact ⟨n, H⟩
theorem rt_own {post : Int32 → Prop} (m : Nat) (hm : m < 65536) (H : ∀ Q : Int32 → Prop, (∀ (i : Nat) (v : Int32), i < 64 → a4 i = v → post v → Q (nI i)) → (post (-1) → Q (-1)) → wpX_settling Q (h, r, f, ab, fu, a1, a2, a3, a4, a5, a6, a7, a8, a9) (nI m)) : wpX_owner post (h, r, f, ab, fu, a1, a2, a3, a4, a5, a6, a7, a8, a9) (nI m) := by
  unfold wpX_owner
  dsimp only
  rw [rt_m16 hm]
  refine H _ (fun i v hi hv hp => br_t (nI_pos' (by omega)) ⟨pk_in i 64 hi, ?_⟩) (fun hp => br_f rt_m1' hp)
  rw [nI_clamp (by omega), hv]
  exact hp
theorem rt_len {post : Int32 → Prop} (m : Nat) (hm : m < 65536) (H : ∀ Q : Int32 → Prop, (∀ (i : Nat) (v : Int32), i < 64 → a3 i = v → post v → Q (nI i)) → (post (-1) → Q (-1)) → wpX_settling Q (h, r, f, ab, fu, a1, a2, a3, a4, a5, a6, a7, a8, a9) (nI m)) : wpX_length post (h, r, f, ab, fu, a1, a2, a3, a4, a5, a6, a7, a8, a9) (nI m) := by
  unfold wpX_length
  dsimp only
  rw [rt_m16 hm]
  refine H _ (fun i v hi hv hp => br_t (nI_pos' (by omega)) ⟨pk_in i 64 hi, ?_⟩) (fun hp => br_f rt_m1' hp)
  rw [nI_clamp (by omega), hv]
  exact hp
end
end
section
/-! the picture: four nodes, their bits and lengths; places from 4 on are free -/
def rt_N (B : Nat) (a2 a3 : Nat → Int32) : Prop := a2 0 = nI B ∧ a2 1 = nI B ∧ a2 2 = nI (B + 128) ∧ a2 3 = nI (B + 64) ∧ a3 0 = nI 8 ∧ a3 1 = nI 9 ∧ a3 2 = nI 9 ∧ a3 3 = nI 10
def rt_Z (a1 : Nat → Int32) : Prop := ∀ k, 4 ≤ k → k < 64 → a1 k = 0
/-- node 0 on top, node 2 at its right, x at its left -/
def rt_D (c : Nat) (p0 x r : Int32) (a1 a4 a5 : Nat → Int32) : Prop := r = nI 0 ∧ a1 0 = 1 ∧ a4 0 = p0 ∧ a5 0 = x ∧ a5 1 = nI 2 ∧ a1 2 = 1 ∧ a4 2 = nI c ∧ a5 4 = -1 ∧ a5 5 = -1
/-- what hangs at the left: nothing; node 1 alone; node 3 alone; node 1 with node 3 at its right -/
def rt_L0 (x : Int32) (a1 : Nat → Int32) : Prop := x = -1 ∧ a1 1 = 0 ∧ a1 3 = 0
def rt_L1 (b : Nat) (x : Int32) (a1 a4 a5 : Nat → Int32) : Prop := x = nI 1 ∧ a5 2 = -1 ∧ a5 3 = -1 ∧ a1 1 = 1 ∧ a4 1 = nI b ∧ a1 3 = 0
def rt_L2 (d : Nat) (x : Int32) (a1 a4 a5 : Nat → Int32) : Prop := x = nI 3 ∧ a5 6 = -1 ∧ a5 7 = -1 ∧ a1 3 = 1 ∧ a4 3 = nI d ∧ a1 1 = 0
def rt_L3 (b d : Nat) (x : Int32) (a1 a4 a5 : Nat → Int32) : Prop := x = nI 1 ∧ a5 2 = -1 ∧ a5 3 = nI 3 ∧ a5 6 = -1 ∧ a5 7 = -1 ∧ a1 1 = 1 ∧ a4 1 = nI b ∧ a1 3 = 1 ∧ a4 3 = nI d
section
variable {h r f ab fu : Int32} {a1 a2 a3 a4 a5 a6 a7 a8 a9 : Nat → Int32}
theorem rt_init {post : St2 → Prop} (H : ∀ s : Nat → Int32, s 0 = nI 1 → s 2 = nI 2 → s 4 = nI 3 → post (h, -1, f, ab, fu, (fun _ => 0), (fun _ => 0), (fun _ => 0), (fun _ => 0), s, (fun _ => 0), (fun _ => 0), (fun _ => 0), (fun _ => 0))) : wpX_init post 9 585 (h, r, f, ab, fu) := by
  unfold wpX_init
  refine ⟨by decide, by decide, by decide, by decide, by decide, by decide, by decide, by decide, by decide, by decide, by decide, by decide, by decide, by decide, by decide, by decide, by decide, by decide, ?_⟩
  refine pk_loop (fun n i s => wX_init_79 post 9 585 9 585 h r f ab fu n (nI i) (fun _ => 0) (fun _ => 0) (fun _ => 0) (fun _ => 0) s (fun _ => 0) (fun _ => 0) (fun _ => 0) (fun _ => 0)) (fun i s => ∀ j, j < i → j < 3 → s (2 * j) = nI (j + 1)) 64 0 (fun _ => 0) (by omega) (fun j hj => absurd hj (by omega)) ?_ ?_
  · intro n s hI
    exact pk_le 64 64 (fun _ => H s (hI 0 (by omega) (by omega)) (hI 1 (by omega) (by omega)) (hI 2 (by omega) (by omega))) (fun z => absurd z (by omega))
  · intro n i s hi hI hw
    refine pk_le 64 i (fun z => absurd z (by omega)) (fun _ => pk_eq i 63 (fun e => ⟨pk_in (2 * i) 128 (by omega) (rt_i2 i), nm_r (e' := upd s (2 * i) (-1)) (by rw [rt_c2 (by omega)]) (nm_r (nI_1 i) (hw _ ?_))⟩) (fun e => ⟨pk_in (2 * i) 128 (by omega) (rt_i2 i), nm_r (e' := upd s (2 * i) (nI (i + 1))) (by rw [rt_c2 (by omega), nI_1]) (nm_r (nI_1 i) (hw _ ?_))⟩))
    · intro j hj h3
      rw [pk_un (by omega)]
      exact hI j (by omega) h3
    · intro j hj h3
      by_cases ej : j = i
      · subst ej
        exact pk_us
      · rw [pk_un (by omega)]
        exact hI j (by omega) h3
theorem rt_new {post : Int32 → St2 → Prop} {p l q : Int32} (n : Nat) (g : Int32) (hn : n < 64) (hg : a5 (2 * n) = g) (H : post (nI n) (h, r, g, ab, fu, upd a1 n 1, upd a2 n p, upd a3 n l, upd a4 n q, upd (upd a5 (2 * n) (-1)) (2 * n + 1) (-1), a6, a7, a8, a9)) : wpX_newNode post (h, r, nI n, ab, fu, a1, a2, a3, a4, a5, a6, a7, a8, a9) p l q := by
  unfold wpX_newNode
  have e : (nI n).toNatClampNeg = n := nI_clamp (by omega)
  exact ⟨pk_in (2 * n) 128 (by omega) (rt_i2 n), nm_r (e' := g) (by rw [rt_c2 (by omega), hg]) ⟨pk_in n 64 hn, nm_r (e' := upd a1 n 1) (by rw [e]) ⟨pk_in n 64 hn, nm_r (e' := upd a2 n p) (by rw [e]) ⟨pk_in n 64 hn, nm_r (e' := upd a3 n l) (by rw [e]) ⟨pk_in n 64 hn, nm_r (e' := upd a4 n q) (by rw [e]) ⟨pk_in (2 * n) 128 (by omega) (rt_i2 n), nm_r (e' := upd a5 (2 * n) (-1)) (by rw [rt_c2 (by omega)]) ⟨pk_in (2 * n + 1) 128 (by omega) (rt_ix n 1), nm_r (e' := upd (upd a5 (2 * n) (-1)) (2 * n + 1) (-1)) (by rw [rt_c1 (by omega)]) H⟩⟩⟩⟩⟩⟩⟩
theorem rt_lead {post : St2 → Prop} {x : Int32} (w m l b : Nat) (hw : w < 64) (hl : a3 w = nI l) (hl5 : l ≤ 15) (hm : m < 65536) (hbt : m / 2 ^ (15 - l) % 2 = b) (H : post (h, r, f, ab, fu, a1, a2, a3, a4, upd a5 (2 * w + b) x, a6, a7, a8, a9)) : wpX_lead post (h, r, f, ab, fu, a1, a2, a3, a4, a5, a6, a7, a8, a9) (nI w) (nI m) x := by
  unfold wpX_lead
  have e : (nI w).toNatClampNeg = w := nI_clamp (by omega)
  have hb2 : b < 2 := by rw [← hbt]; exact Nat.mod_lt _ (by decide)
  refine br_t (nI_pos' (by omega)) ⟨pk_in w 64 hw, ?_⟩
  refine rt_bit m l b rfl (by rw [e]; exact hl) hm hl5 hbt ⟨pk_in (2 * w + b) 128 (by omega) (rt_ix w b), ?_⟩
  exact nm_r (e' := upd a5 (2 * w + b) x) (by rw [rt_cx (by omega)]) H
theorem rt_lead0 {post : St2 → Prop} {x y : Int32} (H : post (h, x, f, ab, fu, a1, a2, a3, a4, a5, a6, a7, a8, a9)) : wpX_lead post (h, r, f, ab, fu, a1, a2, a3, a4, a5, a6, a7, a8, a9) (-1) y x := by
  unfold wpX_lead
  exact br_f rt_m1' H
theorem rt_ins39 {post : St2 → Prop} {p l q w : Int32} (n : Nat) (g : Int32) (hn : n < 64) (hg : a5 (2 * n) = g) (H : ∀ Q : St2 → Prop, (∀ {h' r' f' ab' fu' : Int32} {a1' a2' a3' a4' a5' a6' a7' a8' a9' : Nat → Int32}, post (h', r', f', ab', fu', a1', a2', a3', a4', a5', a6', a7', a8', a9') → Q (h', r', f', ab', fu', a1', a2', a3', a4', a5', a6', a7', a8', a9')) → wpX_lead Q (h, r, g, ab, fu, upd a1 n 1, upd a2 n p, upd a3 n l, upd a4 n q, upd (upd a5 (2 * n) (-1)) (2 * n + 1) (-1), a6, a7, a8, a9) w p (nI n)) : wX_insert_39 post p l q w (-1) h r (nI n) ab fu a1 a2 a3 a4 a5 a6 a7 a8 a9 := by
  unfold wX_insert_39
  refine rt_new n g hn hg ?_
  exact br_f rt_m1' (H _ (fun hp => hp))
/-- a leaf under the node w -/
theorem rt_ins {post : St2 → Prop} {l q : Int32} (w n m lw b : Nat) (g : Int32) (hw : w < 64) (hn : n < 64) (hwn : w ≠ n) (hl : a3 w = nI lw) (hl5 : lw ≤ 15) (hm : m < 65536) (hbt : m / 2 ^ (15 - lw) % 2 = b) (hk : a5 (2 * w + b) = -1) (hg : a5 (2 * n) = g)
    (H : post (h, r, g, nI w, fu, upd a1 n 1, upd a2 n (nI m), upd a3 n l, upd a4 n q, upd (upd (upd a5 (2 * n) (-1)) (2 * n + 1) (-1)) (2 * w + b) (nI n), a6, a7, a8, a9)) : wpX_insert post (h, r, nI n, nI w, fu, a1, a2, a3, a4, a5, a6, a7, a8, a9) (nI m) l q := by
  unfold wpX_insert
  have e : (nI w).toNatClampNeg = w := nI_clamp (by omega)
  have hb2 : b < 2 := by rw [← hbt]; exact Nat.mod_lt _ (by decide)
  refine br_t (nI_pos' (by omega)) ⟨pk_in w 64 hw, ?_⟩
  refine rt_bit m lw b rfl (by rw [e]; exact hl) hm hl5 hbt ⟨pk_in (2 * w + b) 128 (by omega) (rt_ix w b), ?_⟩
  rw [rt_cx (by omega), hk]
  refine rt_ins39 n g hn hg (fun Q hQ => ?_)
  exact rt_lead w m lw b hw (by rw [pk_un hwn]; exact hl) hl5 hm hbt (hQ H)
theorem rt_ins0 {post : St2 → Prop} {p l q : Int32} (n : Nat) (g : Int32) (hn : n < 64) (hg : a5 (2 * n) = g)
    (H : post (h, nI n, g, -1, fu, upd a1 n 1, upd a2 n p, upd a3 n l, upd a4 n q, upd (upd a5 (2 * n) (-1)) (2 * n + 1) (-1), a6, a7, a8, a9)) : wpX_insert post (h, -1, nI n, -1, fu, a1, a2, a3, a4, a5, a6, a7, a8, a9) p l q := by
  unfold wpX_insert
  refine br_f rt_m1' ?_
  refine rt_ins39 n g hn hg (fun Q hQ => ?_)
  exact rt_lead0 (hQ H)
theorem rt_allow {post : Int32 → St2 → Prop} {x y z : Int32} (hh m l q v : Nat) (hx : x = nI m) (hy : y = nI l) (hz : z = nI q) (hh32 : hh < 32) (hm : m < 65536) (hl : l ≤ 16) (hq : q < 8) (hv : m / 2 ^ (16 - l) * 2 ^ (16 - l) = v)
    (H : ∀ Q : Int32 → St2 → Prop, (∀ {h' r' f' ab' fu' : Int32} {a1' a2' a3' a4' a5' a6' a7' a8' a9' : Nat → Int32}, (∀ T : St2 → Prop, (∀ {h'' r'' f'' ab'' fu'' : Int32} {a1'' a2'' a3'' a4'' a5'' a6'' a7'' a8'' a9'' : Nat → Int32}, post h'' (h'', r'', f'', ab'', fu'', a1'', a2'', a3'', a4'', a5'', a6'', a7'', a8'', a9'') → T (h'', r'', f'', ab'', fu'', a1'', a2'', a3'', a4'', a5'', a6'', a7'', a8'', a9'')) → wpX_insert T (nI (hh + 1), r', f', ab', fu', a1', a2', a3', a4', a5', a6', a7', a8', a9') (nI v) (nI l) (nI q)) → Q (-1) (nI hh, r', f', ab', fu', a1', a2', a3', a4', a5', a6', a7', a8', a9')) → wpX_find Q (nI hh, r, f, ab, fu, a1, a2, a3, a4, a5, a6, a7, a8, a9) (nI v) (nI l)) : wpX_allow post (nI hh, r, f, ab, fu, a1, a2, a3, a4, a5, a6, a7, a8, a9) x y z := by
  subst hx hy hz
  unfold wpX_allow
  refine br_f (nI_pos (by omega)) (pk_lt 16 l (fun z => absurd z (by omega)) (fun _ => br_f (nI_pos (by omega)) (pk_le q 7 (fun _ => ?_) (fun z => absurd z (by omega)))))
  refine rt_cut m l v (rt_m16 hm) rfl hm hl hv ?_
  refine H _ (fun hT => ?_)
  refine br_t rt_m1 ?_
  unfold wX_allow_69
  refine pk_lt hh 32 (fun _ => nm_r (nI_1 hh) (br_t rt_m1 ?_)) (fun z => absurd z (by omega))
  exact hT _ (fun hp => hp)
end
end
section
section
variable {h r f ab fu : Int32} {a1 a2 a3 a4 a5 a6 a7 a8 a9 : Nat → Int32}
theorem rt_rel {post : St2 → Prop} (i : Nat) (hi : i < 64) (H : post (h, r, nI i, ab, fu, upd a1 i 0, a2, a3, a4, upd a5 (2 * i) f, a6, a7, a8, a9)) : wpX_release post (h, r, f, ab, fu, a1, a2, a3, a4, a5, a6, a7, a8, a9) (nI i) := by
  unfold wpX_release
  exact ⟨pk_in i 64 hi, nm_r (e' := upd a1 i 0) (by rw [nI_clamp (by omega)]) ⟨pk_in (2 * i) 128 (by omega) (rt_i2 i), nm_r (e' := upd a5 (2 * i) f) (by rw [rt_c2 (by omega)]) H⟩⟩
/-- two children: the node stays as a fork -/
theorem rt_tk2 {post : St2 → Prop} (i c1 c2 : Nat) (hi : i < 64) (h1 : a5 (2 * i) = nI c1) (h2 : a5 (2 * i + 1) = nI c2) (hc1 : c1 < 64) (hc2 : c2 < 64) (H : post (h - 1, r, f, ab, fu, a1, a2, a3, upd a4 i (-1), a5, a6, a7, a8, a9)) : wpX_takeOut post (h, r, f, ab, fu, a1, a2, a3, a4, a5, a6, a7, a8, a9) (nI i) := by
  unfold wpX_takeOut
  exact nm_e ⟨pk_in i 64 hi, nm_r (e' := upd a4 i (-1)) (by rw [nI_clamp (by omega)]) ⟨pk_in (2 * i) 128 (by omega) (rt_i2 i), nm_r (e' := nI c1) (by rw [rt_c2 (by omega), h1]) ⟨pk_in (2 * i + 1) 128 (by omega) (rt_ix i 1), nm_r (e' := nI c2) (by rw [rt_c1 (by omega), h2]) (br_f (nI_pos (by omega)) (br_f (nI_pos (by omega)) H))⟩⟩⟩
/-- no left child -/
theorem rt_tk46 {post : St2 → Prop} (i : Nat) (c : Int32) (hi : i < 64) (h1 : a5 (2 * i) = -1) (h2 : a5 (2 * i + 1) = c) (H : wX_takeOut_55 post (nI i) c (h - 1) r f ab fu a1 a2 a3 (upd a4 i (-1)) a5 a6 a7 a8 a9) : wpX_takeOut post (h, r, f, ab, fu, a1, a2, a3, a4, a5, a6, a7, a8, a9) (nI i) := by
  unfold wpX_takeOut
  refine nm_e ⟨pk_in i 64 hi, nm_r (e' := upd a4 i (-1)) (by rw [nI_clamp (by omega)]) ⟨pk_in (2 * i) 128 (by omega) (rt_i2 i), nm_r (e' := -1) (by rw [rt_c2 (by omega), h1]) ⟨pk_in (2 * i + 1) 128 (by omega) (rt_ix i 1), nm_r (e' := c) (by rw [rt_c1 (by omega), h2]) (br_t rt_m1 ?_)⟩⟩⟩
  unfold wX_takeOut_46
  exact br_t rt_m1 H
/-- a right child alone, a node above: the child goes up -/
theorem rt_tk_one {post : St2 → Prop} (i c w m l b : Nat) (hi : i < 64) (hc : c < 64) (hw : w < 64) (h1 : a5 (2 * i) = -1) (h2 : a5 (2 * i + 1) = nI c) (hb : a2 i = nI m) (hm : m < 65536) (hl : a3 w = nI l) (hl5 : l ≤ 15) (hbt : m / 2 ^ (15 - l) % 2 = b)
    (H : post (h - 1, r, nI i, nI w, fu, upd a1 i 0, a2, a3, upd a4 i (-1), upd (upd a5 (2 * w + b) (nI c)) (2 * i) f, a6, a7, a8, a9)) : wpX_takeOut post (h, r, f, nI w, fu, a1, a2, a3, a4, a5, a6, a7, a8, a9) (nI i) := by
  refine rt_tk46 i (nI c) hi h1 h2 ?_
  unfold wX_takeOut_55
  refine ⟨pk_in i 64 hi, ?_⟩
  rw [nI_clamp (show i < 2 ^ 31 by omega), hb]
  refine rt_lead w m l b hw hl hl5 hm hbt ?_
  refine rt_rel i hi ?_
  exact br_t (nI_pos' (by omega)) H
/-- a leaf under a held node -/
theorem rt_tk_leaf {post : St2 → Prop} (i w m l b p : Nat) (hi : i < 64) (hw : w < 64) (hwi : w ≠ i) (h1 : a5 (2 * i) = -1) (h2 : a5 (2 * i + 1) = -1) (hb : a2 i = nI m) (hm : m < 65536) (hl : a3 w = nI l) (hl5 : l ≤ 15) (hbt : m / 2 ^ (15 - l) % 2 = b) (hp : a4 w = nI p) (hp8 : p < 8)
    (H : post (h - 1, r, nI i, nI w, fu, upd a1 i 0, a2, a3, upd a4 i (-1), upd (upd a5 (2 * w + b) (-1)) (2 * i) f, a6, a7, a8, a9)) : wpX_takeOut post (h, r, f, nI w, fu, a1, a2, a3, a4, a5, a6, a7, a8, a9) (nI i) := by
  refine rt_tk46 i (-1) hi h1 h2 ?_
  unfold wX_takeOut_55
  refine ⟨pk_in i 64 hi, ?_⟩
  rw [nI_clamp (show i < 2 ^ 31 by omega), hb]
  refine rt_lead w m l b hw hl hl5 hm hbt ?_
  refine rt_rel i hi ?_
  exact br_f rt_m1' (br_f (nI_pos (by omega)) ⟨pk_in w 64 hw, br_t (by rw [nI_clamp (show w < 2 ^ 31 by omega), pk_un hwi, hp]; exact nI_pos' (by omega)) H⟩)
/-- a leaf that is the root -/
theorem rt_tk_root {post : St2 → Prop} (i : Nat) (hi : i < 64) (h1 : a5 (2 * i) = -1) (h2 : a5 (2 * i + 1) = -1)
    (H : post (h - 1, -1, nI i, -1, fu, upd a1 i 0, a2, a3, upd a4 i (-1), upd a5 (2 * i) f, a6, a7, a8, a9)) : wpX_takeOut post (h, r, f, -1, fu, a1, a2, a3, a4, a5, a6, a7, a8, a9) (nI i) := by
  refine rt_tk46 i (-1) hi h1 h2 ?_
  unfold wX_takeOut_55
  refine ⟨pk_in i 64 hi, ?_⟩
  refine rt_lead0 ?_
  refine rt_rel i hi ?_
  exact br_f rt_m1' (br_t rt_m1 H)
/-- a leaf under a fork that is the root: the fork's other child is the root then -/
theorem rt_tk_fork {post : St2 → Prop} (i w m l b o : Nat) (hi : i < 64) (hw : w < 64) (ho : o < 64) (hwi : w ≠ i) (h1 : a5 (2 * i) = -1) (h2 : a5 (2 * i + 1) = -1) (hb : a2 i = nI m) (hm : m < 65536) (hl : a3 w = nI l) (hl5 : l ≤ 15) (hbt : m / 2 ^ (15 - l) % 2 = b) (hp : a4 w = -1)
    (hoo : upd (upd a5 (2 * w + b) (-1)) (2 * i) f (2 * w) = nI o ∨ (upd (upd a5 (2 * w + b) (-1)) (2 * i) f (2 * w) = -1 ∧ upd (upd a5 (2 * w + b) (-1)) (2 * i) f (2 * w + 1) = nI o))
    (H : post (h - 1, nI o, nI w, nI w, -1, upd (upd a1 i 0) w 0, a2, a3, upd a4 i (-1), upd (upd (upd a5 (2 * w + b) (-1)) (2 * i) f) (2 * w) (nI i), a6, a7, a8, a9)) : wpX_takeOut post (h, r, f, nI w, -1, a1, a2, a3, a4, a5, a6, a7, a8, a9) (nI i) := by
  refine rt_tk46 i (-1) hi h1 h2 ?_
  unfold wX_takeOut_55
  refine ⟨pk_in i 64 hi, ?_⟩
  rw [nI_clamp (show i < 2 ^ 31 by omega), hb]
  refine rt_lead w m l b hw hl hl5 hm hbt ?_
  refine rt_rel i hi ?_
  refine br_f rt_m1' (br_f (nI_pos (by omega)) ⟨pk_in w 64 hw, br_f (by rw [nI_clamp (show w < 2 ^ 31 by omega), pk_un hwi, hp]; exact rt_m1') ⟨pk_in (2 * w) 128 (by omega) (rt_i2 w), ?_⟩⟩)
  rcases hoo with ho1 | ⟨ho1, ho2⟩
  · refine nm_r (e' := nI o) (by rw [rt_c2 (by omega), ho1]) (br_f (nI_pos (by omega)) ?_)
    unfold wX_takeOut_138
    exact ⟨pk_in w 64 hw, rt_lead0 (rt_rel w hw H)⟩
  · refine nm_r (e' := -1) (by rw [rt_c2 (by omega), ho1]) (br_t rt_m1 ⟨pk_in (2 * w + 1) 128 (by omega) (rt_ix w 1), ?_⟩)
    rw [rt_c1 (by omega), ho2]
    unfold wX_takeOut_138
    exact ⟨pk_in w 64 hw, rt_lead0 (rt_rel w hw H)⟩
theorem rt_deny {post : Int32 → St2 → Prop} {x y : Int32} (m l v : Nat) (hx : x = nI m) (hy : y = nI l) (hm : m < 65536) (hl : l ≤ 16) (hv : m / 2 ^ (16 - l) * 2 ^ (16 - l) = v)
    (H : ∀ Q : Int32 → St2 → Prop, (∀ {h' r' f' ab' fu' : Int32} {a1' a2' a3' a4' a5' a6' a7' a8' a9' : Nat → Int32}, post (-1) (h', r', f', ab', fu', a1', a2', a3', a4', a5', a6', a7', a8', a9') → Q (-1) (h', r', f', ab', fu', a1', a2', a3', a4', a5', a6', a7', a8', a9')) → (∀ {h' r' f' ab' fu' : Int32} {a1' a2' a3' a4' a5' a6' a7' a8' a9' : Nat → Int32} (i : Nat), i < 64 → a4' i = -1 → post (-1) (h', r', f', ab', fu', a1', a2', a3', a4', a5', a6', a7', a8', a9') → Q (nI i) (h', r', f', ab', fu', a1', a2', a3', a4', a5', a6', a7', a8', a9')) → (∀ {h' r' f' ab' fu' : Int32} {a1' a2' a3' a4' a5' a6' a7' a8' a9' : Nat → Int32} (i p : Nat), i < 64 → p < 8 → a4' i = nI p → (∀ T : St2 → Prop, (∀ {h'' r'' f'' ab'' fu'' : Int32} {a1'' a2'' a3'' a4'' a5'' a6'' a7'' a8'' a9'' : Nat → Int32}, post h'' (h'', r'', f'', ab'', fu'', a1'', a2'', a3'', a4'', a5'', a6'', a7'', a8'', a9'') → T (h'', r'', f'', ab'', fu'', a1'', a2'', a3'', a4'', a5'', a6'', a7'', a8'', a9'')) → wpX_takeOut T (h', r', f', ab', fu', a1', a2', a3', a4', a5', a6', a7', a8', a9') (nI i)) → Q (nI i) (h', r', f', ab', fu', a1', a2', a3', a4', a5', a6', a7', a8', a9')) → wpX_find Q (h, r, f, ab, fu, a1, a2, a3, a4, a5, a6, a7, a8, a9) (nI v) (nI l)) : wpX_deny post (h, r, f, ab, fu, a1, a2, a3, a4, a5, a6, a7, a8, a9) x y := by
  subst hx hy
  unfold wpX_deny
  refine br_f (nI_pos (by omega)) (pk_le l 16 (fun _ => ?_) (fun z => absurd z (by omega)))
  refine rt_cut m l v (rt_m16 hm) rfl hm hl hv ?_
  exact H _ (fun hp => br_t rt_m1 hp) (fun i hi h4 hp => br_f (nI_pos (by omega)) ⟨pk_in i 64 hi, br_f (by rw [nI_clamp (show i < 2 ^ 31 by omega), h4]; exact rt_m1') hp⟩) (fun i p hi hp8 h4 hT => br_f (nI_pos (by omega)) ⟨pk_in i 64 hi, br_t (by rw [nI_clamp (show i < 2 ^ 31 by omega), h4]; exact nI_pos' (by omega)) (hT _ (fun hp => hp))⟩)
/-! forget: its steps -/
theorem rt_g_un {post : Int32 → St2 → Prop} {x cn : Int32} {n : Nat} (k : Nat) (hk : k < 64) (hu : a1 k = 0) (H : wX_forget_16 post x n cn (nI (k + 1)) h r f ab fu a1 a2 a3 a4 a5 a6 a7 a8 a9) : wX_forget_16 post x (n + 1) cn (nI k) h r f ab fu a1 a2 a3 a4 a5 a6 a7 a8 a9 := by
  refine pk_le 64 k (fun z => absurd z (by omega)) (fun _ => ⟨pk_in k 64 hk, ?_⟩)
  exact br_t (by rw [nI_clamp (by omega), hu]) (nm_r (nI_1 k) H)
theorem rt_g_ne {post : Int32 → St2 → Prop} {x cn : Int32} {n : Nat} (k : Nat) (hk : k < 64) (hu : a1 k = 1) (h4 : ¬ a4 k = x) (H : wX_forget_16 post x n cn (nI (k + 1)) h r f ab fu a1 a2 a3 a4 a5 a6 a7 a8 a9) : wX_forget_16 post x (n + 1) cn (nI k) h r f ab fu a1 a2 a3 a4 a5 a6 a7 a8 a9 := by
  refine pk_le 64 k (fun z => absurd z (by omega)) (fun _ => ⟨pk_in k 64 hk, ?_⟩)
  exact br_f (by rw [nI_clamp (by omega), hu]; decide) ⟨pk_in k 64 hk, br_f (by rw [nI_clamp (by omega)]; exact h4) (nm_r (nI_1 k) H)⟩
theorem rt_g_tk {post : Int32 → St2 → Prop} {n : Nat} (k cnt c : Nat) (p q : Int32) (hk : k < 64) (hu : a1 k = 1) (h4 : a4 k = nI c) (hp : a2 k = p) (hq : a3 k = q)
    (H : ∀ (Q : Int32 → St2 → Prop) (T : St2 → Prop), (∀ {h' r' f' ab' fu' : Int32} {a1' a2' a3' a4' a5' a6' a7' a8' a9' : Nat → Int32} (i : Int32), wpX_takeOut T (h', r', f', ab', fu', a1', a2', a3', a4', a5', a6', a7', a8', a9') i → Q i (h', r', f', ab', fu', a1', a2', a3', a4', a5', a6', a7', a8', a9')) → (∀ {h' r' f' ab' fu' : Int32} {a1' a2' a3' a4' a5' a6' a7' a8' a9' : Nat → Int32}, wX_forget_16 post (nI c) n (nI (cnt + 1)) (nI (k + 1)) h' r' f' ab' fu' a1' a2' a3' a4' a5' a6' a7' a8' a9' → T (h', r', f', ab', fu', a1', a2', a3', a4', a5', a6', a7', a8', a9')) → wpX_find Q (h, r, f, ab, fu, a1, a2, a3, a4, a5, a6, a7, a8, a9) p q) : wX_forget_16 post (nI c) (n + 1) (nI cnt) (nI k) h r f ab fu a1 a2 a3 a4 a5 a6 a7 a8 a9 := by
  have e : (nI k).toNatClampNeg = k := nI_clamp (by omega)
  refine pk_le 64 k (fun z => absurd z (by omega)) (fun _ => ⟨pk_in k 64 hk, ?_⟩)
  rw [e, hu, h4, hp, hq]
  refine br_f (by decide) ⟨pk_in k 64 hk, br_t rfl ⟨pk_in k 64 hk, pk_in k 64 hk, ?_⟩⟩
  exact H _ _ (fun i ht => ht) (fun hw => nm_r (nI_1 cnt) (nm_r (nI_1 k) hw))
theorem rt_g_tail {post : Int32 → St2 → Prop} {x cn : Int32} (hZ : rt_Z a1) (H : post cn (h, r, f, ab, fu, a1, a2, a3, a4, a5, a6, a7, a8, a9)) : ∀ n k, 4 ≤ k → k ≤ 64 → 64 - k < n → wX_forget_16 post x n cn (nI k) h r f ab fu a1 a2 a3 a4 a5 a6 a7 a8 a9 := by
  intro n
  induction n with
  | zero => intro k _ _ hn; exact absurd hn (by omega)
  | succ n ih =>
    intro k h4 h64 hn
    exact pk_le 64 k (fun _ => H) (fun z => ⟨pk_in k 64 z, br_t (by rw [nI_clamp (by omega)]; exact hZ k h4 z) (nm_r (nI_1 k) (ih (k + 1) (by omega) (by omega) (by omega)))⟩)
/-! entries -/
theorem rt_ent {post : Int32 → Prop} (c : Nat) (hc : c < 8) (hE : ∀ k, k < 64 → a1 k = 0 ∨ ¬ a4 k = nI c) (H : post 0) : wpX_entries post (h, r, f, ab, fu, a1, a2, a3, a4, a5, a6, a7, a8, a9) (nI c) := by
  unfold wpX_entries
  refine br_f (nI_pos (by omega)) (pk_le c 7 (fun _ => ?_) (fun z => absurd z (by omega)))
  refine pk_loop (σ := Unit) (fun n i _ => wX_entries_16 post (nI c) h r f ab fu a1 a2 a3 a4 a5 a6 a7 a8 a9 n 0 (nI i)) (fun _ _ => True) 64 0 () (by omega) trivial ?_ ?_
  · intro n s _
    exact pk_le 64 64 (fun _ => H) (fun z => absurd z (by omega))
  · intro n i s hi _ hw
    have e : (nI i).toNatClampNeg = i := nI_clamp (by omega)
    have w : wX_entries_16 post (nI c) h r f ab fu a1 a2 a3 a4 a5 a6 a7 a8 a9 n 0 (nI (i + 1)) := hw () trivial
    refine pk_le 64 i (fun z => absurd z (by omega)) (fun _ => ⟨pk_in i 64 hi, ?_⟩)
    rw [e]
    rcases hE i hi with h0 | h0
    · exact br_t h0 (nm_r (e' := 0) (by decide) (nm_r (nI_1 i) w))
    · exact br_c (fun _ => nm_r (e' := 0) (by decide) (nm_r (nI_1 i) w)) (fun _ => ⟨pk_in i 64 hi, br_f h0 (nm_r (e' := 0) (by decide) (nm_r (nI_1 i) w))⟩)
end
end
section
theorem rt_upd2 (g : Nat → Int32) (p q : Nat) (s : Int32) (x : Nat) : upd (upd g p (g p + s)) q (upd g p (g p + s) q - s) x = (g x + (if x = p then s else 0)) - (if x = q then s else 0) := by
  by_cases h1 : x = q
  · subst h1
    by_cases h2 : x = p
    · subst h2
      simp [upd]
    · simp [upd, h2]
  · by_cases h2 : x = p
    · subst h2
      simp [upd, h1]
    · simp [upd, h1, h2]
/-- what a visit does to the sums -/
def rt_step (s s' : Nat → Int32) (p q z : Nat) : Prop := ∀ x, x < 9 → s' x = (s x + (if x = p then nI z else 0)) - (if x = q then nI z else 0)
theorem rt_e8t {s s' : Nat → Int32} {p z : Nat} (h : rt_step s s' p 8 z) (hp : p < 8) : s' 8 = s 8 - nI z := by
  rw [h 8 (by omega), if_neg (show ¬ 8 = p by omega), if_pos rfl]
  simp
theorem rt_ex {s s' : Nat → Int32} {p q z : Nat} (h : rt_step s s' p q z) (x : Nat) (hx : x < 9) (hp : x ≠ p) (hq : x ≠ q) : s' x = s x := by
  rw [h x hx, if_neg hp, if_neg hq]
  simp
theorem rt_nm1 {p : Nat} (h : p < 2 ^ 31) : ¬ nI p < -1 := fun z => nI_pos h (Int32.lt_trans z rt_m1)
section
variable {h r f ab fu : Int32} {a1 a2 a3 a4 a5 a6 a7 a8 a9 : Nat → Int32}
theorem rt_v_end {post : Int32 → St2 → Prop} {x up dp : Int32} {n : Nat} (H : post dp (h, r, f, ab, fu, a1, a2, a3, a4, a5, a6, a7, a8, a9)) : wX_visit_99 post x up h r f ab fu (n + 1) dp (nI 2) a1 a2 a3 a4 a5 a6 a7 a8 a9 := pk_le 2 2 (fun _ => H) (fun z => absurd z (by omega))
theorem rt_v_skip {post : Int32 → St2 → Prop} {up dp : Int32} {n : Nat} (i b : Nat) (hi : i < 64) (hb : b < 2) (h1 : a5 (2 * i + b) = -1) (H : wX_visit_99 post (nI i) up h r f ab fu n dp (nI (b + 1)) a1 a2 a3 a4 a5 a6 a7 a8 a9) : wX_visit_99 post (nI i) up h r f ab fu (n + 1) dp (nI b) a1 a2 a3 a4 a5 a6 a7 a8 a9 :=
  pk_le 2 b (fun z => absurd z (by omega)) (fun _ => ⟨pk_in (2 * i + b) 128 (by omega) (rt_ix i b), nm_r (e' := -1) (by rw [rt_cx (by omega), h1]) (br_t rt_m1 (nm_r (nI_1 b) H))⟩)
theorem rt_v_push {post : Int32 → St2 → Prop} {up : Int32} {n : Nat} (i b c dp : Nat) (hi : i < 64) (hb : b < 2) (hc : c < 64) (hd : dp < 64) (h1 : a5 (2 * i + b) = nI c) (H : wX_visit_99 post (nI i) up h r f ab fu n (nI (dp + 1)) (nI (b + 1)) a1 a2 a3 a4 a5 a6 a7 (upd a8 c up) (upd a9 dp (nI c))) : wX_visit_99 post (nI i) up h r f ab fu (n + 1) (nI dp) (nI b) a1 a2 a3 a4 a5 a6 a7 a8 a9 :=
  pk_le 2 b (fun z => absurd z (by omega)) (fun _ => ⟨pk_in (2 * i + b) 128 (by omega) (rt_ix i b), nm_r (e' := nI c) (by rw [rt_cx (by omega), h1]) (br_f (nI_pos (by omega)) ⟨pk_in c 64 hc, nm_r (e' := upd a8 c up) (by rw [nI_clamp (by omega)]) ⟨pk_in dp 64 hd, nm_r (e' := upd a9 dp (nI c)) (by rw [nI_clamp (by omega)]) (nm_r (nI_1 dp) (nm_r (nI_1 b) H))⟩⟩)⟩)
/-- a fork is visited -/
theorem rt_vf {post : Int32 → St2 → Prop} (i dp : Nat) (up : Int32) (hi : i < 64) (h8 : a8 i = up) (h4 : a4 i = -1) (H : ∃ n, wX_visit_99 post (nI i) up h r f ab fu n (nI dp) (nI 0) a1 a2 a3 a4 a5 a6 a7 a8 a9) : wpX_visit post (h, r, f, ab, fu, a1, a2, a3, a4, a5, a6, a7, a8, a9) (nI i) (nI dp) := by
  unfold wpX_visit
  have e : (nI i).toNatClampNeg = i := nI_clamp (by omega)
  exact ⟨pk_in i 64 hi, nm_r (e' := up) (by rw [e, h8]) ⟨pk_in i 64 hi, br_t (by rw [e, h4]; exact rt_m1) H⟩⟩
/-- a held node with no held node above -/
theorem rt_vh {post : Int32 → St2 → Prop} (i dp p l s : Nat) (hi : i < 64) (hp : p < 8) (hl6 : l ≤ 16) (hs : 65536 / 2 ^ l = s) (h8 : a8 i = -1) (h4 : a4 i = nI p) (hl : a3 i = nI l)
    (H : ∀ a6' a7' : Nat → Int32, rt_step a6 a6' p 8 s → a7' i = nI s → (∀ j, j ≠ i → a7' j = a7 j) → ∃ n, wX_visit_99 post (nI i) (nI i) h r f ab fu n (nI dp) (nI 0) a1 a2 a3 a4 a5 a6' a7' a8 a9) : wpX_visit post (h, r, f, ab, fu, a1, a2, a3, a4, a5, a6, a7, a8, a9) (nI i) (nI dp) := by
  unfold wpX_visit
  have e : (nI i).toNatClampNeg = i := nI_clamp (by omega)
  refine ⟨pk_in i 64 hi, nm_r (e' := -1) (by rw [e, h8]) ⟨pk_in i 64 hi, ?_⟩⟩
  rw [e, h4, hl, rt_sz hl6, hs]
  refine br_f (nI_pos (by omega)) ⟨pk_in i 64 hi, nm_e ⟨pk_in i 64 hi, nm_e ⟨pk_in i 64 hi, pk_in p 9 (by omega), pk_in p 9 (by omega), nm_r (e' := upd a6 p (a6 p + nI s)) (by rw [nI_clamp (show p < 2 ^ 31 by omega)]) (br_f rt_m1' ?_)⟩⟩⟩
  unfold wX_visit_70
  exact ⟨pk_in 8 9 (by omega), pk_in 8 9 (by omega), nm_r (e' := upd (upd a6 p (a6 p + nI s)) 8 (upd a6 p (a6 p + nI s) 8 - nI s)) (by rw [show (8 : Int32).toNatClampNeg = 8 from rfl]) (br_t rt_m1 (H _ _ (fun x _ => rt_upd2 a6 p 8 (nI s) x) pk_us (fun j hj => pk_un hj)))⟩
/-- a held node under a held node w -/
theorem rt_vi {post : Int32 → St2 → Prop} (i dp p l s w q : Nat) (hi : i < 64) (hw : w < 64) (hwi : w ≠ i) (hp : p < 8) (hq : q < 8) (hl6 : l ≤ 16) (hs : 65536 / 2 ^ l = s) (h8 : a8 i = nI w) (h4 : a4 i = nI p) (hl : a3 i = nI l) (h4w : a4 w = nI q)
    (H : ∀ a6' a7' : Nat → Int32, rt_step a6 a6' p q s → a7' i = nI s → a7' w = a7 w - nI s → (∀ j, j ≠ i → j ≠ w → a7' j = a7 j) → ∃ n, wX_visit_99 post (nI i) (nI i) h r f ab fu n (nI dp) (nI 0) a1 a2 a3 a4 a5 a6' a7' a8 a9) : wpX_visit post (h, r, f, ab, fu, a1, a2, a3, a4, a5, a6, a7, a8, a9) (nI i) (nI dp) := by
  unfold wpX_visit
  have e : (nI i).toNatClampNeg = i := nI_clamp (by omega)
  have ew : (nI w).toNatClampNeg = w := nI_clamp (by omega)
  refine ⟨pk_in i 64 hi, nm_r (e' := nI w) (by rw [e, h8]) ⟨pk_in i 64 hi, ?_⟩⟩
  rw [e, h4, hl, rt_sz hl6, hs, ew, h4w]
  refine br_f (nI_pos (by omega)) ⟨pk_in i 64 hi, nm_e ⟨pk_in i 64 hi, nm_e ⟨pk_in i 64 hi, pk_in p 9 (by omega), pk_in p 9 (by omega), nm_r (e' := upd a6 p (a6 p + nI s)) (by rw [nI_clamp (show p < 2 ^ 31 by omega)]) (br_t (nI_pos' (by omega)) ⟨pk_in w 64 hw, ?_⟩)⟩⟩⟩
  unfold wX_visit_70
  refine ⟨pk_in q 9 (by omega), pk_in q 9 (by omega), nm_r (e' := upd (upd a6 p (a6 p + nI s)) q (upd a6 p (a6 p + nI s) q - nI s)) (by rw [nI_clamp (show q < 2 ^ 31 by omega)]) (br_f (nI_pos (by omega)) ⟨pk_in w 64 hw, pk_in w 64 hw, nm_r (e' := upd (upd a7 i (nI s)) w (upd a7 i (nI s) w - nI s)) (by rw [ew]) (H _ _ (fun x _ => rt_upd2 a6 p q (nI s) x) ?_ ?_ ?_)⟩)⟩
  · rw [pk_un (fun z => hwi z.symm), pk_us]
  · rw [pk_us, pk_un hwi]
  · intro j h1 h2
    rw [pk_un h2, pk_un h1]
theorem rt_w_end {post : St2 → Prop} {n : Nat} (st : Nat) (hst : st < 64) (H : post (h, r, f, ab, fu, a1, a2, a3, a4, a5, a6, a7, a8, a9)) : wX_settleAll_63 post (n + 1) (nI 0) (nI st) h r f ab fu a1 a2 a3 a4 a5 a6 a7 a8 a9 := pk_le 64 st (fun z => absurd z (by omega)) (fun _ => br_t (by decide) H)
theorem rt_w_step {post : St2 → Prop} {n : Nat} (dp st i : Nat) (hst : st < 64) (hd : dp < 64) (h9 : a9 dp = nI i) (H : ∀ Q : Int32 → St2 → Prop, (∀ {h' r' f' ab' fu' : Int32} {a1' a2' a3' a4' a5' a6' a7' a8' a9' : Nat → Int32} (x : Int32), wX_settleAll_63 post n x (nI (st + 1)) h' r' f' ab' fu' a1' a2' a3' a4' a5' a6' a7' a8' a9' → Q x (h', r', f', ab', fu', a1', a2', a3', a4', a5', a6', a7', a8', a9')) → wpX_visit Q (h, r, f, ab, fu, a1, a2, a3, a4, a5, a6, a7, a8, a9) (nI i) (nI dp)) : wX_settleAll_63 post (n + 1) (nI (dp + 1)) (nI st) h r f ab fu a1 a2 a3 a4 a5 a6 a7 a8 a9 := by
  refine pk_le 64 st (fun z => absurd z (by omega)) (fun _ => br_f (nI_nle (by omega) (by omega)) ?_)
  rw [nI_pred]
  refine ⟨pk_in dp 64 hd, nm_r (e' := nI i) (by rw [nI_clamp (by omega), h9]) ?_⟩
  exact H _ (fun x hw => nm_r (nI_1 st) hw)
def rt_zero (s : Nat → Int32) : Prop := ∀ x, x < 9 → s x = if x = 8 then 65536 else 0
theorem rt_zero_of {s : Nat → Int32} (hI : ∀ x, x < 9 → s x = 0) : rt_zero (upd s 8 65536) := by
  intro x hx
  by_cases e : x = 8
  · subst e
    rw [pk_us, if_pos rfl]
  · rw [pk_un e, if_neg e]
    exact hI x hx
theorem rt_settle {post : St2 → Prop} (i : Nat) (hi : i < 64) (H : ∀ a6' : Nat → Int32, rt_zero a6' → ∃ n, wX_settleAll_63 post n (nI (0 + 1)) (nI 0) h (nI i) f ab fu a1 a2 a3 a4 a5 a6' a7 (upd a8 i (-1)) (upd a9 0 (nI i))) : wpX_settleAll post (h, nI i, f, ab, fu, a1, a2, a3, a4, a5, a6, a7, a8, a9) := by
  unfold wpX_settleAll
  refine pk_loop (fun n k s => wX_settleAll_2 post h (nI i) f ab fu n (nI k) a1 a2 a3 a4 a5 s a7 a8 a9) (fun k s => ∀ x, x < k → s x = 0) 9 0 a6 (by omega) (fun j hj => absurd hj (by omega)) ?_ ?_
  · intro n s hI
    exact pk_le 9 9 (fun _ => nm_e (br_f (nI_pos (by omega)) (nm_e ⟨pk_in i 64 hi, nm_r (e' := upd a8 i (-1)) (by rw [nI_clamp (by omega)]) (H _ (rt_zero_of hI))⟩))) (fun z => absurd z (by omega))
  · intro n k s hk hI hw
    refine pk_le 9 k (fun z => absurd z (by omega)) (fun _ => ⟨pk_in k 9 hk, nm_r (e' := upd s k 0) (by rw [nI_clamp (by omega)]) (nm_r (nI_1 k) (hw _ ?_))⟩)
    intro x hx
    by_cases e : x = k
    · rw [e, pk_us]
    · rw [pk_un e]
      exact hI x (by omega)
theorem rt_settle0 {post : St2 → Prop} (H : ∀ a6' : Nat → Int32, rt_zero a6' → post (h, -1, f, ab, fu, a1, a2, a3, a4, a5, a6', a7, a8, a9)) : wpX_settleAll post (h, -1, f, ab, fu, a1, a2, a3, a4, a5, a6, a7, a8, a9) := by
  unfold wpX_settleAll
  refine pk_loop (fun n k s => wX_settleAll_2 post h (-1) f ab fu n (nI k) a1 a2 a3 a4 a5 s a7 a8 a9) (fun k s => ∀ x, x < k → s x = 0) 9 0 a6 (by omega) (fun j hj => absurd hj (by omega)) ?_ ?_
  · intro n s hI
    exact pk_le 9 9 (fun _ => nm_e (br_t rt_m1 ⟨1, rt_w_end 0 (by omega) (H _ (rt_zero_of hI))⟩)) (fun z => absurd z (by omega))
  · intro n k s hk hI hw
    refine pk_le 9 k (fun z => absurd z (by omega)) (fun _ => ⟨pk_in k 9 hk, nm_r (e' := upd s k 0) (by rw [nI_clamp (by omega)]) (nm_r (nI_1 k) (hw _ ?_))⟩)
    intro x hx
    by_cases e : x = k
    · rw [e, pk_us]
    · rw [pk_un e]
      exact hI x (by omega)
theorem rt_owned {post : Int32 → St2 → Prop} (p : Nat) (hp : p < 8) (H : ∀ Q : St2 → Prop, (∀ {h' r' f' ab' fu' : Int32} {a1' a2' a3' a4' a5' a6' a7' a8' a9' : Nat → Int32}, post (a6' p) (h', r', f', ab', fu', a1', a2', a3', a4', a5', a6', a7', a8', a9') → Q (h', r', f', ab', fu', a1', a2', a3', a4', a5', a6', a7', a8', a9')) → wpX_settleAll Q (h, r, f, ab, fu, a1, a2, a3, a4, a5, a6, a7, a8, a9)) : wpX_owned post (h, r, f, ab, fu, a1, a2, a3, a4, a5, a6, a7, a8, a9) (nI p) := by
  unfold wpX_owned
  refine br_f (rt_nm1 (by omega)) (pk_le p 7 (fun _ => ?_) (fun z => absurd z (by omega)))
  refine H _ (fun hq => br_t (nI_pos' (by omega)) ⟨pk_in p 9 (by omega), ?_⟩)
  rw [nI_clamp (show p < 2 ^ 31 by omega)]
  exact hq
theorem rt_owned8 {post : Int32 → St2 → Prop} (H : ∀ Q : St2 → Prop, (∀ {h' r' f' ab' fu' : Int32} {a1' a2' a3' a4' a5' a6' a7' a8' a9' : Nat → Int32}, post (a6' 8) (h', r', f', ab', fu', a1', a2', a3', a4', a5', a6', a7', a8', a9') → Q (h', r', f', ab', fu', a1', a2', a3', a4', a5', a6', a7', a8', a9')) → wpX_settleAll Q (h, r, f, ab, fu, a1, a2, a3, a4, a5, a6, a7, a8, a9)) : wpX_owned post (h, r, f, ab, fu, a1, a2, a3, a4, a5, a6, a7, a8, a9) (-1) := by
  unfold wpX_owned
  refine br_f (by decide) (br_t (by decide) ?_)
  exact H _ (fun hq => br_f rt_m1' hq)
theorem rt_useless {post : Int32 → St2 → Prop} (H : ∀ Q : St2 → Prop, (∀ {h' r' f' ab' fu' : Int32} {a1' a2' a3' a4' a5' a6' a7' a8' a9' : Nat → Int32}, (∃ n, wX_useless_8 post h' r' f' ab' fu' a1' a2' a3' a4' a5' a6' a7' a8' a9' n 0 (nI 0)) → Q (h', r', f', ab', fu', a1', a2', a3', a4', a5', a6', a7', a8', a9')) → wpX_settleAll Q (h, r, f, ab, fu, a1, a2, a3, a4, a5, a6, a7, a8, a9)) : wpX_useless post (h, r, f, ab, fu, a1, a2, a3, a4, a5, a6, a7, a8, a9) := by
  unfold wpX_useless
  exact H _ (fun hq => hq)
end
end
section
section
variable {h r f ab fu : Int32} {a1 a2 a3 a4 a5 a6 a7 a8 a9 : Nat → Int32}
/-! settling, at the left -/
theorem rt_stL1 {post : Int32 → Prop} {B b : Nat} {x best : Int32} {n : Nat} (m st : Nat) (hB : B % 256 = 0) (hB2 : B < 65536) (hN : rt_N B a2 a3) (hL : rt_L1 b x a1 a4 a5) (hb : b < 8) (hst : st < 10) (hm : m < 65536)
    (h1 : B ≤ m → m < B + 128 → post (nI 1)) (h2 : (m < B ∨ B + 128 ≤ m) → post best) : wX_settling_10 post (nI m) h r f ab fu a1 a2 a3 a4 a5 a6 a7 a8 a9 (n + 3) best x (nI st) := by
  obtain ⟨hx, k2, k3, u1, p1, u3⟩ := hL
  obtain ⟨b0, b1, b2, b3, l0, l1, l2, l3⟩ := hN
  subst hx
  by_cases hc : B ≤ m ∧ m < B + 128
  · obtain ⟨bt, hbt⟩ : ∃ bt, m / 2 ^ (15 - 9) % 2 = bt := ⟨_, rfl⟩
    have hb2 : bt < 2 := by rw [← hbt]; exact Nat.mod_lt _ (by decide)
    have hk : a5 (2 * 1 + bt) = -1 := by
      rcases (show bt = 0 ∨ bt = 1 by omega) with z | z
      · rw [z]; exact k2
      · rw [z]; exact k3
    exact rt_s_held 1 m st 9 B bt b (-1) (by omega) (by omega) l1 (by omega) b1 hB2 hm (by show m / 128 * 128 = B; omega) p1 hb hbt hk (rt_s_none (st + 1) (by omega) (h1 hc.1 hc.2))
  · exact rt_s_un 1 m st 9 B (by omega) (by omega) l1 (by omega) b1 hB2 hm (by show m / 128 * 128 ≠ B; omega) (h2 (by omega))
theorem rt_stL2 {post : Int32 → Prop} {B d : Nat} {x best : Int32} {n : Nat} (m st : Nat) (hB : B % 256 = 0) (hB2 : B < 65536) (hN : rt_N B a2 a3) (hL : rt_L2 d x a1 a4 a5) (hd : d < 8) (hst : st < 10) (hm : m < 65536)
    (h1 : B + 64 ≤ m → m < B + 128 → post (nI 3)) (h2 : (m < B + 64 ∨ B + 128 ≤ m) → post best) : wX_settling_10 post (nI m) h r f ab fu a1 a2 a3 a4 a5 a6 a7 a8 a9 (n + 3) best x (nI st) := by
  obtain ⟨hx, k6, k7, u3, p3, u1⟩ := hL
  obtain ⟨b0, b1, b2, b3, l0, l1, l2, l3⟩ := hN
  subst hx
  by_cases hc : B + 64 ≤ m ∧ m < B + 128
  · obtain ⟨bt, hbt⟩ : ∃ bt, m / 2 ^ (15 - 10) % 2 = bt := ⟨_, rfl⟩
    have hb2 : bt < 2 := by rw [← hbt]; exact Nat.mod_lt _ (by decide)
    have hk : a5 (2 * 3 + bt) = -1 := by
      rcases (show bt = 0 ∨ bt = 1 by omega) with z | z
      · rw [z]; exact k6
      · rw [z]; exact k7
    exact rt_s_held 3 m st 10 (B + 64) bt d (-1) (by omega) (by omega) l3 (by omega) b3 (by omega) hm (by show m / 64 * 64 = B + 64; omega) p3 hd hbt hk (rt_s_none (st + 1) (by omega) (h1 hc.1 hc.2))
  · exact rt_s_un 3 m st 10 (B + 64) (by omega) (by omega) l3 (by omega) b3 (by omega) hm (by show m / 64 * 64 ≠ B + 64; omega) (h2 (by omega))
theorem rt_stL3 {post : Int32 → Prop} {B b d : Nat} {x best : Int32} {n : Nat} (m st : Nat) (hB : B % 256 = 0) (hB2 : B < 65536) (hN : rt_N B a2 a3) (hL : rt_L3 b d x a1 a4 a5) (hb : b < 8) (hd : d < 8) (hst : st < 10) (hm : m < 65536)
    (h1 : B ≤ m → m < B + 64 → post (nI 1)) (h3 : B + 64 ≤ m → m < B + 128 → post (nI 3)) (h2 : (m < B ∨ B + 128 ≤ m) → post best) : wX_settling_10 post (nI m) h r f ab fu a1 a2 a3 a4 a5 a6 a7 a8 a9 (n + 3) best x (nI st) := by
  obtain ⟨hx, k2, k3, k6, k7, u1, p1, u3, p3⟩ := hL
  obtain ⟨b0, b1, b2, b3, l0, l1, l2, l3⟩ := hN
  subst hx
  by_cases hc : B ≤ m ∧ m < B + 128
  · by_cases h64 : m < B + 64
    · exact rt_s_held 1 m st 9 B 0 b (-1) (by omega) (by omega) l1 (by omega) b1 hB2 hm (by show m / 128 * 128 = B; omega) p1 hb (by show m / 64 % 2 = 0; omega) k2 (rt_s_none (st + 1) (by omega) (h1 hc.1 h64))
    · obtain ⟨bt, hbt⟩ : ∃ bt, m / 2 ^ (15 - 10) % 2 = bt := ⟨_, rfl⟩
      have hb2 : bt < 2 := by rw [← hbt]; exact Nat.mod_lt _ (by decide)
      have hk : a5 (2 * 3 + bt) = -1 := by
        rcases (show bt = 0 ∨ bt = 1 by omega) with z | z
        · rw [z]; exact k6
        · rw [z]; exact k7
      refine rt_s_held 1 m st 9 B 1 b (nI 3) (by omega) (by omega) l1 (by omega) b1 hB2 hm (by show m / 128 * 128 = B; omega) p1 hb (by show m / 64 % 2 = 1; omega) k3 ?_
      exact rt_s_held 3 m (st + 1) 10 (B + 64) bt d (-1) (by omega) (by omega) l3 (by omega) b3 (by omega) hm (by show m / 64 * 64 = B + 64; omega) p3 hd hbt hk (rt_s_none (st + 1 + 1) (by omega) (h3 (by omega) hc.2))
  · exact rt_s_un 1 m st 9 B (by omega) (by omega) l1 (by omega) b1 hB2 hm (by show m / 128 * 128 ≠ B; omega) (h2 (by omega))
/-! settling from node 0 with node 2 at its right -/
theorem rt_stD {post : Int32 → Prop} {B c : Nat} {x p0 best : Int32} (m : Nat) (hB : B % 256 = 0) (hB2 : B < 65536) (hN : rt_N B a2 a3) (hD : rt_D c p0 x r a1 a4 a5) (hc : c < 8) (hp : (∃ a, a < 8 ∧ p0 = nI a ∧ best = nI 0) ∨ (p0 = -1 ∧ best = -1)) (hm : m < 65536)
    (hout : (m < B ∨ B + 256 ≤ m) → post (-1)) (hr : B + 128 ≤ m → m < B + 256 → post (nI 2)) (hl : B ≤ m → m < B + 128 → wX_settling_10 post (nI m) h r f ab fu a1 a2 a3 a4 a5 a6 a7 a8 a9 (0 + 3) best x (nI (0 + 1))) : wpX_settling post (h, r, f, ab, fu, a1, a2, a3, a4, a5, a6, a7, a8, a9) (nI m) := by
  obtain ⟨hr0, u0, p0e, k0, k1, u2, p2, k4, k5⟩ := hD
  obtain ⟨b0, b1, b2, b3, l0, l1, l2, l3⟩ := hN
  subst hr0
  refine rt_settling (0 + 3 + 1) ?_
  by_cases hin : B ≤ m ∧ m < B + 256
  · have hc8 : m / 2 ^ (16 - 8) * 2 ^ (16 - 8) = B := by show m / 256 * 256 = B; omega
    by_cases h128 : m < B + 128
    · have h0 : m / 2 ^ (15 - 8) % 2 = 0 := by show m / 128 % 2 = 0; omega
      rcases hp with ⟨a, ha, hp0, hbest⟩ | ⟨hp0, hbest⟩
      · subst hbest
        exact rt_s_held 0 m 0 8 B 0 a x (by omega) (by omega) l0 (by omega) b0 hB2 hm hc8 (by rw [p0e, hp0]) ha h0 k0 (hl hin.1 h128)
      · subst hbest
        exact rt_s_fork 0 m 0 8 B 0 x (by omega) (by omega) l0 (by omega) b0 hB2 hm hc8 (by rw [p0e, hp0]) h0 k0 (hl hin.1 h128)
    · have h1 : m / 2 ^ (15 - 8) % 2 = 1 := by show m / 128 % 2 = 1; omega
      obtain ⟨bt, hbt⟩ : ∃ bt, m / 2 ^ (15 - 9) % 2 = bt := ⟨_, rfl⟩
      have hb2 : bt < 2 := by rw [← hbt]; exact Nat.mod_lt _ (by decide)
      have hk : a5 (2 * 2 + bt) = -1 := by
        rcases (show bt = 0 ∨ bt = 1 by omega) with z | z
        · rw [z]; exact k4
        · rw [z]; exact k5
      have h2 : ∀ bb : Int32, wX_settling_10 post (nI m) h (nI 0) f ab fu a1 a2 a3 a4 a5 a6 a7 a8 a9 (0 + 3) bb (nI 2) (nI (0 + 1)) := fun bb =>
        rt_s_held 2 m (0 + 1) 9 (B + 128) bt c (-1) (by omega) (by omega) l2 (by omega) b2 (by omega) hm (by show m / 128 * 128 = B + 128; omega) p2 hc hbt hk (rt_s_none (0 + 1 + 1) (by omega) (hr (by omega) hin.2))
      rcases hp with ⟨a, ha, hp0, hbest⟩ | ⟨hp0, hbest⟩
      · exact rt_s_held 0 m 0 8 B 1 a (nI 2) (by omega) (by omega) l0 (by omega) b0 hB2 hm hc8 (by rw [p0e, hp0]) ha h1 k1 (h2 _)
      · exact rt_s_fork 0 m 0 8 B 1 (nI 2) (by omega) (by omega) l0 (by omega) b0 hB2 hm hc8 (by rw [p0e, hp0]) h1 k1 (h2 _)
  · exact rt_s_un 0 m 0 8 B (by omega) (by omega) l0 (by omega) b0 hB2 hm (by show m / 256 * 256 ≠ B; omega) (hout (by omega))
/-! the whole tree of four: who settles m -/
theorem rt_st4 {post : Int32 → Prop} {B a b c d : Nat} {x : Int32} (m : Nat) (hB : B % 256 = 0) (hB2 : B < 65536) (hN : rt_N B a2 a3) (hD : rt_D c (nI a) x r a1 a4 a5) (hL : rt_L3 b d x a1 a4 a5) (ha : a < 8) (hb : b < 8) (hc : c < 8) (hd : d < 8) (hm : m < 65536)
    (hout : (m < B ∨ B + 256 ≤ m) → post (-1)) (h1 : B ≤ m → m < B + 64 → post (nI 1)) (h3 : B + 64 ≤ m → m < B + 128 → post (nI 3)) (h2 : B + 128 ≤ m → m < B + 256 → post (nI 2)) : wpX_settling post (h, r, f, ab, fu, a1, a2, a3, a4, a5, a6, a7, a8, a9) (nI m) :=
  rt_stD m hB hB2 hN hD hc (Or.inl ⟨a, ha, rfl, rfl⟩) hm hout h2 (fun z1 z2 => rt_stL3 m (0 + 1) hB hB2 hN hL hb hd (by omega) hm h1 h3 (fun z => absurd z (by omega)))
theorem rt_own4 {post : Int32 → Prop} {B a b c d : Nat} {x : Int32} (m : Nat) (hB : B % 256 = 0) (hB2 : B < 65536) (hN : rt_N B a2 a3) (hD : rt_D c (nI a) x r a1 a4 a5) (hL : rt_L3 b d x a1 a4 a5) (ha : a < 8) (hb : b < 8) (hc : c < 8) (hd : d < 8) (hm : m < 65536)
    (hout : (m < B ∨ B + 256 ≤ m) → post (-1)) (h1 : B ≤ m → m < B + 64 → post (nI b)) (h3 : B + 64 ≤ m → m < B + 128 → post (nI d)) (h2 : B + 128 ≤ m → m < B + 256 → post (nI c)) : wpX_owner post (h, r, f, ab, fu, a1, a2, a3, a4, a5, a6, a7, a8, a9) (nI m) :=
  rt_own m hm (fun Q q1 q2 => rt_st4 m hB hB2 hN hD hL ha hb hc hd hm (fun z => q2 (hout z)) (fun z1 z2 => q1 1 (nI b) (by omega) hL.2.2.2.2.2.2.1 (h1 z1 z2)) (fun z1 z2 => q1 3 (nI d) (by omega) hL.2.2.2.2.2.2.2.2 (h3 z1 z2)) (fun z1 z2 => q1 2 (nI c) (by omega) hD.2.2.2.2.2.2.1 (h2 z1 z2)))
/-! nextEdge -/
theorem rt_ne68 {post : Int32 → Prop} {J : Int32 → Int32 → Prop} (m k e z1 z2 : Nat) (hm : m < 2 ^ 31) (he : e < 2 ^ 31) (hz : z1 < 2 ^ 31) (hz2 : (m < e ∧ e < z1 ∧ z2 = e) ∨ ((e ≤ m ∨ z1 ≤ e) ∧ z2 = z1)) (H : J (nI z2) (nI (k + 1))) : wX_nextEdge_68 post J (nI m) (nI k) (nI e) (nI z1) h r f ab fu a1 a2 a3 a4 a5 a6 a7 a8 a9 := by
  unfold wX_nextEdge_68
  refine pk_le e m (fun h1 => nm_r (nI_1 k) ?_) (fun h1 => pk_le z1 e (fun h2 => nm_r (nI_1 k) ?_) (fun h2 => nm_r (nI_1 k) ?_) rfl rfl hz he) rfl rfl he hm
  · rw [show z1 = z2 by omega]; exact H
  · rw [show z1 = z2 by omega]; exact H
  · rw [show e = z2 by omega]; exact H
theorem rt_ne_use {post : Int32 → Prop} {n : Nat} (m k z v l e z1 z2 : Nat) (hk : k < 64) (hl6 : l ≤ 16) (hm : m < 131072) (hv : v < 131072) (he : e < 131072) (hz : z < 131072) (hu : a1 k = 1) (hb : a2 k = nI v) (hl : a3 k = nI l) (hee : v + 65536 / 2 ^ l = e)
    (hz1 : (m < v ∧ v < z ∧ z1 = v) ∨ ((v ≤ m ∨ z ≤ v) ∧ z1 = z)) (hz2 : (m < e ∧ e < z1 ∧ z2 = e) ∨ ((e ≤ m ∨ z1 ≤ e) ∧ z2 = z1)) (H : wX_nextEdge_5 post (nI m) h r f ab fu a1 a2 a3 a4 a5 a6 a7 a8 a9 n (nI z2) (nI (k + 1))) : wX_nextEdge_5 post (nI m) h r f ab fu a1 a2 a3 a4 a5 a6 a7 a8 a9 (n + 1) (nI z) (nI k) := by
  have e0 : (nI k).toNatClampNeg = k := nI_clamp (by omega)
  refine pk_le 64 k (fun z => absurd z (by omega)) (fun _ => ⟨pk_in k 64 hk, ?_⟩)
  rw [e0, hu, hb, hl, rt_sz hl6]
  refine br_f (by decide) ⟨pk_in k 64 hk, pk_in k 64 hk, nm_r (e' := nI e) (by rw [nI_add, hee]) ⟨pk_in k 64 hk, ?_⟩⟩
  refine pk_le v m (fun h1 => ?_) (fun h1 => ⟨pk_in k 64 hk, pk_le z v (fun h2 => ?_) (fun h2 => ⟨pk_in k 64 hk, ?_⟩)⟩)
  · unfold wX_nextEdge_67
    rw [show z = z1 by omega]
    exact rt_ne68 m k e z1 z2 (by omega) (by omega) (by omega) hz2 H
  · unfold wX_nextEdge_67
    rw [show z = z1 by omega]
    exact rt_ne68 m k e z1 z2 (by omega) (by omega) (by omega) hz2 H
  · rw [show v = z1 by omega]
    exact rt_ne68 m k e z1 z2 (by omega) (by omega) (by omega) hz2 H
theorem rt_ne_tail {post : Int32 → Prop} {x z : Int32} (hZ : rt_Z a1) (H : post z) : ∀ n k, 4 ≤ k → k ≤ 64 → 64 - k < n → wX_nextEdge_5 post x h r f ab fu a1 a2 a3 a4 a5 a6 a7 a8 a9 n z (nI k) := by
  intro n
  induction n with
  | zero => intro k _ _ hn; exact absurd hn (by omega)
  | succ n ih =>
    intro k h4 h64 hn
    exact pk_le 64 k (fun _ => H) (fun z => ⟨pk_in k 64 z, br_t (by rw [nI_clamp (by omega)]; exact hZ k h4 z) (nm_r (nI_1 k) (ih (k + 1) (by omega) (by omega) (by omega)))⟩)
theorem rt_edge {post : Int32 → Prop} {B a b c d : Nat} {x : Int32} (m m' : Nat) (hB : B % 256 = 0) (hB2 : B < 65536) (hN : rt_N B a2 a3) (hZ : rt_Z a1) (hD : rt_D c (nI a) x r a1 a4 a5) (hL : rt_L3 b d x a1 a4 a5) (h1 : B ≤ m) (h2 : m < B + 256)
    (hm' : (m < B + 64 ∧ m' = B + 64) ∨ (B + 64 ≤ m ∧ m < B + 128 ∧ m' = B + 128) ∨ (B + 128 ≤ m ∧ m' = B + 256)) (H : post (nI m')) : wpX_nextEdge post (h, r, f, ab, fu, a1, a2, a3, a4, a5, a6, a7, a8, a9) (nI m) := by
  obtain ⟨hr0, u0, p0e, k0, k1, u2, p2, k4, k5⟩ := hD
  obtain ⟨hx, k2, k3, k6, k7, u1, p1, u3, p3⟩ := hL
  obtain ⟨b0, b1, b2, b3, l0, l1, l2, l3⟩ := hN
  obtain ⟨y, hy⟩ : ∃ y, (m < B + 128 ∧ y = B + 128) ∨ (B + 128 ≤ m ∧ y = B + 256) := by
    rcases Nat.lt_or_ge m (B + 128) with z | z
    · exact ⟨B + 128, Or.inl ⟨z, rfl⟩⟩
    · exact ⟨B + 256, Or.inr ⟨z, rfl⟩⟩
  obtain ⟨w, hw⟩ : ∃ w, (m < B + 64 ∧ w = B + 64) ∨ (B + 64 ≤ m ∧ w = y) := by
    rcases Nat.lt_or_ge m (B + 64) with z | z
    · exact ⟨B + 64, Or.inl ⟨z, rfl⟩⟩
    · exact ⟨y, Or.inr ⟨z, rfl⟩⟩
  unfold wpX_nextEdge
  refine ⟨61 + 1 + 1 + 1 + 1, ?_⟩
  refine rt_ne_use m 0 65536 B 8 (B + 256) 65536 (B + 256) (by omega) (by omega) (by omega) (by omega) (by omega) (by omega) u0 b0 l0 (by show B + 256 = B + 256; rfl) (by omega) (by omega) ?_
  refine rt_ne_use m 1 (B + 256) B 9 (B + 128) (B + 256) y (by omega) (by omega) (by omega) (by omega) (by omega) (by omega) u1 b1 l1 (by show B + 128 = B + 128; rfl) (by omega) (by omega) ?_
  refine rt_ne_use m 2 y (B + 128) 9 (B + 256) y y (by omega) (by omega) (by omega) (by omega) (by omega) (by omega) u2 b2 l2 (by show B + 128 + 128 = B + 256; omega) (by omega) (by omega) ?_
  refine rt_ne_use m 3 y (B + 64) 10 (B + 128) w m' (by omega) (by omega) (by omega) (by omega) (by omega) (by omega) u3 b3 l3 (by show B + 64 + 64 = B + 128; omega) (by omega) (by omega) ?_
  exact rt_ne_tail hZ H 61 4 (by omega) (by omega) (by omega)
/-! next -/
theorem rt_nx_out {post : Int32 → Prop} {x1 : Int32} {n : Nat} (m st : Nat) (hst : st < 130) (hm : 65536 ≤ m) (hm2 : m < 2 ^ 31) (H : post (-1)) : wX_next_27 post x1 h r f ab fu a1 a2 a3 a4 a5 a6 a7 a8 a9 (n + 1) (nI m) (nI st) :=
  pk_le 130 st (fun z => absurd z (by omega)) (fun _ => pk_le 65536 m (fun _ => H) (fun z => absurd z (by omega)))
theorem rt_nx {post : Int32 → Prop} {x1 : Int32} {n : Nat} (m st : Nat) (hst : st < 130) (hm : m < 65536)
    (H : ∀ Q : Int32 → Prop, (∀ v : Int32, v = x1 → post (nI m) → Q v) → (∀ v : Int32, v ≠ x1 → (∀ P : Int32 → Prop, (∀ m' : Nat, wX_next_27 post x1 h r f ab fu a1 a2 a3 a4 a5 a6 a7 a8 a9 n (nI m') (nI (st + 1)) → P (nI m')) → wpX_nextEdge P (h, r, f, ab, fu, a1, a2, a3, a4, a5, a6, a7, a8, a9) (nI m)) → Q v) → wpX_owner Q (h, r, f, ab, fu, a1, a2, a3, a4, a5, a6, a7, a8, a9) (nI m)) : wX_next_27 post x1 h r f ab fu a1 a2 a3 a4 a5 a6 a7 a8 a9 (n + 1) (nI m) (nI st) := by
  refine pk_le 130 st (fun z => absurd z (by omega)) (fun _ => pk_le 65536 m (fun z => absurd z (by omega)) (fun _ => ?_))
  exact H _ (fun v hv hp => br_t hv hp) (fun v hv hP => br_f hv (hP _ (fun m' hw => nm_r (nI_1 st) hw)))
theorem rt_next {post : Int32 → Prop} {x1 : Int32} (m : Nat) (hm : m < 2 ^ 31) (h1 : ¬ x1 < -1) (h2 : x1 ≤ 7) (H : ∃ n, wX_next_27 post x1 h r f ab fu a1 a2 a3 a4 a5 a6 a7 a8 a9 n (nI m) (nI 0)) : wpX_next post (h, r, f, ab, fu, a1, a2, a3, a4, a5, a6, a7, a8, a9) x1 (nI m) := by
  unfold wpX_next
  exact br_f h1 (br_t h2 (br_t (nI_pos' hm) H))
end
end
section
/-- the sums of the four-node tree, in the order of the visits 0, 2, 1, 3 -/
def rt_sum (a b c d x : Nat) : Int32 := ((((((((if x = 8 then (65536 : Int32) else 0) + (if x = a then nI 256 else 0)) - (if x = 8 then nI 256 else 0)) + (if x = c then nI 128 else 0)) - (if x = a then nI 128 else 0)) + (if x = b then nI 128 else 0)) - (if x = a then nI 128 else 0)) + (if x = d then nI 64 else 0)) - (if x = b then nI 64 else 0)
section
variable {h r f ab fu : Int32} {a1 a2 a3 a4 a5 a6 a7 a8 a9 : Nat → Int32}
theorem rt_set4 {Q : St2 → Prop} {B a b c d : Nat} {x : Int32} (hN : rt_N B a2 a3) (hD : rt_D c (nI a) x r a1 a4 a5) (hL : rt_L3 b d x a1 a4 a5) (ha : a < 8) (hb : b < 8) (hc : c < 8) (hd : d < 8)
    (H : ∀ a6' a7' a8' a9' : Nat → Int32, (∀ y, y < 9 → a6' y = rt_sum a b c d y) → a7' 0 = 0 → a7' 1 = nI 64 → a7' 2 = nI 128 → a7' 3 = nI 64 → a8' 0 = -1 → a8' 1 = nI 0 → a8' 2 = nI 0 → a8' 3 = nI 1 → Q (h, r, f, ab, fu, a1, a2, a3, a4, a5, a6', a7', a8', a9')) : wpX_settleAll Q (h, r, f, ab, fu, a1, a2, a3, a4, a5, a6, a7, a8, a9) := by
  obtain ⟨hr0, u0, p0, k0, k1, u2, p2, k4, k5⟩ := hD
  obtain ⟨hx, k2, k3, k6, k7, u1, p1, u3, p3⟩ := hL
  obtain ⟨b0, b1, b2, b3, l0, l1, l2, l3⟩ := hN
  subst hr0 hx
  refine rt_settle 0 (by omega) (fun s0 h0 => ⟨0 + 1 + 1 + 1 + 1 + 1, ?_⟩)
  refine rt_w_step 0 0 0 (by omega) (by omega) rfl (fun Q1 w1 => ?_)
  refine rt_vh 0 0 a 8 256 (by omega) ha (by omega) (by decide) rfl p0 l0 (fun s1 t1 e1 f1 g1 => ⟨0 + 1 + 1 + 1, ?_⟩)
  refine rt_v_push 0 0 1 0 (by omega) (by omega) (by omega) (by omega) k0 (rt_v_push 0 1 2 1 (by omega) (by omega) (by omega) (by omega) k1 (rt_v_end (w1 _ ?_)))
  refine rt_w_step 1 1 2 (by omega) (by omega) rfl (fun Q2 w2 => ?_)
  refine rt_vi 2 1 c 9 128 0 a (by omega) (by omega) (by omega) hc ha (by omega) (by decide) rfl p2 l2 p0 (fun s2 t2 e2 f2 m2 g2 => ⟨0 + 1 + 1 + 1, ?_⟩)
  refine rt_v_skip 2 0 (by omega) (by omega) k4 (rt_v_skip 2 1 (by omega) (by omega) k5 (rt_v_end (w2 _ ?_)))
  refine rt_w_step 0 2 1 (by omega) (by omega) rfl (fun Q3 w3 => ?_)
  refine rt_vi 1 0 b 9 128 0 a (by omega) (by omega) (by omega) hb ha (by omega) (by decide) rfl p1 l1 p0 (fun s3 t3 e3 f3 m3 g3 => ⟨0 + 1 + 1 + 1, ?_⟩)
  refine rt_v_skip 1 0 (by omega) (by omega) k2 (rt_v_push 1 1 3 0 (by omega) (by omega) (by omega) (by omega) k3 (rt_v_end (w3 _ ?_)))
  refine rt_w_step 0 3 3 (by omega) (by omega) rfl (fun Q4 w4 => ?_)
  refine rt_vi 3 0 d 10 64 1 b (by omega) (by omega) (by omega) hd hb (by omega) (by decide) rfl p3 l3 p1 (fun s4 t4 e4 f4 m4 g4 => ⟨0 + 1 + 1 + 1, ?_⟩)
  refine rt_v_skip 3 0 (by omega) (by omega) k6 (rt_v_skip 3 1 (by omega) (by omega) k7 (rt_v_end (w4 _ ?_)))
  refine rt_w_end 4 (by omega) ?_
  refine H _ _ _ _ (fun y hy => ?_) ?_ ?_ ?_ f4 rfl rfl rfl rfl
  · rw [e4 y hy, e3 y hy, e2 y hy, e1 y hy, h0 y hy]
    rfl
  · rw [g4 0 (by omega) (by omega), m3, m2, f1]
    decide
  · rw [m4, f3]
    decide
  · rw [g4 2 (by omega) (by omega), g3 2 (by omega) (by omega), f2]
/-! after a deny: what nobody owns -/
theorem rt_set3f {Q : St2 → Prop} {B b c d : Nat} {x : Int32} (hN : rt_N B a2 a3) (hD : rt_D c (-1) x r a1 a4 a5) (hL : rt_L3 b d x a1 a4 a5) (hb : b < 8) (hc : c < 8) (hd : d < 8)
    (H : ∀ a6' a7' a8' a9' : Nat → Int32, a6' 8 = 65280 → Q (h, r, f, ab, fu, a1, a2, a3, a4, a5, a6', a7', a8', a9')) : wpX_settleAll Q (h, r, f, ab, fu, a1, a2, a3, a4, a5, a6, a7, a8, a9) := by
  obtain ⟨hr0, u0, p0, k0, k1, u2, p2, k4, k5⟩ := hD
  obtain ⟨hx, k2, k3, k6, k7, u1, p1, u3, p3⟩ := hL
  obtain ⟨b0, b1, b2, b3, l0, l1, l2, l3⟩ := hN
  subst hr0 hx
  refine rt_settle 0 (by omega) (fun s0 h0 => ⟨0 + 1 + 1 + 1 + 1 + 1, ?_⟩)
  refine rt_w_step 0 0 0 (by omega) (by omega) rfl (fun Q1 w1 => ?_)
  refine rt_vf 0 0 (-1) (by omega) rfl p0 ⟨0 + 1 + 1 + 1, ?_⟩
  refine rt_v_push 0 0 1 0 (by omega) (by omega) (by omega) (by omega) k0 (rt_v_push 0 1 2 1 (by omega) (by omega) (by omega) (by omega) k1 (rt_v_end (w1 _ ?_)))
  refine rt_w_step 1 1 2 (by omega) (by omega) rfl (fun Q2 w2 => ?_)
  refine rt_vh 2 1 c 9 128 (by omega) hc (by omega) (by decide) rfl p2 l2 (fun s2 t2 e2 f2 g2 => ⟨0 + 1 + 1 + 1, ?_⟩)
  refine rt_v_skip 2 0 (by omega) (by omega) k4 (rt_v_skip 2 1 (by omega) (by omega) k5 (rt_v_end (w2 _ ?_)))
  refine rt_w_step 0 2 1 (by omega) (by omega) rfl (fun Q3 w3 => ?_)
  refine rt_vh 1 0 b 9 128 (by omega) hb (by omega) (by decide) rfl p1 l1 (fun s3 t3 e3 f3 g3 => ⟨0 + 1 + 1 + 1, ?_⟩)
  refine rt_v_skip 1 0 (by omega) (by omega) k2 (rt_v_push 1 1 3 0 (by omega) (by omega) (by omega) (by omega) k3 (rt_v_end (w3 _ ?_)))
  refine rt_w_step 0 3 3 (by omega) (by omega) rfl (fun Q4 w4 => ?_)
  refine rt_vi 3 0 d 10 64 1 b (by omega) (by omega) (by omega) hd hb (by omega) (by decide) rfl p3 l3 p1 (fun s4 t4 e4 f4 m4 g4 => ⟨0 + 1 + 1 + 1, ?_⟩)
  refine rt_v_skip 3 0 (by omega) (by omega) k6 (rt_v_skip 3 1 (by omega) (by omega) k7 (rt_v_end (w4 _ ?_)))
  refine rt_w_end 4 (by omega) (H _ _ _ _ ?_)
  rw [rt_ex e4 8 (by omega) (by omega) (by omega), rt_e8t e3 hb, rt_e8t e2 hc, h0 8 (by omega)]
  decide
theorem rt_set2 {Q : St2 → Prop} {B a c d : Nat} {x : Int32} (hN : rt_N B a2 a3) (hD : rt_D c (nI a) x r a1 a4 a5) (hL : rt_L2 d x a1 a4 a5) (ha : a < 8) (hc : c < 8) (hd : d < 8)
    (H : ∀ a6' a7' a8' a9' : Nat → Int32, a6' 8 = 65280 → Q (h, r, f, ab, fu, a1, a2, a3, a4, a5, a6', a7', a8', a9')) : wpX_settleAll Q (h, r, f, ab, fu, a1, a2, a3, a4, a5, a6, a7, a8, a9) := by
  obtain ⟨hr0, u0, p0, k0, k1, u2, p2, k4, k5⟩ := hD
  obtain ⟨hx, k6, k7, u3, p3, u1⟩ := hL
  obtain ⟨b0, b1, b2, b3, l0, l1, l2, l3⟩ := hN
  subst hr0 hx
  refine rt_settle 0 (by omega) (fun s0 h0 => ⟨0 + 1 + 1 + 1 + 1, ?_⟩)
  refine rt_w_step 0 0 0 (by omega) (by omega) rfl (fun Q1 w1 => ?_)
  refine rt_vh 0 0 a 8 256 (by omega) ha (by omega) (by decide) rfl p0 l0 (fun s1 t1 e1 f1 g1 => ⟨0 + 1 + 1 + 1, ?_⟩)
  refine rt_v_push 0 0 3 0 (by omega) (by omega) (by omega) (by omega) k0 (rt_v_push 0 1 2 1 (by omega) (by omega) (by omega) (by omega) k1 (rt_v_end (w1 _ ?_)))
  refine rt_w_step 1 1 2 (by omega) (by omega) rfl (fun Q2 w2 => ?_)
  refine rt_vi 2 1 c 9 128 0 a (by omega) (by omega) (by omega) hc ha (by omega) (by decide) rfl p2 l2 p0 (fun s2 t2 e2 f2 m2 g2 => ⟨0 + 1 + 1 + 1, ?_⟩)
  refine rt_v_skip 2 0 (by omega) (by omega) k4 (rt_v_skip 2 1 (by omega) (by omega) k5 (rt_v_end (w2 _ ?_)))
  refine rt_w_step 0 2 3 (by omega) (by omega) rfl (fun Q3 w3 => ?_)
  refine rt_vi 3 0 d 10 64 0 a (by omega) (by omega) (by omega) hd ha (by omega) (by decide) rfl p3 l3 p0 (fun s4 t4 e4 f4 m4 g4 => ⟨0 + 1 + 1 + 1, ?_⟩)
  refine rt_v_skip 3 0 (by omega) (by omega) k6 (rt_v_skip 3 1 (by omega) (by omega) k7 (rt_v_end (w3 _ ?_)))
  refine rt_w_end 3 (by omega) (H _ _ _ _ ?_)
  rw [rt_ex e4 8 (by omega) (by omega) (by omega), rt_ex e2 8 (by omega) (by omega) (by omega), rt_e8t e1 ha, h0 8 (by omega)]
  decide
theorem rt_set1 {Q : St2 → Prop} {B a b c : Nat} {x : Int32} (hN : rt_N B a2 a3) (hD : rt_D c (nI a) x r a1 a4 a5) (hL : rt_L1 b x a1 a4 a5) (ha : a < 8) (hb : b < 8) (hc : c < 8)
    (H : ∀ a6' a7' a8' a9' : Nat → Int32, a6' 8 = 65280 → Q (h, r, f, ab, fu, a1, a2, a3, a4, a5, a6', a7', a8', a9')) : wpX_settleAll Q (h, r, f, ab, fu, a1, a2, a3, a4, a5, a6, a7, a8, a9) := by
  obtain ⟨hr0, u0, p0, k0, k1, u2, p2, k4, k5⟩ := hD
  obtain ⟨hx, k2, k3, u1, p1, u3⟩ := hL
  obtain ⟨b0, b1, b2, b3, l0, l1, l2, l3⟩ := hN
  subst hr0 hx
  refine rt_settle 0 (by omega) (fun s0 h0 => ⟨0 + 1 + 1 + 1 + 1, ?_⟩)
  refine rt_w_step 0 0 0 (by omega) (by omega) rfl (fun Q1 w1 => ?_)
  refine rt_vh 0 0 a 8 256 (by omega) ha (by omega) (by decide) rfl p0 l0 (fun s1 t1 e1 f1 g1 => ⟨0 + 1 + 1 + 1, ?_⟩)
  refine rt_v_push 0 0 1 0 (by omega) (by omega) (by omega) (by omega) k0 (rt_v_push 0 1 2 1 (by omega) (by omega) (by omega) (by omega) k1 (rt_v_end (w1 _ ?_)))
  refine rt_w_step 1 1 2 (by omega) (by omega) rfl (fun Q2 w2 => ?_)
  refine rt_vi 2 1 c 9 128 0 a (by omega) (by omega) (by omega) hc ha (by omega) (by decide) rfl p2 l2 p0 (fun s2 t2 e2 f2 m2 g2 => ⟨0 + 1 + 1 + 1, ?_⟩)
  refine rt_v_skip 2 0 (by omega) (by omega) k4 (rt_v_skip 2 1 (by omega) (by omega) k5 (rt_v_end (w2 _ ?_)))
  refine rt_w_step 0 2 1 (by omega) (by omega) rfl (fun Q3 w3 => ?_)
  refine rt_vi 1 0 b 9 128 0 a (by omega) (by omega) (by omega) hb ha (by omega) (by decide) rfl p1 l1 p0 (fun s4 t4 e4 f4 m4 g4 => ⟨0 + 1 + 1 + 1, ?_⟩)
  refine rt_v_skip 1 0 (by omega) (by omega) k2 (rt_v_skip 1 1 (by omega) (by omega) k3 (rt_v_end (w3 _ ?_)))
  refine rt_w_end 3 (by omega) (H _ _ _ _ ?_)
  rw [rt_ex e4 8 (by omega) (by omega) (by omega), rt_ex e2 8 (by omega) (by omega) (by omega), rt_e8t e1 ha, h0 8 (by omega)]
  decide
/-! after the forgetting: a chain, none of its peers is c -/
/-- node 3 alone on the stack, under a held node w whose peer isn't c, or under none -/
theorem rt_fin3 {post : St2 → Prop} {B c d : Nat} {n : Nat} (st : Nat) (hst : st < 20) (hN : rt_N B a2 a3) (k6 : a5 6 = -1) (k7 : a5 7 = -1) (p3 : a4 3 = nI d) (hc : c < 8) (hd : d < 8) (hdc : d ≠ c) (h9 : a9 0 = nI 3)
    (hup : a8 3 = -1 ∨ ∃ w q, w < 3 ∧ q < 8 ∧ q ≠ c ∧ a8 3 = nI w ∧ a4 w = nI q) (h6 : a6 c = 0)
    (H : ∀ a6' a7' a8' a9' : Nat → Int32, a6' c = 0 → post (h, r, f, ab, fu, a1, a2, a3, a4, a5, a6', a7', a8', a9')) : wX_settleAll_63 post (n + 1 + 1) (nI (0 + 1)) (nI st) h r f ab fu a1 a2 a3 a4 a5 a6 a7 a8 a9 := by
  obtain ⟨b0, b1, b2, b3, l0, l1, l2, l3⟩ := hN
  refine rt_w_step 0 st 3 (by omega) (by omega) h9 (fun Q1 w1 => ?_)
  rcases hup with h8 | ⟨w, q, hw, hq, hqc, h8, h4w⟩
  · refine rt_vh 3 0 d 10 64 (by omega) hd (by omega) (by decide) h8 p3 l3 (fun s1 t1 e1 f1 g1 => ⟨0 + 1 + 1 + 1, ?_⟩)
    refine rt_v_skip 3 0 (by omega) (by omega) k6 (rt_v_skip 3 1 (by omega) (by omega) k7 (rt_v_end (w1 _ ?_)))
    exact rt_w_end (st + 1) (by omega) (H _ _ _ _ (by rw [rt_ex e1 c (by omega) (by omega) (by omega), h6]))
  · refine rt_vi 3 0 d 10 64 w q (by omega) (by omega) (by omega) hd hq (by omega) (by decide) h8 p3 l3 h4w (fun s1 t1 e1 f1 m1 g1 => ⟨0 + 1 + 1 + 1, ?_⟩)
    refine rt_v_skip 3 0 (by omega) (by omega) k6 (rt_v_skip 3 1 (by omega) (by omega) k7 (rt_v_end (w1 _ ?_)))
    exact rt_w_end (st + 1) (by omega) (H _ _ _ _ (by rw [rt_ex e1 c (by omega) (by omega) (by omega), h6]))
/-- node 1 alone on the stack, with node 3 or nothing at its right -/
theorem rt_fin1 {post : St2 → Prop} {B b c : Nat} {n : Nat} (st : Nat) (hst : st < 10) (hN : rt_N B a2 a3) (k2 : a5 2 = -1) (k3 : a5 3 = -1 ∨ (a5 3 = nI 3 ∧ a5 6 = -1 ∧ a5 7 = -1 ∧ ∃ d, d < 8 ∧ d ≠ c ∧ a4 3 = nI d)) (p1 : a4 1 = nI b) (hc : c < 8) (hb : b < 8) (hbc : b ≠ c) (h9 : a9 0 = nI 1)
    (hup : a8 1 = -1 ∨ ∃ q, q < 8 ∧ q ≠ c ∧ a8 1 = nI 0 ∧ a4 0 = nI q) (h6 : a6 c = 0)
    (H : ∀ a6' a7' a8' a9' : Nat → Int32, a6' c = 0 → post (h, r, f, ab, fu, a1, a2, a3, a4, a5, a6', a7', a8', a9')) : wX_settleAll_63 post (n + 1 + 1 + 1) (nI (0 + 1)) (nI st) h r f ab fu a1 a2 a3 a4 a5 a6 a7 a8 a9 := by
  have hN' := hN
  obtain ⟨b0, b1, b2, b3, l0, l1, l2, l3⟩ := hN
  refine rt_w_step 0 st 1 (by omega) (by omega) h9 (fun Q1 w1 => ?_)
  have key : ∀ s1 t1 : Nat → Int32, s1 c = 0 → ∃ n, wX_visit_99 Q1 (nI 1) (nI 1) h r f ab fu n (nI 0) (nI 0) a1 a2 a3 a4 a5 s1 t1 a8 a9 := by
    intro s1 t1 e1
    refine ⟨0 + 1 + 1 + 1, rt_v_skip 1 0 (by omega) (by omega) k2 ?_⟩
    rcases k3 with k3 | ⟨k3, k6, k7, d, hd, hdc, p3⟩
    · exact rt_v_skip 1 1 (by omega) (by omega) k3 (rt_v_end (w1 _ (rt_w_end (st + 1) (by omega) (H _ _ _ _ e1))))
    · refine rt_v_push 1 1 3 0 (by omega) (by omega) (by omega) (by omega) k3 (rt_v_end (w1 _ ?_))
      exact rt_fin3 (st + 1) (by omega) hN' k6 k7 p3 hc hd hdc rfl (Or.inr ⟨1, b, by omega, hb, hbc, rfl, p1⟩) e1 H
  rcases hup with h8 | ⟨q, hq, hqc, h8, h4w⟩
  · exact rt_vh 1 0 b 9 128 (by omega) hb (by omega) (by decide) h8 p1 l1 (fun s1 t1 e1 f1 g1 => key s1 t1 (by rw [rt_ex e1 c (by omega) (by omega) (by omega), h6]))
  · exact rt_vi 1 0 b 9 128 0 q (by omega) (by omega) (by omega) hb hq (by omega) (by decide) h8 p1 l1 h4w (fun s1 t1 e1 f1 m1 g1 => key s1 t1 (by rw [rt_ex e1 c (by omega) (by omega) (by omega), h6]))
end
/-- what hangs at the left holds nothing of c -/
def rt_LF (c : Nat) (x : Int32) (a1 a4 a5 : Nat → Int32) : Prop := rt_L0 x a1 ∨ (∃ b, b < 8 ∧ b ≠ c ∧ rt_L1 b x a1 a4 a5) ∨ (∃ d, d < 8 ∧ d ≠ c ∧ rt_L2 d x a1 a4 a5) ∨ (∃ b d, b < 8 ∧ b ≠ c ∧ d < 8 ∧ d ≠ c ∧ rt_L3 b d x a1 a4 a5)
/-- the end: node 0 is there (held by a) or not -/
def rt_top (a c : Nat) (z : Bool) (x r : Int32) (a1 a4 a5 : Nat → Int32) : Prop := (z = true ∧ r = nI 0 ∧ a1 0 = 1 ∧ a4 0 = nI a ∧ a ≠ c ∧ a5 0 = x ∧ a5 1 = -1) ∨ (z = false ∧ r = x ∧ a1 0 = 0)
section
variable {h r f ab fu : Int32} {a1 a2 a3 a4 a5 a6 a7 a8 a9 : Nat → Int32}
theorem rt_setF {Q : St2 → Prop} {B a c : Nat} {x : Int32} {z : Bool} (hN : rt_N B a2 a3) (hT : rt_top a c z x r a1 a4 a5) (hL : rt_LF c x a1 a4 a5) (ha : a < 8) (hc : c < 8)
    (H : ∀ a6' a7' a8' a9' : Nat → Int32, a6' c = 0 → Q (h, r, f, ab, fu, a1, a2, a3, a4, a5, a6', a7', a8', a9')) : wpX_settleAll Q (h, r, f, ab, fu, a1, a2, a3, a4, a5, a6, a7, a8, a9) := by
  have hN' := hN
  obtain ⟨b0, b1, b2, b3, l0, l1, l2, l3⟩ := hN
  have hz : ∀ s : Nat → Int32, rt_zero s → s c = 0 := fun s hs => by rw [hs c (by omega), if_neg (by omega)]
  rcases hT with ⟨_, hr0, u0, p0, hac, k0, k1⟩ | ⟨_, hr0, u0⟩
  · subst hr0
    refine rt_settle 0 (by omega) (fun s0 h0 => ⟨0 + 1 + 1 + 1 + 1, ?_⟩)
    refine rt_w_step 0 0 0 (by omega) (by omega) rfl (fun Q1 w1 => ?_)
    refine rt_vh 0 0 a 8 256 (by omega) ha (by omega) (by decide) rfl p0 l0 (fun s1 t1 e1 f1 g1 => ⟨0 + 1 + 1 + 1, ?_⟩)
    have e : s1 c = 0 := by rw [rt_ex e1 c (by omega) (by omega) (by omega), hz s0 h0]
    rcases hL with hL | ⟨b, hb, hbc, hL⟩ | ⟨d, hd, hdc, hL⟩ | ⟨b, d, hb, hbc, hd, hdc, hL⟩
    · obtain ⟨hx, u1, u3⟩ := hL
      exact rt_v_skip 0 0 (by omega) (by omega) (by rw [← hx]; exact k0) (rt_v_skip 0 1 (by omega) (by omega) k1 (rt_v_end (w1 _ (rt_w_end 1 (by omega) (H _ _ _ _ e)))))
    · obtain ⟨hx, k2, k3, u1, p1, u3⟩ := hL
      refine rt_v_push 0 0 1 0 (by omega) (by omega) (by omega) (by omega) (by rw [← hx]; exact k0) (rt_v_skip 0 1 (by omega) (by omega) k1 (rt_v_end (w1 _ ?_)))
      exact rt_fin1 (n := 0) 1 (by omega) hN' k2 (Or.inl k3) p1 hc hb hbc rfl (Or.inr ⟨a, ha, hac, rfl, p0⟩) e H
    · obtain ⟨hx, k6, k7, u3, p3, u1⟩ := hL
      refine rt_v_push 0 0 3 0 (by omega) (by omega) (by omega) (by omega) (by rw [← hx]; exact k0) (rt_v_skip 0 1 (by omega) (by omega) k1 (rt_v_end (w1 _ ?_)))
      exact rt_fin3 (n := 0 + 1) 1 (by omega) hN' k6 k7 p3 hc hd hdc rfl (Or.inr ⟨0, a, by omega, ha, hac, rfl, p0⟩) e H
    · obtain ⟨hx, k2, k3, k6, k7, u1, p1, u3, p3⟩ := hL
      refine rt_v_push 0 0 1 0 (by omega) (by omega) (by omega) (by omega) (by rw [← hx]; exact k0) (rt_v_skip 0 1 (by omega) (by omega) k1 (rt_v_end (w1 _ ?_)))
      exact rt_fin1 (n := 0) 1 (by omega) hN' k2 (Or.inr ⟨k3, k6, k7, d, hd, hdc, p3⟩) p1 hc hb hbc rfl (Or.inr ⟨a, ha, hac, rfl, p0⟩) e H
  · subst hr0
    rcases hL with hL | ⟨b, hb, hbc, hL⟩ | ⟨d, hd, hdc, hL⟩ | ⟨b, d, hb, hbc, hd, hdc, hL⟩
    · obtain ⟨hx, u1, u3⟩ := hL
      subst hx
      exact rt_settle0 (fun s0 h0 => H _ _ _ _ (hz s0 h0))
    · obtain ⟨hx, k2, k3, u1, p1, u3⟩ := hL
      subst hx
      refine rt_settle 1 (by omega) (fun s0 h0 => ⟨0 + 1 + 1 + 1, ?_⟩)
      exact rt_fin1 0 (by omega) hN' k2 (Or.inl k3) p1 hc hb hbc rfl (Or.inl rfl) (hz s0 h0) H
    · obtain ⟨hx, k6, k7, u3, p3, u1⟩ := hL
      subst hx
      refine rt_settle 3 (by omega) (fun s0 h0 => ⟨0 + 1 + 1, ?_⟩)
      exact rt_fin3 0 (by omega) hN' k6 k7 p3 hc hd hdc rfl (Or.inl rfl) (hz s0 h0) H
    · obtain ⟨hx, k2, k3, k6, k7, u1, p1, u3, p3⟩ := hL
      subst hx
      refine rt_settle 1 (by omega) (fun s0 h0 => ⟨0 + 1 + 1 + 1, ?_⟩)
      exact rt_fin1 0 (by omega) hN' k2 (Or.inr ⟨k3, k6, k7, d, hd, hdc, p3⟩) p1 hc hb hbc rfl (Or.inl rfl) (hz s0 h0) H
end
end
section
theorem rt_nem {p : Nat} (h : p < 2 ^ 31) : nI p ≠ -1 := fun z => nI_pos h (by rw [z]; exact rt_m1)
theorem rt_le7 {p : Nat} (h : p < 8) : nI p ≤ 7 := nI_le (b := 7) (by omega) (by decide)
section
variable {h r f ab fu : Int32} {a1 a2 a3 a4 a5 a6 a7 a8 a9 : Nat → Int32}
/-! useless -/
theorem rt_us_un {post : Int32 → St2 → Prop} {x : Int32} {n : Nat} (k : Nat) (hk : k < 64) (hu : a1 k = 0) (H : wX_useless_8 post h r f ab fu a1 a2 a3 a4 a5 a6 a7 a8 a9 n x (nI (k + 1))) : wX_useless_8 post h r f ab fu a1 a2 a3 a4 a5 a6 a7 a8 a9 (n + 1) x (nI k) := by
  refine pk_le 64 k (fun z => absurd z (by omega)) (fun _ => ⟨pk_in k 64 hk, ?_⟩)
  exact br_t (by rw [nI_clamp (by omega), hu]) (nm_r (nI_1 k) H)
theorem rt_us_top {post : Int32 → St2 → Prop} {x : Int32} {n : Nat} (k p : Nat) (hk : k < 64) (hp : p < 8) (hu : a1 k = 1) (h4 : a4 k = nI p) (h8 : a8 k = -1) (h7 : a7 k = 0) (H : wX_useless_8 post h r f ab fu a1 a2 a3 a4 a5 a6 a7 a8 a9 n (x + 1) (nI (k + 1))) : wX_useless_8 post h r f ab fu a1 a2 a3 a4 a5 a6 a7 a8 a9 (n + 1) x (nI k) := by
  have e : (nI k).toNatClampNeg = k := nI_clamp (by omega)
  refine pk_le 64 k (fun z => absurd z (by omega)) (fun _ => ⟨pk_in k 64 hk, ?_⟩)
  rw [e, hu, h4, h8]
  refine br_f (by decide) ⟨pk_in k 64 hk, br_f (nI_pos (by omega)) ⟨pk_in k 64 hk, br_t rt_m1 ?_⟩⟩
  unfold wX_useless_65 wX_useless_66
  exact ⟨pk_in k 64 hk, br_t (by rw [e, h7]) (nm_e (nm_r (nI_1 k) H))⟩
theorem rt_us_in {post : Int32 → St2 → Prop} {x : Int32} {n : Nat} (k w p q s : Nat) (hk : k < 64) (hw : w < 64) (hp : p < 8) (hq : q < 8) (hs : 0 < s) (hs2 : s < 2 ^ 31) (hu : a1 k = 1) (h4 : a4 k = nI p) (h8 : a8 k = nI w) (h4w : a4 w = nI q) (h7 : a7 k = nI s) (H : wX_useless_8 post h r f ab fu a1 a2 a3 a4 a5 a6 a7 a8 a9 n (x + (if q = p then 1 else 0)) (nI (k + 1))) : wX_useless_8 post h r f ab fu a1 a2 a3 a4 a5 a6 a7 a8 a9 (n + 1) x (nI k) := by
  have e : (nI k).toNatClampNeg = k := nI_clamp (by omega)
  have ew : (nI w).toNatClampNeg = w := nI_clamp (by omega)
  refine pk_le 64 k (fun z => absurd z (by omega)) (fun _ => ⟨pk_in k 64 hk, ?_⟩)
  rw [e, hu, h8, ew, h4, h4w]
  refine br_f (by decide) ⟨pk_in k 64 hk, br_f (nI_pos (by omega)) ⟨pk_in k 64 hk, br_f (nI_pos (by omega)) ⟨pk_in k 64 hk, pk_in w 64 hw, pk_in k 64 hk, pk_eq q p (fun z => ?_) (fun z => ?_)⟩⟩⟩
  · rw [if_pos z] at H
    unfold wX_useless_66
    exact ⟨pk_in k 64 hk, br_f (by rw [e, h7]; exact nI_ne0 hs hs2) (br_f (by decide) (nm_e (nm_r (nI_1 k) H)))⟩
  · rw [if_neg z] at H
    unfold wX_useless_65 wX_useless_66
    exact ⟨pk_in k 64 hk, br_f (by rw [e, h7]; exact nI_ne0 hs hs2) (br_t rfl (nm_e (nm_r (nI_1 k) H)))⟩
theorem rt_us_tail {post : Int32 → St2 → Prop} {x : Int32} (hZ : rt_Z a1) (H : post x (h, r, f, ab, fu, a1, a2, a3, a4, a5, a6, a7, a8, a9)) : ∀ n k, 4 ≤ k → k ≤ 64 → 64 - k < n → wX_useless_8 post h r f ab fu a1 a2 a3 a4 a5 a6 a7 a8 a9 n x (nI k) := by
  intro n
  induction n with
  | zero => intro k _ _ hn; exact absurd hn (by omega)
  | succ n ih =>
    intro k h4 h64 hn
    exact pk_le 64 k (fun _ => H) (fun z => ⟨pk_in k 64 z, br_t (by rw [nI_clamp (by omega)]; exact hZ k h4 z) (nm_r (nI_1 k) (ih (k + 1) (by omega) (by omega) (by omega)))⟩)
theorem rt_use4 {post : Int32 → St2 → Prop} {B a b c d : Nat} {x : Int32} (hN : rt_N B a2 a3) (hZ : rt_Z a1) (hD : rt_D c (nI a) x r a1 a4 a5) (hL : rt_L3 b d x a1 a4 a5) (ha : a < 8) (hb : b < 8) (hc : c < 8) (hd : d < 8)
    (H : ∀ a6' a7' a8' a9' : Nat → Int32, post (1 + (if a = b then 1 else 0) + (if a = c then 1 else 0) + (if b = d then 1 else 0)) (h, r, f, ab, fu, a1, a2, a3, a4, a5, a6', a7', a8', a9')) : wpX_useless post (h, r, f, ab, fu, a1, a2, a3, a4, a5, a6, a7, a8, a9) := by
  refine rt_useless (fun Q q => rt_set4 hN hD hL ha hb hc hd (fun s6 s7 s8 s9 e6 e0 e1 e2 e3 f0 f1 f2 f3 => q ⟨61 + 1 + 1 + 1 + 1, ?_⟩))
  obtain ⟨hr0, u0, p0, k0, k1, u2, p2, k4, k5⟩ := hD
  obtain ⟨hx, k2, k3, k6, k7, u1, p1, u3, p3⟩ := hL
  refine rt_us_top 0 a (by omega) ha u0 p0 f0 e0 ?_
  refine rt_us_in 1 0 b a 64 (by omega) (by omega) hb ha (by omega) (by omega) u1 p1 f1 p0 e1 ?_
  refine rt_us_in 2 0 c a 128 (by omega) (by omega) hc ha (by omega) (by omega) u2 p2 f2 p0 e2 ?_
  refine rt_us_in 3 1 d b 64 (by omega) (by omega) hd hb (by omega) (by omega) u3 p3 f3 p1 e3 ?_
  rw [show (0 : Int32) + 1 = 1 by decide]
  exact rt_us_tail hZ (H _ _ _ _) 61 4 (by omega) (by omega) (by omega)
/-! next over the four-node tree -/
theorem rt_nxA {post : Int32 → Prop} {B a b c d : Nat} {x : Int32} (hB : B % 256 = 0) (hB2 : B < 65536) (hN : rt_N B a2 a3) (hZ : rt_Z a1) (hD : rt_D c (nI a) x r a1 a4 a5) (hL : rt_L3 b d x a1 a4 a5) (ha : a < 8) (hb : b < 8) (hc : c < 8) (hd : d < 8)
    (H1 : b = d → post (nI B)) (H2 : b ≠ d → post (nI (B + 64))) : wpX_next post (h, r, f, ab, fu, a1, a2, a3, a4, a5, a6, a7, a8, a9) (nI d) (nI B) := by
  refine rt_next B (by omega) (rt_nm1 (by omega)) (rt_le7 hd) ⟨0 + 1 + 1, ?_⟩
  refine rt_nx B 0 (by omega) (by omega) (fun Q q1 q2 => rt_own4 B hB hB2 hN hD hL ha hb hc hd (by omega) (fun z => absurd z (by omega)) (fun _ _ => ?_) (fun z => absurd z (by omega)) (fun z => absurd z (by omega)))
  by_cases e : b = d
  · exact q1 _ (by rw [e]) (H1 e)
  · refine q2 _ (fun z => e ((nI_eq (by omega) (by omega)).mp z)) (fun P hP => rt_edge B (B + 64) hB hB2 hN hZ hD hL (by omega) (by omega) (by omega) (hP (B + 64) ?_))
    exact rt_nx (B + 64) (0 + 1) (by omega) (by omega) (fun Q' q1' q2' => rt_own4 (B + 64) hB hB2 hN hD hL ha hb hc hd (by omega) (fun z => absurd z (by omega)) (fun _ z => absurd z (by omega)) (fun _ _ => q1' _ rfl (H2 e)) (fun z => absurd z (by omega)))
theorem rt_nxC {post : Int32 → Prop} {B a b c d : Nat} {x : Int32} (hB : B % 256 = 0) (hB2 : B < 65536) (hN : rt_N B a2 a3) (hD : rt_D c (nI a) x r a1 a4 a5) (hL : rt_L3 b d x a1 a4 a5) (ha : a < 8) (hb : b < 8) (hc : c < 8) (hd : d < 8)
    (H : post (nI (B + 129))) : wpX_next post (h, r, f, ab, fu, a1, a2, a3, a4, a5, a6, a7, a8, a9) (nI c) (nI (B + 129)) := by
  refine rt_next (B + 129) (by omega) (rt_nm1 (by omega)) (rt_le7 hc) ⟨0 + 1, ?_⟩
  exact rt_nx (B + 129) 0 (by omega) (by omega) (fun Q q1 q2 => rt_own4 (B + 129) hB hB2 hN hD hL ha hb hc hd (by omega) (fun z => absurd z (by omega)) (fun _ z => absurd z (by omega)) (fun _ z => absurd z (by omega)) (fun _ _ => q1 _ rfl H))
theorem rt_nxE {post : Int32 → Prop} {B a b c d : Nat} {x : Int32} {n : Nat} (st : Nat) (hst : st < 130) (hB : B % 256 = 0) (hB2 : B < 65536) (hN : rt_N B a2 a3) (hD : rt_D c (nI a) x r a1 a4 a5) (hL : rt_L3 b d x a1 a4 a5) (ha : a < 8) (hb : b < 8) (hc : c < 8) (hd : d < 8)
    (H2 : B + 256 < 65536 → post (nI (B + 256))) (H3 : 65536 ≤ B + 256 → post (-1)) : wX_next_27 post (-1) h r f ab fu a1 a2 a3 a4 a5 a6 a7 a8 a9 (n + 1) (nI (B + 256)) (nI st) := by
  rcases Nat.lt_or_ge (B + 256) 65536 with z | z
  · exact rt_nx (B + 256) st hst z (fun Q q1 q2 => rt_own4 (B + 256) hB hB2 hN hD hL ha hb hc hd (by omega) (fun _ => q1 _ rfl (H2 z)) (fun _ z => absurd z (by omega)) (fun _ z => absurd z (by omega)) (fun _ z => absurd z (by omega)))
  · exact rt_nx_out (B + 256) st hst z (by omega) (H3 z)
theorem rt_nxN {post : Int32 → Prop} {B a b c d : Nat} {x : Int32} (m : Nat) (hm : m < 65536) (hB : B % 256 = 0) (hB2 : B < 65536) (hN : rt_N B a2 a3) (hZ : rt_Z a1) (hD : rt_D c (nI a) x r a1 a4 a5) (hL : rt_L3 b d x a1 a4 a5) (ha : a < 8) (hb : b < 8) (hc : c < 8) (hd : d < 8)
    (H1 : (m < B ∨ B + 256 ≤ m) → post (nI m)) (H2 : B ≤ m → m < B + 256 → B + 256 < 65536 → post (nI (B + 256))) (H3 : B ≤ m → m < B + 256 → 65536 ≤ B + 256 → post (-1)) : wpX_next post (h, r, f, ab, fu, a1, a2, a3, a4, a5, a6, a7, a8, a9) (-1) (nI m) := by
  refine rt_next m (by omega) (by decide) (by decide) ⟨0 + 1 + 1 + 1 + 1, ?_⟩
  by_cases hin : B ≤ m ∧ m < B + 256
  · have E : ∀ n st, st < 130 → wX_next_27 post (-1) h r f ab fu a1 a2 a3 a4 a5 a6 a7 a8 a9 (n + 1) (nI (B + 256)) (nI st) := fun n st hst => rt_nxE st hst hB hB2 hN hD hL ha hb hc hd (H2 hin.1 hin.2) (H3 hin.1 hin.2)
    have E3 : ∀ n st k, st < 100 → B + 128 ≤ k → k < B + 256 → wX_next_27 post (-1) h r f ab fu a1 a2 a3 a4 a5 a6 a7 a8 a9 (n + 1 + 1) (nI k) (nI st) := fun n st k hst h1 h2 =>
      rt_nx k st (by omega) (by omega) (fun Q q1 q2 => rt_own4 k hB hB2 hN hD hL ha hb hc hd (by omega) (fun z => absurd z (by omega)) (fun _ z => absurd z (by omega)) (fun _ z => absurd z (by omega)) (fun _ _ => q2 _ (rt_nem (by omega)) (fun P hP => rt_edge k (B + 256) hB hB2 hN hZ hD hL (by omega) (by omega) (by omega) (hP (B + 256) (E n (st + 1) (by omega))))))
    have E2 : ∀ n st k, st < 90 → B + 64 ≤ k → k < B + 128 → wX_next_27 post (-1) h r f ab fu a1 a2 a3 a4 a5 a6 a7 a8 a9 (n + 1 + 1 + 1) (nI k) (nI st) := fun n st k hst h1 h2 =>
      rt_nx k st (by omega) (by omega) (fun Q q1 q2 => rt_own4 k hB hB2 hN hD hL ha hb hc hd (by omega) (fun z => absurd z (by omega)) (fun _ z => absurd z (by omega)) (fun _ _ => q2 _ (rt_nem (by omega)) (fun P hP => rt_edge k (B + 128) hB hB2 hN hZ hD hL (by omega) (by omega) (by omega) (hP (B + 128) (E3 n (st + 1) (B + 128) (by omega) (by omega) (by omega))))) (fun z => absurd z (by omega)))
    rcases Nat.lt_or_ge m (B + 64) with z1 | z1
    · exact rt_nx m 0 (by omega) (by omega) (fun Q q1 q2 => rt_own4 m hB hB2 hN hD hL ha hb hc hd (by omega) (fun z => absurd z (by omega)) (fun _ _ => q2 _ (rt_nem (by omega)) (fun P hP => rt_edge m (B + 64) hB hB2 hN hZ hD hL (by omega) (by omega) (by omega) (hP (B + 64) (E2 0 (0 + 1) (B + 64) (by omega) (by omega) (by omega))))) (fun z => absurd z (by omega)) (fun z => absurd z (by omega)))
    · rcases Nat.lt_or_ge m (B + 128) with z2 | z2
      · exact E2 (0 + 1) 0 m (by omega) z1 z2
      · exact E3 (0 + 1 + 1) 0 m (by omega) z2 hin.2
  · exact rt_nx m 0 (by omega) hm (fun Q q1 q2 => rt_own4 m hB hB2 hN hD hL ha hb hc hd hm (fun z => q1 _ rfl (H1 z)) (fun z1 z2 => absurd hin (by omega)) (fun z1 z2 => absurd hin (by omega)) (fun z1 z2 => absurd hin (by omega)))
theorem rt_nx8 {post : Int32 → Prop} {y : Int32} (H : post (-2)) : wpX_next post (h, r, f, ab, fu, a1, a2, a3, a4, a5, a6, a7, a8, a9) 8 y := by
  unfold wpX_next
  exact br_f (by decide) (br_f (by decide) H)
theorem rt_nx6 {post : Int32 → Prop} (H : post (-1)) : wpX_next post (h, r, f, ab, fu, a1, a2, a3, a4, a5, a6, a7, a8, a9) (-1) 65536 :=
  rt_next 65536 (by omega) (by decide) (by decide) ⟨0 + 1, rt_nx_out 65536 0 (by omega) (by omega) (by omega) H⟩
/-! owners after a deny, and at the end -/
theorem rt_own3 {post : Int32 → Prop} {B b c d : Nat} {x p0 : Int32} (m : Nat) (hB : B % 256 = 0) (hB2 : B < 65536) (hN : rt_N B a2 a3) (hD : rt_D c p0 x r a1 a4 a5) (hL : rt_L3 b d x a1 a4 a5) (hp : (∃ a, a < 8 ∧ p0 = nI a) ∨ p0 = -1) (hb : b < 8) (hc : c < 8) (hd : d < 8) (h0 : B ≤ m) (hm : m < B + 256)
    (h1 : m < B + 64 → post (nI b)) (h3 : B + 64 ≤ m → m < B + 128 → post (nI d)) (h2 : B + 128 ≤ m → post (nI c)) : wpX_owner post (h, r, f, ab, fu, a1, a2, a3, a4, a5, a6, a7, a8, a9) (nI m) := by
  refine rt_own m (by omega) (fun Q q1 q2 => ?_)
  have L : ∀ best : Int32, B ≤ m → m < B + 128 → wX_settling_10 Q (nI m) h r f ab fu a1 a2 a3 a4 a5 a6 a7 a8 a9 (0 + 3) best x (nI (0 + 1)) := fun best z1 z2 => rt_stL3 m (0 + 1) hB hB2 hN hL hb hd (by omega) (by omega) (fun z1 z2 => q1 1 (nI b) (by omega) hL.2.2.2.2.2.2.1 (h1 z2)) (fun z1 z2 => q1 3 (nI d) (by omega) hL.2.2.2.2.2.2.2.2 (h3 z1 z2)) (fun z => absurd z (by omega))
  rcases hp with ⟨a, ha, hp⟩ | hp
  · exact rt_stD (best := nI 0) m hB hB2 hN hD hc (Or.inl ⟨a, ha, hp, rfl⟩) (by omega) (fun z => absurd z (by omega)) (fun z1 z2 => q1 2 (nI c) (by omega) hD.2.2.2.2.2.2.1 (h2 z1)) (L _)
  · exact rt_stD (best := -1) m hB hB2 hN hD hc (Or.inr ⟨hp, rfl⟩) (by omega) (fun z => absurd z (by omega)) (fun z1 z2 => q1 2 (nI c) (by omega) hD.2.2.2.2.2.2.1 (h2 z1)) (L _)
theorem rt_own2 {post : Int32 → Prop} {B a c d : Nat} {x : Int32} (m : Nat) (hB : B % 256 = 0) (hB2 : B < 65536) (hN : rt_N B a2 a3) (hD : rt_D c (nI a) x r a1 a4 a5) (hL : rt_L2 d x a1 a4 a5) (ha : a < 8) (hc : c < 8) (hd : d < 8) (h0 : B ≤ m) (hm : m < B + 256)
    (h1 : m < B + 64 → post (nI a)) (h3 : B + 64 ≤ m → m < B + 128 → post (nI d)) (h2 : B + 128 ≤ m → post (nI c)) : wpX_owner post (h, r, f, ab, fu, a1, a2, a3, a4, a5, a6, a7, a8, a9) (nI m) := by
  refine rt_own m (by omega) (fun Q q1 q2 => ?_)
  exact rt_stD (best := nI 0) m hB hB2 hN hD hc (Or.inl ⟨a, ha, rfl, rfl⟩) (by omega) (fun z => absurd z (by omega)) (fun z1 z2 => q1 2 (nI c) (by omega) hD.2.2.2.2.2.2.1 (h2 z1))
    (fun z1 z2 => rt_stL2 m (0 + 1) hB hB2 hN hL hd (by omega) (by omega) (fun z3 z4 => q1 3 (nI d) (by omega) hL.2.2.2.2.1 (h3 z3 z4)) (fun z => q1 0 (nI a) (by omega) hD.2.2.1 (h1 (by omega))))
theorem rt_own1 {post : Int32 → Prop} {B a b c : Nat} {x : Int32} (m : Nat) (hB : B % 256 = 0) (hB2 : B < 65536) (hN : rt_N B a2 a3) (hD : rt_D c (nI a) x r a1 a4 a5) (hL : rt_L1 b x a1 a4 a5) (ha : a < 8) (hb : b < 8) (hc : c < 8) (h0 : B ≤ m) (hm : m < B + 256)
    (h1 : m < B + 128 → post (nI b)) (h2 : B + 128 ≤ m → post (nI c)) : wpX_owner post (h, r, f, ab, fu, a1, a2, a3, a4, a5, a6, a7, a8, a9) (nI m) := by
  refine rt_own m (by omega) (fun Q q1 q2 => ?_)
  exact rt_stD (best := nI 0) m hB hB2 hN hD hc (Or.inl ⟨a, ha, rfl, rfl⟩) (by omega) (fun z => absurd z (by omega)) (fun z1 z2 => q1 2 (nI c) (by omega) hD.2.2.2.2.2.2.1 (h2 z1))
    (fun z1 z2 => rt_stL1 m (0 + 1) hB hB2 hN hL hb (by omega) (by omega) (fun z3 z4 => q1 1 (nI b) (by omega) hL.2.2.2.2.1 (h1 z4)) (fun z => absurd z (by omega)))
theorem rt_ownF {post : Int32 → Prop} {B a c : Nat} {x : Int32} {z : Bool} (hB : B % 256 = 0) (hB2 : B < 65536) (hN : rt_N B a2 a3) (hT : rt_top a c z x r a1 a4 a5) (hL : rt_LF c x a1 a4 a5) (ha : a < 8) (hc : c < 8)
    (h1 : z = true → post (nI a)) (h2 : z = false → post (-1)) : wpX_owner post (h, r, f, ab, fu, a1, a2, a3, a4, a5, a6, a7, a8, a9) (nI (B + 255)) := by
  refine rt_own (B + 255) (by omega) (fun Q q1 q2 => ?_)
  have hN' := hN
  obtain ⟨b0, b1, b2, b3, l0, l1, l2, l3⟩ := hN
  rcases hT with ⟨hz, hr0, u0, p0, hac, k0, k1⟩ | ⟨hz, hr0, u0⟩
  · subst hr0
    refine rt_settling (0 + 1 + 1) ?_
    exact rt_s_held 0 (B + 255) 0 8 B 1 a (-1) (by omega) (by omega) l0 (by omega) b0 hB2 (by omega) (by show (B + 255) / 256 * 256 = B; omega) p0 ha (by show (B + 255) / 128 % 2 = 1; omega) k1 (rt_s_none (0 + 1) (by omega) (q1 0 (nI a) (by omega) p0 (h1 hz)))
  · subst hr0
    refine rt_settling (0 + 3) ?_
    rcases hL with hL | ⟨b, hb, hbc, hL⟩ | ⟨d, hd, hdc, hL⟩ | ⟨b, d, hb, hbc, hd, hdc, hL⟩
    · obtain ⟨hx, u1, u3⟩ := hL
      subst hx
      exact rt_s_none 0 (by omega) (q2 (h2 hz))
    · exact rt_stL1 (B + 255) 0 hB hB2 hN' hL hb (by omega) (by omega) (fun _ z => absurd z (by omega)) (fun _ => q2 (h2 hz))
    · exact rt_stL2 (B + 255) 0 hB hB2 hN' hL hd (by omega) (by omega) (fun _ z => absurd z (by omega)) (fun _ => q2 (h2 hz))
    · exact rt_stL3 (B + 255) 0 hB hB2 hN' hL hb hd (by omega) (by omega) (fun _ z => absurd z (by omega)) (fun _ z => absurd z (by omega)) (fun _ => q2 (h2 hz))
end
end
section
section
variable {h r f ab fu : Int32} {a1 a2 a3 a4 a5 a6 a7 a8 a9 : Nat → Int32}
/-! the finds over node 0 with node 2 at its right -/
theorem rt_fd0 {Q : Int32 → St2 → Prop} {B c : Nat} {x p0 : Int32} (hB : B % 256 = 0) (hB2 : B < 65536) (hN : rt_N B a2 a3) (hD : rt_D c p0 x r a1 a4 a5) (H : Q (nI 0) (h, nI 0, f, -1, -1, a1, a2, a3, a4, a5, a6, a7, a8, a9)) : wpX_find Q (h, r, f, ab, fu, a1, a2, a3, a4, a5, a6, a7, a8, a9) (nI B) (nI 8) := by
  obtain ⟨hr0, u0, p0e, k0, k1, u2, p2, k4, k5⟩ := hD
  obtain ⟨b0, b1, b2, b3, l0, l1, l2, l3⟩ := hN
  subst hr0
  exact rt_find (0 + 1) (rt_f_hit 0 B 8 0 B (by omega) (by omega) l0 (by omega) b0 hB2 hB2 (by show B / 256 * 256 = B; omega) H)
theorem rt_fd2 {Q : Int32 → St2 → Prop} {B c : Nat} {x p0 : Int32} (hB : B % 256 = 0) (hB2 : B < 65536) (hN : rt_N B a2 a3) (hD : rt_D c p0 x r a1 a4 a5) (H : Q (nI 2) (h, nI 0, f, nI 0, -1, a1, a2, a3, a4, a5, a6, a7, a8, a9)) : wpX_find Q (h, r, f, ab, fu, a1, a2, a3, a4, a5, a6, a7, a8, a9) (nI (B + 128)) (nI 9) := by
  obtain ⟨hr0, u0, p0e, k0, k1, u2, p2, k4, k5⟩ := hD
  obtain ⟨b0, b1, b2, b3, l0, l1, l2, l3⟩ := hN
  subst hr0
  refine rt_find (0 + 1 + 1) (rt_f_step 0 (B + 128) 9 0 8 B 1 (nI 2) (by omega) (by omega) l0 (by omega) (by omega) b0 hB2 (by omega) (by show (B + 128) / 256 * 256 = B; omega) (by show (B + 128) / 128 % 2 = 1; omega) k1 ?_)
  exact rt_f_hit 2 (B + 128) 9 (0 + 1) (B + 128) (by omega) (by omega) l2 (by omega) b2 (by omega) (by omega) (by show (B + 128) / 128 * 128 = B + 128; omega) H
/-- under a node 0 whose left is x: one step down -/
theorem rt_fdL {Q : Int32 → St2 → Prop} {B : Nat} {x : Int32} {n : Nat} (m len : Nat) (hB : B % 256 = 0) (hB2 : B < 65536) (hN : rt_N B a2 a3) (k0 : a5 0 = x) (hlen : 8 < len) (hlen2 : len ≤ 16) (hm : B ≤ m) (hm2 : m < B + 128) (H : wX_find_18 Q (nI m) (nI len) h (nI 0) f a1 a2 a3 a4 a5 a6 a7 a8 a9 n x (nI (0 + 1)) (nI 0) (-1)) : wpX_find Q (h, nI 0, f, ab, fu, a1, a2, a3, a4, a5, a6, a7, a8, a9) (nI m) (nI len) := by
  obtain ⟨b0, b1, b2, b3, l0, l1, l2, l3⟩ := hN
  exact rt_find (n + 1) (rt_f_step 0 m len 0 8 B 0 x (by omega) (by omega) l0 (by omega) (by omega) b0 hB2 (by omega) (by show m / 256 * 256 = B; omega) (by show m / 128 % 2 = 0; omega) k0 H)
/-- at node 1 -/
theorem rt_fd1 {Q : Int32 → St2 → Prop} {B : Nat} {n : Nat} (st : Nat) (hst : st < 10) (hB : B % 256 = 0) (hB2 : B < 65536) (hN : rt_N B a2 a3) (H : Q (nI 1) (h, r, f, ab, fu, a1, a2, a3, a4, a5, a6, a7, a8, a9)) : wX_find_18 Q (nI B) (nI 9) h r f a1 a2 a3 a4 a5 a6 a7 a8 a9 (n + 1) (nI 1) (nI st) ab fu := by
  obtain ⟨b0, b1, b2, b3, l0, l1, l2, l3⟩ := hN
  exact rt_f_hit 1 B 9 st B (by omega) (by omega) l1 (by omega) b1 hB2 hB2 (by show B / 128 * 128 = B; omega) H
theorem rt_fd1s {Q : Int32 → St2 → Prop} {B : Nat} {y : Int32} {n : Nat} (len st : Nat) (hst : st < 10) (hB : B % 256 = 0) (hB2 : B < 65536) (hN : rt_N B a2 a3) (k3 : a5 3 = y) (hlen : 9 < len) (hlen2 : len ≤ 16) (H : wX_find_18 Q (nI (B + 64)) (nI len) h r f a1 a2 a3 a4 a5 a6 a7 a8 a9 n y (nI (st + 1)) (nI 1) ab) : wX_find_18 Q (nI (B + 64)) (nI len) h r f a1 a2 a3 a4 a5 a6 a7 a8 a9 (n + 1) (nI 1) (nI st) ab fu := by
  obtain ⟨b0, b1, b2, b3, l0, l1, l2, l3⟩ := hN
  exact rt_f_step 1 (B + 64) len st 9 B 1 y (by omega) (by omega) l1 (by omega) (by omega) b1 hB2 (by omega) (by show (B + 64) / 128 * 128 = B; omega) (by show (B + 64) / 64 % 2 = 1; omega) k3 H
/-- at node 3 -/
theorem rt_fd3 {Q : Int32 → St2 → Prop} {B : Nat} {n : Nat} (st : Nat) (hst : st < 10) (hB : B % 256 = 0) (hB2 : B < 65536) (hN : rt_N B a2 a3) (H : Q (nI 3) (h, r, f, ab, fu, a1, a2, a3, a4, a5, a6, a7, a8, a9)) : wX_find_18 Q (nI (B + 64)) (nI 10) h r f a1 a2 a3 a4 a5 a6 a7 a8 a9 (n + 1) (nI 3) (nI st) ab fu := by
  obtain ⟨b0, b1, b2, b3, l0, l1, l2, l3⟩ := hN
  exact rt_f_hit 3 (B + 64) 10 st (B + 64) (by omega) (by omega) l3 (by omega) b3 (by omega) (by omega) (by show (B + 64) / 64 * 64 = B + 64; omega) H
/-! the four denies -/
theorem rt_deny8 {post : Int32 → St2 → Prop} {B a b c d : Nat} {x : Int32} (hB : B % 256 = 0) (hB2 : B < 65536) (hN : rt_N B a2 a3) (hD : rt_D c (nI a) x r a1 a4 a5) (hL : rt_L3 b d x a1 a4 a5) (ha : a < 8)
    (H : ∀ {h' r' f' ab' fu' : Int32} {a1' a2' a3' a4' a5' a6' a7' a8' a9' : Nat → Int32}, rt_D c (-1) x r' a1' a4' a5' → rt_L3 b d x a1' a4' a5' → a1' = a1 → a2' = a2 → a3' = a3 → post 3 (3, r', f', ab', fu', a1', a2', a3', a4', a5', a6', a7', a8', a9')) : wpX_deny post (nI 4, r, f, ab, fu, a1, a2, a3, a4, a5, a6, a7, a8, a9) (nI (B + 65)) (nI 8) := by
  refine rt_deny (B + 65) 8 B rfl rfl (by omega) (by omega) (by show (B + 65) / 256 * 256 = B; omega) (fun Q q1 q2 q3 => ?_)
  refine rt_fd0 hB hB2 hN hD (q3 0 a (by omega) ha hD.2.2.1 (fun T t => ?_))
  obtain ⟨hr0, u0, p0, k0, k1, u2, p2, k4, k5⟩ := hD
  obtain ⟨hx, k2, k3, k6, k7, u1, p1, u3, p3⟩ := hL
  subst hr0 hx
  exact rt_tk2 0 1 2 (by omega) k0 k1 (by omega) (by omega) (t (H (h' := 0) ⟨rfl, u0, rfl, k0, k1, u2, p2, k4, k5⟩ ⟨rfl, k2, k3, k6, k7, u1, p1, u3, p3⟩ rfl rfl rfl))
theorem rt_deny9 {post : Int32 → St2 → Prop} {B a b c d : Nat} {x : Int32} (hB : B % 256 = 0) (hB2 : B < 65536) (hN : rt_N B a2 a3) (hZ : rt_Z a1) (hD : rt_D c (nI a) x r a1 a4 a5) (hL : rt_L3 b d x a1 a4 a5) (hb : b < 8)
    (H : ∀ {h' r' f' ab' fu' : Int32} {a1' a2' a3' a4' a5' a6' a7' a8' a9' : Nat → Int32}, rt_D c (nI a) (nI 3) r' a1' a4' a5' → rt_L2 d (nI 3) a1' a4' a5' → rt_Z a1' → a2' = a2 → a3' = a3 → post 3 (3, r', f', ab', fu', a1', a2', a3', a4', a5', a6', a7', a8', a9')) : wpX_deny post (nI 4, r, f, ab, fu, a1, a2, a3, a4, a5, a6, a7, a8, a9) (nI (B + 65)) (nI 9) := by
  refine rt_deny (B + 65) 9 B rfl rfl (by omega) (by omega) (by show (B + 65) / 128 * 128 = B; omega) (fun Q q1 q2 q3 => ?_)
  obtain ⟨hr0, u0, p0, k0, k1, u2, p2, k4, k5⟩ := hD
  obtain ⟨hx, k2, k3, k6, k7, u1, p1, u3, p3⟩ := hL
  subst hr0 hx
  refine rt_fdL B 9 hB hB2 hN k0 (by omega) (by omega) (by omega) (by omega) (rt_fd1 (n := 0) (0 + 1) (by omega) hB hB2 hN (q3 1 b (by omega) hb p1 (fun T t => ?_)))
  refine rt_tk_one 1 3 0 B 8 0 (by omega) (by omega) (by omega) k2 k3 hN.2.1 hB2 hN.2.2.2.2.1 (by omega) (by show B / 128 % 2 = 0; omega) (t (H (h' := 0) ⟨rfl, u0, p0, rfl, k1, u2, p2, k4, k5⟩ ⟨rfl, k6, k7, u3, p3, rfl⟩ ?_ rfl rfl))
  intro k h1 h2
  rw [pk_un (by omega)]
  exact hZ k h1 h2
theorem rt_deny10 {post : Int32 → St2 → Prop} {B a b c d : Nat} {x : Int32} (hB : B % 256 = 0) (hB2 : B < 65536) (hN : rt_N B a2 a3) (hZ : rt_Z a1) (hD : rt_D c (nI a) x r a1 a4 a5) (hL : rt_L3 b d x a1 a4 a5) (hb : b < 8) (hd : d < 8)
    (H : ∀ {h' r' f' ab' fu' : Int32} {a1' a2' a3' a4' a5' a6' a7' a8' a9' : Nat → Int32}, rt_D c (nI a) (nI 1) r' a1' a4' a5' → rt_L1 b (nI 1) a1' a4' a5' → rt_Z a1' → a2' = a2 → a3' = a3 → post 3 (3, r', f', ab', fu', a1', a2', a3', a4', a5', a6', a7', a8', a9')) : wpX_deny post (nI 4, r, f, ab, fu, a1, a2, a3, a4, a5, a6, a7, a8, a9) (nI (B + 65)) (nI 10) := by
  refine rt_deny (B + 65) 10 (B + 64) rfl rfl (by omega) (by omega) (by show (B + 65) / 64 * 64 = B + 64; omega) (fun Q q1 q2 q3 => ?_)
  obtain ⟨hr0, u0, p0, k0, k1, u2, p2, k4, k5⟩ := hD
  obtain ⟨hx, k2, k3, k6, k7, u1, p1, u3, p3⟩ := hL
  subst hr0 hx
  refine rt_fdL (B + 64) 10 hB hB2 hN k0 (by omega) (by omega) (by omega) (by omega) (rt_fd1s (n := 0 + 1) 10 (0 + 1) (by omega) hB hB2 hN k3 (by omega) (by omega) (rt_fd3 (0 + 1 + 1) (by omega) hB hB2 hN (q3 3 d (by omega) hd p3 (fun T t => ?_))))
  refine rt_tk_leaf 3 1 (B + 64) 9 1 b (by omega) (by omega) (by omega) k6 k7 hN.2.2.2.1 (by omega) hN.2.2.2.2.2.1 (by omega) (by show (B + 64) / 64 % 2 = 1; omega) p1 hb (t (H (h' := 0) ⟨rfl, u0, p0, k0, k1, u2, p2, k4, k5⟩ ⟨rfl, k2, rfl, u1, p1, rfl⟩ ?_ rfl rfl))
  intro k h1 h2
  rw [pk_un (by omega)]
  exact hZ k h1 h2
theorem rt_deny11 {post : Int32 → St2 → Prop} {B a b c d : Nat} {x : Int32} (hB : B % 256 = 0) (hB2 : B < 65536) (hN : rt_N B a2 a3) (hD : rt_D c (nI a) x r a1 a4 a5) (hL : rt_L3 b d x a1 a4 a5)
    (H : ∀ ab' fu' : Int32, post (-1) (h, r, f, ab', fu', a1, a2, a3, a4, a5, a6, a7, a8, a9)) : wpX_deny post (h, r, f, ab, fu, a1, a2, a3, a4, a5, a6, a7, a8, a9) (nI (B + 65)) (nI 11) := by
  refine rt_deny (B + 65) 11 (B + 64) rfl rfl (by omega) (by omega) (by show (B + 65) / 32 * 32 = B + 64; omega) (fun Q q1 q2 q3 => ?_)
  obtain ⟨hr0, u0, p0, k0, k1, u2, p2, k4, k5⟩ := hD
  obtain ⟨hx, k2, k3, k6, k7, u1, p1, u3, p3⟩ := hL
  have hN' := hN
  obtain ⟨b0, b1, b2, b3, l0, l1, l2, l3⟩ := hN
  subst hr0 hx
  refine rt_fdL (B + 64) 11 hB hB2 hN' k0 (by omega) (by omega) (by omega) (by omega) (rt_fd1s (n := 0 + 1 + 1) 11 (0 + 1) (by omega) hB hB2 hN' k3 (by omega) (by omega) ?_)
  exact rt_f_step 3 (B + 64) 11 (0 + 1 + 1) 10 (B + 64) 0 (-1) (by omega) (by omega) l3 (by omega) (by omega) b3 (by omega) (by omega) (by show (B + 64) / 64 * 64 = B + 64; omega) (by show (B + 64) / 32 % 2 = 0; omega) k6 (rt_f_none (0 + 1 + 1 + 1) (by omega) (q1 (H _ _)))
/-! denied already -/
theorem rt_again8 {post : Int32 → St2 → Prop} {B c : Nat} {x : Int32} (hB : B % 256 = 0) (hB2 : B < 65536) (hN : rt_N B a2 a3) (hD : rt_D c (-1) x r a1 a4 a5)
    (H : ∀ ab' fu' : Int32, post (-1) (h, r, f, ab', fu', a1, a2, a3, a4, a5, a6, a7, a8, a9)) : wpX_deny post (h, r, f, ab, fu, a1, a2, a3, a4, a5, a6, a7, a8, a9) (nI (B + 65)) (nI 8) := by
  refine rt_deny (B + 65) 8 B rfl rfl (by omega) (by omega) (by show (B + 65) / 256 * 256 = B; omega) (fun Q q1 q2 q3 => ?_)
  have hr0 := hD.1
  refine rt_fd0 hB hB2 hN hD (q2 0 (by omega) hD.2.2.1 ?_)
  subst hr0
  exact H _ _
theorem rt_again9 {post : Int32 → St2 → Prop} {B c : Nat} {p0 : Int32} (hB : B % 256 = 0) (hB2 : B < 65536) (hN : rt_N B a2 a3) (hD : rt_D c p0 (nI 3) r a1 a4 a5)
    (H : ∀ ab' fu' : Int32, post (-1) (h, r, f, ab', fu', a1, a2, a3, a4, a5, a6, a7, a8, a9)) : wpX_deny post (h, r, f, ab, fu, a1, a2, a3, a4, a5, a6, a7, a8, a9) (nI (B + 65)) (nI 9) := by
  refine rt_deny (B + 65) 9 B rfl rfl (by omega) (by omega) (by show (B + 65) / 128 * 128 = B; omega) (fun Q q1 q2 q3 => ?_)
  obtain ⟨hr0, u0, p0, k0, k1, u2, p2, k4, k5⟩ := hD
  subst hr0
  exact rt_fdL B 9 hB hB2 hN k0 (by omega) (by omega) (by omega) (by omega) (rt_f_long (n := 0) 3 9 (0 + 1) 10 (by omega) (by omega) hN.2.2.2.2.2.2.2 (by omega) (by omega) (q1 (H _ _)))
theorem rt_again10 {post : Int32 → St2 → Prop} {B b c : Nat} {p0 : Int32} (hB : B % 256 = 0) (hB2 : B < 65536) (hN : rt_N B a2 a3) (hD : rt_D c p0 (nI 1) r a1 a4 a5) (hL : rt_L1 b (nI 1) a1 a4 a5)
    (H : ∀ ab' fu' : Int32, post (-1) (h, r, f, ab', fu', a1, a2, a3, a4, a5, a6, a7, a8, a9)) : wpX_deny post (h, r, f, ab, fu, a1, a2, a3, a4, a5, a6, a7, a8, a9) (nI (B + 65)) (nI 10) := by
  refine rt_deny (B + 65) 10 (B + 64) rfl rfl (by omega) (by omega) (by show (B + 65) / 64 * 64 = B + 64; omega) (fun Q q1 q2 q3 => ?_)
  obtain ⟨hr0, u0, p0, k0, k1, u2, p2, k4, k5⟩ := hD
  obtain ⟨hx, k2, k3, u1, p1, u3⟩ := hL
  subst hr0
  exact rt_fdL (B + 64) 10 hB hB2 hN k0 (by omega) (by omega) (by omega) (by omega) (rt_fd1s (n := 0 + 1) 10 (0 + 1) (by omega) hB hB2 hN k3 (by omega) (by omega) (rt_f_none (0 + 1 + 1) (by omega) (q1 (H _ _))))
end
/-! forget -/
/-- what hangs at the left once node 1 has been gone over -/
def rt_LP (b c d : Nat) (x : Int32) (a1 a4 a5 : Nat → Int32) : Prop := rt_L0 x a1 ∨ (b ≠ c ∧ rt_L1 b x a1 a4 a5) ∨ rt_L2 d x a1 a4 a5 ∨ (b ≠ c ∧ rt_L3 b d x a1 a4 a5)
theorem rt_LP_keep {b c d : Nat} {x : Int32} {a1 a4 a5 e1 e4 e5 : Nat → Int32} (hL : rt_LP b c d x a1 a4 a5) (h1 : e1 1 = a1 1) (h2 : e1 3 = a1 3) (h3 : e4 1 = a4 1) (h4 : e4 3 = a4 3) (h5 : e5 2 = a5 2) (h6 : e5 3 = a5 3) (h7 : e5 6 = a5 6) (h8 : e5 7 = a5 7) : rt_LP b c d x e1 e4 e5 := by
  unfold rt_LP rt_L0 rt_L1 rt_L2 rt_L3 at *
  rw [h1, h2, h3, h4, h5, h6, h7, h8]
  exact hL
def rt_pz (a c : Nat) (p0 : Int32) (z : Bool) : Prop := (p0 = nI a ∧ a ≠ c ∧ z = true) ∨ (p0 = -1 ∧ z = false)
/-- what follows the forgetting -/
def rt_goal (post : Int32 → St2 → Prop) (B a c : Nat) (z : Bool) : Prop := ∀ {h r f ab fu : Int32} {a1 a2 a3 a4 a5 a6 a7 a8 a9 : Nat → Int32} (cnt : Nat) (x : Int32), 1 ≤ cnt → cnt ≤ 4 → rt_N B a2 a3 → (∀ k, k < 64 → a1 k = 0 ∨ ¬ a4 k = nI c) → rt_top a c z x r a1 a4 a5 → rt_LF c x a1 a4 a5 → post (nI cnt) (h, r, f, ab, fu, a1, a2, a3, a4, a5, a6, a7, a8, a9)
theorem rt_Zu {a1 : Nat → Int32} {k : Nat} {v : Int32} (h : rt_Z a1) (hk : k < 4) : rt_Z (upd a1 k v) := by
  intro j h1 h2
  rw [pk_un (by omega)]
  exact h j h1 h2
theorem rt_nee {a c : Nat} (ha : a < 8) (hc : c < 8) (h : a ≠ c) : ¬ nI a = nI c := fun z => h ((nI_eq (by omega) (by omega)).mp z)
theorem rt_1ne {c : Nat} (hc : c < 8) : ¬ (-1 : Int32) = nI c := fun z => rt_nem (p := c) (by omega) z.symm
section
variable {h r f ab fu : Int32} {a1 a2 a3 a4 a5 a6 a7 a8 a9 : Nat → Int32}
theorem rt_g4 {post : Int32 → St2 → Prop} {B a c cnt : Nat} {x : Int32} {z : Bool} (G : rt_goal post B a c z) (ha : a < 8) (hc : c < 8) (h1 : 1 ≤ cnt) (h4 : cnt ≤ 4) (hN : rt_N B a2 a3) (hZ : rt_Z a1) (u2 : a1 2 = 0) (hT : rt_top a c z x r a1 a4 a5) (hL : rt_LF c x a1 a4 a5) : wX_forget_16 post (nI c) 61 (nI cnt) (nI 4) h r f ab fu a1 a2 a3 a4 a5 a6 a7 a8 a9 := by
  refine rt_g_tail hZ (G cnt x h1 h4 hN ?_ hT hL) 61 4 (by omega) (by omega) (by omega)
  have E0 : a1 0 = 0 ∨ ¬ a4 0 = nI c := by
    rcases hT with ⟨_, _, _, p0, hac, _⟩ | ⟨_, _, u0⟩
    · exact Or.inr (by rw [p0]; exact rt_nee ha hc hac)
    · exact Or.inl u0
  have E1 : a1 1 = 0 ∨ ¬ a4 1 = nI c := by
    rcases hL with hL | ⟨b, hb, hbc, hL⟩ | ⟨d, hd, hdc, hL⟩ | ⟨b, d, hb, hbc, hd, hdc, hL⟩
    · exact Or.inl hL.2.1
    · exact Or.inr (by rw [hL.2.2.2.2.1]; exact rt_nee hb hc hbc)
    · exact Or.inl hL.2.2.2.2.2
    · exact Or.inr (by rw [hL.2.2.2.2.2.2.1]; exact rt_nee hb hc hbc)
  have E3 : a1 3 = 0 ∨ ¬ a4 3 = nI c := by
    rcases hL with hL | ⟨b, hb, hbc, hL⟩ | ⟨d, hd, hdc, hL⟩ | ⟨b, d, hb, hbc, hd, hdc, hL⟩
    · exact Or.inl hL.2.2
    · exact Or.inl hL.2.2.2.2.2
    · exact Or.inr (by rw [hL.2.2.2.2.1]; exact rt_nee hd hc hdc)
    · exact Or.inr (by rw [hL.2.2.2.2.2.2.2.2]; exact rt_nee hd hc hdc)
  intro k hk
  rcases Nat.lt_or_ge k 4 with z | z
  · rcases (show k = 0 ∨ k = 1 ∨ k = 2 ∨ k = 3 by omega) with z | z | z | z
    · rw [z]; exact E0
    · rw [z]; exact E1
    · rw [z]; exact Or.inl u2
    · rw [z]; exact E3
  · exact Or.inl (hZ k z hk)
theorem rt_g3 {post : Int32 → St2 → Prop} {B a b c d cnt : Nat} {x : Int32} {z : Bool} (G : rt_goal post B a c z) (hB : B % 256 = 0) (hB2 : B < 65536) (ha : a < 8) (hb : b < 8) (hc : c < 8) (hd : d < 8) (h1 : 1 ≤ cnt) (h4 : cnt ≤ 3) (hN : rt_N B a2 a3) (hZ : rt_Z a1) (u2 : a1 2 = 0) (hT : rt_top a c z x r a1 a4 a5) (hL : rt_LP b c d x a1 a4 a5) : wX_forget_16 post (nI c) (61 + 1) (nI cnt) (nI 3) h r f ab fu a1 a2 a3 a4 a5 a6 a7 a8 a9 := by
  rcases hL with hL | ⟨hbc, hL⟩ | hL | ⟨hbc, hL⟩
  · exact rt_g_un 3 (by omega) hL.2.2 (rt_g4 G ha hc h1 (by omega) hN hZ u2 hT (Or.inl hL))
  · exact rt_g_un 3 (by omega) hL.2.2.2.2.2 (rt_g4 G ha hc h1 (by omega) hN hZ u2 hT (Or.inr (Or.inl ⟨b, hb, hbc, hL⟩)))
  · by_cases hdc : d = c
    · subst hdc
      obtain ⟨hx, k6, k7, u3, p3, u1⟩ := hL
      refine rt_g_tk 3 cnt d (nI (B + 64)) (nI 10) (by omega) u3 p3 hN.2.2.2.1 hN.2.2.2.2.2.2.2 (fun Q T q t => ?_)
      rcases hT with ⟨hz, hr0, u0, p0, hac, k0, k1⟩ | ⟨hz, hr0, u0⟩
      · subst hr0 hx
        refine rt_fdL (B + 64) 10 hB hB2 hN k0 (by omega) (by omega) (by omega) (by omega) (rt_fd3 (n := 0) (0 + 1) (by omega) hB hB2 hN (q _ ?_))
        refine rt_tk_leaf 3 0 (B + 64) 8 0 a (by omega) (by omega) (by omega) k6 k7 hN.2.2.2.1 (by omega) hN.2.2.2.2.1 (by omega) (by show (B + 64) / 128 % 2 = 0; omega) p0 ha (t ?_)
        exact rt_g4 (x := -1) G ha hc (by omega) (by omega) hN (rt_Zu hZ (by omega)) u2 (Or.inl ⟨hz, rfl, u0, p0, hac, rfl, k1⟩) (Or.inl ⟨rfl, u1, rfl⟩)
      · subst hr0 hx
        refine rt_find (0 + 1) (rt_fd3 0 (by omega) hB hB2 hN (q _ ?_))
        refine rt_tk_root 3 (by omega) k6 k7 (t ?_)
        exact rt_g4 (x := -1) G ha hc (by omega) (by omega) hN (rt_Zu hZ (by omega)) u2 (Or.inr ⟨hz, rfl, u0⟩) (Or.inl ⟨rfl, u1, rfl⟩)
    · exact rt_g_ne 3 (by omega) hL.2.2.2.1 (by rw [hL.2.2.2.2.1]; exact rt_nee hd hc hdc) (rt_g4 G ha hc h1 (by omega) hN hZ u2 hT (Or.inr (Or.inr (Or.inl ⟨d, hd, hdc, hL⟩))))
  · by_cases hdc : d = c
    · subst hdc
      obtain ⟨hx, k2, k3, k6, k7, u1, p1, u3, p3⟩ := hL
      refine rt_g_tk 3 cnt d (nI (B + 64)) (nI 10) (by omega) u3 p3 hN.2.2.2.1 hN.2.2.2.2.2.2.2 (fun Q T q t => ?_)
      rcases hT with ⟨hz, hr0, u0, p0, hac, k0, k1⟩ | ⟨hz, hr0, u0⟩
      · subst hr0 hx
        refine rt_fdL (B + 64) 10 hB hB2 hN k0 (by omega) (by omega) (by omega) (by omega) (rt_fd1s (n := 0 + 1) 10 (0 + 1) (by omega) hB hB2 hN k3 (by omega) (by omega) (rt_fd3 (0 + 1 + 1) (by omega) hB hB2 hN (q _ ?_)))
        refine rt_tk_leaf 3 1 (B + 64) 9 1 b (by omega) (by omega) (by omega) k6 k7 hN.2.2.2.1 (by omega) hN.2.2.2.2.2.1 (by omega) (by show (B + 64) / 64 % 2 = 1; omega) p1 hb (t ?_)
        exact rt_g4 (x := nI 1) G ha hc (by omega) (by omega) hN (rt_Zu hZ (by omega)) u2 (Or.inl ⟨hz, rfl, u0, p0, hac, k0, k1⟩) (Or.inr (Or.inl ⟨b, hb, hbc, ⟨rfl, k2, rfl, u1, p1, rfl⟩⟩))
      · subst hr0 hx
        refine rt_find (0 + 1 + 1) (rt_fd1s 10 0 (by omega) hB hB2 hN k3 (by omega) (by omega) (rt_fd3 (0 + 1) (by omega) hB hB2 hN (q _ ?_)))
        refine rt_tk_leaf 3 1 (B + 64) 9 1 b (by omega) (by omega) (by omega) k6 k7 hN.2.2.2.1 (by omega) hN.2.2.2.2.2.1 (by omega) (by show (B + 64) / 64 % 2 = 1; omega) p1 hb (t ?_)
        exact rt_g4 (x := nI 1) G ha hc (by omega) (by omega) hN (rt_Zu hZ (by omega)) u2 (Or.inr ⟨hz, rfl, u0⟩) (Or.inr (Or.inl ⟨b, hb, hbc, ⟨rfl, k2, rfl, u1, p1, rfl⟩⟩))
    · exact rt_g_ne 3 (by omega) hL.2.2.2.2.2.2.2.1 (by rw [hL.2.2.2.2.2.2.2.2]; exact rt_nee hd hc hdc) (rt_g4 G ha hc h1 (by omega) hN hZ u2 hT (Or.inr (Or.inr (Or.inr ⟨b, d, hb, hbc, hd, hdc, hL⟩))))
/-- node 2 goes: from under node 0 -/
theorem rt_g2 {post : Int32 → St2 → Prop} {B a b c d cnt : Nat} {x p0 : Int32} {z : Bool} (G : rt_goal post B a c z) (hB : B % 256 = 0) (hB2 : B < 65536) (ha : a < 8) (hb : b < 8) (hc : c < 8) (hd : d < 8) (h4 : cnt ≤ 2) (hN : rt_N B a2 a3) (hZ : rt_Z a1) (hD : rt_D c p0 x r a1 a4 a5) (hp : rt_pz a c p0 z) (hL : rt_LP b c d x a1 a4 a5) (hx : p0 = -1 → ∃ o, o < 64 ∧ x = nI o) : wX_forget_16 post (nI c) (61 + 1 + 1) (nI cnt) (nI 2) h r f ab fu a1 a2 a3 a4 a5 a6 a7 a8 a9 := by
  have hD' := hD
  obtain ⟨hr0, u0, p0e, k0, k1, u2, p2, k4, k5⟩ := hD
  refine rt_g_tk 2 cnt c (nI (B + 128)) (nI 9) (by omega) u2 p2 hN.2.2.1 hN.2.2.2.2.2.2.1 (fun Q T q t => ?_)
  refine rt_fd2 hB hB2 hN hD' (q _ ?_)
  rcases hp with ⟨hp0, hac, hz⟩ | ⟨hp0, hz⟩
  · refine rt_tk_leaf 2 0 (B + 128) 8 1 a (by omega) (by omega) (by omega) k4 k5 hN.2.2.1 (by omega) hN.2.2.2.2.1 (by omega) (by show (B + 128) / 128 % 2 = 1; omega) (by rw [p0e, hp0]) ha (t ?_)
    exact rt_g3 (x := x) G hB hB2 ha hb hc hd (by omega) (by omega) hN (rt_Zu hZ (by omega)) rfl (Or.inl ⟨hz, rfl, u0, (by rw [← hp0]; exact p0e), hac, k0, rfl⟩) (rt_LP_keep hL rfl rfl rfl rfl rfl rfl rfl rfl)
  · obtain ⟨o, ho, hxo⟩ := hx hp0
    refine rt_tk_fork 2 0 (B + 128) 8 1 o (by omega) (by omega) ho (by omega) k4 k5 hN.2.2.1 (by omega) hN.2.2.2.2.1 (by omega) (by show (B + 128) / 128 % 2 = 1; omega) (by rw [p0e, hp0]) (Or.inl (by rw [← hxo]; exact k0)) (t ?_)
    exact rt_g3 (x := x) G hB hB2 ha hb hc hd (by omega) (by omega) hN (rt_Zu (rt_Zu hZ (by omega)) (by omega)) rfl (Or.inr ⟨hz, hxo.symm, rfl⟩) (rt_LP_keep hL rfl rfl rfl rfl rfl rfl rfl rfl)
/-- node 2 goes: it was alone -/
theorem rt_g2a {post : Int32 → St2 → Prop} {B a b c d cnt : Nat} {z : Bool} (G : rt_goal post B a c z) (hB : B % 256 = 0) (hB2 : B < 65536) (ha : a < 8) (hb : b < 8) (hc : c < 8) (hd : d < 8) (h4 : cnt ≤ 2) (hN : rt_N B a2 a3) (hZ : rt_Z a1) (hz : z = false) (hr0 : r = nI 2) (u0 : a1 0 = 0) (u1 : a1 1 = 0) (u3 : a1 3 = 0) (u2 : a1 2 = 1) (p2 : a4 2 = nI c) (k4 : a5 4 = -1) (k5 : a5 5 = -1) : wX_forget_16 post (nI c) (61 + 1 + 1) (nI cnt) (nI 2) h r f ab fu a1 a2 a3 a4 a5 a6 a7 a8 a9 := by
  refine rt_g_tk 2 cnt c (nI (B + 128)) (nI 9) (by omega) u2 p2 hN.2.2.1 hN.2.2.2.2.2.2.1 (fun Q T q t => ?_)
  subst hr0
  refine rt_find (0 + 1) (rt_f_hit 2 (B + 128) 9 0 (B + 128) (by omega) (by omega) hN.2.2.2.2.2.2.1 (by omega) hN.2.2.1 (by omega) (by omega) (by show (B + 128) / 128 * 128 = B + 128; omega) (q _ ?_))
  refine rt_tk_root 2 (by omega) k4 k5 (t ?_)
  exact rt_g3 (x := -1) (b := b) (d := d) G hB hB2 ha hb hc hd (by omega) (by omega) hN (rt_Zu hZ (by omega)) rfl (Or.inr ⟨hz, rfl, u0⟩) (Or.inl ⟨rfl, u1, u3⟩)
theorem rt_g1 {post : Int32 → St2 → Prop} {B a b c d cnt : Nat} {x p0 : Int32} {z : Bool} (G : rt_goal post B a c z) (hB : B % 256 = 0) (hB2 : B < 65536) (ha : a < 8) (hb : b < 8) (hc : c < 8) (hd : d < 8) (h4 : cnt ≤ 1) (hN : rt_N B a2 a3) (hZ : rt_Z a1) (hD : rt_D c p0 x r a1 a4 a5) (hp : rt_pz a c p0 z) (hL : rt_L1 b x a1 a4 a5 ∨ rt_L2 d x a1 a4 a5 ∨ rt_L3 b d x a1 a4 a5) : wX_forget_16 post (nI c) (61 + 1 + 1 + 1) (nI cnt) (nI 1) h r f ab fu a1 a2 a3 a4 a5 a6 a7 a8 a9 := by
  have hD' := hD
  obtain ⟨hr0, u0, p0e, k0, k1, u2, p2, k4, k5⟩ := hD
  rcases hL with hL | hL | hL
  · have hL' := hL
    obtain ⟨hx, k2, k3, u1, p1, u3⟩ := hL
    by_cases hbc : b = c
    · subst hbc
      refine rt_g_tk 1 cnt b (nI B) (nI 9) (by omega) u1 p1 hN.2.1 hN.2.2.2.2.2.1 (fun Q T q t => ?_)
      subst hr0 hx
      refine rt_fdL B 9 hB hB2 hN k0 (by omega) (by omega) (by omega) (by omega) (rt_fd1 (n := 0) (0 + 1) (by omega) hB hB2 hN (q _ ?_))
      rcases hp with ⟨hp0, hac, hz⟩ | ⟨hp0, hz⟩
      · refine rt_tk_leaf 1 0 B 8 0 a (by omega) (by omega) (by omega) k2 k3 hN.2.1 hB2 hN.2.2.2.2.1 (by omega) (by show B / 128 % 2 = 0; omega) (by rw [p0e, hp0]) ha (t ?_)
        exact rt_g2 (x := -1) (b := b) (d := d) G hB hB2 ha hb hc hd (by omega) hN (rt_Zu hZ (by omega)) ⟨rfl, u0, p0e, rfl, k1, u2, p2, k4, k5⟩ (Or.inl ⟨hp0, hac, hz⟩) (Or.inl ⟨rfl, rfl, u3⟩) (fun e => absurd e (by rw [hp0]; exact rt_nem (by omega)))
      · refine rt_tk_fork 1 0 B 8 0 2 (by omega) (by omega) (by omega) (by omega) k2 k3 hN.2.1 hB2 hN.2.2.2.2.1 (by omega) (by show B / 128 % 2 = 0; omega) (by rw [p0e, hp0]) (Or.inr ⟨rfl, k1⟩) (t ?_)
        exact rt_g2a (b := b) (d := d) G hB hB2 ha hb hc hd (by omega) hN (rt_Zu (rt_Zu hZ (by omega)) (by omega)) hz rfl rfl rfl u3 u2 p2 k4 k5
    · exact rt_g_ne 1 (by omega) u1 (by rw [p1]; exact rt_nee hb hc hbc) (rt_g2 (d := d) G hB hB2 ha hb hc hd (by omega) hN hZ hD' hp (Or.inr (Or.inl ⟨hbc, hL'⟩)) (fun _ => ⟨1, by omega, hx⟩))
  · exact rt_g_un 1 (by omega) hL.2.2.2.2.2 (rt_g2 (b := b) G hB hB2 ha hb hc hd (by omega) hN hZ hD' hp (Or.inr (Or.inr (Or.inl hL))) (fun _ => ⟨3, by omega, hL.1⟩))
  · have hL' := hL
    obtain ⟨hx, k2, k3, k6, k7, u1, p1, u3, p3⟩ := hL
    by_cases hbc : b = c
    · subst hbc
      refine rt_g_tk 1 cnt b (nI B) (nI 9) (by omega) u1 p1 hN.2.1 hN.2.2.2.2.2.1 (fun Q T q t => ?_)
      subst hr0 hx
      refine rt_fdL B 9 hB hB2 hN k0 (by omega) (by omega) (by omega) (by omega) (rt_fd1 (n := 0) (0 + 1) (by omega) hB hB2 hN (q _ ?_))
      refine rt_tk_one 1 3 0 B 8 0 (by omega) (by omega) (by omega) k2 k3 hN.2.1 hB2 hN.2.2.2.2.1 (by omega) (by show B / 128 % 2 = 0; omega) (t ?_)
      exact rt_g2 (x := nI 3) (b := b) (d := d) G hB hB2 ha hb hc hd (by omega) hN (rt_Zu hZ (by omega)) ⟨rfl, u0, p0e, rfl, k1, u2, p2, k4, k5⟩ hp (Or.inr (Or.inr (Or.inl ⟨rfl, k6, k7, u3, p3, rfl⟩))) (fun _ => ⟨3, by omega, rfl⟩)
    · exact rt_g_ne 1 (by omega) u1 (by rw [p1]; exact rt_nee hb hc hbc) (rt_g2 (d := d) G hB hB2 ha hb hc hd (by omega) hN hZ hD' hp (Or.inr (Or.inr (Or.inr ⟨hbc, hL'⟩))) (fun _ => ⟨1, by omega, hx⟩))
theorem rt_forget {post : Int32 → St2 → Prop} {B a b c d : Nat} {x p0 : Int32} {z : Bool} (G : rt_goal post B a c z) (hB : B % 256 = 0) (hB2 : B < 65536) (ha : a < 8) (hb : b < 8) (hc : c < 8) (hd : d < 8) (hN : rt_N B a2 a3) (hZ : rt_Z a1) (hD : rt_D c p0 x r a1 a4 a5) (hp : (p0 = nI a ∧ (z = true ↔ a ≠ c)) ∨ (p0 = -1 ∧ z = false)) (hL : rt_L1 b x a1 a4 a5 ∨ rt_L2 d x a1 a4 a5 ∨ rt_L3 b d x a1 a4 a5) : wpX_forget post (h, r, f, ab, fu, a1, a2, a3, a4, a5, a6, a7, a8, a9) (nI c) := by
  unfold wpX_forget
  refine br_f (nI_pos (by omega)) (pk_le c 7 (fun _ => ⟨61 + 1 + 1 + 1 + 1, ?_⟩) (fun z => absurd z (by omega)))
  have hD' := hD
  obtain ⟨hr0, u0, p0e, k0, k1, u2, p2, k4, k5⟩ := hD
  have N : ∀ (hq : rt_pz a c p0 z) (hne : ¬ p0 = nI c), wX_forget_16 post (nI c) (61 + 1 + 1 + 1 + 1) (nI 0) (nI 0) h r f ab fu a1 a2 a3 a4 a5 a6 a7 a8 a9 := fun hq hne =>
    rt_g_ne 0 (by omega) u0 (by rw [p0e]; exact hne) (rt_g1 G hB hB2 ha hb hc hd (by omega) hN hZ hD' hq hL)
  rcases hp with ⟨hp0, hz⟩ | ⟨hp0, hz⟩
  · by_cases hac : a = c
    · subst hac
      have hz' : z = false := by
        cases z with
        | false => rfl
        | true => exact absurd rfl (hz.mp rfl)
      refine rt_g_tk 0 0 a (nI B) (nI 8) (by omega) u0 (by rw [p0e, hp0]) hN.1 hN.2.2.2.2.1 (fun Q T q t => ?_)
      refine rt_fd0 hB hB2 hN hD' (q _ ?_)
      have hx : ∃ o, o < 64 ∧ a5 0 = nI o := by
        rcases hL with hL | hL | hL
        · exact ⟨1, by omega, by rw [k0]; exact hL.1⟩
        · exact ⟨3, by omega, by rw [k0]; exact hL.1⟩
        · exact ⟨1, by omega, by rw [k0]; exact hL.1⟩
      obtain ⟨o, ho, hxo⟩ := hx
      refine rt_tk2 0 o 2 (by omega) hxo k1 ho (by omega) (t ?_)
      exact rt_g1 (p0 := -1) (x := x) G hB hB2 ha hb hc hd (by omega) hN hZ ⟨rfl, u0, rfl, k0, k1, u2, p2, k4, k5⟩ (Or.inr ⟨rfl, hz'⟩) hL
    · exact N (Or.inl ⟨hp0, hac, hz.mpr hac⟩) (by rw [hp0]; exact rt_nee ha hc hac)
  · exact N (Or.inr ⟨hp0, hz⟩) (by rw [hp0]; exact rt_1ne hc)
end
end
section
/-! the sums that the law asks for -/
theorem rt_sumS (a b c d x : Nat) (hx : x ≠ 8) : rt_sum a b c d x = (if x = b then 64 else 0) + (if x = c then 128 else 0) + (if x = d then 64 else 0) := by
  unfold rt_sum
  rw [if_neg hx, if_neg hx]
  by_cases h1 : x = a
  · rw [if_pos h1, if_pos h1]
    by_cases h2 : x = b
    · rw [if_pos h2, if_pos h2, if_pos h2]
      by_cases h3 : x = c
      · rw [if_pos h3, if_pos h3]
        by_cases h4 : x = d
        · rw [if_pos h4, if_pos h4]; decide
        · rw [if_neg h4, if_neg h4]; decide
      · rw [if_neg h3, if_neg h3]
        by_cases h4 : x = d
        · rw [if_pos h4, if_pos h4]; decide
        · rw [if_neg h4, if_neg h4]; decide
    · rw [if_neg h2, if_neg h2, if_neg h2]
      by_cases h3 : x = c
      · rw [if_pos h3, if_pos h3]
        by_cases h4 : x = d
        · rw [if_pos h4, if_pos h4]; decide
        · rw [if_neg h4, if_neg h4]; decide
      · rw [if_neg h3, if_neg h3]
        by_cases h4 : x = d
        · rw [if_pos h4, if_pos h4]; decide
        · rw [if_neg h4, if_neg h4]; decide
  · rw [if_neg h1, if_neg h1]
    by_cases h2 : x = b
    · rw [if_pos h2, if_pos h2, if_pos h2]
      by_cases h3 : x = c
      · rw [if_pos h3, if_pos h3]
        by_cases h4 : x = d
        · rw [if_pos h4, if_pos h4]; decide
        · rw [if_neg h4, if_neg h4]; decide
      · rw [if_neg h3, if_neg h3]
        by_cases h4 : x = d
        · rw [if_pos h4, if_pos h4]; decide
        · rw [if_neg h4, if_neg h4]; decide
    · rw [if_neg h2, if_neg h2, if_neg h2]
      by_cases h3 : x = c
      · rw [if_pos h3, if_pos h3]
        by_cases h4 : x = d
        · rw [if_pos h4, if_pos h4]; decide
        · rw [if_neg h4, if_neg h4]; decide
      · rw [if_neg h3, if_neg h3]
        by_cases h4 : x = d
        · rw [if_pos h4, if_pos h4]; decide
        · rw [if_neg h4, if_neg h4]; decide
theorem rt_sum8 {a b c d : Nat} (ha : a < 8) (hb : b < 8) (hc : c < 8) (hd : d < 8) : rt_sum a b c d 8 = 65280 := by
  unfold rt_sum
  rw [if_pos rfl, if_pos rfl, if_neg (show ¬ 8 = a by omega), if_neg (show ¬ 8 = a by omega), if_neg (show ¬ 8 = b by omega), if_neg (show ¬ 8 = b by omega), if_neg (show ¬ 8 = c by omega), if_neg (show ¬ 8 = d by omega)]
  decide
theorem rt_pb (a b c d : Nat) (hb : b ≠ 8) : 64 + (if c = b then 128 else 0) + (if d = b then 64 else 0) = rt_sum a b c d b := by
  rw [rt_sumS a b c d b hb, if_pos rfl]
  by_cases h1 : b = c
  · rw [if_pos h1, if_pos h1.symm]
    by_cases h2 : b = d
    · rw [if_pos h2, if_pos h2.symm]
    · rw [if_neg h2, if_neg (fun z => h2 z.symm)]
  · rw [if_neg h1, if_neg (fun z => h1 z.symm)]
    by_cases h2 : b = d
    · rw [if_pos h2, if_pos h2.symm]
    · rw [if_neg h2, if_neg (fun z => h2 z.symm)]
theorem rt_pd (a b c d : Nat) (hd : d ≠ 8) : 64 + (if c = d then 128 else 0) + (if b = d then 64 else 0) = rt_sum a b c d d := by
  rw [rt_sumS a b c d d hd]
  rw [if_pos (show d = d from rfl)]
  by_cases h1 : d = c
  · rw [if_pos h1, if_pos h1.symm]
    by_cases h2 : d = b
    · rw [if_pos h2, if_pos h2.symm]
    · rw [if_neg h2, if_neg (fun z => h2 z.symm)]; decide
  · rw [if_neg h1, if_neg (fun z => h1 z.symm)]
    by_cases h2 : d = b
    · rw [if_pos h2, if_pos h2.symm]
    · rw [if_neg h2, if_neg (fun z => h2 z.symm)]; decide
/-- the states after a deny of the length len -/
def rt_K (len a b c d : Nat) (r : Int32) (a1 a4 a5 : Nat → Int32) : Prop := ∃ p0 x, rt_D c p0 x r a1 a4 a5 ∧ ((len = 8 ∧ p0 = -1 ∧ rt_L3 b d x a1 a4 a5) ∨ (len = 9 ∧ p0 = nI a ∧ x = nI 3 ∧ rt_L2 d x a1 a4 a5) ∨ (len = 10 ∧ p0 = nI a ∧ x = nI 1 ∧ rt_L1 b x a1 a4 a5) ∨ (len = 11 ∧ p0 = nI a ∧ rt_L3 b d x a1 a4 a5))
section
variable {h r f ab fu : Int32} {a1 a2 a3 a4 a5 a6 a7 a8 a9 : Nat → Int32}
theorem rt_k_own {post : Int32 → Prop} {B len a b c d : Nat} (m : Nat) (hB : B % 256 = 0) (hB2 : B < 65536) (hN : rt_N B a2 a3) (hK : rt_K len a b c d r a1 a4 a5) (ha : a < 8) (hb : b < 8) (hc : c < 8) (hd : d < 8) (h0 : B ≤ m) (hm : m < B + 256)
    (h1 : m < B + 64 → len = 9 → post (nI a)) (h1' : m < B + 64 → len ≠ 9 → post (nI b)) (h3 : B + 64 ≤ m → m < B + 128 → len = 10 → post (nI b)) (h3' : B + 64 ≤ m → m < B + 128 → len ≠ 10 → post (nI d)) (h2 : B + 128 ≤ m → post (nI c)) : wpX_owner post (h, r, f, ab, fu, a1, a2, a3, a4, a5, a6, a7, a8, a9) (nI m) := by
  obtain ⟨p0, x, hD, hL⟩ := hK
  rcases hL with ⟨hl, hp, hL⟩ | ⟨hl, hp, hx, hL⟩ | ⟨hl, hp, hx, hL⟩ | ⟨hl, hp, hL⟩
  · exact rt_own3 m hB hB2 hN hD hL (Or.inr hp) hb hc hd h0 hm (fun z => h1' z (by omega)) (fun z1 z2 => h3' z1 z2 (by omega)) h2
  · subst hp
    exact rt_own2 m hB hB2 hN hD hL ha hc hd h0 hm (fun z => h1 z hl) (fun z1 z2 => h3' z1 z2 (by omega)) h2
  · subst hp
    refine rt_own1 m hB hB2 hN hD hL ha hb hc h0 hm (fun z => ?_) h2
    rcases Nat.lt_or_ge m (B + 64) with z1 | z1
    · exact h1' z1 (by omega)
    · exact h3 z1 z hl
  · exact rt_own3 m hB hB2 hN hD hL (Or.inl ⟨a, ha, hp⟩) hb hc hd h0 hm (fun z => h1' z (by omega)) (fun z1 z2 => h3' z1 z2 (by omega)) h2
theorem rt_k_set {Q : St2 → Prop} {B len a b c d : Nat} (hN : rt_N B a2 a3) (hK : rt_K len a b c d r a1 a4 a5) (ha : a < 8) (hb : b < 8) (hc : c < 8) (hd : d < 8)
    (H : ∀ a6' a7' a8' a9' : Nat → Int32, a6' 8 = 65280 → Q (h, r, f, ab, fu, a1, a2, a3, a4, a5, a6', a7', a8', a9')) : wpX_settleAll Q (h, r, f, ab, fu, a1, a2, a3, a4, a5, a6, a7, a8, a9) := by
  obtain ⟨p0, x, hD, hL⟩ := hK
  rcases hL with ⟨hl, hp, hL⟩ | ⟨hl, hp, hx, hL⟩ | ⟨hl, hp, hx, hL⟩ | ⟨hl, hp, hL⟩
  · subst hp
    exact rt_set3f hN hD hL hb hc hd H
  · subst hp
    exact rt_set2 hN hD hL ha hc hd H
  · subst hp
    exact rt_set1 hN hD hL ha hb hc H
  · subst hp
    exact rt_set4 hN hD hL ha hb hc hd (fun s6 s7 s8 s9 e6 _ _ _ _ _ _ _ _ => H s6 s7 s8 s9 (by rw [e6 8 (by omega), rt_sum8 ha hb hc hd]))
theorem rt_k_again {post : Int32 → St2 → Prop} {B len a b c d : Nat} (hB : B % 256 = 0) (hB2 : B < 65536) (hN : rt_N B a2 a3) (hK : rt_K len a b c d r a1 a4 a5)
    (H : ∀ ab' fu' : Int32, post (-1) (h, r, f, ab', fu', a1, a2, a3, a4, a5, a6, a7, a8, a9)) : wpX_deny post (h, r, f, ab, fu, a1, a2, a3, a4, a5, a6, a7, a8, a9) (nI (B + 65)) (nI len) := by
  obtain ⟨p0, x, hD, hL⟩ := hK
  rcases hL with ⟨hl, hp, hL⟩ | ⟨hl, hp, hx, hL⟩ | ⟨hl, hp, hx, hL⟩ | ⟨hl, hp, hL⟩
  · subst hp hl
    exact rt_again8 hB hB2 hN hD H
  · subst hp hl hx
    exact rt_again9 hB hB2 hN hD H
  · subst hp hl hx
    exact rt_again10 hB hB2 hN hD hL H
  · subst hp hl
    exact rt_deny11 hB hB2 hN hD hL H
theorem rt_k_forget {post : Int32 → St2 → Prop} {B len a b c d : Nat} {z : Bool} (G : rt_goal post B a c z) (hz : z = true ↔ (len ≠ 8 ∧ a ≠ c)) (hB : B % 256 = 0) (hB2 : B < 65536) (ha : a < 8) (hb : b < 8) (hc : c < 8) (hd : d < 8) (hN : rt_N B a2 a3) (hZ : rt_Z a1) (hK : rt_K len a b c d r a1 a4 a5) : wpX_forget post (h, r, f, ab, fu, a1, a2, a3, a4, a5, a6, a7, a8, a9) (nI c) := by
  obtain ⟨p0, x, hD, hL⟩ := hK
  rcases hL with ⟨hl, hp, hL⟩ | ⟨hl, hp, hx, hL⟩ | ⟨hl, hp, hx, hL⟩ | ⟨hl, hp, hL⟩
  · have hz' : z = false := by
      cases z with
      | false => rfl
      | true => exact absurd hl (hz.mp rfl).1
    exact rt_forget G hB hB2 ha hb hc hd hN hZ hD (Or.inr ⟨hp, hz'⟩) (Or.inr (Or.inr hL))
  · exact rt_forget (b := b) G hB hB2 ha hb hc hd hN hZ hD (Or.inl ⟨hp, ⟨fun e => (hz.mp e).2, fun e => hz.mpr ⟨by omega, e⟩⟩⟩) (Or.inr (Or.inl hL))
  · exact rt_forget (d := d) G hB hB2 ha hb hc hd hN hZ hD (Or.inl ⟨hp, ⟨fun e => (hz.mp e).2, fun e => hz.mpr ⟨by omega, e⟩⟩⟩) (Or.inl hL)
  · exact rt_forget G hB hB2 ha hb hc hd hN hZ hD (Or.inl ⟨hp, ⟨fun e => (hz.mp e).2, fun e => hz.mpr ⟨by omega, e⟩⟩⟩) (Or.inr (Or.inr hL))
/-! the law, from its end -/
theorem rt_l780 {post : Int32 → St0 → Prop} {mc ms kc ks : Nat} {B a c : Nat} {x z0 z1 : Int32} {z : Bool} (hp : post 1 ()) (hN : rt_N B a2 a3) (hT : rt_top a c z x r a1 a4 a5) (hL : rt_LF c x a1 a4 a5) (ha : a < 8) (hc : c < 8) (hz : z1 = z0) : wL_lawOf_780 post mc ms (nI c) z0 z1 kc ks h r f ab fu a1 a2 a3 a4 a5 a6 a7 a8 a9 := by
  unfold wL_lawOf_780
  exact br_t hz (rt_owned c hc (fun Q q => rt_setF hN hT hL ha hc (fun s6 s7 s8 s9 e => q (br_t e hp))))
theorem rt_l674 {post : Int32 → St0 → Prop} {mc ms kc ks : Nat} {B len a b c d : Nat} {z0 z1 : Int32} (hp : post 1 ()) (hB : B % 256 = 0) (hB2 : B < 65536) (hlen : len < 16) (hN : rt_N B a2 a3) (hZ : rt_Z a1) (hK : rt_K len a b c d r a1 a4 a5) (ha : a < 8) (hb : b < 8) (hc : c < 8) (hd : d < 8) (hz : z1 = z0) : wL_lawOf_674 post mc ms (nI B) (nI a) (nI c) (nI len) z0 z1 kc ks h r f ab fu a1 a2 a3 a4 a5 a6 a7 a8 a9 := by
  unfold wL_lawOf_674
  rw [show nI B + 255 = nI (B + 255) from nI_add B 255, show nI B + 65 = nI (B + 65) from nI_add B 65]
  refine br_t hz ?_
  refine rt_k_own (B + 255) hB hB2 hN hK ha hb hc hd (by omega) (by omega) (fun z => absurd z (by omega)) (fun z => absurd z (by omega)) (fun _ z => absurd z (by omega)) (fun _ z => absurd z (by omega)) (fun _ => br_t rfl ?_)
  refine rt_owned8 (fun Q q => rt_k_set hN hK ha hb hc hd (fun s6 s7 s8 s9 e => q (br_t e ?_)))
  refine rt_k_again hB hB2 hN hK (fun ab' fu' => br_t rfl ?_)
  refine rt_k_forget (z := decide (len ≠ 8 ∧ a ≠ c)) ?_ (by rw [decide_eq_true_iff]) hB hB2 ha hb hc hd hN hZ hK
  unfold rt_goal
  intro h' r' f' ab'' fu'' a1' a2' a3' a4' a5' a6' a7' a8' a9' cnt x h1 h4 hN' hE hT hL
  refine rt_ent c hc hE (br_t rfl (br_f (nI_nlt (b := 1) h1 (by omega)) ?_))
  refine rt_ownF hB hB2 hN' hT hL ha hc (fun hz => ?_) (fun hz => ?_)
  · rw [decide_eq_true_iff] at hz
    exact pk_eq len 8 (fun e => absurd e hz.1) (fun _ => pk_eq a c (fun e => absurd e hz.2) (fun _ => rt_l780 hp hN' hT hL ha hc rfl))
  · rw [decide_eq_false_iff_not] at hz
    exact pk_eq len 8 (fun _ => rt_l780 hp hN' hT hL ha hc rfl) (fun e1 => pk_eq a c (fun _ => rt_l780 hp hN' hT hL ha hc rfl) (fun e2 => absurd ⟨e1, e2⟩ hz))
theorem rt_l634 {post : Int32 → St0 → Prop} {mc ms kc ks : Nat} {B len a b c d : Nat} {z0 : Int32} (hp : post 1 ()) (hB : B % 256 = 0) (hB2 : B < 65536) (hlen : len < 16) (hN : rt_N B a2 a3) (hZ : rt_Z a1) (hK : rt_K len a b c d r a1 a4 a5) (ha : a < 8) (hb : b < 8) (hc : c < 8) (hd : d < 8) (hz1 : len = 10 → z0 = nI b) (hz2 : len ≠ 10 → z0 = nI d) : wL_lawOf_634 post mc ms (nI B) (nI a) (nI b) (nI c) (nI len) z0 kc ks h r f ab fu a1 a2 a3 a4 a5 a6 a7 a8 a9 := by
  unfold wL_lawOf_634
  rw [show nI B + 65 = nI (B + 65) from nI_add B 65, show nI B + 1 = nI (B + 1) from nI_add B 1]
  have K : ∀ v : Int32, (len = 9 → v = nI a) → (len ≠ 9 → v = nI b) → ((nI len = 9 → wL_lawOf_674 post mc ms (nI B) (nI a) (nI c) (nI len) (nI a) v kc ks h r f ab fu a1 a2 a3 a4 a5 a6 a7 a8 a9) ∧ (¬ nI len = 9 → wL_lawOf_674 post mc ms (nI B) (nI a) (nI c) (nI len) (nI b) v kc ks h r f ab fu a1 a2 a3 a4 a5 a6 a7 a8 a9)) := fun v e1 e2 =>
    pk_eq len 9 (fun e => rt_l674 hp hB hB2 hlen hN hZ hK ha hb hc hd (e1 e)) (fun e => rt_l674 hp hB hB2 hlen hN hZ hK ha hb hc hd (e2 e))
  refine rt_k_own (B + 65) hB hB2 hN hK ha hb hc hd (by omega) (by omega) (fun z => absurd z (by omega)) (fun z => absurd z (by omega)) (fun _ _ e => br_t (hz1 e).symm ?_) (fun _ _ e => br_t (hz2 e).symm ?_) (fun z => absurd z (by omega))
  · exact rt_k_own (B + 1) hB hB2 hN hK ha hb hc hd (by omega) (by omega) (fun _ e => K _ (fun _ => rfl) (fun z => absurd e z)) (fun _ e => K _ (fun z => absurd z e) (fun _ => rfl)) (fun z => absurd z (by omega)) (fun z => absurd z (by omega)) (fun z => absurd z (by omega))
  · exact rt_k_own (B + 1) hB hB2 hN hK ha hb hc hd (by omega) (by omega) (fun _ e => K _ (fun _ => rfl) (fun z => absurd e z)) (fun _ e => K _ (fun z => absurd z e) (fun _ => rfl)) (fun z => absurd z (by omega)) (fun z => absurd z (by omega)) (fun z => absurd z (by omega))
theorem rt_l615 {post : Int32 → St0 → Prop} {mc ms kc ks : Nat} {B len a b c d : Nat} {z0 z1 : Int32} (hp : post 1 ()) (hB : B % 256 = 0) (hB2 : B < 65536) (hlen : len < 16) (hN : rt_N B a2 a3) (hZ : rt_Z a1) (hK : rt_K len a b c d r a1 a4 a5) (ha : a < 8) (hb : b < 8) (hc : c < 8) (hd : d < 8) (hz : z1 = z0) : wL_lawOf_615 post mc ms (nI B) (nI a) (nI b) (nI c) (nI d) (nI len) z0 z1 kc ks h r f ab fu a1 a2 a3 a4 a5 a6 a7 a8 a9 := by
  unfold wL_lawOf_615
  exact br_t hz (pk_eq len 10 (fun e => rt_l634 hp hB hB2 hlen hN hZ hK ha hb hc hd (fun _ => rfl) (fun z => absurd e z)) (fun e => rt_l634 hp hB hB2 hlen hN hZ hK ha hb hc hd (fun z => absurd z e) (fun _ => rfl)))
theorem rt_l533 {post : Int32 → St0 → Prop} {mc ms kc ks : Nat} {B a b c d : Nat} {x x3 z0 : Int32} (m : Nat) (hp : post 1 ()) (hB : B % 256 = 0) (hB2 : B < 65536) (hN : rt_N B a2 a3) (hZ : rt_Z a1) (hD : rt_D c (nI a) x r a1 a4 a5) (hL : rt_L3 b d x a1 a4 a5) (ha : a < 8) (hb : b < 8) (hc : c < 8) (hd : d < 8) (hm : m < 65536)
    (H1 : (m < B ∨ B + 256 ≤ m) → z0 = nI m) (H2 : B ≤ m → m < B + 256 → B + 256 < 65536 → z0 = nI (B + 256)) (H3 : B ≤ m → m < B + 256 → 65536 ≤ B + 256 → z0 = -1) : wL_lawOf_533 post mc ms x3 (nI B) (nI a) (nI b) (nI c) (nI d) (nI m) z0 kc ks (nI 4) r f ab fu a1 a2 a3 a4 a5 a6 a7 a8 a9 := by
  unfold wL_lawOf_533
  obtain ⟨g, hg, eg⟩ := pk_andE x3 (m := 255) 8 (by decide)
  rw [eg, show nI B + 65 = nI (B + 65) from nI_add B 65]
  have e19 : (8 : Int32) + (nI g - nI g / 4 * 4) = nI (8 + g % 4) := by
    rw [show nI g - nI g / 4 * 4 = nI (g % 4) from pk_rem (d := 4) (by omega) (by omega) (by omega)]
    exact nI_add 8 (g % 4)
  obtain ⟨len, hlen⟩ : ∃ len, len = 8 + g % 4 := ⟨_, rfl⟩
  rw [← hlen] at e19
  have hlen2 : len = 8 ∨ len = 9 ∨ len = 10 ∨ len = 11 := by omega
  have main : ∀ {h' r' f' ab' fu' : Int32} {a1' a2' a3' a4' a5' a6' a7' a8' a9' : Nat → Int32} (v : Int32), rt_N B a2' a3' → rt_Z a1' → rt_K len a b c d r' a1' a4' a5' → (len = 11 → v = -1) → (len ≠ 11 → v = 3) → ((10 < nI len → wL_lawOf_615 post mc ms (nI B) (nI a) (nI b) (nI c) (nI d) (nI len) (-1) v kc ks h' r' f' ab' fu' a1' a2' a3' a4' a5' a6' a7' a8' a9') ∧ (¬ 10 < nI len → wL_lawOf_615 post mc ms (nI B) (nI a) (nI b) (nI c) (nI d) (nI len) 3 v kc ks h' r' f' ab' fu' a1' a2' a3' a4' a5' a6' a7' a8' a9')) := fun v hN' hZ' hK' e1 e2 =>
    pk_lt 10 len (fun e => rt_l615 hp hB hB2 (by omega) hN' hZ' hK' ha hb hc hd (e1 (by omega))) (fun e => rt_l615 hp hB hB2 (by omega) hN' hZ' hK' ha hb hc hd (e2 (by omega)))
  have fin : ∀ Q : Int32 → Prop, (∀ v, v = z0 → Q v) → wpX_next Q (nI 4, r, f, ab, fu, a1, a2, a3, a4, a5, a6, a7, a8, a9) (-1) (nI m) := fun Q q =>
    rt_nxN m hm hB hB2 hN hZ hD hL ha hb hc hd (fun z => q _ (H1 z).symm) (fun z1 z2 z3 => q _ (H2 z1 z2 z3).symm) (fun z1 z2 z3 => q _ (H3 z1 z2 z3).symm)
  refine fin _ (fun v hv => br_t hv ?_)
  refine rt_nx8 (br_t rfl ?_)
  refine rt_nx6 (br_t rfl ⟨by decide, nm_r e19 ?_⟩)
  rcases hlen2 with e | e | e | e
  · subst e
    refine rt_deny8 hB hB2 hN hD hL ha (fun hD' hL' e1 e2 e3 => ?_)
    subst e1 e2 e3
    exact main 3 hN hZ ⟨-1, x, hD', Or.inl ⟨rfl, rfl, hL'⟩⟩ (fun z => absurd z (by omega)) (fun _ => rfl)
  · subst e
    refine rt_deny9 hB hB2 hN hZ hD hL hb (fun hD' hL' hZ' e2 e3 => ?_)
    subst e2 e3
    exact main 3 hN hZ' ⟨nI a, nI 3, hD', Or.inr (Or.inl ⟨rfl, rfl, rfl, hL'⟩)⟩ (fun z => absurd z (by omega)) (fun _ => rfl)
  · subst e
    refine rt_deny10 hB hB2 hN hZ hD hL hb hd (fun hD' hL' hZ' e2 e3 => ?_)
    subst e2 e3
    exact main 3 hN hZ' ⟨nI a, nI 1, hD', Or.inr (Or.inr (Or.inl ⟨rfl, rfl, rfl, hL'⟩))⟩ (fun z => absurd z (by omega)) (fun _ => rfl)
  · subst e
    exact rt_deny11 hB hB2 hN hD hL (fun ab' fu' => main (-1) hN hZ ⟨nI a, x, hD, Or.inr (Or.inr (Or.inr ⟨rfl, rfl, hL⟩))⟩ (fun _ => rfl) (fun z => absurd rfl z))
end
end
section
section
variable {h r f ab fu : Int32} {a1 a2 a3 a4 a5 a6 a7 a8 a9 : Nat → Int32}
theorem rt_l459 {post : Int32 → St0 → Prop} {mc ms kc ks : Nat} {B a b c d : Nat} {x x3 x4 z0 z1 : Int32} (hp : post 1 ()) (hB : B % 256 = 0) (hB2 : B < 65536) (hN : rt_N B a2 a3) (hZ : rt_Z a1) (hD : rt_D c (nI a) x r a1 a4 a5) (hL : rt_L3 b d x a1 a4 a5) (ha : a < 8) (hb : b < 8) (hc : c < 8) (hd : d < 8) (hz : z1 = z0) : wL_lawOf_459 post mc ms x3 x4 (nI B) (nI a) (nI b) (nI c) (nI d) z0 z1 kc ks (nI 4) r f ab fu a1 a2 a3 a4 a5 a6 a7 a8 a9 := by
  unfold wL_lawOf_459
  obtain ⟨m, hm, em⟩ := pk_andE x4 (m := 65535) 16 (by decide)
  rw [em, show nI B + 129 = nI (B + 129) from nI_add B 129, show nI B + 256 = nI (B + 256) from nI_add B 256]
  refine br_t hz (rt_nxC hB hB2 hN hD hL ha hb hc hd (br_t rfl (nm_e (nm_e ?_))))
  refine pk_lt m B (fun h1 => ?_) (fun h1 => pk_lt m (B + 256) (fun h2 => pk_le 65536 (B + 256) (fun h3 => ?_) (fun h3 => ?_)) (fun h2 => ?_))
  · unfold wL_lawOf_515
    exact rt_l533 m hp hB hB2 hN hZ hD hL ha hb hc hd hm (fun _ => rfl) (fun z => absurd z (by omega)) (fun z => absurd z (by omega))
  · exact rt_l533 m hp hB hB2 hN hZ hD hL ha hb hc hd hm (fun z => absurd z (by omega)) (fun _ _ z => absurd z (by omega)) (fun _ _ _ => rfl)
  · exact rt_l533 m hp hB hB2 hN hZ hD hL ha hb hc hd hm (fun z => absurd z (by omega)) (fun _ _ _ => rfl) (fun _ _ z => absurd z (by omega))
  · unfold wL_lawOf_515
    exact rt_l533 m hp hB hB2 hN hZ hD hL ha hb hc hd hm (fun _ => rfl) (fun _ z => absurd z (by omega)) (fun _ z => absurd z (by omega))
theorem rt_l427 {post : Int32 → St0 → Prop} {mc ms kc ks : Nat} {B a b c d : Nat} {x x3 x4 z0 z1 z2 : Int32} (hp : post 1 ()) (hB : B % 256 = 0) (hB2 : B < 65536) (hN : rt_N B a2 a3) (hZ : rt_Z a1) (hD : rt_D c (nI a) x r a1 a4 a5) (hL : rt_L3 b d x a1 a4 a5) (ha : a < 8) (hb : b < 8) (hc : c < 8) (hd : d < 8) (hz : z2 = z1 + z0) : wL_lawOf_427 post mc ms x3 x4 (nI B) (nI a) (nI b) (nI c) (nI d) z0 z1 z2 kc ks (nI 4) r f ab fu a1 a2 a3 a4 a5 a6 a7 a8 a9 := by
  unfold wL_lawOf_427
  rw [show nI B + 64 = nI (B + 64) from nI_add B 64]
  refine br_t hz (rt_nxA hB hB2 hN hZ hD hL ha hb hc hd (fun e => ?_) (fun e => ?_))
  · exact pk_eq b d (fun _ => rt_l459 hp hB hB2 hN hZ hD hL ha hb hc hd rfl) (fun z => absurd e z)
  · exact pk_eq b d (fun z => absurd z e) (fun _ => rt_l459 hp hB hB2 hN hZ hD hL ha hb hc hd rfl)
theorem rt_l414 {post : Int32 → St0 → Prop} {mc ms kc ks : Nat} {B a b c d : Nat} {x x3 x4 z0 z1 z2 : Int32} (hp : post 1 ()) (hB : B % 256 = 0) (hB2 : B < 65536) (hN : rt_N B a2 a3) (hZ : rt_Z a1) (hD : rt_D c (nI a) x r a1 a4 a5) (hL : rt_L3 b d x a1 a4 a5) (ha : a < 8) (hb : b < 8) (hc : c < 8) (hd : d < 8) (hz : z2 = z1 + z0 + (if b = d then 1 else 0)) : wL_lawOf_414 post mc ms x3 x4 (nI B) (nI a) (nI b) (nI c) (nI d) z0 z1 z2 kc ks (nI 4) r f ab fu a1 a2 a3 a4 a5 a6 a7 a8 a9 := by
  unfold wL_lawOf_414
  exact pk_eq b d (fun e => rt_l427 hp hB hB2 hN hZ hD hL ha hb hc hd (by rw [hz, if_pos e])) (fun e => rt_l427 hp hB hB2 hN hZ hD hL ha hb hc hd (by rw [hz, if_neg e]))
theorem rt_l401 {post : Int32 → St0 → Prop} {mc ms kc ks : Nat} {B a b c d : Nat} {x x3 x4 z0 z1 z2 : Int32} (hp : post 1 ()) (hB : B % 256 = 0) (hB2 : B < 65536) (hN : rt_N B a2 a3) (hZ : rt_Z a1) (hD : rt_D c (nI a) x r a1 a4 a5) (hL : rt_L3 b d x a1 a4 a5) (ha : a < 8) (hb : b < 8) (hc : c < 8) (hd : d < 8) (hz : z2 = z1 + z0 + (if a = c then 1 else 0) + (if b = d then 1 else 0)) : wL_lawOf_401 post mc ms x3 x4 (nI B) (nI a) (nI b) (nI c) (nI d) z0 z1 z2 kc ks (nI 4) r f ab fu a1 a2 a3 a4 a5 a6 a7 a8 a9 := by
  unfold wL_lawOf_401
  exact pk_eq a c (fun e => rt_l414 hp hB hB2 hN hZ hD hL ha hb hc hd (by rw [hz, if_pos e])) (fun e => rt_l414 hp hB hB2 hN hZ hD hL ha hb hc hd (by rw [hz, if_neg e]))
theorem rt_l345 {post : Int32 → St0 → Prop} {mc ms kc ks : Nat} {B a b c d : Nat} {x x3 x4 x13 x14 x15 : Int32} (hp : post 1 ()) (hB : B % 256 = 0) (hB2 : B < 65536) (hN : rt_N B a2 a3) (hZ : rt_Z a1) (hD : rt_D c (nI a) x r a1 a4 a5) (hL : rt_L3 b d x a1 a4 a5) (ha : a < 8) (hb : b < 8) (hc : c < 8) (hd : d < 8) (h13 : x13 = rt_sum a b c d a) (h14 : x14 = rt_sum a b c d b) (h15 : x15 = rt_sum a b c d d) : wL_lawOf_345 post mc ms x3 x4 (nI B) (nI a) (nI b) (nI c) (nI d) x13 x14 x15 kc ks (nI 4) r f ab fu a1 a2 a3 a4 a5 a6 a7 a8 a9 := by
  unfold wL_lawOf_345
  refine rt_owned a ha (fun Q q => rt_set4 hN hD hL ha hb hc hd (fun s6 s7 s8 s9 e6 _ _ _ _ _ _ _ _ => q (br_t (by rw [e6 a (by omega), h13]) ?_)))
  refine rt_owned b hb (fun Q q => rt_set4 hN hD hL ha hb hc hd (fun s6 s7 s8 s9 e6 _ _ _ _ _ _ _ _ => q (br_t (by rw [e6 b (by omega), h14]) ?_)))
  refine rt_owned d hd (fun Q q => rt_set4 hN hD hL ha hb hc hd (fun s6 s7 s8 s9 e6 _ _ _ _ _ _ _ _ => q (br_t (by rw [e6 d (by omega), h15]) ?_)))
  refine rt_use4 hN hZ hD hL ha hb hc hd (fun s6 s7 s8 s9 => ?_)
  exact pk_eq a b (fun e => rt_l401 hp hB hB2 hN hZ hD hL ha hb hc hd (by rw [if_pos e])) (fun e => rt_l401 hp hB hB2 hN hZ hD hL ha hb hc hd (by rw [if_neg e]))
theorem rt_l288 {post : Int32 → St0 → Prop} {mc ms kc ks : Nat} {B a b c d : Nat} {x x3 x4 x14 z0 z1 : Int32} (hp : post 1 ()) (hB : B % 256 = 0) (hB2 : B < 65536) (hN : rt_N B a2 a3) (hZ : rt_Z a1) (hD : rt_D c (nI a) x r a1 a4 a5) (hL : rt_L3 b d x a1 a4 a5) (ha : a < 8) (hb : b < 8) (hc : c < 8) (hd : d < 8) (h14 : x14 = rt_sum a b c d b) (h15 : z1 + z0 = rt_sum a b c d d) : wL_lawOf_288 post mc ms x3 x4 (nI B) (nI a) (nI b) (nI c) (nI d) 0 x14 z0 z1 kc ks (nI 4) r f ab fu a1 a2 a3 a4 a5 a6 a7 a8 a9 := by
  unfold wL_lawOf_288
  refine nm_e (pk_eq a b (fun e1 => ?_) (fun e1 => pk_eq a c (fun e2 => pk_eq d a (fun e3 => ?_) (fun e3 => ?_)) (fun e2 => pk_eq a d (fun e3 => ?_) (fun e3 => ?_))))
  · exact rt_l345 hp hB hB2 hN hZ hD hL ha hb hc hd (by rw [h14, e1]) h14 h15
  · unfold wL_lawOf_328
    refine nm_e (rt_l345 hp hB hB2 hN hZ hD hL ha hb hc hd ?_ h14 h15)
    rw [rt_sumS a b c d a (by omega), if_neg e1, if_pos e2, if_pos e3.symm]
    decide
  · unfold wL_lawOf_328
    refine nm_e (rt_l345 hp hB hB2 hN hZ hD hL ha hb hc hd ?_ h14 h15)
    rw [rt_sumS a b c d a (by omega), if_neg e1, if_pos e2, if_neg (fun z => e3 z.symm)]
    decide
  · exact rt_l345 hp hB hB2 hN hZ hD hL ha hb hc hd (by rw [h15, e3]) h14 h15
  · refine rt_l345 hp hB hB2 hN hZ hD hL ha hb hc hd ?_ h14 h15
    rw [rt_sumS a b c d a (by omega), if_neg e1, if_neg e2, if_neg e3]
    decide
theorem rt_l274 {post : Int32 → St0 → Prop} {mc ms kc ks : Nat} {B a b c d : Nat} {x x3 x4 x14 z0 : Int32} (hp : post 1 ()) (hB : B % 256 = 0) (hB2 : B < 65536) (hN : rt_N B a2 a3) (hZ : rt_Z a1) (hD : rt_D c (nI a) x r a1 a4 a5) (hL : rt_L3 b d x a1 a4 a5) (ha : a < 8) (hb : b < 8) (hc : c < 8) (hd : d < 8) (h14 : x14 = rt_sum a b c d b) (hz : z0 = if c = d then 128 else 0) : wL_lawOf_274 post mc ms x3 x4 (nI B) (nI a) (nI b) (nI c) (nI d) 0 x14 z0 64 kc ks (nI 4) r f ab fu a1 a2 a3 a4 a5 a6 a7 a8 a9 := by
  unfold wL_lawOf_274
  exact pk_eq b d (fun e => rt_l288 hp hB hB2 hN hZ hD hL ha hb hc hd h14 (by rw [← rt_pd a b c d (by omega), hz, if_pos e])) (fun e => rt_l288 hp hB hB2 hN hZ hD hL ha hb hc hd h14 (by rw [← rt_pd a b c d (by omega), hz, if_neg e]))
theorem rt_l255 {post : Int32 → St0 → Prop} {mc ms kc ks : Nat} {B a b c d : Nat} {x x3 x4 z0 z1 : Int32} (hp : post 1 ()) (hB : B % 256 = 0) (hB2 : B < 65536) (hN : rt_N B a2 a3) (hZ : rt_Z a1) (hD : rt_D c (nI a) x r a1 a4 a5) (hL : rt_L3 b d x a1 a4 a5) (ha : a < 8) (hb : b < 8) (hc : c < 8) (hd : d < 8) (hz : z1 + z0 = rt_sum a b c d b) : wL_lawOf_255 post mc ms x3 x4 (nI B) (nI a) (nI b) (nI c) (nI d) 0 z0 z1 kc ks (nI 4) r f ab fu a1 a2 a3 a4 a5 a6 a7 a8 a9 := by
  unfold wL_lawOf_255
  exact nm_e (pk_eq c d (fun e => rt_l274 hp hB hB2 hN hZ hD hL ha hb hc hd hz (by rw [if_pos e])) (fun e => rt_l274 hp hB hB2 hN hZ hD hL ha hb hc hd hz (by rw [if_neg e])))
theorem rt_l241 {post : Int32 → St0 → Prop} {mc ms kc ks : Nat} {B a b c d : Nat} {x x3 x4 z0 : Int32} (hp : post 1 ()) (hB : B % 256 = 0) (hB2 : B < 65536) (hN : rt_N B a2 a3) (hZ : rt_Z a1) (hD : rt_D c (nI a) x r a1 a4 a5) (hL : rt_L3 b d x a1 a4 a5) (ha : a < 8) (hb : b < 8) (hc : c < 8) (hd : d < 8) (hz : z0 = if c = b then 128 else 0) : wL_lawOf_241 post mc ms x3 x4 (nI B) (nI a) (nI b) (nI c) (nI d) 0 z0 64 kc ks (nI 4) r f ab fu a1 a2 a3 a4 a5 a6 a7 a8 a9 := by
  unfold wL_lawOf_241
  exact pk_eq d b (fun e => rt_l255 hp hB hB2 hN hZ hD hL ha hb hc hd (by rw [← rt_pb a b c d (by omega), hz, if_pos e])) (fun e => rt_l255 hp hB hB2 hN hZ hD hL ha hb hc hd (by rw [← rt_pb a b c d (by omega), hz, if_neg e]))
theorem rt_l206 {post : Int32 → St0 → Prop} {mc ms kc ks : Nat} {B a b c d : Nat} {x x3 x4 z0 z1 : Int32} (hp : post 1 ()) (hB : B % 256 = 0) (hB2 : B < 65536) (hN : rt_N B a2 a3) (hZ : rt_Z a1) (hD : rt_D c (nI a) x r a1 a4 a5) (hL : rt_L3 b d x a1 a4 a5) (ha : a < 8) (hb : b < 8) (hc : c < 8) (hd : d < 8) (hz : z1 = z0) : wL_lawOf_206 post mc ms x3 x4 (nI B) (nI a) (nI b) (nI c) (nI d) z0 z1 kc ks (nI 4) r f ab fu a1 a2 a3 a4 a5 a6 a7 a8 a9 := by
  unfold wL_lawOf_206
  refine br_t hz (rt_owned8 (fun Q q => rt_set4 hN hD hL ha hb hc hd (fun s6 s7 s8 s9 e6 _ _ _ _ _ _ _ _ => q (br_t (by rw [e6 8 (by omega), rt_sum8 ha hb hc hd]) ?_))))
  exact pk_eq c b (fun e => rt_l241 hp hB hB2 hN hZ hD hL ha hb hc hd (by rw [if_pos e])) (fun e => rt_l241 hp hB hB2 hN hZ hD hL ha hb hc hd (by rw [if_neg e]))
theorem rt_l157 {post : Int32 → St0 → Prop} {mc ms kc ks : Nat} {B a b c d : Nat} {x x3 x4 z0 : Int32} (w : Nat) (hp : post 1 ()) (hB : B % 256 = 0) (hB2 : B < 65536) (hw : w < 256) (hN : rt_N B a2 a3) (hZ : rt_Z a1) (hD : rt_D c (nI a) x r a1 a4 a5) (hL : rt_L3 b d x a1 a4 a5) (ha : a < 8) (hb : b < 8) (hc : c < 8) (hd : d < 8) (hz1 : w < 64 → z0 = nI b) (hz2 : 64 ≤ w → w < 128 → z0 = nI d) (hz3 : 128 ≤ w → z0 = nI c) : wL_lawOf_157 post mc ms x3 x4 (nI B) (nI a) (nI b) (nI c) (nI d) (nI w) z0 kc ks (nI 4) r f ab fu a1 a2 a3 a4 a5 a6 a7 a8 a9 := by
  unfold wL_lawOf_157
  rw [nI_add]
  refine rt_own4 (B + w) hB hB2 hN hD hL ha hb hc hd (by omega) (fun z => absurd z (by omega)) (fun g1 g2 => br_t (hz1 (by omega)).symm ?_) (fun g1 g2 => br_t (hz2 (by omega) (by omega)).symm ?_) (fun g1 g2 => br_t (hz3 (by omega)).symm ?_)
  · refine rt_len (B + w) (by omega) (fun Q q1 q2 => rt_st4 (B + w) hB hB2 hN hD hL ha hb hc hd (by omega) (fun z => absurd z (by omega)) (fun _ _ => q1 1 (nI 9) (by omega) hN.2.2.2.2.2.1 ?_) (fun z => absurd z (by omega)) (fun z => absurd z (by omega)))
    refine pk_lt w 64 (fun _ => ?_) (fun z => absurd z (by omega))
    unfold wL_lawOf_204
    exact rt_l206 hp hB hB2 hN hZ hD hL ha hb hc hd rfl
  · refine rt_len (B + w) (by omega) (fun Q q1 q2 => rt_st4 (B + w) hB hB2 hN hD hL ha hb hc hd (by omega) (fun z => absurd z (by omega)) (fun _ z => absurd z (by omega)) (fun _ _ => q1 3 (nI 10) (by omega) hN.2.2.2.2.2.2.2 ?_) (fun z => absurd z (by omega)))
    refine pk_lt w 64 (fun z => absurd z (by omega)) (fun _ => pk_le 128 w (fun z => absurd z (by omega)) (fun _ => ?_))
    exact rt_l206 hp hB hB2 hN hZ hD hL ha hb hc hd rfl
  · refine rt_len (B + w) (by omega) (fun Q q1 q2 => rt_st4 (B + w) hB hB2 hN hD hL ha hb hc hd (by omega) (fun z => absurd z (by omega)) (fun _ z => absurd z (by omega)) (fun _ z => absurd z (by omega)) (fun _ _ => q1 2 (nI 9) (by omega) hN.2.2.2.2.2.2.1 ?_))
    refine pk_lt w 64 (fun z => absurd z (by omega)) (fun _ => pk_le 128 w (fun _ => ?_) (fun z => absurd z (by omega)))
    unfold wL_lawOf_204
    exact rt_l206 hp hB hB2 hN hZ hD hL ha hb hc hd rfl
end
theorem rt_lawOf {post : Int32 → St0 → Prop} (hp : post 1 ()) (p0 p1 p2 p3 p4 : Int32) : wpL_lawOf post 10 599 () p0 p1 p2 p3 p4 := by
  obtain ⟨q, hq, eq⟩ := pk_andE p0 (m := 255) 8 (by decide)
  obtain ⟨a, ha, ea⟩ := pk_andE p1 (m := 7) 3 (by decide)
  obtain ⟨b, hb, eb⟩ := pk_andE (p1 >>> ((3 : Int32) &&& 31)) (m := 7) 3 (by decide)
  obtain ⟨c, hc, ec⟩ := pk_andE (p1 >>> ((6 : Int32) &&& 31)) (m := 7) 3 (by decide)
  obtain ⟨d, hd, ed⟩ := pk_andE (p1 >>> ((9 : Int32) &&& 31)) (m := 7) 3 (by decide)
  obtain ⟨w, hw, ew⟩ := pk_andE p2 (m := 255) 8 (by decide)
  have eB : nI q <<< ((8 : Int32) &&& 31) = nI (q * 256) := pk_shlN ((8 : Int32) &&& 31) 8 (by decide) (by omega)
  obtain ⟨B, hBq⟩ : ∃ B, B = q * 256 := ⟨_, rfl⟩
  rw [← hBq] at eB
  have hB : B % 256 = 0 := by omega
  have hB2 : B < 65536 := by omega
  have ha8 : a < 8 := ha
  have hb8 : b < 8 := hb
  have hc8 : c < 8 := hc
  have hd8 : d < 8 := hd
  have hw8 : w < 256 := hw
  clear ha hb hc hd hw hq hBq
  unfold wpL_lawOf
  refine ⟨by decide, by decide, 9, 585, by decide, by decide, ?_⟩
  refine rt_init (fun s s0 s2 s4 => ?_)
  refine nm_r (e' := nI B) (by rw [eq]; exact eB) (nm_r ea (nm_r eb (nm_r ec (nm_r ed ?_))))
  refine rt_allow 0 (B + 7) 8 a B (nI_add B 7) rfl rfl (by omega) (by omega) (by omega) ha8 (by show (B + 7) / 256 * 256 = B; omega) (fun Q k => ?_)
  refine rt_find (0 + 1) (rt_f_none 0 (by omega) (k (h' := 0) (fun T t => ?_)))
  refine rt_ins0 0 (nI 1) (by omega) s0 (t (br_t rfl ?_))
  refine rt_allow 1 B 9 b B rfl rfl rfl (by omega) (by omega) (by omega) hb8 (by show B / 128 * 128 = B; omega) (fun Q k => ?_)
  refine rt_find (0 + 1 + 1) (rt_f_step 0 B 9 0 8 B 0 (-1) (by omega) (by omega) rfl (by omega) (by omega) rfl hB2 hB2 (by show B / 256 * 256 = B; omega) (by show B / 128 % 2 = 0; omega) rfl (rt_f_none (0 + 1) (by omega) (k (h' := 0) (fun T t => ?_))))
  refine rt_ins 0 1 B 8 0 (nI 2) (by omega) (by omega) (by omega) rfl (by omega) hB2 (by show B / 128 % 2 = 0; omega) rfl s2 (t (br_t rfl ?_))
  refine rt_allow 2 (B + 200) 9 c (B + 128) (nI_add B 200) rfl rfl (by omega) (by omega) (by omega) hc8 (by show (B + 200) / 128 * 128 = B + 128; omega) (fun Q k => ?_)
  refine rt_find (0 + 1 + 1) (rt_f_step 0 (B + 128) 9 0 8 B 1 (-1) (by omega) (by omega) rfl (by omega) (by omega) rfl hB2 (by omega) (by show (B + 128) / 256 * 256 = B; omega) (by show (B + 128) / 128 % 2 = 1; omega) rfl (rt_f_none (0 + 1) (by omega) (k (h' := 0) (fun T t => ?_))))
  refine rt_ins 0 2 (B + 128) 8 1 (nI 3) (by omega) (by omega) (by omega) rfl (by omega) (by omega) (by show (B + 128) / 128 % 2 = 1; omega) rfl s4 (t (br_t rfl ?_))
  refine rt_allow 3 (B + 66) 10 d (B + 64) (nI_add B 66) rfl rfl (by omega) (by omega) (by omega) hd8 (by show (B + 66) / 64 * 64 = B + 64; omega) (fun Q k => ?_)
  refine rt_find (0 + 1 + 1 + 1) (rt_f_step 0 (B + 64) 10 0 8 B 0 (nI 1) (by omega) (by omega) rfl (by omega) (by omega) rfl hB2 (by omega) (by show (B + 64) / 256 * 256 = B; omega) (by show (B + 64) / 128 % 2 = 0; omega) rfl (rt_f_step 1 (B + 64) 10 (0 + 1) 9 B 1 (-1) (by omega) (by omega) rfl (by omega) (by omega) rfl hB2 (by omega) (by show (B + 64) / 128 * 128 = B; omega) (by show (B + 64) / 64 % 2 = 1; omega) rfl (rt_f_none (0 + 1 + 1) (by omega) (k (h' := 0) (fun T t => ?_)))))
  refine rt_ins 1 3 (B + 64) 9 1 (s 6) (by omega) (by omega) (by omega) rfl (by omega) (by omega) (by show (B + 64) / 64 % 2 = 1; omega) rfl rfl (t (br_t rfl (nm_r ew ?_)))
  have Z : ∀ v0 v1 v2 v3 : Int32, rt_Z (upd (upd (upd (upd (fun _ => 0) 0 v0) 1 v1) 2 v2) 3 v3) := fun v0 v1 v2 v3 => rt_Zu (rt_Zu (rt_Zu (rt_Zu (fun _ _ _ => rfl) (by omega)) (by omega)) (by omega)) (by omega)
  refine pk_lt w 128 (fun h1 => pk_lt w 64 (fun h2 => ?_) (fun h2 => ?_)) (fun h1 => ?_)
  · exact rt_l157 (x := nI 1) w hp hB hB2 hw8 ⟨rfl, rfl, rfl, rfl, rfl, rfl, rfl, rfl⟩ (Z 1 1 1 1) ⟨rfl, rfl, rfl, rfl, rfl, rfl, rfl, rfl, rfl⟩ ⟨rfl, rfl, rfl, rfl, rfl, rfl, rfl, rfl, rfl⟩ ha8 hb8 hc8 hd8 (fun _ => rfl) (fun z => absurd z (by omega)) (fun z => absurd z (by omega))
  · exact rt_l157 (x := nI 1) w hp hB hB2 hw8 ⟨rfl, rfl, rfl, rfl, rfl, rfl, rfl, rfl⟩ (Z 1 1 1 1) ⟨rfl, rfl, rfl, rfl, rfl, rfl, rfl, rfl, rfl⟩ ⟨rfl, rfl, rfl, rfl, rfl, rfl, rfl, rfl, rfl⟩ ha8 hb8 hc8 hd8 (fun z => absurd z (by omega)) (fun _ _ => rfl) (fun z => absurd z (by omega))
  · exact rt_l157 (x := nI 1) w hp hB hB2 hw8 ⟨rfl, rfl, rfl, rfl, rfl, rfl, rfl, rfl⟩ (Z 1 1 1 1) ⟨rfl, rfl, rfl, rfl, rfl, rfl, rfl, rfl, rfl⟩ ⟨rfl, rfl, rfl, rfl, rfl, rfl, rfl, rfl, rfl⟩ ha8 hb8 hc8 hd8 (fun z => absurd z (by omega)) (fun _ z => absurd z (by omega)) (fun _ => rfl)
theorem rt_cell {post : Int32 → Prop} {xs : Nat → Int32} {L : Nat} {u : St0} (k : Nat) (hL : L ≤ 5) (hk : k < 10) (H : ∀ v, post v) : wpL_cellAt post L xs u (nI k) := by
  unfold wpL_cellAt
  exact pk_le L k (fun _ => H _) (fun z => ⟨pk_in k L z rfl (by omega), H _⟩)
end
section
theorem i_vc (xs : Nat → Int32) (L : Nat) (hL : L ≤ 5) : wpL_law (fun r => r = 1) L xs := by
  unfold wpL_law
  refine rt_cell 0 hL (by omega) (fun v0 => ?_)
  refine rt_cell 1 hL (by omega) (fun v1 => ?_)
  refine rt_cell 2 hL (by omega) (fun v2 => ?_)
  refine rt_cell 3 hL (by omega) (fun v3 => ?_)
  refine rt_cell 4 hL (by omega) (fun v4 => ?_)
  exact ⟨10, 599, by decide, by decide, rt_lawOf rfl v0 v1 v2 v3 v4⟩
end
