section
/-- one bit as the int that a boolean array's place holds -/
def bm_b (b : Bool) : Int32 := cond b 1 0
/-- the bit memory holds the registers R -/
def bm_ok (a : Nat → Int32) (R : Nat → BitVec 32) : Prop := ∀ q j, q < 14 → j < 32 → a (32 * q + j) = bm_b ((R q).getLsbD j)
/-- a register written -/
def bm_put (R : Nat → BitVec 32) (r : Nat) (v : BitVec 32) : Nat → BitVec 32 := fun j => if j = r then v else R j
theorem bm_ps {R : Nat → BitVec 32} {r : Nat} {v : BitVec 32} : bm_put R r v r = v := if_pos rfl
theorem bm_pn {R : Nat → BitVec 32} {r j : Nat} {v : BitVec 32} (h : j ≠ r) : bm_put R r v j = R j := if_neg h
theorem bm_b0 (b : Bool) : bm_b b = 0 ↔ b = false := by cases b <;> decide
theorem bm_bi (b c : Bool) : bm_b b = bm_b c ↔ b = c := by cases b <;> cases c <;> decide
theorem bm_bn (b : Bool) : vp_nar .boolean (bm_b b) = bm_b b := by cases b <;> rfl
theorem bm_nw (b : Bool) : narrow .boolean (.int (bm_b b)) = .int (bm_b b) := by cases b <;> rfl
theorem bm_ft (b : Bool) : fits .boolean (.int (bm_b b)) = true := by cases b <;> rfl
theorem bm_nf {b : Bool} (h : ¬ b = false) : b = true := by cases b <;> simp_all
theorem bm_ix (r i : Nat) : (32 * nI r) + nI i = nI (32 * r + i) := by
  show nI 32 * nI r + nI i = _
  rw [pk_mul, nI_add]
theorem bm_ixc {r i : Nat} (h : 32 * r + i < 2 ^ 31) : ((32 * nI r) + nI i).toNatClampNeg = 32 * r + i := by
  rw [bm_ix]
  exact nI_clamp h
theorem bm_ixin {r i : Nat} (hr : r < 14) (hi : i < 32) : vp_in ((32 * nI r) + nI i) 448 := by
  rw [bm_ix]
  exact vp_in_nI (by omega) (by omega)
theorem bm_rd {a : Nat → Int32} {R : Nat → BitVec 32} {r i : Nat} (h : bm_ok a R) (hr : r < 14) (hi : i < 32) : a ((32 * nI r) + nI i).toNatClampNeg = bm_b ((R r).getLsbD i) := by
  rw [bm_ixc (by omega)]
  exact h r i hr hi
theorem bm_rd0 {a : Nat → Int32} {R : Nat → BitVec 32} {r i : Nat} (h : bm_ok a R) (hr : r < 14) (hi : i < 32) : a ((32 * nI r) + nI i).toNatClampNeg = 0 ↔ (R r).getLsbD i = false := by
  rw [bm_rd h hr hi]
  exact bm_b0 _
/-- the bit memory s while register r is being filled with v: i places are done -/
def bm_J (a s : Nat → Int32) (r : Nat) (v : BitVec 32) (i : Nat) : Prop := ∀ q j, q < 14 → j < 32 → s (32 * q + j) = if q = r ∧ j < i then bm_b (v.getLsbD j) else a (32 * q + j)
theorem bm_J0 {a : Nat → Int32} {r : Nat} {v : BitVec 32} : bm_J a a r v 0 := by
  intro q j _ _
  rw [if_neg (fun h => absurd h.2 (by omega))]
theorem bm_JS {a s : Nat → Int32} {r i k : Nat} {v : BitVec 32} {x : Int32} (h : bm_J a s r v i) (hi : i < 32) (hk : k = 32 * r + i) (hx : x = bm_b (v.getLsbD i)) : bm_J a (upd s k x) r v (i + 1) := by
  intro q j hq hj
  rw [hk, hx]
  by_cases e : q = r ∧ j = i
  · rw [e.1, e.2, pk_us, if_pos ⟨rfl, by omega⟩]
  · rw [pk_un (by intro z; apply e; constructor <;> omega), h q j hq hj]
    by_cases e2 : q = r ∧ j < i
    · rw [if_pos e2, if_pos ⟨e2.1, by omega⟩]
    · rw [if_neg e2, if_neg (fun z => by
        rcases Nat.lt_or_ge j i with g | g
        · exact e2 ⟨z.1, g⟩
        · exact e ⟨z.1, by omega⟩)]
theorem bm_J32 {a s : Nat → Int32} {r : Nat} {v : BitVec 32} {R : Nat → BitVec 32} (h : bm_J a s r v 32) (ha : bm_ok a R) : bm_ok s (bm_put R r v) := by
  intro q j hq hj
  rw [h q j hq hj]
  by_cases e : q = r
  · rw [e, if_pos ⟨rfl, hj⟩, bm_ps]
  · rw [if_neg (fun z => e z.1), bm_pn e, ha q j hq hj]
theorem bm_fS {s : Nat → Int32} {v : BitVec 32} {i k : Nat} {x : Int32} (h : ∀ j, j < i → s j = bm_b (v.getLsbD j)) (hk : k = i) (hx : x = bm_b (v.getLsbD i)) : ∀ j, j < i + 1 → upd s k x j = bm_b (v.getLsbD j) := by
  intro j hj
  rw [hk]
  by_cases e : j = i
  · rw [e, pk_us, hx]
  · rw [pk_un e]
    exact h j (by omega)
/-- one bit set -/
theorem bm_set1 {a : Nat → Int32} {R : Nat → BitVec 32} {r o k : Nat} (h : bm_ok a R) (ho : o < 32) (hk : k = 32 * r + o) : bm_ok (upd a k 1) (bm_put R r (R r ||| BitVec.twoPow 32 o)) := by
  intro q j hq hj
  rw [hk]
  by_cases e : q = r
  · rw [e, bm_ps, BitVec.getLsbD_or, BitVec.getLsbD_twoPow]
    by_cases e2 : j = o
    · rw [e2, pk_us]
      simp [ho, bm_b]
    · rw [pk_un (by omega), ← e, h q j hq hj]
      have e3 : ¬ o = j := fun z => e2 z.symm
      simp [e3]
  · rw [pk_un (by omega), bm_pn e, h q j hq hj]
/-! the values -/
def bm_wid (v : BitVec 32) : BitVec 32 := (v.setWidth 16).signExtend 32
def bm_low (v : BitVec 32) : BitVec 32 := (v.setWidth 16).setWidth 32
def bm_inv (c : Bool) (y : BitVec 32) : BitVec 32 := cond c (~~~y) y
def bm_sum (x y : BitVec 32) (c : Bool) : BitVec 32 := x + y + BitVec.setWidth 32 (BitVec.ofBool c)
theorem bm_widb (v : BitVec 32) {i : Nat} (hi : i < 32) : (bm_wid v).getLsbD i = v.getLsbD (if i < 16 then i else 15) := by
  unfold bm_wid
  rw [BitVec.getLsbD_signExtend, BitVec.msb_eq_getLsbD_last]
  by_cases h : i < 16
  · simp [h, hi]
  · simp [h, hi]
theorem bm_lowb (v : BitVec 32) {i : Nat} (hi : i < 32) : (bm_low v).getLsbD i = (decide (i < 16) && v.getLsbD i) := by
  unfold bm_low
  rw [BitVec.getLsbD_setWidth, BitVec.getLsbD_setWidth]
  simp [hi]
theorem bm_invb (c : Bool) (y : BitVec 32) {i : Nat} (hi : i < 32) : (bm_inv c y).getLsbD i = (y.getLsbD i ^^ c) := by
  cases c
  · simp [bm_inv]
  · simp [bm_inv, hi]
theorem bm_sumb (x y : BitVec 32) (c : Bool) {i : Nat} (hi : i < 32) : (bm_sum x y c).getLsbD i = (x.getLsbD i ^^ (y.getLsbD i ^^ BitVec.carry i x y c)) := BitVec.getLsbD_add_add_bool hi x y c
theorem bm_shlb (v : BitVec 32) (o : Nat) {i : Nat} (hi : i < 32) : (v <<< o).getLsbD i = (!decide (i < o) && v.getLsbD (i - o)) := by
  rw [BitVec.getLsbD_shiftLeft]
  simp [hi]
theorem bm_su : ∀ n, n < 32 → (((nI n).toUInt32 &&& Int32.toUInt32 31).toBitVec % 32).toNat = n := by decide +kernel
theorem bm_cbit (c : Int32) {i : Nat} (hi : i < 32) : ((c.toUInt32 >>> ((nI i).toUInt32 &&& Int32.toUInt32 31)).toInt32 &&& 1) = 0 ↔ c.toBitVec.getLsbD i = false := by
  have e : ((c.toUInt32 >>> ((nI i).toUInt32 &&& Int32.toUInt32 31)).toInt32).toBitVec = c.toBitVec >>> i := by
    show c.toBitVec >>> (((nI i).toUInt32 &&& Int32.toUInt32 31).toBitVec % 32) = c.toBitVec >>> i
    rw [BitVec.ushiftRight_eq', bm_su i hi]
  rw [← Int32.toBitVec_inj, Int32.toBitVec_and, e]
  show (c.toBitVec >>> i &&& 1#32) = 0#32 ↔ _
  rw [BitVec.and_one_eq_setWidth_ofBool_getLsbD, BitVec.getLsbD_ushiftRight, Nat.add_zero]
  cases c.toBitVec.getLsbD i <;> decide
theorem bm_vb (v : BitVec 32) {i : Nat} (hi : i < 16) : v.toNat % 65536 / 2 ^ i = 2 * (v.toNat % 65536 / 2 ^ (i + 1)) + (v.getLsbD i).toNat := by
  have e : (v.toNat % 2 ^ 16).testBit i = v.getLsbD i := by
    rw [Nat.testBit_mod_two_pow, BitVec.testBit_toNat]
    simp [hi]
  have e2 := Nat.toNat_testBit (v.toNat % 2 ^ 16) i
  rw [e] at e2
  rw [e2, Nat.pow_succ, ← Nat.div_div_eq_div_mul]
  show v.toNat % 2 ^ 16 / 2 ^ i = 2 * (v.toNat % 2 ^ 16 / 2 ^ i / 2) + v.toNat % 2 ^ 16 / 2 ^ i % 2
  omega
theorem bm_wn (v : BitVec 32) : (bm_wid v).toNat = v.toNat % 65536 + if 32768 ≤ v.toNat % 65536 then 4294901760 else 0 := by
  unfold bm_wid
  rw [BitVec.toNat_signExtend, BitVec.msb_eq_decide, BitVec.toNat_setWidth, BitVec.toNat_setWidth]
  have h : v.toNat % 2 ^ 16 < 2 ^ 16 := Nat.mod_lt _ (by decide)
  rw [Nat.mod_eq_of_lt (show v.toNat % 2 ^ 16 < 2 ^ 32 by omega)]
  simp
/-- the signed value of the low half -/
theorem bm_sg1 (v : BitVec 32) (h : v.toNat % 65536 < 32768) : nI (v.toNat % 65536) = Int32.ofBitVec (bm_wid v) := by
  apply Int32.toBitVec_inj.mp
  apply BitVec.eq_of_toNat_eq
  rw [pk_tn (by omega)]
  show _ = (bm_wid v).toNat
  rw [bm_wn, if_neg (by omega), Nat.add_zero]
theorem bm_sg2 (v : BitVec 32) (h : 32768 ≤ v.toNat % 65536) : nI (v.toNat % 65536) - 65536 = Int32.ofBitVec (bm_wid v) := by
  apply Int32.toBitVec_inj.mp
  apply BitVec.eq_of_toNat_eq
  rw [Int32.toBitVec_sub, BitVec.toNat_sub, pk_tn (by omega)]
  show _ = (bm_wid v).toNat
  rw [bm_wn, if_pos h]
  show (2 ^ 32 - 65536 + v.toNat % 65536) % 2 ^ 32 = _
  omega
theorem bm_wid_wid (v : BitVec 32) : bm_wid (bm_wid v) = bm_wid v := by
  apply BitVec.eq_of_getLsbD_eq
  intro i hi
  rw [bm_widb _ hi, bm_widb _ hi]
  by_cases h : i < 16
  · rw [if_pos h, bm_widb _ hi, if_pos h]
  · rw [if_neg h, bm_widb _ (by omega), if_pos (by omega)]
theorem bm_wid_low (v : BitVec 32) : (bm_wid v).toNat % 65536 = v.toNat % 65536 := by
  rw [bm_wn]
  split <;> omega
end
section
section
variable {l ne la st : Int32} {a1 a2 a3 a4 a5 a6 a7 a8 a9 a10 a11 : Nat → Int32}
theorem bm_keep {post : St1 → Prop} {R : Nat → BitVec 32} {v : BitVec 32} {r : Nat} (hr : r < 14) (h5 : bm_ok a5 R) (h6 : ∀ i, i < 32 → a6 i = bm_b (v.getLsbD i))
    (H : ∀ b5, bm_ok b5 (bm_put R r v) → post (l, ne, la, st, a1, a2, a3, a4, b5, a6, a7, a8, a9, a10, a11)) : wpX_keepFresh post (l, ne, la, st, a1, a2, a3, a4, a5, a6, a7, a8, a9, a10, a11) (nI r) :=
  pk_loop (fun n i s => wX_keepFresh_2 post (nI r) l ne la st n (nI i) a1 a2 a3 a4 s a6 a7 a8 a9 a10 a11) (fun i s => bm_J a5 s r v i) 32 0 a5 (by omega) bm_J0
    (fun n s h => pk_le 32 32 (fun _ => H s (bm_J32 h h5)) (fun z => absurd z (by omega)))
    (fun n i s hi h hw => pk_le 32 i (fun z => absurd z (by omega)) (fun _ => ⟨pk_in i 32 hi, bm_ixin hr hi, nm_e (nm_r (nI_1 i) (hw _ (bm_JS h hi (bm_ixc (by omega)) (by rw [nI_clamp (by omega), h6 i hi, bm_bn]))))⟩))
theorem bm_load {post : St1 → Prop} {R : Nat → BitVec 32} {r : Nat} {c : Int32} (hr : r < 14) (h5 : bm_ok a5 R)
    (H : ∀ b5, bm_ok b5 (bm_put R r c.toBitVec) → post (l, ne, la, st, a1, a2, a3, a4, b5, a6, a7, a8, a9, a10, a11)) : wpX_loadConstant post (l, ne, la, st, a1, a2, a3, a4, a5, a6, a7, a8, a9, a10, a11) (nI r) c :=
  pk_loop (fun n i s => wX_loadConstant_2 post (nI r) c l ne la st n (nI i) a1 a2 a3 a4 s a6 a7 a8 a9 a10 a11) (fun i s => bm_J a5 s r c.toBitVec i) 32 0 a5 (by omega) bm_J0
    (fun n s h => pk_le 32 32 (fun _ => H s (bm_J32 h h5)) (fun z => absurd z (by omega)))
    (fun n i s hi h hw => pk_le 32 i (fun z => absurd z (by omega)) (fun _ => ek_if (bm_cbit c hi)
      (fun g => ⟨bm_ixin hr hi, nm_e (nm_r (nI_1 i) (hw _ (bm_JS h hi (bm_ixc (by omega)) (by rw [g]; rfl))))⟩)
      (fun g => ⟨bm_ixin hr hi, nm_e (nm_r (nI_1 i) (hw _ (bm_JS h hi (bm_ixc (by omega)) (by rw [bm_nf g]; rfl))))⟩)))
theorem bm_widen {post : St1 → Prop} {R : Nat → BitVec 32} {t f : Nat} (ht : t < 14) (hf : f < 14) (h5 : bm_ok a5 R)
    (H : ∀ b5 b6, bm_ok b5 (bm_put R t (bm_wid (R f))) → post (l, ne, la, st, a1, a2, a3, a4, b5, b6, a7, a8, a9, a10, a11)) : wpX_widen post (l, ne, la, st, a1, a2, a3, a4, a5, a6, a7, a8, a9, a10, a11) (nI t) (nI f) :=
  pk_loop (fun n i s => wX_widen_2 post (nI t) (nI f) l ne la st n (nI i) a1 a2 a3 a4 a5 s a7 a8 a9 a10 a11) (fun i s => ∀ j, j < i → s j = bm_b ((bm_wid (R f)).getLsbD j)) 32 0 a6 (by omega) (fun j hj => absurd hj (by omega))
    (fun n s h => pk_le 32 32 (fun _ => bm_keep ht h5 h (fun b5 h => H b5 s h)) (fun z => absurd z (by omega)))
    (fun n i s hi h hw => pk_le 32 i (fun z => absurd z (by omega)) (fun _ => pk_le 16 i
      (fun g => ⟨bm_ixin (i := 15) hf (by omega), pk_in i 32 hi, nm_e (nm_r (nI_1 i) (hw _ (bm_fS h (nI_clamp (by omega)) (by
        rw [show a5 ((32 * nI f) + 15).toNatClampNeg = bm_b ((R f).getLsbD 15) from bm_rd (i := 15) h5 hf (by omega), bm_bn, bm_widb _ hi, if_neg (by omega)]))))⟩)
      (fun g => ⟨bm_ixin hf hi, pk_in i 32 hi, nm_e (nm_r (nI_1 i) (hw _ (bm_fS h (nI_clamp (by omega)) (by
        rw [bm_rd h5 hf hi, bm_bn, bm_widb _ hi, if_pos g]))))⟩)))
theorem bm_lowH {post : St1 → Prop} {R : Nat → BitVec 32} {t f : Nat} (ht : t < 14) (hf : f < 14) (h5 : bm_ok a5 R)
    (H : ∀ b5 b6, bm_ok b5 (bm_put R t (bm_low (R f))) → post (l, ne, la, st, a1, a2, a3, a4, b5, b6, a7, a8, a9, a10, a11)) : wpX_lowHalf post (l, ne, la, st, a1, a2, a3, a4, a5, a6, a7, a8, a9, a10, a11) (nI t) (nI f) :=
  pk_loop (fun n i s => wX_lowHalf_2 post (nI t) (nI f) l ne la st n (nI i) a1 a2 a3 a4 a5 s a7 a8 a9 a10 a11) (fun i s => ∀ j, j < i → s j = bm_b ((bm_low (R f)).getLsbD j)) 32 0 a6 (by omega) (fun j hj => absurd hj (by omega))
    (fun n s h => pk_le 32 32 (fun _ => bm_keep ht h5 h (fun b5 h => H b5 s h)) (fun z => absurd z (by omega)))
    (fun n i s hi h hw => pk_le 32 i (fun z => absurd z (by omega)) (fun _ => pk_le 16 i
      (fun g => ⟨pk_in i 32 hi, nm_e (nm_r (nI_1 i) (hw _ (bm_fS h (nI_clamp (by omega)) (by
        rw [bm_lowb _ hi, decide_eq_false (by omega : ¬ i < 16)]; rfl))))⟩)
      (fun g => ⟨bm_ixin hf hi, ek_if (bm_rd0 h5 hf hi)
        (fun g2 => ⟨pk_in i 32 hi, nm_e (nm_r (nI_1 i) (hw _ (bm_fS h (nI_clamp (by omega)) (by rw [bm_lowb _ hi, g2, Bool.and_false]; rfl))))⟩)
        (fun g2 => ⟨pk_in i 32 hi, nm_e (nm_r (nI_1 i) (hw _ (bm_fS h (nI_clamp (by omega)) (by rw [bm_lowb _ hi, bm_nf g2, decide_eq_true g]; rfl))))⟩)⟩)))
theorem bm_shift {post : St1 → Prop} {R : Nat → BitVec 32} {t f o : Nat} (ht : t < 14) (hf : f < 14) (ho : o < 32) (h5 : bm_ok a5 R)
    (H : ∀ b5 b6, bm_ok b5 (bm_put R t (R f <<< o)) → post (l, ne, la, st, a1, a2, a3, a4, b5, b6, a7, a8, a9, a10, a11)) : wpX_shift post (l, ne, la, st, a1, a2, a3, a4, a5, a6, a7, a8, a9, a10, a11) (nI t) (nI f) (nI o) :=
  pk_loop (fun n i s => wX_shift_3 post (nI t) (nI f) (nI o) l ne la st n (nI i) a1 a2 a3 a4 a5 s a7 a8 a9 a10 a11) (fun i s => ∀ j, j < i → s j = bm_b ((R f <<< o).getLsbD j)) 32 0 a6 (by omega) (fun j hj => absurd hj (by omega))
    (fun n s h => pk_le 32 32 (fun _ => bm_keep ht h5 h (fun b5 h => H b5 s h)) (fun z => absurd z (by omega)))
    (fun n i s hi h hw => pk_le 32 i (fun z => absurd z (by omega)) (fun _ => by
      rcases Nat.lt_or_ge i o with g | g
      · exact nm_e (br_t (pk_sneg (by omega) g) ⟨pk_in i 32 hi, nm_e (nm_r (nI_1 i) (hw _ (bm_fS h (nI_clamp (by omega)) (by rw [bm_shlb _ _ hi, decide_eq_true g]; rfl))))⟩)
      · exact nm_r (pk_sub g) (br_f (nI_pos (by omega)) (br_f (nI_ge (b := 32) (by omega) (by decide)) ⟨bm_ixin hf (by omega), ek_if (bm_rd0 h5 hf (by omega))
          (fun g2 => ⟨pk_in i 32 hi, nm_e (nm_r (nI_1 i) (hw _ (bm_fS h (nI_clamp (by omega)) (by rw [bm_shlb _ _ hi, g2, Bool.and_false]; rfl))))⟩)
          (fun g2 => ⟨pk_in i 32 hi, nm_e (nm_r (nI_1 i) (hw _ (bm_fS h (nI_clamp (by omega)) (by rw [bm_shlb _ _ hi, bm_nf g2, decide_eq_false (by omega : ¬ i < o)]; rfl))))⟩)⟩))))
theorem bm_xor {post : St1 → Prop} {R : Nat → BitVec 32} {t f o : Nat} (ht : t < 14) (hf : f < 14) (ho : o < 14) (h5 : bm_ok a5 R)
    (H : ∀ b5 b6, bm_ok b5 (bm_put R t (R f ^^^ R o)) → post (l, ne, la, st, a1, a2, a3, a4, b5, b6, a7, a8, a9, a10, a11)) : wpX_combine post (l, ne, la, st, a1, a2, a3, a4, a5, a6, a7, a8, a9, a10, a11) 5 (nI t) (nI f) (nI o) :=
  pk_loop (fun n i s => wX_combine_3 post 5 (nI t) (nI f) (nI o) l ne la st n (nI i) a1 a2 a3 a4 a5 s a7 a8 a9 a10 a11) (fun i s => ∀ j, j < i → s j = bm_b ((R f ^^^ R o).getLsbD j)) 32 0 a6 (by omega) (fun j hj => absurd hj (by omega))
    (fun n s h => pk_le 32 32 (fun _ => bm_keep ht h5 h (fun b5 h => H b5 s h)) (fun z => absurd z (by omega)))
    (fun n i s hi h hw => pk_le 32 i (fun z => absurd z (by omega)) (fun _ =>
      ⟨bm_ixin hf hi, nm_r (bm_rd h5 hf hi) ⟨bm_ixin ho hi, nm_r (bm_rd h5 ho hi) (br_f (by decide) (br_f (by decide) (ek_if (bm_bi _ _)
        (fun g => ⟨pk_in i 32 hi, nm_e (nm_r (nI_1 i) (hw _ (bm_fS h (nI_clamp (by omega)) (by rw [BitVec.getLsbD_xor, g, Bool.xor_self]; rfl))))⟩)
        (fun g => ⟨pk_in i 32 hi, nm_e (nm_r (nI_1 i) (hw _ (bm_fS h (nI_clamp (by omega)) (by
          rw [BitVec.getLsbD_xor, show ((R f).getLsbD i ^^ (R o).getLsbD i) = true from by simpa using g]; rfl))))⟩))))⟩⟩))
theorem bm_zero {post : Int32 → Prop} {R : Nat → BitVec 32} {f : Nat} (hf : f < 14) (h5 : bm_ok a5 R) (H : post (bm_b (R f == 0#32))) : wpX_isZero post (l, ne, la, st, a1, a2, a3, a4, a5, a6, a7, a8, a9, a10, a11) (nI f) :=
  pk_loop (σ := Unit) (fun n i _ => wX_isZero_2 post (nI f) l ne la st a1 a2 a3 a4 a5 a6 a7 a8 a9 a10 a11 n (nI i)) (fun i _ => ∀ j, j < i → (R f).getLsbD j = false) 32 0 () (by omega) (fun j hj => absurd hj (by omega))
    (fun n _ h => pk_le 32 32 (fun _ => by
      have e : R f = 0#32 := BitVec.eq_of_getLsbD_eq (fun j hj => by rw [h j hj, BitVec.getLsbD_zero])
      rw [e] at H
      exact H) (fun z => absurd z (by omega)))
    (fun n i _ hi h hw => pk_le 32 i (fun z => absurd z (by omega)) (fun _ => ⟨bm_ixin hf hi, ek_if (bm_rd0 h5 hf hi) (fun g => nm_r (nI_1 i) (hw () (lt_s h g)))
      (fun g => by
        have e : (R f == 0#32) = false := by
          apply Bool.eq_false_iff.mpr
          intro z
          rw [beq_iff_eq] at z
          rw [z, BitVec.getLsbD_zero] at g
          exact g rfl
        rw [e] at H
        exact H)⟩))
/-! the serial adder -/
theorem bm_a95 {post : St1 → Prop} {J7 : Int32 → Int32 → (Nat → Int32) → (Nat → Int32) → (Nat → Int32) → (Nat → Int32) → (Nat → Int32) → (Nat → Int32) → (Nat → Int32) → (Nat → Int32) → (Nat → Int32) → (Nat → Int32) → (Nat → Int32) → Prop} {x1 x2 x3 x4 x6 : Int32} (half c : Bool)
    (H : J7 (bm_b (half && c)) (x6 + 1) a1 a2 a3 a4 a5 a6 a7 a8 a9 a10 a11) : wX_addSerially_95 post J7 x1 x2 x3 x4 (bm_b c) x6 (bm_b half) l ne la st a1 a2 a3 a4 a5 a6 a7 a8 a9 a10 a11 := by
  cases half
  · exact br_t rfl (nm_e H)
  · cases c
    · exact br_f (by decide) (br_t rfl (nm_e H))
    · exact br_f (by decide) (br_f (by decide) (nm_e H))
theorem bm_a84 {post : St1 → Prop} {J7 : Int32 → Int32 → (Nat → Int32) → (Nat → Int32) → (Nat → Int32) → (Nat → Int32) → (Nat → Int32) → (Nat → Int32) → (Nat → Int32) → (Nat → Int32) → (Nat → Int32) → (Nat → Int32) → (Nat → Int32) → Prop} {x1 x2 x3 x4 x6 : Int32} (p q half c z : Bool) (hin : vp_in x6 32)
    (H : J7 (bm_b (p && q || half && c)) (x6 + 1) a1 a2 a3 a4 a5 (upd a6 x6.toNatClampNeg (bm_b z)) a7 a8 a9 a10 a11) : wX_addSerially_84 post J7 x1 x2 x3 x4 (bm_b c) x6 (bm_b p) (bm_b q) (bm_b half) (bm_b z) x6 l ne la st a1 a2 a3 a4 a5 a6 a7 a8 a9 a10 a11 := by
  refine ⟨hin, nm_r (congrArg _ (bm_bn z)) ?_⟩
  cases p
  · exact br_t rfl (bm_a95 half c H)
  · cases q
    · exact br_f (by decide) (br_t rfl (bm_a95 half c H))
    · exact br_f (by decide) (br_f (by decide) (nm_e H))
theorem bm_a64 {post : St1 → Prop} {J7 : Int32 → Int32 → (Nat → Int32) → (Nat → Int32) → (Nat → Int32) → (Nat → Int32) → (Nat → Int32) → (Nat → Int32) → (Nat → Int32) → (Nat → Int32) → (Nat → Int32) → (Nat → Int32) → (Nat → Int32) → Prop} {x1 x2 x3 x4 x6 : Int32} (p q half c : Bool) (hin : vp_in x6 32)
    (H : J7 (bm_b (p && q || half && c)) (x6 + 1) a1 a2 a3 a4 a5 (upd a6 x6.toNatClampNeg (bm_b (half ^^ c))) a7 a8 a9 a10 a11) : wX_addSerially_64 post J7 x1 x2 x3 x4 (bm_b c) x6 (bm_b p) (bm_b q) (bm_b half) l ne la st a1 a2 a3 a4 a5 a6 a7 a8 a9 a10 a11 := by
  cases half
  · cases c
    · exact br_t rfl (bm_a84 p q false false false hin H)
    · exact br_f (by decide) (bm_a84 p q false true true hin H)
  · cases c
    · exact br_f (by decide) (bm_a84 p q true false true hin H)
    · exact br_t rfl (bm_a84 p q true true false hin H)
theorem bm_a50 {post : St1 → Prop} {J7 : Int32 → Int32 → (Nat → Int32) → (Nat → Int32) → (Nat → Int32) → (Nat → Int32) → (Nat → Int32) → (Nat → Int32) → (Nat → Int32) → (Nat → Int32) → (Nat → Int32) → (Nat → Int32) → (Nat → Int32) → Prop} {x1 x2 x3 x4 x6 : Int32} (p q c : Bool) (hin : vp_in x6 32)
    (H : J7 (bm_b (p && q || (p ^^ q) && c)) (x6 + 1) a1 a2 a3 a4 a5 (upd a6 x6.toNatClampNeg (bm_b ((p ^^ q) ^^ c))) a7 a8 a9 a10 a11) : wX_addSerially_50 post J7 x1 x2 x3 x4 (bm_b c) x6 (bm_b p) (bm_b q) l ne la st a1 a2 a3 a4 a5 a6 a7 a8 a9 a10 a11 := by
  cases p
  · cases q
    · exact br_t rfl (bm_a64 false false false c hin H)
    · exact br_f (by decide) (bm_a64 false true true c hin H)
  · cases q
    · exact br_f (by decide) (bm_a64 true false true c hin H)
    · exact br_t rfl (bm_a64 true true false c hin H)
theorem bm_alt (p q c : Bool) : (p && q || (p ^^ q) && c) = Bool.atLeastTwo p q c := by cases p <;> cases q <;> cases c <;> rfl
theorem bm_add {post : St1 → Prop} {R : Nat → BitVec 32} {t f o : Nat} (inv : Bool) (ht : t < 14) (hf : f < 14) (ho : o < 14) (h5 : bm_ok a5 R)
    (H : ∀ b5 b6, bm_ok b5 (bm_put R t (bm_sum (R f) (bm_inv inv (R o)) inv)) → post (l, ne, bm_b (BitVec.carry 32 (R f) (bm_inv inv (R o)) inv), st, a1, a2, a3, a4, b5, b6, a7, a8, a9, a10, a11)) :
    wpX_addSerially post (l, ne, la, st, a1, a2, a3, a4, a5, a6, a7, a8, a9, a10, a11) (nI t) (nI f) (nI o) (bm_b inv) := by
  obtain ⟨n, hn⟩ := pk_loop (fun n i s => wX_addSerially_7 post (nI t) (nI f) (nI o) (bm_b inv) l ne la st n (bm_b (BitVec.carry i (R f) (bm_inv inv (R o)) inv)) (nI i) a1 a2 a3 a4 a5 s a7 a8 a9 a10 a11) (fun i s => ∀ j, j < i → s j = bm_b ((bm_sum (R f) (bm_inv inv (R o)) inv).getLsbD j)) 32 0 a6 (by omega) (fun j hj => absurd hj (by omega))
    (fun n s h => pk_le 32 32 (fun _ => ⟨bm_nw _, bm_ft _, bm_keep ht h5 h (fun b5 h => H b5 s h)⟩) (fun z => absurd z (by omega)))
    (fun n i s hi h hw => pk_le 32 i (fun z => absurd z (by omega)) (fun _ => by
      have hq := bm_invb inv (R o) hi
      have hs := bm_sumb (R f) (bm_inv inv (R o)) inv hi
      have hc := BitVec.carry_succ i (R f) (bm_inv inv (R o)) inv
      refine ⟨bm_ixin hf hi, nm_r (bm_rd h5 hf hi) ⟨bm_ixin ho hi, ?_⟩⟩
      have key : ∀ q : Bool, (bm_inv inv (R o)).getLsbD i = q → wX_addSerially_50 post (wX_addSerially_7 post (nI t) (nI f) (nI o) (bm_b inv) l ne la st n) (nI t) (nI f) (nI o) (bm_b inv) (bm_b (BitVec.carry i (R f) (bm_inv inv (R o)) inv)) (nI i) (bm_b ((R f).getLsbD i)) (bm_b q) l ne la st a1 a2 a3 a4 a5 s a7 a8 a9 a10 a11 := by
        intro q eq
        refine bm_a50 _ _ _ (pk_in i 32 hi) ?_
        have t := hw (upd s i (bm_b ((bm_sum (R f) (bm_inv inv (R o)) inv).getLsbD i))) (bm_fS h rfl rfl)
        rw [hc, ← bm_alt, hs, eq, ← Bool.xor_assoc] at t
        rw [nI_1, nI_clamp (show i < 2 ^ 31 by omega)]
        exact t
      refine ek_if (d := (bm_inv inv (R o)).getLsbD i = false) ?_ (fun g => key false g) (fun g => key true (bm_nf g))
      rw [bm_rd h5 ho hi, bm_bi, hq]
      cases (R o).getLsbD i <;> cases inv <;> decide))
  have hn' : wX_addSerially_7 post (nI t) (nI f) (nI o) (bm_b inv) l ne la st n (bm_b (BitVec.carry 0 (R f) (bm_inv inv (R o)) inv)) 0 a1 a2 a3 a4 a5 a6 a7 a8 a9 a10 a11 := hn
  rw [BitVec.carry_zero] at hn'
  exact ⟨n, hn'⟩
/-! reading and setting a variable -/
theorem bm_uns {post : Int32 → Prop} {R : Nat → BitVec 32} {r : Nat} (hr : r < 14) (h5 : bm_ok a5 R) (H : post (nI ((R r).toNat % 65536))) : wpX_unsigned post (l, ne, la, st, a1, a2, a3, a4, a5, a6, a7, a8, a9, a10, a11) (nI r) := by
  have hn := pk_loopD (fun n i s => wX_unsigned_5 post (nI r) l ne la st a1 a2 a3 a4 a5 a6 a7 a8 a9 a10 a11 n s (nI i + (-1))) (fun i s => i ≤ 16 ∧ s = nI ((R r).toNat % 65536 / 2 ^ i))
    (fun n s h => br_t (by decide) (by
      have e := h.2
      rw [Nat.pow_zero, Nat.div_one] at e
      rw [e]
      exact H))
    (fun n i s h hw => by
      have hb := bm_vb (R r) (show i < 16 by omega)
      have hs := h.2
      have t := fun s' (e : s' = nI ((R r).toNat % 65536 / 2 ^ i)) => hw s' ⟨by omega, e⟩
      show wX_unsigned_5 post (nI r) l ne la st a1 a2 a3 a4 a5 a6 a7 a8 a9 a10 a11 (n + 1) s (nI (i + 1) + (-1))
      rw [pk_m1]
      refine br_f (nI_pos (by omega)) ⟨bm_ixin hr (by omega), ek_if (bm_rd0 h5 hr (by omega)) (fun g => nm_e (nm_e (t _ ?_))) (fun g => nm_e (nm_e (t _ ?_)))⟩
      · rw [hb, g, hs]
        show nI 2 * nI _ + nI 0 = _
        rw [pk_mul, nI_add]
        rfl
      · rw [hb, bm_nf g, hs]
        show nI 2 * nI _ + nI 1 = _
        rw [pk_mul, nI_add]
        rfl)
    16 (nI ((R r).toNat % 65536 / 2 ^ 16)) ⟨by omega, rfl⟩
  have e : (R r).toNat % 65536 / 2 ^ 16 = 0 := Nat.div_eq_of_lt (Nat.mod_lt _ (by decide))
  rw [e] at hn
  exact ⟨_, hn⟩
theorem bm_get {post : Int32 → Prop} {R : Nat → BitVec 32} {r : Nat} {p0 : Int32} (hr : r < 8) (hp : p0 &&& 7 = nI r) (h5 : bm_ok a5 R) (H : post (Int32.ofBitVec (bm_wid (R r)))) : wpX_get post (l, ne, la, st, a1, a2, a3, a4, a5, a6, a7, a8, a9, a10, a11) p0 := by
  unfold wpX_get
  dsimp only
  rw [hp]
  refine bm_uns (by omega) h5 ?_
  have hv : (R r).toNat % 65536 < 65536 := Nat.mod_lt _ (by decide)
  refine pk_lt ((R r).toNat % 65536) 32768 (fun g => ?_) (fun g => ?_)
  · rw [bm_sg1 _ g]
    exact H
  · rw [bm_sg2 _ g]
    exact H
theorem bm_set {post : St1 → Prop} {R : Nat → BitVec 32} {r : Nat} {p0 c : Int32} (hr : r < 8) (hp : p0 &&& 7 = nI r) (h5 : bm_ok a5 R)
    (H : ∀ b5 b6, bm_ok b5 (bm_put (bm_put R 8 c.toBitVec) r (bm_wid c.toBitVec)) → post (l, ne, la, st, a1, a2, a3, a4, b5, b6, a7, a8, a9, a10, a11)) : wpX_set post (l, ne, la, st, a1, a2, a3, a4, a5, a6, a7, a8, a9, a10, a11) p0 c := by
  unfold wpX_set
  dsimp only
  rw [hp]
  refine bm_load (r := 8) (by omega) h5 (fun b5 h => ?_)
  refine bm_widen (f := 8) (by omega) (by omega) h (fun c5 c6 h => ?_)
  rw [bm_ps] at h
  exact H c5 c6 h
end
end
section
/-- a micro-step: kind, to, from, other, skip -/
abbrev bm_Op : Type := Nat × Nat × Nat × Nat × Nat
/-- of the list F all but S is written -/
def bm_em (F S : List bm_Op) (st : Int32) (a7 a8 a9 a10 a11 : Nat → Int32) : Prop := ∃ Q : List bm_Op, Q ++ S = F ∧ st = nI Q.length ∧ ∀ (i : Nat) (o : bm_Op), Q[i]? = some o → a7 i = nI o.1 ∧ a8 i = nI o.2.1 ∧ a9 i = nI o.2.2.1 ∧ a10 i = nI o.2.2.2.1 ∧ a11 i = nI o.2.2.2.2
theorem bm_em0 {F : List bm_Op} {a7 a8 a9 a10 a11 : Nat → Int32} : bm_em F F 0 a7 a8 a9 a10 a11 := ⟨[], rfl, rfl, fun i o h => by simp at h⟩
def bm_pU (S : List bm_Op) : Nat → List bm_Op
  | 0 => S
  | k + 1 => (8, 0, 9, 31 - k, 1) :: (1, 10, 10, 8, 0) :: (0, 8, 8, 1, 0) :: bm_pU S k
def bm_pr (x y : Nat) (S : List bm_Op) : List bm_Op := (0, 8, x, 0, 0) :: (0, 9, y, 0, 0) :: (11, 10, 0, 0, 0) :: bm_pU S 32
def bm_qD (S : List bm_Op) : Nat → List bm_Op
  | 0 => S
  | i + 1 => (0, 10, 10, 1, 0) :: (8, 0, 8, i, 1) :: (10, 10, 0, 0, 0) :: (2, 12, 10, 9, 0) :: (9, 0, 0, 0, 2) :: (0, 10, 12, 0, 0) :: (10, 11, 0, i, 0) :: bm_qD S i
def bm_qh (x y : Nat) (S : List bm_Op) : List bm_Op := (11, 13, 0, 0, 0) :: (0, 8, x, 0, 0) :: (8, 0, x, 31, 1) :: (2, 8, 13, x, 0) :: (0, 9, y, 0, 0) :: (8, 0, y, 31, 1) :: (2, 9, 13, y, 0) :: (11, 10, 0, 0, 0) :: (11, 11, 0, 0, 0) :: bm_qD S 16
def bm_f6 (d x y : Nat) : List bm_Op := (12, 0, 9, 0, 1) :: (11, 11, 0, 0, 0) :: (5, 12, x, y, 0) :: (8, 0, 12, 31, 1) :: (2, 11, 13, 11, 0) :: (6, d, 11, 0, 0) :: []
def bm_f7 (d x : Nat) : List bm_Op := (8, 0, x, 31, 1) :: (2, 10, 13, 10, 0) :: (6, d, 10, 0, 0) :: []
def bm_rD (S : List bm_Op) : Nat → List bm_Op
  | 0 => S
  | i + 1 => (0, 9, 9, 2, 0) :: (8, 0, 8, 2 * i + 1, 1) :: (10, 9, 0, 1, 0) :: (8, 0, 8, 2 * i, 1) :: (10, 9, 0, 0, 0) :: (0, 11, 10, 2, 0) :: (10, 11, 0, 0, 0) :: (0, 10, 10, 1, 0) :: (2, 12, 9, 11, 0) :: (9, 0, 0, 0, 2) :: (0, 9, 12, 0, 0) :: (10, 10, 0, 0, 0) :: bm_rD S i
def bm_rt (x : Nat) (S : List bm_Op) : List bm_Op := (7, 8, x, 0, 0) :: (11, 9, 0, 0, 0) :: (11, 10, 0, 0, 0) :: bm_rD S 8
/-- the micro-steps of the law's lines -/
def bm_P (r : Nat) : Nat → List bm_Op
  | 0 => bm_qh 0 1 (bm_f6 2 0 1)
  | 1 => bm_qh 0 1 (bm_f7 3 0)
  | 2 => bm_pr 2 1 ((0, 10, 10, 0, 0) :: (6, 4, 10, 0, 0) :: [])
  | 3 => (1, 8, 4, 3, 0) :: (6, 5, 8, 0, 0) :: []
  | 4 => (11, 9, 0, 0, 0) :: (5, 8, 5, 0, 0) :: (12, 0, 8, 0, 1) :: (10, 9, 0, 0, 0) :: (6, 6, 9, 0, 0) :: []
  | _ => bm_rt r ((6, 7, 10, 0, 0) :: [])
/-- one line of the machine's own program -/
def bm_cl (a1 a2 a3 a4 : Nat → Int32) (i k d x y : Nat) : Prop := a1 i = nI k ∧ a2 i = nI d ∧ a3 i &&& 7 = nI x ∧ a4 i &&& 7 = nI y
/-- the law's program -/
def bm_code (r : Nat) (a1 a2 a3 a4 : Nat → Int32) : Prop := bm_cl a1 a2 a3 a4 0 6 2 0 1 ∧ bm_cl a1 a2 a3 a4 1 7 3 0 1 ∧ bm_cl a1 a2 a3 a4 2 4 4 2 1 ∧ bm_cl a1 a2 a3 a4 3 2 5 4 3 ∧ bm_cl a1 a2 a3 a4 4 14 6 5 0 ∧ bm_cl a1 a2 a3 a4 5 15 7 r 0
section
variable {l ne la st : Int32} {a1 a2 a3 a4 a5 a6 a7 a8 a9 a10 a11 : Nat → Int32}
theorem bm_step {post : St1 → Prop} {F S : List bm_Op} {k t f o s : Nat} {p0 p1 p2 p3 p4 : Int32} (hF : F.length ≤ 160) (h : bm_em F ((k, t, f, o, s) :: S) st a7 a8 a9 a10 a11)
    (H : ∀ st' b7 b8 b9 b10 b11, bm_em F S st' b7 b8 b9 b10 b11 → post (l, ne, la, st', a1, a2, a3, a4, a5, a6, b7, b8, b9, b10, b11))
    (h0 : p0 = nI k := by rfl) (h1 : p1 = nI t := by rfl) (h2 : p2 = nI f := by rfl) (h3 : p3 = nI o := by rfl) (h4 : p4 = nI s := by rfl) : wpX_step post (l, ne, la, st, a1, a2, a3, a4, a5, a6, a7, a8, a9, a10, a11) p0 p1 p2 p3 p4 := by
  subst h0 h1 h2 h3 h4
  obtain ⟨Q, e, hst, hQ⟩ := h
  subst hst
  have hl : Q.length < 160 := by
    have e2 := congrArg List.length e
    rw [List.length_append, List.length_cons] at e2
    omega
  have hc := nI_clamp (show Q.length < 2 ^ 31 by omega)
  have hin : vp_in (nI Q.length) 160 := vp_in_nI hl (by omega)
  refine ⟨hin, nm_e ⟨hin, nm_e ⟨hin, nm_e ⟨hin, nm_e ⟨hin, nm_e (nm_r (nI_1 _) (H _ _ _ _ _ _ ⟨Q ++ [(k, t, f, o, s)], ?_, ?_, ?_⟩))⟩⟩⟩⟩⟩
  · rw [← e, List.append_assoc]
    rfl
  · rw [List.length_append]
    rfl
  · intro i op hi
    rw [hc]
    rcases Nat.lt_trichotomy i Q.length with g | g | g
    · rw [List.getElem?_append_left g] at hi
      have ne : i ≠ Q.length := by omega
      rw [pk_un ne, pk_un ne, pk_un ne, pk_un ne, pk_un ne]
      exact hQ i op hi
    · rw [g, List.getElem?_concat_length] at hi
      have hi' := Option.some.inj hi
      rw [g, ← hi', pk_us, pk_us, pk_us, pk_us, pk_us]
      exact ⟨rfl, rfl, rfl, rfl, rfl⟩
    · rw [List.getElem?_eq_none (by rw [List.length_append, List.length_singleton]; omega)] at hi
      exact absurd hi.symm (Option.some_ne_none _)
theorem bm_amt {post : St1 → Prop} {F S : List bm_Op} {t x : Nat} (hF : F.length ≤ 160) (h : bm_em F ((0, t, x, 0, 0) :: (8, 0, x, 31, 1) :: (2, t, 13, x, 0) :: S) st a7 a8 a9 a10 a11)
    (H : ∀ st' b7 b8 b9 b10 b11, bm_em F S st' b7 b8 b9 b10 b11 → post (l, ne, la, st', a1, a2, a3, a4, a5, a6, b7, b8, b9, b10, b11)) : wpX_amount post (l, ne, la, st, a1, a2, a3, a4, a5, a6, a7, a8, a9, a10, a11) (nI t) (nI x) := by
  unfold wpX_amount
  dsimp only
  refine bm_step hF h (fun _ _ _ _ _ _ h => ?_)
  refine bm_step hF h (fun _ _ _ _ _ _ h => ?_)
  refine bm_step hF h (fun _ _ _ _ _ _ h => ?_)
  exact H _ _ _ _ _ _ h
theorem bm_prod {post : St1 → Prop} {F S : List bm_Op} {x y : Nat} (hF : F.length ≤ 160) (h : bm_em F (bm_pr x y S) st a7 a8 a9 a10 a11)
    (H : ∀ st' b7 b8 b9 b10 b11, bm_em F S st' b7 b8 b9 b10 b11 → post (l, ne, la, st', a1, a2, a3, a4, a5, a6, b7, b8, b9, b10, b11)) : wpX_product post (l, ne, la, st, a1, a2, a3, a4, a5, a6, a7, a8, a9, a10, a11) (nI x) (nI y) := by
  unfold wpX_product
  dsimp only
  unfold bm_pr at h
  refine bm_step hF h (fun _ _ _ _ _ _ h => ?_)
  refine bm_step hF h (fun _ _ _ _ _ _ h => ?_)
  refine bm_step hF h (fun t0 t7 t8 t9 t10 t11 h => ?_)
  refine pk_loop (σ := Int32 × (Nat → Int32) × (Nat → Int32) × (Nat → Int32) × (Nat → Int32) × (Nat → Int32)) (fun n i s => wX_product_33 post n (nI i) l ne la s.1 a1 a2 a3 a4 a5 a6 s.2.1 s.2.2.1 s.2.2.2.1 s.2.2.2.2.1 s.2.2.2.2.2) (fun i s => bm_em F (bm_pU S (32 - i)) s.1 s.2.1 s.2.2.1 s.2.2.2.1 s.2.2.2.2.1 s.2.2.2.2.2) 32 0 (t0, t7, t8, t9, t10, t11) (by omega) h
    (fun n s h => pk_le 32 32 (fun _ => H _ _ _ _ _ _ h) (fun z => absurd z (by omega)))
    (fun n i s hi h hw => pk_le 32 i (fun z => absurd z (by omega)) (fun _ => ?_))
  rw [show 32 - i = (31 - i) + 1 by omega] at h
  unfold bm_pU at h
  rw [show 31 - (31 - i) = i by omega] at h
  refine bm_step hF h (fun _ _ _ _ _ _ h => ?_)
  refine bm_step hF h (fun _ _ _ _ _ _ h => ?_)
  refine bm_step hF h (fun t0 t7 t8 t9 t10 t11 h => ?_)
  refine nm_r (nI_1 i) (hw (t0, t7, t8, t9, t10, t11) ?_)
  rw [show 32 - (i + 1) = 31 - i by omega]
  exact h
theorem bm_quo {post : St1 → Prop} {F S : List bm_Op} {x y : Nat} (hF : F.length ≤ 160) (h : bm_em F (bm_qh x y S) st a7 a8 a9 a10 a11)
    (H : ∀ st' b7 b8 b9 b10 b11, bm_em F S st' b7 b8 b9 b10 b11 → post (l, ne, la, st', a1, a2, a3, a4, a5, a6, b7, b8, b9, b10, b11)) : wpX_quotient post (l, ne, la, st, a1, a2, a3, a4, a5, a6, a7, a8, a9, a10, a11) (nI x) (nI y) := by
  unfold wpX_quotient
  dsimp only
  unfold bm_qh at h
  refine bm_step hF h (fun _ _ _ _ _ _ h => ?_)
  refine bm_amt (t := 8) hF h (fun _ _ _ _ _ _ h => ?_)
  refine bm_amt (t := 9) hF h (fun _ _ _ _ _ _ h => ?_)
  refine bm_step hF h (fun _ _ _ _ _ _ h => ?_)
  refine bm_step hF h (fun t0 t7 t8 t9 t10 t11 h => ?_)
  have hn := pk_loopD (σ := Int32 × (Nat → Int32) × (Nat → Int32) × (Nat → Int32) × (Nat → Int32) × (Nat → Int32)) (fun n i s => wX_quotient_50 post n (nI i + (-1)) l ne la s.1 a1 a2 a3 a4 a5 a6 s.2.1 s.2.2.1 s.2.2.2.1 s.2.2.2.2.1 s.2.2.2.2.2) (fun i s => i ≤ 16 ∧ bm_em F (bm_qD S i) s.1 s.2.1 s.2.2.1 s.2.2.2.1 s.2.2.2.2.1 s.2.2.2.2.2)
    (fun n s h => br_t (by decide) (H _ _ _ _ _ _ h.2))
    (fun n i s h hw => by
      show wX_quotient_50 post (n + 1) (nI (i + 1) + (-1)) l ne la s.1 a1 a2 a3 a4 a5 a6 s.2.1 s.2.2.1 s.2.2.2.1 s.2.2.2.2.1 s.2.2.2.2.2
      rw [pk_m1]
      obtain ⟨hi, h⟩ := h
      unfold bm_qD at h
      refine br_f (nI_pos (by omega)) ?_
      refine bm_step hF h (fun _ _ _ _ _ _ h => ?_)
      refine bm_step hF h (fun _ _ _ _ _ _ h => ?_)
      refine bm_step hF h (fun _ _ _ _ _ _ h => ?_)
      refine bm_step hF h (fun _ _ _ _ _ _ h => ?_)
      refine bm_step hF h (fun _ _ _ _ _ _ h => ?_)
      refine bm_step hF h (fun _ _ _ _ _ _ h => ?_)
      refine bm_step hF h (fun t0 t7 t8 t9 t10 t11 h => ?_)
      exact nm_e (hw (t0, t7, t8, t9, t10, t11) ⟨by omega, h⟩))
    16 (t0, t7, t8, t9, t10, t11) ⟨by omega, h⟩
  rw [show nI 16 + (-1) = 15 from by decide] at hn
  exact ⟨17, hn⟩
theorem bm_root {post : St1 → Prop} {F S : List bm_Op} {x : Nat} (hF : F.length ≤ 160) (h : bm_em F (bm_rt x S) st a7 a8 a9 a10 a11)
    (H : ∀ st' b7 b8 b9 b10 b11, bm_em F S st' b7 b8 b9 b10 b11 → post (l, ne, la, st', a1, a2, a3, a4, a5, a6, b7, b8, b9, b10, b11)) : wpX_root post (l, ne, la, st, a1, a2, a3, a4, a5, a6, a7, a8, a9, a10, a11) (nI x) := by
  unfold wpX_root
  dsimp only
  unfold bm_rt at h
  refine bm_step hF h (fun _ _ _ _ _ _ h => ?_)
  refine bm_step hF h (fun _ _ _ _ _ _ h => ?_)
  refine bm_step hF h (fun t0 t7 t8 t9 t10 t11 h => ?_)
  have hn := pk_loopD (σ := Int32 × (Nat → Int32) × (Nat → Int32) × (Nat → Int32) × (Nat → Int32) × (Nat → Int32)) (fun n i s => wX_root_36 post n (nI i + (-1)) l ne la s.1 a1 a2 a3 a4 a5 a6 s.2.1 s.2.2.1 s.2.2.2.1 s.2.2.2.2.1 s.2.2.2.2.2) (fun i s => i ≤ 8 ∧ bm_em F (bm_rD S i) s.1 s.2.1 s.2.2.1 s.2.2.2.1 s.2.2.2.2.1 s.2.2.2.2.2)
    (fun n s h => br_t (by decide) (H _ _ _ _ _ _ h.2))
    (fun n i s h hw => by
      show wX_root_36 post (n + 1) (nI (i + 1) + (-1)) l ne la s.1 a1 a2 a3 a4 a5 a6 s.2.1 s.2.2.1 s.2.2.2.1 s.2.2.2.2.1 s.2.2.2.2.2
      rw [pk_m1]
      obtain ⟨hi, h⟩ := h
      unfold bm_rD at h
      have e0 : 2 * nI i = nI (2 * i) := pk_mul 2 i
      have e1 : 2 * nI i + 1 = nI (2 * i + 1) := by rw [e0, nI_1]
      refine br_f (nI_pos (by omega)) ?_
      refine bm_step hF h (fun _ _ _ _ _ _ h => ?_)
      refine bm_step hF h (fun _ _ _ _ _ _ h => ?_) rfl rfl rfl e1 rfl
      refine bm_step hF h (fun _ _ _ _ _ _ h => ?_)
      refine bm_step hF h (fun _ _ _ _ _ _ h => ?_) rfl rfl rfl e0 rfl
      refine bm_step hF h (fun _ _ _ _ _ _ h => ?_)
      refine bm_step hF h (fun _ _ _ _ _ _ h => ?_)
      refine bm_step hF h (fun _ _ _ _ _ _ h => ?_)
      refine bm_step hF h (fun _ _ _ _ _ _ h => ?_)
      refine bm_step hF h (fun _ _ _ _ _ _ h => ?_)
      refine bm_step hF h (fun _ _ _ _ _ _ h => ?_)
      refine bm_step hF h (fun _ _ _ _ _ _ h => ?_)
      refine bm_step hF h (fun t0 t7 t8 t9 t10 t11 h => ?_)
      exact nm_e (hw (t0, t7, t8, t9, t10, t11) ⟨by omega, h⟩))
    8 (t0, t7, t8, t9, t10, t11) ⟨by omega, h⟩
  rw [show nI 8 + (-1) = 7 from by decide] at hn
  exact ⟨9, hn⟩
/-! translate, the six lines -/
theorem bm_tr6 {post : St1 → Prop} {i d x y : Nat} (hF : (bm_qh x y (bm_f6 d x y)).length ≤ 160) (hi : i < 32) (hc : bm_cl a1 a2 a3 a4 i 6 d x y)
    (H : ∀ st' b7 b8 b9 b10 b11, bm_em (bm_qh x y (bm_f6 d x y)) [] st' b7 b8 b9 b10 b11 → post (l, ne, la, st', a1, a2, a3, a4, a5, a6, b7, b8, b9, b10, b11)) : wpX_translate post (l, ne, la, st, a1, a2, a3, a4, a5, a6, a7, a8, a9, a10, a11) (nI i) := by
  obtain ⟨c1, c2, c3, c4⟩ := hc
  have hin : vp_in (nI i) 32 := vp_in_nI hi (by omega)
  have hk := nI_clamp (show i < 2 ^ 31 by omega)
  unfold wpX_translate
  dsimp only
  rw [hk]
  refine ⟨hin, nm_r c1 ⟨hin, nm_r c2 ⟨hin, nm_r c3 ⟨hin, nm_r c4 ⟨hin, nm_e ?_⟩⟩⟩⟩⟩
  refine br_f (by decide) (br_f (by decide) (br_f (by decide) (br_f (by decide) (br_f (by decide) (br_f (by decide) (br_t (by decide) ?_))))))
  unfold wX_translate_215
  refine bm_quo hF bm_em0 (fun _ _ _ _ _ _ h => ?_)
  unfold bm_f6 at h
  dsimp only
  unfold wpX_finishQuotient
  dsimp only
  refine br_t (by decide) ?_
  refine bm_step hF h (fun _ _ _ _ _ _ h => ?_)
  refine bm_step hF h (fun _ _ _ _ _ _ h => ?_)
  refine bm_step hF h (fun _ _ _ _ _ _ h => ?_)
  refine bm_step hF h (fun _ _ _ _ _ _ h => ?_)
  refine bm_step hF h (fun _ _ _ _ _ _ h => ?_)
  refine bm_step hF h (fun _ _ _ _ _ _ h => ?_)
  exact H _ _ _ _ _ _ h
theorem bm_tr7 {post : St1 → Prop} {i d x y : Nat} (hF : (bm_qh x y (bm_f7 d x)).length ≤ 160) (hi : i < 32) (hc : bm_cl a1 a2 a3 a4 i 7 d x y)
    (H : ∀ st' b7 b8 b9 b10 b11, bm_em (bm_qh x y (bm_f7 d x)) [] st' b7 b8 b9 b10 b11 → post (l, ne, la, st', a1, a2, a3, a4, a5, a6, b7, b8, b9, b10, b11)) : wpX_translate post (l, ne, la, st, a1, a2, a3, a4, a5, a6, a7, a8, a9, a10, a11) (nI i) := by
  obtain ⟨c1, c2, c3, c4⟩ := hc
  have hin : vp_in (nI i) 32 := vp_in_nI hi (by omega)
  have hk := nI_clamp (show i < 2 ^ 31 by omega)
  unfold wpX_translate
  dsimp only
  rw [hk]
  refine ⟨hin, nm_r c1 ⟨hin, nm_r c2 ⟨hin, nm_r c3 ⟨hin, nm_r c4 ⟨hin, nm_e ?_⟩⟩⟩⟩⟩
  refine br_f (by decide) (br_f (by decide) (br_f (by decide) (br_f (by decide) (br_f (by decide) (br_f (by decide) (br_f (by decide) (br_t (by decide) ?_)))))))
  unfold wX_translate_215
  refine bm_quo hF bm_em0 (fun _ _ _ _ _ _ h => ?_)
  unfold bm_f7 at h
  dsimp only
  unfold wpX_finishQuotient
  dsimp only
  refine br_f (by decide) ?_
  refine bm_step hF h (fun _ _ _ _ _ _ h => ?_)
  refine bm_step hF h (fun _ _ _ _ _ _ h => ?_)
  refine bm_step hF h (fun _ _ _ _ _ _ h => ?_)
  exact H _ _ _ _ _ _ h
theorem bm_tr4 {post : St1 → Prop} {i d x y : Nat} (hF : (bm_pr x y ((0, 10, 10, 0, 0) :: (6, d, 10, 0, 0) :: [])).length ≤ 160) (hi : i < 32) (hc : bm_cl a1 a2 a3 a4 i 4 d x y)
    (H : ∀ st' b7 b8 b9 b10 b11, bm_em (bm_pr x y ((0, 10, 10, 0, 0) :: (6, d, 10, 0, 0) :: [])) [] st' b7 b8 b9 b10 b11 → post (l, ne, la, st', a1, a2, a3, a4, a5, a6, b7, b8, b9, b10, b11)) : wpX_translate post (l, ne, la, st, a1, a2, a3, a4, a5, a6, a7, a8, a9, a10, a11) (nI i) := by
  obtain ⟨c1, c2, c3, c4⟩ := hc
  have hin : vp_in (nI i) 32 := vp_in_nI hi (by omega)
  have hk := nI_clamp (show i < 2 ^ 31 by omega)
  unfold wpX_translate
  dsimp only
  rw [hk]
  refine ⟨hin, nm_r c1 ⟨hin, nm_r c2 ⟨hin, nm_r c3 ⟨hin, nm_r c4 ⟨hin, nm_e ?_⟩⟩⟩⟩⟩
  refine br_f (by decide) (br_f (by decide) (br_f (by decide) (br_f (by decide) (br_t (by decide) ?_))))
  unfold wX_translate_160
  refine bm_prod hF bm_em0 (fun _ _ _ _ _ _ h => ?_)
  dsimp only
  refine br_t (by decide) ?_
  unfold wX_translate_185
  refine bm_step hF h (fun _ _ _ _ _ _ h => ?_)
  refine bm_step hF h (fun _ _ _ _ _ _ h => ?_)
  exact H _ _ _ _ _ _ h
theorem bm_tr2 {post : St1 → Prop} {i d x y : Nat} (hi : i < 32) (hc : bm_cl a1 a2 a3 a4 i 2 d x y)
    (H : ∀ st' b7 b8 b9 b10 b11, bm_em ((1, 8, x, y, 0) :: (6, d, 8, 0, 0) :: []) [] st' b7 b8 b9 b10 b11 → post (l, ne, la, st', a1, a2, a3, a4, a5, a6, b7, b8, b9, b10, b11)) : wpX_translate post (l, ne, la, st, a1, a2, a3, a4, a5, a6, a7, a8, a9, a10, a11) (nI i) := by
  obtain ⟨c1, c2, c3, c4⟩ := hc
  have hin : vp_in (nI i) 32 := vp_in_nI hi (by omega)
  have hk := nI_clamp (show i < 2 ^ 31 by omega)
  have hF : (((1, 8, x, y, 0) :: (6, d, 8, 0, 0) :: []) : List bm_Op).length ≤ 160 := by simp
  have h := bm_em0 (F := (1, 8, x, y, 0) :: (6, d, 8, 0, 0) :: []) (a7 := a7) (a8 := a8) (a9 := a9) (a10 := a10) (a11 := a11)
  unfold wpX_translate
  dsimp only
  rw [hk]
  refine ⟨hin, nm_r c1 ⟨hin, nm_r c2 ⟨hin, nm_r c3 ⟨hin, nm_r c4 ⟨hin, nm_e ?_⟩⟩⟩⟩⟩
  refine br_f (by decide) (br_f (by decide) (br_t (by decide) ?_))
  unfold wX_translate_115
  refine br_t (by decide) ?_
  unfold wX_translate_126
  refine bm_step hF h (fun _ _ _ _ _ _ h => ?_)
  refine bm_step hF h (fun _ _ _ _ _ _ h => ?_)
  exact H _ _ _ _ _ _ h
theorem bm_tr14 {post : St1 → Prop} {i d x y : Nat} (hi : i < 32) (hc : bm_cl a1 a2 a3 a4 i 14 d x y)
    (H : ∀ st' b7 b8 b9 b10 b11, bm_em ((11, 9, 0, 0, 0) :: (5, 8, x, y, 0) :: (12, 0, 8, 0, 1) :: (10, 9, 0, 0, 0) :: (6, d, 9, 0, 0) :: []) [] st' b7 b8 b9 b10 b11 → post (l, ne, la, st', a1, a2, a3, a4, a5, a6, b7, b8, b9, b10, b11)) : wpX_translate post (l, ne, la, st, a1, a2, a3, a4, a5, a6, a7, a8, a9, a10, a11) (nI i) := by
  obtain ⟨c1, c2, c3, c4⟩ := hc
  have hin : vp_in (nI i) 32 := vp_in_nI hi (by omega)
  have hk := nI_clamp (show i < 2 ^ 31 by omega)
  have hF : (((11, 9, 0, 0, 0) :: (5, 8, x, y, 0) :: (12, 0, 8, 0, 1) :: (10, 9, 0, 0, 0) :: (6, d, 9, 0, 0) :: []) : List bm_Op).length ≤ 160 := by simp
  have h := bm_em0 (F := (11, 9, 0, 0, 0) :: (5, 8, x, y, 0) :: (12, 0, 8, 0, 1) :: (10, 9, 0, 0, 0) :: (6, d, 9, 0, 0) :: []) (a7 := a7) (a8 := a8) (a9 := a9) (a10 := a10) (a11 := a11)
  unfold wpX_translate
  dsimp only
  rw [hk]
  refine ⟨hin, nm_r c1 ⟨hin, nm_r c2 ⟨hin, nm_r c3 ⟨hin, nm_r c4 ⟨hin, nm_e ?_⟩⟩⟩⟩⟩
  refine br_f (by decide) (br_f (by decide) (br_f (by decide) (br_f (by decide) (br_f (by decide) (br_f (by decide) (br_f (by decide) (br_f (by decide) (br_t (by decide) (br_t (by decide) (br_f (by decide) ?_))))))))))
  unfold wpX_comparison
  dsimp only
  refine bm_step hF h (fun _ _ _ _ _ _ h => ?_)
  dsimp only
  refine br_f (by decide) ?_
  refine bm_step hF h (fun _ _ _ _ _ _ h => ?_)
  refine bm_step hF h (fun _ _ _ _ _ _ h => ?_)
  dsimp only
  unfold wX_comparison_65
  refine bm_step hF h (fun _ _ _ _ _ _ h => ?_)
  refine bm_step hF h (fun _ _ _ _ _ _ h => ?_)
  exact H _ _ _ _ _ _ h
theorem bm_tr15 {post : St1 → Prop} {i d x y : Nat} (hF : (bm_rt x ((6, d, 10, 0, 0) :: [])).length ≤ 160) (hi : i < 32) (hc : bm_cl a1 a2 a3 a4 i 15 d x y)
    (H : ∀ st' b7 b8 b9 b10 b11, bm_em (bm_rt x ((6, d, 10, 0, 0) :: [])) [] st' b7 b8 b9 b10 b11 → post (l, ne, la, st', a1, a2, a3, a4, a5, a6, b7, b8, b9, b10, b11)) : wpX_translate post (l, ne, la, st, a1, a2, a3, a4, a5, a6, a7, a8, a9, a10, a11) (nI i) := by
  obtain ⟨c1, c2, c3, c4⟩ := hc
  have hin : vp_in (nI i) 32 := vp_in_nI hi (by omega)
  have hk := nI_clamp (show i < 2 ^ 31 by omega)
  unfold wpX_translate
  dsimp only
  rw [hk]
  refine ⟨hin, nm_r c1 ⟨hin, nm_r c2 ⟨hin, nm_r c3 ⟨hin, nm_r c4 ⟨hin, nm_e ?_⟩⟩⟩⟩⟩
  refine br_f (by decide) (br_f (by decide) (br_f (by decide) (br_f (by decide) (br_f (by decide) (br_f (by decide) (br_f (by decide) (br_f (by decide) (br_t (by decide) (br_t (by decide) (br_t (by decide) (br_t (by decide) ?_)))))))))))
  refine bm_root hF bm_em0 (fun _ _ _ _ _ _ h => ?_)
  refine bm_step hF h (fun _ _ _ _ _ _ h => ?_)
  exact H _ _ _ _ _ _ h
theorem bm_len (r : Nat) {i : Nat} (hi : i < 6) : (bm_P r i).length ≤ 160 := by
  match i, hi with
  | 0, _ => exact (show 127 ≤ 160 by omega)
  | 1, _ => exact (show 124 ≤ 160 by omega)
  | 2, _ => exact (show 101 ≤ 160 by omega)
  | 3, _ => exact (show 2 ≤ 160 by omega)
  | 4, _ => exact (show 5 ≤ 160 by omega)
  | 5, _ => exact (show 100 ≤ 160 by omega)
/-- translate of line i writes bm_P r i -/
theorem bm_tr {post : St1 → Prop} {r i : Nat} (hi : i < 6) (hc : bm_code r a1 a2 a3 a4)
    (H : ∀ st' b7 b8 b9 b10 b11, bm_em (bm_P r i) [] st' b7 b8 b9 b10 b11 → post (l, ne, la, st', a1, a2, a3, a4, a5, a6, b7, b8, b9, b10, b11)) : wpX_translate post (l, ne, la, st, a1, a2, a3, a4, a5, a6, a7, a8, a9, a10, a11) (nI i) := by
  have hl := bm_len r hi
  obtain ⟨c0, c1, c2, c3, c4, c5⟩ := hc
  match i, hi with
  | 0, _ => exact bm_tr6 hl (by omega) c0 H
  | 1, _ => exact bm_tr7 hl (by omega) c1 H
  | 2, _ => exact bm_tr4 hl (by omega) c2 H
  | 3, _ => exact bm_tr2 (by omega) c3 H
  | 4, _ => exact bm_tr14 (by omega) c4 H
  | 5, _ => exact bm_tr15 hl (by omega) c5 H
end
end
section
/-- one micro-step on the registers R and the latch c: the new ones, and whether it passes -/
def bm_do (o : bm_Op) (R : Nat → BitVec 32) (c : Bool) : (Nat → BitVec 32) × Bool × Bool :=
  if o.1 = 8 then (R, c, (R o.2.2.1).getLsbD o.2.2.2.1)
  else if o.1 = 9 then (R, c, c)
  else if o.1 = 12 then (R, c, R o.2.2.1 == 0#32)
  else if o.1 = 10 then (bm_put R o.2.1 (R o.2.1 ||| BitVec.twoPow 32 o.2.2.2.1), c, true)
  else if o.1 = 11 then (bm_put R o.2.1 (BitVec.ofNat 32 o.2.2.2.1), c, true)
  else if o.1 = 0 then (bm_put R o.2.1 (R o.2.2.1 <<< o.2.2.2.1), c, true)
  else if o.1 = 6 then (bm_put R o.2.1 (bm_wid (R o.2.2.1)), c, true)
  else if o.1 = 7 then (bm_put R o.2.1 (bm_low (R o.2.2.1)), c, true)
  else if o.1 = 1 then (bm_put R o.2.1 (bm_sum (R o.2.2.1) (bm_inv false (R o.2.2.2.1)) false), BitVec.carry 32 (R o.2.2.1) (bm_inv false (R o.2.2.2.1)) false, true)
  else if o.1 = 2 then (bm_put R o.2.1 (bm_sum (R o.2.2.1) (bm_inv true (R o.2.2.2.1)) true), BitVec.carry 32 (R o.2.2.1) (bm_inv true (R o.2.2.2.1)) true, true)
  else (bm_put R o.2.1 (R o.2.2.1 ^^^ R o.2.2.2.1), c, true)
theorem bm_do8 (t f o s : Nat) (R : Nat → BitVec 32) (c : Bool) : bm_do (8, t, f, o, s) R c = (R, c, (R f).getLsbD o) := rfl
theorem bm_do9 (t f o s : Nat) (R : Nat → BitVec 32) (c : Bool) : bm_do (9, t, f, o, s) R c = (R, c, c) := rfl
theorem bm_do12 (t f o s : Nat) (R : Nat → BitVec 32) (c : Bool) : bm_do (12, t, f, o, s) R c = (R, c, R f == 0#32) := rfl
theorem bm_do10 (t f o s : Nat) (R : Nat → BitVec 32) (c : Bool) : bm_do (10, t, f, o, s) R c = (bm_put R t (R t ||| BitVec.twoPow 32 o), c, true) := rfl
theorem bm_do11 (t f o s : Nat) (R : Nat → BitVec 32) (c : Bool) : bm_do (11, t, f, o, s) R c = (bm_put R t (BitVec.ofNat 32 o), c, true) := rfl
theorem bm_do0 (t f o s : Nat) (R : Nat → BitVec 32) (c : Bool) : bm_do (0, t, f, o, s) R c = (bm_put R t (R f <<< o), c, true) := rfl
theorem bm_do6 (t f o s : Nat) (R : Nat → BitVec 32) (c : Bool) : bm_do (6, t, f, o, s) R c = (bm_put R t (bm_wid (R f)), c, true) := rfl
theorem bm_do7 (t f o s : Nat) (R : Nat → BitVec 32) (c : Bool) : bm_do (7, t, f, o, s) R c = (bm_put R t (bm_low (R f)), c, true) := rfl
theorem bm_do1 (t f o s : Nat) (R : Nat → BitVec 32) (c : Bool) : bm_do (1, t, f, o, s) R c = (bm_put R t (bm_sum (R f) (bm_inv false (R o)) false), BitVec.carry 32 (R f) (bm_inv false (R o)) false, true) := rfl
theorem bm_do2 (t f o s : Nat) (R : Nat → BitVec 32) (c : Bool) : bm_do (2, t, f, o, s) R c = (bm_put R t (bm_sum (R f) (bm_inv true (R o)) true), BitVec.carry 32 (R f) (bm_inv true (R o)) true, true) := rfl
theorem bm_do5 (t f o s : Nat) (R : Nat → BitVec 32) (c : Bool) : bm_do (5, t, f, o, s) R c = (bm_put R t (R f ^^^ R o), c, true) := rfl
abbrev bm_wf (o : bm_Op) : Prop := (o.1 ≤ 2 ∨ 5 ≤ o.1) ∧ o.1 ≤ 12 ∧ o.2.1 < 14 ∧ o.2.2.1 < 14 ∧ o.2.2.2.1 < 32 ∧ (o.1 = 1 ∨ o.1 = 2 ∨ o.1 = 5 → o.2.2.2.1 < 14) ∧ o.2.2.2.2 ≤ 2
/-- micro-steps one behind another; ahead of the state: how many are still to be left out -/
def bm_ex (x : Nat × (Nat → BitVec 32) × Bool) (o : bm_Op) : Nat × (Nat → BitVec 32) × Bool := match x with
  | (0, R, c) => (cond (bm_do o R c).2.2 0 o.2.2.2.2, (bm_do o R c).1, (bm_do o R c).2.1)
  | (j + 1, R, c) => (j, R, c)
theorem bm_skip (R : Nat → BitVec 32) (c : Bool) : ∀ (j : Nat) (S : List bm_Op), (S.foldl bm_ex (j, R, c)).2 = ((S.drop j).foldl bm_ex (0, R, c)).2 := by
  intro j
  induction j with
  | zero => intro S; rw [List.drop_zero]
  | succ j ih =>
    intro S
    cases S with
    | nil => rfl
    | cons o S =>
      rw [List.drop_succ_cons, List.foldl_cons]
      exact ih S
/-- one line, and e lines from m on -/
def bm_ln (r i : Nat) (x : (Nat → BitVec 32) × Bool) : (Nat → BitVec 32) × Bool := ((bm_P r i).foldl bm_ex (0, x.1, x.2)).2
def bm_lns (r m : Nat) : Nat → (Nat → BitVec 32) × Bool → (Nat → BitVec 32) × Bool
  | 0, x => x
  | e + 1, x => bm_ln r (m + e) (bm_lns r m e x)
def bm_wfb (o : bm_Op) : Bool := decide (bm_wf o)
theorem bm_wfa : ∀ r, r < 8 → ∀ i, i < 6 → (bm_P r i).all bm_wfb = true := by decide +kernel
theorem bm_wfP (r : Nat) (hr : r < 8) (i : Nat) (hi : i < 6) : ∀ o ∈ bm_P r i, bm_wf o := fun o ho => of_decide_eq_true (List.all_eq_true.mp (bm_wfa r hr i hi) o ho)
section
variable {l ne la st : Int32} {a1 a2 a3 a4 a5 a6 a7 a8 a9 a10 a11 : Nat → Int32}
theorem bm_perf {post : Int32 → St1 → Prop} {R : Nat → BitVec 32} {c : Bool} {i k t f o s : Nat} (hi : i < 160) (e7 : a7 i = nI k) (e8 : a8 i = nI t) (e9 : a9 i = nI f) (e10 : a10 i = nI o) (hw : bm_wf (k, t, f, o, s)) (h5 : bm_ok a5 R)
    (H : ∀ b5 b6, bm_ok b5 (bm_do (k, t, f, o, s) R c).1 → post (bm_b (bm_do (k, t, f, o, s) R c).2.2) (l, ne, bm_b (bm_do (k, t, f, o, s) R c).2.1, st, a1, a2, a3, a4, b5, b6, a7, a8, a9, a10, a11)) :
    wpX_perform post (l, ne, bm_b c, st, a1, a2, a3, a4, a5, a6, a7, a8, a9, a10, a11) (nI i) := by
  obtain ⟨w1, w2, w3, w4, w5, w6, w7⟩ := hw
  dsimp only at w1 w2 w3 w4 w5 w6 w7
  have hin : vp_in (nI i) 160 := vp_in_nI hi (by omega)
  have hk := nI_clamp (show i < 2 ^ 31 by omega)
  unfold wpX_perform
  dsimp only
  rw [hk, e8, e9, e10]
  refine ⟨hin, nm_r e7 ?_⟩
  have hkk : k = 8 ∨ k = 9 ∨ k = 12 ∨ k = 10 ∨ k = 11 ∨ k = 0 ∨ k = 6 ∨ k = 7 ∨ k = 1 ∨ k = 2 ∨ k = 5 := by omega
  rcases hkk with rfl | rfl | rfl | rfl | rfl | rfl | rfl | rfl | rfl | rfl | rfl
  · rw [bm_do8] at H
    refine br_t (by decide) ⟨hin, hin, bm_ixin w4 w5, ?_⟩
    rw [bm_rd h5 w4 w5]
    exact ⟨bm_nw _, H a5 a6 h5⟩
  · rw [bm_do9] at H
    exact br_f (by decide) (br_t (by decide) ⟨bm_nw _, H a5 a6 h5⟩)
  · rw [bm_do12] at H
    exact br_f (by decide) (br_f (by decide) (br_t (by decide) ⟨hin, bm_zero w4 h5 ⟨bm_nw _, H a5 a6 h5⟩⟩))
  · rw [bm_do10] at H
    exact br_f (by decide) (br_f (by decide) (br_f (by decide) (br_t (by decide) ⟨hin, hin, bm_ixin w3 w5, nm_e (H _ a6 (bm_set1 h5 w5 (bm_ixc (by omega))))⟩)))
  · rw [bm_do11] at H
    exact br_f (by decide) (br_f (by decide) (br_f (by decide) (br_f (by decide) (br_t (by decide) ⟨hin, hin, bm_load w3 h5 (fun b5 h => H b5 a6 h)⟩))))
  · rw [bm_do0] at H
    exact br_f (by decide) (br_f (by decide) (br_f (by decide) (br_f (by decide) (br_f (by decide) (br_t (by decide) ⟨hin, hin, hin, bm_shift w3 w4 w5 h5 (fun b5 b6 h => H b5 b6 h)⟩)))))
  · rw [bm_do6] at H
    exact br_f (by decide) (br_f (by decide) (br_f (by decide) (br_f (by decide) (br_f (by decide) (br_f (by decide) (br_t (by decide) ⟨hin, hin, bm_widen w3 w4 h5 (fun b5 b6 h => H b5 b6 h)⟩))))))
  · rw [bm_do7] at H
    exact br_f (by decide) (br_f (by decide) (br_f (by decide) (br_f (by decide) (br_f (by decide) (br_f (by decide) (br_f (by decide) (br_t (by decide) ⟨hin, hin, bm_lowH w3 w4 h5 (fun b5 b6 h => H b5 b6 h)⟩)))))))
  · rw [bm_do1] at H
    refine br_f (by decide) (br_f (by decide) (br_f (by decide) (br_f (by decide) (br_f (by decide) (br_f (by decide) (br_f (by decide) (br_f (by decide) (br_t (by decide) ?_))))))))
    unfold wX_perform_208
    rw [hk, e8, e9, e10]
    refine ⟨hin, hin, hin, br_f (by decide) ?_⟩
    unfold wX_perform_237
    exact bm_add false w3 w4 (w6 (by omega)) h5 (fun b5 b6 h => H b5 b6 h)
  · rw [bm_do2] at H
    refine br_f (by decide) (br_f (by decide) (br_f (by decide) (br_f (by decide) (br_f (by decide) (br_f (by decide) (br_f (by decide) (br_f (by decide) (br_f (by decide) (br_t (by decide) ?_)))))))))
    unfold wX_perform_208
    rw [hk, e8, e9, e10]
    refine ⟨hin, hin, hin, br_t (by decide) ?_⟩
    unfold wX_perform_237
    exact bm_add true w3 w4 (w6 (by omega)) h5 (fun b5 b6 h => H b5 b6 h)
  · rw [bm_do5] at H
    exact br_f (by decide) (br_f (by decide) (br_f (by decide) (br_f (by decide) (br_f (by decide) (br_f (by decide) (br_f (by decide) (br_f (by decide) (br_f (by decide) (br_f (by decide) ⟨hin, hin, hin, bm_xor w3 w4 (w6 (by omega)) h5 (fun b5 b6 h => H b5 b6 h)⟩)))))))))
theorem bm_all {post : St1 → Prop} {R : Nat → BitVec 32} {c : Bool} {F : List bm_Op} (hF : F.length ≤ 160) (hw : ∀ o ∈ F, bm_wf o) (h : bm_em F [] st a7 a8 a9 a10 a11) (h5 : bm_ok a5 R)
    (H : ∀ b5 b6, bm_ok b5 (F.foldl bm_ex (0, R, c)).2.1 → post (l, ne, bm_b (F.foldl bm_ex (0, R, c)).2.2, st, a1, a2, a3, a4, b5, b6, a7, a8, a9, a10, a11)) : wpX_performAll post (l, ne, bm_b c, st, a1, a2, a3, a4, a5, a6, a7, a8, a9, a10, a11) := by
  obtain ⟨Q, e, hst, hQ⟩ := h
  rw [List.append_nil] at e
  subst e
  subst hst
  refine loop_m (σ := Int32 × Int32 × Int32 × (Nat → Int32) × (Nat → Int32)) (fun n s => wX_performAll_4 post n s.1 s.2.1 l ne s.2.2.1 (nI Q.length) a1 a2 a3 a4 s.2.2.2.1 s.2.2.2.2 a7 a8 a9 a10 a11)
    (fun s => ∃ (i k : Nat) (R' : Nat → BitVec 32) (c' : Bool), s.1 = nI i ∧ s.2.1 = nI k ∧ k ≤ i ∧ i ≤ 162 ∧ s.2.2.1 = bm_b c' ∧ bm_ok s.2.2.2.1 R' ∧ ((Q.drop i).foldl bm_ex (0, R', c')).2 = (Q.foldl bm_ex (0, R, c)).2)
    (fun s => 200 - s.1.toNatClampNeg) ?_ (0, 0, bm_b c, a5, a6) ⟨0, 0, R, c, rfl, rfl, by omega, by omega, rfl, h5, by rw [List.drop_zero]⟩
  intro n s hI hn
  obtain ⟨x1, x2, la', b5, b6⟩ := s
  obtain ⟨i, k, R', c', e1, e2, hki, hi, e3, h5', hf⟩ := hI
  dsimp only at e1 e2 e3 h5' ⊢
  subst e1 e2 e3
  have fin : Q.length ≤ i → post (l, ne, bm_b c', nI Q.length, a1, a2, a3, a4, b5, b6, a7, a8, a9, a10, a11) := by
    intro g
    rw [List.drop_eq_nil_of_le g, List.foldl_nil] at hf
    have H' := H b5 b6
    rw [← hf] at H'
    exact H' h5'
  refine pk_le 160 k (fun z => fin (by omega)) (fun z => pk_le Q.length i (fun g => fin g) (fun g => ?_))
  have ho : Q[i]? = some Q[i] := List.getElem?_eq_getElem g
  rw [List.drop_eq_getElem_cons g, List.foldl_cons] at hf
  generalize Q[i] = op at ho hf
  obtain ⟨kk, t, f, o, sk⟩ := op
  have hop := hw _ (List.mem_of_getElem? ho)
  have hsk : sk ≤ 2 := hop.2.2.2.2.2.2
  obtain ⟨q7, q8, q9, q10, q11⟩ := hQ i _ ho
  dsimp only at q7 q8 q9 q10 q11
  refine bm_perf (by omega) q7 q8 q9 q10 hop h5' (fun c5 c6 h => ?_)
  have hk := nI_clamp (show i < 2 ^ 31 by omega)
  have hf' : ((Q.drop (i + 1)).foldl bm_ex (cond (bm_do (kk, t, f, o, sk) R' c').2.2 0 sk, (bm_do (kk, t, f, o, sk) R' c').1, (bm_do (kk, t, f, o, sk) R' c').2.1)).2 = (Q.foldl bm_ex (0, R, c)).2 := hf
  generalize bm_do (kk, t, f, o, sk) R' c' = D at h hf'
  obtain ⟨R2, c2, p2⟩ := D
  dsimp only at h hf' ⊢
  rw [hk, q11]
  cases p2
  · refine br_t rfl ⟨pk_in i 160 (by omega), nm_r (show nI i + (nI 1 + nI sk) = nI (i + 1 + sk) by rw [nI_add, nI_add, Nat.add_assoc]) (nm_r (nI_1 k) (hn (nI (i + 1 + sk), nI (k + 1), bm_b c2, c5, c6) ⟨i + 1 + sk, k + 1, R2, c2, rfl, rfl, by omega, by omega, rfl, h, ?_⟩ ?_))⟩
    · rw [← hf', show cond false 0 sk = sk from rfl, bm_skip R2 c2 sk, List.drop_drop]
    · dsimp only
      rw [nI_clamp (by omega), nI_clamp (by omega)]
      omega
  · refine br_f (by decide) (nm_r (nI_1 i) (nm_r (nI_1 k) (hn (nI (i + 1), nI (k + 1), bm_b c2, c5, c6) ⟨i + 1, k + 1, R2, c2, rfl, rfl, by omega, by omega, rfl, h, hf'⟩ ?_)))
    dsimp only
    rw [nI_clamp (by omega), nI_clamp (by omega)]
    omega
theorem bm_opc {r i : Nat} (hi : i < 6) (hc : bm_code r a1 a2 a3 a4) : ∃ k, k < 17 ∧ a1 i = nI k := by
  obtain ⟨c0, c1, c2, c3, c4, c5⟩ := hc
  match i, hi with
  | 0, _ => exact ⟨_, by decide, c0.1⟩
  | 1, _ => exact ⟨_, by decide, c1.1⟩
  | 2, _ => exact ⟨_, by decide, c2.1⟩
  | 3, _ => exact ⟨_, by decide, c3.1⟩
  | 4, _ => exact ⟨_, by decide, c4.1⟩
  | 5, _ => exact ⟨_, by decide, c5.1⟩
theorem bm_carry {post : St1 → Prop} {R : Nat → BitVec 32} {c : Bool} {r i : Nat} (hr : r < 8) (hi : i < 6) (hc : bm_code r a1 a2 a3 a4) (h5 : bm_ok a5 R)
    (H : ∀ st' b5 b6 b7 b8 b9 b10 b11, bm_ok b5 (bm_ln r i (R, c)).1 → post (l, nI (i + 1), bm_b (bm_ln r i (R, c)).2, st', a1, a2, a3, a4, b5, b6, b7, b8, b9, b10, b11)) : wpX_carryOut post (l, ne, bm_b c, st, a1, a2, a3, a4, a5, a6, a7, a8, a9, a10, a11) (nI i) := by
  obtain ⟨k, hk17, ek⟩ := bm_opc hi hc
  have hin : vp_in (nI i) 32 := vp_in_nI (by omega) (by omega)
  have hk := nI_clamp (show i < 2 ^ 31 by omega)
  unfold wpX_carryOut
  dsimp only
  rw [hk]
  refine ⟨hin, nm_r ek (br_t (nI_lt (b := 17) hk17 (by decide)) ?_)⟩
  refine bm_tr hi hc (fun st' b7 b8 b9 b10 b11 h => ?_)
  refine bm_all (bm_len r hi) (bm_wfP r hr i hi) h h5 (fun b5 b6 h => ?_)
  exact nm_r (nI_1 i) (H _ _ _ _ _ _ _ _ h)
theorem bm_run {post : Int32 → St1 → Prop} {R : Nat → BitVec 32} {c : Bool} {r m e : Nat} (hr : r < 8) (hc : bm_code r a1 a2 a3 a4) (he : e ≤ 5) (hm : m + e ≤ 6) (hx : e = 5 ∨ m + e = 6) (h5 : bm_ok a5 R)
    (H : ∀ st' b5 b6 b7 b8 b9 b10 b11, bm_ok b5 (bm_lns r m e (R, c)).1 → post (nI e) (nI 6, nI (m + e), bm_b (bm_lns r m e (R, c)).2, st', a1, a2, a3, a4, b5, b6, b7, b8, b9, b10, b11)) : wpX_run post (nI 6, nI m, bm_b c, st, a1, a2, a3, a4, a5, a6, a7, a8, a9, a10, a11) 5 := by
  unfold wpX_run
  dsimp only
  refine br_t (by decide) (br_t (by decide) ?_)
  refine pk_loop (σ := Int32 × Int32 × (Nat → Int32) × (Nat → Int32) × (Nat → Int32) × (Nat → Int32) × (Nat → Int32) × (Nat → Int32) × (Nat → Int32))
    (fun n i s => wX_run_26 post 5 n (nI i) (nI i) (nI 6) (nI (m + i)) s.1 s.2.1 a1 a2 a3 a4 s.2.2.1 s.2.2.2.1 s.2.2.2.2.1 s.2.2.2.2.2.1 s.2.2.2.2.2.2.1 s.2.2.2.2.2.2.2.1 s.2.2.2.2.2.2.2.2)
    (fun i s => s.1 = bm_b (bm_lns r m i (R, c)).2 ∧ bm_ok s.2.2.1 (bm_lns r m i (R, c)).1) e 0 (bm_b c, st, a5, a6, a7, a8, a9, a10, a11) (by omega) ⟨rfl, h5⟩
    (fun n s h => ?_) (fun n i s hi h hw => ?_)
  · have fin : post (nI e) (nI 6, nI (m + e), s.1, s.2.1, a1, a2, a3, a4, s.2.2.1, s.2.2.2.1, s.2.2.2.2.1, s.2.2.2.2.2.1, s.2.2.2.2.2.2.1, s.2.2.2.2.2.2.2.1, s.2.2.2.2.2.2.2.2) := by
      rw [h.1]
      exact H _ _ _ _ _ _ _ _ h.2
    exact pk_le 5 e (fun _ => fin) (fun z => pk_le 6 (m + e) (fun _ => fin) (fun z2 => absurd hx (by omega)))
  · refine pk_le 5 i (fun z => absurd z (by omega)) (fun _ => pk_le 6 (m + i) (fun z => absurd z (by omega)) (fun _ => ?_))
    obtain ⟨la', s2⟩ := s
    obtain ⟨h1, h2⟩ := h
    dsimp only at h1 h2 ⊢
    subst h1
    refine bm_carry hr (by omega) hc h2 (fun st' b5 b6 b7 b8 b9 b10 b11 h => ?_)
    exact nm_r (nI_1 i) (nm_r (nI_1 i) (hw (_, st', b5, b6, b7, b8, b9, b10, b11) ⟨rfl, h⟩))
end
end
section
/-! what the micro-programs compute: no program in sight -/
theorem bm_tp (k : Nat) : BitVec.twoPow 32 k = BitVec.ofNat 32 (2 ^ k) := by
  apply BitVec.eq_of_toNat_eq
  rw [BitVec.toNat_twoPow, BitVec.toNat_ofNat]
theorem bm_or (v : BitVec 32) (o : Nat) (h : v.getLsbD o = false) : v ||| BitVec.twoPow 32 o = v + BitVec.twoPow 32 o := by
  rw [BitVec.add_eq_or_of_and_eq_zero]
  rw [BitVec.and_twoPow, h]
  rfl
theorem bm_sl (v : BitVec 32) (o : Nat) : v <<< o = v * BitVec.twoPow 32 o := BitVec.shiftLeft_eq_mul_twoPow v o
theorem bm_sl0 (v : BitVec 32) : v <<< 0 = v := by
  rw [bm_sl, bm_tp]
  exact BitVec.mul_one v
theorem bm_sub_eq (x y : BitVec 32) : bm_sum x (bm_inv true y) true = x - y := by
  show x + ~~~y + BitVec.setWidth 32 (BitVec.ofBool true) = x - y
  rw [BitVec.sub_eq_add_neg, BitVec.neg_eq_not_add, BitVec.add_assoc]
  rfl
theorem bm_add_eq (x y : BitVec 32) : bm_sum x (bm_inv false y) false = x + y := by
  show x + y + BitVec.setWidth 32 (BitVec.ofBool false) = x + y
  exact BitVec.add_zero _
theorem bm_lat (x y : BitVec 32) : BitVec.carry 32 x (bm_inv true y) true = decide (y.toNat ≤ x.toNat) := by
  have h1 := x.isLt
  have h2 := y.isLt
  have h3 : (bm_inv true y).toNat = 2 ^ 32 - 1 - y.toNat := BitVec.toNat_not
  unfold BitVec.carry
  rw [h3, decide_eq_decide, Bool.toNat_true]
  omega
def bm_bv (b : Bool) : BitVec 32 := cond b 1#32 0#32
def bm_sgn (b : Bool) (v : BitVec 32) : BitVec 32 := cond b (0#32 - v) v
def bm_am (v : BitVec 32) : BitVec 32 := bm_sgn (v.getLsbD 31) v
/-- the low i bits -/
def bm_M (i : Nat) (v : BitVec 32) : BitVec 32 := BitVec.setWidth 32 (v.setWidth i)
theorem bm_MS (i : Nat) (v : BitVec 32) : bm_M (i + 1) v = bm_M i v + cond (v.getLsbD i) (BitVec.twoPow 32 i) 0#32 := by
  unfold bm_M
  rw [BitVec.setWidth_setWidth_succ_eq_setWidth_setWidth_add_twoPow, BitVec.and_twoPow]
  cases v.getLsbD i <;> rfl
theorem bm_M0 (v : BitVec 32) : bm_M 0 v = 0#32 := by
  apply BitVec.eq_of_toNat_eq
  unfold bm_M
  rw [BitVec.toNat_setWidth, BitVec.toNat_setWidth, Nat.pow_zero, Nat.mod_one]
  rfl
theorem bm_M32 (v : BitVec 32) : bm_M 32 v = v := by
  unfold bm_M
  rw [BitVec.setWidth_eq, BitVec.setWidth_eq]
theorem bm_M16 (v : BitVec 32) (h : v.toNat < 65536) : bm_M 16 v = v := by
  apply BitVec.eq_of_toNat_eq
  unfold bm_M
  rw [BitVec.toNat_setWidth, BitVec.toNat_setWidth]
  omega
theorem bm_tpS (i : Nat) : BitVec.twoPow 32 (i + 1) = BitVec.twoPow 32 i * 2#32 := by
  rw [bm_tp, bm_tp, Nat.pow_succ, BitVec.ofNat_mul]
/-! single micro-steps -/
theorem bm_x8 (t f o s : Nat) (R : Nat → BitVec 32) (c : Bool) (S : List bm_Op) : List.foldl bm_ex (0, R, c) ((8, t, f, o, s) :: S) = List.foldl bm_ex (cond ((R f).getLsbD o) 0 s, R, c) S := rfl
theorem bm_x9 (t f o s : Nat) (R : Nat → BitVec 32) (c : Bool) (S : List bm_Op) : List.foldl bm_ex (0, R, c) ((9, t, f, o, s) :: S) = List.foldl bm_ex (cond c 0 s, R, c) S := rfl
theorem bm_x12 (t f o s : Nat) (R : Nat → BitVec 32) (c : Bool) (S : List bm_Op) : List.foldl bm_ex (0, R, c) ((12, t, f, o, s) :: S) = List.foldl bm_ex (cond (R f == 0#32) 0 s, R, c) S := rfl
theorem bm_x10 (t f o s : Nat) (R : Nat → BitVec 32) (c : Bool) (S : List bm_Op) : List.foldl bm_ex (0, R, c) ((10, t, f, o, s) :: S) = List.foldl bm_ex (0, bm_put R t (R t ||| BitVec.twoPow 32 o), c) S := rfl
theorem bm_x11 (t f o s : Nat) (R : Nat → BitVec 32) (c : Bool) (S : List bm_Op) : List.foldl bm_ex (0, R, c) ((11, t, f, o, s) :: S) = List.foldl bm_ex (0, bm_put R t (BitVec.ofNat 32 o), c) S := rfl
theorem bm_x0 (t f o s : Nat) (R : Nat → BitVec 32) (c : Bool) (S : List bm_Op) : List.foldl bm_ex (0, R, c) ((0, t, f, o, s) :: S) = List.foldl bm_ex (0, bm_put R t (R f <<< o), c) S := rfl
theorem bm_x6 (t f o s : Nat) (R : Nat → BitVec 32) (c : Bool) (S : List bm_Op) : List.foldl bm_ex (0, R, c) ((6, t, f, o, s) :: S) = List.foldl bm_ex (0, bm_put R t (bm_wid (R f)), c) S := rfl
theorem bm_x7 (t f o s : Nat) (R : Nat → BitVec 32) (c : Bool) (S : List bm_Op) : List.foldl bm_ex (0, R, c) ((7, t, f, o, s) :: S) = List.foldl bm_ex (0, bm_put R t (bm_low (R f)), c) S := rfl
theorem bm_x1 (t f o s : Nat) (R : Nat → BitVec 32) (c : Bool) (S : List bm_Op) : List.foldl bm_ex (0, R, c) ((1, t, f, o, s) :: S) = List.foldl bm_ex (0, bm_put R t (R f + R o), BitVec.carry 32 (R f) (R o) false) S := by
  rw [← bm_add_eq]
  rfl
theorem bm_x2 (t f o s : Nat) (R : Nat → BitVec 32) (c : Bool) (S : List bm_Op) : List.foldl bm_ex (0, R, c) ((2, t, f, o, s) :: S) = List.foldl bm_ex (0, bm_put R t (R f - R o), decide ((R o).toNat ≤ (R f).toNat)) S := by
  rw [← bm_sub_eq, ← bm_lat]
  rfl
theorem bm_x5 (t f o s : Nat) (R : Nat → BitVec 32) (c : Bool) (S : List bm_Op) : List.foldl bm_ex (0, R, c) ((5, t, f, o, s) :: S) = List.foldl bm_ex (0, bm_put R t (R f ^^^ R o), c) S := rfl
/-- a test, and one micro-step behind it -/
theorem bm_un {R R1 R' : Nat → BitVec 32} {c c1 c' : Bool} {o p : bm_Op} {S : List bm_Op} (b : Bool) (h : List.foldl bm_ex (0, R, c) (o :: p :: S) = List.foldl bm_ex (cond b 0 1, R, c) (p :: S))
    (ht : b = true → List.foldl bm_ex (0, R, c) (p :: S) = List.foldl bm_ex (0, R1, c1) S) (e1 : b = true → (R', c') = (R1, c1)) (e0 : b = false → (R', c') = (R, c)) : List.foldl bm_ex (0, R, c) (o :: p :: S) = List.foldl bm_ex (0, R', c') S := by
  rw [h]
  cases b
  · rw [e0 rfl]
    rfl
  · rw [e1 rfl]
    exact ht rfl
/-! the amount of a register -/
theorem bm_amP (R : Nat → BitVec 32) (c : Bool) (S : List bm_Op) {t x : Nat} (hx : x ≠ t) (ht : 13 ≠ t) (h13 : R 13 = 0#32) :
    ∃ R' c', List.foldl bm_ex (0, R, c) ((0, t, x, 0, 0) :: (8, 0, x, 31, 1) :: (2, t, 13, x, 0) :: S) = List.foldl bm_ex (0, R', c') S ∧ R' t = bm_am (R x) ∧ ∀ q, q ≠ t → R' q = R q := by
  rw [bm_x0, bm_x8, bm_pn hx, bm_sl0]
  cases hb : (R x).getLsbD 31
  · refine ⟨bm_put R t (R x), c, rfl, ?_, fun q hq => bm_pn hq⟩
    rw [bm_ps]
    unfold bm_am
    rw [hb]
    rfl
  · refine ⟨_, _, bm_x2 t 13 x 0 (bm_put R t (R x)) c S, ?_, fun q hq => by rw [bm_pn hq, bm_pn hq]⟩
    rw [bm_ps, bm_pn ht, bm_pn hx, h13]
    unfold bm_am
    rw [hb]
    rfl
/-! the quotient -/
def bm_qs (X Y : BitVec 32) (i : Nat) (p : BitVec 32 × BitVec 32) : BitVec 32 × BitVec 32 :=
  cond (decide (Y.toNat ≤ (p.1 * 2#32 + bm_bv (X.getLsbD i)).toNat)) (p.1 * 2#32 + bm_bv (X.getLsbD i) - Y, p.2 ||| BitVec.twoPow 32 i) (p.1 * 2#32 + bm_bv (X.getLsbD i), p.2)
def bm_qf (X Y : BitVec 32) : Nat → BitVec 32 × BitVec 32 → BitVec 32 × BitVec 32
  | 0, p => p
  | i + 1, p => bm_qf X Y i (bm_qs X Y i p)
theorem bm_sl1 (v : BitVec 32) : v <<< 1 = v * 2#32 + 0#32 := by
  rw [bm_sl, bm_tp, BitVec.add_zero]
theorem bm_sl1o (v : BitVec 32) : v <<< 1 ||| BitVec.twoPow 32 0 = v * 2#32 + 1#32 := by
  rw [bm_or _ _ (by rw [BitVec.getLsbD_shiftLeft]; rfl), bm_sl, bm_tp, bm_tp]
theorem bm_qA (R : Nat → BitVec 32) (c : Bool) (S : List bm_Op) (i : Nat) : ∃ R2, List.foldl bm_ex (0, R, c) ((0, 10, 10, 1, 0) :: (8, 0, 8, i, 1) :: (10, 10, 0, 0, 0) :: S) = List.foldl bm_ex (0, R2, c) S ∧ R2 10 = R 10 * 2#32 + bm_bv ((R 8).getLsbD i) ∧ ∀ q, q ≠ 10 → R2 q = R q := by
  rw [bm_x0, bm_x8, bm_pn (show (8 : Nat) ≠ 10 by decide)]
  cases hb : (R 8).getLsbD i
  · refine ⟨bm_put R 10 (R 10 <<< 1), rfl, ?_, fun q hq => bm_pn hq⟩
    rw [bm_ps]
    exact bm_sl1 _
  · refine ⟨_, bm_x10 10 0 0 0 (bm_put R 10 (R 10 <<< 1)) c S, ?_, fun q hq => by rw [bm_pn hq, bm_pn hq]⟩
    rw [bm_ps, bm_ps]
    exact bm_sl1o _
theorem bm_qB (R : Nat → BitVec 32) (c : Bool) (S : List bm_Op) (i : Nat) : ∃ R2 c2, List.foldl bm_ex (0, R, c) ((2, 12, 10, 9, 0) :: (9, 0, 0, 0, 2) :: (0, 10, 12, 0, 0) :: (10, 11, 0, i, 0) :: S) = List.foldl bm_ex (0, R2, c2) S
    ∧ (R2 10, R2 11) = cond (decide ((R 9).toNat ≤ (R 10).toNat)) (R 10 - R 9, R 11 ||| BitVec.twoPow 32 i) (R 10, R 11) ∧ ∀ q, q ≠ 10 → q ≠ 11 → q ≠ 12 → R2 q = R q := by
  rw [bm_x2, bm_x9]
  cases hb : decide ((R 9).toNat ≤ (R 10).toNat)
  · refine ⟨bm_put R 12 (R 10 - R 9), false, rfl, ?_, fun q h0 h1 h2 => bm_pn h2⟩
    rw [bm_pn (by decide), bm_pn (by decide)]
    rfl
  · refine ⟨_, _, (bm_x0 10 12 0 0 (bm_put R 12 (R 10 - R 9)) true _).trans (bm_x10 11 0 i 0 _ _ _), ?_, fun q h0 h1 h2 => by rw [bm_pn h1, bm_pn h0, bm_pn h2]⟩
    rw [bm_sl0, bm_ps, bm_ps, bm_pn (show (10 : Nat) ≠ 11 by decide), bm_ps, bm_pn (show (11 : Nat) ≠ 10 by decide), bm_pn (show (11 : Nat) ≠ 12 by decide)]
    rfl
theorem bm_qS (X Y : BitVec 32) (S : List bm_Op) : ∀ (i : Nat) (R : Nat → BitVec 32) (c : Bool), R 8 = X → R 9 = Y →
    ∃ R' c', List.foldl bm_ex (0, R, c) (bm_qD S i) = List.foldl bm_ex (0, R', c') S ∧ (R' 10, R' 11) = bm_qf X Y i (R 10, R 11) ∧ ∀ q, q ≠ 10 → q ≠ 11 → q ≠ 12 → R' q = R q := by
  intro i
  induction i with
  | zero => intro R c _ _; exact ⟨R, c, rfl, rfl, fun _ _ _ _ => rfl⟩
  | succ i ih =>
    intro R c h8 h9
    obtain ⟨R2, e2, f2, g2⟩ := bm_qA R c ((2, 12, 10, 9, 0) :: (9, 0, 0, 0, 2) :: (0, 10, 12, 0, 0) :: (10, 11, 0, i, 0) :: bm_qD S i) i
    obtain ⟨R3, c3, e3, f3, g3⟩ := bm_qB R2 c (bm_qD S i) i
    obtain ⟨R4, c4, e4, f4, g4⟩ := ih R3 c3 (by rw [g3 8 (by decide) (by decide) (by decide), g2 8 (by decide), h8]) (by rw [g3 9 (by decide) (by decide) (by decide), g2 9 (by decide), h9])
    refine ⟨R4, c4, e2.trans (e3.trans e4), ?_, fun q h0 h1 h2 => by rw [g4 q h0 h1 h2, g3 q h0 h1 h2, g2 q h0]⟩
    rw [f4, f3, f2, g2 9 (by decide), g2 11 (by decide), h8, h9]
    rfl
theorem bm_qI (X Y : BitVec 32) : ∀ (i : Nat) (p : BitVec 32 × BitVec 32), (∀ j, j < i → p.2.getLsbD j = false) → p.1 * BitVec.twoPow 32 i + Y * p.2 + bm_M i X = X → (bm_qf X Y i p).1 + Y * (bm_qf X Y i p).2 = X := by
  intro i
  induction i with
  | zero =>
    intro p _ h
    rw [bm_M0, bm_tp] at h
    have h' : p.1 * 1#32 + Y * p.2 + 0#32 = X := h
    rw [BitVec.mul_one, BitVec.add_zero] at h'
    exact h'
  | succ i ih =>
    intro p hz h
    show (bm_qf X Y i (bm_qs X Y i p)).1 + Y * (bm_qf X Y i (bm_qs X Y i p)).2 = X
    obtain ⟨a, b⟩ := p
    dsimp only at hz h
    have ho : b ||| BitVec.twoPow 32 i = b + BitVec.twoPow 32 i := bm_or b i (hz i (by omega))
    rw [bm_MS, bm_tpS] at h
    apply ih
    · intro j hj
      unfold bm_qs
      cases decide (Y.toNat ≤ (a * 2#32 + bm_bv (X.getLsbD i)).toNat)
      · exact hz j (by omega)
      · show (b ||| BitVec.twoPow 32 i).getLsbD j = false
        rw [BitVec.getLsbD_or, hz j (by omega), BitVec.getLsbD_twoPow]
        have e3 : ¬ i = j := by omega
        simp [e3]
    · have hh : ∀ d : Bool, (cond d (a * 2#32 + bm_bv (X.getLsbD i) - Y, b ||| BitVec.twoPow 32 i) (a * 2#32 + bm_bv (X.getLsbD i), b)).1 * BitVec.twoPow 32 i + Y * (cond d (a * 2#32 + bm_bv (X.getLsbD i) - Y, b ||| BitVec.twoPow 32 i) (a * 2#32 + bm_bv (X.getLsbD i), b)).2 + bm_M i X = X := by
        intro d
        rw [ho]
        generalize bm_M i X = m at h ⊢
        generalize BitVec.twoPow 32 i = P at h ⊢
        generalize X.getLsbD i = xb at h ⊢
        cases xb
        · have h' : a * (P * 2#32) + Y * b + (m + 0#32) = X := h
          cases d
          · show (a * 2#32 + 0#32) * P + Y * b + m = X
            grind
          · show (a * 2#32 + 0#32 - Y) * P + Y * (b + P) + m = X
            grind
        · have h' : a * (P * 2#32) + Y * b + (m + P) = X := h
          cases d
          · show (a * 2#32 + 1#32) * P + Y * b + m = X
            grind
          · show (a * 2#32 + 1#32 - Y) * P + Y * (b + P) + m = X
            grind
      exact hh _
end
section
/-! the product -/
theorem bm_pS (X Y : BitVec 32) (S : List bm_Op) : ∀ (k : Nat), k ≤ 32 → ∀ (R : Nat → BitVec 32) (c : Bool), R 8 = X * BitVec.twoPow 32 (32 - k) → R 9 = Y → R 10 = X * bm_M (32 - k) Y →
    ∃ R' c', List.foldl bm_ex (0, R, c) (bm_pU S k) = List.foldl bm_ex (0, R', c') S ∧ R' 10 = X * Y ∧ ∀ q, q ≠ 8 → q ≠ 10 → R' q = R q := by
  intro k
  induction k with
  | zero =>
    intro _ R c _ _ h
    refine ⟨R, c, rfl, ?_, fun _ _ _ => rfl⟩
    rw [h]
    show X * bm_M 32 Y = _
    rw [bm_M32]
  | succ k ih =>
    intro hk R c h8 h9 h10
    rw [show 32 - (k + 1) = 31 - k by omega] at h8 h10
    have ei : 32 - k = (31 - k) + 1 := by omega
    have e1 : (X * BitVec.twoPow 32 (31 - k)) <<< 1 = X * BitVec.twoPow 32 (32 - k) := by
      rw [ei, bm_tpS, bm_sl1, BitVec.add_zero, BitVec.mul_assoc]
    have e2 := bm_MS (31 - k) Y
    rw [← ei] at e2
    show ∃ R' c', List.foldl bm_ex (0, R, c) ((8, 0, 9, 31 - k, 1) :: (1, 10, 10, 8, 0) :: (0, 8, 8, 1, 0) :: bm_pU S k) = List.foldl bm_ex (0, R', c') S ∧ R' 10 = X * Y ∧ ∀ q, q ≠ 8 → q ≠ 10 → R' q = R q
    rw [bm_x8, h9]
    generalize Y.getLsbD (31 - k) = yb at e2 ⊢
    cases yb
    · obtain ⟨R', c', f1, f2, f3⟩ := ih (by omega) (bm_put R 8 (R 8 <<< 1)) c (by rw [bm_ps, h8, e1]) (by rw [bm_pn (by decide), h9]) (by
        rw [bm_pn (by decide), h10, e2]
        show _ = X * (bm_M (31 - k) Y + 0#32)
        rw [BitVec.add_zero])
      exact ⟨R', c', f1, f2, fun q q8 q10 => by rw [f3 q q8 q10, bm_pn q8]⟩
    · obtain ⟨R', c', f1, f2, f3⟩ := ih (by omega) (bm_put (bm_put R 10 (R 10 + R 8)) 8 ((bm_put R 10 (R 10 + R 8)) 8 <<< 1)) (BitVec.carry 32 (R 10) (R 8) false) (by rw [bm_ps, bm_pn (by decide), h8, e1]) (by rw [bm_pn (by decide), bm_pn (by decide), h9]) (by
        rw [bm_pn (by decide), bm_ps, h10, h8, e2]
        show _ = X * (bm_M (31 - k) Y + BitVec.twoPow 32 (31 - k))
        rw [BitVec.mul_add])
      refine ⟨R', c', ?_, f2, fun q q8 q10 => by rw [f3 q q8 q10, bm_pn q8, bm_pn q10]⟩
      show List.foldl bm_ex (0, R, c) ((1, 10, 10, 8, 0) :: (0, 8, 8, 1, 0) :: bm_pU S k) = _
      rw [bm_x1, bm_x0]
      exact f1
/-! the quotient's head and tails -/
theorem bm_qH (R : Nat → BitVec 32) (c : Bool) (S : List bm_Op) : ∃ R' c', List.foldl bm_ex (0, R, c) (bm_qh 0 1 S) = List.foldl bm_ex (0, R', c') S ∧ R' 9 = bm_am (R 1) ∧ R' 13 = 0#32 ∧ (R' 10, R' 11) = bm_qf (bm_am (R 0)) (bm_am (R 1)) 16 (0#32, 0#32) ∧ ∀ q, q < 8 → R' q = R q := by
  unfold bm_qh
  rw [bm_x11]
  obtain ⟨R2, c2, e2, f2, g2⟩ := bm_amP (bm_put R 13 (BitVec.ofNat 32 0)) c ((0, 9, 1, 0, 0) :: (8, 0, 1, 31, 1) :: (2, 9, 13, 1, 0) :: (11, 10, 0, 0, 0) :: (11, 11, 0, 0, 0) :: bm_qD S 16) (t := 8) (x := 0) (by decide) (by decide) bm_ps
  obtain ⟨R3, c3, e3, f3, g3⟩ := bm_amP R2 c2 ((11, 10, 0, 0, 0) :: (11, 11, 0, 0, 0) :: bm_qD S 16) (t := 9) (x := 1) (by decide) (by decide) (by rw [g2 13 (by decide), bm_ps])
  rw [bm_pn (by decide)] at f2
  rw [g2 1 (by decide), bm_pn (by decide)] at f3
  obtain ⟨R4, c4, e4, f4, g4⟩ := bm_qS (bm_am (R 0)) (bm_am (R 1)) S 16 (bm_put (bm_put R3 10 (BitVec.ofNat 32 0)) 11 (BitVec.ofNat 32 0)) c3 (by rw [bm_pn (by decide), bm_pn (by decide), g3 8 (by decide), f2]) (by rw [bm_pn (by decide), bm_pn (by decide), f3])
  rw [bm_ps, bm_pn (by decide), bm_ps] at f4
  refine ⟨R4, c4, e2.trans (e3.trans ?_), ?_, ?_, f4, ?_⟩
  · rw [bm_x11, bm_x11]
    exact e4
  · rw [g4 9 (by decide) (by decide) (by decide), bm_pn (by decide), bm_pn (by decide), f3]
  · rw [g4 13 (by decide) (by decide) (by decide), bm_pn (by decide), bm_pn (by decide), g3 13 (by decide), g2 13 (by decide), bm_ps]
  · intro q hq
    rw [g4 q (by omega) (by omega) (by omega), bm_pn (by omega), bm_pn (by omega), g3 q (by omega), g2 q (by omega), bm_pn (by omega)]
theorem bm_ng (R : Nat → BitVec 32) (c : Bool) (S : List bm_Op) (t f o : Nat) (ht : 13 ≠ t) (h13 : R 13 = 0#32) :
    ∃ R' c', List.foldl bm_ex (0, R, c) ((8, 0, f, o, 1) :: (2, t, 13, t, 0) :: S) = List.foldl bm_ex (0, R', c') S ∧ R' t = bm_sgn ((R f).getLsbD o) (R t) ∧ ∀ q, q ≠ t → R' q = R q := by
  rw [bm_x8]
  cases (R f).getLsbD o
  · exact ⟨R, c, rfl, rfl, fun _ _ => rfl⟩
  · refine ⟨_, _, bm_x2 t 13 t 0 R c S, ?_, fun q hq => bm_pn hq⟩
    rw [bm_ps, h13]
    rfl
theorem bm_P0 (r : Nat) : bm_P r 0 = bm_qh 0 1 (bm_f6 2 0 1) := rfl
theorem bm_P1 (r : Nat) : bm_P r 1 = bm_qh 0 1 (bm_f7 3 0) := rfl
theorem bm_P2 (r : Nat) : bm_P r 2 = bm_pr 2 1 ((0, 10, 10, 0, 0) :: (6, 4, 10, 0, 0) :: []) := rfl
theorem bm_P3 (r : Nat) : bm_P r 3 = (1, 8, 4, 3, 0) :: (6, 5, 8, 0, 0) :: [] := rfl
theorem bm_P4 (r : Nat) : bm_P r 4 = (11, 9, 0, 0, 0) :: (5, 8, 5, 0, 0) :: (12, 0, 8, 0, 1) :: (10, 9, 0, 0, 0) :: (6, 6, 9, 0, 0) :: [] := rfl
theorem bm_P5 (r : Nat) : bm_P r 5 = bm_rt r ((6, 7, 10, 0, 0) :: []) := rfl
def bm_Q (R : Nat → BitVec 32) : BitVec 32 × BitVec 32 := bm_qf (bm_am (R 0)) (bm_am (R 1)) 16 (0#32, 0#32)
theorem bm_L0 (r : Nat) (x : (Nat → BitVec 32) × Bool) : (bm_ln r 0 x).1 2 = bm_wid (bm_sgn ((x.1 0 ^^^ x.1 1).getLsbD 31) (cond (bm_am (x.1 1) == 0#32) 0#32 (bm_Q x.1).2)) ∧ ∀ q, q < 8 → q ≠ 2 → (bm_ln r 0 x).1 q = x.1 q := by
  obtain ⟨R, c⟩ := x
  unfold bm_ln
  dsimp only
  rw [bm_P0]
  obtain ⟨R1, c1, e1, f1, f2, f3, f4⟩ := bm_qH R c (bm_f6 2 0 1)
  have hz : ∃ R2, List.foldl bm_ex (0, R1, c1) (bm_f6 2 0 1) = List.foldl bm_ex (0, R2, c1) ((5, 12, 0, 1, 0) :: (8, 0, 12, 31, 1) :: (2, 11, 13, 11, 0) :: (6, 2, 11, 0, 0) :: []) ∧ R2 11 = cond (R1 9 == 0#32) 0#32 (R1 11) ∧ ∀ q, q ≠ 11 → R2 q = R1 q := by
    unfold bm_f6
    rw [bm_x12]
    cases (R1 9 == 0#32)
    · exact ⟨R1, rfl, rfl, fun _ _ => rfl⟩
    · exact ⟨_, bm_x11 11 0 0 0 R1 c1 _, bm_ps, fun q hq => bm_pn hq⟩
  obtain ⟨R2, e2, g1, g2⟩ := hz
  obtain ⟨R3, c3, e3, k1, k2⟩ := bm_ng (bm_put R2 12 (R2 0 ^^^ R2 1)) c1 ((6, 2, 11, 0, 0) :: []) 11 12 31 (by decide) (by rw [bm_pn (by decide), g2 13 (by decide), f2])
  rw [bm_ps, bm_pn (by decide), g1, f1, g2 0 (by decide), g2 1 (by decide), f4 0 (by decide), f4 1 (by decide)] at k1
  rw [e1, e2, bm_x5, e3, bm_x6]
  have f3' : R1 11 = (bm_Q R).2 := congrArg Prod.snd f3
  rw [List.foldl_nil]
  dsimp only
  refine ⟨?_, fun q hq h2 => ?_⟩
  · rw [bm_ps, k1, f3']
  · rw [bm_pn h2, k2 q (by omega), bm_pn (by omega), g2 q (by omega), f4 q hq]
theorem bm_L1 (r : Nat) (x : (Nat → BitVec 32) × Bool) : (bm_ln r 1 x).1 3 = bm_wid (bm_sgn ((x.1 0).getLsbD 31) (bm_Q x.1).1) ∧ ∀ q, q < 8 → q ≠ 3 → (bm_ln r 1 x).1 q = x.1 q := by
  obtain ⟨R, c⟩ := x
  unfold bm_ln
  dsimp only
  rw [bm_P1]
  obtain ⟨R1, c1, e1, f1, f2, f3, f4⟩ := bm_qH R c (bm_f7 3 0)
  obtain ⟨R3, c3, e3, k1, k2⟩ := bm_ng R1 c1 ((6, 3, 10, 0, 0) :: []) 10 0 31 (by decide) f2
  have f3' : R1 10 = (bm_Q R).1 := congrArg Prod.fst f3
  rw [e1, show bm_f7 3 0 = (8, 0, 0, 31, 1) :: (2, 10, 13, 10, 0) :: (6, 3, 10, 0, 0) :: [] from rfl, e3, bm_x6]
  rw [f4 0 (by decide), f3'] at k1
  rw [List.foldl_nil]
  dsimp only
  refine ⟨?_, fun q hq h2 => ?_⟩
  · rw [bm_ps, k1]
  · rw [bm_pn h2, k2 q (by omega), f4 q hq]
theorem bm_L2 (r : Nat) (x : (Nat → BitVec 32) × Bool) : (bm_ln r 2 x).1 4 = bm_wid (x.1 2 * x.1 1) ∧ ∀ q, q < 8 → q ≠ 4 → (bm_ln r 2 x).1 q = x.1 q := by
  obtain ⟨R, c⟩ := x
  unfold bm_ln
  dsimp only
  rw [bm_P2]
  unfold bm_pr
  rw [bm_x0, bm_x0, bm_x11, bm_sl0, bm_sl0]
  obtain ⟨R1, c1, e1, f1, f2⟩ := bm_pS (R 2) (R 1) ((0, 10, 10, 0, 0) :: (6, 4, 10, 0, 0) :: []) 32 (by omega) (bm_put (bm_put (bm_put R 8 (R 2)) 9 ((bm_put R 8 (R 2)) 1)) 10 (BitVec.ofNat 32 0)) c
    (by
      rw [bm_pn (by decide), bm_pn (by decide), bm_ps, bm_tp]
      exact (BitVec.mul_one _).symm)
    (by rw [bm_pn (by decide), bm_ps, bm_pn (by decide)])
    (by
      rw [bm_ps]
      show _ = R 2 * bm_M 0 (R 1)
      rw [bm_M0]
      exact BitVec.mul_zero.symm)
  rw [e1, bm_x0, bm_x6, bm_sl0]
  rw [List.foldl_nil]
  dsimp only
  refine ⟨?_, fun q hq h2 => ?_⟩
  · rw [bm_ps, bm_ps, f1]
  · rw [bm_pn h2, bm_pn (by omega), f2 q (by omega) (by omega), bm_pn (by omega), bm_pn (by omega), bm_pn (by omega)]
theorem bm_L3 (r : Nat) (x : (Nat → BitVec 32) × Bool) : (bm_ln r 3 x).1 5 = bm_wid (x.1 4 + x.1 3) ∧ ∀ q, q < 8 → q ≠ 5 → (bm_ln r 3 x).1 q = x.1 q := by
  obtain ⟨R, c⟩ := x
  unfold bm_ln
  dsimp only
  rw [bm_P3]
  rw [bm_x1, bm_x6]
  rw [List.foldl_nil]
  dsimp only
  refine ⟨?_, fun q hq h2 => ?_⟩
  · rw [bm_ps, bm_ps]
  · rw [bm_pn h2, bm_pn (by omega)]
theorem bm_L4 (r : Nat) (x : (Nat → BitVec 32) × Bool) (he : x.1 5 = x.1 0) : (bm_ln r 4 x).1 6 = 1#32 ∧ ∀ q, q < 8 → q ≠ 6 → (bm_ln r 4 x).1 q = x.1 q := by
  obtain ⟨R, c⟩ := x
  unfold bm_ln
  dsimp only at he ⊢
  rw [bm_P4]
  rw [bm_x11, bm_x5, bm_x12, bm_ps, bm_pn (show (5 : Nat) ≠ 9 by decide), bm_pn (show (0 : Nat) ≠ 9 by decide), he, BitVec.xor_self, show ((0#32 : BitVec 32) == 0#32) = true from rfl, show cond true 0 1 = 0 from rfl, bm_x10, bm_x6]
  rw [List.foldl_nil]
  dsimp only
  refine ⟨?_, fun q hq h2 => ?_⟩
  · rw [bm_ps, bm_ps, bm_pn (by decide), bm_ps]
    decide
  · rw [bm_pn h2, bm_pn (by omega), bm_pn (by omega), bm_pn (by omega)]
end
section
/-! the first five lines: q * y + r = x -/
theorem bm_wl {a b : BitVec 32} (h : a.setWidth 16 = b.setWidth 16) : bm_wid a = bm_wid b := by
  unfold bm_wid
  rw [h]
theorem bm_wl2 (v : BitVec 32) : (bm_wid v).setWidth 16 = v.setWidth 16 := by
  apply BitVec.eq_of_toNat_eq
  rw [BitVec.toNat_setWidth, BitVec.toNat_setWidth]
  exact bm_wid_low v
theorem bm_v5 (a b y : BitVec 32) : bm_wid (bm_wid (bm_wid a * y) + bm_wid b) = bm_wid (a * y + b) := by
  apply bm_wl
  rw [BitVec.setWidth_add _ _ (by decide), bm_wl2, bm_wl2, BitVec.setWidth_mul _ _ (by decide), bm_wl2, ← BitVec.setWidth_mul _ _ (by decide), ← BitVec.setWidth_add _ _ (by decide)]
theorem bm_amlt (u : BitVec 32) : (bm_am (bm_wid u)).toNat < 65536 := by
  have h := bm_wn u
  have h1 : u.toNat % 65536 < 65536 := Nat.mod_lt _ (by decide)
  have hb : (bm_wid u).getLsbD 31 = decide ((bm_wid u).toNat / 2 ^ 31 % 2 = 1) := by
    rw [← BitVec.testBit_toNat, Nat.testBit_eq_decide_div_mod_eq]
  unfold bm_am
  rw [hb]
  by_cases g : 32768 ≤ u.toNat % 65536
  · rw [if_pos g] at h
    rw [decide_eq_true (by omega)]
    show (0#32 - bm_wid u).toNat < 65536
    rw [BitVec.toNat_sub]
    show (2 ^ 32 - (bm_wid u).toNat + 0) % 2 ^ 32 < 65536
    omega
  · rw [if_neg g] at h
    rw [decide_eq_false (by omega)]
    show (bm_wid u).toNat < 65536
    omega
theorem bm_arith (x y q m : BitVec 32) (h : m + bm_am y * q = bm_am x) : bm_sgn ((x ^^^ y).getLsbD 31) q * y + bm_sgn (x.getLsbD 31) m = x := by
  rw [BitVec.getLsbD_xor]
  unfold bm_am at h
  cases hx : x.getLsbD 31 <;> cases hy : y.getLsbD 31 <;> rw [hx, hy] at h
  · have h' : m + y * q = x := h
    show q * y + m = x
    grind
  · have h' : m + (0#32 - y) * q = x := h
    show (0#32 - q) * y + m = x
    grind
  · have h' : m + y * q = 0#32 - x := h
    show (0#32 - q) * y + (0#32 - m) = x
    grind
  · have h' : m + (0#32 - y) * q = 0#32 - x := h
    show q * y + (0#32 - m) = x
    grind
theorem bm_Qeq (R : Nat → BitVec 32) (u : BitVec 32) (h0 : R 0 = bm_wid u) : (bm_Q R).1 + bm_am (R 1) * (cond (bm_am (R 1) == 0#32) 0#32 (bm_Q R).2) = bm_am (R 0) := by
  have h : (bm_Q R).1 + bm_am (R 1) * (bm_Q R).2 = bm_am (R 0) := by
    apply bm_qI
    · intro j _
      exact BitVec.getLsbD_zero
    · rw [bm_M16 _ (by rw [h0]; exact bm_amlt u)]
      show 0#32 * BitVec.twoPow 32 16 + bm_am (R 1) * 0#32 + bm_am (R 0) = bm_am (R 0)
      rw [BitVec.zero_mul, BitVec.mul_zero, BitVec.add_zero, BitVec.zero_add]
  cases hz : (bm_am (R 1) == 0#32)
  · exact h
  · rw [beq_iff_eq] at hz
    rw [hz] at h ⊢
    rw [BitVec.zero_mul] at h ⊢
    exact h
theorem bm_five (r : Nat) (x : (Nat → BitVec 32) × Bool) (u w : BitVec 32) (h0 : x.1 0 = bm_wid u) (h1 : x.1 1 = bm_wid w) :
    (bm_lns r 0 5 x).1 0 = bm_wid u ∧ (bm_lns r 0 5 x).1 1 = bm_wid w ∧ (bm_lns r 0 5 x).1 5 = bm_wid u ∧ (bm_lns r 0 5 x).1 6 = 1#32 ∧ (bm_wid w = 0#32 → (bm_lns r 0 5 x).1 2 = 0#32) := by
  have e5 : bm_lns r 0 5 x = bm_ln r 4 (bm_ln r 3 (bm_ln r 2 (bm_ln r 1 (bm_ln r 0 x)))) := rfl
  rw [e5]
  obtain ⟨p0, k0⟩ := bm_L0 r x
  generalize bm_ln r 0 x = x0 at p0 k0 ⊢
  obtain ⟨p1, k1⟩ := bm_L1 r x0
  generalize bm_ln r 1 x0 = x1 at p1 k1 ⊢
  obtain ⟨p2, k2⟩ := bm_L2 r x1
  generalize bm_ln r 2 x1 = x2 at p2 k2 ⊢
  obtain ⟨p3, k3⟩ := bm_L3 r x2
  generalize bm_ln r 3 x2 = x3 at p3 k3 ⊢
  have a0 := k0 0 (by decide) (by decide)
  have a1 := k0 1 (by decide) (by decide)
  have eQ : bm_Q x0.1 = bm_Q x.1 := by
    unfold bm_Q
    rw [a0, a1]
  have b0 : x3.1 0 = bm_wid u := by rw [k3 0 (by decide) (by decide), k2 0 (by decide) (by decide), k1 0 (by decide) (by decide), a0, h0]
  have b1 : x3.1 1 = bm_wid w := by rw [k3 1 (by decide) (by decide), k2 1 (by decide) (by decide), k1 1 (by decide) (by decide), a1, h1]
  have b2 : x3.1 2 = x0.1 2 := by rw [k3 2 (by decide) (by decide), k2 2 (by decide) (by decide), k1 2 (by decide) (by decide)]
  have b5 : x3.1 5 = bm_wid u := by
    rw [p3, p2, k2 3 (by decide) (by decide), p1, k1 2 (by decide) (by decide), k1 1 (by decide) (by decide), p0, eQ, a0, a1, bm_v5, bm_arith _ _ _ _ (bm_Qeq x.1 u h0), h0, bm_wid_wid]
  obtain ⟨p4, k4⟩ := bm_L4 r x3 (by rw [b5, b0])
  refine ⟨?_, ?_, ?_, p4, fun hw => ?_⟩
  · rw [k4 0 (by decide) (by decide), b0]
  · rw [k4 1 (by decide) (by decide), b1]
  · rw [k4 5 (by decide) (by decide), b5]
  · rw [k4 2 (by decide) (by decide), b2, p0, h1, hw]
    show bm_wid (bm_sgn _ 0#32) = 0#32
    cases (x.1 0 ^^^ 0#32).getLsbD 31 <;> decide
/-! the root -/
theorem bm_orN (n o : Nat) (h : n.testBit o = false) : BitVec.ofNat 32 n ||| BitVec.twoPow 32 o = BitVec.ofNat 32 (n + 2 ^ o) := by
  rw [bm_or _ _ (by rw [BitVec.getLsbD_ofNat, h, Bool.and_false]), bm_tp, BitVec.ofNat_add]
theorem bm_slN (n o : Nat) : BitVec.ofNat 32 n <<< o = BitVec.ofNat 32 (n * 2 ^ o) := by
  rw [bm_sl, bm_tp, BitVec.ofNat_mul]
theorem bm_sb (R : Nat → BitVec 32) (c : Bool) (S : List bm_Op) (t f o o' n : Nat) (hR : R t = BitVec.ofNat 32 n) (hn : n.testBit o' = false) :
    ∃ R', List.foldl bm_ex (0, R, c) ((8, 0, f, o, 1) :: (10, t, 0, o', 0) :: S) = List.foldl bm_ex (0, R', c) S ∧ R' t = BitVec.ofNat 32 (n + 2 ^ o' * ((R f).getLsbD o).toNat) ∧ ∀ q, q ≠ t → R' q = R q := by
  rw [bm_x8]
  cases (R f).getLsbD o
  · refine ⟨R, rfl, ?_, fun _ _ => rfl⟩
    rw [hR]
    rfl
  · refine ⟨_, bm_x10 t 0 o' 0 R c S, ?_, fun q hq => bm_pn hq⟩
    rw [bm_ps, hR, bm_orN n o' hn, Bool.toNat_true, Nat.mul_one]
theorem bm_rA (R : Nat → BitVec 32) (c : Bool) (S : List bm_Op) (o1 o0 m : Nat) (hR : R 9 = BitVec.ofNat 32 m) :
    ∃ R', List.foldl bm_ex (0, R, c) ((0, 9, 9, 2, 0) :: (8, 0, 8, o1, 1) :: (10, 9, 0, 1, 0) :: (8, 0, 8, o0, 1) :: (10, 9, 0, 0, 0) :: S) = List.foldl bm_ex (0, R', c) S ∧ R' 9 = BitVec.ofNat 32 (4 * m + 2 * ((R 8).getLsbD o1).toNat + ((R 8).getLsbD o0).toNat) ∧ ∀ q, q ≠ 9 → R' q = R q := by
  rw [bm_x0]
  obtain ⟨R1, e1, f1, g1⟩ := bm_sb (bm_put R 9 (R 9 <<< 2)) c ((8, 0, 8, o0, 1) :: (10, 9, 0, 0, 0) :: S) 9 8 o1 1 (4 * m) (by rw [bm_ps, hR, bm_slN, Nat.mul_comm]) (by rw [Nat.testBit_eq_decide_div_mod_eq]; exact decide_eq_false (by omega))
  rw [bm_pn (by decide)] at f1
  obtain ⟨R2, e2, f2, g2⟩ := bm_sb R1 c S 9 8 o0 0 _ f1 (by rw [Nat.testBit_eq_decide_div_mod_eq]; exact decide_eq_false (by omega))
  rw [g1 8 (by decide), bm_pn (by decide)] at f2
  refine ⟨R2, e1.trans e2, ?_, fun q hq => by rw [g2 q hq, g1 q hq, bm_pn hq]⟩
  rw [f2, Nat.pow_one, Nat.pow_zero, Nat.one_mul]
theorem bm_rB (R : Nat → BitVec 32) (c : Bool) (S : List bm_Op) (p : Nat) (hR : R 10 = BitVec.ofNat 32 p) :
    ∃ R', List.foldl bm_ex (0, R, c) ((0, 11, 10, 2, 0) :: (10, 11, 0, 0, 0) :: (0, 10, 10, 1, 0) :: S) = List.foldl bm_ex (0, R', c) S ∧ R' 11 = BitVec.ofNat 32 (4 * p + 1) ∧ R' 10 = BitVec.ofNat 32 (2 * p) ∧ ∀ q, q ≠ 10 → q ≠ 11 → R' q = R q := by
  rw [bm_x0, bm_x10, bm_x0]
  refine ⟨_, rfl, ?_, ?_, fun q h0 h1 => by rw [bm_pn h0, bm_pn h1, bm_pn h1]⟩
  · rw [bm_pn (by decide), bm_ps, bm_ps, hR, bm_slN, bm_orN _ _ (by rw [Nat.testBit_eq_decide_div_mod_eq]; exact decide_eq_false (by omega))]
    rw [show p * 2 ^ 2 + 2 ^ 0 = 4 * p + 1 by omega]
  · rw [bm_ps, bm_pn (by decide), bm_pn (by decide), hR, bm_slN, Nat.pow_one, Nat.mul_comm]
theorem bm_rC (R : Nat → BitVec 32) (c : Bool) (S : List bm_Op) (m t p : Nat) (h9 : R 9 = BitVec.ofNat 32 m) (h11 : R 11 = BitVec.ofNat 32 t) (h10 : R 10 = BitVec.ofNat 32 (2 * p)) (hm : m < 2 ^ 32) (ht : t < 2 ^ 32) :
    ∃ R' c', List.foldl bm_ex (0, R, c) ((2, 12, 9, 11, 0) :: (9, 0, 0, 0, 2) :: (0, 9, 12, 0, 0) :: (10, 10, 0, 0, 0) :: S) = List.foldl bm_ex (0, R', c') S
      ∧ ((t ≤ m ∧ R' 9 = BitVec.ofNat 32 (m - t) ∧ R' 10 = BitVec.ofNat 32 (2 * p + 1)) ∨ (m < t ∧ R' 9 = BitVec.ofNat 32 m ∧ R' 10 = BitVec.ofNat 32 (2 * p))) ∧ ∀ q, q ≠ 9 → q ≠ 10 → q ≠ 12 → R' q = R q := by
  rw [bm_x2, bm_x9]
  have em : (R 9).toNat = m := by rw [h9, BitVec.toNat_ofNat, Nat.mod_eq_of_lt hm]
  have et : (R 11).toNat = t := by rw [h11, BitVec.toNat_ofNat, Nat.mod_eq_of_lt ht]
  rw [em, et]
  by_cases g : t ≤ m
  · rw [decide_eq_true g]
    refine ⟨_, _, (bm_x0 9 12 0 0 (bm_put R 12 (R 9 - R 11)) true _).trans (bm_x10 10 0 0 0 _ _ _), Or.inl ⟨g, ?_, ?_⟩, fun q h0 h1 h2 => by rw [bm_pn h1, bm_pn h0, bm_pn h2]⟩
    · rw [bm_pn (by decide), bm_ps, bm_sl0, bm_ps, h9, h11, BitVec.ofNat_sub_ofNat_of_le _ _ ht g]
    · rw [bm_ps, bm_pn (by decide), bm_pn (by decide), h10, bm_orN _ _ (by rw [Nat.testBit_eq_decide_div_mod_eq]; exact decide_eq_false (by omega))]
  · rw [decide_eq_false g]
    refine ⟨bm_put R 12 (R 9 - R 11), false, rfl, Or.inr ⟨by omega, ?_, ?_⟩, fun q h0 h1 h2 => bm_pn h2⟩
    · rw [bm_pn (by decide), h9]
    · rw [bm_pn (by decide), h10]
theorem bm_n4 (n i : Nat) : n / 4 ^ i = 4 * (n / 4 ^ (i + 1)) + 2 * (n.testBit (2 * i + 1)).toNat + (n.testBit (2 * i)).toNat := by
  rw [Nat.toNat_testBit, Nat.toNat_testBit, Nat.pow_succ 2 (2 * i), Nat.pow_succ 4 i, ← Nat.div_div_eq_div_mul, ← Nat.div_div_eq_div_mul, show (4 : Nat) ^ i = 2 ^ (2 * i) from by rw [Nat.pow_mul]]
  omega
theorem bm_sq1 (p m : Nat) (h : m ≤ 2 * p) : p * p + m < (p + 1) * (p + 1) := by
  rw [Nat.add_mul, Nat.mul_add]
  omega
theorem bm_sq2 (p : Nat) : (2 * p + 1) * (2 * p + 1) = 4 * (p * p) + 4 * p + 1 := by
  rw [Nat.add_mul, Nat.mul_add, Nat.mul_mul_mul_comm]
  omega
theorem bm_sq3 (p : Nat) : (2 * p) * (2 * p) = 4 * (p * p) := by
  rw [Nat.mul_mul_mul_comm]
theorem bm_rS (U : BitVec 32) (S : List bm_Op) : ∀ (i : Nat), i ≤ 8 → ∀ (R : Nat → BitVec 32) (c : Bool) (m p : Nat), R 8 = U → R 9 = BitVec.ofNat 32 m → R 10 = BitVec.ofNat 32 p → p * p + m = U.toNat / 4 ^ i → m ≤ 2 * p → p < 2 ^ (8 - i) →
    ∃ R' c' p', List.foldl bm_ex (0, R, c) (bm_rD S i) = List.foldl bm_ex (0, R', c') S ∧ R' 10 = BitVec.ofNat 32 p' ∧ p' < 256 ∧ p' * p' ≤ U.toNat ∧ U.toNat < (p' + 1) * (p' + 1) ∧ ∀ q, q < 8 → R' q = R q := by
  intro i
  induction i with
  | zero =>
    intro _ R c m p h8 h9 h10 h hm hp
    rw [Nat.pow_zero, Nat.div_one] at h
    exact ⟨R, c, p, rfl, h10, hp, by omega, by rw [← h]; exact bm_sq1 p m hm, fun _ _ => rfl⟩
  | succ i ih =>
    intro hi R c m p h8 h9 h10 h hm hp
    have hp' : p < 128 := Nat.lt_of_lt_of_le hp (Nat.pow_le_pow_right (by decide) (show 8 - (i + 1) ≤ 7 by omega))
    have hpow : 2 ^ (8 - i) = 2 ^ (8 - (i + 1)) * 2 := by
      rw [← Nat.pow_succ]
      congr 1
      omega
    obtain ⟨R1, e1, f1, g1⟩ := bm_rA R c ((0, 11, 10, 2, 0) :: (10, 11, 0, 0, 0) :: (0, 10, 10, 1, 0) :: (2, 12, 9, 11, 0) :: (9, 0, 0, 0, 2) :: (0, 9, 12, 0, 0) :: (10, 10, 0, 0, 0) :: bm_rD S i) (2 * i + 1) (2 * i) m h9
    rw [h8] at f1
    obtain ⟨R2, e2, f2, f2', g2⟩ := bm_rB R1 c ((2, 12, 9, 11, 0) :: (9, 0, 0, 0, 2) :: (0, 9, 12, 0, 0) :: (10, 10, 0, 0, 0) :: bm_rD S i) p (by rw [g1 10 (by decide), h10])
    have hn := bm_n4 U.toNat i
    rw [BitVec.testBit_toNat, BitVec.testBit_toNat] at hn
    have b1 : (U.getLsbD (2 * i + 1)).toNat ≤ 1 := by cases U.getLsbD (2 * i + 1) <;> decide
    have b0 : (U.getLsbD (2 * i)).toNat ≤ 1 := by cases U.getLsbD (2 * i) <;> decide
    generalize (U.getLsbD (2 * i + 1)).toNat = x1 at f1 hn b1
    generalize (U.getLsbD (2 * i)).toNat = x0 at f1 hn b0
    obtain ⟨R3, c3, e3, f3, g3⟩ := bm_rC R2 c (bm_rD S i) (4 * m + 2 * x1 + x0) (4 * p + 1) p (by rw [g2 9 (by decide) (by decide), f1]) f2 f2' (by omega) (by omega)
    have E : List.foldl bm_ex (0, R, c) (bm_rD S (i + 1)) = List.foldl bm_ex (0, R3, c3) (bm_rD S i) := e1.trans (e2.trans e3)
    have h8' : R3 8 = U := by rw [g3 8 (by decide) (by decide) (by decide), g2 8 (by decide) (by decide), g1 8 (by decide), h8]
    have hq : ∀ q, q < 8 → R3 q = R q := fun q hq => by rw [g3 q (by omega) (by omega) (by omega), g2 q (by omega) (by omega), g1 q (by omega)]
    have s2 := bm_sq2 p
    have s3 := bm_sq3 p
    rcases f3 with ⟨gl, r9, r10⟩ | ⟨gl, r9, r10⟩
    · obtain ⟨R', c', p', z1, z2, z3, z4, z5, z6⟩ := ih (by omega) R3 c3 _ _ h8' r9 r10 (by rw [hn, ← h, s2]; omega) (by omega) (by omega)
      exact ⟨R', c', p', E.trans z1, z2, z3, z4, z5, fun q h => by rw [z6 q h, hq q h]⟩
    · obtain ⟨R', c', p', z1, z2, z3, z4, z5, z6⟩ := ih (by omega) R3 c3 _ _ h8' r9 r10 (by rw [hn, ← h, s3]; omega) (by omega) (by omega)
      exact ⟨R', c', p', E.trans z1, z2, z3, z4, z5, fun q h => by rw [z6 q h, hq q h]⟩
theorem bm_lowN (v : BitVec 32) : (bm_low v).toNat = v.toNat % 65536 := by
  unfold bm_low
  rw [BitVec.toNat_setWidth, BitVec.toNat_setWidth]
  omega
theorem bm_L5 (r : Nat) (hr : r < 8) (x : (Nat → BitVec 32) × Bool) : ∃ p, (bm_ln r 5 x).1 7 = bm_wid (BitVec.ofNat 32 p) ∧ p < 256 ∧ p * p ≤ (x.1 r).toNat % 65536 ∧ (x.1 r).toNat % 65536 < (p + 1) * (p + 1) := by
  obtain ⟨R, c⟩ := x
  unfold bm_ln
  dsimp only
  rw [bm_P5]
  unfold bm_rt
  rw [bm_x7, bm_x11, bm_x11]
  have hU := bm_lowN (R r)
  obtain ⟨R', c', p, e, f, f1, f2, f3, _⟩ := bm_rS (bm_low (R r)) ((6, 7, 10, 0, 0) :: []) 8 (by omega) (bm_put (bm_put (bm_put R 8 (bm_low (R r))) 9 (BitVec.ofNat 32 0)) 10 (BitVec.ofNat 32 0)) c 0 0 (by rw [bm_pn (by decide), bm_pn (by decide), bm_ps]) (by rw [bm_pn (by decide), bm_ps]) bm_ps
    (by rw [hU, Nat.div_eq_of_lt (Nat.mod_lt _ (by decide))]) (by omega) (by decide)
  rw [e, bm_x6, List.foldl_nil]
  rw [hU] at f2 f3
  refine ⟨p, ?_, f1, f2, f3⟩
  dsimp only
  rw [bm_ps, f]
end
section
theorem bm_wrap {post : Int32 → Prop} {u : St2} {p0 : Int32} (H : post (Int32.ofBitVec (bm_wid p0.toBitVec))) : wpL_wrapped post u p0 := by
  unfold wpL_wrapped
  have hv : p0.toBitVec.toNat % 65536 < 65536 := Nat.mod_lt _ (by decide)
  refine nm_r (show p0 &&& 65535 = nI (p0.toBitVec.toNat % 65536) from pk_and p0 16 (by decide)) ?_
  refine pk_le (p0.toBitVec.toNat % 65536) 32767 (fun g => ?_) (fun g => ?_)
  · rw [bm_sg1 _ (by omega)]
    exact H
  · rw [bm_sg2 _ (by omega)]
    exact H
theorem bm_plain {post : Int32 → Prop} {u : St2} {v : BitVec 32} (H : post (nI (v.toNat % 65536))) : wpL_plain post u (Int32.ofBitVec (bm_wid v)) := by
  unfold wpL_plain
  have hv : v.toNat % 65536 < 65536 := Nat.mod_lt _ (by decide)
  rcases Nat.lt_or_ge (v.toNat % 65536) 32768 with g | g
  · rw [← bm_sg1 _ g]
    exact br_t (nI_pos' (by omega)) H
  · rw [← bm_sg2 _ g]
    refine br_f ?_ ?_
    · have h : nI (v.toNat % 65536) - nI 65536 < 0 := pk_sneg (by decide) hv
      exact Int32.not_le.mpr h
    · rw [Int32.sub_add_cancel]
      exact H
theorem bm_lns1 (r m : Nat) (x : (Nat → BitVec 32) × Bool) : bm_lns r m 1 x = bm_ln r m x := rfl
theorem bm_m7 {r : Nat} (hr : r < 8) : nI r &&& 7 = nI r := by
  rw [pk_andN (by omega) 3 (by decide), Nat.mod_eq_of_lt hr]
theorem bm_gp {p : Nat} (hp : p < 256) : Int32.ofBitVec (bm_wid (bm_wid (BitVec.ofNat 32 p))) = nI p := by
  have e : (BitVec.ofNat 32 p).toNat % 65536 = p := by
    rw [BitVec.toNat_ofNat]
    omega
  rw [bm_wid_wid, ← bm_sg1 _ (by omega), e]
section
variable {l ne la st : Int32} {a1 a2 a3 a4 a5 a6 a7 a8 a9 a10 a11 : Nat → Int32}
theorem bm_tail {post : Int32 → St1 → Prop} {x : (Nat → BitVec 32) × Bool} {r : Nat} (hr : r < 8) (hc : bm_code r a1 a2 a3 a4) (h5 : bm_ok a5 x.1)
    (H : ∀ c' R' st' b5 b6 b7 b8 b9 b10 b11, bm_ok b5 R' → post 1 (nI 6, nI 6, bm_b c', st', a1, a2, a3, a4, b5, b6, b7, b8, b9, b10, b11)) : wL_holds_97 post (nI r) (nI 6) (nI 5) (bm_b x.2) st a1 a2 a3 a4 a5 a6 a7 a8 a9 a10 a11 := by
  unfold wL_holds_97
  obtain ⟨p, z1, z2, z3, z4⟩ := bm_L5 r hr x
  obtain ⟨R, c⟩ := x
  dsimp only at h5 z3 z4 ⊢
  refine bm_get hr (bm_m7 hr) h5 ?_
  refine bm_plain ?_
  refine bm_run (m := 5) (e := 1) hr hc (by omega) (by omega) (Or.inr rfl) h5 (fun st' b5 b6 b7 b8 b9 b10 b11 h => ?_)
  dsimp only
  have hv : (R r).toNat % 65536 < 65536 := Nat.mod_lt _ (by decide)
  have hpp : p * p ≤ 65535 := by omega
  have hp1 : (p + 1) * (p + 1) ≤ 65536 := Nat.mul_le_mul (show p + 1 ≤ 256 by omega) (show p + 1 ≤ 256 by omega)
  refine br_t rfl ?_
  refine bm_get (r := 7) (by decide) (by decide) h ?_
  rw [bm_lns1, z1, bm_gp z2, nI_1, pk_mul, pk_mul]
  refine br_f (nI_pos (by omega)) (br_f (nI_nlt z3 (by omega)) (br_f (nI_ge z4 (by omega)) ?_))
  unfold wpX_next
  dsimp only
  exact br_t rfl (H _ _ _ _ _ _ _ _ _ _ h)
theorem bm_holds {post : Int32 → St1 → Prop} {R : Nat → BitVec 32} {c : Bool} {r : Nat} {x y : Int32} (hr : r < 8) (hc : bm_code r a1 a2 a3 a4) (h5 : bm_ok a5 R)
    (H : ∀ c' R' st' b5 b6 b7 b8 b9 b10 b11, bm_ok b5 R' → post 1 (nI 6, nI 6, bm_b c', st', a1, a2, a3, a4, b5, b6, b7, b8, b9, b10, b11)) : wpL_holds post (nI 6, ne, bm_b c, st, a1, a2, a3, a4, a5, a6, a7, a8, a9, a10, a11) x y (nI r) := by
  unfold wpL_holds
  dsimp only
  refine bm_set (r := 0) (by decide) (by decide) h5 (fun b5 b6 h => ?_)
  refine bm_set (r := 1) (by decide) (by decide) h (fun b5 b6 h => ?_)
  unfold wpX_rewind
  dsimp only
  refine bm_wrap ?_
  refine bm_wrap ?_
  refine bm_run (m := 0) (e := 5) hr hc (by omega) (by omega) (Or.inl rfl) h (fun st' b5 b6 b7 b8 b9 b10 b11 h => ?_)
  dsimp only
  obtain ⟨q0, q1, q5, q6, q2⟩ := bm_five r (bm_put (bm_put (bm_put (bm_put R 8 x.toBitVec) 0 (bm_wid x.toBitVec)) 8 y.toBitVec) 1 (bm_wid y.toBitVec), c) x.toBitVec y.toBitVec (by
    dsimp only
    rw [bm_pn (by decide), bm_pn (by decide), bm_ps]) (by
    dsimp only
    rw [bm_ps])
  generalize bm_lns r 0 5 (bm_put (bm_put (bm_put (bm_put R 8 x.toBitVec) 0 (bm_wid x.toBitVec)) 8 y.toBitVec) 1 (bm_wid y.toBitVec), c) = x5 at h q0 q1 q5 q6 q2 ⊢
  refine br_t rfl ?_
  refine bm_get (r := 6) (by decide) (by decide) h ?_
  rw [q6]
  refine br_t (by decide) ?_
  refine bm_get (r := 0) (by decide) (by decide) h ?_
  rw [q0, bm_wid_wid]
  refine br_t rfl ?_
  refine bm_get (r := 1) (by decide) (by decide) h ?_
  rw [q1, bm_wid_wid]
  refine br_t rfl ?_
  refine bm_get (r := 5) (by decide) (by decide) h ?_
  refine bm_get (r := 0) (by decide) (by decide) h ?_
  rw [q5, q0]
  refine br_t rfl ?_
  refine br_c (fun g => ?_) (fun g => bm_tail hr hc h H)
  have hz : bm_wid y.toBitVec = 0#32 := congrArg Int32.toBitVec g
  refine bm_get (r := 2) (by decide) (by decide) h ?_
  rw [q2 hz]
  exact br_t (by decide) (bm_tail hr hc h H)
theorem bm_emit {post : Int32 → St1 → Prop} {k : Nat} {p0 p1 p2 p3 : Int32} (m : Nat) (hm : m < 32) (hk : k ≤ 18)
    (H : post (nI (m + 1)) (nI (m + 1), ne, la, st, upd a1 m (nI k), upd a2 m (p1 &&& 7), upd a3 m p2, upd a4 m p3, a5, a6, a7, a8, a9, a10, a11)) (h0 : p0 = nI k := by rfl) (hl : l = nI m := by rfl) : wpX_emit post (l, ne, la, st, a1, a2, a3, a4, a5, a6, a7, a8, a9, a10, a11) p0 p1 p2 p3 := by
  subst h0 hl
  have hc := nI_clamp (show m < 2 ^ 31 by omega)
  have hin : vp_in (nI m) 32 := vp_in_nI hm (by omega)
  unfold wpX_emit
  dsimp only
  rw [hc]
  refine br_f (nI_pos (by omega)) (br_f (nI_nlt (b := k) (a := 18) hk (by decide)) (br_t (nI_lt (b := 32) hm (by decide)) ?_))
  exact ⟨hin, nm_e ⟨hin, nm_e ⟨hin, nm_e ⟨hin, nm_e (nm_r (nI_1 m) H)⟩⟩⟩⟩
theorem bm_loop {L : Nat} {xs : Nat → Int32} {R : Nat → BitVec 32} {c : Bool} {r kc ks : Nat} (hL : L ≤ 260) (hr : r < 8) (hc : bm_code r a1 a2 a3 a4) (h5 : bm_ok a5 R) : ∃ n, wL_law_85 (fun r => r = 1) L xs (nI r) kc ks n 1 (nI 6) ne (bm_b c) st a1 a2 a3 a4 a5 a6 a7 a8 a9 a10 a11 := by
  refine loop_m (σ := Int32 × Int32 × Int32 × Int32 × (Nat → Int32) × (Nat → Int32) × (Nat → Int32) × (Nat → Int32) × (Nat → Int32) × (Nat → Int32) × (Nat → Int32))
    (fun n s => wL_law_85 (fun r => r = 1) L xs (nI r) kc ks n s.1 (nI 6) s.2.1 s.2.2.1 s.2.2.2.1 a1 a2 a3 a4 s.2.2.2.2.1 s.2.2.2.2.2.1 s.2.2.2.2.2.2.1 s.2.2.2.2.2.2.2.1 s.2.2.2.2.2.2.2.2.1 s.2.2.2.2.2.2.2.2.2.1 s.2.2.2.2.2.2.2.2.2.2)
    (fun s => ∃ (i : Nat) (R' : Nat → BitVec 32) (c' : Bool), s.1 = nI i ∧ i ≤ 300 ∧ s.2.2.1 = bm_b c' ∧ bm_ok s.2.2.2.2.1 R')
    (fun s => 400 - s.1.toNatClampNeg) ?_ (1, ne, bm_b c, st, a5, a6, a7, a8, a9, a10, a11) ⟨1, R, c, rfl, by omega, rfl, h5⟩
  intro n s hI hn
  obtain ⟨x3, ne', la', st', d5, d6, d7, d8, d9, d10, d11⟩ := s
  obtain ⟨i, R', c', e1, hi, e2, h⟩ := hI
  dsimp only at e1 e2 h ⊢
  subst e1 e2
  refine pk_lt L (i + 2) (fun _ => rfl) (fun g => ?_) (hy := nI_add i 2)
  have hin0 : vp_in (nI i) L := vp_in_nI (by omega) (by omega)
  have hin1 : vp_in (nI i + 1) L := by
    rw [nI_1]
    exact vp_in_nI (by omega) (by omega)
  refine ⟨hin0, hin1, ?_⟩
  refine bm_holds hr hc h (fun c2 R2 st2 b5 b6 b7 b8 b9 b10 b11 h => ?_)
  dsimp only
  refine br_f (by decide) ⟨hin0, hin1, ?_⟩
  obtain ⟨j, hj, ej⟩ := pk_andE (xs (nI i).toNatClampNeg) (m := 7) 3 (by decide)
  rw [ej]
  refine bm_set hj (bm_m7 hj) h (fun b5 b6 h => ?_)
  refine nm_r (nI_add i 2) (hn (nI (i + 2), nI 6, bm_b c2, st2, b5, b6, b7, b8, b9, b10, b11) ⟨i + 2, _, c2, rfl, by omega, rfl, h⟩ ?_)
  dsimp only
  rw [nI_clamp (by omega), nI_clamp (by omega)]
  omega
end
theorem bm_cell {post : Int32 → Prop} {L : Nat} {xs : Nat → Int32} {u : St2} (hL : L ≤ 260) (H : ∀ v, post v) : wpL_cell post L xs u 0 :=
  pk_le L 0 (fun _ => H 0) (fun g => ⟨pk_in 0 L g, H _⟩)
theorem bm_ok0 : bm_ok (fun _ => 0) (fun _ => 0#32) := by
  intro q j _ _
  rw [BitVec.getLsbD_zero]
  rfl
theorem i_vc (xs : Nat → Int32) (L : Nat) (hL : L ≤ 260) : wpL_law (fun r => r = 1) L xs := by
  refine ⟨11, 1408, by omega, by omega, ?_⟩
  unfold wpX_init
  dsimp only
  refine ⟨by omega, by omega, by omega, by omega, by omega, by omega, by omega, by omega, by omega, by omega, by omega, by omega, by omega, by omega, by omega, by omega, by omega, by omega, by omega, by omega, by omega, by omega, ?_⟩
  refine bm_cell hL (fun v => ?_)
  obtain ⟨r, hr, er⟩ := pk_andE v (m := 7) 3 (by decide)
  refine nm_r er ?_
  refine bm_emit (k := 6) 0 (by decide) (by decide) ?_
  refine bm_emit (k := 7) 1 (by decide) (by decide) ?_
  refine bm_emit (k := 4) 2 (by decide) (by decide) ?_
  refine bm_emit (k := 2) 3 (by decide) (by decide) ?_
  refine bm_emit (k := 14) 4 (by decide) (by decide) ?_
  refine bm_emit (k := 15) 5 (by decide) (by decide) ?_
  dsimp only
  refine br_t rfl ?_
  exact bm_loop (c := false) hL hr ⟨⟨rfl, bm_m7 (r := 2) (by decide), bm_m7 (r := 0) (by omega), bm_m7 (r := 1) (by decide)⟩, ⟨rfl, bm_m7 (r := 3) (by decide), bm_m7 (r := 0) (by omega), bm_m7 (r := 1) (by decide)⟩, ⟨rfl, bm_m7 (r := 4) (by decide), bm_m7 (r := 2) (by omega), bm_m7 (r := 1) (by decide)⟩, ⟨rfl, bm_m7 (r := 5) (by decide), bm_m7 (r := 4) (by omega), bm_m7 (r := 3) (by decide)⟩, ⟨rfl, bm_m7 (r := 6) (by decide), bm_m7 (r := 5) (by omega), bm_m7 (r := 0) (by decide)⟩, ⟨rfl, bm_m7 (r := 7) (by decide), bm_m7 (r := r) (by omega), bm_m7 (r := 0) (by decide)⟩⟩ bm_ok0
end
