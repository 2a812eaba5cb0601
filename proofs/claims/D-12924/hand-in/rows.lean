section
/-- bit k of a long -/
def tm_bl (x : Int64) (k : Nat) : Bool := x.toBitVec.getLsbD k
theorem tm_c : ∀ k, k < 64 → ((nI k).toInt64 &&& 63).toBitVec.smod 64 = BitVec.ofNat 64 k := by decide +kernel
theorem tm_and (x y : Int64) (k : Nat) : tm_bl (x &&& y) k = (tm_bl x k && tm_bl y k) := by
  unfold tm_bl
  rw [Int64.toBitVec_and, BitVec.getLsbD_and]
theorem tm_or (x y : Int64) (k : Nat) : tm_bl (x ||| y) k = (tm_bl x k || tm_bl y k) := by
  unfold tm_bl
  rw [Int64.toBitVec_or, BitVec.getLsbD_or]
theorem tm_xor (x y : Int64) (k : Nat) : tm_bl (x ^^^ y) k = (tm_bl x k ^^ tm_bl y k) := by
  unfold tm_bl
  rw [Int64.toBitVec_xor, BitVec.getLsbD_xor]
theorem tm_big (x : Int64) {k : Nat} (h : 64 ≤ k) : tm_bl x k = false := BitVec.getLsbD_of_ge _ _ h
theorem tm_shl (x : Int64) {s : Nat} (hs : s < 64) (k : Nat) : tm_bl (x <<< ((nI s).toInt64 &&& 63)) k = (decide (k < 64) && !decide (k < s) && tm_bl x (k - s)) := by
  unfold tm_bl
  rw [Int64.toBitVec_shiftLeft, tm_c s hs, BitVec.getLsbD_shiftLeft', BitVec.toNat_ofNat, Nat.mod_eq_of_lt (show s < 2 ^ 64 by omega)]
theorem tm_shr (x : Int64) {s : Nat} (hs : s < 64) (h63 : tm_bl x 63 = false) (k : Nat) : tm_bl (x >>> ((nI s).toInt64 &&& 63)) k = tm_bl x (s + k) := by
  have e : tm_bl (x >>> ((nI s).toInt64 &&& 63)) k = (!decide (64 ≤ k) && if s + k < 64 then tm_bl x (s + k) else tm_bl x 63) := by
    unfold tm_bl
    rw [Int64.toBitVec_shiftRight, tm_c s hs, BitVec.getLsbD_sshiftRight', BitVec.toNat_ofNat, Nat.mod_eq_of_lt (show s < 2 ^ 64 by omega), BitVec.msb_eq_getLsbD_last]
  rw [e, h63]
  by_cases h : s + k < 64
  · simp [h, show ¬ 64 ≤ k by omega]
  · rw [tm_big x (show 64 ≤ s + k by omega)]
    simp [h]
theorem tm_lN (n : Nat) {k : Nat} (hk : k < 64) : tm_bl (lN n) k = n.testBit k := by
  show (BitVec.ofNat 64 n).getLsbD k = _
  rw [BitVec.getLsbD_ofNat]
  simp [hk]
theorem tm_ones (s : Nat) {k : Nat} (hk : k < 64) : tm_bl (lN (2 ^ s - 1)) k = decide (k < s) := by
  rw [tm_lN _ hk, Nat.testBit_two_pow_sub_one]
theorem tm_15 {k : Nat} : tm_bl 15 k = decide (k < 4) := by
  by_cases hk : k < 64
  · exact tm_ones 4 hk
  · rw [tm_big _ (by omega)]
    simp [show ¬ k < 4 by omega]
theorem tm_m1 {k : Nat} (hk : k < 64) : tm_bl (-1) k = true := by
  have e : (-1 : Int64) = lN (2 ^ 64 - 1) := by decide
  rw [e, tm_ones 64 hk]
  simp [hk]
theorem tm_m48 {k : Nat} (hk : k < 64) : tm_bl 281474976710655 k = decide (k < 48) := by
  have e : (281474976710655 : Int64) = lN (2 ^ 48 - 1) := by decide
  rw [e, tm_ones 48 hk]
theorem tm_lowE : ∀ c, c < 12 → ((1 : Int64) <<< ((nI (4 * c)).toInt64 &&& 63)) - 1 = lN (2 ^ (4 * c) - 1) := by decide +kernel
theorem tm_low {c k : Nat} (hc : c < 12) (hk : k < 64) : tm_bl (((1 : Int64) <<< ((nI (4 * c)).toInt64 &&& 63)) - 1) k = decide (k < 4 * c) := by
  rw [tm_lowE c hc, tm_ones _ hk]
theorem tm_4 (c : Nat) : 4 * nI c = nI (4 * c) := pk_mul 4 c
theorem tm_44 (c : Nat) : 4 * nI c + 4 = nI (4 * c + 4) := by
  rw [tm_4]
  exact nI_add (4 * c) 4
theorem tm_tb {v j : Nat} (hv : v < 16) (hj : 4 ≤ j) : v.testBit j = false :=
  Nat.testBit_lt_two_pow (Nat.lt_of_lt_of_le hv (show 2 ^ 4 ≤ 2 ^ j from Nat.pow_le_pow_right (by decide) hj))
/-- the law's row x holds the twelve cells R -/
def tm_W (x : Int64) (R : Nat → Nat) : Prop := (∀ i, i < 12 → R i < 16) ∧ (∀ i b, i < 12 → b < 4 → tm_bl x (4 * i + b) = (R i).testBit b) ∧ (∀ k, 48 ≤ k → tm_bl x k = false)
theorem tm_W_congr {x : Int64} {R R' : Nat → Nat} (h : tm_W x R) (e : ∀ i, i < 12 → R' i = R i) : tm_W x R' := by
  obtain ⟨h1, h2, h3⟩ := h
  refine ⟨fun i hi => ?_, fun i b hi hb => ?_, h3⟩
  · rw [e i hi]
    exact h1 i hi
  · rw [e i hi]
    exact h2 i b hi hb
theorem tm_W0 : tm_W 0 (fun _ => 0) := by
  have z : ∀ k, tm_bl 0 k = false := by
    intro k
    by_cases hk : k < 64
    · have := tm_lN 0 hk
      rw [Nat.zero_testBit] at this
      exact this
    · exact tm_big _ (by omega)
  exact ⟨fun _ _ => (show 0 < 16 by decide), fun i b _ _ => by rw [z, Nat.zero_testBit], fun k _ => z k⟩
def tm_pPut (R : Nat → Nat) (c v : Nat) : Nat → Nat := fun i => if i = c then v else R i
def tm_pIn (R : Nat → Nat) (c m : Nat) : Nat → Nat := fun i => if i < c then R i else if i < c + m then 0 else R (i - m)
def tm_pOut (R : Nat → Nat) (c m : Nat) : Nat → Nat := fun i => if i < c then R i else if i + m < 12 then R (i + m) else 0
def tm_pEm (R : Nat → Nat) (lo hi : Nat) : Nat → Nat := fun i => if lo ≤ i ∧ i < hi then 0 else R i
theorem tm_put {x : Int64} {R : Nat → Nat} {c v : Nat} (h : tm_W x R) (hc : c < 12) (hv : v < 16) :
    tm_W ((x &&& (((15 : Int64) <<< ((4 * nI c).toInt64 &&& 63)) ^^^ (-1))) ||| ((nI v).toInt64 <<< ((4 * nI c).toInt64 &&& 63))) (tm_pPut R c v) := by
  obtain ⟨h1, h2, h3⟩ := h
  have B : ∀ k, k < 64 → tm_bl ((x &&& (((15 : Int64) <<< ((4 * nI c).toInt64 &&& 63)) ^^^ (-1))) ||| ((nI v).toInt64 <<< ((4 * nI c).toInt64 &&& 63))) k
      = ((tm_bl x k && !(!decide (k < 4 * c) && decide (k - 4 * c < 4))) || (!decide (k < 4 * c) && v.testBit (k - 4 * c))) := by
    intro k hk
    rw [tm_4, nI_l (show v < 2 ^ 31 by omega), tm_or, tm_and, tm_xor, tm_shl _ (show 4 * c < 64 by omega), tm_shl _ (show 4 * c < 64 by omega), tm_15, tm_m1 hk, tm_lN _ (show k - 4 * c < 64 by omega)]
    simp [hk]
  refine ⟨fun i hi => ?_, fun i b hi hb => ?_, fun k hk => ?_⟩
  · unfold tm_pPut
    split
    · exact hv
    · exact h1 i hi
  · rw [B _ (by omega), h2 i b hi hb]
    unfold tm_pPut
    rcases Nat.lt_trichotomy i c with e | e | e
    · simp [show 4 * i + b < 4 * c by omega, show ¬ i = c by omega]
    · subst e
      simp [show ¬ 4 * i + b < 4 * i by omega, show 4 * i + b - 4 * i = b by omega, hb]
    · have t : v.testBit (4 * i + b - 4 * c) = false := tm_tb hv (by omega)
      simp [show ¬ 4 * i + b < 4 * c by omega, show ¬ 4 * i + b - 4 * c < 4 by omega, show ¬ i = c by omega, t]
  · by_cases hk2 : k < 64
    · rw [B k hk2, h3 k hk, tm_tb hv (show 4 ≤ k - 4 * c by omega)]
      simp
    · exact tm_big _ (by omega)
theorem tm_in1 {x : Int64} {R : Nat → Nat} {c : Nat} (h : tm_W x R) (hc : c < 12) :
    tm_W (((x &&& (((1 : Int64) <<< ((4 * nI c).toInt64 &&& 63)) - 1)) ||| ((x >>> ((4 * nI c).toInt64 &&& 63)) <<< ((4 * nI c + 4).toInt64 &&& 63))) &&& 281474976710655) (tm_pIn R c 1) := by
  obtain ⟨h1, h2, h3⟩ := h
  have B : ∀ k, k < 64 → tm_bl (((x &&& (((1 : Int64) <<< ((4 * nI c).toInt64 &&& 63)) - 1)) ||| ((x >>> ((4 * nI c).toInt64 &&& 63)) <<< ((4 * nI c + 4).toInt64 &&& 63))) &&& 281474976710655) k
      = (((tm_bl x k && decide (k < 4 * c)) || (!decide (k < 4 * c + 4) && tm_bl x (4 * c + (k - (4 * c + 4))))) && decide (k < 48)) := by
    intro k hk
    rw [tm_44, tm_4, tm_and, tm_or, tm_and, tm_low hc hk, tm_shl _ (show 4 * c + 4 < 64 by omega), tm_shr _ (show 4 * c < 64 by omega) (h3 63 (by decide)), tm_m48 hk]
    simp [hk]
  refine ⟨fun i hi => ?_, fun i b hi hb => ?_, fun k hk => ?_⟩
  · unfold tm_pIn
    split
    · exact h1 i hi
    · split
      · decide
      · exact h1 _ (by omega)
  · rw [B _ (by omega)]
    unfold tm_pIn
    rcases Nat.lt_trichotomy i c with e | e | e
    · simp [show 4 * i + b < 4 * c by omega, show 4 * i + b < 4 * c + 4 by omega, show 4 * i + b < 48 by omega, e, h2 i b hi hb]
    · subst e
      simp [show ¬ 4 * i + b < 4 * i by omega, show 4 * i + b < 4 * i + 4 by omega]
    · rw [show 4 * c + (4 * i + b - (4 * c + 4)) = 4 * (i - 1) + b by omega, h2 (i - 1) b (by omega) hb]
      simp [show ¬ 4 * i + b < 4 * c by omega, show ¬ 4 * i + b < 4 * c + 4 by omega, show 4 * i + b < 48 by omega, show ¬ i < c by omega, show ¬ i < c + 1 by omega]
  · by_cases hk2 : k < 64
    · rw [B k hk2]
      simp [show ¬ k < 48 by omega]
    · exact tm_big _ (by omega)
theorem tm_out1 {x : Int64} {R : Nat → Nat} {c : Nat} (h : tm_W x R) (hc : c < 12) :
    tm_W ((x &&& (((1 : Int64) <<< ((4 * nI c).toInt64 &&& 63)) - 1)) ||| ((x >>> ((4 * nI c + 4).toInt64 &&& 63)) <<< ((4 * nI c).toInt64 &&& 63))) (tm_pOut R c 1) := by
  obtain ⟨h1, h2, h3⟩ := h
  have B : ∀ k, k < 64 → tm_bl ((x &&& (((1 : Int64) <<< ((4 * nI c).toInt64 &&& 63)) - 1)) ||| ((x >>> ((4 * nI c + 4).toInt64 &&& 63)) <<< ((4 * nI c).toInt64 &&& 63))) k
      = ((tm_bl x k && decide (k < 4 * c)) || (!decide (k < 4 * c) && tm_bl x (4 * c + 4 + (k - 4 * c)))) := by
    intro k hk
    rw [tm_44, tm_4, tm_or, tm_and, tm_low hc hk, tm_shl _ (show 4 * c < 64 by omega), tm_shr _ (show 4 * c + 4 < 64 by omega) (h3 63 (by decide))]
    simp [hk]
  refine ⟨fun i hi => ?_, fun i b hi hb => ?_, fun k hk => ?_⟩
  · unfold tm_pOut
    split
    · exact h1 i hi
    · split
      · exact h1 _ (by assumption)
      · decide
  · rw [B _ (by omega)]
    unfold tm_pOut
    by_cases e : i < c
    · simp [show 4 * i + b < 4 * c by omega, e, h2 i b hi hb]
    · rw [show 4 * c + 4 + (4 * i + b - 4 * c) = 4 * (i + 1) + b by omega]
      by_cases e2 : i + 1 < 12
      · rw [h2 (i + 1) b e2 hb]
        simp [show ¬ 4 * i + b < 4 * c by omega, e, e2]
      · rw [h3 (4 * (i + 1) + b) (by omega)]
        simp [show ¬ 4 * i + b < 4 * c by omega, e, e2]
  · by_cases hk2 : k < 64
    · rw [B k hk2, h3 k hk, h3 _ (show 48 ≤ 4 * c + 4 + (k - 4 * c) by omega)]
      simp
    · exact tm_big _ (by omega)
theorem tm_pIn_0 (R : Nat → Nat) (c : Nat) : tm_pIn R c 0 = R := by
  funext i
  unfold tm_pIn
  split
  · rfl
  · split
    · omega
    · rfl
theorem tm_pIn_s (R : Nat → Nat) (c m : Nat) : tm_pIn (tm_pIn R c m) c 1 = tm_pIn R c (m + 1) := by
  funext i
  unfold tm_pIn
  by_cases h1 : i < c
  · simp [h1]
  · by_cases h2 : i < c + 1
    · simp [h1, h2, show i < c + (m + 1) by omega]
    · by_cases h3 : i < c + (m + 1)
      · simp [h1, h2, h3, show ¬ i - 1 < c by omega, show i - 1 < c + m by omega]
      · simp [h1, h2, h3, show ¬ i - 1 < c by omega, show ¬ i - 1 < c + m by omega, show i - 1 - m = i - (m + 1) by omega]
theorem tm_pOut_s (R : Nat → Nat) (c m : Nat) : tm_pOut (tm_pOut R c m) c 1 = tm_pOut R c (m + 1) := by
  funext i
  unfold tm_pOut
  by_cases h1 : i < c
  · simp [h1]
  · by_cases h2 : i + (m + 1) < 12
    · simp [h1, h2, show i + 1 < 12 by omega, show ¬ i + 1 < c by omega, show i + 1 + m < 12 by omega, show i + 1 + m = i + (m + 1) by omega]
    · by_cases h3 : i + 1 < 12
      · simp [h1, h2, h3, show ¬ i + 1 < c by omega, show ¬ i + 1 + m < 12 by omega]
      · simp [h1, h2, h3]
theorem tm_putIn {post : Int64 → Prop} {x : Int64} {R : Nat → Nat} {c m : Nat} (h : tm_W x R) (hc : c < 12) (hm : m ≤ 12) (H : ∀ x', tm_W x' (tm_pIn R c m) → post x') : wpL_putIn post () x (nI c) (nI m) :=
  pk_loop (fun n i s => wL_putIn_6 post (nI c) (nI m) n s (nI i)) (fun i s => tm_W s (tm_pIn R c i)) m 0 x (by omega) (by rw [tm_pIn_0]; exact h)
    (fun n s h => pk_le m m (fun _ => H s h) (fun z => absurd z (by omega)))
    (fun n i s hi h hw => pk_le m i (fun z => absurd z (by omega)) (fun _ => pk_le 12 i (fun z => absurd z (by omega)) (fun _ => nm_e (nm_e (nm_e (nm_r (nI_1 i) (hw _ (by rw [← tm_pIn_s]; exact tm_in1 h hc))))))))
theorem tm_takenOut {post : Int64 → Prop} {x : Int64} {R : Nat → Nat} {c m : Nat} (h : tm_W x R) (hc : c < 12) (hm : m ≤ 12) (H : ∀ x', tm_W x' (tm_pOut R c m) → post x') : wpL_takenOut post () x (nI c) (nI m) :=
  pk_loop (fun n i s => wL_takenOut_6 post (nI c) (nI m) n s (nI i)) (fun i s => tm_W s (tm_pOut R c i)) m 0 x (by omega)
    (tm_W_congr h (fun i hi => by unfold tm_pOut; simp [hi]))
    (fun n s h => pk_le m m (fun _ => H s h) (fun z => absurd z (by omega)))
    (fun n i s hi h hw => pk_le m i (fun z => absurd z (by omega)) (fun _ => pk_le 12 i (fun z => absurd z (by omega)) (fun _ => nm_e (nm_e (nm_e (nm_r (nI_1 i) (hw _ (by rw [← tm_pOut_s]; exact tm_out1 h hc))))))))
theorem tm_pEm_s (R : Nat → Nat) (lo i : Nat) (h : lo ≤ i) : tm_pPut (tm_pEm R lo i) i 0 = tm_pEm R lo (i + 1) := by
  funext j
  unfold tm_pPut tm_pEm
  by_cases e : j = i
  · simp [e, h]
  · by_cases g : lo ≤ j ∧ j < i
    · simp [e, g, show j < i + 1 by omega]
    · simp [e, show ¬ (lo ≤ j ∧ j < i + 1) by omega, g]
theorem tm_emptied {post : Int64 → Prop} {x : Int64} {R : Nat → Nat} {lo to : Nat} (e : Nat) (h : tm_W x R) (he : e = min (to + 1) 12) (hlo : lo ≤ e) (hto : to < 2 ^ 30) (H : ∀ x', tm_W x' (tm_pEm R lo e) → post x') : wpL_emptied post () x (nI lo) (nI to) :=
  pk_loop (fun n i s => wL_emptied_6 post (nI to) n s (nI i)) (fun i s => lo ≤ i ∧ tm_W s (tm_pEm R lo i)) e lo x hlo
    ⟨Nat.le_refl lo, tm_W_congr h (fun i hi => by unfold tm_pEm; simp [show ¬ (lo ≤ i ∧ i < lo) by omega])⟩
    (fun n s h => pk_lt to e (fun _ => H s h.2) (fun z => pk_le 12 e (fun _ => H s h.2) (fun z => absurd z (by omega))))
    (fun n i s hi h hw => pk_lt to i (fun z => absurd z (by omega)) (fun _ => pk_le 12 i (fun z => absurd z (by omega)) (fun _ => nm_r (nI_1 i) (hw _ ⟨by omega, by rw [← tm_pEm_s _ _ _ h.1]; exact tm_put (v := 0) h.2 (by omega) (by decide)⟩))))
theorem tm_at {x : Int64} {R : Nat → Nat} {i : Nat} (h : tm_W x R) (hi : i < 12) : ((x >>> ((4 * nI i).toInt64 &&& 63)).toInt32) &&& 15 = nI (R i) := by
  obtain ⟨h1, h2, h3⟩ := h
  rw [tm_4]
  apply Int32.toBitVec_inj.mp
  apply BitVec.eq_of_getLsbD_eq
  intro k hk
  have e1 : (nI (R i)).toBitVec.getLsbD k = (R i).testBit k := by
    show (BitVec.ofNat 32 (R i)).getLsbD k = _
    rw [BitVec.getLsbD_ofNat]
    simp [hk]
  have e2 : (15 : Int32).toBitVec.getLsbD k = decide (k < 4) := by
    show (BitVec.ofNat 32 15).getLsbD k = _
    rw [BitVec.getLsbD_ofNat, show (15 : Nat) = 2 ^ 4 - 1 by decide, Nat.testBit_two_pow_sub_one]
    simp [hk]
  have e3 : ((x >>> ((nI (4 * i)).toInt64 &&& 63)).toInt32).toBitVec.getLsbD k = tm_bl x (4 * i + k) := by
    rw [← tm_shr x (show 4 * i < 64 by omega) (h3 63 (by decide)) k, Int64.toBitVec_toInt32, BitVec.getLsbD_signExtend]
    simp [hk, show k < 64 by omega, tm_bl]
  rw [Int32.toBitVec_and, BitVec.getLsbD_and, e1, e2, e3]
  by_cases h4 : k < 4
  · rw [h2 i k hi h4]
    simp [h4]
  · rw [tm_tb (h1 i hi) (by omega)]
    simp [h4]
end
section
/-- a stretch of an array filled -/
def tm_em (a : Nat → Int32) (lo hi : Nat) (v : Int32) : Nat → Int32 := fun j => if lo ≤ j ∧ j < hi then v else a j
theorem tm_em_0 (a : Nat → Int32) (lo : Nat) (v : Int32) : tm_em a lo lo v = a := by
  funext j
  unfold tm_em
  rw [if_neg (by omega)]
theorem tm_em_s {a : Nat → Int32} {lo hi : Nat} {v : Int32} (h : lo ≤ hi) : upd (tm_em a lo hi v) hi v = tm_em a lo (hi + 1) v := by
  funext j
  by_cases e : j = hi
  · rw [e, pk_us]
    unfold tm_em
    rw [if_pos (by omega)]
  · rw [pk_un e]
    unfold tm_em
    by_cases g : lo ≤ j ∧ j < hi
    · rw [if_pos g, if_pos (by omega)]
    · rw [if_neg g, if_neg (by omega)]
theorem tm_em_j {a : Nat → Int32} {lo mid hi : Nat} {v : Int32} (h1 : lo ≤ mid) (h2 : mid ≤ hi) : tm_em (tm_em a lo mid v) mid hi v = tm_em a lo hi v := by
  funext j
  unfold tm_em
  by_cases g : mid ≤ j ∧ j < hi
  · rw [if_pos g, if_pos (by omega)]
  · rw [if_neg g]
    by_cases g2 : lo ≤ j ∧ j < mid
    · rw [if_pos g2, if_pos (by omega)]
    · rw [if_neg g2, if_neg (by omega)]
theorem tm_em_jj {a : Nat → Int32} {lo m1 m2 h1 h2 : Nat} {v : Int32} (e : m2 = m1) (e' : h1 = h2) (g1 : lo ≤ m1) (g2 : m1 ≤ h1) : tm_em (tm_em a lo m1 v) m2 h1 v = tm_em a lo h2 v := by
  subst e e'
  exact tm_em_j g1 g2
theorem tm_b8 : ∀ n, n < 128 → (nI n).toInt8.toInt32 = nI n := by decide +kernel
theorem tm_in0 : vp_in (0 : Int32) 2 := vp_in_nI (n := 0) (by decide) (by decide)
theorem tm_u0 {a : Nat → Int32} {v v' : Int32} (hv : v = v') : upd a (0 : Int32).toNatClampNeg v = upd a 0 v' := by rw [hv, sb_cl0]
theorem tm_g0 {a : Nat → Int32} {x : Int32} (h : a 0 = x) : a (0 : Int32).toNatClampNeg = x := by
  rw [sb_cl0]
  exact h
theorem tm_uc {a : Nat → Int32} {t : Nat} {v v' : Int32} (ht : t < 2) (hv : v = v') : upd a (nI t).toNatClampNeg v = upd a t v' := by rw [hv, nI_clamp (by omega)]
theorem tm_lineAt {post : Int32 → Prop} {f0 f1 f2 : Int32} {a1 a2 a3 a4 a5 a6 a7 a8 a9 a10 a11 a12 a13 a14 a15 a16 a17 a18 a19 a20 a21 a22 a23 a24 : Nat → Int32} {p : Int32} {t k r s : Nat} (ht : t < 2) (hk : k < 2) (hr : r < 6) (hs : s < 12) (e0 : f0 = nI t) (hp : p = nI r) (h12 : a12 t = nI k) (h3 : a3 ((t * 2 + k) * 6 + r) = nI s) (H : post (nI ((t * 12 + s) * 12))) : wpX_lineAt post (f0, f1, f2, a1, a2, a3, a4, a5, a6, a7, a8, a9, a10, a11, a12, a13, a14, a15, a16, a17, a18, a19, a20, a21, a22, a23, a24) p := by
  subst e0 hp
  have e1 : nI t * 2 + a12 (nI t).toNatClampNeg = nI (t * 2 + k) := by
    rw [nI_clamp (by omega), h12, show nI t * 2 = nI (t * 2) from pk_mul t 2, nI_add]
  have e2 : nI (t * 2 + k) * 6 + nI r = nI ((t * 2 + k) * 6 + r) := by
    rw [show nI (t * 2 + k) * 6 = nI ((t * 2 + k) * 6) from pk_mul _ 6, nI_add]
  have e3 : (nI t * 12 + nI s) * 12 = nI ((t * 12 + s) * 12) := by
    rw [show nI t * 12 = nI (t * 12) from pk_mul t 12, nI_add]
    exact pk_mul _ 12
  refine And.intro (vp_in_nI ht (by decide)) ?_
  show vp_in ((nI t * 2 + a12 (nI t).toNatClampNeg) * 6 + nI r) 24 ∧ post ((nI t * 12 + a3 ((nI t * 2 + a12 (nI t).toNatClampNeg) * 6 + nI r).toNatClampNeg) * 12)
  rw [e1, e2, nI_clamp (show (t * 2 + k) * 6 + r < 2 ^ 31 by omega), h3, e3]
  exact ⟨vp_in_nI (by omega) (by decide), H⟩
theorem tm_ecu {a : Nat → Int32} {line lo i : Nat} {v : Int32} (h : lo ≤ i) (h2 : line + i < 2 ^ 31) : upd (tm_em a (line + lo) (line + i) v) (nI line + nI i).toNatClampNeg v = tm_em a (line + lo) (line + (i + 1)) v := by
  rw [nI_add, nI_clamp h2]
  exact tm_em_s (by omega)
theorem tm_ec {post : St1 → Prop} {f0 f1 f2 : Int32} {a1 a2 a3 a4 a5 a6 a7 a8 a9 a10 a11 a12 a13 a14 a15 a16 a17 a18 a19 a20 a21 a22 a23 a24 : Nat → Int32} {b1 b2 : Nat → Int32} {line lo hi : Nat} (hl : line + 12 ≤ 288) (hlo : lo ≤ hi) (hhi : hi ≤ 12)
    (hb1 : tm_em a1 (line + lo) (line + hi) 32 = b1) (hb2 : tm_em a2 (line + lo) (line + hi) 0 = b2)
    (H : post (f0, f1, f2, b1, b2, a3, a4, a5, a6, a7, a8, a9, a10, a11, a12, a13, a14, a15, a16, a17, a18, a19, a20, a21, a22, a23, a24)) : ∃ n, wX_emptyCells_10 post (nI hi) (nI line) f0 f1 f2 n (nI lo) a1 a2 a3 a4 a5 a6 a7 a8 a9 a10 a11 a12 a13 a14 a15 a16 a17 a18 a19 a20 a21 a22 a23 a24 := by
  subst hb1 hb2
  have L : ∃ n, wX_emptyCells_10 post (nI hi) (nI line) f0 f1 f2 n (nI lo) (tm_em a1 (line + lo) (line + lo) 32) (tm_em a2 (line + lo) (line + lo) 0) a3 a4 a5 a6 a7 a8 a9 a10 a11 a12 a13 a14 a15 a16 a17 a18 a19 a20 a21 a22 a23 a24 :=
    pk_loop (σ := Unit) (fun n i _ => wX_emptyCells_10 post (nI hi) (nI line) f0 f1 f2 n (nI i) (tm_em a1 (line + lo) (line + i) 32) (tm_em a2 (line + lo) (line + i) 0) a3 a4 a5 a6 a7 a8 a9 a10 a11 a12 a13 a14 a15 a16 a17 a18 a19 a20 a21 a22 a23 a24) (fun i _ => lo ≤ i) hi lo () hlo (Nat.le_refl lo)
      (fun n _ _ => pk_le hi hi (fun _ => H) (fun z => absurd z (by omega)))
      (fun n i _ hi' hI hw => pk_le hi i (fun z => absurd z (by omega)) (fun _ => ⟨pk_in (line + i) 288 (by omega) (nI_add line i), nm_r (tm_ecu hI (by omega)) ⟨pk_in (line + i) 288 (by omega) (nI_add line i), nm_r (tm_ecu hI (by omega)) (nm_r (nI_1 i) (hw () (by omega)))⟩⟩))
  rw [tm_em_0, tm_em_0] at L
  exact L
theorem tm_emptyCells {post : St1 → Prop} {f0 f1 f2 : Int32} {a1 a2 a3 a4 a5 a6 a7 a8 a9 a10 a11 a12 a13 a14 a15 a16 a17 a18 a19 a20 a21 a22 a23 a24 : Nat → Int32} {b1 b2 : Nat → Int32} {p q w : Int32} {t k r s lo hi : Nat} (ht : t < 2) (hk : k < 2) (hr : r < 6) (hs : s < 12) (e0 : f0 = nI t) (hp : p = nI r) (hq : q = nI lo) (hw : w = nI hi)
    (h12 : a12 t = nI k) (h3 : a3 ((t * 2 + k) * 6 + r) = nI s) (hlo : lo ≤ hi) (hhi : hi ≤ 12)
    (hb1 : tm_em a1 ((t * 12 + s) * 12 + lo) ((t * 12 + s) * 12 + hi) 32 = b1) (hb2 : tm_em a2 ((t * 12 + s) * 12 + lo) ((t * 12 + s) * 12 + hi) 0 = b2)
    (H : post (f0, f1, f2, b1, b2, a3, a4, a5, a6, a7, a8, a9, a10, a11, a12, a13, a14, a15, a16, a17, a18, a19, a20, a21, a22, a23, a24)) : wpX_emptyCells post (f0, f1, f2, a1, a2, a3, a4, a5, a6, a7, a8, a9, a10, a11, a12, a13, a14, a15, a16, a17, a18, a19, a20, a21, a22, a23, a24) p q w := by
  subst hq hw
  unfold wpX_emptyCells
  exact tm_lineAt ht hk hr hs e0 hp h12 h3 (tm_ec (by omega) hlo hhi hb1 hb2 H)
theorem tm_emptyRows {post : St1 → Prop} {f0 f1 f2 : Int32} {a1 a2 a3 a4 a5 a6 a7 a8 a9 a10 a11 a12 a13 a14 a15 a16 a17 a18 a19 a20 a21 a22 a23 a24 : Nat → Int32} {t k : Nat} (ht : t < 2) (hk : k < 2) (e0 : f0 = nI t) (h12 : a12 t = nI k) (h3 : ∀ r, r < 6 → a3 ((t * 2 + k) * 6 + r) = nI (k * 6 + r))
    (H : post (f0, f1, f2, tm_em a1 ((t * 12 + k * 6) * 12) ((t * 12 + k * 6) * 12 + 6 * 12) 32, tm_em a2 ((t * 12 + k * 6) * 12) ((t * 12 + k * 6) * 12 + 6 * 12) 0, a3, a4, a5, a6, a7, a8, a9, a10, a11, a12, a13, a14, a15, a16, a17, a18, a19, a20, a21, a22, a23, a24)) : wpX_emptyRows post (f0, f1, f2, a1, a2, a3, a4, a5, a6, a7, a8, a9, a10, a11, a12, a13, a14, a15, a16, a17, a18, a19, a20, a21, a22, a23, a24) 0 6 := by
  have L : ∃ n, wX_emptyRows_2 post (nI 6) n (nI 0) f0 f1 f2 (tm_em a1 ((t * 12 + k * 6) * 12) ((t * 12 + k * 6) * 12 + 0 * 12) 32) (tm_em a2 ((t * 12 + k * 6) * 12) ((t * 12 + k * 6) * 12 + 0 * 12) 0) a3 a4 a5 a6 a7 a8 a9 a10 a11 a12 a13 a14 a15 a16 a17 a18 a19 a20 a21 a22 a23 a24 :=
    pk_loop (σ := Unit) (fun n i _ => wX_emptyRows_2 post (nI 6) n (nI i) f0 f1 f2 (tm_em a1 ((t * 12 + k * 6) * 12) ((t * 12 + k * 6) * 12 + i * 12) 32) (tm_em a2 ((t * 12 + k * 6) * 12) ((t * 12 + k * 6) * 12 + i * 12) 0) a3 a4 a5 a6 a7 a8 a9 a10 a11 a12 a13 a14 a15 a16 a17 a18 a19 a20 a21 a22 a23 a24) (fun _ _ => True) 6 0 () (by omega) trivial
      (fun n _ _ => pk_le 6 6 (fun _ => H) (fun z => absurd z (by omega)))
      (fun n i _ hi _ hw => pk_le 6 i (fun z => absurd z (by omega)) (fun _ =>
        tm_emptyCells (t := t) (k := k) (r := i) (s := k * 6 + i) (lo := 0) (hi := 12) ht hk hi (by omega) e0 rfl rfl rfl h12 (h3 i hi) (by omega) (by omega)
          (tm_em_jj (by omega) (by omega) (by omega) (by omega)) (tm_em_jj (by omega) (by omega) (by omega) (by omega)) (nm_r (nI_1 i) (hw () trivial))))
  rw [show (t * 12 + k * 6) * 12 + 0 * 12 = (t * 12 + k * 6) * 12 by omega, tm_em_0, tm_em_0] at L
  exact L
/-- a stretch of slots -/
def tm_sl (a : Nat → Int32) (base k i : Nat) : Nat → Int32 := fun j => if base ≤ j ∧ j < base + i then nI (k + (j - base)) else a j
theorem tm_sl_0 (a : Nat → Int32) (base k : Nat) : tm_sl a base k 0 = a := by
  funext j
  unfold tm_sl
  rw [if_neg (by omega)]
theorem tm_sl_s {a : Nat → Int32} {base k i : Nat} : upd (tm_sl a base k i) (base + i) (nI (k + i)) = tm_sl a base k (i + 1) := by
  funext j
  by_cases e : j = base + i
  · rw [e, pk_us]
    unfold tm_sl
    rw [if_pos (by omega), show base + i - base = i by omega]
  · rw [pk_un e]
    unfold tm_sl
    by_cases g : base ≤ j ∧ j < base + i
    · rw [if_pos g, if_pos (by omega)]
    · rw [if_neg g, if_neg (by omega)]
theorem tm_sl_in {a : Nat → Int32} {base k i r : Nat} (h : r < i) : tm_sl a base k i (base + r) = nI (k + r) := by
  unfold tm_sl
  rw [if_pos (by omega), show base + r - base = r by omega]
theorem tm_sl_out {a : Nat → Int32} {base k i j : Nat} (h : j < base) : tm_sl a base k i j = a j := by
  unfold tm_sl
  rw [if_neg (by omega)]
theorem tm_ix (t k r : Nat) : (nI t * 2 + nI k) * 6 + nI r = nI ((t * 2 + k) * 6 + r) := by
  rw [show nI t * 2 = nI (t * 2) from pk_mul t 2, nI_add, show nI (t * 2 + k) * 6 = nI ((t * 2 + k) * 6) from pk_mul _ 6, nI_add]
theorem tm_slu {a : Nat → Int32} {t k i : Nat} (ht : t < 2) (hk : k < 2) (hi : i < 6) : upd (tm_sl a ((t * 2 + k) * 6) (k * 6) i) ((nI t * 2 + nI k) * 6 + nI i).toNatClampNeg ((nI k * 6 + nI i).toInt8.toInt32) = tm_sl a ((t * 2 + k) * 6) (k * 6) (i + 1) := by
  rw [tm_ix, nI_clamp (by omega), show nI k * 6 = nI (k * 6) from pk_mul k 6, nI_add, tm_b8 _ (by omega)]
  exact tm_sl_s
theorem tm_c9 {post : St1 → Prop} {J2 : Int32 → (Nat → Int32) → (Nat → Int32) → (Nat → Int32) → (Nat → Int32) → (Nat → Int32) → (Nat → Int32) → (Nat → Int32) → (Nat → Int32) → (Nat → Int32) → (Nat → Int32) → (Nat → Int32) → (Nat → Int32) → (Nat → Int32) → (Nat → Int32) → (Nat → Int32) → (Nat → Int32) → (Nat → Int32) → (Nat → Int32) → (Nat → Int32) → (Nat → Int32) → (Nat → Int32) → (Nat → Int32) → (Nat → Int32) → (Nat → Int32) → Prop} {f1 f2 : Int32} {a1 a2 a3 a4 a5 a6 a7 a8 a9 a10 a11 a12 a13 a14 a15 a16 a17 a18 a19 a20 a21 a22 a23 a24 : Nat → Int32} {t k : Nat} (ht : t < 2) (hk : k < 2) (H : J2 (nI (k + 1)) a1 a2 (tm_sl a3 ((t * 2 + k) * 6) (k * 6) 6) a4 a5 a6 a7 a8 a9 a10 a11 a12 a13 a14 a15 a16 a17 a18 a19 a20 a21 a22 a23 a24) : ∃ n, wX_clearAll_9 post J2 (nI k) (nI t) f1 f2 n 0 a1 a2 a3 a4 a5 a6 a7 a8 a9 a10 a11 a12 a13 a14 a15 a16 a17 a18 a19 a20 a21 a22 a23 a24 := by
  have L : ∃ n, wX_clearAll_9 post J2 (nI k) (nI t) f1 f2 n (nI 0) a1 a2 (tm_sl a3 ((t * 2 + k) * 6) (k * 6) 0) a4 a5 a6 a7 a8 a9 a10 a11 a12 a13 a14 a15 a16 a17 a18 a19 a20 a21 a22 a23 a24 :=
    pk_loop (σ := Unit) (fun n i _ => wX_clearAll_9 post J2 (nI k) (nI t) f1 f2 n (nI i) a1 a2 (tm_sl a3 ((t * 2 + k) * 6) (k * 6) i) a4 a5 a6 a7 a8 a9 a10 a11 a12 a13 a14 a15 a16 a17 a18 a19 a20 a21 a22 a23 a24) (fun _ _ => True) 6 0 () (by omega) trivial
      (fun n _ _ => pk_le 6 6 (fun _ => nm_r (nI_1 k) H) (fun z => absurd z (by omega)))
      (fun n i _ hi _ hw => pk_le 6 i (fun z => absurd z (by omega)) (fun _ => ⟨pk_in ((t * 2 + k) * 6 + i) 24 (by omega) (tm_ix t k i), nm_r (tm_slu ht hk hi) (nm_r (nI_1 i) (hw () trivial))⟩))
  rw [tm_sl_0] at L
  exact L
theorem tm_clearAll {post : St1 → Prop} {f1 f2 : Int32} {a1 a2 a3 a4 a5 a6 a7 a8 a9 a10 a11 a12 a13 a14 a15 a16 a17 a18 a19 a20 a21 a22 a23 a24 : Nat → Int32} {t : Nat} (ht : t < 2)
    (H : ∀ g1 g2 : Int32, post (nI t, g1, g2, tm_em (tm_em a1 ((t * 12 + 1 * 6) * 12) ((t * 12 + 1 * 6) * 12 + 6 * 12) 32) ((t * 12 + 0 * 6) * 12) ((t * 12 + 0 * 6) * 12 + 6 * 12) 32, tm_em (tm_em a2 ((t * 12 + 1 * 6) * 12) ((t * 12 + 1 * 6) * 12 + 6 * 12) 0) ((t * 12 + 0 * 6) * 12) ((t * 12 + 0 * 6) * 12 + 6 * 12) 0, tm_sl (tm_sl a3 ((t * 2 + 0) * 6) (0 * 6) 6) ((t * 2 + 1) * 6) (1 * 6) 6, upd a4 t 0, upd a5 t 0, upd a6 t 0, upd a7 t 0, upd a8 t 0, upd a9 t 5, upd a10 t 0, upd a11 t 1, upd (upd a12 t 1) t 0, upd a13 t 0, upd a14 t 0, upd a15 t 0, a16, a17, a18, a19, upd a20 t 0, a21, a22, a23, a24)) :
    wpX_clearAll post (nI t, f1, f2, a1, a2, a3, a4, a5, a6, a7, a8, a9, a10, a11, a12, a13, a14, a15, a16, a17, a18, a19, a20, a21, a22, a23, a24) := by
  have hv : vp_in (nI t) 2 := vp_in_nI ht (by decide)
  refine Exists.intro 3 ?_
  refine pk_le 2 0 (fun z => absurd z (by omega)) (fun _ => tm_c9 (k := 0) ht (by omega) (pk_le 2 1 (fun z => absurd z (by omega)) (fun _ => tm_c9 (k := 1) ht (by omega) (pk_le 2 2 (fun _ => ?_) (fun z => absurd z (by omega))))))
  refine And.intro hv (nm_r (tm_uc (v' := 1) ht rfl) ?_)
  refine tm_emptyRows (k := 1) ht (by omega) rfl pk_us (fun r hr => tm_sl_in hr) ?_
  refine And.intro hv (nm_r (tm_uc (v' := 0) ht rfl) ?_)
  refine tm_emptyRows (k := 0) ht (by omega) rfl pk_us (fun r hr => (tm_sl_out (by omega)).trans (tm_sl_in hr)) ?_
  refine And.intro hv (nm_r (tm_uc (v' := 0) ht (by decide)) (And.intro hv (nm_r (tm_uc (v' := 0) ht (by decide)) ?_)))
  refine And.intro hv (nm_r (tm_uc (v' := 0) ht rfl) (And.intro hv (nm_r (tm_uc (v' := 5) ht rfl) ?_)))
  refine And.intro hv (nm_r (tm_uc (v' := 0) ht rfl) ?_)
  refine And.intro hv (nm_r (tm_uc (v' := 0) ht rfl) ?_)
  refine And.intro hv (nm_r (tm_uc (v' := 0) ht rfl) ?_)
  refine And.intro hv (nm_r (tm_uc (v' := 1) ht rfl) ?_)
  refine And.intro hv (nm_r (tm_uc (v' := 0) ht rfl) ?_)
  refine And.intro hv (nm_r (tm_uc (v' := 0) ht rfl) ?_)
  refine And.intro hv (nm_r (tm_uc (v' := 0) ht rfl) ?_)
  refine And.intro hv (nm_r (tm_uc (v' := 0) ht rfl) ?_)
  exact br_c (fun _ => H 0 0) (fun _ => H f1 f2)
/-- what a cell of the row shows -/
def tm_sg (v : Nat) : Int32 := if v = 0 then 32 else nI (64 + v)
/-- the cells, the slots -/
def tm_A (R : Nat → Nat) (a1 a2 a3 a12 : Nat → Int32) : Prop :=
  (∀ i, i < 12 → R i < 16) ∧ (∀ i, i < 12 → a1 i = tm_sg (R i)) ∧ (∀ j, 12 ≤ j → j < 288 → a1 j = 32) ∧ (∀ j, j < 288 → a2 j = 0) ∧ (∀ r, r < 6 → a3 r = nI r) ∧ (∀ r, r < 6 → a3 (12 + r) = nI r) ∧ a12 0 = 0 ∧ a12 1 = 0
/-- the state between two bytes -/
def tm_K (R : Nat → Nat) (c : Nat) (wt ins wr st : Int32) (u : St1) : Prop := match u with
  | (f0, f1, f2, a1, a2, a3, a4, a5, a6, a7, a8, a9, a10, a11, a12, a13, a14, a15, a16, a17, a18, a19, a20, a21, a22, a23, a24) => f0 = 0 ∧ tm_A R a1 a2 a3 a12 ∧ a4 0 = 0 ∧ a5 0 = nI c ∧ a6 0 = wt ∧ a7 0 = 0 ∧ a10 0 = ins ∧ a11 0 = wr ∧ a20 0 = st
theorem tm_init {post : St1 → Prop} (H : ∀ u, tm_K (fun _ => 0) 0 0 0 1 0 u → post u) : wpX_init post 24 742 (0, 0, 0) := by
  have X : wpX_clearAll (fun u => match u with | (f0, f1, f2, a1, a2, a3, a4, a5, a6, a7, a8, a9, a10, a11, a12, a13, a14, a15, a16, a17, a18, a19, a20, a21, a22, a23, a24) => wpX_clearAll post (0, f1, f2, a1, a2, a3, a4, a5, a6, a7, a8, a9, a10, a11, a12, a13, a14, a15, a16, a17, a18, a19, a20, a21, a22, a23, a24)) (nI 1, 0, 0, fun _ => 0, fun _ => 0, fun _ => 0, fun _ => 0, fun _ => 0, fun _ => 0, fun _ => 0, fun _ => 0, fun _ => 0, fun _ => 0, fun _ => 0, fun _ => 0, fun _ => 0, fun _ => 0, fun _ => 0, fun _ => 0, fun _ => 0, fun _ => 0, fun _ => 0, fun _ => 0, fun _ => 0, fun _ => 0, fun _ => 0, fun _ => 0) := by
    refine tm_clearAll (by decide) (fun g1 g2 => ?_)
    refine tm_clearAll (t := 0) (by decide) (fun g3 g4 => H _ ?_)
    refine ⟨rfl, ⟨fun i hi => (show 0 < 16 by decide), fun i hi => ?_, fun j h1 h2 => ?_, fun j h2 => ?_, fun r hr => ?_, fun r hr => ?_, rfl, rfl⟩, rfl, rfl, rfl, rfl, rfl, rfl, rfl⟩
    · unfold tm_em
      repeat' split
      all_goals first | rfl | (exfalso; omega)
    · unfold tm_em
      repeat' split
      all_goals first | rfl | (exfalso; omega)
    · unfold tm_em
      repeat' split
      all_goals first | rfl | (exfalso; omega)
    · rw [tm_sl_out (by omega)]
      have := tm_sl_in (a := tm_sl (tm_sl (fun _ => 0) ((1 * 2 + 0) * 6) (0 * 6) 6) ((1 * 2 + 1) * 6) (1 * 6) 6) (base := (0 * 2 + 0) * 6) (k := 0 * 6) hr
      rw [show (0 * 2 + 0) * 6 + r = r by omega] at this
      exact this
    · have e : ∀ a : Nat → Int32, tm_sl (tm_sl a ((0 * 2 + 0) * 6) (0 * 6) 6) ((0 * 2 + 1) * 6) (1 * 6) 6 (12 + r) = a (12 + r) := by
        intro a
        unfold tm_sl
        rw [if_neg (by omega), if_neg (by omega)]
      rw [e, tm_sl_out (by omega)]
      have := tm_sl_in (a := fun _ => 0) (base := (1 * 2 + 0) * 6) (k := 0 * 6) hr
      rw [show 0 * 6 + r = r by omega] at this
      exact this
  iterate 48 refine And.intro (by decide) ?_
  exact X
end
section
theorem tm_sgb : ∀ v, v < 16 → (tm_sg v).toInt8.toInt32 = tm_sg v := by decide +kernel
theorem tm_A_b1 {R : Nat → Nat} {a1 a2 a3 a12 : Nat → Int32} (h : tm_A R a1 a2 a3 a12) : ∀ j, j < 12 → vp_nar .byte (a1 j) = a1 j := by
  intro j hj
  rw [vp_nar_byte, h.2.1 j hj]
  exact tm_sgb _ (h.1 j hj)
theorem tm_A_b2 {R : Nat → Nat} {a1 a2 a3 a12 : Nat → Int32} (h : tm_A R a1 a2 a3 a12) : ∀ j, j < 12 → vp_nar .byte (a2 j) = a2 j := by
  intro j hj
  rw [vp_nar_byte, h.2.2.2.1 j (by omega)]
  decide
theorem tm_z (n : Nat) : (0 : Int32) + nI n = nI n := by
  have := nI_add 0 n
  rw [Nat.zero_add] at this
  exact this
theorem tm_zc {n : Nat} (h : n < 288) : ((0 : Int32) + nI n).toNatClampNeg = n := by rw [tm_z, nI_clamp (by omega)]
theorem tm_copy {post : St1 → Prop} {f0 f1 f2 : Int32} {a1 a2 a3 a4 a5 a6 a7 a8 a9 a10 a11 a12 a13 a14 a15 a16 a17 a18 a19 a20 a21 a22 a23 a24 : Nat → Int32} {b1 b2 : Nat → Int32} {p q w : Int32} {i j : Nat} (hp : p = 0) (hq : q = nI i) (hw : w = nI j) (hi : i < 288) (hj : j < 288) (n1 : vp_nar .byte (a1 i) = a1 i) (n2 : vp_nar .byte (a2 i) = a2 i)
    (hb1 : upd a1 j (a1 i) = b1) (hb2 : upd a2 j (a2 i) = b2) (H : post (f0, f1, f2, b1, b2, a3, a4, a5, a6, a7, a8, a9, a10, a11, a12, a13, a14, a15, a16, a17, a18, a19, a20, a21, a22, a23, a24)) : wpX_copyCell post (f0, f1, f2, a1, a2, a3, a4, a5, a6, a7, a8, a9, a10, a11, a12, a13, a14, a15, a16, a17, a18, a19, a20, a21, a22, a23, a24) p q w := by
  subst hp hq hw
  refine And.intro (pk_in i 288 hi (tm_z i)) (And.intro (pk_in j 288 hj (tm_z j)) (nm_r (e' := b1) ?_ (And.intro (pk_in i 288 hi (tm_z i)) (And.intro (pk_in j 288 hj (tm_z j)) (nm_r (e' := b2) ?_ H)))))
  · rw [tm_zc hi, tm_zc hj, n1]
    exact hb1
  · rw [tm_zc hi, tm_zc hj, n2]
    exact hb2
/-- cells moved to the right by d -/
def tm_sh (a : Nat → Int32) (lo hi d : Nat) : Nat → Int32 := fun j => if lo ≤ j ∧ j < hi then a (j - d) else a j
theorem tm_sh_0 (a : Nat → Int32) (lo d : Nat) : tm_sh a lo lo d = a := by
  funext j
  unfold tm_sh
  rw [if_neg (by omega)]
theorem tm_sh_lt {a : Nat → Int32} {lo hi d j : Nat} (h : j < lo) : tm_sh a lo hi d j = a j := by
  unfold tm_sh
  rw [if_neg (by omega)]
theorem tm_sh_s {a : Nat → Int32} {x y hi d : Nat} (hx : x < hi) (hy : y + d = x) : upd (tm_sh a (x + 1) hi d) x (tm_sh a (x + 1) hi d y) = tm_sh a x hi d := by
  rw [tm_sh_lt (show y < x + 1 by omega)]
  funext j
  by_cases e : j = x
  · rw [e, pk_us]
    unfold tm_sh
    rw [if_pos (by omega), show x - d = y by omega]
  · rw [pk_un e]
    unfold tm_sh
    by_cases g : x + 1 ≤ j ∧ j < hi
    · rw [if_pos g, if_pos (by omega)]
    · rw [if_neg g, if_neg (by omega)]
/-- cells moved to the left by d -/
def tm_so (a : Nat → Int32) (lo hi d : Nat) : Nat → Int32 := fun j => if lo ≤ j ∧ j < hi then a (j + d) else a j
theorem tm_so_0 (a : Nat → Int32) (lo d : Nat) : tm_so a lo lo d = a := by
  funext j
  unfold tm_so
  rw [if_neg (by omega)]
theorem tm_so_ge {a : Nat → Int32} {lo hi d j : Nat} (h : hi ≤ j) : tm_so a lo hi d j = a j := by
  unfold tm_so
  rw [if_neg (by omega)]
theorem tm_so_s {a : Nat → Int32} {lo x y d : Nat} (hx : lo ≤ x) (hy : x + d = y) : upd (tm_so a lo x d) x (tm_so a lo x d y) = tm_so a lo (x + 1) d := by
  rw [tm_so_ge (show x ≤ y by omega)]
  funext j
  by_cases e : j = x
  · rw [e, pk_us]
    unfold tm_so
    rw [if_pos (by omega), hy]
  · rw [pk_un e]
    unfold tm_so
    by_cases g : lo ≤ j ∧ j < x
    · rw [if_pos g, if_pos (by omega)]
    · rw [if_neg g, if_neg (by omega)]
theorem tm_ps76 {post : St1 → Prop} {f1 f2 : Int32} {a1 a2 a3 a4 a5 a6 a7 a8 a9 a10 a11 a12 a13 a14 a15 a16 a17 a18 a19 a20 a21 a22 a23 a24 : Nat → Int32} {x1 : Int32} {c : Nat} (hB1 : ∀ j, j < 12 → vp_nar .byte (a1 j) = a1 j) (hB2 : ∀ j, j < 12 → vp_nar .byte (a2 j) = a2 j)
    (H : wX_putSign_99 post x1 0 (nI c) 0 f1 f2 (tm_sh a1 (c + 1) 12 1) (tm_sh a2 (c + 1) 12 1) a3 a4 a5 a6 a7 a8 a9 a10 a11 a12 a13 a14 a15 a16 a17 a18 a19 a20 a21 a22 a23 a24) :
    ∀ i, c + i ≤ 11 → wX_putSign_76 post x1 0 (nI c) (i + 1) (nI (c + i)) 0 f1 f2 (tm_sh a1 (c + i + 1) 12 1) (tm_sh a2 (c + i + 1) 12 1) a3 a4 a5 a6 a7 a8 a9 a10 a11 a12 a13 a14 a15 a16 a17 a18 a19 a20 a21 a22 a23 a24 := by
  intro i
  induction i with
  | zero =>
    intro h
    exact pk_le c c (fun _ => H) (fun z => absurd z (by omega))
  | succ i ih =>
    intro h
    refine pk_le (c + i + 1) c (fun z => absurd z (by omega)) (fun _ => tm_copy (i := c + i) (j := c + i + 1) rfl (nI_pred (c + i)) rfl (by omega) (by omega) ?_ ?_ (tm_sh_s (by omega) (by omega)) (tm_sh_s (by omega) (by omega)) (nm_r (pk_m1 (c + i)) (ih (by omega))))
    · rw [tm_sh_lt (by omega)]
      exact hB1 _ (by omega)
    · rw [tm_sh_lt (by omega)]
      exact hB2 _ (by omega)
theorem tm_ec0 {post : St1 → Prop} {f1 f2 : Int32} {a1 a2 a3 a4 a5 a6 a7 a8 a9 a10 a11 a12 a13 a14 a15 a16 a17 a18 a19 a20 a21 a22 a23 a24 : Nat → Int32} {b1 b2 : Nat → Int32} {p q w : Int32} {lo hi : Nat} (hp : p = 0) (hq : q = nI lo) (hw : w = nI hi) (h12 : a12 0 = 0) (h3 : a3 0 = nI 0) (hlo : lo ≤ hi) (hhi : hi ≤ 12)
    (hb1 : tm_em a1 lo hi 32 = b1) (hb2 : tm_em a2 lo hi 0 = b2) (H : post (0, f1, f2, b1, b2, a3, a4, a5, a6, a7, a8, a9, a10, a11, a12, a13, a14, a15, a16, a17, a18, a19, a20, a21, a22, a23, a24)) : wpX_emptyCells post (0, f1, f2, a1, a2, a3, a4, a5, a6, a7, a8, a9, a10, a11, a12, a13, a14, a15, a16, a17, a18, a19, a20, a21, a22, a23, a24) p q w :=
  tm_emptyCells (t := 0) (k := 0) (r := 0) (s := 0) (lo := lo) (hi := hi) (by decide) (by decide) (by decide) (by decide) rfl hp hq hw h12 h3 hlo hhi
    (by rw [show (0 * 12 + 0) * 12 + lo = lo by omega, show (0 * 12 + 0) * 12 + hi = hi by omega]; exact hb1) (by rw [show (0 * 12 + 0) * 12 + lo = lo by omega, show (0 * 12 + 0) * 12 + hi = hi by omega]; exact hb2) H
theorem tm_line0 {post : Int32 → Prop} {f1 f2 : Int32} {a1 a2 a3 a4 a5 a6 a7 a8 a9 a10 a11 a12 a13 a14 a15 a16 a17 a18 a19 a20 a21 a22 a23 a24 : Nat → Int32} {p : Int32} (hp : p = 0) (h12 : a12 0 = 0) (h3 : a3 0 = nI 0) (H : post 0) : wpX_lineAt post (0, f1, f2, a1, a2, a3, a4, a5, a6, a7, a8, a9, a10, a11, a12, a13, a14, a15, a16, a17, a18, a19, a20, a21, a22, a23, a24) p :=
  tm_lineAt (t := 0) (k := 0) (r := 0) (s := 0) (by decide) (by decide) (by decide) (by decide) rfl hp h12 h3 H
theorem tm_sc47 {post : St1 → Prop} {f1 f2 : Int32} {a1 a2 a3 a4 a5 a6 a7 a8 a9 a10 a11 a12 a13 a14 a15 a16 a17 a18 a19 a20 a21 a22 a23 a24 : Nat → Int32} {b1 b2 : Nat → Int32} {c m : Nat} (hm : 0 < m) (he : c + m ≤ 12) (h12 : a12 0 = 0) (h3 : a3 0 = nI 0) (hB1 : ∀ j, j < 12 → vp_nar .byte (a1 j) = a1 j) (hB2 : ∀ j, j < 12 → vp_nar .byte (a2 j) = a2 j)
    (hb1 : tm_em (tm_sh a1 (c + m) 12 m) c (c + m) 32 = b1) (hb2 : tm_em (tm_sh a2 (c + m) 12 m) c (c + m) 0 = b2) (H : post (0, f1, f2, b1, b2, a3, a4, a5, a6, a7, a8, a9, a10, a11, a12, a13, a14, a15, a16, a17, a18, a19, a20, a21, a22, a23, a24)) :
    ∀ i, c + m + i ≤ 12 → wX_shiftCells_47 post 0 0 (nI c) (nI m) (i + 1) (nI (c + m + i - 1)) 0 f1 f2 (tm_sh a1 (c + m + i) 12 m) (tm_sh a2 (c + m + i) 12 m) a3 a4 a5 a6 a7 a8 a9 a10 a11 a12 a13 a14 a15 a16 a17 a18 a19 a20 a21 a22 a23 a24 := by
  intro i
  induction i with
  | zero =>
    intro h
    exact pk_lt (c + m - 1) (c + m) (fun _ => tm_ec0 rfl rfl (nI_add c m) h12 h3 (by omega) (by omega) hb1 hb2 H) (fun z => absurd z (by omega)) rfl (nI_add c m)
  | succ i ih =>
    intro h
    rw [show c + m + (i + 1) - 1 = c + m + i by omega]
    refine pk_lt (c + m + i) (c + m) (fun z => absurd z (by omega)) (fun _ => tm_copy (i := c + i) (j := c + m + i) rfl ?_ rfl (by omega) (by omega) ?_ ?_ (tm_sh_s (x := c + m + i) (y := c + i) (by omega) (by omega)) (tm_sh_s (x := c + m + i) (y := c + i) (by omega) (by omega)) (nm_r (sb_m1 (by omega)) (ih (by omega)))) rfl (nI_add c m)
    · rw [pk_sub (by omega), show c + m + i - m = c + i by omega]
    · rw [tm_sh_lt (by omega)]
      exact hB1 _ (by omega)
    · rw [tm_sh_lt (by omega)]
      exact hB2 _ (by omega)
theorem tm_sc95 {post : St1 → Prop} {f1 f2 : Int32} {a1 a2 a3 a4 a5 a6 a7 a8 a9 a10 a11 a12 a13 a14 a15 a16 a17 a18 a19 a20 a21 a22 a23 a24 : Nat → Int32} {b1 b2 : Nat → Int32} {c m : Nat} (hm : 0 < m) (he : c + m ≤ 12) (h12 : a12 0 = 0) (h3 : a3 0 = nI 0) (hB1 : ∀ j, j < 12 → vp_nar .byte (a1 j) = a1 j) (hB2 : ∀ j, j < 12 → vp_nar .byte (a2 j) = a2 j)
    (hb1 : tm_em (tm_so a1 c (12 - m) m) (12 - m) 12 32 = b1) (hb2 : tm_em (tm_so a2 c (12 - m) m) (12 - m) 12 0 = b2) (H : post (0, f1, f2, b1, b2, a3, a4, a5, a6, a7, a8, a9, a10, a11, a12, a13, a14, a15, a16, a17, a18, a19, a20, a21, a22, a23, a24)) :
    ∃ n, wX_shiftCells_95 post 0 0 (nI m) n (nI c) 0 f1 f2 a1 a2 a3 a4 a5 a6 a7 a8 a9 a10 a11 a12 a13 a14 a15 a16 a17 a18 a19 a20 a21 a22 a23 a24 := by
  have e12 : (12 : Int32) - nI m = nI (12 - m) := pk_sub (a := 12) (by omega)
  have L : ∃ n, wX_shiftCells_95 post 0 0 (nI m) n (nI c) 0 f1 f2 (tm_so a1 c c m) (tm_so a2 c c m) a3 a4 a5 a6 a7 a8 a9 a10 a11 a12 a13 a14 a15 a16 a17 a18 a19 a20 a21 a22 a23 a24 :=
    pk_loop (σ := Unit) (fun n i _ => wX_shiftCells_95 post 0 0 (nI m) n (nI i) 0 f1 f2 (tm_so a1 c i m) (tm_so a2 c i m) a3 a4 a5 a6 a7 a8 a9 a10 a11 a12 a13 a14 a15 a16 a17 a18 a19 a20 a21 a22 a23 a24) (fun i _ => c ≤ i) (12 - m) c () (by omega) (Nat.le_refl c)
      (fun n _ _ => pk_le 12 (12 - m + m) (fun _ => tm_ec0 (lo := 12 - m) (hi := 12) rfl e12 rfl h12 h3 (by omega) (by omega) hb1 hb2 H) (fun z => absurd z (by omega)) rfl (nI_add (12 - m) m))
      (fun n i _ hi hI hw => pk_le 12 (i + m) (fun z => absurd z (by omega)) (fun _ => tm_copy (i := i + m) (j := i) rfl (nI_add i m) rfl (by omega) (by omega)
        (by rw [tm_so_ge (by omega)]; exact hB1 _ (by omega)) (by rw [tm_so_ge (by omega)]; exact hB2 _ (by omega)) (tm_so_s hI rfl) (tm_so_s hI rfl) (nm_r (nI_1 i) (hw () (by omega)))) rfl (nI_add i m))
  rw [tm_so_0, tm_so_0] at L
  exact L
theorem tm_lesser {post : Int32 → Prop} {p q : Int32} {a b : Nat} (hp : p = nI a) (hq : q = nI b) (ha : a < 2 ^ 31) (hb : b < 2 ^ 31) (H : post (nI (min a b))) : wpX_lesser post () p q := by
  subst hp hq
  refine pk_le b a (fun z => ?_) (fun z => ?_)
  · rw [Nat.min_eq_right z] at H
    exact H
  · rw [Nat.min_eq_left (by omega)] at H
    exact H
theorem tm_min {post : Int32 → Prop} {p q : Int32} {a b : Nat} (hp : p = nI a) (hq : q = nI b) (ha : a < 2 ^ 31) (hb : b < 2 ^ 31) (H : post (nI (min a b))) : wpL_min post () p q := by
  subst hp hq
  refine pk_le b a (fun z => ?_) (fun z => ?_)
  · rw [Nat.min_eq_right z] at H
    exact H
  · rw [Nat.min_eq_left (by omega)] at H
    exact H
theorem tm_sub0 {a b : Nat} (ha : a < 2 ^ 30) (hb : b < 2 ^ 30) : nI a - nI b ≤ 0 ↔ a ≤ b := by
  rw [Int32.le_iff_toInt_le, pk_sub_toInt ha hb, show (0 : Int32).toInt = 0 from by decide]
  omega
theorem tm_greater {post : Int32 → Prop} {p q : Int32} {a b : Nat} (hp : p = nI a - nI b) (hq : q = 0) (ha : a < 2 ^ 30) (hb : b < 2 ^ 30) (H : post (nI (a - b))) : wpX_greater post () p q := by
  subst hp hq
  by_cases z : a ≤ b
  · rw [show a - b = 0 by omega] at H
    exact br_t ((tm_sub0 ha hb).mpr z) H
  · rw [← pk_sub (by omega)] at H
    exact br_f (fun g => z ((tm_sub0 ha hb).mp g)) H
theorem tm_tr229 {post : St1 → Prop} {f1 f2 : Int32} {a1 a2 a3 a4 a5 a6 a7 a8 a9 a10 a11 a12 a13 a14 a15 a16 a17 a18 a19 a20 a21 a22 a23 a24 : Nat → Int32} {x3 x4 : Int32} {c : Nat} (h3 : x3 = 0) (h4 : x4 = nI c) (hc : c < 12) (H : post (0, f1, f2, a1, a2, a3, upd a4 0 0, upd a5 0 (nI c), a6, a7, a8, a9, a10, a11, a12, a13, a14, a15, a16, a17, a18, a19, a20, a21, a22, a23, a24)) : wX_travel_229 post x3 x4 0 f1 f2 a1 a2 a3 a4 a5 a6 a7 a8 a9 a10 a11 a12 a13 a14 a15 a16 a17 a18 a19 a20 a21 a22 a23 a24 := by
  subst h3 h4
  exact And.intro tm_in0 (nm_r (tm_u0 (v' := 0) (by decide)) (And.intro tm_in0 (nm_r (tm_u0 (tm_b8 c (by omega))) H)))
theorem tm_number {post : Int32 → Prop} {f1 f2 : Int32} {a1 a2 a3 a4 a5 a6 a7 a8 a9 a10 a11 a12 a13 a14 a15 a16 a17 a18 a19 a20 a21 a22 a23 a24 : Nat → Int32} {p : Nat} (h22 : a22 0 = 1) (h23 : a23 0 = nI p) (H : post (nI p)) : wpX_number post (0, f1, f2, a1, a2, a3, a4, a5, a6, a7, a8, a9, a10, a11, a12, a13, a14, a15, a16, a17, a18, a19, a20, a21, a22, a23, a24) 0 := by
  have e : a23 ((0 : Int32) * 4 + 0).toNatClampNeg = nI p := by
    rw [show ((0 : Int32) * 4 + 0).toNatClampNeg = 0 by decide]
    exact h23
  refine And.intro tm_in0 (br_f (by rw [tm_g0 h22]; decide) ⟨pk_in 0 8 (by decide) (by decide), ?_⟩)
  exact ek_v (P := post) e H
end
section
theorem tm_ctl13 {post : St1 → Prop} {f1 f2 : Int32} {a1 a2 a3 a4 a5 a6 a7 a8 a9 a10 a11 a12 a13 a14 a15 a16 a17 a18 a19 a20 a21 a22 a23 a24 : Nat → Int32} (H : post (0, f1, f2, a1, a2, a3, a4, upd a5 0 0, upd a6 0 0, a7, a8, a9, a10, a11, a12, a13, a14, a15, a16, a17, a18, a19, a20, a21, a22, a23, a24)) : wpX_control post (0, f1, f2, a1, a2, a3, a4, a5, a6, a7, a8, a9, a10, a11, a12, a13, a14, a15, a16, a17, a18, a19, a20, a21, a22, a23, a24) 13 :=
  br_f (by decide) (br_f (by decide) ⟨tm_in0, nm_r (tm_u0 rfl) ⟨tm_in0, nm_e (br_f (by decide) (br_f (by decide) (br_f (by decide) ⟨tm_in0, nm_r (tm_u0 rfl) H⟩)))⟩⟩)
theorem tm_ctl8 {post : St1 → Prop} {f1 f2 : Int32} {a1 a2 a3 a4 a5 a6 a7 a8 a9 a10 a11 a12 a13 a14 a15 a16 a17 a18 a19 a20 a21 a22 a23 a24 : Nat → Int32} {c : Nat} (h5 : a5 0 = nI c) (hc : c < 12) (H : post (0, f1, f2, a1, a2, a3, a4, upd a5 0 (nI (c - 1)), upd a6 0 0, a7, a8, a9, a10, a11, a12, a13, a14, a15, a16, a17, a18, a19, a20, a21, a22, a23, a24)) : wpX_control post (0, f1, f2, a1, a2, a3, a4, a5, a6, a7, a8, a9, a10, a11, a12, a13, a14, a15, a16, a17, a18, a19, a20, a21, a22, a23, a24) 8 := by
  refine br_f (by decide) (br_f (by decide) ⟨tm_in0, nm_r (tm_u0 rfl) ⟨tm_in0, nm_r (tm_g0 h5) (br_t rfl (pk_le c 0 (fun z => ⟨tm_in0, nm_r (tm_u0 ?_) H⟩) (fun z => ⟨tm_in0, nm_r (tm_u0 ?_) H⟩)))⟩⟩)
  · rw [show c - 1 = 0 by omega]
    decide
  · rw [show nI c - 1 = nI (c - 1) from pk_sub (b := 1) (by omega)]
    exact tm_b8 _ (by omega)
theorem tm_tab {c : Nat} (hc : c < 12) : (nI c / 4 + 1) * 4 = nI ((c / 4 + 1) * 4) := by
  rw [show nI c / 4 = nI (c / 4) from pk_div (by omega) (by decide) (by decide), nI_1]
  exact pk_mul _ 4
theorem tm_ctl9 {post : St1 → Prop} {f1 f2 : Int32} {a1 a2 a3 a4 a5 a6 a7 a8 a9 a10 a11 a12 a13 a14 a15 a16 a17 a18 a19 a20 a21 a22 a23 a24 : Nat → Int32} {c : Nat} (h5 : a5 0 = nI c) (hc : c < 12) (H : post (0, f1, f2, a1, a2, a3, a4, upd a5 0 (nI (min ((c / 4 + 1) * 4) 11)), upd a6 0 0, a7, a8, a9, a10, a11, a12, a13, a14, a15, a16, a17, a18, a19, a20, a21, a22, a23, a24)) : wpX_control post (0, f1, f2, a1, a2, a3, a4, a5, a6, a7, a8, a9, a10, a11, a12, a13, a14, a15, a16, a17, a18, a19, a20, a21, a22, a23, a24) 9 := by
  refine br_f (by decide) (br_f (by decide) ⟨tm_in0, nm_r (tm_u0 rfl) ⟨tm_in0, nm_r (tm_g0 h5) (br_f (by decide) (br_t rfl ⟨by decide, nm_r (tm_tab hc) (pk_le 12 ((c / 4 + 1) * 4) (fun z => ⟨tm_in0, nm_r (tm_u0 ?_) H⟩) (fun z => ⟨tm_in0, nm_r (tm_u0 ?_) H⟩))⟩))⟩⟩)
  · rw [show min ((c / 4 + 1) * 4) 11 = 11 by omega]
    decide
  · rw [show min ((c / 4 + 1) * 4) 11 = (c / 4 + 1) * 4 by omega]
    exact tm_b8 _ (by omega)
theorem tm_nz : vp_nar .boolean 0 = 0 := rfl
theorem tm_no : vp_nar .boolean 1 = 1 := rfl
theorem tm_nbool {x : Int32} (h : x = 0 ∨ x = 1) : vp_nar .boolean x = x := by
  rcases h with h | h
  · rw [h]
    exact tm_nz
  · rw [h]
    exact tm_no
theorem tm_ps99 {post : St1 → Prop} {f1 f2 : Int32} {a1 a2 a3 a4 a5 a6 a7 a8 a9 a10 a11 a12 a13 a14 a15 a16 a17 a18 a19 a20 a21 a22 a23 a24 : Nat → Int32} {x1 wr : Int32} {b c : Nat} (hx : x1 = nI b) (hb : b < 128) (hc : c < 12) (h5 : a5 0 = nI c) (h7 : a7 0 = 0) (h11 : a11 0 = wr) (hw : wr = 0 ∨ wr = 1)
    (H1 : c = 11 → post (0, f1, f2, upd a1 c (nI b), upd a2 c 0, a3, a4, a5, upd a6 0 wr, a7, a8, a9, a10, a11, a12, a13, a14, a15, a16, a17, a18, a19, a20, a21, a22, a23, a24)) (H2 : c < 11 → post (0, f1, f2, upd a1 c (nI b), upd a2 c 0, a3, a4, upd a5 0 (nI (c + 1)), a6, a7, a8, a9, a10, a11, a12, a13, a14, a15, a16, a17, a18, a19, a20, a21, a22, a23, a24)) : wX_putSign_99 post x1 0 (nI c) 0 f1 f2 a1 a2 a3 a4 a5 a6 a7 a8 a9 a10 a11 a12 a13 a14 a15 a16 a17 a18 a19 a20 a21 a22 a23 a24 := by
  subst hx
  have hin : vp_in ((0 : Int32) + nI c) 288 := pk_in c 288 (by omega) (tm_z c)
  refine And.intro hin (nm_r (e' := upd a1 c (nI b)) ?_ ⟨tm_in0, hin, nm_r (e' := upd a2 c 0) ?_ (pk_le 11 c (fun z => ⟨tm_in0, tm_in0, nm_r (tm_u0 ?_) (H1 (by omega))⟩) (fun z => ⟨tm_in0, tm_in0, nm_r (tm_u0 ?_) (H2 (by omega))⟩))⟩)
  · rw [tm_zc (by omega), tm_b8 b hb]
  · rw [tm_zc (by omega), tm_g0 h7]
    rfl
  · rw [tm_g0 h11]
    exact tm_nbool hw
  · rw [tm_g0 h5, nI_1]
    exact tm_b8 _ (by omega)
theorem tm_putSign0 {post : St1 → Prop} {f1 f2 : Int32} {a1 a2 a3 a4 a5 a6 a7 a8 a9 a10 a11 a12 a13 a14 a15 a16 a17 a18 a19 a20 a21 a22 a23 a24 : Nat → Int32} {x1 wr : Int32} {b c : Nat} (hx : x1 = nI b) (hb : b < 128) (hc : c < 12) (h12 : a12 0 = 0) (h3 : a3 0 = nI 0) (h4 : a4 0 = 0) (h5 : a5 0 = nI c) (h6 : a6 0 = 0) (h7 : a7 0 = 0) (h10 : a10 0 = 0) (h11 : a11 0 = wr) (hw : wr = 0 ∨ wr = 1)
    (H1 : c = 11 → post (0, f1, f2, upd a1 c (nI b), upd a2 c 0, a3, a4, a5, upd a6 0 wr, a7, a8, a9, a10, a11, a12, a13, a14, a15, a16, a17, a18, a19, a20, a21, a22, a23, a24)) (H2 : c < 11 → post (0, f1, f2, upd a1 c (nI b), upd a2 c 0, a3, a4, upd a5 0 (nI (c + 1)), a6, a7, a8, a9, a10, a11, a12, a13, a14, a15, a16, a17, a18, a19, a20, a21, a22, a23, a24)) : wpX_putSign post (0, f1, f2, a1, a2, a3, a4, a5, a6, a7, a8, a9, a10, a11, a12, a13, a14, a15, a16, a17, a18, a19, a20, a21, a22, a23, a24) x1 :=
  And.intro tm_in0 (br_t (tm_g0 h6) (And.intro tm_in0 (tm_line0 (tm_g0 h4) h12 h3 (And.intro tm_in0 (nm_r (tm_g0 h5) (And.intro tm_in0 (br_t (tm_g0 h10) (tm_ps99 hx hb hc h5 h7 h11 hw H1 H2))))))))
theorem tm_putSign1 {post : St1 → Prop} {f1 f2 : Int32} {a1 a2 a3 a4 a5 a6 a7 a8 a9 a10 a11 a12 a13 a14 a15 a16 a17 a18 a19 a20 a21 a22 a23 a24 : Nat → Int32} {x1 wr : Int32} {b c : Nat} (hx : x1 = nI b) (hb : b < 128) (hc : c < 12) (hB1 : ∀ j, j < 12 → vp_nar .byte (a1 j) = a1 j) (hB2 : ∀ j, j < 12 → vp_nar .byte (a2 j) = a2 j) (h12 : a12 0 = 0) (h3 : a3 0 = nI 0) (h4 : a4 0 = 0) (h5 : a5 0 = nI c) (h6 : a6 0 = 0) (h7 : a7 0 = 0) (h10 : a10 0 = 1) (h11 : a11 0 = wr) (hw : wr = 0 ∨ wr = 1)
    (H1 : c = 11 → post (0, f1, f2, upd (tm_sh a1 (c + 1) 12 1) c (nI b), upd (tm_sh a2 (c + 1) 12 1) c 0, a3, a4, a5, upd a6 0 wr, a7, a8, a9, a10, a11, a12, a13, a14, a15, a16, a17, a18, a19, a20, a21, a22, a23, a24)) (H2 : c < 11 → post (0, f1, f2, upd (tm_sh a1 (c + 1) 12 1) c (nI b), upd (tm_sh a2 (c + 1) 12 1) c 0, a3, a4, upd a5 0 (nI (c + 1)), a6, a7, a8, a9, a10, a11, a12, a13, a14, a15, a16, a17, a18, a19, a20, a21, a22, a23, a24)) : wpX_putSign post (0, f1, f2, a1, a2, a3, a4, a5, a6, a7, a8, a9, a10, a11, a12, a13, a14, a15, a16, a17, a18, a19, a20, a21, a22, a23, a24) x1 := by
  have L := tm_ps76 (x1 := x1) hB1 hB2 (tm_ps99 (a1 := tm_sh a1 (c + 1) 12 1) (a2 := tm_sh a2 (c + 1) 12 1) hx hb hc h5 h7 h11 hw H1 H2) (11 - c) (by omega)
  rw [show c + (11 - c) = 11 by omega, show 11 + 1 = 12 from rfl, tm_sh_0, tm_sh_0] at L
  exact And.intro tm_in0 (br_t (tm_g0 h6) (And.intro tm_in0 (tm_line0 (tm_g0 h4) h12 h3 (And.intro tm_in0 (nm_r (tm_g0 h5) (And.intro tm_in0 (br_f (by rw [tm_g0 h10]; decide) (Exists.intro _ L))))))))
theorem tm_tr67 {post : St1 → Prop} {f1 f2 : Int32} {a1 a2 a3 a4 a5 a6 a7 a8 a9 a10 a11 a12 a13 a14 a15 a16 a17 a18 a19 a20 a21 a22 a23 a24 : Nat → Int32} {c n : Nat} (hc : c < 12) (hn : n < 100) (h4 : a4 0 = 0) (h5 : a5 0 = nI c) (H : post (0, f1, f2, a1, a2, a3, upd a4 0 0, upd a5 0 (nI (min (c + n) 11)), a6, a7, a8, a9, a10, a11, a12, a13, a14, a15, a16, a17, a18, a19, a20, a21, a22, a23, a24)) : wpX_travel post (0, f1, f2, a1, a2, a3, a4, a5, a6, a7, a8, a9, a10, a11, a12, a13, a14, a15, a16, a17, a18, a19, a20, a21, a22, a23, a24) 67 (nI n) :=
  And.intro tm_in0 (nm_r (tm_g0 h4) (And.intro tm_in0 (nm_r (tm_g0 h5) (br_f (by decide) (br_f (by decide) (br_t rfl (tm_lesser (b := 11) (nI_add c n) rfl (by omega) (by omega) (tm_tr229 rfl rfl (by omega) H))))))))
theorem tm_tr68 {post : St1 → Prop} {f1 f2 : Int32} {a1 a2 a3 a4 a5 a6 a7 a8 a9 a10 a11 a12 a13 a14 a15 a16 a17 a18 a19 a20 a21 a22 a23 a24 : Nat → Int32} {c n : Nat} (hc : c < 12) (hn : n < 100) (h4 : a4 0 = 0) (h5 : a5 0 = nI c) (H : post (0, f1, f2, a1, a2, a3, upd a4 0 0, upd a5 0 (nI (c - n)), a6, a7, a8, a9, a10, a11, a12, a13, a14, a15, a16, a17, a18, a19, a20, a21, a22, a23, a24)) : wpX_travel post (0, f1, f2, a1, a2, a3, a4, a5, a6, a7, a8, a9, a10, a11, a12, a13, a14, a15, a16, a17, a18, a19, a20, a21, a22, a23, a24) 68 (nI n) :=
  And.intro tm_in0 (nm_r (tm_g0 h4) (And.intro tm_in0 (nm_r (tm_g0 h5) (br_f (by decide) (br_f (by decide) (br_f (by decide) (br_t rfl (tm_greater rfl rfl (by omega) (by omega) (tm_tr229 rfl rfl (by omega) H)))))))))
theorem tm_tr71 {post : St1 → Prop} {f1 f2 : Int32} {a1 a2 a3 a4 a5 a6 a7 a8 a9 a10 a11 a12 a13 a14 a15 a16 a17 a18 a19 a20 a21 a22 a23 a24 : Nat → Int32} {c n : Nat} (hc : c < 12) (hn : n < 100) (h0 : 0 < n) (h4 : a4 0 = 0) (h5 : a5 0 = nI c) (H : post (0, f1, f2, a1, a2, a3, upd a4 0 0, upd a5 0 (nI (min (n - 1) 11)), a6, a7, a8, a9, a10, a11, a12, a13, a14, a15, a16, a17, a18, a19, a20, a21, a22, a23, a24)) : wpX_travel post (0, f1, f2, a1, a2, a3, a4, a5, a6, a7, a8, a9, a10, a11, a12, a13, a14, a15, a16, a17, a18, a19, a20, a21, a22, a23, a24) 71 (nI n) :=
  And.intro tm_in0 (nm_r (tm_g0 h4) (And.intro tm_in0 (nm_r (tm_g0 h5) (br_f (by decide) (br_f (by decide) (br_f (by decide) (br_f (by decide) (br_t rfl (tm_lesser (a := n - 1) (b := 11) (pk_sub (b := 1) (by omega)) rfl (by omega) (by omega) (tm_tr229 rfl rfl (by omega) H))))))))))
theorem tm_er88 {post : St1 → Prop} {f1 f2 : Int32} {a1 a2 a3 a4 a5 a6 a7 a8 a9 a10 a11 a12 a13 a14 a15 a16 a17 a18 a19 a20 a21 a22 a23 a24 : Nat → Int32} {x : Int32} {c n : Nat} (hc : c < 12) (hn : n < 100) (h12 : a12 0 = 0) (h3 : a3 0 = nI 0) (h4 : a4 0 = 0) (h5 : a5 0 = nI c) (H : post (0, f1, f2, tm_em a1 c (min (c + n) 12) 32, tm_em a2 c (min (c + n) 12) 0, a3, a4, a5, a6, a7, a8, a9, a10, a11, a12, a13, a14, a15, a16, a17, a18, a19, a20, a21, a22, a23, a24)) : wpX_erase post (0, f1, f2, a1, a2, a3, a4, a5, a6, a7, a8, a9, a10, a11, a12, a13, a14, a15, a16, a17, a18, a19, a20, a21, a22, a23, a24) 88 x (nI n) :=
  And.intro tm_in0 (nm_r (tm_g0 h4) (And.intro tm_in0 (nm_r (tm_g0 h5) (br_t rfl (tm_lesser (b := 12) (nI_add c n) rfl (by omega) (by omega) (tm_ec0 rfl rfl rfl h12 h3 (by omega) (by omega) rfl rfl H))))))
theorem tm_er82 {post : St1 → Prop} {f1 f2 : Int32} {a1 a2 a3 a4 a5 a6 a7 a8 a9 a10 a11 a12 a13 a14 a15 a16 a17 a18 a19 a20 a21 a22 a23 a24 : Nat → Int32} {x2 q w : Int32} {lo hi : Nat} (hq : q = nI lo) (hw : w = nI hi) (hlo : lo ≤ hi) (hhi : hi ≤ 12) (h12 : a12 0 = 0) (h3 : a3 0 = nI 0) (H : post (0, f1, f2, tm_em a1 lo hi 32, tm_em a2 lo hi 0, a3, a4, a5, a6, a7, a8, a9, a10, a11, a12, a13, a14, a15, a16, a17, a18, a19, a20, a21, a22, a23, a24)) : wX_erase_82 post 75 x2 0 q w 0 f1 f2 a1 a2 a3 a4 a5 a6 a7 a8 a9 a10 a11 a12 a13 a14 a15 a16 a17 a18 a19 a20 a21 a22 a23 a24 :=
  tm_ec0 rfl hq hw h12 h3 hlo hhi rfl rfl (br_f (by decide) (br_f (by decide) H))
theorem tm_er75_0 {post : St1 → Prop} {f1 f2 : Int32} {a1 a2 a3 a4 a5 a6 a7 a8 a9 a10 a11 a12 a13 a14 a15 a16 a17 a18 a19 a20 a21 a22 a23 a24 : Nat → Int32} {x : Int32} {c : Nat} (hc : c < 12) (h12 : a12 0 = 0) (h3 : a3 0 = nI 0) (h4 : a4 0 = 0) (h5 : a5 0 = nI c) (H : post (0, f1, f2, tm_em a1 c 12 32, tm_em a2 c 12 0, a3, a4, a5, a6, a7, a8, a9, a10, a11, a12, a13, a14, a15, a16, a17, a18, a19, a20, a21, a22, a23, a24)) : wpX_erase post (0, f1, f2, a1, a2, a3, a4, a5, a6, a7, a8, a9, a10, a11, a12, a13, a14, a15, a16, a17, a18, a19, a20, a21, a22, a23, a24) 75 0 x :=
  And.intro tm_in0 (nm_r (tm_g0 h4) (And.intro tm_in0 (nm_r (tm_g0 h5) (br_f (by decide) (br_t (by decide) (br_t rfl (br_f (by decide) (tm_er82 (lo := c) (hi := 12) rfl rfl (by omega) (by omega) h12 h3 H))))))))
theorem tm_er75_1 {post : St1 → Prop} {f1 f2 : Int32} {a1 a2 a3 a4 a5 a6 a7 a8 a9 a10 a11 a12 a13 a14 a15 a16 a17 a18 a19 a20 a21 a22 a23 a24 : Nat → Int32} {x : Int32} {c : Nat} (hc : c < 12) (h12 : a12 0 = 0) (h3 : a3 0 = nI 0) (h4 : a4 0 = 0) (h5 : a5 0 = nI c) (H : post (0, f1, f2, tm_em a1 0 (c + 1) 32, tm_em a2 0 (c + 1) 0, a3, a4, a5, a6, a7, a8, a9, a10, a11, a12, a13, a14, a15, a16, a17, a18, a19, a20, a21, a22, a23, a24)) : wpX_erase post (0, f1, f2, a1, a2, a3, a4, a5, a6, a7, a8, a9, a10, a11, a12, a13, a14, a15, a16, a17, a18, a19, a20, a21, a22, a23, a24) 75 1 x :=
  And.intro tm_in0 (nm_r (tm_g0 h4) (And.intro tm_in0 (nm_r (tm_g0 h5) (br_f (by decide) (br_t (by decide) (br_f (by decide) (br_t rfl (tm_er82 (lo := 0) rfl (nI_1 c) (by omega) (by omega) h12 h3 H))))))))
theorem tm_er75_2 {post : St1 → Prop} {f1 f2 : Int32} {a1 a2 a3 a4 a5 a6 a7 a8 a9 a10 a11 a12 a13 a14 a15 a16 a17 a18 a19 a20 a21 a22 a23 a24 : Nat → Int32} {x : Int32} {c : Nat} (hc : c < 12) (h12 : a12 0 = 0) (h3 : a3 0 = nI 0) (h4 : a4 0 = 0) (h5 : a5 0 = nI c) (H : post (0, f1, f2, tm_em a1 0 12 32, tm_em a2 0 12 0, a3, a4, a5, a6, a7, a8, a9, a10, a11, a12, a13, a14, a15, a16, a17, a18, a19, a20, a21, a22, a23, a24)) : wpX_erase post (0, f1, f2, a1, a2, a3, a4, a5, a6, a7, a8, a9, a10, a11, a12, a13, a14, a15, a16, a17, a18, a19, a20, a21, a22, a23, a24) 75 2 x :=
  And.intro tm_in0 (nm_r (tm_g0 h4) (And.intro tm_in0 (nm_r (tm_g0 h5) (br_f (by decide) (br_t (by decide) (br_f (by decide) (br_f (by decide) (tm_er82 (lo := 0) (hi := 12) rfl rfl (by omega) (by omega) h12 h3 H))))))))
theorem tm_scIn {post : St1 → Prop} {f1 f2 : Int32} {a1 a2 a3 a4 a5 a6 a7 a8 a9 a10 a11 a12 a13 a14 a15 a16 a17 a18 a19 a20 a21 a22 a23 a24 : Nat → Int32} {c n : Nat} (hc : c < 12) (hn : n < 100) (h0 : 0 < n) (hB1 : ∀ j, j < 12 → vp_nar .byte (a1 j) = a1 j) (hB2 : ∀ j, j < 12 → vp_nar .byte (a2 j) = a2 j) (h12 : a12 0 = 0) (h3 : a3 0 = nI 0) (h4 : a4 0 = 0) (h5 : a5 0 = nI c)
    (H : ∀ m, m = min n (12 - c) → post (0, f1, f2, tm_em (tm_sh a1 (c + m) 12 m) c (c + m) 32, tm_em (tm_sh a2 (c + m) 12 m) c (c + m) 0, a3, a4, a5, a6, a7, a8, a9, a10, a11, a12, a13, a14, a15, a16, a17, a18, a19, a20, a21, a22, a23, a24)) : wpX_shiftCells post (0, f1, f2, a1, a2, a3, a4, a5, a6, a7, a8, a9, a10, a11, a12, a13, a14, a15, a16, a17, a18, a19, a20, a21, a22, a23, a24) 1 (nI n) := by
  have L := tm_sc47 (m := min n (12 - c)) (by omega) (by omega) h12 h3 hB1 hB2 rfl rfl (H _ rfl) (12 - (c + min n (12 - c))) (by omega)
  rw [show c + min n (12 - c) + (12 - (c + min n (12 - c))) = 12 by omega, tm_sh_0, tm_sh_0] at L
  exact And.intro tm_in0 (nm_r (tm_g0 h4) (tm_line0 rfl h12 h3 (And.intro tm_in0 (nm_r (tm_g0 h5) (tm_lesser (b := 12 - c) rfl (pk_sub (a := 12) (by omega)) (by omega) (by omega) (br_f (by decide) (Exists.intro _ L)))))))
theorem tm_scOut {post : St1 → Prop} {f1 f2 : Int32} {a1 a2 a3 a4 a5 a6 a7 a8 a9 a10 a11 a12 a13 a14 a15 a16 a17 a18 a19 a20 a21 a22 a23 a24 : Nat → Int32} {c n : Nat} (hc : c < 12) (hn : n < 100) (h0 : 0 < n) (hB1 : ∀ j, j < 12 → vp_nar .byte (a1 j) = a1 j) (hB2 : ∀ j, j < 12 → vp_nar .byte (a2 j) = a2 j) (h12 : a12 0 = 0) (h3 : a3 0 = nI 0) (h4 : a4 0 = 0) (h5 : a5 0 = nI c)
    (H : ∀ m, m = min n (12 - c) → post (0, f1, f2, tm_em (tm_so a1 c (12 - m) m) (12 - m) 12 32, tm_em (tm_so a2 c (12 - m) m) (12 - m) 12 0, a3, a4, a5, a6, a7, a8, a9, a10, a11, a12, a13, a14, a15, a16, a17, a18, a19, a20, a21, a22, a23, a24)) : wpX_shiftCells post (0, f1, f2, a1, a2, a3, a4, a5, a6, a7, a8, a9, a10, a11, a12, a13, a14, a15, a16, a17, a18, a19, a20, a21, a22, a23, a24) 0 (nI n) :=
  And.intro tm_in0 (nm_r (tm_g0 h4) (tm_line0 rfl h12 h3 (And.intro tm_in0 (nm_r (tm_g0 h5) (tm_lesser (b := 12 - c) rfl (pk_sub (a := 12) (by omega)) (by omega) (by omega) (br_t rfl (tm_sc95 (by omega) (by omega) h12 h3 hB1 hB2 rfl rfl (H _ rfl))))))))
/-- the last byte of a list of numbers: behind the known ones the cursor waits no more, and the first number is read -/
def tm_one (p : Nat) : Nat := if p = 0 then 1 else p
theorem tm_lb198 {post : St1 → Prop} {f1 f2 : Int32} {a1 a2 a3 a4 a5 a6 a7 a8 a9 a10 a11 a12 a13 a14 a15 a16 a17 a18 a19 a20 a21 a22 a23 a24 : Nat → Int32} {b : Int32} {p : Nat} (hp : p < 100) (h22 : a22 0 = 1) (h23 : a23 0 = nI p) (H : wX_lastByte_232 post b (nI p) (nI (tm_one p)) 0 f1 f2 a1 a2 a3 a4 a5 (upd a6 0 0) a7 a8 a9 a10 a11 a12 a13 a14 a15 a16 a17 a18 a19 a20 a21 a22 a23 a24) : wX_lastByte_198 post b 1 0 f1 f2 a1 a2 a3 a4 a5 a6 a7 a8 a9 a10 a11 a12 a13 a14 a15 a16 a17 a18 a19 a20 a21 a22 a23 a24 := by
  refine br_f (by decide) ⟨tm_in0, nm_r (tm_u0 rfl) (tm_number h22 h23 (pk_eq p 0 (fun z => ?_) (fun z => ?_)))⟩
  · unfold tm_one at H
    rw [if_pos z] at H
    exact H
  · unfold tm_one at H
    rw [if_neg z] at H
    exact H
theorem tm_lb67 {post : St1 → Prop} {f1 f2 : Int32} {a1 a2 a3 a4 a5 a6 a7 a8 a9 a10 a11 a12 a13 a14 a15 a16 a17 a18 a19 a20 a21 a22 a23 a24 : Nat → Int32} {p : Nat} (hp : p < 100) (h21 : a21 0 = 0) (h22 : a22 0 = 1) (h23 : a23 0 = nI p) (H : wpX_travel post (0, f1, f2, a1, a2, a3, a4, a5, upd a6 0 0, a7, a8, a9, a10, a11, a12, a13, a14, a15, a16, a17, a18, a19, a20, a21, a22, a23, a24) 67 (nI (tm_one p))) : wpX_lastByte post (0, f1, f2, a1, a2, a3, a4, a5, a6, a7, a8, a9, a10, a11, a12, a13, a14, a15, a16, a17, a18, a19, a20, a21, a22, a23, a24) 67 :=
  And.intro tm_in0 (br_t (tm_g0 h21) (br_f (by decide) (br_f (by decide) (br_f (by decide) (br_f (by decide) (br_f (by decide) (br_t (by decide) (br_f (by decide) (tm_lb198 hp h22 h23 (br_f (by decide) (br_t (by decide) H)))))))))))
theorem tm_lb68 {post : St1 → Prop} {f1 f2 : Int32} {a1 a2 a3 a4 a5 a6 a7 a8 a9 a10 a11 a12 a13 a14 a15 a16 a17 a18 a19 a20 a21 a22 a23 a24 : Nat → Int32} {p : Nat} (hp : p < 100) (h21 : a21 0 = 0) (h22 : a22 0 = 1) (h23 : a23 0 = nI p) (H : wpX_travel post (0, f1, f2, a1, a2, a3, a4, a5, upd a6 0 0, a7, a8, a9, a10, a11, a12, a13, a14, a15, a16, a17, a18, a19, a20, a21, a22, a23, a24) 68 (nI (tm_one p))) : wpX_lastByte post (0, f1, f2, a1, a2, a3, a4, a5, a6, a7, a8, a9, a10, a11, a12, a13, a14, a15, a16, a17, a18, a19, a20, a21, a22, a23, a24) 68 :=
  And.intro tm_in0 (br_t (tm_g0 h21) (br_f (by decide) (br_f (by decide) (br_f (by decide) (br_f (by decide) (br_f (by decide) (br_t (by decide) (br_f (by decide) (tm_lb198 hp h22 h23 (br_f (by decide) (br_t (by decide) H)))))))))))
theorem tm_lb71 {post : St1 → Prop} {f1 f2 : Int32} {a1 a2 a3 a4 a5 a6 a7 a8 a9 a10 a11 a12 a13 a14 a15 a16 a17 a18 a19 a20 a21 a22 a23 a24 : Nat → Int32} {p : Nat} (hp : p < 100) (h21 : a21 0 = 0) (h22 : a22 0 = 1) (h23 : a23 0 = nI p) (H : wpX_travel post (0, f1, f2, a1, a2, a3, a4, a5, upd a6 0 0, a7, a8, a9, a10, a11, a12, a13, a14, a15, a16, a17, a18, a19, a20, a21, a22, a23, a24) 71 (nI (tm_one p))) : wpX_lastByte post (0, f1, f2, a1, a2, a3, a4, a5, a6, a7, a8, a9, a10, a11, a12, a13, a14, a15, a16, a17, a18, a19, a20, a21, a22, a23, a24) 71 :=
  And.intro tm_in0 (br_t (tm_g0 h21) (br_f (by decide) (br_f (by decide) (br_f (by decide) (br_f (by decide) (br_f (by decide) (br_f (by decide) (br_t rfl (br_f (by decide) (tm_lb198 hp h22 h23 (br_f (by decide) (br_t (by decide) H))))))))))))
theorem tm_lb75 {post : St1 → Prop} {f1 f2 : Int32} {a1 a2 a3 a4 a5 a6 a7 a8 a9 a10 a11 a12 a13 a14 a15 a16 a17 a18 a19 a20 a21 a22 a23 a24 : Nat → Int32} {p : Nat} (hp : p < 100) (h21 : a21 0 = 0) (h22 : a22 0 = 1) (h23 : a23 0 = nI p) (H : wpX_erase post (0, f1, f2, a1, a2, a3, a4, a5, upd a6 0 0, a7, a8, a9, a10, a11, a12, a13, a14, a15, a16, a17, a18, a19, a20, a21, a22, a23, a24) 75 (nI p) (nI (tm_one p))) : wpX_lastByte post (0, f1, f2, a1, a2, a3, a4, a5, a6, a7, a8, a9, a10, a11, a12, a13, a14, a15, a16, a17, a18, a19, a20, a21, a22, a23, a24) 75 :=
  And.intro tm_in0 (br_t (tm_g0 h21) (br_f (by decide) (br_f (by decide) (br_f (by decide) (br_f (by decide) (br_f (by decide) (br_f (by decide) (br_f (by decide) (br_f (by decide) (br_f (by decide) (br_f (by decide) (br_f (by decide) (tm_lb198 hp h22 h23 (br_f (by decide) (br_f (by decide) (br_f (by decide) (br_f (by decide) (br_t rfl H))))))))))))))))))
theorem tm_lb88 {post : St1 → Prop} {f1 f2 : Int32} {a1 a2 a3 a4 a5 a6 a7 a8 a9 a10 a11 a12 a13 a14 a15 a16 a17 a18 a19 a20 a21 a22 a23 a24 : Nat → Int32} {p : Nat} (hp : p < 100) (h21 : a21 0 = 0) (h22 : a22 0 = 1) (h23 : a23 0 = nI p) (H : wpX_erase post (0, f1, f2, a1, a2, a3, a4, a5, upd a6 0 0, a7, a8, a9, a10, a11, a12, a13, a14, a15, a16, a17, a18, a19, a20, a21, a22, a23, a24) 88 (nI p) (nI (tm_one p))) : wpX_lastByte post (0, f1, f2, a1, a2, a3, a4, a5, a6, a7, a8, a9, a10, a11, a12, a13, a14, a15, a16, a17, a18, a19, a20, a21, a22, a23, a24) 88 :=
  And.intro tm_in0 (br_t (tm_g0 h21) (br_f (by decide) (br_f (by decide) (br_f (by decide) (br_f (by decide) (br_f (by decide) (br_f (by decide) (br_f (by decide) (br_f (by decide) (br_f (by decide) (br_t (by decide) (br_t rfl (br_f (by decide) (br_f (by decide) (br_f (by decide) (br_t rfl (tm_lb198 hp h22 h23 (br_f (by decide) (br_f (by decide) (br_f (by decide) (br_f (by decide) (br_f (by decide) (br_t rfl H)))))))))))))))))))))))
theorem tm_lb80 {post : St1 → Prop} {f1 f2 : Int32} {a1 a2 a3 a4 a5 a6 a7 a8 a9 a10 a11 a12 a13 a14 a15 a16 a17 a18 a19 a20 a21 a22 a23 a24 : Nat → Int32} {p : Nat} (hp : p < 100) (h21 : a21 0 = 0) (h22 : a22 0 = 1) (h23 : a23 0 = nI p) (H : wpX_shiftCells post (0, f1, f2, a1, a2, a3, a4, a5, upd a6 0 0, a7, a8, a9, a10, a11, a12, a13, a14, a15, a16, a17, a18, a19, a20, a21, a22, a23, a24) 0 (nI (tm_one p))) : wpX_lastByte post (0, f1, f2, a1, a2, a3, a4, a5, a6, a7, a8, a9, a10, a11, a12, a13, a14, a15, a16, a17, a18, a19, a20, a21, a22, a23, a24) 80 :=
  And.intro tm_in0 (br_t (tm_g0 h21) (br_f (by decide) (br_f (by decide) (br_f (by decide) (br_f (by decide) (br_f (by decide) (br_f (by decide) (br_f (by decide) (br_f (by decide) (br_f (by decide) (br_t (by decide) (br_t rfl (br_t rfl (tm_lb198 hp h22 h23 (br_f (by decide) (br_f (by decide) (br_f (by decide) (br_f (by decide) (br_f (by decide) (br_f (by decide) (br_f (by decide) (br_t rfl (br_f (by decide) H)))))))))))))))))))))))
theorem tm_lb64 {post : St1 → Prop} {f1 f2 : Int32} {a1 a2 a3 a4 a5 a6 a7 a8 a9 a10 a11 a12 a13 a14 a15 a16 a17 a18 a19 a20 a21 a22 a23 a24 : Nat → Int32} {p : Nat} (hp : p < 100) (h21 : a21 0 = 0) (h22 : a22 0 = 1) (h23 : a23 0 = nI p) (H : wpX_shiftCells post (0, f1, f2, a1, a2, a3, a4, a5, upd a6 0 0, a7, a8, a9, a10, a11, a12, a13, a14, a15, a16, a17, a18, a19, a20, a21, a22, a23, a24) 1 (nI (tm_one p))) : wpX_lastByte post (0, f1, f2, a1, a2, a3, a4, a5, a6, a7, a8, a9, a10, a11, a12, a13, a14, a15, a16, a17, a18, a19, a20, a21, a22, a23, a24) 64 :=
  And.intro tm_in0 (br_t (tm_g0 h21) (br_f (by decide) (br_f (by decide) (br_f (by decide) (br_t rfl (br_f (by decide) (tm_lb198 hp h22 h23 (br_t (by decide) (br_f (by decide) (br_f (by decide) (br_f (by decide) (br_f (by decide) (br_t rfl (br_t rfl H))))))))))))))
theorem tm_lbIns1 {post : St1 → Prop} {f1 f2 : Int32} {a1 a2 a3 a4 a5 a6 a7 a8 a9 a10 a11 a12 a13 a14 a15 a16 a17 a18 a19 a20 a21 a22 a23 a24 : Nat → Int32} (h21 : a21 0 = 0) (h22 : a22 0 = 1) (h23 : a23 0 = nI 4) (H : post (0, f1, f2, a1, a2, a3, a4, a5, a6, a7, a8, a9, upd a10 0 1, a11, a12, a13, a14, a15, a16, a17, a18, a19, a20, a21, a22, a23, a24)) : wpX_lastByte post (0, f1, f2, a1, a2, a3, a4, a5, a6, a7, a8, a9, a10, a11, a12, a13, a14, a15, a16, a17, a18, a19, a20, a21, a22, a23, a24) 104 :=
  And.intro tm_in0 (br_t (tm_g0 h21) (br_f (by decide) (br_t rfl (tm_number h22 h23 (br_t rfl (br_t rfl ⟨tm_in0, nm_r (tm_u0 rfl) H⟩))))))
theorem tm_lbIns0 {post : St1 → Prop} {f1 f2 : Int32} {a1 a2 a3 a4 a5 a6 a7 a8 a9 a10 a11 a12 a13 a14 a15 a16 a17 a18 a19 a20 a21 a22 a23 a24 : Nat → Int32} (h21 : a21 0 = 0) (h22 : a22 0 = 1) (h23 : a23 0 = nI 4) (H : post (0, f1, f2, a1, a2, a3, a4, a5, a6, a7, a8, a9, upd a10 0 0, a11, a12, a13, a14, a15, a16, a17, a18, a19, a20, a21, a22, a23, a24)) : wpX_lastByte post (0, f1, f2, a1, a2, a3, a4, a5, a6, a7, a8, a9, a10, a11, a12, a13, a14, a15, a16, a17, a18, a19, a20, a21, a22, a23, a24) 108 :=
  And.intro tm_in0 (br_t (tm_g0 h21) (br_f (by decide) (br_f (by decide) (br_t rfl (tm_number h22 h23 (br_t rfl (br_f (by decide) ⟨tm_in0, nm_r (tm_u0 rfl) H⟩)))))))
theorem tm_sm {post : St1 → Prop} {f1 f2 : Int32} {a1 a2 a3 a4 a5 a6 a7 a8 a9 a10 a11 a12 a13 a14 a15 a16 a17 a18 a19 a20 a21 a22 a23 a24 : Nat → Int32} {w w' : Int32} (hw : vp_nar .boolean w = w') (h22 : a22 0 = 1) (h23 : a23 0 = nI 7) (H : post (0, f1, f2, a1, a2, a3, a4, a5, a6, a7, a8, a9, a10, upd a11 0 w', a12, a13, a14, a15, a16, a17, a18, a19, a20, a21, a22, a23, a24)) : wpX_switchMode post (0, f1, f2, a1, a2, a3, a4, a5, a6, a7, a8, a9, a10, a11, a12, a13, a14, a15, a16, a17, a18, a19, a20, a21, a22, a23, a24) w := by
  unfold wpX_switchMode
  exact tm_number h22 h23 (br_t rfl ⟨tm_in0, nm_r (tm_u0 hw) H⟩)
theorem tm_lbWr1 {post : St1 → Prop} {f1 f2 : Int32} {a1 a2 a3 a4 a5 a6 a7 a8 a9 a10 a11 a12 a13 a14 a15 a16 a17 a18 a19 a20 a21 a22 a23 a24 : Nat → Int32} (h21 : a21 0 = 1) (h22 : a22 0 = 1) (h23 : a23 0 = nI 7) (H : post (0, f1, f2, a1, a2, a3, a4, a5, a6, a7, a8, a9, a10, upd a11 0 1, a12, a13, a14, a15, a16, a17, a18, a19, a20, a21, a22, a23, a24)) : wpX_lastByte post (0, f1, f2, a1, a2, a3, a4, a5, a6, a7, a8, a9, a10, a11, a12, a13, a14, a15, a16, a17, a18, a19, a20, a21, a22, a23, a24) 104 :=
  And.intro tm_in0 (br_f (by rw [tm_g0 h21]; decide) (br_t rfl (br_t rfl (tm_sm tm_no h22 h23 H))))
theorem tm_lbWr0 {post : St1 → Prop} {f1 f2 : Int32} {a1 a2 a3 a4 a5 a6 a7 a8 a9 a10 a11 a12 a13 a14 a15 a16 a17 a18 a19 a20 a21 a22 a23 a24 : Nat → Int32} (h21 : a21 0 = 1) (h22 : a22 0 = 1) (h23 : a23 0 = nI 7) (H : post (0, f1, f2, a1, a2, a3, a4, a5, a6, a7, a8, a9, a10, upd a11 0 0, a12, a13, a14, a15, a16, a17, a18, a19, a20, a21, a22, a23, a24)) : wpX_lastByte post (0, f1, f2, a1, a2, a3, a4, a5, a6, a7, a8, a9, a10, a11, a12, a13, a14, a15, a16, a17, a18, a19, a20, a21, a22, a23, a24) 108 :=
  And.intro tm_in0 (br_f (by rw [tm_g0 h21]; decide) (br_f (by decide) (br_t rfl (br_f (by decide) (tm_sm tm_nz h22 h23 H)))))
end
section
theorem tm_r27 {post : St1 → Prop} {f0 f1 f2 : Int32} {a1 a2 a3 a4 a5 a6 a7 a8 a9 a10 a11 a12 a13 a14 a15 a16 a17 a18 a19 a20 a21 a22 a23 a24 : Nat → Int32} (h20 : a20 0 = 0) (H : post (0, f1, f2, a1, a2, a3, a4, a5, a6, a7, a8, a9, a10, a11, a12, a13, a14, a15, a16, a17, a18, a19, upd a20 0 1, a21, a22, a23, a24)) : wpX_read post (f0, f1, f2, a1, a2, a3, a4, a5, a6, a7, a8, a9, a10, a11, a12, a13, a14, a15, a16, a17, a18, a19, a20, a21, a22, a23, a24) 0 27 :=
  And.intro tm_in0 (nm_r (tm_g0 h20) (br_t rfl (br_t rfl ⟨tm_in0, nm_r (tm_u0 (v' := 1) (by decide)) (br_f (by decide) (br_f (by decide) (br_f (by decide) (br_f (by decide) (br_f (by decide) (br_f (by decide) (br_f (by decide) (br_f (by decide) H))))))))⟩)))
theorem tm_r91 {post : St1 → Prop} {f0 f1 f2 : Int32} {a1 a2 a3 a4 a5 a6 a7 a8 a9 a10 a11 a12 a13 a14 a15 a16 a17 a18 a19 a20 a21 a22 a23 a24 : Nat → Int32} (h20 : a20 0 = 1) (H : post (0, f1, f2, a1, a2, a3, a4, a5, a6, a7, a8, a9, a10, a11, a12, a13, a14, a15, a16, a17, a18, a19, upd a20 0 2, upd a21 0 0, upd a22 0 1, upd a23 0 0, a24)) : wpX_read post (f0, f1, f2, a1, a2, a3, a4, a5, a6, a7, a8, a9, a10, a11, a12, a13, a14, a15, a16, a17, a18, a19, a20, a21, a22, a23, a24) 0 91 :=
  And.intro tm_in0 (nm_r (tm_g0 h20) (br_f (by decide) (br_f (by decide) (br_t rfl (br_t rfl (br_f (by decide) (br_t rfl ⟨tm_in0, nm_r (tm_u0 (v' := 2) (by decide)) (br_f (by decide) (br_f (by decide) (br_t rfl ⟨tm_in0, nm_r (tm_u0 rfl) ⟨tm_in0, nm_r (tm_u0 rfl) ⟨pk_in 0 8 (by decide) (by decide), nm_r (tm_u0 rfl) H⟩⟩⟩)))⟩)))))))
theorem tm_dg : ∀ d, d < 10 → ¬ nI (48 + d) = 27 ∧ ¬ nI (48 + d) < 48 ∧ ¬ 57 < nI (48 + d) ∧ nI (48 + d) - 48 = nI d ∧ 10 * nI 0 + nI d = nI d := by decide +kernel
theorem tm_digit {post : St1 → Prop} {f1 f2 : Int32} {a1 a2 a3 a4 a5 a6 a7 a8 a9 a10 a11 a12 a13 a14 a15 a16 a17 a18 a19 a20 a21 a22 a23 a24 : Nat → Int32} {x : Int32} {d : Nat} (hx : x = nI d) (hd : d < 10) (h22 : a22 0 = 1) (h23 : a23 0 = nI 0) (H : post (0, f1, f2, a1, a2, a3, a4, a5, a6, a7, a8, a9, a10, a11, a12, a13, a14, a15, a16, a17, a18, a19, a20, a21, a22, upd a23 0 (nI d), a24)) : wpX_addDigit post (0, f1, f2, a1, a2, a3, a4, a5, a6, a7, a8, a9, a10, a11, a12, a13, a14, a15, a16, a17, a18, a19, a20, a21, a22, a23, a24) x := by
  subst hx
  refine And.intro tm_in0 (nm_r (tm_g0 h22) (br_f (by decide) (nm_r (e' := (0 : Int32)) (by decide) ⟨pk_in 0 8 (by decide) rfl, nm_r (e' := nI d) ?_ (pk_le d 99 (fun _ => ⟨pk_in 0 8 (by decide) rfl, nm_r (tm_u0 (tm_b8 d (by omega))) H⟩) (fun z => absurd z (by omega)))⟩)))
  rw [tm_g0 h23]
  exact (tm_dg d hd).2.2.2.2
theorem tm_rdig {post : St1 → Prop} {f0 f1 f2 : Int32} {a1 a2 a3 a4 a5 a6 a7 a8 a9 a10 a11 a12 a13 a14 a15 a16 a17 a18 a19 a20 a21 a22 a23 a24 : Nat → Int32} {st x : Int32} {d : Nat} (hx : x = nI (48 + d)) (hd : d < 10) (s0 : ¬ st = 0) (s1 : ¬ st = 1) (h20 : a20 0 = st) (h22 : a22 0 = 1) (h23 : a23 0 = nI 0) (H : post (0, f1, f2, a1, a2, a3, a4, a5, a6, a7, a8, a9, a10, a11, a12, a13, a14, a15, a16, a17, a18, a19, upd a20 0 3, a21, a22, upd a23 0 (nI d), a24)) : wpX_read post (f0, f1, f2, a1, a2, a3, a4, a5, a6, a7, a8, a9, a10, a11, a12, a13, a14, a15, a16, a17, a18, a19, a20, a21, a22, a23, a24) 0 x := by
  subst hx
  obtain ⟨g1, g2, g3, g4, _⟩ := tm_dg d hd
  exact And.intro tm_in0 (nm_r (tm_g0 h20) (br_f g1 (br_f s0 (br_f s1 (br_f g2 (br_f g3 (br_f (by decide) (br_f (by decide) (br_f (by decide) (br_f (by decide) ⟨tm_in0, nm_r (tm_u0 (v' := 3) (by decide)) (br_f (by decide) (br_f (by decide) (br_f (by decide) (br_f (by decide) (br_t rfl (tm_digit g4 hd h22 h23 H))))))⟩))))))))))
theorem tm_r63 {post : St1 → Prop} {f0 f1 f2 : Int32} {a1 a2 a3 a4 a5 a6 a7 a8 a9 a10 a11 a12 a13 a14 a15 a16 a17 a18 a19 a20 a21 a22 a23 a24 : Nat → Int32} (h20 : a20 0 = 2) (H : post (0, f1, f2, a1, a2, a3, a4, a5, a6, a7, a8, a9, a10, a11, a12, a13, a14, a15, a16, a17, a18, a19, upd a20 0 3, upd a21 0 1, a22, a23, a24)) : wpX_read post (f0, f1, f2, a1, a2, a3, a4, a5, a6, a7, a8, a9, a10, a11, a12, a13, a14, a15, a16, a17, a18, a19, a20, a21, a22, a23, a24) 0 63 :=
  And.intro tm_in0 (nm_r (tm_g0 h20) (br_f (by decide) (br_f (by decide) (br_f (by decide) (br_f (by decide) (br_t (by decide) (br_f (by decide) (br_t (by decide) (br_t rfl (br_t rfl (br_f (by decide) (br_f (by decide) (br_f (by decide) (br_f (by decide) ⟨tm_in0, nm_r (tm_u0 (v' := 3) (by decide)) (br_f (by decide) (br_f (by decide) (br_f (by decide) (br_t rfl ⟨tm_in0, nm_r (tm_u0 rfl) H⟩))))⟩))))))))))))))
theorem tm_rlast {post : St1 → Prop} {f0 f1 f2 : Int32} {a1 a2 a3 a4 a5 a6 a7 a8 a9 a10 a11 a12 a13 a14 a15 a16 a17 a18 a19 a20 a21 a22 a23 a24 : Nat → Int32} {b : Int32} (b1 : ¬ b = 27) (b2 : ¬ b < 48) (b3 : 57 < b) (b4 : ¬ b = 59) (b5 : ¬ b < 64) (b6 : ¬ 127 ≤ b) (h20 : a20 0 = 3) (H : wpX_lastByte post (0, f1, f2, a1, a2, a3, a4, a5, a6, a7, a8, a9, a10, a11, a12, a13, a14, a15, a16, a17, a18, a19, upd a20 0 0, a21, a22, a23, a24) b) : wpX_read post (f0, f1, f2, a1, a2, a3, a4, a5, a6, a7, a8, a9, a10, a11, a12, a13, a14, a15, a16, a17, a18, a19, a20, a21, a22, a23, a24) 0 b :=
  And.intro tm_in0 (nm_r (tm_g0 h20) (br_f b1 (br_f (by decide) (br_f (by decide) (br_f b2 (br_t b3 (br_f b4 (br_f b5 (br_f b6 (br_f (by decide) (br_f (by decide) (br_f (by decide) (br_t (by decide) ⟨tm_in0, nm_r (tm_u0 (v' := 0) (by decide)) (br_f (by decide) (br_f (by decide) (br_f (by decide) (br_f (by decide) (br_f (by decide) (br_f (by decide) (br_f (by decide) (br_t rfl H))))))))⟩)))))))))))))
theorem tm_rsign {post : St1 → Prop} {f0 f1 f2 : Int32} {a1 a2 a3 a4 a5 a6 a7 a8 a9 a10 a11 a12 a13 a14 a15 a16 a17 a18 a19 a20 a21 a22 a23 a24 : Nat → Int32} {b : Int32} (b1 : ¬ b = 27) (b2 : ¬ b < 32) (b3 : ¬ 127 ≤ b) (h20 : a20 0 = 0) (H : wpX_putSign post (0, f1, f2, a1, a2, a3, a4, a5, a6, a7, a8, a9, a10, a11, a12, a13, a14, a15, a16, a17, a18, a19, upd a20 0 0, a21, a22, a23, a24) b) : wpX_read post (f0, f1, f2, a1, a2, a3, a4, a5, a6, a7, a8, a9, a10, a11, a12, a13, a14, a15, a16, a17, a18, a19, a20, a21, a22, a23, a24) 0 b :=
  And.intro tm_in0 (nm_r (tm_g0 h20) (br_f b1 (br_t rfl (br_f b2 (br_f b3 (br_f (by decide) (br_f (by decide) (br_t (by decide) ⟨tm_in0, nm_r (tm_u0 (v' := 0) (by decide)) (br_t rfl H)⟩))))))))
theorem tm_rctl {post : St1 → Prop} {f0 f1 f2 : Int32} {a1 a2 a3 a4 a5 a6 a7 a8 a9 a10 a11 a12 a13 a14 a15 a16 a17 a18 a19 a20 a21 a22 a23 a24 : Nat → Int32} {b : Int32} (b1 : ¬ b = 27) (b2 : b < 32) (b3 : ¬ b < 8) (b4 : ¬ 13 < b) (h20 : a20 0 = 0) (H : wpX_control post (0, f1, f2, a1, a2, a3, a4, a5, a6, a7, a8, a9, a10, a11, a12, a13, a14, a15, a16, a17, a18, a19, upd a20 0 0, a21, a22, a23, a24) b) : wpX_read post (f0, f1, f2, a1, a2, a3, a4, a5, a6, a7, a8, a9, a10, a11, a12, a13, a14, a15, a16, a17, a18, a19, a20, a21, a22, a23, a24) 0 b :=
  And.intro tm_in0 (nm_r (tm_g0 h20) (br_f b1 (br_t rfl (br_t b2 (br_f b3 (br_f b4 (br_f (by decide) (br_f (by decide) (br_t (by decide) ⟨tm_in0, nm_r (tm_u0 (v' := 0) (by decide)) (br_f (by decide) (br_t rfl H))⟩)))))))))
/-- a byte is fed -/
theorem tm_feed {post : Int32 → St1 → Prop} {u : St1} {b : Int32} (h1 : ¬ b < 0) (h2 : b ≤ 127) (H : wpX_read (post 1) u 0 b) : wpX_feed post u b := by
  obtain ⟨f0, f1, f2, a1, a2, a3, a4, a5, a6, a7, a8, a9, a10, a11, a12, a13, a14, a15, a16, a17, a18, a19, a20, a21, a22, a23, a24⟩ := u
  exact br_f h1 (br_t h2 H)
theorem tm_feed3 {post : Int32 → St1 → Prop} {u : St1} {b : Int32} (h1 : ¬ b < 0) (h2 : b ≤ 2097151)
    (H : wpX_read (fun u => wpX_read (fun u => wpX_read (post 1) u 0 (b >>> ((14 : Int32) &&& 31))) u 0 ((b >>> ((7 : Int32) &&& 31)) &&& 127)) u 0 (b &&& 127)) : wpX_feedThree post u b := by
  obtain ⟨f0, f1, f2, a1, a2, a3, a4, a5, a6, a7, a8, a9, a10, a11, a12, a13, a14, a15, a16, a17, a18, a19, a20, a21, a22, a23, a24⟩ := u
  exact br_f h1 (br_t h2 H)
end
section
theorem tm_A_congr {R R' : Nat → Nat} {a1 a2 a3 a12 : Nat → Int32} (h : tm_A R a1 a2 a3 a12) (e : ∀ i, i < 12 → R' i = R i) : tm_A R' a1 a2 a3 a12 := by
  obtain ⟨h1, h2, h3⟩ := h
  exact ⟨fun i hi => by rw [e i hi]; exact h1 i hi, fun i hi => by rw [e i hi]; exact h2 i hi, h3⟩
theorem tm_sgp {v : Nat} (h : 0 < v) : nI (64 + v) = tm_sg v := by
  unfold tm_sg
  rw [if_neg (by omega)]
theorem tm_A_put {R : Nat → Nat} {a1 a2 a3 a12 : Nat → Int32} {c v : Nat} (h : tm_A R a1 a2 a3 a12) (hc : c < 12) (h0 : 0 < v) (hv : v < 16) : tm_A (tm_pPut R c v) (upd a1 c (nI (64 + v))) (upd a2 c 0) a3 a12 := by
  obtain ⟨h1, h2, h3, h4, h5⟩ := h
  refine ⟨fun i hi => ?_, fun i hi => ?_, fun j g1 g2 => ?_, fun j g => ?_, h5⟩
  · unfold tm_pPut
    split
    · exact hv
    · exact h1 i hi
  · unfold tm_pPut
    by_cases e : i = c
    · rw [if_pos e, e, pk_us]
      exact tm_sgp h0
    · rw [if_neg e, pk_un e]
      exact h2 i hi
  · rw [pk_un (by omega)]
    exact h3 j g1 g2
  · by_cases e : j = c
    · rw [e, pk_us]
    · rw [pk_un e]
      exact h4 j g
theorem tm_A_shp {R : Nat → Nat} {a1 a2 a3 a12 : Nat → Int32} {c v : Nat} (h : tm_A R a1 a2 a3 a12) (hc : c < 12) (h0 : 0 < v) (hv : v < 16) : tm_A (tm_pPut (tm_pIn R c 1) c v) (upd (tm_sh a1 (c + 1) 12 1) c (nI (64 + v))) (upd (tm_sh a2 (c + 1) 12 1) c 0) a3 a12 := by
  obtain ⟨h1, h2, h3, h4, h5⟩ := h
  refine ⟨fun i hi => ?_, fun i hi => ?_, fun j g1 g2 => ?_, fun j g => ?_, h5⟩
  · unfold tm_pPut tm_pIn
    split
    · exact hv
    · split
      · exact h1 i hi
      · split
        · decide
        · exact h1 _ (by omega)
  · unfold tm_pPut
    by_cases e : i = c
    · rw [if_pos e, e, pk_us]
      exact tm_sgp h0
    · rw [if_neg e, pk_un e]
      unfold tm_pIn tm_sh
      by_cases g : i < c
      · rw [if_pos g, if_neg (by omega)]
        exact h2 i hi
      · rw [if_neg g, if_neg (show ¬ i < c + 1 by omega), if_pos (show c + 1 ≤ i ∧ i < 12 by omega)]
        exact h2 _ (by omega)
  · rw [pk_un (by omega)]
    unfold tm_sh
    rw [if_neg (by omega)]
    exact h3 j g1 g2
  · by_cases e : j = c
    · rw [e, pk_us]
    · rw [pk_un e]
      unfold tm_sh
      split
      · exact h4 _ (by omega)
      · exact h4 j g
theorem tm_A_in {R : Nat → Nat} {a1 a2 a3 a12 : Nat → Int32} {c m n : Nat} (h : tm_A R a1 a2 a3 a12) (hc : c < 12) (hm : m = min n (12 - c)) : tm_A (tm_pIn R c n) (tm_em (tm_sh a1 (c + m) 12 m) c (c + m) 32) (tm_em (tm_sh a2 (c + m) 12 m) c (c + m) 0) a3 a12 := by
  obtain ⟨h1, h2, h3, h4, h5⟩ := h
  refine ⟨fun i hi => ?_, fun i hi => ?_, fun j g1 g2 => ?_, fun j g => ?_, h5⟩
  · unfold tm_pIn
    split
    · exact h1 i hi
    · split
      · decide
      · exact h1 _ (by omega)
  · unfold tm_pIn tm_em tm_sh
    by_cases g : i < c
    · rw [if_pos g, if_neg (by omega), if_neg (by omega)]
      exact h2 i hi
    · rw [if_neg g]
      by_cases g2 : i < c + n
      · rw [if_pos g2, if_pos (by omega)]
        rfl
      · rw [if_neg g2, if_neg (by omega), if_pos (by omega), show i - m = i - n by omega]
        exact h2 _ (by omega)
  · unfold tm_em tm_sh
    rw [if_neg (by omega), if_neg (by omega)]
    exact h3 j g1 g2
  · unfold tm_em tm_sh
    split
    · rfl
    · split
      · exact h4 _ (by omega)
      · exact h4 j g
theorem tm_A_out {R : Nat → Nat} {a1 a2 a3 a12 : Nat → Int32} {c m n : Nat} (h : tm_A R a1 a2 a3 a12) (hc : c < 12) (hm : m = min n (12 - c)) : tm_A (tm_pOut R c n) (tm_em (tm_so a1 c (12 - m) m) (12 - m) 12 32) (tm_em (tm_so a2 c (12 - m) m) (12 - m) 12 0) a3 a12 := by
  obtain ⟨h1, h2, h3, h4, h5⟩ := h
  refine ⟨fun i hi => ?_, fun i hi => ?_, fun j g1 g2 => ?_, fun j g => ?_, h5⟩
  · unfold tm_pOut
    split
    · exact h1 i hi
    · split
      · exact h1 _ (by omega)
      · decide
  · unfold tm_pOut tm_em tm_so
    by_cases g : i < c
    · rw [if_pos g, if_neg (by omega), if_neg (by omega)]
      exact h2 i hi
    · rw [if_neg g]
      by_cases g2 : i + n < 12
      · rw [if_pos g2, if_neg (by omega), if_pos (by omega), show i + m = i + n by omega]
        exact h2 _ (by omega)
      · rw [if_neg g2, if_pos (by omega)]
        rfl
  · unfold tm_em tm_so
    rw [if_neg (by omega), if_neg (by omega)]
    exact h3 j g1 g2
  · unfold tm_em tm_so
    split
    · rfl
    · split
      · exact h4 _ (by omega)
      · exact h4 j g
theorem tm_A_em {R : Nat → Nat} {a1 a2 a3 a12 : Nat → Int32} {lo hi : Nat} (h : tm_A R a1 a2 a3 a12) (hh : hi ≤ 12) : tm_A (tm_pEm R lo hi) (tm_em a1 lo hi 32) (tm_em a2 lo hi 0) a3 a12 := by
  obtain ⟨h1, h2, h3, h4, h5⟩ := h
  refine ⟨fun i hi => ?_, fun i hi => ?_, fun j g1 g2 => ?_, fun j g => ?_, h5⟩
  · unfold tm_pEm
    split
    · decide
    · exact h1 i hi
  · unfold tm_pEm tm_em
    split
    · rfl
    · exact h2 i hi
  · unfold tm_em
    rw [if_neg (by omega)]
    exact h3 j g1 g2
  · unfold tm_em
    split
    · rfl
    · exact h4 j g
/-- what the parser has read: a question, the first number -/
def tm_P (q : Int32) (p : Nat) (u : St1) : Prop := match u with
  | (f0, f1, f2, a1, a2, a3, a4, a5, a6, a7, a8, a9, a10, a11, a12, a13, a14, a15, a16, a17, a18, a19, a20, a21, a22, a23, a24) => a21 0 = q ∧ a22 0 = 1 ∧ a23 0 = nI p
theorem tm_sgc : ∀ v, v < 16 → ¬ nI (64 + v) < 0 ∧ nI (64 + v) ≤ 127 ∧ ¬ nI (64 + v) = 27 ∧ ¬ nI (64 + v) < 32 ∧ ¬ 127 ≤ nI (64 + v) := by decide +kernel
theorem tm_Ks0 {post : Int32 → St1 → Prop} {u : St1} {R : Nat → Nat} {c v : Nat} {wr x : Int32} (hx : x = nI (64 + v)) (hK : tm_K R c 0 0 wr 0 u) (hc : c < 12) (h0 : 0 < v) (hv : v < 16) (hw : wr = 0 ∨ wr = 1)
    (H : ∀ u', tm_K (tm_pPut R c v) (min (c + 1) 11) (if c = 11 then wr else 0) 0 wr 0 u' → post 1 u') : wpX_feed post u x := by
  subst hx
  obtain ⟨f0, f1, f2, a1, a2, a3, a4, a5, a6, a7, a8, a9, a10, a11, a12, a13, a14, a15, a16, a17, a18, a19, a20, a21, a22, a23, a24⟩ := u
  obtain ⟨rfl, hA, h4, h5, h6, h7, h10, h11, h20⟩ := hK
  obtain ⟨c1, c2, c3, c4, c5⟩ := tm_sgc v hv
  have hA' := tm_A_put hA hc h0 hv
  obtain ⟨_, _, _, _, q5, _, q7, _⟩ := hA
  refine tm_feed c1 c2 (tm_rsign c3 c4 c5 h20 (tm_putSign0 rfl (by omega) hc q7 (q5 0 (by decide)) h4 h5 h6 h7 h10 h11 hw (fun e => H _ ?_) (fun e => H _ ?_)))
  · refine ⟨rfl, hA', h4, ?_, ?_, h7, h10, h11, pk_us⟩
    · rw [h5, e]
      rfl
    · rw [if_pos e]
      exact pk_us
  · refine ⟨rfl, hA', h4, ?_, ?_, h7, h10, h11, pk_us⟩
    · rw [show min (c + 1) 11 = c + 1 by omega]
      exact pk_us
    · rw [if_neg (by omega)]
      exact h6
theorem tm_Ks1 {post : Int32 → St1 → Prop} {u : St1} {R : Nat → Nat} {c v : Nat} {wr x : Int32} (hx : x = nI (64 + v)) (hK : tm_K R c 0 1 wr 0 u) (hc : c < 12) (h0 : 0 < v) (hv : v < 16) (hw : wr = 0 ∨ wr = 1)
    (H : ∀ u', tm_K (tm_pPut (tm_pIn R c 1) c v) (min (c + 1) 11) (if c = 11 then wr else 0) 1 wr 0 u' → post 1 u') : wpX_feed post u x := by
  subst hx
  obtain ⟨f0, f1, f2, a1, a2, a3, a4, a5, a6, a7, a8, a9, a10, a11, a12, a13, a14, a15, a16, a17, a18, a19, a20, a21, a22, a23, a24⟩ := u
  obtain ⟨rfl, hA, h4, h5, h6, h7, h10, h11, h20⟩ := hK
  obtain ⟨c1, c2, c3, c4, c5⟩ := tm_sgc v hv
  have hA' := tm_A_shp hA hc h0 hv
  have b1 := tm_A_b1 hA
  have b2 := tm_A_b2 hA
  obtain ⟨_, _, _, _, q5, _, q7, _⟩ := hA
  refine tm_feed c1 c2 (tm_rsign c3 c4 c5 h20 (tm_putSign1 rfl (by omega) hc b1 b2 q7 (q5 0 (by decide)) h4 h5 h6 h7 h10 h11 hw (fun e => H _ ?_) (fun e => H _ ?_)))
  · refine ⟨rfl, hA', h4, ?_, ?_, h7, h10, h11, pk_us⟩
    · rw [h5, e]
      rfl
    · rw [if_pos e]
      exact pk_us
  · refine ⟨rfl, hA', h4, ?_, ?_, h7, h10, h11, pk_us⟩
    · rw [show min (c + 1) 11 = c + 1 by omega]
      exact pk_us
    · rw [if_neg (by omega)]
      exact h6
theorem tm_K13 {post : Int32 → St1 → Prop} {u : St1} {R : Nat → Nat} {c : Nat} {wt ins wr : Int32} (hK : tm_K R c wt ins wr 0 u) (H : ∀ u', tm_K R 0 0 ins wr 0 u' → post 1 u') : wpX_feed post u 13 := by
  obtain ⟨f0, f1, f2, a1, a2, a3, a4, a5, a6, a7, a8, a9, a10, a11, a12, a13, a14, a15, a16, a17, a18, a19, a20, a21, a22, a23, a24⟩ := u
  obtain ⟨rfl, hA, h4, h5, h6, h7, h10, h11, h20⟩ := hK
  exact tm_feed (by decide) (by decide) (tm_rctl (by decide) (by decide) (by decide) (by decide) h20 (tm_ctl13 (H _ ⟨rfl, hA, h4, pk_us, pk_us, h7, h10, h11, pk_us⟩)))
theorem tm_K8 {post : Int32 → St1 → Prop} {u : St1} {R : Nat → Nat} {c : Nat} {wt ins wr : Int32} (hc : c < 12) (hK : tm_K R c wt ins wr 0 u) (H : ∀ u', tm_K R (c - 1) 0 ins wr 0 u' → post 1 u') : wpX_feed post u 8 := by
  obtain ⟨f0, f1, f2, a1, a2, a3, a4, a5, a6, a7, a8, a9, a10, a11, a12, a13, a14, a15, a16, a17, a18, a19, a20, a21, a22, a23, a24⟩ := u
  obtain ⟨rfl, hA, h4, h5, h6, h7, h10, h11, h20⟩ := hK
  exact tm_feed (by decide) (by decide) (tm_rctl (by decide) (by decide) (by decide) (by decide) h20 (tm_ctl8 h5 hc (H _ ⟨rfl, hA, h4, pk_us, pk_us, h7, h10, h11, pk_us⟩)))
theorem tm_K9 {post : Int32 → St1 → Prop} {u : St1} {R : Nat → Nat} {c : Nat} {wt ins wr : Int32} (hc : c < 12) (hK : tm_K R c wt ins wr 0 u) (H : ∀ u', tm_K R (min ((c / 4 + 1) * 4) 11) 0 ins wr 0 u' → post 1 u') : wpX_feed post u 9 := by
  obtain ⟨f0, f1, f2, a1, a2, a3, a4, a5, a6, a7, a8, a9, a10, a11, a12, a13, a14, a15, a16, a17, a18, a19, a20, a21, a22, a23, a24⟩ := u
  obtain ⟨rfl, hA, h4, h5, h6, h7, h10, h11, h20⟩ := hK
  exact tm_feed (by decide) (by decide) (tm_rctl (by decide) (by decide) (by decide) (by decide) h20 (tm_ctl9 h5 hc (H _ ⟨rfl, hA, h4, pk_us, pk_us, h7, h10, h11, pk_us⟩)))
theorem tm_t3 : ∀ d, d < 10 → ¬ 11675 + 16384 * nI (48 + d) < 0 ∧ 11675 + 16384 * nI (48 + d) ≤ 2097151 ∧ (11675 + 16384 * nI (48 + d)) &&& 127 = 27 ∧ ((11675 + 16384 * nI (48 + d)) >>> ((7 : Int32) &&& 31)) &&& 127 = 91 ∧ (11675 + 16384 * nI (48 + d)) >>> ((14 : Int32) &&& 31) = nI (48 + d) := by decide +kernel
theorem tm_K3d {post : Int32 → St1 → Prop} {u : St1} {R : Nat → Nat} {c d : Nat} {wt ins wr x : Int32} (hx : x = 11675 + 16384 * nI (48 + d)) (hd : d < 10) (hK : tm_K R c wt ins wr 0 u)
    (H : ∀ u', tm_K R c wt ins wr 3 u' → tm_P 0 d u' → post 1 u') : wpX_feedThree post u x := by
  subst hx
  obtain ⟨f0, f1, f2, a1, a2, a3, a4, a5, a6, a7, a8, a9, a10, a11, a12, a13, a14, a15, a16, a17, a18, a19, a20, a21, a22, a23, a24⟩ := u
  obtain ⟨rfl, hA, h4, h5, h6, h7, h10, h11, h20⟩ := hK
  obtain ⟨c1, c2, c3, c4, c5⟩ := tm_t3 d hd
  refine tm_feed3 c1 c2 ?_
  rw [c3, c4, c5]
  exact tm_r27 h20 (tm_r91 pk_us (tm_rdig (st := 2) rfl hd (by decide) (by decide) pk_us pk_us pk_us (H _ ⟨rfl, hA, h4, h5, h6, h7, h10, h11, pk_us⟩ ⟨pk_us, pk_us, pk_us⟩)))
theorem tm_K3q {post : Int32 → St1 → Prop} {u : St1} {R : Nat → Nat} {c : Nat} {wt ins wr x : Int32} (hx : x = 11675 + 16384 * 63) (hK : tm_K R c wt ins wr 0 u)
    (H : ∀ u', tm_K R c wt ins wr 3 u' → tm_P 1 0 u' → post 1 u') : wpX_feedThree post u x := by
  subst hx
  obtain ⟨f0, f1, f2, a1, a2, a3, a4, a5, a6, a7, a8, a9, a10, a11, a12, a13, a14, a15, a16, a17, a18, a19, a20, a21, a22, a23, a24⟩ := u
  obtain ⟨rfl, hA, h4, h5, h6, h7, h10, h11, h20⟩ := hK
  refine tm_feed3 (by decide) (by decide) ?_
  rw [show (11675 + 16384 * 63 : Int32) &&& 127 = 27 by decide, show ((11675 + 16384 * 63 : Int32) >>> ((7 : Int32) &&& 31)) &&& 127 = 91 by decide, show (11675 + 16384 * 63 : Int32) >>> ((14 : Int32) &&& 31) = 63 by decide]
  exact tm_r27 h20 (tm_r91 pk_us (tm_r63 pk_us (H _ ⟨rfl, hA, h4, h5, h6, h7, h10, h11, pk_us⟩ ⟨pk_us, pk_us, pk_us⟩)))
theorem tm_K7 {post : Int32 → St1 → Prop} {u : St1} {R : Nat → Nat} {c : Nat} {wt ins wr q : Int32} (hK : tm_K R c wt ins wr 3 u) (hP : tm_P q 0 u)
    (H : ∀ u', tm_K R c wt ins wr 3 u' → tm_P q 7 u' → post 1 u') : wpX_feed post u 55 := by
  obtain ⟨f0, f1, f2, a1, a2, a3, a4, a5, a6, a7, a8, a9, a10, a11, a12, a13, a14, a15, a16, a17, a18, a19, a20, a21, a22, a23, a24⟩ := u
  obtain ⟨rfl, hA, h4, h5, h6, h7, h10, h11, h20⟩ := hK
  obtain ⟨p1, p2, p3⟩ := hP
  exact tm_feed (by decide) (by decide) (tm_rdig (st := 3) (d := 7) (by decide) (by decide) (by decide) (by decide) h20 p2 p3 (H _ ⟨rfl, hA, h4, h5, h6, h7, h10, h11, pk_us⟩ ⟨p1, p2, pk_us⟩))
theorem tm_Kins {post : Int32 → St1 → Prop} {u : St1} {R : Nat → Nat} {c : Nat} {wt ins wr : Int32} (hK : tm_K R c wt ins wr 3 u) (hP : tm_P 0 4 u)
    (H : ∀ u', tm_K R c wt 1 wr 0 u' → post 1 u') : wpX_feed post u 104 := by
  obtain ⟨f0, f1, f2, a1, a2, a3, a4, a5, a6, a7, a8, a9, a10, a11, a12, a13, a14, a15, a16, a17, a18, a19, a20, a21, a22, a23, a24⟩ := u
  obtain ⟨rfl, hA, h4, h5, h6, h7, h10, h11, h20⟩ := hK
  obtain ⟨p1, p2, p3⟩ := hP
  exact tm_feed (by decide) (by decide) (tm_rlast (by decide) (by decide) (by decide) (by decide) (by decide) (by decide) h20 (tm_lbIns1 p1 p2 p3 (H _ ⟨rfl, hA, h4, h5, h6, h7, pk_us, h11, pk_us⟩)))
theorem tm_Kins0 {post : Int32 → St1 → Prop} {u : St1} {R : Nat → Nat} {c : Nat} {wt ins wr : Int32} (hK : tm_K R c wt ins wr 3 u) (hP : tm_P 0 4 u)
    (H : ∀ u', tm_K R c wt 0 wr 0 u' → post 1 u') : wpX_feed post u 108 := by
  obtain ⟨f0, f1, f2, a1, a2, a3, a4, a5, a6, a7, a8, a9, a10, a11, a12, a13, a14, a15, a16, a17, a18, a19, a20, a21, a22, a23, a24⟩ := u
  obtain ⟨rfl, hA, h4, h5, h6, h7, h10, h11, h20⟩ := hK
  obtain ⟨p1, p2, p3⟩ := hP
  exact tm_feed (by decide) (by decide) (tm_rlast (by decide) (by decide) (by decide) (by decide) (by decide) (by decide) h20 (tm_lbIns0 p1 p2 p3 (H _ ⟨rfl, hA, h4, h5, h6, h7, pk_us, h11, pk_us⟩)))
theorem tm_Kwr {post : Int32 → St1 → Prop} {u : St1} {R : Nat → Nat} {c : Nat} {wt ins wr : Int32} (hK : tm_K R c wt ins wr 3 u) (hP : tm_P 1 7 u)
    (H : ∀ u', tm_K R c wt ins 1 0 u' → post 1 u') : wpX_feed post u 104 := by
  obtain ⟨f0, f1, f2, a1, a2, a3, a4, a5, a6, a7, a8, a9, a10, a11, a12, a13, a14, a15, a16, a17, a18, a19, a20, a21, a22, a23, a24⟩ := u
  obtain ⟨rfl, hA, h4, h5, h6, h7, h10, h11, h20⟩ := hK
  obtain ⟨p1, p2, p3⟩ := hP
  exact tm_feed (by decide) (by decide) (tm_rlast (by decide) (by decide) (by decide) (by decide) (by decide) (by decide) h20 (tm_lbWr1 p1 p2 p3 (H _ ⟨rfl, hA, h4, h5, h6, h7, h10, pk_us, pk_us⟩)))
theorem tm_Kwr0 {post : Int32 → St1 → Prop} {u : St1} {R : Nat → Nat} {c : Nat} {wt ins wr : Int32} (hK : tm_K R c wt ins wr 3 u) (hP : tm_P 1 7 u)
    (H : ∀ u', tm_K R c wt ins 0 0 u' → post 1 u') : wpX_feed post u 108 := by
  obtain ⟨f0, f1, f2, a1, a2, a3, a4, a5, a6, a7, a8, a9, a10, a11, a12, a13, a14, a15, a16, a17, a18, a19, a20, a21, a22, a23, a24⟩ := u
  obtain ⟨rfl, hA, h4, h5, h6, h7, h10, h11, h20⟩ := hK
  obtain ⟨p1, p2, p3⟩ := hP
  exact tm_feed (by decide) (by decide) (tm_rlast (by decide) (by decide) (by decide) (by decide) (by decide) (by decide) h20 (tm_lbWr0 p1 p2 p3 (H _ ⟨rfl, hA, h4, h5, h6, h7, h10, pk_us, pk_us⟩)))
theorem tm_one_pos (p : Nat) : 0 < tm_one p := by
  unfold tm_one
  split <;> omega
theorem tm_one_lt {p : Nat} (h : p < 100) : tm_one p < 100 := by
  unfold tm_one
  split <;> omega
theorem tm_K67 {post : Int32 → St1 → Prop} {u : St1} {R : Nat → Nat} {c p : Nat} {wt ins wr : Int32} (hc : c < 12) (hp : p < 100) (hK : tm_K R c wt ins wr 3 u) (hP : tm_P 0 p u)
    (H : ∀ u', tm_K R (min (c + tm_one p) 11) 0 ins wr 0 u' → post 1 u') : wpX_feed post u 67 := by
  obtain ⟨f0, f1, f2, a1, a2, a3, a4, a5, a6, a7, a8, a9, a10, a11, a12, a13, a14, a15, a16, a17, a18, a19, a20, a21, a22, a23, a24⟩ := u
  obtain ⟨rfl, hA, h4, h5, h6, h7, h10, h11, h20⟩ := hK
  obtain ⟨p1, p2, p3⟩ := hP
  exact tm_feed (by decide) (by decide) (tm_rlast (by decide) (by decide) (by decide) (by decide) (by decide) (by decide) h20 (tm_lb67 hp p1 p2 p3 (tm_tr67 hc (tm_one_lt hp) h4 h5 (H _ ⟨rfl, hA, pk_us, pk_us, pk_us, h7, h10, h11, pk_us⟩))))
theorem tm_K68 {post : Int32 → St1 → Prop} {u : St1} {R : Nat → Nat} {c p : Nat} {wt ins wr : Int32} (hc : c < 12) (hp : p < 100) (hK : tm_K R c wt ins wr 3 u) (hP : tm_P 0 p u)
    (H : ∀ u', tm_K R (c - tm_one p) 0 ins wr 0 u' → post 1 u') : wpX_feed post u 68 := by
  obtain ⟨f0, f1, f2, a1, a2, a3, a4, a5, a6, a7, a8, a9, a10, a11, a12, a13, a14, a15, a16, a17, a18, a19, a20, a21, a22, a23, a24⟩ := u
  obtain ⟨rfl, hA, h4, h5, h6, h7, h10, h11, h20⟩ := hK
  obtain ⟨p1, p2, p3⟩ := hP
  exact tm_feed (by decide) (by decide) (tm_rlast (by decide) (by decide) (by decide) (by decide) (by decide) (by decide) h20 (tm_lb68 hp p1 p2 p3 (tm_tr68 hc (tm_one_lt hp) h4 h5 (H _ ⟨rfl, hA, pk_us, pk_us, pk_us, h7, h10, h11, pk_us⟩))))
theorem tm_K71 {post : Int32 → St1 → Prop} {u : St1} {R : Nat → Nat} {c p : Nat} {wt ins wr : Int32} (hc : c < 12) (hp : p < 100) (hK : tm_K R c wt ins wr 3 u) (hP : tm_P 0 p u)
    (H : ∀ u', tm_K R (min (tm_one p - 1) 11) 0 ins wr 0 u' → post 1 u') : wpX_feed post u 71 := by
  obtain ⟨f0, f1, f2, a1, a2, a3, a4, a5, a6, a7, a8, a9, a10, a11, a12, a13, a14, a15, a16, a17, a18, a19, a20, a21, a22, a23, a24⟩ := u
  obtain ⟨rfl, hA, h4, h5, h6, h7, h10, h11, h20⟩ := hK
  obtain ⟨p1, p2, p3⟩ := hP
  exact tm_feed (by decide) (by decide) (tm_rlast (by decide) (by decide) (by decide) (by decide) (by decide) (by decide) h20 (tm_lb71 hp p1 p2 p3 (tm_tr71 hc (tm_one_lt hp) (tm_one_pos p) h4 h5 (H _ ⟨rfl, hA, pk_us, pk_us, pk_us, h7, h10, h11, pk_us⟩))))
theorem tm_K88 {post : Int32 → St1 → Prop} {u : St1} {R : Nat → Nat} {c p : Nat} {wt ins wr : Int32} (hc : c < 12) (hp : p < 100) (hK : tm_K R c wt ins wr 3 u) (hP : tm_P 0 p u)
    (H : ∀ u', tm_K (tm_pEm R c (min (c + tm_one p) 12)) c 0 ins wr 0 u' → post 1 u') : wpX_feed post u 88 := by
  obtain ⟨f0, f1, f2, a1, a2, a3, a4, a5, a6, a7, a8, a9, a10, a11, a12, a13, a14, a15, a16, a17, a18, a19, a20, a21, a22, a23, a24⟩ := u
  obtain ⟨rfl, hA, h4, h5, h6, h7, h10, h11, h20⟩ := hK
  obtain ⟨p1, p2, p3⟩ := hP
  exact tm_feed (by decide) (by decide) (tm_rlast (by decide) (by decide) (by decide) (by decide) (by decide) (by decide) h20 (tm_lb88 hp p1 p2 p3 (tm_er88 hc (tm_one_lt hp) hA.2.2.2.2.2.2.1 (hA.2.2.2.2.1 0 (by decide)) h4 h5 (H _ ⟨rfl, tm_A_em hA (by omega), h4, h5, pk_us, h7, h10, h11, pk_us⟩))))
theorem tm_K75a {post : Int32 → St1 → Prop} {u : St1} {R : Nat → Nat} {c : Nat} {wt ins wr : Int32} (hc : c < 12) (hK : tm_K R c wt ins wr 3 u) (hP : tm_P 0 0 u)
    (H : ∀ u', tm_K (tm_pEm R c 12) c 0 ins wr 0 u' → post 1 u') : wpX_feed post u 75 := by
  obtain ⟨f0, f1, f2, a1, a2, a3, a4, a5, a6, a7, a8, a9, a10, a11, a12, a13, a14, a15, a16, a17, a18, a19, a20, a21, a22, a23, a24⟩ := u
  obtain ⟨rfl, hA, h4, h5, h6, h7, h10, h11, h20⟩ := hK
  obtain ⟨p1, p2, p3⟩ := hP
  exact tm_feed (by decide) (by decide) (tm_rlast (by decide) (by decide) (by decide) (by decide) (by decide) (by decide) h20 (tm_lb75 (by decide) p1 p2 p3 (tm_er75_0 hc hA.2.2.2.2.2.2.1 (hA.2.2.2.2.1 0 (by decide)) h4 h5 (H _ ⟨rfl, tm_A_em hA (by omega), h4, h5, pk_us, h7, h10, h11, pk_us⟩))))
theorem tm_K75b {post : Int32 → St1 → Prop} {u : St1} {R : Nat → Nat} {c : Nat} {wt ins wr : Int32} (hc : c < 12) (hK : tm_K R c wt ins wr 3 u) (hP : tm_P 0 1 u)
    (H : ∀ u', tm_K (tm_pEm R 0 (c + 1)) c 0 ins wr 0 u' → post 1 u') : wpX_feed post u 75 := by
  obtain ⟨f0, f1, f2, a1, a2, a3, a4, a5, a6, a7, a8, a9, a10, a11, a12, a13, a14, a15, a16, a17, a18, a19, a20, a21, a22, a23, a24⟩ := u
  obtain ⟨rfl, hA, h4, h5, h6, h7, h10, h11, h20⟩ := hK
  obtain ⟨p1, p2, p3⟩ := hP
  exact tm_feed (by decide) (by decide) (tm_rlast (by decide) (by decide) (by decide) (by decide) (by decide) (by decide) h20 (tm_lb75 (by decide) p1 p2 p3 (tm_er75_1 hc hA.2.2.2.2.2.2.1 (hA.2.2.2.2.1 0 (by decide)) h4 h5 (H _ ⟨rfl, tm_A_em hA (by omega), h4, h5, pk_us, h7, h10, h11, pk_us⟩))))
theorem tm_K75c {post : Int32 → St1 → Prop} {u : St1} {R : Nat → Nat} {c : Nat} {wt ins wr : Int32} (hc : c < 12) (hK : tm_K R c wt ins wr 3 u) (hP : tm_P 0 2 u)
    (H : ∀ u', tm_K (tm_pEm R 0 12) c 0 ins wr 0 u' → post 1 u') : wpX_feed post u 75 := by
  obtain ⟨f0, f1, f2, a1, a2, a3, a4, a5, a6, a7, a8, a9, a10, a11, a12, a13, a14, a15, a16, a17, a18, a19, a20, a21, a22, a23, a24⟩ := u
  obtain ⟨rfl, hA, h4, h5, h6, h7, h10, h11, h20⟩ := hK
  obtain ⟨p1, p2, p3⟩ := hP
  exact tm_feed (by decide) (by decide) (tm_rlast (by decide) (by decide) (by decide) (by decide) (by decide) (by decide) h20 (tm_lb75 (by decide) p1 p2 p3 (tm_er75_2 hc hA.2.2.2.2.2.2.1 (hA.2.2.2.2.1 0 (by decide)) h4 h5 (H _ ⟨rfl, tm_A_em hA (by omega), h4, h5, pk_us, h7, h10, h11, pk_us⟩))))
theorem tm_K80 {post : Int32 → St1 → Prop} {u : St1} {R : Nat → Nat} {c p : Nat} {wt ins wr : Int32} (hc : c < 12) (hp : p < 100) (hK : tm_K R c wt ins wr 3 u) (hP : tm_P 0 p u)
    (H : ∀ u', tm_K (tm_pOut R c (tm_one p)) c 0 ins wr 0 u' → post 1 u') : wpX_feed post u 80 := by
  obtain ⟨f0, f1, f2, a1, a2, a3, a4, a5, a6, a7, a8, a9, a10, a11, a12, a13, a14, a15, a16, a17, a18, a19, a20, a21, a22, a23, a24⟩ := u
  obtain ⟨rfl, hA, h4, h5, h6, h7, h10, h11, h20⟩ := hK
  obtain ⟨p1, p2, p3⟩ := hP
  exact tm_feed (by decide) (by decide) (tm_rlast (by decide) (by decide) (by decide) (by decide) (by decide) (by decide) h20 (tm_lb80 hp p1 p2 p3 (tm_scOut hc (tm_one_lt hp) (tm_one_pos p) (tm_A_b1 hA) (tm_A_b2 hA) hA.2.2.2.2.2.2.1 (hA.2.2.2.2.1 0 (by decide)) h4 h5 (fun m hm => H _ ⟨rfl, tm_A_out hA hc hm, h4, h5, pk_us, h7, h10, h11, pk_us⟩))))
theorem tm_K64 {post : Int32 → St1 → Prop} {u : St1} {R : Nat → Nat} {c p : Nat} {wt ins wr : Int32} (hc : c < 12) (hp : p < 100) (hK : tm_K R c wt ins wr 3 u) (hP : tm_P 0 p u)
    (H : ∀ u', tm_K (tm_pIn R c (tm_one p)) c 0 ins wr 0 u' → post 1 u') : wpX_feed post u 64 := by
  obtain ⟨f0, f1, f2, a1, a2, a3, a4, a5, a6, a7, a8, a9, a10, a11, a12, a13, a14, a15, a16, a17, a18, a19, a20, a21, a22, a23, a24⟩ := u
  obtain ⟨rfl, hA, h4, h5, h6, h7, h10, h11, h20⟩ := hK
  obtain ⟨p1, p2, p3⟩ := hP
  exact tm_feed (by decide) (by decide) (tm_rlast (by decide) (by decide) (by decide) (by decide) (by decide) (by decide) h20 (tm_lb64 hp p1 p2 p3 (tm_scIn hc (tm_one_lt hp) (tm_one_pos p) (tm_A_b1 hA) (tm_A_b2 hA) hA.2.2.2.2.2.2.1 (hA.2.2.2.2.1 0 (by decide)) h4 h5 (fun m hm => H _ ⟨rfl, tm_A_in hA hc hm, h4, h5, pk_us, h7, h10, h11, pk_us⟩))))
/-- a sequence: three bytes and one -/
theorem tm_seq {post : Int32 → St1 → Prop} {u : St1} {R : Nat → Nat} {c p : Nat} {wt ins wr b : Int32} (Q : St1 → Prop) (hp : p < 10) (hK : tm_K R c wt ins wr 0 u)
    (HF : ∀ (f : Int32 → St1 → Prop) (u' : St1), tm_K R c wt ins wr 3 u' → tm_P 0 p u' → (∀ u'', Q u'' → f 1 u'') → wpX_feed f u' b)
    (H : ∀ u', Q u' → post 1 u') : wpL_sequence post u (nI p) b := by
  obtain ⟨f0, f1, f2, a1, a2, a3, a4, a5, a6, a7, a8, a9, a10, a11, a12, a13, a14, a15, a16, a17, a18, a19, a20, a21, a22, a23, a24⟩ := u
  unfold wpL_sequence
  refine tm_K3d (d := p) ?_ hp hK (fun u' k' p' => ?_)
  · rw [show (48 : Int32) + nI p = nI (48 + p) from nI_add 48 p]
  · obtain ⟨f0, f1, f2, a1, a2, a3, a4, a5, a6, a7, a8, a9, a10, a11, a12, a13, a14, a15, a16, a17, a18, a19, a20, a21, a22, a23, a24⟩ := u'
    refine HF _ _ k' p' (fun u'' q => ?_)
    obtain ⟨f0, f1, f2, a1, a2, a3, a4, a5, a6, a7, a8, a9, a10, a11, a12, a13, a14, a15, a16, a17, a18, a19, a20, a21, a22, a23, a24⟩ := u''
    exact br_f (by decide) (br_f (by decide) (H _ q))
end
section
theorem tm_A_line {R : Nat → Nat} {a1 a2 a3 a12 : Nat → Int32} {t r : Nat} (h : tm_A R a1 a2 a3 a12) (ht : t < 2) (hr : r < 6) : a12 t = 0 ∧ a3 (t * 12 + r) = nI r := by
  obtain ⟨_, _, _, _, q5, q6, q7, q8⟩ := h
  rcases (show t = 0 ∨ t = 1 by omega) with e | e
  · subst e
    refine ⟨q7, ?_⟩
    rw [show 0 * 12 + r = r by omega]
    exact q5 r hr
  · subst e
    refine ⟨q8, ?_⟩
    rw [show 1 * 12 + r = 12 + r by omega]
    exact q6 r hr
theorem tm_lineOf {post : Int32 → Prop} {R : Nat → Nat} {f0 f1 f2 : Int32} {a1 a2 a3 a4 a5 a6 a7 a8 a9 a10 a11 a12 a13 a14 a15 a16 a17 a18 a19 a20 a21 a22 a23 a24 : Nat → Int32} {p q : Int32} {t r : Nat} (hA : tm_A R a1 a2 a3 a12) (ht : t < 2) (hr : r < 6) (hp : p = nI t) (hq : q = nI r) (H : post (nI ((t * 12 + r) * 12))) : wpX_lineOf post (f0, f1, f2, a1, a2, a3, a4, a5, a6, a7, a8, a9, a10, a11, a12, a13, a14, a15, a16, a17, a18, a19, a20, a21, a22, a23, a24) p q := by
  subst hp hq
  obtain ⟨h12, h3⟩ := tm_A_line hA ht hr
  have e1 : nI t * 2 + a12 (nI t).toNatClampNeg = nI (t * 2) := by
    rw [nI_clamp (by omega), h12, show nI t * 2 = nI (t * 2) from pk_mul t 2]
    exact nI_add (t * 2) 0
  have e2 : nI (t * 2) * 6 + nI r = nI (t * 12 + r) := by
    rw [show nI (t * 2) * 6 = nI (t * 2 * 6) from pk_mul _ 6, nI_add, show t * 2 * 6 = t * 12 by omega]
  have e3 : (nI t * 12 + nI r) * 12 = nI ((t * 12 + r) * 12) := by
    rw [show nI t * 12 = nI (t * 12) from pk_mul t 12, nI_add]
    exact pk_mul _ 12
  refine And.intro (vp_in_nI ht (by decide)) (nm_r e1 ?_)
  show vp_in (nI (t * 2) * 6 + nI r) 24 ∧ post ((nI t * 12 + a3 (nI (t * 2) * 6 + nI r).toNatClampNeg) * 12)
  rw [e2, nI_clamp (by omega), h3, e3]
  exact ⟨vp_in_nI (by omega) (by decide), H⟩
theorem tm_sign {post : Int32 → Prop} {R : Nat → Nat} {f0 f1 f2 : Int32} {a1 a2 a3 a4 a5 a6 a7 a8 a9 a10 a11 a12 a13 a14 a15 a16 a17 a18 a19 a20 a21 a22 a23 a24 : Nat → Int32} {p q : Int32} {r i : Nat} (hA : tm_A R a1 a2 a3 a12) (hr : r < 6) (hi : i < 12) (hp : p = nI r) (hq : q = nI i) (H : post (a1 (r * 12 + i))) : wpX_sign post (f0, f1, f2, a1, a2, a3, a4, a5, a6, a7, a8, a9, a10, a11, a12, a13, a14, a15, a16, a17, a18, a19, a20, a21, a22, a23, a24) p q := by
  subst hp hq
  refine br_f (nI_pos (by omega)) (br_f (nI_ge (b := 6) hr (by decide)) (br_f (nI_pos (by omega)) (br_f (nI_ge (b := 12) hi (by decide)) (br_f (by decide) (tm_lineOf (t := 0) hA (by decide) hr rfl rfl ?_)))))
  show vp_in (nI ((0 * 12 + r) * 12) + nI i) 288 ∧ post (a1 (nI ((0 * 12 + r) * 12) + nI i).toNatClampNeg)
  rw [nI_add, nI_clamp (by omega), show (0 * 12 + r) * 12 + i = r * 12 + i by omega]
  exact ⟨vp_in_nI (by omega) (by decide), H⟩
theorem tm_same {post : Int32 → Prop} {f0 f1 f2 : Int32} {a1 a2 a3 a4 a5 a6 a7 a8 a9 a10 a11 a12 a13 a14 a15 a16 a17 a18 a19 a20 a21 a22 a23 a24 : Nat → Int32} {p q : Int32} {i j : Nat} (hp : p = nI i) (hq : q = nI j) (hi : i < 288) (hj : j < 288) (H1 : a1 i = a1 j → a2 i = a2 j → post 1) (H0 : ¬ (a1 i = a1 j ∧ a2 i = a2 j) → post 0) : wpX_sameCells post (f0, f1, f2, a1, a2, a3, a4, a5, a6, a7, a8, a9, a10, a11, a12, a13, a14, a15, a16, a17, a18, a19, a20, a21, a22, a23, a24) p q := by
  subst hp hq
  have i1 : vp_in (nI i) 288 := vp_in_nI hi (by decide)
  have i2 : vp_in (nI j) 288 := vp_in_nI hj (by decide)
  have c1 : (nI i).toNatClampNeg = i := nI_clamp (by omega)
  have c2 : (nI j).toNatClampNeg = j := nI_clamp (by omega)
  refine And.intro i1 (And.intro i2 (br_c (fun g => ⟨i1, i2, br_c (fun g2 => ?_) (fun g2 => ?_)⟩) (fun g => ?_)))
  · rw [c1, c2] at g g2
    exact H1 g g2
  · rw [c1, c2] at g2
    exact H0 (fun z => g2 z.2)
  · rw [c1, c2] at g
    exact H0 (fun z => g z.1)
theorem tm_staleIn0 {post : Int32 → Prop} {R : Nat → Nat} {f0 f1 f2 : Int32} {a1 a2 a3 a4 a5 a6 a7 a8 a9 a10 a11 a12 a13 a14 a15 a16 a17 a18 a19 a20 a21 a22 a23 a24 : Nat → Int32} {p : Int32} (hp : p = nI 0) (hA : tm_A R a1 a2 a3 a12) (H : ∀ m, m ≤ 12 → post (nI m)) : wpX_staleIn post (f0, f1, f2, a1, a2, a3, a4, a5, a6, a7, a8, a9, a10, a11, a12, a13, a14, a15, a16, a17, a18, a19, a20, a21, a22, a23, a24) p := by
  unfold wpX_staleIn
  exact tm_lineOf (t := 0) (r := 0) hA (by decide) (by decide) rfl hp (tm_lineOf (t := 1) (r := 0) hA (by decide) (by decide) rfl hp
    (pk_loop (fun n i m => wX_staleIn_20 post (nI ((0 * 12 + 0) * 12)) (nI ((1 * 12 + 0) * 12)) f0 f1 f2 a1 a2 a3 a4 a5 a6 a7 a8 a9 a10 a11 a12 a13 a14 a15 a16 a17 a18 a19 a20 a21 a22 a23 a24 n (nI m) (nI i)) (fun i m => m ≤ i) 12 0 0 (by omega) (by omega)
      (fun n m h => pk_le 12 12 (fun _ => H m h) (fun z => absurd z (by omega)))
      (fun n i m hi h hw => pk_le 12 i (fun z => absurd z (by omega)) (fun _ => tm_same (nI_add _ i) (nI_add _ i) (by omega) (by omega)
        (fun _ _ => br_f (by decide) (nm_r (nI_add m 0) (nm_r (nI_1 i) (hw m (by omega)))))
        (fun _ => br_t rfl (nm_r (nI_1 m) (nm_r (nI_1 i) (hw (m + 1) (by omega)))))))))
theorem tm_staleInR {post : Int32 → Prop} {R : Nat → Nat} {f0 f1 f2 : Int32} {a1 a2 a3 a4 a5 a6 a7 a8 a9 a10 a11 a12 a13 a14 a15 a16 a17 a18 a19 a20 a21 a22 a23 a24 : Nat → Int32} {p : Int32} {r : Nat} (hp : p = nI r) (h1 : 1 ≤ r) (h6 : r < 6) (hA : tm_A R a1 a2 a3 a12) (H : post (nI 0)) : wpX_staleIn post (f0, f1, f2, a1, a2, a3, a4, a5, a6, a7, a8, a9, a10, a11, a12, a13, a14, a15, a16, a17, a18, a19, a20, a21, a22, a23, a24) p := by
  unfold wpX_staleIn
  exact tm_lineOf (t := 0) (r := r) hA (by decide) h6 rfl hp (tm_lineOf (t := 1) (r := r) hA (by decide) h6 rfl hp
    (pk_loop (σ := Unit) (fun n i _ => wX_staleIn_20 post (nI ((0 * 12 + r) * 12)) (nI ((1 * 12 + r) * 12)) f0 f1 f2 a1 a2 a3 a4 a5 a6 a7 a8 a9 a10 a11 a12 a13 a14 a15 a16 a17 a18 a19 a20 a21 a22 a23 a24 n (nI 0) (nI i)) (fun _ _ => True) 12 0 () (by omega) trivial
      (fun n _ _ => pk_le 12 12 (fun _ => H) (fun z => absurd z (by omega)))
      (fun n i _ hi _ hw => pk_le 12 i (fun z => absurd z (by omega)) (fun _ => tm_same (i := (0 * 12 + r) * 12 + i) (j := (1 * 12 + r) * 12 + i) (nI_add _ i) (nI_add _ i) (by omega) (by omega)
        (fun _ _ => br_f (by decide) (nm_r (nI_add 0 0) (nm_r (nI_1 i) (hw () trivial))))
        (fun z => absurd (And.intro ((hA.2.2.1 _ (by omega) (by omega)).trans (hA.2.2.1 _ (by omega) (by omega)).symm) ((hA.2.2.2.1 _ (by omega)).trans (hA.2.2.2.1 _ (by omega)).symm)) z)))))
theorem tm_stale {post : Int32 → Prop} {R : Nat → Nat} {f0 f1 f2 : Int32} {a1 a2 a3 a4 a5 a6 a7 a8 a9 a10 a11 a12 a13 a14 a15 a16 a17 a18 a19 a20 a21 a22 a23 a24 : Nat → Int32} (hA : tm_A R a1 a2 a3 a12) (H : ∀ m, m ≤ 12 → post (nI m)) : wpX_stale post (f0, f1, f2, a1, a2, a3, a4, a5, a6, a7, a8, a9, a10, a11, a12, a13, a14, a15, a16, a17, a18, a19, a20, a21, a22, a23, a24) :=
  pk_loop (fun n i m => wX_stale_4 post f0 f1 f2 a1 a2 a3 a4 a5 a6 a7 a8 a9 a10 a11 a12 a13 a14 a15 a16 a17 a18 a19 a20 a21 a22 a23 a24 n (nI m) (nI i)) (fun i m => m ≤ 12 ∧ (i = 0 → m = 0)) 6 0 0 (by omega) ⟨by omega, fun _ => rfl⟩
    (fun n m h => pk_le 6 6 (fun _ => H m h.1) (fun z => absurd z (by omega)))
    (fun n i m hi h hw => pk_le 6 i (fun z => absurd z (by omega)) (fun _ => by
      by_cases e : i = 0
      · refine tm_staleIn0 (by rw [e]) hA (fun m' h' => nm_r (nI_add m m') (nm_r (nI_1 i) (hw (m + m') ⟨?_, fun z => ?_⟩)))
        · have := h.2 e
          omega
        · omega
      · exact tm_staleInR (r := i) rfl (by omega) hi hA (nm_r (nI_add m 0) (nm_r (nI_1 i) (hw m ⟨h.1, fun z => absurd z (by omega)⟩)))))
theorem tm_atp {post : Int32 → Prop} {x : Int64} {R : Nat → Nat} {i : Nat} (h : tm_W x R) (hi : i < 12) (H : post (nI (R i))) : wpL_at post () x (nI i) := by
  unfold wpL_at
  rw [tm_at h hi]
  exact H
theorem tm_putp {post : Int64 → Prop} {x : Int64} {R : Nat → Nat} {c v : Nat} (h : tm_W x R) (hc : c < 12) (hv : v < 16) (H : ∀ x', tm_W x' (tm_pPut R c v) → post x') : wpL_put post () x (nI c) (nI v) :=
  H _ (tm_put h hc hv)
/-- the law's look at the row -/
theorem tm_chk {post : Int32 → Prop} {L kc ks : Nat} {xs : Nat → Int32} {J : Int64 → Int32 → Int32 → Int32 → Int32 → Int32 → Int32 → Int32 → Int32 → (Nat → Int32) → (Nat → Int32) → (Nat → Int32) → (Nat → Int32) → (Nat → Int32) → (Nat → Int32) → (Nat → Int32) → (Nat → Int32) → (Nat → Int32) → (Nat → Int32) → (Nat → Int32) → (Nat → Int32) → (Nat → Int32) → (Nat → Int32) → (Nat → Int32) → (Nat → Int32) → (Nat → Int32) → (Nat → Int32) → (Nat → Int32) → (Nat → Int32) → (Nat → Int32) → (Nat → Int32) → (Nat → Int32) → (Nat → Int32) → Prop} {f0 f1 f2 : Int32} {a1 a2 a3 a4 a5 a6 a7 a8 a9 a10 a11 a12 a13 a14 a15 a16 a17 a18 a19 a20 a21 a22 a23 a24 : Nat → Int32} {R : Nat → Nat} {c : Nat} {wt ins wr x4 x5 x6 x8 x9 : Int32} {x : Int64}
    (hW : tm_W x R) (bw : wt = 0 ∨ wt = 1) (hK : tm_K R c wt ins wr 0 (f0, f1, f2, a1, a2, a3, a4, a5, a6, a7, a8, a9, a10, a11, a12, a13, a14, a15, a16, a17, a18, a19, a20, a21, a22, a23, a24)) (h4 : x4 = nI c) (h8 : x8 + 1 = x9) (hJ : J x (nI c) x5 x6 wt x9 f0 f1 f2 a1 a2 a3 a4 a5 a6 a7 a8 a9 a10 a11 a12 a13 a14 a15 a16 a17 a18 a19 a20 a21 a22 a23 a24) : wL_law_627 post L xs J x x4 x5 x6 wt x8 kc ks f0 f1 f2 a1 a2 a3 a4 a5 a6 a7 a8 a9 a10 a11 a12 a13 a14 a15 a16 a17 a18 a19 a20 a21 a22 a23 a24 := by
  subst h4 h8
  obtain ⟨rfl, hA, k4, k5, k6, k7, k10, k11, k20⟩ := hK
  have hn : narrow .boolean (.int (a6 0)) = .int (a6 0) := by
    rw [k6]
    rcases bw with e | e
    · rw [e]
      rfl
    · rw [e]
      rfl
  refine br_t k4 (br_t k5 (And.intro hn (br_t k6 ?_)))
  refine pk_loop (σ := Unit) (fun n i _ => wL_law_662 post L xs J x (nI c) x5 x6 wt x8 kc ks 0 f1 f2 a1 a2 a3 a4 a5 a6 a7 a8 a9 a10 a11 a12 a13 a14 a15 a16 a17 a18 a19 a20 a21 a22 a23 a24 n 1 (nI i)) (fun _ _ => True) 12 0 () (by omega) trivial
    (fun n _ _ => pk_le 12 12 (fun _ => br_f (by decide) (nm_e hJ)) (fun z => absurd z (by omega))) ?_
  intro n i _ hi _ hw
  have hr := hA.1 i hi
  have e0 : a1 (0 * 12 + i) = tm_sg (R i) := by
    rw [show 0 * 12 + i = i by omega]
    exact hA.2.1 i hi
  have e1 : a1 (1 * 12 + i) = 32 := hA.2.2.1 _ (by omega) (by omega)
  refine pk_le 12 i (fun z => absurd z (by omega)) (fun _ => tm_atp hW hi (br_f (by decide) (tm_sign (r := 0) hA (by decide) hi rfl rfl (pk_eq (R i) 0 (fun z => ?_) (fun z => ?_)))))
  · exact br_t (by rw [e0, z]; rfl) (tm_sign (r := 1) hA (by decide) hi rfl rfl (br_t e1 (nm_r (nI_1 i) (hw () trivial))))
  · exact br_t (by rw [e0]; unfold tm_sg; rw [if_neg z]; exact (nI_add 64 (R i)).symm) (tm_sign (r := 1) hA (by decide) hi rfl rfl (br_t e1 (nm_r (nI_1 i) (hw () trivial))))
end
section
/-- an answer that is a truth value -/
def tm_bo (x : Int32) : Prop := x = 0 ∨ x = 1
theorem tm_bo0 : tm_bo 0 := Or.inl rfl
theorem tm_bo1 : tm_bo 1 := Or.inr rfl
/-- what the next turn wants -/
def tm_J (J : Int64 → Int32 → Int32 → Int32 → Int32 → Int32 → Int32 → Int32 → Int32 → (Nat → Int32) → (Nat → Int32) → (Nat → Int32) → (Nat → Int32) → (Nat → Int32) → (Nat → Int32) → (Nat → Int32) → (Nat → Int32) → (Nat → Int32) → (Nat → Int32) → (Nat → Int32) → (Nat → Int32) → (Nat → Int32) → (Nat → Int32) → (Nat → Int32) → (Nat → Int32) → (Nat → Int32) → (Nat → Int32) → (Nat → Int32) → (Nat → Int32) → (Nat → Int32) → (Nat → Int32) → (Nat → Int32) → (Nat → Int32) → Prop) (k : Nat) : Prop :=
  ∀ (R : Nat → Nat) (c : Nat) (wt ins wr : Int32) (x : Int64) {f0 f1 f2 : Int32} {a1 a2 a3 a4 a5 a6 a7 a8 a9 a10 a11 a12 a13 a14 a15 a16 a17 a18 a19 a20 a21 a22 a23 a24 : Nat → Int32}, c < 12 → tm_W x R → tm_bo wt → tm_bo ins → tm_bo wr → tm_K R c wt ins wr 0 (f0, f1, f2, a1, a2, a3, a4, a5, a6, a7, a8, a9, a10, a11, a12, a13, a14, a15, a16, a17, a18, a19, a20, a21, a22, a23, a24) → J x (nI c) ins wr wt (nI (k + 1)) f0 f1 f2 a1 a2 a3 a4 a5 a6 a7 a8 a9 a10 a11 a12 a13 a14 a15 a16 a17 a18 a19 a20 a21 a22 a23 a24
theorem tm_fin {post : Int32 → Prop} {L kc ks k : Nat} {xs : Nat → Int32} {J : Int64 → Int32 → Int32 → Int32 → Int32 → Int32 → Int32 → Int32 → Int32 → (Nat → Int32) → (Nat → Int32) → (Nat → Int32) → (Nat → Int32) → (Nat → Int32) → (Nat → Int32) → (Nat → Int32) → (Nat → Int32) → (Nat → Int32) → (Nat → Int32) → (Nat → Int32) → (Nat → Int32) → (Nat → Int32) → (Nat → Int32) → (Nat → Int32) → (Nat → Int32) → (Nat → Int32) → (Nat → Int32) → (Nat → Int32) → (Nat → Int32) → (Nat → Int32) → (Nat → Int32) → (Nat → Int32) → (Nat → Int32) → Prop} {f0 f1 f2 : Int32} {a1 a2 a3 a4 a5 a6 a7 a8 a9 a10 a11 a12 a13 a14 a15 a16 a17 a18 a19 a20 a21 a22 a23 a24 : Nat → Int32} {R : Nat → Nat} {c : Nat} {wt ins wr x4 : Int32} {x : Int64}
    (hJ : tm_J J k) (hc : c < 12) (hW : tm_W x R) (b1 : tm_bo wt) (b2 : tm_bo ins) (b3 : tm_bo wr) (hK : tm_K R c wt ins wr 0 (f0, f1, f2, a1, a2, a3, a4, a5, a6, a7, a8, a9, a10, a11, a12, a13, a14, a15, a16, a17, a18, a19, a20, a21, a22, a23, a24)) (h4 : x4 = nI c) : wL_law_627 post L xs J x x4 ins wr wt (nI k) kc ks f0 f1 f2 a1 a2 a3 a4 a5 a6 a7 a8 a9 a10 a11 a12 a13 a14 a15 a16 a17 a18 a19 a20 a21 a22 a23 a24 :=
  tm_chk hW b1 hK h4 (nI_1 k) (hJ R c wt ins wr x hc hW b1 b2 b3 hK)
theorem tm_l119 {post : Int32 → Prop} {L kc ks k : Nat} {xs : Nat → Int32} {J : Int64 → Int32 → Int32 → Int32 → Int32 → Int32 → Int32 → Int32 → Int32 → (Nat → Int32) → (Nat → Int32) → (Nat → Int32) → (Nat → Int32) → (Nat → Int32) → (Nat → Int32) → (Nat → Int32) → (Nat → Int32) → (Nat → Int32) → (Nat → Int32) → (Nat → Int32) → (Nat → Int32) → (Nat → Int32) → (Nat → Int32) → (Nat → Int32) → (Nat → Int32) → (Nat → Int32) → (Nat → Int32) → (Nat → Int32) → (Nat → Int32) → (Nat → Int32) → (Nat → Int32) → (Nat → Int32) → (Nat → Int32) → Prop} {f0 f1 f2 : Int32} {a1 a2 a3 a4 a5 a6 a7 a8 a9 a10 a11 a12 a13 a14 a15 a16 a17 a18 a19 a20 a21 a22 a23 a24 : Nat → Int32} {R : Nat → Nat} {c : Nat} {v : Nat} {ins wr : Int32} {x : Int64} (hJ : tm_J J k) (hc : c < 12) (hv : v < 16) (hW : tm_W x R) (b2 : tm_bo ins) (b3 : tm_bo wr)
    (hK : tm_K (tm_pPut R c v) (min (c + 1) 11) (if c = 11 then wr else 0) ins wr 0 (f0, f1, f2, a1, a2, a3, a4, a5, a6, a7, a8, a9, a10, a11, a12, a13, a14, a15, a16, a17, a18, a19, a20, a21, a22, a23, a24)) : wL_law_119 post L xs J (nI c) ins wr (nI k) (nI v) x kc ks f0 f1 f2 a1 a2 a3 a4 a5 a6 a7 a8 a9 a10 a11 a12 a13 a14 a15 a16 a17 a18 a19 a20 a21 a22 a23 a24 := by
  refine tm_putp hW hc hv (fun x' hW' => pk_eq c 11 (fun z => ?_) (fun z => ?_))
  · rw [if_pos z, show min (c + 1) 11 = 11 by omega] at hK
    rcases b3 with e | e
    · subst e
      exact br_t rfl (pk_le 11 c (fun _ => tm_fin hJ (by decide) hW' tm_bo0 b2 tm_bo0 hK rfl) (fun z => absurd z (by omega)))
    · subst e
      exact br_f (by decide) (pk_le 11 c (fun _ => tm_fin hJ (by decide) hW' tm_bo1 b2 tm_bo1 hK rfl) (fun z => absurd z (by omega)))
  · rw [if_neg z, show min (c + 1) 11 = c + 1 by omega] at hK
    exact pk_le 11 c (fun z => absurd z (by omega)) (fun _ => tm_fin hJ (by omega) hW' tm_bo0 b2 b3 hK (nI_1 c))
theorem tm_l93 {post : Int32 → Prop} {L kc ks k : Nat} {xs : Nat → Int32} {J : Int64 → Int32 → Int32 → Int32 → Int32 → Int32 → Int32 → Int32 → Int32 → (Nat → Int32) → (Nat → Int32) → (Nat → Int32) → (Nat → Int32) → (Nat → Int32) → (Nat → Int32) → (Nat → Int32) → (Nat → Int32) → (Nat → Int32) → (Nat → Int32) → (Nat → Int32) → (Nat → Int32) → (Nat → Int32) → (Nat → Int32) → (Nat → Int32) → (Nat → Int32) → (Nat → Int32) → (Nat → Int32) → (Nat → Int32) → (Nat → Int32) → (Nat → Int32) → (Nat → Int32) → (Nat → Int32) → (Nat → Int32) → Prop} {f0 f1 f2 : Int32} {a1 a2 a3 a4 a5 a6 a7 a8 a9 a10 a11 a12 a13 a14 a15 a16 a17 a18 a19 a20 a21 a22 a23 a24 : Nat → Int32} {R : Nat → Nat} {c : Nat} {v : Nat} {ins wr : Int32} {x : Int64} (hJ : tm_J J k) (hc : c < 12) (h0 : 0 < v) (hv : v < 16) (hW : tm_W x R) (b2 : tm_bo ins) (b3 : tm_bo wr)
    (hK : tm_K R c 0 ins wr 0 (f0, f1, f2, a1, a2, a3, a4, a5, a6, a7, a8, a9, a10, a11, a12, a13, a14, a15, a16, a17, a18, a19, a20, a21, a22, a23, a24)) : wL_law_93 post L xs J x (nI c) ins wr (nI k) (nI v) kc ks f0 f1 f2 a1 a2 a3 a4 a5 a6 a7 a8 a9 a10 a11 a12 a13 a14 a15 a16 a17 a18 a19 a20 a21 a22 a23 a24 := by
  rcases b2 with e | e
  · subst e
    refine tm_Ks0 (nI_add 64 v) hK hc h0 hv b3 (fun u' hK' => ?_)
    obtain ⟨f0, f1, f2, a1, a2, a3, a4, a5, a6, a7, a8, a9, a10, a11, a12, a13, a14, a15, a16, a17, a18, a19, a20, a21, a22, a23, a24⟩ := u'
    exact br_t rfl (tm_l119 hJ hc hv hW tm_bo0 b3 hK')
  · subst e
    refine tm_Ks1 (nI_add 64 v) hK hc h0 hv b3 (fun u' hK' => ?_)
    obtain ⟨f0, f1, f2, a1, a2, a3, a4, a5, a6, a7, a8, a9, a10, a11, a12, a13, a14, a15, a16, a17, a18, a19, a20, a21, a22, a23, a24⟩ := u'
    exact br_f (by decide) (tm_putIn (m := 1) hW hc (by decide) (fun x' hW' => tm_l119 hJ hc hv hW' tm_bo1 b3 hK'))
theorem tm_l203a {post : Int32 → Prop} {L kc ks k : Nat} {xs : Nat → Int32} {J : Int64 → Int32 → Int32 → Int32 → Int32 → Int32 → Int32 → Int32 → Int32 → (Nat → Int32) → (Nat → Int32) → (Nat → Int32) → (Nat → Int32) → (Nat → Int32) → (Nat → Int32) → (Nat → Int32) → (Nat → Int32) → (Nat → Int32) → (Nat → Int32) → (Nat → Int32) → (Nat → Int32) → (Nat → Int32) → (Nat → Int32) → (Nat → Int32) → (Nat → Int32) → (Nat → Int32) → (Nat → Int32) → (Nat → Int32) → (Nat → Int32) → (Nat → Int32) → (Nat → Int32) → (Nat → Int32) → (Nat → Int32) → Prop} {f0 f1 f2 : Int32} {a1 a2 a3 a4 a5 a6 a7 a8 a9 a10 a11 a12 a13 a14 a15 a16 a17 a18 a19 a20 a21 a22 a23 a24 : Nat → Int32} {R : Nat → Nat} {c : Nat} {wt ins wr : Int32} {x : Int64} (hJ : tm_J J k) (hc : c < 12) (hW : tm_W x R) (b2 : tm_bo ins) (b3 : tm_bo wr)
    (hK : tm_K R c wt ins wr 0 (f0, f1, f2, a1, a2, a3, a4, a5, a6, a7, a8, a9, a10, a11, a12, a13, a14, a15, a16, a17, a18, a19, a20, a21, a22, a23, a24)) : wL_law_203 post L xs J x (nI c) ins wr (nI k) 13 kc ks f0 f1 f2 a1 a2 a3 a4 a5 a6 a7 a8 a9 a10 a11 a12 a13 a14 a15 a16 a17 a18 a19 a20 a21 a22 a23 a24 := by
  refine tm_K13 hK (fun u' hK' => ?_)
  obtain ⟨f0, f1, f2, a1, a2, a3, a4, a5, a6, a7, a8, a9, a10, a11, a12, a13, a14, a15, a16, a17, a18, a19, a20, a21, a22, a23, a24⟩ := u'
  exact br_t rfl (tm_fin hJ (by decide) hW tm_bo0 b2 b3 hK' rfl)
theorem tm_l203b {post : Int32 → Prop} {L kc ks k : Nat} {xs : Nat → Int32} {J : Int64 → Int32 → Int32 → Int32 → Int32 → Int32 → Int32 → Int32 → Int32 → (Nat → Int32) → (Nat → Int32) → (Nat → Int32) → (Nat → Int32) → (Nat → Int32) → (Nat → Int32) → (Nat → Int32) → (Nat → Int32) → (Nat → Int32) → (Nat → Int32) → (Nat → Int32) → (Nat → Int32) → (Nat → Int32) → (Nat → Int32) → (Nat → Int32) → (Nat → Int32) → (Nat → Int32) → (Nat → Int32) → (Nat → Int32) → (Nat → Int32) → (Nat → Int32) → (Nat → Int32) → (Nat → Int32) → (Nat → Int32) → Prop} {f0 f1 f2 : Int32} {a1 a2 a3 a4 a5 a6 a7 a8 a9 a10 a11 a12 a13 a14 a15 a16 a17 a18 a19 a20 a21 a22 a23 a24 : Nat → Int32} {R : Nat → Nat} {c : Nat} {wt ins wr : Int32} {x : Int64} (hJ : tm_J J k) (hc : c < 12) (hW : tm_W x R) (b2 : tm_bo ins) (b3 : tm_bo wr)
    (hK : tm_K R c wt ins wr 0 (f0, f1, f2, a1, a2, a3, a4, a5, a6, a7, a8, a9, a10, a11, a12, a13, a14, a15, a16, a17, a18, a19, a20, a21, a22, a23, a24)) : wL_law_203 post L xs J x (nI c) ins wr (nI k) 8 kc ks f0 f1 f2 a1 a2 a3 a4 a5 a6 a7 a8 a9 a10 a11 a12 a13 a14 a15 a16 a17 a18 a19 a20 a21 a22 a23 a24 := by
  refine tm_K8 hc hK (fun u' hK' => ?_)
  obtain ⟨f0, f1, f2, a1, a2, a3, a4, a5, a6, a7, a8, a9, a10, a11, a12, a13, a14, a15, a16, a17, a18, a19, a20, a21, a22, a23, a24⟩ := u'
  refine br_f (by decide) (br_t rfl (pk_le c 0 (fun z => tm_fin hJ (by omega) hW tm_bo0 b2 b3 hK' ?_) (fun z => tm_fin hJ (by omega) hW tm_bo0 b2 b3 hK' ?_)))
  · rw [show c - 1 = 0 by omega]
    rfl
  · exact pk_sub (b := 1) (by omega)
theorem tm_l203c {post : Int32 → Prop} {L kc ks k : Nat} {xs : Nat → Int32} {J : Int64 → Int32 → Int32 → Int32 → Int32 → Int32 → Int32 → Int32 → Int32 → (Nat → Int32) → (Nat → Int32) → (Nat → Int32) → (Nat → Int32) → (Nat → Int32) → (Nat → Int32) → (Nat → Int32) → (Nat → Int32) → (Nat → Int32) → (Nat → Int32) → (Nat → Int32) → (Nat → Int32) → (Nat → Int32) → (Nat → Int32) → (Nat → Int32) → (Nat → Int32) → (Nat → Int32) → (Nat → Int32) → (Nat → Int32) → (Nat → Int32) → (Nat → Int32) → (Nat → Int32) → (Nat → Int32) → (Nat → Int32) → Prop} {f0 f1 f2 : Int32} {a1 a2 a3 a4 a5 a6 a7 a8 a9 a10 a11 a12 a13 a14 a15 a16 a17 a18 a19 a20 a21 a22 a23 a24 : Nat → Int32} {R : Nat → Nat} {c : Nat} {wt ins wr : Int32} {x : Int64} (hJ : tm_J J k) (hc : c < 12) (hW : tm_W x R) (b2 : tm_bo ins) (b3 : tm_bo wr)
    (hK : tm_K R c wt ins wr 0 (f0, f1, f2, a1, a2, a3, a4, a5, a6, a7, a8, a9, a10, a11, a12, a13, a14, a15, a16, a17, a18, a19, a20, a21, a22, a23, a24)) : wL_law_203 post L xs J x (nI c) ins wr (nI k) 9 kc ks f0 f1 f2 a1 a2 a3 a4 a5 a6 a7 a8 a9 a10 a11 a12 a13 a14 a15 a16 a17 a18 a19 a20 a21 a22 a23 a24 := by
  refine tm_K9 hc hK (fun u' hK' => ?_)
  obtain ⟨f0, f1, f2, a1, a2, a3, a4, a5, a6, a7, a8, a9, a10, a11, a12, a13, a14, a15, a16, a17, a18, a19, a20, a21, a22, a23, a24⟩ := u'
  exact br_f (by decide) (br_f (by decide) ⟨by decide, tm_min (b := 11) (tm_tab hc) rfl (by omega) (by omega) (tm_fin hJ (by omega) hW tm_bo0 b2 b3 hK' rfl)⟩)
theorem tm_l302_00 {post : Int32 → Prop} {L kc ks k : Nat} {xs : Nat → Int32} {J : Int64 → Int32 → Int32 → Int32 → Int32 → Int32 → Int32 → Int32 → Int32 → (Nat → Int32) → (Nat → Int32) → (Nat → Int32) → (Nat → Int32) → (Nat → Int32) → (Nat → Int32) → (Nat → Int32) → (Nat → Int32) → (Nat → Int32) → (Nat → Int32) → (Nat → Int32) → (Nat → Int32) → (Nat → Int32) → (Nat → Int32) → (Nat → Int32) → (Nat → Int32) → (Nat → Int32) → (Nat → Int32) → (Nat → Int32) → (Nat → Int32) → (Nat → Int32) → (Nat → Int32) → (Nat → Int32) → (Nat → Int32) → Prop} {f0 f1 f2 : Int32} {a1 a2 a3 a4 a5 a6 a7 a8 a9 a10 a11 a12 a13 a14 a15 a16 a17 a18 a19 a20 a21 a22 a23 a24 : Nat → Int32} {R : Nat → Nat} {c : Nat} {wt ins wr : Int32} {x : Int64} (hJ : tm_J J k) (hc : c < 12) (hW : tm_W x R) (b1 : tm_bo wt) (b2 : tm_bo ins) (b3 : tm_bo wr)
    (hK : tm_K R c wt ins wr 0 (f0, f1, f2, a1, a2, a3, a4, a5, a6, a7, a8, a9, a10, a11, a12, a13, a14, a15, a16, a17, a18, a19, a20, a21, a22, a23, a24)) : wL_law_302 post L xs J x (nI c) ins wr wt (nI k) 0 0 kc ks f0 f1 f2 a1 a2 a3 a4 a5 a6 a7 a8 a9 a10 a11 a12 a13 a14 a15 a16 a17 a18 a19 a20 a21 a22 a23 a24 := by
  refine br_t rfl (tm_K3d (d := 4) (by decide) (by decide) hK (fun u' hK' hP' => ?_))
  obtain ⟨f0, f1, f2, a1, a2, a3, a4, a5, a6, a7, a8, a9, a10, a11, a12, a13, a14, a15, a16, a17, a18, a19, a20, a21, a22, a23, a24⟩ := u'
  refine br_t rfl (br_t rfl (tm_Kins0 hK' hP' (fun u'' hK'' => ?_)))
  obtain ⟨f0, f1, f2, a1, a2, a3, a4, a5, a6, a7, a8, a9, a10, a11, a12, a13, a14, a15, a16, a17, a18, a19, a20, a21, a22, a23, a24⟩ := u''
  exact br_t rfl (br_t rfl (tm_fin hJ hc hW b1 tm_bo0 b3 hK'' rfl))
theorem tm_l302_01 {post : Int32 → Prop} {L kc ks k : Nat} {xs : Nat → Int32} {J : Int64 → Int32 → Int32 → Int32 → Int32 → Int32 → Int32 → Int32 → Int32 → (Nat → Int32) → (Nat → Int32) → (Nat → Int32) → (Nat → Int32) → (Nat → Int32) → (Nat → Int32) → (Nat → Int32) → (Nat → Int32) → (Nat → Int32) → (Nat → Int32) → (Nat → Int32) → (Nat → Int32) → (Nat → Int32) → (Nat → Int32) → (Nat → Int32) → (Nat → Int32) → (Nat → Int32) → (Nat → Int32) → (Nat → Int32) → (Nat → Int32) → (Nat → Int32) → (Nat → Int32) → (Nat → Int32) → (Nat → Int32) → Prop} {f0 f1 f2 : Int32} {a1 a2 a3 a4 a5 a6 a7 a8 a9 a10 a11 a12 a13 a14 a15 a16 a17 a18 a19 a20 a21 a22 a23 a24 : Nat → Int32} {R : Nat → Nat} {c : Nat} {wt ins wr : Int32} {x : Int64} (hJ : tm_J J k) (hc : c < 12) (hW : tm_W x R) (b1 : tm_bo wt) (b2 : tm_bo ins) (b3 : tm_bo wr)
    (hK : tm_K R c wt ins wr 0 (f0, f1, f2, a1, a2, a3, a4, a5, a6, a7, a8, a9, a10, a11, a12, a13, a14, a15, a16, a17, a18, a19, a20, a21, a22, a23, a24)) : wL_law_302 post L xs J x (nI c) ins wr wt (nI k) 0 1 kc ks f0 f1 f2 a1 a2 a3 a4 a5 a6 a7 a8 a9 a10 a11 a12 a13 a14 a15 a16 a17 a18 a19 a20 a21 a22 a23 a24 := by
  refine br_f (by decide) (tm_K3q (by decide) hK (fun u' hK' hP' => ?_))
  obtain ⟨f0, f1, f2, a1, a2, a3, a4, a5, a6, a7, a8, a9, a10, a11, a12, a13, a14, a15, a16, a17, a18, a19, a20, a21, a22, a23, a24⟩ := u'
  refine br_f (by decide) (tm_K7 hK' hP' (fun u1 hK1 hP1 => ?_))
  obtain ⟨f0, f1, f2, a1, a2, a3, a4, a5, a6, a7, a8, a9, a10, a11, a12, a13, a14, a15, a16, a17, a18, a19, a20, a21, a22, a23, a24⟩ := u1
  refine br_t rfl (tm_Kwr0 hK1 hP1 (fun u'' hK'' => ?_))
  obtain ⟨f0, f1, f2, a1, a2, a3, a4, a5, a6, a7, a8, a9, a10, a11, a12, a13, a14, a15, a16, a17, a18, a19, a20, a21, a22, a23, a24⟩ := u''
  exact br_f (by decide) (br_f (by decide) (tm_fin hJ hc hW b1 b2 tm_bo0 hK'' rfl))
theorem tm_l302_10 {post : Int32 → Prop} {L kc ks k : Nat} {xs : Nat → Int32} {J : Int64 → Int32 → Int32 → Int32 → Int32 → Int32 → Int32 → Int32 → Int32 → (Nat → Int32) → (Nat → Int32) → (Nat → Int32) → (Nat → Int32) → (Nat → Int32) → (Nat → Int32) → (Nat → Int32) → (Nat → Int32) → (Nat → Int32) → (Nat → Int32) → (Nat → Int32) → (Nat → Int32) → (Nat → Int32) → (Nat → Int32) → (Nat → Int32) → (Nat → Int32) → (Nat → Int32) → (Nat → Int32) → (Nat → Int32) → (Nat → Int32) → (Nat → Int32) → (Nat → Int32) → (Nat → Int32) → (Nat → Int32) → Prop} {f0 f1 f2 : Int32} {a1 a2 a3 a4 a5 a6 a7 a8 a9 a10 a11 a12 a13 a14 a15 a16 a17 a18 a19 a20 a21 a22 a23 a24 : Nat → Int32} {R : Nat → Nat} {c : Nat} {wt ins wr : Int32} {x : Int64} (hJ : tm_J J k) (hc : c < 12) (hW : tm_W x R) (b1 : tm_bo wt) (b2 : tm_bo ins) (b3 : tm_bo wr)
    (hK : tm_K R c wt ins wr 0 (f0, f1, f2, a1, a2, a3, a4, a5, a6, a7, a8, a9, a10, a11, a12, a13, a14, a15, a16, a17, a18, a19, a20, a21, a22, a23, a24)) : wL_law_302 post L xs J x (nI c) ins wr wt (nI k) 1 0 kc ks f0 f1 f2 a1 a2 a3 a4 a5 a6 a7 a8 a9 a10 a11 a12 a13 a14 a15 a16 a17 a18 a19 a20 a21 a22 a23 a24 := by
  refine br_t rfl (tm_K3d (d := 4) (by decide) (by decide) hK (fun u' hK' hP' => ?_))
  obtain ⟨f0, f1, f2, a1, a2, a3, a4, a5, a6, a7, a8, a9, a10, a11, a12, a13, a14, a15, a16, a17, a18, a19, a20, a21, a22, a23, a24⟩ := u'
  refine br_t rfl (br_f (by decide) (tm_Kins hK' hP' (fun u'' hK'' => ?_)))
  obtain ⟨f0, f1, f2, a1, a2, a3, a4, a5, a6, a7, a8, a9, a10, a11, a12, a13, a14, a15, a16, a17, a18, a19, a20, a21, a22, a23, a24⟩ := u''
  exact br_t rfl (br_t rfl (tm_fin hJ hc hW b1 tm_bo1 b3 hK'' rfl))
theorem tm_l302_11 {post : Int32 → Prop} {L kc ks k : Nat} {xs : Nat → Int32} {J : Int64 → Int32 → Int32 → Int32 → Int32 → Int32 → Int32 → Int32 → Int32 → (Nat → Int32) → (Nat → Int32) → (Nat → Int32) → (Nat → Int32) → (Nat → Int32) → (Nat → Int32) → (Nat → Int32) → (Nat → Int32) → (Nat → Int32) → (Nat → Int32) → (Nat → Int32) → (Nat → Int32) → (Nat → Int32) → (Nat → Int32) → (Nat → Int32) → (Nat → Int32) → (Nat → Int32) → (Nat → Int32) → (Nat → Int32) → (Nat → Int32) → (Nat → Int32) → (Nat → Int32) → (Nat → Int32) → (Nat → Int32) → Prop} {f0 f1 f2 : Int32} {a1 a2 a3 a4 a5 a6 a7 a8 a9 a10 a11 a12 a13 a14 a15 a16 a17 a18 a19 a20 a21 a22 a23 a24 : Nat → Int32} {R : Nat → Nat} {c : Nat} {wt ins wr : Int32} {x : Int64} (hJ : tm_J J k) (hc : c < 12) (hW : tm_W x R) (b1 : tm_bo wt) (b2 : tm_bo ins) (b3 : tm_bo wr)
    (hK : tm_K R c wt ins wr 0 (f0, f1, f2, a1, a2, a3, a4, a5, a6, a7, a8, a9, a10, a11, a12, a13, a14, a15, a16, a17, a18, a19, a20, a21, a22, a23, a24)) : wL_law_302 post L xs J x (nI c) ins wr wt (nI k) 1 1 kc ks f0 f1 f2 a1 a2 a3 a4 a5 a6 a7 a8 a9 a10 a11 a12 a13 a14 a15 a16 a17 a18 a19 a20 a21 a22 a23 a24 := by
  refine br_f (by decide) (tm_K3q (by decide) hK (fun u' hK' hP' => ?_))
  obtain ⟨f0, f1, f2, a1, a2, a3, a4, a5, a6, a7, a8, a9, a10, a11, a12, a13, a14, a15, a16, a17, a18, a19, a20, a21, a22, a23, a24⟩ := u'
  refine br_f (by decide) (tm_K7 hK' hP' (fun u1 hK1 hP1 => ?_))
  obtain ⟨f0, f1, f2, a1, a2, a3, a4, a5, a6, a7, a8, a9, a10, a11, a12, a13, a14, a15, a16, a17, a18, a19, a20, a21, a22, a23, a24⟩ := u1
  refine br_f (by decide) (tm_Kwr hK1 hP1 (fun u'' hK'' => ?_))
  obtain ⟨f0, f1, f2, a1, a2, a3, a4, a5, a6, a7, a8, a9, a10, a11, a12, a13, a14, a15, a16, a17, a18, a19, a20, a21, a22, a23, a24⟩ := u''
  exact br_f (by decide) (br_f (by decide) (tm_fin hJ hc hW b1 b2 tm_bo1 hK'' rfl))
theorem tm_l418 {post : Int32 → Prop} {L kc ks k : Nat} {xs : Nat → Int32} {J : Int64 → Int32 → Int32 → Int32 → Int32 → Int32 → Int32 → Int32 → Int32 → (Nat → Int32) → (Nat → Int32) → (Nat → Int32) → (Nat → Int32) → (Nat → Int32) → (Nat → Int32) → (Nat → Int32) → (Nat → Int32) → (Nat → Int32) → (Nat → Int32) → (Nat → Int32) → (Nat → Int32) → (Nat → Int32) → (Nat → Int32) → (Nat → Int32) → (Nat → Int32) → (Nat → Int32) → (Nat → Int32) → (Nat → Int32) → (Nat → Int32) → (Nat → Int32) → (Nat → Int32) → (Nat → Int32) → (Nat → Int32) → Prop} {f0 f1 f2 : Int32} {a1 a2 a3 a4 a5 a6 a7 a8 a9 a10 a11 a12 a13 a14 a15 a16 a17 a18 a19 a20 a21 a22 a23 a24 : Nat → Int32} {R : Nat → Nat} {c : Nat} {p c' : Nat} {R' : Nat → Nat} {wt ins wr b kd : Int32} {x : Int64} (hlast : ∀ f : Int32 → Prop, f b → wpL_last f () kd) (hp : p < 10) (hK : tm_K R c wt ins wr 0 (f0, f1, f2, a1, a2, a3, a4, a5, a6, a7, a8, a9, a10, a11, a12, a13, a14, a15, a16, a17, a18, a19, a20, a21, a22, a23, a24))
    (HF : ∀ (f : Int32 → St1 → Prop) (u' : St1), tm_K R c wt ins wr 3 u' → tm_P 0 p u' → (∀ u'', tm_K R' c' 0 ins wr 0 u'' → f 1 u'') → wpX_feed f u' b)
    (H : ∀ {f0 f1 f2 : Int32} {a1 a2 a3 a4 a5 a6 a7 a8 a9 a10 a11 a12 a13 a14 a15 a16 a17 a18 a19 a20 a21 a22 a23 a24 : Nat → Int32}, tm_K R' c' 0 ins wr 0 (f0, f1, f2, a1, a2, a3, a4, a5, a6, a7, a8, a9, a10, a11, a12, a13, a14, a15, a16, a17, a18, a19, a20, a21, a22, a23, a24) → wL_law_444 post L xs J x (nI c) ins wr (nI k) kd 1 (nI (tm_one p)) kc ks f0 f1 f2 a1 a2 a3 a4 a5 a6 a7 a8 a9 a10 a11 a12 a13 a14 a15 a16 a17 a18 a19 a20 a21 a22 a23 a24) : wL_law_418 post L xs J x (nI c) ins wr (nI k) kd (nI p) kc ks f0 f1 f2 a1 a2 a3 a4 a5 a6 a7 a8 a9 a10 a11 a12 a13 a14 a15 a16 a17 a18 a19 a20 a21 a22 a23 a24 := by
  refine hlast _ (tm_seq (fun u => tm_K R' c' 0 ins wr 0 u) hp hK HF (fun u' hK' => ?_))
  obtain ⟨f0, f1, f2, a1, a2, a3, a4, a5, a6, a7, a8, a9, a10, a11, a12, a13, a14, a15, a16, a17, a18, a19, a20, a21, a22, a23, a24⟩ := u'
  have h := H hK'
  unfold tm_one at h
  refine pk_eq p 0 (fun z => ?_) (fun z => ?_)
  · rw [if_pos z] at h
    exact h
  · rw [if_neg z] at h
    exact h
theorem tm_k0 {post : Int32 → Prop} {L kc ks k : Nat} {xs : Nat → Int32} {J : Int64 → Int32 → Int32 → Int32 → Int32 → Int32 → Int32 → Int32 → Int32 → (Nat → Int32) → (Nat → Int32) → (Nat → Int32) → (Nat → Int32) → (Nat → Int32) → (Nat → Int32) → (Nat → Int32) → (Nat → Int32) → (Nat → Int32) → (Nat → Int32) → (Nat → Int32) → (Nat → Int32) → (Nat → Int32) → (Nat → Int32) → (Nat → Int32) → (Nat → Int32) → (Nat → Int32) → (Nat → Int32) → (Nat → Int32) → (Nat → Int32) → (Nat → Int32) → (Nat → Int32) → (Nat → Int32) → (Nat → Int32) → Prop} {f0 f1 f2 : Int32} {a1 a2 a3 a4 a5 a6 a7 a8 a9 a10 a11 a12 a13 a14 a15 a16 a17 a18 a19 a20 a21 a22 a23 a24 : Nat → Int32} {R : Nat → Nat} {c : Nat} {p : Nat} (hp : p < 10) {wt ins wr : Int32} {x : Int64} (hJ : tm_J J k) (hc : c < 12) (hW : tm_W x R) (b2 : tm_bo ins) (b3 : tm_bo wr)
    (hK : tm_K R c wt ins wr 0 (f0, f1, f2, a1, a2, a3, a4, a5, a6, a7, a8, a9, a10, a11, a12, a13, a14, a15, a16, a17, a18, a19, a20, a21, a22, a23, a24)) : wL_law_418 post L xs J x (nI c) ins wr (nI k) 0 (nI p) kc ks f0 f1 f2 a1 a2 a3 a4 a5 a6 a7 a8 a9 a10 a11 a12 a13 a14 a15 a16 a17 a18 a19 a20 a21 a22 a23 a24 := by
  have q1 := tm_one_pos p
  have q2 := tm_one_lt (show p < 100 by omega)
  refine tm_l418 (fun f hf => br_t rfl hf) hp hK (fun f u' k' p' h' => tm_K67 hc (by omega) k' p' h') ?_
  intro f0 f1 f2 a1 a2 a3 a4 a5 a6 a7 a8 a9 a10 a11 a12 a13 a14 a15 a16 a17 a18 a19 a20 a21 a22 a23 a24 hK'
  exact br_f (by decide) (br_f (by decide) (br_f (by decide) (br_f (by decide) (br_f (by decide) (br_f (by decide) (br_t rfl (tm_min (b := 11) (nI_add c _) rfl (by omega) (by omega) (br_t rfl (tm_fin hJ (by omega) hW tm_bo0 b2 b3 hK' rfl)))))))))
theorem tm_ge0 {a b : Nat} (ha : a < 2 ^ 30) (hb : b < 2 ^ 30) : 0 ≤ nI a - nI b ↔ b ≤ a := by
  rw [Int32.le_iff_toInt_le, pk_sub_toInt ha hb, show (0 : Int32).toInt = 0 from by decide]
  omega
theorem tm_k1 {post : Int32 → Prop} {L kc ks k : Nat} {xs : Nat → Int32} {J : Int64 → Int32 → Int32 → Int32 → Int32 → Int32 → Int32 → Int32 → Int32 → (Nat → Int32) → (Nat → Int32) → (Nat → Int32) → (Nat → Int32) → (Nat → Int32) → (Nat → Int32) → (Nat → Int32) → (Nat → Int32) → (Nat → Int32) → (Nat → Int32) → (Nat → Int32) → (Nat → Int32) → (Nat → Int32) → (Nat → Int32) → (Nat → Int32) → (Nat → Int32) → (Nat → Int32) → (Nat → Int32) → (Nat → Int32) → (Nat → Int32) → (Nat → Int32) → (Nat → Int32) → (Nat → Int32) → (Nat → Int32) → Prop} {f0 f1 f2 : Int32} {a1 a2 a3 a4 a5 a6 a7 a8 a9 a10 a11 a12 a13 a14 a15 a16 a17 a18 a19 a20 a21 a22 a23 a24 : Nat → Int32} {R : Nat → Nat} {c : Nat} {p : Nat} (hp : p < 10) {wt ins wr : Int32} {x : Int64} (hJ : tm_J J k) (hc : c < 12) (hW : tm_W x R) (b2 : tm_bo ins) (b3 : tm_bo wr)
    (hK : tm_K R c wt ins wr 0 (f0, f1, f2, a1, a2, a3, a4, a5, a6, a7, a8, a9, a10, a11, a12, a13, a14, a15, a16, a17, a18, a19, a20, a21, a22, a23, a24)) : wL_law_418 post L xs J x (nI c) ins wr (nI k) 1 (nI p) kc ks f0 f1 f2 a1 a2 a3 a4 a5 a6 a7 a8 a9 a10 a11 a12 a13 a14 a15 a16 a17 a18 a19 a20 a21 a22 a23 a24 := by
  have q1 := tm_one_pos p
  have q2 := tm_one_lt (show p < 100 by omega)
  refine tm_l418 (fun f hf => br_f (by decide) (br_t rfl hf)) hp hK (fun f u' k' p' h' => tm_K68 hc (by omega) k' p' h') ?_
  intro f0 f1 f2 a1 a2 a3 a4 a5 a6 a7 a8 a9 a10 a11 a12 a13 a14 a15 a16 a17 a18 a19 a20 a21 a22 a23 a24 hK'
  exact br_f (by decide) (br_f (by decide) (br_f (by decide) (br_f (by decide) (br_f (by decide) (br_f (by decide) (br_f (by decide) (br_t rfl (ek_if (tm_ge0 (by omega) (by omega)) (fun z => br_t rfl (tm_fin hJ (by omega) hW tm_bo0 b2 b3 hK' (pk_sub z))) (fun z => br_t rfl (tm_fin hJ (by omega) hW tm_bo0 b2 b3 hK' (by rw [show c - tm_one p = 0 by omega]; rfl)))))))))))
theorem tm_k2 {post : Int32 → Prop} {L kc ks k : Nat} {xs : Nat → Int32} {J : Int64 → Int32 → Int32 → Int32 → Int32 → Int32 → Int32 → Int32 → Int32 → (Nat → Int32) → (Nat → Int32) → (Nat → Int32) → (Nat → Int32) → (Nat → Int32) → (Nat → Int32) → (Nat → Int32) → (Nat → Int32) → (Nat → Int32) → (Nat → Int32) → (Nat → Int32) → (Nat → Int32) → (Nat → Int32) → (Nat → Int32) → (Nat → Int32) → (Nat → Int32) → (Nat → Int32) → (Nat → Int32) → (Nat → Int32) → (Nat → Int32) → (Nat → Int32) → (Nat → Int32) → (Nat → Int32) → (Nat → Int32) → Prop} {f0 f1 f2 : Int32} {a1 a2 a3 a4 a5 a6 a7 a8 a9 a10 a11 a12 a13 a14 a15 a16 a17 a18 a19 a20 a21 a22 a23 a24 : Nat → Int32} {R : Nat → Nat} {c : Nat} {p : Nat} (hp : p < 10) {wt ins wr : Int32} {x : Int64} (hJ : tm_J J k) (hc : c < 12) (hW : tm_W x R) (b2 : tm_bo ins) (b3 : tm_bo wr)
    (hK : tm_K R c wt ins wr 0 (f0, f1, f2, a1, a2, a3, a4, a5, a6, a7, a8, a9, a10, a11, a12, a13, a14, a15, a16, a17, a18, a19, a20, a21, a22, a23, a24)) : wL_law_418 post L xs J x (nI c) ins wr (nI k) 2 (nI p) kc ks f0 f1 f2 a1 a2 a3 a4 a5 a6 a7 a8 a9 a10 a11 a12 a13 a14 a15 a16 a17 a18 a19 a20 a21 a22 a23 a24 := by
  have q1 := tm_one_pos p
  have q2 := tm_one_lt (show p < 100 by omega)
  refine tm_l418 (fun f hf => br_f (by decide) (br_f (by decide) (br_t rfl hf))) hp hK (fun f u' k' p' h' => tm_K71 hc (by omega) k' p' h') ?_
  intro f0 f1 f2 a1 a2 a3 a4 a5 a6 a7 a8 a9 a10 a11 a12 a13 a14 a15 a16 a17 a18 a19 a20 a21 a22 a23 a24 hK'
  exact br_f (by decide) (br_f (by decide) (br_f (by decide) (br_f (by decide) (br_f (by decide) (br_f (by decide) (br_f (by decide) (br_f (by decide) (br_t rfl (tm_min (a := tm_one p - 1) (b := 11) (pk_sub (b := 1) (by omega)) rfl (by omega) (by omega) (br_t rfl (tm_fin hJ (by omega) hW tm_bo0 b2 b3 hK' rfl)))))))))))
theorem tm_e1 {c m : Nat} (h : 0 < m) : nI c + nI m - 1 = nI (c + m - 1) := by
  rw [nI_add]
  exact pk_sub (b := 1) (by omega)
theorem tm_k3 {post : Int32 → Prop} {L kc ks k : Nat} {xs : Nat → Int32} {J : Int64 → Int32 → Int32 → Int32 → Int32 → Int32 → Int32 → Int32 → Int32 → (Nat → Int32) → (Nat → Int32) → (Nat → Int32) → (Nat → Int32) → (Nat → Int32) → (Nat → Int32) → (Nat → Int32) → (Nat → Int32) → (Nat → Int32) → (Nat → Int32) → (Nat → Int32) → (Nat → Int32) → (Nat → Int32) → (Nat → Int32) → (Nat → Int32) → (Nat → Int32) → (Nat → Int32) → (Nat → Int32) → (Nat → Int32) → (Nat → Int32) → (Nat → Int32) → (Nat → Int32) → (Nat → Int32) → (Nat → Int32) → Prop} {f0 f1 f2 : Int32} {a1 a2 a3 a4 a5 a6 a7 a8 a9 a10 a11 a12 a13 a14 a15 a16 a17 a18 a19 a20 a21 a22 a23 a24 : Nat → Int32} {R : Nat → Nat} {c : Nat} {p : Nat} (hp : p < 10) {wt ins wr : Int32} {x : Int64} (hJ : tm_J J k) (hc : c < 12) (hW : tm_W x R) (b2 : tm_bo ins) (b3 : tm_bo wr)
    (hK : tm_K R c wt ins wr 0 (f0, f1, f2, a1, a2, a3, a4, a5, a6, a7, a8, a9, a10, a11, a12, a13, a14, a15, a16, a17, a18, a19, a20, a21, a22, a23, a24)) : wL_law_418 post L xs J x (nI c) ins wr (nI k) 3 (nI p) kc ks f0 f1 f2 a1 a2 a3 a4 a5 a6 a7 a8 a9 a10 a11 a12 a13 a14 a15 a16 a17 a18 a19 a20 a21 a22 a23 a24 := by
  have q1 := tm_one_pos p
  have q2 := tm_one_lt (show p < 100 by omega)
  refine tm_l418 (fun f hf => br_f (by decide) (br_f (by decide) (br_f (by decide) (br_t rfl hf)))) hp hK (fun f u' k' p' h' => tm_K88 hc (by omega) k' p' h') ?_
  intro f0 f1 f2 a1 a2 a3 a4 a5 a6 a7 a8 a9 a10 a11 a12 a13 a14 a15 a16 a17 a18 a19 a20 a21 a22 a23 a24 hK'
  exact br_t rfl (by rw [tm_e1 q1]; exact tm_emptied (min (c + tm_one p) 12) hW (by omega) (by omega) (by omega) (fun x' hW' => br_f (by decide) (br_f (by decide) (br_f (by decide) (br_t rfl (tm_fin hJ hc hW' tm_bo0 b2 b3 hK' rfl))))))
theorem tm_k4 {post : Int32 → Prop} {L kc ks k : Nat} {xs : Nat → Int32} {J : Int64 → Int32 → Int32 → Int32 → Int32 → Int32 → Int32 → Int32 → Int32 → (Nat → Int32) → (Nat → Int32) → (Nat → Int32) → (Nat → Int32) → (Nat → Int32) → (Nat → Int32) → (Nat → Int32) → (Nat → Int32) → (Nat → Int32) → (Nat → Int32) → (Nat → Int32) → (Nat → Int32) → (Nat → Int32) → (Nat → Int32) → (Nat → Int32) → (Nat → Int32) → (Nat → Int32) → (Nat → Int32) → (Nat → Int32) → (Nat → Int32) → (Nat → Int32) → (Nat → Int32) → (Nat → Int32) → (Nat → Int32) → Prop} {f0 f1 f2 : Int32} {a1 a2 a3 a4 a5 a6 a7 a8 a9 a10 a11 a12 a13 a14 a15 a16 a17 a18 a19 a20 a21 a22 a23 a24 : Nat → Int32} {R : Nat → Nat} {c : Nat} {p : Nat} (hp : p < 8) {wt ins wr : Int32} {x : Int64} (hJ : tm_J J k) (hc : c < 12) (hW : tm_W x R) (b2 : tm_bo ins) (b3 : tm_bo wr)
    (hK : tm_K R c wt ins wr 0 (f0, f1, f2, a1, a2, a3, a4, a5, a6, a7, a8, a9, a10, a11, a12, a13, a14, a15, a16, a17, a18, a19, a20, a21, a22, a23, a24)) : wL_law_418 post L xs J x (nI c) ins wr (nI k) 4 (nI p) kc ks f0 f1 f2 a1 a2 a3 a4 a5 a6 a7 a8 a9 a10 a11 a12 a13 a14 a15 a16 a17 a18 a19 a20 a21 a22 a23 a24 := by
  have q1 := tm_one_pos p
  have q3 : tm_one p < 12 := by
    unfold tm_one
    split <;> omega
  have q2 := tm_one_lt (show p < 100 by omega)
  refine tm_l418 (fun f hf => br_f (by decide) (br_f (by decide) (br_f (by decide) (br_f (by decide) (br_t rfl hf))))) (show p < 10 by omega) hK (fun f u' k' p' h' => tm_K80 hc (by omega) k' p' h') ?_
  intro f0 f1 f2 a1 a2 a3 a4 a5 a6 a7 a8 a9 a10 a11 a12 a13 a14 a15 a16 a17 a18 a19 a20 a21 a22 a23 a24 hK'
  exact br_f (by decide) (br_t rfl (tm_takenOut hW hc (by omega) (fun x' hW' => br_f (by decide) (br_f (by decide) (br_f (by decide) (br_t rfl (tm_fin hJ hc hW' tm_bo0 b2 b3 hK' rfl)))))))
theorem tm_k5 {post : Int32 → Prop} {L kc ks k : Nat} {xs : Nat → Int32} {J : Int64 → Int32 → Int32 → Int32 → Int32 → Int32 → Int32 → Int32 → Int32 → (Nat → Int32) → (Nat → Int32) → (Nat → Int32) → (Nat → Int32) → (Nat → Int32) → (Nat → Int32) → (Nat → Int32) → (Nat → Int32) → (Nat → Int32) → (Nat → Int32) → (Nat → Int32) → (Nat → Int32) → (Nat → Int32) → (Nat → Int32) → (Nat → Int32) → (Nat → Int32) → (Nat → Int32) → (Nat → Int32) → (Nat → Int32) → (Nat → Int32) → (Nat → Int32) → (Nat → Int32) → (Nat → Int32) → (Nat → Int32) → Prop} {f0 f1 f2 : Int32} {a1 a2 a3 a4 a5 a6 a7 a8 a9 a10 a11 a12 a13 a14 a15 a16 a17 a18 a19 a20 a21 a22 a23 a24 : Nat → Int32} {R : Nat → Nat} {c : Nat} {p : Nat} (hp : p < 8) {wt ins wr : Int32} {x : Int64} (hJ : tm_J J k) (hc : c < 12) (hW : tm_W x R) (b2 : tm_bo ins) (b3 : tm_bo wr)
    (hK : tm_K R c wt ins wr 0 (f0, f1, f2, a1, a2, a3, a4, a5, a6, a7, a8, a9, a10, a11, a12, a13, a14, a15, a16, a17, a18, a19, a20, a21, a22, a23, a24)) : wL_law_418 post L xs J x (nI c) ins wr (nI k) 5 (nI p) kc ks f0 f1 f2 a1 a2 a3 a4 a5 a6 a7 a8 a9 a10 a11 a12 a13 a14 a15 a16 a17 a18 a19 a20 a21 a22 a23 a24 := by
  have q1 := tm_one_pos p
  have q3 : tm_one p < 12 := by
    unfold tm_one
    split <;> omega
  have q2 := tm_one_lt (show p < 100 by omega)
  refine tm_l418 (fun f hf => br_f (by decide) (br_f (by decide) (br_f (by decide) (br_f (by decide) (br_f (by decide) (br_t rfl hf)))))) (show p < 10 by omega) hK (fun f u' k' p' h' => tm_K64 hc (by omega) k' p' h') ?_
  intro f0 f1 f2 a1 a2 a3 a4 a5 a6 a7 a8 a9 a10 a11 a12 a13 a14 a15 a16 a17 a18 a19 a20 a21 a22 a23 a24 hK'
  exact br_f (by decide) (br_f (by decide) (br_t rfl (tm_putIn hW hc (by omega) (fun x' hW' => br_f (by decide) (br_f (by decide) (br_f (by decide) (br_t rfl (tm_fin hJ hc hW' tm_bo0 b2 b3 hK' rfl))))))))
theorem tm_k6 {post : Int32 → Prop} {L kc ks k : Nat} {xs : Nat → Int32} {J : Int64 → Int32 → Int32 → Int32 → Int32 → Int32 → Int32 → Int32 → Int32 → (Nat → Int32) → (Nat → Int32) → (Nat → Int32) → (Nat → Int32) → (Nat → Int32) → (Nat → Int32) → (Nat → Int32) → (Nat → Int32) → (Nat → Int32) → (Nat → Int32) → (Nat → Int32) → (Nat → Int32) → (Nat → Int32) → (Nat → Int32) → (Nat → Int32) → (Nat → Int32) → (Nat → Int32) → (Nat → Int32) → (Nat → Int32) → (Nat → Int32) → (Nat → Int32) → (Nat → Int32) → (Nat → Int32) → (Nat → Int32) → Prop} {f0 f1 f2 : Int32} {a1 a2 a3 a4 a5 a6 a7 a8 a9 a10 a11 a12 a13 a14 a15 a16 a17 a18 a19 a20 a21 a22 a23 a24 : Nat → Int32} {R : Nat → Nat} {c : Nat} {wt ins wr : Int32} {x : Int64} (hJ : tm_J J k) (hc : c < 12) (hW : tm_W x R) (b2 : tm_bo ins) (b3 : tm_bo wr)
    (hK : tm_K R c wt ins wr 0 (f0, f1, f2, a1, a2, a3, a4, a5, a6, a7, a8, a9, a10, a11, a12, a13, a14, a15, a16, a17, a18, a19, a20, a21, a22, a23, a24)) : wL_law_418 post L xs J x (nI c) ins wr (nI k) 6 (nI 0) kc ks f0 f1 f2 a1 a2 a3 a4 a5 a6 a7 a8 a9 a10 a11 a12 a13 a14 a15 a16 a17 a18 a19 a20 a21 a22 a23 a24 := by
  refine tm_l418 (fun f hf => br_f (by decide) (br_f (by decide) (br_f (by decide) (br_f (by decide) (br_f (by decide) (br_f (by decide) (hf))))))) (show 0 < 10 by decide) hK (fun f u' k' p' h' => tm_K75a hc k' p' h') ?_
  intro f0 f1 f2 a1 a2 a3 a4 a5 a6 a7 a8 a9 a10 a11 a12 a13 a14 a15 a16 a17 a18 a19 a20 a21 a22 a23 a24 hK'
  exact br_f (by decide) (br_f (by decide) (br_f (by decide) (br_t rfl (tm_emptied (to := 11) 12 hW (by omega) (by omega) (by omega) (fun x' hW' => br_f (by decide) (br_f (by decide) (br_f (by decide) (br_t rfl (tm_fin hJ hc hW' tm_bo0 b2 b3 hK' rfl)))))))))
theorem tm_k7 {post : Int32 → Prop} {L kc ks k : Nat} {xs : Nat → Int32} {J : Int64 → Int32 → Int32 → Int32 → Int32 → Int32 → Int32 → Int32 → Int32 → (Nat → Int32) → (Nat → Int32) → (Nat → Int32) → (Nat → Int32) → (Nat → Int32) → (Nat → Int32) → (Nat → Int32) → (Nat → Int32) → (Nat → Int32) → (Nat → Int32) → (Nat → Int32) → (Nat → Int32) → (Nat → Int32) → (Nat → Int32) → (Nat → Int32) → (Nat → Int32) → (Nat → Int32) → (Nat → Int32) → (Nat → Int32) → (Nat → Int32) → (Nat → Int32) → (Nat → Int32) → (Nat → Int32) → (Nat → Int32) → Prop} {f0 f1 f2 : Int32} {a1 a2 a3 a4 a5 a6 a7 a8 a9 a10 a11 a12 a13 a14 a15 a16 a17 a18 a19 a20 a21 a22 a23 a24 : Nat → Int32} {R : Nat → Nat} {c : Nat} {wt ins wr : Int32} {x : Int64} (hJ : tm_J J k) (hc : c < 12) (hW : tm_W x R) (b2 : tm_bo ins) (b3 : tm_bo wr)
    (hK : tm_K R c wt ins wr 0 (f0, f1, f2, a1, a2, a3, a4, a5, a6, a7, a8, a9, a10, a11, a12, a13, a14, a15, a16, a17, a18, a19, a20, a21, a22, a23, a24)) : wL_law_418 post L xs J x (nI c) ins wr (nI k) 7 (nI 1) kc ks f0 f1 f2 a1 a2 a3 a4 a5 a6 a7 a8 a9 a10 a11 a12 a13 a14 a15 a16 a17 a18 a19 a20 a21 a22 a23 a24 := by
  refine tm_l418 (fun f hf => br_f (by decide) (br_f (by decide) (br_f (by decide) (br_f (by decide) (br_f (by decide) (br_f (by decide) (hf))))))) (show 1 < 10 by decide) hK (fun f u' k' p' h' => tm_K75b hc k' p' h') ?_
  intro f0 f1 f2 a1 a2 a3 a4 a5 a6 a7 a8 a9 a10 a11 a12 a13 a14 a15 a16 a17 a18 a19 a20 a21 a22 a23 a24 hK'
  exact br_f (by decide) (br_f (by decide) (br_f (by decide) (br_f (by decide) (br_t rfl (tm_emptied (lo := 0) (c + 1) hW (by omega) (by omega) (by omega) (fun x' hW' => br_f (by decide) (br_f (by decide) (br_f (by decide) (br_t rfl (tm_fin hJ hc hW' tm_bo0 b2 b3 hK' rfl))))))))))
theorem tm_k8 {post : Int32 → Prop} {L kc ks k : Nat} {xs : Nat → Int32} {J : Int64 → Int32 → Int32 → Int32 → Int32 → Int32 → Int32 → Int32 → Int32 → (Nat → Int32) → (Nat → Int32) → (Nat → Int32) → (Nat → Int32) → (Nat → Int32) → (Nat → Int32) → (Nat → Int32) → (Nat → Int32) → (Nat → Int32) → (Nat → Int32) → (Nat → Int32) → (Nat → Int32) → (Nat → Int32) → (Nat → Int32) → (Nat → Int32) → (Nat → Int32) → (Nat → Int32) → (Nat → Int32) → (Nat → Int32) → (Nat → Int32) → (Nat → Int32) → (Nat → Int32) → (Nat → Int32) → (Nat → Int32) → Prop} {f0 f1 f2 : Int32} {a1 a2 a3 a4 a5 a6 a7 a8 a9 a10 a11 a12 a13 a14 a15 a16 a17 a18 a19 a20 a21 a22 a23 a24 : Nat → Int32} {R : Nat → Nat} {c : Nat} {wt ins wr : Int32} {x : Int64} (hJ : tm_J J k) (hc : c < 12) (hW : tm_W x R) (b2 : tm_bo ins) (b3 : tm_bo wr)
    (hK : tm_K R c wt ins wr 0 (f0, f1, f2, a1, a2, a3, a4, a5, a6, a7, a8, a9, a10, a11, a12, a13, a14, a15, a16, a17, a18, a19, a20, a21, a22, a23, a24)) : wL_law_418 post L xs J x (nI c) ins wr (nI k) 8 (nI 2) kc ks f0 f1 f2 a1 a2 a3 a4 a5 a6 a7 a8 a9 a10 a11 a12 a13 a14 a15 a16 a17 a18 a19 a20 a21 a22 a23 a24 := by
  refine tm_l418 (fun f hf => br_f (by decide) (br_f (by decide) (br_f (by decide) (br_f (by decide) (br_f (by decide) (br_f (by decide) (hf))))))) (show 2 < 10 by decide) hK (fun f u' k' p' h' => tm_K75c hc k' p' h') ?_
  intro f0 f1 f2 a1 a2 a3 a4 a5 a6 a7 a8 a9 a10 a11 a12 a13 a14 a15 a16 a17 a18 a19 a20 a21 a22 a23 a24 hK'
  exact br_f (by decide) (br_f (by decide) (br_f (by decide) (br_f (by decide) (br_f (by decide) (br_t rfl (have hW' : tm_W 0 (tm_pEm R 0 12) := tm_W_congr tm_W0 (fun i hi => by unfold tm_pEm; rw [if_pos (by omega)]); br_f (by decide) (br_f (by decide) (br_f (by decide) (br_t rfl (tm_fin hJ hc hW' tm_bo0 b2 b3 hK' rfl))))))))))
theorem tm_418 {post : Int32 → Prop} {L kc ks k : Nat} {xs : Nat → Int32} {J : Int64 → Int32 → Int32 → Int32 → Int32 → Int32 → Int32 → Int32 → Int32 → (Nat → Int32) → (Nat → Int32) → (Nat → Int32) → (Nat → Int32) → (Nat → Int32) → (Nat → Int32) → (Nat → Int32) → (Nat → Int32) → (Nat → Int32) → (Nat → Int32) → (Nat → Int32) → (Nat → Int32) → (Nat → Int32) → (Nat → Int32) → (Nat → Int32) → (Nat → Int32) → (Nat → Int32) → (Nat → Int32) → (Nat → Int32) → (Nat → Int32) → (Nat → Int32) → (Nat → Int32) → (Nat → Int32) → (Nat → Int32) → Prop} {f0 f1 f2 : Int32} {a1 a2 a3 a4 a5 a6 a7 a8 a9 a10 a11 a12 a13 a14 a15 a16 a17 a18 a19 a20 a21 a22 a23 a24 : Nat → Int32} {R : Nat → Nat} {c : Nat} {kd n : Nat} {wt ins wr : Int32} {x : Int64} (hJ : tm_J J k) (hc : c < 12) (hkd : kd < 9) (hn : n < 8) (hW : tm_W x R) (b2 : tm_bo ins) (b3 : tm_bo wr)
    (hK : tm_K R c wt ins wr 0 (f0, f1, f2, a1, a2, a3, a4, a5, a6, a7, a8, a9, a10, a11, a12, a13, a14, a15, a16, a17, a18, a19, a20, a21, a22, a23, a24)) : (6 ≤ nI kd → wL_law_418 post L xs J x (nI c) ins wr (nI k) (nI kd) (nI kd - 6) kc ks f0 f1 f2 a1 a2 a3 a4 a5 a6 a7 a8 a9 a10 a11 a12 a13 a14 a15 a16 a17 a18 a19 a20 a21 a22 a23 a24) ∧ (¬ 6 ≤ nI kd → wL_law_418 post L xs J x (nI c) ins wr (nI k) (nI kd) (nI n) kc ks f0 f1 f2 a1 a2 a3 a4 a5 a6 a7 a8 a9 a10 a11 a12 a13 a14 a15 a16 a17 a18 a19 a20 a21 a22 a23 a24) := by
  rcases (show kd = 0 ∨ kd = 1 ∨ kd = 2 ∨ kd = 3 ∨ kd = 4 ∨ kd = 5 ∨ kd = 6 ∨ kd = 7 ∨ kd = 8 by omega) with e | e | e | e | e | e | e | e | e
  · subst e
    exact br_f (by decide) (tm_k0 (by omega) hJ hc hW b2 b3 hK)
  · subst e
    exact br_f (by decide) (tm_k1 (by omega) hJ hc hW b2 b3 hK)
  · subst e
    exact br_f (by decide) (tm_k2 (by omega) hJ hc hW b2 b3 hK)
  · subst e
    exact br_f (by decide) (tm_k3 (by omega) hJ hc hW b2 b3 hK)
  · subst e
    exact br_f (by decide) (tm_k4 hn hJ hc hW b2 b3 hK)
  · subst e
    exact br_f (by decide) (tm_k5 hn hJ hc hW b2 b3 hK)
  · subst e
    refine br_t (by decide) ?_
    rw [show nI 6 - 6 = nI 0 by decide]
    exact tm_k6 hJ hc hW b2 b3 hK
  · subst e
    refine br_t (by decide) ?_
    rw [show nI 7 - 6 = nI 1 by decide]
    exact tm_k7 hJ hc hW b2 b3 hK
  · subst e
    refine br_t (by decide) ?_
    rw [show nI 8 - 6 = nI 2 by decide]
    exact tm_k8 hJ hc hW b2 b3 hK
theorem tm_rem {x : Int32} {d j : Nat} {D : Int32} (hx : x = nI j) (hD : D = nI d) (hj : j < 2 ^ 31) (h0 : 0 < d) (hd : d < 2 ^ 31) : x - x / D * D = nI (j % d) := by
  subst hx hD
  exact pk_rem hj h0 hd
theorem tm_turn {L kc ks n k : Nat} {xs : Nat → Int32} (hL : L ≤ 260) (hk : k < L) {f0 f1 f2 : Int32} {a1 a2 a3 a4 a5 a6 a7 a8 a9 a10 a11 a12 a13 a14 a15 a16 a17 a18 a19 a20 a21 a22 a23 a24 : Nat → Int32} {R : Nat → Nat} {c : Nat} {wt ins wr : Int32} {x : Int64}
    (hJ : tm_J (wL_law_25 (fun r => r = 1) L xs kc ks n) k) (hc : c < 12) (hW : tm_W x R) (b1 : tm_bo wt) (b2 : tm_bo ins) (b3 : tm_bo wr) (hK : tm_K R c wt ins wr 0 (f0, f1, f2, a1, a2, a3, a4, a5, a6, a7, a8, a9, a10, a11, a12, a13, a14, a15, a16, a17, a18, a19, a20, a21, a22, a23, a24)) :
    wL_law_25 (fun r => r = 1) L xs kc ks (n + 1) x (nI c) ins wr wt (nI k) f0 f1 f2 a1 a2 a3 a4 a5 a6 a7 a8 a9 a10 a11 a12 a13 a14 a15 a16 a17 a18 a19 a20 a21 a22 a23 a24 := by
  have hin : vp_in (nI k) L := vp_in_nI hk (by omega)
  refine br_f (nI_ge hk (by omega)) ⟨hin, fun w _ => ⟨hin, fun y _ => nm_e ?_⟩⟩
  refine br_c (fun _ => br_c (fun _ => br_c (fun _ => ⟨by decide, ?_⟩) (fun _ => br_c (fun _ => br_c (fun _ => ?_) (fun _ => ?_)) (fun _ => br_c (fun _ => ?_) (fun _ => ?_)))) (fun _ => br_c (fun _ => ?_) (fun _ => br_c (fun _ => ?_) (fun _ => ?_)))) (fun _ => ⟨by decide, ?_⟩)
  · obtain ⟨j, hj, ej⟩ := pk_andE (y >>> ((3 : Int32) &&& 31)) (m := 15) 4 (by decide)
    obtain ⟨m, hm, em⟩ := pk_andE y (m := 7) 3 (by decide)
    refine nm_r (tm_rem (d := 9) ej rfl (by omega) (by decide) (by decide)) ?_
    rw [em]
    exact tm_418 hJ hc (Nat.mod_lt _ (by decide)) hm hW b2 b3 hK
  · exact tm_l302_11 hJ hc hW b1 b2 b3 hK
  · exact tm_l302_10 hJ hc hW b1 b2 b3 hK
  · exact tm_l302_01 hJ hc hW b1 b2 b3 hK
  · exact tm_l302_00 hJ hc hW b1 b2 b3 hK
  · exact tm_l203a hJ hc hW b2 b3 hK
  · exact tm_l203b hJ hc hW b2 b3 hK
  · exact tm_l203c hJ hc hW b2 b3 hK
  · obtain ⟨j, hj, ej⟩ := pk_andE y (m := 15) 4 (by decide)
    have e : 1 + ((y &&& 15) - (y &&& 15) / 15 * 15) = nI (1 + j % 15) := by
      have e2 : (y &&& 15) - (y &&& 15) / 15 * 15 = nI (j % 15) := tm_rem (d := 15) ej rfl (by omega) (by decide) (by decide)
      rw [e2]
      exact nI_add 1 _
    have hv : j % 15 < 15 := Nat.mod_lt _ (by decide)
    refine nm_r e ?_
    rcases b1 with e1 | e1
    · subst e1
      exact br_t rfl (tm_l93 hJ hc (by omega) (by omega) hW b2 b3 hK)
    · subst e1
      refine br_f (by decide) (tm_K13 hK (fun u' hK' => ?_))
      obtain ⟨f0, f1, f2, a1, a2, a3, a4, a5, a6, a7, a8, a9, a10, a11, a12, a13, a14, a15, a16, a17, a18, a19, a20, a21, a22, a23, a24⟩ := u'
      exact tm_l93 (c := 0) hJ (by decide) (by omega) (by omega) hW b2 b3 hK'
theorem tm_loop {L kc ks : Nat} {xs : Nat → Int32} (hL : L ≤ 260) : ∀ (n k : Nat) (R : Nat → Nat) (c : Nat) (wt ins wr : Int32) (x : Int64) {f0 f1 f2 : Int32} {a1 a2 a3 a4 a5 a6 a7 a8 a9 a10 a11 a12 a13 a14 a15 a16 a17 a18 a19 a20 a21 a22 a23 a24 : Nat → Int32}, k ≤ L → L - k < n → c < 12 → tm_W x R → tm_bo wt → tm_bo ins → tm_bo wr → tm_K R c wt ins wr 0 (f0, f1, f2, a1, a2, a3, a4, a5, a6, a7, a8, a9, a10, a11, a12, a13, a14, a15, a16, a17, a18, a19, a20, a21, a22, a23, a24) →
    wL_law_25 (fun r => r = 1) L xs kc ks n x (nI c) ins wr wt (nI k) f0 f1 f2 a1 a2 a3 a4 a5 a6 a7 a8 a9 a10 a11 a12 a13 a14 a15 a16 a17 a18 a19 a20 a21 a22 a23 a24 := by
  intro n
  induction n with
  | zero =>
    intro k R c wt ins wr x f0 f1 f2 a1 a2 a3 a4 a5 a6 a7 a8 a9 a10 a11 a12 a13 a14 a15 a16 a17 a18 a19 a20 a21 a22 a23 a24 hk hn
    omega
  | succ n ih =>
    intro k R c wt ins wr x f0 f1 f2 a1 a2 a3 a4 a5 a6 a7 a8 a9 a10 a11 a12 a13 a14 a15 a16 a17 a18 a19 a20 a21 a22 a23 a24 hk hn hc hW b1 b2 b3 hK
    by_cases e : k = L
    · subst e
      refine br_t (nI_le (Nat.le_refl k) (by omega)) (tm_stale (show tm_A R a1 a2 a3 a12 from hK.2.1) (fun m hm => pk_lt 12 m (fun z => absurd z (by omega)) (fun _ => rfl)))
    · refine tm_turn hL (by omega) ?_ hc hW b1 b2 b3 hK
      intro R c wt ins wr x f0 f1 f2 a1 a2 a3 a4 a5 a6 a7 a8 a9 a10 a11 a12 a13 a14 a15 a16 a17 a18 a19 a20 a21 a22 a23 a24 hc hW b1 b2 b3 hK
      exact ih (k + 1) R c wt ins wr x (by omega) (by omega) hc hW b1 b2 b3 hK
theorem i_vc (xs : Nat → Int32) (L : Nat) (hL : L ≤ 260) : wpL_law (fun r => r = 1) L xs := by
  refine Exists.intro 24 (Exists.intro 742 ⟨by decide, by decide, tm_init (fun u hK => ?_)⟩)
  obtain ⟨f0, f1, f2, a1, a2, a3, a4, a5, a6, a7, a8, a9, a10, a11, a12, a13, a14, a15, a16, a17, a18, a19, a20, a21, a22, a23, a24⟩ := u
  exact Exists.intro (L + 1) (tm_loop hL (L + 1) 0 (fun _ => 0) 0 0 0 1 0 (by omega) (by omega) (by decide) tm_W0 tm_bo0 tm_bo0 tm_bo1 hK)
end
