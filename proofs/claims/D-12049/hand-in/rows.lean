section
/-! ===== bits of an Int32 ===== -/
def vw_bt (x : Int32) (i : Nat) : Bool := x.toBitVec.getLsbD i
theorem vw_su : ∀ n, n < 32 → (((nI n).toUInt32 &&& Int32.toUInt32 31).toBitVec % 32).toNat = n := by decide +kernel
theorem vw_or (x y : Int32) (i : Nat) : vw_bt (x ||| y) i = (vw_bt x i || vw_bt y i) := by
  unfold vw_bt
  rw [Int32.toBitVec_or, BitVec.getLsbD_or]
theorem vw_one : ∀ v, v < 8 → ∀ i, i < 8 → vw_bt ((1 : Int32) <<< (nI v &&& 31)) i = decide (i = v) := by decide +kernel
theorem vw_b0 (i : Nat) : vw_bt 0 i = false := BitVec.getLsbD_zero
theorem vw_bit (m : Int32) (v : Nat) (hv : v < 32) : ((m.toUInt32 >>> ((nI v).toUInt32 &&& Int32.toUInt32 31)).toInt32 &&& 1) = if vw_bt m v then 1 else 0 := by
  have e : ((m.toUInt32 >>> ((nI v).toUInt32 &&& Int32.toUInt32 31)).toInt32).toBitVec = m.toBitVec >>> v := by
    show m.toBitVec >>> (((nI v).toUInt32 &&& Int32.toUInt32 31).toBitVec % 32) = m.toBitVec >>> v
    rw [BitVec.ushiftRight_eq', vw_su v hv]
  apply Int32.toBitVec_inj.1
  rw [Int32.toBitVec_and, e]
  show (m.toBitVec >>> v &&& 1#32) = _
  rw [BitVec.and_one_eq_setWidth_ofBool_getLsbD, BitVec.getLsbD_ushiftRight, Nat.add_zero]
  unfold vw_bt
  cases m.toBitVec.getLsbD v
  · decide
  · decide
theorem vw_bf {m : Int32} {v : Nat} (hv : v < 32) (h : ((m.toUInt32 >>> ((nI v).toUInt32 &&& Int32.toUInt32 31)).toInt32 &&& 1) = 0) : vw_bt m v = false := by
  rw [vw_bit m v hv] at h
  cases hb : vw_bt m v
  · rfl
  · rw [hb] at h
    exact absurd h (by decide)
theorem vw_btr {m : Int32} {v : Nat} (hv : v < 32) (h : ¬ ((m.toUInt32 >>> ((nI v).toUInt32 &&& Int32.toUInt32 31)).toInt32 &&& 1) = 0) : vw_bt m v = true := by
  rw [vw_bit m v hv] at h
  cases hb : vw_bt m v
  · rw [hb] at h
    exact absurd rfl h
  · rfl
theorem vw_setb {m : Int32} {v w : Nat} (hv : v < 8) (hw : w < 8) : vw_bt (m ||| ((1 : Int32) <<< (nI v &&& 31))) w = (vw_bt m w || decide (w = v)) := by
  rw [vw_or, vw_one v hv w hw]
/-! ===== the stakes of a set ===== -/
def vw_sk (a : Nat → Int32) (m : Int32) : Nat → Int32
  | 0 => 0
  | v + 1 => vw_sk a m v + (if vw_bt m v then a v else 0)
theorem vw_sk_or (a : Nat → Int32) (m : Int32) {v : Nat} (hv : v < 8) (hb : vw_bt m v = false) : ∀ k, k ≤ 8 → vw_sk a (m ||| ((1 : Int32) <<< (nI v &&& 31))) k = vw_sk a m k + (if v < k then a v else 0) := by
  intro k
  induction k with
  | zero =>
    intro _
    rw [if_neg (by omega)]
    rfl
  | succ k ih =>
    intro hk
    show vw_sk a (m ||| ((1 : Int32) <<< (nI v &&& 31))) k + (if vw_bt (m ||| ((1 : Int32) <<< (nI v &&& 31))) k then a k else 0) = vw_sk a m k + (if vw_bt m k then a k else 0) + _
    rw [ih (by omega), vw_setb hv (by omega)]
    by_cases e : k = v
    · subst e
      rw [hb, if_neg (show ¬ k < k by omega), if_pos (show k < k + 1 by omega)]
      simp
    · rw [decide_eq_false e, Bool.or_false]
      by_cases e2 : v < k
      · rw [if_pos e2, if_pos (show v < k + 1 by omega)]
        generalize vw_sk a m k = x
        generalize (if vw_bt m k then a k else 0) = y
        generalize a v = z
        rw [Int32.add_assoc, Int32.add_comm z y, Int32.add_assoc]
      · rw [if_neg e2, if_neg (show ¬ v < k + 1 by omega)]
        generalize vw_sk a m k = x
        generalize (if vw_bt m k then a k else 0) = y
        rw [Int32.add_zero, Int32.add_zero]
theorem vw_sk_set (a : Nat → Int32) (m : Int32) {v : Nat} (hv : v < 8) (hb : vw_bt m v = false) : vw_sk a (m ||| ((1 : Int32) <<< (nI v &&& 31))) 8 = vw_sk a m 8 + a v := by
  rw [vw_sk_or a m hv hb 8 (by omega), if_pos hv]
theorem vw_sk_0 (a : Nat → Int32) : ∀ k, vw_sk a 0 k = 0 := by
  intro k
  induction k with
  | zero => rfl
  | succ k ih =>
    show vw_sk a 0 k + (if vw_bt 0 k then a k else 0) = 0
    rw [ih, vw_b0]
    rfl
theorem vw_sk_s (a : Nat → Int32) (m : Int32) (v : Nat) : vw_sk a m (v + 1) = vw_sk a m v + (if vw_bt m v then a v else 0) := rfl
/-! ===== sums of naturals ===== -/
def vw_sn (n : Nat → Nat) : Nat → Nat
  | 0 => 0
  | v + 1 => vw_sn n v + n v
def vw_n1 (n : Nat → Nat) (v : Nat) : Nat → Nat := fun j => if j = v then n j + 1 else n j
theorem vw_n1_s (n : Nat → Nat) (v : Nat) : vw_n1 n v v = n v + 1 := if_pos rfl
theorem vw_n1_n (n : Nat → Nat) {v w : Nat} (h : w ≠ v) : vw_n1 n v w = n w := if_neg h
theorem vw_sn_1 (n : Nat → Nat) (v : Nat) : ∀ k, vw_sn (vw_n1 n v) k = vw_sn n k + (if v < k then 1 else 0) := by
  intro k
  induction k with
  | zero =>
    rw [if_neg (by omega)]
    rfl
  | succ k ih =>
    show vw_sn (vw_n1 n v) k + vw_n1 n v k = vw_sn n k + n k + _
    rw [ih]
    by_cases e : k = v
    · subst e
      rw [vw_n1_s, if_neg (by omega), if_pos (by omega)]
      omega
    · rw [vw_n1_n n e]
      by_cases e2 : v < k
      · rw [if_pos e2, if_pos (by omega)]
        omega
      · rw [if_neg e2, if_neg (by omega)]
        omega
theorem vw_sn_le (n : Nat → Nat) {v : Nat} : ∀ k, v < k → n v ≤ vw_sn n k := by
  intro k
  induction k with
  | zero =>
    intro h
    omega
  | succ k ih =>
    intro h
    show n v ≤ vw_sn n k + n k
    by_cases e : v = k
    · subst e
      omega
    · have := ih (by omega)
      omega
/-! ===== the first that matches ===== -/
theorem vw_fd (P : Nat → Prop) (m : Nat) : ∃ d, d ≤ m ∧ (∀ j, j < d → ¬ P j) ∧ (d < m → P d) := by
  induction m with
  | zero => exact ⟨0, Nat.le_refl 0, fun j h => absurd h (by omega), fun h => absurd h (by omega)⟩
  | succ m ih =>
    obtain ⟨d, h1, h2, h3⟩ := ih
    by_cases hd : d < m
    · exact ⟨d, by omega, h2, fun _ => h3 hd⟩
    · by_cases he : P d
      · exact ⟨d, by omega, h2, fun _ => he⟩
      · refine ⟨d + 1, by omega, fun j hj => ?_, fun h => absurd h (by omega)⟩
        by_cases e : j = d
        · rw [e]
          exact he
        · exact h2 j (by omega)
/-! ===== justified checkpoints: the highest, the number ===== -/
def vw_hi (g : Nat → Int32) : Nat → Nat
  | 0 => 0
  | c + 1 => if g c = 0 then vw_hi g c else c
def vw_ct (g : Nat → Int32) (s : Nat) : Nat → Nat
  | 0 => 0
  | b + 1 => vw_ct g s b + if g (s + b) = 0 then 0 else 1
theorem vw_hi_0 {g : Nat → Int32} {c : Nat} (h : g c = 0) : vw_hi g (c + 1) = vw_hi g c := if_pos h
theorem vw_hi_1 {g : Nat → Int32} {c : Nat} (h : ¬ g c = 0) : vw_hi g (c + 1) = c := if_neg h
theorem vw_ct_0 {g : Nat → Int32} {s b : Nat} (h : g (s + b) = 0) : vw_ct g s (b + 1) = vw_ct g s b := by
  show vw_ct g s b + (if g (s + b) = 0 then 0 else 1) = _
  rw [if_pos h]
  rfl
theorem vw_ct_1 {g : Nat → Int32} {s b : Nat} (h : ¬ g (s + b) = 0) : vw_ct g s (b + 1) = vw_ct g s b + 1 := by
  show vw_ct g s b + (if g (s + b) = 0 then 0 else 1) = _
  rw [if_neg h]
def vw_J (g : Nat → Int32) : Prop := ¬ g 0 = 0 ∧ g 1 = 0 ∧ ∀ e, e < 32 → g (4 * e + 3) = 0
/-! ===== the law's long: a stake a byte ===== -/
def vw_S (st : Int64) (a : Nat → Int32) : Prop := ∀ v, v < 8 → ((st >>> ((8 * nI v).toInt64 &&& 63)).toInt32 &&& 255) = a v
theorem vw_S0c : ∀ v, v < 8 → (((72340172838076673 : Int64) >>> ((8 * nI v).toInt64 &&& 63)).toInt32 &&& 255) = 1 := by decide +kernel
theorem vw_sc : ∀ v, v < 8 → (((8 * nI v).toInt64 &&& 63).toBitVec.smod 64).toNat = 8 * v := by decide +kernel
theorem vw_m255 : ∀ i, i < 32 → (255 : Int32).toBitVec.getLsbD i = decide (i < 8) := by decide +kernel
theorem vw_l255 : ∀ i, i < 64 → (255 : Int64).toBitVec.getLsbD i = decide (i < 8) := by decide +kernel
theorem vw_by (st : Int64) {v : Nat} (hv : v < 8) (i : Nat) (hi : i < 32) : (((st >>> ((8 * nI v).toInt64 &&& 63)).toInt32 &&& 255)).toBitVec.getLsbD i = (decide (i < 8) && st.toBitVec.getLsbD (8 * v + i)) := by
  rw [Int32.toBitVec_and, BitVec.getLsbD_and, Int64.toBitVec_toInt32, BitVec.getLsbD_signExtend, Int64.toBitVec_shiftRight, vw_m255 i hi]
  show ((decide (i < 32) && if i < 64 then (st.toBitVec.sshiftRight (((8 * nI v).toInt64 &&& 63).toBitVec.smod 64).toNat).getLsbD i else _) && _) = _
  rw [vw_sc v hv, if_pos (by omega), BitVec.getLsbD_sshiftRight]
  by_cases h : i < 8
  · simp [h, hi, show ¬ (64 ≤ i) by omega, show 8 * v + i < 64 by omega]
  · simp [h]
theorem vw_shl (z : Int64) {v : Nat} (hv : v < 8) (j : Nat) (hj : j < 64) : (z <<< ((8 * nI v).toInt64 &&& 63)).toBitVec.getLsbD j = (!decide (j < 8 * v) && z.toBitVec.getLsbD (j - 8 * v)) := by
  rw [Int64.toBitVec_shiftLeft]
  show (z.toBitVec <<< (((8 * nI v).toInt64 &&& 63).toBitVec.smod 64).toNat).getLsbD j = _
  rw [vw_sc v hv, BitVec.getLsbD_shiftLeft, decide_eq_true hj, Bool.true_and]
theorem vw_S1 {st : Int64} {a : Nat → Int32} {v q : Nat} (hv : v < 8) (hq : q < 256) (hS : vw_S st a) : vw_S ((st &&& (((255 : Int64) <<< ((8 * nI v).toInt64 &&& 63)) ^^^ (-1))) ||| (lN q <<< ((8 * nI v).toInt64 &&& 63))) (upd a v (nI q)) := by
  intro w hw
  apply Int32.toBitVec_inj.1
  apply BitVec.eq_of_getLsbD_eq
  intro i hi
  have ha : (-1 : Int64).toBitVec = BitVec.allOnes 64 := by decide
  rw [vw_by _ hw i hi]
  by_cases h8 : i < 8
  · rw [decide_eq_true h8, Bool.true_and, Int64.toBitVec_or, BitVec.getLsbD_or, Int64.toBitVec_and, BitVec.getLsbD_and, Int64.toBitVec_xor, BitVec.getLsbD_xor, ha, BitVec.getLsbD_allOnes, vw_shl _ hv _ (by omega), vw_shl _ hv _ (by omega), decide_eq_true (show 8 * w + i < 64 by omega)]
    by_cases e : w = v
    · subst e
      rw [pk_us, vw_l255 _ (by omega), decide_eq_false (show ¬ 8 * w + i < 8 * w by omega), Nat.add_sub_cancel_left, decide_eq_true h8]
      show _ = (BitVec.ofNat 32 q).getLsbD i
      have el : (lN q).toBitVec = BitVec.ofNat 64 q := rfl
      rw [el, BitVec.getLsbD_ofNat, BitVec.getLsbD_ofNat]
      simp [show i < 64 by omega, hi]
    · have h1 := hS w hw
      rw [pk_un e, ← h1, vw_by _ hw i hi, decide_eq_true h8, Bool.true_and]
      by_cases e2 : 8 * w + i < 8 * v
      · rw [decide_eq_true e2]
        simp
      · rw [decide_eq_false e2, vw_l255 _ (by omega), decide_eq_false (show ¬ 8 * w + i - 8 * v < 8 by omega)]
        have el : (lN q).toBitVec = BitVec.ofNat 64 q := rfl
        have hp : 2 ^ 8 ≤ 2 ^ (8 * w + i - 8 * v) := Nat.pow_le_pow_right (by decide) (by omega)
        rw [el, BitVec.getLsbD_ofNat, Nat.testBit_lt_two_pow (show q < 2 ^ (8 * w + i - 8 * v) by omega)]
        simp
  · rw [decide_eq_false h8, Bool.false_and]
    by_cases e : w = v
    · subst e
      rw [pk_us]
      show _ = (BitVec.ofNat 32 q).getLsbD i
      have hp : 2 ^ 8 ≤ 2 ^ i := Nat.pow_le_pow_right (by decide) (by omega)
      rw [BitVec.getLsbD_ofNat, Nat.testBit_lt_two_pow (show q < 2 ^ i by omega), Bool.and_false]
    · have h1 := hS w hw
      rw [pk_un e, ← h1, vw_by _ hw i hi, decide_eq_false h8, Bool.false_and]
/-! ===== small facts ===== -/
theorem vw_v8 {x : Int32} (h : ¬ x < 0) (h7 : ¬ 7 < x) : ∃ v, v < 8 ∧ x = nI v := by
  obtain ⟨j, hj, e⟩ := nI_of2 (M := 7) (n := 7) (by decide) h (Int32.not_lt.mp h7)
  exact ⟨j, by omega, e⟩
theorem vw_cl {a b : Nat} (h : a + b < 2 ^ 31) : (nI a + nI b).toNatClampNeg = a + b := by
  rw [nI_add, nI_clamp h]
theorem vw_m1le : ∀ t, t < 32 → (-1 : Int32) ≤ nI t := by decide +kernel
theorem vw_le32 : ∀ t, t < 32 → nI t ≤ (32 : Int32) := by decide +kernel
theorem vw_sh2 {s : Nat} (h : s < 2 ^ 31) : nI s >>> ((2 : Int32) &&& 31) = nI (s / 4) := pk_shrN h _ 2 (by decide)
end
section
section
variable {og he li kn : Int32} {a1 a2 a3 a4 a5 a6 a7 a8 a9 : Nat → Int32}
theorem vw_linkOf {post : Int32 → Prop} {p0 p1 : Int32} {l d : Nat} (hl : l ≤ 64) (hd : d ≤ l) (h1 : ∀ j, j < d → ¬ (a6 j = p0 ∧ a7 j = p1)) (h2 : d < l → a6 d = p0 ∧ a7 d = p1)
    (H : post (if d < l then nI d else -1)) : wpX_linkOf post (og, he, nI l, kn, a1, a2, a3, a4, a5, a6, a7, a8, a9) p0 p1 :=
  pk_loop (σ := Unit) (fun n i _ => wX_linkOf_2 post p0 p1 og he (nI l) kn a1 a2 a3 a4 a5 a6 a7 a8 a9 n (nI i)) (fun _ _ => True) d 0 () (by omega) trivial
    (fun n _ _ => pk_le l d (fun z => by rw [if_neg (by omega)] at H; exact H)
      (fun z => ⟨pk_in d 64 (by omega), br_t (by rw [nI_clamp (by omega)]; exact (h2 z).1) ⟨pk_in d 64 (by omega), br_t (by rw [nI_clamp (by omega)]; exact (h2 z).2) (by rw [if_pos z] at H; exact H)⟩⟩))
    (fun n i _ hi _ hw => pk_le l i (fun z => absurd z (by omega))
      (fun z => ⟨pk_in i 64 (by omega), br_c (fun e => ⟨pk_in i 64 (by omega), br_f (by rw [nI_clamp (by omega)]; rw [nI_clamp (by omega)] at e; exact fun e2 => h1 i hi ⟨e, e2⟩) (nm_r (nI_1 i) (hw () trivial))⟩) (fun _ => nm_r (nI_1 i) (hw () trivial))⟩))
theorem vw_stakes {post : Int32 → Prop} {m : Int32} (H : post (vw_sk a1 m 8)) : wpX_stakes post (og, he, li, kn, a1, a2, a3, a4, a5, a6, a7, a8, a9) m :=
  pk_loop (fun n i s => wX_stakes_4 post m og he li kn a1 a2 a3 a4 a5 a6 a7 a8 a9 n s (nI i)) (fun i s => s = vw_sk a1 m i) 8 0 0 (by omega) rfl
    (fun n s h => pk_le 8 8 (fun _ => by rw [h]; exact H) (fun z => absurd z (by omega)))
    (fun n i s hi h hw => pk_le 8 i (fun z => absurd z (by omega))
      (fun _ => br_c
        (fun e => nm_e (nm_r (nI_1 i) (hw _ (by rw [h, vw_sk_s, vw_bf (by omega) e]; rfl))))
        (fun e => ⟨pk_in i 8 hi, nm_e (nm_r (nI_1 i) (hw _ (by rw [h, vw_sk_s, vw_btr (by omega) e, nI_clamp (by omega)]; rfl)))⟩)))
theorem vw_support {post : Int32 → Prop} {p0 p1 : Int32} {l d : Nat} (hl : l ≤ 64) (hd : d ≤ l) (h1 : ∀ j, j < d → ¬ (a6 j = p0 ∧ a7 j = p1)) (h2 : d < l → a6 d = p0 ∧ a7 d = p1)
    (H : post (if d < l then vw_sk a1 (a8 d) 8 else 0)) : wpX_support post (og, he, nI l, kn, a1, a2, a3, a4, a5, a6, a7, a8, a9) p0 p1 := by
  unfold wpX_support
  refine vw_linkOf hl hd h1 h2 ?_
  by_cases z : d < l
  · rw [if_pos z] at H
    rw [if_pos z]
    refine br_t (nI_pos' (by omega)) ⟨pk_in d 64 (by omega), ?_⟩
    rw [nI_clamp (by omega)]
    exact vw_stakes H
  · rw [if_neg z] at H
    rw [if_neg z]
    exact br_f (by decide) H
theorem vw_isVal {post : Int32 → Prop} {p0 : Int32} (H0 : (p0 < 0 ∨ 7 < p0) → post 0) (H1 : ∀ v, v < 8 → p0 = nI v → post 1) : wpX_isValidator post () p0 :=
  br_c (fun h => H0 (Or.inl h)) (fun h => br_c (fun h7 => H0 (Or.inr h7)) (fun h7 => Exists.elim (vw_v8 h h7) (fun v e => H1 v e.1 e.2)))
theorem vw_isVal_t {post : Int32 → Prop} {v : Nat} (hv : v < 8) (H : post 1) : wpX_isValidator post () (nI v) :=
  pk_lt v 0 (fun z => absurd z (by omega)) (fun _ => pk_lt 7 v (fun z => absurd z (by omega)) (fun _ => H))
theorem vw_isVal_f {post : Int32 → Prop} {p0 : Int32} (h : p0 < 0 ∨ 7 < p0) (H : post 0) : wpX_isValidator post () p0 :=
  br_c (fun _ => H) (fun g => br_c (fun _ => H) (fun g7 => absurd h (fun z => z.elim g g7)))
theorem vw_votes {post : Int32 → Prop} {v : Nat} (hv : v < 8) (H : post (a5 v)) : wpX_votes post (og, he, li, kn, a1, a2, a3, a4, a5, a6, a7, a8, a9) (nI v) := by
  unfold wpX_votes
  refine vw_isVal_t hv (br_f (by decide) ⟨pk_in v 8 hv, ?_⟩)
  rw [nI_clamp (by omega)]
  exact H
theorem vw_votes_n {post : Int32 → Prop} {p0 : Int32} (h : p0 < 0 ∨ 7 < p0) (H : post (-1)) : wpX_votes post (og, he, li, kn, a1, a2, a3, a4, a5, a6, a7, a8, a9) p0 := by
  unfold wpX_votes
  exact vw_isVal_f h (br_t rfl H)
theorem vw_off {post : Int32 → Prop} {v : Nat} (hv : v < 8) (H : post (if vw_bt og v then 1 else 0)) : wpX_offender post (og, he, li, kn, a1, a2, a3, a4, a5, a6, a7, a8, a9) (nI v) := by
  unfold wpX_offender
  refine vw_isVal_t hv (br_f (by decide) ?_)
  rw [vw_bit og v (by omega)]
  exact H
theorem vw_off_n {post : Int32 → Prop} {p0 : Int32} (h : p0 < 0 ∨ 7 < p0) (H : post (-1)) : wpX_offender post (og, he, li, kn, a1, a2, a3, a4, a5, a6, a7, a8, a9) p0 := by
  unfold wpX_offender
  exact vw_isVal_f h (br_t rfl H)
theorem vw_and3 {s : Nat} (hs : s ≤ 127) : nI s &&& 3 = nI (s % 4) := pk_andN (by omega) 2 (by decide)
theorem vw_isCk {post : Int32 → Prop} {p0 : Int32} (H0 : post 0) (H1 : ∀ s, s ≤ 126 → s % 4 ≠ 3 → p0 = nI s → post 1) : wpX_isCheckpoint post () p0 := by
  refine br_c (fun _ => H0) (fun h => br_c (fun _ => H0) (fun h2 => br_c (fun _ => H0) (fun h3 => ?_)))
  obtain ⟨s, hs, e⟩ := nI_of2 (M := 126) (n := 126) (by decide) h (Int32.not_lt.mp h2)
  refine H1 s hs (fun e3 => h3 ?_) e
  rw [e, vw_and3 (by omega), e3]
  rfl
theorem vw_isCk_t {post : Int32 → Prop} {s : Nat} (hs : s ≤ 126) (h3 : s % 4 ≠ 3) (H : post 1) : wpX_isCheckpoint post () (nI s) := by
  refine pk_lt s 0 (fun z => absurd z (by omega)) (fun _ => pk_lt 126 s (fun z => absurd z (by omega)) (fun _ => ?_))
  rw [vw_and3 (by omega)]
  exact pk_eq (s % 4) 3 (fun z => absurd z h3) (fun _ => H)
theorem vw_isCk_f {post : Int32 → Prop} {s : Nat} (hs : s ≤ 127) (h3 : s % 4 = 3) (H : post 0) : wpX_isCheckpoint post () (nI s) := by
  refine pk_lt s 0 (fun z => absurd z (by omega)) (fun _ => pk_lt 126 s (fun z => H) (fun _ => ?_))
  rw [vw_and3 (by omega)]
  exact pk_eq (s % 4) 3 (fun _ => H) (fun z => absurd h3 z)
/-! ===== judge ===== -/
theorem vw_j45 {post : Int32 → Prop} {v f t y z : Nat} (hv : v < 8) (hf : f < 32) (ht : t < 32) (H0 : post (nI (z + y))) (H1 : a3 (32 * v + f) ≠ -1 → post (nI (z + y + 4))) :
    wX_judge_45 post (nI f) (nI t) (nI (32 * v)) (nI y) (nI z) og he li kn a1 a2 a3 a4 a5 a6 a7 a8 a9 := by
  refine nm_r (nI_add z y) ⟨pk_in (32 * v + f) 256 (by omega) (nI_add _ _), ?_⟩
  rw [vw_cl (by omega)]
  refine br_c (fun h => nm_r (Int32.add_zero _) H0) (fun h => nm_r (nI_add (z + y) 4) (H1 (fun e => h ?_)))
  rw [e]
  exact vw_m1le t ht
theorem vw_j23 {post : Int32 → Prop} {v f t z : Nat} (hv : v < 8) (hf : f < 32) (ht : t < 32) (H : ∀ q, q ≤ z + 6 → (a2 (32 * v + f) = 32 → a3 (32 * v + f) = -1 → q = z) → post (nI q)) :
    wX_judge_23 post (nI f) (nI t) (nI (32 * v)) (nI z) og he li kn a1 a2 a3 a4 a5 a6 a7 a8 a9 := by
  refine ⟨pk_in (32 * v + f) 256 (by omega) (nI_add _ _), ?_⟩
  rw [vw_cl (by omega)]
  refine br_c (fun h => ?_) (fun h => ?_)
  · exact vw_j45 (y := 0) hv hf ht (H _ (by omega) (fun _ _ => by omega)) (fun h3 => H _ (by omega) (fun _ e => absurd e h3))
  · have h2 : a2 (32 * v + f) ≠ 32 := by
      intro e
      rw [e] at h
      exact h (vw_le32 t ht)
    exact vw_j45 (y := 2) hv hf ht (H _ (by omega) (fun e _ => absurd e h2)) (fun h3 => H _ (by omega) (fun _ e => absurd e h3))
theorem vw_judge {post : Int32 → Prop} {v f t : Nat} (hv : v < 8) (hf : f < 32) (ht : t < 32) (H : ∀ q, q ≤ 7 → (a2 (32 * v + f) = 32 → a3 (32 * v + f) = -1 → a4 (32 * v + t) = 0 → q = 0) → post (nI q)) :
    wpX_judge post (og, he, li, kn, a1, a2, a3, a4, a5, a6, a7, a8, a9) (nI v) (nI f) (nI t) := by
  unfold wpX_judge
  refine nm_r (pk_mul 32 v) ⟨pk_in (32 * v + t) 256 (by omega) (nI_add _ _), ?_⟩
  rw [vw_cl (by omega)]
  refine br_c (fun h => ?_) (fun h => ?_)
  · exact vw_j23 (z := 0) hv hf ht (fun q hq h2 => H q (by omega) (fun e2 e3 _ => h2 e2 e3))
  · refine vw_j23 (z := 1) hv hf ht (fun q hq h2 => H q (by omega) (fun _ _ e4 => absurd ?_ h))
    rw [e4]
    decide
/-! ===== enter ===== -/
def vw_blk (v : Nat) (a b : Nat → Int32) : Prop := ∀ j, (j < 32 * v ∨ 32 * v + 32 ≤ j) → b j = a j
theorem vw_blk_r (v : Nat) (a : Nat → Int32) : vw_blk v a a := fun _ _ => rfl
theorem vw_blk_u {v e : Nat} {a b : Nat → Int32} {x : Int32} (he : e < 32) (h : vw_blk v a b) : vw_blk v a (upd b (32 * v + e) x) := by
  intro j hj
  rw [pk_un (by omega)]
  exact h j hj
theorem vw_e77 {post : St1 → Prop} {v f t : Nat} {c : Nat → Int32} (hv : v < 8) (hf : f < 32) (hc : vw_blk v c a3)
    (H : ∀ b3, vw_blk v c b3 → post (og, he, li, kn, a1, a2, b3, a4, a5, a6, a7, a8, a9)) : ∃ n, wX_enter_77 post (nI t) (nI (32 * v)) og he li kn n (nI (f + 1)) a1 a2 a3 a4 a5 a6 a7 a8 a9 :=
  pk_loop (fun n i s => wX_enter_77 post (nI t) (nI (32 * v)) og he li kn n (nI i) a1 a2 s a4 a5 a6 a7 a8 a9) (fun _ s => vw_blk v c s) 32 (f + 1) a3 (by omega) hc
    (fun n s h => pk_le 32 32 (fun _ => H s h) (fun z => absurd z (by omega)))
    (fun n i s hi h hw => pk_le 32 i (fun z => absurd z (by omega)) (fun _ => ⟨pk_in (32 * v + i) 256 (by omega) (nI_add _ _), br_c
      (fun _ => ⟨pk_in (32 * v + i) 256 (by omega) (nI_add _ _), pk_in (32 * v + i) 256 (by omega) (nI_add _ _), nm_e (nm_r (nI_1 i) (hw _ (by rw [vw_cl (by omega)]; exact vw_blk_u hi h)))⟩)
      (fun _ => ⟨pk_in (32 * v + i) 256 (by omega) (nI_add _ _), nm_e (nm_r (nI_1 i) (hw _ (by rw [vw_cl (by omega)]; exact vw_blk_u hi h)))⟩)⟩))
theorem vw_e22 {post : St1 → Prop} {v f t : Nat} {c : Nat → Int32} (hv : v < 8) (hf : f < 32) (hc : vw_blk v c a2)
    (H : ∀ b2 b3, vw_blk v c b2 → vw_blk v a3 b3 → post (og, he, li, kn, a1, b2, b3, a4, a5, a6, a7, a8, a9)) : ∃ n, wX_enter_22 post (nI f) (nI t) (nI (32 * v)) og he li kn n 0 a1 a2 a3 a4 a5 a6 a7 a8 a9 :=
  pk_loop (fun n i s => wX_enter_22 post (nI f) (nI t) (nI (32 * v)) og he li kn n (nI i) a1 s a3 a4 a5 a6 a7 a8 a9) (fun _ s => vw_blk v c s) f 0 a2 (by omega) hc
    (fun n s h => pk_le f f (fun _ => nm_r (nI_1 f) (vw_e77 hv hf (vw_blk_r v a3) (fun b3 h3 => H s b3 h h3))) (fun z => absurd z (by omega)))
    (fun n i s hi h hw => pk_le f i (fun z => absurd z (by omega)) (fun _ => ⟨pk_in (32 * v + i) 256 (by omega) (nI_add _ _), br_c
      (fun _ => ⟨pk_in (32 * v + i) 256 (by omega) (nI_add _ _), pk_in (32 * v + i) 256 (by omega) (nI_add _ _), nm_e (nm_r (nI_1 i) (hw _ (by rw [vw_cl (by omega)]; exact vw_blk_u (by omega) h)))⟩)
      (fun _ => ⟨pk_in (32 * v + i) 256 (by omega) (nI_add _ _), nm_e (nm_r (nI_1 i) (hw _ (by rw [vw_cl (by omega)]; exact vw_blk_u (by omega) h)))⟩)⟩))
theorem vw_enter {post : St1 → Prop} {v f t : Nat} (hv : v < 8) (hf : f < 32) (ht : t < 32)
    (H : ∀ b2 b3 b4, vw_blk v a2 b2 → vw_blk v a3 b3 → vw_blk v a4 b4 → post (og, he, li, kn, a1, b2, b3, b4, a5, a6, a7, a8, a9)) : wpX_enter post (og, he, li, kn, a1, a2, a3, a4, a5, a6, a7, a8, a9) (nI v) (nI f) (nI t) := by
  unfold wpX_enter
  refine nm_r (pk_mul 32 v) ⟨pk_in (32 * v + t) 256 (by omega) (nI_add _ _), pk_in (32 * v + t) 256 (by omega) (nI_add _ _), ?_⟩
  rw [vw_cl (by omega)]
  exact nm_e (vw_e22 hv hf (vw_blk_r v a2) (fun b2 b3 h2 h3 => H b2 b3 _ h2 h3 (vw_blk_u ht (vw_blk_r v a4))))
end
end
section
section
variable {og he li kn : Int32} {a1 a2 a3 a4 a5 a6 a7 a8 a9 : Nat → Int32}
/-! ===== links ===== -/
def vw_ln (x y : Int32) : Prop := (∃ s, s < 128 ∧ x = nI s) ∧ ∃ t, t < 128 ∧ 4 ≤ t ∧ t % 4 ≠ 3 ∧ y = nI t
def vw_OI (l : Nat) (a6 a7 : Nat → Int32) (i p : Nat) (b6 b7 : Nat → Int32) : Prop := i ≤ p ∧ p ≤ l ∧ (∀ j, j < p → b6 j = a6 j ∧ b7 j = a7 j) ∧ (∀ j, j ≤ l → j ≠ p → vw_ln (b6 j) (b7 j))
theorem vw_o11 {post : Int32 → St1 → Prop} {x1 x2 : Int32} {l : Nat} (hl : l < 64)
    (H : ∀ p b6 b7 b8, vw_OI l a6 a7 0 p b6 b7 → post (nI p) (og, he, nI (l + 1), kn, a1, a2, a3, a4, a5, upd b6 p x1, upd b7 p x2, upd b8 p 0, a9)) :
    ∀ (i p : Nat) (b6 b7 b8 : Nat → Int32), vw_OI l a6 a7 i p b6 b7 → wX_openLink_11 post x1 x2 og he (nI l) kn (i + 1) (nI p) (nI i) a1 a2 a3 a4 a5 b6 b7 b8 a9 := by
  intro i
  induction i with
  | zero =>
    intro p b6 b7 b8 h
    have hp : p ≤ l := h.2.1
    refine pk_le 0 0 (fun _ => ⟨pk_in p 64 (by omega), ?_⟩) (fun z => absurd z (by omega))
    rw [nI_clamp (by omega)]
    exact nm_e ⟨pk_in p 64 (by omega), nm_e ⟨pk_in p 64 (by omega), nm_e (nm_r (nI_1 l) (H p b6 b7 b8 h))⟩⟩
  | succ i ih =>
    intro p b6 b7 b8 h
    obtain ⟨h1, h2, h3, h4⟩ := h
    refine pk_le (i + 1) 0 (fun z => absurd z (by omega)) (fun _ => pk_eq p (i + 1) (fun e => ?_) (fun e => ?_))
    · rw [nI_pred, nI_clamp (show i < 2 ^ 31 by omega), nI_clamp (show i + 1 < 2 ^ 31 by omega)]
      refine ⟨pk_in i 64 (by omega), br_c (fun _ => nm_r (pk_m1 i) (ih p b6 b7 b8 ⟨by omega, h2, h3, h4⟩)) (fun _ => ?_)⟩
      refine ⟨pk_in i 64 (by omega), pk_in (i + 1) 64 (by omega), nm_e ⟨pk_in i 64 (by omega), pk_in (i + 1) 64 (by omega), nm_e ⟨pk_in i 64 (by omega), pk_in (i + 1) 64 (by omega), nm_e (nm_e (nm_r (pk_m1 i) ?_))⟩⟩⟩
      refine ih i _ _ _ ⟨Nat.le_refl i, by omega, fun j hj => ?_, fun j hj hn => ?_⟩
      · rw [pk_un (by omega), pk_un (by omega)]
        exact h3 j (by omega)
      · by_cases ej : j = i + 1
        · rw [ej, pk_us, pk_us]
          exact h4 i (by omega) (by omega)
        · rw [pk_un ej, pk_un ej]
          exact h4 j hj (by omega)
    · exact nm_r (pk_m1 i) (ih p b6 b7 b8 ⟨by omega, h2, h3, h4⟩)
theorem vw_openLink {post : Int32 → St1 → Prop} {x1 x2 : Int32} {l : Nat} (hl : l < 64) (hln : ∀ j, j < l → vw_ln (a6 j) (a7 j)) (hx : vw_ln x1 x2)
    (H : ∀ p b6 b7 b8, p ≤ l → (∀ j, j < p → b6 j = a6 j ∧ b7 j = a7 j) → b6 p = x1 → b7 p = x2 → b8 p = 0 → (∀ j, j < l + 1 → vw_ln (b6 j) (b7 j)) → post (nI p) (og, he, nI (l + 1), kn, a1, a2, a3, a4, a5, b6, b7, b8, a9)) :
    wpX_openLink post (og, he, nI l, kn, a1, a2, a3, a4, a5, a6, a7, a8, a9) x1 x2 := by
  unfold wpX_openLink
  refine ⟨l + 1, vw_o11 hl (fun p b6 b7 b8 h => ?_) l l a6 a7 a8 ⟨Nat.le_refl l, Nat.le_refl l, fun j _ => ⟨rfl, rfl⟩, fun j hj hn => hln j (by omega)⟩⟩
  obtain ⟨_, h2, h3, h4⟩ := h
  refine H p _ _ _ h2 (fun j hj => ?_) pk_us pk_us pk_us (fun j hj => ?_)
  · rw [pk_un (by omega), pk_un (by omega)]
    exact h3 j hj
  · by_cases e : j = p
    · rw [e, pk_us, pk_us]
      exact hx
    · rw [pk_un e, pk_un e]
      exact h4 j (by omega) e
/-! ===== vote ===== -/
theorem vw_v137 {post : Int32 → St1 → Prop} {x6 : Int32} {v k : Nat} (hv : v < 8) (hk : k < 64)
    (H : post x6 (og, he + 1, li, 0, a1, a2, a3, a4, upd a5 v (a5 v + 1), a6, a7, upd a8 k (a8 k ||| ((1 : Int32) <<< (nI v &&& 31))), a9)) : wX_vote_137 post (nI v) (nI k) x6 og he li kn a1 a2 a3 a4 a5 a6 a7 a8 a9 := by
  unfold wX_vote_137
  rw [nI_clamp (show k < 2 ^ 31 by omega), nI_clamp (show v < 2 ^ 31 by omega)]
  exact ⟨pk_in k 64 hk, pk_in k 64 hk, nm_e (nm_e ⟨pk_in v 8 hv, pk_in v 8 hv, nm_e H⟩)⟩
theorem vw_v113 {post : Int32 → St1 → Prop} {x6 : Int32} {v s t l d : Nat} (hv : v < 8) (hs : s ≤ 126) (ht : t ≤ 126) (ht3 : t % 4 ≠ 3) (hst : s / 4 < t / 4) (hl : l < 64) (hln : ∀ j, j < l → vw_ln (a6 j) (a7 j))
    (hd : d ≤ l) (h1 : ∀ j, j < d → ¬ (a6 j = nI s ∧ a7 j = nI t)) (h2 : d < l → a6 d = nI s ∧ a7 d = nI t)
    (H : ∀ k l' b2 b3 b4 b6 b7 b8, vw_blk v a2 b2 → vw_blk v a3 b3 → vw_blk v a4 b4 → k < l' → l' ≤ l + 1 → (∀ j, j < k → ¬ (b6 j = nI s ∧ b7 j = nI t)) → b6 k = nI s → b7 k = nI t → (∀ j, j < l' → vw_ln (b6 j) (b7 j)) → b8 k = (if d < l then a8 d else 0) ||| ((1 : Int32) <<< (nI v &&& 31)) →
      post x6 (og, he + 1, nI l', 0, a1, b2, b3, b4, upd a5 v (a5 v + 1), b6, b7, b8, a9)) :
    wX_vote_113 post (nI v) (nI s) (nI t) (if d < l then nI d else -1) x6 og he (nI l) kn a1 a2 a3 a4 a5 a6 a7 a8 a9 := by
  unfold wX_vote_113
  rw [vw_sh2 (show s < 2 ^ 31 by omega), vw_sh2 (show t < 2 ^ 31 by omega)]
  refine vw_enter hv (by omega) (by omega) (fun b2 b3 b4 g2 g3 g4 => ?_)
  by_cases z : d < l
  · rw [if_pos z]
    rw [if_pos z] at H
    refine br_t (nI_pos' (by omega)) (vw_v137 hv (by omega) ?_)
    exact H d l b2 b3 b4 a6 a7 _ g2 g3 g4 z (by omega) h1 (h2 z).1 (h2 z).2 hln pk_us
  · rw [if_neg z]
    rw [if_neg z] at H
    have hd' : d = l := by omega
    refine br_f (by decide) (vw_openLink hl hln ⟨⟨s, by omega, rfl⟩, t, by omega, by omega, ht3, rfl⟩ (fun p b6 b7 b8 e1 e2 e3 e4 e5 e6 => ?_))
    refine vw_v137 hv (by omega) ?_
    refine H p (l + 1) b2 b3 b4 b6 b7 _ g2 g3 g4 (by omega) (by omega) (fun j hj e => ?_) e3 e4 e6 ?_
    · rw [(e2 j hj).1, (e2 j hj).2] at e
      exact h1 j (by omega) e
    · rw [pk_us, e5]
theorem vw_v64 {post : Int32 → St1 → Prop} {v s t l d h : Nat} (hv : v < 8) (hs : s ≤ 126) (ht : t ≤ 126) (ht3 : t % 4 ≠ 3) (hst : s / 4 < t / 4) (hh : h ≤ 64) (hlh : l ≤ h) (hln : ∀ j, j < l → vw_ln (a6 j) (a7 j))
    (hd : d ≤ l) (h1 : ∀ j, j < d → ¬ (a6 j = nI s ∧ a7 j = nI t)) (h2 : d < l → a6 d = nI s ∧ a7 d = nI t) (H0 : post (-2) (og, nI h, nI l, kn, a1, a2, a3, a4, a5, a6, a7, a8, a9))
    (H : ∀ q k l' b2 b3 b4 b6 b7 b8, h < 64 → q ≤ 7 → (a2 (32 * v + s / 4) = 32 → a3 (32 * v + s / 4) = -1 → a4 (32 * v + t / 4) = 0 → q = 0) → vw_blk v a2 b2 → vw_blk v a3 b3 → vw_blk v a4 b4 → k < l' → l' ≤ l + 1 → (∀ j, j < k → ¬ (b6 j = nI s ∧ b7 j = nI t)) → b6 k = nI s → b7 k = nI t → (∀ j, j < l' → vw_ln (b6 j) (b7 j)) → b8 k = (if d < l then a8 d else 0) ||| ((1 : Int32) <<< (nI v &&& 31)) →
      post (nI q) (if q = 0 then og else og ||| ((1 : Int32) <<< (nI v &&& 31)), nI (h + 1), nI l', 0, a1, b2, b3, b4, upd a5 v (a5 v + 1), b6, b7, b8, a9)) :
    wX_vote_64 post (nI v) (nI s) (nI t) (if d < l then nI d else -1) 0 og (nI h) (nI l) kn a1 a2 a3 a4 a5 a6 a7 a8 a9 := by
  unfold wX_vote_64
  refine br_t rfl (pk_lt h 64 (fun z => ?_) (fun _ => H0))
  rw [vw_sh2 (show s < 2 ^ 31 by omega), vw_sh2 (show t < 2 ^ 31 by omega)]
  refine vw_judge hv (by omega) (by omega) (fun q hq hq0 => ?_)
  have HH := fun k l' b2 b3 b4 b6 b7 b8 => H q k l' b2 b3 b4 b6 b7 b8 z hq hq0
  rw [← nI_1 h] at HH
  refine pk_eq q 0 (fun e => ?_) (fun e => nm_e ?_)
  · rw [if_pos e] at HH
    exact vw_v113 hv hs ht ht3 hst (by omega) hln hd h1 h2 HH
  · rw [if_neg e] at HH
    exact vw_v113 hv hs ht ht3 hst (by omega) hln hd h1 h2 HH
theorem vw_vote {post : Int32 → St1 → Prop} {p0 p1 p2 : Int32} {l d h : Nat} (hh : h ≤ 64) (hlh : l ≤ h) (hln : ∀ j, j < l → vw_ln (a6 j) (a7 j))
    (hd : d ≤ l) (h1 : ∀ j, j < d → ¬ (a6 j = p1 ∧ a7 j = p2)) (h2 : d < l → a6 d = p1 ∧ a7 d = p2) (H1 : post (-1) (og, nI h, nI l, kn, a1, a2, a3, a4, a5, a6, a7, a8, a9)) (H2 : post (-2) (og, nI h, nI l, kn, a1, a2, a3, a4, a5, a6, a7, a8, a9))
    (H : ∀ v s t, v < 8 → p0 = nI v → s ≤ 126 → s % 4 ≠ 3 → p1 = nI s → t ≤ 126 → t % 4 ≠ 3 → p2 = nI t → s / 4 < t / 4 → (d < l → vw_bt (a8 d) v = false) →
      ∀ q k l' b2 b3 b4 b6 b7 b8, h < 64 → q ≤ 7 → (a2 (32 * v + s / 4) = 32 → a3 (32 * v + s / 4) = -1 → a4 (32 * v + t / 4) = 0 → q = 0) → vw_blk v a2 b2 → vw_blk v a3 b3 → vw_blk v a4 b4 → k < l' → l' ≤ l + 1 → (∀ j, j < k → ¬ (b6 j = nI s ∧ b7 j = nI t)) → b6 k = nI s → b7 k = nI t → (∀ j, j < l' → vw_ln (b6 j) (b7 j)) → b8 k = (if d < l then a8 d else 0) ||| ((1 : Int32) <<< (nI v &&& 31)) →
      post (nI q) (if q = 0 then og else og ||| ((1 : Int32) <<< (nI v &&& 31)), nI (h + 1), nI l', 0, a1, b2, b3, b4, upd a5 v (a5 v + 1), b6, b7, b8, a9)) :
    wpX_vote post (og, nI h, nI l, kn, a1, a2, a3, a4, a5, a6, a7, a8, a9) p0 p1 p2 := by
  unfold wpX_vote
  refine vw_isVal (fun _ => br_t rfl H1) (fun v hv e0 => br_f (by decide) ?_)
  refine vw_isCk (br_t rfl H1) (fun s hs hs3 e1 => br_f (by decide) ?_)
  refine vw_isCk (br_t rfl H1) (fun t ht ht3 e2 => br_f (by decide) ?_)
  subst e0 e1 e2
  rw [vw_sh2 (show s < 2 ^ 31 by omega), vw_sh2 (show t < 2 ^ 31 by omega)]
  refine pk_lt (s / 4) (t / 4) (fun hst => ?_) (fun _ => H1)
  refine vw_linkOf (by omega) hd h1 h2 ?_
  have HH := H v s t hv rfl hs hs3 rfl ht ht3 rfl hst
  by_cases z : d < l
  · rw [if_pos z]
    refine br_f (nI_pos (by omega)) ⟨pk_in d 64 (by omega), ?_⟩
    rw [nI_clamp (show d < 2 ^ 31 by omega)]
    refine br_c (fun e => ?_) (fun e => ?_)
    · have key := vw_v64 hv hs ht ht3 hst hh hlh hln hd h1 h2 H2 (HH (fun _ => vw_bf (by omega) e))
      rw [if_pos z] at key
      exact key
    · exact br_f (by decide) H2
  · have key := vw_v64 hv hs ht ht3 hst hh hlh hln hd h1 h2 H2 (HH (fun g => absurd g z))
    rw [if_neg z] at key
    rw [if_neg z]
    exact br_t (by decide) key
theorem vw_vote2 {post : Int32 → St1 → Prop} {v s t l k : Nat} (hv : v < 8) (hs : s ≤ 126) (hs3 : s % 4 ≠ 3) (ht : t ≤ 126) (ht3 : t % 4 ≠ 3) (hst : s / 4 < t / 4) (hl : l ≤ 64)
    (hk : k < l) (h1 : ∀ j, j < k → ¬ (a6 j = nI s ∧ a7 j = nI t)) (h6 : a6 k = nI s) (h7 : a7 k = nI t) (hb : vw_bt (a8 k) v = true) (H : post (-2) (og, he, nI l, kn, a1, a2, a3, a4, a5, a6, a7, a8, a9)) :
    wpX_vote post (og, he, nI l, kn, a1, a2, a3, a4, a5, a6, a7, a8, a9) (nI v) (nI s) (nI t) := by
  unfold wpX_vote
  refine vw_isVal_t hv (br_f (by decide) (vw_isCk_t hs hs3 (br_f (by decide) (vw_isCk_t ht ht3 (br_f (by decide) ?_)))))
  rw [vw_sh2 (show s < 2 ^ 31 by omega), vw_sh2 (show t < 2 ^ 31 by omega)]
  refine pk_lt (s / 4) (t / 4) (fun _ => ?_) (fun z => absurd z (by omega))
  refine vw_linkOf hl (Nat.le_of_lt hk) h1 (fun _ => ⟨h6, h7⟩) ?_
  rw [if_pos hk]
  refine br_f (nI_pos (by omega)) ⟨pk_in k 64 (by omega), ?_⟩
  rw [nI_clamp (show k < 2 ^ 31 by omega), vw_bit _ v (by omega), hb]
  exact br_f (by decide) (br_f (by decide) H)
end
end
section
section
variable {og he li kn : Int32} {a1 a2 a3 a4 a5 a6 a7 a8 a9 : Nat → Int32}
theorem vw_isSup {post : Int32 → Prop} {k : Nat} (hk : k < 64) (H0 : post 0) (H1 : post 1) : wpX_isSupported post (og, he, li, kn, a1, a2, a3, a4, a5, a6, a7, a8, a9) (nI k) := by
  unfold wpX_isSupported
  refine vw_stakes ⟨pk_in k 64 hk, ?_⟩
  exact vw_stakes (br_c (fun _ => H0) (fun _ => H1))
theorem vw_ja45 {post : St1 → Prop} {l : Nat} (hl : l ≤ 64) (hln : ∀ j, j < l → vw_ln (a6 j) (a7 j)) (hJ : vw_J a9) (H : ∀ g, vw_J g → post (og, he, nI l, kn, a1, a2, a3, a4, a5, a6, a7, a8, g)) :
    ∃ n, wX_justifyAll_45 post og he (nI l) kn n 0 a1 a2 a3 a4 a5 a6 a7 a8 a9 := by
  refine pk_loop (fun n i s => wX_justifyAll_45 post og he (nI l) kn n (nI i) a1 a2 a3 a4 a5 a6 a7 a8 s) (fun _ s => vw_J s) l 0 a9 (by omega) hJ
    (fun n s h => pk_le l l (fun _ => H s h) (fun z => absurd z (by omega))) (fun n i s hi h hw => ?_)
  obtain ⟨⟨x, hx, ex⟩, y, hy, hy4, hy3, ey⟩ := hln i hi
  refine pk_le l i (fun z => absurd z (by omega)) (fun _ => ⟨pk_in i 64 (by omega), ?_⟩)
  rw [nI_clamp (show i < 2 ^ 31 by omega), ex, ey, nI_clamp (show x < 2 ^ 31 by omega), nI_clamp (show y < 2 ^ 31 by omega)]
  refine ⟨pk_in x 128 hx, br_c (fun _ => nm_r (nI_1 i) (hw _ h)) (fun _ => ?_)⟩
  refine vw_isSup (by omega) (br_t rfl (nm_r (nI_1 i) (hw _ h))) (br_f (by decide) ⟨pk_in i 64 (by omega), pk_in y 128 hy, nm_e (nm_r (nI_1 i) (hw _ ?_))⟩)
  obtain ⟨g0, g1, g3⟩ := h
  refine ⟨?_, ?_, fun e he => ?_⟩
  · rw [pk_un (by omega)]
    exact g0
  · rw [pk_un (by omega)]
    exact g1
  · rw [pk_un (by omega)]
    exact g3 e he
theorem vw_ja15 {post : St1 → Prop} {l : Nat} (hl : l ≤ 64) (hln : ∀ j, j < l → vw_ln (a6 j) (a7 j)) (H : ∀ g, vw_J g → post (og, he, nI l, kn, a1, a2, a3, a4, a5, a6, a7, a8, g)) :
    ∃ n, wX_justifyAll_15 post og he (nI l) kn n 0 a1 a2 a3 a4 a5 a6 a7 a8 a9 := by
  refine pk_loop (fun n i s => wX_justifyAll_15 post og he (nI l) kn n (nI i) a1 a2 a3 a4 a5 a6 a7 a8 s) (fun i s => (0 < i → s 0 = 1) ∧ ∀ c, 0 < c → c < i → s c = 0) 128 0 a9 (by omega) ⟨fun z => absurd z (by omega), fun c _ z => absurd z (by omega)⟩
    (fun n s h => pk_le 128 128 (fun _ => vw_ja45 hl hln ⟨?_, h.2 1 (by omega) (by omega), fun e he => h.2 _ (by omega) (by omega)⟩ H) (fun z => absurd z (by omega))) (fun n i s hi h hw => ?_)
  · rw [h.1 (by omega)]
    decide
  · obtain ⟨g0, g1⟩ := h
    refine pk_le 128 i (fun z => absurd z (by omega)) (fun _ => ?_)
    rw [nI_clamp (show i < 2 ^ 31 by omega)]
    refine pk_eq i 0 (fun e => ⟨pk_in i 128 hi, nm_e (nm_r (nI_1 i) (hw _ ⟨fun _ => ?_, fun c hc hi' => ?_⟩))⟩) (fun e => ⟨pk_in i 128 hi, nm_e (nm_r (nI_1 i) (hw _ ⟨fun _ => ?_, fun c hc hi' => ?_⟩))⟩)
    · rw [e, pk_us]
    · omega
    · rw [pk_un (by omega)]
      exact g0 (by omega)
    · by_cases ec : c = i
      · rw [ec, pk_us]
      · rw [pk_un ec]
        exact g1 c hc (by omega)
/-- the world behind justifyAll: known, and the table kept if it was known -/
def vw_K (kn : Int32) (a9 : Nat → Int32) (kn' : Int32) (g : Nat → Int32) : Prop := ¬ kn' = 0 ∧ vw_J g ∧ (¬ kn = 0 → g = a9)
theorem vw_just {post : St1 → Prop} {l : Nat} (hl : l ≤ 64) (hln : ∀ j, j < l → vw_ln (a6 j) (a7 j)) (hk : kn = 0 ∨ vw_J a9) (H : ∀ kn' g, vw_K kn a9 kn' g → post (og, he, nI l, kn', a1, a2, a3, a4, a5, a6, a7, a8, g)) :
    wpX_justifyAll post (og, he, nI l, kn, a1, a2, a3, a4, a5, a6, a7, a8, a9) := by
  unfold wpX_justifyAll
  refine br_c (fun e => vw_ja15 hl hln (fun g hg => H 1 g ⟨by decide, hg, fun z => absurd e z⟩)) (fun e => H kn a9 ⟨e, ?_, fun _ => rfl⟩)
  exact hk.elim (fun z => absurd z e) id
theorem vw_highest {post : Int32 → St1 → Prop} {l : Nat} (hl : l ≤ 64) (hln : ∀ j, j < l → vw_ln (a6 j) (a7 j)) (hk : kn = 0 ∨ vw_J a9) (H : ∀ kn' g, vw_K kn a9 kn' g → post (nI (vw_hi g 128)) (og, he, nI l, kn', a1, a2, a3, a4, a5, a6, a7, a8, g)) :
    wpX_highest post (og, he, nI l, kn, a1, a2, a3, a4, a5, a6, a7, a8, a9) := by
  unfold wpX_highest
  refine vw_just hl hln hk (fun kn' g hg => ?_)
  refine pk_loop (fun n i s => wX_highest_8 post og he (nI l) kn' a1 a2 a3 a4 a5 a6 a7 a8 g n s (nI i)) (fun i s => s = nI (vw_hi g i)) 128 0 0 (by omega) rfl
    (fun n s h => pk_le 128 128 (fun _ => by rw [h]; exact H kn' g hg) (fun z => absurd z (by omega))) (fun n i s hi h hw => ?_)
  refine pk_le 128 i (fun z => absurd z (by omega)) (fun _ => ⟨pk_in i 128 hi, ?_⟩)
  rw [nI_clamp (show i < 2 ^ 31 by omega)]
  exact br_c (fun e => nm_r (nI_1 i) (hw _ (by rw [vw_hi_0 e]; exact h))) (fun e => nm_r (nI_1 i) (hw _ (by rw [vw_hi_1 e])))
theorem vw_justified {post : Int32 → St1 → Prop} {l c : Nat} (hl : l ≤ 64) (hln : ∀ j, j < l → vw_ln (a6 j) (a7 j)) (hk : kn = 0 ∨ vw_J a9) (hc : c ≤ 126) (hc3 : c % 4 ≠ 3)
    (H : ∀ kn' g, vw_K kn a9 kn' g → post (if g c = 0 then 0 else 1) (og, he, nI l, kn', a1, a2, a3, a4, a5, a6, a7, a8, g)) : wpX_justified post (og, he, nI l, kn, a1, a2, a3, a4, a5, a6, a7, a8, a9) (nI c) := by
  unfold wpX_justified
  refine vw_isCk_t hc hc3 (br_f (by decide) (vw_just hl hln hk (fun kn' g hg => ⟨pk_in c 128 (by omega), ?_⟩)))
  rw [nI_clamp (show c < 2 ^ 31 by omega)]
  have HH := H kn' g hg
  exact br_c (fun e => by rw [if_pos e] at HH; exact HH) (fun e => by rw [if_neg e] at HH; exact HH)
theorem vw_justified_n {post : Int32 → St1 → Prop} {c : Nat} (hc : c ≤ 127) (hc3 : c % 4 = 3) (H : post (-1) (og, he, li, kn, a1, a2, a3, a4, a5, a6, a7, a8, a9)) : wpX_justified post (og, he, li, kn, a1, a2, a3, a4, a5, a6, a7, a8, a9) (nI c) := by
  unfold wpX_justified
  exact vw_isCk_f hc hc3 (br_t rfl H)
theorem vw_justifiedIn {post : Int32 → St1 → Prop} {l e : Nat} (hl : l ≤ 64) (hln : ∀ j, j < l → vw_ln (a6 j) (a7 j)) (hk : kn = 0 ∨ vw_J a9) (he' : e < 32)
    (H : ∀ kn' g, vw_K kn a9 kn' g → post (nI (vw_ct g (4 * e) 3)) (og, he, nI l, kn', a1, a2, a3, a4, a5, a6, a7, a8, g)) : wpX_justifiedIn post (og, he, nI l, kn, a1, a2, a3, a4, a5, a6, a7, a8, a9) (nI e) := by
  unfold wpX_justifiedIn
  refine pk_lt e 0 (fun z => absurd z (by omega)) (fun _ => pk_le e 31 (fun _ => ?_) (fun z => absurd z (by omega)))
  refine vw_just hl hln hk (fun kn' g hg => nm_r (pk_mul 4 e) ?_)
  have e3 : 4 * nI e + 3 = nI (4 * e + 3) := by
    show nI 4 * nI e + nI 3 = _
    rw [pk_mul, nI_add]
  refine pk_loop (fun n i s => wX_justifiedIn_22 post (nI e) og he (nI l) kn' a1 a2 a3 a4 a5 a6 a7 a8 g n s (nI (4 * e + i))) (fun i s => s = nI (vw_ct g (4 * e) i)) 3 0 0 (by omega) rfl
    (fun n s h => pk_le (4 * e + 3) (4 * e + 3) (fun _ => by rw [h]; exact H kn' g hg) (fun z => absurd z (by omega)) e3) (fun n i s hi h hw => ?_)
  refine pk_le (4 * e + 3) (4 * e + i) (fun z => absurd z (by omega)) (fun _ => ⟨pk_in (4 * e + i) 128 (by omega), ?_⟩) e3
  rw [nI_clamp (show 4 * e + i < 2 ^ 31 by omega)]
  refine br_c (fun z => nm_r (Int32.add_zero _) (nm_r (nI_1 _) (hw _ ?_))) (fun z => nm_e (nm_r (nI_1 _) (hw _ ?_)))
  · rw [vw_ct_0 z]
    exact h
  · rw [vw_ct_1 z, h, nI_1]
theorem vw_f26 {post : Int32 → St1 → Prop} {l : Nat} {x1 : Int32} (hl : l ≤ 64) (H0 : post 0 (og, he, nI l, kn, a1, a2, a3, a4, a5, a6, a7, a8, a9)) (H1 : post 1 (og, he, nI l, kn, a1, a2, a3, a4, a5, a6, a7, a8, a9)) : ∃ n, wX_isFinal_26 post x1 og he (nI l) kn a1 a2 a3 a4 a5 a6 a7 a8 a9 n 0 := by
  refine pk_loop (σ := Unit) (fun n i _ => wX_isFinal_26 post x1 og he (nI l) kn a1 a2 a3 a4 a5 a6 a7 a8 a9 n (nI i)) (fun _ _ => True) l 0 () (by omega) trivial
    (fun n _ _ => pk_le l l (fun _ => H0) (fun z => absurd z (by omega))) (fun n i _ hi _ hw => ?_)
  have k0 : wX_isFinal_64 post (wX_isFinal_26 post x1 og he (nI l) kn a1 a2 a3 a4 a5 a6 a7 a8 a9 n) x1 (nI i) og he (nI l) kn a1 a2 a3 a4 a5 a6 a7 a8 a9 := br_t rfl (nm_r (nI_1 i) (hw () trivial))
  have k1 : wX_isFinal_65 post (wX_isFinal_26 post x1 og he (nI l) kn a1 a2 a3 a4 a5 a6 a7 a8 a9 n) x1 (nI i) 1 og he (nI l) kn a1 a2 a3 a4 a5 a6 a7 a8 a9 := br_f (by decide) (vw_isSup (by omega) (br_t rfl (nm_r (nI_1 i) (hw () trivial))) (br_f (by decide) H1))
  exact pk_le l i (fun z => absurd z (by omega)) (fun _ => ⟨pk_in i 64 (by omega), br_c (fun _ => ⟨pk_in i 64 (by omega), br_c (fun _ => k1) (fun _ => k0)⟩) (fun _ => k0)⟩)
theorem vw_isFinal {post : Int32 → St1 → Prop} {l c : Nat} (hl : l ≤ 64) (hln : ∀ j, j < l → vw_ln (a6 j) (a7 j)) (hk : kn = 0 ∨ vw_J a9) (hc : c ≤ 126) (hc3 : c % 4 ≠ 3)
    (H0 : ∀ kn' g, vw_K kn a9 kn' g → post 0 (og, he, nI l, kn', a1, a2, a3, a4, a5, a6, a7, a8, g)) (H1 : ∀ kn' g, vw_K kn a9 kn' g → ¬ g c = 0 → post 1 (og, he, nI l, kn', a1, a2, a3, a4, a5, a6, a7, a8, g)) : wpX_isFinal post (og, he, nI l, kn, a1, a2, a3, a4, a5, a6, a7, a8, a9) (nI c) := by
  unfold wpX_isFinal
  refine vw_isCk_t hc hc3 (br_f (by decide) (vw_just hl hln hk (fun kn' g hg => ⟨pk_in c 128 (by omega), ?_⟩)))
  rw [nI_clamp (show c < 2 ^ 31 by omega)]
  exact br_c (fun _ => H0 kn' g hg) (fun e => vw_f26 hl (H0 kn' g hg) (H1 kn' g hg e))
end
end
section
section
variable {og he li kn : Int32} {a1 a2 a3 a4 a5 a6 a7 a8 a9 : Nat → Int32}
/-! ===== the invariant of the world ===== -/
def vw_I (h l : Nat) (n : Nat → Nat) (og he li kn : Int32) (a1 a2 a3 a4 a5 a6 a7 a8 a9 : Nat → Int32) : Prop :=
  he = nI h ∧ li = nI l ∧ h ≤ 64 ∧ l ≤ h ∧ vw_sn n 8 = h ∧ (∀ v, v < 8 → a5 v = nI (n v)) ∧
  (∀ v, v < 8 → n v = 0 → ∀ e, e < 32 → a2 (32 * v + e) = 32 ∧ a3 (32 * v + e) = -1 ∧ a4 (32 * v + e) = 0) ∧
  (∀ v, v < 8 → vw_bt og v = true → 2 ≤ n v) ∧ (∀ k, k < l → vw_ln (a6 k) (a7 k)) ∧ (kn = 0 ∨ vw_J a9)
/-! ===== counted ===== -/
/-- what the law has summed, over whatever table justifyAll will show -/
def vw_X (kn : Int32) (a9 : Nat → Int32) (x : Int32) (c : Nat) : Prop := ∀ g, vw_J g → (¬ kn = 0 → g = a9) → x = nI (vw_hi g c)
def vw_Y (kn : Int32) (a9 : Nat → Int32) (x : Int32) (s b : Nat) : Prop := ∀ g, vw_J g → (¬ kn = 0 → g = a9) → x = nI (vw_ct g s b)
theorem vw_Kk {kn kn' : Int32} {a9 g : Nat → Int32} (h : vw_K kn a9 kn' g) : kn' = 0 ∨ vw_J g := Or.inr h.2.1
theorem vw_Keq {kn kn' : Int32} {a9 g : Nat → Int32} (h : vw_K kn a9 kn' g) (e : ¬ kn = 0) : g = a9 := h.2.2 e
theorem vw_Xk {kn kn' : Int32} {a9 g : Nat → Int32} {x : Int32} {c c' : Nat} (h : vw_K kn a9 kn' g) (hx : x = nI (vw_hi g c')) : vw_X kn' g x c' := fun g' _ e => by rw [e h.1]; exact hx
theorem vw_Yk {kn kn' : Int32} {a9 g : Nat → Int32} {x : Int32} {s b : Nat} (h : vw_K kn a9 kn' g) (hx : x = nI (vw_ct g s b)) : vw_Y kn' g x s b := fun g' _ e => by rw [e h.1]; exact hx
theorem vw_4b (e b : Nat) : 4 * nI e + nI b = nI (4 * e + b) := by
  show nI 4 * nI e + nI b = _
  rw [pk_mul, nI_add]
theorem vw_c109 {post : Int32 → St1 → Prop} {J : Int32 → Int32 → Int32 → Int32 → Int32 → Int32 → (Nat → Int32) → (Nat → Int32) → (Nat → Int32) → (Nat → Int32) → (Nat → Int32) → (Nat → Int32) → (Nat → Int32) → (Nat → Int32) → (Nat → Int32) → Prop}
    {x3 x4 x5 : Int32} {l e : Nat} (hl : l ≤ 64) (hln : ∀ j, j < l → vw_ln (a6 j) (a7 j)) (he' : e < 32)
    (H : ∀ x6 kn' g, vw_J g → ¬ kn' = 0 → vw_X kn' g x6 (4 * (e + 1)) → J x6 (nI (e + 1)) og he (nI l) kn' a1 a2 a3 a4 a5 a6 a7 a8 g) :
    ∀ (n b : Nat) (x6 x8 kn : Int32) (a9 : Nat → Int32), b ≤ 3 → 3 < n + b → (kn = 0 ∨ vw_J a9) → vw_X kn a9 x6 (4 * e + b) → vw_Y kn a9 x8 (4 * e) b → wL_counted_109 post J x3 x4 x5 (nI e) n x6 x8 (nI b) og he (nI l) kn a1 a2 a3 a4 a5 a6 a7 a8 a9 := by
  intro n
  induction n with
  | zero =>
    intro b x6 x8 kn a9 h1 h2
    omega
  | succ n ih =>
    intro b x6 x8 kn a9 h1 h2 hk hX hY
    refine pk_le 3 b (fun z => ?_) (fun z => ?_)
    · have hb : b = 3 := by omega
      subst hb
      refine vw_justifiedIn hl hln hk he' (fun kn' g hg => br_t (hY g hg.2.1 hg.2.2).symm ?_)
      rw [show 4 * nI e + 3 = nI (4 * e + 3) from vw_4b e 3]
      refine vw_justified_n (by omega) (by omega) (br_t rfl (nm_r (nI_1 e) (H x6 kn' g hg.2.1 hg.1 (vw_Xk (c := 0) hg ?_))))
      rw [hX g hg.2.1 hg.2.2, show 4 * (e + 1) = 4 * e + 3 + 1 by omega, vw_hi_0 (hg.2.1.2.2 e he')]
    · rw [vw_4b e b]
      have h3 : (4 * e + b) % 4 ≠ 3 := by omega
      refine vw_justified hl hln hk (by omega) h3 (fun kn' g hg => ?_)
      have hx6 := hX g hg.2.1 hg.2.2
      have hx8 := hY g hg.2.1 hg.2.2
      have go : ∀ kn2 : Int32, ¬ kn2 = 0 → ∀ y6 y8 : Int32, y6 = nI (vw_hi g (4 * e + b + 1)) → y8 = nI (vw_ct g (4 * e) (b + 1)) → wL_counted_109 post J x3 x4 x5 (nI e) n y6 y8 (nI (b + 1)) og he (nI l) kn2 a1 a2 a3 a4 a5 a6 a7 a8 g := by
        intro kn2 hk2 y6 y8 e6 e8
        refine ih (b + 1) y6 y8 kn2 g (by omega) (by omega) (Or.inr hg.2.1) ?_ ?_
        · intro g' _ ee
          rw [ee hk2]
          exact e6
        · intro g' _ ee
          rw [ee hk2]
          exact e8
      by_cases c0 : g (4 * e + b) = 0
      · rw [if_pos c0]
        refine vw_isFinal hl hln (Or.inr hg.2.1) (by omega) h3 (fun kn2 g2 hg2 => ?_) (fun kn2 g2 hg2 c2 => ?_)
        · rw [hg2.2.2 hg.1]
          refine br_t rfl (br_f (by decide) (br_t (by decide) (br_f (by decide) (nm_e (nm_r (nI_1 b) (go kn2 hg2.1 _ _ ?_ ?_))))))
          · rw [vw_hi_0 c0]
            exact hx6
          · rw [vw_ct_0 c0, Int32.add_zero]
            exact hx8
        · rw [hg2.2.2 hg.1] at c2
          exact absurd c0 c2
      · rw [if_neg c0]
        have fin : ∀ (f : Int32) (kn2 : Int32), ¬ kn2 = 0 → ¬ (1 : Int32) < f → 0 ≤ f → wL_counted_152 post J (wL_counted_109 post J x3 x4 x5 (nI e) n) x3 x4 x5 x6 (nI e) x8 (nI b) 1 f og he (nI l) kn2 a1 a2 a3 a4 a5 a6 a7 a8 g := by
          intro f kn2 hk2 f1 f0
          refine br_f f1 (br_t f0 (br_t rfl (nm_e (nm_e (nm_r (nI_1 b) (go kn2 hk2 _ _ ?_ ?_))))))
          · rw [vw_4b, vw_hi_1 c0]
          · rw [vw_ct_1 c0, hx8, nI_1]
        refine vw_isFinal hl hln (Or.inr hg.2.1) (by omega) h3 (fun kn2 g2 hg2 => ?_) (fun kn2 g2 hg2 c2 => ?_)
        · rw [hg2.2.2 hg.1]
          exact br_f (by decide) (br_t rfl (fin 0 kn2 hg2.1 (by decide) (by decide)))
        · rw [hg2.2.2 hg.1]
          exact br_f (by decide) (br_t rfl (fin 1 kn2 hg2.1 (by decide) (by decide)))
theorem vw_c96 {post : Int32 → St1 → Prop} {l h : Nat} (hl : l ≤ 64) (hln : ∀ j, j < l → vw_ln (a6 j) (a7 j))
    (H : ∀ kn' g, vw_J g → post 1 (og, he, nI l, kn', a1, a2, a3, a4, a5, a6, a7, a8, g)) :
    ∀ (n e : Nat) (x6 kn : Int32) (a9 : Nat → Int32), e ≤ 32 → 32 < n + e → (kn = 0 ∨ vw_J a9) → vw_X kn a9 x6 (4 * e) → wL_counted_96 post (nI h) (vw_sk a1 og 8) (nI h) n x6 (nI e) og he (nI l) kn a1 a2 a3 a4 a5 a6 a7 a8 a9 := by
  intro n
  induction n with
  | zero =>
    intro e x6 kn a9 h1 h2
    omega
  | succ n ih =>
    intro e x6 kn a9 h1 h2 hk hX
    refine pk_le 32 e (fun z => ?_) (fun z => ?_)
    · have he' : e = 32 := by omega
      subst he'
      unfold wpX_offended
      refine vw_stakes (br_t rfl (br_t rfl ?_))
      refine vw_highest hl hln hk (fun kn' g hg => br_t (hX g hg.2.1 hg.2.2).symm ?_)
      refine vw_justified (c := 0) hl hln (Or.inr hg.2.1) (by omega) (by omega) (fun kn2 g2 hg2 => ?_)
      rw [if_neg hg2.2.1.1]
      refine br_t rfl ?_
      refine vw_justified (c := 1) hl hln (Or.inr hg2.2.1) (by omega) (by omega) (fun kn3 g3 hg3 => ?_)
      rw [if_pos hg3.2.1.2.1]
      exact br_t rfl (H kn3 g3 hg3.2.1)
    · exact ⟨4, vw_c109 hl hln z (fun y6 kn' g hg hk' hX' => ih (e + 1) y6 kn' g (by omega) (by omega) (Or.inr hg) hX') 4 0 x6 0 kn a9 (by omega) (by omega) hk hX (fun g _ _ => rfl)⟩
theorem vw_c12 {post : Int32 → St1 → Prop} {st : Int64} {l h : Nat} {nn : Nat → Nat} (hI : vw_I h l nn og he li kn a1 a2 a3 a4 a5 a6 a7 a8 a9) (hS : vw_S st a1)
    (H : ∀ kn' g, vw_J g → post 1 (og, he, li, kn', a1, a2, a3, a4, a5, a6, a7, a8, g)) : ∃ n, wL_counted_12 post st (nI h) 0 og he li kn a1 a2 a3 a4 a5 a6 a7 a8 a9 n 0 0 0 := by
  obtain ⟨i1, i2, i3, i4, i5, i6, i7, i8, i9, i10⟩ := hI
  subst i1 i2
  refine pk_loop (fun n i s => wL_counted_12 post st (nI h) 0 og (nI h) (nI l) kn a1 a2 a3 a4 a5 a6 a7 a8 a9 n s.1 s.2 (nI i)) (fun i s => s.1 = vw_sk a1 og i ∧ s.2 = nI (vw_sn nn i)) 8 0 (0, 0) (by omega) ⟨rfl, rfl⟩
    (fun n s hs => pk_le 8 8 (fun _ => ?_) (fun z => absurd z (by omega))) (fun n i s hi hs hw => ?_)
  · rw [hs.1, hs.2, i5]
    exact ⟨33, vw_c96 (by omega) i9 H 33 0 0 kn a9 (by omega) (by omega) i10 (fun g _ _ => rfl)⟩
  · have hn : nn i ≤ 64 := by
      have := vw_sn_le nn 8 hi
      omega
    refine pk_le 8 i (fun z => absurd z (by omega)) (fun _ => vw_off hi ?_)
    have last : ∀ o : Int32, s.1 + o * a1 i = vw_sk a1 og (i + 1) → wL_counted_56 post (wL_counted_12 post st (nI h) 0 og (nI h) (nI l) kn a1 a2 a3 a4 a5 a6 a7 a8 a9 n) st (nI h) s.1 s.2 0 (nI i) o og (nI h) (nI l) kn a1 a2 a3 a4 a5 a6 a7 a8 a9 := by
      intro o ho
      unfold wL_counted_56
      rw [hS i hi]
      refine nm_r ho (vw_votes hi (nm_r (e' := nI (vw_sn nn (i + 1))) ?_ (nm_r (nI_1 i) (hw (_, _) ⟨rfl, rfl⟩))))
      rw [hs.2, i6 i hi, nI_add]
      rfl
    cases hb : vw_bt og i
    · refine br_t rfl (br_f (by decide) (last _ ?_))
      rw [vw_sk_s, hb, hs.1]
      simp
    · refine br_f (by decide) (br_t rfl (br_t rfl (vw_votes hi (br_t ?_ (last _ ?_)))))
      · rw [i6 i hi]
        exact nI_le (a := 2) (i8 i hi hb) (by omega)
      · rw [vw_sk_s, hb, hs.1]
        simp
theorem vw_counted {post : Int32 → St1 → Prop} {st : Int64} {l h : Nat} {nn : Nat → Nat} (hI : vw_I h l nn og he li kn a1 a2 a3 a4 a5 a6 a7 a8 a9) (hS : vw_S st a1)
    (H : ∀ kn' g, vw_I h l nn og he li kn' a1 a2 a3 a4 a5 a6 a7 a8 g → post 1 (og, he, li, kn', a1, a2, a3, a4, a5, a6, a7, a8, g)) : wpL_counted post (og, he, li, kn, a1, a2, a3, a4, a5, a6, a7, a8, a9) st (nI h) := by
  unfold wpL_counted
  refine vw_c12 hI hS (fun kn' g hg => H kn' g ?_)
  obtain ⟨i1, i2, i3, i4, i5, i6, i7, i8, i9, i10⟩ := hI
  exact ⟨i1, i2, i3, i4, i5, i6, i7, i8, i9, Or.inr hg⟩
end
end
section
section
variable {og he li kn : Int32} {a1 a2 a3 a4 a5 a6 a7 a8 a9 : Nat → Int32}
theorem vw_blk_o {v w e : Nat} {a b : Nat → Int32} (h : vw_blk v a b) (hw : w ≠ v) (he : e < 32) : b (32 * w + e) = a (32 * w + e) := h _ (by omega)
theorem vw_Ivote {h l l' v s t q : Nat} {nn : Nat → Nat} {b2 b3 b4 b6 b7 b8 : Nat → Int32} (hI : vw_I h l nn og he li kn a1 a2 a3 a4 a5 a6 a7 a8 a9) (hv : v < 8) (hh : h < 64) (hs : s < 32) (ht : t < 32)
    (hq : a2 (32 * v + s) = 32 → a3 (32 * v + s) = -1 → a4 (32 * v + t) = 0 → q = 0) (g2 : vw_blk v a2 b2) (g3 : vw_blk v a3 b3) (g4 : vw_blk v a4 b4) (hl : l' ≤ l + 1) (hln : ∀ j, j < l' → vw_ln (b6 j) (b7 j)) :
    vw_I (h + 1) l' (vw_n1 nn v) (if q = 0 then og else og ||| ((1 : Int32) <<< (nI v &&& 31))) (nI (h + 1)) (nI l') 0 a1 b2 b3 b4 (upd a5 v (a5 v + 1)) b6 b7 b8 a9 := by
  obtain ⟨i1, i2, i3, i4, i5, i6, i7, i8, i9, i10⟩ := hI
  refine ⟨rfl, rfl, by omega, by omega, ?_, fun w hw => ?_, fun w hw h0 e he => ?_, fun w hw hb => ?_, hln, Or.inl rfl⟩
  · rw [vw_sn_1, if_pos hv, i5]
  · by_cases e : w = v
    · rw [e, pk_us, vw_n1_s, i6 v hv, nI_1]
    · rw [pk_un e, vw_n1_n nn e]
      exact i6 w hw
  · have e : w ≠ v := by
      intro e
      rw [e, vw_n1_s] at h0
      omega
    rw [vw_n1_n nn e] at h0
    rw [vw_blk_o g2 e he, vw_blk_o g3 e he, vw_blk_o g4 e he]
    exact i7 w hw h0 _ he
  · by_cases e : w = v
    · subst e
      rw [vw_n1_s]
      by_cases q0 : q = 0
      · rw [if_pos q0] at hb
        have := i8 w hw hb
        omega
      · by_cases n0 : nn w = 0
        · obtain ⟨c2, c3, _⟩ := i7 w hw n0 s hs
          obtain ⟨_, _, c4⟩ := i7 w hw n0 t ht
          exact absurd (hq c2 c3 c4) q0
        · omega
    · rw [vw_n1_n nn e]
      by_cases q0 : q = 0
      · rw [if_pos q0] at hb
        exact i8 w hw hb
      · rw [if_neg q0, vw_setb hv hw, decide_eq_false e, Bool.or_false] at hb
        exact i8 w hw hb
/-- what the law's next turn takes -/
def vw_HJ (J : Int64 → Int32 → Int32 → Int32 → Int32 → Int32 → Int32 → (Nat → Int32) → (Nat → Int32) → (Nat → Int32) → (Nat → Int32) → (Nat → Int32) → (Nat → Int32) → (Nat → Int32) → (Nat → Int32) → (Nat → Int32) → Prop) (x5 : Int32) : Prop :=
  ∀ (st : Int64) (h l : Nat) (nn : Nat → Nat) (og he li kn : Int32) (a1 a2 a3 a4 a5 a6 a7 a8 a9 : Nat → Int32), vw_I h l nn og he li kn a1 a2 a3 a4 a5 a6 a7 a8 a9 → vw_S st a1 → J st (nI h) (x5 + 4) og he li kn a1 a2 a3 a4 a5 a6 a7 a8 a9
section
variable {post : Int32 → Prop} {L : Nat} {xs : Nat → Int32} {J : Int64 → Int32 → Int32 → Int32 → Int32 → Int32 → Int32 → (Nat → Int32) → (Nat → Int32) → (Nat → Int32) → (Nat → Int32) → (Nat → Int32) → (Nat → Int32) → (Nat → Int32) → (Nat → Int32) → (Nat → Int32) → Prop}
variable {st : Int64} {x5 : Int32} {kc ks h l : Nat} {nn : Nat → Nat}
theorem vw_415 (hJ : vw_HJ J x5) (hI : vw_I h l nn og he li kn a1 a2 a3 a4 a5 a6 a7 a8 a9) (hS : vw_S st a1) : wL_law_415 post L xs J st (nI h) x5 kc ks og he li kn a1 a2 a3 a4 a5 a6 a7 a8 a9 := by
  have hh := hI.2.2.1
  refine pk_lt 64 h (fun z => absurd z (by omega)) (fun _ => vw_counted hI hS (fun kn' g hI' => br_f (by decide) ?_))
  exact vw_off_n (Or.inr (by decide)) (br_t rfl (vw_votes_n (Or.inl (by decide)) (br_t rfl (nm_e (hJ st h l nn _ _ _ _ _ _ _ _ _ _ _ _ _ hI' hS)))))
theorem vw_qm2 : ∀ q, q < 8 → ¬ nI q < (-2 : Int32) := by decide +kernel
theorem vw_246 {x7 x11 x12 z0 : Int32} (hJ : vw_HJ J x5) (hI : vw_I h l nn og he li kn a1 a2 a3 a4 a5 a6 a7 a8 a9) (hS : vw_S st a1) (h7 : (x7 < 0 ∨ 7 < x7) ∨ ∃ v, v < 8 ∧ x7 = nI v ∧ x11 = a1 v) :
    wL_law_246 post L xs J st (nI h) x5 x7 x11 x12 z0 kc ks og he li kn a1 a2 a3 a4 a5 a6 a7 a8 a9 := by
  have hI0 := hI
  obtain ⟨i1, i2, i3, i4, i5, i6, i7, i8, i9, i10⟩ := hI
  subst i1 i2
  obtain ⟨d, hd, h1, h2⟩ := vw_fd (fun j => a6 j = x12 ∧ a7 j = z0) l
  obtain ⟨rv, ro, hrv, hro, hval⟩ : ∃ rv ro : Int32, (∀ P : Int32 → Prop, P rv → wpX_votes P (og, nI h, nI l, kn, a1, a2, a3, a4, a5, a6, a7, a8, a9) x7) ∧ (∀ P : Int32 → Prop, P ro → wpX_offender P (og, nI h, nI l, kn, a1, a2, a3, a4, a5, a6, a7, a8, a9) x7) ∧
      (∀ v, v < 8 → x7 = nI v → rv = a5 v ∧ ro = (if vw_bt og v then 1 else 0) ∧ x11 = a1 v) := by
    rcases h7 with h7 | ⟨v, hv, e7, e11⟩
    · refine ⟨-1, -1, fun P hP => vw_votes_n h7 hP, fun P hP => vw_off_n h7 hP, fun v hv e => ?_⟩
      subst e
      rcases h7 with h7 | h7
      · exact absurd h7 (nI_pos (by omega))
      · exact absurd h7 (nI_nlt (a := 7) (b := v) (by omega) (by omega))
    · subst e7
      refine ⟨a5 v, if vw_bt og v then 1 else 0, fun P hP => vw_votes hv hP, fun P hP => vw_off hv hP, fun w hw e => ?_⟩
      have ew : v = w := (nI_eq (by omega) (by omega)).mp e
      subst ew
      exact ⟨rfl, rfl, e11⟩
  have n320 : ∀ r : Int32, r < 0 → wL_law_320 post L xs J st (nI h) x5 x7 x11 x12 z0 (if d < l then vw_sk a1 (a8 d) 8 else 0) ro r rv rv kc ks og (nI h) (nI l) kn a1 a2 a3 a4 a5 a6 a7 a8 a9 := by
    intro r hr
    exact br_t rfl (vw_support (by omega) hd h1 h2 (br_t hr (br_t rfl (br_t hr (br_t hr (vw_415 hJ hI0 hS))))))
  unfold wL_law_246
  refine vw_support (by omega) hd h1 h2 (hrv _ (hro _ ?_))
  refine vw_vote i3 i4 i9 hd h1 h2 (br_f (by decide) (br_f (by decide) (hrv _ (br_t (by decide) (n320 (-1) (by decide)))))) (br_f (by decide) (br_f (by decide) (hrv _ (br_t (by decide) (n320 (-2) (by decide)))))) ?_
  intro v s t hv e0 hs hs3 e1 ht ht3 e2 hst hbit q k l' b2 b3 b4 b6 b7 b8 hh hq hq0 g2 g3 g4 hk hl' hfm e6 e7 hln e8
  subst e0 e1 e2
  obtain ⟨ev, eo, e11⟩ := hval v hv rfl
  have hI' := vw_Ivote (b8 := b8) hI0 hv hh (show s / 4 < 32 by omega) (show t / 4 < 32 by omega) hq0 g2 g3 g4 hl' hln
  have hsup : vw_sk a1 (b8 k) 8 = (if d < l then vw_sk a1 (a8 d) 8 else 0) + x11 := by
    rw [e8, e11]
    by_cases z : d < l
    · rw [if_pos z, if_pos z, vw_sk_set a1 _ hv (hbit z)]
    · rw [if_neg z, if_neg z, vw_sk_set a1 _ hv (vw_b0 v), vw_sk_0]
  have hb8 : vw_bt (b8 k) v = true := by
    rw [e8, vw_setb hv hv, decide_eq_true rfl, Bool.or_true]
  have q0 : ¬ nI q < 0 := nI_pos (by omega)
  have l4 : wL_law_404 post L xs J st (nI h) x5 (nI q) kc ks (if q = 0 then og else og ||| ((1 : Int32) <<< (nI v &&& 31))) (nI (h + 1)) (nI l') 0 a1 b2 b3 b4 (upd a5 v (a5 v + 1)) b6 b7 b8 a9 :=
    br_f q0 (nm_r (nI_1 h) (vw_415 hJ hI' hS))
  have l3 : wL_law_386 post L xs J st (nI h) x5 (nI v) ro (nI q) kc ks (if q = 0 then og else og ||| ((1 : Int32) <<< (nI v &&& 31))) (nI (h + 1)) (nI l') 0 a1 b2 b3 b4 (upd a5 v (a5 v + 1)) b6 b7 b8 a9 := by
    refine pk_eq q 0 (fun e => vw_off hv (br_t ?_ l4)) (fun _ => l4)
    rw [if_pos e]
    exact eo.symm
  refine br_f (vw_qm2 q (by omega)) (pk_lt 7 q (fun z => absurd z (by omega)) (fun _ => vw_votes hv (br_f q0 ?_)))
  rw [pk_us]
  refine br_t (by rw [ev]) (vw_support (by omega) (Nat.le_of_lt hk) hfm (fun _ => ⟨e6, e7⟩) (br_f q0 ?_))
  rw [if_pos hk]
  refine br_t hsup (br_f q0 (vw_vote2 hv hs hs3 ht ht3 hst (by omega) hk hfm e6 e7 hb8 (br_t rfl ?_)))
  refine pk_le q 0 (fun _ => l3) (fun z => vw_off hv (br_t ?_ l3))
  rw [if_neg (show ¬ q = 0 by omega), vw_setb hv hv, decide_eq_true rfl, Bool.or_true]
  rfl
theorem vw_216 {x6 x7 x9 x11 z0 : Int32} (V : ∀ x12 y : Int32, wL_law_246 post L xs J st (nI h) x5 x7 x11 x12 y kc ks og he li kn a1 a2 a3 a4 a5 a6 a7 a8 a9) : wL_law_216 post L xs J st (nI h) x5 x6 x7 x9 x11 z0 kc ks og he li kn a1 a2 a3 a4 a5 a6 a7 a8 a9 :=
  br_c (fun _ => V _ _) (fun _ => br_c (fun _ => V _ _) (fun _ => V _ _))
theorem vw_Istake {x : Int32} {v : Nat} (hI : vw_I h l nn og he li kn a1 a2 a3 a4 a5 a6 a7 a8 a9) : vw_I h l nn og he li 0 (upd a1 v x) a2 a3 a4 a5 a6 a7 a8 a9 := by
  obtain ⟨i1, i2, i3, i4, i5, i6, i7, i8, i9, i10⟩ := hI
  exact ⟨i1, i2, i3, i4, i5, i6, i7, i8, i9, Or.inl rfl⟩
theorem vw_k2 {x8 : Int32} {v : Nat} (hv : v < 8) (hJ : vw_HJ J x5) (hI : vw_I h l nn og he li kn a1 a2 a3 a4 a5 a6 a7 a8 a9) (hS : vw_S st a1) {P : Int32 → St1 → Prop}
    (hP : ∀ (y : Int32) (b : Nat → Int32), wL_law_127 post L xs J st (nI h) x5 (nI v) x8 1 (a1 v) y kc ks og he li 0 b a2 a3 a4 a5 a6 a7 a8 a9 → P y (og, he, li, 0, b, a2, a3, a4, a5, a6, a7, a8, a9)) : wpX_stake P (og, he, li, kn, a1, a2, a3, a4, a5, a6, a7, a8, a9) (nI v) x8 := by
  have fin : ∀ q, q ≤ 100 → wL_law_157 post L xs J st (nI h) x5 (nI v) 1 (lN q) kc ks og he li 0 (upd a1 v (nI q)) a2 a3 a4 a5 a6 a7 a8 a9 := fun q hq => br_f (by decide) (nm_e (vw_415 hJ (vw_Istake hI) (vw_S1 hv (by omega) hS)))
  unfold wpX_stake
  refine vw_isVal_t hv (br_f (by decide) ⟨pk_in v 8 hv, ?_⟩)
  rw [nI_clamp (show v < 2 ^ 31 by omega)]
  refine nm_e (br_c (fun c0 => br_c (fun c1 => ⟨pk_in v 8 hv, nm_e (hP _ _ (br_t rfl (br_t c0 (br_t c1 ?_))))⟩) (fun c1 => ⟨pk_in v 8 hv, nm_e (hP _ _ (br_t rfl (br_t c0 (br_f c1 (fin 100 (by omega))))))⟩)) (fun c0 => ⟨pk_in v 8 hv, nm_e (hP _ _ (br_t rfl (br_f c0 (fin 0 (by omega)))))⟩))
  obtain ⟨q, hq, e⟩ := nI_of2 (M := 100) (n := 100) (by decide) (Int32.not_lt.mpr c0) c1
  rw [e, nI_l (by omega)]
  exact fin q hq
theorem vw_100 {x6 x7 x8 x9 x10 x11 : Int32} (hJ : vw_HJ J x5) (hI : vw_I h l nn og he li kn a1 a2 a3 a4 a5 a6 a7 a8 a9) (hS : vw_S st a1) (h7 : ((x7 < 0 ∨ 7 < x7) ∧ x10 = 0) ∨ ∃ v, v < 8 ∧ x7 = nI v ∧ x11 = a1 v ∧ x10 = 1) :
    wL_law_100 post L xs J st (nI h) x5 x6 x7 x8 x9 x10 x11 kc ks og he li kn a1 a2 a3 a4 a5 a6 a7 a8 a9 := by
  have V : ∀ x12 y : Int32, wL_law_246 post L xs J st (nI h) x5 x7 x11 x12 y kc ks og he li kn a1 a2 a3 a4 a5 a6 a7 a8 a9 := by
    intro x12 y
    refine vw_246 hJ hI hS ?_
    rcases h7 with ⟨h7, _⟩ | ⟨v, hv, e7, e11, _⟩
    · exact Or.inl h7
    · exact Or.inr ⟨v, hv, e7, e11⟩
  refine br_c (fun _ => ?_) (fun _ => br_c (fun _ => vw_216 V) (fun _ => br_c (fun _ => vw_216 V) (fun _ => vw_216 V)))
  rcases h7 with ⟨h7, e10⟩ | ⟨v, hv, e7, e11, e10⟩
  · have K : ∀ z : Int64, wL_law_157 post L xs J st (nI h) x5 x7 x10 z kc ks og he li kn a1 a2 a3 a4 a5 a6 a7 a8 a9 := fun z => br_t e10 (vw_415 hJ hI hS)
    unfold wpX_stake
    exact vw_isVal_f h7 (br_t rfl (br_t e10 (br_t rfl (br_c (fun _ => br_c (fun _ => K _) (fun _ => K _)) (fun _ => K _)))))
  · subst e7 e11 e10
    exact vw_k2 hv hJ hI hS (fun y b hy => br_f (by decide) hy)
end
end
end
section
/-! ===== the constructor ===== -/
theorem vw_i103 {post : St1 → Prop} {mc ms kc ks : Nat} {og he li kn : Int32} {a1 a2 a3 a4 a5 a6 a7 a8 a9 : Nat → Int32} (H : ∀ b2 b3, (∀ j, j < 256 → b2 j = 32) → (∀ j, j < 256 → b3 j = -1) → post (og, he, li, kn, a1, b2, b3, a4, a5, a6, a7, a8, a9)) :
    ∃ n, wX_init_103 post mc ms kc ks og he li kn n 0 a1 a2 a3 a4 a5 a6 a7 a8 a9 := by
  refine pk_loop (fun n i s => wX_init_103 post mc ms kc ks og he li kn n (nI i) a1 s.1 s.2 a4 a5 a6 a7 a8 a9) (fun i s => (∀ j, j < i → s.1 j = 32) ∧ ∀ j, j < i → s.2 j = -1) 256 0 (a2, a3) (by omega) ⟨fun j z => absurd z (by omega), fun j z => absurd z (by omega)⟩
    (fun n s h => pk_le 256 256 (fun _ => H s.1 s.2 h.1 h.2) (fun z => absurd z (by omega)))
    (fun n i s hi h hw => pk_le 256 i (fun z => absurd z (by omega)) (fun _ => ⟨pk_in i 256 hi, nm_e ⟨pk_in i 256 hi, nm_e (nm_r (nI_1 i) (hw (_, _) ⟨fun j hj => ?_, fun j hj => ?_⟩))⟩⟩))
  · show upd s.1 (nI i).toNatClampNeg 32 j = 32
    rw [nI_clamp (by omega)]
    by_cases e : j = i
    · rw [e, pk_us]
    · rw [pk_un e]
      exact h.1 j (by omega)
  · show upd s.2 (nI i).toNatClampNeg (-1) j = -1
    rw [nI_clamp (by omega)]
    by_cases e : j = i
    · rw [e, pk_us]
    · rw [pk_un e]
      exact h.2 j (by omega)
theorem vw_i82 {post : St1 → Prop} {mc ms kc ks : Nat} {og he li kn : Int32} {a1 a2 a3 a4 a5 a6 a7 a8 a9 : Nat → Int32} (H : ∀ b1 b2 b3, (∀ j, j < 8 → b1 j = 1) → (∀ j, j < 256 → b2 j = 32) → (∀ j, j < 256 → b3 j = -1) → post (og, he, li, kn, b1, b2, b3, a4, a5, a6, a7, a8, a9)) :
    ∃ n, wX_init_82 post mc ms kc ks og he li kn n 0 a1 a2 a3 a4 a5 a6 a7 a8 a9 := by
  refine pk_loop (fun n i s => wX_init_82 post mc ms kc ks og he li kn n (nI i) s a2 a3 a4 a5 a6 a7 a8 a9) (fun i s => ∀ j, j < i → s j = 1) 8 0 a1 (by omega) (fun j z => absurd z (by omega))
    (fun n s h => pk_le 8 8 (fun _ => vw_i103 (fun b2 b3 h2 h3 => H s b2 b3 h h2 h3)) (fun z => absurd z (by omega)))
    (fun n i s hi h hw => pk_le 8 i (fun z => absurd z (by omega)) (fun _ => ⟨pk_in i 8 hi, nm_e (nm_r (nI_1 i) (hw _ (fun j hj => ?_)))⟩))
  rw [nI_clamp (by omega)]
  by_cases e : j = i
  · rw [e, pk_us]
  · rw [pk_un e]
    exact h j (by omega)
/-! ===== the law's loop ===== -/
theorem vw_l18 {xs : Nat → Int32} {L kc ks : Nat} (hL : L ≤ 260) : ∀ (n m : Nat) (st : Int64) (h l : Nat) (nn : Nat → Nat) (og he li kn : Int32) (a1 a2 a3 a4 a5 a6 a7 a8 a9 : Nat → Int32), m ≤ L / 4 → L / 4 < n + m → vw_I h l nn og he li kn a1 a2 a3 a4 a5 a6 a7 a8 a9 → vw_S st a1 →
    wL_law_18 (fun r => r = 1) L xs kc ks n st (nI h) (nI (4 * m)) og he li kn a1 a2 a3 a4 a5 a6 a7 a8 a9 := by
  intro n
  induction n with
  | zero =>
    intro m st h l nn og he li kn a1 a2 a3 a4 a5 a6 a7 a8 a9 h1 h2
    omega
  | succ n ih =>
    intro m st h l nn og he li kn a1 a2 a3 a4 a5 a6 a7 a8 a9 h1 h2 hI hS
    refine pk_lt L (4 * m + 4) (fun _ => rfl) (fun z => ?_) rfl (nI_add (4 * m) 4)
    have hJ : vw_HJ (wL_law_18 (fun r => r = 1) L xs kc ks n) (nI (4 * m)) := by
      intro st' h' l' nn' og' he' li' kn' b1 b2 b3 b4 b5 b6 b7 b8 b9 hI' hS'
      rw [show nI (4 * m) + 4 = nI (4 * (m + 1)) from nI_add (4 * m) 4]
      exact ih (m + 1) st' h' l' nn' og' he' li' kn' b1 b2 b3 b4 b5 b6 b7 b8 b9 (by omega) (by omega) hI' hS'
    refine ⟨pk_in (4 * m) L (by omega), fun x6 _ => ⟨pk_in (4 * m + 1) L (by omega) (nI_1 _), fun x7 _ => ⟨pk_in (4 * m + 2) L (by omega) (nI_add (4 * m) 2), fun x8 _ => ⟨pk_in (4 * m + 3) L (by omega) (nI_add (4 * m) 3), fun x9 _ => ?_⟩⟩⟩⟩
    refine br_c (fun c => br_t rfl (vw_100 hJ hI hS (Or.inl ⟨Or.inl c, rfl⟩))) (fun c => br_c (fun c7 => br_t rfl (vw_100 hJ hI hS (Or.inl ⟨Or.inr c7, rfl⟩))) (fun c7 => br_f (by decide) (vw_100 hJ hI hS (Or.inr ?_))))
    obtain ⟨v, hv, e⟩ := vw_v8 c c7
    subst e
    exact ⟨v, hv, rfl, hS v hv, rfl⟩
theorem vw_I0 {b1 b2 b3 : Nat → Int32} (h2 : ∀ j, j < 256 → b2 j = 32) (h3 : ∀ j, j < 256 → b3 j = -1) : vw_I 0 0 (fun _ => 0) 0 0 0 0 b1 b2 b3 (fun _ => 0) (fun _ => 0) (fun _ => 0) (fun _ => 0) (fun _ => 0) (fun _ => 0) := by
  refine ⟨rfl, rfl, by omega, by omega, rfl, fun v _ => rfl, fun v hv _ e he => ⟨h2 _ (by omega), h3 _ (by omega), rfl⟩, fun v _ hb => ?_, fun k hk => absurd hk (by omega), Or.inl rfl⟩
  rw [vw_b0] at hb
  exact absurd hb (by decide)
theorem vw_init {post : St1 → Prop} (H : ∀ b1 b2 b3, (∀ j, j < 8 → b1 j = 1) → (∀ j, j < 256 → b2 j = 32) → (∀ j, j < 256 → b3 j = -1) → post (0, 0, 0, 0, b1, b2, b3, (fun _ => 0), (fun _ => 0), (fun _ => 0), (fun _ => 0), (fun _ => 0), (fun _ => 0))) :
    wpX_init post 9 1104 (0, 0, 0, 0) := by
  unfold wpX_init
  exact ⟨by omega, by omega, by omega, by omega, by omega, by omega, by omega, by omega, by omega, by omega, by omega, by omega, by omega, by omega, by omega, by omega, by omega, by omega, vw_i82 H⟩
theorem i_vc (xs : Nat → Int32) (L : Nat) (hL : L ≤ 260) : wpL_law (fun r => r = 1) L xs := by
  unfold wpL_law
  refine ⟨9, 1104, by omega, by omega, vw_init (fun b1 b2 b3 h1 h2 h3 => ⟨L / 4 + 1, ?_⟩)⟩
  refine vw_l18 hL (L / 4 + 1) 0 _ 0 0 (fun _ => 0) 0 0 0 0 b1 b2 b3 _ _ _ _ _ _ (by omega) (by omega) (vw_I0 h2 h3) (fun v hv => ?_)
  rw [h1 v hv]
  exact vw_S0c v hv
end
