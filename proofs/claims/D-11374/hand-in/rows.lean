section
/-- bit s of a set of states -/
def dk_b (x : Int64) (s : Nat) : Bool := x.toBitVec.getLsbD s
theorem dk_ext {x y : Int64} (h : ∀ s, s < 64 → dk_b x s = dk_b y s) : x = y := by
  apply Int64.toBitVec_inj.mp
  apply BitVec.eq_of_getLsbD_eq
  intro i hi
  exact h i hi
theorem dk_and (x y : Int64) (s : Nat) : dk_b (x &&& y) s = (dk_b x s && dk_b y s) := by
  unfold dk_b
  rw [Int64.toBitVec_and, BitVec.getLsbD_and]
theorem dk_or (x y : Int64) (s : Nat) : dk_b (x ||| y) s = (dk_b x s || dk_b y s) := by
  unfold dk_b
  rw [Int64.toBitVec_or, BitVec.getLsbD_or]
theorem dk_m1 {s : Nat} (h : s < 64) : dk_b (-1) s = true := by
  unfold dk_b
  rw [show (-1 : Int64).toBitVec = BitVec.allOnes 64 from by decide, BitVec.getLsbD_allOnes]
  exact decide_eq_true h
theorem dk_zero (s : Nat) : dk_b 0 s = false := by
  unfold dk_b
  rw [show (0 : Int64).toBitVec = 0#64 from rfl]
  exact BitVec.getLsbD_zero
theorem dk_not (x : Int64) {s : Nat} (h : s < 64) : dk_b (x ^^^ (-1)) s = !dk_b x s := by
  have e : dk_b (x ^^^ (-1)) s = (dk_b x s ^^ dk_b (-1) s) := by
    unfold dk_b
    rw [Int64.toBitVec_xor, BitVec.getLsbD_xor]
  rw [e, dk_m1 h]
  cases dk_b x s <;> rfl
theorem dk_sh : ∀ t, t < 64 → ((1 : Int64) <<< ((nI t).toInt64 &&& 63)).toBitVec = BitVec.twoPow 64 t := by decide +kernel
theorem dk_sh0 : ∀ t, t < 64 → ((0 : Int64) <<< ((nI t).toInt64 &&& 63)) = 0 := by decide +kernel
theorem dk_one {t : Nat} (ht : t < 64) (s : Nat) : dk_b ((1 : Int64) <<< ((nI t).toInt64 &&& 63)) s = decide (s = t) := by
  unfold dk_b
  rw [dk_sh t ht, BitVec.getLsbD_twoPow]
  by_cases e : s = t
  · subst e
    simp [ht]
  · have e' : ¬ t = s := fun z => e z.symm
    simp [e, e']
theorem dk_cu : ∀ k, k < 64 → ((nI k).toInt64.toUInt64 &&& Int64.toUInt64 63).toNat = k := by decide +kernel
theorem dk_t (x : Int64) {k : Nat} (hk : k < 64) : (((x.toUInt64 >>> ((nI k).toInt64.toUInt64 &&& Int64.toUInt64 63)).toInt64) &&& 1) = if dk_b x k = true then 1 else 0 := by
  have e : (x.toUInt64 >>> ((nI k).toInt64.toUInt64 &&& Int64.toUInt64 63)).toInt64.toBitVec = x.toBitVec >>> k := by
    apply BitVec.eq_of_toNat_eq
    show (x.toUInt64 >>> ((nI k).toInt64.toUInt64 &&& Int64.toUInt64 63)).toNat = _
    rw [UInt64.toNat_shiftRight, dk_cu k hk, Nat.mod_eq_of_lt hk, BitVec.toNat_ushiftRight]
    rfl
  rw [← Int64.toBitVec_inj, Int64.toBitVec_and, e]
  unfold dk_b
  apply BitVec.eq_of_getLsbD_eq
  intro j hj
  rw [BitVec.getLsbD_and, BitVec.getLsbD_ushiftRight, show (1 : Int64).toBitVec = BitVec.twoPow 64 0 from by decide, BitVec.getLsbD_twoPow]
  by_cases h : x.toBitVec.getLsbD k = true
  · rw [if_pos h, show (1 : Int64).toBitVec = BitVec.twoPow 64 0 from by decide, BitVec.getLsbD_twoPow]
    cases j with
    | zero => simp [h]
    | succ j => simp
  · rw [if_neg h, show (0 : Int64).toBitVec = 0#64 from rfl]
    cases j with
    | zero => simpa using h
    | succ j => simp
theorem dk_t1 {x : Int64} {k : Nat} (hk : k < 64) (h : dk_b x k = true) : ¬ (((x.toUInt64 >>> ((nI k).toInt64.toUInt64 &&& Int64.toUInt64 63)).toInt64) &&& 1) = 0 := by
  rw [dk_t x hk, if_pos h]
  decide
theorem dk_t0 {x : Int64} {k : Nat} (hk : k < 64) (h : dk_b x k = false) : (((x.toUInt64 >>> ((nI k).toInt64.toUInt64 &&& Int64.toUInt64 63)).toInt64) &&& 1) = 0 := by
  rw [dk_t x hk, if_neg (by rw [h]; decide)]
/-- one bit moved from k to s -/
theorem dk_mv (x : Int64) {k s : Nat} (hk : k < 64) (hs : s < 64) (j : Nat) : dk_b ((((x.toUInt64 >>> ((nI k).toInt64.toUInt64 &&& Int64.toUInt64 63)).toInt64) &&& 1) <<< ((nI s).toInt64 &&& 63)) j = (decide (j = s) && dk_b x k) := by
  rw [dk_t x hk]
  by_cases h : dk_b x k = true
  · rw [if_pos h, dk_one hs, h, Bool.and_true]
  · rw [if_neg h, dk_sh0 s hs, dk_zero, Bool.eq_false_iff.mpr h, Bool.and_false]
theorem dk_slot (x : Int64) : ∃ j : Nat, j < 64 ∧ (x &&& 63).toInt32 = nI j := by
  have e : (x.toUInt64 &&& Int64.toUInt64 63).toNat = x.toUInt64.toNat % 2 ^ 6 := by
    rw [UInt64.toNat_and, show (Int64.toUInt64 63).toNat = 2 ^ 6 - 1 from by decide, Nat.and_two_pow_sub_one_eq_mod]
  refine ⟨x.toUInt64.toNat % 2 ^ 6, by omega, ?_⟩
  rw [← lN_i]
  congr 1
  rw [← Int64.toBitVec_inj, ← BitVec.toNat_inj]
  show (x.toUInt64 &&& Int64.toUInt64 63).toNat = (BitVec.ofNat 64 (x.toUInt64.toNat % 2 ^ 6)).toNat
  rw [e, BitVec.toNat_ofNat]
  omega
/-! the states as naturals: three digits of base 4 -/
def dk_v (i s : Nat) : Nat := s / 4 ^ i % 4
def dk_to (i v s : Nat) : Nat := s - s / 4 ^ i % 4 * 4 ^ i + v * 4 ^ i
def dk_nx (i st s : Nat) : Nat := dk_to i ((dk_v i s + st) % 4) s
def dk_d (i e s : Nat) : Nat := (e + 4 - dk_v i s) % 4
def dk_cm (i e st s : Nat) : Bool := dk_d i e s == 0 || st == 1 || st == 3 || (st == 2 && dk_d i e s == 2)
theorem dk_vlt (i s : Nat) : dk_v i s < 4 := Nat.mod_lt _ (by decide)
theorem dk_vI : ∀ i, i < 3 → ∀ s, s < 64 → (nI s >>> ((2 * nI i) &&& 31)) &&& 3 = nI (dk_v i s) := by decide +kernel
theorem dk_toI : ∀ i, i < 3 → ∀ v, v < 4 → ∀ s, s < 64 → (nI s &&& (((3 : Int32) <<< ((2 * nI i) &&& 31)) ^^^ (-1))) ||| (nI v <<< ((2 * nI i) &&& 31)) = nI (dk_to i v s) := by decide +kernel
theorem dk_tolt : ∀ i, i < 3 → ∀ v, v < 4 → ∀ s, s < 64 → dk_to i v s < 64 := by decide +kernel
theorem dk_add : ∀ a, a < 4 → ∀ b, b < 4 → (nI a + nI b) &&& 3 = nI ((a + b) % 4) := by decide +kernel
theorem dk_dI : ∀ i, i < 3 → ∀ e, e < 4 → ∀ s, s < 64 → (nI e - (nI s >>> ((2 * nI i) &&& 31))) &&& 3 = nI (dk_d i e s) := by decide +kernel
theorem dk_dlt (i e s : Nat) : dk_d i e s < 4 := Nat.mod_lt _ (by decide)
theorem dk_nxlt {i st s : Nat} (hi : i < 3) (hs : s < 64) : dk_nx i st s < 64 := dk_tolt i hi _ (Nat.mod_lt _ (by decide)) s hs
/-- round k of the loop's map, for a goal g, from k0 everywhere -/
def dk_K (i e st : Nat) (g : Nat → Bool) (k0 : Bool) : Nat → Nat → Bool
  | 0 => fun _ => k0
  | n + 1 => fun s => if dk_v i s = e then g s else dk_K i e st g k0 n (dk_nx i st s)
/-- its limit -/
def dk_R (i e st : Nat) (g : Nat → Bool) (k0 : Bool) (s : Nat) : Bool := if dk_cm i e st s = true then g (dk_to i e s) else k0
theorem dk_tb0' : ∀ i, i < 3 → ∀ e, e < 4 → ∀ st, st < 4 → ∀ s, s < 64 → decide (¬ (dk_v i s = e) ∨ (dk_cm i e st s = true ∧ dk_to i e s = s)) = true := by decide +kernel
theorem dk_tb0 : ∀ i, i < 3 → ∀ e, e < 4 → ∀ st, st < 4 → ∀ s, s < 64 → dk_v i s = e → dk_cm i e st s = true ∧ dk_to i e s = s := by
  intro i hi e he st hst s hs c0
  rcases of_decide_eq_true (dk_tb0' i hi e he st hst s hs) with q | q
  · exact absurd c0 q
  · exact q
theorem dk_tb1' : ∀ i, i < 3 → ∀ e, e < 4 → ∀ st, st < 4 → ∀ s, s < 64 → decide ((dk_v i s = e) ∨ (dk_cm i e st (dk_nx i st s) = dk_cm i e st s ∧ dk_to i e (dk_nx i st s) = dk_to i e s)) = true := by decide +kernel
theorem dk_tb1 : ∀ i, i < 3 → ∀ e, e < 4 → ∀ st, st < 4 → ∀ s, s < 64 → ¬ dk_v i s = e → dk_cm i e st (dk_nx i st s) = dk_cm i e st s ∧ dk_to i e (dk_nx i st s) = dk_to i e s := by
  intro i hi e he st hst s hs c0
  rcases of_decide_eq_true (dk_tb1' i hi e he st hst s hs) with q | q
  · exact absurd q c0
  · exact q
theorem dk_tb2' : ∀ i, i < 3 → ∀ e, e < 4 → ∀ st, st < 4 → ∀ s, s < 64 → decide ((dk_v i s = e) ∨ (dk_v i (dk_nx i st s) = e) ∨ (dk_v i (dk_nx i st (dk_nx i st s)) = e) ∨ (dk_v i (dk_nx i st (dk_nx i st (dk_nx i st s))) = e) ∨ (dk_cm i e st s = false)) = true := by decide +kernel
theorem dk_tb2 : ∀ i, i < 3 → ∀ e, e < 4 → ∀ st, st < 4 → ∀ s, s < 64 → ¬ dk_v i s = e → ¬ dk_v i (dk_nx i st s) = e → ¬ dk_v i (dk_nx i st (dk_nx i st s)) = e → ¬ dk_v i (dk_nx i st (dk_nx i st (dk_nx i st s))) = e → dk_cm i e st s = false := by
  intro i hi e he st hst s hs c0 c1 c2 c3
  rcases of_decide_eq_true (dk_tb2' i hi e he st hst s hs) with q | q | q | q | q
  · exact absurd q c0
  · exact absurd q c1
  · exact absurd q c2
  · exact absurd q c3
  · exact q
theorem dk_tbf : ∀ i, i < 3 → ∀ e, e < 4 → ∀ s, s < 64 → dk_v i (dk_to i e s) = e := by decide +kernel
theorem dk_tba' : ∀ i, i < 3 → ∀ e, e < 4 → ∀ st, st < 4 → ∀ s, s < 64 → decide (¬ (dk_cm i e st s = true) ∨ (dk_v i s = e) ∨ (¬ st = 0)) = true := by decide +kernel
theorem dk_tba : ∀ i, i < 3 → ∀ e, e < 4 → ∀ st, st < 4 → ∀ s, s < 64 → dk_cm i e st s = true → ¬ dk_v i s = e → ¬ st = 0 := by
  intro i hi e he st hst s hs c0 c1
  rcases of_decide_eq_true (dk_tba' i hi e he st hst s hs) with q | q | q
  · exact absurd c0 q
  · exact absurd q c1
  · exact q
theorem dk_tbw' : ∀ i, i < 3 → ∀ e, e < 4 → ∀ st, st < 4 → ∀ t, t < 64 → decide (¬ (dk_v i t = e) ∨ (st = 0) ∨ (dk_cm i e st (dk_to i ((e + 4 - st) % 4) t) = true ∧ dk_to i e (dk_to i ((e + 4 - st) % 4) t) = t ∧ ¬ dk_v i (dk_to i ((e + 4 - st) % 4) t) = e)) = true := by decide +kernel
theorem dk_tbw : ∀ i, i < 3 → ∀ e, e < 4 → ∀ st, st < 4 → ∀ t, t < 64 → dk_v i t = e → ¬ st = 0 → dk_cm i e st (dk_to i ((e + 4 - st) % 4) t) = true ∧ dk_to i e (dk_to i ((e + 4 - st) % 4) t) = t ∧ ¬ dk_v i (dk_to i ((e + 4 - st) % 4) t) = e := by
  intro i hi e he st hst t ht c0 c1
  rcases of_decide_eq_true (dk_tbw' i hi e he st hst t ht) with q | q | q
  · exact absurd c0 q
  · exact absurd q c1
  · exact q
theorem dk_Rfix {i e st : Nat} (hi : i < 3) (he : e < 4) (hst : st < 4) (g : Nat → Bool) (k0 : Bool) {s : Nat} (hs : s < 64) : (if dk_v i s = e then g s else dk_R i e st g k0 (dk_nx i st s)) = dk_R i e st g k0 s := by
  unfold dk_R
  by_cases h : dk_v i s = e
  · obtain ⟨h1, h2⟩ := dk_tb0 i hi e he st hst s hs h
    rw [if_pos h, if_pos h1, h2]
  · obtain ⟨h1, h2⟩ := dk_tb1 i hi e he st hst s hs h
    rw [if_neg h, h1, h2]
theorem dk_K4 {i e st : Nat} (hi : i < 3) (he : e < 4) (hst : st < 4) (g : Nat → Bool) (k0 : Bool) {s : Nat} (hs : s < 64) : dk_K i e st g k0 4 s = dk_R i e st g k0 s := by
  have h1 := dk_nxlt (st := st) hi hs
  have h2 := dk_nxlt (st := st) hi h1
  have h3 := dk_nxlt (st := st) hi h2
  rw [← dk_Rfix hi he hst g k0 hs, ← dk_Rfix hi he hst g k0 h1, ← dk_Rfix hi he hst g k0 h2, ← dk_Rfix hi he hst g k0 h3]
  show (if dk_v i s = e then g s else if dk_v i (dk_nx i st s) = e then g (dk_nx i st s) else if dk_v i (dk_nx i st (dk_nx i st s)) = e then g (dk_nx i st (dk_nx i st s)) else if dk_v i (dk_nx i st (dk_nx i st (dk_nx i st s))) = e then g (dk_nx i st (dk_nx i st (dk_nx i st s))) else k0) = _
  by_cases c0 : dk_v i s = e
  · rw [if_pos c0, if_pos c0]
  · rw [if_neg c0, if_neg c0]
    by_cases c1 : dk_v i (dk_nx i st s) = e
    · rw [if_pos c1, if_pos c1]
    · rw [if_neg c1, if_neg c1]
      by_cases c2 : dk_v i (dk_nx i st (dk_nx i st s)) = e
      · rw [if_pos c2, if_pos c2]
      · rw [if_neg c2, if_neg c2]
        by_cases c3 : dk_v i (dk_nx i st (dk_nx i st (dk_nx i st s))) = e
        · rw [if_pos c3, if_pos c3]
        · rw [if_neg c3, if_neg c3]
          have q := dk_tb2 i hi e he st hst s hs c0 c1 c2 c3
          unfold dk_R
          rw [(dk_tb1 i hi e he st hst _ h3 c3).1, (dk_tb1 i hi e he st hst _ h2 c2).1, (dk_tb1 i hi e he st hst _ h1 c1).1, (dk_tb1 i hi e he st hst _ hs c0).1, q]
          rfl
theorem dk_Kge {i e st : Nat} (hi : i < 3) (he : e < 4) (hst : st < 4) (g : Nat → Bool) (k0 : Bool) : ∀ (n s : Nat), s < 64 → dk_K i e st g k0 (n + 4) s = dk_R i e st g k0 s := by
  intro n
  induction n with
  | zero => exact fun s hs => dk_K4 hi he hst g k0 hs
  | succ n ih =>
    intro s hs
    show (if dk_v i s = e then g s else dk_K i e st g k0 (n + 4) (dk_nx i st s)) = _
    rw [ih _ (dk_nxlt hi hs)]
    exact dk_Rfix hi he hst g k0 hs
theorem dk_Kst {i e st : Nat} (hi : i < 3) (g : Nat → Bool) (k0 : Bool) {k : Nat} (h : ∀ s, s < 64 → dk_K i e st g k0 (k + 1) s = dk_K i e st g k0 k s) : ∀ (n s : Nat), s < 64 → dk_K i e st g k0 (k + n) s = dk_K i e st g k0 k s := by
  intro n
  induction n with
  | zero => exact fun s _ => rfl
  | succ n ih =>
    intro s hs
    rw [← h s hs]
    show (if dk_v i s = e then g s else dk_K i e st g k0 (k + n) (dk_nx i st s)) = (if dk_v i s = e then g s else dk_K i e st g k0 k (dk_nx i st s))
    rw [ih _ (dk_nxlt hi hs)]
/-- a round that changes nothing has reached the limit -/
theorem dk_Kend {i e st : Nat} (hi : i < 3) (he : e < 4) (hst : st < 4) (g : Nat → Bool) (k0 : Bool) {k : Nat} (h : ∀ s, s < 64 → dk_K i e st g k0 (k + 1) s = dk_K i e st g k0 k s) {s : Nat} (hs : s < 64) : dk_K i e st g k0 k s = dk_R i e st g k0 s := by
  rw [← dk_Kst hi g k0 h 4 s hs]
  exact dk_Kge hi he hst g k0 k s hs
end
section
section
variable {cc pc lv dp : Int32} {se : Int64} {a1 : Nat → Int64} {a2 a3 a4 a5 a6 a7 a8 a9 : Nat → Int32} {a10 a11 : Nat → Int64} {a12 : Nat → Int32} {a13 : Nat → Int64} {a14 : Nat → Int32} {a15 a16 : Nat → Int64}
theorem dk_setVar {post : St2 → Prop} {i st : Nat} (hi : i < 3) (hst : st < 4)
    (H : ∀ R, (∀ s, s < 64 → dk_b R s = dk_b se (dk_nx i st s)) → post (cc, pc, lv, dp, R, a1, a2, a3, a4, a5, a6, a7, a8, a9, a10, a11, a12, a13, a14, a15, a16)) :
    wpX_setVariable post (cc, pc, lv, dp, se, a1, a2, a3, a4, a5, a6, a7, a8, a9, a10, a11, a12, a13, a14, a15, a16) (nI i) (nI i) (nI st) := by
  unfold wpX_setVariable
  dsimp only
  refine pk_loop (fun n k x => wX_setVariable_6 post (nI i) (nI i) (nI st) cc pc lv dp se a1 a2 a3 a4 a5 a6 a7 a8 a9 a10 a11 a12 a13 a14 a15 a16 n x (nI k)) (fun k x => ∀ j, dk_b x j = (decide (j < k) && dk_b se (dk_nx i st j))) 64 0 0 (by omega) (fun j => ?_) (fun n x h => ?_) (fun n k x hk h hw => ?_)
  · rw [dk_zero]
    rfl
  · refine pk_le 64 64 (fun _ => H x (fun s hs => ?_)) (fun z => absurd z (by omega))
    rw [h s, decide_eq_true hs, Bool.true_and]
  · refine pk_le 64 k (fun z => absurd z (by omega)) (fun _ => ?_)
    have h3 : ¬ nI i = 3 := by
      intro z
      have := (nI_eq (a := i) (b := 3) (by omega) (by omega)).mp z
      omega
    refine br_f h3 ?_
    refine nm_r (e' := nI ((dk_v i k + st) % 4)) ?_ ?_
    · rw [dk_vI i hi k hk]
      exact dk_add _ (dk_vlt i k) st hst
    refine nm_r (e' := nI (dk_nx i st k)) (dk_toI i hi _ (Nat.mod_lt _ (by decide)) k hk) ?_
    refine nm_e (nm_r (nI_1 k) (hw _ (fun j => ?_)))
    rw [dk_or, dk_mv se (dk_nxlt hi hk) hk, h j]
    by_cases e : j = k
    · subst e
      simp
    · have e2 : decide (j < k + 1) = decide (j < k) := by
        apply decide_eq_decide.mpr
        omega
      rw [e2, decide_eq_false e, Bool.false_and, Bool.or_false]
theorem dk_enter {post : St2 → Prop} {p q : Int32} (d : Nat) (hd : d < 24)
    (H : post (cc, pc, lv, nI (d + 1), se, a1, a2, a3, a4, a5, a6, upd a7 d p.toInt8.toInt32, upd a8 d 0, upd a9 d q.toInt8.toInt32, vp_updL a10 d se, a11, a12, a13, a14, a15, a16)) :
    wpX_enter post (cc, pc, lv, nI d, se, a1, a2, a3, a4, a5, a6, a7, a8, a9, a10, a11, a12, a13, a14, a15, a16) p q := by
  unfold wpX_enter
  dsimp only
  rw [nI_clamp (show d < 2 ^ 31 by omega)]
  exact ⟨vp_in_nI hd (by omega), nm_e ⟨vp_in_nI hd (by omega), nm_e ⟨vp_in_nI hd (by omega), nm_e ⟨vp_in_nI hd (by omega), nm_e (nm_r (nI_1 d) H)⟩⟩⟩⟩
theorem dk_c0 : (nI 0).toNatClampNeg = 0 := nI_clamp (by decide)
theorem dk_c1 : (nI 1).toNatClampNeg = 1 := nI_clamp (by decide)
theorem dk_u0 {a : Nat → Int32} {x : Int32} : upd a 1 x 0 = a 0 := pk_un (by decide)
theorem dk_uL0 {a : Nat → Int64} {x : Int64} : vp_updL a 1 x 0 = a 0 := pk_uLn (by decide)
/-- what the two lower places of the stack hold while the loop's body is worked out: goal g, the round's set K -/
def dk_SB (g K : Int64) (a7 a8 a9 : Nat → Int32) (a10 a11 : Nat → Int64) : Prop := a7 0 = nI 1 ∧ a7 1 = nI 0 ∧ a8 0 = nI 1 ∧ a9 0 = nI 0 ∧ a10 0 = g ∧ a11 0 = K
theorem dk_g156 {post : St2 → Prop} {K : Int64} (h4 : a4 1 = nI 0) (h11 : a11 0 = K)
    (H : post (cc, pc, lv, nI 2, K, a1, a2, a3, a4, a5, a6, upd a7 1 (nI 0), upd a8 1 0, upd a9 1 (nI 1), vp_updL a10 1 K, a11, a12, a13, a14, a15, a16)) :
    wX_goRound_156 post (nI 0) (nI 1) (nI 0) cc pc lv (nI 1) se a1 a2 a3 a4 a5 a6 a7 a8 a9 a10 a11 a12 a13 a14 a15 a16 := by
  unfold wX_goRound_156
  rw [dk_c0, dk_c1, h4, h11]
  refine ⟨vp_in_nI (by decide) (by decide), nm_e ⟨vp_in_nI (by decide) (by decide), ?_⟩⟩
  exact dk_enter 1 (by decide) H
theorem dk_gr0 {post : St2 → Prop} {mt : Int32} {m : Nat} (hm : m < 4) (hmt : mt = nI m) {g : Int64} (h3 : a3 1 = nI 1) (h4 : a4 1 = nI 0) (h7 : a7 0 = nI 1) (h8 : a8 0 = nI 1) (h9 : a9 0 = nI 0) (h10 : a10 0 = g) (h12 : a12 0 = nI 0)
    (H : ∀ (K : Int64) (b7 b8 b9 : Nat → Int32) (b10 b11 : Nat → Int64) (b12 : Nat → Int32) (b13 : Nat → Int64), (∀ s, s < 64 → dk_b K s = decide (2 ≤ m)) → dk_SB g K b7 b8 b9 b10 b11 → post (cc, pc, lv, nI 2, K, a1, a2, a3, a4, a5, a6, b7, b8, b9, b10, b11, b12, b13, a14, a15, a16)) :
    wpX_goRound post (cc, pc, lv, nI 1, se, a1, a2, a3, a4, a5, a6, a7, a8, a9, a10, a11, a12, a13, a14, a15, a16) (nI 0) (nI 1) (nI 0) mt := by
  have main : ∀ (K : Int64), (∀ s, s < 64 → dk_b K s = decide (2 ≤ m)) → wX_goRound_55 post (nI 0) (nI 1) (nI 0) K (nI 0) cc pc lv (nI 1) se a1 a2 a3 a4 a5 a6 a7 a8 a9 a10 a11 a12 a13 a14 a15 a16 := by
    intro K hK
    unfold wX_goRound_55
    rw [dk_c0]
    refine ⟨vp_in_nI (by decide) (by decide), nm_e ?_⟩
    unfold wX_goRound_56
    rw [dk_c0, pk_uLs]
    refine ⟨vp_in_nI (by decide) (by decide), nm_e ⟨vp_in_nI (by decide) (by decide), vp_in_nI (by decide) (by decide), nm_e ?_⟩⟩
    refine dk_g156 h4 pk_uLs (H K _ _ _ _ _ _ _ hK ⟨?_, pk_us, ?_, ?_, ?_, pk_uLs⟩)
    · rw [dk_u0, h7]
    · rw [dk_u0, h8]
    · rw [dk_u0, h9]
    · rw [dk_uL0, h10]
  unfold wpX_goRound
  dsimp only
  rw [dk_c0, dk_c1, h3]
  refine ⟨vp_in_nI (by decide) (by decide), vp_in_nI (by decide) (by decide), nm_e ⟨vp_in_nI (by decide) (by decide), nm_r h9 ?_⟩⟩
  rw [dk_c0]
  refine br_t rfl ⟨vp_in_nI (by decide) (by decide), br_t h12 ?_⟩
  have hc : (mt &&& 2 = 0 ↔ ¬ 2 ≤ m) := by
    subst hmt
    have q : ∀ m, m < 4 → (nI m &&& 2 = 0 ↔ ¬ 2 ≤ m) := by decide +kernel
    exact q m hm
  refine br_c (fun z => main 0 (fun s _ => ?_)) (fun z => main (-1) (fun s hs => ?_))
  · rw [dk_zero, decide_eq_false (hc.mp z)]
  · rw [dk_m1 hs]
    refine (decide_eq_true ?_).symm
    exact Decidable.byContradiction (fun y => z (hc.mpr y))
theorem dk_gr1 {post : St2 → Prop} {mt : Int32} {g K N : Int64} (h3 : a3 1 = nI 1) (h4 : a4 1 = nI 0) (h7 : a7 0 = nI 1) (h9 : a9 0 = nI 0) (h10 : a10 0 = g) (h11 : a11 0 = K)
    (hN : (a1 1 &&& se) ||| ((a1 1 ^^^ (-1)) &&& g) = N)
    (H0 : N = K → post (cc, pc, lv, nI 0, N, a1, a2, a3, a4, a5, a6, a7, a8, a9, a10, a11, a12, a13, a14, a15, a16))
    (H : ¬ N = K → ∀ (b7 b8 b9 : Nat → Int32) (b10 b11 : Nat → Int64) (b12 : Nat → Int32) (b13 : Nat → Int64), dk_SB g N b7 b8 b9 b10 b11 → post (cc, pc, lv, nI 2, N, a1, a2, a3, a4, a5, a6, b7, b8, b9, b10, b11, b12, b13, a14, a15, a16)) :
    wpX_goRound post (cc, pc, lv, nI 1, se, a1, a2, a3, a4, a5, a6, a7, a8, a9, a10, a11, a12, a13, a14, a15, a16) (nI 0) (nI 1) (nI 1) mt := by
  unfold wpX_goRound
  dsimp only
  rw [dk_c0, dk_c1, h3, dk_c1, h10, h11]
  refine ⟨vp_in_nI (by decide) (by decide), vp_in_nI (by decide) (by decide), nm_e ⟨vp_in_nI (by decide) (by decide), nm_r h9 ?_⟩⟩
  rw [dk_c0]
  refine br_f (by decide) ⟨vp_in_nI (by decide) (by decide), nm_r hN ⟨vp_in_nI (by decide) (by decide), ?_⟩⟩
  refine br_c (fun z => nm_r (e' := nI 0) (by decide) (H0 z)) (fun z => ⟨vp_in_nI (by decide) (by decide), nm_e ⟨vp_in_nI (by decide) (by decide), nm_e ⟨vp_in_nI (by decide) (by decide), nm_e ?_⟩⟩⟩)
  refine dk_g156 h4 pk_uLs (H z _ _ _ _ _ _ _ ⟨?_, pk_us, ?_, ?_, ?_, pk_uLs⟩)
  · rw [dk_u0, h7]
  · rw [dk_u0, pk_us]
    rfl
  · rw [dk_u0, h9]
  · rw [dk_uL0, h10]
/-- a step while the loop's body is on top -/
theorem dk_stepB {post : St2 → Prop} {mt : Int32} {i st : Nat} (hi : i < 3) (hst : st < 4) (h2 : a2 0 = nI 2) (h3 : a3 0 = nI i) (h4 : a4 0 = nI i) (h5 : a5 0 = nI st) (h7 : a7 1 = nI 0)
    (H : ∀ (R : Int64) (b8 : Nat → Int32), (∀ s, s < 64 → dk_b R s = dk_b se (dk_nx i st s)) → b8 0 = a8 0 → post (cc, pc, lv, nI 1, R, a1, a2, a3, a4, a5, a6, a7, b8, a9, a10, a11, a12, a13, a14, a15, a16)) :
    wpX_step post (cc, pc, lv, nI 2, se, a1, a2, a3, a4, a5, a6, a7, a8, a9, a10, a11, a12, a13, a14, a15, a16) mt := by
  have main : ∀ (z0 : Int32) (b8 : Nat → Int32), b8 0 = a8 0 → wX_workOut_11 (fun u => match u with | (x1, x2, x3, x4, x5, y1, y2, y3, y4, y5, y6, y7, y8, y9, y10, y11, y12, y13, y14, y15, y16) => post (x1, x2, x3, x4, x5, y1, y2, y3, y4, y5, y6, y7, y8, y9, y10, y11, y12, y13, y14, y15, y16)) (nI 0) (nI 2) z0 cc pc lv (nI 1) se a1 a2 a3 a4 a5 a6 a7 b8 a9 a10 a11 a12 a13 a14 a15 a16 := by
    intro z0 b8 hb
    unfold wX_workOut_11
    rw [dk_c0, h3, h4, h5]
    refine ⟨vp_in_nI (by decide) (by decide), nm_e (br_f (by decide) (br_f (by decide) (br_f (by decide) (br_t rfl ⟨vp_in_nI (by decide) (by decide), vp_in_nI (by decide) (by decide), ?_⟩))))⟩
    exact dk_setVar hi hst (fun R hR => H R b8 hR hb)
  unfold wpX_step
  dsimp only
  refine nm_r (e' := nI 1) (by decide) ?_
  rw [dk_c1, h7]
  refine ⟨vp_in_nI (by decide) (by decide), nm_e ?_⟩
  rw [dk_c0, h2]
  refine ⟨vp_in_nI (by decide) (by decide), nm_e ⟨vp_in_nI (by decide) (by decide), nm_e ⟨vp_in_nI (by decide) (by decide), vp_in_nI (by decide) (by decide), nm_e (br_f (by decide) (nm_r (e' := nI 1) (by decide) ?_))⟩⟩⟩
  exact br_c (fun _ => main 0 _ dk_u0) (fun _ => main 1 _ dk_u0)
/-- a step while the loop is on top -/
theorem dk_stepA {post : St2 → Prop} {mt : Int32} {ph : Nat} (h2 : a2 1 = nI 9) (h7 : a7 0 = nI 1) (h8 : a8 0 = nI ph)
    (H : wpX_goRound post (cc, pc, lv, nI 1, se, a1, a2, a3, a4, a5, a6, a7, upd a8 0 ((nI ph + 1).toInt8.toInt32), a9, a10, a11, a12, a13, a14, a15, a16) (nI 0) (nI 1) (nI ph) mt) :
    wpX_step post (cc, pc, lv, nI 1, se, a1, a2, a3, a4, a5, a6, a7, a8, a9, a10, a11, a12, a13, a14, a15, a16) mt := by
  unfold wpX_step
  dsimp only
  refine nm_r (e' := nI 0) (by decide) ?_
  rw [dk_c0, h7, h8]
  refine ⟨vp_in_nI (by decide) (by decide), nm_e ?_⟩
  rw [dk_c1, h2]
  refine ⟨vp_in_nI (by decide) (by decide), nm_e ⟨vp_in_nI (by decide) (by decide), nm_e ⟨vp_in_nI (by decide) (by decide), vp_in_nI (by decide) (by decide), nm_e (br_t (by decide) (br_f (by decide) (br_t rfl ?_)))⟩⟩⟩
  exact H
end
end
section
/-- the desk once it is built: two conditions, two programs, level 1, and what the cache holds is right -/
def dk_tab (i e st : Nat) (a1 : Nat → Int64) (a2 a3 a4 a5 : Nat → Int32) : Prop := (∀ s, s < 64 → dk_b (a1 0) s = decide (dk_v i s = e)) ∧ (∀ s, s < 64 → dk_b (a1 1) s = !decide (dk_v i s = e)) ∧ a2 0 = nI 2 ∧ a2 1 = nI 9 ∧ a3 0 = nI i ∧ a3 1 = nI 1 ∧ a4 0 = nI i ∧ a4 1 = nI 0 ∧ a5 0 = nI st
def dk_ca (i e st : Nat) (a14 : Nat → Int32) (a15 a16 : Nat → Int64) : Prop := ∀ k, k < 64 → ∀ m, m < 4 → a14 k = nI (5 + m) → ∀ s, s < 64 → dk_b (a16 k) s = dk_R i e st (dk_b (a15 k)) (decide (2 ≤ m)) s
def dk_ok (i e st : Nat) (u : St2) : Prop := match u with
  | (cc, pc, lv, _, _, a1, a2, a3, a4, a5, _, _, _, _, _, _, _, _, a14, a15, a16) => cc = nI 2 ∧ pc = nI 2 ∧ lv = nI 1 ∧ dk_tab i e st a1 a2 a3 a4 a5 ∧ dk_ca i e st a14 a15 a16
section
variable {cc pc lv dp : Int32} {se : Int64} {a1 : Nat → Int64} {a2 a3 a4 a5 a6 a7 a8 a9 : Nat → Int32} {a10 a11 : Nat → Int64} {a12 : Nat → Int32} {a13 : Nat → Int64} {a14 : Nat → Int32} {a15 a16 : Nat → Int64} {i e st m : Nat} {post : Int64 → St2 → Prop} {g : Int64} {mt key : Int32}
theorem dk_D {q n : Nat} (hq : q < 64)
    (H : post se (cc, pc, lv, nI 0, se, a1, a2, a3, a4, a5, a6, a7, a8, a9, a10, a11, a12, a13, upd a14 q key.toInt16.toInt32, vp_updL a15 q g, vp_updL a16 q se)) :
    wX_map_115 post g mt key (nI q) (n + 1) cc pc lv (nI 0) se a1 a2 a3 a4 a5 a6 a7 a8 a9 a10 a11 a12 a13 a14 a15 a16 := by
  unfold wX_map_115
  rw [nI_clamp (show q < 2 ^ 31 by omega)]
  exact br_t (by decide) ⟨vp_in_nI hq (by decide), nm_e ⟨vp_in_nI hq (by decide), nm_e ⟨vp_in_nI hq (by decide), nm_e H⟩⟩⟩
theorem dk_S {q d n : Nat} (hd : d < 3)
    (H : wpX_step (fun u => match u with | (x1, x2, x3, x4, x5, y1, y2, y3, y4, y5, y6, y7, y8, y9, y10, y11, y12, y13, y14, y15, y16) => wX_map_115 post g mt key (nI q) n x1 x2 x3 x4 x5 y1 y2 y3 y4 y5 y6 y7 y8 y9 y10 y11 y12 y13 y14 y15 y16) (cc, pc, lv, nI (d + 1), se, a1, a2, a3, a4, a5, a6, a7, a8, a9, a10, a11, a12, a13, a14, a15, a16) mt) :
    wX_map_115 post g mt key (nI q) (n + 1) cc pc lv (nI (d + 1)) se a1 a2 a3 a4 a5 a6 a7 a8 a9 a10 a11 a12 a13 a14 a15 a16 :=
  pk_le (d + 1) 0 (fun z => absurd z (by omega)) (fun _ => H)
/-- the rounds: at round k with set K, the body on top -/
theorem dk_rounds (hi : i < 3) (he : e < 4) (hst : st < 4) {q : Nat} (hq : q < 64) (T : dk_tab i e st a1 a2 a3 a4 a5)
    (H : ∀ (r : Int64) (b7 b8 b9 : Nat → Int32) (b10 b11 : Nat → Int64) (b12 : Nat → Int32) (b13 : Nat → Int64), (∀ s, s < 64 → dk_b r s = dk_R i e st (dk_b g) (decide (2 ≤ m)) s) → post r (cc, pc, lv, nI 0, r, a1, a2, a3, a4, a5, a6, b7, b8, b9, b10, b11, b12, b13, upd a14 q key.toInt16.toInt32, vp_updL a15 q g, vp_updL a16 q r)) :
    ∀ (j k n : Nat) (K : Int64) (a7 a8 a9 : Nat → Int32) (a10 a11 : Nat → Int64) (a12 : Nat → Int32) (a13 : Nat → Int64), 4 ≤ k + j → (∀ s, s < 64 → dk_b K s = dk_K i e st (dk_b g) (decide (2 ≤ m)) k s) → dk_SB g K a7 a8 a9 a10 a11 → wX_map_115 post g mt key (nI q) (n + 2 * j + 3) cc pc lv (nI 2) K a1 a2 a3 a4 a5 a6 a7 a8 a9 a10 a11 a12 a13 a14 a15 a16 := by
  obtain ⟨t0, t1, h20, h21, h30, h31, h40, h41, h50⟩ := T
  intro j
  induction j with
  | zero =>
    intro k n K a7 a8 a9 a10 a11 a12 a13 hk hK hS
    obtain ⟨s7, s71, s8, s9, s10, s11⟩ := hS
    refine dk_S (d := 1) (by decide) (dk_stepB hi hst h20 h30 h40 h50 s71 (fun R b8 hR hb => ?_))
    refine dk_S (d := 0) (by decide) (dk_stepA (ph := 1) h21 s7 (by rw [hb]; exact s8) ?_)
    have hN : ∀ s, s < 64 → dk_b ((a1 1 &&& R) ||| ((a1 1 ^^^ (-1)) &&& g)) s = dk_K i e st (dk_b g) (decide (2 ≤ m)) (k + 1) s := by
      intro s hs
      rw [dk_or, dk_and, dk_and, dk_not _ hs, t1 s hs, hR s hs, hK _ (dk_nxlt hi hs)]
      show _ = if dk_v i s = e then dk_b g s else dk_K i e st (dk_b g) (decide (2 ≤ m)) k (dk_nx i st s)
      by_cases c : dk_v i s = e
      · simp [c]
      · simp [c]
    refine dk_gr1 h31 h41 s7 s9 s10 s11 rfl (fun z => ?_) (fun z => ?_)
    · refine dk_D hq (H _ _ _ _ _ _ _ _ (fun s hs => ?_))
      rw [z, hK s hs]
      refine dk_Kend hi he hst _ _ (fun s hs => ?_) hs
      rw [← hN s hs, z, hK s hs]
    · refine absurd (dk_ext (fun s hs => ?_)) z
      rw [hN s hs, hK s hs]
      obtain ⟨k', rfl⟩ : ∃ k', k = k' + 4 := ⟨k - 4, by omega⟩
      rw [show k' + 4 + 1 = (k' + 1) + 4 by omega, dk_Kge hi he hst _ _ _ s hs, dk_Kge hi he hst _ _ _ s hs]
  | succ j ih =>
    intro k n K a7 a8 a9 a10 a11 a12 a13 hk hK hS
    obtain ⟨s7, s71, s8, s9, s10, s11⟩ := hS
    rw [show n + 2 * (j + 1) + 3 = (n + 2 * j + 3) + 1 + 1 by omega]
    refine dk_S (d := 1) (by decide) (dk_stepB hi hst h20 h30 h40 h50 s71 (fun R b8 hR hb => ?_))
    refine dk_S (d := 0) (by decide) (dk_stepA (ph := 1) h21 s7 (by rw [hb]; exact s8) ?_)
    have hN : ∀ s, s < 64 → dk_b ((a1 1 &&& R) ||| ((a1 1 ^^^ (-1)) &&& g)) s = dk_K i e st (dk_b g) (decide (2 ≤ m)) (k + 1) s := by
      intro s hs
      rw [dk_or, dk_and, dk_and, dk_not _ hs, t1 s hs, hR s hs, hK _ (dk_nxlt hi hs)]
      show _ = if dk_v i s = e then dk_b g s else dk_K i e st (dk_b g) (decide (2 ≤ m)) k (dk_nx i st s)
      by_cases c : dk_v i s = e
      · simp [c]
      · simp [c]
    refine dk_gr1 h31 h41 s7 s9 s10 s11 rfl (fun z => ?_) (fun z => ?_)
    · refine dk_D (n := n + 2 * j + 2) hq (H _ _ _ _ _ _ _ _ (fun s hs => ?_))
      rw [z, hK s hs]
      refine dk_Kend hi he hst _ _ (fun s hs => ?_) hs
      rw [← hN s hs, z, hK s hs]
    · intro b7 b8 b9 b10 b11 b12 b13 hS
      exact ih (k + 1) n _ b7 b8 b9 b10 b11 b12 b13 (by omega) hN hS
theorem dk_m75 (hi : i < 3) (he : e < 4) (hst : st < 4) (hm : m < 4) (hmt : mt = nI m) {q : Nat} (hq : q < 64) (T : dk_tab i e st a1 a2 a3 a4 a5)
    (H : ∀ (r : Int64) (b7 b8 b9 : Nat → Int32) (b10 b11 : Nat → Int64) (b12 : Nat → Int32) (b13 : Nat → Int64), (∀ s, s < 64 → dk_b r s = dk_R i e st (dk_b g) (decide (2 ≤ m)) s) → post r (cc, pc, lv, nI 0, r, a1, a2, a3, a4, a5, a6, b7, b8, b9, b10, b11, b12, b13, upd a14 q key.toInt16.toInt32, vp_updL a15 q g, vp_updL a16 q r)) :
    wX_map_75 post (nI 1) g mt key (nI q) cc pc lv dp se a1 a2 a3 a4 a5 a6 a7 a8 a9 a10 a11 a12 a13 a14 a15 a16 := by
  unfold wX_map_75
  refine pk_loop (fun n k a12 => wX_map_88 post (nI 1) g mt key (nI q) cc pc lv 0 g n (nI k) a1 a2 a3 a4 a5 a6 a7 a8 a9 a10 a11 a12 a13 a14 a15 a16) (fun k a => ∀ j, j < k → a j = 0) 24 0 a12 (by omega) (fun j hj => absurd hj (by omega)) (fun n a h => ?_) (fun n k a hk h hw => ?_)
  · refine pk_le 24 24 (fun _ => ?_) (fun z => absurd z (by omega))
    refine dk_enter 0 (by decide) ⟨(0 + 2 * 4 + 3) + 1, ?_⟩
    obtain ⟨t0, t1, h20, h21, h30, h31, h40, h41, h50⟩ := T
    refine dk_S (d := 0) (by decide) (dk_stepA (ph := 0) h21 pk_us pk_us ?_)
    refine dk_gr0 (g := g) hm hmt h31 h41 pk_us pk_us pk_us pk_uLs (h 0 (by decide)) ?_
    intro K b7 b8 b9 b10 b11 b12 b13 hK hS
    exact dk_rounds hi he hst hq ⟨t0, t1, h20, h21, h30, h31, h40, h41, h50⟩ H 4 0 0 K b7 b8 b9 b10 b11 b12 b13 (by omega) hK hS
  · refine pk_le 24 k (fun z => absurd z (by omega)) (fun _ => ⟨vp_in_nI hk (by decide), nm_e (nm_r (nI_1 k) (hw _ (fun j hj => ?_)))⟩)
    rw [nI_clamp (show k < 2 ^ 31 by omega)]
    by_cases c : j = k
    · rw [c, pk_us]
    · rw [pk_un c]
      exact h j (by omega)
/-- the map: the loop's limit, the desk as it was -/
theorem dk_map (hi : i < 3) (he : e < 4) (hst : st < 4) (hm : m < 4) (hmt : mt = nI m) {u : St2} (hu : dk_ok i e st u)
    (H : ∀ (r : Int64) (u : St2), dk_ok i e st u → (∀ s, s < 64 → dk_b r s = dk_R i e st (dk_b g) (decide (2 ≤ m)) s) → post r u) :
    wpX_map post u (nI 1) g mt := by
  obtain ⟨cc, pc, lv, dp, se, a1, a2, a3, a4, a5, a6, a7, a8, a9, a10, a11, a12, a13, a14, a15, a16⟩ := u
  obtain ⟨hcc, hpc, hlv, T, C⟩ := hu
  subst hmt
  have hk : ∀ m, m < 4 → (1 + 4 * nI 1) + nI m = nI (5 + m) := by decide +kernel
  have hk2 : ∀ m, m < 4 → (nI (5 + m)).toInt16.toInt32 = nI (5 + m) := by decide +kernel
  unfold wpX_map
  dsimp only
  refine nm_r (hk m hm) ?_
  obtain ⟨q, hq, eq⟩ := dk_slot (((g * 31) + ((g.toUInt64 >>> ((29 : Int32).toInt64.toUInt64 &&& Int64.toUInt64 63)).toInt64)) + ((nI (5 + m)).toInt64 * 7))
  refine nm_r eq ?_
  rw [nI_clamp (show q < 2 ^ 31 by omega)]
  have main : wX_map_75 post (nI 1) g (nI m) (nI (5 + m)) (nI q) cc pc lv dp se a1 a2 a3 a4 a5 a6 a7 a8 a9 a10 a11 a12 a13 a14 a15 a16 := by
    refine dk_m75 hi he hst hm rfl hq T (fun r b7 b8 b9 b10 b11 b12 b13 hr => H r _ ⟨hcc, hpc, hlv, T, ?_⟩ hr)
    intro k hk m' hm' h14 s hs
    rw [hk2 m hm] at h14
    by_cases c : k = q
    · subst c
      rw [pk_us] at h14
      have em := (nI_eq (a := 5 + m) (b := 5 + m') (by omega) (by omega)).mp h14
      have em' : m = m' := by omega
      subst em'
      rw [pk_uLs, pk_uLs]
      exact hr s hs
    · rw [pk_un c] at h14
      rw [pk_uLn c, pk_uLn c]
      exact C k hk m' hm' h14 s hs
  refine br_t hlv ⟨vp_in_nI hq (by decide), br_c (fun c1 => ⟨vp_in_nI hq (by decide), br_c (fun c2 => ⟨vp_in_nI hq (by decide), ?_⟩) (fun _ => main)⟩) (fun _ => main)⟩
  refine H _ _ ⟨hcc, hpc, hlv, T, C⟩ (fun s hs => ?_)
  rw [C q hq m hm c1 s hs, c2]
end
end
section
def dk_ones : Nat → Int32 → Int64 → Option Int32
  | 0 => fun _ _ => none
  | n + 1 => fun a x => if x = 0 then some a else dk_ones n (a + 1) (x &&& (x - 1))
/-- the set of the states from which the loop ends -/
def dk_cs (i e st : Nat) : Nat → Nat
  | 0 => 0
  | n + 1 => dk_cs i e st n + if dk_cm i e st n = true then 2 ^ n else 0
def dk_C (i e st : Nat) : Int64 := Int64.ofNat (dk_cs i e st 64)
def dk_n0 (st : Nat) : Int32 := if st = 0 then 16 else if st = 2 then 32 else 64
theorem dk_Cb : ∀ i, i < 3 → ∀ e, e < 4 → ∀ st, st < 4 → ∀ s, s < 64 → dk_b (dk_C i e st) s = dk_cm i e st s := by decide +kernel
theorem dk_Cn : ∀ i, i < 3 → ∀ e, e < 4 → ∀ st, st < 4 → dk_ones 70 0 (dk_C i e st) = some (dk_n0 st) := by decide +kernel
theorem dk_1n : ∀ t, t < 64 → dk_ones 70 0 ((1 : Int64) <<< ((nI t).toInt64 &&& 63)) = some 1 := by decide +kernel
/-- how many goals below n are reached from outside -/
def dk_af (i e st : Nat) : Nat → Nat
  | 0 => 0
  | n + 1 => dk_af i e st n + if dk_v i n = e ∧ ¬ st = 0 then 1 else 0
theorem dk_af64 : ∀ i, i < 3 → ∀ e, e < 4 → ∀ st, st < 4 → dk_af i e st 64 = if st = 0 then 0 else 16 := by decide +kernel
section
variable {cc pc lv dp : Int32} {se : Int64} {a1 : Nat → Int64} {a2 a3 a4 a5 a6 a7 a8 a9 : Nat → Int32} {a10 a11 : Nat → Int64} {a12 : Nat → Int32} {a13 : Nat → Int64} {a14 : Nat → Int32} {a15 a16 : Nat → Int64} {i e st m : Nat}
theorem dk_isP {post : Int32 → Prop} {u : St2} (hu : dk_ok i e st u) (H : post 1) : wpX_isProgram post u (nI 1) := by
  obtain ⟨cc, pc, lv, dp, se, a1, a2, a3, a4, a5, a6, a7, a8, a9, a10, a11, a12, a13, a14, a15, a16⟩ := u
  obtain ⟨hcc, hpc, hlv, T, C⟩ := hu
  subst hpc
  exact br_f (by decide) (br_f (by decide) H)
theorem dk_isC {post : Int32 → Prop} {u : St2} (hu : dk_ok i e st u) {c : Nat} (hc : c < 2) (H : post 1) : wpX_isCondition post u (nI c) := by
  obtain ⟨cc, pc, lv, dp, se, a1, a2, a3, a4, a5, a6, a7, a8, a9, a10, a11, a12, a13, a14, a15, a16⟩ := u
  obtain ⟨hcc, hpc, hlv, T, C⟩ := hu
  subst hcc
  exact br_f (nI_pos (by omega)) (br_f (nI_ge hc (by decide)) H)
theorem dk_onesW {post : Int32 → Prop} {r : Int32} (H : post r) : ∀ (n : Nat) (a : Int32) (x : Int64), dk_ones n a x = some r → wX_onesIn_5 post cc pc lv dp se a1 a2 a3 a4 a5 a6 a7 a8 a9 a10 a11 a12 a13 a14 a15 a16 n a x := by
  intro n
  induction n with
  | zero =>
    intro a x h
    exact absurd h (by simp [dk_ones])
  | succ n ih =>
    intro a x h
    have h' : (if x = 0 then some a else dk_ones n (a + 1) (x &&& (x - 1))) = some r := h
    refine br_c (fun c => ?_) (fun c => nm_e (nm_e (ih _ _ ?_)))
    · rw [if_pos c] at h'
      rw [Option.some.inj h']
      exact H
    · rw [if_neg c] at h'
      exact h'
theorem dk_onesIn {post : Int32 → Prop} {u : St2} {x : Int64} {r : Int32} (h : dk_ones 70 0 x = some r) (H : post r) : wpX_onesIn post u x := by
  obtain ⟨cc, pc, lv, dp, se, a1, a2, a3, a4, a5, a6, a7, a8, a9, a10, a11, a12, a13, a14, a15, a16⟩ := u
  exact ⟨70, dk_onesW H 70 0 x h⟩
theorem dk_low {post : Int32 → Prop} {u : St2} {x : Int64} {f : Nat} (hf : f < 64) (hx : ∀ s, s < 64 → dk_b x s = decide (s = f)) (H : post (nI f)) : wpX_lowestIn post u x := by
  obtain ⟨cc, pc, lv, dp, se, a1, a2, a3, a4, a5, a6, a7, a8, a9, a10, a11, a12, a13, a14, a15, a16⟩ := u
  unfold wpX_lowestIn
  dsimp only
  refine pk_loop (σ := Unit) (fun n k _ => wX_lowestIn_2 post x cc pc lv dp se a1 a2 a3 a4 a5 a6 a7 a8 a9 a10 a11 a12 a13 a14 a15 a16 n (nI k)) (fun _ _ => True) f 0 () (by omega) trivial (fun n _ _ => br_f (dk_t1 hf ?_) H) (fun n k _ hk _ hw => br_t (dk_t0 (by omega) ?_) (nm_r (nI_1 k) (hw () trivial)))
  · rw [hx f hf]
    exact decide_eq_true rfl
  · rw [hx k (by omega)]
    exact decide_eq_false (by omega)
theorem dk_endsL {post : Int64 → St2 → Prop} (hi : i < 3) (he : e < 4) (hst : st < 4) {w : Nat} (hw : w < 64)
    (H : ∀ (r : Int64) (u : St2), dk_ok i e st u → (∀ s, dk_b r s = (decide (s < 64) && (dk_cm i e st w && decide (s = dk_to i e w)))) → post r u) :
    ∀ (j k : Nat) (x : Int64) (cc pc lv dp : Int32) (se : Int64) (a1 : Nat → Int64) (a2 a3 a4 a5 a6 a7 a8 a9 : Nat → Int32) (a10 a11 : Nat → Int64) (a12 : Nat → Int32) (a13 : Nat → Int64) (a14 : Nat → Int32) (a15 a16 : Nat → Int64), k + j = 64 → dk_ok i e st (cc, pc, lv, dp, se, a1, a2, a3, a4, a5, a6, a7, a8, a9, a10, a11, a12, a13, a14, a15, a16) → (∀ s, dk_b x s = (decide (s < k) && (dk_cm i e st w && decide (s = dk_to i e w)))) → wX_endsOf_5 post (nI 1) (nI w) (j + 1) x (nI k) cc pc lv dp se a1 a2 a3 a4 a5 a6 a7 a8 a9 a10 a11 a12 a13 a14 a15 a16 := by
  intro j
  induction j with
  | zero =>
    intro k x cc pc lv dp se a1 a2 a3 a4 a5 a6 a7 a8 a9 a10 a11 a12 a13 a14 a15 a16 hk hu hx
    have hk' : k = 64 := by omega
    subst hk'
    exact pk_le 64 64 (fun _ => H x _ hu hx) (fun z => absurd z (by omega))
  | succ j ih =>
    intro k x cc pc lv dp se a1 a2 a3 a4 a5 a6 a7 a8 a9 a10 a11 a12 a13 a14 a15 a16 hk hu hx
    have hk' : k < 64 := by omega
    refine pk_le 64 k (fun z => absurd z (by omega)) (fun _ => ?_)
    refine dk_map hi he hst (m := 0) (by decide) rfl hu (fun r u hu' hr => ?_)
    obtain ⟨cc, pc, lv, dp, se, a1, a2, a3, a4, a5, a6, a7, a8, a9, a10, a11, a12, a13, a14, a15, a16⟩ := u
    have hb : dk_b r w = (dk_cm i e st w && decide (dk_to i e w = k)) := by
      rw [hr w hw]
      unfold dk_R
      rw [dk_one hk']
      by_cases c : dk_cm i e st w = true
      · rw [if_pos c, c, Bool.true_and]
      · rw [if_neg c, Bool.eq_false_iff.mpr c]
        rfl
    by_cases c : dk_b r w = true
    · refine br_f (dk_t1 hw c) (nm_e (nm_r (nI_1 k) (ih (k + 1) _ _ _ _ _ _ _ _ _ _ _ _ _ _ _ _ _ _ _ _ _ _ (by omega) hu' (fun s => ?_))))
      rw [hb, Bool.and_eq_true] at c
      have ck : dk_to i e w = k := of_decide_eq_true c.2
      rw [dk_or, dk_one hk', hx s, c.1, ck, Bool.true_and]
      by_cases q : s = k
      · subst q
        simp
      · rw [decide_eq_false q, Bool.and_false, Bool.and_false]
        rfl
    · refine br_t (dk_t0 hw (Bool.eq_false_iff.mpr c)) (nm_r (nI_1 k) (ih (k + 1) _ _ _ _ _ _ _ _ _ _ _ _ _ _ _ _ _ _ _ _ _ _ (by omega) hu' (fun s => ?_)))
      rw [hx s]
      by_cases q : s = k
      · subst q
        have c' := Bool.eq_false_iff.mpr c
        rw [hb] at c'
        rw [show decide (s = dk_to i e w) = decide (dk_to i e w = s) from decide_eq_decide.mpr ⟨Eq.symm, Eq.symm⟩, c', Bool.and_false, Bool.and_false]
      · rw [show decide (s < k + 1) = decide (s < k) from decide_eq_decide.mpr (by omega)]
/-- the ends of a state: the one state that the loop comes to, or none -/
theorem dk_endsOf {post : Int64 → St2 → Prop} (hi : i < 3) (he : e < 4) (hst : st < 4) {w : Nat} (hw : w < 64) {u : St2} (hu : dk_ok i e st u)
    (H : ∀ (r : Int64) (u : St2), dk_ok i e st u → (dk_cm i e st w = true → r = (1 : Int64) <<< ((nI (dk_to i e w)).toInt64 &&& 63)) → (dk_cm i e st w = false → r = 0) → post r u) :
    wpX_endsOf post u (nI 1) (nI w) := by
  obtain ⟨cc, pc, lv, dp, se, a1, a2, a3, a4, a5, a6, a7, a8, a9, a10, a11, a12, a13, a14, a15, a16⟩ := u
  refine ⟨64 + 1, dk_endsL hi he hst hw (fun r u hu hr => H r u hu (fun c => ?_) (fun c => ?_)) 64 0 0 _ _ _ _ _ _ _ _ _ _ _ _ _ _ _ _ _ _ _ _ _ (by omega) hu (fun s => ?_)⟩
  · refine dk_ext (fun s hs => ?_)
    rw [hr s, dk_one (dk_tolt i hi e he w hw), c, decide_eq_true hs, Bool.true_and, Bool.true_and]
  · refine dk_ext (fun s hs => ?_)
    rw [hr s, c, dk_zero, Bool.false_and, Bool.and_false]
  · rw [dk_zero]
    rfl
theorem dk_ends {post : Int32 → St2 → Prop} (hi : i < 3) (he : e < 4) (hst : st < 4) {w : Nat} (hw : w < 64) {u : St2} (hu : dk_ok i e st u)
    (H : ∀ u, dk_ok i e st u → post (if dk_cm i e st w = true then 1 else 0) u) :
    wpX_ends post u (nI 1) (nI w) := by
  have hu0 := hu
  obtain ⟨cc, pc, lv, dp, se, a1, a2, a3, a4, a5, a6, a7, a8, a9, a10, a11, a12, a13, a14, a15, a16⟩ := u
  unfold wpX_ends
  dsimp only
  refine dk_isP hu0 (br_f (by decide) (br_f (nI_pos (by omega)) (br_t (nI_lt hw (by decide)) ?_)))
  refine dk_endsOf hi he hst hw hu0 (fun r u hu h1 h0 => ?_)
  obtain ⟨cc, pc, lv, dp, se, a1, a2, a3, a4, a5, a6, a7, a8, a9, a10, a11, a12, a13, a14, a15, a16⟩ := u
  have t := H _ hu
  by_cases c : dk_cm i e st w = true
  · rw [if_pos c] at t
    rw [h1 c]
    exact dk_onesIn (dk_1n _ (dk_tolt i hi e he w hw)) t
  · rw [if_neg c] at t
    rw [h0 (Bool.eq_false_iff.mpr c)]
    exact dk_onesIn (r := 0) (by decide) t
theorem dk_end {post : Int32 → St2 → Prop} (hi : i < 3) (he : e < 4) (hst : st < 4) {w : Nat} (hw : w < 64) {u : St2} (hu : dk_ok i e st u)
    (H : ∀ u, dk_ok i e st u → post (if dk_cm i e st w = true then nI (dk_to i e w) else (-3)) u) :
    wpX_end post u (nI 1) (nI w) 0 := by
  have hu0 := hu
  obtain ⟨cc, pc, lv, dp, se, a1, a2, a3, a4, a5, a6, a7, a8, a9, a10, a11, a12, a13, a14, a15, a16⟩ := u
  unfold wpX_end
  dsimp only
  refine dk_isP hu0 (br_f (by decide) (br_f (nI_pos (by omega)) (br_t (nI_lt hw (by decide)) ?_)))
  refine dk_endsOf hi he hst hw hu0 (fun r u hu h1 h0 => ?_)
  obtain ⟨cc, pc, lv, dp, se, a1, a2, a3, a4, a5, a6, a7, a8, a9, a10, a11, a12, a13, a14, a15, a16⟩ := u
  have t := H _ hu
  refine br_f (by decide) ?_
  by_cases c : dk_cm i e st w = true
  · rw [if_pos c] at t
    have hf := dk_tolt i hi e he w hw
    rw [h1 c]
    exact dk_onesIn (dk_1n _ hf) (br_t (by decide) ⟨1, br_t (by decide) (dk_low hf (fun s _ => dk_one hf s) t)⟩)
  · rw [if_neg c] at t
    rw [h0 (Bool.eq_false_iff.mpr c)]
    exact dk_onesIn (r := 0) (by decide) (br_f (by decide) t)
theorem dk_is4 {post : Int32 → St2 → Prop} (hi : i < 3) (he : e < 4) (hst : st < 4) {w : Nat} (hw : w < 64) {u : St2} (hu : dk_ok i e st u)
    (H : ∀ u, dk_ok i e st u → post (if dk_cm i e st w = true then 0 else 1) u) :
    wpX_is post u 4 (nI 1) 99 (nI w) := by
  have hu0 := hu
  obtain ⟨cc, pc, lv, dp, se, a1, a2, a3, a4, a5, a6, a7, a8, a9, a10, a11, a12, a13, a14, a15, a16⟩ := u
  unfold wpX_is
  dsimp only
  unfold wpX_canAsk
  dsimp only
  refine br_f (by decide) (br_f (by decide) (dk_isP hu0 (br_f (by decide) (br_t (by decide) (br_f (by decide) (br_f (nI_pos (by omega)) (br_t (nI_lt hw (by decide)) ?_)))))))
  unfold wpX_ofKind
  dsimp only
  refine br_t (by decide) (br_f (by decide) (br_f (by decide) (br_f (by decide) ?_)))
  unfold wX_ofKind_84
  refine dk_map hi he hst (m := 2) (by decide) rfl hu0 (fun r u hu hr => ?_)
  obtain ⟨cc, pc, lv, dp, se, a1, a2, a3, a4, a5, a6, a7, a8, a9, a10, a11, a12, a13, a14, a15, a16⟩ := u
  have t := H _ hu
  have hb := hr w hw
  unfold dk_R at hb
  rw [dk_zero] at hb
  by_cases c : dk_cm i e st w = true
  · rw [if_pos c] at t hb
    exact br_t (dk_t0 hw hb) t
  · rw [if_neg c] at t hb
    exact br_f (dk_t1 hw hb) t
theorem dk_count0 {post : Int32 → St2 → Prop} (hi : i < 3) (he : e < 4) (hst : st < 4) {u : St2} (hu : dk_ok i e st u)
    (H : ∀ u, dk_ok i e st u → post (dk_n0 st) u) :
    wpX_count post u 0 (nI 1) (nI 0) := by
  have hu0 := hu
  obtain ⟨cc, pc, lv, dp, se, a1, a2, a3, a4, a5, a6, a7, a8, a9, a10, a11, a12, a13, a14, a15, a16⟩ := u
  obtain ⟨hcc, hpc, hlv, T, C⟩ := hu
  unfold wpX_count
  dsimp only
  unfold wpX_canAsk
  dsimp only
  refine br_f (by decide) (br_f (by decide) (dk_isP hu0 (br_f (by decide) (br_f (by decide) (dk_isC hu0 (by decide) (br_f (by decide) (br_f (by decide) ?_)))))))
  unfold wpX_ofKind
  dsimp only
  rw [dk_c0]
  refine br_f (by decide) ⟨vp_in_nI (by decide) (by decide), br_t rfl ?_⟩
  unfold wX_ofKind_26
  refine dk_map hi he hst (m := 3) (by decide) rfl hu0 (fun r u hu hr => ?_)
  obtain ⟨cc, pc, lv, dp, se, b1, a2, a3, a4, a5, a6, a7, a8, a9, a10, a11, a12, a13, a14, a15, a16⟩ := u
  have ec : r ^^^ (-1) = dk_C i e st := by
    refine dk_ext (fun s hs => ?_)
    have ht := dk_tolt i hi e he s hs
    rw [dk_not _ hs, hr s hs, dk_Cb i hi e he st hst s hs]
    unfold dk_R
    rw [dk_not _ ht, T.1 _ ht, decide_eq_true (dk_tbf i hi e he s hs)]
    by_cases c : dk_cm i e st s = true
    · rw [if_pos c, c]
      rfl
    · rw [if_neg c, Bool.eq_false_iff.mpr c]
      rfl
  show wpX_onesIn _ _ (r ^^^ (-1))
  rw [ec]
  exact dk_onesIn (dk_Cn i hi e he st hst) (H _ hu)
theorem dk_count3 {post : Int32 → St2 → Prop} (hi : i < 3) (he : e < 4) (hst : st < 4) {u : St2} (hu : dk_ok i e st u)
    (H : ∀ u, dk_ok i e st u → post 0 u) :
    wpX_count post u 3 (nI 1) 0 := by
  have hu0 := hu
  obtain ⟨cc, pc, lv, dp, se, a1, a2, a3, a4, a5, a6, a7, a8, a9, a10, a11, a12, a13, a14, a15, a16⟩ := u
  unfold wpX_count
  dsimp only
  unfold wpX_canAsk
  dsimp only
  refine br_f (by decide) (br_f (by decide) (dk_isP hu0 (br_f (by decide) (br_t (by decide) (br_f (by decide) ?_)))))
  unfold wpX_ofKind
  dsimp only
  refine br_t (by decide) (br_f (by decide) (br_f (by decide) (br_t rfl ?_)))
  unfold wX_ofKind_84
  refine dk_map hi he hst (m := 1) (by decide) rfl hu0 (fun r u hu hr => ?_)
  obtain ⟨cc, pc, lv, dp, se, b1, a2, a3, a4, a5, a6, a7, a8, a9, a10, a11, a12, a13, a14, a15, a16⟩ := u
  have ec : r = 0 := by
    refine dk_ext (fun s hs => ?_)
    rw [hr s hs, dk_zero]
    unfold dk_R
    rw [dk_zero]
    by_cases c : dk_cm i e st s = true
    · rw [if_pos c]
    · rw [if_neg c]
      rfl
  subst ec
  exact dk_onesIn (r := 0) (by decide) (H _ hu)
theorem dk_afL {post : Int32 → St2 → Prop} (hi : i < 3) (he : e < 4) (hst : st < 4)
    (H : ∀ (u : St2), dk_ok i e st u → post (nI (dk_af i e st 64)) u) :
    ∀ (j k : Nat) (cc pc lv dp : Int32) (se : Int64) (a1 : Nat → Int64) (a2 a3 a4 a5 a6 a7 a8 a9 : Nat → Int32) (a10 a11 : Nat → Int64) (a12 : Nat → Int32) (a13 : Nat → Int64) (a14 : Nat → Int32) (a15 a16 : Nat → Int64), k + j = 64 → dk_ok i e st (cc, pc, lv, dp, se, a1, a2, a3, a4, a5, a6, a7, a8, a9, a10, a11, a12, a13, a14, a15, a16) → wX_after_23 post (nI 1) (nI 1) (j + 1) (nI (dk_af i e st k)) (nI k) cc pc lv dp se a1 a2 a3 a4 a5 a6 a7 a8 a9 a10 a11 a12 a13 a14 a15 a16 := by
  intro j
  induction j with
  | zero =>
    intro k cc pc lv dp se a1 a2 a3 a4 a5 a6 a7 a8 a9 a10 a11 a12 a13 a14 a15 a16 hk hu
    have hk' : k = 64 := by omega
    subst hk'
    exact pk_le 64 64 (fun _ => H _ hu) (fun z => absurd z (by omega))
  | succ j ih =>
    intro k cc pc lv dp se a1 a2 a3 a4 a5 a6 a7 a8 a9 a10 a11 a12 a13 a14 a15 a16 hk hu
    have hk' : k < 64 := by omega
    refine pk_le 64 k (fun z => absurd z (by omega)) (fun _ => ?_)
    refine dk_map hi he hst (m := 0) (by decide) rfl hu (fun r u hu' hr => ?_)
    obtain ⟨cc, pc, lv, dp, se, a1, a2, a3, a4, a5, a6, a7, a8, a9, a10, a11, a12, a13, a14, a15, a16⟩ := u
    have hu2 := hu'
    obtain ⟨hcc, hpc, hlv, T, C⟩ := hu2
    refine ⟨vp_in_nI (by decide) (by decide), ?_⟩
    have hb : ∀ s, s < 64 → dk_b (r &&& a1 1) s = ((dk_cm i e st s && decide (dk_to i e s = k)) && !decide (dk_v i s = e)) := by
      intro s hs
      rw [dk_and, T.2.1 s hs, hr s hs]
      unfold dk_R
      rw [dk_one hk']
      by_cases c : dk_cm i e st s = true
      · rw [if_pos c, c, Bool.true_and]
      · rw [if_neg c, Bool.eq_false_iff.mpr c]
        rfl
    by_cases c : dk_v i k = e ∧ ¬ st = 0
    · obtain ⟨w1, w2, w3⟩ := dk_tbw i hi e he st hst k hk' c.1 c.2
      have ws := dk_tolt i hi ((e + 4 - st) % 4) (Nat.mod_lt _ (by decide)) k hk'
      have nz : ¬ (r &&& a1 1) = 0 := by
        intro z
        have q := hb _ ws
        rw [z, dk_zero, w1, decide_eq_true w2, decide_eq_false w3] at q
        exact absurd q (by decide)
      refine br_f nz (nm_r (nI_1 _) (nm_r (nI_1 k) ?_))
      have ea : dk_af i e st k + 1 = dk_af i e st (k + 1) := by
        show _ = dk_af i e st k + if dk_v i k = e ∧ ¬ st = 0 then 1 else 0
        rw [if_pos c]
      rw [ea]
      exact ih (k + 1) _ _ _ _ _ _ _ _ _ _ _ _ _ _ _ _ _ _ _ _ _ (by omega) hu'
    · have zz : (r &&& a1 1) = 0 := by
        refine dk_ext (fun s hs => ?_)
        rw [hb s hs, dk_zero]
        by_cases c1 : dk_cm i e st s = true
        · by_cases c2 : dk_to i e s = k
          · by_cases c3 : dk_v i s = e
            · rw [decide_eq_true c3, Bool.not_true, Bool.and_false]
            · refine absurd ⟨?_, dk_tba i hi e he st hst s hs c1 c3⟩ c
              rw [← c2]
              exact dk_tbf i hi e he s hs
          · rw [decide_eq_false c2, Bool.and_false, Bool.false_and]
        · rw [Bool.eq_false_iff.mpr c1, Bool.false_and, Bool.false_and]
      refine br_t zz (nm_r (nI_1 k) ?_)
      have ea : dk_af i e st k = dk_af i e st (k + 1) := by
        show _ = dk_af i e st k + if dk_v i k = e ∧ ¬ st = 0 then 1 else 0
        rw [if_neg c, Nat.add_zero]
      rw [ea]
      exact ih (k + 1) _ _ _ _ _ _ _ _ _ _ _ _ _ _ _ _ _ _ _ _ _ (by omega) hu'
theorem dk_after {post : Int32 → St2 → Prop} (hi : i < 3) (he : e < 4) (hst : st < 4) {u : St2} (hu : dk_ok i e st u)
    (H : ∀ (u : St2), dk_ok i e st u → post (if st = 0 then 0 else 16) u) :
    wpX_after post u (nI 1) (nI 1) := by
  have hu0 := hu
  obtain ⟨cc, pc, lv, dp, se, a1, a2, a3, a4, a5, a6, a7, a8, a9, a10, a11, a12, a13, a14, a15, a16⟩ := u
  unfold wpX_after
  dsimp only
  refine dk_isP hu0 (br_f (by decide) (dk_isC hu0 (by decide) (br_f (by decide) ⟨64 + 1, ?_⟩)))
  refine dk_afL hi he hst (fun u hu => ?_) 64 0 _ _ _ _ _ _ _ _ _ _ _ _ _ _ _ _ _ _ _ _ _ (by omega) hu0
  have t := H u hu
  rw [dk_af64 i hi e he st hst]
  by_cases c : st = 0
  · rw [if_pos c] at t ⊢
    exact t
  · rw [if_neg c] at t ⊢
    exact t
end
end
section
section
variable {cc pc lv dp : Int32} {se : Int64} {a1 : Nat → Int64} {a2 a3 a4 a5 a6 a7 a8 a9 : Nat → Int32} {a10 a11 : Nat → Int64} {a12 : Nat → Int32} {a13 : Nat → Int64} {a14 : Nat → Int32} {a15 a16 : Nat → Int64} {i e st m : Nat}
theorem dk_cond0 {post : Int32 → St2 → Prop} (hi : i < 3) (he : e < 4)
    (H : ∀ c, (∀ s, s < 64 → dk_b c s = decide (dk_v i s = e)) → post 0 (1, pc, lv, dp, se, vp_updL a1 0 c, a2, a3, a4, a5, a6, a7, a8, a9, a10, a11, a12, a13, a14, a15, a16)) :
    wpX_condition post (0, pc, lv, dp, se, a1, a2, a3, a4, a5, a6, a7, a8, a9, a10, a11, a12, a13, a14, a15, a16) 0 (nI i) (nI e) := by
  have main : ∃ n, wX_condition_199 post 0 (nI i) (nI e) 0 pc lv dp se a1 a2 a3 a4 a5 a6 a7 a8 a9 a10 a11 a12 a13 a14 a15 a16 n 0 0 := by
    refine pk_loop (fun n k x => wX_condition_199 post 0 (nI i) (nI e) 0 pc lv dp se a1 a2 a3 a4 a5 a6 a7 a8 a9 a10 a11 a12 a13 a14 a15 a16 n x (nI k)) (fun k x => ∀ j, dk_b x j = (decide (j < k) && decide (dk_v i j = e))) 64 0 0 (by omega) (fun j => ?_) (fun n x h => ?_) (fun n k x hk h hw => ?_)
    · rw [dk_zero]
      rfl
    · refine pk_le 64 64 (fun _ => ?_) (fun z => absurd z (by omega))
      refine ⟨vp_in_nI (n := 0) (by decide) (by decide), nm_e (nm_r (e' := 1) (by decide) ?_)⟩
      show post (1 - 1) (1, pc, lv, dp, se, vp_updL a1 (Int32.toNatClampNeg 0) x, a2, a3, a4, a5, a6, a7, a8, a9, a10, a11, a12, a13, a14, a15, a16)
      rw [show (1 - 1 : Int32) = 0 from by decide, sb_cl0]
      refine H x (fun s hs => ?_)
      rw [h s, decide_eq_true hs, Bool.true_and]
    · refine pk_le 64 k (fun z => absurd z (by omega)) (fun _ => br_f (by decide) (br_t rfl ?_))
      have h3 : ¬ nI i = 3 := by
        intro z
        have := (nI_eq (a := i) (b := 3) (by omega) (by omega)).mp z
        omega
      unfold wX_condition_226
      refine br_f h3 (br_t rfl ?_)
      have hv := dk_vlt i k
      refine pk_eq (dk_v i k) e (fun c => ?_) (fun c => nm_r (nI_1 k) (hw _ (fun j => ?_))) (dk_vI i hi k hk)
      · unfold wX_condition_258
        refine nm_e (nm_r (nI_1 k) (hw _ (fun j => ?_)))
        rw [dk_or, dk_one hk, h j]
        by_cases q : j = k
        · subst q
          simp [c]
        · rw [show decide (j < k + 1) = decide (j < k) from decide_eq_decide.mpr (by omega), decide_eq_false q, Bool.or_false]
      · rw [h j]
        by_cases q : j = k
        · subst q
          simp [c]
        · rw [show decide (j < k + 1) = decide (j < k) from decide_eq_decide.mpr (by omega)]
  unfold wpX_condition
  dsimp only
  refine br_t (by decide) (br_t rfl ?_)
  unfold wpX_isVariable
  dsimp only
  refine br_f (nI_pos (by omega)) (br_f ?_ (br_f (by decide) (br_f (nI_pos (by omega)) (br_f ?_ ?_))))
  · exact nI_nlt (a := 2) (b := i) (by omega) (by decide)
  · exact nI_nlt (a := 3) (b := e) (by omega) (by decide)
  · unfold wX_condition_41 wX_condition_125
    exact br_f (by decide) (br_f (by decide) (br_t (by decide) main))
theorem dk_cond1 {post : Int32 → St2 → Prop}
    (H : post 1 (2, pc, lv, dp, se, vp_updL a1 1 (a1 0 ^^^ (-1)), a2, a3, a4, a5, a6, a7, a8, a9, a10, a11, a12, a13, a14, a15, a16)) :
    wpX_condition post (1, pc, lv, dp, se, a1, a2, a3, a4, a5, a6, a7, a8, a9, a10, a11, a12, a13, a14, a15, a16) 2 0 99 := by
  unfold wpX_condition
  dsimp only
  refine br_t (by decide) (br_f (by decide) (br_f (by decide) (br_t rfl ?_)))
  unfold wpX_isCondition
  dsimp only
  refine br_f (by decide) (br_f (by decide) ?_)
  unfold wX_condition_125
  refine br_f (by decide) (br_t rfl ⟨vp_in_nI (n := 0) (by decide) (by decide), nm_e ⟨1, ?_⟩⟩)
  refine br_f (by decide) (br_t (by decide) ?_)
  refine ⟨vp_in_nI (n := 1) (by decide) (by decide), nm_e (nm_r (e' := 2) (by decide) ?_)⟩
  show post (2 - 1) (2, pc, lv, dp, se, vp_updL a1 (Int32.toNatClampNeg 1) (a1 (Int32.toNatClampNeg 0) ^^^ -1), a2, a3, a4, a5, a6, a7, a8, a9, a10, a11, a12, a13, a14, a15, a16)
  rw [show (2 - 1 : Int32) = 1 from by decide, sb_cl0, show (1 : Int32).toNatClampNeg = 1 from dk_c1]
  exact H
theorem dk_prog0 {post : Int32 → St2 → Prop} (hi : i < 3) (hst : st < 4)
    (H : post 0 (cc, 1, lv, dp, se, a1, upd a2 0 (nI 2), upd a3 0 (nI i), upd a4 0 (nI i), upd a5 0 (nI st), upd a6 0 1, a7, a8, a9, a10, a11, a12, a13, a14, a15, a16)) :
    wpX_program post (cc, 0, lv, dp, se, a1, a2, a3, a4, a5, a6, a7, a8, a9, a10, a11, a12, a13, a14, a15, a16) 2 (nI i) (nI i) (nI st) := by
  have n4 : ∀ m, m < 4 → (nI m).toInt8.toInt32 = nI m := by decide +kernel
  unfold wpX_program
  dsimp only
  refine br_t (by decide) (br_f (by decide) (br_f (by decide) ?_))
  unfold wpX_operandsFit
  dsimp only
  refine br_f (by decide) (br_f (by decide) (br_t rfl ?_))
  unfold wpX_isVariable
  dsimp only
  refine br_f (nI_pos (by omega)) (br_f (nI_nlt (a := 2) (b := i) (by omega) (by decide)) (br_f (by decide) (br_f (nI_pos (by omega)) (br_f (nI_nlt (a := 3) (b := i) (by omega) (by decide)) (br_f (nI_pos (by omega)) (br_f (nI_nlt (a := 3) (b := st) (by omega) (by decide)) ?_))))))
  refine br_f (by decide) (br_f (by decide) (br_f (by decide) ?_))
  unfold wX_program_69
  refine br_f (by decide) ?_
  unfold wX_program_94
  refine br_f (by decide) ?_
  unfold wX_program_111
  rw [n4 i (by omega), n4 st hst]
  have v0 : vp_in 0 32 := vp_in_nI (n := 0) (by decide) (by decide)
  exact br_t (by decide) (nm_r (e' := 1) (by decide) ⟨v0, nm_e ⟨v0, nm_e ⟨v0, nm_e ⟨v0, nm_e ⟨v0, nm_e H⟩⟩⟩⟩⟩)
theorem dk_prog1 {post : Int32 → St2 → Prop} (h6 : a6 0 = 1)
    (H : post 1 (2, 2, lv, dp, se, a1, upd a2 1 (nI 9), upd a3 1 (nI 1), upd a4 1 (nI 0), upd a5 1 99, upd a6 1 2, a7, a8, a9, a10, a11, a12, a13, a14, a15, a16)) :
    wpX_program post (2, 1, lv, dp, se, a1, a2, a3, a4, a5, a6, a7, a8, a9, a10, a11, a12, a13, a14, a15, a16) 9 1 0 99 := by
  unfold wpX_program
  dsimp only
  refine br_t (by decide) (br_f (by decide) (br_f (by decide) ?_))
  unfold wpX_operandsFit
  dsimp only
  refine br_f (by decide) (br_f (by decide) (br_f (by decide) (br_f (by decide) (br_f (by decide) (br_f (by decide) ?_)))))
  unfold wpX_isCondition
  dsimp only
  refine br_f (by decide) (br_f (by decide) (br_f (by decide) (br_f (by decide) (br_t rfl ?_))))
  unfold wpX_isProgram
  dsimp only
  refine br_f (by decide) (br_f (by decide) (br_f (by decide) (br_f (by decide) (br_f (by decide) (br_f (by decide) ?_)))))
  unfold wX_program_69
  refine br_f (by decide) ?_
  unfold wX_program_94
  refine br_t rfl ⟨vp_in_nI (n := 0) (by decide) (by decide), nm_r (e' := 2) (by rw [sb_cl0, h6]; decide) ?_⟩
  unfold wX_program_111
  have v0 : vp_in 1 32 := vp_in_nI (n := 1) (by decide) (by decide)
  exact br_t (by decide) (nm_r (e' := 2) (by decide) ⟨v0, nm_e ⟨v0, nm_e ⟨v0, nm_e ⟨v0, nm_e ⟨v0, nm_e H⟩⟩⟩⟩⟩)
end
end
section
section
variable {cc pc lv dp : Int32} {se : Int64} {a1 : Nat → Int64} {a2 a3 a4 a5 a6 a7 a8 a9 : Nat → Int32} {a10 a11 : Nat → Int64} {a12 : Nat → Int32} {a13 : Nat → Int64} {a14 : Nat → Int32} {a15 a16 : Nat → Int64} {i e st w : Nat} {post : Int32 → St0 → Prop} {mc ms kc ks : Nat} {z0 z1 x9 : Int32}
theorem dk_l294 (hi : i < 3) (he : e < 4) (hst : st < 4) (hu : dk_ok i e st (cc, pc, lv, dp, se, a1, a2, a3, a4, a5, a6, a7, a8, a9, a10, a11, a12, a13, a14, a15, a16)) (hz : z1 = z0) (H : post 1 ()) :
    wL_lawOf_294 post mc ms z0 z1 kc ks cc pc lv dp se a1 a2 a3 a4 a5 a6 a7 a8 a9 a10 a11 a12 a13 a14 a15 a16 := by
  unfold wL_lawOf_294
  refine br_t hz (dk_count3 hi he hst hu (fun u hu => ?_))
  obtain ⟨cc, pc, lv, dp, se, a1, a2, a3, a4, a5, a6, a7, a8, a9, a10, a11, a12, a13, a14, a15, a16⟩ := u
  exact br_t rfl H
theorem dk_l271 (hi : i < 3) (he : e < 4) (hst : st < 4) (hu : dk_ok i e st (cc, pc, lv, dp, se, a1, a2, a3, a4, a5, a6, a7, a8, a9, a10, a11, a12, a13, a14, a15, a16)) (hz : z1 = z0) (H : post 1 ()) :
    wL_lawOf_271 post mc ms (nI st) z0 z1 kc ks cc pc lv dp se a1 a2 a3 a4 a5 a6 a7 a8 a9 a10 a11 a12 a13 a14 a15 a16 := by
  unfold wL_lawOf_271
  refine br_t hz (dk_after hi he hst hu (fun u hu => ?_))
  obtain ⟨cc, pc, lv, dp, se, a1, a2, a3, a4, a5, a6, a7, a8, a9, a10, a11, a12, a13, a14, a15, a16⟩ := u
  exact pk_eq st 0 (fun c => dk_l294 hi he hst hu (if_pos c) H) (fun c => dk_l294 hi he hst hu (if_neg c) H)
theorem dk_l235 (hi : i < 3) (he : e < 4) (hst : st < 4) (hu : dk_ok i e st (cc, pc, lv, dp, se, a1, a2, a3, a4, a5, a6, a7, a8, a9, a10, a11, a12, a13, a14, a15, a16)) (hz : z1 = z0) (H : post 1 ()) :
    wL_lawOf_235 post mc ms (nI st) z0 z1 kc ks cc pc lv dp se a1 a2 a3 a4 a5 a6 a7 a8 a9 a10 a11 a12 a13 a14 a15 a16 := by
  unfold wL_lawOf_235
  refine br_t hz (dk_count0 hi he hst hu (fun u hu => ?_))
  obtain ⟨cc, pc, lv, dp, se, a1, a2, a3, a4, a5, a6, a7, a8, a9, a10, a11, a12, a13, a14, a15, a16⟩ := u
  refine pk_eq st 0 (fun c => dk_l271 hi he hst hu ?_ H) (fun c => pk_eq st 2 (fun c2 => dk_l271 hi he hst hu ?_ H) (fun c2 => dk_l271 hi he hst hu ?_ H))
  · unfold dk_n0
    rw [if_pos c]
  · unfold dk_n0
    rw [if_neg c, if_pos c2]
  · unfold dk_n0
    rw [if_neg c, if_neg c2]
theorem dk_l209 (hi : i < 3) (he : e < 4) (hst : st < 4) (hw : w < 64) (hu : dk_ok i e st (cc, pc, lv, dp, se, a1, a2, a3, a4, a5, a6, a7, a8, a9, a10, a11, a12, a13, a14, a15, a16)) (hx : x9 = if dk_cm i e st w = true then 1 else 0) (hz : z1 = z0) (H : post 1 ()) :
    wL_lawOf_209 post mc ms (nI st) (nI w) x9 z0 z1 kc ks cc pc lv dp se a1 a2 a3 a4 a5 a6 a7 a8 a9 a10 a11 a12 a13 a14 a15 a16 := by
  unfold wL_lawOf_209
  refine br_t hz (dk_is4 hi he hst hw hu (fun u hu => ?_))
  obtain ⟨cc, pc, lv, dp, se, a1, a2, a3, a4, a5, a6, a7, a8, a9, a10, a11, a12, a13, a14, a15, a16⟩ := u
  by_cases c : dk_cm i e st w = true
  · rw [if_pos c] at hx
    exact br_f (by rw [hx]; decide) (dk_l235 hi he hst hu (if_pos c) H)
  · rw [if_neg c] at hx
    exact br_t hx (dk_l235 hi he hst hu (if_neg c) H)
theorem dk_l166 (hi : i < 3) (he : e < 4) (hst : st < 4) (hw : w < 64) (hu : dk_ok i e st (cc, pc, lv, dp, se, a1, a2, a3, a4, a5, a6, a7, a8, a9, a10, a11, a12, a13, a14, a15, a16)) (hx : x9 = if dk_cm i e st w = true then 1 else 0) (hz : z1 = z0) (H : post 1 ()) :
    wL_lawOf_166 post mc ms (nI i) (nI e) (nI st) (nI w) x9 z0 z1 kc ks cc pc lv dp se a1 a2 a3 a4 a5 a6 a7 a8 a9 a10 a11 a12 a13 a14 a15 a16 := by
  unfold wL_lawOf_166
  refine br_t hz (dk_end hi he hst hw hu (fun u hu => ?_))
  obtain ⟨cc, pc, lv, dp, se, a1, a2, a3, a4, a5, a6, a7, a8, a9, a10, a11, a12, a13, a14, a15, a16⟩ := u
  by_cases c : dk_cm i e st w = true
  · have hx' := hx
    rw [if_pos c] at hx'
    refine br_f (by rw [hx']; decide) (dk_l209 hi he hst hw hu hx ?_ H)
    rw [if_pos c]
    exact (dk_toI i hi e he w hw).symm
  · have hx' := hx
    rw [if_neg c] at hx'
    exact br_t hx' (dk_l209 hi he hst hw hu hx (if_neg c) H)
end
theorem dk_l73 {i e st w : Nat} {post : Int32 → St0 → Prop} {x9 : Int32} (hi : i < 3) (he : e < 4) (hst : st < 4) (hw : w < 64) (hx : x9 = if dk_cm i e st w = true then 1 else 0) (H : post 1 ()) :
    wL_lawOf_73 post 17 565 (nI i) (nI e) (nI st) (nI w) x9 0 0 := by
  unfold wL_lawOf_73
  refine ⟨by decide, by decide, 16, 544, by decide, by decide, ?_⟩
  unfold wpX_init
  dsimp only
  iterate 32 refine ⟨by decide, ?_⟩
  refine dk_cond0 hi he (fun c hc => br_t rfl ?_)
  dsimp only
  refine dk_cond1 (br_t rfl ?_)
  dsimp only
  refine dk_prog0 hi hst (br_t rfl ?_)
  dsimp only
  refine dk_prog1 pk_us (br_t rfl ?_)
  dsimp only
  refine dk_ends hi he hst hw ?_ (fun u hu => ?_)
  · refine ⟨rfl, rfl, rfl, ⟨?_, ?_, ?_, pk_us, ?_, pk_us, ?_, pk_us, ?_⟩, ?_⟩
    · intro s hs
      rw [dk_uL0, pk_uLs]
      exact hc s hs
    · intro s hs
      rw [pk_uLs, pk_uLs, dk_not _ hs, hc s hs]
    · rw [dk_u0, pk_us]
    · rw [dk_u0, pk_us]
    · rw [dk_u0, pk_us]
    · rw [dk_u0, pk_us]
    · intro k hk m hm h
      have q : ∀ m, m < 4 → ¬ (0 : Int32) = nI (5 + m) := by decide +kernel
      exact absurd h (q m hm)
  · obtain ⟨cc, pc, lv, dp, se, a1, a2, a3, a4, a5, a6, a7, a8, a9, a10, a11, a12, a13, a14, a15, a16⟩ := u
    by_cases c : dk_cm i e st w = true
    · have hx' := hx
      rw [if_pos c] at hx'
      exact br_f (by rw [hx']; decide) (dk_l166 hi he hst hw hu hx (if_pos c) H)
    · have hx' := hx
      rw [if_neg c] at hx'
      exact br_t hx' (dk_l166 hi he hst hw hu hx (if_neg c) H)
theorem dk_lawOf {post : Int32 → St0 → Prop} (p0 p1 p2 p3 : Int32) (H : post 1 ()) : wpL_lawOf post 17 565 () p0 p1 p2 p3 := by
  obtain ⟨a, ha, ea⟩ := pk_andE p0 (m := 255) 8 (by decide)
  obtain ⟨e, he, ee⟩ := pk_andE p1 (m := 3) 2 (by decide)
  obtain ⟨st, hst, es⟩ := pk_andE p2 (m := 3) 2 (by decide)
  obtain ⟨w, hw, ew⟩ := pk_andE p3 (m := 63) 6 (by decide)
  have he' : e < 4 := he
  have hst' : st < 4 := hst
  have hw' : w < 64 := hw
  have hi : a % 3 < 3 := Nat.mod_lt _ (by decide)
  have hd := dk_dlt (a % 3) e w
  have Y : dk_cm (a % 3) e st w = true → wL_lawOf_68 post 17 565 (nI (a % 3)) (nI e) (nI st) (nI w) 0 0 := fun c => dk_l73 hi he' hst' hw' (by rw [if_pos c]) H
  have N : dk_cm (a % 3) e st w = false → wL_lawOf_72 post 17 565 (nI (a % 3)) (nI e) (nI st) (nI w) 0 0 := fun c => dk_l73 hi he' hst' hw' (by rw [c]; rfl) H
  unfold wpL_lawOf
  rw [ea, ee, es, ew]
  refine ⟨by decide, nm_r (e' := nI (a % 3)) (pk_rem (a := a) (d := 3) (by omega) (by decide) (by decide)) (nm_e (nm_e (nm_e (nm_r (dk_dI _ hi e he' w hw') ?_))))⟩
  refine pk_eq (dk_d (a % 3) e w) 0 (fun c => Y ?_) (fun c => pk_eq st 1 (fun c1 => Y ?_) (fun c1 => pk_eq st 3 (fun c3 => Y ?_) (fun c3 => pk_eq st 2 (fun c2 => pk_eq (dk_d (a % 3) e w) 2 (fun d2 => Y ?_) (fun d2 => N ?_)) (fun c2 => N ?_))))
  · simp [dk_cm, c]
  · simp [dk_cm, c1]
  · simp [dk_cm, c3]
  · simp [dk_cm, c2, d2]
  · simp [dk_cm, c, c1, c3, d2]
  · simp [dk_cm, c, c1, c3, c2]
theorem dk_cell {post : Int32 → Prop} {L : Nat} {xs : Nat → Int32} (hL : L ≤ 4) (k : Nat) (hk : k < 4) (H : ∀ r, post r) : wpL_cellAt post L xs () (nI k) :=
  pk_le L k (fun _ => H 0) (fun h => ⟨vp_in_nI h (by omega), H _⟩)
theorem i_vc (xs : Nat → Int32) (L : Nat) (hL : L ≤ 4) : wpL_law (fun r => r = 1) L xs := by
  unfold wpL_law
  exact dk_cell hL 0 (by decide) (fun r1 => dk_cell hL 1 (by decide) (fun r2 => dk_cell hL 2 (by decide) (fun r3 => dk_cell hL 3 (by decide) (fun r4 => ⟨17, 565, by decide, by decide, dk_lawOf r1 r2 r3 r4 rfl⟩))))
end
