section
/-! bits: rows of the kit's BITS.to-paste, then the packed int -/
def bt (x : Int32) (i : Nat) : Bool := x.toBitVec.getLsbD i
theorem b_ext {x y : Int32} (h : ∀ i, i < 32 → bt x i = bt y i) : x = y := Int32.toBitVec_inj.mp (BitVec.eq_of_getLsbD_eq (fun i hi => h i hi))
theorem b_or (x y : Int32) (i : Nat) : bt (x ||| y) i = (bt x i || bt y i) := by unfold bt; rw [Int32.toBitVec_or, BitVec.getLsbD_or]
theorem b_and (x y : Int32) (i : Nat) : bt (x &&& y) i = (bt x i && bt y i) := by unfold bt; rw [Int32.toBitVec_and, BitVec.getLsbD_and]
theorem b_xor (x y : Int32) (i : Nat) : bt (x ^^^ y) i = (bt x i ^^ bt y i) := by unfold bt; rw [Int32.toBitVec_xor, BitVec.getLsbD_xor]
theorem b_big {x : Int32} {i : Nat} (h : 32 ≤ i) : bt x i = false := BitVec.getLsbD_of_ge _ _ h
theorem b_m1 : ∀ i, i < 32 → bt (-1) i = true := by decide +kernel
theorem b_0 (i : Nat) : bt 0 i = false := BitVec.getLsbD_zero
theorem s_l : ∀ n, n < 32 → ((nI n &&& 31).toBitVec.smod 32).toNat = n := by decide +kernel
theorem b_shl (n : Nat) (hn : n < 32) (x : Int32) {i : Nat} (hi : i < 32) : bt (x <<< (nI n &&& 31)) i = (decide (n ≤ i) && bt x (i - n)) := by
  unfold bt
  rw [Int32.toBitVec_shiftLeft]
  show (x.toBitVec <<< ((nI n &&& 31).toBitVec.smod 32).toNat).getLsbD i = _
  rw [s_l n hn, BitVec.getLsbD_shiftLeft]
  rcases Nat.lt_or_ge i n with h | h
  · simp [h, Nat.not_le.mpr h]
  · simp [hi, h, Nat.not_lt.mpr h]
theorem b_sshr (n : Nat) (hn : n < 32) (x : Int32) {i : Nat} (hi : i < 32) : bt (x >>> (nI n &&& 31)) i = if n + i < 32 then bt x (n + i) else bt x 31 := by
  unfold bt
  rw [Int32.toBitVec_shiftRight]
  show (x.toBitVec.sshiftRight ((nI n &&& 31).toBitVec.smod 32).toNat).getLsbD i = _
  rw [s_l n hn, BitVec.getLsbD_sshiftRight, BitVec.msb_eq_getLsbD_last]
  simp [hi]
theorem cc_btN {n i : Nat} (h : i < 32) : bt (nI n) i = n.testBit i := by
  show (BitVec.ofNat 32 n).getLsbD i = n.testBit i
  rw [BitVec.getLsbD_ofNat]
  simp [h]
theorem cc_b127 : ∀ i, i < 32 → bt 127 i = decide (i < 7) := by decide +kernel
theorem cc_hi {n i : Nat} (hn : n < 128) (hi : 7 ≤ i) : n.testBit i = false :=
  Nat.testBit_lt_two_pow (Nat.lt_of_lt_of_le hn (show 2 ^ 7 ≤ 2 ^ i from Nat.pow_le_pow_right (by omega) hi))
/-- one place of a picture written -/
def cc_up (V : Nat → Nat) (k x : Nat) : Nat → Nat := fun j => if j = k then x else V j
theorem cc_us {V : Nat → Nat} {k x : Nat} : cc_up V k x k = x := if_pos rfl
theorem cc_un {V : Nat → Nat} {k x j : Nat} (h : j ≠ k) : cc_up V k x j = V j := if_neg h
/-- the int x holds V 8 .. V 11, eight bits each -/
def cc_PK (x : Int32) (V : Nat → Nat) : Prop := ∀ j, j < 4 → ∀ i, i < 8 → bt x (8 * j + i) = (V (8 + j)).testBit i
theorem cc_getN {x : Int32} {V : Nat → Nat} {j : Nat} (h : cc_PK x V) (hj : j < 4) (hV : V (8 + j) < 128) : (x >>> (nI (8 * j) &&& 31)) &&& 127 = nI (V (8 + j)) := by
  refine b_ext (fun i hi => ?_)
  rw [b_and, b_sshr (8 * j) (by omega) x hi, cc_b127 i hi, cc_btN hi]
  by_cases h7 : i < 7
  · rw [if_pos (by omega), h j hj i (by omega)]
    simp [h7]
  · rw [cc_hi hV (by omega)]
    simp [h7]
theorem cc_get {x : Int32} {V : Nat → Nat} {j : Nat} (h : cc_PK x V) (hj : j < 4) (hV : V (8 + j) < 128) : (x >>> ((8 * nI j) &&& 31)) &&& 127 = nI (V (8 + j)) := by
  rw [show (8 : Int32) * nI j = nI (8 * j) from pk_mul 8 j]
  exact cc_getN h hj hV
theorem cc_get0 {x : Int32} {V : Nat → Nat} (h : cc_PK x V) (hV : V 8 < 128) : x &&& 127 = nI (V 8) := by
  refine b_ext (fun i hi => ?_)
  rw [b_and, cc_b127 i hi, cc_btN hi]
  by_cases h7 : i < 7
  · have e := h 0 (by omega) i (by omega)
    rw [show 8 * 0 + i = i by omega] at e
    rw [e]
    simp [h7]
  · rw [cc_hi hV (by omega)]
    simp [h7]
theorem cc_set {x : Int32} {V : Nat → Nat} {j z : Nat} (h : cc_PK x V) (hj : j < 4) (hV : V (8 + j) < 128) (hz : z < 128) :
    cc_PK ((x &&& (((127 : Int32) <<< ((8 * nI j) &&& 31)) ^^^ (-1))) ||| (nI z <<< ((8 * nI j) &&& 31))) (cc_up V (8 + j) z) := by
  rw [show (8 : Int32) * nI j = nI (8 * j) from pk_mul 8 j]
  intro k hk i hi
  have h32 : 8 * k + i < 32 := by omega
  have hj32 : 8 * j < 32 := by omega
  rw [b_or, b_and, b_xor, b_shl _ hj32 _ h32, b_shl _ hj32 _ h32, b_m1 _ h32, h k hk i hi, cc_b127 _ (by omega), cc_btN (by omega)]
  rcases Nat.lt_trichotomy k j with e | e | e
  · rw [cc_un (by omega), decide_eq_false (show ¬ 8 * j ≤ 8 * k + i by omega)]
    simp
  · subst e
    rw [cc_us, decide_eq_true (show 8 * k ≤ 8 * k + i by omega), show 8 * k + i - 8 * k = i by omega]
    by_cases h7 : i < 7
    · simp [h7]
    · rw [cc_hi hV (by omega), cc_hi hz (by omega)]
      simp
  · rw [cc_un (by omega), cc_hi hz (by omega), decide_eq_false (show ¬ 8 * k + i - 8 * j < 7 by omega)]
    simp
theorem cc_or {x : Int32} {V : Nat → Nat} {j z : Nat} (h : cc_PK x V) (hj : j < 4) (hV : V (8 + j) = 0) (hz : z < 128) :
    cc_PK (x ||| (nI z <<< ((8 * nI j) &&& 31))) (cc_up V (8 + j) z) := by
  rw [show (8 : Int32) * nI j = nI (8 * j) from pk_mul 8 j]
  intro k hk i hi
  have h32 : 8 * k + i < 32 := by omega
  have hj32 : 8 * j < 32 := by omega
  rw [b_or, b_shl _ hj32 _ h32, h k hk i hi, cc_btN (by omega)]
  rcases Nat.lt_trichotomy k j with e | e | e
  · rw [cc_un (by omega), decide_eq_false (show ¬ 8 * j ≤ 8 * k + i by omega)]
    simp
  · subst e
    rw [cc_us, decide_eq_true (show 8 * k ≤ 8 * k + i by omega), show 8 * k + i - 8 * k = i by omega, hV]
    simp
  · rw [cc_un (by omega), cc_hi hz (by omega)]
    simp
theorem cc_pk0 : cc_PK 0 (fun _ => 0) := by
  intro k hk i hi
  rw [b_0]
  exact (Nat.zero_testBit i).symm
theorem cc_pk_ext {x : Int32} {V U : Nat → Nat} (h : cc_PK x V) (e : ∀ j, j < 4 → V (8 + j) = U (8 + j)) : cc_PK x U := by
  intro j hj i hi
  rw [← e j hj]
  exact h j hj i hi
theorem cc_pk_eq {x y : Int32} {V U : Nat → Nat} (h : cc_PK x V) (h' : cc_PK y U) (hV : ∀ j, j < 4 → V (8 + j) < 128) (hU : ∀ j, j < 4 → U (8 + j) < 128) :
    x = y ↔ ∀ j, j < 4 → V (8 + j) = U (8 + j) := by
  constructor
  · intro e j hj
    rw [e] at h
    refine Nat.eq_of_testBit_eq (fun i => ?_)
    by_cases h8 : i < 8
    · rw [← h j hj i h8, ← h' j hj i h8]
    · rw [cc_hi (hV j hj) (by omega), cc_hi (hU j hj) (by omega)]
  · intro e
    refine b_ext (fun i hi => ?_)
    have a := h (i / 8) (by omega) (i % 8) (by omega)
    have b := h' (i / 8) (by omega) (i % 8) (by omega)
    rw [show 8 * (i / 8) + i % 8 = i by omega] at a b
    rw [a, b, e (i / 8) (by omega)]
end
section
/-! the rules behind the law's numbers: X r is the r-th part -/
def cc_h (X : Nat → Nat) (r : Nat) : Nat := 8 + X r % 4
def cc_p (X : Nat → Nat) (r : Nat) : Nat := 8 + X r / 4 % 4
def cc_q (X : Nat → Nat) (r : Nat) : Nat := 8 + X r / 16 % 4
def cc_s (X : Nat → Nat) (r : Nat) : Nat := 40 + X r / 64 % 64 % 61
theorem cc_hb (X : Nat → Nat) (r : Nat) : 8 ≤ cc_h X r ∧ cc_h X r < 12 := by unfold cc_h; omega
theorem cc_pb (X : Nat → Nat) (r : Nat) : 8 ≤ cc_p X r ∧ cc_p X r < 12 := by unfold cc_p; omega
theorem cc_qb (X : Nat → Nat) (r : Nat) : 8 ≤ cc_q X r ∧ cc_q X r < 12 := by unfold cc_q; omega
theorem cc_sb (X : Nat → Nat) (r : Nat) : 40 ≤ cc_s X r ∧ cc_s X r ≤ 100 := by unfold cc_s; omega
/-- what a rule is worth -/
def cc_wt (X V : Nat → Nat) (r : Nat) : Nat := min (V (cc_p X r)) (V (cc_q X r)) * cc_s X r / 100
theorem cc_frac {m s : Nat} (h : s ≤ 100) : m * s / 100 ≤ m := by
  refine Nat.div_le_of_le_mul ?_
  rw [Nat.mul_comm 100 m]
  exact Nat.mul_le_mul_left m h
theorem cc_wt_min (X V : Nat → Nat) (r : Nat) : cc_wt X V r ≤ min (V (cc_p X r)) (V (cc_q X r)) := cc_frac (cc_sb X r).2
theorem cc_wt_p (X V : Nat → Nat) (r : Nat) : cc_wt X V r ≤ V (cc_p X r) := Nat.le_trans (cc_wt_min X V r) (Nat.min_le_left _ _)
theorem cc_wt_q (X V : Nat → Nat) (r : Nat) : cc_wt X V r ≤ V (cc_q X r) := Nat.le_trans (cc_wt_min X V r) (Nat.min_le_right _ _)
theorem cc_wt_mono {X V U : Nat → Nat} {r : Nat} (h1 : V (cc_p X r) ≤ U (cc_p X r)) (h2 : V (cc_q X r) ≤ U (cc_q X r)) : cc_wt X V r ≤ cc_wt X U r := by
  unfold cc_wt
  refine Nat.div_le_div_right (Nat.mul_le_mul_right _ ?_)
  omega
theorem cc_wt_eq {X V U : Nat → Nat} {r : Nat} (h1 : V (cc_p X r) = U (cc_p X r)) (h2 : V (cc_q X r) = U (cc_q X r)) : cc_wt X V r = cc_wt X U r := by
  unfold cc_wt
  rw [h1, h2]
/-- one rule, then n rules, then n sweeps of four rules -/
def cc_one (X : Nat → Nat) (w : Int32) (V : Nat → Nat) (r : Nat) : Nat → Nat :=
  if nI r ≠ w ∧ V (cc_h X r) < cc_wt X V r then cc_up V (cc_h X r) (cc_wt X V r) else V
theorem cc_one_no {X : Nat → Nat} {w : Int32} {V : Nat → Nat} {r : Nat} (h : ¬ (nI r ≠ w ∧ V (cc_h X r) < cc_wt X V r)) : cc_one X w V r = V := if_neg h
theorem cc_one_yes {X : Nat → Nat} {w : Int32} {V : Nat → Nat} {r : Nat} (h : nI r ≠ w ∧ V (cc_h X r) < cc_wt X V r) : cc_one X w V r = cc_up V (cc_h X r) (cc_wt X V r) := if_pos h
def cc_sw (X : Nat → Nat) (w : Int32) (V : Nat → Nat) : Nat → Nat → Nat
  | 0 => V
  | n + 1 => cc_one X w (cc_sw X w V n) n
def cc_it (X : Nat → Nat) (w : Int32) (V : Nat → Nat) : Nat → Nat → Nat
  | 0 => V
  | n + 1 => cc_sw X w (cc_it X w V n) 4
def cc_L (X : Nat → Nat) (w : Int32) (V : Nat → Nat) : Nat → Nat := cc_it X w V 8
theorem cc_one_le {X : Nat → Nat} {w : Int32} {V D : Nat → Nat} {r : Nat} (h : ∀ c, c < 16 → V c ≤ D c) (hf : nI r ≠ w → cc_wt X D r ≤ D (cc_h X r)) : ∀ c, c < 16 → cc_one X w V r c ≤ D c := by
  intro c hc
  unfold cc_one
  split
  · rename_i g
    by_cases e : c = cc_h X r
    · rw [e, cc_us]
      have b1 := cc_pb X r
      have b2 := cc_qb X r
      exact Nat.le_trans (cc_wt_mono (h _ (by omega)) (h _ (by omega))) (hf g.1)
    · rw [cc_un e]
      exact h c hc
  · exact h c hc
theorem cc_one_ge (X : Nat → Nat) (w : Int32) (V : Nat → Nat) (r c : Nat) : V c ≤ cc_one X w V r c := by
  unfold cc_one
  split
  · rename_i g
    by_cases e : c = cc_h X r
    · rw [e, cc_us]
      omega
    · rw [cc_un e]
      exact Nat.le_refl _
  · exact Nat.le_refl _
theorem cc_one_wt {X : Nat → Nat} {w : Int32} {V : Nat → Nat} {r : Nat} (h : nI r ≠ w) : cc_wt X V r ≤ cc_one X w V r (cc_h X r) := by
  unfold cc_one
  split
  · rw [cc_us]
    exact Nat.le_refl _
  · rename_i g
    rcases Nat.lt_or_ge (V (cc_h X r)) (cc_wt X V r) with z | z
    · exact absurd ⟨h, z⟩ g
    · exact z
theorem cc_one_out {X : Nat → Nat} {w : Int32} {V : Nat → Nat} {r c : Nat} (h : c < 8 ∨ 12 ≤ c) : cc_one X w V r c = V c := by
  have b := cc_hb X r
  unfold cc_one
  split
  · exact cc_un (by omega)
  · rfl
theorem cc_sw_le {X : Nat → Nat} {w : Int32} {V D : Nat → Nat} (h : ∀ c, c < 16 → V c ≤ D c) (hf : ∀ r, r < 4 → nI r ≠ w → cc_wt X D r ≤ D (cc_h X r)) : ∀ n, n ≤ 4 → ∀ c, c < 16 → cc_sw X w V n c ≤ D c := by
  intro n
  induction n with
  | zero => exact fun _ => h
  | succ n ih => exact fun hn => cc_one_le (ih (by omega)) (hf n (by omega))
theorem cc_sw_ge (X : Nat → Nat) (w : Int32) (V : Nat → Nat) (n c : Nat) : V c ≤ cc_sw X w V n c := by
  induction n with
  | zero => exact Nat.le_refl _
  | succ n ih => exact Nat.le_trans ih (cc_one_ge X w _ n c)
theorem cc_sw_wt {X : Nat → Nat} {w : Int32} {V : Nat → Nat} {r n : Nat} (hr : r < n) (h : nI r ≠ w) : cc_wt X V r ≤ cc_sw X w V n (cc_h X r) := by
  induction n with
  | zero => omega
  | succ n ih =>
    by_cases e : r = n
    · subst e
      exact Nat.le_trans (cc_wt_mono (cc_sw_ge X w V r _) (cc_sw_ge X w V r _)) (cc_one_wt h)
    · exact Nat.le_trans (ih (by omega)) (cc_one_ge X w _ n _)
theorem cc_sw_out {X : Nat → Nat} {w : Int32} {V : Nat → Nat} {n c : Nat} (h : c < 8 ∨ 12 ≤ c) : cc_sw X w V n c = V c := by
  induction n with
  | zero => rfl
  | succ n ih => exact (cc_one_out h).trans ih
theorem cc_it_le {X : Nat → Nat} {w : Int32} {V D : Nat → Nat} (h : ∀ c, c < 16 → V c ≤ D c) (hf : ∀ r, r < 4 → nI r ≠ w → cc_wt X D r ≤ D (cc_h X r)) : ∀ n, ∀ c, c < 16 → cc_it X w V n c ≤ D c := by
  intro n
  induction n with
  | zero => exact h
  | succ n ih => exact cc_sw_le ih hf 4 (Nat.le_refl 4)
theorem cc_it_ge (X : Nat → Nat) (w : Int32) (V : Nat → Nat) (n c : Nat) : V c ≤ cc_it X w V n c := by
  induction n with
  | zero => exact Nat.le_refl _
  | succ n ih => exact Nat.le_trans ih (cc_sw_ge X w _ 4 c)
theorem cc_it_out {X : Nat → Nat} {w : Int32} {V : Nat → Nat} {n c : Nat} (h : c < 8 ∨ 12 ≤ c) : cc_it X w V n c = V c := by
  induction n with
  | zero => rfl
  | succ n ih => exact (cc_sw_out h).trans ih
theorem cc_L_out {X : Nat → Nat} {w : Int32} {V : Nat → Nat} {c : Nat} (h : c < 8 ∨ 12 ≤ c) : cc_L X w V c = V c := cc_it_out h
/-- values stay at most 100 -/
theorem cc_h100 (X : Nat → Nat) (r : Nat) : cc_wt X (fun _ => 100) r ≤ 100 := cc_wt_p X (fun _ => 100) r
theorem cc_sw_100 {X : Nat → Nat} {w : Int32} {V : Nat → Nat} (h : ∀ c, c < 16 → V c ≤ 100) {n : Nat} (hn : n ≤ 4) : ∀ c, c < 16 → cc_sw X w V n c ≤ 100 :=
  cc_sw_le (D := fun _ => 100) h (fun r _ _ => cc_h100 X r) n hn
theorem cc_it_100 {X : Nat → Nat} {w : Int32} {V : Nat → Nat} (h : ∀ c, c < 16 → V c ≤ 100) (n : Nat) : ∀ c, c < 16 → cc_it X w V n c ≤ 100 :=
  cc_it_le (D := fun _ => 100) h (fun r _ _ => cc_h100 X r) n
theorem cc_L_100 {X : Nat → Nat} {w : Int32} {V : Nat → Nat} (h : ∀ c, c < 16 → V c ≤ 100) : ∀ c, c < 16 → cc_L X w V c ≤ 100 := cc_it_100 h 8
/-- the least fixed point with the turn in which each claim was settled -/
def cc_Fx (X : Nat → Nat) (w : Int32) (v D : Nat → Nat) : Prop := ∃ rk : Nat → Nat, (∀ c, 8 ≤ c → c < 12 → 8 ≤ rk c ∧ rk c < 16) ∧ (∀ c, c < 16 → v c ≤ D c) ∧
  (∀ r, r < 4 → nI r ≠ w → cc_wt X D r ≤ D (cc_h X r)) ∧
  (∀ c, c < 16 → D c = v c ∨ ∃ r, r < 4 ∧ nI r ≠ w ∧ cc_h X r = c ∧ D c = cc_wt X D r ∧ rk (cc_p X r) < rk c ∧ rk (cc_q X r) < rk c)
theorem cc_fx_L {X : Nat → Nat} {w : Int32} {v D : Nat → Nat} (F : cc_Fx X w v D) : ∀ c, c < 16 → cc_L X w v c = D c := by
  obtain ⟨rk, h1, h2, h3, h4⟩ := F
  have low : ∀ n, ∀ c, c < 16 → (8 ≤ c → c < 12 → rk c ≤ 8 + n) → D c ≤ cc_it X w v n c := by
    intro n
    induction n with
    | zero =>
      intro c hc hk
      rcases h4 c hc with e | ⟨r, hr, hw, hh, e, k1, k2⟩
      · rw [e]
        exact Nat.le_refl _
      · have b := cc_hb X r
        have b1 := cc_pb X r
        have g := h1 _ b1.1 b1.2
        have g2 := hk (by omega) (by omega)
        omega
    | succ n ih =>
      intro c hc hk
      rcases h4 c hc with e | ⟨r, hr, hw, hh, e, k1, k2⟩
      · rw [e]
        exact cc_it_ge X w v _ c
      · have b := cc_hb X r
        have b1 := cc_pb X r
        have b2 := cc_qb X r
        have g2 := hk (by omega) (by omega)
        rw [e, ← hh]
        exact Nat.le_trans (cc_wt_mono (ih _ (by omega) (fun _ _ => by omega)) (ih _ (by omega) (fun _ _ => by omega))) (cc_sw_wt hr hw)
  intro c hc
  refine Nat.le_antisymm (cc_it_le h2 h3 8 c hc) (low 8 c hc (fun a b => ?_))
  have := h1 c a b
  omega
end
section
/-! the invariant of the turns: S settled (0 or 1), D values, O offers, W waiting, rk the turn of a claim -/
def cc_wl (X S : Nat → Nat) (r : Nat) : Nat := (1 - S (cc_p X r)) + (1 - S (cc_q X r))
def cc_K (X v : Nat → Nat) (w : Int32) (t : Nat) (S D O rk : Nat → Nat) : Prop :=
  (∀ x, x < 16 → S x ≤ 1) ∧
  (∀ x, x < 16 → S x = 1 → D x = O x ∧ rk x < t ∧ rk x / 4 = x / 4) ∧
  (∀ x, x < 16 → D x ≤ 100) ∧
  (∀ x, x < 16 → v x ≤ O x ∧ O x ≤ 100) ∧
  (∀ x y, x < 16 → y < 16 → x / 4 = y / 4 → S x = 1 → S y = 0 → O y ≤ O x) ∧
  (∀ x, x < 16 → O x = v x ∨ ∃ r, r < 4 ∧ nI r ≠ w ∧ cc_h X r = x ∧ O x = cc_wt X D r ∧ S (cc_p X r) = 1 ∧ S (cc_q X r) = 1 ∧ (S x = 1 → rk (cc_p X r) < rk x ∧ rk (cc_q X r) < rk x))
def cc_C (X : Nat → Nat) (w : Int32) (D O W : Nat → Nat) : Prop := ∀ r, r < 4 → nI r ≠ w → W r = 0 → cc_wt X D r ≤ O (cc_h X r)
def cc_N (S : Nat → Nat) (t : Nat) : Prop := ∀ b, b < 4 → S (4 * b) + S (4 * b + 1) + S (4 * b + 2) + S (4 * b + 3) = min 4 (t - 4 * b)
def cc_I (X v : Nat → Nat) (w : Int32) (t : Nat) (S D O W rk : Nat → Nat) : Prop :=
  cc_K X v w t S D O rk ∧ cc_N S t ∧ (∀ r, r < 4 → W r = cc_wl X S r) ∧ cc_C X w D O W
/-- within a turn: claim c has just been settled, the rules below i have taken notice -/
def cc_J (X v : Nat → Nat) (w : Int32) (t c : Nat) (S S' D rk : Nat → Nat) (i : Nat) (O W : Nat → Nat) : Prop :=
  cc_K X v w (t + 1) S' D O rk ∧ (∀ r, r < 4 → W r = if r < i then cc_wl X S' r else cc_wl X S r) ∧ cc_C X w D O W ∧
  (∀ x, x < 16 → x / 4 = c / 4 → S' x = 1 → O c ≤ O x)
theorem cc_N_up {S : Nat → Nat} {t c : Nat} (h : cc_N S t) (hc : c < 16) (e : c / 4 = t / 4) (z : S c = 0) : cc_N (cc_up S c 1) (t + 1) := by
  intro b hb
  have s := h b hb
  by_cases g : b = c / 4
  · have k : c = 4 * b ∨ c = 4 * b + 1 ∨ c = 4 * b + 2 ∨ c = 4 * b + 3 := by omega
    rcases k with k | k | k | k
    · rw [k, cc_us, cc_un (by omega), cc_un (by omega), cc_un (by omega)]
      rw [k] at z
      omega
    · rw [k, cc_us, cc_un (by omega), cc_un (by omega), cc_un (by omega)]
      rw [k] at z
      omega
    · rw [k, cc_us, cc_un (by omega), cc_un (by omega), cc_un (by omega)]
      rw [k] at z
      omega
    · rw [k, cc_us, cc_un (by omega), cc_un (by omega), cc_un (by omega)]
      rw [k] at z
      omega
  · rw [cc_un (by omega), cc_un (by omega), cc_un (by omega), cc_un (by omega)]
    omega
theorem cc_N_free {S : Nat → Nat} {t : Nat} (h : cc_N S t) (ht : t < 16) : ∃ j, j < 4 ∧ S (4 * (t / 4) + j) = 0 := by
  have s := h (t / 4) (by omega)
  by_cases h0 : S (4 * (t / 4)) = 0
  · exact ⟨0, by omega, h0⟩
  · by_cases h1 : S (4 * (t / 4) + 1) = 0
    · exact ⟨1, by omega, h1⟩
    · by_cases h2 : S (4 * (t / 4) + 2) = 0
      · exact ⟨2, by omega, h2⟩
      · exact ⟨3, by omega, by omega⟩
theorem cc_N_all {S : Nat → Nat} (h : cc_N S 16) (h1 : ∀ x, x < 16 → S x ≤ 1) : ∀ x, x < 16 → S x = 1 := by
  intro x hx
  have s := h (x / 4) (by omega)
  have a0 := h1 (4 * (x / 4)) (by omega)
  have a1 := h1 (4 * (x / 4) + 1) (by omega)
  have a2 := h1 (4 * (x / 4) + 2) (by omega)
  have a3 := h1 (4 * (x / 4) + 3) (by omega)
  have k : x = 4 * (x / 4) ∨ x = 4 * (x / 4) + 1 ∨ x = 4 * (x / 4) + 2 ∨ x = 4 * (x / 4) + 3 := by omega
  rcases k with k | k | k | k
  · rw [k]
    omega
  · rw [k]
    omega
  · rw [k]
    omega
  · rw [k]
    omega
theorem cc_settle {X v : Nat → Nat} {w : Int32} {t c : Nat} {S D O W rk : Nat → Nat} (I : cc_I X v w t S D O W rk) (hc : c < 16) (e : c / 4 = t / 4) (z : S c = 0)
    (mx : ∀ y, y < 16 → y / 4 = c / 4 → S y = 0 → O y ≤ O c) :
    cc_J X v w t c S (cc_up S c 1) (cc_up D c (O c)) (cc_up rk c t) 0 O W := by
  obtain ⟨⟨k1, k2, k3, k4, k5, k6⟩, n, l, f⟩ := I
  refine ⟨⟨?_, ?_, ?_, k4, ?_, ?_⟩, ?_, ?_, ?_⟩
  · intro x hx
    by_cases g : x = c
    · rw [g, cc_us]
      exact Nat.le_refl _
    · rw [cc_un g]
      exact k1 x hx
  · intro x hx hs
    by_cases g : x = c
    · rw [g, cc_us, cc_us]
      exact ⟨rfl, by omega, by omega⟩
    · rw [cc_un g] at hs
      rw [cc_un g, cc_un g]
      have := k2 x hx hs
      exact ⟨this.1, by omega, this.2.2⟩
  · intro x hx
    by_cases g : x = c
    · rw [g, cc_us]
      exact (k4 c hc).2
    · rw [cc_un g]
      exact k3 x hx
  · intro x y hx hy hxy sx sy
    have gy : y ≠ c := by
      intro g
      rw [g, cc_us] at sy
      omega
    rw [cc_un gy] at sy
    by_cases g : x = c
    · rw [g]
      exact mx y hy (by omega) sy
    · rw [cc_un g] at sx
      exact k5 x y hx hy hxy sx sy
  · intro x hx
    rcases k6 x hx with g | ⟨r, hr, hw, hh, ho, sp, sq, hk⟩
    · exact Or.inl g
    · have gp : cc_p X r ≠ c := fun g => by rw [g] at sp; omega
      have gq : cc_q X r ≠ c := fun g => by rw [g] at sq; omega
      have b1 := cc_pb X r
      have b2 := cc_qb X r
      refine Or.inr ⟨r, hr, hw, hh, ?_, by rw [cc_un gp]; exact sp, by rw [cc_un gq]; exact sq, ?_⟩
      · rw [ho]
        exact cc_wt_eq (cc_un gp).symm (cc_un gq).symm
      · intro sx
        rw [cc_un gp, cc_un gq]
        by_cases g : x = c
        · rw [g, cc_us]
          exact ⟨(k2 _ (by omega) sp).2.1, (k2 _ (by omega) sq).2.1⟩
        · rw [cc_un g] at sx
          rw [cc_un g]
          exact hk sx
  · intro r hr
    rw [if_neg (by omega)]
    exact l r hr
  · intro r hr hw h0
    have b1 := cc_pb X r
    have b2 := cc_qb X r
    have hl := l r hr
    unfold cc_wl at hl
    have gp : cc_p X r ≠ c := fun g => by rw [g] at hl; omega
    have gq : cc_q X r ≠ c := fun g => by rw [g] at hl; omega
    rw [cc_wt_eq (V := cc_up D c (O c)) (U := D) (cc_un gp) (cc_un gq)]
    exact f r hr hw h0
  · intro x hx hxc sx
    by_cases g : x = c
    · rw [g]
      exact Nat.le_refl _
    · rw [cc_un g] at sx
      exact k5 x c hx hc hxc sx z
/-- a rule that makes no offer -/
theorem cc_J_none {X v : Nat → Nat} {w : Int32} {t c : Nat} {S S' D rk O W : Nat → Nat} {i : Nat} (J : cc_J X v w t c S S' D rk i O W)
    (hf : nI i ≠ w → cc_wl X S' i = 0 → cc_wt X D i ≤ O (cc_h X i)) : cc_J X v w t c S S' D rk (i + 1) O (cc_up W i (cc_wl X S' i)) := by
  obtain ⟨k, l, f, m⟩ := J
  refine ⟨k, ?_, ?_, m⟩
  · intro r hr
    by_cases g : r = i
    · rw [g, cc_us, if_pos (by omega)]
    · rw [cc_un g, l r hr]
      by_cases g2 : r < i
      · rw [if_pos g2, if_pos (by omega)]
      · rw [if_neg g2, if_neg (by omega)]
  · intro r hr hw h0
    by_cases g : r = i
    · rw [g, cc_us] at h0
      rw [g] at hw
      rw [g]
      exact hf hw h0
    · rw [cc_un g] at h0
      exact f r hr hw h0
/-- a rule that raises its head's offer -/
theorem cc_J_some {X v : Nat → Nat} {w : Int32} {t c : Nat} {S S' D rk O W : Nat → Nat} {i : Nat} (J : cc_J X v w t c S S' D rk i O W) (hi : i < 4) (hw : nI i ≠ w) (hc : c < 16) (sc : S' c = 1)
    (e : cc_h X i / 4 = c / 4) (sh : S' (cc_h X i) = 0) (sp : S' (cc_p X i) = 1) (sq : S' (cc_q X i) = 1) (lt : O (cc_h X i) < cc_wt X D i) (le : cc_wt X D i ≤ O c) :
    cc_J X v w t c S S' D rk (i + 1) (cc_up O (cc_h X i) (cc_wt X D i)) (cc_up W i (cc_wl X S' i)) := by
  refine cc_J_none (O := cc_up O (cc_h X i) (cc_wt X D i)) ?_ (fun _ _ => by rw [cc_us]; exact Nat.le_refl _)
  obtain ⟨⟨k1, k2, k3, k4, k5, k6⟩, l, f, m⟩ := J
  have bh := cc_hb X i
  have ns : ∀ x, S' x = 1 → x ≠ cc_h X i := fun x sx g => by rw [g] at sx; omega
  refine ⟨⟨k1, ?_, k3, ?_, ?_, ?_⟩, l, ?_, ?_⟩
  · intro x hx sx
    rw [cc_un (ns x sx)]
    exact k2 x hx sx
  · intro x hx
    by_cases g : x = cc_h X i
    · rw [g, cc_us]
      have a := k4 (cc_h X i) (by omega)
      have b := k4 c hc
      exact ⟨by omega, by omega⟩
    · rw [cc_un g]
      exact k4 x hx
  · intro x y hx hy hxy sx sy
    rw [cc_un (ns x sx)]
    by_cases g : y = cc_h X i
    · rw [g, cc_us]
      exact Nat.le_trans le (m x hx (by rw [hxy, g, e]) sx)
    · rw [cc_un g]
      exact k5 x y hx hy hxy sx sy
  · intro x hx
    by_cases g : x = cc_h X i
    · rw [g, cc_us]
      exact Or.inr ⟨i, hi, hw, rfl, rfl, sp, sq, fun s1 => absurd s1 (by omega)⟩
    · rw [cc_un g]
      exact k6 x hx
  · intro r hr hw' h0
    have a := f r hr hw' h0
    by_cases g : cc_h X r = cc_h X i
    · rw [g, cc_us]
      rw [g] at a
      omega
    · rw [cc_un g]
      exact a
  · intro x hx hxc sx
    rw [cc_un (ns x sx), cc_un (ns c sc)]
    exact m x hx hxc sx
/-- what makeOffer leaves of the offers -/
def cc_mk (X : Nat → Nat) (w : Int32) (S D O : Nat → Nat) (i : Nat) : Nat → Nat :=
  if nI i ≠ w ∧ S (cc_h X i) = 0 ∧ O (cc_h X i) < cc_wt X D i then cc_up O (cc_h X i) (cc_wt X D i) else O
theorem cc_mk_no {X : Nat → Nat} {w : Int32} {S D O : Nat → Nat} {i : Nat} (h : ¬ (nI i ≠ w ∧ S (cc_h X i) = 0 ∧ O (cc_h X i) < cc_wt X D i)) : cc_mk X w S D O i = O := if_neg h
theorem cc_mk_yes {X : Nat → Nat} {w : Int32} {S D O : Nat → Nat} {i : Nat} (h : nI i ≠ w ∧ S (cc_h X i) = 0 ∧ O (cc_h X i) < cc_wt X D i) : cc_mk X w S D O i = cc_up O (cc_h X i) (cc_wt X D i) := if_pos h
/-- what count(i, c) leaves of the offers -/
def cc_ct (X : Nat → Nat) (w : Int32) (S D O W : Nat → Nat) (i : Nat) : Nat → Nat :=
  if 0 < W i ∧ cc_wl X S i = 0 then cc_mk X w S D O i else O
theorem cc_J_step {X v : Nat → Nat} {w : Int32} {t c : Nat} {S D rk O W : Nat → Nat} {i : Nat} (hc : c < 16) (z : S c = 0) (J : cc_J X v w t c S (cc_up S c 1) D rk i O W) (hi : i < 4) :
    cc_J X v w t c S (cc_up S c 1) D rk (i + 1) (cc_ct X w (cc_up S c 1) D O W i) (cc_up W i (cc_wl X (cc_up S c 1) i)) := by
  have bh := cc_hb X i
  have bp := cc_pb X i
  have bq := cc_qb X i
  have hl := J.2.1 i hi
  rw [if_neg (by omega)] at hl
  have s1 := J.1.1
  have k2 := J.1.2.1
  have m := J.2.2.2
  unfold cc_ct
  split
  · rename_i g
    obtain ⟨g1, g2⟩ := g
    have sp : cc_up S c 1 (cc_p X i) = 1 := by
      have a := s1 (cc_p X i) (by omega)
      unfold cc_wl at g2
      omega
    have sq : cc_up S c 1 (cc_q X i) = 1 := by
      have a := s1 (cc_q X i) (by omega)
      unfold cc_wl at g2
      omega
    have pc : cc_p X i = c ∨ cc_q X i = c := by
      by_cases gp : cc_p X i = c
      · exact Or.inl gp
      · by_cases gq : cc_q X i = c
        · exact Or.inr gq
        · rw [cc_un gp] at sp
          rw [cc_un gq] at sq
          unfold cc_wl at hl
          omega
    have dc : D c = O c := (k2 c hc cc_us).1
    have le : cc_wt X D i ≤ O c := by
      rw [← dc]
      rcases pc with e | e
      · have a := cc_wt_p X D i
        rw [e] at a
        exact a
      · have a := cc_wt_q X D i
        rw [e] at a
        exact a
    have e4 : cc_h X i / 4 = c / 4 := by
      rcases pc with e | e <;> omega
    unfold cc_mk
    split
    · rename_i q
      exact cc_J_some J hi q.1 hc cc_us e4 q.2.1 sp sq q.2.2 le
    · rename_i q
      refine cc_J_none J (fun hw _ => ?_)
      by_cases sh : cc_up S c 1 (cc_h X i) = 0
      · rcases Nat.lt_or_ge (O (cc_h X i)) (cc_wt X D i) with y | y
        · exact absurd ⟨hw, sh, y⟩ q
        · exact y
      · have a := s1 (cc_h X i) (by omega)
        exact Nat.le_trans le (m _ (by omega) e4 (by omega))
  · rename_i g
    refine cc_J_none J (fun hw h0 => J.2.2.1 i hi hw ?_)
    omega
theorem cc_J_end {X v : Nat → Nat} {w : Int32} {t c : Nat} {S D rk O W : Nat → Nat} (hc : c < 16) (z : S c = 0) (e : c / 4 = t / 4) (n : cc_N S t) (J : cc_J X v w t c S (cc_up S c 1) D rk 4 O W) :
    cc_I X v w (t + 1) (cc_up S c 1) D O W rk := by
  obtain ⟨k, l, f, m⟩ := J
  refine ⟨k, cc_N_up n hc e z, ?_, f⟩
  intro r hr
  rw [l r hr, if_pos hr]
theorem cc_I_0 {X v : Nat → Nat} {w : Int32} (hv : ∀ x, x < 16 → v x ≤ 100) : cc_I X v w 0 (fun _ => 0) (fun _ => 0) v (fun _ => 2) (fun _ => 0) := by
  refine ⟨⟨fun x _ => Nat.zero_le _, fun x _ h => ?_, fun x _ => Nat.zero_le _, fun x hx => ⟨Nat.le_refl _, hv x hx⟩, fun x y _ _ _ h => ?_, fun x _ => Or.inl rfl⟩, ?_, fun r _ => rfl, fun r _ _ h => ?_⟩
  · exact absurd h (show ¬ (0 : Nat) = 1 by decide)
  · exact absurd h (show ¬ (0 : Nat) = 1 by decide)
  · intro b hb
    show 0 + 0 + 0 + 0 = min 4 (0 - 4 * b)
    omega
  · exact absurd h (show ¬ (2 : Nat) = 0 by decide)
theorem cc_I_end {X v : Nat → Nat} {w : Int32} {S D O W rk : Nat → Nat} (I : cc_I X v w 16 S D O W rk) : ∀ c, c < 16 → D c = cc_L X w v c := by
  obtain ⟨⟨k1, k2, k3, k4, k5, k6⟩, n, l, f⟩ := I
  have s := cc_N_all n k1
  refine fun c hc => (cc_fx_L ⟨rk, ?_, ?_, ?_, ?_⟩ c hc).symm
  · intro x h8 h12
    have a := k2 x (by omega) (s x (by omega))
    omega
  · intro x hx
    rw [(k2 x hx (s x hx)).1]
    exact (k4 x hx).1
  · intro r hr hw
    have bh := cc_hb X r
    have bp := cc_pb X r
    have bq := cc_qb X r
    rw [(k2 (cc_h X r) (by omega) (s _ (by omega))).1]
    refine f r hr hw ?_
    rw [l r hr]
    unfold cc_wl
    rw [s _ (by omega), s _ (by omega)]
  · intro x hx
    have e := (k2 x hx (s x hx)).1
    rcases k6 x hx with g | ⟨r, hr, hw, hh, ho, sp, sq, hk⟩
    · exact Or.inl (e.trans g)
    · exact Or.inr ⟨r, hr, hw, hh, e.trans ho, hk (s x hx)⟩
end
section
/-! the component's own steps -/
def cc_R (n : Nat) (X : Nat → Nat) (a1 a2 a3 a4 a5 : Nat → Int32) : Prop := ∀ r, r < n → a1 r = nI (cc_h X r) ∧ a2 r = nI (cc_s X r) ∧ a3 r = nI 2 ∧ a4 (3 * r) = nI (cc_p X r) ∧ a4 (3 * r + 1) = nI (cc_q X r) ∧ a5 (3 * r) = nI 0 ∧ a5 (3 * r + 1) = nI 0
/-- an array holds a picture below N -/
def cc_M (N : Nat) (a : Nat → Int32) (V : Nat → Nat) : Prop := ∀ c, c < N → a c = nI (V c)
theorem cc_at {N : Nat} {a : Nat → Int32} {V : Nat → Nat} {n : Nat} (m : cc_M N a V) (hn : n < N) (hN : N < 2 ^ 31 := by omega) : a (nI n).toNatClampNeg = nI (V n) := by
  rw [nI_clamp (by omega)]
  exact m n hn
theorem cc_Mup {N : Nat} {a : Nat → Int32} {V : Nat → Nat} {k x : Nat} {y : Int32} (m : cc_M N a V) (hy : y = nI x) : cc_M N (upd a k y) (cc_up V k x) := by
  intro c hc
  by_cases e : c = k
  · rw [e, pk_us, cc_us, hy]
  · rw [pk_un e, cc_un e]
    exact m c hc
theorem cc_ne1 {n : Nat} (h : n < 2 ^ 31) : ¬ nI n = -1 := by
  intro e
  have a := congrArg Int32.toInt e
  rw [nI_toInt h, show (-1 : Int32).toInt = -1 from by decide] at a
  omega
theorem cc_3 (r k : Nat) : (3 : Int32) * nI r + nI k = nI (3 * r + k) := by
  rw [show (3 : Int32) = nI 3 from rfl, pk_mul, nI_add]
theorem cc_best {post : Int32 → Prop} {fd fn fw fc : Int32} {a1 a2 a3 a4 a5 a6 a7 a8 a9 a10 a11 a12 a13 : Nat → Int32} {S O : Nat → Nat} {b : Nat} (hb : b < 4) (m10 : cc_M 16 a10 O) (m11 : cc_M 16 a11 S)
    (hO : ∀ c, c < 16 → O c ≤ 100) (hS : ∀ c, c < 16 → S c ≤ 1) (fr : ∃ j, j < 4 ∧ S (4 * b + j) = 0)
    (H : ∀ c, c < 16 → c / 4 = b → S c = 0 → (∀ y, y < 16 → y / 4 = c / 4 → S y = 0 → O y ≤ O c) → post (nI c)) :
    wpX_best post (fd, fn, fw, fc, a1, a2, a3, a4, a5, a6, a7, a8, a9, a10, a11, a12, a13) (nI (4 * b)) := by
  refine pk_loop (fun n i s => wX_best_4 post (nI (4 * b)) fd fn fw fc a1 a2 a3 a4 a5 a6 a7 a8 a9 a10 a11 a12 a13 n s (nI (4 * b + i)))
    (fun i s => (s = -1 ∧ ∀ j, j < i → S (4 * b + j) ≠ 0) ∨ (∃ f, f < i ∧ s = nI (4 * b + f) ∧ S (4 * b + f) = 0 ∧ ∀ j, j < i → S (4 * b + j) = 0 → O (4 * b + j) ≤ O (4 * b + f)))
    4 0 (-1) (by omega) (Or.inl ⟨rfl, fun j hj => absurd hj (by omega)⟩) ?_ ?_
  · intro n s h
    refine pk_le (4 * b + 4) (4 * b + 4) (fun _ => ?_) (fun z => absurd z (by omega)) (nI_add (4 * b) 4)
    rcases h with ⟨rfl, h⟩ | ⟨f, hf, rfl, hs, ho⟩
    · obtain ⟨j, hj, e⟩ := fr
      exact absurd e (h j hj)
    · refine br_f (cc_ne1 (by omega)) (H (4 * b + f) (by omega) (by omega) hs (fun y hy hyc sy => ?_))
      have a := ho (y - 4 * b) (by omega)
      rw [show 4 * b + (y - 4 * b) = y by omega] at a
      exact a sy
  · intro n i s hi h hw
    have s1 := hS (4 * b + i) (by omega)
    refine pk_le (4 * b + 4) (4 * b + i) (fun z => absurd z (by omega)) (fun _ => ⟨pk_in (4 * b + i) 16 (by omega), ?_⟩) (nI_add (4 * b) 4)
    refine pk_eq (S (4 * b + i)) 0 (fun z => ?_) (fun z => nm_r (nI_1 _) (hw s ?_)) (cc_at m11 (by omega)) rfl
    · rcases h with ⟨rfl, h⟩ | ⟨f, hf, rfl, hs, ho⟩
      · refine br_t rfl (nm_r (nI_1 _) (hw (nI (4 * b + i)) (Or.inr ⟨i, by omega, rfl, z, fun j hj sj => ?_⟩)))
        by_cases e : j = i
        · rw [e]
          exact Nat.le_refl _
        · exact absurd sj (h j (by omega))
      · have o1 := hO (4 * b + i) (by omega)
        have o2 := hO (4 * b + f) (by omega)
        refine br_f (cc_ne1 (by omega)) ⟨pk_in (4 * b + i) 16 (by omega), pk_in (4 * b + f) 16 (by omega), ?_⟩
        refine pk_le (O (4 * b + i)) (O (4 * b + f)) (fun y => nm_r (nI_1 _) (hw (nI (4 * b + f)) (Or.inr ⟨f, by omega, rfl, hs, fun j hj sj => ?_⟩)))
          (fun y => nm_r (nI_1 _) (hw (nI (4 * b + i)) (Or.inr ⟨i, by omega, rfl, z, fun j hj sj => ?_⟩))) (cc_at m10 (by omega)) (cc_at m10 (by omega))
        · by_cases e : j = i
          · rw [e]
            exact y
          · exact ho j (by omega) sj
        · by_cases e : j = i
          · rw [e]
            exact Nat.le_refl _
          · exact Nat.le_trans (ho j (by omega) sj) (Nat.le_of_lt y)
    · rcases h with ⟨e, h⟩ | ⟨f, hf, e, hs, ho⟩
      · refine Or.inl ⟨e, fun j hj => ?_⟩
        by_cases g : j = i
        · rw [g]
          exact z
        · exact h j (by omega)
      · refine Or.inr ⟨f, by omega, e, hs, fun j hj sj => ?_⟩
        by_cases g : j = i
        · rw [g] at sj
          exact absurd sj z
        · exact ho j (by omega) sj
theorem cc_worth_step {post : Int32 → Prop} {fd fn fw fc : Int32} {a1 a2 a3 a4 a5 a6 a7 a8 a9 a10 a11 a12 a13 : Nat → Int32} {D : Nat → Nat} {r k m u n : Nat} (hr : r < 4) (hk : k < 2) (hm : m ≤ 100) (hu : u < 16)
    (h3 : a3 r = nI 2) (h4 : a4 (3 * r + k) = nI u) (h5 : a5 (3 * r + k) = nI 0) (m9 : cc_M 16 a9 D) (hD : D u ≤ 100)
    (H : wX_worth_5 post (nI r) fd fn fw fc a1 a2 a3 a4 a5 a6 a7 a8 a9 a10 a11 a12 a13 n (nI (min m (D u))) (nI (k + 1))) :
    wX_worth_5 post (nI r) fd fn fw fc a1 a2 a3 a4 a5 a6 a7 a8 a9 a10 a11 a12 a13 (n + 1) (nI m) (nI k) := by
  refine And.intro (pk_in r 20 (by omega)) (pk_le 2 k (fun z => absurd z (by omega)) (fun _ => ?_) (by rw [nI_clamp (by omega)]; exact h3) rfl)
  rw [cc_3, nI_clamp (show 3 * r + k < 2 ^ 31 by omega), h4, h5, cc_at m9 hu]
  refine ⟨pk_in (3 * r + k) 60 (by omega), pk_in u 16 hu, nm_e ⟨pk_in (3 * r + k) 60 (by omega), br_t rfl ?_⟩⟩
  refine pk_le m (D u) (fun z => nm_r (nI_1 k) ?_) (fun z => nm_r (nI_1 k) ?_)
  · rw [Nat.min_eq_left z] at H
    exact H
  · rw [Nat.min_eq_right (by omega)] at H
    exact H
theorem cc_worth {post : Int32 → Prop} {fd fn fw fc : Int32} {a1 a2 a3 a4 a5 a6 a7 a8 a9 a10 a11 a12 a13 : Nat → Int32} {X D : Nat → Nat} {r : Nat} (R : cc_R 4 X a1 a2 a3 a4 a5) (m9 : cc_M 16 a9 D) (hD : ∀ c, c < 16 → D c ≤ 100) (hr : r < 4)
    (H : post (nI (cc_wt X D r))) : wpX_worth post (fd, fn, fw, fc, a1, a2, a3, a4, a5, a6, a7, a8, a9, a10, a11, a12, a13) (nI r) := by
  obtain ⟨h1, h2, h3, h4, h4', h5, h5'⟩ := R r hr
  have bp := cc_pb X r
  have bq := cc_qb X r
  have bs := cc_sb X r
  have dp := hD (cc_p X r) (by omega)
  have dq := hD (cc_q X r) (by omega)
  refine ⟨3, ?_⟩
  refine cc_worth_step (k := 0) (m := 100) (u := cc_p X r) hr (by omega) (by omega) (by omega) h3 h4 h5 m9 dp ?_
  refine cc_worth_step (k := 1) (u := cc_q X r) hr (by omega) (by omega) (by omega) h3 h4' h5' m9 dq ?_
  refine And.intro (pk_in r 20 (by omega)) (pk_le 2 2 (fun _ => ⟨pk_in r 20 (by omega), by decide, ?_⟩) (fun z => absurd z (by omega)) (by rw [nI_clamp (by omega)]; exact h3) rfl)
  rw [nI_clamp (by omega), h2, pk_mul, show (100 : Int32) = nI 100 from rfl]
  rw [show min (min 100 (D (cc_p X r))) (D (cc_q X r)) = min (D (cc_p X r)) (D (cc_q X r)) by omega]
  have lm : min (D (cc_p X r)) (D (cc_q X r)) * cc_s X r ≤ 100 * 100 := Nat.mul_le_mul (by omega) (by omega)
  rw [pk_div (by omega) (by omega) (by omega)]
  exact H
theorem cc_makeOffer {post : St2 → Prop} {fd fn fw fc : Int32} {a1 a2 a3 a4 a5 a6 a7 a8 a9 a10 a11 a12 a13 : Nat → Int32} {X S D O : Nat → Nat} {r : Nat} (R : cc_R 4 X a1 a2 a3 a4 a5) (m9 : cc_M 16 a9 D) (hD : ∀ c, c < 16 → D c ≤ 100)
    (m10 : cc_M 16 a10 O) (hO : ∀ c, c < 16 → O c ≤ 100) (m11 : cc_M 16 a11 S) (hS : ∀ c, c < 16 → S c ≤ 1) (hr : r < 4)
    (H : ∀ b10, cc_M 16 b10 (cc_mk X fw S D O r) → post (fd, fn, fw, fc, a1, a2, a3, a4, a5, a6, a7, a8, a9, b10, a11, a12, a13)) : wpX_makeOffer post (fd, fn, fw, fc, a1, a2, a3, a4, a5, a6, a7, a8, a9, a10, a11, a12, a13) (nI r) := by
  have bh := cc_hb X r
  have sh := hS (cc_h X r) (by omega)
  have oh := hO (cc_h X r) (by omega)
  have bp := cc_pb X r
  have wl := Nat.le_trans (cc_wt_p X D r) (hD (cc_p X r) (by omega))
  refine And.intro (pk_in r 20 (by omega)) (nm_r (e' := nI (cc_h X r)) (by rw [nI_clamp (by omega)]; exact (R r hr).1) (br_c (fun e => ?_) (fun e => ⟨pk_in (cc_h X r) 16 (by omega), ?_⟩)))
  · refine H a10 ?_
    rw [cc_mk_no (fun g => g.1 e)]
    exact m10
  · refine pk_eq (S (cc_h X r)) 0 (fun z => cc_worth R m9 hD hr ⟨pk_in (cc_h X r) 16 (by omega), ?_⟩) (fun z => H a10 ?_) (cc_at m11 (by omega)) rfl
    · refine pk_le (cc_wt X D r) (O (cc_h X r)) (fun y => H a10 ?_) (fun y => ⟨pk_in (cc_h X r) 16 (by omega), nm_e (H _ ?_)⟩) rfl (cc_at m10 (by omega))
      · rw [cc_mk_no (fun g => absurd g.2.2 (Nat.not_lt.mpr y))]
        exact m10
      · rw [nI_clamp (by omega), cc_mk_yes ⟨e, z, y⟩]
        exact cc_Mup m10 rfl
    · rw [cc_mk_no (fun g => z g.2.1)]
      exact m10
end
section
/-! count and settleAll -/
/-- how many premises of rule r are the claim c -/
def cc_dl (X : Nat → Nat) (c r : Nat) : Nat := (if cc_p X r = c then 1 else 0) + (if cc_q X r = c then 1 else 0)
theorem cc_wl_up {X S : Nat → Nat} {c r : Nat} (z : S c = 0) : cc_dl X c r ≤ cc_wl X S r ∧ cc_wl X (cc_up S c 1) r = cc_wl X S r - cc_dl X c r := by
  unfold cc_dl cc_wl
  by_cases gp : cc_p X r = c
  · by_cases gq : cc_q X r = c
    · rw [if_pos gp, if_pos gq, gp, gq, cc_us]
      omega
    · rw [if_pos gp, if_neg gq, gp, cc_us, cc_un gq]
      omega
  · by_cases gq : cc_q X r = c
    · rw [if_neg gp, if_pos gq, gq, cc_us, cc_un gp]
      omega
    · rw [if_neg gp, if_neg gq, cc_un gp, cc_un gq]
      omega
theorem cc_count_step {post : St2 → Prop} {fd fn fw fc x3 : Int32} {a1 a2 a3 a4 a5 a6 a7 a8 a9 a10 a11 a12 a13 : Nat → Int32} {W : Nat → Nat} {r k u c n : Nat} (hr : r < 4) (hk : k < 2) (hu : u < 16) (hc : c < 16)
    (h3 : a3 r = nI 2) (h4 : a4 (3 * r + k) = nI u) (m12 : cc_M 4 a12 W) (hW : u = c → 0 < W r)
    (H : ∀ b12, cc_M 4 b12 (cc_up W r (W r - if u = c then 1 else 0)) → wX_count_10 post (nI r) (nI c) x3 fd fn fw fc n (nI (k + 1)) a1 a2 a3 a4 a5 a6 a7 a8 a9 a10 a11 b12 a13) :
    wX_count_10 post (nI r) (nI c) x3 fd fn fw fc (n + 1) (nI k) a1 a2 a3 a4 a5 a6 a7 a8 a9 a10 a11 a12 a13 := by
  refine And.intro (pk_in r 20 (by omega)) (pk_le 2 k (fun z => absurd z (by omega)) (fun _ => ?_) (by rw [nI_clamp (by omega)]; exact h3) rfl)
  rw [cc_3, nI_clamp (show 3 * r + k < 2 ^ 31 by omega), h4]
  refine ⟨pk_in (3 * r + k) 60 (by omega), pk_eq u c (fun z => ⟨pk_in r 20 (by omega), pk_in r 20 (by omega), nm_e (nm_r (nI_1 k) (H _ ?_))⟩) (fun z => nm_r (nI_1 k) (H a12 ?_))⟩
  · rw [nI_clamp (by omega), if_pos z]
    refine cc_Mup m12 ?_
    rw [m12 r hr]
    exact pk_sub (b := 1) (hW z)
  · rw [if_neg z]
    intro x hx
    by_cases e : x = r
    · rw [e, cc_us]
      exact m12 r hr
    · rw [cc_un e]
      exact m12 x hx
theorem cc_count_last {post : St2 → Prop} {fd fn fw fc : Int32} {a1 a2 a3 a4 a5 a6 a7 a8 a9 a10 a11 a12 a13 : Nat → Int32} {X S D O W : Nat → Nat} {r B n : Nat} {x2 : Int32} (R : cc_R 4 X a1 a2 a3 a4 a5) (m9 : cc_M 16 a9 D) (hD : ∀ c, c < 16 → D c ≤ 100)
    (m10 : cc_M 16 a10 O) (hO : ∀ c, c < 16 → O c ≤ 100) (m11 : cc_M 16 a11 S) (hS : ∀ c, c < 16 → S c ≤ 1) (m12 : cc_M 4 a12 W) (hB : B ≤ 2) (hW : W r ≤ 2) (hr : r < 4)
    (H : ∀ b10, cc_M 16 b10 (if 0 < B ∧ W r = 0 then cc_mk X fw S D O r else O) → post (fd, fn, fw, fc, a1, a2, a3, a4, a5, a6, a7, a8, a9, b10, a11, a12, a13)) :
    wX_count_10 post (nI r) x2 (nI B) fd fn fw fc (n + 1) (nI 2) a1 a2 a3 a4 a5 a6 a7 a8 a9 a10 a11 a12 a13 := by
  refine And.intro (pk_in r 20 (by omega)) (pk_le 2 2 (fun _ => ?_) (fun z => absurd z (by omega)) (by rw [nI_clamp (by omega)]; exact (R r hr).2.2.1) rfl)
  refine pk_le B 0 (fun z => H a10 ?_) (fun z => ⟨pk_in r 20 (by omega), pk_eq (W r) 0 (fun y => cc_makeOffer R m9 hD m10 hO m11 hS hr (fun b10 h => H b10 ?_)) (fun y => H a10 ?_) (cc_at m12 (by omega)) rfl⟩)
  · rw [if_neg (show ¬ (0 < B ∧ W r = 0) by omega)]
    exact m10
  · rw [if_pos (show 0 < B ∧ W r = 0 from ⟨z, y⟩)]
    exact h
  · rw [if_neg (show ¬ (0 < B ∧ W r = 0) by omega)]
    exact m10
theorem cc_count {post : St2 → Prop} {fd fn fw fc : Int32} {a1 a2 a3 a4 a5 a6 a7 a8 a9 a10 a11 a12 a13 : Nat → Int32} {X S D O W : Nat → Nat} {r c : Nat} (R : cc_R 4 X a1 a2 a3 a4 a5) (m9 : cc_M 16 a9 D) (hD : ∀ c, c < 16 → D c ≤ 100)
    (m10 : cc_M 16 a10 O) (hO : ∀ c, c < 16 → O c ≤ 100) (m11 : cc_M 16 a11 S) (hS : ∀ c, c < 16 → S c ≤ 1) (m12 : cc_M 4 a12 W) (hW : W r ≤ 2) (hr : r < 4) (hc : c < 16) (hd : cc_dl X c r ≤ W r)
    (H : ∀ b10 b12, cc_M 16 b10 (if 0 < W r ∧ W r - cc_dl X c r = 0 then cc_mk X fw S D O r else O) → cc_M 4 b12 (cc_up W r (W r - cc_dl X c r)) → post (fd, fn, fw, fc, a1, a2, a3, a4, a5, a6, a7, a8, a9, b10, a11, b12, a13)) :
    wpX_count post (fd, fn, fw, fc, a1, a2, a3, a4, a5, a6, a7, a8, a9, a10, a11, a12, a13) (nI r) (nI c) := by
  obtain ⟨h1, h2, h3, h4, h4', h5, h5'⟩ := R r hr
  have bp := cc_pb X r
  have bq := cc_qb X r
  have dd : cc_dl X c r = (if cc_p X r = c then 1 else 0) + (if cc_q X r = c then 1 else 0) := rfl
  have dp : cc_p X r = c → (if cc_p X r = c then 1 else 0) = 1 := fun g => if_pos g
  have dq : cc_q X r = c → (if cc_q X r = c then 1 else 0) = 1 := fun g => if_pos g
  refine And.intro (pk_in r 20 (by omega)) (nm_r (e' := nI (W r)) (cc_at m12 (by omega)) ⟨3, ?_⟩)
  refine cc_count_step (k := 0) (u := cc_p X r) hr (by omega) (by omega) hc h3 h4 m12 (fun g => by have := dp g; omega) (fun c12 n12 => ?_)
  refine cc_count_step (k := 1) (u := cc_q X r) hr (by omega) (by omega) hc h3 h4' n12 (fun g => by have := dq g; rw [cc_us]; omega) (fun b12 k12 => ?_)
  rw [cc_us] at k12
  have e2 : cc_up (cc_up W r (W r - if cc_p X r = c then 1 else 0)) r (W r - (if cc_p X r = c then 1 else 0) - if cc_q X r = c then 1 else 0) = cc_up W r (W r - cc_dl X c r) := by
    funext x
    by_cases e : x = r
    · rw [e, cc_us, cc_us, dd, Nat.sub_sub]
    · rw [cc_un e, cc_un e, cc_un e]
  rw [e2] at k12
  refine cc_count_last R m9 hD m10 hO m11 hS k12 hW (by rw [cc_us]; omega) hr (fun b10 h => H b10 b12 ?_ k12)
  rw [cc_us] at h
  exact h
theorem cc_inner {post : St2 → Prop} {J84 : Int32 → Int32 → Int32 → Int32 → Int32 → (Nat → Int32) → (Nat → Int32) → (Nat → Int32) → (Nat → Int32) → (Nat → Int32) → (Nat → Int32) → (Nat → Int32) → (Nat → Int32) → (Nat → Int32) → (Nat → Int32) → (Nat → Int32) → (Nat → Int32) → (Nat → Int32) → Prop}
    {fd fw fc : Int32} {a1 a2 a3 a4 a5 a6 a7 a8 a9 a10 a11 a12 a13 : Nat → Int32} {X v S D O W rk : Nat → Nat} {t c : Nat} (R : cc_R 4 X a1 a2 a3 a4 a5) (hc : c < 16) (z : S c = 0)
    (J : cc_J X v fw t c S (cc_up S c 1) D rk 0 O W) (m9 : cc_M 16 a9 D) (m10 : cc_M 16 a10 O) (m11 : cc_M 16 a11 (cc_up S c 1)) (m12 : cc_M 4 a12 W)
    (H : ∀ b10 b12 O' W', cc_J X v fw t c S (cc_up S c 1) D rk 4 O' W' → cc_M 16 b10 O' → cc_M 4 b12 W' → J84 (nI (t + 1)) fd (nI 4) fw fc a1 a2 a3 a4 a5 a6 a7 a8 a9 b10 a11 b12 a13) :
    ∃ n, wX_settleAll_121 post J84 (nI t) (nI c) n 0 fd (nI 4) fw fc a1 a2 a3 a4 a5 a6 a7 a8 a9 a10 a11 a12 a13 := by
  refine pk_loop (σ := (Nat → Int32) × (Nat → Int32)) (fun n i s => wX_settleAll_121 post J84 (nI t) (nI c) n (nI i) fd (nI 4) fw fc a1 a2 a3 a4 a5 a6 a7 a8 a9 s.1 a11 s.2 a13)
    (fun i s => ∃ O' W', cc_J X v fw t c S (cc_up S c 1) D rk i O' W' ∧ cc_M 16 s.1 O' ∧ cc_M 4 s.2 W') 4 0 (a10, a12) (by omega) ⟨O, W, J, m10, m12⟩ ?_ ?_
  · intro n s h
    obtain ⟨O', W', J', h10, h12⟩ := h
    exact pk_le 4 4 (fun _ => nm_r (nI_1 t) (H _ _ _ _ J' h10 h12)) (fun y => absurd y (by omega))
  · intro n i s hi h hw
    obtain ⟨b10, b12⟩ := s
    obtain ⟨O', W', J', h10, h12⟩ := h
    have l := J'.2.1 i hi
    rw [if_neg (by omega)] at l
    have u := cc_wl_up (X := X) (r := i) z
    have w2 : W' i ≤ 2 := by
      rw [l]
      unfold cc_wl
      omega
    refine pk_le 4 i (fun y => absurd y (by omega)) (fun _ => cc_count R m9 J'.1.2.2.1 h10 (fun x hx => (J'.1.2.2.2.1 x hx).2) m11 J'.1.1 h12 w2 hi hc (by rw [l]; exact u.1) (fun c10 c12 g10 g12 => nm_r (nI_1 i) (hw (c10, c12) ⟨_, _, cc_J_step hc z J' hi, ?_, ?_⟩)))
    · unfold cc_ct
      rw [u.2, ← l]
      exact g10
    · rw [u.2, ← l]
      exact g12
theorem cc_blk {t : Nat} (h : t < 16) : (4 : Int32) * (nI t >>> ((2 : Int32) &&& 31)) = nI (4 * (t / 4)) := by
  rw [pk_shrN (by omega) _ 2 (by decide)]
  exact pk_mul 4 (t / 4)
theorem cc_turns {post : St2 → Prop} {fd fw fc : Int32} {a1 a2 a3 a4 a5 a6 a7 a8 a9 a10 a11 a12 a13 : Nat → Int32} {X v S D O W rk : Nat → Nat} (R : cc_R 4 X a1 a2 a3 a4 a5)
    (I : cc_I X v fw 0 S D O W rk) (m9 : cc_M 16 a9 D) (m10 : cc_M 16 a10 O) (m11 : cc_M 16 a11 S) (m12 : cc_M 4 a12 W)
    (H : ∀ b9 b10 b11 b12, cc_M 16 b9 (cc_L X fw v) → post (fd, nI 4, fw, fc, a1, a2, a3, a4, a5, a6, a7, a8, b9, b10, b11, b12, a13)) :
    ∃ n, wX_settleAll_84 post n 0 fd (nI 4) fw fc a1 a2 a3 a4 a5 a6 a7 a8 a9 a10 a11 a12 a13 := by
  refine pk_loop (σ := (Nat → Int32) × (Nat → Int32) × (Nat → Int32) × (Nat → Int32)) (fun n i s => wX_settleAll_84 post n (nI i) fd (nI 4) fw fc a1 a2 a3 a4 a5 a6 a7 a8 s.1 s.2.1 s.2.2.1 s.2.2.2 a13)
    (fun i s => ∃ S D O W rk, cc_I X v fw i S D O W rk ∧ cc_M 16 s.1 D ∧ cc_M 16 s.2.1 O ∧ cc_M 16 s.2.2.1 S ∧ cc_M 4 s.2.2.2 W) 16 0 (a9, a10, a11, a12) (by omega) ⟨S, D, O, W, rk, I, m9, m10, m11, m12⟩ ?_ ?_
  · intro n s h
    obtain ⟨S, D, O, W, rk, I, h9, h10, h11, h12⟩ := h
    exact pk_le 16 16 (fun _ => H _ _ _ _ (fun c hc => by rw [h9 c hc, cc_I_end I c hc])) (fun y => absurd y (by omega))
  · intro n t s ht h hw
    obtain ⟨b9, b10, b11, b12⟩ := s
    obtain ⟨S, D, O, W, rk, I, h9, h10, h11, h12⟩ := h
    refine pk_le 16 t (fun y => absurd y (by omega)) (fun _ => ?_)
    rw [cc_blk ht]
    refine cc_best (b := t / 4) (by omega) h10 h11 (fun x hx => (I.1.2.2.2.1 x hx).2) I.1.1 (cc_N_free I.2.1 ht) (fun c hc e z mx => ?_)
    rw [nI_clamp (show c < 2 ^ 31 by omega)]
    refine ⟨pk_in c 16 hc, nm_e ⟨pk_in c 16 hc, pk_in c 16 hc, nm_e ?_⟩⟩
    refine cc_inner R hc z (cc_settle I hc e z mx) (cc_Mup h9 (h10 c hc)) h10 (cc_Mup h11 rfl) h12 (fun c10 c12 O' W' J' g10 g12 => ?_)
    exact hw (_, c10, _, c12) ⟨_, _, _, _, _, cc_J_end hc z e I.2.1 J', cc_Mup h9 (h10 c hc), g10, cc_Mup h11 rfl, g12⟩
theorem cc_fill {i : Nat} {a : Nat → Int32} {V : Nat → Nat} {y : Int32} (h : cc_M i a V) (hy : y = nI (V i)) : cc_M (i + 1) (upd a i y) V := by
  intro c hc
  by_cases e : c = i
  · rw [e, pk_us, hy]
  · rw [pk_un e]
    exact h c (by omega)
theorem cc_waits {post : St2 → Prop} {fd fw fc : Int32} {a1 a2 a3 a4 a5 a6 a7 a8 a9 a10 a11 a12 a13 : Nat → Int32} {X v : Nat → Nat} (R : cc_R 4 X a1 a2 a3 a4 a5) (hv : ∀ x, x < 16 → v x ≤ 100)
    (m9 : cc_M 16 a9 (fun _ => 0)) (m10 : cc_M 16 a10 v) (m11 : cc_M 16 a11 (fun _ => 0))
    (H : ∀ b9 b10 b11 b12, cc_M 16 b9 (cc_L X fw v) → post (fd, nI 4, fw, fc, a1, a2, a3, a4, a5, a6, a7, a8, b9, b10, b11, b12, a13)) :
    ∃ n, wX_settleAll_42 post n 0 fd (nI 4) fw fc a1 a2 a3 a4 a5 a6 a7 a8 a9 a10 a11 a12 a13 := by
  refine pk_loop (fun n i s => wX_settleAll_42 post n (nI i) fd (nI 4) fw fc a1 a2 a3 a4 a5 a6 a7 a8 a9 a10 a11 s a13) (fun i s => cc_M i s (fun _ => 2)) 4 0 a12 (by omega) (fun j hj => absurd hj (by omega)) ?_ ?_
  · intro n s h
    exact pk_le 4 4 (fun _ => cc_turns R (cc_I_0 hv) m9 m10 m11 h H) (fun y => absurd y (by omega))
  · intro n i s hi h hw
    have h3 := (R i hi).2.2.1
    refine pk_le 4 i (fun y => absurd y (by omega)) (fun _ => ?_)
    rw [nI_clamp (show i < 2 ^ 31 by omega), h3]
    exact ⟨pk_in i 20 (by omega), pk_in i 20 (by omega), nm_e ⟨pk_in i 20 (by omega), br_f (nI_ne0 (by decide) (by decide)) (nm_r (nI_1 i) (hw _ (cc_fill h rfl)))⟩⟩
theorem cc_settleAll {post : St2 → Prop} {fd fw fc : Int32} {a1 a2 a3 a4 a5 a6 a7 a8 a9 a10 a11 a12 a13 : Nat → Int32} {X v : Nat → Nat} (R : cc_R 4 X a1 a2 a3 a4 a5) (m8 : cc_M 16 a8 v) (hv : ∀ x, x < 16 → v x ≤ 100)
    (H : ∀ b9 b10 b11 b12, cc_M 16 b9 (cc_L X fw v) → post (fd, nI 4, fw, fc, a1, a2, a3, a4, a5, a6, a7, a8, b9, b10, b11, b12, a13)) :
    wpX_settleAll post (fd, nI 4, fw, fc, a1, a2, a3, a4, a5, a6, a7, a8, a9, a10, a11, a12, a13) := by
  refine pk_loop (σ := (Nat → Int32) × (Nat → Int32) × (Nat → Int32)) (fun n i s => wX_settleAll_2 post fd (nI 4) fw fc n (nI i) a1 a2 a3 a4 a5 a6 a7 a8 s.1 s.2.1 s.2.2 a12 a13)
    (fun i s => cc_M i s.1 (fun _ => 0) ∧ cc_M i s.2.1 v ∧ cc_M i s.2.2 (fun _ => 0)) 16 0 (a9, a10, a11) (by omega) ⟨fun j hj => absurd hj (by omega), fun j hj => absurd hj (by omega), fun j hj => absurd hj (by omega)⟩ ?_ ?_
  · intro n s h
    exact pk_le 16 16 (fun _ => cc_waits R hv h.1 h.2.1 h.2.2 H) (fun y => absurd y (by omega))
  · intro n i s hi h hw
    obtain ⟨b9, b10, b11⟩ := s
    refine pk_le 16 i (fun y => absurd y (by omega)) (fun _ => ?_)
    rw [nI_clamp (show i < 2 ^ 31 by omega)]
    exact ⟨pk_in i 16 hi, nm_e ⟨pk_in i 16 hi, nm_e ⟨pk_in i 16 hi, pk_in i 16 hi, nm_e (nm_r (nI_1 i) (hw (_, _, _) ⟨cc_fill h.1 rfl, cc_fill h.2.1 (m8 i hi), cc_fill h.2.2 rfl⟩))⟩⟩⟩
end
section
/-! the queries; L stands for cc_L X (-1) v: all values -/
theorem cc_isClaim {post : Int32 → Prop} {n : Nat} (h : n < 16) (H : post 1) : wpX_isClaim post () (nI n) :=
  br_f (nI_pos (by omega)) (pk_le 16 n (fun z => absurd z (by omega)) (fun _ => H))
theorem cc_isRule {post : Int32 → Prop} {fd fw fc : Int32} {a1 a2 a3 a4 a5 a6 a7 a8 a9 a10 a11 a12 a13 : Nat → Int32} {n : Nat} (h : n < 4) (H : post 1) : wpX_isRule post (fd, nI 4, fw, fc, a1, a2, a3, a4, a5, a6, a7, a8, a9, a10, a11, a12, a13) (nI n) :=
  br_f (nI_pos (by omega)) (pk_le 4 n (fun z => absurd z (by omega)) (fun _ => H))
theorem cc_10 : ¬ (1 : Int32) = 0 := by decide
theorem cc_refresh {post : St2 → Prop} {fd fc : Int32} {a1 a2 a3 a4 a5 a6 a7 a8 a9 a10 a11 a12 a13 : Nat → Int32} {X v : Nat → Nat} (R : cc_R 4 X a1 a2 a3 a4 a5) (m8 : cc_M 16 a8 v) (hv : ∀ x, x < 16 → v x ≤ 100)
    (Q : ¬ fc = 0 → cc_M 16 a9 (cc_L X (-1) v))
    (H : ∀ fc' b9 b10 b11 b12, cc_M 16 b9 (cc_L X (-1) v) → post (fd, nI 4, -1, fc', a1, a2, a3, a4, a5, a6, a7, a8, b9, b10, b11, b12, a13)) :
    wpX_refresh post (fd, nI 4, -1, fc, a1, a2, a3, a4, a5, a6, a7, a8, a9, a10, a11, a12, a13) :=
  br_c (fun _ => cc_settleAll R m8 hv (fun b9 b10 b11 b12 h => H 1 b9 b10 b11 b12 h)) (fun e => H fc a9 a10 a11 a12 (Q e))
theorem cc_swo {post : St2 → Prop} {fd fw fc w : Int32} {a1 a2 a3 a4 a5 a6 a7 a8 a9 a10 a11 a12 a13 : Nat → Int32} {X v : Nat → Nat} (R : cc_R 4 X a1 a2 a3 a4 a5) (m8 : cc_M 16 a8 v) (hv : ∀ x, x < 16 → v x ≤ 100)
    (H : ∀ b9 b10 b11 b12, cc_M 16 b9 (cc_L X w v) → post (fd, nI 4, -1, 0, a1, a2, a3, a4, a5, a6, a7, a8, b9, b10, b11, b12, a13)) :
    wpX_settleWithout post (fd, nI 4, fw, fc, a1, a2, a3, a4, a5, a6, a7, a8, a9, a10, a11, a12, a13) w := by
  unfold wpX_settleWithout
  exact cc_settleAll R m8 hv (fun b9 b10 b11 b12 h => H b9 b10 b11 b12 h)
theorem cc_keep {post : St2 → Prop} {fd fc : Int32} {a1 a2 a3 a4 a5 a6 a7 a8 a9 a10 a11 a12 a13 : Nat → Int32} {X v : Nat → Nat} (R : cc_R 4 X a1 a2 a3 a4 a5) (m8 : cc_M 16 a8 v) (hv : ∀ x, x < 16 → v x ≤ 100)
    (Q : ¬ fc = 0 → cc_M 16 a9 (cc_L X (-1) v))
    (H : ∀ fc' b9 b10 b11 b12 b13, cc_M 16 b9 (cc_L X (-1) v) → cc_M 16 b13 (cc_L X (-1) v) → post (fd, nI 4, -1, fc', a1, a2, a3, a4, a5, a6, a7, a8, b9, b10, b11, b12, b13)) :
    wpX_keepValues post (fd, nI 4, -1, fc, a1, a2, a3, a4, a5, a6, a7, a8, a9, a10, a11, a12, a13) := by
  unfold wpX_keepValues
  refine cc_refresh R m8 hv Q (fun fc' b9 b10 b11 b12 h9 => ?_)
  refine pk_loop (fun n i s => wX_keepValues_6 post fd (nI 4) (-1) fc' n (nI i) a1 a2 a3 a4 a5 a6 a7 a8 b9 b10 b11 b12 s) (fun i s => cc_M i s (cc_L X (-1) v)) 16 0 a13 (by omega) (fun j hj => absurd hj (by omega)) ?_ ?_
  · intro n s h
    exact pk_le 16 16 (fun _ => H _ _ _ _ _ _ h9 h) (fun y => absurd y (by omega))
  · intro n i s hi h hw
    refine pk_le 16 i (fun y => absurd y (by omega)) (fun _ => ?_)
    rw [nI_clamp (show i < 2 ^ 31 by omega)]
    exact ⟨pk_in i 16 hi, pk_in i 16 hi, nm_e (nm_r (nI_1 i) (hw _ (cc_fill h (h9 i hi))))⟩
theorem cc_changes {post : Int32 → Prop} {fd fn fw fc : Int32} {a1 a2 a3 a4 a5 a6 a7 a8 a9 a10 a11 a12 a13 : Nat → Int32} {V U : Nat → Nat} (m13 : cc_M 16 a13 V) (m9 : cc_M 16 a9 U) (hV : ∀ x, x < 16 → V x ≤ 100) (hU : ∀ x, x < 16 → U x ≤ 100)
    (H0 : (∀ c, c < 16 → U c = V c) → post (nI 0)) (H1 : ∀ k, 0 < k → k ≤ 16 → ¬ (∀ c, c < 16 → U c = V c) → post (nI k)) : wpX_changes post (fd, fn, fw, fc, a1, a2, a3, a4, a5, a6, a7, a8, a9, a10, a11, a12, a13) := by
  refine pk_loop (σ := Nat) (fun n i s => wX_changes_4 post fd fn fw fc a1 a2 a3 a4 a5 a6 a7 a8 a9 a10 a11 a12 a13 n (nI s) (nI i)) (fun i s => s ≤ i ∧ (s = 0 ↔ ∀ j, j < i → U j = V j)) 16 0 0 (by omega) ⟨by omega, ⟨fun _ j hj => absurd hj (by omega), fun _ => rfl⟩⟩ ?_ ?_
  · intro n s h
    refine pk_le 16 16 (fun _ => ?_) (fun y => absurd y (by omega))
    by_cases e : s = 0
    · rw [e]
      exact H0 (h.2.mp e)
    · exact H1 s (by omega) h.1 (fun g => e (h.2.mpr g))
  · intro n i s hi h hw
    have v1 := hV i hi
    have u1 := hU i hi
    refine pk_le 16 i (fun y => absurd y (by omega)) (fun _ => ⟨pk_in i 16 hi, pk_in i 16 hi, ?_⟩)
    refine pk_eq (V i) (U i) (fun z => nm_r (nI_1 i) (hw s ⟨by omega, ?_⟩)) (fun z => nm_r (nI_1 s) (nm_r (nI_1 i) (hw (s + 1) ⟨by omega, ?_⟩))) (cc_at m13 hi) (cc_at m9 hi)
    · constructor
      · intro e j hj
        by_cases g : j = i
        · rw [g]
          exact z.symm
        · exact h.2.mp e j (by omega)
      · intro g
        exact h.2.mpr (fun j hj => g j (by omega))
    · constructor
      · intro e
        exact absurd e (by omega)
      · intro g
        exact absurd (g i (by omega)).symm z
/-- whether rule r matters, and how many of the first n rules do -/
noncomputable def cc_d (X v : Nat → Nat) (r : Nat) : Nat := @ite Nat (∀ c, c < 16 → cc_L X (nI r) v c = cc_L X (-1) v c) (Classical.propDecidable _) 0 1
noncomputable def cc_e (X v : Nat → Nat) : Nat → Nat
  | 0 => 0
  | n + 1 => cc_e X v n + cc_d X v n
theorem cc_e_le (X v : Nat → Nat) (n : Nat) : cc_e X v n ≤ n := by
  induction n with
  | zero => exact Nat.le_refl _
  | succ n ih =>
    have h : cc_d X v n ≤ 1 := by
      unfold cc_d
      split <;> omega
    show cc_e X v n + cc_d X v n ≤ n + 1
    omega
theorem cc_e_0 {X v : Nat → Nat} {n : Nat} (h : ∀ c, c < 16 → cc_L X (nI n) v c = cc_L X (-1) v c) : cc_e X v (n + 1) = cc_e X v n := by
  show cc_e X v n + cc_d X v n = cc_e X v n
  unfold cc_d
  rw [if_pos h, Nat.add_zero]
theorem cc_e_1 {X v : Nat → Nat} {n : Nat} (h : ¬ ∀ c, c < 16 → cc_L X (nI n) v c = cc_L X (-1) v c) : cc_e X v (n + 1) = cc_e X v n + 1 := by
  show cc_e X v n + cc_d X v n = cc_e X v n + 1
  unfold cc_d
  rw [if_neg h]
theorem cc_essential {post : Int32 → St2 → Prop} {fd fc : Int32} {a1 a2 a3 a4 a5 a6 a7 a8 a9 a10 a11 a12 a13 : Nat → Int32} {X v : Nat → Nat} (R : cc_R 4 X a1 a2 a3 a4 a5) (m8 : cc_M 16 a8 v) (hv : ∀ x, x < 16 → v x ≤ 100)
    (Q : ¬ fc = 0 → cc_M 16 a9 (cc_L X (-1) v))
    (H : ∀ fc' b9 b10 b11 b12 b13, (¬ fc' = 0 → cc_M 16 b9 (cc_L X (-1) v)) → post (nI (cc_e X v 4)) (fd, nI 4, -1, fc', a1, a2, a3, a4, a5, a6, a7, a8, b9, b10, b11, b12, b13)) :
    wpX_essential post (fd, nI 4, -1, fc, a1, a2, a3, a4, a5, a6, a7, a8, a9, a10, a11, a12, a13) := by
  unfold wpX_essential
  refine cc_keep R m8 hv Q (fun fc' b9 b10 b11 b12 b13 h9 h13 => ?_)
  refine pk_loop (σ := Int32 × (Nat → Int32) × (Nat → Int32) × (Nat → Int32) × (Nat → Int32)) (fun n i s => wX_essential_8 post n (nI (cc_e X v i)) (nI i) fd (nI 4) (-1) s.1 a1 a2 a3 a4 a5 a6 a7 a8 s.2.1 s.2.2.1 s.2.2.2.1 s.2.2.2.2 b13)
    (fun i s => ¬ s.1 = 0 → cc_M 16 s.2.1 (cc_L X (-1) v)) 4 0 (fc', b9, b10, b11, b12) (by omega) (fun _ => h9) ?_ ?_
  · intro n s h
    exact pk_le 4 4 (fun _ => H _ _ _ _ _ _ h) (fun y => absurd y (by omega))
  · intro n i s hi h hw
    refine pk_le 4 i (fun y => absurd y (by omega)) (fun _ => cc_swo R m8 hv (fun c9 c10 c11 c12 g => ?_))
    have t : wX_essential_8 post n (nI (cc_e X v (i + 1))) (nI (i + 1)) fd (nI 4) (-1) 0 a1 a2 a3 a4 a5 a6 a7 a8 c9 c10 c11 c12 b13 := hw (0, c9, c10, c11, c12) (fun z => absurd rfl z)
    refine cc_changes h13 g (cc_L_100 hv) (cc_L_100 hv) (fun z => pk_le 0 0 (fun _ => nm_r (nI_1 i) ?_) (fun y => absurd y (by omega))) (fun k k0 k1 z => pk_le k 0 (fun y => absurd y (by omega)) (fun _ => nm_r (nI_1 _) (nm_r (nI_1 i) ?_)))
    · rw [cc_e_0 z] at t
      exact t
    · rw [cc_e_1 z] at t
      exact t
/-- the first of the greatest among V 8 .. V (8 + i - 1) -/
def cc_bs (V : Nat → Nat) : Nat → Nat
  | 0 => 0
  | i + 1 => if V (8 + i) ≤ V (8 + cc_bs V i) then cc_bs V i else i
theorem cc_bs_t {V : Nat → Nat} {i : Nat} (h : V (8 + i) ≤ V (8 + cc_bs V i)) : cc_bs V (i + 1) = cc_bs V i := if_pos h
theorem cc_bs_f {V : Nat → Nat} {i : Nat} (h : ¬ V (8 + i) ≤ V (8 + cc_bs V i)) : cc_bs V (i + 1) = i := if_neg h
theorem cc_bs_lt (V : Nat → Nat) (i : Nat) : cc_bs V i ≤ i := by
  induction i with
  | zero => exact Nat.le_refl _
  | succ i ih =>
    by_cases h : V (8 + i) ≤ V (8 + cc_bs V i)
    · rw [cc_bs_t h]
      omega
    · rw [cc_bs_f h]
      omega
theorem cc_bs_1 (V : Nat → Nat) : cc_bs V 1 = 0 := cc_bs_t (Nat.le_refl _)
theorem cc_bs_b (V : Nat → Nat) {i : Nat} (h : i ≤ 4) : cc_bs V i < 4 := by
  rcases Nat.lt_or_ge i 4 with z | z
  · have := cc_bs_lt V i
    omega
  · have e : i = 4 := by omega
    subst e
    have := cc_bs_lt V 3
    by_cases g : V (8 + 3) ≤ V (8 + cc_bs V 3)
    · rw [cc_bs_t g]
      omega
    · rw [cc_bs_f g]
      omega
theorem cc_strongest {post : Int32 → St2 → Prop} {fd fc : Int32} {a1 a2 a3 a4 a5 a6 a7 a8 a9 a10 a11 a12 a13 : Nat → Int32} {X v : Nat → Nat} (R : cc_R 4 X a1 a2 a3 a4 a5) (m8 : cc_M 16 a8 v) (hv : ∀ x, x < 16 → v x ≤ 100)
    (Q : ¬ fc = 0 → cc_M 16 a9 (cc_L X (-1) v))
    (H : ∀ fc' b9 b10 b11 b12, cc_M 16 b9 (cc_L X (-1) v) → post (nI (8 + cc_bs (cc_L X (-1) v) 4)) (fd, nI 4, -1, fc', a1, a2, a3, a4, a5, a6, a7, a8, b9, b10, b11, b12, a13)) :
    wpX_strongest post (fd, nI 4, -1, fc, a1, a2, a3, a4, a5, a6, a7, a8, a9, a10, a11, a12, a13) (nI 8) (nI 11) := by
  unfold wpX_strongest
  refine cc_isClaim (n := 8) (by omega) (br_f cc_10 (cc_isClaim (n := 11) (by omega) (br_f cc_10 (pk_le 8 11 (fun _ => cc_refresh R m8 hv Q (fun fc' b9 b10 b11 b12 h9 => ?_)) (fun z => absurd z (by omega))))))
  have hL := cc_L_100 (X := X) (w := -1) hv
  refine nm_r (e' := nI 9) rfl ?_
  have key : ∃ n, wX_strongest_35 post (nI 11) fd (nI 4) (-1) fc' a1 a2 a3 a4 a5 a6 a7 a8 b9 b10 b11 b12 a13 n (nI (8 + cc_bs (cc_L X (-1) v) 1)) (nI (8 + 1)) := by
    refine pk_loop (σ := Unit) (fun n i _ => wX_strongest_35 post (nI 11) fd (nI 4) (-1) fc' a1 a2 a3 a4 a5 a6 a7 a8 b9 b10 b11 b12 a13 n (nI (8 + cc_bs (cc_L X (-1) v) i)) (nI (8 + i))) (fun _ _ => True) 4 1 () (by omega) trivial ?_ ?_
    · intro n s _
      exact pk_lt 11 (8 + 4) (fun _ => H _ _ _ _ _ h9) (fun y => absurd y (by omega))
    · intro n i s hi _ hw
      have t : wX_strongest_35 post (nI 11) fd (nI 4) (-1) fc' a1 a2 a3 a4 a5 a6 a7 a8 b9 b10 b11 b12 a13 n (nI (8 + cc_bs (cc_L X (-1) v) (i + 1))) (nI (8 + i + 1)) := hw () trivial
      have bb := cc_bs_b (cc_L X (-1) v) (i := i) (by omega)
      have l1 := hL (8 + i) (by omega)
      have l2 := hL (8 + cc_bs (cc_L X (-1) v) i) (by omega)
      refine pk_lt 11 (8 + i) (fun y => absurd y (by omega)) (fun _ => ⟨pk_in (8 + i) 16 (by omega), pk_in (8 + cc_bs (cc_L X (-1) v) i) 16 (by omega), ?_⟩)
      refine pk_le (cc_L X (-1) v (8 + i)) (cc_L X (-1) v (8 + cc_bs (cc_L X (-1) v) i)) (fun z => nm_r (nI_1 _) ?_) (fun z => nm_r (nI_1 _) ?_) (cc_at h9 (by omega)) (cc_at h9 (by omega))
      · rw [cc_bs_t z] at t
        exact t
      · rw [cc_bs_f (by omega)] at t
        exact t
  rw [cc_bs_1] at key
  exact key
/-- how many of the first n values are at least 50 -/
def cc_al (V : Nat → Nat) : Nat → Nat
  | 0 => 0
  | i + 1 => cc_al V i + (if V i < 50 then 0 else 1)
theorem cc_al_t {V : Nat → Nat} {i : Nat} (h : V i < 50) : cc_al V (i + 1) = cc_al V i := by
  show cc_al V i + (if V i < 50 then 0 else 1) = cc_al V i
  rw [if_pos h, Nat.add_zero]
theorem cc_al_f {V : Nat → Nat} {i : Nat} (h : ¬ V i < 50) : cc_al V (i + 1) = cc_al V i + 1 := by
  show cc_al V i + (if V i < 50 then 0 else 1) = cc_al V i + 1
  rw [if_neg h]
theorem cc_al_le (V : Nat → Nat) (i : Nat) : cc_al V i ≤ i := by
  induction i with
  | zero => exact Nat.le_refl _
  | succ i ih =>
    by_cases h : V i < 50
    · rw [cc_al_t h]
      omega
    · rw [cc_al_f h]
      omega
theorem cc_al_low {V : Nat → Nat} {i : Nat} (h : ∀ c, c < i → V c = 0) : cc_al V i = 0 := by
  induction i with
  | zero => rfl
  | succ i ih =>
    rw [cc_al_t (by rw [h i (by omega)]; omega)]
    exact ih (fun c hc => h c (by omega))
theorem cc_al_16 {V : Nat → Nat} (h : ∀ c, 12 ≤ c → c < 16 → V c = 0) : cc_al V 16 = cc_al V 12 := by
  rw [cc_al_t (i := 15) (by rw [h 15 (by omega) (by omega)]; omega), cc_al_t (i := 14) (by rw [h 14 (by omega) (by omega)]; omega),
    cc_al_t (i := 13) (by rw [h 13 (by omega) (by omega)]; omega), cc_al_t (i := 12) (by rw [h 12 (by omega) (by omega)]; omega)]
theorem cc_atLeast {post : Int32 → St2 → Prop} {fd fc : Int32} {a1 a2 a3 a4 a5 a6 a7 a8 a9 a10 a11 a12 a13 : Nat → Int32} {X v : Nat → Nat} (R : cc_R 4 X a1 a2 a3 a4 a5) (m8 : cc_M 16 a8 v) (hv : ∀ x, x < 16 → v x ≤ 100)
    (Q : ¬ fc = 0 → cc_M 16 a9 (cc_L X (-1) v))
    (H : ∀ fc' b9 b10 b11 b12, cc_M 16 b9 (cc_L X (-1) v) → post (nI (cc_al (cc_L X (-1) v) 16)) (fd, nI 4, -1, fc', a1, a2, a3, a4, a5, a6, a7, a8, b9, b10, b11, b12, a13)) :
    wpX_atLeast post (fd, nI 4, -1, fc, a1, a2, a3, a4, a5, a6, a7, a8, a9, a10, a11, a12, a13) (nI 50) := by
  unfold wpX_atLeast
  refine cc_refresh R m8 hv Q (fun fc' b9 b10 b11 b12 h9 => ?_)
  have hL := cc_L_100 (X := X) (w := -1) hv
  refine pk_loop (σ := Unit) (fun n i _ => wX_atLeast_8 post (nI 50) fd (nI 4) (-1) fc' a1 a2 a3 a4 a5 a6 a7 a8 b9 b10 b11 b12 a13 n (nI (cc_al (cc_L X (-1) v) i)) (nI i)) (fun _ _ => True) 16 0 () (by omega) trivial ?_ ?_
  · intro n s _
    exact pk_le 16 16 (fun _ => H _ _ _ _ _ h9) (fun y => absurd y (by omega))
  · intro n i s hi _ hw
    have t : wX_atLeast_8 post (nI 50) fd (nI 4) (-1) fc' a1 a2 a3 a4 a5 a6 a7 a8 b9 b10 b11 b12 a13 n (nI (cc_al (cc_L X (-1) v) (i + 1))) (nI (i + 1)) := hw () trivial
    have l1 := hL i hi
    refine pk_le 16 i (fun y => absurd y (by omega)) (fun _ => ⟨pk_in i 16 hi, ?_⟩)
    refine pk_lt (cc_L X (-1) v i) 50 (fun z => nm_r (nI_1 i) ?_) (fun z => nm_r (nI_1 _) (nm_r (nI_1 i) ?_)) (cc_at h9 hi) rfl
    · rw [cc_al_t z] at t
      exact t
    · rw [cc_al_f (by omega)] at t
      exact t
theorem cc_certainty {post : Int32 → St2 → Prop} {fd fc : Int32} {a1 a2 a3 a4 a5 a6 a7 a8 a9 a10 a11 a12 a13 : Nat → Int32} {X v : Nat → Nat} {n : Nat} (R : cc_R 4 X a1 a2 a3 a4 a5) (m8 : cc_M 16 a8 v) (hv : ∀ x, x < 16 → v x ≤ 100)
    (Q : ¬ fc = 0 → cc_M 16 a9 (cc_L X (-1) v)) (hn : n < 16)
    (H : ∀ fc' b9 b10 b11 b12, cc_M 16 b9 (cc_L X (-1) v) → post (nI (cc_L X (-1) v n)) (fd, nI 4, -1, fc', a1, a2, a3, a4, a5, a6, a7, a8, b9, b10, b11, b12, a13)) :
    wpX_certainty post (fd, nI 4, -1, fc, a1, a2, a3, a4, a5, a6, a7, a8, a9, a10, a11, a12, a13) (nI n) := by
  unfold wpX_certainty
  refine cc_isClaim hn (br_f cc_10 (cc_refresh R m8 hv Q (fun fc' b9 b10 b11 b12 h9 => ⟨pk_in n 16 hn, ?_⟩)))
  rw [cc_at h9 hn]
  exact H _ _ _ _ _ h9
theorem cc_without {post : Int32 → St2 → Prop} {fd fw fc : Int32} {a1 a2 a3 a4 a5 a6 a7 a8 a9 a10 a11 a12 a13 : Nat → Int32} {X v : Nat → Nat} {n r : Nat} (R : cc_R 4 X a1 a2 a3 a4 a5) (m8 : cc_M 16 a8 v) (hv : ∀ x, x < 16 → v x ≤ 100) (hn : n < 16) (hr : r < 4)
    (H : ∀ b9 b10 b11 b12, post (nI (cc_L X (nI r) v n)) (fd, nI 4, -1, 0, a1, a2, a3, a4, a5, a6, a7, a8, b9, b10, b11, b12, a13)) :
    wpX_without post (fd, nI 4, fw, fc, a1, a2, a3, a4, a5, a6, a7, a8, a9, a10, a11, a12, a13) (nI n) (nI r) := by
  unfold wpX_without
  refine cc_isClaim hn (br_f cc_10 (cc_isRule hr (br_f cc_10 (cc_swo R m8 hv (fun b9 b10 b11 b12 h9 => ⟨pk_in n 16 hn, ?_⟩)))))
  rw [cc_at h9 hn]
  exact H _ _ _ _
theorem cc_whatIf {post : Int32 → St2 → Prop} {fd fc : Int32} {a1 a2 a3 a4 a5 a6 a7 a8 a9 a10 a11 a12 a13 : Nat → Int32} {X v : Nat → Nat} {n k : Nat} (R : cc_R 4 X a1 a2 a3 a4 a5) (m8 : cc_M 16 a8 v) (hv : ∀ x, x < 16 → v x ≤ 100) (hn : n < 16) (hk : k < 16)
    (H : ∀ b8 b9 b10 b11 b12, post (nI (cc_L X (-1) v n)) (fd, nI 4, -1, 0, a1, a2, a3, a4, a5, a6, a7, b8, b9, b10, b11, b12, a13)) :
    wpX_whatIf post (fd, nI 4, -1, fc, a1, a2, a3, a4, a5, a6, a7, a8, a9, a10, a11, a12, a13) (nI n) (nI k) (nI (v k)) := by
  have vk := hv k hk
  have m8' : cc_M 16 (upd a8 k (nI (v k))) v := by
    intro c hc
    by_cases e : c = k
    · rw [e, pk_us]
    · rw [pk_un e]
      exact m8 c hc
  unfold wpX_whatIf
  refine cc_isClaim hn (br_f cc_10 (cc_isClaim hk (br_f cc_10 (br_f (nI_pos (by omega)) (pk_le (v k) 100 (fun _ => ?_) (fun z => absurd z (by omega)))))))
  rw [nI_clamp (show k < 2 ^ 31 by omega)]
  refine ⟨pk_in k 16 hk, nm_e ⟨pk_in k 16 hk, nm_e (cc_settleAll R m8' hv (fun b9 b10 b11 b12 h9 => ⟨pk_in k 16 hk, nm_e ⟨pk_in n 16 hn, ?_⟩⟩))⟩⟩
  rw [cc_at h9 hn]
  exact H _ _ _ _ _
end
section
/-! the law's own helpers, and the calls that build the rules -/
theorem cc_f2 {n : Nat} (h : n < 4096) : (nI n >>> ((2 : Int32) &&& 31)) &&& 3 = nI (n / 4 % 4) := by
  rw [pk_shrN (by omega) _ 2 (by decide)]
  exact pk_andN (by omega) 2 (by decide)
theorem cc_f4 {n : Nat} (h : n < 4096) : (nI n >>> ((4 : Int32) &&& 31)) &&& 3 = nI (n / 16 % 4) := by
  rw [pk_shrN (by omega) _ 4 (by decide)]
  exact pk_andN (by omega) 2 (by decide)
theorem cc_f0 {n : Nat} (h : n < 4096) : nI n &&& 3 = nI (n % 4) := pk_andN (by omega) 2 (by decide)
theorem cc_f6 {n : Nat} (h : n < 4096) : (nI n >>> ((6 : Int32) &&& 31)) &&& 63 = nI (n / 64 % 64) := by
  rw [pk_shrN (by omega) _ 6 (by decide)]
  exact pk_andN (by omega) 6 (by decide)
theorem cc_strength {post : Int32 → Prop} {n : Nat} (h : n < 4096) (H : post (nI (40 + n / 64 % 64 % 61))) : wpL_strength post () (nI n) := by
  refine And.intro (by decide) ?_
  rw [cc_f6 h, show (61 : Int32) = nI 61 from rfl, pk_rem (by omega) (by omega) (by omega), show (40 : Int32) = nI 40 from rfl, nI_add]
  exact H
/-- the four parts of the rules -/
def cc_X (p q : Int32) (X : Nat → Nat) : Prop := ∀ r, r < 4 → X r < 4096 ∧ ∀ post : Int32 → Prop, post (nI (X r)) → wpL_part post () p q (nI r)
theorem cc_parts (p q : Int32) : ∃ X : Nat → Nat, cc_X p q X := by
  refine ⟨fun r => if r < 2 then (p >>> ((12 * nI r) &&& 31)).toBitVec.toNat % 2 ^ 12 else (q >>> (((12 * nI r) - 24) &&& 31)).toBitVec.toNat % 2 ^ 12, ?_⟩
  intro r hr
  by_cases e : r < 2
  · refine ⟨?_, fun post H => pk_le 2 r (fun z => absurd z (by omega)) (fun _ => ?_)⟩
    · try dsimp only
      rw [if_pos e]
      exact Nat.mod_lt _ (by decide)
    · try dsimp only at H
      rw [if_pos e] at H
      rw [pk_and _ (m := 4095) 12 (by decide)]
      exact H
  · refine ⟨?_, fun post H => pk_le 2 r (fun _ => ?_) (fun z => absurd z (by omega))⟩
    · try dsimp only
      rw [if_neg e]
      exact Nat.mod_lt _ (by decide)
    · try dsimp only at H
      rw [if_neg e] at H
      rw [pk_and _ (m := 4095) 12 (by decide)]
      exact H
theorem cc_r69 {post : Int32 → Prop} {J6 : Int32 → Int32 → Prop} {p q w x : Int32} {X U : Nat → Nat} {i m : Nat} (hi : i < 4) (hX : X i < 4096) (hU : ∀ c, c < 16 → U c ≤ 100) (hx : cc_PK x U)
    (hm : m = min (U (cc_p X i)) (U (cc_q X i))) (H : ∀ y, cc_PK y (cc_one X w U i) → J6 y (nI (i + 1))) :
    wL_raised_69 post J6 p q w x (nI i) (nI (X i)) (nI m) := by
  have bp := cc_pb X i
  have bq := cc_qb X i
  have bs := cc_sb X i
  have bh := cc_hb X i
  have up := hU (cc_p X i) (by omega)
  have uh := hU (cc_h X i) (by omega)
  have wt : m * cc_s X i / 100 = cc_wt X U i := by rw [hm]; rfl
  have lm : m * cc_s X i ≤ 100 * 100 := Nat.mul_le_mul (by omega) (by omega)
  have wl := Nat.le_trans (cc_wt_p X U i) up
  have hm4 : X i % 4 < 4 := by omega
  unfold wL_raised_69
  refine cc_strength hX ⟨by decide, nm_r (e' := nI (cc_wt X U i)) ?_ (nm_r (e' := 8 * nI (X i % 4)) ?_ (br_c (fun e => nm_r (nI_1 i) (H x ?_)) (fun e => ?_)))⟩
  · rw [show (100 : Int32) = nI 100 from rfl, pk_mul, pk_div (by exact Nat.lt_of_le_of_lt lm (by decide)) (by omega) (by omega)]
    exact congrArg nI wt
  · rw [cc_f0 hX]
  · rw [cc_one_no (fun g => g.1 e)]
    exact hx
  · refine pk_le (cc_wt X U i) (U (cc_h X i)) (fun z => nm_r (nI_1 i) (H x ?_)) (fun z => nm_e (nm_r (nI_1 i) (H _ ?_))) rfl (cc_get hx hm4 (show U (cc_h X i) < 128 by omega))
    · rw [cc_one_no (fun g => absurd g.2 (Nat.not_lt.mpr z))]
      exact hx
    · rw [cc_one_yes ⟨e, z⟩]
      exact cc_set hx hm4 (show U (cc_h X i) < 128 by omega) (by omega)
theorem cc_raised {post : Int32 → Prop} {p q w x : Int32} {X V : Nat → Nat} (hX : cc_X p q X) (hV : ∀ c, c < 16 → V c ≤ 100) (hx : cc_PK x V) (H : ∀ y, cc_PK y (cc_sw X w V 4) → post y) :
    wpL_raised post () x p q w := by
  refine pk_loop (fun n i s => wL_raised_6 post p q w n s (nI i)) (fun i s => cc_PK s (cc_sw X w V i)) 4 0 x (by omega) hx ?_ ?_
  · intro n s h
    exact pk_le 4 4 (fun _ => H s h) (fun y => absurd y (by omega))
  · intro n i s hi h hw
    have hU := cc_sw_100 (X := X) (w := w) hV (n := i) (by omega)
    have bp := cc_pb X i
    have bq := cc_qb X i
    have hp := hU (cc_p X i) (by omega)
    have hq := hU (cc_q X i) (by omega)
    obtain ⟨h12, hpart⟩ := hX i hi
    have ep : (s >>> ((8 * ((nI (X i) >>> ((2 : Int32) &&& 31)) &&& 3)) &&& 31)) &&& 127 = nI (cc_sw X w V i (cc_p X i)) := by
      rw [cc_f2 h12]
      exact cc_get h (Nat.mod_lt _ (by decide)) (show cc_sw X w V i (cc_p X i) < 128 by omega)
    have ew : (s >>> ((8 * ((nI (X i) >>> ((4 : Int32) &&& 31)) &&& 3)) &&& 31)) &&& 127 = nI (cc_sw X w V i (cc_q X i)) := by
      rw [cc_f4 h12]
      exact cc_get h (Nat.mod_lt _ (by decide)) (show cc_sw X w V i (cc_q X i) < 128 by omega)
    refine pk_le 4 i (fun y => absurd y (by omega)) (fun _ => hpart _ (nm_r ep (nm_r ew (pk_le (cc_sw X w V i (cc_q X i)) (cc_sw X w V i (cc_p X i)) (fun z => ?_) (fun z => ?_)))))
    · exact cc_r69 hi h12 hU h (by omega) (fun y hy => hw y hy)
    · exact cc_r69 hi h12 hU h (by omega) (fun y hy => hw y hy)
theorem cc_least {post : Int32 → Prop} {p q w x : Int32} {X V : Nat → Nat} (hX : cc_X p q X) (hV : ∀ c, c < 16 → V c ≤ 100) (hx : cc_PK x V) (H : ∀ y, cc_PK y (cc_L X w V) → post y) :
    wpL_least post () x p q w := by
  refine pk_loop (fun n i s => wL_least_6 post p q w n s (nI i)) (fun i s => cc_PK s (cc_it X w V i)) 8 0 x (by omega) hx ?_ ?_
  · intro n s h
    exact pk_le 8 8 (fun _ => H s h) (fun y => absurd y (by omega))
  · intro n i s hi h hw
    exact pk_le 8 i (fun y => absurd y (by omega)) (fun _ => cc_raised hX (cc_it_100 hV i) h (fun y hy => nm_r (nI_1 i) (hw y hy)))
theorem cc_observe {post : Int32 → St2 → Prop} {fd fn fw fc : Int32} {a1 a2 a3 a4 a5 a6 a7 a8 a9 a10 a11 a12 a13 : Nat → Int32} {n z : Nat} (hn : n < 16) (hz : z ≤ 100)
    (H : ∀ r, post r (fd, fn, fw, 0, a1, a2, a3, a4, a5, a6, a7, upd a8 n (nI z), a9, a10, a11, a12, a13)) : wpX_observe post (fd, fn, fw, fc, a1, a2, a3, a4, a5, a6, a7, a8, a9, a10, a11, a12, a13) (nI n) (nI z) := by
  unfold wpX_observe
  refine cc_isClaim hn (br_f cc_10 (br_f (nI_pos (by omega)) (pk_le z 100 (fun _ => ?_) (fun y => absurd y (by omega)))))
  rw [nI_clamp (show n < 2 ^ 31 by omega)]
  exact ⟨pk_in n 16 hn, nm_e ⟨pk_in n 16 hn, nm_e (H _)⟩⟩
theorem cc_premise {post : Int32 → St2 → Prop} {fn fw fc : Int32} {a1 a2 a3 a4 a5 a6 a7 a8 a9 a10 a11 a12 a13 : Nat → Int32} {n k : Nat} (hn : n < 16) (hk : k < 3)
    (H : post (nI (k + 1)) (nI (k + 1), fn, fw, fc, a1, a2, a3, a4, a5, upd a6 k (nI n), upd a7 k (nI 0), a8, a9, a10, a11, a12, a13)) : wpX_premise post (nI k, fn, fw, fc, a1, a2, a3, a4, a5, a6, a7, a8, a9, a10, a11, a12, a13) (nI n) 0 := by
  unfold wpX_premise
  refine cc_isClaim hn (br_f cc_10 (pk_eq k 3 (fun y => absurd y (by omega)) (fun _ => ?_)))
  rw [nI_clamp (show k < 2 ^ 31 by omega)]
  refine ⟨pk_in k 3 hk, nm_e (br_t rfl ?_)⟩
  unfold wX_premise_47
  rw [nI_clamp (show k < 2 ^ 31 by omega), show vp_nar .boolean 0 = nI 0 from rfl]
  exact ⟨pk_in k 3 hk, nm_e (nm_r (nI_1 k) H)⟩
theorem cc_124_step {post : Int32 → St2 → Prop} {fw fc : Int32} {a1 a2 a3 a4 a5 a6 a7 a8 a9 a10 a11 a12 a13 : Nat → Int32} {i k u n : Nat} (hi : i < 20) (hk : k < 2) (h6 : a6 k = nI u) (h7 : a7 k = nI 0)
    (H : wX_rule_124 post (nI 2) (nI i) fw fc n (nI (k + 1)) a1 a2 a3 (upd a4 (3 * i + k) (nI u)) (upd a5 (3 * i + k) (nI 0)) a6 a7 a8 a9 a10 a11 a12 a13) :
    wX_rule_124 post (nI 2) (nI i) fw fc (n + 1) (nI k) a1 a2 a3 a4 a5 a6 a7 a8 a9 a10 a11 a12 a13 := by
  refine pk_le 2 k (fun y => absurd y (by omega)) (fun _ => ?_)
  rw [cc_3, nI_clamp (show 3 * i + k < 2 ^ 31 by omega), nI_clamp (show k < 2 ^ 31 by omega), h6, h7, show vp_nar .boolean (nI 0) = nI 0 from rfl]
  exact ⟨pk_in k 3 (by omega), pk_in (3 * i + k) 60 (by omega), nm_e ⟨pk_in k 3 (by omega), pk_in (3 * i + k) 60 (by omega), nm_e (nm_r (nI_1 k) H)⟩⟩
theorem cc_25_step {post : Int32 → St2 → Prop} {fn fw fc x2 : Int32} {a1 a2 a3 a4 a5 a6 a7 a8 a9 a10 a11 a12 a13 : Nat → Int32} {h k u n : Nat} (hk : k < 2) (hh : h / 4 = 2) (hu : u / 4 = 2) (h6 : a6 k = nI u) (h7 : a7 k = nI 0)
    (H : wX_rule_25 post (nI h) x2 (nI 2) fn fw fc a1 a2 a3 a4 a5 a6 a7 a8 a9 a10 a11 a12 a13 n (nI (k + 1))) :
    wX_rule_25 post (nI h) x2 (nI 2) fn fw fc a1 a2 a3 a4 a5 a6 a7 a8 a9 a10 a11 a12 a13 (n + 1) (nI k) := by
  have s2 : ∀ m, m / 4 = 2 → nI m >>> ((2 : Int32) &&& 31) = nI 2 := by
    intro m hm
    rw [pk_shrN (by omega) _ 2 (by decide)]
    exact congrArg nI hm
  refine pk_le 2 k (fun y => absurd y (by omega)) (fun _ => ⟨pk_in k 3 (by omega), br_t (by rw [nI_clamp (by omega)]; exact h7) ?_⟩)
  refine And.intro (pk_in k 3 (by omega)) (pk_le 2 2 (fun _ => nm_r (nI_1 k) H) (fun y => absurd y (by omega)) (by rw [nI_clamp (by omega), h6]; exact s2 u hu) (s2 h hh))
theorem cc_rule {post : Int32 → St2 → Prop} {fw fc : Int32} {a1 a2 a3 a4 a5 a6 a7 a8 a9 a10 a11 a12 a13 : Nat → Int32} {X : Nat → Nat} {i : Nat} (R : cc_R i X a1 a2 a3 a4 a5) (hi : i < 4)
    (h6 : a6 0 = nI (cc_p X i)) (h6' : a6 1 = nI (cc_q X i)) (h7 : a7 0 = nI 0) (h7' : a7 1 = nI 0)
    (H : ∀ b1 b2 b3 b4 b5, cc_R (i + 1) X b1 b2 b3 b4 b5 → post (nI i) (0, nI (i + 1), fw, 0, b1, b2, b3, b4, b5, a6, a7, a8, a9, a10, a11, a12, a13)) :
    wpX_rule post (nI 2, nI i, fw, fc, a1, a2, a3, a4, a5, a6, a7, a8, a9, a10, a11, a12, a13) (nI (cc_h X i)) (nI (cc_s X i)) := by
  have bp := cc_pb X i
  have bq := cc_qb X i
  have bs := cc_sb X i
  have bh := cc_hb X i
  unfold wpX_rule
  refine cc_isClaim (by omega) (br_f cc_10 (br_f (nI_nlt (b := 1) (by omega) (by omega)) (pk_le (cc_s X i) 100 (fun _ => ⟨3, ?_⟩) (fun y => absurd y (by omega)))))
  refine cc_25_step (k := 0) (u := cc_p X i) (by omega) (by omega) (by omega) h6 h7 ?_
  refine cc_25_step (k := 1) (u := cc_q X i) (by omega) (by omega) (by omega) h6' h7' ?_
  refine pk_le 2 2 (fun _ => pk_eq i 20 (fun y => absurd y (by omega)) (fun _ => ?_)) (fun y => absurd y (by omega))
  rw [nI_clamp (show i < 2 ^ 31 by omega)]
  refine ⟨pk_in i 20 (by omega), nm_e ⟨pk_in i 20 (by omega), nm_e ⟨pk_in i 20 (by omega), nm_e ⟨3, ?_⟩⟩⟩⟩
  refine cc_124_step (k := 0) (u := cc_p X i) (by omega) (by omega) h6 h7 ?_
  refine cc_124_step (k := 1) (u := cc_q X i) (by omega) (by omega) h6' h7' ?_
  refine pk_le 2 2 (fun _ => nm_r (nI_1 i) ?_) (fun y => absurd y (by omega))
  rw [nI_pred i]
  refine H _ _ _ _ _ ?_
  intro r hr
  by_cases e : r = i
  · subst e
    rw [pk_us, pk_us, pk_us, pk_us, pk_us, pk_un (show 3 * r ≠ 3 * r + 1 by omega), pk_un (show 3 * r ≠ 3 * r + 1 by omega)]
    exact ⟨rfl, rfl, rfl, pk_us, rfl, pk_us, rfl⟩
  · rw [pk_un e, pk_un e, pk_un e, pk_un (by omega), pk_un (by omega), pk_un (by omega), pk_un (by omega), pk_un (by omega), pk_un (by omega), pk_un (by omega), pk_un (by omega)]
    exact R r (by omega)
end
section
/-! the loops of lawOf, from the last to the first -/
theorem cc_ext16 {X v : Nat → Nat} {w w' : Int32} : (∀ j, j < 4 → cc_L X w v (8 + j) = cc_L X w' v (8 + j)) ↔ ∀ c, c < 16 → cc_L X w v c = cc_L X w' v c := by
  constructor
  · intro h c hc
    by_cases g : c < 8 ∨ 12 ≤ c
    · rw [cc_L_out g, cc_L_out g]
    · have a := h (c - 8) (by omega)
      rw [show 8 + (c - 8) = c by omega] at a
      exact a
  · intro h j hj
    exact h (8 + j) (by omega)
theorem cc_222 {post : Int32 → St0 → Prop} {mc ms kc ks : Nat} {x5 x6 x9 : Int32} {a1 a2 a3 a4 a5 a6 a7 a8 a9 a10 a11 a12 a13 : Nat → Int32} {X v : Nat → Nat} {d : Nat} (R : cc_R 4 X a1 a2 a3 a4 a5) (m8 : cc_M 16 a8 v) (hv : ∀ x, x < 16 → v x ≤ 100)
    (hz : ∀ c, c < 16 → (c < 8 ∨ 12 ≤ c) → v c = 0) (hd : d < 4) (p5 : cc_PK x5 v) (p6 : cc_PK x6 (cc_L X (-1) v)) (p9 : cc_PK x9 (cc_L X (nI d) v)) (H : post 1 ()) :
    ∃ n, wL_lawOf_222 post mc ms x5 x6 (nI (cc_e X v 4)) (nI d) x9 kc ks n 0 0 0 0 (nI 4) (-1) 0 a1 a2 a3 a4 a5 a6 a7 a8 a9 a10 a11 a12 a13 := by
  have hL := cc_L_100 (X := X) (w := -1) hv
  have hK := cc_L_100 (X := X) (w := nI d) hv
  have z8 : cc_al (cc_L X (-1) v) (8 + 0) = 0 := cc_al_low (fun c hc => (cc_L_out (Or.inl hc)).trans (hz c (by omega) (Or.inl hc)))
  have key : ∃ n, wL_lawOf_222 post mc ms x5 x6 (nI (cc_e X v 4)) (nI d) x9 kc ks n (nI (cc_bs (cc_L X (-1) v) 0)) (nI (cc_al (cc_L X (-1) v) (8 + 0))) (nI 0) 0 (nI 4) (-1) 0 a1 a2 a3 a4 a5 a6 a7 a8 a9 a10 a11 a12 a13 := by
    refine pk_loop (σ := Int32 × (Nat → Int32) × (Nat → Int32) × (Nat → Int32) × (Nat → Int32))
      (fun n i s => wL_lawOf_222 post mc ms x5 x6 (nI (cc_e X v 4)) (nI d) x9 kc ks n (nI (cc_bs (cc_L X (-1) v) i)) (nI (cc_al (cc_L X (-1) v) (8 + i))) (nI i) 0 (nI 4) (-1) s.1 a1 a2 a3 a4 a5 a6 a7 a8 s.2.1 s.2.2.1 s.2.2.2.1 s.2.2.2.2 a13)
      (fun i s => ¬ s.1 = 0 → cc_M 16 s.2.1 (cc_L X (-1) v)) 4 0 (0, a9, a10, a11, a12) (by omega) (fun z => absurd rfl z) ?_ ?_
    · intro n s h
      refine pk_le 4 4 (fun _ => cc_essential R m8 hv h (fun fc' b9 b10 b11 b12 b13 Q => br_t rfl ?_)) (fun y => absurd y (by omega))
      refine cc_strongest R m8 hv Q (fun fc'' c9 c10 c11 c12 h9 => br_t (nI_add 8 _).symm ?_)
      refine cc_atLeast R m8 hv (fun _ => h9) (fun fc3 e9 e10 e11 e12 g9 => br_t (congrArg nI (cc_al_16 (fun c c12 c16 => (cc_L_out (Or.inr c12)).trans (hz c c16 (Or.inr c12))))) ?_)
      have v8 := hv 8 (by omega)
      have l9 := hL 9 (by omega)
      rw [cc_get0 p5 (by omega)]
      exact cc_whatIf (n := 9) (k := 8) R m8 hv (by omega) (by omega) (fun b8 f9 f10 f11 f12 => br_t (cc_getN (j := 1) p6 (by omega) (by exact Nat.lt_of_le_of_lt l9 (by decide))).symm H)
    · intro n i s hi h hw
      have l1 := hL (8 + i) (by omega)
      have k1 := hK (8 + i) (by omega)
      have bb := cc_bs_b (cc_L X (-1) v) (i := i) (by omega)
      have l2 := hL (8 + cc_bs (cc_L X (-1) v) i) (by omega)
      have e8 : (8 : Int32) + nI i = nI (8 + i) := nI_add 8 i
      refine pk_le 4 i (fun y => absurd y (by omega)) (fun _ => nm_r (cc_get p6 hi (by omega)) ?_)
      rw [e8]
      refine cc_certainty R m8 hv h (by omega) (fun fc' b9 b10 b11 b12 h9 => br_t rfl ?_)
      refine cc_without R m8 hv (by omega) hd (fun c9 c10 c11 c12 => br_t (cc_get p9 hi (by omega)).symm ?_)
      have t : wL_lawOf_222 post mc ms x5 x6 (nI (cc_e X v 4)) (nI d) x9 kc ks n (nI (cc_bs (cc_L X (-1) v) (i + 1))) (nI (cc_al (cc_L X (-1) v) (8 + i + 1))) (nI (i + 1)) 0 (nI 4) (-1) 0 a1 a2 a3 a4 a5 a6 a7 a8 c9 c10 c11 c12 a13 := hw (0, c9, c10, c11, c12) (fun z => absurd rfl z)
      refine pk_le (cc_L X (-1) v (8 + i)) (cc_L X (-1) v (8 + cc_bs (cc_L X (-1) v) i)) (fun z => ?_) (fun z => ?_) rfl (cc_get p6 bb (by omega))
      · rw [cc_bs_t z] at t
        refine pk_lt (cc_L X (-1) v (8 + i)) 50 (fun y => nm_r (nI_1 i) ?_) (fun y => nm_r (nI_1 _) (nm_r (nI_1 i) ?_))
        · rw [cc_al_t y] at t
          exact t
        · rw [cc_al_f (by omega)] at t
          exact t
      · rw [cc_bs_f (by omega)] at t
        refine pk_lt (cc_L X (-1) v (8 + i)) 50 (fun y => nm_r (nI_1 i) ?_) (fun y => nm_r (nI_1 _) (nm_r (nI_1 i) ?_))
        · rw [cc_al_t y] at t
          exact t
        · rw [cc_al_f (by omega)] at t
          exact t
  rw [z8] at key
  exact key
theorem cc_168 {post : Int32 → St0 → Prop} {mc ms kc ks : Nat} {x0 x1 x3 x5 x6 : Int32} {a1 a2 a3 a4 a5 a6 a7 a8 a9 a10 a11 a12 a13 : Nat → Int32} {X v : Nat → Nat} (hX : cc_X x0 x1 X) (R : cc_R 4 X a1 a2 a3 a4 a5) (m8 : cc_M 16 a8 v) (hv : ∀ x, x < 16 → v x ≤ 100)
    (hz : ∀ c, c < 16 → (c < 8 ∨ 12 ≤ c) → v c = 0) (p5 : cc_PK x5 v) (p6 : cc_PK x6 (cc_L X (-1) v)) (H : post 1 ()) :
    ∃ n, wL_lawOf_168 post mc ms x0 x1 x3 x5 x6 kc ks 0 (nI 4) (-1) 0 a1 a2 a3 a4 a5 a6 a7 a8 a9 a10 a11 a12 a13 n 0 0 := by
  refine pk_loop (σ := Unit) (fun n i _ => wL_lawOf_168 post mc ms x0 x1 x3 x5 x6 kc ks 0 (nI 4) (-1) 0 a1 a2 a3 a4 a5 a6 a7 a8 a9 a10 a11 a12 a13 n (nI (cc_e X v i)) (nI i)) (fun _ _ => True) 4 0 () (by omega) trivial ?_ ?_
  · intro n s _
    obtain ⟨d, hd, e⟩ := pk_andE x3 2 (m := 3) (by decide)
    exact pk_le 4 4 (fun _ => nm_r e (cc_least hX hv p5 (fun y hy => cc_222 R m8 hv hz hd p5 p6 hy H))) (fun y => absurd y (by omega))
  · intro n i s hi _ hw
    have t : wL_lawOf_168 post mc ms x0 x1 x3 x5 x6 kc ks 0 (nI 4) (-1) 0 a1 a2 a3 a4 a5 a6 a7 a8 a9 a10 a11 a12 a13 n (nI (cc_e X v (i + 1))) (nI (i + 1)) := hw () trivial
    have b1 : ∀ (w : Int32) (j : Nat), j < 4 → cc_L X w v (8 + j) < 128 := fun w j hj => by
      have := cc_L_100 (X := X) (w := w) hv (8 + j) (by omega)
      omega
    refine pk_le 4 i (fun y => absurd y (by omega)) (fun _ => cc_least hX hv p5 (fun y hy => ?_))
    have q := (cc_pk_eq hy p6 (b1 _) (b1 _)).trans cc_ext16
    refine br_c (fun e => nm_r (nI_1 i) ?_) (fun e => nm_r (nI_1 _) (nm_r (nI_1 i) ?_))
    · rw [cc_e_0 (q.mp e)] at t
      exact t
    · rw [cc_e_1 (fun g => e (q.mpr g))] at t
      exact t
theorem cc_71 {post : Int32 → St0 → Prop} {mc ms kc ks : Nat} {x0 x1 x3 x5 : Int32} {a1 a2 a3 a4 a5 a6 a7 a8 a9 a10 a11 a12 a13 : Nat → Int32} {X v : Nat → Nat} (hX : cc_X x0 x1 X) (m8 : cc_M 16 a8 v) (hv : ∀ x, x < 16 → v x ≤ 100)
    (hz : ∀ c, c < 16 → (c < 8 ∨ 12 ≤ c) → v c = 0) (p5 : cc_PK x5 v) (H : post 1 ()) :
    ∃ n, wL_lawOf_71 post mc ms x0 x1 x3 x5 kc ks n 0 0 0 (-1) 0 a1 a2 a3 a4 a5 a6 a7 a8 a9 a10 a11 a12 a13 := by
  refine pk_loop (σ := (Nat → Int32) × (Nat → Int32) × (Nat → Int32) × (Nat → Int32) × (Nat → Int32) × (Nat → Int32) × (Nat → Int32))
    (fun n i s => wL_lawOf_71 post mc ms x0 x1 x3 x5 kc ks n (nI i) 0 (nI i) (-1) 0 s.1 s.2.1 s.2.2.1 s.2.2.2.1 s.2.2.2.2.1 s.2.2.2.2.2.1 s.2.2.2.2.2.2 a8 a9 a10 a11 a12 a13)
    (fun i s => cc_R i X s.1 s.2.1 s.2.2.1 s.2.2.2.1 s.2.2.2.2.1) 4 0 (a1, a2, a3, a4, a5, a6, a7) (by omega) (fun r hr => absurd hr (by omega)) ?_ ?_
  · intro n s h
    exact pk_le 4 4 (fun _ => cc_least hX hv p5 (fun y hy => cc_168 hX h m8 hv hz p5 hy H)) (fun y => absurd y (by omega))
  · intro n i s hi h hw
    obtain ⟨b1, b2, b3, b4, b5, b6, b7⟩ := s
    obtain ⟨h12, hpart⟩ := hX i hi
    have bp := cc_pb X i
    have bq := cc_qb X i
    have e1 : (8 : Int32) + ((nI (X i) >>> ((2 : Int32) &&& 31)) &&& 3) = nI (cc_p X i) := by
      rw [cc_f2 h12]
      exact nI_add 8 _
    have e2 : (8 : Int32) + ((nI (X i) >>> ((4 : Int32) &&& 31)) &&& 3) = nI (cc_q X i) := by
      rw [cc_f4 h12]
      exact nI_add 8 _
    have e3 : (8 : Int32) + (nI (X i) &&& 3) = nI (cc_h X i) := by
      rw [cc_f0 h12]
      exact nI_add 8 _
    refine pk_le 4 i (fun y => absurd y (by omega)) (fun _ => hpart _ ?_)
    try dsimp only
    rw [e1, e2, e3]
    refine cc_premise (k := 0) (by omega) (by omega) (cc_premise (k := 1) (by omega) (by omega) (cc_strength h12 ?_))
    refine cc_rule (X := X) (i := i) h hi ?_ ?_ ?_ ?_ (fun c1 c2 c3 c4 c5 R' => br_t rfl (nm_r (nI_1 i) (hw (c1, c2, c3, c4, c5, _, _) R')))
    · show upd (upd b6 0 (nI (cc_p X i))) 1 (nI (cc_q X i)) 0 = nI (cc_p X i)
      rw [pk_un (by omega), pk_us]
    · show upd (upd b6 0 (nI (cc_p X i))) 1 (nI (cc_q X i)) 1 = nI (cc_q X i)
      exact pk_us
    · show upd (upd b7 0 (nI 0)) 1 (nI 0) 0 = nI 0
      rw [pk_un (by omega), pk_us]
    · show upd (upd b7 0 (nI 0)) 1 (nI 0) 1 = nI 0
      exact pk_us
theorem cc_15 {post : Int32 → St0 → Prop} {mc ms kc ks : Nat} {x0 x1 x2 x3 : Int32} {a1 a2 a3 a4 a5 a6 a7 a8 a9 a10 a11 a12 a13 : Nat → Int32} (z8 : ∀ c, a8 c = nI 0) (H : post 1 ()) :
    ∃ n, wL_lawOf_15 post mc ms x0 x1 x2 x3 kc ks n 0 0 0 0 (-1) 0 a1 a2 a3 a4 a5 a6 a7 a8 a9 a10 a11 a12 a13 := by
  obtain ⟨X, hX⟩ := cc_parts x0 x1
  refine pk_loop (σ := Int32 × (Nat → Int32)) (fun n i s => wL_lawOf_15 post mc ms x0 x1 x2 x3 kc ks n s.1 (nI i) 0 0 (-1) 0 a1 a2 a3 a4 a5 a6 a7 s.2 a9 a10 a11 a12 a13)
    (fun i s => ∃ v : Nat → Nat, cc_PK s.1 v ∧ cc_M 16 s.2 v ∧ (∀ c, c < 16 → v c ≤ 100) ∧ (∀ c, c < 16 → (c < 8 ∨ 8 + i ≤ c) → v c = 0)) 4 0 (0, a8) (by omega)
    ⟨fun _ => 0, cc_pk0, fun c _ => z8 c, fun c _ => Nat.zero_le _, fun c _ _ => rfl⟩ ?_ ?_
  · intro n s h
    obtain ⟨v, p5, m8, hv, hz⟩ := h
    exact pk_le 4 4 (fun _ => cc_71 hX m8 hv hz p5 H) (fun y => absurd y (by omega))
  · intro n i s hi h hw
    obtain ⟨b5, b8⟩ := s
    obtain ⟨v, p5, m8, hv, hz⟩ := h
    obtain ⟨k, hk, e⟩ := pk_andE (x2 >>> ((7 * nI i) &&& 31)) 7 (m := 127) (by decide)
    have e8 : (8 : Int32) + nI i = nI (8 + i) := nI_add 8 i
    have er : nI k - nI k / 101 * 101 = nI (k % 101) := pk_rem (d := 101) (by omega) (by omega) (by omega)
    refine pk_le 4 i (fun y => absurd y (by omega)) (fun _ => ?_)
    rw [e, er, e8]
    refine ⟨by decide, nm_e (nm_e (cc_observe (by omega) (by omega) (fun r => nm_r (nI_1 i) (hw (_, _) ⟨cc_up v (8 + i) (k % 101), cc_or p5 hi (hz _ (by omega) (by omega)) (by omega), cc_Mup m8 rfl, ?_, ?_⟩))))⟩
    · intro c hc
      by_cases g : c = 8 + i
      · rw [g, cc_us]
        omega
      · rw [cc_un g]
        exact hv c hc
    · intro c hc g
      rw [cc_un (by omega)]
      exact hz c hc (by omega)
end
section
/-! the top -/
theorem cc_lawOf {post : Int32 → St0 → Prop} {p q o r : Int32} (H : post 1 ()) : wpL_lawOf post 152 2416 () p q o r := by
  refine And.intro (by decide) (And.intro (by decide) ⟨13, 286, by decide, by decide, ?_⟩)
  unfold wpX_init
  refine ⟨by decide, by decide, by decide, by decide, by decide, by decide, by decide, by decide, by decide, by decide, by decide, by decide, by decide, by decide, by decide, by decide, by decide, by decide, by decide, by decide, by decide, by decide, by decide, by decide, by decide, by decide, ?_⟩
  exact cc_15 (fun _ => rfl) H
theorem cc_cell {post : Int32 → Prop} {L i : Nat} {xs : Nat → Int32} (hL : L ≤ 4) (hi : i < 4) (H : ∀ r, post r) : wpL_cellAt post L xs () (nI i) :=
  pk_le L i (fun _ => H _) (fun z => ⟨pk_in i L z, H _⟩)
theorem i_vc (xs : Nat → Int32) (L : Nat) (hL : L ≤ 4) : wpL_law (fun r => r = 1) L xs := by
  unfold wpL_law
  refine cc_cell (i := 0) hL (by omega) (fun r1 => cc_cell (i := 1) hL (by omega) (fun r2 => cc_cell (i := 2) hL (by omega) (fun r3 => cc_cell (i := 3) hL (by omega) (fun r4 => ⟨152, 2416, by decide, by decide, cc_lawOf rfl⟩))))
end
