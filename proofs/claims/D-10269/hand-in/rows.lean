section
/-! Int32 by its bits (the family bt of laws/BITS.to-paste, its names turned to bq_) -/
def bq_t (x : Int32) (i : Nat) : Bool := x.toBitVec.getLsbD i
theorem bq_ext {x y : Int32} (h : ∀ i, i < 32 → bq_t x i = bq_t y i) : x = y := Int32.toBitVec_inj.mp (BitVec.eq_of_getLsbD_eq (fun i hi => h i hi))
theorem bq_or (x y : Int32) (i : Nat) : bq_t (x ||| y) i = (bq_t x i || bq_t y i) := by unfold bq_t; rw [Int32.toBitVec_or, BitVec.getLsbD_or]
theorem bq_and (x y : Int32) (i : Nat) : bq_t (x &&& y) i = (bq_t x i && bq_t y i) := by unfold bq_t; rw [Int32.toBitVec_and, BitVec.getLsbD_and]
theorem bq_xor (x y : Int32) (i : Nat) : bq_t (x ^^^ y) i = (bq_t x i ^^ bq_t y i) := by unfold bq_t; rw [Int32.toBitVec_xor, BitVec.getLsbD_xor]
theorem bq_m1 : ∀ i, i < 32 → bq_t (-1) i = true := by decide +kernel
theorem bq_0 (i : Nat) : bq_t 0 i = false := BitVec.getLsbD_zero
theorem bq_sl : ∀ n, n < 32 → ((nI n &&& 31).toBitVec.smod 32).toNat = n := by decide +kernel
theorem bq_shl (n : Nat) (hn : n < 32) (x : Int32) {i : Nat} (hi : i < 32) : bq_t (x <<< (nI n &&& 31)) i = (decide (n ≤ i) && bq_t x (i - n)) := by
  unfold bq_t
  rw [Int32.toBitVec_shiftLeft]
  show (x.toBitVec <<< ((nI n &&& 31).toBitVec.smod 32).toNat).getLsbD i = _
  rw [bq_sl n hn, BitVec.getLsbD_shiftLeft]
  rcases Nat.lt_or_ge i n with h | h
  · simp [h, Nat.not_le.mpr h]
  · simp [hi, h, Nat.not_lt.mpr h]
theorem bq_sshr (n : Nat) (hn : n < 32) (x : Int32) {i : Nat} (hi : i < 32) : bq_t (x >>> (nI n &&& 31)) i = if n + i < 32 then bq_t x (n + i) else bq_t x 31 := by
  unfold bq_t
  rw [Int32.toBitVec_shiftRight]
  show (x.toBitVec.sshiftRight ((nI n &&& 31).toBitVec.smod 32).toNat).getLsbD i = _
  rw [bq_sl n hn, BitVec.getLsbD_sshiftRight, BitVec.msb_eq_getLsbD_last]
  simp [hi]
/-! one signal's bit -/
theorem bq_one : ∀ s, s < 12 → ∀ i, i < 32 → bq_t ((1 : Int32) <<< (nI s &&& 31)) i = decide (i = s) := by decide +kernel
theorem bq_1 : ∀ i, i < 32 → bq_t 1 i = decide (i = 0) := by decide +kernel
theorem bq_n0 : nI (false.toNat) = 0 := rfl
theorem bq_n1 : nI (true.toNat) = 1 := rfl
theorem bq_get (x : Int32) {s : Nat} (hs : s < 32) : (x >>> (nI s &&& 31)) &&& 1 = nI (bq_t x s).toNat := by
  apply bq_ext
  intro i hi
  rw [bq_and, bq_sshr s hs x hi, bq_1 i hi]
  by_cases h : i = 0
  · subst h
    rw [if_pos (by omega), Nat.add_zero]
    cases bq_t x s
    · rw [bq_n0, bq_0]; rfl
    · rw [bq_n1, bq_1 0 (by omega)]; rfl
  · rw [decide_eq_false h, Bool.and_false]
    cases bq_t x s
    · rw [bq_n0, bq_0]
    · rw [bq_n1, bq_1 i hi, decide_eq_false h]
theorem bq_getT {x : Int32} {s : Nat} (hs : s < 32) (h : bq_t x s = true) : (x >>> (nI s &&& 31)) &&& 1 = 1 := by rw [bq_get x hs, h]; rfl
theorem bq_getF {x : Int32} {s : Nat} (hs : s < 32) (h : ¬ bq_t x s = true) : ¬ (x >>> (nI s &&& 31)) &&& 1 = 1 := by
  rw [bq_get x hs, Bool.eq_false_iff.mpr h]
  decide
/-! a set with a signal put in, a set with a signal taken out -/
theorem bq_put (x : Int32) {s : Nat} (hs : s < 12) {i : Nat} (hi : i < 32) : bq_t (x ||| ((1 : Int32) <<< (nI s &&& 31))) i = (bq_t x i || decide (i = s)) := by
  rw [bq_or, bq_one s hs i hi]
theorem bq_cut (x : Int32) {s : Nat} (hs : s < 12) {i : Nat} (hi : i < 32) : bq_t (x &&& (((1 : Int32) <<< (nI s &&& 31)) ^^^ (-1))) i = (bq_t x i && !decide (i = s)) := by
  rw [bq_and, bq_xor, bq_one s hs i hi, bq_m1 i hi, Bool.xor_true]
/-! a set that holds signals alone -/
def bq_sm (x : Int32) : Prop := ∀ i, 12 ≤ i → i < 32 → bq_t x i = false
theorem bq_sm0 : bq_sm 0 := fun i _ _ => bq_0 i
/-! how many of the first n bits are set -/
def bq_n (x : Int32) : Nat → Nat
  | 0 => 0
  | n + 1 => bq_n x n + (bq_t x n).toNat
theorem bq_n_le (x : Int32) (n : Nat) : bq_n x n ≤ n := by
  induction n with
  | zero => exact Nat.le_refl 0
  | succ n ih =>
    have : (bq_t x n).toNat ≤ 1 := Bool.toNat_le _
    show bq_n x n + (bq_t x n).toNat ≤ n + 1
    omega
theorem bq_n_pos {x : Int32} {s : Nat} (h : bq_t x s = true) (n : Nat) (hs : s < n) : 0 < bq_n x n := by
  induction n with
  | zero => omega
  | succ n ih =>
    show 0 < bq_n x n + (bq_t x n).toNat
    by_cases e : s = n
    · rw [← e, h]
      show 0 < bq_n x s + 1
      omega
    · have := ih (by omega)
      omega
theorem bq_n_zero : bq_n 0 12 = 0 := by decide +kernel
theorem bq_zero {x : Int32} (h : bq_sm x) (h0 : bq_n x 12 = 0) : x = 0 := by
  apply bq_ext
  intro i hi
  rw [bq_0]
  by_cases e : i < 12
  · cases hb : bq_t x i
    · rfl
    · exact absurd (bq_n_pos hb 12 e) (by omega)
  · exact h i (by omega) hi
theorem bq_pos {x : Int32} (h : bq_sm x) (hx : ¬ x = 0) : 0 < bq_n x 12 := by
  rcases Nat.eq_zero_or_pos (bq_n x 12) with e | e
  · exact absurd (bq_zero h e) hx
  · exact e
/-! four bits of which the highest is clear -/
theorem bq_15 : ∀ j, j < 16 → bq_t (nI j) 3 = false → j < 8 := by decide +kernel
theorem bq_part (x : Int32) (h : bq_t x 3 = false) : ∃ q, q < 8 ∧ x &&& 15 = nI q := by
  obtain ⟨j, hj, e⟩ := pk_andE x (m := 15) 4 (by decide)
  refine ⟨j, bq_15 j hj ?_, e⟩
  rw [← e, bq_and, h]
  rfl
end
section
/-! sums, and the questions -/
def dc_w (a9 : Nat → Int32) : Nat → Nat
  | 0 => 0
  | n + 1 => dc_w a9 n + bq_n (a9 n) 12
def dc_pd (ds : Int32) (a9 : Nat → Int32) : Nat := bq_n ds 12 + dc_w a9 10
def dc_s (f : Nat → Int32) : Nat → Int32
  | 0 => 0
  | n + 1 => dc_s f n + f n
theorem dc_w_le (a9 : Nat → Int32) (n : Nat) : dc_w a9 n ≤ 12 * n := by
  induction n with
  | zero => exact Nat.le_refl 0
  | succ n ih =>
    have := bq_n_le (a9 n) 12
    show dc_w a9 n + bq_n (a9 n) 12 ≤ 12 * (n + 1)
    omega
theorem dc_pd_le (ds : Int32) (a9 : Nat → Int32) : dc_pd ds a9 ≤ 132 := by
  have := dc_w_le a9 10
  have := bq_n_le ds 12
  unfold dc_pd
  omega
theorem dc_w_pos {a9 : Nat → Int32} {j : Nat} (h : 0 < bq_n (a9 j) 12) (n : Nat) (hj : j < n) : 0 < dc_w a9 n := by
  induction n with
  | zero => omega
  | succ n ih =>
    show 0 < dc_w a9 n + bq_n (a9 n) 12
    by_cases e : j = n
    · rw [← e]
      omega
    · have := ih (by omega)
      omega
theorem dc_w_upd {a9 : Nat → Int32} {q : Nat} (n : Nat) : (n ≤ q → dc_w (upd a9 q 0) n = dc_w a9 n) ∧ (q < n → dc_w (upd a9 q 0) n + bq_n (a9 q) 12 = dc_w a9 n) := by
  induction n with
  | zero => exact ⟨fun _ => rfl, fun h => absurd h (by omega)⟩
  | succ n ih =>
    obtain ⟨i1, i2⟩ := ih
    have e : ∀ f : Nat → Int32, dc_w f (n + 1) = dc_w f n + bq_n (f n) 12 := fun _ => rfl
    rw [e, e]
    constructor
    · intro h
      rw [i1 (by omega), pk_un (show n ≠ q by omega)]
    · intro h
      by_cases g : q = n
      · rw [i1 (by omega), g, pk_us, bq_n_zero]
        omega
      · have := i2 (by omega)
        rw [pk_un (show n ≠ q by omega)]
        omega
section
variable {pr tm dn ds : Int32} {a1 a2 a3 a4 a5 a6 a7 a8 a9 a10 : Nat → Int32}
theorem dc_bits {post : Int32 → Prop} (x : Int32) (h : post (nI (bq_n x 12))) : wpX_bits post () x := by
  unfold wpX_bits
  exact pk_loop (σ := Unit) (fun n i _ => wX_bits_4 post x n (nI (bq_n x i)) (nI i)) (fun _ _ => True) 12 0 () (by omega) trivial
    (fun n _ _ => pk_le 12 12 (fun _ => h) (fun z => absurd z (by omega)))
    (fun n i _ hi _ hw => pk_le 12 i (fun z => absurd z (by omega)) (fun _ => nm_r (show nI (bq_n x i) + ((x >>> (nI i &&& 31)) &&& 1) = nI (bq_n x (i + 1)) by rw [bq_get x (by omega), nI_add]; rfl) (nm_r (nI_1 i) (hw () trivial))))
theorem dc_pending {post : Int32 → Prop} (h : post (nI (dc_pd ds a9))) : wpX_pending post (pr, tm, dn, ds, a1, a2, a3, a4, a5, a6, a7, a8, a9, a10) := by
  unfold wpX_pending
  exact dc_bits ds (pk_loop (σ := Unit) (fun n i _ => wX_pending_10 post pr tm dn ds a1 a2 a3 a4 a5 a6 a7 a8 a9 a10 n (nI (bq_n ds 12 + dc_w a9 i)) (nI i)) (fun _ _ => True) 10 0 () (by omega) trivial
    (fun n _ _ => pk_le 10 10 (fun _ => h) (fun z => absurd z (by omega)))
    (fun n i _ hi _ hw => pk_le 10 i (fun z => absurd z (by omega)) (fun _ => ⟨pk_in i 10 hi, dc_bits _ (nm_r (show nI (bq_n ds 12 + dc_w a9 i) + nI (bq_n (a9 (nI i).toNatClampNeg) 12) = nI (bq_n ds 12 + dc_w a9 (i + 1)) by rw [nI_clamp (by omega), nI_add, Nat.add_assoc]; rfl) (nm_r (nI_1 i) (hw () trivial)))⟩)))
theorem dc_rem {t k : Nat} (h : t + k < 2 ^ 31) : (nI t + nI k) - (nI t + nI k) / 10 * 10 = nI ((t + k) % 10) := by
  rw [nI_add]
  exact pk_rem (d := 10) h (by omega) (by omega)
theorem dc_slot {post : Int32 → Prop} {t k : Nat} (ht : t + k < 2 ^ 31) (h : post (nI ((t + k) % 10))) : wpX_slotAfter post (pr, nI t, dn, ds, a1, a2, a3, a4, a5, a6, a7, a8, a9, a10) (nI k) := by
  unfold wpX_slotAfter
  refine ⟨by decide, ?_⟩
  rw [dc_rem ht]
  exact h
/-- the next change is due in k units; k = 10: there is none -/
def dc_N (t k : Nat) (ds : Int32) (a9 : Nat → Int32) : Prop := k ≤ 10 ∧ (k = 0 → ¬ ds = 0) ∧ (0 < k → ds = 0) ∧ (∀ j, 1 ≤ j → j < k → a9 ((t + j) % 10) = 0) ∧ (0 < k → k < 10 → ¬ a9 ((t + k) % 10) = 0)
theorem dc_Nfd (t : Nat) (a9 : Nat → Int32) (m : Nat) : ∃ k, 1 ≤ k ∧ k ≤ m + 1 ∧ (∀ j, 1 ≤ j → j < k → a9 ((t + j) % 10) = 0) ∧ (k < m + 1 → ¬ a9 ((t + k) % 10) = 0) := by
  induction m with
  | zero => exact ⟨1, by omega, by omega, fun j h1 h2 => absurd h1 (by omega), fun h => absurd h (by omega)⟩
  | succ m ih =>
    obtain ⟨k, k1, k2, k3, k4⟩ := ih
    by_cases hk : k < m + 1
    · exact ⟨k, k1, by omega, k3, fun _ => k4 hk⟩
    · by_cases he : a9 ((t + k) % 10) = 0
      · refine ⟨k + 1, by omega, by omega, fun j h1 h2 => ?_, fun h => absurd h (by omega)⟩
        by_cases e : j = k
        · rw [e, he]
        · exact k3 j h1 (by omega)
      · exact ⟨k, k1, by omega, k3, fun _ => he⟩
theorem dc_Nex (t : Nat) (ds : Int32) (a9 : Nat → Int32) : ∃ k, dc_N t k ds a9 := by
  by_cases h : ds = 0
  · obtain ⟨k, k1, k2, k3, k4⟩ := dc_Nfd t a9 9
    exact ⟨k, k2, fun z => absurd z (by omega), fun _ => h, k3, fun _ => k4⟩
  · exact ⟨0, by omega, fun _ => h, fun z => absurd z (by omega), fun j h1 h2 => absurd h2 (by omega), fun z => absurd z (by omega)⟩
theorem dc_nextUnits {post : Int32 → Prop} {t k : Nat} (hN : dc_N t k ds a9) (ht : t < 10000) (h1 : k < 10 → post (nI k)) (h2 : k = 10 → post (-1)) : wpX_nextUnits post (pr, nI t, dn, ds, a1, a2, a3, a4, a5, a6, a7, a8, a9, a10) := by
  obtain ⟨n1, n2, n3, n4, n5⟩ := hN
  unfold wpX_nextUnits
  by_cases h0 : k = 0
  · refine br_f (n2 h0) ?_
    have := h1 (by omega)
    rw [h0] at this
    exact this
  · refine br_t (n3 (by omega)) ?_
    exact pk_loop (σ := Unit) (fun n i _ => wX_nextUnits_11 post pr (nI t) dn ds a1 a2 a3 a4 a5 a6 a7 a8 a9 a10 n (nI i)) (fun i _ => 1 ≤ i) k 1 () (by omega) (Nat.le_refl 1)
      (fun n _ _ => pk_le 10 k (fun z => h2 (by omega)) (fun z => dc_slot (by omega) ⟨vp_in_nI (by omega) (by omega), br_f (by rw [nI_clamp (by omega)]; exact n5 (by omega) z) (h1 z)⟩))
      (fun n i _ hi hj hw => pk_le 10 i (fun z => absurd z (by omega)) (fun z => dc_slot (by omega) ⟨vp_in_nI (by omega) (by omega), br_t (by rw [nI_clamp (by omega)]; exact n4 i hj hi) (nm_r (nI_1 i) (hw () (by omega)))⟩))
theorem dc_nextTime {post : Int32 → Prop} {t k : Nat} (hN : dc_N t k ds a9) (ht : t < 10000) (h1 : k < 10 → post (nI (t + k))) (h2 : k = 10 → post (-5)) : wpX_nextTime post (pr, nI t, dn, ds, a1, a2, a3, a4, a5, a6, a7, a8, a9, a10) := by
  unfold wpX_nextTime
  refine dc_nextUnits hN ht (fun z => br_t (nI_pos' (by omega)) ?_) (fun z => br_f (by decide) (h2 z))
  rw [nI_add]
  exact h1 z
theorem dc_due {post : Int32 → Prop} {t k e : Nat} (hN : dc_N t k ds a9) (ht : t < 10000) (he : e < 20000) (h1 : k < 10 → t + k ≤ e → post 1) (h0 : ¬ (k < 10 ∧ t + k ≤ e) → post 0) : wpX_due post (pr, nI t, dn, ds, a1, a2, a3, a4, a5, a6, a7, a8, a9, a10) (nI e) := by
  unfold wpX_due
  refine dc_nextUnits hN ht (fun z => br_f (nI_pos (by omega)) ?_) (fun z => br_t (by decide) (h0 (fun g => absurd g.1 (by omega))))
  rw [nI_add]
  exact pk_lt e (t + k) (fun g => h0 (fun g' => absurd g'.2 (by omega))) (fun g => h1 z g)
theorem dc_bad {post : Int32 → Prop} {q : Nat} (hq : q < 12) (h : post 0) : wpX_bad post () (nI q) := by
  unfold wpX_bad
  exact br_f (nI_pos (by omega)) (pk_lt q 12 (fun _ => h) (fun z => absurd z (by omega)))
theorem dc_value {post : Int32 → Prop} {s : Nat} (hs : s < 12) (h : post (a1 s)) : wpX_value post (pr, tm, dn, ds, a1, a2, a3, a4, a5, a6, a7, a8, a9, a10) (nI s) := by
  unfold wpX_value
  exact dc_bad hs (br_t rfl ⟨pk_in s 12 hs, by rw [nI_clamp (by omega)]; exact h⟩)
theorem dc_events {post : Int32 → Prop} {s : Nat} (hs : s < 12) (h : post (a2 s)) : wpX_events post (pr, tm, dn, ds, a1, a2, a3, a4, a5, a6, a7, a8, a9, a10) (nI s) := by
  unfold wpX_events
  exact dc_bad hs (br_t rfl ⟨pk_in s 12 hs, by rw [nI_clamp (by omega)]; exact h⟩)
theorem dc_ix (q s : Nat) : nI q * 12 + nI s = nI (q * 12 + s) := by
  rw [show (12 : Int32) = nI 12 from rfl, pk_mul, nI_add]
theorem dc_com30 {s t : Nat} (hs : s < 12) (ht : t < 10000) (m : Nat) : ∀ i, i + m = 10 → ∃ r, ∀ post : Int32 → Prop, post r → wX_coming_30 post (nI s) pr (nI t) dn ds a1 a2 a3 a4 a5 a6 a7 a8 a9 a10 (m + 1) (nI i) := by
  induction m with
  | zero => exact fun i hi => ⟨0, fun post h => pk_le 10 i (fun _ => h) (fun z => absurd z (by omega))⟩
  | succ m ih =>
    intro i hi
    by_cases hb : bq_t (a9 ((t + i) % 10)) s = true
    · refine ⟨a10 ((t + i) % 10 * 12 + s), fun post h => pk_le 10 i (fun z => absurd z (by omega)) (fun _ => dc_slot (by omega) ⟨vp_in_nI (by omega) (by omega), ?_⟩)⟩
      rw [nI_clamp (show (t + i) % 10 < 2 ^ 31 by omega), dc_ix, nI_clamp (show (t + i) % 10 * 12 + s < 2 ^ 31 by omega)]
      exact br_t (bq_getT (by omega) hb) ⟨vp_in_nI (by omega) (by omega), h⟩
    · obtain ⟨r, hr⟩ := ih (i + 1) (by omega)
      refine ⟨r, fun post h => pk_le 10 i (fun z => absurd z (by omega)) (fun _ => dc_slot (by omega) ⟨vp_in_nI (by omega) (by omega), ?_⟩)⟩
      rw [nI_clamp (show (t + i) % 10 < 2 ^ 31 by omega)]
      exact br_f (bq_getF (by omega) hb) (nm_r (nI_1 i) (hr post h))
theorem dc_coming {s t : Nat} (hs : s < 12) (ht : t < 10000) : ∃ r, ∀ post : Int32 → Prop, post r → wpX_coming post (pr, nI t, dn, ds, a1, a2, a3, a4, a5, a6, a7, a8, a9, a10) (nI s) := by
  by_cases hb : bq_t ds s = true
  · refine ⟨a8 s, fun post h => ?_⟩
    unfold wpX_coming
    exact dc_bad hs (br_t rfl (br_t (bq_getT (by omega) hb) ⟨pk_in s 12 hs, by rw [nI_clamp (by omega)]; exact h⟩))
  · obtain ⟨r, hr⟩ := dc_com30 (pr := pr) (dn := dn) (ds := ds) (a1 := a1) (a2 := a2) (a3 := a3) (a4 := a4) (a5 := a5) (a6 := a6) (a7 := a7) (a8 := a8) (a9 := a9) (a10 := a10) hs ht 9 1 (by omega)
    refine ⟨r, fun post h => ?_⟩
    unfold wpX_coming
    exact dc_bad hs (br_t rfl (br_f (bq_getF (by omega) hb) ⟨10, hr post h⟩))
theorem dc_all {post : Int32 → Prop} (h : post (dc_s a2 12)) : wpL_all post (pr, tm, dn, ds, a1, a2, a3, a4, a5, a6, a7, a8, a9, a10) := by
  unfold wpL_all
  exact pk_loop (σ := Unit) (fun n i _ => wL_all_4 post pr tm dn ds a1 a2 a3 a4 a5 a6 a7 a8 a9 a10 n (dc_s a2 i) (nI i)) (fun _ _ => True) 12 0 () (by omega) trivial
    (fun n _ _ => pk_le 12 12 (fun _ => h) (fun z => absurd z (by omega)))
    (fun n i _ hi _ hw => pk_le 12 i (fun z => absurd z (by omega)) (fun _ => dc_events hi (nm_e (nm_r (nI_1 i) (hw () trivial)))))
theorem dc_same {post : Int32 → Prop} {t : Nat} (ht : t < 10000) (h : post 1) : wpL_same post (pr, nI t, dn, ds, a1, a2, a3, a4, a5, a6, a7, a8, a9, a10, pr, nI t, dn, ds, a1, a2, a3, a4, a5, a6, a7, a8, a9, a10) := by
  unfold wpL_same
  obtain ⟨k, hN⟩ := dc_Nex t ds a9
  refine pk_loop (σ := Unit) (fun n i _ => wL_same_2 post pr (nI t) dn ds a1 a2 a3 a4 a5 a6 a7 a8 a9 a10 pr (nI t) dn ds a1 a2 a3 a4 a5 a6 a7 a8 a9 a10 n (nI i)) (fun _ _ => True) 12 0 () (by omega) trivial ?_ ?_
  · refine fun n _ _ => pk_le 12 12 (fun _ => ?_) (fun z => absurd z (by omega))
    refine br_t rfl (dc_pending (dc_pending (br_t rfl ?_)))
    refine dc_nextTime hN ht (fun z => dc_nextTime hN ht (fun _ => br_t rfl (br_t rfl h)) (fun y => absurd y (by omega))) (fun z => dc_nextTime hN ht (fun y => absurd y (by omega)) (fun _ => br_t rfl (br_t rfl h)))
  · intro n i _ hi _ hw
    obtain ⟨r, hr⟩ := dc_coming (pr := pr) (dn := dn) (ds := ds) (a1 := a1) (a2 := a2) (a3 := a3) (a4 := a4) (a5 := a5) (a6 := a6) (a7 := a7) (a8 := a8) (a9 := a9) (a10 := a10) hi ht
    refine pk_le 12 i (fun z => absurd z (by omega)) (fun _ => ?_)
    exact dc_value hi (dc_value hi (br_t rfl (dc_events hi (dc_events hi (br_t rfl (hr _ (hr _ (br_t rfl (nm_r (nI_1 i) (hw () trivial))))))))))
theorem dc_reset38 (m : Nat) : ∀ i a1 a2, i + m = 12 → ∃ b1 b2, ∀ post : St1 → Prop, post (pr, tm, dn, ds, b1, b2, a3, a4, a5, a6, a7, a8, a9, a10) → wX_reset_38 post pr tm dn ds (m + 1) (nI i) a1 a2 a3 a4 a5 a6 a7 a8 a9 a10 := by
  induction m with
  | zero => exact fun i a1 a2 hi => ⟨a1, a2, fun post h => pk_le 12 i (fun _ => h) (fun z => absurd z (by omega))⟩
  | succ m ih =>
    intro i a1 a2 hi
    obtain ⟨b1, b2, hb⟩ := ih (i + 1) (upd a1 i 0) (upd a2 i 0) (by omega)
    exact ⟨b1, b2, fun post h => pk_le 12 i (fun z => absurd z (by omega)) (fun _ => ⟨pk_in i 12 (by omega), nm_r (by rw [nI_clamp (by omega)]) ⟨pk_in i 12 (by omega), nm_r (by rw [nI_clamp (by omega)]) (nm_r (nI_1 i) (hb post h))⟩⟩)⟩
theorem dc_reset17 (m : Nat) : ∀ i a9, i + m = 10 → (∀ j, j < i → a9 j = 0) → ∃ b1 b2 b9, (∀ j, j < 10 → b9 j = 0) ∧ ∀ post : St1 → Prop, post (pr, tm, dn, ds, b1, b2, a3, a4, a5, a6, a7, a8, b9, a10) → wX_reset_17 post pr tm dn ds (m + 1) (nI i) a1 a2 a3 a4 a5 a6 a7 a8 a9 a10 := by
  induction m with
  | zero =>
    intro i a9 hi h9
    obtain ⟨b1, b2, hb⟩ := dc_reset38 (pr := pr) (tm := tm) (dn := dn) (ds := ds) (a3 := a3) (a4 := a4) (a5 := a5) (a6 := a6) (a7 := a7) (a8 := a8) (a9 := a9) (a10 := a10) 12 0 a1 a2 (by omega)
    exact ⟨b1, b2, a9, fun j hj => h9 j (by omega), fun post h => pk_le 10 i (fun _ => ⟨13, hb post h⟩) (fun z => absurd z (by omega))⟩
  | succ m ih =>
    intro i a9 hi h9
    have hu : ∀ j, j < i + 1 → upd a9 i 0 j = 0 := by
      intro j hj
      by_cases e : j = i
      · rw [e, pk_us]
      · rw [pk_un e]
        exact h9 j (by omega)
    obtain ⟨b1, b2, b9, h0, hb⟩ := ih (i + 1) (upd a9 i 0) (by omega) hu
    exact ⟨b1, b2, b9, h0, fun post h => pk_le 10 i (fun z => absurd z (by omega)) (fun _ => ⟨pk_in i 10 (by omega), nm_r (by rw [nI_clamp (by omega)]) (nm_r (nI_1 i) (hb post h))⟩)⟩
theorem dc_reset : ∃ b1 b2 b9, (∀ j, j < 10 → b9 j = 0) ∧ ∀ post : St1 → Prop, post (pr, nI 0, 0, 0, b1, b2, a3, a4, a5, a6, a7, a8, b9, a10) → wpX_reset post (pr, tm, dn, ds, a1, a2, a3, a4, a5, a6, a7, a8, a9, a10) := by
  obtain ⟨b1, b2, b9, h0, hb⟩ := dc_reset17 (pr := pr) (tm := 0) (dn := 0) (ds := 0) (a1 := a1) (a2 := a2) (a3 := a3) (a4 := a4) (a5 := a5) (a6 := a6) (a7 := a7) (a8 := a8) (a10 := a10) 10 0 a9 (by omega) (fun j hj => absurd hj (by omega))
  refine ⟨b1, b2, b9, h0, fun post h => ?_⟩
  unfold wpX_reset
  exact ⟨11, hb post h⟩
end
end
section
/-! putting changes down -/
/-- what a change of signal s to v, due in k units, makes of the sets and values -/
def dc_P (t s k : Nat) (v ds : Int32) (a8 a9 a10 : Nat → Int32) (ds' : Int32) (b8 b9 b10 : Nat → Int32) : Prop :=
  (∀ i, i < 32 → i ≠ s → bq_t ds' i = bq_t ds i) ∧
  (∀ j, j < 10 → ∀ i, i < 32 → i ≠ s → bq_t (b9 j) i = bq_t (a9 j) i) ∧
  (∀ i, i ≠ s → b8 i = a8 i) ∧
  (∀ j i, i < 12 → i ≠ s → b10 (j * 12 + i) = a10 (j * 12 + i)) ∧
  (b9 (t % 10) = a9 (t % 10)) ∧
  (∀ y, k < y → y < 10 → bq_t (b9 ((t + y) % 10)) s = false) ∧
  (k = 0 → bq_t ds' s = true ∧ b8 s = v) ∧
  (0 < k → bq_t (b9 ((t + k) % 10)) s = true ∧ b10 ((t + k) % 10 * 12 + s) = v)
section
variable {pr tm dn ds : Int32} {a1 a2 a3 a4 a5 a6 a7 a8 a9 a10 : Nat → Int32}
/-- behind the loop: the sets with signal s cut out of the slots from lo on, below i -/
def dc_Q (t s lo i : Nat) (A9 a9 : Nat → Int32) : Prop :=
  (∀ j, j < 10 → ∀ x, x < 32 → x ≠ s → bq_t (a9 j) x = bq_t (A9 j) x) ∧ (a9 (t % 10) = A9 (t % 10)) ∧ (∀ y, lo ≤ y → y < i → bq_t (a9 ((t + y) % 10)) s = false)
theorem dc_Q0 (t s lo : Nat) (a9 : Nat → Int32) : dc_Q t s lo lo a9 a9 := ⟨fun _ _ _ _ _ => rfl, rfl, fun y h1 h2 => absurd h1 (by omega)⟩
theorem dc_Q1 {t s lo i : Nat} {A9 a9 : Nat → Int32} (hs : s < 12) (hl : 1 ≤ lo) (hi : i < 10) (hli : lo ≤ i) (h : dc_Q t s lo i A9 a9) : dc_Q t s lo (i + 1) A9 (upd a9 ((t + i) % 10) (a9 ((t + i) % 10) &&& (((1 : Int32) <<< (nI s &&& 31)) ^^^ (-1)))) := by
  obtain ⟨q1, q2, q3⟩ := h
  refine ⟨fun j hj x hx hn => ?_, ?_, fun y h1 h2 => ?_⟩
  · by_cases e : j = (t + i) % 10
    · rw [e, pk_us, bq_cut _ hs hx, decide_eq_false hn, ← e, q1 j hj x hx hn]
      simp
    · rw [pk_un e]
      exact q1 j hj x hx hn
  · rw [pk_un (show t % 10 ≠ (t + i) % 10 by omega)]
    exact q2
  · by_cases e : (t + y) % 10 = (t + i) % 10
    · rw [e, pk_us, bq_cut _ hs (by omega)]
      simp
    · rw [pk_un e]
      exact q3 y h1 (by omega)
theorem dc_put16 {t s k lo : Nat} {v : Int32} (ht : t < 10000) (hs : s < 12) (hk : k < 10) (hl : 1 ≤ lo) (h0 : k = 0 → lo = 1) (h1 : 0 < k → lo = k) {A9 : Nat → Int32} (m : Nat) : ∀ i a9, i + m = 10 → lo ≤ i → dc_Q t s lo i A9 a9 →
    ∃ ds' b8 b9 b10, dc_P t s k v ds a8 A9 a10 ds' b8 b9 b10 ∧ ∀ post : St1 → Prop, post (pr, nI t, dn, ds', a1, a2, a3, a4, a5, a6, a7, b8, b9, b10) → wX_putDown_16 post (nI s) v (nI k) ((1 : Int32) <<< (nI s &&& 31)) pr (nI t) dn ds (m + 1) (nI i) a1 a2 a3 a4 a5 a6 a7 a8 a9 a10 := by
  induction m with
  | zero =>
    intro i a9 hi hli hQ
    have hi' : i = 10 := by omega
    subst hi'
    obtain ⟨q1, q2, q3⟩ := hQ
    by_cases hk0 : k = 0
    · refine ⟨ds ||| ((1 : Int32) <<< (nI s &&& 31)), upd a8 s v, a9, a10, ⟨fun i hi hn => ?_, q1, fun i hn => pk_un hn, fun _ _ _ _ => rfl, q2, fun y y1 y2 => q3 y (by omega) y2, fun _ => ⟨?_, pk_us⟩, fun z => absurd z (by omega)⟩, fun post h => ?_⟩
      · rw [bq_put _ hs hi, decide_eq_false hn, Bool.or_false]
      · rw [bq_put _ hs (by omega)]
        simp
      · exact pk_le 10 10 (fun _ => pk_eq k 0 (fun _ => nm_e ⟨pk_in s 12 hs, nm_r (by rw [nI_clamp (by omega)]) h⟩) (fun z => absurd hk0 z)) (fun z => absurd z (by omega))
    · have hlk : lo = k := h1 (by omega)
      refine ⟨ds, a8, upd a9 ((t + k) % 10) (a9 ((t + k) % 10) ||| ((1 : Int32) <<< (nI s &&& 31))), upd a10 ((t + k) % 10 * 12 + s) v, ⟨fun _ _ _ => rfl, fun j hj x hx hn => ?_, fun _ _ => rfl, fun j i hi hn => pk_un (by omega), ?_, fun y y1 y2 => ?_, fun z => absurd z hk0, fun _ => ⟨?_, pk_us⟩⟩, fun post h => ?_⟩
      · by_cases e : j = (t + k) % 10
        · rw [e, pk_us, bq_put _ hs hx, decide_eq_false hn, Bool.or_false, ← e, q1 j hj x hx hn]
        · rw [pk_un e]
          exact q1 j hj x hx hn
      · rw [pk_un (show t % 10 ≠ (t + k) % 10 by omega)]
        exact q2
      · rw [pk_un (show (t + y) % 10 ≠ (t + k) % 10 by omega)]
        exact q3 y (by omega) y2
      · rw [pk_us, bq_put _ hs (by omega)]
        simp
      · refine pk_le 10 10 (fun _ => pk_eq k 0 (fun z => absurd z hk0) (fun _ => dc_slot (by omega) ⟨vp_in_nI (by omega) (by omega), vp_in_nI (by omega) (by omega), nm_r (by rw [nI_clamp (show (t + k) % 10 < 2 ^ 31 by omega)]) ⟨?_, nm_r (by rw [dc_ix, nI_clamp (show (t + k) % 10 * 12 + s < 2 ^ 31 by omega)]) h⟩⟩)) (fun z => absurd z (by omega))
        rw [dc_ix]
        exact vp_in_nI (by omega) (by omega)
  | succ m ih =>
    intro i a9 hi hli hQ
    obtain ⟨ds', b8, b9, b10, hP, hb⟩ := ih (i + 1) _ (by omega) (by omega) (dc_Q1 hs hl (by omega) hli hQ)
    exact ⟨ds', b8, b9, b10, hP, fun post h => pk_le 10 i (fun z => absurd z (by omega)) (fun _ => dc_slot (by omega) ⟨vp_in_nI (by omega) (by omega), vp_in_nI (by omega) (by omega), nm_r (by rw [nI_clamp (show (t + i) % 10 < 2 ^ 31 by omega)]) (nm_r (nI_1 i) (hb post h))⟩)⟩
theorem dc_put {t s k : Nat} {v : Int32} (ht : t < 10000) (hs : s < 12) (hk : k < 10) :
    ∃ ds' b8 b9 b10, dc_P t s k v ds a8 a9 a10 ds' b8 b9 b10 ∧ ∀ post : St1 → Prop, post (pr, nI t, dn, ds', a1, a2, a3, a4, a5, a6, a7, b8, b9, b10) → wpX_putDown post (pr, nI t, dn, ds, a1, a2, a3, a4, a5, a6, a7, a8, a9, a10) (nI s) v (nI k) := by
  by_cases hk0 : k = 0
  · obtain ⟨ds', b8, b9, b10, hP, hb⟩ := dc_put16 (pr := pr) (dn := dn) (ds := ds) (a1 := a1) (a2 := a2) (a3 := a3) (a4 := a4) (a5 := a5) (a6 := a6) (a7 := a7) (a8 := a8) (a10 := a10) (v := v) ht hs hk (lo := 1) (by omega) (fun _ => rfl) (fun z => absurd z (by omega)) 9 1 a9 (by omega) (by omega) (dc_Q0 t s 1 a9)
    refine ⟨ds', b8, b9, b10, hP, fun post h => ?_⟩
    unfold wpX_putDown
    exact nm_e (pk_le k 0 (fun _ => ⟨10, hb post h⟩) (fun z => absurd z (by omega)))
  · obtain ⟨ds', b8, b9, b10, hP, hb⟩ := dc_put16 (pr := pr) (dn := dn) (ds := ds) (a1 := a1) (a2 := a2) (a3 := a3) (a4 := a4) (a5 := a5) (a6 := a6) (a7 := a7) (a8 := a8) (a10 := a10) (v := v) ht hs hk (lo := k) (by omega) (fun z => absurd z hk0) (fun _ => rfl) (10 - k) k a9 (by omega) (by omega) (dc_Q0 t s k a9)
    refine ⟨ds', b8, b9, b10, hP, fun post h => ?_⟩
    unfold wpX_putDown
    exact nm_e (pk_le k 0 (fun z => absurd z (by omega)) (fun _ => ⟨10 - k + 1, hb post h⟩))
/-- the invariant: n processes, now is t -/
def dc_I (n t : Nat) (ds : Int32) (a4 a5 a9 : Nat → Int32) : Prop :=
  n ≤ 8 ∧ t < 10000 ∧ bq_sm ds ∧ (∀ j, j < 10 → bq_sm (a9 j)) ∧ a9 (t % 10) = 0 ∧
  (∀ p, p < n → (∃ k, k < 10 ∧ a4 p = nI k) ∧ ∀ w, w < 4 → ∃ q, q < 8 ∧ (a5 p >>> ((4 * nI w) &&& 31)) &&& 15 = nI q)
/-- signal 11: it has settled at v, or it is due at d with v and nothing of it is due later -/
def dc_G (t d : Nat) (v ds : Int32) (a1 a8 a9 a10 : Nat → Int32) : Prop :=
  (a1 11 = v ∧ bq_t ds 11 = false ∧ ∀ j, j < 10 → bq_t (a9 j) 11 = false) ∨
  (t ≤ d ∧ d < t + 10 ∧ (∀ s, d < s → s < t + 10 → bq_t (a9 (s % 10)) 11 = false) ∧ (d = t → bq_t ds 11 = true ∧ a8 11 = v) ∧ (t < d → bq_t (a9 (d % 10)) 11 = true ∧ a10 (d % 10 * 12 + 11) = v))
theorem dc_P_I {n t s k : Nat} {v ds' : Int32} {b8 b9 b10 : Nat → Int32} (hs : s < 12) (hP : dc_P t s k v ds a8 a9 a10 ds' b8 b9 b10) (hI : dc_I n t ds a4 a5 a9) : dc_I n t ds' a4 a5 b9 := by
  obtain ⟨p1, p2, p3, p4, p5, p6, p7, p8⟩ := hP
  obtain ⟨i1, i2, i3, i4, i5, i6⟩ := hI
  exact ⟨i1, i2, fun i h1 h2 => by rw [p1 i h2 (by omega)]; exact i3 i h1 h2, fun j hj i h1 h2 => by rw [p2 j hj i h2 (by omega)]; exact i4 j hj i h1 h2, by rw [p5]; exact i5, i6⟩
theorem dc_P_G {t s k d : Nat} {v w ds' : Int32} {b8 b9 b10 : Nat → Int32} (hs : s ≠ 11) (hP : dc_P t s k v ds a8 a9 a10 ds' b8 b9 b10) (hG : dc_G t d w ds a1 a8 a9 a10) : dc_G t d w ds' a1 b8 b9 b10 := by
  obtain ⟨p1, p2, p3, p4, p5, p6, p7, p8⟩ := hP
  have hs' : 11 ≠ s := fun e => hs e.symm
  rcases hG with ⟨g1, g2, g3⟩ | ⟨g1, g2, g3, g4, g5⟩
  · exact Or.inl ⟨g1, by rw [p1 11 (by omega) hs']; exact g2, fun j hj => by rw [p2 j hj 11 (by omega) hs']; exact g3 j hj⟩
  · refine Or.inr ⟨g1, g2, fun x h1 h2 => ?_, fun z => ?_, fun z => ?_⟩
    · rw [p2 _ (by omega) 11 (by omega) hs']
      exact g3 x h1 h2
    · rw [p1 11 (by omega) hs', p3 11 hs']
      exact g4 z
    · rw [p2 _ (by omega) 11 (by omega) hs', p4 _ 11 (by omega) hs']
      exact g5 z
theorem dc_P_11 {t k : Nat} {v ds' : Int32} {b8 b9 b10 : Nat → Int32} (hk : k < 10) (hP : dc_P t 11 k v ds a8 a9 a10 ds' b8 b9 b10) : dc_G t (t + k) v ds' a1 b8 b9 b10 := by
  obtain ⟨p1, p2, p3, p4, p5, p6, p7, p8⟩ := hP
  refine Or.inr ⟨by omega, by omega, fun x h1 h2 => ?_, fun z => p7 (by omega), fun z => p8 (by omega)⟩
  have := p6 (x - t) (by omega) (by omega)
  rw [show t + (x - t) = x by omega] at this
  exact this
theorem dc_P_pos {t s k : Nat} {v ds' : Int32} {b8 b9 b10 : Nat → Int32} (hs : s < 12) (hP : dc_P t s k v ds a8 a9 a10 ds' b8 b9 b10) : 1 ≤ dc_pd ds' b9 := by
  obtain ⟨p1, p2, p3, p4, p5, p6, p7, p8⟩ := hP
  unfold dc_pd
  by_cases hk : k = 0
  · have := bq_n_pos (p7 hk).1 12 hs
    omega
  · have := dc_w_pos (bq_n_pos (p8 (by omega)).1 12 hs) 10 (by omega)
    omega
/-! a process is carried out -/
theorem dc_part {n t p w : Nat} (hI : dc_I n t ds a4 a5 a9) (hp : p < n) (hw : w < 4) : ∃ q, q < 8 ∧ ∀ post : Int32 → Prop, post (nI q) → wpX_part post (pr, tm, dn, ds, a1, a2, a3, a4, a5, a6, a7, a8, a9, a10) (nI p) (nI w) := by
  obtain ⟨i1, i2, i3, i4, i5, i6⟩ := hI
  obtain ⟨q, hq, e⟩ := (i6 p hp).2 w hw
  refine ⟨q, hq, fun post h => ?_⟩
  unfold wpX_part
  refine ⟨pk_in p 8 (by omega), ?_⟩
  rw [nI_clamp (by omega), e]
  exact h
theorem dc_result {n t p : Nat} (hI : dc_I n t ds a4 a5 a9) (hp : p < n) : ∃ r, ∀ post : Int32 → Prop, post r → wpX_result post (pr, tm, dn, ds, a1, a2, a3, a4, a5, a6, a7, a8, a9, a10) (nI p) := by
  have i1 := hI.1
  obtain ⟨q0, h0, H0⟩ := dc_part (pr := pr) (tm := tm) (dn := dn) (a1 := a1) (a2 := a2) (a3 := a3) (a6 := a6) (a7 := a7) (a8 := a8) (a10 := a10) hI hp (w := 0) (by omega)
  obtain ⟨q1, h1, H1⟩ := dc_part (pr := pr) (tm := tm) (dn := dn) (a1 := a1) (a2 := a2) (a3 := a3) (a6 := a6) (a7 := a7) (a8 := a8) (a10 := a10) hI hp (w := 1) (by omega)
  obtain ⟨q2, h2, H2⟩ := dc_part (pr := pr) (tm := tm) (dn := dn) (a1 := a1) (a2 := a2) (a3 := a3) (a6 := a6) (a7 := a7) (a8 := a8) (a10 := a10) hI hp (w := 2) (by omega)
  have B : ∀ (r : Int32), (∀ post : Int32 → Prop, post r → ∀ k : Int32, k = a3 (nI p).toNatClampNeg → (((k < 0 → (post (a1 (nI q0).toNatClampNeg ^^^ (-1)))) ∧ (¬ k < 0 → (((4 < k → (post (a1 (nI q0).toNatClampNeg ^^^ (-1)))) ∧ (¬ 4 < k → (((k = 0 → (post (a1 (nI q0).toNatClampNeg + a1 (nI q1).toNatClampNeg))) ∧ (¬ k = 0 → (((k = 1 → (post (a1 (nI q0).toNatClampNeg &&& a1 (nI q1).toNatClampNeg))) ∧ (¬ k = 1 → (((k = 2 → (post (a1 (nI q0).toNatClampNeg ^^^ a1 (nI q1).toNatClampNeg))) ∧ (¬ k = 2 → (((k = 3 → (vp_in (nI p) 8 ∧ (post (a1 (nI q0).toNatClampNeg + (a6 (nI p).toNatClampNeg))))) ∧ (¬ k = 3 → (((k = 4 → (wpX_part (fun r_17 => (vp_in r_17 12 ∧ ((((a1 r_17.toNatClampNeg) = 0 → (post (a1 (nI q1).toNatClampNeg))) ∧ (¬ (a1 r_17.toNatClampNeg) = 0 → (post (a1 (nI q0).toNatClampNeg))))))) (pr, tm, dn, ds, a1, a2, a3, a4, a5, a6, a7, a8, a9, a10) (nI p) 2)) ∧ (¬ k = 4 → (True))))))))))))))))))))))) → ∃ r, ∀ post : Int32 → Prop, post r → wpX_result post (pr, tm, dn, ds, a1, a2, a3, a4, a5, a6, a7, a8, a9, a10) (nI p) := by
    intro r h
    refine ⟨r, fun post hp' => ?_⟩
    unfold wpX_result
    exact H0 _ ⟨pk_in q0 12 (by omega), nm_e (H1 _ ⟨pk_in q1 12 (by omega), nm_e ⟨pk_in p 8 (by omega), h post hp'⟩⟩)⟩
  by_cases c1 : a3 (nI p).toNatClampNeg < 0
  · exact B _ (fun post h => nm_e (br_t c1 h))
  by_cases c2 : 4 < a3 (nI p).toNatClampNeg
  · exact B _ (fun post h => nm_e (br_f c1 (br_t c2 h)))
  by_cases c3 : a3 (nI p).toNatClampNeg = 0
  · exact B _ (fun post h => nm_e (br_f c1 (br_f c2 (br_t c3 h))))
  by_cases c4 : a3 (nI p).toNatClampNeg = 1
  · exact B _ (fun post h => nm_e (br_f c1 (br_f c2 (br_f c3 (br_t c4 h)))))
  by_cases c5 : a3 (nI p).toNatClampNeg = 2
  · exact B _ (fun post h => nm_e (br_f c1 (br_f c2 (br_f c3 (br_f c4 (br_t c5 h))))))
  by_cases c6 : a3 (nI p).toNatClampNeg = 3
  · exact B _ (fun post h => nm_e (br_f c1 (br_f c2 (br_f c3 (br_f c4 (br_f c5 (br_t c6 ⟨pk_in p 8 (by omega), h⟩)))))))
  by_cases c7 : a3 (nI p).toNatClampNeg = 4
  · by_cases c8 : a1 (nI q2).toNatClampNeg = 0
    · exact B _ (fun post h => nm_e (br_f c1 (br_f c2 (br_f c3 (br_f c4 (br_f c5 (br_f c6 (br_t c7 (H2 _ ⟨pk_in q2 12 (by omega), br_t c8 h⟩)))))))))
    · exact B _ (fun post h => nm_e (br_f c1 (br_f c2 (br_f c3 (br_f c4 (br_f c5 (br_f c6 (br_t c7 (H2 _ ⟨pk_in q2 12 (by omega), br_f c8 h⟩)))))))))
  · exact B 0 (fun post h => nm_e (br_f c1 (br_f c2 (br_f c3 (br_f c4 (br_f c5 (br_f c6 (br_f c7 trivial))))))))
theorem dc_carry {n t p : Nat} (hI : dc_I n t ds a4 a5 a9) (hp : p < n) :
    ∃ ds' b8 b9 b10, dc_I n t ds' a4 a5 b9 ∧ (∀ d v, dc_G t d v ds a1 a8 a9 a10 → dc_G t d v ds' a1 b8 b9 b10) ∧ ∀ post : St1 → Prop, post (pr, nI t, dn, ds', a1, a2, a3, a4, a5, a6, a7, b8, b9, b10) → wpX_carryOut post (pr, nI t, dn, ds, a1, a2, a3, a4, a5, a6, a7, a8, a9, a10) (nI p) := by
  have i1 := hI.1
  have i2 := hI.2.1
  obtain ⟨r, hr⟩ := dc_result (pr := pr) (tm := nI t) (dn := dn) (a1 := a1) (a2 := a2) (a3 := a3) (a6 := a6) (a7 := a7) (a8 := a8) (a10 := a10) hI hp
  obtain ⟨q, hq, H⟩ := dc_part (pr := pr) (tm := nI t) (dn := dn) (a1 := a1) (a2 := a2) (a3 := a3) (a6 := a6) (a7 := a7) (a8 := a8) (a10 := a10) hI hp (w := 3) (by omega)
  obtain ⟨k, hk, e⟩ := (hI.2.2.2.2.2 p hp).1
  obtain ⟨ds', b8, b9, b10, hP, hb⟩ := dc_put (pr := pr) (dn := dn) (ds := ds) (a1 := a1) (a2 := a2) (a3 := a3) (a4 := a4) (a5 := a5) (a6 := a6) (a7 := a7) (a8 := a8) (a9 := a9) (a10 := a10) (v := r) i2 (show q < 12 by omega) hk
  refine ⟨ds', b8, b9, b10, dc_P_I (by omega) hP hI, fun d v hG => dc_P_G (by omega) hP hG, fun post h => ?_⟩
  unfold wpX_carryOut
  refine hr _ (H _ ⟨pk_in p 8 (by omega), ?_⟩)
  rw [nI_clamp (by omega), e]
  exact hb _ h
theorem dc_poke {n t p : Nat} (hI : dc_I n t ds a4 a5 a9) (hp : p < n) :
    ∃ r ds' b8 b9 b10, dc_I n t ds' a4 a5 b9 ∧ (∀ d v, dc_G t d v ds a1 a8 a9 a10 → dc_G t d v ds' a1 b8 b9 b10) ∧ ∀ post : Int32 → St1 → Prop, post r (nI n, nI t, dn, ds', a1, a2, a3, a4, a5, a6, a7, b8, b9, b10) → wpX_poke post (nI n, nI t, dn, ds, a1, a2, a3, a4, a5, a6, a7, a8, a9, a10) (nI p) := by
  have i1 := hI.1
  obtain ⟨ds', b8, b9, b10, hI', hG', hb⟩ := dc_carry (pr := nI n) (dn := dn) (a1 := a1) (a2 := a2) (a3 := a3) (a6 := a6) (a7 := a7) (a8 := a8) (a10 := a10) hI hp
  refine ⟨nI (dc_pd ds' b9), ds', b8, b9, b10, hI', hG', fun post h => ?_⟩
  unfold wpX_poke
  exact br_f (nI_pos (by omega)) (pk_lt p n (fun _ => hb _ (dc_pending h)) (fun z => absurd z (by omega)))
theorem dc_drive {n t s k : Nat} {v : Int32} (hI : dc_I n t ds a4 a5 a9) (hs : s < 12) (hk : k < 10) :
    ∃ r ds' b8 b9 b10, 1 ≤ r ∧ r < 1000 ∧ dc_I n t ds' a4 a5 b9 ∧ (s ≠ 11 → ∀ d w, dc_G t d w ds a1 a8 a9 a10 → dc_G t d w ds' a1 b8 b9 b10) ∧ (s = 11 → dc_G t (t + k) v ds' a1 b8 b9 b10) ∧ ∀ post : Int32 → St1 → Prop, post (nI r) (pr, nI t, dn, ds', a1, a2, a3, a4, a5, a6, a7, b8, b9, b10) → wpX_drive post (pr, nI t, dn, ds, a1, a2, a3, a4, a5, a6, a7, a8, a9, a10) (nI s) v (nI k) := by
  obtain ⟨ds', b8, b9, b10, hP, hb⟩ := dc_put (pr := pr) (dn := dn) (ds := ds) (a1 := a1) (a2 := a2) (a3 := a3) (a4 := a4) (a5 := a5) (a6 := a6) (a7 := a7) (a8 := a8) (a9 := a9) (a10 := a10) (v := v) hI.2.1 hs hk
  have hle := dc_pd_le ds' b9
  refine ⟨dc_pd ds' b9, ds', b8, b9, b10, dc_P_pos hs hP, by omega, dc_P_I hs hP hI, fun hn d w hG => dc_P_G hn hP hG, fun e => ?_, fun post h => ?_⟩
  · subst e
    exact dc_P_11 hk hP
  · unfold wpX_drive
    exact dc_bad hs (br_t rfl (br_f (nI_pos (by omega)) (pk_le k 9 (fun _ => hb _ (dc_pending h)) (fun z => absurd z (by omega)))))
end
end
section
/-! changes are taken; a step -/
section
variable {pr tm dn ds : Int32} {a1 a2 a3 a4 a5 a6 a7 a8 a9 a10 : Nat → Int32}
theorem dc_change {post : Int32 → St1 → Prop} {s : Nat} {v : Int32} (hs : s < 12) (h1 : a1 s = v → post 0 (pr, tm, dn, ds, a1, a2, a3, a4, a5, a6, a7, a8, a9, a10)) (h2 : ¬ a1 s = v → post ((1 : Int32) <<< (nI s &&& 31)) (pr, tm, dn, ds, upd a1 s v, upd a2 s (a2 s + 1), a3, a4, a5, a6, a7, a8, a9, a10)) : wpX_changeBit post (pr, tm, dn, ds, a1, a2, a3, a4, a5, a6, a7, a8, a9, a10) (nI s) v := by
  unfold wpX_changeBit
  unfold wpX_update
  refine ⟨pk_in s 12 hs, ?_⟩
  rw [nI_clamp (show s < 2 ^ 31 by omega)]
  by_cases e : a1 s = v
  · exact br_t e (br_t rfl (h1 e))
  · exact br_f e ⟨pk_in s 12 hs, nm_e ⟨pk_in s 12 hs, pk_in s 12 hs, nm_e (br_f (by decide) (h2 e))⟩⟩
/-- the first i signals of the set have been taken: c the changed ones -/
def dc_T (f : Nat → Int32) (x : Int32) (A1 A2 : Nat → Int32) (i : Nat) (c : Int32) (a1 a2 : Nat → Int32) : Prop :=
  (∀ s, i ≤ s → s < 32 → bq_t c s = false) ∧ (∀ s, s < 12 → a1 s = if s < i ∧ bq_t x s = true then f s else A1 s) ∧ (∀ s, s < 12 → a2 s = A2 s + nI (bq_t c s).toNat)
theorem dc_T0 (f : Nat → Int32) (x : Int32) (a1 a2 : Nat → Int32) : dc_T f x a1 a2 0 0 a1 a2 := by
  refine ⟨fun s _ _ => bq_0 s, fun s _ => ?_, fun s _ => ?_⟩
  · rw [if_neg (fun h => absurd h.1 (by omega))]
  · rw [bq_0, bq_n0, Int32.add_zero]
theorem dc_Tn {f : Nat → Int32} {x : Int32} {A1 A2 a1 a2 : Nat → Int32} {i : Nat} {c : Int32} (h : dc_T f x A1 A2 i c a1 a2) (hb : ¬ bq_t x i = true) : dc_T f x A1 A2 (i + 1) c a1 a2 := by
  obtain ⟨t1, t2, t3⟩ := h
  refine ⟨fun s h1 h2 => t1 s (by omega) h2, fun s hs => ?_, t3⟩
  rw [t2 s hs]
  by_cases e : s = i
  · subst e
    rw [if_neg (fun g => hb g.2), if_neg (fun g => hb g.2)]
  · by_cases g : s < i ∧ bq_t x s = true
    · rw [if_pos g, if_pos ⟨by omega, g.2⟩]
    · rw [if_neg g, if_neg (fun z => g ⟨by omega, z.2⟩)]
theorem dc_Te {f : Nat → Int32} {x : Int32} {A1 A2 a1 a2 : Nat → Int32} {i : Nat} {c : Int32} (hi : i < 12) (h : dc_T f x A1 A2 i c a1 a2) (hb : bq_t x i = true) (he : a1 i = f i) : dc_T f x A1 A2 (i + 1) (c ||| 0) a1 a2 := by
  obtain ⟨t1, t2, t3⟩ := h
  have e0 : c ||| 0 = c := bq_ext (fun j _ => by rw [bq_or, bq_0, Bool.or_false])
  rw [e0]
  refine ⟨fun s h1 h2 => t1 s (by omega) h2, fun s hs => ?_, t3⟩
  by_cases e : s = i
  · subst e
    rw [if_pos ⟨by omega, hb⟩, he]
  · rw [t2 s hs]
    by_cases g : s < i ∧ bq_t x s = true
    · rw [if_pos g, if_pos ⟨by omega, g.2⟩]
    · rw [if_neg g, if_neg (fun z => g ⟨by omega, z.2⟩)]
theorem dc_Tc {f : Nat → Int32} {x : Int32} {A1 A2 a1 a2 : Nat → Int32} {i : Nat} {c : Int32} (hi : i < 12) (h : dc_T f x A1 A2 i c a1 a2) (hb : bq_t x i = true) : dc_T f x A1 A2 (i + 1) (c ||| ((1 : Int32) <<< (nI i &&& 31))) (upd a1 i (f i)) (upd a2 i (a2 i + 1)) := by
  obtain ⟨t1, t2, t3⟩ := h
  refine ⟨fun s h1 h2 => ?_, fun s hs => ?_, fun s hs => ?_⟩
  · rw [bq_put _ hi h2, t1 s (by omega) h2, decide_eq_false (by omega)]
    rfl
  · by_cases e : s = i
    · subst e
      rw [if_pos ⟨by omega, hb⟩, pk_us]
    · rw [pk_un e, t2 s hs]
      by_cases g : s < i ∧ bq_t x s = true
      · rw [if_pos g, if_pos ⟨by omega, g.2⟩]
      · rw [if_neg g, if_neg (fun z => g ⟨by omega, z.2⟩)]
  · rw [bq_put _ hi (by omega)]
    by_cases e : s = i
    · subst e
      rw [pk_us, t3 s hs, t1 s (by omega) (by omega), decide_eq_true rfl, bq_n0, Int32.add_zero]
      rfl
    · rw [pk_un e, t3 s hs, decide_eq_false e, Bool.or_false]
theorem dc_T_sum {f : Nat → Int32} {x : Int32} {A1 A2 a1 a2 : Nat → Int32} {c : Int32} (h : dc_T f x A1 A2 12 c a1 a2) (n : Nat) (hn : n ≤ 12) : dc_s a2 n = dc_s A2 n + nI (bq_n c n) := by
  induction n with
  | zero => rfl
  | succ n ih =>
    show dc_s a2 n + a2 n = (dc_s A2 n + A2 n) + nI (bq_n c n + (bq_t c n).toNat)
    rw [ih (by omega), h.2.2 n (by omega), ← nI_add]
    grind
theorem dc_take19 {x : Int32} {A1 A2 : Nat → Int32} (m : Nat) : ∀ i c a1 a2, i + m = 12 → dc_T a8 x A1 A2 i c a1 a2 →
    ∃ c' b1 b2, dc_T a8 x A1 A2 12 c' b1 b2 ∧ ∀ post : Int32 → St1 → Prop, post c' (pr, tm, dn, ds, b1, b2, a3, a4, a5, a6, a7, a8, a9, a10) → wX_takeChanges_19 post x (m + 1) c (nI i) pr tm dn ds a1 a2 a3 a4 a5 a6 a7 a8 a9 a10 := by
  induction m with
  | zero =>
    intro i c a1 a2 hi hT
    have hi' : i = 12 := by omega
    subst hi'
    exact ⟨c, a1, a2, hT, fun post h => pk_le 12 12 (fun _ => h) (fun z => absurd z (by omega))⟩
  | succ m ih =>
    intro i c a1 a2 hi hT
    by_cases hb : bq_t x i = true
    · by_cases he : a1 i = a8 i
      · obtain ⟨c', b1, b2, hT', hr⟩ := ih (i + 1) _ a1 a2 (by omega) (dc_Te (by omega) hT hb he)
        refine ⟨c', b1, b2, hT', fun post h => pk_le 12 i (fun z => absurd z (by omega)) (fun _ => br_t (bq_getT (by omega) hb) ⟨pk_in i 12 (by omega), ?_⟩)⟩
        rw [nI_clamp (show i < 2 ^ 31 by omega)]
        exact dc_change (by omega) (fun _ => nm_e (nm_r (nI_1 i) (hr post h))) (fun z => absurd he z)
      · obtain ⟨c', b1, b2, hT', hr⟩ := ih (i + 1) _ _ _ (by omega) (dc_Tc (by omega) hT hb)
        refine ⟨c', b1, b2, hT', fun post h => pk_le 12 i (fun z => absurd z (by omega)) (fun _ => br_t (bq_getT (by omega) hb) ⟨pk_in i 12 (by omega), ?_⟩)⟩
        rw [nI_clamp (show i < 2 ^ 31 by omega)]
        exact dc_change (by omega) (fun z => absurd z he) (fun _ => nm_e (nm_r (nI_1 i) (hr post h)))
    · obtain ⟨c', b1, b2, hT', hr⟩ := ih (i + 1) c a1 a2 (by omega) (dc_Tn hT hb)
      exact ⟨c', b1, b2, hT', fun post h => pk_le 12 i (fun z => absurd z (by omega)) (fun _ => br_f (bq_getF (by omega) hb) (nm_r (nI_1 i) (hr post h)))⟩
theorem dc_take94 {x : Int32} {A1 A2 : Nat → Int32} {q : Nat} (hq : q < 10) (m : Nat) : ∀ i c a1 a2, i + m = 12 → dc_T (fun s => a10 (q * 12 + s)) x A1 A2 i c a1 a2 →
    ∃ c' b1 b2, dc_T (fun s => a10 (q * 12 + s)) x A1 A2 12 c' b1 b2 ∧ ∀ post : Int32 → St1 → Prop, post c' (pr, tm, dn, ds, b1, b2, a3, a4, a5, a6, a7, a8, a9, a10) → wX_takeChanges_94 post (nI q) x (m + 1) c (nI i) pr tm dn ds a1 a2 a3 a4 a5 a6 a7 a8 a9 a10 := by
  induction m with
  | zero =>
    intro i c a1 a2 hi hT
    have hi' : i = 12 := by omega
    subst hi'
    exact ⟨c, a1, a2, hT, fun post h => pk_le 12 12 (fun _ => h) (fun z => absurd z (by omega))⟩
  | succ m ih =>
    intro i c a1 a2 hi hT
    by_cases hb : bq_t x i = true
    · by_cases he : a1 i = a10 (q * 12 + i)
      · obtain ⟨c', b1, b2, hT', hr⟩ := ih (i + 1) _ a1 a2 (by omega) (dc_Te (by omega) hT hb he)
        refine ⟨c', b1, b2, hT', fun post h => pk_le 12 i (fun z => absurd z (by omega)) (fun _ => br_t (bq_getT (by omega) hb) ?_)⟩
        rw [dc_ix, nI_clamp (show q * 12 + i < 2 ^ 31 by omega)]
        exact ⟨vp_in_nI (by omega) (by omega), dc_change (by omega) (fun _ => nm_e (nm_r (nI_1 i) (hr post h))) (fun z => absurd he z)⟩
      · obtain ⟨c', b1, b2, hT', hr⟩ := ih (i + 1) _ _ _ (by omega) (dc_Tc (by omega) hT hb)
        refine ⟨c', b1, b2, hT', fun post h => pk_le 12 i (fun z => absurd z (by omega)) (fun _ => br_t (bq_getT (by omega) hb) ?_)⟩
        rw [dc_ix, nI_clamp (show q * 12 + i < 2 ^ 31 by omega)]
        exact ⟨vp_in_nI (by omega) (by omega), dc_change (by omega) (fun z => absurd z he) (fun _ => nm_e (nm_r (nI_1 i) (hr post h)))⟩
    · obtain ⟨c', b1, b2, hT', hr⟩ := ih (i + 1) c a1 a2 (by omega) (dc_Tn hT hb)
      exact ⟨c', b1, b2, hT', fun post h => pk_le 12 i (fun z => absurd z (by omega)) (fun _ => br_f (bq_getF (by omega) hb) (nm_r (nI_1 i) (hr post h)))⟩
theorem dc_win (t j : Nat) (hj : j < 10) : ∃ s, t ≤ s ∧ s < t + 10 ∧ s % 10 = j := ⟨t + (j + 10 - t % 10) % 10, by omega, by omega, by omega⟩
/-- signal 11, when the changes of now are taken -/
theorem dc_G_now {t d : Nat} {v : Int32} {b1 : Nat → Int32} (h0 : a9 (t % 10) = 0) (hb : b1 11 = if bq_t ds 11 = true then a8 11 else a1 11) (hG : dc_G t d v ds a1 a8 a9 a10) : dc_G t d v 0 b1 a8 a9 a10 := by
  rcases hG with ⟨g1, g2, g3⟩ | ⟨g1, g2, g3, g4, g5⟩
  · refine Or.inl ⟨?_, bq_0 11, g3⟩
    rw [hb, if_neg (by rw [g2]; decide)]
    exact g1
  · by_cases e : d = t
    · refine Or.inl ⟨?_, bq_0 11, fun j hj => ?_⟩
      · rw [hb, if_pos (g4 e).1]
        exact (g4 e).2
      · obtain ⟨s, s1, s2, s3⟩ := dc_win t j hj
        by_cases es : s = t
        · rw [← s3, es, h0, bq_0]
        · rw [← s3]
          exact g3 s (by omega) s2
    · exact Or.inr ⟨g1, g2, g3, fun z => absurd z e, g5⟩
/-- signal 11, when now becomes t + k and the changes of that slot are taken -/
theorem dc_G_later {t d k : Nat} {v : Int32} {b1 : Nat → Int32} (hk : 0 < k) (hk' : k < 10) (h0 : a9 (t % 10) = 0) (hz : ∀ j, 1 ≤ j → j < k → a9 ((t + j) % 10) = 0) (hb : b1 11 = if bq_t (a9 ((t + k) % 10)) 11 = true then a10 ((t + k) % 10 * 12 + 11) else a1 11) (hG : dc_G t d v 0 a1 a8 a9 a10) : dc_G (t + k) d v 0 b1 a8 (upd a9 ((t + k) % 10) 0) a10 := by
  have hz' : ∀ s, t ≤ s → s < t + k → a9 (s % 10) = 0 := by
    intro s s1 s2
    by_cases e : s = t
    · rw [e, h0]
    · have := hz (s - t) (by omega) (by omega)
      rw [show t + (s - t) = s by omega] at this
      exact this
  have hu : ∀ j, (j ≠ (t + k) % 10 → bq_t (a9 j) 11 = false) → bq_t (upd a9 ((t + k) % 10) 0 j) 11 = false := by
    intro j h
    by_cases e : j = (t + k) % 10
    · rw [e, pk_us, bq_0]
    · rw [pk_un e]
      exact h e
  rcases hG with ⟨g1, g2, g3⟩ | ⟨g1, g2, g3, g4, g5⟩
  · refine Or.inl ⟨?_, bq_0 11, fun j hj => hu j (fun _ => g3 j hj)⟩
    rw [hb, if_neg (by rw [g3 _ (by omega)]; decide)]
    exact g1
  · by_cases e : d = t
    · have := (g4 e).1
      rw [bq_0] at this
      exact absurd this (by decide)
    · have hd := g5 (by omega)
      have hdk : t + k ≤ d := by
        rcases Nat.lt_or_ge d (t + k) with z | z
        · have := hd.1
          rw [hz' d g1 z, bq_0] at this
          exact absurd this (by decide)
        · exact z
      by_cases ed : d = t + k
      · refine Or.inl ⟨?_, bq_0 11, fun j hj => hu j (fun hn => ?_)⟩
        · rw [ed] at hd
          rw [hb, if_pos hd.1]
          exact hd.2
        · obtain ⟨s, s1, s2, s3⟩ := dc_win t j hj
          rw [← s3]
          by_cases es : s < t + k
          · rw [hz' s s1 es, bq_0]
          · by_cases es' : s = t + k
            · rw [es'] at s3
              exact absurd s3.symm hn
            · exact g3 s (by omega) s2
      · refine Or.inr ⟨hdk, by omega, fun s s1 s2 => hu _ (fun hn => ?_), fun z => absurd z ed, fun _ => ?_⟩
        · by_cases es : s < t + 10
          · exact g3 s s1 es
          · rw [show s % 10 = (s - 10) % 10 by omega, hz' (s - 10) (by omega) (by omega), bq_0]
        · rw [pk_un (show d % 10 ≠ (t + k) % 10 by omega)]
          exact hd
theorem dc_take {n t k : Nat} (hI : dc_I n t ds a4 a5 a9) (ht : t < 9000) (hN : dc_N t k ds a9) (hk : k < 10) :
    ∃ c b1 b2 b9, bq_sm c ∧ dc_I n (t + k) 0 a4 a5 b9 ∧ (∀ d v, dc_G t d v ds a1 a8 a9 a10 → dc_G (t + k) d v 0 b1 a8 b9 a10) ∧ dc_s b2 12 = dc_s a2 12 + nI (bq_n c 12) ∧ dc_pd 0 b9 < dc_pd ds a9 ∧
      ∀ post : Int32 → St1 → Prop, post c (pr, nI (t + k), dn, 0, b1, b2, a3, a4, a5, a6, a7, a8, b9, a10) → wpX_takeChanges post (pr, nI t, dn, ds, a1, a2, a3, a4, a5, a6, a7, a8, a9, a10) (nI k) := by
  obtain ⟨i1, i2, i3, i4, i5, i6⟩ := hI
  obtain ⟨n1, n2, n3, n4, n5⟩ := hN
  by_cases h0 : k = 0
  · subst h0
    obtain ⟨c, b1, b2, hT, hr⟩ := dc_take19 (pr := pr) (tm := nI t) (dn := dn) (ds := 0) (a3 := a3) (a4 := a4) (a5 := a5) (a6 := a6) (a7 := a7) (a8 := a8) (a9 := a9) (a10 := a10) (x := ds) 12 0 0 a1 a2 (by omega) (dc_T0 _ ds a1 a2)
    refine ⟨c, b1, b2, a9, hT.1, ⟨i1, i2, bq_sm0, i4, i5, i6⟩, fun d v hG => ?_, dc_T_sum hT 12 (by omega), ?_, fun post h => ?_⟩
    · refine dc_G_now i5 ?_ hG
      rw [hT.2.1 11 (by omega)]
      simp
    · have := bq_pos i3 (n2 rfl)
      unfold dc_pd
      rw [bq_n_zero]
      omega
    · unfold wpX_takeChanges
      exact br_t rfl ⟨13, hr post h⟩
  · have e0 : ds = 0 := n3 (by omega)
    subst e0
    obtain ⟨c, b1, b2, hT, hr⟩ := dc_take94 (pr := pr) (tm := nI (t + k)) (dn := dn) (ds := 0) (a3 := a3) (a4 := a4) (a5 := a5) (a6 := a6) (a7 := a7) (a8 := a8) (a9 := upd a9 ((t + k) % 10) 0) (a10 := a10) (x := a9 ((t + k) % 10)) (q := (t + k) % 10) (by omega) 12 0 0 a1 a2 (by omega) (dc_T0 _ _ a1 a2)
    refine ⟨c, b1, b2, upd a9 ((t + k) % 10) 0, hT.1, ⟨i1, by omega, bq_sm0, fun j hj => ?_, pk_us, i6⟩, fun d v hG => ?_, dc_T_sum hT 12 (by omega), ?_, fun post h => ?_⟩
    · by_cases e : j = (t + k) % 10
      · rw [e, pk_us]
        exact bq_sm0
      · rw [pk_un e]
        exact i4 j hj
    · refine dc_G_later (by omega) hk i5 n4 ?_ hG
      rw [hT.2.1 11 (by omega)]
      simp
    · have h1 := bq_pos (i4 ((t + k) % 10) (by omega)) (n5 (by omega) hk)
      have h2 := (dc_w_upd (a9 := a9) (q := (t + k) % 10) 10).2 (by omega)
      unfold dc_pd
      omega
    · unfold wpX_takeChanges
      refine br_f (nI_ne0 (by omega) (by omega)) (nm_r (nI_add t k) (dc_slot (k := 0) (by omega) ⟨vp_in_nI (by omega) (by omega), nm_e ⟨vp_in_nI (by omega) (by omega), ?_⟩⟩))
      rw [nI_clamp (show (t + k + 0) % 10 < 2 ^ 31 by omega)]
      exact nm_e ⟨13, hr post h⟩
theorem dc_and0 (x : Int32) : x &&& 0 = 0 := bq_ext (fun i _ => by rw [bq_and, bq_0, Bool.and_false])
theorem dc_step30 {n t : Nat} {c : Int32} (m : Nat) : ∀ p ds a8 a9 a10, p + m = n → dc_I n t ds a4 a5 a9 →
    ∃ ds' b8 b9 b10, dc_I n t ds' a4 a5 b9 ∧ (∀ d v, dc_G t d v ds a1 a8 a9 a10 → dc_G t d v ds' a1 b8 b9 b10) ∧ (c = 0 → ds' = ds ∧ b9 = a9) ∧
      ∀ post : Int32 → St1 → Prop, post (nI (bq_n c 12)) (nI n, nI t, dn, ds', a1, a2, a3, a4, a5, a6, a7, b8, b9, b10) → wX_step_30 post c (m + 1) (nI p) (nI n) (nI t) dn ds a1 a2 a3 a4 a5 a6 a7 a8 a9 a10 := by
  induction m with
  | zero =>
    intro p ds a8 a9 a10 hp hI
    have i1 := hI.1
    exact ⟨ds, a8, a9, a10, hI, fun _ _ h => h, fun _ => ⟨rfl, rfl⟩, fun post h => pk_le n p (fun _ => dc_bits c h) (fun z => absurd z (by omega))⟩
  | succ m ih =>
    intro p ds a8 a9 a10 hp hI
    have i1 := hI.1
    by_cases hw : a7 (nI p).toNatClampNeg &&& c = 0
    · obtain ⟨ds', b8, b9, b10, hI', hG', hc', hr⟩ := ih (p + 1) ds a8 a9 a10 (by omega) hI
      exact ⟨ds', b8, b9, b10, hI', hG', hc', fun post h => pk_le n p (fun z => absurd z (by omega)) (fun _ => ⟨pk_in p 8 (by omega), br_t hw (nm_r (nI_1 p) (hr post h))⟩)⟩
    · obtain ⟨ds1, c8, c9, c10, hI1, hG1, hr1⟩ := dc_carry (pr := nI n) (dn := dn) (a1 := a1) (a2 := a2) (a3 := a3) (a6 := a6) (a7 := a7) (a8 := a8) (a10 := a10) hI (show p < n by omega)
      obtain ⟨ds', b8, b9, b10, hI', hG', hc', hr⟩ := ih (p + 1) ds1 c8 c9 c10 (by omega) hI1
      refine ⟨ds', b8, b9, b10, hI', fun d v h => hG' d v (hG1 d v h), fun e => absurd (by rw [e]; exact dc_and0 _) hw, fun post h => pk_le n p (fun z => absurd z (by omega)) (fun _ => ⟨pk_in p 8 (by omega), br_f hw (hr1 _ (nm_r (nI_1 p) (hr post h)))⟩)⟩
theorem dc_step {n t k : Nat} (hI : dc_I n t ds a4 a5 a9) (ht : t < 9000) (hN : dc_N t k ds a9) (hk : k < 10) :
    ∃ c dn' ds' b1 b2 b8 b9 b10, dc_I n (t + k) ds' a4 a5 b9 ∧ (∀ d v, dc_G t d v ds a1 a8 a9 a10 → dc_G (t + k) d v ds' b1 b8 b9 b10) ∧ dc_s b2 12 = dc_s a2 12 + nI (bq_n c 12) ∧ (bq_n c 12 = 0 → dc_pd ds' b9 < dc_pd ds a9) ∧
      ∀ post : Int32 → St1 → Prop, post (nI (bq_n c 12)) (nI n, nI (t + k), dn', ds', b1, b2, a3, a4, a5, a6, a7, b8, b9, b10) → wpX_step post (nI n, nI t, dn, ds, a1, a2, a3, a4, a5, a6, a7, a8, a9, a10) := by
  obtain ⟨c, b1, b2, c9, hc, hI1, hG1, hs, hp, hr1⟩ := dc_take (pr := nI n) (dn := dn) (a1 := a1) (a2 := a2) (a3 := a3) (a6 := a6) (a7 := a7) (a8 := a8) (a10 := a10) hI ht hN hk
  obtain ⟨ds', b8, b9, b10, hI2, hG2, hc2, hr2⟩ := dc_step30 (dn := dn + 1) (a1 := b1) (a2 := b2) (a3 := a3) (a6 := a6) (a7 := a7) (c := c) n 0 0 a8 c9 a10 (by omega) hI1
  refine ⟨c, dn + 1, ds', b1, b2, b8, b9, b10, hI2, fun d v h => hG2 d v (hG1 d v h), hs, fun e => ?_, fun post h => ?_⟩
  · obtain ⟨e1, e2⟩ := hc2 (bq_zero hc e)
    rw [e1, e2]
    exact hp
  · unfold wpX_step
    exact dc_nextUnits hN (by omega) (fun _ => br_t (nI_pos' (by omega)) (hr1 _ (nm_e ⟨n + 1, hr2 post h⟩))) (fun z => absurd z (by omega))
end
end
section
/-! the law's steps and the class's run, side by side -/
theorem dc_ne5 {a : Nat} (h : a < 2 ^ 31) : ¬ nI a = -5 := by
  intro e
  have h1 := congrArg Int32.toInt e
  rw [nI_toInt h, show (-5 : Int32).toInt = -5 from by decide] at h1
  omega
section
variable {pr tm dn ds : Int32} {a1 a2 a3 a4 a5 a6 a7 a8 a9 a10 : Nat → Int32}
theorem dc_idle {post : Int32 → St1 → Prop} {M e made t : Nat} (hM : M < 1000) (ht : t < 10000) (h : post (nI made) (pr, nI t, dn, ds, a1, a2, a3, a4, a5, a6, a7, a8, a9, a10)) (m : Nat) : ∀ i, i + m = M → made < i → wL_steps_13 post (nI M) (nI e) (m + 1) (nI made) (nI i) pr (nI t) dn ds a1 a2 a3 a4 a5 a6 a7 a8 a9 a10 := by
  obtain ⟨k, hN⟩ := dc_Nex t ds a9
  induction m with
  | zero => exact fun i hi hm => pk_le M i (fun _ => h) (fun z => absurd z (by omega))
  | succ m ih =>
    intro i hi hm
    have g := ih (i + 1) (by omega) (by omega)
    exact pk_le M i (fun z => absurd z (by omega)) (fun _ => dc_nextTime hN ht (fun _ => pk_eq made i (fun z => absurd z (by omega)) (fun _ => nm_r (nI_1 i) g)) (fun _ => pk_eq made i (fun z => absurd z (by omega)) (fun _ => nm_r (nI_1 i) g)))
theorem dc_runs {n M e : Nat} (hM : M < 100) (he : e < 9000) (m : Nat) : ∀ made t dn ds a1 a2 a8 a9 a10, made + m = M → t ≤ e → dc_I n t ds a4 a5 a9 →
    ∃ R t' dn' ds' b1 b2 b8 b9 b10, R ≤ M ∧ t ≤ t' ∧ t' ≤ e ∧ dc_I n t' ds' a4 a5 b9 ∧ (∀ d v, dc_G t d v ds a1 a8 a9 a10 → dc_G t' d v ds' b1 b8 b9 b10) ∧
      (∀ post : Int32 → St1 → Prop, post (nI R) (nI n, nI t', dn', ds', b1, b2, a3, a4, a5, a6, a7, b8, b9, b10) → wL_steps_13 post (nI M) (nI e) (m + 1) (nI made) (nI made) (nI n) (nI t) dn ds a1 a2 a3 a4 a5 a6 a7 a8 a9 a10) ∧
      (∀ post : Int32 → St1 → Prop, post (nI R) (nI n, nI t', dn', ds', b1, b2, a3, a4, a5, a6, a7, b8, b9, b10) → ∀ Q : Int32 → Prop, (∀ r, wX_run_59 post (nI M) (nI e) (m + 1) (nI made) r (nI n) (nI t) dn ds a1 a2 a3 a4 a5 a6 a7 a8 a9 a10 → Q r) → wpX_due Q (nI n, nI t, dn, ds, a1, a2, a3, a4, a5, a6, a7, a8, a9, a10) (nI e)) := by
  induction m with
  | zero =>
    intro made t dn ds a1 a2 a8 a9 a10 hm hte hI
    obtain ⟨k, hN⟩ := dc_Nex t ds a9
    exact ⟨made, t, dn, ds, a1, a2, a8, a9, a10, by omega, by omega, hte, hI, fun _ _ h => h, fun post h => pk_le M made (fun _ => h) (fun z => absurd z (by omega)), fun post h Q hQ => dc_due hN (by omega) (by omega) (fun _ _ => hQ _ (pk_le M made (fun _ => h) (fun z => absurd z (by omega)))) (fun _ => hQ _ (pk_le M made (fun _ => h) (fun z => absurd z (by omega))))⟩
  | succ m ih =>
    intro made t dn ds a1 a2 a8 a9 a10 hm hte hI
    obtain ⟨k, hN⟩ := dc_Nex t ds a9
    by_cases hk : k < 10 ∧ t + k ≤ e
    · obtain ⟨c, dn1, ds1, c1, c2, c8, c9, c10, hI1, hG1, hs, hpd, hr⟩ := dc_step (dn := dn) (ds := ds) (a1 := a1) (a2 := a2) (a3 := a3) (a4 := a4) (a5 := a5) (a6 := a6) (a7 := a7) (a8 := a8) (a9 := a9) (a10 := a10) hI (by omega) hN hk.1
      obtain ⟨R, t', dn', ds', b1, b2, b8, b9, b10, h1, h2, h3, hI', hG', hS, hR⟩ := ih (made + 1) (t + k) dn1 ds1 c1 c2 c8 c9 c10 (by omega) hk.2 hI1
      refine ⟨R, t', dn', ds', b1, b2, b8, b9, b10, h1, by omega, h3, hI', fun d v h => hG' d v (hG1 d v h), fun post h => ?_, fun post h Q hQ => ?_⟩
      · have J : wL_steps_95 post (wL_steps_13 post (nI M) (nI e) (m + 1)) (nI M) (nI e) (nI made) (nI made) (nI (t + k)) (nI t) (nI n) (nI (t + k)) dn1 ds1 c1 c2 a3 a4 a5 a6 a7 c8 c9 c10 := by
          unfold wL_steps_95
          exact br_t rfl (pk_le t (t + k) (fun _ => nm_r (nI_1 made) (nm_r (nI_1 made) (hS post h))) (fun z => absurd z (by omega)))
        have hb := bq_n_le c 12
        have hl := dc_pd_le ds a9
        refine pk_le M made (fun z => absurd z (by omega)) (fun _ => dc_nextTime hN (by omega) (fun _ => br_t rfl (br_f (dc_ne5 (by omega)) (pk_lt e (t + k) (fun z => absurd z (by omega)) (fun _ => dc_all (dc_pending (hr _ (dc_all (br_t ?_ (br_c (fun z => dc_pending (br_f ?_ J)) (fun _ => J)))))))))) (fun z => absurd z (by omega)))
        · rw [hs]
          grind
        · have z' : bq_n c 12 = 0 := (nI_eq (by omega) (by omega)).mp z
          exact nI_ge (hpd z') (by omega)
      · exact dc_due hN (by omega) (by omega) (fun _ _ => hQ _ (pk_le M made (fun z => absurd z (by omega)) (fun _ => br_f (by decide) (hr _ (nm_r (nI_1 made) (hR post h _ (fun _ hw => hw))))))) (fun z => absurd hk z)
    · refine ⟨made, t, dn, ds, a1, a2, a8, a9, a10, by omega, Nat.le_refl t, hte, hI, fun _ _ h => h, fun post h => ?_, fun post h Q hQ => ?_⟩
      · have g := dc_idle (M := M) (e := e) (by omega) (by omega) h m (made + 1) (by omega) (by omega)
        exact pk_le M made (fun z => absurd z (by omega)) (fun _ => dc_nextTime hN (by omega) (fun z => br_t rfl (br_f (dc_ne5 (by omega)) (pk_lt e (t + k) (fun _ => nm_r (nI_1 made) g) (fun y => absurd ⟨z, y⟩ hk)))) (fun _ => br_t rfl (br_t rfl (nm_r (nI_1 made) g))))
      · exact dc_due hN (by omega) (by omega) (fun z y => absurd ⟨z, y⟩ hk) (fun _ => hQ _ (pk_le M made (fun z => absurd z (by omega)) (fun _ => br_t rfl h)))
theorem dc_both {n M un t : Nat} (hM : M < 100) (hu : un < 100) (ht : t < 8000) (hI : dc_I n t ds a4 a5 a9) :
    ∃ R t' dn' ds' b1 b2 b8 b9 b10, R ≤ M ∧ t ≤ t' ∧ t' ≤ t + un ∧ dc_I n t' ds' a4 a5 b9 ∧ (∀ d v, dc_G t d v ds a1 a8 a9 a10 → dc_G t' d v ds' b1 b8 b9 b10) ∧
      (∀ post : Int32 → St1 → Prop, post (nI R) (nI n, nI t', dn', ds', b1, b2, a3, a4, a5, a6, a7, b8, b9, b10) → wpL_steps post (nI n, nI t, dn, ds, a1, a2, a3, a4, a5, a6, a7, a8, a9, a10) (nI un) (nI M)) ∧
      (∀ post : Int32 → St1 → Prop, post (nI R) (nI n, nI t', dn', ds', b1, b2, a3, a4, a5, a6, a7, b8, b9, b10) → wpX_run post (nI n, nI t, dn, ds, a1, a2, a3, a4, a5, a6, a7, a8, a9, a10) (nI un) (nI M)) := by
  obtain ⟨R, t', dn', ds', b1, b2, b8, b9, b10, h1, h2, h3, hI', hG', hS, hR⟩ := dc_runs (a3 := a3) (a4 := a4) (a5 := a5) (a6 := a6) (a7 := a7) (n := n) (M := M) (e := t + un) hM (by omega) M 0 t dn ds a1 a2 a8 a9 a10 (by omega) (by omega) hI
  refine ⟨R, t', dn', ds', b1, b2, b8, b9, b10, h1, h2, h3, hI', hG', fun post h => ?_, fun post h => ?_⟩
  · unfold wpL_steps
    exact nm_r (nI_add t un) ⟨M + 1, hS post h⟩
  · unfold wpX_run
    refine pk_le M 200 (fun _ => ?_) (fun z => absurd z (by omega))
    unfold wX_run_14
    refine br_t (nI_pos' (by omega)) ?_
    unfold wX_run_26
    refine pk_le un 1000 (fun _ => ?_) (fun z => absurd z (by omega))
    unfold wX_run_39
    exact nm_r (nI_add t un) (hR post h _ (fun r hw => ⟨M + 1, hw⟩))
end
end
section
/-! the law's own rows -/
theorem dc_7 : ∀ i, i < 32 → bq_t 7 i = decide (i < 3) := by decide +kernel
theorem dc_nib (x : Int32) {v w : Nat} (hv : v < 4) (hw : w < 4) : bq_t ((x &&& 7) <<< (nI (4 * v) &&& 31)) (4 * w + 3) = false := by
  rw [bq_shl (4 * v) (by omega) _ (by omega), bq_and]
  by_cases h : v ≤ w
  · rw [dc_7 _ (by omega), decide_eq_false (show ¬ (4 * w + 3 - 4 * v) < 3 by omega), Bool.and_false, Bool.and_false]
  · rw [decide_eq_false (show ¬ 4 * v ≤ 4 * w + 3 by omega), Bool.false_and]
theorem dc_nib0 (x : Int32) {w : Nat} (hw : w < 4) : bq_t (x &&& 7) (4 * w + 3) = false := by
  rw [bq_and, dc_7 _ (by omega), decide_eq_false (show ¬ (4 * w + 3) < 3 by omega), Bool.and_false]
theorem dc_sig (x0 x1 x2 x3 : Int32) (w : Nat) (hw : w < 4) : ∃ q, q < 8 ∧ (((((x0 &&& 7) ||| ((x1 &&& 7) <<< ((4 : Int32) &&& 31))) ||| ((x2 &&& 7) <<< ((8 : Int32) &&& 31))) ||| ((x3 &&& 7) <<< ((12 : Int32) &&& 31))) >>> ((4 * nI w) &&& 31)) &&& 15 = nI q := by
  apply bq_part
  rw [show (4 : Int32) * nI w = nI (4 * w) from pk_mul 4 w, bq_sshr (4 * w) (by omega) _ (by omega), if_pos (by omega), bq_or, bq_or, bq_or, dc_nib0 x0 hw]
  have e1 : bq_t ((x1 &&& 7) <<< ((4 : Int32) &&& 31)) (4 * w + 3) = false := dc_nib x1 (v := 1) (by omega) hw
  have e2 : bq_t ((x2 &&& 7) <<< ((8 : Int32) &&& 31)) (4 * w + 3) = false := dc_nib x2 (v := 2) (by omega) hw
  have e3 : bq_t ((x3 &&& 7) <<< ((12 : Int32) &&& 31)) (4 * w + 3) = false := dc_nib x3 (v := 3) (by omega) hw
  rw [e1, e2, e3]
  rfl
theorem dc_how : ∀ k, k < 6 → ∀ d, d < 4 → (nI k ||| (nI d <<< ((4 : Int32) &&& 31))) &&& 7 = nI k ∧ ((nI k ||| (nI d <<< ((4 : Int32) &&& 31))) >>> ((4 : Int32) &&& 31)) &&& 15 = nI d := by decide +kernel
theorem dc_mod (x y : Int32) (n : Nat) (hy : y = nI n) (h0 : 0 < n) (hn : n < 100) : ∃ j, j < n ∧ (x &&& 255) - (x &&& 255) / y * y = nI j := by
  obtain ⟨j, hj, e⟩ := pk_andE x (m := 255) 8 (by decide)
  refine ⟨j % n, Nat.mod_lt _ h0, ?_⟩
  rw [e, hy]
  exact pk_rem (by omega) h0 (by omega)
theorem dc_cell (xs : Nat → Int32) (L k : Nat) (hL : L ≤ 260) (hk : k < 1000) : ∃ r, ∀ post : Int32 → Prop, post r → wpL_cell post L xs () (nI k) := by
  by_cases h : L ≤ k
  · exact ⟨0, fun post hp => pk_le L k (fun _ => hp) (fun z => absurd z (by omega))⟩
  · exact ⟨xs (nI k).toNatClampNeg, fun post hp => pk_le L k (fun z => absurd z h) (fun _ => ⟨vp_in_nI (by omega) (by omega), hp⟩)⟩
abbrev dc_JT : Type := Int32 → Int32 → Int32 → Int32 → Int32 → Int32 → Int32 → (Nat → Int32) → (Nat → Int32) → (Nat → Int32) → (Nat → Int32) → (Nat → Int32) → (Nat → Int32) → (Nat → Int32) → (Nat → Int32) → (Nat → Int32) → (Nat → Int32) → Int32 → Int32 → Int32 → Int32 → (Nat → Int32) → (Nat → Int32) → (Nat → Int32) → (Nat → Int32) → (Nat → Int32) → (Nat → Int32) → (Nat → Int32) → (Nat → Int32) → (Nat → Int32) → (Nat → Int32) → Prop
section
variable {pr tm dn ds : Int32} {a1 a2 a3 a4 a5 a6 a7 a8 a9 a10 : Nat → Int32}
theorem dc_process {post : Int32 → St1 → Prop} {p k d : Nat} {how sg c wt : Int32} (hp : p < 8) (hk : how &&& 7 = nI k) (hk5 : k ≤ 5) (hd : (how >>> ((4 : Int32) &&& 31)) &&& 15 = nI d) (hd9 : d ≤ 9)
    (hs : ∀ w, w < 4 → ∃ q, q < 8 ∧ (sg >>> ((4 * nI w) &&& 31)) &&& 15 = nI q)
    (h : post (nI p) (nI (p + 1), tm, dn, ds, a1, a2, upd a3 p (nI k), upd a4 p (nI d), upd a5 p sg, upd a6 p c, upd a7 p (wt &&& 4095), a8, a9, a10)) :
    wpX_process post (nI p, tm, dn, ds, a1, a2, a3, a4, a5, a6, a7, a8, a9, a10) how sg c wt := by
  unfold wpX_process
  refine pk_loop (σ := Unit) (fun n i _ => wX_process_3 post how sg c wt (nI p) tm dn ds a1 a2 a3 a4 a5 a6 a7 a8 a9 a10 n (nI i)) (fun _ _ => True) 4 0 () (by omega) trivial ?_ ?_
  · refine fun n _ _ => pk_le 4 4 (fun _ => nm_r hk (nm_r hd (pk_le k 5 (fun _ => pk_le d 9 (fun _ => pk_lt p 8 (fun _ => ?_) (fun z => absurd z (by omega))) (fun z => absurd z (by omega))) (fun z => absurd z (by omega))))) (fun z => absurd z (by omega))
    rw [nI_clamp (show p < 2 ^ 31 by omega)]
    exact ⟨pk_in p 8 hp, nm_e ⟨pk_in p 8 hp, nm_e ⟨pk_in p 8 hp, nm_e ⟨pk_in p 8 hp, nm_e ⟨pk_in p 8 hp, nm_e (nm_r (nI_1 p) h)⟩⟩⟩⟩⟩
  · intro n i _ hi _ hw
    obtain ⟨q, hq, e⟩ := hs i hi
    refine pk_le 4 i (fun z => absurd z (by omega)) (fun _ => ?_)
    rw [e]
    exact dc_bad (by omega) (br_t rfl (nm_r (nI_1 i) (hw () trivial)))
/-- what the law knows of signal 11 -/
def dc_D (t : Nat) (x4 x5 ds : Int32) (a1 a8 a9 a10 : Nat → Int32) : Prop := x4 = -1 ∨ ∃ d, d < 20000 ∧ x4 = nI d ∧ dc_G t d x5 ds a1 a8 a9 a10
theorem dc_472 {post : Int32 → Prop} {L : Nat} {xs : Nat → Int32} {J : dc_JT} {n i t kc ks : Nat} {x4 x5 : Int32} (ht : t < 10000) (hD : dc_D t x4 x5 ds a1 a8 a9 a10)
    (hJ : J x4 x5 (nI (i + 2)) (nI n) (nI t) dn ds a1 a2 a3 a4 a5 a6 a7 a8 a9 a10 (nI n) (nI t) dn ds a1 a2 a3 a4 a5 a6 a7 a8 a9 a10) :
    wL_law_472 post L xs J (nI n) x4 x5 (nI i) kc ks (nI n) (nI t) dn ds a1 a2 a3 a4 a5 a6 a7 a8 a9 a10 (nI n) (nI t) dn ds a1 a2 a3 a4 a5 a6 a7 a8 a9 a10 := by
  unfold wL_law_472
  obtain ⟨k, hN⟩ := dc_Nex t ds a9
  have hk10 := hN.1
  have K : ∀ x, x = nI i + 2 → J x4 x5 x (nI n) (nI t) dn ds a1 a2 a3 a4 a5 a6 a7 a8 a9 a10 (nI n) (nI t) dn ds a1 a2 a3 a4 a5 a6 a7 a8 a9 a10 := nm_r (nI_add i 2) hJ
  refine dc_same ht (br_f (by decide) ?_)
  rcases hD with e | ⟨d, hd, e, hG⟩
  · have C : wL_law_506 post L xs J (nI n) x4 x5 (nI i) kc ks (nI n) (nI t) dn ds a1 a2 a3 a4 a5 a6 a7 a8 a9 a10 (nI n) (nI t) dn ds a1 a2 a3 a4 a5 a6 a7 a8 a9 a10 := by
      unfold wL_law_506
      exact dc_value (s := 11) (by omega) (br_c (fun _ => K) (fun _ => br_t (by rw [e]; decide) K))
    exact dc_nextTime hN ht (fun z => br_f (dc_ne5 (by omega)) (br_c (fun _ => K) (fun _ => C))) (fun z => br_t rfl C)
  · rcases hG with ⟨g1, g2, g3⟩ | ⟨g1, g2, g3, g4, g5⟩
    · have C : wL_law_506 post L xs J (nI n) x4 x5 (nI i) kc ks (nI n) (nI t) dn ds a1 a2 a3 a4 a5 a6 a7 a8 a9 a10 (nI n) (nI t) dn ds a1 a2 a3 a4 a5 a6 a7 a8 a9 a10 := by
        unfold wL_law_506
        exact dc_value (s := 11) (by omega) (br_t g1 K)
      exact dc_nextTime hN ht (fun z => br_f (dc_ne5 (by omega)) (br_c (fun _ => K) (fun _ => C))) (fun z => br_t rfl C)
    · have hk : t + k ≤ d ∧ k < 10 := by
        obtain ⟨n1, n2, n3, n4, n5⟩ := hN
        by_cases ed : d = t
        · rcases Nat.eq_zero_or_pos k with z | z
          · omega
          · have := (g4 ed).1
            rw [n3 z, bq_0] at this
            exact absurd this (by decide)
        · rcases Nat.lt_or_ge (d - t) k with z | z
          · have h1 := (g5 (by omega)).1
            have h2 := n4 (d - t) (by omega) z
            rw [show t + (d - t) = d by omega] at h2
            rw [h2, bq_0] at h1
            exact absurd h1 (by decide)
          · omega
      exact dc_nextTime hN ht (fun z => br_f (dc_ne5 (by omega)) (br_t (by rw [e]; exact nI_le hk.1 (by omega)) K)) (fun z => absurd z (by omega))
theorem dc_373 {post : Int32 → Prop} {L : Nat} {xs : Nat → Int32} {J : dc_JT} {n i t kc ks : Nat} {x4 x5 x7 x8 : Int32} (hi : i ≤ 300) (ht : t ≤ 7 * i) (hI : dc_I n t ds a4 a5 a9) (hD : dc_D t x4 x5 ds a1 a8 a9 a10)
    (hJ : ∀ t' x4' x5' dn' ds' b1 b2 b8 b9 b10, t' ≤ 7 * (i + 2) → dc_I n t' ds' a4 a5 b9 → dc_D t' x4' x5' ds' b1 b8 b9 b10 → J x4' x5' (nI (i + 2)) (nI n) (nI t') dn' ds' b1 b2 a3 a4 a5 a6 a7 b8 b9 b10 (nI n) (nI t') dn' ds' b1 b2 a3 a4 a5 a6 a7 b8 b9 b10) :
    wL_law_373 post L xs J (nI n) x4 x5 (nI i) x7 x8 (nI t) kc ks (nI n) (nI t) dn ds a1 a2 a3 a4 a5 a6 a7 a8 a9 a10 (nI n) (nI t) dn ds a1 a2 a3 a4 a5 a6 a7 a8 a9 a10 := by
  unfold wL_law_373
  refine br_c (fun _ => br_c (fun _ => ?_) (fun _ => ?_)) (fun _ => ?_)
  · obtain ⟨b1, b2, b9, h0, hr⟩ := dc_reset (pr := nI n) (tm := nI t) (dn := dn) (ds := ds) (a1 := a1) (a2 := a2) (a3 := a3) (a4 := a4) (a5 := a5) (a6 := a6) (a7 := a7) (a8 := a8) (a9 := a9) (a10 := a10)
    have hI' : dc_I n 0 0 a4 a5 b9 := ⟨hI.1, by omega, bq_sm0, fun j hj => by rw [h0 j hj]; exact bq_sm0, h0 0 (by omega), hI.2.2.2.2.2⟩
    exact hr _ (hr _ (dc_472 (by omega) (Or.inl rfl) (hJ 0 (-1) 0 0 0 b1 b2 a8 b9 a10 (by omega) hI' (Or.inl rfl))))
  · exact dc_472 (by omega) hD (hJ t x4 x5 dn ds a1 a2 a8 a9 a10 (by omega) hI hD)
  · obtain ⟨un, hu, eu⟩ := pk_andE x8 (m := 7) 3 (by decide)
    obtain ⟨M, hM, eM⟩ := pk_andE (x8 >>> ((3 : Int32) &&& 31)) (m := 15) 4 (by decide)
    obtain ⟨R, t', dn', ds', b1, b2, b8, b9, b10, h1, h2, h3, hI', hG', hS, hR⟩ := dc_both (dn := dn) (a1 := a1) (a2 := a2) (a3 := a3) (a6 := a6) (a7 := a7) (a8 := a8) (a10 := a10) (M := M) (un := un) (by omega) (by omega) (by omega) hI
    have hD' : dc_D t' x4 x5 ds' b1 b8 b9 b10 := by
      rcases hD with e | ⟨d, hd, e, hG⟩
      · exact Or.inl e
      · exact Or.inr ⟨d, hd, e, hG' _ _ hG⟩
    refine nm_r eu (nm_r eM (hS _ (br_f (nI_pos (by omega)) (hR _ (br_t rfl (br_f (nI_nlt h2 (by omega)) (br_t ?_ ?_)))))))
    · rw [nI_add]
      exact nI_le h3 (by omega)
    · exact dc_472 (by omega) hD' (hJ t' x4 x5 dn' ds' b1 b2 b8 b9 b10 (by omega) hI' hD')
theorem dc_271 {post : Int32 → Prop} {L : Nat} {xs : Nat → Int32} {J : dc_JT} {n i t kc ks s k : Nat} {x4 x5 x8 : Int32} (hi : i ≤ 300) (ht : t ≤ 7 * i) (hs : s < 12) (hk : k < 6) (hI : dc_I n t ds a4 a5 a9) (hD : dc_D t x4 x5 ds a1 a8 a9 a10)
    (hJ : ∀ t' x4' x5' dn' ds' b1 b2 b8 b9 b10, t' ≤ 7 * (i + 2) → dc_I n t' ds' a4 a5 b9 → dc_D t' x4' x5' ds' b1 b8 b9 b10 → J x4' x5' (nI (i + 2)) (nI n) (nI t') dn' ds' b1 b2 a3 a4 a5 a6 a7 b8 b9 b10 (nI n) (nI t') dn' ds' b1 b2 a3 a4 a5 a6 a7 b8 b9 b10) :
    wL_law_271 post L xs J (nI n) x4 x5 (nI i) x8 (nI s) (nI k) (nI t) kc ks (nI n) (nI t) dn ds a1 a2 a3 a4 a5 a6 a7 a8 a9 a10 (nI n) (nI t) dn ds a1 a2 a3 a4 a5 a6 a7 a8 a9 a10 := by
  unfold wL_law_271
  obtain ⟨r, ds', b8, b9, b10, r1, r2, hI', hG0, hG11, hr⟩ := dc_drive (pr := nI n) (dn := dn) (v := x8) (a1 := a1) (a2 := a2) (a3 := a3) (a6 := a6) (a7 := a7) (a8 := a8) (a10 := a10) hI hs (show k < 10 by omega)
  refine hr _ (pk_lt r 1 (fun z => absurd z (by omega)) (fun _ => hr _ (br_t rfl (pk_eq s 11 (fun e => nm_r (nI_add t k) ?_) (fun e => ?_)))))
  · have hD' : dc_D t (nI (t + k)) x8 ds' a1 b8 b9 b10 := Or.inr ⟨t + k, by omega, rfl, hG11 e⟩
    unfold wL_law_320
    refine pk_eq s 11 (fun _ => ?_) (fun z => absurd e z)
    unfold wL_law_331
    exact dc_472 (by omega) hD' (hJ t _ _ dn ds' a1 a2 b8 b9 b10 (by omega) hI' hD')
  · have hD' : dc_D t x4 x5 ds' a1 b8 b9 b10 := by
      rcases hD with g | ⟨d, hd, g, hG⟩
      · exact Or.inl g
      · exact Or.inr ⟨d, hd, g, hG0 e _ _ hG⟩
    unfold wL_law_320
    refine pk_eq s 11 (fun z => absurd z e) (fun _ => ?_)
    unfold wL_law_331
    exact dc_472 (by omega) hD' (hJ t _ _ dn ds' a1 a2 b8 b9 b10 (by omega) hI' hD')
theorem dc_end {L i : Nat} (hL : L ≤ 260) (hi : i ≤ 300) : (Int32.ofNat L - 2 < nI i) ↔ L < i + 2 := by
  show (nI L - nI 2 < nI i) ↔ _
  rw [Int32.lt_iff_toInt_lt, pk_sub_toInt (by omega) (by omega), nI_toInt (by omega)]
  omega
theorem dc_195 {post : Int32 → Prop} {L : Nat} {xs : Nat → Int32} {n kc ks : Nat} (hL : L ≤ 260) (hn : n ≤ 8) (hp : post 1) (f : Nat) : ∀ i t x4 x5 dn ds a1 a2 a8 a9 a10, L < i + f → i ≤ 300 → t ≤ 7 * i → dc_I n t ds a4 a5 a9 → dc_D t x4 x5 ds a1 a8 a9 a10 →
    wL_law_195 post L xs (nI n) kc ks (f + 1) x4 x5 (nI i) (nI n) (nI t) dn ds a1 a2 a3 a4 a5 a6 a7 a8 a9 a10 (nI n) (nI t) dn ds a1 a2 a3 a4 a5 a6 a7 a8 a9 a10 := by
  induction f with
  | zero =>
    intro i t x4 x5 dn ds a1 a2 a8 a9 a10 h1 h2 h3 hI hD
    exact br_t ((dc_end hL h2).mpr (by omega)) hp
  | succ f ih =>
    intro i t x4 x5 dn ds a1 a2 a8 a9 a10 h1 h2 h3 hI hD
    by_cases hc : L < i + 2
    · exact br_t ((dc_end hL h2).mpr hc) hp
    · have hJ : ∀ t' x4' x5' dn' ds' b1 b2 b8 b9 b10, t' ≤ 7 * (i + 2) → dc_I n t' ds' a4 a5 b9 → dc_D t' x4' x5' ds' b1 b8 b9 b10 → wL_law_195 post L xs (nI n) kc ks (f + 1) x4' x5' (nI (i + 2)) (nI n) (nI t') dn' ds' b1 b2 a3 a4 a5 a6 a7 b8 b9 b10 (nI n) (nI t') dn' ds' b1 b2 a3 a4 a5 a6 a7 b8 b9 b10 :=
        fun t' x4' x5' dn' ds' b1 b2 b8 b9 b10 g1 g2 g3 => ih (i + 2) t' x4' x5' dn' ds' b1 b2 b8 b9 b10 (by omega) (by omega) g1 g2 g3
      obtain ⟨s, hs, es⟩ := pk_andE (xs (nI i).toNatClampNeg >>> ((3 : Int32) &&& 31)) (m := 15) 4 (by decide)
      obtain ⟨k, hk, ek⟩ := dc_mod (xs (nI i).toNatClampNeg >>> ((7 : Int32) &&& 31)) 6 6 rfl (by omega) (by omega)
      have F : ∀ x7 x8, wL_law_373 post L xs (wL_law_195 post L xs (nI n) kc ks (f + 1)) (nI n) x4 x5 (nI i) x7 x8 (nI t) kc ks (nI n) (nI t) dn ds a1 a2 a3 a4 a5 a6 a7 a8 a9 a10 (nI n) (nI t) dn ds a1 a2 a3 a4 a5 a6 a7 a8 a9 a10 := fun x7 x8 => dc_373 h2 h3 hI hD hJ
      refine br_f (fun z => hc ((dc_end hL h2).mp z)) ⟨vp_in_nI (by omega) (by omega), nm_e ⟨by rw [nI_1]; exact vp_in_nI (by omega) (by omega), nm_e ⟨vp_in_nI (by omega) (by omega), nm_r es ⟨vp_in_nI (by omega) (by omega), by decide, nm_r ek ?_⟩⟩⟩⟩
      refine br_c (fun _ => br_c (fun _ => pk_le n 0 (fun _ => F _ _) (fun h0 => ?_)) (fun _ => F _ _)) (fun _ => pk_le s 11 (fun z => dc_271 h2 h3 (by omega) hk hI hD hJ) (fun _ => dc_271 (s := 11) h2 h3 (by omega) hk hI hD hJ))
      obtain ⟨p, hp', ep⟩ := dc_mod (xs (nI i + 1).toNatClampNeg) (nI n) n rfl h0 (by omega)
      obtain ⟨r, ds', b8, b9, b10, hI', hG', hr⟩ := dc_poke (dn := dn) (a1 := a1) (a2 := a2) (a3 := a3) (a6 := a6) (a7 := a7) (a8 := a8) (a10 := a10) hI hp'
      have hD' : dc_D t x4 x5 ds' a1 b8 b9 b10 := by
        rcases hD with g | ⟨d, hd, g, hG⟩
        · exact Or.inl g
        · exact Or.inr ⟨d, hd, g, hG' _ _ hG⟩
      rw [ep]
      exact ⟨nI_ne0 h0 (by omega), hr _ ⟨nI_ne0 h0 (by omega), hr _ (br_t rfl (dc_472 (by omega) hD' (hJ t x4 x5 dn ds' a1 a2 b8 b9 b10 (by omega) hI' hD')))⟩⟩
theorem dc_28 {post : Int32 → Prop} {L : Nat} {xs : Nat → Int32} {n kc ks : Nat} (hL : L ≤ 260) (hn : n ≤ 7) (hp : post 1) (m : Nat) : ∀ p a3 a4 a5 a6 a7, p + m = n → dc_I p 0 ds a4 a5 a9 →
    wL_law_28 post L xs (nI n) kc ks (m + 1) (nI p) (nI p) (nI 0) dn ds a1 a2 a3 a4 a5 a6 a7 a8 a9 a10 (nI p) (nI 0) dn ds a1 a2 a3 a4 a5 a6 a7 a8 a9 a10 := by
  induction m with
  | zero =>
    intro p a3 a4 a5 a6 a7 hm hI
    have e : p = n := by omega
    subst e
    refine pk_le p p (fun _ => nm_r (show (1 : Int32) + 2 * nI p = nI (1 + 2 * p) by rw [show (2 : Int32) * nI p = nI (2 * p) from pk_mul 2 p]; exact nI_add 1 (2 * p)) ⟨L + 1, ?_⟩) (fun z => absurd z (by omega))
    exact dc_195 hL (by omega) hp L (1 + 2 * p) 0 (-1) 0 dn ds a1 a2 a8 a9 a10 (by omega) (by omega) (by omega) hI (Or.inl rfl)
  | succ m ih =>
    intro p a3 a4 a5 a6 a7 hm hI
    obtain ⟨a, ha⟩ := dc_cell xs L (1 + 2 * p) hL (by omega)
    obtain ⟨b, hb⟩ := dc_cell xs L (2 + 2 * p) hL (by omega)
    obtain ⟨k, hk, ek⟩ := dc_mod a 6 6 rfl (by omega) (by omega)
    obtain ⟨d, hd, ed⟩ := dc_mod (a >>> ((8 : Int32) &&& 31)) 4 4 rfl (by omega) (by omega)
    have hh := dc_how k hk d hd
    obtain ⟨i1, i2, i3, i4, i5, i6⟩ := hI
    refine pk_le n p (fun z => absurd z (by omega)) (fun _ => ?_)
    rw [show (1 : Int32) + 2 * nI p = nI (1 + 2 * p) by rw [show (2 : Int32) * nI p = nI (2 * p) from pk_mul 2 p]; exact nI_add 1 (2 * p)]
    rw [show (2 : Int32) + 2 * nI p = nI (2 + 2 * p) by rw [show (2 : Int32) * nI p = nI (2 * p) from pk_mul 2 p]; exact nI_add 2 (2 * p)]
    refine ha _ (hb _ ⟨by decide, by decide, nm_r (by rw [ek, ed]) (nm_e ?_)⟩)
    have sg := dc_sig b (b >>> ((3 : Int32) &&& 31)) (b >>> ((6 : Int32) &&& 31)) (b >>> ((9 : Int32) &&& 31))
    refine dc_process (by omega) hh.1 (by omega) hh.2 (by omega) sg (br_t rfl (dc_process (by omega) hh.1 (by omega) hh.2 (by omega) sg (br_t rfl (nm_r (nI_1 p) (ih (p + 1) _ _ _ _ _ (by omega) ⟨by omega, i2, i3, i4, i5, fun j hj => ?_⟩)))))
    by_cases e : j = p
    · rw [e, pk_us, pk_us]
      exact ⟨⟨d, by omega, rfl⟩, sg⟩
    · rw [pk_un e, pk_un e]
      exact i6 j (by omega)
end
theorem dc_init {post : St1 → Prop} (h : post (0, 0, 0, 0, (fun _ => 0), (fun _ => 0), (fun _ => 0), (fun _ => 0), (fun _ => 0), (fun _ => 0), (fun _ => 0), (fun _ => 0), (fun _ => 0), (fun _ => 0))) : wpX_init post 10 206 (0, 0, 0, 0) := by
  unfold wpX_init
  exact ⟨by omega, by omega, by omega, by omega, by omega, by omega, by omega, by omega, by omega, by omega, by omega, by omega, by omega, by omega, by omega, by omega, by omega, by omega, by omega, by omega, h⟩
end
section
theorem i_vc (xs : Nat → Int32) (L : Nat) (hL : L ≤ 260) : wpL_law (fun r => r = 1) L xs := by
  unfold wpL_law
  obtain ⟨r, hr⟩ := dc_cell xs L 0 hL (by omega)
  obtain ⟨n, hn, en⟩ := pk_andE r (m := 7) 3 (by decide)
  refine ⟨10, 206, by omega, by omega, dc_init ⟨by omega, by omega, 10, 206, by omega, by omega, dc_init (hr _ (nm_r en ⟨n + 1, ?_⟩))⟩⟩
  exact dc_28 (post := fun r => r = 1) (n := n) hL (by omega) rfl n 0 _ _ _ _ _ (by omega) ⟨by omega, by omega, bq_sm0, fun _ _ => bq_sm0, rfl, fun p hp => absurd hp (by omega)⟩
end
