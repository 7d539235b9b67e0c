section
/-! bits of an Int32 (these first rows began as rows of laws/BITS.to-paste) -/
def cv_bt (x : Int32) (i : Nat) : Bool := x.toBitVec.getLsbD i
theorem cv_bext {x y : Int32} (h : ∀ i, i < 32 → cv_bt x i = cv_bt y i) : x = y := Int32.toBitVec_inj.mp (BitVec.eq_of_getLsbD_eq (fun i hi => h i hi))
theorem cv_bor (x y : Int32) (i : Nat) : cv_bt (x ||| y) i = (cv_bt x i || cv_bt y i) := by unfold cv_bt; rw [Int32.toBitVec_or, BitVec.getLsbD_or]
theorem cv_band (x y : Int32) (i : Nat) : cv_bt (x &&& y) i = (cv_bt x i && cv_bt y i) := by unfold cv_bt; rw [Int32.toBitVec_and, BitVec.getLsbD_and]
theorem cv_bxor (x y : Int32) (i : Nat) : cv_bt (x ^^^ y) i = (cv_bt x i ^^ cv_bt y i) := by unfold cv_bt; rw [Int32.toBitVec_xor, BitVec.getLsbD_xor]
theorem cv_bm1 : ∀ i, i < 32 → cv_bt (-1) i = true := by decide +kernel
theorem cv_bz (i : Nat) : cv_bt 0 i = false := BitVec.getLsbD_zero
theorem cv_sl : ∀ n, n < 32 → ((nI n &&& 31).toBitVec.smod 32).toNat = n := by decide +kernel
theorem cv_bshl (n : Nat) (hn : n < 32) (x : Int32) {i : Nat} (hi : i < 32) : cv_bt (x <<< (nI n &&& 31)) i = (decide (n ≤ i) && cv_bt x (i - n)) := by
  unfold cv_bt
  rw [Int32.toBitVec_shiftLeft]
  show (x.toBitVec <<< ((nI n &&& 31).toBitVec.smod 32).toNat).getLsbD i = _
  rw [cv_sl n hn, BitVec.getLsbD_shiftLeft]
  rcases Nat.lt_or_ge i n with h | h
  · simp [h, Nat.not_le.mpr h]
  · simp [hi, h, Nat.not_lt.mpr h]
theorem cv_bsshr (n : Nat) (hn : n < 32) (x : Int32) {i : Nat} (hi : i < 32) : cv_bt (x >>> (nI n &&& 31)) i = if n + i < 32 then cv_bt x (n + i) else cv_bt x 31 := by
  unfold cv_bt
  rw [Int32.toBitVec_shiftRight]
  show (x.toBitVec.sshiftRight ((nI n &&& 31).toBitVec.smod 32).toNat).getLsbD i = _
  rw [cv_sl n hn, BitVec.getLsbD_sshiftRight, BitVec.msb_eq_getLsbD_last]
  simp [hi]
theorem cv_bone : ∀ i, i < 32 → cv_bt 1 i = decide (i = 0) := by decide +kernel
theorem cv_b1s {j i : Nat} (hj : j < 32) (hi : i < 32) : cv_bt ((1 : Int32) <<< (nI j &&& 31)) i = decide (i = j) := by
  rw [cv_bshl j hj 1 hi, cv_bone (i - j) (by omega), Bool.eq_iff_iff]
  simp only [Bool.and_eq_true, decide_eq_true_eq]
  omega
theorem cv_bbit (x : Int32) {j : Nat} (hj : j < 32) : (x >>> (nI j &&& 31)) &&& 1 = if cv_bt x j = true then 1 else 0 := by
  apply cv_bext
  intro i hi
  rw [cv_band, cv_bsshr j hj x hi, cv_bone i hi]
  by_cases e : i = 0
  · subst e
    rw [Nat.add_zero, if_pos hj]
    cases cv_bt x j
    · exact (cv_bz 0).symm
    · exact (cv_bone 0 (by omega)).symm
  · rw [decide_eq_false e, Bool.and_false]
    cases cv_bt x j
    · exact (cv_bz i).symm
    · exact ((cv_bone i hi).trans (decide_eq_false e)).symm
theorem cv_i1 {b : Bool} : ((if b = true then (1 : Int32) else 0) = 1) ↔ b = true := by cases b <;> decide
theorem cv_i0 {b : Bool} : ((if b = true then (1 : Int32) else 0) = 0) ↔ b = false := by cases b <;> decide
theorem cv_bmask (m : Int32) {j : Nat} (hj : j < 32) : (m &&& ((1 : Int32) <<< (nI j &&& 31))) = 0 ↔ cv_bt m j = false := by
  constructor
  · intro h
    have t : cv_bt (m &&& ((1 : Int32) <<< (nI j &&& 31))) j = cv_bt 0 j := by rw [h]
    rw [cv_band, cv_b1s hj hj, cv_bz, decide_eq_true rfl, Bool.and_true] at t
    exact t
  · intro h
    apply cv_bext
    intro i hi
    rw [cv_band, cv_b1s hj hi, cv_bz]
    by_cases e : i = j
    · rw [e, h, Bool.false_and]
    · rw [decide_eq_false e, Bool.and_false]
theorem cv_bset (m : Int32) {j i : Nat} (hj : j < 32) (hi : i < 32) : cv_bt (m ||| ((1 : Int32) <<< (nI j &&& 31))) i = (cv_bt m i || decide (i = j)) := by
  rw [cv_bor, cv_b1s hj hi]
theorem cv_bnot (m : Int32) {i : Nat} (hi : i < 32) : cv_bt (m ^^^ (-1)) i = !cv_bt m i := by
  rw [cv_bxor, cv_bm1 i hi, Bool.xor_true]
theorem cv_bclr (m : Int32) {j i : Nat} (hj : j < 32) (hi : i < 32) : cv_bt (m &&& (((1 : Int32) <<< (nI j &&& 31)) ^^^ (-1))) i = (cv_bt m i && !decide (i = j)) := by
  rw [cv_band, cv_bnot _ hi, cv_b1s hj hi]
/-! an index 8 s + i -/
theorem cv_ix (s i : Nat) : (8 * nI s) + nI i = nI (8 * s + i) := by
  rw [show (8 : Int32) = nI 8 from rfl, pk_mul, nI_add]
theorem cv_cl8 {s i : Nat} (h : 8 * s + i < 2 ^ 31) : ((8 * nI s) + nI i).toNatClampNeg = 8 * s + i := by
  rw [cv_ix, nI_clamp h]
theorem cv_in8 {s i N : Nat} (h : 8 * s + i < N) (hN : N < 2 ^ 31) : vp_in ((8 * nI s) + nI i) N := by
  rw [cv_ix]
  exact vp_in_nI h hN
theorem cv_nm1 {s : Nat} (h : s < 2 ^ 31) : ¬ nI s = -1 := by
  intro e
  have t := congrArg Int32.toInt e
  rw [nI_toInt h] at t
  have t2 : (-1 : Int32).toInt = -1 := by decide
  omega
/-! counts of a Boolean row, of eight rows -/
def cv_cb (p : Nat → Bool) : Nat → Nat
  | 0 => 0
  | n + 1 => cv_cb p n + (if p n = true then 1 else 0)
def cv_cs (p : Nat → Nat → Bool) : Nat → Nat
  | 0 => 0
  | n + 1 => cv_cs p n + cv_cb (p n) 8
theorem cv_cb_congr {p q : Nat → Bool} {n : Nat} (h : ∀ j, j < n → p j = q j) : cv_cb p n = cv_cb q n := by
  induction n with
  | zero => rfl
  | succ n ih =>
    show cv_cb p n + _ = cv_cb q n + _
    rw [ih (fun j hj => h j (by omega)), h n (by omega)]
theorem cv_cs_congr {p q : Nat → Nat → Bool} {n : Nat} (h : ∀ c j, c < n → j < 8 → p c j = q c j) : cv_cs p n = cv_cs q n := by
  induction n with
  | zero => rfl
  | succ n ih =>
    show cv_cs p n + _ = cv_cs q n + _
    rw [ih (fun c j hc hj => h c j (by omega) hj), cv_cb_congr (fun j hj => h n j (by omega) hj)]
theorem cv_cb_le (p : Nat → Bool) (n : Nat) : cv_cb p n ≤ n := by
  induction n with
  | zero => exact Nat.le_refl 0
  | succ n ih =>
    have t : cv_cb p (n + 1) = cv_cb p n + (if p n = true then 1 else 0) := rfl
    rw [t]
    split <;> omega
theorem cv_cs_le (p : Nat → Nat → Bool) (n : Nat) : cv_cs p n ≤ 8 * n := by
  induction n with
  | zero => exact Nat.le_refl 0
  | succ n ih =>
    have t : cv_cs p (n + 1) = cv_cs p n + cv_cb (p n) 8 := rfl
    have t2 := cv_cb_le (p n) 8
    omega
theorem cv_cb_zero {p : Nat → Bool} {n : Nat} : cv_cb p n = 0 ↔ ∀ j, j < n → p j = false := by
  induction n with
  | zero => exact ⟨fun _ j hj => absurd hj (by omega), fun _ => rfl⟩
  | succ n ih =>
    have t : cv_cb p (n + 1) = cv_cb p n + (if p n = true then 1 else 0) := rfl
    constructor
    · intro h
      rw [t] at h
      intro j hj
      by_cases e : j = n
      · rw [e]
        cases g : p n
        · rfl
        · rw [g] at h
          simp at h
      · exact ih.mp (by omega) j (by omega)
    · intro h
      rw [t, ih.mpr (fun j hj => h j (by omega)), h n (by omega)]
      rfl
theorem cv_cs_zero {p : Nat → Nat → Bool} {n : Nat} : cv_cs p n = 0 ↔ ∀ c j, c < n → j < 8 → p c j = false := by
  induction n with
  | zero => exact ⟨fun _ c j hc => absurd hc (by omega), fun _ => rfl⟩
  | succ n ih =>
    have t : cv_cs p (n + 1) = cv_cs p n + cv_cb (p n) 8 := rfl
    constructor
    · intro h
      rw [t] at h
      intro c j hc hj
      by_cases e : c = n
      · rw [e]
        exact cv_cb_zero.mp (by omega) j hj
      · exact ih.mp (by omega) c j (by omega) hj
    · intro h
      rw [t, ih.mpr (fun c j hc hj => h c j (by omega) hj), cv_cb_zero.mpr (fun j hj => h n j (by omega) hj)]
theorem cv_cb8 (p : Nat → Bool) : cv_cb p 8 = 0 + (if p 0 = true then 1 else 0) + (if p 1 = true then 1 else 0) + (if p 2 = true then 1 else 0) + (if p 3 = true then 1 else 0) + (if p 4 = true then 1 else 0) + (if p 5 = true then 1 else 0) + (if p 6 = true then 1 else 0) + (if p 7 = true then 1 else 0) := rfl
theorem cv_cs8 (p : Nat → Nat → Bool) : cv_cs p 8 = 0 + cv_cb (p 0) 8 + cv_cb (p 1) 8 + cv_cb (p 2) 8 + cv_cb (p 3) 8 + cv_cb (p 4) 8 + cv_cb (p 5) 8 + cv_cb (p 6) 8 + cv_cb (p 7) 8 := rfl
theorem cv_cb_rev {p q : Nat → Bool} (h : ∀ j, j < 8 → q (7 - j) = p j) : cv_cb q 8 = cv_cb p 8 := by
  rw [cv_cb8, cv_cb8]
  have h0 : q 7 = p 0 := h 0 (by omega)
  have h1 : q 6 = p 1 := h 1 (by omega)
  have h2 : q 5 = p 2 := h 2 (by omega)
  have h3 : q 4 = p 3 := h 3 (by omega)
  have h4 : q 3 = p 4 := h 4 (by omega)
  have h5 : q 2 = p 5 := h 5 (by omega)
  have h6 : q 1 = p 6 := h 6 (by omega)
  have h7 : q 0 = p 7 := h 7 (by omega)
  rw [h0, h1, h2, h3, h4, h5, h6, h7]
  omega
theorem cv_cs_rev {p q : Nat → Nat → Bool} (h : ∀ c j, c < 8 → j < 8 → q (7 - c) (7 - j) = p c j) : cv_cs q 8 = cv_cs p 8 := by
  rw [cv_cs8, cv_cs8]
  have h0 : cv_cb (q 7) 8 = cv_cb (p 0) 8 := cv_cb_rev (fun j hj => h 0 j (by omega) hj)
  have h1 : cv_cb (q 6) 8 = cv_cb (p 1) 8 := cv_cb_rev (fun j hj => h 1 j (by omega) hj)
  have h2 : cv_cb (q 5) 8 = cv_cb (p 2) 8 := cv_cb_rev (fun j hj => h 2 j (by omega) hj)
  have h3 : cv_cb (q 4) 8 = cv_cb (p 3) 8 := cv_cb_rev (fun j hj => h 3 j (by omega) hj)
  have h4 : cv_cb (q 3) 8 = cv_cb (p 4) 8 := cv_cb_rev (fun j hj => h 4 j (by omega) hj)
  have h5 : cv_cb (q 2) 8 = cv_cb (p 5) 8 := cv_cb_rev (fun j hj => h 5 j (by omega) hj)
  have h6 : cv_cb (q 1) 8 = cv_cb (p 6) 8 := cv_cb_rev (fun j hj => h 6 j (by omega) hj)
  have h7 : cv_cb (q 0) 8 = cv_cb (p 7) 8 := cv_cb_rev (fun j hj => h 7 j (by omega) hj)
  omega
/-! a chunk's content: key j is there (some value) or not -/
def cv_ck (m v : Int32) (j : Nat) : Option Int32 := if cv_bt m j = true then some v else none
def cv_K (m v : Nat → Int32) (s j : Nat) : Option Int32 := cv_ck (m s) (v (8 * s + j)) j
def cv_nm (m v : Nat → Int32) (s : Nat) : Prop := ∀ j, j < 8 → cv_bt (m s) j = false → v (8 * s + j) = 0
def cv_df (x y : Option Int32) : Bool := decide (x ≠ y)
theorem cv_df_self (x : Option Int32) : cv_df x x = false := decide_eq_false (fun h => h rfl)
theorem cv_df_false {x y : Option Int32} : cv_df x y = false ↔ x = y := by
  unfold cv_df
  rw [decide_eq_false_iff_not]
  exact Decidable.not_not
theorem cv_df_true {x y : Option Int32} : cv_df x y = true ↔ x ≠ y := decide_eq_true_iff
theorem cv_ckd {m v m' v' : Int32} {j : Nat} (h : cv_bt m j = false → v = 0) (h' : cv_bt m' j = false → v' = 0) : ((cv_bt m j ^^ cv_bt m' j) || decide (v ≠ v')) = cv_df (cv_ck m v j) (cv_ck m' v' j) := by
  unfold cv_ck cv_df
  cases e : cv_bt m j <;> cases e' : cv_bt m' j
  · rw [h e, h' e']
    simp
  · simp
  · simp
  · simp
theorem cv_ck_some {m v : Int32} {j : Nat} : (cv_ck m v j = none) ↔ cv_bt m j = false := by
  unfold cv_ck
  cases cv_bt m j <;> simp
/-! the mirror of a value; the merge of three -/
def cv_mo (x : Option Int32) : Option Int32 := x.map (fun v => -v - 1)
theorem cv_neg (v : Int32) : -(-v - 1) - 1 = v := by grind
theorem cv_momo (x : Option Int32) : cv_mo (cv_mo x) = x := by
  cases x with
  | none => rfl
  | some v => exact congrArg some (cv_neg v)
theorem cv_mo_inj {x y : Option Int32} : cv_mo x = cv_mo y ↔ x = y :=
  ⟨fun h => by rw [← cv_momo x, h, cv_momo], fun h => by rw [h]⟩
theorem cv_mo_none {x : Option Int32} : cv_mo x = none ↔ x = none := by
  cases x with
  | none => exact ⟨fun _ => rfl, fun _ => rfl⟩
  | some v => exact ⟨fun h => (nomatch h), fun h => (nomatch h)⟩
theorem cv_df_mo (x y : Option Int32) : cv_df (cv_mo x) (cv_mo y) = cv_df x y := by
  unfold cv_df
  exact decide_eq_decide.mpr (not_congr cv_mo_inj)
def cv_cf (o a b : Option Int32) : Bool := (cv_df a b && cv_df a o) && cv_df b o
def cv_ft (o a b : Option Int32) (sd : Bool) : Bool := (cv_df b o && !cv_df a o) || (sd && cv_cf o a b)
def cv_mg (o a b : Option Int32) (sd : Bool) : Option Int32 := if cv_ft o a b sd = true then b else a
theorem cv_cf_mo (o a b : Option Int32) : cv_cf (cv_mo o) (cv_mo a) (cv_mo b) = cv_cf o a b := by
  unfold cv_cf
  rw [cv_df_mo, cv_df_mo, cv_df_mo]
theorem cv_mg_mo (o a b : Option Int32) (sd : Bool) : cv_mg (cv_mo o) (cv_mo a) (cv_mo b) sd = cv_mo (cv_mg o a b sd) := by
  unfold cv_mg cv_ft
  rw [cv_cf_mo, cv_df_mo, cv_df_mo]
  split <;> rfl
theorem cv_mg_o (o b : Option Int32) (sd : Bool) : cv_mg o o b sd = b ∧ cv_cf o o b = false := by
  have h : cv_df o o = false := cv_df_self o
  have g : cv_cf o o b = false := by
    unfold cv_cf
    rw [h, Bool.and_false, Bool.false_and]
  refine ⟨?_, g⟩
  unfold cv_mg cv_ft
  rw [g, h, Bool.and_false, Bool.or_false, Bool.not_false, Bool.and_true]
  cases e : cv_df b o
  · exact (cv_df_false.mp e).symm
  · rfl
theorem cv_mg_a (o a : Option Int32) (sd : Bool) : cv_mg o a o sd = a ∧ cv_cf o a o = false := by
  have h : cv_df o o = false := cv_df_self o
  have g : cv_cf o a o = false := by
    unfold cv_cf
    rw [h, Bool.and_false]
  refine ⟨?_, g⟩
  unfold cv_mg cv_ft
  rw [g, h, Bool.and_false, Bool.or_false, Bool.false_and]
  rfl
theorem cv_mg_s (o a : Option Int32) (sd : Bool) : cv_mg o a a sd = a ∧ cv_cf o a a = false := by
  have h : cv_df a a = false := cv_df_self a
  have g : cv_cf o a a = false := by
    unfold cv_cf
    rw [h, Bool.false_and, Bool.false_and]
  refine ⟨?_, g⟩
  unfold cv_mg
  split <;> rfl
end
section
/-! ones, isDraft, difference, clashesIn, differsFromWork -/
variable {dm sr ct br cl : Int32} {a1 a2 a3 a4 a5 a6 a7 a8 a9 a10 a11 a12 a13 : Nat → Int32}
theorem cv_ones {post : Int32 → Prop} {x : Int32} {p : Nat → Bool} (hx : ∀ j, j < 8 → cv_bt x j = p j) (H : post (nI (cv_cb p 8))) : wpX_ones post () x :=
  pk_loop (fun n i s => wX_ones_4 post x n s (nI i)) (fun i s => s = nI (cv_cb p i)) 8 0 0 (by omega) rfl
    (fun n s h => pk_le 8 8 (fun _ => by rw [h]; exact H) (fun z => absurd z (by omega)))
    (fun n i s hi h hw => pk_le 8 i (fun z => absurd z (by omega)) (fun _ => nm_r (e' := nI (cv_cb p (i + 1))) (by
      rw [h, cv_bbit x (by omega), hx i hi]
      show _ = nI (cv_cb p i + (if p i = true then 1 else 0))
      rw [← nI_add]
      cases p i <;> rfl) (nm_r (nI_1 i) (hw _ rfl))))
theorem cv_isDraft {post : Int32 → Prop} {s : Nat} (hs : s < 168) (H1 : a1 s = dm → (∀ j, j < 8 → a2 (8 * s + j) = a13 j) → post 1) (H0 : post 0) : wpX_isDraft post (dm, sr, ct, br, cl, a1, a2, a3, a4, a5, a6, a7, a8, a9, a10, a11, a12, a13) (nI s) := by
  unfold wpX_isDraft
  dsimp only
  refine ⟨pk_in s 168 hs, ?_⟩
  rw [nI_clamp (show s < 2 ^ 31 by omega)]
  refine br_c (fun g => ?_) (fun _ => H0)
  exact pk_loop (σ := Unit) (fun n i _ => wX_isDraft_17 post (nI s) dm sr ct br cl a1 a2 a3 a4 a5 a6 a7 a8 a9 a10 a11 a12 a13 n (nI i)) (fun i _ => ∀ j, j < i → a2 (8 * s + j) = a13 j) 8 0 () (by omega) (fun j hj => absurd hj (by omega))
    (fun n _ h => pk_le 8 8 (fun _ => H1 g h) (fun z => absurd z (by omega)))
    (fun n i _ hi h hw => pk_le 8 i (fun z => absurd z (by omega)) (fun _ => ⟨cv_in8 (by omega) (by omega), pk_in i 8 hi, by
      rw [cv_cl8 (show 8 * s + i < 2 ^ 31 by omega), nI_clamp (show i < 2 ^ 31 by omega)]
      exact br_c (fun e => nm_r (nI_1 i) (hw () (lt_s h e))) (fun _ => H0)⟩))
theorem cv_difference {post : Int32 → Prop} {s t : Nat} (hs : s < 168) (ht : t < 168) (ns : cv_nm a1 a2 s) (nt : cv_nm a1 a2 t)
    (H : ∀ r : Int32, (∀ j, j < 8 → cv_bt r j = cv_df (cv_K a1 a2 s j) (cv_K a1 a2 t j)) → post r) : wpX_difference post (dm, sr, ct, br, cl, a1, a2, a3, a4, a5, a6, a7, a8, a9, a10, a11, a12, a13) (nI s) (nI t) := by
  unfold wpX_difference
  dsimp only
  refine pk_eq s t (fun e => H 0 (fun j hj => ?_)) (fun e => ⟨pk_in s 168 hs, pk_in t 168 ht, nm_e ?_⟩)
  · rw [e, cv_bz, cv_df_self]
  · rw [nI_clamp (show s < 2 ^ 31 by omega), nI_clamp (show t < 2 ^ 31 by omega)]
    refine pk_loop (fun n i x => wX_difference_24 post (nI s) (nI t) dm sr ct br cl a1 a2 a3 a4 a5 a6 a7 a8 a9 a10 a11 a12 a13 n x (nI i)) (fun i x => ∀ j, j < 8 → cv_bt x j = ((cv_bt (a1 s) j ^^ cv_bt (a1 t) j) || (decide (j < i) && decide (a2 (8 * s + j) ≠ a2 (8 * t + j))))) 8 0 _ (by omega) (fun j hj => ?_)
      (fun n x h => pk_le 8 8 (fun _ => H x (fun j hj => ?_)) (fun z => absurd z (by omega)))
      (fun n i x hi h hw => pk_le 8 i (fun z => absurd z (by omega)) (fun _ => ⟨cv_in8 (by omega) (by omega), cv_in8 (by omega) (by omega), ?_⟩))
    · rw [cv_bxor, decide_eq_false (Nat.not_lt_zero j), Bool.false_and, Bool.or_false]
    · rw [h j hj, decide_eq_true hj, Bool.true_and]
      exact cv_ckd (ns j hj) (nt j hj)
    · rw [cv_cl8 (show 8 * s + i < 2 ^ 31 by omega), cv_cl8 (show 8 * t + i < 2 ^ 31 by omega)]
      refine br_c (fun g => nm_r (nI_1 i) (hw _ (fun j hj => ?_))) (fun g => nm_e (nm_r (nI_1 i) (hw _ (fun j hj => ?_))))
      · rw [h j hj]
        by_cases e : j = i
        · rw [e, g]
          simp
        · rw [show decide (j < i + 1) = decide (j < i) from decide_eq_decide.mpr (by omega)]
      · rw [cv_bset x (by omega) (by omega), h j hj]
        by_cases e : j = i
        · rw [e, decide_eq_true (show i < i + 1 by omega), decide_eq_true g, decide_eq_true (show i = i from rfl)]
          simp
        · rw [show decide (j < i + 1) = decide (j < i) from decide_eq_decide.mpr (by omega), decide_eq_false e, Bool.or_false]
theorem cv_clashesIn {post : Int32 → Prop} {o s t : Nat} (ho : o < 168) (hs : s < 168) (ht : t < 168) (no : cv_nm a1 a2 o) (ns : cv_nm a1 a2 s) (nt : cv_nm a1 a2 t)
    (H : ∀ r : Int32, (∀ j, j < 8 → cv_bt r j = cv_cf (cv_K a1 a2 o j) (cv_K a1 a2 s j) (cv_K a1 a2 t j)) → post r) : wpX_clashesIn post (dm, sr, ct, br, cl, a1, a2, a3, a4, a5, a6, a7, a8, a9, a10, a11, a12, a13) (nI o) (nI s) (nI t) := by
  unfold wpX_clashesIn
  dsimp only
  refine cv_difference hs ht ns nt (fun r1 h1 => cv_difference hs ho ns no (fun r2 h2 => cv_difference ht ho nt no (fun r3 h3 => H _ (fun j hj => ?_))))
  rw [cv_band, cv_band, h1 j hj, h2 j hj, h3 j hj]
  rfl
theorem cv_differsFromWork {post : Int32 → Prop} {c s : Nat} (hc : c < 8) (hs : s < 168) (nc : cv_nm a10 a11 c) (ns : cv_nm a1 a2 s)
    (H : post (nI (cv_cb (fun j => cv_df (cv_K a10 a11 c j) (cv_K a1 a2 s j)) 8))) : wpX_differsFromWork post (dm, sr, ct, br, cl, a1, a2, a3, a4, a5, a6, a7, a8, a9, a10, a11, a12, a13) (nI c) (nI s) := by
  unfold wpX_differsFromWork
  dsimp only
  refine pk_loop (fun n i x => wX_differsFromWork_5 post (nI c) (nI s) dm sr ct br cl a1 a2 a3 a4 a5 a6 a7 a8 a9 a10 a11 a12 a13 n x (nI i)) (fun i x => x = nI (cv_cb (fun j => cv_df (cv_K a10 a11 c j) (cv_K a1 a2 s j)) i)) 8 0 0 (by omega) rfl
    (fun n x h => pk_le 8 8 (fun _ => by rw [h]; exact H) (fun z => absurd z (by omega)))
    (fun n i x hi h hw => pk_le 8 i (fun z => absurd z (by omega)) (fun _ => ⟨pk_in c 8 hc, pk_in s 168 hs, ?_⟩))
  have key : cv_df (cv_K a10 a11 c i) (cv_K a1 a2 s i) = ((cv_bt (a10 c) i ^^ cv_bt (a1 s) i) || decide (a11 (8 * c + i) ≠ a2 (8 * s + i))) := (cv_ckd (nc i hi) (ns i hi)).symm
  have up : ∀ b : Bool, cv_df (cv_K a10 a11 c i) (cv_K a1 a2 s i) = b → x + (if b = true then 1 else 0) = nI (cv_cb (fun j => cv_df (cv_K a10 a11 c j) (cv_K a1 a2 s j)) (i + 1)) := by
    intro b hb
    show _ = nI (cv_cb (fun j => cv_df (cv_K a10 a11 c j) (cv_K a1 a2 s j)) i + (if cv_df (cv_K a10 a11 c i) (cv_K a1 a2 s i) = true then 1 else 0))
    rw [h, hb, ← nI_add]
    cases b <;> rfl
  rw [nI_clamp (show c < 2 ^ 31 by omega), nI_clamp (show s < 2 ^ 31 by omega), cv_bbit _ (show i < 32 by omega), cv_bxor]
  refine br_c (fun g => ?_) (fun g => ?_)
  · unfold wX_differsFromWork_39
    have g' := cv_i1.mp g
    exact br_f (by decide) (nm_r (up true (by rw [key, g', Bool.true_or])) (nm_r (nI_1 i) (hw _ rfl)))
  · unfold wX_differsFromWork_39
    have g' : (cv_bt (a10 c) i ^^ cv_bt (a1 s) i) = false := by
      cases e : (cv_bt (a10 c) i ^^ cv_bt (a1 s) i)
      · rfl
      · exact absurd (cv_i1.mpr e) g
    refine br_t rfl ⟨cv_in8 (by omega) (by omega), cv_in8 (by omega) (by omega), ?_⟩
    rw [cv_cl8 (show 8 * c + i < 2 ^ 31 by omega), cv_cl8 (show 8 * s + i < 2 ^ 31 by omega)]
    refine br_c (fun e => nm_r (up false (by rw [key, g', Bool.false_or]; exact decide_eq_false (fun z => z e))) (nm_r (nI_1 i) (hw _ rfl))) (fun e => nm_r (up true (by rw [key, g', Bool.false_or]; exact decide_eq_true e)) (nm_r (nI_1 i) (hw _ rfl)))
end
section
/-! the store of kept chunks; intern -/
variable {dm sr ct br cl : Int32} {a1 a2 a3 a4 a5 a6 a7 a8 a9 a10 a11 a12 a13 : Nat → Int32}
/-- none, or a kept chunk's number -/
def cv_P (st : Nat) (x : Int32) : Prop := x = -1 ∨ ∃ s, s < st ∧ x = nI s
theorem cv_P_mono {st st' : Nat} {x : Int32} (h : st ≤ st') (p : cv_P st x) : cv_P st' x := by
  rcases p with e | ⟨s, hs, e⟩
  · exact Or.inl e
  · exact Or.inr ⟨s, by omega, e⟩
def cv_S (st : Nat) (a1 a2 a3 a4 : Nat → Int32) : Prop := (∀ s, s < st → cv_nm a1 a2 s) ∧ (∀ i, i < 32 → cv_P st (a4 i)) ∧ (∀ s, s < st → cv_P st (a3 s))
theorem cv_intern108 {post : Int32 → St1 → Prop} {st k : Nat} (hst : st < 168) (hk : k < 32) {c2 : Nat → Int32}
    (H : ∀ d2 : Nat → Int32, (∀ j, j < 8 → d2 (8 * st + j) = a13 j) → (∀ q, q < 8 * st → d2 q = c2 q) → post (nI st) (dm, nI (st + 1), ct, br, cl, a1, d2, upd a3 st (a4 k), upd a4 k (nI st), a5, a6, a7, a8, a9, a10, a11, a12, a13)) :
    ∃ f, wX_intern_108 post (nI k) dm (nI st) ct br cl f 0 a1 c2 a3 a4 a5 a6 a7 a8 a9 a10 a11 a12 a13 := by
  refine pk_loop (fun n i s => wX_intern_108 post (nI k) dm (nI st) ct br cl n (nI i) a1 s a3 a4 a5 a6 a7 a8 a9 a10 a11 a12 a13) (fun i s => (∀ j, j < i → s (8 * st + j) = a13 j) ∧ (∀ q, q < 8 * st → s q = c2 q)) 8 0 c2 (by omega) ⟨fun j hj => absurd hj (by omega), fun q hq => rfl⟩
    (fun n s h => pk_le 8 8 (fun _ => ⟨pk_in k 32 hk, pk_in st 168 hst, nm_e ⟨pk_in k 32 hk, nm_e (nm_r (nI_1 st) ?_)⟩⟩) (fun z => absurd z (by omega)))
    (fun n i s hi h hw => pk_le 8 i (fun z => absurd z (by omega)) (fun _ => ⟨pk_in i 8 hi, cv_in8 (by omega) (by omega), nm_e (nm_r (nI_1 i) (hw _ ⟨fun j hj => ?_, fun q hq => ?_⟩))⟩))
  · rw [nI_pred, nI_clamp (show st < 2 ^ 31 by omega), nI_clamp (show k < 2 ^ 31 by omega)]
    exact H s h.1 h.2
  · rw [cv_cl8 (show 8 * st + i < 2 ^ 31 by omega), nI_clamp (show i < 2 ^ 31 by omega)]
    by_cases e : j = i
    · rw [e, pk_us]
    · rw [pk_un (show 8 * st + j ≠ 8 * st + i by omega)]
      exact h.1 j (by omega)
  · rw [cv_cl8 (show 8 * st + i < 2 ^ 31 by omega), pk_un (show q ≠ 8 * st + i by omega)]
    exact h.2 q hq
theorem cv_intern92 {post : Int32 → St1 → Prop} {st k : Nat} (hst : st < 168) (hk : k < 32) (hS : cv_S st a1 a2 a3 a4) (hd : ∀ j, j < 8 → cv_bt dm j = false → a13 j = 0)
    (H : ∀ (t st' : Nat) (c1 c2 c3 c4 : Nat → Int32), st ≤ st' → st' ≤ st + 1 → t < st' → cv_S st' c1 c2 c3 c4 → (∀ s j, s < st → j < 8 → cv_K c1 c2 s j = cv_K a1 a2 s j) → (∀ j, j < 8 → cv_K c1 c2 t j = cv_ck dm (a13 j) j) → post (nI t) (dm, nI st', ct, br, cl, c1, c2, c3, c4, a5, a6, a7, a8, a9, a10, a11, a12, a13)) :
    wX_intern_92 post (nI k) dm (nI st) ct br cl a1 a2 a3 a4 a5 a6 a7 a8 a9 a10 a11 a12 a13 := by
  unfold wX_intern_92
  refine ⟨pk_in st 168 hst, nm_r (e' := upd a1 st dm) (by rw [nI_clamp (show st < 2 ^ 31 by omega)]) (cv_intern108 hst hk (fun d2 h1 h2 => ?_))⟩
  have hK : ∀ j, j < 8 → cv_K (upd a1 st dm) d2 st j = cv_ck dm (a13 j) j := by
    intro j hj
    unfold cv_K
    rw [pk_us, h1 j hj]
  refine H st (st + 1) _ _ _ _ (by omega) (by omega) (by omega) ⟨fun s hs j hj => ?_, fun i hi => ?_, fun s hs => ?_⟩ (fun s j hs hj => ?_) hK
  · by_cases e : s = st
    · rw [e, pk_us, h1 j hj]
      exact hd j hj
    · rw [pk_un e, h2 (8 * s + j) (by omega)]
      exact hS.1 s (by omega) j hj
  · by_cases e : i = k
    · rw [e, pk_us]
      exact Or.inr ⟨st, by omega, rfl⟩
    · rw [pk_un e]
      exact cv_P_mono (by omega) (hS.2.1 i hi)
  · by_cases e : s = st
    · rw [e, pk_us]
      exact cv_P_mono (by omega) (hS.2.1 k hk)
    · rw [pk_un e]
      exact cv_P_mono (by omega) (hS.2.2 s (by omega))
  · unfold cv_K
    rw [pk_un (show s ≠ st by omega), h2 (8 * s + j) (by omega)]
theorem cv_intern {post : Int32 → St1 → Prop} {st : Nat} (hst : st < 168) (hS : cv_S st a1 a2 a3 a4) (hd : ∀ j, j < 8 → cv_bt dm j = false → a13 j = 0)
    (H : ∀ (t st' : Nat) (c1 c2 c3 c4 : Nat → Int32), st ≤ st' → st' ≤ st + 1 → t < st' → cv_S st' c1 c2 c3 c4 → (∀ s j, s < st → j < 8 → cv_K c1 c2 s j = cv_K a1 a2 s j) → (∀ j, j < 8 → cv_K c1 c2 t j = cv_ck dm (a13 j) j) → post (nI t) (dm, nI st', ct, br, cl, c1, c2, c3, c4, a5, a6, a7, a8, a9, a10, a11, a12, a13)) :
    wpX_intern post (dm, nI st, ct, br, cl, a1, a2, a3, a4, a5, a6, a7, a8, a9, a10, a11, a12, a13) := by
  unfold wpX_intern
  dsimp only
  refine pk_loop (fun n i x => wX_intern_7 post dm (nI st) ct br cl a1 a2 a3 a4 a5 a6 a7 a8 a9 a10 a11 a12 a13 n x (nI i)) (fun _ _ => True) 8 0 dm (by omega) trivial
    (fun n x _ => pk_le 8 8 (fun _ => ?_) (fun z => absurd z (by omega)))
    (fun n i x hi _ hw => pk_le 8 i (fun z => absurd z (by omega)) (fun _ => ⟨pk_in i 8 hi, nm_e (nm_r (nI_1 i) (hw _ trivial))⟩))
  obtain ⟨k, hk, ek⟩ := pk_andE ((x ^^^ ((x.toUInt32 >>> ((7 : Int32).toUInt32 &&& Int32.toUInt32 31)).toInt32)) ^^^ ((x.toUInt32 >>> ((19 : Int32).toUInt32 &&& Int32.toUInt32 31)).toInt32)) (m := 31) 5 (by decide)
  have hk' : k < 32 := hk
  refine nm_r ek ⟨pk_in k 32 hk', nm_r (e' := a4 k) (by rw [nI_clamp (show k < 2 ^ 31 by omega)]) ?_⟩
  refine pk_loop (fun n i y => wX_intern_56 post (nI k) dm (nI st) ct br cl a1 a2 a3 a4 a5 a6 a7 a8 a9 a10 a11 a12 a13 n y (nI i)) (fun _ y => cv_P st y) 168 0 (a4 k) (by omega) (hS.2.1 k hk')
    (fun n y _ => pk_le 168 168 (fun _ => cv_intern92 hst hk' hS hd H) (fun z => absurd z (by omega)))
    (fun n i y hi hy hw => pk_le 168 i (fun z => absurd z (by omega)) (fun _ => ?_))
  rcases hy with e | ⟨t, ht, e⟩
  · exact br_t e (cv_intern92 hst hk' hS hd H)
  · rw [e]
    refine br_f (cv_nm1 (by omega)) (cv_isDraft (by omega) (fun g1 g2 => br_f (by decide) ?_) (br_t rfl ⟨pk_in t 168 (by omega), nm_r (e' := a3 t) (by rw [nI_clamp (show t < 2 ^ 31 by omega)]) (nm_r (nI_1 i) (hw _ (hS.2.2 t ht)))⟩))
    refine H t st a1 a2 a3 a4 (by omega) (by omega) ht hS (fun s j _ _ => rfl) (fun j hj => ?_)
    unfold cv_K
    rw [g1, g2 j hj]
theorem cv_intern2_108 {post : Int32 → St1 → Prop} {st k : Nat} (hst : st < 168) (hk : k < 32) {c2 : Nat → Int32}
    (H : ∀ d2 : Nat → Int32, (∀ j, j < 8 → d2 (8 * st + j) = a13 j) → (∀ q, q < 8 * st → d2 q = c2 q) → post (nI st) (dm, nI (st + 1), ct, br, cl, a1, d2, upd a3 st (a4 k), upd a4 k (nI st), a5, a6, a7, a8, a9, a10, a11, a12, a13)) :
    ∃ f, wX_intern_2_108 post (nI k) dm (nI st) ct br cl f 0 a1 c2 a3 a4 a5 a6 a7 a8 a9 a10 a11 a12 a13 := by
  refine pk_loop (fun n i s => wX_intern_2_108 post (nI k) dm (nI st) ct br cl n (nI i) a1 s a3 a4 a5 a6 a7 a8 a9 a10 a11 a12 a13) (fun i s => (∀ j, j < i → s (8 * st + j) = a13 j) ∧ (∀ q, q < 8 * st → s q = c2 q)) 8 0 c2 (by omega) ⟨fun j hj => absurd hj (by omega), fun q hq => rfl⟩
    (fun n s h => pk_le 8 8 (fun _ => ⟨pk_in k 32 hk, pk_in st 168 hst, nm_e ⟨pk_in k 32 hk, nm_e (nm_r (nI_1 st) ?_)⟩⟩) (fun z => absurd z (by omega)))
    (fun n i s hi h hw => pk_le 8 i (fun z => absurd z (by omega)) (fun _ => ⟨pk_in i 8 hi, cv_in8 (by omega) (by omega), nm_e (nm_r (nI_1 i) (hw _ ⟨fun j hj => ?_, fun q hq => ?_⟩))⟩))
  · rw [nI_pred, nI_clamp (show st < 2 ^ 31 by omega), nI_clamp (show k < 2 ^ 31 by omega)]
    exact H s h.1 h.2
  · rw [cv_cl8 (show 8 * st + i < 2 ^ 31 by omega), nI_clamp (show i < 2 ^ 31 by omega)]
    by_cases e : j = i
    · rw [e, pk_us]
    · rw [pk_un (show 8 * st + j ≠ 8 * st + i by omega)]
      exact h.1 j (by omega)
  · rw [cv_cl8 (show 8 * st + i < 2 ^ 31 by omega), pk_un (show q ≠ 8 * st + i by omega)]
    exact h.2 q hq
theorem cv_intern2_92 {post : Int32 → St1 → Prop} {st k : Nat} (hst : st < 168) (hk : k < 32) (hS : cv_S st a1 a2 a3 a4) (hd : ∀ j, j < 8 → cv_bt dm j = false → a13 j = 0)
    (H : ∀ (t st' : Nat) (c1 c2 c3 c4 : Nat → Int32), st ≤ st' → st' ≤ st + 1 → t < st' → cv_S st' c1 c2 c3 c4 → (∀ s j, s < st → j < 8 → cv_K c1 c2 s j = cv_K a1 a2 s j) → (∀ j, j < 8 → cv_K c1 c2 t j = cv_ck dm (a13 j) j) → post (nI t) (dm, nI st', ct, br, cl, c1, c2, c3, c4, a5, a6, a7, a8, a9, a10, a11, a12, a13)) :
    wX_intern_2_92 post (nI k) dm (nI st) ct br cl a1 a2 a3 a4 a5 a6 a7 a8 a9 a10 a11 a12 a13 := by
  unfold wX_intern_2_92
  refine ⟨pk_in st 168 hst, nm_r (e' := upd a1 st dm) (by rw [nI_clamp (show st < 2 ^ 31 by omega)]) (cv_intern2_108 hst hk (fun d2 h1 h2 => ?_))⟩
  have hK : ∀ j, j < 8 → cv_K (upd a1 st dm) d2 st j = cv_ck dm (a13 j) j := by
    intro j hj
    unfold cv_K
    rw [pk_us, h1 j hj]
  refine H st (st + 1) _ _ _ _ (by omega) (by omega) (by omega) ⟨fun s hs j hj => ?_, fun i hi => ?_, fun s hs => ?_⟩ (fun s j hs hj => ?_) hK
  · by_cases e : s = st
    · rw [e, pk_us, h1 j hj]
      exact hd j hj
    · rw [pk_un e, h2 (8 * s + j) (by omega)]
      exact hS.1 s (by omega) j hj
  · by_cases e : i = k
    · rw [e, pk_us]
      exact Or.inr ⟨st, by omega, rfl⟩
    · rw [pk_un e]
      exact cv_P_mono (by omega) (hS.2.1 i hi)
  · by_cases e : s = st
    · rw [e, pk_us]
      exact cv_P_mono (by omega) (hS.2.1 k hk)
    · rw [pk_un e]
      exact cv_P_mono (by omega) (hS.2.2 s (by omega))
  · unfold cv_K
    rw [pk_un (show s ≠ st by omega), h2 (8 * s + j) (by omega)]
theorem cv_intern2_ {post : Int32 → St1 → Prop} {st : Nat} (hst : st < 168) (hS : cv_S st a1 a2 a3 a4) (hd : ∀ j, j < 8 → cv_bt dm j = false → a13 j = 0)
    (H : ∀ (t st' : Nat) (c1 c2 c3 c4 : Nat → Int32), st ≤ st' → st' ≤ st + 1 → t < st' → cv_S st' c1 c2 c3 c4 → (∀ s j, s < st → j < 8 → cv_K c1 c2 s j = cv_K a1 a2 s j) → (∀ j, j < 8 → cv_K c1 c2 t j = cv_ck dm (a13 j) j) → post (nI t) (dm, nI st', ct, br, cl, c1, c2, c3, c4, a5, a6, a7, a8, a9, a10, a11, a12, a13)) :
    wpX_intern_2 post (dm, nI st, ct, br, cl, a1, a2, a3, a4, a5, a6, a7, a8, a9, a10, a11, a12, a13) := by
  unfold wpX_intern_2
  dsimp only
  refine pk_loop (fun n i x => wX_intern_2_7 post dm (nI st) ct br cl a1 a2 a3 a4 a5 a6 a7 a8 a9 a10 a11 a12 a13 n x (nI i)) (fun _ _ => True) 8 0 dm (by omega) trivial
    (fun n x _ => pk_le 8 8 (fun _ => ?_) (fun z => absurd z (by omega)))
    (fun n i x hi _ hw => pk_le 8 i (fun z => absurd z (by omega)) (fun _ => ⟨pk_in i 8 hi, nm_e (nm_r (nI_1 i) (hw _ trivial))⟩))
  obtain ⟨k, hk, ek⟩ := pk_andE ((x ^^^ ((x.toUInt32 >>> ((7 : Int32).toUInt32 &&& Int32.toUInt32 31)).toInt32)) ^^^ ((x.toUInt32 >>> ((19 : Int32).toUInt32 &&& Int32.toUInt32 31)).toInt32)) (m := 31) 5 (by decide)
  have hk' : k < 32 := hk
  refine nm_r ek ⟨pk_in k 32 hk', nm_r (e' := a4 k) (by rw [nI_clamp (show k < 2 ^ 31 by omega)]) ?_⟩
  refine pk_loop (fun n i y => wX_intern_2_56 post (nI k) dm (nI st) ct br cl a1 a2 a3 a4 a5 a6 a7 a8 a9 a10 a11 a12 a13 n y (nI i)) (fun _ y => cv_P st y) 168 0 (a4 k) (by omega) (hS.2.1 k hk')
    (fun n y _ => pk_le 168 168 (fun _ => cv_intern2_92 hst hk' hS hd H) (fun z => absurd z (by omega)))
    (fun n i y hi hy hw => pk_le 168 i (fun z => absurd z (by omega)) (fun _ => ?_))
  rcases hy with e | ⟨t, ht, e⟩
  · exact br_t e (cv_intern2_92 hst hk' hS hd H)
  · rw [e]
    refine br_f (cv_nm1 (by omega)) (cv_isDraft (by omega) (fun g1 g2 => br_f (by decide) ?_) (br_t rfl ⟨pk_in t 168 (by omega), nm_r (e' := a3 t) (by rw [nI_clamp (show t < 2 ^ 31 by omega)]) (nm_r (nI_1 i) (hw _ (hS.2.2 t ht)))⟩))
    refine H t st a1 a2 a3 a4 (by omega) (by omega) ht hS (fun s j _ _ => rfl) (fun j hj => ?_)
    unfold cv_K
    rw [g1, g2 j hj]
end
section
/-! rows of commits, the working map; takeChunk, checkout's loop, isClean's loop, settleWork -/
variable {dm sr ct br cl : Int32} {a1 a2 a3 a4 a5 a6 a7 a8 a9 a10 a11 a12 a13 : Nat → Int32}
def cv_R (st n : Nat) (a1 a2 a5 : Nat → Int32) (C : Nat → Nat → Nat → Option Int32) : Prop := ∀ i c, i < n → c < 8 → ∃ s, s < st ∧ a5 (8 * i + c) = nI s ∧ ∀ j, j < 8 → cv_K a1 a2 s j = C i c j
def cv_W (a10 a11 : Nat → Int32) (w : Nat → Nat → Option Int32) : Prop := ∀ c, c < 8 → cv_nm a10 a11 c ∧ ∀ j, j < 8 → cv_K a10 a11 c j = w c j
def cv_Q (st : Nat) (a1 a2 a12 : Nat → Int32) (w : Nat → Nat → Option Int32) : Prop := ∀ c, c < 8 → a12 c = -1 ∨ ∃ s, s < st ∧ a12 c = nI s ∧ ∀ j, j < 8 → cv_K a1 a2 s j = w c j
theorem cv_W_congr {w w' : Nat → Nat → Option Int32} (h : cv_W a10 a11 w) (e : ∀ c j, c < 8 → j < 8 → w c j = w' c j) : cv_W a10 a11 w' :=
  fun c hc => ⟨(h c hc).1, fun j hj => ((h c hc).2 j hj).trans (e c j hc hj)⟩
theorem cv_Q_congr {st : Nat} {w w' : Nat → Nat → Option Int32} (h : cv_Q st a1 a2 a12 w) (e : ∀ c j, c < 8 → j < 8 → w c j = w' c j) : cv_Q st a1 a2 a12 w' := by
  intro c hc
  rcases h c hc with g | ⟨s, hs, g, k⟩
  · exact Or.inl g
  · exact Or.inr ⟨s, hs, g, fun j hj => (k j hj).trans (e c j hc hj)⟩
theorem cv_R_ext {st st' n : Nat} {c1 c2 : Nat → Int32} {C : Nat → Nat → Nat → Option Int32} (h : cv_R st n a1 a2 a5 C) (hst : st ≤ st') (hK : ∀ s j, s < st → j < 8 → cv_K c1 c2 s j = cv_K a1 a2 s j) : cv_R st' n c1 c2 a5 C := by
  intro i c hi hc
  obtain ⟨s, hs, e, k⟩ := h i c hi hc
  exact ⟨s, by omega, e, fun j hj => (hK s j hs hj).trans (k j hj)⟩
theorem cv_Q_ext {st st' : Nat} {c1 c2 : Nat → Int32} {w : Nat → Nat → Option Int32} (h : cv_Q st a1 a2 a12 w) (hst : st ≤ st') (hK : ∀ s j, s < st → j < 8 → cv_K c1 c2 s j = cv_K a1 a2 s j) : cv_Q st' c1 c2 a12 w := by
  intro c hc
  rcases h c hc with g | ⟨s, hs, g, k⟩
  · exact Or.inl g
  · exact Or.inr ⟨s, by omega, g, fun j hj => (hK s j hs hj).trans (k j hj)⟩
theorem cv_takeChunk {post : St1 → Prop} {c s : Nat} (hc : c < 8) (hs : s < 168)
    (H : ∀ c11 : Nat → Int32, (∀ j, j < 8 → c11 (8 * c + j) = a2 (8 * s + j)) → (∀ q, (q < 8 * c ∨ 8 * c + 8 ≤ q) → c11 q = a11 q) → post (dm, sr, ct, br, cl, a1, a2, a3, a4, a5, a6, a7, a8, a9, upd a10 c (a1 s), c11, upd a12 c (nI s), a13)) : wpX_takeChunk post (dm, sr, ct, br, cl, a1, a2, a3, a4, a5, a6, a7, a8, a9, a10, a11, a12, a13) (nI c) (nI s) := by
  unfold wpX_takeChunk
  dsimp only
  refine ⟨pk_in s 168 hs, pk_in c 8 hc, nm_r (e' := upd a10 c (a1 s)) (by rw [nI_clamp (show c < 2 ^ 31 by omega), nI_clamp (show s < 2 ^ 31 by omega)]) ?_⟩
  refine pk_loop (fun n i z => wX_takeChunk_14 post (nI c) (nI s) dm sr ct br cl n (nI i) a1 a2 a3 a4 a5 a6 a7 a8 a9 (upd a10 c (a1 s)) z a12 a13) (fun i z => (∀ j, j < i → z (8 * c + j) = a2 (8 * s + j)) ∧ (∀ q, (q < 8 * c ∨ 8 * c + 8 ≤ q) → z q = a11 q)) 8 0 a11 (by omega) ⟨fun j hj => absurd hj (by omega), fun q _ => rfl⟩
    (fun n z h => pk_le 8 8 (fun _ => ⟨pk_in c 8 hc, nm_r (e' := upd a12 c (nI s)) (by rw [nI_clamp (show c < 2 ^ 31 by omega)]) (H z h.1 h.2)⟩) (fun z => absurd z (by omega)))
    (fun n i z hi h hw => pk_le 8 i (fun z => absurd z (by omega)) (fun _ => ⟨cv_in8 (by omega) (by omega), cv_in8 (by omega) (by omega), nm_e (nm_r (nI_1 i) (hw _ ⟨fun j hj => ?_, fun q hq => ?_⟩))⟩))
  · rw [cv_cl8 (show 8 * c + i < 2 ^ 31 by omega), cv_cl8 (show 8 * s + i < 2 ^ 31 by omega)]
    by_cases e : j = i
    · rw [e, pk_us]
    · rw [pk_un (show 8 * c + j ≠ 8 * c + i by omega)]
      exact h.1 j (by omega)
  · rw [cv_cl8 (show 8 * c + i < 2 ^ 31 by omega), pk_un (show q ≠ 8 * c + i by omega)]
    exact h.2 q hq
theorem cv_checkout_l {post : Int32 → St1 → Prop} {x st : Nat} {w y : Nat → Nat → Option Int32} (hst : st ≤ 168) (hx : x < 20) (hN : ∀ s, s < st → cv_nm a1 a2 s)
    (hR : ∀ c, c < 8 → ∃ s, s < st ∧ a5 (8 * x + c) = nI s ∧ ∀ j, j < 8 → cv_K a1 a2 s j = y c j) (hW : cv_W a10 a11 w) (hQ : cv_Q st a1 a2 a12 w)
    (H : ∀ c10 c11 c12 : Nat → Int32, cv_W c10 c11 y → cv_Q st a1 a2 c12 y → post (nI (cv_cs (fun c j => cv_df (w c j) (y c j)) 8)) (dm, sr, ct, br, cl, a1, a2, a3, a4, a5, a6, a7, a8, a9, c10, c11, c12, a13)) :
    ∃ f, wX_checkout_14 post (nI x) f 0 0 dm sr ct br cl a1 a2 a3 a4 a5 a6 a7 a8 a9 a10 a11 a12 a13 := by
  refine pk_loop (σ := Int32 × (Nat → Int32) × (Nat → Int32) × (Nat → Int32)) (fun n i s => wX_checkout_14 post (nI x) n s.1 (nI i) dm sr ct br cl a1 a2 a3 a4 a5 a6 a7 a8 a9 s.2.1 s.2.2.1 s.2.2.2 a13)
    (fun i s => s.1 = nI (cv_cs (fun c j => cv_df (w c j) (y c j)) i) ∧ cv_W s.2.1 s.2.2.1 (fun c j => if c < i then y c j else w c j) ∧ cv_Q st a1 a2 s.2.2.2 (fun c j => if c < i then y c j else w c j)) 8 0 (0, a10, a11, a12) (by omega) ⟨rfl, cv_W_congr hW (fun c j _ _ => (if_neg (Nat.not_lt_zero c)).symm), cv_Q_congr hQ (fun c j _ _ => (if_neg (Nat.not_lt_zero c)).symm)⟩ ?_ ?_
  · intro n s h
    obtain ⟨x2, c10, c11, c12⟩ := s
    obtain ⟨h1, h2, h3⟩ := h
    dsimp only at h1 h2 h3
    refine pk_le 8 8 (fun _ => ?_) (fun z => absurd z (by omega))
    rw [h1]
    exact H c10 c11 c12 (cv_W_congr h2 (fun c j hc _ => if_pos hc)) (cv_Q_congr h3 (fun c j hc _ => if_pos hc))
  · intro n i s hi h hw
    obtain ⟨x2, c10, c11, c12⟩ := s
    obtain ⟨h1, h2, h3⟩ := h
    dsimp only at h1 h2 h3
    obtain ⟨s0, hs0, e5, hK⟩ := hR i hi
    have hii : ∀ j, (if i < i then y i j else w i j) = w i j := fun j => if_neg (Nat.lt_irrefl i)
    have nx : ∀ c j, c ≠ i → (if c < i then y c j else w c j) = (if c < i + 1 then y c j else w c j) := by
      intro c j hc
      by_cases e : c < i
      · rw [if_pos e, if_pos (show c < i + 1 by omega)]
      · rw [if_neg e, if_neg (show ¬ c < i + 1 by omega)]
    have ni : ∀ j, (if i < i + 1 then y i j else w i j) = y i j := fun j => if_pos (by omega)
    have h2' : ∀ c j, c < 8 → j < 8 → cv_K c10 c11 c j = if c < i then y c j else w c j := fun c j hc hj => (h2 c hc).2 j hj
    have hs1 : cv_cs (fun c j => cv_df (w c j) (y c j)) (i + 1) = cv_cs (fun c j => cv_df (w c j) (y c j)) i + cv_cb (fun j => cv_df (w i j) (y i j)) 8 := rfl
    refine pk_le 8 i (fun z => absurd z (by omega)) (fun _ => ⟨cv_in8 (by omega) (by omega), nm_r (e' := nI s0) (by rw [cv_cl8 (show 8 * x + i < 2 ^ 31 by omega), e5]) ⟨pk_in i 8 hi, ?_⟩⟩)
    rw [nI_clamp (show i < 2 ^ 31 by omega)]
    refine br_c (fun g => ?_) (fun g => ?_)
    · have eqw : ∀ j, j < 8 → w i j = y i j := by
        intro j hj
        rcases h3 i hi with g2 | ⟨s', hs', g2, k⟩
        · exact absurd (g.symm.trans g2) (cv_nm1 (by omega))
        · have e0 : s' = s0 := (nI_eq (by omega) (by omega)).mp (g2.symm.trans g)
          have k' : cv_K a1 a2 s' j = if i < i then y i j else w i j := k j hj
          rw [← hK j hj, ← e0, k', hii]
      refine nm_r (nI_1 i) (hw (x2, c10, c11, c12) ⟨?_, cv_W_congr h2 (fun c j hc hj => ?_), cv_Q_congr h3 (fun c j hc hj => ?_)⟩)
      · rw [h1, hs1, cv_cb_zero.mpr (fun j hj => cv_df_false.mpr (eqw j hj))]
        rfl
      · show (if c < i then y c j else w c j) = (if c < i + 1 then y c j else w c j)
        by_cases e : c = i
        · rw [e, hii, ni, eqw j hj]
        · exact nx c j e
      · show (if c < i then y c j else w c j) = (if c < i + 1 then y c j else w c j)
        by_cases e : c = i
        · rw [e, hii, ni, eqw j hj]
        · exact nx c j e
    · refine cv_differsFromWork hi (by omega) (h2 i hi).1 (hN s0 hs0) (nm_r (e' := nI (cv_cs (fun c j => cv_df (w c j) (y c j)) (i + 1))) ?_ (cv_takeChunk hi (by omega) (fun d11 g1 g2 => nm_r (nI_1 i) (hw (_, upd c10 i (a1 s0), d11, upd c12 i (nI s0)) ⟨rfl, fun c hc => ?_, fun c hc => ?_⟩))))
      · rw [h1, hs1, nI_add]
        refine congrArg (fun z => nI (_ + z)) (cv_cb_congr (fun j hj => ?_))
        rw [h2' i j hi hj, hK j hj, hii]
      · dsimp only
        by_cases e : c = i
        · subst e
          refine ⟨fun j hj => ?_, fun j hj => ?_⟩
          · rw [pk_us, g1 j hj]
            exact hN s0 hs0 j hj
          · rw [ni, ← hK j hj]
            unfold cv_K
            rw [pk_us, g1 j hj]
        · refine ⟨fun j hj => ?_, fun j hj => ?_⟩
          · rw [pk_un e, g2 (8 * c + j) (by omega)]
            exact (h2 c hc).1 j hj
          · rw [← nx c j e, ← h2' c j hc hj]
            unfold cv_K
            rw [pk_un e, g2 (8 * c + j) (by omega)]
      · dsimp only
        by_cases e : c = i
        · subst e
          refine Or.inr ⟨s0, hs0, pk_us, fun j hj => ?_⟩
          rw [ni, hK j hj]
        · rw [pk_un e]
          rcases h3 c hc with g3 | ⟨s', hs', g3, k⟩
          · exact Or.inl g3
          · exact Or.inr ⟨s', hs', g3, fun j hj => (k j hj).trans (nx c j e)⟩
theorem cv_isClean_l {post : Int32 → Prop} {x st : Nat} {w y : Nat → Nat → Option Int32} (hst : st ≤ 168) (hx : x < 20) (hN : ∀ s, s < st → cv_nm a1 a2 s)
    (hR : ∀ c, c < 8 → ∃ s, s < st ∧ a5 (8 * x + c) = nI s ∧ ∀ j, j < 8 → cv_K a1 a2 s j = y c j) (hW : cv_W a10 a11 w) (hQ : cv_Q st a1 a2 a12 w)
    (H : post (if cv_cs (fun c j => cv_df (w c j) (y c j)) 8 = 0 then 1 else 0)) :
    ∃ f, wX_isClean_12 post (nI x) dm sr ct br cl a1 a2 a3 a4 a5 a6 a7 a8 a9 a10 a11 a12 a13 f 0 := by
  refine pk_loop (σ := Unit) (fun n i _ => wX_isClean_12 post (nI x) dm sr ct br cl a1 a2 a3 a4 a5 a6 a7 a8 a9 a10 a11 a12 a13 n (nI i)) (fun i _ => ∀ c j, c < i → j < 8 → w c j = y c j) 8 0 () (by omega) (fun c j hc => absurd hc (by omega)) ?_ ?_
  · intro n _ h
    refine pk_le 8 8 (fun _ => ?_) (fun z => absurd z (by omega))
    rw [if_pos (cv_cs_zero.mpr (fun c j hc hj => cv_df_false.mpr (h c j hc hj)))] at H
    exact H
  · intro n i _ hi h hw
    obtain ⟨s0, hs0, e5, hK⟩ := hR i hi
    refine pk_le 8 i (fun z => absurd z (by omega)) (fun _ => ⟨cv_in8 (by omega) (by omega), nm_r (e' := nI s0) (by rw [cv_cl8 (show 8 * x + i < 2 ^ 31 by omega), e5]) ⟨pk_in i 8 hi, ?_⟩⟩)
    rw [nI_clamp (show i < 2 ^ 31 by omega)]
    have nxt : (∀ j, j < 8 → w i j = y i j) → wX_isClean_12 post (nI x) dm sr ct br cl a1 a2 a3 a4 a5 a6 a7 a8 a9 a10 a11 a12 a13 n (nI (i + 1)) := by
      intro g
      refine hw () (fun c j hc hj => ?_)
      by_cases e : c = i
      · rw [e]
        exact g j hj
      · exact h c j (by omega) hj
    refine br_c (fun g => nm_r (nI_1 i) (nxt (fun j hj => ?_))) (fun g => ?_)
    · rcases hQ i hi with g2 | ⟨s', hs', g2, k⟩
      · exact absurd (g.symm.trans g2) (cv_nm1 (by omega))
      · have e0 : s' = s0 := (nI_eq (by omega) (by omega)).mp (g2.symm.trans g)
        rw [← hK j hj, ← e0, k j hj]
    · refine cv_differsFromWork hi (by omega) (hW i hi).1 (hN s0 hs0) ?_
      have hle := cv_cb_le (fun j => cv_df (cv_K a10 a11 i j) (cv_K a1 a2 s0 j)) 8
      refine pk_le _ 0 (fun z => nm_r (nI_1 i) (nxt (fun j hj => ?_))) (fun z => ?_) rfl rfl (by omega) (by omega)
      · have t := cv_cb_zero.mp (Nat.le_zero.mp z) j hj
        have t2 := cv_df_false.mp t
        rw [← hK j hj, ← t2, (hW i hi).2 j hj]
      · have ne : ¬ cv_cs (fun c j => cv_df (w c j) (y c j)) 8 = 0 := by
          intro e0
          have t := cv_cs_zero.mp e0
          have t2 : cv_cb (fun j => cv_df (cv_K a10 a11 i j) (cv_K a1 a2 s0 j)) 8 = 0 := cv_cb_zero.mpr (fun j hj => by
            rw [(hW i hi).2 j hj, hK j hj]
            exact t i j hi hj)
          omega
        rw [if_neg ne] at H
        exact H
end
section
/-! settleWork, enter, commit's loop -/
variable {dm sr ct br cl : Int32} {a1 a2 a3 a4 a5 a6 a7 a8 a9 a10 a11 a12 a13 : Nat → Int32}
theorem cv_settle30 {post : St1 → Prop} {J : Int32 → Int32 → Int32 → Int32 → Int32 → Int32 → (Nat → Int32) → (Nat → Int32) → (Nat → Int32) → (Nat → Int32) → (Nat → Int32) → (Nat → Int32) → (Nat → Int32) → (Nat → Int32) → (Nat → Int32) → (Nat → Int32) → (Nat → Int32) → (Nat → Int32) → (Nat → Int32) → Prop} {c st : Nat} (hc : c < 8) (hst : st < 168) (hS : cv_S st a1 a2 a3 a4) (hN : cv_nm a10 a11 c)
    (H : ∀ (t st' : Nat) (c1 c2 c3 c4 c13 : Nat → Int32), st ≤ st' → st' ≤ st + 1 → t < st' → cv_S st' c1 c2 c3 c4 → (∀ s j, s < st → j < 8 → cv_K c1 c2 s j = cv_K a1 a2 s j) → (∀ j, j < 8 → cv_K c1 c2 t j = cv_K a10 a11 c j) → J (nI (c + 1)) (a10 c) (nI st') ct br cl c1 c2 c3 c4 a5 a6 a7 a8 a9 a10 a11 (upd a12 c (nI t)) c13) :
    ∃ f, wX_settleWork_30 post J (nI c) (a10 c) (nI st) ct br cl f 0 a1 a2 a3 a4 a5 a6 a7 a8 a9 a10 a11 a12 a13 := by
  refine pk_loop (fun n i z => wX_settleWork_30 post J (nI c) (a10 c) (nI st) ct br cl n (nI i) a1 a2 a3 a4 a5 a6 a7 a8 a9 a10 a11 a12 z) (fun i z => ∀ j, j < i → z j = a11 (8 * c + j)) 8 0 a13 (by omega) (fun j hj => absurd hj (by omega)) ?_ ?_
  · intro n z h
    refine pk_le 8 8 (fun _ => ?_) (fun z => absurd z (by omega))
    refine cv_intern2_ hst hS (fun j hj g => ?_) (fun t st' c1 c2 c3 c4 g1 g2 g3 gS gK gt => ⟨pk_in c 8 hc, nm_r (e' := upd a12 c (nI t)) (by rw [nI_clamp (show c < 2 ^ 31 by omega)]) (nm_r (nI_1 c) (H t st' c1 c2 c3 c4 z g1 g2 g3 gS gK (fun j hj => ?_)))⟩)
    · rw [h j hj]
      exact hN j hj g
    · rw [gt j hj, h j hj]
      rfl
  · intro n i z hi h hw
    refine pk_le 8 i (fun z => absurd z (by omega)) (fun _ => ⟨cv_in8 (by omega) (by omega), pk_in i 8 hi, nm_e (nm_r (nI_1 i) (hw _ (fun j hj => ?_)))⟩)
    rw [cv_cl8 (show 8 * c + i < 2 ^ 31 by omega), nI_clamp (show i < 2 ^ 31 by omega)]
    by_cases e : j = i
    · rw [e, pk_us]
    · rw [pk_un e]
      exact h j (by omega)
theorem cv_settleWork {post : St1 → Prop} {st : Nat} {w : Nat → Nat → Option Int32} (hst : st + 8 ≤ 168) (hS : cv_S st a1 a2 a3 a4) (hW : cv_W a10 a11 w) (hQ : cv_Q st a1 a2 a12 w)
    (H : ∀ (dm' : Int32) (st' : Nat) (c1 c2 c3 c4 c12 c13 : Nat → Int32), st ≤ st' → st' ≤ st + 8 → cv_S st' c1 c2 c3 c4 → (∀ s j, s < st → j < 8 → cv_K c1 c2 s j = cv_K a1 a2 s j) → (∀ c, c < 8 → ∃ s, s < st' ∧ c12 c = nI s ∧ ∀ j, j < 8 → cv_K c1 c2 s j = w c j) → post (dm', nI st', ct, br, cl, c1, c2, c3, c4, a5, a6, a7, a8, a9, a10, a11, c12, c13)) :
    wpX_settleWork post (dm, nI st, ct, br, cl, a1, a2, a3, a4, a5, a6, a7, a8, a9, a10, a11, a12, a13) := by
  unfold wpX_settleWork
  dsimp only
  refine pk_loop (σ := Int32 × Nat × (Nat → Int32) × (Nat → Int32) × (Nat → Int32) × (Nat → Int32) × (Nat → Int32) × (Nat → Int32)) (fun n i s => wX_settleWork_2 post n (nI i) s.1 (nI s.2.1) ct br cl s.2.2.1 s.2.2.2.1 s.2.2.2.2.1 s.2.2.2.2.2.1 a5 a6 a7 a8 a9 a10 a11 s.2.2.2.2.2.2.1 s.2.2.2.2.2.2.2)
    (fun i s => st ≤ s.2.1 ∧ s.2.1 ≤ st + i ∧ cv_S s.2.1 s.2.2.1 s.2.2.2.1 s.2.2.2.2.1 s.2.2.2.2.2.1 ∧ (∀ q j, q < st → j < 8 → cv_K s.2.2.1 s.2.2.2.1 q j = cv_K a1 a2 q j) ∧ cv_Q s.2.1 s.2.2.1 s.2.2.2.1 s.2.2.2.2.2.2.1 w ∧ (∀ c, c < i → ¬ s.2.2.2.2.2.2.1 c = -1))
    8 0 (dm, st, a1, a2, a3, a4, a12, a13) (by omega) ⟨Nat.le_refl st, Nat.le_refl st, hS, fun _ _ _ _ => rfl, hQ, fun c hc => absurd hc (by omega)⟩ ?_ ?_
  · intro n s h
    obtain ⟨dm', st', c1, c2, c3, c4, c12, c13⟩ := s
    obtain ⟨h1, h2, h3, h4, h5, h6⟩ := h
    dsimp only at h1 h2 h3 h4 h5 h6
    refine pk_le 8 8 (fun _ => H dm' st' c1 c2 c3 c4 c12 c13 h1 h2 h3 h4 (fun c hc => ?_)) (fun z => absurd z (by omega))
    rcases h5 c hc with g | g
    · exact absurd g (h6 c hc)
    · exact g
  · intro n i s hi h hw
    obtain ⟨dm', st', c1, c2, c3, c4, c12, c13⟩ := s
    obtain ⟨h1, h2, h3, h4, h5, h6⟩ := h
    dsimp only at h1 h2 h3 h4 h5 h6
    show wX_settleWork_2 post (n + 1) (nI i) dm' (nI st') ct br cl c1 c2 c3 c4 a5 a6 a7 a8 a9 a10 a11 c12 c13
    refine pk_le 8 i (fun z => absurd z (by omega)) (fun _ => ⟨pk_in i 8 hi, ?_⟩)
    rw [nI_clamp (show i < 2 ^ 31 by omega)]
    refine br_c (fun g => ⟨pk_in i 8 hi, nm_e ?_⟩) (fun g => nm_r (nI_1 i) (hw (dm', st', c1, c2, c3, c4, c12, c13) ⟨h1, by dsimp only; omega, h3, h4, h5, fun c hc => ?_⟩))
    · refine cv_settle30 hi (by omega) h3 (hW i hi).1 (fun t st'' d1 d2 d3 d4 d13 g1 g2 g3 gS gK gt => hw (a10 i, st'', d1, d2, d3, d4, upd c12 i (nI t), d13) ⟨?_, ?_, gS, fun q j hq hj => ?_, fun c hc => ?_, fun c hc => ?_⟩)
      · dsimp only
        omega
      · dsimp only
        omega
      · exact (gK q j (by omega) hj).trans (h4 q j hq hj)
      · dsimp only
        by_cases e : c = i
        · subst e
          exact Or.inr ⟨t, g3, pk_us, fun j hj => (gt j hj).trans ((hW c hc).2 j hj)⟩
        · rw [pk_un e]
          exact cv_Q_ext h5 g1 gK c hc
      · dsimp only
        by_cases e : c = i
        · subst e
          rw [pk_us]
          exact cv_nm1 (by omega)
        · rw [pk_un e]
          exact h6 c (by omega)
    · dsimp only
      by_cases e : c = i
      · rw [e]
        exact g
      · exact h6 c (by omega)
theorem cv_enter1 {post : St1 → Prop} {n b f : Nat} (hn : n < 20) (hb : b < 4) (hf : f < 20)
    (H : ∀ c7 c8 : Nat → Int32, (∀ i, i ≠ n → c8 i = a8 i) → c8 n = a8 f ||| ((1 : Int32) <<< (nI n &&& 31)) → post (dm, sr, nI (n + 1), nI b, cl, a1, a2, a3, a4, a5, upd a6 n (nI f), c7, c8, upd a9 b (nI n), a10, a11, a12, a13)) : wpX_enter post (dm, sr, nI n, nI b, cl, a1, a2, a3, a4, a5, a6, a7, a8, a9, a10, a11, a12, a13) (nI f) (-1) := by
  unfold wpX_enter
  dsimp only
  refine ⟨pk_in n 20 hn, nm_e ⟨pk_in n 20 hn, nm_e ⟨pk_in f 20 hf, pk_in n 20 hn, nm_e (br_t rfl ?_)⟩⟩⟩
  unfold wX_enter_72
  refine ⟨pk_in b 4 hb, nm_e (nm_r (nI_1 n) ?_)⟩
  rw [nI_clamp (show n < 2 ^ 31 by omega), nI_clamp (show b < 2 ^ 31 by omega), nI_clamp (show f < 2 ^ 31 by omega)]
  exact H _ _ (fun i hi => pk_un hi) pk_us
theorem cv_enter2 {post : St1 → Prop} {n b f g : Nat} (hn : n < 20) (hb : b < 4) (hf : f < 20) (hg : g < n)
    (H : ∀ c7 c8 : Nat → Int32, (∀ i, i ≠ n → c8 i = a8 i) → c8 n = (a8 f ||| ((1 : Int32) <<< (nI n &&& 31))) ||| a8 g → post (dm, sr, nI (n + 1), nI b, cl, a1, a2, a3, a4, a5, upd a6 n (nI f), c7, c8, upd a9 b (nI n), a10, a11, a12, a13)) : wpX_enter post (dm, sr, nI n, nI b, cl, a1, a2, a3, a4, a5, a6, a7, a8, a9, a10, a11, a12, a13) (nI f) (nI g) := by
  unfold wpX_enter
  dsimp only
  refine ⟨pk_in n 20 hn, nm_e ⟨pk_in n 20 hn, nm_e ⟨pk_in f 20 hf, pk_in n 20 hn, nm_e (br_f (cv_nm1 (by omega)) ⟨pk_in n 20 hn, pk_in g 20 (by omega), pk_in n 20 hn, nm_e ?_⟩)⟩⟩⟩
  unfold wX_enter_72
  refine ⟨pk_in b 4 hb, nm_e (nm_r (nI_1 n) ?_)⟩
  rw [nI_clamp (show n < 2 ^ 31 by omega), nI_clamp (show b < 2 ^ 31 by omega), nI_clamp (show f < 2 ^ 31 by omega), nI_clamp (show g < 2 ^ 31 by omega)]
  exact H _ _ (fun i hi => by rw [pk_un hi, pk_un hi]) (by rw [pk_us, pk_us, pk_un (show g ≠ n by omega)])
theorem cv_commit17 {post : Int32 → St1 → Prop} {n b f : Nat} (hn : n < 20) (hb : b < 4) (hf : f < 20) (h9 : a9 b = nI f)
    (H : ∀ c5 c7 c8 : Nat → Int32, (∀ q, q < 8 * n → c5 q = a5 q) → (∀ c, c < 8 → c5 (8 * n + c) = a12 c) → (∀ i, i ≠ n → c8 i = a8 i) → c8 n = a8 f ||| ((1 : Int32) <<< (nI n &&& 31)) → post (nI n) (dm, sr, nI (n + 1), nI b, cl, a1, a2, a3, a4, c5, upd a6 n (nI f), c7, c8, upd a9 b (nI n), a10, a11, a12, a13)) :
    ∃ f, wX_commit_17 post dm sr (nI n) (nI b) cl f 0 a1 a2 a3 a4 a5 a6 a7 a8 a9 a10 a11 a12 a13 := by
  refine pk_loop (fun m i z => wX_commit_17 post dm sr (nI n) (nI b) cl m (nI i) a1 a2 a3 a4 z a6 a7 a8 a9 a10 a11 a12 a13) (fun i z => (∀ q, q < 8 * n → z q = a5 q) ∧ (∀ c, c < i → z (8 * n + c) = a12 c)) 8 0 a5 (by omega) ⟨fun q _ => rfl, fun c hc => absurd hc (by omega)⟩ ?_ ?_
  · intro m z h
    refine pk_le 8 8 (fun _ => ⟨pk_in b 4 hb, ?_⟩) (fun z => absurd z (by omega))
    rw [nI_clamp (show b < 2 ^ 31 by omega), h9]
    refine cv_enter1 hn hb hf (fun c7 c8 g1 g2 => ?_)
    dsimp only
    rw [nI_pred]
    exact H z c7 c8 h.1 h.2 g1 g2
  · intro m i z hi h hw
    refine pk_le 8 i (fun z => absurd z (by omega)) (fun _ => ⟨pk_in i 8 hi, cv_in8 (by omega) (by omega), nm_e (nm_r (nI_1 i) (hw _ ⟨fun q hq => ?_, fun c hc => ?_⟩))⟩)
    · rw [cv_cl8 (show 8 * n + i < 2 ^ 31 by omega), pk_un (show q ≠ 8 * n + i by omega)]
      exact h.1 q hq
    · rw [cv_cl8 (show 8 * n + i < 2 ^ 31 by omega), nI_clamp (show i < 2 ^ 31 by omega)]
      by_cases e : c = i
      · rw [e, pk_us]
      · rw [pk_un (show 8 * n + c ≠ 8 * n + i by omega)]
        exact h.2 c (by omega)
end
section
/-! joinChunks, join, countClashes -/
variable {dm sr ct br cl : Int32} {a1 a2 a3 a4 a5 a6 a7 a8 a9 a10 a11 a12 a13 : Nat → Int32}
theorem cv_jc42 {post : Int32 → St1 → Prop} {st s t : Nat} {x5 z0 : Int32} {p q : Nat → Bool} (hst : st < 168) (hS : cv_S st a1 a2 a3 a4) (hs : s < st) (ht : t < st) (hx : ∀ j, j < 8 → cv_bt x5 j = p j) (hz : ∀ j, j < 8 → cv_bt z0 j = q j)
    (H : ∀ (dm' : Int32) (t' st' : Nat) (c1 c2 c3 c4 c13 : Nat → Int32), st ≤ st' → st' ≤ st + 1 → t' < st' → cv_S st' c1 c2 c3 c4 → (∀ s j, s < st → j < 8 → cv_K c1 c2 s j = cv_K a1 a2 s j) → (∀ j, j < 8 → cv_K c1 c2 t' j = if q j = true then cv_K a1 a2 t j else cv_K a1 a2 s j) → post (nI t') (dm', nI st', ct, br, cl + nI (cv_cb p 8), c1, c2, c3, c4, a5, a6, a7, a8, a9, a10, a11, a12, c13)) :
    wX_joinChunks_42 post (nI s) (nI t) x5 z0 dm (nI st) ct br cl a1 a2 a3 a4 a5 a6 a7 a8 a9 a10 a11 a12 a13 := by
  unfold wX_joinChunks_42
  refine cv_ones hx (nm_e ⟨pk_in s 168 (by omega), pk_in t 168 (by omega), nm_e ?_⟩)
  rw [nI_clamp (show s < 2 ^ 31 by omega), nI_clamp (show t < 2 ^ 31 by omega)]
  have hm : ∀ j, j < 8 → cv_bt ((a1 s &&& (z0 ^^^ (-1))) ||| (a1 t &&& z0)) j = if q j = true then cv_bt (a1 t) j else cv_bt (a1 s) j := by
    intro j hj
    rw [cv_bor, cv_band, cv_band, cv_bnot _ (by omega), hz j hj]
    cases q j <;> simp
  refine pk_loop (fun n i z => wX_joinChunks_86 post (nI s) (nI t) z0 ((a1 s &&& (z0 ^^^ (-1))) ||| (a1 t &&& z0)) (nI st) ct br (cl + nI (cv_cb p 8)) n (nI i) a1 a2 a3 a4 a5 a6 a7 a8 a9 a10 a11 a12 z) (fun i z => ∀ j, j < i → z j = if q j = true then a2 (8 * t + j) else a2 (8 * s + j)) 8 0 a13 (by omega) (fun j hj => absurd hj (by omega)) ?_ ?_
  · intro n z h
    refine pk_le 8 8 (fun _ => ?_) (fun z => absurd z (by omega))
    refine cv_intern hst hS (fun j hj g => ?_) (fun t' st' c1 c2 c3 c4 g1 g2 g3 gS gK gt => H _ t' st' c1 c2 c3 c4 z g1 g2 g3 gS gK (fun j hj => ?_))
    · rw [hm j hj] at g
      rw [h j hj]
      cases e : q j
      · rw [e] at g
        exact hS.1 s hs j hj g
      · rw [e] at g
        exact hS.1 t ht j hj g
    · rw [gt j hj, h j hj]
      unfold cv_K cv_ck
      rw [hm j hj]
      cases q j <;> rfl
  · intro n i z hi h hw
    refine pk_le 8 i (fun z => absurd z (by omega)) (fun _ => ?_)
    rw [cv_bbit z0 (show i < 32 by omega), hz i hi]
    refine br_c (fun g => ?_) (fun g => ?_)
    · have g' := cv_i1.mp g
      unfold wX_joinChunks_109
      refine br_f (by decide) ⟨cv_in8 (by omega) (by omega), pk_in i 8 hi, nm_e (nm_r (nI_1 i) (hw _ (fun j hj => ?_)))⟩
      rw [cv_cl8 (show 8 * t + i < 2 ^ 31 by omega), nI_clamp (show i < 2 ^ 31 by omega)]
      by_cases e : j = i
      · rw [e, pk_us, g']
        rfl
      · rw [pk_un e]
        exact h j (by omega)
    · have g' : q i = false := by
        cases e : q i
        · rfl
        · exact absurd (cv_i1.mpr e) g
      unfold wX_joinChunks_109
      refine br_t rfl ⟨cv_in8 (by omega) (by omega), pk_in i 8 hi, nm_e (nm_r (nI_1 i) (hw _ (fun j hj => ?_)))⟩
      rw [cv_cl8 (show 8 * s + i < 2 ^ 31 by omega), nI_clamp (show i < 2 ^ 31 by omega)]
      by_cases e : j = i
      · rw [e, pk_us, g']
        rfl
      · rw [pk_un e]
        exact h j (by omega)
theorem cv_joinChunks {post : Int32 → St1 → Prop} {st o s t : Nat} {sd : Int32} (hst : st < 168) (hS : cv_S st a1 a2 a3 a4) (ho : o < st) (hs : s < st) (ht : t < st)
    (H : ∀ (dm' : Int32) (t' st' : Nat) (c1 c2 c3 c4 c13 : Nat → Int32), st ≤ st' → st' ≤ st + 1 → t' < st' → cv_S st' c1 c2 c3 c4 → (∀ s j, s < st → j < 8 → cv_K c1 c2 s j = cv_K a1 a2 s j) → (∀ j, j < 8 → cv_K c1 c2 t' j = cv_mg (cv_K a1 a2 o j) (cv_K a1 a2 s j) (cv_K a1 a2 t j) (decide (sd = 1))) → post (nI t') (dm', nI st', ct, br, cl + nI (cv_cb (fun j => cv_cf (cv_K a1 a2 o j) (cv_K a1 a2 s j) (cv_K a1 a2 t j)) 8), c1, c2, c3, c4, a5, a6, a7, a8, a9, a10, a11, a12, c13)) :
    wpX_joinChunks post (dm, nI st, ct, br, cl, a1, a2, a3, a4, a5, a6, a7, a8, a9, a10, a11, a12, a13) (nI o) (nI s) (nI t) sd := by
  unfold wpX_joinChunks
  dsimp only
  have no := hS.1 o ho
  have ns := hS.1 s hs
  have nt := hS.1 t ht
  refine cv_clashesIn (by omega) (by omega) (by omega) no ns nt (fun r1 h1 => cv_difference (by omega) (by omega) nt no (fun r2 h2 => cv_difference (by omega) (by omega) ns no (fun r3 h3 => nm_e ?_)))
  have hx : ∀ j, j < 8 → cv_bt (r2 &&& (r3 ^^^ (-1))) j = (cv_df (cv_K a1 a2 t j) (cv_K a1 a2 o j) && !cv_df (cv_K a1 a2 s j) (cv_K a1 a2 o j)) := by
    intro j hj
    rw [cv_band, cv_bnot _ (by omega), h2 j hj, h3 j hj]
  refine br_c (fun g => ?_) (fun g => ?_)
  · refine cv_jc42 (q := fun j => cv_ft (cv_K a1 a2 o j) (cv_K a1 a2 s j) (cv_K a1 a2 t j) true) hst hS hs ht h1 (fun j hj => ?_) (fun dm' t' st' c1 c2 c3 c4 c13 g1 g2 g3 gS gK gt => H dm' t' st' c1 c2 c3 c4 c13 g1 g2 g3 gS gK (fun j hj => ?_))
    · rw [cv_bor, hx j hj, h1 j hj]
      rfl
    · rw [gt j hj, decide_eq_true g]
      rfl
  · refine cv_jc42 (q := fun j => cv_ft (cv_K a1 a2 o j) (cv_K a1 a2 s j) (cv_K a1 a2 t j) false) hst hS hs ht h1 (fun j hj => ?_) (fun dm' t' st' c1 c2 c3 c4 c13 g1 g2 g3 gS gK gt => H dm' t' st' c1 c2 c3 c4 c13 g1 g2 g3 gS gK (fun j hj => ?_))
    · rw [hx j hj]
      unfold cv_ft
      rw [Bool.false_and, Bool.or_false]
    · rw [gt j hj, decide_eq_false g]
      rfl
theorem cv_join {post : St1 → Prop} {st n o a b : Nat} {sd : Int32} {C : Nat → Nat → Nat → Option Int32} (hst : st + 8 ≤ 168) (hn : n < 20) (ho : o < n) (ha : a < n) (hb : b < n) (hS : cv_S st a1 a2 a3 a4) (hR : cv_R st n a1 a2 a5 C)
    (H : ∀ (dm' : Int32) (st' : Nat) (c1 c2 c3 c4 c5 c13 : Nat → Int32), st ≤ st' → st' ≤ st + 8 → cv_S st' c1 c2 c3 c4 → (∀ s j, s < st → j < 8 → cv_K c1 c2 s j = cv_K a1 a2 s j) → (∀ q, q < 8 * n → c5 q = a5 q) → (∀ c, c < 8 → ∃ s, s < st' ∧ c5 (8 * n + c) = nI s ∧ ∀ j, j < 8 → cv_K c1 c2 s j = cv_mg (C o c j) (C a c j) (C b c j) (decide (sd = 1))) → post (dm', nI st', nI n, br, nI (cv_cs (fun c j => cv_cf (C o c j) (C a c j) (C b c j)) 8), c1, c2, c3, c4, c5, a6, a7, a8, a9, a10, a11, a12, c13)) :
    wpX_join post (dm, nI st, nI n, br, cl, a1, a2, a3, a4, a5, a6, a7, a8, a9, a10, a11, a12, a13) (nI o) (nI a) (nI b) sd := by
  unfold wpX_join
  dsimp only
  refine pk_loop (σ := Int32 × Nat × Int32 × (Nat → Int32) × (Nat → Int32) × (Nat → Int32) × (Nat → Int32) × (Nat → Int32) × (Nat → Int32)) (fun m i s => wX_join_8 post (nI o) (nI a) (nI b) sd m (nI i) s.1 (nI s.2.1) (nI n) br s.2.2.1 s.2.2.2.1 s.2.2.2.2.1 s.2.2.2.2.2.1 s.2.2.2.2.2.2.1 s.2.2.2.2.2.2.2.1 a6 a7 a8 a9 a10 a11 a12 s.2.2.2.2.2.2.2.2)
    (fun i s => st ≤ s.2.1 ∧ s.2.1 ≤ st + i ∧ s.2.2.1 = nI (cv_cs (fun c j => cv_cf (C o c j) (C a c j) (C b c j)) i) ∧ cv_S s.2.1 s.2.2.2.1 s.2.2.2.2.1 s.2.2.2.2.2.1 s.2.2.2.2.2.2.1 ∧ (∀ q j, q < st → j < 8 → cv_K s.2.2.2.1 s.2.2.2.2.1 q j = cv_K a1 a2 q j) ∧ (∀ q, q < 8 * n → s.2.2.2.2.2.2.2.1 q = a5 q) ∧ (∀ c, c < i → ∃ t, t < s.2.1 ∧ s.2.2.2.2.2.2.2.1 (8 * n + c) = nI t ∧ ∀ j, j < 8 → cv_K s.2.2.2.1 s.2.2.2.2.1 t j = cv_mg (C o c j) (C a c j) (C b c j) (decide (sd = 1))))
    8 0 (dm, st, 0, a1, a2, a3, a4, a5, a13) (by omega) ⟨Nat.le_refl st, Nat.le_refl st, rfl, hS, fun _ _ _ _ => rfl, fun _ _ => rfl, fun c hc => absurd hc (by omega)⟩ ?_ ?_
  · intro m s h
    obtain ⟨dm', st', cl', c1, c2, c3, c4, c5, c13⟩ := s
    obtain ⟨h1, h2, h3, h4, h5, h6, h7⟩ := h
    dsimp only at h1 h2 h3 h4 h5 h6 h7
    refine pk_le 8 8 (fun _ => ?_) (fun z => absurd z (by omega))
    rw [h3]
    exact H dm' st' c1 c2 c3 c4 c5 c13 h1 h2 h4 h5 h6 h7
  · intro m i s hi h hw
    obtain ⟨dm', st', cl', c1, c2, c3, c4, c5, c13⟩ := s
    obtain ⟨h1, h2, h3, h4, h5, h6, h7⟩ := h
    dsimp only at h1 h2 h3 h4 h5 h6 h7
    show wX_join_8 post (nI o) (nI a) (nI b) sd (m + 1) (nI i) dm' (nI st') (nI n) br cl' c1 c2 c3 c4 c5 a6 a7 a8 a9 a10 a11 a12 c13
    obtain ⟨so, hso, eo, ko⟩ := hR o i ho hi
    obtain ⟨sa, hsa, ea, ka⟩ := hR a i ha hi
    obtain ⟨sb, hsb, eb, kb⟩ := hR b i hb hi
    have hs1 : cv_cs (fun c j => cv_cf (C o c j) (C a c j) (C b c j)) (i + 1) = cv_cs (fun c j => cv_cf (C o c j) (C a c j) (C b c j)) i + cv_cb (fun j => cv_cf (C o i j) (C a i j) (C b i j)) 8 := rfl
    have fin : ∀ (em : Int32) (t st'' : Nat) (d1 d2 d3 d4 d13 : Nat → Int32), st' ≤ st'' → st'' ≤ st' + 1 → t < st'' → cv_S st'' d1 d2 d3 d4 → (∀ s j, s < st' → j < 8 → cv_K d1 d2 s j = cv_K c1 c2 s j) → (∀ j, j < 8 → cv_K d1 d2 t j = cv_mg (C o i j) (C a i j) (C b i j) (decide (sd = 1))) →
        wX_join_103 post (wX_join_8 post (nI o) (nI a) (nI b) sd m) (nI o) (nI a) (nI b) sd (nI i) (nI t) em (nI st'') (nI n) br (cl' + nI (cv_cb (fun j => cv_cf (C o i j) (C a i j) (C b i j)) 8)) d1 d2 d3 d4 c5 a6 a7 a8 a9 a10 a11 a12 d13 := by
      intro em t st'' d1 d2 d3 d4 d13 g1 g2 g3 gS gK gt
      unfold wX_join_103
      refine ⟨cv_in8 (by omega) (by omega), nm_r (e' := upd c5 (8 * n + i) (nI t)) (by rw [cv_cl8 (show 8 * n + i < 2 ^ 31 by omega)]) (nm_r (nI_1 i) (hw (em, st'', cl' + nI (cv_cb (fun j => cv_cf (C o i j) (C a i j) (C b i j)) 8), d1, d2, d3, d4, upd c5 (8 * n + i) (nI t), d13) ⟨?_, ?_, ?_, gS, fun q j hq hj => ?_, fun q hq => ?_, fun c hc => ?_⟩))⟩
      · dsimp only
        omega
      · dsimp only
        omega
      · dsimp only
        rw [h3, hs1, nI_add]
      · exact (gK q j (by omega) hj).trans (h5 q j hq hj)
      · dsimp only
        rw [pk_un (show q ≠ 8 * n + i by omega)]
        exact h6 q hq
      · dsimp only
        by_cases e : c = i
        · subst e
          exact ⟨t, g3, pk_us, gt⟩
        · rw [pk_un (show 8 * n + c ≠ 8 * n + i by omega)]
          obtain ⟨t', ht', e', k'⟩ := h7 c (by omega)
          exact ⟨t', by omega, e', fun j hj => (gK t' j ht' hj).trans (k' j hj)⟩
    have fin0 : ∀ t, t < st' → (∀ j, j < 8 → cv_cf (C o i j) (C a i j) (C b i j) = false) → (∀ j, j < 8 → cv_K c1 c2 t j = cv_mg (C o i j) (C a i j) (C b i j) (decide (sd = 1))) →
        wX_join_103 post (wX_join_8 post (nI o) (nI a) (nI b) sd m) (nI o) (nI a) (nI b) sd (nI i) (nI t) dm' (nI st') (nI n) br cl' c1 c2 c3 c4 c5 a6 a7 a8 a9 a10 a11 a12 c13 := by
      intro t ht hz gt
      have r := fin dm' t st' c1 c2 c3 c4 c13 (Nat.le_refl st') (by omega) ht h4 (fun _ _ _ _ => rfl) gt
      rw [cv_cb_zero.mpr hz, nI_0, Int32.add_zero] at r
      exact r
    have ko' : ∀ j, j < 8 → cv_K c1 c2 so j = C o i j := fun j hj => (h5 so j hso hj).trans (ko j hj)
    have ka' : ∀ j, j < 8 → cv_K c1 c2 sa j = C a i j := fun j hj => (h5 sa j hsa hj).trans (ka j hj)
    have kb' : ∀ j, j < 8 → cv_K c1 c2 sb j = C b i j := fun j hj => (h5 sb j hsb hj).trans (kb j hj)
    refine pk_le 8 i (fun z => absurd z (by omega)) (fun _ => ⟨cv_in8 (by omega) (by omega), nm_r (e' := nI so) (by rw [cv_cl8 (show 8 * o + i < 2 ^ 31 by omega), h6 (8 * o + i) (by omega), eo]) ⟨cv_in8 (by omega) (by omega), nm_r (e' := nI sa) (by rw [cv_cl8 (show 8 * a + i < 2 ^ 31 by omega), h6 (8 * a + i) (by omega), ea]) ⟨cv_in8 (by omega) (by omega), nm_r (e' := nI sb) (by rw [cv_cl8 (show 8 * b + i < 2 ^ 31 by omega), h6 (8 * b + i) (by omega), eb]) ?_⟩⟩⟩)
    refine pk_eq sa so (fun g => ?_) (fun g => pk_eq sb so (fun g' => ?_) (fun g' => pk_eq sb sa (fun g'' => ?_) (fun g'' => ?_)))
    · have e : ∀ j, j < 8 → C a i j = C o i j := fun j hj => by rw [← ka' j hj, ← ko' j hj, g]
      refine fin0 sb (by omega) (fun j hj => ?_) (fun j hj => ?_)
      · rw [e j hj]
        exact (cv_mg_o _ _ true).2
      · rw [e j hj, kb' j hj]
        exact (cv_mg_o _ _ _).1.symm
    · have e : ∀ j, j < 8 → C b i j = C o i j := fun j hj => by rw [← kb' j hj, ← ko' j hj, g']
      refine fin0 sa (by omega) (fun j hj => ?_) (fun j hj => ?_)
      · rw [e j hj]
        exact (cv_mg_a _ _ true).2
      · rw [e j hj, ka' j hj]
        exact (cv_mg_a _ _ _).1.symm
    · have e : ∀ j, j < 8 → C b i j = C a i j := fun j hj => by rw [← kb' j hj, ← ka' j hj, g'']
      refine fin0 sa (by omega) (fun j hj => ?_) (fun j hj => ?_)
      · rw [e j hj]
        exact (cv_mg_s _ _ true).2
      · rw [e j hj, ka' j hj]
        exact (cv_mg_s _ _ _).1.symm
    · refine cv_joinChunks (by omega) h4 (by omega) (by omega) (by omega) (fun em t st'' d1 d2 d3 d4 d13 g1 g2 g3 gS gK gt => ?_)
      have r := fin em t st'' d1 d2 d3 d4 d13 g1 g2 g3 gS gK (fun j hj => by rw [gt j hj, ko' j hj, ka' j hj, kb' j hj])
      rw [cv_cb_congr (q := fun j => cv_cf (C o i j) (C a i j) (C b i j)) (fun j hj => by rw [ko' j hj, ka' j hj, kb' j hj])]
      exact r
theorem cv_countClashes {post : Int32 → Prop} {st n o a b : Nat} {C : Nat → Nat → Nat → Option Int32} (hst : st ≤ 168) (hn : n ≤ 20) (ho : o < n) (ha : a < n) (hb : b < n) (hN : ∀ s, s < st → cv_nm a1 a2 s) (hR : cv_R st n a1 a2 a5 C)
    (H : post (nI (cv_cs (fun c j => cv_cf (C o c j) (C a c j) (C b c j)) 8))) : wpX_countClashes post (dm, sr, ct, br, cl, a1, a2, a3, a4, a5, a6, a7, a8, a9, a10, a11, a12, a13) (nI o) (nI a) (nI b) := by
  unfold wpX_countClashes
  dsimp only
  refine pk_loop (fun m i x => wX_countClashes_6 post (nI o) (nI a) (nI b) dm sr ct br cl a1 a2 a3 a4 a5 a6 a7 a8 a9 a10 a11 a12 a13 m x (nI i)) (fun i x => x = nI (cv_cs (fun c j => cv_cf (C o c j) (C a c j) (C b c j)) i)) 8 0 0 (by omega) rfl ?_ ?_
  · intro m x h
    refine pk_le 8 8 (fun _ => ?_) (fun z => absurd z (by omega))
    rw [h]
    exact H
  · intro m i x hi h hw
    obtain ⟨so, hso, eo, ko⟩ := hR o i ho hi
    obtain ⟨sa, hsa, ea, ka⟩ := hR a i ha hi
    obtain ⟨sb, hsb, eb, kb⟩ := hR b i hb hi
    refine pk_le 8 i (fun z => absurd z (by omega)) (fun _ => ⟨cv_in8 (by omega) (by omega), cv_in8 (by omega) (by omega), cv_in8 (by omega) (by omega), ?_⟩)
    rw [cv_cl8 (show 8 * o + i < 2 ^ 31 by omega), cv_cl8 (show 8 * a + i < 2 ^ 31 by omega), cv_cl8 (show 8 * b + i < 2 ^ 31 by omega), eo, ea, eb]
    refine cv_clashesIn (by omega) (by omega) (by omega) (hN so hso) (hN sa hsa) (hN sb hsb) (fun r hr => cv_ones (p := fun j => cv_cf (C o i j) (C a i j) (C b i j)) (fun j hj => ?_) (nm_r (e' := nI (cv_cs (fun c j => cv_cf (C o c j) (C a c j) (C b c j)) (i + 1))) ?_ (nm_r (nI_1 i) (hw _ rfl))))
    · rw [hr j hj, ko j hj, ka j hj, kb j hj]
    · rw [h, nI_add]
      rfl
end
section
/-! the picture of an object; init, put, delete, spread -/
variable {dm sr ct br cl : Int32} {a1 a2 a3 a4 a5 a6 a7 a8 a9 a10 a11 a12 a13 : Nat → Int32}
abbrev cv_Pic : Type := Nat × Nat × (Nat → Nat) × (Nat → Int32) × (Nat → Int32) × (Nat → Nat → Nat → Option Int32) × (Nat → Nat → Option Int32)
def cv_G (n b : Nat) (h : Nat → Nat) (fp kn a6 a8 a9 : Nat → Int32) : Prop := b < 4 ∧ (∀ i, i < 4 → a9 i = nI (h i) ∧ h i < n) ∧ (∀ i, i < n → a6 i = fp i ∧ cv_P n (fp i)) ∧ (∀ i, i < n → a8 i = kn i)
def cv_A (u : St1) (P : cv_Pic) : Prop := match u, P with
  | (dm, sr, ct, br, cl, a1, a2, a3, a4, a5, a6, a7, a8, a9, a10, a11, a12, a13), (n, b, h, fp, kn, C, w) => ∃ st, sr = nI st ∧ ct = nI n ∧ br = nI b ∧ 1 ≤ n ∧ n ≤ 20 ∧ st ≤ 8 * n ∧ cv_S st a1 a2 a3 a4 ∧ cv_R st n a1 a2 a5 C ∧ cv_W a10 a11 w ∧ cv_Q st a1 a2 a12 w ∧ cv_G n b h fp kn a6 a8 a9
def cv_up (w : Nat → Nat → Option Int32) (c j : Nat) (x : Option Int32) : Nat → Nat → Option Int32 := fun c' j' => if c' = c ∧ j' = j then x else w c' j'
def cv_hu (h : Nat → Nat) (b v : Nat) : Nat → Nat := fun i => if i = b then v else h i
def cv_Cu (C : Nat → Nat → Nat → Option Int32) (n : Nat) (y : Nat → Nat → Option Int32) : Nat → Nat → Nat → Option Int32 := fun i => if i = n then y else C i
def cv_dd (w y : Nat → Nat → Option Int32) : Nat := cv_cs (fun c j => cv_df (w c j) (y c j)) 8
def cv_cc (o a b : Nat → Nat → Option Int32) : Nat := cv_cs (fun c j => cv_cf (o c j) (a c j) (b c j)) 8
theorem cv_isKey {post : Int32 → Prop} {k : Nat} (hk : k < 64) (H : post 1) : wpX_isKey post () (nI k) := by
  unfold wpX_isKey
  exact pk_lt k 0 (fun z => absurd z (by omega)) (fun _ => pk_le 64 k (fun z => absurd z (by omega)) (fun _ => H))
theorem cv_isBranch {post : Int32 → Prop} {k : Nat} (hk : k < 4) (H : post 1) : wpX_isBranch post () (nI k) := by
  unfold wpX_isBranch
  exact pk_lt k 0 (fun z => absurd z (by omega)) (fun _ => pk_le 4 k (fun z => absurd z (by omega)) (fun _ => H))
theorem cv_isCommit {post : Int32 → Prop} {x n : Nat} (hx : x < 2 ^ 31) (hn : n ≤ 20) (H1 : x < n → post 1) (H0 : n ≤ x → post 0) : wpX_isCommit post (dm, sr, nI n, br, cl, a1, a2, a3, a4, a5, a6, a7, a8, a9, a10, a11, a12, a13) (nI x) := by
  unfold wpX_isCommit
  dsimp only
  exact pk_lt x 0 (fun z => absurd z (by omega)) (fun _ => pk_le n x (fun z => H0 z) (fun z => H1 z))
theorem cv_shr3 {k : Nat} (hk : k < 64) : nI k >>> ((3 : Int32) &&& 31) = nI (k / 8) := pk_shrN (by omega) _ 3 (by decide)
theorem cv_and7 {k : Nat} (hk : k < 64) : nI k &&& 7 = nI (k % 8) := pk_andN (by omega) 3 (by decide)
theorem cv_init139 {post : St1 → Prop} {mc ms kc ks t : Nat}
    (H : ∀ c5 c12 : Nat → Int32, (∀ c, c < 8 → c5 c = nI t) → (∀ c, c < 8 → c12 c = nI t) → post (dm, sr, 1, br, cl, a1, a2, a3, a4, c5, upd a6 0 (-1), upd a7 0 (-1), upd a8 0 1, a9, a10, a11, c12, a13)) :
    ∃ f, wX_init_139 post mc ms (nI t) kc ks dm sr ct br cl f 0 a1 a2 a3 a4 a5 a6 a7 a8 a9 a10 a11 a12 a13 := by
  refine pk_loop (σ := (Nat → Int32) × (Nat → Int32)) (fun n i s => wX_init_139 post mc ms (nI t) kc ks dm sr ct br cl n (nI i) a1 a2 a3 a4 s.1 a6 a7 a8 a9 a10 a11 s.2 a13) (fun i s => (∀ c, c < i → s.1 c = nI t) ∧ (∀ c, c < i → s.2 c = nI t)) 8 0 (a5, a12) (by omega) ⟨fun j hj => absurd hj (by omega), fun j hj => absurd hj (by omega)⟩ ?_ ?_
  · intro n s h
    exact pk_le 8 8 (fun _ => nm_e (nm_e (nm_e (H s.1 s.2 h.1 h.2)))) (fun z => absurd z (by omega))
  · intro n i s hi h hw
    refine pk_le 8 i (fun z => absurd z (by omega)) (fun _ => ⟨pk_in i 160 (by omega), nm_r (e' := upd s.1 i (nI t)) (by rw [nI_clamp (show i < 2 ^ 31 by omega)]) ⟨pk_in i 8 hi, nm_r (e' := upd s.2 i (nI t)) (by rw [nI_clamp (show i < 2 ^ 31 by omega)]) (nm_r (nI_1 i) (hw (upd s.1 i (nI t), upd s.2 i (nI t)) ⟨?_, ?_⟩))⟩⟩)
    · intro c hc
      dsimp only
      by_cases e : c = i
      · rw [e, pk_us]
      · rw [pk_un e]
        exact h.1 c (by omega)
    · intro c hc
      dsimp only
      by_cases e : c = i
      · rw [e, pk_us]
      · rw [pk_un e]
        exact h.2 c (by omega)
theorem cv_init {post : St1 → Prop} (H : ∀ u, cv_A u (1, 0, fun _ => 0, fun _ => -1, fun _ => 1, fun _ _ _ => none, fun _ _ => none) → post u) : wpX_init post 13 2024 (0, 0, 0, 0, 0) := by
  unfold wpX_init
  dsimp only
  refine ⟨by omega, by omega, by omega, by omega, by omega, by omega, by omega, by omega, by omega, by omega, by omega, by omega, by omega, by omega, by omega, by omega, by omega, by omega, by omega, by omega, by omega, by omega, by omega, by omega, by omega, by omega, ?_⟩
  refine pk_loop (fun n i s => wX_init_113 post 13 2024 13 2024 0 0 0 0 0 n (nI i) (fun _ => 0) (fun _ => 0) (fun _ => 0) s (fun _ => 0) (fun _ => 0) (fun _ => 0) (fun _ => 0) (fun _ => 0) (fun _ => 0) (fun _ => 0) (fun _ => 0) (fun _ => 0)) (fun i s => ∀ k, k < i → s k = -1) 32 0 (fun _ => 0) (by omega) (fun j hj => absurd hj (by omega)) ?_ ?_
  · intro n s h
    refine pk_le 32 32 (fun _ => ?_) (fun z => absurd z (by omega))
    refine cv_intern (st := 0) (by omega) ⟨fun s hs => absurd hs (by omega), fun i hi => Or.inl (h i hi), fun s hs => absurd hs (by omega)⟩ (fun j hj g => rfl) (fun t st' c1 c2 c3 c4 g1 g2 g3 gS gK gt => cv_init139 (fun c5 c12 e5 e12 => H _ ?_))
    refine ⟨st', rfl, rfl, rfl, by omega, by omega, by omega, gS, fun i c hi hc => ⟨t, g3, ?_, fun j hj => ?_⟩, fun c hc => ⟨fun j hj _ => rfl, fun j hj => cv_ck_some.mpr (cv_bz j)⟩, fun c hc => Or.inr ⟨t, g3, e12 c hc, fun j hj => ?_⟩, by omega, fun i hi => ⟨rfl, Nat.one_pos⟩, fun i hi => ?_, fun i hi => ?_⟩
    · rw [show 8 * i + c = c by omega]
      exact e5 c hc
    · rw [gt j hj]
      exact cv_ck_some.mpr (cv_bz j)
    · rw [gt j hj]
      exact cv_ck_some.mpr (cv_bz j)
    · rw [show i = 0 by omega]
      exact ⟨rfl, Or.inl rfl⟩
    · rw [show i = 0 by omega]
      rfl
  · intro n i s hi h hw
    refine pk_le 32 i (fun z => absurd z (by omega)) (fun _ => ⟨pk_in i 32 hi, nm_e (nm_r (nI_1 i) (hw _ (fun k hk => ?_)))⟩)
    rw [nI_clamp (show i < 2 ^ 31 by omega)]
    by_cases e : k = i
    · rw [e, pk_us]
    · rw [pk_un e]
      exact h k (by omega)
theorem cv_W_up {k : Nat} {m x : Int32} {o : Option Int32} {w : Nat → Nat → Option Int32} (hW : cv_W a10 a11 w) (hm : ∀ i, i < 8 → i ≠ k % 8 → cv_bt m i = cv_bt (a10 (k / 8)) i) (ho : cv_ck m x (k % 8) = o) (hz : cv_bt m (k % 8) = false → x = 0) :
    cv_W (upd a10 (k / 8) m) (upd a11 k x) (cv_up w (k / 8) (k % 8) o) := by
  intro c hc
  by_cases e : c = k / 8
  · subst e
    refine ⟨fun j hj g => ?_, fun j hj => ?_⟩
    · rw [pk_us] at g
      by_cases ej : j = k % 8
      · rw [show 8 * (k / 8) + j = k by omega, pk_us]
        rw [ej] at g
        exact hz g
      · rw [pk_un (show 8 * (k / 8) + j ≠ k by omega)]
        rw [hm j hj ej] at g
        exact (hW _ hc).1 j hj g
    · unfold cv_K cv_up
      rw [pk_us]
      by_cases ej : j = k % 8
      · rw [if_pos ⟨rfl, ej⟩, show 8 * (k / 8) + j = k by omega, pk_us, ej]
        exact ho
      · rw [if_neg (fun z => ej z.2), pk_un (show 8 * (k / 8) + j ≠ k by omega), ← (hW _ hc).2 j hj]
        unfold cv_K cv_ck
        rw [hm j hj ej]
  · refine ⟨fun j hj g => ?_, fun j hj => ?_⟩
    · rw [pk_un e] at g
      rw [pk_un (show 8 * c + j ≠ k by omega)]
      exact (hW c hc).1 j hj g
    · unfold cv_K cv_up
      rw [if_neg (fun z => e z.1), pk_un e, pk_un (show 8 * c + j ≠ k by omega)]
      exact (hW c hc).2 j hj
theorem cv_Q_up {st d j : Nat} {o : Option Int32} {w : Nat → Nat → Option Int32} (hQ : cv_Q st a1 a2 a12 w) : cv_Q st a1 a2 (upd a12 d (-1)) (cv_up w d j o) := by
  intro c hc
  by_cases e : c = d
  · rw [e, pk_us]
    exact Or.inl rfl
  · rw [pk_un e]
    rcases hQ c hc with g | ⟨s, hs, g, k⟩
    · exact Or.inl g
    · refine Or.inr ⟨s, hs, g, fun i hi => ?_⟩
      unfold cv_up
      rw [if_neg (fun z => e z.1)]
      exact k i hi
theorem cv_wn {c j : Nat} {w : Nat → Nat → Option Int32} (hW : cv_W a10 a11 w) (hc : c < 8) (hj : j < 8) : cv_bt (a10 c) j = false ↔ w c j = none := by
  rw [← (hW c hc).2 j hj]
  exact cv_ck_some.symm
theorem cv_put {post : Int32 → St1 → Prop} {u : St1} {n b : Nat} {h : Nat → Nat} {fp kn : Nat → Int32} {C : Nat → Nat → Nat → Option Int32} {w : Nat → Nat → Option Int32} {k : Nat} {v : Int32} (hA : cv_A u (n, b, h, fp, kn, C, w)) (hk : k < 64)
    (H : ∀ u', cv_A u' (n, b, h, fp, kn, C, cv_up w (k / 8) (k % 8) (some v)) → post (if w (k / 8) (k % 8) = none then 1 else 0) u') : wpX_put post u (nI k) v := by
  obtain ⟨dm, sr, ct, br, cl, a1, a2, a3, a4, a5, a6, a7, a8, a9, a10, a11, a12, a13⟩ := u
  obtain ⟨st, e1, e2, e3, hn1, hn2, hst, hS, hR, hW, hQ, hG⟩ := hA
  unfold wpX_put
  dsimp only
  refine cv_isKey hk (br_f (by decide) (nm_r (cv_shr3 hk) (nm_r (e' := (1 : Int32) <<< (nI (k % 8) &&& 31)) (by rw [cv_and7 hk]) ⟨pk_in (k / 8) 8 (by omega), ?_⟩)))
  rw [nI_clamp (show k / 8 < 2 ^ 31 by omega)]
  have bits : ∀ i, i < 8 → cv_bt (a10 (k / 8) ||| ((1 : Int32) <<< (nI (k % 8) &&& 31))) i = (cv_bt (a10 (k / 8)) i || decide (i = k % 8)) := fun i hi => cv_bset _ (by omega) (by omega)
  have self : cv_bt (a10 (k / 8) ||| ((1 : Int32) <<< (nI (k % 8) &&& 31))) (k % 8) = true := by
    rw [bits (k % 8) (by omega), decide_eq_true rfl, Bool.or_true]
  have fin : cv_A (dm, sr, ct, br, cl, a1, a2, a3, a4, a5, a6, a7, a8, a9, upd a10 (k / 8) (a10 (k / 8) ||| ((1 : Int32) <<< (nI (k % 8) &&& 31))), upd a11 k v, upd a12 (k / 8) (-1), a13) (n, b, h, fp, kn, C, cv_up w (k / 8) (k % 8) (some v)) := by
    refine ⟨st, e1, e2, e3, hn1, hn2, hst, hS, hR, cv_W_up hW (fun i hi ne => ?_) ?_ (fun z => ?_), cv_Q_up hQ, hG⟩
    · rw [bits i hi, decide_eq_false ne, Bool.or_false]
    · unfold cv_ck
      rw [self]
      rfl
    · rw [self] at z
      exact absurd z (by decide)
  have H' := H _ fin
  refine br_c (fun g => ?_) (fun g => ?_)
  · unfold wX_put_38
    refine ⟨pk_in (k / 8) 8 (by omega), pk_in (k / 8) 8 (by omega), nm_e ⟨pk_in k 64 hk, nm_e ⟨pk_in (k / 8) 8 (by omega), nm_e ?_⟩⟩⟩
    rw [nI_clamp (show k / 8 < 2 ^ 31 by omega), nI_clamp (show k < 2 ^ 31 by omega)]
    rw [if_pos ((cv_wn hW (by omega) (by omega)).mp ((cv_bmask _ (by omega)).mp g))] at H'
    exact H'
  · unfold wX_put_38
    refine ⟨pk_in (k / 8) 8 (by omega), pk_in (k / 8) 8 (by omega), nm_e ⟨pk_in k 64 hk, nm_e ⟨pk_in (k / 8) 8 (by omega), nm_e ?_⟩⟩⟩
    rw [nI_clamp (show k / 8 < 2 ^ 31 by omega), nI_clamp (show k < 2 ^ 31 by omega)]
    rw [if_neg (fun z => g ((cv_bmask _ (by omega)).mpr ((cv_wn hW (by omega) (by omega)).mpr z)))] at H'
    exact H'
theorem cv_delete {post : Int32 → St1 → Prop} {u : St1} {n b : Nat} {h : Nat → Nat} {fp kn : Nat → Int32} {C : Nat → Nat → Nat → Option Int32} {w : Nat → Nat → Option Int32} {k : Nat} (hA : cv_A u (n, b, h, fp, kn, C, w)) (hk : k < 64)
    (H : ∀ u', cv_A u' (n, b, h, fp, kn, C, cv_up w (k / 8) (k % 8) none) → post (if w (k / 8) (k % 8) = none then 0 else 1) u') : wpX_delete post u (nI k) := by
  obtain ⟨dm, sr, ct, br, cl, a1, a2, a3, a4, a5, a6, a7, a8, a9, a10, a11, a12, a13⟩ := u
  obtain ⟨st, e1, e2, e3, hn1, hn2, hst, hS, hR, hW, hQ, hG⟩ := hA
  unfold wpX_delete
  dsimp only
  refine cv_isKey hk (br_f (by decide) (nm_r (cv_shr3 hk) (nm_r (e' := (1 : Int32) <<< (nI (k % 8) &&& 31)) (by rw [cv_and7 hk]) ⟨pk_in (k / 8) 8 (by omega), ?_⟩)))
  rw [nI_clamp (show k / 8 < 2 ^ 31 by omega)]
  refine br_c (fun g => ?_) (fun g => ?_)
  · have wn := (cv_wn hW (by omega) (by omega)).mp ((cv_bmask _ (by omega)).mp g)
    have same : ∀ c j, c < 8 → j < 8 → w c j = cv_up w (k / 8) (k % 8) none c j := by
      intro c j hc hj
      unfold cv_up
      by_cases e : c = k / 8 ∧ j = k % 8
      · rw [if_pos e, e.1, e.2]
        exact wn
      · rw [if_neg e]
    have H' := H (dm, sr, ct, br, cl, a1, a2, a3, a4, a5, a6, a7, a8, a9, a10, a11, a12, a13) ⟨st, e1, e2, e3, hn1, hn2, hst, hS, hR, cv_W_congr hW same, cv_Q_congr hQ same, hG⟩
    rw [if_pos wn] at H'
    exact H'
  · have bits : ∀ i, i < 8 → cv_bt (a10 (k / 8) &&& (((1 : Int32) <<< (nI (k % 8) &&& 31)) ^^^ (-1))) i = (cv_bt (a10 (k / 8)) i && !decide (i = k % 8)) := fun i hi => cv_bclr _ (by omega) (by omega)
    have fin : cv_A (dm, sr, ct, br, cl, a1, a2, a3, a4, a5, a6, a7, a8, a9, upd a10 (k / 8) (a10 (k / 8) &&& (((1 : Int32) <<< (nI (k % 8) &&& 31)) ^^^ (-1))), upd a11 k 0, upd a12 (k / 8) (-1), a13) (n, b, h, fp, kn, C, cv_up w (k / 8) (k % 8) none) := by
      refine ⟨st, e1, e2, e3, hn1, hn2, hst, hS, hR, cv_W_up hW (fun i hi ne => ?_) ?_ (fun _ => rfl), cv_Q_up hQ, hG⟩
      · rw [bits i hi, decide_eq_false ne, Bool.not_false, Bool.and_true]
      · refine cv_ck_some.mpr ?_
        rw [bits (k % 8) (by omega), decide_eq_true rfl, Bool.not_true, Bool.and_false]
    have H' := H _ fin
    rw [if_neg (fun z => g ((cv_bmask _ (by omega)).mpr ((cv_wn hW (by omega) (by omega)).mpr z)))] at H'
    refine ⟨pk_in (k / 8) 8 (by omega), pk_in (k / 8) 8 (by omega), nm_e ⟨pk_in k 64 hk, nm_e ⟨pk_in (k / 8) 8 (by omega), nm_e ?_⟩⟩⟩
    rw [nI_clamp (show k < 2 ^ 31 by omega)]
    exact H'
/-- the working map after m puts of a spread -/
def cv_sp (w : Nat → Nat → Option Int32) (k s : Nat) (v : Int32) : Nat → Nat → Nat → Option Int32
  | 0 => w
  | m + 1 => cv_up (cv_sp w k s v m) ((k + m * s) / 8) ((k + m * s) % 8) (some (v + nI m))
theorem cv_spread {post : Int32 → St1 → Prop} {u : St1} {n b : Nat} {h : Nat → Nat} {fp kn : Nat → Int32} {C : Nat → Nat → Nat → Option Int32} {w : Nat → Nat → Option Int32} {k s m N : Nat} {v : Int32} (hA : cv_A u (n, b, h, fp, kn, C, w)) (hk : k < 64) (hs : 1 ≤ s) (hs' : s ≤ 16) (hm : 1 ≤ m) (hm' : m ≤ 64) (hN : ∀ d, d < N → d < m ∧ k + d * s < 64) (hN' : ¬ (N < m ∧ k + N * s < 64)) (hN2 : N ≤ 64)
    (H : ∀ u', cv_A u' (n, b, h, fp, kn, C, cv_sp w k s v N) → post (nI N) u') : wpX_spread post u (nI k) (nI (64 * s + m - 1)) v := by
  obtain ⟨dm, sr, ct, br, cl, a1, a2, a3, a4, a5, a6, a7, a8, a9, a10, a11, a12, a13⟩ := u
  unfold wpX_spread
  dsimp only
  have h6 : nI (64 * s + m - 1) >>> ((6 : Int32) &&& 31) = nI s := by
    rw [pk_shrN (show 64 * s + m - 1 < 2 ^ 31 by omega) _ 6 (by decide)]
    congr 1
    omega
  have h63 : (nI (64 * s + m - 1) &&& 63) + 1 = nI m := by
    rw [pk_andN (show 64 * s + m - 1 < 2 ^ 32 by omega) 6 (by decide), nI_1]
    congr 1
    omega
  refine cv_isKey hk (br_f (by decide) (nm_r h6 (nm_r h63 (pk_lt (64 * s + m - 1) 0 (fun z => absurd z (by omega)) (fun _ => pk_lt s 1 (fun z => absurd z (by omega)) (fun _ => pk_le s 16 (fun _ => ?_) (fun z => absurd z (by omega))))))))
  have key := pk_loop (σ := St1) (fun f d u => wX_spread_49 post v (nI s) (nI m) f (nI d) (nI (k + d * s)) u.1 u.2.1 u.2.2.1 u.2.2.2.1 u.2.2.2.2.1 u.2.2.2.2.2.1 u.2.2.2.2.2.2.1 u.2.2.2.2.2.2.2.1 u.2.2.2.2.2.2.2.2.1 u.2.2.2.2.2.2.2.2.2.1 u.2.2.2.2.2.2.2.2.2.2.1 u.2.2.2.2.2.2.2.2.2.2.2.1 u.2.2.2.2.2.2.2.2.2.2.2.2.1 u.2.2.2.2.2.2.2.2.2.2.2.2.2.1 u.2.2.2.2.2.2.2.2.2.2.2.2.2.2.1 u.2.2.2.2.2.2.2.2.2.2.2.2.2.2.2.1 u.2.2.2.2.2.2.2.2.2.2.2.2.2.2.2.2.1 u.2.2.2.2.2.2.2.2.2.2.2.2.2.2.2.2.2)
    (fun d u => cv_A u (n, b, h, fp, kn, C, cv_sp w k s v d)) N 0 (dm, sr, ct, br, cl, a1, a2, a3, a4, a5, a6, a7, a8, a9, a10, a11, a12, a13) (by omega) hA ?_ ?_
  · rw [show k + 0 * s = k by omega] at key
    exact key
  · intro f u hu
    obtain ⟨dm, sr, ct, br, cl, a1, a2, a3, a4, a5, a6, a7, a8, a9, a10, a11, a12, a13⟩ := u
    have bd : N * s ≤ 64 * 16 := Nat.mul_le_mul hN2 hs'
    refine pk_le m N (fun _ => H _ hu) (fun z => pk_le 64 (k + N * s) (fun _ => H _ hu) (fun z' => absurd ⟨z, z'⟩ hN'))
  · intro f d u hd hu hw
    obtain ⟨dm, sr, ct, br, cl, a1, a2, a3, a4, a5, a6, a7, a8, a9, a10, a11, a12, a13⟩ := u
    obtain ⟨d1, d2⟩ := hN d hd
    refine pk_le m d (fun z => absurd z (by omega)) (fun _ => pk_le 64 (k + d * s) (fun z => absurd z (by omega)) (fun _ => cv_put hu d2 (fun u' hu' => ?_)))
    have r := hw u' hu'
    obtain ⟨dm', sr', ct', br', cl', c1, c2, c3, c4, c5, c6, c7, c8, c9, c10, c11, c12, c13⟩ := u'
    refine nm_r (e' := nI (k + (d + 1) * s)) ?_ (nm_r (nI_1 d) r)
    rw [nI_add, Nat.succ_mul, Nat.add_assoc]
end
section
/-! isClean, baseOf, checkout, reset, change, branch, commit, merge, pick over a picture -/
variable {dm sr ct br cl : Int32} {a1 a2 a3 a4 a5 a6 a7 a8 a9 a10 a11 a12 a13 : Nat → Int32}
theorem cv_isClean {post : Int32 → Prop} {n b : Nat} {h : Nat → Nat} {fp kn : Nat → Int32} {C : Nat → Nat → Nat → Option Int32} {w : Nat → Nat → Option Int32} (hA : cv_A (dm, sr, ct, br, cl, a1, a2, a3, a4, a5, a6, a7, a8, a9, a10, a11, a12, a13) (n, b, h, fp, kn, C, w))
    (H : post (if cv_dd w (C (h b)) = 0 then 1 else 0)) : wpX_isClean post (dm, sr, ct, br, cl, a1, a2, a3, a4, a5, a6, a7, a8, a9, a10, a11, a12, a13) := by
  obtain ⟨st, e1, e2, e3, hn1, hn2, hst, hS, hR, hW, hQ, hG⟩ := hA
  obtain ⟨hb, hh, hf, hk⟩ := hG
  subst e3
  unfold wpX_isClean
  dsimp only
  have t := hh b hb
  refine ⟨pk_in b 4 hb, nm_r (e' := nI (h b)) (by rw [nI_clamp (show b < 2 ^ 31 by omega), t.1]) ?_⟩
  exact cv_isClean_l (show st ≤ 168 by omega) (by omega) hS.1 (fun c hc => hR (h b) c t.2 hc) hW hQ H
/-- the greatest bit of m at or below k; 0 if there is none -/
def cv_bs (m : Int32) : Nat → Nat
  | 0 => 0
  | k + 1 => if cv_bt m (k + 1) = true then k + 1 else cv_bs m k
theorem cv_bs_le (m : Int32) (k : Nat) : cv_bs m k ≤ k := by
  induction k with
  | zero => exact Nat.le_refl 0
  | succ k ih =>
    show (if cv_bt m (k + 1) = true then k + 1 else cv_bs m k) ≤ k + 1
    split <;> omega
def cv_bo (kn : Nat → Int32) (a b : Nat) : Nat := cv_bs (kn a &&& kn b) (if b ≤ a then b else a)
theorem cv_bo_le (kn : Nat → Int32) (a b : Nat) : cv_bo kn a b ≤ a ∧ cv_bo kn a b ≤ b := by
  have t := cv_bs_le (kn a &&& kn b) (if b ≤ a then b else a)
  unfold cv_bo
  by_cases e : b ≤ a
  · rw [if_pos e] at t ⊢
    omega
  · rw [if_neg e] at t ⊢
    omega
theorem cv_baseOf26 {post : Int32 → Prop} {m : Int32} : ∀ k, k < 32 → post (nI (cv_bs m k)) → ∃ f, wX_baseOf_26 post m dm sr ct br cl a1 a2 a3 a4 a5 a6 a7 a8 a9 a10 a11 a12 a13 f (nI k) := by
  intro k
  induction k with
  | zero => exact fun _ H => ⟨1, pk_le 0 0 (fun _ => H) (fun z => absurd z (by omega))⟩
  | succ k ih =>
    intro hk H
    by_cases e : cv_bt m (k + 1) = true
    · have H' : post (nI (k + 1)) := by
        have t : cv_bs m (k + 1) = k + 1 := if_pos e
        rw [t] at H
        exact H
      refine ⟨1, pk_le (k + 1) 0 (fun z => absurd z (by omega)) (fun _ => ?_)⟩
      rw [cv_bbit m hk]
      exact br_f (fun z => by rw [cv_i0.mp z] at e; exact absurd e (by decide)) H'
    · have t : cv_bs m (k + 1) = cv_bs m k := if_neg e
      rw [t] at H
      obtain ⟨f, hf⟩ := ih (by omega) H
      refine ⟨f + 1, pk_le (k + 1) 0 (fun z => absurd z (by omega)) (fun _ => ?_)⟩
      rw [cv_bbit m hk]
      exact br_t (cv_i0.mpr (Bool.eq_false_iff.mpr e)) (nm_r (pk_m1 k) hf)
theorem cv_baseOf {post : Int32 → Prop} {n a b : Nat} {kn : Nat → Int32} (hn : n ≤ 20) (ha : a < n) (hb : b < n) (h8 : ∀ i, i < n → a8 i = kn i)
    (H : post (nI (cv_bo kn a b))) : wpX_baseOf post (dm, sr, ct, br, cl, a1, a2, a3, a4, a5, a6, a7, a8, a9, a10, a11, a12, a13) (nI a) (nI b) := by
  unfold wpX_baseOf
  dsimp only
  refine ⟨pk_in a 20 (by omega), pk_in b 20 (by omega), nm_r (e' := kn a &&& kn b) (by rw [nI_clamp (show a < 2 ^ 31 by omega), nI_clamp (show b < 2 ^ 31 by omega), h8 a ha, h8 b hb]) ?_⟩
  unfold cv_bo at H
  refine pk_le b a (fun z => cv_baseOf26 b (by omega) ?_) (fun z => cv_baseOf26 a (by omega) ?_)
  · rw [if_pos z] at H
    exact H
  · rw [if_neg (by omega)] at H
    exact H
theorem cv_checkout0 {post : Int32 → St1 → Prop} {n b x : Nat} {h : Nat → Nat} {fp kn : Nat → Int32} {C : Nat → Nat → Nat → Option Int32} {w : Nat → Nat → Option Int32} (hA : cv_A (dm, sr, ct, br, cl, a1, a2, a3, a4, a5, a6, a7, a8, a9, a10, a11, a12, a13) (n, b, h, fp, kn, C, w)) (hx : x < n)
    (H : ∀ c10 c11 c12 : Nat → Int32, cv_A (dm, sr, ct, br, cl, a1, a2, a3, a4, a5, a6, a7, a8, a9, c10, c11, c12, a13) (n, b, h, fp, kn, C, C x) → post (nI (cv_dd w (C x))) (dm, sr, ct, br, cl, a1, a2, a3, a4, a5, a6, a7, a8, a9, c10, c11, c12, a13)) : wpX_checkout post (dm, sr, ct, br, cl, a1, a2, a3, a4, a5, a6, a7, a8, a9, a10, a11, a12, a13) (nI x) := by
  obtain ⟨st, e1, e2, e3, hn1, hn2, hst, hS, hR, hW, hQ, hG⟩ := hA
  subst e2
  unfold wpX_checkout
  dsimp only
  refine cv_isCommit (by omega) hn2 (fun _ => br_f (by decide) ?_) (fun z => absurd z (by omega))
  exact cv_checkout_l (show st ≤ 168 by omega) (by omega) hS.1 (fun c hc => hR x c hx hc) hW hQ (fun c10 c11 c12 gW gQ => H c10 c11 c12 ⟨st, e1, rfl, e3, hn1, hn2, hst, hS, hR, gW, gQ, hG⟩)
def cv_fco (P : cv_Pic) (x : Nat) : Int32 × cv_Pic := match P with
  | (n, b, h, fp, kn, C, w) => if x < n then (nI (cv_dd w (C x)), (n, b, h, fp, kn, C, C x)) else (-1, (n, b, h, fp, kn, C, w))
theorem cv_checkout {post : Int32 → St1 → Prop} {u : St1} {P : cv_Pic} {x : Nat} (hA : cv_A u P) (hx : x < 2 ^ 31) (H : ∀ u', cv_A u' (cv_fco P x).2 → post (cv_fco P x).1 u') : wpX_checkout post u (nI x) := by
  obtain ⟨dm, sr, ct, br, cl, a1, a2, a3, a4, a5, a6, a7, a8, a9, a10, a11, a12, a13⟩ := u
  obtain ⟨n, b, h, fp, kn, C, w⟩ := P
  by_cases g : x < n
  · have e : cv_fco (n, b, h, fp, kn, C, w) x = (nI (cv_dd w (C x)), (n, b, h, fp, kn, C, C x)) := if_pos g
    rw [e] at H
    exact cv_checkout0 hA g (fun c10 c11 c12 hA' => H _ hA')
  · have e : cv_fco (n, b, h, fp, kn, C, w) x = (-1, (n, b, h, fp, kn, C, w)) := if_neg g
    rw [e] at H
    have H' := H _ hA
    obtain ⟨st, e1, e2, e3, hn1, hn2, hst, hS, hR, hW, hQ, hG⟩ := hA
    subst e2
    unfold wpX_checkout
    dsimp only
    exact cv_isCommit hx hn2 (fun z => absurd z g) (fun _ => br_t rfl H')
theorem cv_reset {post : Int32 → St1 → Prop} {u : St1} {n b : Nat} {h : Nat → Nat} {fp kn : Nat → Int32} {C : Nat → Nat → Nat → Option Int32} {w : Nat → Nat → Option Int32} (hA : cv_A u (n, b, h, fp, kn, C, w))
    (H : ∀ u', cv_A u' (n, b, h, fp, kn, C, C (h b)) → post (nI (cv_dd w (C (h b)))) u') : wpX_reset post u := by
  obtain ⟨dm, sr, ct, br, cl, a1, a2, a3, a4, a5, a6, a7, a8, a9, a10, a11, a12, a13⟩ := u
  have hA0 := hA
  obtain ⟨st, e1, e2, e3, hn1, hn2, hst, hS, hR, hW, hQ, hG⟩ := hA
  have hb := hG.1
  have t := hG.2.1 b hb
  subst e3
  unfold wpX_reset
  dsimp only
  refine ⟨pk_in b 4 hb, ?_⟩
  rw [nI_clamp (show b < 2 ^ 31 by omega), t.1]
  exact cv_checkout0 hA0 t.2 (fun c10 c11 c12 hA' => H _ hA')
def cv_fch (P : cv_Pic) (t : Nat) : Int32 × cv_Pic := match P with
  | (n, b, h, fp, kn, C, w) => if cv_dd w (C (h b)) = 0 then (nI (h t), (n, t, h, fp, kn, C, C (h t))) else (-2, (n, b, h, fp, kn, C, w))
theorem cv_change {post : Int32 → St1 → Prop} {u : St1} {P : cv_Pic} {t : Nat} (hA : cv_A u P) (ht : t < 4) (H : ∀ u', cv_A u' (cv_fch P t).2 → post (cv_fch P t).1 u') : wpX_change post u (nI t) := by
  obtain ⟨dm, sr, ct, br, cl, a1, a2, a3, a4, a5, a6, a7, a8, a9, a10, a11, a12, a13⟩ := u
  obtain ⟨n, b, h, fp, kn, C, w⟩ := P
  unfold wpX_change
  dsimp only
  refine cv_isBranch ht (br_f (by decide) (cv_isClean hA ?_))
  by_cases g : cv_dd w (C (h b)) = 0
  · have e : cv_fch (n, b, h, fp, kn, C, w) t = (nI (h t), (n, t, h, fp, kn, C, C (h t))) := if_pos g
    rw [e] at H
    rw [if_pos g]
    obtain ⟨st, e1, e2, e3, hn1, hn2, hst, hS, hR, hW, hQ, hb, hh, hG⟩ := hA
    have t9 := hh t ht
    refine br_f (by decide) ⟨pk_in t 4 ht, ?_⟩
    rw [nI_clamp (show t < 2 ^ 31 by omega), t9.1]
    refine cv_checkout0 (n := n) (b := t) (h := h) (fp := fp) (kn := kn) (C := C) (w := w) ⟨st, e1, e2, rfl, hn1, hn2, hst, hS, hR, hW, hQ, ht, hh, hG⟩ t9.2 (fun c10 c11 c12 hA' => ?_)
    have H' := H _ hA'
    dsimp only
    refine ⟨pk_in t 4 ht, ?_⟩
    rw [t9.1]
    exact H'
  · have e : cv_fch (n, b, h, fp, kn, C, w) t = (-2, (n, b, h, fp, kn, C, w)) := if_neg g
    rw [e] at H
    rw [if_neg g]
    exact br_t rfl (H _ hA)
def cv_fbr (P : cv_Pic) (t : Nat) : Int32 × cv_Pic := match P with
  | (n, b, h, fp, kn, C, w) => if t = b then (-2, (n, b, h, fp, kn, C, w)) else (nI (h t), (n, b, cv_hu h t (h b), fp, kn, C, w))
theorem cv_G_head {n b t f : Nat} {h : Nat → Nat} {fp kn : Nat → Int32} (hG : cv_G n b h fp kn a6 a8 a9) (hf : f < n) : cv_G n b (cv_hu h t f) fp kn a6 a8 (upd a9 t (nI f)) := by
  refine ⟨hG.1, fun i hi => ?_, hG.2.2⟩
  unfold cv_hu
  by_cases e : i = t
  · rw [e, pk_us, if_pos rfl]
    exact ⟨rfl, hf⟩
  · rw [pk_un e, if_neg e]
    exact hG.2.1 i hi
theorem cv_branch {post : Int32 → St1 → Prop} {u : St1} {P : cv_Pic} {t : Nat} (hA : cv_A u P) (ht : t < 4) (H : ∀ u', cv_A u' (cv_fbr P t).2 → post (cv_fbr P t).1 u') : wpX_branch post u (nI t) := by
  obtain ⟨dm, sr, ct, br, cl, a1, a2, a3, a4, a5, a6, a7, a8, a9, a10, a11, a12, a13⟩ := u
  obtain ⟨n, b, h, fp, kn, C, w⟩ := P
  have hA0 := hA
  obtain ⟨st, e1, e2, e3, hn1, hn2, hst, hS, hR, hW, hQ, hG⟩ := hA
  have hb := hG.1
  have hh := hG.2.1
  subst e3
  unfold wpX_branch
  dsimp only
  refine cv_isBranch ht (br_f (by decide) (pk_eq t b (fun g => ?_) (fun g => ⟨pk_in t 4 ht, nm_r (e' := nI (h t)) (by rw [nI_clamp (show t < 2 ^ 31 by omega), (hh t ht).1]) ⟨pk_in b 4 hb, pk_in t 4 ht, nm_e ?_⟩⟩)))
  · have e : cv_fbr (n, b, h, fp, kn, C, w) t = (-2, (n, b, h, fp, kn, C, w)) := if_pos g
    rw [e] at H
    exact H _ hA0
  · have e : cv_fbr (n, b, h, fp, kn, C, w) t = (nI (h t), (n, b, cv_hu h t (h b), fp, kn, C, w)) := if_neg g
    rw [e] at H
    rw [nI_clamp (show t < 2 ^ 31 by omega), nI_clamp (show b < 2 ^ 31 by omega), (hh b hb).1]
    exact H _ ⟨st, e1, e2, rfl, hn1, hn2, hst, hS, hR, hW, hQ, cv_G_head hG (hh b hb).2⟩
/-- the picture after enter: a new commit y, whose known set is kv; the working map is z -/
def cv_ent (P : cv_Pic) (kv : Int32) (y z : Nat → Nat → Option Int32) : cv_Pic := match P with
  | (n, b, h, fp, kn, C, _) => (n + 1, b, cv_hu h b n, upd fp n (nI (h b)), upd kn n kv, cv_Cu C n y, z)
theorem cv_R_add {st st' n : Nat} {c1 c2 c5 : Nat → Int32} {C : Nat → Nat → Nat → Option Int32} {y : Nat → Nat → Option Int32} (hR : cv_R st n a1 a2 a5 C) (hst : st ≤ st') (hK : ∀ s j, s < st → j < 8 → cv_K c1 c2 s j = cv_K a1 a2 s j) (h5 : ∀ q, q < 8 * n → c5 q = a5 q)
    (hy : ∀ c, c < 8 → ∃ s, s < st' ∧ c5 (8 * n + c) = nI s ∧ ∀ j, j < 8 → cv_K c1 c2 s j = y c j) : cv_R st' (n + 1) c1 c2 c5 (cv_Cu C n y) := by
  intro i c hi hc
  unfold cv_Cu
  by_cases e : i = n
  · subst e
    rw [if_pos rfl]
    exact hy c hc
  · rw [if_neg e, h5 (8 * i + c) (by omega)]
    exact cv_R_ext hR hst hK i c (by omega) hc
theorem cv_G_add {n b f : Nat} {h : Nat → Nat} {fp kn : Nat → Int32} {kv : Int32} {c8 : Nat → Int32} (hG : cv_G n b h fp kn a6 a8 a9) (hf : f < n) (h8 : ∀ i, i ≠ n → c8 i = a8 i) (h8n : c8 n = kv) :
    cv_G (n + 1) b (cv_hu h b n) (upd fp n (nI f)) (upd kn n kv) (upd a6 n (nI f)) c8 (upd a9 b (nI n)) := by
  obtain ⟨hb, hh, h6, hk⟩ := hG
  refine ⟨hb, fun i hi => ?_, fun i hi => ?_, fun i hi => ?_⟩
  · unfold cv_hu
    by_cases e : i = b
    · rw [e, pk_us, if_pos rfl]
      exact ⟨rfl, by omega⟩
    · rw [pk_un e, if_neg e]
      exact ⟨(hh i hi).1, by have := (hh i hi).2; omega⟩
  · by_cases e : i = n
    · rw [e, pk_us, pk_us]
      exact ⟨rfl, Or.inr ⟨f, by omega, rfl⟩⟩
    · rw [pk_un e, pk_un e]
      exact ⟨(h6 i (by omega)).1, cv_P_mono (by omega) (h6 i (by omega)).2⟩
  · by_cases e : i = n
    · rw [e, pk_us]
      exact h8n
    · rw [pk_un e, h8 i e]
      exact hk i (by omega)
def cv_fcm (P : cv_Pic) : Int32 × cv_Pic := match P with
  | (n, b, h, fp, kn, C, w) => if n = 20 then (-1, (n, b, h, fp, kn, C, w)) else (nI n, cv_ent (n, b, h, fp, kn, C, w) (kn (h b) ||| ((1 : Int32) <<< (nI n &&& 31))) w w)
theorem cv_commit {post : Int32 → St1 → Prop} {u : St1} {P : cv_Pic} (hA : cv_A u P) (H : ∀ u', cv_A u' (cv_fcm P).2 → post (cv_fcm P).1 u') : wpX_commit post u := by
  obtain ⟨dm, sr, ct, br, cl, a1, a2, a3, a4, a5, a6, a7, a8, a9, a10, a11, a12, a13⟩ := u
  obtain ⟨n, b, h, fp, kn, C, w⟩ := P
  have hA0 := hA
  obtain ⟨st, e1, e2, e3, hn1, hn2, hst, hS, hR, hW, hQ, hG⟩ := hA
  have hb := hG.1
  have hh := hG.2.1 b hb
  subst e1 e2 e3
  unfold wpX_commit
  dsimp only
  refine pk_eq n 20 (fun g => ?_) (fun g => ?_)
  · have e : cv_fcm (n, b, h, fp, kn, C, w) = (-1, (n, b, h, fp, kn, C, w)) := if_pos g
    rw [e] at H
    exact H _ hA0
  · have e : cv_fcm (n, b, h, fp, kn, C, w) = (nI n, cv_ent (n, b, h, fp, kn, C, w) (kn (h b) ||| ((1 : Int32) <<< (nI n &&& 31))) w w) := if_neg g
    rw [e] at H
    refine cv_settleWork (by omega) hS hW hQ (fun dm' st' c1 c2 c3 c4 c12 c13 g1 g2 gS gK gt => ?_)
    dsimp only
    refine cv_commit17 (f := h b) (by omega) hb (by omega) hh.1 (fun c5 c7 c8 k1 k2 k3 k4 => H _ ?_)
    refine ⟨st', rfl, rfl, rfl, by omega, by omega, by omega, gS, cv_R_add hR g1 gK k1 (fun c hc => ?_), hW, fun c hc => Or.inr (gt c hc), cv_G_add hG hh.2 k3 ?_⟩
    · rw [k2 c hc]
      exact gt c hc
    · rw [k4, hG.2.2.2 (h b) hh.2]
/-- the merged map -/
def cv_M (o a b : Nat → Nat → Option Int32) (sd : Int32) : Nat → Nat → Option Int32 := fun c j => cv_mg (o c j) (a c j) (b c j) (decide (sd = 1))
def cv_fmg (P : cv_Pic) (t : Nat) (sd : Int32) : Int32 × cv_Pic := match P with
  | (n, b, h, fp, kn, C, w) =>
    if cv_dd w (C (h b)) = 0 then
      if cv_bo kn (h b) (h t) = h t then (1000, (n, b, h, fp, kn, C, w)) else
      if cv_bo kn (h b) (h t) = h b then (2000, (n, b, cv_hu h b (h t), fp, kn, C, C (h t))) else
      if n = 20 then (-4, (n, b, h, fp, kn, C, w)) else
      if sd = 2 ∧ 0 < cv_cc (C (cv_bo kn (h b) (h t))) (C (h b)) (C (h t)) then (-5, (n, b, h, fp, kn, C, w)) else
      (nI (cv_cc (C (cv_bo kn (h b) (h t))) (C (h b)) (C (h t))), cv_ent (n, b, h, fp, kn, C, w) ((kn (h b) ||| ((1 : Int32) <<< (nI n &&& 31))) ||| kn (h t)) (cv_M (C (cv_bo kn (h b) (h t))) (C (h b)) (C (h t)) sd) (cv_M (C (cv_bo kn (h b) (h t))) (C (h b)) (C (h t)) sd))
    else (-3, (n, b, h, fp, kn, C, w))
theorem cv_merge129 {post : Int32 → St1 → Prop} {n b o t : Nat} {sd : Int32} {h : Nat → Nat} {fp kn : Nat → Int32} {C : Nat → Nat → Nat → Option Int32} {w : Nat → Nat → Option Int32} (hA : cv_A (dm, sr, ct, br, cl, a1, a2, a3, a4, a5, a6, a7, a8, a9, a10, a11, a12, a13) (n, b, h, fp, kn, C, w)) (hn : n < 20) (ho : o < n) (ht : t < n)
    (H : ∀ u', cv_A u' (cv_ent (n, b, h, fp, kn, C, w) ((kn (h b) ||| ((1 : Int32) <<< (nI n &&& 31))) ||| kn t) (cv_M (C o) (C (h b)) (C t) sd) (cv_M (C o) (C (h b)) (C t) sd)) → post (nI (cv_cc (C o) (C (h b)) (C t))) u') :
    wX_merge_129 post sd (nI (h b)) (nI t) (nI o) dm sr ct br cl a1 a2 a3 a4 a5 a6 a7 a8 a9 a10 a11 a12 a13 := by
  obtain ⟨st, e1, e2, e3, hn1, hn2, hst, hS, hR, hW, hQ, hG⟩ := hA
  have hb := hG.1
  have hh := hG.2.1 b hb
  subst e1 e2 e3
  unfold wX_merge_129
  refine cv_join (by omega) hn ho hh.2 ht hS hR (fun dm' st' c1 c2 c3 c4 c5 c13 g1 g2 gS gK k5 gt => ?_)
  refine cv_enter2 hn hb (by omega) ht (fun c7 c8 k1 k2 => ?_)
  dsimp only
  rw [nI_pred]
  refine cv_checkout0 (n := n + 1) (b := b) (h := cv_hu h b n) (fp := upd fp n (nI (h b))) (kn := upd kn n ((kn (h b) ||| ((1 : Int32) <<< (nI n &&& 31))) ||| kn t)) (C := cv_Cu C n (cv_M (C o) (C (h b)) (C t) sd)) (w := w) ⟨st', rfl, rfl, rfl, by omega, by omega, by omega, gS, cv_R_add hR g1 gK k5 gt, hW, cv_Q_ext hQ g1 gK, cv_G_add hG hh.2 k1 ?_⟩ (by omega) (fun c10 c11 c12 hA' => ?_)
  · rw [k2, hG.2.2.2 (h b) hh.2, hG.2.2.2 t ht]
  · have e : cv_Cu C n (cv_M (C o) (C (h b)) (C t) sd) n = cv_M (C o) (C (h b)) (C t) sd := if_pos rfl
    rw [e] at hA'
    exact H _ hA'
theorem cv_merge {post : Int32 → St1 → Prop} {u : St1} {P : cv_Pic} {t s : Nat} (hA : cv_A u P) (ht : t < 4) (hs : s ≤ 2) (H : ∀ u', cv_A u' (cv_fmg P t (nI s)).2 → post (cv_fmg P t (nI s)).1 u') : wpX_merge post u (nI t) (nI s) := by
  obtain ⟨dm, sr, ct, br, cl, a1, a2, a3, a4, a5, a6, a7, a8, a9, a10, a11, a12, a13⟩ := u
  obtain ⟨n, b, h, fp, kn, C, w⟩ := P
  have hA0 := hA
  obtain ⟨st, e1, e2, e3, hn1, hn2, hst, hS, hR, hW, hQ, hG⟩ := hA
  have hb := hG.1
  have hh := hG.2.1 b hb
  have hht := hG.2.1 t ht
  have hbo := cv_bo_le kn (h b) (h t)
  unfold wpX_merge
  dsimp only
  refine cv_isBranch ht (br_f (by decide) (pk_lt s 0 (fun z => absurd z (by omega)) (fun _ => pk_le s 2 (fun _ => cv_isClean hA0 ?_) (fun z => absurd z (by omega)))))
  by_cases g : cv_dd w (C (h b)) = 0
  · rw [if_pos g]
    unfold cv_fmg at H
    dsimp only at H
    rw [if_pos g] at H
    subst e2 e3
    refine br_f (by decide) ⟨pk_in b 4 hb, nm_r (e' := nI (h b)) (by rw [nI_clamp (show b < 2 ^ 31 by omega), hh.1]) ⟨pk_in t 4 ht, nm_r (e' := nI (h t)) (by rw [nI_clamp (show t < 2 ^ 31 by omega), hht.1]) (cv_baseOf hn2 hh.2 hht.2 hG.2.2.2 ?_)⟩⟩
    refine pk_eq (cv_bo kn (h b) (h t)) (h t) (fun g1 => ?_) (fun g1 => pk_eq (cv_bo kn (h b) (h t)) (h b) (fun g2 => ⟨pk_in b 4 hb, nm_e ?_⟩) (fun g2 => pk_eq n 20 (fun g3 => ?_) (fun g3 => ?_)))
    · rw [if_pos g1] at H
      exact H _ hA0
    · rw [if_neg g1, if_pos g2] at H
      rw [nI_clamp (show b < 2 ^ 31 by omega)]
      refine cv_checkout0 (n := n) (b := b) (h := cv_hu h b (h t)) (fp := fp) (kn := kn) (C := C) (w := w) ⟨st, e1, rfl, rfl, hn1, hn2, hst, hS, hR, hW, hQ, cv_G_head hG hht.2⟩ hht.2 (fun c10 c11 c12 hA' => ?_)
      exact H _ hA'
    · rw [if_neg g1, if_neg g2, if_pos g3] at H
      exact H _ hA0
    · rw [if_neg g1, if_neg g2, if_neg g3] at H
      have hcc := cv_cs_le (fun c j => cv_cf (C (cv_bo kn (h b) (h t)) c j) (C (h b) c j) (C (h t) c j)) 8
      refine br_c (fun g4 => ?_) (fun g4 => ?_)
      · refine cv_countClashes (st := st) (C := C) (by omega) hn2 (by omega) hh.2 hht.2 hS.1 hR (pk_le (cv_cc (C (cv_bo kn (h b) (h t))) (C (h b)) (C (h t))) 0 (fun z => ?_) (fun z => ?_) rfl rfl (by unfold cv_cc; omega) (by omega))
        · rw [if_neg (fun y => absurd y.2 (by omega))] at H
          exact cv_merge129 hA0 (by omega) (by omega) hht.2 H
        · rw [if_pos ⟨g4, z⟩] at H
          exact H _ hA0
      · rw [if_neg (fun y => g4 y.1)] at H
        exact cv_merge129 hA0 (by omega) (by omega) hht.2 H
  · rw [if_neg g]
    have e : cv_fmg (n, b, h, fp, kn, C, w) t (nI s) = (-3, (n, b, h, fp, kn, C, w)) := if_neg g
    rw [e] at H
    exact br_t rfl (H _ hA0)
def cv_fpk (P : cv_Pic) (x s : Nat) : Int32 × cv_Pic := match P with
  | (n, b, h, fp, kn, C, w) =>
    if x < n then
      if s ≤ 2 then
        if cv_dd w (C (h b)) = 0 then
          if n = 20 then (-4, (n, b, h, fp, kn, C, w)) else
          if fp x = -1 then (-5, (n, b, h, fp, kn, C, w)) else
          if s = 2 ∧ 0 < cv_cc (C (fp x).toNatClampNeg) (C (h b)) (C x) then (-6, (n, b, h, fp, kn, C, w)) else
          (nI (cv_cc (C (fp x).toNatClampNeg) (C (h b)) (C x)), cv_ent (n, b, h, fp, kn, C, w) (kn (h b) ||| ((1 : Int32) <<< (nI n &&& 31))) (cv_M (C (fp x).toNatClampNeg) (C (h b)) (C x) (nI s)) (cv_M (C (fp x).toNatClampNeg) (C (h b)) (C x) (nI s)))
        else (-3, (n, b, h, fp, kn, C, w))
      else (-2, (n, b, h, fp, kn, C, w))
    else (-1, (n, b, h, fp, kn, C, w))
theorem cv_pick90 {post : Int32 → St1 → Prop} {n b o x : Nat} {sd : Int32} {h : Nat → Nat} {fp kn : Nat → Int32} {C : Nat → Nat → Nat → Option Int32} {w : Nat → Nat → Option Int32} (hA : cv_A (dm, sr, ct, br, cl, a1, a2, a3, a4, a5, a6, a7, a8, a9, a10, a11, a12, a13) (n, b, h, fp, kn, C, w)) (hn : n < 20) (ho : o < n) (hx : x < n) (h6 : a6 x = nI o)
    (H : ∀ u', cv_A u' (cv_ent (n, b, h, fp, kn, C, w) (kn (h b) ||| ((1 : Int32) <<< (nI n &&& 31))) (cv_M (C o) (C (h b)) (C x) sd) (cv_M (C o) (C (h b)) (C x) sd)) → post (nI (cv_cc (C o) (C (h b)) (C x))) u') :
    wX_pick_90 post (nI x) sd (nI (h b)) dm sr ct br cl a1 a2 a3 a4 a5 a6 a7 a8 a9 a10 a11 a12 a13 := by
  obtain ⟨st, e1, e2, e3, hn1, hn2, hst, hS, hR, hW, hQ, hG⟩ := hA
  have hb := hG.1
  have hh := hG.2.1 b hb
  subst e1 e2 e3
  unfold wX_pick_90
  refine ⟨pk_in x 20 (by omega), ?_⟩
  rw [nI_clamp (show x < 2 ^ 31 by omega), h6]
  refine cv_join (by omega) hn ho hh.2 hx hS hR (fun dm' st' c1 c2 c3 c4 c5 c13 g1 g2 gS gK k5 gt => ?_)
  refine cv_enter1 hn hb (by omega) (fun c7 c8 k1 k2 => ?_)
  dsimp only
  rw [nI_pred]
  refine cv_checkout0 (n := n + 1) (b := b) (h := cv_hu h b n) (fp := upd fp n (nI (h b))) (kn := upd kn n (kn (h b) ||| ((1 : Int32) <<< (nI n &&& 31)))) (C := cv_Cu C n (cv_M (C o) (C (h b)) (C x) sd)) (w := w) ⟨st', rfl, rfl, rfl, by omega, by omega, by omega, gS, cv_R_add hR g1 gK k5 gt, hW, cv_Q_ext hQ g1 gK, cv_G_add hG hh.2 k1 ?_⟩ (by omega) (fun c10 c11 c12 hA' => ?_)
  · rw [k2, hG.2.2.2 (h b) hh.2]
  · have e : cv_Cu C n (cv_M (C o) (C (h b)) (C x) sd) n = cv_M (C o) (C (h b)) (C x) sd := if_pos rfl
    rw [e] at hA'
    exact H _ hA'
theorem cv_pick {post : Int32 → St1 → Prop} {u : St1} {P : cv_Pic} {x s : Nat} (hA : cv_A u P) (hx : x < 2 ^ 31) (hs : s < 4) (H : ∀ u', cv_A u' (cv_fpk P x s).2 → post (cv_fpk P x s).1 u') : wpX_pick post u (nI x) (nI s) := by
  obtain ⟨dm, sr, ct, br, cl, a1, a2, a3, a4, a5, a6, a7, a8, a9, a10, a11, a12, a13⟩ := u
  obtain ⟨n, b, h, fp, kn, C, w⟩ := P
  have hA0 := hA
  obtain ⟨st, e1, e2, e3, hn1, hn2, hst, hS, hR, hW, hQ, hG⟩ := hA
  have hb := hG.1
  have hh := hG.2.1 b hb
  unfold cv_fpk at H
  dsimp only at H
  subst e2 e3
  unfold wpX_pick
  dsimp only
  refine cv_isCommit hx hn2 (fun g0 => br_f (by decide) (pk_lt s 0 (fun z => absurd z (by omega)) (fun _ => pk_le s 2 (fun g1 => cv_isClean hA0 ?_) (fun z => ?_)))) (fun z => br_t rfl ?_)
  · rw [if_pos g0, if_pos g1] at H
    have h6 := hG.2.2.1 x g0
    by_cases g : cv_dd w (C (h b)) = 0
    · rw [if_pos g]
      rw [if_pos g] at H
      refine br_f (by decide) (pk_eq n 20 (fun g3 => ?_) (fun g3 => ⟨pk_in x 20 (by omega), ?_⟩))
      · rw [if_pos g3] at H
        exact H _ hA0
      · rw [if_neg g3] at H
        rw [nI_clamp (show x < 2 ^ 31 by omega), h6.1]
        refine br_c (fun g4 => ?_) (fun g4 => ⟨pk_in b 4 hb, nm_r (e' := nI (h b)) (by rw [nI_clamp (show b < 2 ^ 31 by omega), hh.1]) ?_⟩)
        · rw [if_pos g4] at H
          exact H _ hA0
        · rw [if_neg g4] at H
          rcases h6.2 with z | ⟨o, ho, eo⟩
          · exact absurd z g4
          · rw [eo, nI_clamp (show o < 2 ^ 31 by omega)] at H
            rw [eo]
            have hcc := cv_cs_le (fun c j => cv_cf (C o c j) (C (h b) c j) (C x c j)) 8
            refine pk_eq s 2 (fun g5 => ⟨pk_in x 20 (by omega), ?_⟩) (fun g5 => ?_)
            · refine cv_countClashes (st := st) (C := C) (by omega) hn2 ho hh.2 g0 hS.1 hR (pk_le (cv_cc (C o) (C (h b)) (C x)) 0 (fun z => ?_) (fun z => ?_) rfl rfl (by unfold cv_cc; omega) (by omega))
              · rw [if_neg (fun y => absurd y.2 (by omega))] at H
                exact cv_pick90 hA0 (by omega) ho g0 (h6.1.trans eo) H
              · rw [if_pos ⟨g5, z⟩] at H
                exact H _ hA0
            · rw [if_neg (fun y => g5 y.1)] at H
              exact cv_pick90 hA0 (by omega) ho g0 (h6.1.trans eo) H
    · rw [if_neg g]
      rw [if_neg g] at H
      exact br_t rfl (H _ hA0)
  · rw [if_pos g0, if_neg (by omega)] at H
    exact H _ hA0
  · rw [if_neg (by omega)] at H
    exact H _ hA0
end
section
/-! reads over a picture; the mirror of two pictures -/
variable {dm sr ct br cl : Int32} {a1 a2 a3 a4 a5 a6 a7 a8 a9 a10 a11 a12 a13 : Nat → Int32}
theorem cv_ck_is (m v : Int32) (j : Nat) : (cv_ck m v j).isSome = cv_bt m j := by
  unfold cv_ck
  cases cv_bt m j <;> rfl
theorem cv_ck_get {m v : Int32} {j : Nat} (h : cv_bt m j = false → v = 0) : (cv_ck m v j).getD 0 = v := by
  unfold cv_ck
  cases e : cv_bt m j
  · exact (h e).symm
  · rfl
theorem cv_clean {post : Int32 → Prop} {n b : Nat} {h : Nat → Nat} {fp kn : Nat → Int32} {C : Nat → Nat → Nat → Option Int32} {w : Nat → Nat → Option Int32} (hA : cv_A (dm, sr, ct, br, cl, a1, a2, a3, a4, a5, a6, a7, a8, a9, a10, a11, a12, a13) (n, b, h, fp, kn, C, w))
    (H : post (if cv_dd w (C (h b)) = 0 then 1 else 0)) : wpX_clean post (dm, sr, ct, br, cl, a1, a2, a3, a4, a5, a6, a7, a8, a9, a10, a11, a12, a13) := by
  unfold wpX_clean
  dsimp only
  refine cv_isClean hA ?_
  by_cases g : cv_dd w (C (h b)) = 0
  · rw [if_pos g] at H ⊢
    exact br_f (by decide) H
  · rw [if_neg g] at H ⊢
    exact br_t rfl H
theorem cv_head {post : Int32 → Prop} {n b t : Nat} {h : Nat → Nat} {fp kn : Nat → Int32} {C : Nat → Nat → Nat → Option Int32} {w : Nat → Nat → Option Int32} (hA : cv_A (dm, sr, ct, br, cl, a1, a2, a3, a4, a5, a6, a7, a8, a9, a10, a11, a12, a13) (n, b, h, fp, kn, C, w)) (ht : t < 4)
    (H : post (nI (h t))) : wpX_head post (dm, sr, ct, br, cl, a1, a2, a3, a4, a5, a6, a7, a8, a9, a10, a11, a12, a13) (nI t) := by
  obtain ⟨st, e1, e2, e3, hn1, hn2, hst, hS, hR, hW, hQ, hG⟩ := hA
  unfold wpX_head
  dsimp only
  refine cv_isBranch ht (br_f (by decide) ⟨pk_in t 4 ht, ?_⟩)
  rw [nI_clamp (show t < 2 ^ 31 by omega), (hG.2.1 t ht).1]
  exact H
theorem cv_base {post : Int32 → Prop} {n b x y : Nat} {h : Nat → Nat} {fp kn : Nat → Int32} {C : Nat → Nat → Nat → Option Int32} {w : Nat → Nat → Option Int32} (hA : cv_A (dm, sr, ct, br, cl, a1, a2, a3, a4, a5, a6, a7, a8, a9, a10, a11, a12, a13) (n, b, h, fp, kn, C, w)) (hx : x < n) (hy : y < n)
    (H : post (nI (cv_bo kn x y))) : wpX_base post (dm, sr, ct, br, cl, a1, a2, a3, a4, a5, a6, a7, a8, a9, a10, a11, a12, a13) (nI x) (nI y) := by
  obtain ⟨st, e1, e2, e3, hn1, hn2, hst, hS, hR, hW, hQ, hG⟩ := hA
  subst e2
  unfold wpX_base
  dsimp only
  exact cv_isCommit (by omega) hn2 (fun _ => br_f (by decide) (cv_isCommit (by omega) hn2 (fun _ => br_f (by decide) (cv_baseOf hn2 hx hy hG.2.2.2 H)) (fun z => absurd z (by omega)))) (fun z => absurd z (by omega))
theorem cv_conflicts {post : Int32 → Prop} {n b x y : Nat} {h : Nat → Nat} {fp kn : Nat → Int32} {C : Nat → Nat → Nat → Option Int32} {w : Nat → Nat → Option Int32} (hA : cv_A (dm, sr, ct, br, cl, a1, a2, a3, a4, a5, a6, a7, a8, a9, a10, a11, a12, a13) (n, b, h, fp, kn, C, w)) (hx : x < n) (hy : y < n)
    (H : post (nI (cv_cc (C (cv_bo kn x y)) (C x) (C y)))) : wpX_conflicts post (dm, sr, ct, br, cl, a1, a2, a3, a4, a5, a6, a7, a8, a9, a10, a11, a12, a13) (nI x) (nI y) := by
  obtain ⟨st, e1, e2, e3, hn1, hn2, hst, hS, hR, hW, hQ, hG⟩ := hA
  have hbo := cv_bo_le kn x y
  subst e2
  unfold wpX_conflicts
  dsimp only
  exact cv_isCommit (by omega) hn2 (fun _ => br_f (by decide) (cv_isCommit (by omega) hn2 (fun _ => br_f (by decide) (cv_baseOf hn2 hx hy hG.2.2.2 (cv_countClashes (st := st) (C := C) (by omega) hn2 (by omega) hx hy hS.1 hR H))) (fun z => absurd z (by omega)))) (fun z => absurd z (by omega))
theorem cv_differing {post : Int32 → Prop} {n b x y : Nat} {h : Nat → Nat} {fp kn : Nat → Int32} {C : Nat → Nat → Nat → Option Int32} {w : Nat → Nat → Option Int32} (hA : cv_A (dm, sr, ct, br, cl, a1, a2, a3, a4, a5, a6, a7, a8, a9, a10, a11, a12, a13) (n, b, h, fp, kn, C, w)) (hx : x < n) (hy : y < n)
    (H : post (nI (cv_dd (C x) (C y)))) : wpX_differing post (dm, sr, ct, br, cl, a1, a2, a3, a4, a5, a6, a7, a8, a9, a10, a11, a12, a13) (nI x) (nI y) := by
  obtain ⟨st, e1, e2, e3, hn1, hn2, hst, hS, hR, hW, hQ, hG⟩ := hA
  subst e2
  unfold wpX_differing
  dsimp only
  refine cv_isCommit (by omega) hn2 (fun _ => br_f (by decide) (cv_isCommit (by omega) hn2 (fun _ => br_f (by decide) ?_) (fun z => absurd z (by omega)))) (fun z => absurd z (by omega))
  refine pk_loop (fun m i z => wX_differing_23 post (nI x) (nI y) dm sr (nI n) br cl a1 a2 a3 a4 a5 a6 a7 a8 a9 a10 a11 a12 a13 m z (nI i)) (fun i z => z = nI (cv_cs (fun c j => cv_df (C x c j) (C y c j)) i)) 8 0 0 (by omega) rfl ?_ ?_
  · intro m z g
    refine pk_le 8 8 (fun _ => ?_) (fun z => absurd z (by omega))
    rw [g]
    exact H
  · intro m i z hi g hw
    obtain ⟨sx, hsx, ex, kx⟩ := hR x i hx hi
    obtain ⟨sy, hsy, ey, ky⟩ := hR y i hy hi
    refine pk_le 8 i (fun z => absurd z (by omega)) (fun _ => ⟨cv_in8 (by omega) (by omega), cv_in8 (by omega) (by omega), ?_⟩)
    rw [cv_cl8 (show 8 * x + i < 2 ^ 31 by omega), cv_cl8 (show 8 * y + i < 2 ^ 31 by omega), ex, ey]
    refine cv_difference (by omega) (by omega) (hS.1 sx hsx) (hS.1 sy hsy) (fun r hr => cv_ones (p := fun j => cv_df (C x i j) (C y i j)) (fun j hj => ?_) (nm_r (e' := nI (cv_cs (fun c j => cv_df (C x c j) (C y c j)) (i + 1))) ?_ (nm_r (nI_1 i) (hw _ rfl))))
    · rw [hr j hj, kx j hj, ky j hj]
    · rw [g, nI_add]
      rfl
theorem cv_size {post : Int32 → Prop} {n b x : Nat} {h : Nat → Nat} {fp kn : Nat → Int32} {C : Nat → Nat → Nat → Option Int32} {w : Nat → Nat → Option Int32} (hA : cv_A (dm, sr, ct, br, cl, a1, a2, a3, a4, a5, a6, a7, a8, a9, a10, a11, a12, a13) (n, b, h, fp, kn, C, w)) (hx : x < n)
    (H : post (nI (cv_cs (fun c j => (C x c j).isSome) 8))) : wpX_size post (dm, sr, ct, br, cl, a1, a2, a3, a4, a5, a6, a7, a8, a9, a10, a11, a12, a13) (nI x) := by
  obtain ⟨st, e1, e2, e3, hn1, hn2, hst, hS, hR, hW, hQ, hG⟩ := hA
  subst e2
  unfold wpX_size
  dsimp only
  refine cv_isCommit (by omega) hn2 (fun _ => br_f (by decide) ?_) (fun z => absurd z (by omega))
  refine pk_loop (fun m i z => wX_size_14 post (nI x) dm sr (nI n) br cl a1 a2 a3 a4 a5 a6 a7 a8 a9 a10 a11 a12 a13 m z (nI i)) (fun i z => z = nI (cv_cs (fun c j => (C x c j).isSome) i)) 8 0 0 (by omega) rfl ?_ ?_
  · intro m z g
    refine pk_le 8 8 (fun _ => ?_) (fun z => absurd z (by omega))
    rw [g]
    exact H
  · intro m i z hi g hw
    obtain ⟨sx, hsx, ex, kx⟩ := hR x i hx hi
    refine pk_le 8 i (fun z => absurd z (by omega)) (fun _ => ⟨cv_in8 (by omega) (by omega), ?_⟩)
    rw [cv_cl8 (show 8 * x + i < 2 ^ 31 by omega), ex]
    refine ⟨pk_in sx 168 (by omega), ?_⟩
    rw [nI_clamp (show sx < 2 ^ 31 by omega)]
    refine cv_ones (p := fun j => (C x i j).isSome) (fun j hj => ?_) (nm_r (e' := nI (cv_cs (fun c j => (C x c j).isSome) (i + 1))) ?_ (nm_r (nI_1 i) (hw _ rfl)))
    · rw [← kx j hj]
      exact (cv_ck_is _ _ _).symm
    · rw [g, nI_add]
      rfl
theorem cv_ancestors {post : Int32 → Prop} {n b x : Nat} {h : Nat → Nat} {fp kn : Nat → Int32} {C : Nat → Nat → Nat → Option Int32} {w : Nat → Nat → Option Int32} (hA : cv_A (dm, sr, ct, br, cl, a1, a2, a3, a4, a5, a6, a7, a8, a9, a10, a11, a12, a13) (n, b, h, fp, kn, C, w)) (hx : x < n)
    (H : post (nI (cv_cb (cv_bt (kn x)) 20))) : wpX_ancestors post (dm, sr, ct, br, cl, a1, a2, a3, a4, a5, a6, a7, a8, a9, a10, a11, a12, a13) (nI x) := by
  obtain ⟨st, e1, e2, e3, hn1, hn2, hst, hS, hR, hW, hQ, hG⟩ := hA
  subst e2
  unfold wpX_ancestors
  dsimp only
  refine cv_isCommit (by omega) hn2 (fun _ => br_f (by decide) ?_) (fun z => absurd z (by omega))
  refine pk_loop (fun m i z => wX_ancestors_14 post (nI x) dm sr (nI n) br cl a1 a2 a3 a4 a5 a6 a7 a8 a9 a10 a11 a12 a13 m z (nI i)) (fun i z => z = nI (cv_cb (cv_bt (kn x)) i)) 20 0 0 (by omega) rfl ?_ ?_
  · intro m z g
    refine pk_le 20 20 (fun _ => ?_) (fun z => absurd z (by omega))
    rw [g]
    exact H
  · intro m i z hi g hw
    refine pk_le 20 i (fun z => absurd z (by omega)) (fun _ => ⟨pk_in x 20 (by omega), nm_r (e' := nI (cv_cb (cv_bt (kn x)) (i + 1))) ?_ (nm_r (nI_1 i) (hw _ rfl))⟩)
    rw [nI_clamp (show x < 2 ^ 31 by omega), hG.2.2.2 x hx, cv_bbit _ (show i < 32 by omega), g]
    show _ = nI (cv_cb (cv_bt (kn x)) i + (if cv_bt (kn x) i = true then 1 else 0))
    rw [← nI_add]
    cases cv_bt (kn x) i <;> rfl
theorem cv_hasIn {post : Int32 → Prop} {n b x k : Nat} {h : Nat → Nat} {fp kn : Nat → Int32} {C : Nat → Nat → Nat → Option Int32} {w : Nat → Nat → Option Int32} (hA : cv_A (dm, sr, ct, br, cl, a1, a2, a3, a4, a5, a6, a7, a8, a9, a10, a11, a12, a13) (n, b, h, fp, kn, C, w)) (hx : x < n) (hk : k < 64)
    (H : post (if (C x (k / 8) (k % 8)).isSome = true then 1 else 0)) : wpX_hasIn post (dm, sr, ct, br, cl, a1, a2, a3, a4, a5, a6, a7, a8, a9, a10, a11, a12, a13) (nI x) (nI k) := by
  obtain ⟨st, e1, e2, e3, hn1, hn2, hst, hS, hR, hW, hQ, hG⟩ := hA
  subst e2
  obtain ⟨s, hs, es, ks⟩ := hR x (k / 8) hx (by omega)
  unfold wpX_hasIn
  dsimp only
  refine cv_isCommit (by omega) hn2 (fun _ => br_f (by decide) (cv_isKey hk (br_f (by decide) ?_))) (fun z => absurd z (by omega))
  rw [cv_shr3 hk, cv_and7 hk]
  refine ⟨cv_in8 (by omega) (by omega), nm_r (e' := nI s) (by rw [cv_cl8 (show 8 * x + k / 8 < 2 ^ 31 by omega), es]) ⟨pk_in s 168 (by omega), ?_⟩⟩
  rw [nI_clamp (show s < 2 ^ 31 by omega), cv_bbit _ (show k % 8 < 32 by omega)]
  rw [← ks (k % 8) (by omega)] at H
  unfold cv_K at H
  rw [cv_ck_is] at H
  exact H
theorem cv_valueIn {post : Int32 → Prop} {n b x k : Nat} {h : Nat → Nat} {fp kn : Nat → Int32} {C : Nat → Nat → Nat → Option Int32} {w : Nat → Nat → Option Int32} (hA : cv_A (dm, sr, ct, br, cl, a1, a2, a3, a4, a5, a6, a7, a8, a9, a10, a11, a12, a13) (n, b, h, fp, kn, C, w)) (hx : x < n) (hk : k < 64)
    (H : post ((C x (k / 8) (k % 8)).getD 0)) : wpX_valueIn post (dm, sr, ct, br, cl, a1, a2, a3, a4, a5, a6, a7, a8, a9, a10, a11, a12, a13) (nI x) (nI k) := by
  obtain ⟨st, e1, e2, e3, hn1, hn2, hst, hS, hR, hW, hQ, hG⟩ := hA
  subst e2
  obtain ⟨s, hs, es, ks⟩ := hR x (k / 8) hx (by omega)
  unfold wpX_valueIn
  dsimp only
  refine cv_isCommit (by omega) hn2 (fun _ => br_f (by decide) (cv_isKey hk (br_f (by decide) ?_))) (fun z => absurd z (by omega))
  rw [cv_shr3 hk, cv_and7 hk]
  refine ⟨cv_in8 (by omega) (by omega), nm_r (e' := nI s) (by rw [cv_cl8 (show 8 * x + k / 8 < 2 ^ 31 by omega), es]) ⟨cv_in8 (by omega) (by omega), ?_⟩⟩
  rw [cv_cl8 (show 8 * s + k % 8 < 2 ^ 31 by omega)]
  rw [← ks (k % 8) (by omega)] at H
  unfold cv_K at H
  rw [cv_ck_get (hS.1 s hs (k % 8) (by omega))] at H
  exact H
theorem cv_has {post : Int32 → Prop} {n b k : Nat} {h : Nat → Nat} {fp kn : Nat → Int32} {C : Nat → Nat → Nat → Option Int32} {w : Nat → Nat → Option Int32} (hA : cv_A (dm, sr, ct, br, cl, a1, a2, a3, a4, a5, a6, a7, a8, a9, a10, a11, a12, a13) (n, b, h, fp, kn, C, w)) (hk : k < 64)
    (H : post (if (w (k / 8) (k % 8)).isSome = true then 1 else 0)) : wpX_has post (dm, sr, ct, br, cl, a1, a2, a3, a4, a5, a6, a7, a8, a9, a10, a11, a12, a13) (nI k) := by
  obtain ⟨st, e1, e2, e3, hn1, hn2, hst, hS, hR, hW, hQ, hG⟩ := hA
  have ks := (hW (k / 8) (by omega)).2 (k % 8) (by omega)
  unfold wpX_has
  dsimp only
  refine cv_isKey hk (br_f (by decide) ?_)
  rw [cv_shr3 hk, cv_and7 hk]
  refine ⟨pk_in (k / 8) 8 (by omega), ?_⟩
  rw [nI_clamp (show k / 8 < 2 ^ 31 by omega), cv_bbit _ (show k % 8 < 32 by omega)]
  rw [← ks] at H
  unfold cv_K at H
  rw [cv_ck_is] at H
  exact H
theorem cv_value {post : Int32 → Prop} {n b k : Nat} {h : Nat → Nat} {fp kn : Nat → Int32} {C : Nat → Nat → Nat → Option Int32} {w : Nat → Nat → Option Int32} (hA : cv_A (dm, sr, ct, br, cl, a1, a2, a3, a4, a5, a6, a7, a8, a9, a10, a11, a12, a13) (n, b, h, fp, kn, C, w)) (hk : k < 64)
    (H : post ((w (k / 8) (k % 8)).getD 0)) : wpX_value post (dm, sr, ct, br, cl, a1, a2, a3, a4, a5, a6, a7, a8, a9, a10, a11, a12, a13) (nI k) := by
  obtain ⟨st, e1, e2, e3, hn1, hn2, hst, hS, hR, hW, hQ, hG⟩ := hA
  have ks := (hW (k / 8) (by omega)).2 (k % 8) (by omega)
  unfold wpX_value
  dsimp only
  refine cv_isKey hk (br_f (by decide) ⟨pk_in k 64 hk, ?_⟩)
  rw [nI_clamp (show k < 2 ^ 31 by omega)]
  rw [← ks] at H
  unfold cv_K at H
  rw [cv_ck_get ((hW (k / 8) (by omega)).1 (k % 8) (by omega)), show 8 * (k / 8) + k % 8 = k by omega] at H
  exact H
/-! the mirror -/
def cv_m (w w' : Nat → Nat → Option Int32) : Prop := ∀ c j, c < 8 → j < 8 → w' (7 - c) (7 - j) = cv_mo (w c j)
def cv_Mir (P P' : cv_Pic) : Prop := match P, P' with
  | (n, b, h, fp, kn, C, w), (n', b', h', fp', kn', C', w') => n' = n ∧ b' = b ∧ h' = h ∧ fp' = fp ∧ kn' = kn ∧ (∀ i, i < n → cv_m (C i) (C' i)) ∧ cv_m w w'
theorem cv_m_dd {w w' y y' : Nat → Nat → Option Int32} (hw : cv_m w w') (hy : cv_m y y') : cv_dd w' y' = cv_dd w y :=
  cv_cs_rev (fun c j hc hj => by rw [hw c j hc hj, hy c j hc hj, cv_df_mo])
theorem cv_m_cc {o o' a a' b b' : Nat → Nat → Option Int32} (ho : cv_m o o') (ha : cv_m a a') (hb : cv_m b b') : cv_cc o' a' b' = cv_cc o a b :=
  cv_cs_rev (fun c j hc hj => by rw [ho c j hc hj, ha c j hc hj, hb c j hc hj, cv_cf_mo])
theorem cv_m_M {o o' a a' b b' : Nat → Nat → Option Int32} {sd : Int32} (ho : cv_m o o') (ha : cv_m a a') (hb : cv_m b b') : cv_m (cv_M o a b sd) (cv_M o' a' b' sd) := by
  intro c j hc hj
  unfold cv_M
  rw [ho c j hc hj, ha c j hc hj, hb c j hc hj, cv_mg_mo]
theorem cv_m_sz {w w' : Nat → Nat → Option Int32} (hw : cv_m w w') : cv_cs (fun c j => (w' c j).isSome) 8 = cv_cs (fun c j => (w c j).isSome) 8 :=
  cv_cs_rev (fun c j hc hj => by
    rw [hw c j hc hj]
    cases w c j <;> rfl)
theorem cv_m_up {w w' : Nat → Nat → Option Int32} {c j : Nat} {x : Option Int32} (hw : cv_m w w') (hc : c < 8) (hj : j < 8) : cv_m (cv_up w c j x) (cv_up w' (7 - c) (7 - j) (cv_mo x)) := by
  intro c2 j2 hc2 hj2
  unfold cv_up
  by_cases e : c2 = c ∧ j2 = j
  · rw [if_pos e, if_pos (by omega)]
  · rw [if_neg e, if_neg (by omega)]
    exact hw c2 j2 hc2 hj2
theorem cv_m_Cu {n : Nat} {C C' : Nat → Nat → Nat → Option Int32} {y y' : Nat → Nat → Option Int32} (hC : ∀ i, i < n → cv_m (C i) (C' i)) (hy : cv_m y y') : ∀ i, i < n + 1 → cv_m (cv_Cu C n y i) (cv_Cu C' n y' i) := by
  intro i hi
  unfold cv_Cu
  by_cases e : i = n
  · rw [if_pos e, if_pos e]
    exact hy
  · rw [if_neg e, if_neg e]
    exact hC i (by omega)
theorem cv_A_G {u : St1} {n b : Nat} {h : Nat → Nat} {fp kn : Nat → Int32} {C : Nat → Nat → Nat → Option Int32} {w : Nat → Nat → Option Int32} (hA : cv_A u (n, b, h, fp, kn, C, w)) : 1 ≤ n ∧ n ≤ 20 ∧ b < 4 ∧ (∀ i, i < 4 → h i < n) ∧ (∀ i, i < n → cv_P n (fp i)) := by
  obtain ⟨dm, sr, ct, br, cl, a1, a2, a3, a4, a5, a6, a7, a8, a9, a10, a11, a12, a13⟩ := u
  obtain ⟨st, e1, e2, e3, hn1, hn2, hst, hS, hR, hW, hQ, hG⟩ := hA
  exact ⟨hn1, hn2, hG.1, fun i hi => (hG.2.1 i hi).2, fun i hi => (hG.2.2.1 i hi).2⟩
theorem cv_M_co {P P' : cv_Pic} {x : Nat} (hM : cv_Mir P P') : (cv_fco P' x).1 = (cv_fco P x).1 ∧ cv_Mir (cv_fco P x).2 (cv_fco P' x).2 := by
  obtain ⟨n, b, h, fp, kn, C, w⟩ := P
  obtain ⟨n', b', h', fp', kn', C', w'⟩ := P'
  obtain ⟨rfl, rfl, rfl, rfl, rfl, hC, hw⟩ := hM
  unfold cv_fco
  dsimp only
  by_cases g : x < n'
  · rw [if_pos g, if_pos g, cv_m_dd hw (hC x g)]
    exact ⟨rfl, rfl, rfl, rfl, rfl, rfl, hC, hC x g⟩
  · rw [if_neg g, if_neg g]
    exact ⟨rfl, rfl, rfl, rfl, rfl, rfl, hC, hw⟩
theorem cv_M_ch {u : St1} {P P' : cv_Pic} {t : Nat} (hA : cv_A u P) (hM : cv_Mir P P') (ht : t < 4) : (cv_fch P' t).1 = (cv_fch P t).1 ∧ cv_Mir (cv_fch P t).2 (cv_fch P' t).2 := by
  obtain ⟨n, b, h, fp, kn, C, w⟩ := P
  obtain ⟨n', b', h', fp', kn', C', w'⟩ := P'
  obtain ⟨q1, q2, q3, q4, q5⟩ := cv_A_G hA
  obtain ⟨rfl, rfl, rfl, rfl, rfl, hC, hw⟩ := hM
  unfold cv_fch
  dsimp only
  rw [cv_m_dd hw (hC (h' b') (q4 b' q3))]
  by_cases g : cv_dd w (C (h' b')) = 0
  · rw [if_pos g, if_pos g]
    exact ⟨rfl, rfl, rfl, rfl, rfl, rfl, hC, hC (h' t) (q4 t ht)⟩
  · rw [if_neg g, if_neg g]
    exact ⟨rfl, rfl, rfl, rfl, rfl, rfl, hC, hw⟩
theorem cv_M_br {P P' : cv_Pic} {t : Nat} (hM : cv_Mir P P') : (cv_fbr P' t).1 = (cv_fbr P t).1 ∧ cv_Mir (cv_fbr P t).2 (cv_fbr P' t).2 := by
  obtain ⟨n, b, h, fp, kn, C, w⟩ := P
  obtain ⟨n', b', h', fp', kn', C', w'⟩ := P'
  obtain ⟨rfl, rfl, rfl, rfl, rfl, hC, hw⟩ := hM
  unfold cv_fbr
  dsimp only
  by_cases g : t = b'
  · rw [if_pos g, if_pos g]
    exact ⟨rfl, rfl, rfl, rfl, rfl, rfl, hC, hw⟩
  · rw [if_neg g, if_neg g]
    exact ⟨rfl, rfl, rfl, rfl, rfl, rfl, hC, hw⟩
theorem cv_M_cm {P P' : cv_Pic} (hM : cv_Mir P P') : (cv_fcm P').1 = (cv_fcm P).1 ∧ cv_Mir (cv_fcm P).2 (cv_fcm P').2 := by
  obtain ⟨n, b, h, fp, kn, C, w⟩ := P
  obtain ⟨n', b', h', fp', kn', C', w'⟩ := P'
  obtain ⟨rfl, rfl, rfl, rfl, rfl, hC, hw⟩ := hM
  unfold cv_fcm
  dsimp only
  by_cases g : n' = 20
  · rw [if_pos g, if_pos g]
    exact ⟨rfl, rfl, rfl, rfl, rfl, rfl, hC, hw⟩
  · rw [if_neg g, if_neg g]
    exact ⟨rfl, rfl, rfl, rfl, rfl, rfl, cv_m_Cu hC hw, hw⟩
theorem cv_M_mg {u : St1} {P P' : cv_Pic} {t : Nat} {sd : Int32} (hA : cv_A u P) (hM : cv_Mir P P') (ht : t < 4) : (cv_fmg P' t sd).1 = (cv_fmg P t sd).1 ∧ cv_Mir (cv_fmg P t sd).2 (cv_fmg P' t sd).2 := by
  obtain ⟨n, b, h, fp, kn, C, w⟩ := P
  obtain ⟨n', b', h', fp', kn', C', w'⟩ := P'
  obtain ⟨q1, q2, q3, q4, q5⟩ := cv_A_G hA
  obtain ⟨rfl, rfl, rfl, rfl, rfl, hC, hw⟩ := hM
  have hb := q4 b' q3
  have htt := q4 t ht
  have hbo := (cv_bo_le kn' (h' b') (h' t)).1
  have mb := hC (h' b') hb
  have mt := hC (h' t) htt
  have mo := hC (cv_bo kn' (h' b') (h' t)) (by omega)
  unfold cv_fmg
  dsimp only
  rw [cv_m_dd hw mb, cv_m_cc mo mb mt]
  by_cases g : cv_dd w (C (h' b')) = 0
  · rw [if_pos g, if_pos g]
    by_cases g1 : cv_bo kn' (h' b') (h' t) = h' t
    · rw [if_pos g1, if_pos g1]
      exact ⟨rfl, rfl, rfl, rfl, rfl, rfl, hC, hw⟩
    · rw [if_neg g1, if_neg g1]
      by_cases g2 : cv_bo kn' (h' b') (h' t) = h' b'
      · rw [if_pos g2, if_pos g2]
        exact ⟨rfl, rfl, rfl, rfl, rfl, rfl, hC, mt⟩
      · rw [if_neg g2, if_neg g2]
        by_cases g3 : n' = 20
        · rw [if_pos g3, if_pos g3]
          exact ⟨rfl, rfl, rfl, rfl, rfl, rfl, hC, hw⟩
        · rw [if_neg g3, if_neg g3]
          by_cases g4 : sd = 2 ∧ 0 < cv_cc (C (cv_bo kn' (h' b') (h' t))) (C (h' b')) (C (h' t))
          · rw [if_pos g4, if_pos g4]
            exact ⟨rfl, rfl, rfl, rfl, rfl, rfl, hC, hw⟩
          · rw [if_neg g4, if_neg g4]
            exact ⟨rfl, rfl, rfl, rfl, rfl, rfl, cv_m_Cu hC (cv_m_M mo mb mt), cv_m_M mo mb mt⟩
  · rw [if_neg g, if_neg g]
    exact ⟨rfl, rfl, rfl, rfl, rfl, rfl, hC, hw⟩
theorem cv_M_pk {u : St1} {P P' : cv_Pic} {x s : Nat} (hA : cv_A u P) (hM : cv_Mir P P') : (cv_fpk P' x s).1 = (cv_fpk P x s).1 ∧ cv_Mir (cv_fpk P x s).2 (cv_fpk P' x s).2 := by
  obtain ⟨n, b, h, fp, kn, C, w⟩ := P
  obtain ⟨n', b', h', fp', kn', C', w'⟩ := P'
  obtain ⟨q1, q2, q3, q4, q5⟩ := cv_A_G hA
  obtain ⟨rfl, rfl, rfl, rfl, rfl, hC, hw⟩ := hM
  have hb := q4 b' q3
  have mb := hC (h' b') hb
  unfold cv_fpk
  dsimp only
  by_cases g0 : x < n'
  · rw [if_pos g0, if_pos g0]
    by_cases g1 : s ≤ 2
    · rw [if_pos g1, if_pos g1, cv_m_dd hw mb]
      by_cases g : cv_dd w (C (h' b')) = 0
      · rw [if_pos g, if_pos g]
        by_cases g3 : n' = 20
        · rw [if_pos g3, if_pos g3]
          exact ⟨rfl, rfl, rfl, rfl, rfl, rfl, hC, hw⟩
        · rw [if_neg g3, if_neg g3]
          by_cases g4 : fp' x = -1
          · rw [if_pos g4, if_pos g4]
            exact ⟨rfl, rfl, rfl, rfl, rfl, rfl, hC, hw⟩
          · rw [if_neg g4, if_neg g4]
            rcases q5 x g0 with z | ⟨o, ho, eo⟩
            · exact absurd z g4
            · rw [eo, nI_clamp (show o < 2 ^ 31 by omega)]
              have mx := hC x g0
              have mo := hC o ho
              rw [cv_m_cc mo mb mx]
              by_cases g5 : s = 2 ∧ 0 < cv_cc (C o) (C (h' b')) (C x)
              · rw [if_pos g5, if_pos g5]
                exact ⟨rfl, rfl, rfl, rfl, rfl, rfl, hC, hw⟩
              · rw [if_neg g5, if_neg g5]
                exact ⟨rfl, rfl, rfl, rfl, rfl, rfl, cv_m_Cu hC (cv_m_M mo mb mx), cv_m_M mo mb mx⟩
      · rw [if_neg g, if_neg g]
        exact ⟨rfl, rfl, rfl, rfl, rfl, rfl, hC, hw⟩
    · rw [if_neg g1, if_neg g1]
      exact ⟨rfl, rfl, rfl, rfl, rfl, rfl, hC, hw⟩
  · rw [if_neg g0, if_neg g0]
    exact ⟨rfl, rfl, rfl, rfl, rfl, rfl, hC, hw⟩
end
section
/-! alike answers 1 over mirrored pictures -/
variable {dm sr ct br cl : Int32} {a1 a2 a3 a4 a5 a6 a7 a8 a9 a10 a11 a12 a13 : Nat → Int32} {em es ec eb el : Int32} {b1 b2 b3 b4 b5 b6 b7 b8 b9 b10 b11 b12 b13 : Nat → Int32}
theorem cv_mv {w w' : Nat → Nat → Option Int32} {k : Nat} (hw : cv_m w w') (hk : k < 64) : w' ((63 - k) / 8) ((63 - k) % 8) = cv_mo (w (k / 8) (k % 8)) := by
  rw [show (63 - k) / 8 = 7 - k / 8 by omega, show (63 - k) % 8 = 7 - k % 8 by omega]
  exact hw _ _ (by omega) (by omega)
theorem cv_mo_is (x : Option Int32) : (cv_mo x).isSome = x.isSome := by cases x <;> rfl
theorem cv_mo_get {x : Option Int32} (h : (if x.isSome = true then (1 : Int32) else 0) = 1) : x.getD 0 = (-((cv_mo x).getD 0)) - 1 := by
  cases x with
  | none => exact absurd h (by decide)
  | some v => exact (cv_neg v).symm
theorem cv_63 {k : Nat} (hk : k < 64) : 63 - nI k = nI (63 - k) := pk_sub (a := 63) (by omega)
theorem cv_alike231 {post : Int32 → Prop} {J : Int32 → Prop} {x2 : Int32} {k n b : Nat} {h : Nat → Nat} {fp kn : Nat → Int32} {C C' : Nat → Nat → Nat → Option Int32} {w w' : Nat → Nat → Option Int32} (hA : cv_A (dm, sr, ct, br, cl, a1, a2, a3, a4, a5, a6, a7, a8, a9, a10, a11, a12, a13) (n, b, h, fp, kn, C, w)) (hB : cv_A (em, es, ec, eb, el, b1, b2, b3, b4, b5, b6, b7, b8, b9, b10, b11, b12, b13) (n, b, h, fp, kn, C', w')) (hw : cv_m w w') (hk : k < 64)
    (H : J (nI (k + 1))) : wL_alike_231 post J x2 (nI k) dm sr ct br cl a1 a2 a3 a4 a5 a6 a7 a8 a9 a10 a11 a12 a13 em es ec eb el b1 b2 b3 b4 b5 b6 b7 b8 b9 b10 b11 b12 b13 := by
  unfold wL_alike_231
  refine cv_has hA hk (br_c (fun g => cv_value hA hk ?_) (fun _ => nm_r (nI_1 k) H))
  rw [cv_63 hk]
  refine cv_value hB (by omega) (br_t ?_ (nm_r (nI_1 k) H))
  rw [cv_mv hw hk]
  exact cv_mo_get g
theorem cv_alike149 {post : Int32 → Prop} {x n b : Nat} {h : Nat → Nat} {fp kn : Nat → Int32} {C C' : Nat → Nat → Nat → Option Int32} {w w' : Nat → Nat → Option Int32} (hA : cv_A (dm, sr, ct, br, cl, a1, a2, a3, a4, a5, a6, a7, a8, a9, a10, a11, a12, a13) (n, b, h, fp, kn, C, w)) (hB : cv_A (em, es, ec, eb, el, b1, b2, b3, b4, b5, b6, b7, b8, b9, b10, b11, b12, b13) (n, b, h, fp, kn, C', w')) (hC : ∀ i, i < n → cv_m (C i) (C' i)) (hw : cv_m w w') (hx : x < n)
    (H : post 1) : ∃ f, wL_alike_149 post (nI x) dm sr ct br cl a1 a2 a3 a4 a5 a6 a7 a8 a9 a10 a11 a12 a13 em es ec eb el b1 b2 b3 b4 b5 b6 b7 b8 b9 b10 b11 b12 b13 f 0 := by
  refine pk_loop (σ := Unit) (fun f k _ => wL_alike_149 post (nI x) dm sr ct br cl a1 a2 a3 a4 a5 a6 a7 a8 a9 a10 a11 a12 a13 em es ec eb el b1 b2 b3 b4 b5 b6 b7 b8 b9 b10 b11 b12 b13 f (nI k)) (fun _ _ => True) 64 0 () (by omega) trivial (fun f _ _ => pk_le 64 64 (fun _ => H) (fun z => absurd z (by omega))) ?_
  intro f k _ hk _ hs
  refine pk_le 64 k (fun z => absurd z (by omega)) (fun _ => ?_)
  have e1 := cv_mv (hC x hx) hk
  have e2 := cv_mv hw hk
  refine cv_hasIn hA hx hk ?_
  rw [cv_63 hk]
  refine cv_hasIn hB hx (by omega) (br_t (by rw [e1, cv_mo_is]) (cv_has hA hk (cv_has hB (by omega) (br_t (by rw [e2, cv_mo_is]) ?_))))
  have nx := cv_alike231 (post := post) (x2 := nI x) hA hB hw hk (hs () trivial)
  refine br_c (fun g => cv_valueIn hA hx hk (cv_valueIn hB hx (by omega) (br_t ?_ nx))) (fun _ => nx)
  rw [e1]
  exact cv_mo_get g
theorem cv_alike {post : Int32 → Prop} {P P' : cv_Pic} {x y : Nat} (hA : cv_A (dm, sr, ct, br, cl, a1, a2, a3, a4, a5, a6, a7, a8, a9, a10, a11, a12, a13) P) (hB : cv_A (em, es, ec, eb, el, b1, b2, b3, b4, b5, b6, b7, b8, b9, b10, b11, b12, b13) P') (hM : cv_Mir P P') (hx : x < P.1) (hy : y < P.1)
    (H : post 1) : wpL_alike post (dm, sr, ct, br, cl, a1, a2, a3, a4, a5, a6, a7, a8, a9, a10, a11, a12, a13, em, es, ec, eb, el, b1, b2, b3, b4, b5, b6, b7, b8, b9, b10, b11, b12, b13) (nI x) (nI y) := by
  obtain ⟨n, b, h, fp, kn, C, w⟩ := P
  obtain ⟨n', b', h', fp', kn', C', w'⟩ := P'
  obtain ⟨rfl, rfl, rfl, rfl, rfl, hC, hw⟩ := hM
  dsimp only at hx hy
  obtain ⟨q1, q2, q3, q4, q5⟩ := cv_A_G hA
  have hbo := (cv_bo_le kn' x y).1
  have ec' : ec = ct := by
    obtain ⟨st, e1, e2, e3, _⟩ := hA
    obtain ⟨st', e1', e2', e3', _⟩ := hB
    rw [e2, e2']
  have eb' : eb = br := by
    obtain ⟨st, e1, e2, e3, _⟩ := hA
    obtain ⟨st', e1', e2', e3', _⟩ := hB
    rw [e3, e3']
  unfold wpL_alike
  dsimp only
  unfold wpX_commits wpX_current
  dsimp only
  refine br_t ec' (br_t eb'.symm (cv_clean hA (cv_clean hB (br_t (by rw [cv_m_dd hw (hC (h' b') (q4 b' q3))]) ?_))))
  refine pk_loop (σ := Unit) (fun f k _ => wL_alike_42 post (nI x) (nI y) dm sr ct br cl a1 a2 a3 a4 a5 a6 a7 a8 a9 a10 a11 a12 a13 em es ec eb el b1 b2 b3 b4 b5 b6 b7 b8 b9 b10 b11 b12 b13 f (nI k)) (fun _ _ => True) 4 0 () (by omega) trivial (fun f _ _ => pk_le 4 4 (fun _ => ?_) (fun z => absurd z (by omega))) ?_
  · refine cv_base hA hx hy (cv_base hB hx hy (br_t rfl (cv_conflicts hA hx hy (cv_conflicts hB hx hy (br_t ?_ (cv_differing hA hx hy (cv_differing hB hx hy (br_t ?_ (cv_size hA hx (cv_size hB hx (br_t ?_ (cv_ancestors hA hx (cv_ancestors hB hx (br_t rfl (cv_alike149 hA hB hC hw hx H)))))))))))))))
    · rw [cv_m_cc (hC _ (by omega)) (hC x hx) (hC y hy)]
    · rw [cv_m_dd (hC x hx) (hC y hy)]
    · rw [cv_m_sz (hC x hx)]
  · intro f k _ hk _ hs
    exact pk_le 4 k (fun z => absurd z (by omega)) (fun _ => cv_head hA hk (cv_head hB hk (br_t rfl (nm_r (nI_1 k) (hs () trivial)))))
end
section
/-! the law: its spread, its loop, i_vc -/
variable {dm sr ct br cl : Int32} {a1 a2 a3 a4 a5 a6 a7 a8 a9 a10 a11 a12 a13 : Nat → Int32} {em es ec eb el : Int32} {b1 b2 b3 b4 b5 b6 b7 b8 b9 b10 b11 b12 b13 : Nat → Int32}
def cv_I (u v : St1) : Prop := ∃ P P', cv_A u P ∧ cv_A v P' ∧ cv_Mir P P'
theorem cv_Lspread {post : Int32 → St3 → Prop} {k s m : Nat} {v : Int32} (hI : cv_I (dm, sr, ct, br, cl, a1, a2, a3, a4, a5, a6, a7, a8, a9, a10, a11, a12, a13) (em, es, ec, eb, el, b1, b2, b3, b4, b5, b6, b7, b8, b9, b10, b11, b12, b13)) (hk : k < 64) (hs : 1 ≤ s) (hs' : s ≤ 16) (hm : 1 ≤ m) (hm' : m ≤ 64)
    (H : ∀ (dm sr ct br cl : Int32) (a1 a2 a3 a4 a5 a6 a7 a8 a9 a10 a11 a12 a13 : Nat → Int32) (em es ec eb el : Int32) (b1 b2 b3 b4 b5 b6 b7 b8 b9 b10 b11 b12 b13 : Nat → Int32), cv_I (dm, sr, ct, br, cl, a1, a2, a3, a4, a5, a6, a7, a8, a9, a10, a11, a12, a13) (em, es, ec, eb, el, b1, b2, b3, b4, b5, b6, b7, b8, b9, b10, b11, b12, b13) → post 1 (dm, sr, ct, br, cl, a1, a2, a3, a4, a5, a6, a7, a8, a9, a10, a11, a12, a13, em, es, ec, eb, el, b1, b2, b3, b4, b5, b6, b7, b8, b9, b10, b11, b12, b13)) : wpL_spread post (dm, sr, ct, br, cl, a1, a2, a3, a4, a5, a6, a7, a8, a9, a10, a11, a12, a13, em, es, ec, eb, el, b1, b2, b3, b4, b5, b6, b7, b8, b9, b10, b11, b12, b13) (nI k) (nI s) (nI m) v := by
  obtain ⟨⟨n, b, h, fp, kn, C, w⟩, ⟨n', b', h', fp', kn', C', w'⟩, hA, hB, hM⟩ := hI
  obtain ⟨rfl, rfl, rfl, rfl, rfl, hC, hw⟩ := hM
  obtain ⟨N, hN', hN0⟩ := pk_least (fun d => ¬ (d < m ∧ k + d * s < 64)) ⟨m, fun z => absurd z.1 (by omega)⟩
  have hN : ∀ d, d < N → d < m ∧ k + d * s < 64 := fun d hd => Decidable.not_not.mp (hN0 d hd)
  have hNm : N ≤ m := by
    rcases Nat.lt_or_ge m N with z | z
    · exact absurd (hN m z).1 (by omega)
    · exact z
  unfold wpL_spread
  dsimp only
  have key := pk_loop (σ := St1) (fun f i u => wL_spread_6 post (nI k) (nI s) (nI m) v f (nI (min i N)) (nI i) dm sr ct br cl a1 a2 a3 a4 a5 a6 a7 a8 a9 a10 a11 a12 a13 u.1 u.2.1 u.2.2.1 u.2.2.2.1 u.2.2.2.2.1 u.2.2.2.2.2.1 u.2.2.2.2.2.2.1 u.2.2.2.2.2.2.2.1 u.2.2.2.2.2.2.2.2.1 u.2.2.2.2.2.2.2.2.2.1 u.2.2.2.2.2.2.2.2.2.2.1 u.2.2.2.2.2.2.2.2.2.2.2.1 u.2.2.2.2.2.2.2.2.2.2.2.2.1 u.2.2.2.2.2.2.2.2.2.2.2.2.2.1 u.2.2.2.2.2.2.2.2.2.2.2.2.2.2.1 u.2.2.2.2.2.2.2.2.2.2.2.2.2.2.2.1 u.2.2.2.2.2.2.2.2.2.2.2.2.2.2.2.2.1 u.2.2.2.2.2.2.2.2.2.2.2.2.2.2.2.2.2)
    (fun i u => ∃ y, cv_A u (n', b', h', fp', kn', C', y) ∧ cv_m (cv_sp w k s v (min i N)) y) 64 0 (em, es, ec, eb, el, b1, b2, b3, b4, b5, b6, b7, b8, b9, b10, b11, b12, b13) (by omega) ⟨w', hB, by rw [Nat.zero_min]; exact hw⟩ ?_ ?_
  · rw [Nat.zero_min] at key
    exact key
  · intro f u hu
    obtain ⟨em, es, ec, eb, el, b1, b2, b3, b4, b5, b6, b7, b8, b9, b10, b11, b12, b13⟩ := u
    obtain ⟨y, hy, my⟩ := hu
    rw [show min 64 N = N by omega] at my ⊢
    refine pk_le 64 64 (fun _ => ?_) (fun z => absurd z (by omega))
    rw [show ((64 * nI s) + nI m) - 1 = nI (64 * s + m - 1) by rw [show (64 : Int32) = nI 64 from rfl, pk_mul, nI_add, show (1 : Int32) = nI 1 from rfl, pk_sub (by omega)]]
    refine cv_spread hA hk hs hs' hm hm' hN hN' (by omega) (fun u' hu' => ?_)
    obtain ⟨dm, sr, ct, br, cl, a1, a2, a3, a4, a5, a6, a7, a8, a9, a10, a11, a12, a13⟩ := u'
    exact br_t rfl (H _ _ _ _ _ _ _ _ _ _ _ _ _ _ _ _ _ _ _ _ _ _ _ _ _ _ _ _ _ _ _ _ _ _ _ _ ⟨_, _, hu', hy, rfl, rfl, rfl, rfl, rfl, hC, my⟩)
  · intro f i u hi hu hnx
    obtain ⟨em, es, ec, eb, el, b1, b2, b3, b4, b5, b6, b7, b8, b9, b10, b11, b12, b13⟩ := u
    obtain ⟨y, hy, my⟩ := hu
    have bd : i * s ≤ 64 * 16 := Nat.mul_le_mul (by omega) hs'
    have skip : N ≤ i → wL_spread_6 post (nI k) (nI s) (nI m) v f (nI (min i N)) (nI (i + 1)) dm sr ct br cl a1 a2 a3 a4 a5 a6 a7 a8 a9 a10 a11 a12 a13 em es ec eb el b1 b2 b3 b4 b5 b6 b7 b8 b9 b10 b11 b12 b13 := by
      intro z
      have r := hnx (em, es, ec, eb, el, b1, b2, b3, b4, b5, b6, b7, b8, b9, b10, b11, b12, b13) ⟨y, hy, by rw [show min (i + 1) N = min i N by omega]; exact my⟩
      rw [show min (i + 1) N = min i N by omega] at r
      exact r
    refine pk_le 64 i (fun z => absurd z (by omega)) (fun _ => nm_r (e' := nI (k + i * s)) (by rw [pk_mul, nI_add]) ?_)
    refine pk_le m i (fun z => nm_r (nI_1 i) (skip (by omega))) (fun z => pk_le 64 (k + i * s) (fun z' => nm_r (nI_1 i) (skip ?_)) (fun z' => ?_))
    · rcases Nat.lt_or_ge i N with q | q
      · exact absurd (hN i q).2 (by omega)
      · exact q
    · have iN : i < N := by
        rcases Nat.lt_or_ge i N with q | q
        · exact q
        · have t : N * s ≤ i * s := Nat.mul_le_mul_right s q
          exact absurd ⟨by omega, by omega⟩ hN'
      rw [cv_63 z']
      refine cv_put hy (by omega) (fun u' hu' => ?_)
      have r := hnx u' ⟨_, hu', ?_⟩
      · obtain ⟨em, es, ec, eb, el, b1, b2, b3, b4, b5, b6, b7, b8, b9, b10, b11, b12, b13⟩ := u'
        refine nm_r (e' := nI (min (i + 1) N)) (by rw [nI_1, show min i N + 1 = min (i + 1) N by omega]) (nm_r (nI_1 i) r)
      · rw [show min (i + 1) N = i + 1 by omega]
        rw [show min i N = i by omega] at my
        rw [show (63 - (k + i * s)) / 8 = 7 - (k + i * s) / 8 by omega, show (63 - (k + i * s)) % 8 = 7 - (k + i * s) % 8 by omega, show some (-v - nI i - 1) = cv_mo (some (v + nI i)) from congrArg some (by grind)]
        exact cv_m_up my (by omega) (by omega)
theorem cv_366 {post : Int32 → Prop} {L : Nat} {xs : Nat → Int32} {J : Int32 → Int32 → Int32 → Int32 → Int32 → Int32 → (Nat → Int32) → (Nat → Int32) → (Nat → Int32) → (Nat → Int32) → (Nat → Int32) → (Nat → Int32) → (Nat → Int32) → (Nat → Int32) → (Nat → Int32) → (Nat → Int32) → (Nat → Int32) → (Nat → Int32) → (Nat → Int32) → Int32 → Int32 → Int32 → Int32 → Int32 → (Nat → Int32) → (Nat → Int32) → (Nat → Int32) → (Nat → Int32) → (Nat → Int32) → (Nat → Int32) → (Nat → Int32) → (Nat → Int32) → (Nat → Int32) → (Nat → Int32) → (Nat → Int32) → (Nat → Int32) → (Nat → Int32) → Prop} {i : Nat} {d r r' : Int32} {kc ks : Nat} (hI : cv_I (dm, sr, ct, br, cl, a1, a2, a3, a4, a5, a6, a7, a8, a9, a10, a11, a12, a13) (em, es, ec, eb, el, b1, b2, b3, b4, b5, b6, b7, b8, b9, b10, b11, b12, b13)) (hr : r' = r)
    (H : J (nI (i + 2)) dm sr ct br cl a1 a2 a3 a4 a5 a6 a7 a8 a9 a10 a11 a12 a13 em es ec eb el b1 b2 b3 b4 b5 b6 b7 b8 b9 b10 b11 b12 b13) : wL_law_366 post L xs J (nI i) d r r' kc ks dm sr ct br cl a1 a2 a3 a4 a5 a6 a7 a8 a9 a10 a11 a12 a13 em es ec eb el b1 b2 b3 b4 b5 b6 b7 b8 b9 b10 b11 b12 b13 := by
  obtain ⟨P, P', hA, hB, hM⟩ := hI
  have g : 1 ≤ P.1 ∧ P.1 ≤ 20 := by
    obtain ⟨n, b, h, fp, kn, C, w⟩ := P
    obtain ⟨q1, q2, _⟩ := cv_A_G hA
    exact ⟨q1, q2⟩
  have e : ct = nI P.1 := by
    obtain ⟨n, b, h, fp, kn, C, w⟩ := P
    obtain ⟨st, e1, e2, _⟩ := hA
    exact e2
  unfold wL_law_366 wpX_commits
  dsimp only
  obtain ⟨x, hx, ex⟩ := pk_andE (d >>> ((10 : Int32) &&& 31)) (m := 31) 5 (by decide)
  obtain ⟨y, hy, ey⟩ := pk_andE (d >>> ((15 : Int32) &&& 31)) (m := 31) 5 (by decide)
  have nz : ¬ ct = 0 := by
    rw [e]
    exact nI_ne0 (by omega) (by omega)
  refine br_t hr.symm ⟨nz, nz, ?_⟩
  rw [show (((d >>> ((10 : Int32) &&& 31)) &&& 31) - ((d >>> ((10 : Int32) &&& 31)) &&& 31) / ct * ct) = nI (x % P.1) by rw [ex, e]; exact pk_rem (by omega) (by omega) (by omega), show (((d >>> ((15 : Int32) &&& 31)) &&& 31) - ((d >>> ((15 : Int32) &&& 31)) &&& 31) / ct * ct) = nI (y % P.1) by rw [ey, e]; exact pk_rem (by omega) (by omega) (by omega)]
  refine cv_alike hA hB hM (Nat.mod_lt _ (by omega)) (Nat.mod_lt _ (by omega)) (br_f (by decide) (nm_r (e' := nI (i + 2)) ?_ H))
  rw [show (2 : Int32) = nI 2 from rfl, nI_add]
theorem cv_loop {L : Nat} {xs : Nat → Int32} {kc ks : Nat} (hL : L ≤ 260) : ∀ (f i : Nat), i ≤ L → L - i < f → ∀ (dm sr ct br cl : Int32) (a1 a2 a3 a4 a5 a6 a7 a8 a9 a10 a11 a12 a13 : Nat → Int32) (em es ec eb el : Int32) (b1 b2 b3 b4 b5 b6 b7 b8 b9 b10 b11 b12 b13 : Nat → Int32), cv_I (dm, sr, ct, br, cl, a1, a2, a3, a4, a5, a6, a7, a8, a9, a10, a11, a12, a13) (em, es, ec, eb, el, b1, b2, b3, b4, b5, b6, b7, b8, b9, b10, b11, b12, b13) → wL_law_18 (fun r => r = 1) L xs kc ks f (nI i) dm sr ct br cl a1 a2 a3 a4 a5 a6 a7 a8 a9 a10 a11 a12 a13 em es ec eb el b1 b2 b3 b4 b5 b6 b7 b8 b9 b10 b11 b12 b13 := by
  intro f
  induction f with
  | zero => exact fun i hi h => absurd h (by omega)
  | succ f ih =>
    intro i hi hf
    intro dm sr ct br cl a1 a2 a3 a4 a5 a6 a7 a8 a9 a10 a11 a12 a13 em es ec eb el b1 b2 b3 b4 b5 b6 b7 b8 b9 b10 b11 b12 b13 hI
    refine pk_le L (i + 1) (fun _ => rfl) (fun z => ?_) rfl (nI_1 i)
    have fin : ∀ {d r r' : Int32} (dm sr ct br cl : Int32) (a1 a2 a3 a4 a5 a6 a7 a8 a9 a10 a11 a12 a13 : Nat → Int32) (em es ec eb el : Int32) (b1 b2 b3 b4 b5 b6 b7 b8 b9 b10 b11 b12 b13 : Nat → Int32), cv_I (dm, sr, ct, br, cl, a1, a2, a3, a4, a5, a6, a7, a8, a9, a10, a11, a12, a13) (em, es, ec, eb, el, b1, b2, b3, b4, b5, b6, b7, b8, b9, b10, b11, b12, b13) → r' = r → wL_law_366 (fun r => r = 1) L xs (wL_law_18 (fun r => r = 1) L xs kc ks f) (nI i) d r r' kc ks dm sr ct br cl a1 a2 a3 a4 a5 a6 a7 a8 a9 a10 a11 a12 a13 em es ec eb el b1 b2 b3 b4 b5 b6 b7 b8 b9 b10 b11 b12 b13 := by
      intro d r r' dm sr ct br cl a1 a2 a3 a4 a5 a6 a7 a8 a9 a10 a11 a12 a13 em es ec eb el b1 b2 b3 b4 b5 b6 b7 b8 b9 b10 b11 b12 b13 hI hr
      exact cv_366 hI hr (ih (i + 2) (by omega) (by omega) _ _ _ _ _ _ _ _ _ _ _ _ _ _ _ _ _ _ _ _ _ _ _ _ _ _ _ _ _ _ _ _ _ _ _ _ hI)
    obtain ⟨op, hop, eop⟩ := pk_andE (xs i) (m := 15) 4 (by decide)
    obtain ⟨key, hkey, ekey⟩ := pk_andE (xs i >>> ((4 : Int32) &&& 31)) (m := 63) 6 (by decide)
    obtain ⟨t, ht, et⟩ := pk_andE (xs (i + 1)) (m := 3) 2 (by decide)
    have ht4 : t < 4 := ht
    have hop16 : op < 16 := hop
    have hkey64 : key < 64 := hkey
    refine ⟨pk_in i L (by omega), nm_r (e' := nI op) (by rw [nI_clamp (show i < 2 ^ 31 by omega), eop]) ⟨pk_in i L (by omega), nm_r (e' := nI key) (by rw [nI_clamp (show i < 2 ^ 31 by omega), ekey]) ⟨pk_in (i + 1) L (by omega) (nI_1 i), nm_r (e' := xs (i + 1)) (by rw [nI_1, nI_clamp (show i + 1 < 2 ^ 31 by omega)]) (nm_r et ?_)⟩⟩⟩
    have e15 : nI key &&& 15 = nI (key % 16) := pk_andN (by omega) 4 (by decide)
    have e3 : (nI key &&& 3) - (nI key &&& 3) / 3 * 3 = nI (key % 4 % 3) := by
      rw [show nI key &&& 3 = nI (key % 4) from pk_andN (by omega) 2 (by decide)]
      exact pk_rem (d := 3) (by omega) (by omega) (by omega)
    have e63 : (63 : Int32) - nI (key % 16) = nI (63 - key % 16) := cv_63 (by omega)
    obtain ⟨P, P', hA, hB, hM⟩ := hI
    refine pk_le 4 op (fun h4 => ?_) (fun h4 => ?_)
    · refine pk_eq op 4 (fun q4 => ?_) (fun q4 => pk_eq op 5 (fun q5 => ?_) (fun q5 => pk_le 8 op (fun h8 => pk_eq op 8 (fun q8 => ?_) (fun q8 => pk_eq op 9 (fun q9 => ?_) (fun q9 => pk_le 12 op (fun h12 => pk_eq op 12 (fun q12 => ?_) (fun q12 => pk_le 15 op (fun h15 => ?_) (fun h15 => ⟨by decide, ?_⟩))) (fun h12 => ?_)))) (fun h8 => ?_)))
      · -- delete
        obtain ⟨n, b, h, fp, kn, C, w⟩ := P
        obtain ⟨n', b', h', fp', kn', C', w'⟩ := P'
        obtain ⟨rfl, rfl, rfl, rfl, rfl, hC, hw⟩ := hM
        rw [e15, e63]
        refine cv_delete hA (by omega) (fun ua ha => ?_)
        obtain ⟨dm, sr, ct, br, cl, a1, a2, a3, a4, a5, a6, a7, a8, a9, a10, a11, a12, a13⟩ := ua
        refine cv_delete hB (by omega) (fun ub hb => ?_)
        obtain ⟨em, es, ec, eb, el, b1, b2, b3, b4, b5, b6, b7, b8, b9, b10, b11, b12, b13⟩ := ub
        refine fin _ _ _ _ _ _ _ _ _ _ _ _ _ _ _ _ _ _ _ _ _ _ _ _ _ _ _ _ _ _ _ _ _ _ _ _ ⟨_, _, ha, hb, rfl, rfl, rfl, rfl, rfl, hC, ?_⟩ ?_
        · rw [show (63 - key % 16) / 8 = 7 - key % 16 / 8 by omega, show (63 - key % 16) % 8 = 7 - key % 16 % 8 by omega]
          exact cv_m_up (x := none) hw (by omega) (by omega)
        · rw [cv_mv hw (by omega)]
          by_cases e : w (key % 16 / 8) (key % 16 % 8) = none
          · rw [if_pos e, if_pos (cv_mo_none.mpr e)]
          · rw [if_neg e, if_neg (fun y => e (cv_mo_none.mp y))]
      · -- spread
        obtain ⟨s, hs, es'⟩ := pk_andE (xs (i + 1)) (m := 15) 4 (by decide)
        obtain ⟨m, hm, em'⟩ := pk_andE (xs (i + 1) >>> ((4 : Int32) &&& 31)) (m := 63) 6 (by decide)
        have hs16 : s < 16 := hs
        have hm64 : m < 64 := hm
        rw [es', em', show (1 : Int32) = nI 1 from rfl, nI_add, nI_add]
        refine cv_Lspread ⟨P, P', hA, hB, hM⟩ hkey64 (by omega) (by omega) (by omega) (by omega) ?_
        intro dm sr ct br cl a1 a2 a3 a4 a5 a6 a7 a8 a9 a10 a11 a12 a13 em es ec eb el b1 b2 b3 b4 b5 b6 b7 b8 b9 b10 b11 b12 b13 hI'
        exact br_f (by decide) (fin _ _ _ _ _ _ _ _ _ _ _ _ _ _ _ _ _ _ _ _ _ _ _ _ _ _ _ _ _ _ _ _ _ _ _ _ hI' rfl)
      · -- reset
        obtain ⟨n, b, h, fp, kn, C, w⟩ := P
        obtain ⟨n', b', h', fp', kn', C', w'⟩ := P'
        obtain ⟨q1, q2, q3, q4', q5'⟩ := cv_A_G hA
        obtain ⟨rfl, rfl, rfl, rfl, rfl, hC, hw⟩ := hM
        have mb := hC _ (q4' _ q3)
        refine cv_reset hA (fun ua ha => ?_)
        obtain ⟨dm, sr, ct, br, cl, a1, a2, a3, a4, a5, a6, a7, a8, a9, a10, a11, a12, a13⟩ := ua
        refine cv_reset hB (fun ub hb => ?_)
        obtain ⟨em, es, ec, eb, el, b1, b2, b3, b4, b5, b6, b7, b8, b9, b10, b11, b12, b13⟩ := ub
        exact fin _ _ _ _ _ _ _ _ _ _ _ _ _ _ _ _ _ _ _ _ _ _ _ _ _ _ _ _ _ _ _ _ _ _ _ _ ⟨_, _, ha, hb, rfl, rfl, rfl, rfl, rfl, hC, mb⟩ (by rw [cv_m_dd hw mb])
      · -- checkout
        rw [e15]
        have mm := cv_M_co (x := key % 16) hM
        refine cv_checkout hA (by omega) (fun ua ha => ?_)
        obtain ⟨dm, sr, ct, br, cl, a1, a2, a3, a4, a5, a6, a7, a8, a9, a10, a11, a12, a13⟩ := ua
        refine cv_checkout hB (by omega) (fun ub hb => ?_)
        obtain ⟨em, es, ec, eb, el, b1, b2, b3, b4, b5, b6, b7, b8, b9, b10, b11, b12, b13⟩ := ub
        exact fin _ _ _ _ _ _ _ _ _ _ _ _ _ _ _ _ _ _ _ _ _ _ _ _ _ _ _ _ _ _ _ _ _ _ _ _ ⟨_, _, ha, hb, mm.2⟩ mm.1
      · -- branch
        have mm := cv_M_br (t := t) hM
        refine cv_branch hA ht4 (fun ua ha => ?_)
        obtain ⟨dm, sr, ct, br, cl, a1, a2, a3, a4, a5, a6, a7, a8, a9, a10, a11, a12, a13⟩ := ua
        refine cv_branch hB ht4 (fun ub hb => ?_)
        obtain ⟨em, es, ec, eb, el, b1, b2, b3, b4, b5, b6, b7, b8, b9, b10, b11, b12, b13⟩ := ub
        exact fin _ _ _ _ _ _ _ _ _ _ _ _ _ _ _ _ _ _ _ _ _ _ _ _ _ _ _ _ _ _ _ _ _ _ _ _ ⟨_, _, ha, hb, mm.2⟩ mm.1
      · -- pick
        rw [e15]
        have mm := cv_M_pk (x := key % 16) (s := t) hA hM
        refine cv_pick hA (by omega) ht4 (fun ua ha => ?_)
        obtain ⟨dm, sr, ct, br, cl, a1, a2, a3, a4, a5, a6, a7, a8, a9, a10, a11, a12, a13⟩ := ua
        refine cv_pick hB (by omega) ht4 (fun ub hb => ?_)
        obtain ⟨em, es, ec, eb, el, b1, b2, b3, b4, b5, b6, b7, b8, b9, b10, b11, b12, b13⟩ := ub
        exact fin _ _ _ _ _ _ _ _ _ _ _ _ _ _ _ _ _ _ _ _ _ _ _ _ _ _ _ _ _ _ _ _ _ _ _ _ ⟨_, _, ha, hb, mm.2⟩ mm.1
      · -- merge
        rw [e3]
        have mm := cv_M_mg (t := t) (sd := nI (key % 4 % 3)) hA hM ht4
        refine cv_merge hA ht4 (by omega) (fun ua ha => ?_)
        obtain ⟨dm, sr, ct, br, cl, a1, a2, a3, a4, a5, a6, a7, a8, a9, a10, a11, a12, a13⟩ := ua
        refine ⟨by decide, cv_merge hB ht4 (by omega) (fun ub hb => ?_)⟩
        obtain ⟨em, es, ec, eb, el, b1, b2, b3, b4, b5, b6, b7, b8, b9, b10, b11, b12, b13⟩ := ub
        exact fin _ _ _ _ _ _ _ _ _ _ _ _ _ _ _ _ _ _ _ _ _ _ _ _ _ _ _ _ _ _ _ _ _ _ _ _ ⟨_, _, ha, hb, mm.2⟩ mm.1
      · -- change
        have mm := cv_M_ch (t := t) hA hM ht4
        refine cv_change hA ht4 (fun ua ha => ?_)
        obtain ⟨dm, sr, ct, br, cl, a1, a2, a3, a4, a5, a6, a7, a8, a9, a10, a11, a12, a13⟩ := ua
        refine cv_change hB ht4 (fun ub hb => ?_)
        obtain ⟨em, es, ec, eb, el, b1, b2, b3, b4, b5, b6, b7, b8, b9, b10, b11, b12, b13⟩ := ub
        exact fin _ _ _ _ _ _ _ _ _ _ _ _ _ _ _ _ _ _ _ _ _ _ _ _ _ _ _ _ _ _ _ _ _ _ _ _ ⟨_, _, ha, hb, mm.2⟩ mm.1
      · -- commit
        have mm := cv_M_cm hM
        refine cv_commit hA (fun ua ha => ?_)
        obtain ⟨dm, sr, ct, br, cl, a1, a2, a3, a4, a5, a6, a7, a8, a9, a10, a11, a12, a13⟩ := ua
        refine cv_commit hB (fun ub hb => ?_)
        obtain ⟨em, es, ec, eb, el, b1, b2, b3, b4, b5, b6, b7, b8, b9, b10, b11, b12, b13⟩ := ub
        exact fin _ _ _ _ _ _ _ _ _ _ _ _ _ _ _ _ _ _ _ _ _ _ _ _ _ _ _ _ _ _ _ _ _ _ _ _ ⟨_, _, ha, hb, mm.2⟩ mm.1
    · -- put
      obtain ⟨n, b, h, fp, kn, C, w⟩ := P
      obtain ⟨n', b', h', fp', kn', C', w'⟩ := P'
      obtain ⟨rfl, rfl, rfl, rfl, rfl, hC, hw⟩ := hM
      rw [e15, e63]
      refine cv_put hA (by omega) (fun ua ha => ?_)
      obtain ⟨dm, sr, ct, br, cl, a1, a2, a3, a4, a5, a6, a7, a8, a9, a10, a11, a12, a13⟩ := ua
      refine cv_put hB (by omega) (fun ub hb => ?_)
      obtain ⟨em, es, ec, eb, el, b1, b2, b3, b4, b5, b6, b7, b8, b9, b10, b11, b12, b13⟩ := ub
      refine fin _ _ _ _ _ _ _ _ _ _ _ _ _ _ _ _ _ _ _ _ _ _ _ _ _ _ _ _ _ _ _ _ _ _ _ _ ⟨_, _, ha, hb, rfl, rfl, rfl, rfl, rfl, hC, ?_⟩ ?_
      · rw [show (63 - key % 16) / 8 = 7 - key % 16 / 8 by omega, show (63 - key % 16) % 8 = 7 - key % 16 % 8 by omega]
        exact cv_m_up (x := some (nI t)) hw (by omega) (by omega)
      · rw [cv_mv hw (by omega)]
        by_cases e : w (key % 16 / 8) (key % 16 % 8) = none
        · rw [if_pos e, if_pos (cv_mo_none.mpr e)]
        · rw [if_neg e, if_neg (fun y => e (cv_mo_none.mp y))]
theorem i_vc (xs : Nat → Int32) (L : Nat) (hL : L ≤ 260) : wpL_law (fun r => r = 1) L xs := by
  unfold wpL_law
  refine ⟨13, 2024, by omega, by omega, cv_init (fun u hu => ?_)⟩
  obtain ⟨dm, sr, ct, br, cl, a1, a2, a3, a4, a5, a6, a7, a8, a9, a10, a11, a12, a13⟩ := u
  refine ⟨by omega, by omega, 13, 2024, by omega, by omega, cv_init (fun v hv => ?_)⟩
  obtain ⟨em, es, ec, eb, el, b1, b2, b3, b4, b5, b6, b7, b8, b9, b10, b11, b12, b13⟩ := v
  exact ⟨L + 1, cv_loop hL (L + 1) 0 (by omega) (by omega) _ _ _ _ _ _ _ _ _ _ _ _ _ _ _ _ _ _ _ _ _ _ _ _ _ _ _ _ _ _ _ _ _ _ _ _ ⟨_, _, hu, hv, rfl, rfl, rfl, rfl, rfl, fun i hi c j hc hj => rfl, fun c j hc hj => rfl⟩⟩
end
