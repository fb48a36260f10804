section
theorem pk_us {f : Nat → Int32} {k : Nat} {x : Int32} : upd f k x k = x := if_pos rfl
theorem pk_un {f : Nat → Int32} {k j : Nat} {x : Int32} (h : j ≠ k) : upd f k x j = f j := if_neg h
theorem pk_sub {a b : Nat} (h : b ≤ a) : nI a - nI b = nI (a - b) := by
  obtain ⟨c, rfl⟩ : ∃ c, a = c + b := ⟨a - b, by omega⟩
  rw [← nI_add, Int32.add_sub_cancel, Nat.add_sub_cancel]
theorem pk_m1 (n : Nat) : nI (n + 1) + (-1) = nI n := by
  rw [← nI_1, Int32.add_assoc, show (1 : Int32) + (-1) = 0 from rfl, Int32.add_zero]
theorem pk_mul (a b : Nat) : nI a * nI b = nI (a * b) := (Int32.ofNat_mul a b).symm
theorem pk_div {a d : Nat} (ha : a < 2 ^ 31) (h0 : 0 < d) (hd : d < 2 ^ 31) : nI a / nI d = nI (a / d) := by
  apply Int32.toInt_inj.mp
  rw [lg_idiv_nonneg (by rw [nI_toInt ha]; omega) (by rw [nI_toInt hd]; omega), nI_toInt ha, nI_toInt hd, nI_toInt (Nat.lt_of_le_of_lt (Nat.div_le_self a d) ha)]
  first | rfl | exact (Int.natCast_ediv _ _).symm
theorem pk_rem {a d : Nat} (ha : a < 2 ^ 31) (h0 : 0 < d) (hd : d < 2 ^ 31) : nI a - nI a / nI d * nI d = nI (a % d) := by
  rw [pk_div ha h0 hd, pk_mul, pk_sub (Nat.div_mul_le_self a d)]
  exact congrArg nI (by have := Nat.div_add_mod' a d; omega)
theorem pk_sub_toInt {a b : Nat} (ha : a < 2 ^ 30) (hb : b < 2 ^ 30) : (nI a - nI b).toInt = (a : Int) - b := by
  rw [Int32.toInt_sub, nI_toInt (by omega), nI_toInt (by omega)]
  exact Int.bmod_eq_of_le (by omega) (by omega)
theorem pk_ix (x : Int32) {n : Nat} (hn : n < 2 ^ 31) : x < 0 ∨ nI n ≤ x ∨ ∃ j : Nat, j < n ∧ x = nI j := by
  by_cases h : x < 0
  · exact Or.inl h
  · obtain ⟨j, hj, rfl⟩ := nI_of h
    by_cases h2 : j < n
    · exact Or.inr (Or.inr ⟨j, h2, rfl⟩)
    · exact Or.inr (Or.inl (nI_le (by omega) hj))
theorem pk_le {x y : Int32} {A B : Prop} (a b : Nat) (f : a ≤ b → A) (g : b < a → B) (hx : x = nI a := by rfl) (hy : y = nI b := by rfl) (ha : a < 2 ^ 31 := by omega) (hb : b < 2 ^ 31 := by omega) : (x ≤ y → A) ∧ (¬ x ≤ y → B) := by
  subst hx hy
  rw [nI_leI ha hb]
  exact ⟨f, fun z => g (by omega)⟩
theorem pk_lt {x y : Int32} {A B : Prop} (a b : Nat) (f : a < b → A) (g : b ≤ a → B) (hx : x = nI a := by rfl) (hy : y = nI b := by rfl) (ha : a < 2 ^ 31 := by omega) (hb : b < 2 ^ 31 := by omega) : (x < y → A) ∧ (¬ x < y → B) := by
  subst hx hy
  rw [nI_ltI ha hb]
  exact ⟨f, fun z => g (by omega)⟩
theorem pk_eq {x y : Int32} {A B : Prop} (a b : Nat) (f : a = b → A) (g : a ≠ b → B) (hx : x = nI a := by rfl) (hy : y = nI b := by rfl) (ha : a < 2 ^ 31 := by omega) (hb : b < 2 ^ 31 := by omega) : (x = y → A) ∧ (¬ x = y → B) := by
  subst hx hy
  rw [nI_eq ha hb]
  exact ⟨f, g⟩
theorem pk_in {x : Int32} (n N : Nat) (h : n < N) (hx : x = nI n := by rfl) (hN : N < 2 ^ 31 := by omega) : vp_in x N := by
  subst hx
  exact vp_in_nI h hN
theorem pk_cl {x : Int32} (n : Nat) (hx : x = nI n := by rfl) (h : n < 2 ^ 31 := by omega) : x.toNatClampNeg = n := by
  subst hx
  exact nI_clamp h
theorem pk_tn {n : Nat} (h : n < 2 ^ 32) : (nI n).toBitVec.toNat = n := Nat.mod_eq_of_lt h
theorem pk_and (x : Int32) {m : Int32} (k : Nat) (hm : m.toBitVec.toNat = 2 ^ k - 1) : x &&& m = nI (x.toBitVec.toNat % 2 ^ k) := by
  apply Int32.toBitVec_inj.mp
  apply BitVec.eq_of_toNat_eq
  rw [Int32.toBitVec_and, BitVec.toNat_and, hm, Nat.and_two_pow_sub_one_eq_mod]
  show _ = (BitVec.ofNat 32 _).toNat
  rw [BitVec.toNat_ofNat]
  exact (Nat.mod_eq_of_lt (Nat.lt_of_le_of_lt (Nat.mod_le _ _) x.toBitVec.isLt)).symm
theorem pk_andN {n : Nat} (h : n < 2 ^ 32) {m : Int32} (k : Nat) (hm : m.toBitVec.toNat = 2 ^ k - 1) : nI n &&& m = nI (n % 2 ^ k) := by
  rw [pk_and _ k hm, pk_tn h]
theorem pk_shr (a s : Int32) (k : Nat) (hs : (s.toBitVec.smod 32).toNat = k) : (a >>> s).toInt = a.toInt >>> k := by
  show (a.toBitVec.sshiftRight (s.toBitVec.smod 32).toNat).toInt = _
  rw [hs, BitVec.toInt_sshiftRight]
  rfl
theorem pk_shrN {n : Nat} (h : n < 2 ^ 31) (s : Int32) (k : Nat) (hs : (s.toBitVec.smod 32).toNat = k) : nI n >>> s = nI (n / 2 ^ k) := by
  apply Int32.toInt_inj.mp
  have h2 : n / 2 ^ k ≤ n := Nat.div_le_self _ _
  rw [pk_shr _ _ k hs, nI_toInt h, nI_toInt (by omega), Int.shiftRight_eq_div_pow]
  rfl
theorem pk_vb (z : Int32) : vp_nar .byte z.toInt8.toInt32 = z.toInt8.toInt32 := by rw [vp_nar_byte]; simp
theorem pk_vs (z : Int32) : vp_nar .short z.toInt16.toInt32 = z.toInt16.toInt32 := by rw [vp_nar_short]; simp
def bt (x : Int32) (i : Nat) : Bool := x.toBitVec.getLsbD i
theorem b_ext {x y : Int32} (h : ∀ i, i < 32 → bt x i = bt y i) : x = y := Int32.toBitVec_inj.mp (BitVec.eq_of_getLsbD_eq (fun i hi => h i hi))
theorem b_or (x y : Int32) (i : Nat) : bt (x ||| y) i = (bt x i || bt y i) := by unfold bt; rw [Int32.toBitVec_or, BitVec.getLsbD_or]
theorem b_and (x y : Int32) (i : Nat) : bt (x &&& y) i = (bt x i && bt y i) := by unfold bt; rw [Int32.toBitVec_and, BitVec.getLsbD_and]
theorem b_xor (x y : Int32) (i : Nat) : bt (x ^^^ y) i = (bt x i ^^ bt y i) := by unfold bt; rw [Int32.toBitVec_xor, BitVec.getLsbD_xor]
theorem b_m1 : ∀ i, i < 32 → bt (-1) i = true := by decide +kernel
theorem b_0 (i : Nat) : bt 0 i = false := BitVec.getLsbD_zero
theorem s_l : ∀ n, n < 32 → ((nI n &&& 31).toBitVec.smod 32).toNat = n := by decide +kernel
theorem b_shl (n : Nat) (hn : n < 32) (x : Int32) {i : Nat} (hi : i < 32) : bt (x <<< (nI n &&& 31)) i = (decide (n ≤ i) && bt x (i - n)) := by
  unfold bt
  rw [Int32.toBitVec_shiftLeft]
  show (x.toBitVec <<< ((nI n &&& 31).toBitVec.smod 32).toNat).getLsbD i = _
  rw [s_l n hn, BitVec.getLsbD_shiftLeft]
  rcases Nat.lt_or_ge i n with h | h
  · simp [h, Nat.not_le.mpr h]
  · simp [hi, h, Nat.not_lt.mpr h]
theorem b_sshr (n : Nat) (hn : n < 32) (x : Int32) {i : Nat} (hi : i < 32) : bt (x >>> (nI n &&& 31)) i = if n + i < 32 then bt x (n + i) else bt x 31 := by
  unfold bt
  rw [Int32.toBitVec_shiftRight]
  show (x.toBitVec.sshiftRight ((nI n &&& 31).toBitVec.smod 32).toNat).getLsbD i = _
  rw [s_l n hn, BitVec.getLsbD_sshiftRight, BitVec.msb_eq_getLsbD_last]
  simp [hi]
theorem nf_sh : ∀ l, l < 32 → ((1 : Int32) <<< (nI l &&& 31)).toBitVec = BitVec.twoPow 32 l := by decide +kernel
end
section
/-! pure rows: a function with one value changed, masks of sixteen bits, the wheels -/
def tw_st {α : Type} (f : Nat → α) (k : Nat) (v : α) : Nat → α := fun j => if j = k then v else f j
theorem tw_sts {α : Type} {f : Nat → α} {k : Nat} {v : α} : tw_st f k v k = v := if_pos rfl
theorem tw_stn {α : Type} {f : Nat → α} {k j : Nat} {v : α} (h : j ≠ k) : tw_st f k v j = f j := if_neg h
theorem tw_st_eq {α : Type} {f g : Nat → α} {k : Nat} {v : α} (h : g k = v) (h2 : ∀ j, j ≠ k → g j = f j) : tw_st f k v = g := by
  funext j
  by_cases e : j = k
  · rw [e, tw_sts, h]
  · rw [tw_stn e, h2 j e]
theorem tw_st_same {α : Type} {f : Nat → α} {k : Nat} {v : α} (h : f k = v) : tw_st f k v = f := tw_st_eq h (fun _ _ => rfl)
theorem tw_st_st {α : Type} {f : Nat → α} {k : Nat} {v w : α} : tw_st (tw_st f k w) k v = tw_st f k v :=
  tw_st_eq tw_sts (fun j e => by rw [tw_stn e, tw_stn e])
def tw_fn (d : Nat → Nat) : Nat → Int32 := fun i => nI (d i)
def tw_b (b : Bool) : Int32 := if b = true then 1 else 0
def tw_bn (f : Nat → Bool) : Nat → Int32 := fun i => tw_b (f i)
theorem tw_fn_upd {d : Nat → Nat} {k v : Nat} {x : Int32} (hx : x = nI v) : upd (tw_fn d) k x = tw_fn (tw_st d k v) := by
  funext j
  by_cases e : j = k
  · rw [e, pk_us, hx]
    show nI v = nI (tw_st d k v k)
    rw [tw_sts]
  · rw [pk_un e]
    show nI (d j) = nI (tw_st d k v j)
    rw [tw_stn e]
theorem tw_bn_upd {f : Nat → Bool} {k : Nat} {v : Bool} {x : Int32} (hx : x = tw_b v) : upd (tw_bn f) k x = tw_bn (tw_st f k v) := by
  funext j
  by_cases e : j = k
  · rw [e, pk_us, hx]
    show tw_b v = tw_b (tw_st f k v k)
    rw [tw_sts]
  · rw [pk_un e]
    show tw_b (f j) = tw_b (tw_st f k v j)
    rw [tw_stn e]
theorem tw_fn_at (d : Nat → Nat) {k : Nat} (hk : k < 2 ^ 31) : tw_fn d (nI k).toNatClampNeg = nI (d k) := by rw [nI_clamp hk]; rfl
theorem tw_bn_at (f : Nat → Bool) {k : Nat} (hk : k < 2 ^ 31) : tw_bn f (nI k).toNatClampNeg = tw_b (f k) := by rw [nI_clamp hk]; rfl
theorem tw_b_t {b : Bool} (h : b = true) : ¬ tw_b b = 0 := by subst h; decide
theorem tw_b_f {b : Bool} (h : b = false) : tw_b b = 0 := by subst h; decide
/-! masks -/
def tw_m (f : Nat → Bool) : Nat → Int32
  | 0 => 0
  | n + 1 => if f n = true then tw_m f n ||| ((1 : Int32) <<< (nI n &&& 31)) else tw_m f n
def tw_mk (f : Nat → Bool) : Int32 := tw_m f 16
theorem tw_b1 : ∀ k, k < 32 → ∀ i, i < 32 → bt ((1 : Int32) <<< (nI k &&& 31)) i = decide (i = k) := by decide +kernel
theorem tw_b1' : ∀ i, i < 32 → bt 1 i = decide (i = 0) := by decide +kernel
theorem tw_bt (f : Nat → Bool) : ∀ n, n ≤ 32 → ∀ i, i < 32 → bt (tw_m f n) i = (decide (i < n) && f i) := by
  intro n
  induction n with
  | zero =>
    intro _ i _
    show bt 0 i = _
    rw [b_0, decide_eq_false (by omega)]
    rfl
  | succ n ih =>
    intro hn i hi
    have h := ih (by omega) i hi
    show bt (if f n = true then tw_m f n ||| ((1 : Int32) <<< (nI n &&& 31)) else tw_m f n) i = _
    by_cases e : f n = true
    · rw [if_pos e, b_or, h, tw_b1 n (by omega) i hi]
      rcases Nat.lt_trichotomy i n with h1 | h1 | h1
      · rw [decide_eq_true h1, decide_eq_false (p := i = n) (by omega), decide_eq_true (p := i < n + 1) (by omega)]
        cases f i <;> rfl
      · subst h1
        rw [e, decide_eq_true (p := i = i) rfl, decide_eq_true (p := i < i + 1) (by omega), Bool.or_true]
        rfl
      · rw [decide_eq_false (p := i < n) (by omega), decide_eq_false (p := i = n) (by omega), decide_eq_false (p := i < n + 1) (by omega)]
        rfl
    · rw [if_neg e, h]
      rcases Nat.lt_trichotomy i n with h1 | h1 | h1
      · rw [decide_eq_true h1, decide_eq_true (p := i < n + 1) (by omega)]
      · subst h1
        rw [Bool.eq_false_iff.mpr e, Bool.and_false, Bool.and_false]
      · rw [decide_eq_false (p := i < n) (by omega), decide_eq_false (p := i < n + 1) (by omega)]
theorem tw_bk (f : Nat → Bool) {i : Nat} (hi : i < 32) : bt (tw_mk f) i = (decide (i < 16) && f i) := tw_bt f 16 (by decide) i hi
theorem tw_mk_congr {f g : Nat → Bool} (h : ∀ i, i < 16 → f i = g i) : tw_mk f = tw_mk g := by
  apply b_ext
  intro i hi
  rw [tw_bk f hi, tw_bk g hi]
  by_cases e : i < 16
  · rw [h i e]
  · rw [decide_eq_false e]
    rfl
theorem tw_or (f : Nat → Bool) {k : Nat} (hk : k < 16) : tw_mk f ||| ((1 : Int32) <<< (nI k &&& 31)) = tw_mk (tw_st f k true) := by
  apply b_ext
  intro i hi
  rw [b_or, tw_bk f hi, tw_bk _ hi, tw_b1 k (by omega) i hi]
  by_cases e : i = k
  · subst e
    rw [tw_sts, decide_eq_true (p := i = i) rfl, decide_eq_true hk, Bool.or_true]
    rfl
  · rw [tw_stn e, decide_eq_false e, Bool.or_false]
theorem tw_clr (f : Nat → Bool) {k : Nat} (hk : k < 16) : tw_mk f &&& (((1 : Int32) <<< (nI k &&& 31)) ^^^ (-1)) = tw_mk (tw_st f k false) := by
  apply b_ext
  intro i hi
  rw [b_and, b_xor, tw_bk f hi, tw_bk _ hi, tw_b1 k (by omega) i hi, b_m1 i hi]
  by_cases e : i = k
  · subst e
    rw [tw_sts, decide_eq_true (p := i = i) rfl, Bool.and_false]
    exact Bool.and_false _
  · rw [tw_stn e, decide_eq_false e]
    exact Bool.and_true _
theorem tw_get (f : Nat → Bool) {k : Nat} (hk : k < 16) : ((tw_mk f >>> (nI k &&& 31)) &&& 1) = 0 ↔ f k = false := by
  have h0 : bt ((tw_mk f >>> (nI k &&& 31)) &&& 1) 0 = f k := by
    rw [b_and, tw_b1' 0 (by decide), b_sshr k (by omega) _ (by decide), if_pos (by omega), tw_bk f (by omega), Nat.add_zero, decide_eq_true hk]
    cases f k <;> rfl
  constructor
  · intro h
    rw [← h0, h, b_0]
  · intro h
    apply b_ext
    intro i hi
    rw [b_0]
    by_cases e : i = 0
    · rw [e, h0, h]
    · rw [b_and, tw_b1' i hi, decide_eq_false e, Bool.and_false]
theorem tw_get_t (f : Nat → Bool) {k : Nat} (hk : k < 16) (h : f k = true) : ¬ ((tw_mk f >>> (nI k &&& 31)) &&& 1) = 0 := fun z => by
  rw [(tw_get f hk).mp z] at h
  exact absurd h (by decide)
theorem tw_zero (f : Nat → Bool) : tw_mk f = 0 ↔ ∀ i, i < 16 → f i = false := by
  constructor
  · intro h i hi
    have e := tw_bk f (i := i) (by omega)
    rw [h, b_0, decide_eq_true hi] at e
    exact e.symm
  · intro h
    apply b_ext
    intro i hi
    rw [tw_bk f hi, b_0]
    by_cases e : i < 16
    · rw [h i e, Bool.and_false]
    · rw [decide_eq_false e]
      rfl
/-! the wheels: timer j lies at its own cell, if it is active -/
def tw_wh (act : Nat → Bool) (cell : Nat → Nat) : Nat → Int32 := fun c => tw_mk (fun j => act j && (cell j == c))
theorem tw_wh_put {act : Nat → Bool} {cell : Nat → Nat} {k c : Nat} (hk : k < 16) (ha : act k = false) :
    upd (tw_wh act cell) c (tw_wh act cell c ||| ((1 : Int32) <<< (nI k &&& 31))) = tw_wh (tw_st act k true) (tw_st cell k c) := by
  funext z
  by_cases e : z = c
  · subst e
    rw [pk_us]
    show tw_mk _ ||| _ = tw_mk _
    rw [tw_or _ hk]
    apply tw_mk_congr
    intro j _
    by_cases ej : j = k
    · subst ej
      simp [tw_st]
    · simp [tw_st, ej]
  · rw [pk_un e]
    apply tw_mk_congr
    intro j _
    by_cases ej : j = k
    · subst ej
      simp [tw_st, ha, Ne.symm e]
    · simp [tw_st, ej]
theorem tw_wh_out {act : Nat → Bool} {cell : Nat → Nat} {k c : Nat} (hk : k < 16) (hc : cell k = c) :
    upd (tw_wh act cell) c (tw_wh act cell c &&& (((1 : Int32) <<< (nI k &&& 31)) ^^^ (-1))) = tw_wh (tw_st act k false) cell := by
  funext z
  by_cases e : z = c
  · subst e
    rw [pk_us]
    show tw_mk _ &&& _ = tw_mk _
    rw [tw_clr _ hk]
    apply tw_mk_congr
    intro j _
    by_cases ej : j = k
    · subst ej
      simp [tw_st]
    · simp [tw_st, ej]
  · rw [pk_un e]
    apply tw_mk_congr
    intro j _
    by_cases ej : j = k
    · subst ej
      simp [tw_st, hc, Ne.symm e]
    · simp [tw_st, ej]
theorem tw_wh_clr {act : Nat → Bool} {cell : Nat → Nat} {c : Nat} :
    upd (tw_wh act cell) c 0 = tw_wh (fun j => act j && !(act j && (cell j == c))) cell := by
  funext z
  by_cases e : z = c
  · subst e
    rw [pk_us]
    refine ((tw_zero _).mpr ?_).symm
    intro j _
    show ((act j && !(act j && (cell j == z))) && (cell j == z)) = false
    cases act j <;> cases (cell j == z) <;> rfl
  · rw [pk_un e]
    apply tw_mk_congr
    intro j _
    show (act j && (cell j == z)) = ((act j && !(act j && (cell j == c))) && (cell j == z))
    by_cases ez : cell j = z
    · have ec : (cell j == c) = false := by
        rw [ez]
        exact beq_eq_false_iff_ne.mpr e
      rw [ec]
      cases act j <;> rfl
    · have ec : (cell j == z) = false := beq_eq_false_iff_ne.mpr ez
      rw [ec, Bool.and_false, Bool.and_false]
/-! a pass over the sixteen: what has been passed is changed where S holds -/
def tw_up {α : Type} (S : Nat → Bool) (f g : Nat → α) (k : Nat) : Nat → α := fun j => if S j = true ∧ j < k then f j else g j
theorem tw_up_0 {α : Type} {S : Nat → Bool} {f g : Nat → α} : tw_up S f g 0 = g := by
  funext j
  exact if_neg (by omega)
theorem tw_up_at {α : Type} {S : Nat → Bool} {f g : Nat → α} {k j : Nat} (h : k ≤ j) : tw_up S f g k j = g j := if_neg (by omega)
theorem tw_up_t {α : Type} {S : Nat → Bool} {f g : Nat → α} {k : Nat} (h : S k = true) : tw_st (tw_up S f g k) k (f k) = tw_up S f g (k + 1) := by
  apply tw_st_eq
  · exact if_pos ⟨h, by omega⟩
  · intro j hj
    by_cases e : S j = true ∧ j < k
    · exact (if_pos ⟨e.1, by omega⟩ : tw_up S f g (k + 1) j = f j).trans (if_pos e : tw_up S f g k j = f j).symm
    · exact (if_neg (fun z => e ⟨z.1, by omega⟩) : tw_up S f g (k + 1) j = g j).trans (if_neg e : tw_up S f g k j = g j).symm
theorem tw_up_f {α : Type} {S : Nat → Bool} {f g : Nat → α} {k : Nat} (h : S k = false) : tw_up S f g (k + 1) = tw_up S f g k := by
  funext j
  by_cases e : S j = true ∧ j < k
  · exact (if_pos ⟨e.1, by omega⟩ : tw_up S f g (k + 1) j = f j).trans (if_pos e : tw_up S f g k j = f j).symm
  · refine (if_neg (fun z => e ⟨z.1, ?_⟩) : tw_up S f g (k + 1) j = g j).trans (if_neg e : tw_up S f g k j = g j).symm
    have z2 := z.2
    have z3 : j ≠ k := fun y => by
      rw [y, h] at z
      exact absurd z.1 (by decide)
    omega
theorem tw_up_T {α : Type} {S : Nat → Bool} {f g : Nat → α} {j : Nat} (hs : ∀ i, S i = true → i < 16) (h : S j = true) : tw_up S f g 16 j = f j := if_pos ⟨h, hs j h⟩
theorem tw_up_F {α : Type} {S : Nat → Bool} {f g : Nat → α} {k j : Nat} (h : S j = false) : tw_up S f g k j = g j := if_neg (fun z => by rw [h] at z; exact absurd z.1 (by decide))
/-! how many -/
def tw_cnt (S : Nat → Bool) : Nat → Nat
  | 0 => 0
  | n + 1 => if S n = true then tw_cnt S n + 1 else tw_cnt S n
theorem tw_cnt_t {S : Nat → Bool} {k : Nat} (h : S k = true) : tw_cnt S (k + 1) = tw_cnt S k + 1 := if_pos h
theorem tw_cnt_f {S : Nat → Bool} {k : Nat} (h : S k = false) : tw_cnt S (k + 1) = tw_cnt S k := if_neg (by rw [h]; decide)
theorem tw_cnt_le (S : Nat → Bool) : ∀ n, tw_cnt S n ≤ n := by
  intro n
  induction n with
  | zero => exact Nat.le_refl 0
  | succ n ih =>
    cases h : S n
    · rw [tw_cnt_f h]; omega
    · rw [tw_cnt_t h]; omega
theorem tw_cnt_0 (S : Nat → Bool) : ∀ n, tw_cnt S n = 0 ↔ ∀ j, j < n → S j = false := by
  intro n
  induction n with
  | zero => exact ⟨fun _ j hj => absurd hj (by omega), fun _ => rfl⟩
  | succ n ih =>
    cases h : S n
    · rw [tw_cnt_f h, ih]
      constructor
      · intro a j hj
        by_cases e : j = n
        · rw [e, h]
        · exact a j (by omega)
      · exact fun a j hj => a j (by omega)
    · rw [tw_cnt_t h]
      constructor
      · intro a
        omega
      · intro a
        have := a n (by omega)
        rw [h] at this
        exact absurd this (by decide)
end
section
/-! pure rows: where a timer belongs, how it moves down in a tick; the rings that are kept -/
def tw_pl (t d : Nat) : Nat := if d < t + 8 then d % 8 else if d < t + 64 then 8 + d / 8 % 8 else 16 + d / 64 % 8
def tw_Cl (t d c : Nat) : Prop := (c = d % 8 ∧ d < t + 8) ∨ (c = 8 + d / 8 % 8 ∧ t / 8 < d / 8 ∧ d / 8 ≤ t / 8 + 8) ∨ (c = 16 + d / 64 % 8 ∧ t / 64 < d / 64 ∧ d / 64 ≤ t / 64 + 8)
theorem tw_pl_0 {t d : Nat} (h : d < t + 8) : tw_pl t d = d % 8 := if_pos h
theorem tw_pl_1 {t d : Nat} (h : ¬ d < t + 8) (h2 : d < t + 64) : tw_pl t d = 8 + d / 8 % 8 := (if_neg h).trans (if_pos h2)
theorem tw_pl_2 {t d : Nat} (h : ¬ d < t + 64) : tw_pl t d = 16 + d / 64 % 8 := (if_neg (by omega)).trans (if_neg h)
theorem tw_Cl_lt {t d c : Nat} (h : tw_Cl t d c) : c < 24 := by
  unfold tw_Cl at h
  omega
theorem tw_Cl_pl {t d : Nat} (h : d ≤ t + 500) : tw_Cl t d (tw_pl t d) := by
  by_cases h8 : d < t + 8
  · exact Or.inl ⟨tw_pl_0 h8, h8⟩
  · by_cases h64 : d < t + 64
    · exact Or.inr (Or.inl ⟨tw_pl_1 h8 h64, by omega, by omega⟩)
    · exact Or.inr (Or.inr ⟨tw_pl_2 h64, by omega, by omega⟩)
/-- after the move from the wheel of sixty-fours -/
def tw_c1 (t d c : Nat) : Nat := if t % 64 = 0 ∧ c = 16 + t / 64 % 8 then tw_pl t d else c
/-- after the move from the wheel of eights -/
def tw_c2 (t d c : Nat) : Nat := if t % 8 = 0 ∧ c = 8 + t / 8 % 8 then tw_pl t d else c
/-- between the two moves: at the wheel of sixty-fours no timer's place is the current one -/
def tw_Cm (t d c : Nat) : Prop := (c = d % 8 ∧ d < t + 8) ∨ (c = 8 + d / 8 % 8 ∧ (t - 1) / 8 < d / 8 ∧ d / 8 ≤ (t - 1) / 8 + 8) ∨ (c = 16 + d / 64 % 8 ∧ t / 64 < d / 64 ∧ d / 64 ≤ t / 64 + 8)
theorem tw_c1_ok {t d c : Nat} (ht : t < d) (h : tw_Cl t d c) : tw_Cm (t + 1) d (tw_c1 (t + 1) d c) := by
  unfold tw_c1
  by_cases e : (t + 1) % 64 = 0 ∧ c = 16 + (t + 1) / 64 % 8
  · rw [if_pos e]
    have hd : d / 64 = (t + 1) / 64 := by
      rcases h with ⟨h1, _⟩ | ⟨h1, _⟩ | ⟨h1, h2, h3⟩ <;> omega
    by_cases h8 : d < t + 1 + 8
    · exact Or.inl ⟨tw_pl_0 h8, h8⟩
    · exact Or.inr (Or.inl ⟨tw_pl_1 h8 (by omega), by omega, by omega⟩)
  · rw [if_neg e]
    rcases h with ⟨h1, h2⟩ | ⟨h1, h2, h3⟩ | ⟨h1, h2, h3⟩
    · exact Or.inl ⟨h1, by omega⟩
    · exact Or.inr (Or.inl ⟨h1, by omega, by omega⟩)
    · exact Or.inr (Or.inr ⟨h1, by omega, by omega⟩)
theorem tw_c2_ok {t d c : Nat} (ht : t < d) (h : tw_Cm (t + 1) d c) : tw_Cl (t + 1) d (tw_c2 (t + 1) d c) ∧ (tw_c2 (t + 1) d c = (t + 1) % 8 ↔ d = t + 1) := by
  unfold tw_c2
  by_cases e : (t + 1) % 8 = 0 ∧ c = 8 + (t + 1) / 8 % 8
  · rw [if_pos e]
    have hd : d / 8 = (t + 1) / 8 := by
      rcases h with ⟨h1, _⟩ | ⟨h1, h2, h3⟩ | ⟨h1, _⟩ <;> omega
    have h8 : d < t + 1 + 8 := by omega
    rw [tw_pl_0 h8]
    exact ⟨Or.inl ⟨rfl, h8⟩, by omega⟩
  · rw [if_neg e]
    rcases h with ⟨h1, h2⟩ | ⟨h1, h2, h3⟩ | ⟨h1, h2, h3⟩
    · exact ⟨Or.inl ⟨h1, by omega⟩, by omega⟩
    · exact ⟨Or.inr (Or.inl ⟨h1, by omega, by omega⟩), by omega⟩
    · exact ⟨Or.inr (Or.inr ⟨h1, h2, h3⟩), by omega⟩
/-! the rings kept: the component's ring buffer, the reference's shifted row -/
def tw_rw (S : Nat → Bool) (q : Nat) (x : Nat → Int32) (a : Nat → Int32) : Nat → Nat → Int32
  | 0 => a
  | k + 1 => if S k = true then upd (tw_rw S q x a k) ((q + tw_cnt S k) % 20) (x k) else tw_rw S q x a k
theorem tw_rw_t {S : Nat → Bool} {q k : Nat} {x a : Nat → Int32} (h : S k = true) : tw_rw S q x a (k + 1) = upd (tw_rw S q x a k) ((q + tw_cnt S k) % 20) (x k) := if_pos h
theorem tw_rw_f {S : Nat → Bool} {q k : Nat} {x a : Nat → Int32} (h : S k = false) : tw_rw S q x a (k + 1) = tw_rw S q x a k := if_neg (by rw [h]; decide)
def tw_shf (b : Nat → Int32) (x : Int32) : Nat → Int32 := fun i => if i = 0 then x else if i < 20 then b (i - 1) else b i
def tw_ro (S : Nat → Bool) (x : Nat → Int32) (b : Nat → Int32) : Nat → Nat → Int32
  | 0 => b
  | k + 1 => if S k = true then tw_shf (tw_ro S x b k) (x k) else tw_ro S x b k
theorem tw_ro_t {S : Nat → Bool} {k : Nat} {x b : Nat → Int32} (h : S k = true) : tw_ro S x b (k + 1) = tw_shf (tw_ro S x b k) (x k) := if_pos h
theorem tw_ro_f {S : Nat → Bool} {k : Nat} {x b : Nat → Int32} (h : S k = false) : tw_ro S x b (k + 1) = tw_ro S x b k := if_neg (by rw [h]; decide)
def tw_H (q : Nat) (a b : Nat → Int32) : Prop := ∀ i, i < 20 → i < q → a ((q - 1 - i) % 20) = b i
theorem tw_H_put {q : Nat} {a b : Nat → Int32} (h : tw_H q a b) (x : Int32) : tw_H (q + 1) (upd a (q % 20) x) (tw_shf b x) := by
  intro i hi hq
  by_cases e : i = 0
  · subst e
    rw [show q + 1 - 1 - 0 = q from by omega, pk_us]
    exact (if_pos rfl).symm
  · rw [pk_un (by omega), show q + 1 - 1 - i = q - 1 - (i - 1) from by omega, h (i - 1) (by omega) (by omega)]
    exact ((if_neg e).trans (if_pos hi)).symm
theorem tw_H_all {q : Nat} {a b : Nat → Int32} (S : Nat → Bool) (x : Nat → Int32) (h : tw_H q a b) : ∀ k, tw_H (q + tw_cnt S k) (tw_rw S q x a k) (tw_ro S x b k) := by
  intro k
  induction k with
  | zero => exact h
  | succ k ih =>
    cases e : S k
    · rw [tw_cnt_f e, tw_rw_f e, tw_ro_f e]
      exact ih
    · rw [tw_cnt_t e, tw_rw_t e, tw_ro_t e]
      exact tw_H_put ih (x k)
/-! the reference's shift, half way: what lies above i has moved -/
def tw_sk (b : Nat → Int32) (i : Nat) : Nat → Int32 := fun j => if i < j ∧ j < 20 then b (j - 1) else b j
theorem tw_sk_19 (b : Nat → Int32) : tw_sk b 19 = b := by
  funext j
  exact if_neg (by omega)
theorem tw_sk_at (b : Nat → Int32) (n : Nat) : tw_sk b (n + 1) n = b n := if_neg (by omega)
theorem tw_sk_s {b : Nat → Int32} {n : Nat} (hn : n < 19) : upd (tw_sk b (n + 1)) (n + 1) (tw_sk b (n + 1) n) = tw_sk b n := by
  funext j
  rw [tw_sk_at]
  by_cases e : j = n + 1
  · subst e
    rw [pk_us]
    exact (if_pos (by omega) : tw_sk b n (n + 1) = b (n + 1 - 1)).symm
  · rw [pk_un e]
    by_cases h : n < j ∧ j < 20
    · exact (if_pos (by omega) : tw_sk b (n + 1) j = b (j - 1)).trans (if_pos h : tw_sk b n j = b (j - 1)).symm
    · exact (if_neg (by omega) : tw_sk b (n + 1) j = b j).trans (if_neg h : tw_sk b n j = b j).symm
theorem tw_sk_e {b : Nat → Int32} {x : Int32} : upd (tw_sk b 0) 0 x = tw_shf b x := by
  funext j
  by_cases e : j = 0
  · subst e
    rw [pk_us]
    exact (if_pos rfl).symm
  · rw [pk_un e]
    by_cases h : j < 20
    · exact (if_pos (by omega) : tw_sk b 0 j = b (j - 1)).trans ((if_neg e).trans (if_pos h) : tw_shf b x j = b (j - 1)).symm
    · exact (if_neg (by omega) : tw_sk b 0 j = b j).trans ((if_neg e).trans (if_neg h) : tw_shf b x j = b j).symm
theorem tw_byte : ∀ c, c < 24 → vp_nar .byte (nI c).toInt8.toInt32 = nI c := by
  have h : ∀ c, c < 24 → (nI c).toInt8.toInt32 = nI c := by decide +kernel
  intro c hc
  rw [pk_vb, h c hc]
theorem tw_short : ∀ c, c < 501 → vp_nar .short (nI c).toInt16.toInt32 = nI c := by
  have h : ∀ c, c < 501 → (nI c).toInt16.toInt32 = nI c := by decide +kernel
  intro c hc
  rw [pk_vs, h c hc]
end
section
/-! the component's walks: a state is tw_X of plain things -/
abbrev tw_X (t : Nat) (on : Nat → Bool) (q : Nat) (d p : Nat → Nat) (act : Nat → Bool) (cell : Nat → Nat) (row rat : Nat → Int32) : SX :=
  (nI t, tw_mk on, nI q, tw_fn d, tw_fn p, tw_wh act cell, tw_fn cell, row, rat)
section
variable {t q k c : Nat} {on act : Nat → Bool} {d p cell : Nat → Nat} {row rat : Nat → Int32}
theorem tw_isSet_n {post : Int32 → Prop} {v : Int32} (hv : v < 0 ∨ nI 16 ≤ v) (h : post 0) : wpX_isSet post (tw_X t on q d p act cell row rat) v := by
  by_cases h0 : v < 0
  · exact br_t h0 h
  · exact br_f h0 (br_t (hv.resolve_left h0) h)
theorem tw_isSet_f {post : Int32 → Prop} (hk : k < 16) (ho : on k = false) (h : post 0) : wpX_isSet post (tw_X t on q d p act cell row rat) (nI k) :=
  br_f (nI_pos (by omega)) (br_f (nI_ge (b := 16) hk (by decide)) (br_t ((tw_get on hk).mpr ho) h))
theorem tw_isSet_t {post : Int32 → Prop} (hk : k < 16) (ho : on k = true) (h : post 1) : wpX_isSet post (tw_X t on q d p act cell row rat) (nI k) :=
  br_f (nI_pos (by omega)) (br_f (nI_ge (b := 16) hk (by decide)) (br_f (tw_get_t on hk ho) h))
theorem tw_p68 {post : SX → Prop} (hk : k < 16) (hc : c < 24) (ha : act k = false)
    (h : post (tw_X t on q d p (tw_st act k true) (tw_st cell k c) row rat)) :
    wX_place_68 post (nI k) (nI c) (nI t) (tw_mk on) (nI q) (tw_fn d) (tw_fn p) (tw_wh act cell) (tw_fn cell) row rat := by
  have hi : vp_in (nI k) 16 := vp_in_nI hk (by decide)
  have hj : vp_in (nI c) 24 := vp_in_nI hc (by decide)
  refine And.intro hj (And.intro hj (nm_r (e' := tw_wh (tw_st act k true) (tw_st cell k c)) ?_ (And.intro hi (nm_r (e' := tw_fn (tw_st cell k c)) ?_ h))))
  · rw [nI_clamp (by omega)]
    exact tw_wh_put hk ha
  · rw [nI_clamp (by omega)]
    exact tw_fn_upd (tw_byte c hc)
theorem tw_place {post : SX → Prop} (hk : k < 16) (ha : act k = false) (h1 : t ≤ d k) (h2 : d k < 2 ^ 30)
    (h : post (tw_X t on q d p (tw_st act k true) (tw_st cell k (tw_pl t (d k))) row rat)) :
    wpX_place post (tw_X t on q d p act cell row rat) (nI k) := by
  have hi : vp_in (nI k) 16 := vp_in_nI hk (by decide)
  have e0 : tw_fn d (nI k).toNatClampNeg = nI (d k) := tw_fn_at d (by omega)
  refine And.intro hi (nm_r (e' := nI (d k - t)) (by rw [e0, pk_sub h1]) (And.intro hi (nm_r (e' := nI (d k % 8)) ?_ ?_)))
  · rw [e0]
    exact pk_andN (by omega) 3 (by decide)
  refine pk_lt (d k - t) 64 (fun a => pk_lt (d k - t) 8 (fun b => ?_) (fun b => And.intro hi (nm_r (e' := nI (8 + d k / 8 % 8)) ?_ ?_))) (fun a => And.intro hi (nm_r (e' := nI (16 + d k / 64 % 8)) ?_ ?_))
  · rw [tw_pl_0 (by omega)] at h
    exact tw_p68 hk (by omega) ha h
  · rw [e0, pk_shrN (by omega) _ 3 (by decide), pk_andN (by omega) 3 (by decide), ← nI_add]
    rfl
  · rw [tw_pl_1 (by omega) (by omega)] at h
    exact tw_p68 hk (by omega) ha h
  · rw [e0, pk_shrN (by omega) _ 6 (by decide), pk_andN (by omega) 3 (by decide), ← nI_add]
    rfl
  · rw [tw_pl_2 (by omega)] at h
    exact tw_p68 hk (by omega) ha h
theorem tw_unplace {post : SX → Prop} (hk : k < 16) (hc : cell k < 24)
    (h : post (tw_X t on q d p (tw_st act k false) cell row rat)) :
    wpX_unplace post (tw_X t on q d p act cell row rat) (nI k) := by
  have hi : vp_in (nI k) 16 := vp_in_nI hk (by decide)
  have hj : vp_in (nI (cell k)) 24 := vp_in_nI hc (by decide)
  refine And.intro hi (nm_r (e' := nI (cell k)) (tw_fn_at cell (by omega)) (And.intro hj (And.intro hj (nm_r (e' := tw_wh (tw_st act k false) cell) ?_ h))))
  rw [nI_clamp (by omega)]
  exact tw_wh_out hk rfl
/-- the loop of moveDown: S are the timers that lay at the place -/
theorem tw_md_l {post : SX → Prop} {S : Nat → Bool} (hS : ∀ j, S j = true → j < 16 ∧ t ≤ d j ∧ d j < 2 ^ 30)
    (h : post (tw_X t on q d p (tw_up S (fun _ => true) (fun j => act j && !S j) 16) (tw_up S (fun j => tw_pl t (d j)) cell 16) row rat)) :
    ∀ m k, k + m = 16 → wX_moveDown_16 post (tw_mk S) (m + 1) (nI k) (nI t) (tw_mk on) (nI q) (tw_fn d) (tw_fn p)
      (tw_wh (tw_up S (fun _ => true) (fun j => act j && !S j) k) (tw_up S (fun j => tw_pl t (d j)) cell k)) (tw_fn (tw_up S (fun j => tw_pl t (d j)) cell k)) row rat := by
  intro m
  induction m with
  | zero =>
    intro k hk
    cases (show k = 16 from hk)
    exact br_t (nI_le (a := 16) (b := 16) (by decide) (by decide)) h
  | succ m ih =>
    intro k hk
    have hk' : k < 16 := by omega
    have hi := ih (k + 1) (by omega)
    refine br_f (nI_ge (b := 16) hk' (by decide)) ?_
    cases e : S k
    · rw [tw_up_f e, tw_up_f e] at hi
      exact br_t ((tw_get S hk').mpr e) (nm_r (nI_1 k) hi)
    · rw [← tw_up_t e, ← tw_up_t e] at hi
      refine br_f (tw_get_t S hk' e) (tw_place hk' ?_ (hS k e).2.1 (hS k e).2.2 ?_)
      · rw [tw_up_at (Nat.le_refl k), e]
        exact Bool.and_false _
      · exact nm_r (nI_1 k) hi
theorem tw_md {post : SX → Prop} (hc : c < 24) (hS : ∀ j, act j = true → j < 16 ∧ t ≤ d j ∧ d j < 2 ^ 30)
    (h : post (tw_X t on q d p act (fun j => if act j = true ∧ cell j = c then tw_pl t (d j) else cell j) row rat)) :
    wpX_moveDown post (tw_X t on q d p act cell row rat) (nI c) := by
  have hj : vp_in (nI c) 24 := vp_in_nI hc (by decide)
  have hm : ∀ j, (act j && (cell j == c)) = true ↔ act j = true ∧ cell j = c := fun j => by
    rw [Bool.and_eq_true, beq_iff_eq]
  refine And.intro hj (nm_r (e' := tw_mk (fun j => act j && (cell j == c))) ?_ (And.intro hj (nm_r (e' := tw_wh (fun j => act j && !(act j && (cell j == c))) cell) ?_ (Exists.intro 17 ?_))))
  · rw [nI_clamp (by omega)]
    rfl
  · rw [nI_clamp (by omega)]
    exact tw_wh_clr
  · have e1 : tw_up (fun j => act j && (cell j == c)) (fun _ => true) (fun j => act j && !(act j && (cell j == c))) 16 = act := by
      funext j
      by_cases e : (act j && (cell j == c)) = true
      · exact (tw_up_T (fun i z => (hS i ((hm i).mp z).1).1) e).trans ((hm j).mp e).1.symm
      · refine (tw_up_F (Bool.eq_false_iff.mpr e)).trans ?_
        show (act j && !(act j && (cell j == c))) = act j
        rw [Bool.eq_false_iff.mpr e]
        exact Bool.and_true _
    have e2 : tw_up (fun j => act j && (cell j == c)) (fun j => tw_pl t (d j)) cell 16 = (fun j => if act j = true ∧ cell j = c then tw_pl t (d j) else cell j) := by
      funext j
      by_cases e : (act j && (cell j == c)) = true
      · exact (tw_up_T (fun i z => (hS i ((hm i).mp z).1).1) e).trans (if_pos ((hm j).mp e)).symm
      · exact (tw_up_F (Bool.eq_false_iff.mpr e)).trans (if_neg (fun z => e ((hm j).mpr z))).symm
    have H := tw_md_l (post := post) (act := act) (cell := cell) (on := on) (q := q) (p := p) (row := row) (rat := rat) (S := fun j => act j && (cell j == c)) (fun j z => hS j ((hm j).mp z).1) (by rw [e1, e2]; exact h) 16 0 rfl
    rw [tw_up_0, tw_up_0] at H
    exact H
/-- a ring: timer k lies on no wheel, and its time is now -/
theorem tw_ringX {post : SX → Prop} {v : Nat} (hk : k < 16) (ha : act k = false) (hd : d k = t) (hv : cell k = v) (hp : p k ≤ 500) (ht : t < 2 ^ 29) (hq : q < 2 ^ 30)
    (h : post (tw_X t (tw_st on k (decide (0 < p k))) (q + 1) (tw_st d k (t + p k)) p (tw_st act k (decide (0 < p k))) (tw_st cell k (if 0 < p k then tw_pl t (t + p k) else v)) (upd row (q % 20) (nI k)) (upd rat (q % 20) (nI t)))) :
    wpX_ring post (tw_X t on q d p act cell row rat) (nI k) := by
  have hi : vp_in (nI k) 16 := vp_in_nI hk (by decide)
  have hr : vp_in (nI (q % 20)) 20 := vp_in_nI (Nat.mod_lt _ (by decide)) (by decide)
  have e0 : tw_fn p (nI k).toNatClampNeg = nI (p k) := tw_fn_at p (by omega)
  refine And.intro (by decide) (nm_r (e' := nI (q % 20)) (pk_rem (by omega) (by decide) (by decide)) (And.intro hr (nm_r (e' := upd row (q % 20) (nI k)) ?_ (And.intro hr (nm_r (e' := upd rat (q % 20) (nI t)) ?_ (nm_r (e' := nI (q + 1)) (nI_1 q) (nm_r (e' := tw_mk (tw_st on k false)) (tw_clr on hk) (And.intro hi ?_))))))))
  · rw [nI_clamp (by omega), tw_byte k (by omega)]
  · rw [nI_clamp (by omega)]
  · refine pk_le (p k) 0 (fun z => ?_) (fun z => ?_) e0 nI_0.symm
    · have z0 : p k = 0 := by omega
      rw [z0, decide_eq_false (Nat.lt_irrefl 0), if_neg (Nat.lt_irrefl 0), tw_st_same (f := act) ha, tw_st_same (f := cell) hv, Nat.add_zero t, tw_st_same (f := d) hd] at h
      exact h
    · rw [decide_eq_true z, if_pos z] at h
      refine nm_r (e' := tw_mk (tw_st on k true)) (by rw [tw_or _ hk, tw_st_st]) (And.intro hi (And.intro hi (nm_r (e' := tw_fn (tw_st d k (t + p k))) ?_ (tw_place hk ha ?_ ?_ ?_))))
      · rw [nI_clamp (by omega)]
        exact tw_fn_upd (by rw [show tw_fn p k = nI (p k) from rfl, nI_add])
      · rw [tw_sts]
        omega
      · rw [tw_sts]
        omega
      · rw [tw_sts]
        exact h
/-- the loop of a tick: S are the timers whose time it is -/
theorem tw_t90 {post : Int32 → SX → Prop} {S : Nat → Bool} (hS : ∀ j, S j = true → d j = t) (hp : ∀ j, p j ≤ 500) (ht : t < 2 ^ 29) (hq : q < 2 ^ 29)
    (h : post (nI (tw_cnt S 16)) (tw_X t (tw_up S (fun j => decide (0 < p j)) on 16) (q + tw_cnt S 16) (tw_up S (fun j => t + p j) d 16) p (tw_up S (fun j => decide (0 < p j)) (fun j => on j && !S j) 16) (tw_up S (fun j => if 0 < p j then tw_pl t (t + p j) else cell j) cell 16) (tw_rw S q nI row 16) (tw_rw S q (fun _ => nI t) rat 16))) :
    ∀ m k, k + m = 16 → wX_tick_90 post (tw_mk S) (m + 1) (nI (tw_cnt S k)) (nI k) (nI t) (tw_mk (tw_up S (fun j => decide (0 < p j)) on k)) (nI (q + tw_cnt S k)) (tw_fn (tw_up S (fun j => t + p j) d k)) (tw_fn p)
      (tw_wh (tw_up S (fun j => decide (0 < p j)) (fun j => on j && !S j) k) (tw_up S (fun j => if 0 < p j then tw_pl t (t + p j) else cell j) cell k)) (tw_fn (tw_up S (fun j => if 0 < p j then tw_pl t (t + p j) else cell j) cell k)) (tw_rw S q nI row k) (tw_rw S q (fun _ => nI t) rat k) := by
  intro m
  induction m with
  | zero =>
    intro k hk
    cases (show k = 16 from hk)
    exact br_t (nI_le (a := 16) (b := 16) (by decide) (by decide)) h
  | succ m ih =>
    intro k hk
    have hk' : k < 16 := by omega
    have hi := ih (k + 1) (by omega)
    have hn := tw_cnt_le S k
    refine br_f (nI_ge (b := 16) hk' (by decide)) ?_
    cases e : S k
    · rw [tw_cnt_f e, tw_up_f e, tw_up_f e, tw_up_f e, tw_up_f e, tw_rw_f e, tw_rw_f e] at hi
      exact br_t ((tw_get S hk').mpr e) (nm_r (nI_1 k) hi)
    · rw [tw_cnt_t e, ← tw_up_t e, ← tw_up_t e, ← tw_up_t e, ← tw_up_t e, tw_rw_t e, tw_rw_t e] at hi
      refine br_f (tw_get_t S hk' e) (tw_ringX (v := cell k) hk' ?_ ?_ ?_ (hp k) ht (by omega) ?_)
      · rw [tw_up_at (Nat.le_refl k), e]
        exact Bool.and_false _
      · rw [tw_up_at (Nat.le_refl k), hS k e]
      · exact tw_up_at (Nat.le_refl k)
      · exact nm_r (nI_1 _) (nm_r (nI_1 k) hi)
end
end
section
/-! the component's tick -/
def tw_S (t : Nat) (on : Nat → Bool) (d : Nat → Nat) : Nat → Bool := fun j => on j && decide (d j = t)
theorem tw_S_t {t : Nat} {on : Nat → Bool} {d : Nat → Nat} {j : Nat} : tw_S t on d j = true ↔ on j = true ∧ d j = t := by
  unfold tw_S
  rw [Bool.and_eq_true, decide_eq_true_iff]
theorem tw_S_f {t : Nat} {on : Nat → Bool} {d : Nat → Nat} {j : Nat} (h : on j = true → d j ≠ t) : tw_S t on d j = false :=
  Bool.eq_false_iff.mpr (fun z => h (tw_S_t.mp z).1 (tw_S_t.mp z).2)
theorem tw_S_eq {t : Nat} {on : Nat → Bool} {d cell : Nat → Nat} (hS : ∀ j, on j = true → (cell j = t % 8 ↔ d j = t)) : (fun j => on j && (cell j == t % 8)) = tw_S t on d := by
  funext j
  show (on j && (cell j == t % 8)) = tw_S t on d j
  by_cases e : on j = true ∧ d j = t
  · rw [tw_S_t.mpr e, Bool.and_eq_true, beq_iff_eq]
    exact ⟨e.1, (hS j e.1).mpr e.2⟩
  · rw [tw_S_f (fun a b => e ⟨a, b⟩), Bool.eq_false_iff]
    intro z
    rw [Bool.and_eq_true, beq_iff_eq] at z
    exact e ⟨z.1, (hS j z.1).mp z.2⟩
def tw_k1 (t : Nat) (on : Nat → Bool) (d cell : Nat → Nat) : Nat → Nat := fun j => if on j = true then tw_c1 t (d j) (cell j) else cell j
def tw_k2 (t : Nat) (on : Nat → Bool) (d cell : Nat → Nat) : Nat → Nat := fun j => if on j = true then tw_c2 t (d j) (cell j) else cell j
theorem tw_k1_on {t : Nat} {on : Nat → Bool} {d cell : Nat → Nat} {j : Nat} (h : on j = true) : tw_k1 t on d cell j = tw_c1 t (d j) (cell j) := if_pos h
theorem tw_k2_on {t : Nat} {on : Nat → Bool} {d cell : Nat → Nat} {j : Nat} (h : on j = true) : tw_k2 t on d cell j = tw_c2 t (d j) (cell j) := if_pos h
theorem tw_k1_y {t : Nat} {on : Nat → Bool} {d cell : Nat → Nat} (h : t % 64 = 0) : (fun j => if on j = true ∧ cell j = 16 + t / 64 % 8 then tw_pl t (d j) else cell j) = tw_k1 t on d cell := by
  funext j
  unfold tw_k1 tw_c1
  by_cases e : on j = true
  · by_cases f : cell j = 16 + t / 64 % 8
    · rw [if_pos ⟨e, f⟩, if_pos e, if_pos ⟨h, f⟩]
    · rw [if_neg (fun z => f z.2), if_pos e, if_neg (fun z => f z.2)]
  · rw [if_neg (fun z => e z.1), if_neg e]
theorem tw_k1_n {t : Nat} {on : Nat → Bool} {d cell : Nat → Nat} (h : t % 64 ≠ 0) : tw_k1 t on d cell = cell := by
  funext j
  unfold tw_k1 tw_c1
  by_cases e : on j = true
  · rw [if_pos e, if_neg (fun z => h z.1)]
  · rw [if_neg e]
theorem tw_k2_y {t : Nat} {on : Nat → Bool} {d cell : Nat → Nat} (h : t % 8 = 0) : (fun j => if on j = true ∧ cell j = 8 + t / 8 % 8 then tw_pl t (d j) else cell j) = tw_k2 t on d cell := by
  funext j
  unfold tw_k2 tw_c2
  by_cases e : on j = true
  · by_cases f : cell j = 8 + t / 8 % 8
    · rw [if_pos ⟨e, f⟩, if_pos e, if_pos ⟨h, f⟩]
    · rw [if_neg (fun z => f z.2), if_pos e, if_neg (fun z => f z.2)]
  · rw [if_neg (fun z => e z.1), if_neg e]
theorem tw_k2_n {t : Nat} {on : Nat → Bool} {d cell : Nat → Nat} (h : t % 8 ≠ 0) : tw_k2 t on d cell = cell := by
  funext j
  unfold tw_k2 tw_c2
  by_cases e : on j = true
  · rw [if_pos e, if_neg (fun z => h z.1)]
  · rw [if_neg e]
section
variable {t q : Nat} {on : Nat → Bool} {d p cell : Nat → Nat} {row rat : Nat → Int32}
theorem tw_t63 {post : Int32 → SX → Prop} (hS : ∀ j, on j = true → j < 16 ∧ (cell j = t % 8 ↔ d j = t)) (hp : ∀ j, p j ≤ 500) (ht : t < 2 ^ 29) (hq : q < 2 ^ 29)
    (h : post (nI (tw_cnt (tw_S t on d) 16)) (tw_X t (tw_up (tw_S t on d) (fun j => decide (0 < p j)) on 16) (q + tw_cnt (tw_S t on d) 16) (tw_up (tw_S t on d) (fun j => t + p j) d 16) p (tw_up (tw_S t on d) (fun j => decide (0 < p j)) on 16) (tw_up (tw_S t on d) (fun j => if 0 < p j then tw_pl t (t + p j) else cell j) cell 16) (tw_rw (tw_S t on d) q nI row 16) (tw_rw (tw_S t on d) q (fun _ => nI t) rat 16))) :
    wX_tick_63 post (nI t) (tw_mk on) (nI q) (tw_fn d) (tw_fn p) (tw_wh on cell) (tw_fn cell) row rat := by
  have hj : vp_in (nI (t % 8)) 24 := vp_in_nI (by omega) (by decide)
  have eS : (fun j => on j && (cell j == t % 8)) = tw_S t on d := tw_S_eq (fun j z => (hS j z).2)
  have e1 : tw_up (tw_S t on d) (fun j => decide (0 < p j)) (fun j => on j && !tw_S t on d j) 16 = tw_up (tw_S t on d) (fun j => decide (0 < p j)) on 16 := by
    funext j
    cases e : tw_S t on d j
    · rw [tw_up_F e, tw_up_F e, e]
      exact Bool.and_true _
    · have hs : ∀ i, tw_S t on d i = true → i < 16 := fun i z => (hS i (tw_S_t.mp z).1).1
      rw [tw_up_T hs e, tw_up_T hs e]
  refine nm_r (e' := nI (t % 8)) (pk_andN (by omega) 3 (by decide)) (And.intro hj (nm_r (e' := tw_mk (tw_S t on d)) ?_ (And.intro hj (nm_r (e' := tw_wh (fun j => on j && !tw_S t on d j) cell) ?_ (Exists.intro 17 ?_)))))
  · rw [nI_clamp (by omega), ← eS]
    rfl
  · rw [nI_clamp (by omega), ← eS]
    exact tw_wh_clr
  · have H := tw_t90 (post := post) (on := on) (q := q) (cell := cell) (row := row) (rat := rat) (S := tw_S t on d) (fun j z => (tw_S_t.mp z).2) hp ht hq (by rw [e1]; exact h) 16 0 rfl
    rw [tw_up_0, tw_up_0, tw_up_0, tw_up_0] at H
    exact H
theorem tw_t37 {post : Int32 → SX → Prop} (hS : ∀ j, on j = true → j < 16 ∧ t ≤ d j ∧ d j < 2 ^ 30) (ht : t < 2 ^ 29)
    (h : wX_tick_63 post (nI t) (tw_mk on) (nI q) (tw_fn d) (tw_fn p) (tw_wh on (tw_k2 t on d cell)) (tw_fn (tw_k2 t on d cell)) row rat) :
    wX_tick_37 post (nI t) (tw_mk on) (nI q) (tw_fn d) (tw_fn p) (tw_wh on cell) (tw_fn cell) row rat := by
  have e7 : nI t &&& 7 = nI (t % 8) := pk_andN (by omega) 3 (by decide)
  have e8 : (8 : Int32) + ((nI t >>> ((3 : Int32) &&& 31)) &&& 7) = nI (8 + t / 8 % 8) := by
    rw [pk_shrN (by omega) _ 3 (by decide), pk_andN (by omega) 3 (by decide), ← nI_add]
    rfl
  refine pk_eq (t % 8) 0 (fun z => ?_) (fun z => ?_) e7 nI_0.symm
  · rw [e8]
    refine tw_md (by omega) hS ?_
    rw [tw_k2_y z]
    exact h
  · rw [tw_k2_n z] at h
    exact h
theorem tw_t0 {post : Int32 → SX → Prop} (hS : ∀ j, on j = true → j < 16 ∧ t + 1 ≤ d j ∧ d j < 2 ^ 30) (ht : t + 1 < 2 ^ 29)
    (h : wX_tick_37 post (nI (t + 1)) (tw_mk on) (nI q) (tw_fn d) (tw_fn p) (tw_wh on (tw_k1 (t + 1) on d cell)) (tw_fn (tw_k1 (t + 1) on d cell)) row rat) :
    wpX_tick post (tw_X t on q d p on cell row rat) := by
  have e7 : nI (t + 1) &&& 63 = nI ((t + 1) % 64) := pk_andN (by omega) 6 (by decide)
  have e8 : (16 : Int32) + ((nI (t + 1) >>> ((6 : Int32) &&& 31)) &&& 7) = nI (16 + (t + 1) / 64 % 8) := by
    rw [pk_shrN (by omega) _ 6 (by decide), pk_andN (by omega) 3 (by decide), ← nI_add]
    rfl
  refine nm_r (e' := nI (t + 1)) (nI_1 t) (pk_eq ((t + 1) % 64) 0 (fun z => ?_) (fun z => ?_) e7 nI_0.symm)
  · rw [e8]
    refine tw_md (by omega) hS ?_
    rw [tw_k1_y z]
    exact h
  · rw [tw_k1_n z] at h
    exact h
/-- the cells behind a tick's two moves -/
def tw_kk (t : Nat) (on : Nat → Bool) (d cell : Nat → Nat) : Nat → Nat := tw_k2 t on d (tw_k1 t on d cell)
theorem tw_kk_ok {j : Nat} (ho : on j = true) (h1 : t < d j) (h2 : tw_Cl t (d j) (cell j)) : tw_Cl (t + 1) (d j) (tw_kk (t + 1) on d cell j) ∧ (tw_kk (t + 1) on d cell j = (t + 1) % 8 ↔ d j = t + 1) := by
  unfold tw_kk
  rw [tw_k2_on ho, tw_k1_on ho]
  exact tw_c2_ok h1 (tw_c1_ok h1 h2)
theorem tw_tickX {post : Int32 → SX → Prop} (hI : ∀ j, on j = true → j < 16 ∧ t < d j ∧ d j ≤ t + 500 ∧ tw_Cl t (d j) (cell j)) (hp : ∀ j, p j ≤ 500) (ht : t < 2 ^ 24) (hq : q < 2 ^ 29)
    (h : post (nI (tw_cnt (tw_S (t + 1) on d) 16)) (tw_X (t + 1) (tw_up (tw_S (t + 1) on d) (fun j => decide (0 < p j)) on 16) (q + tw_cnt (tw_S (t + 1) on d) 16) (tw_up (tw_S (t + 1) on d) (fun j => t + 1 + p j) d 16) p (tw_up (tw_S (t + 1) on d) (fun j => decide (0 < p j)) on 16) (tw_up (tw_S (t + 1) on d) (fun j => if 0 < p j then tw_pl (t + 1) (t + 1 + p j) else tw_kk (t + 1) on d cell j) (tw_kk (t + 1) on d cell) 16) (tw_rw (tw_S (t + 1) on d) q nI row 16) (tw_rw (tw_S (t + 1) on d) q (fun _ => nI (t + 1)) rat 16))) :
    wpX_tick post (tw_X t on q d p on cell row rat) := by
  have hS : ∀ j, on j = true → j < 16 ∧ t + 1 ≤ d j ∧ d j < 2 ^ 30 := fun j z => by
    have := hI j z
    omega
  refine tw_t0 hS (by omega) (tw_t37 hS (by omega) (tw_t63 (fun j z => ⟨(hI j z).1, (tw_kk_ok z (hI j z).2.1 (hI j z).2.2.2).2⟩) hp (by omega) hq h))
end
end
section
/-! the reference's walks: a state is tw_Y of plain things -/
abbrev tw_Y (t q : Nat) (on : Nat → Bool) (d p : Nat → Nat) (who wen : Nat → Int32) : SY :=
  (nI t, nI q, tw_bn on, tw_fn d, tw_fn p, who, wen)
section
variable {t q k : Nat} {on : Nat → Bool} {d p : Nat → Nat} {who wen : Nat → Int32}
theorem tw_is_n {post : Int32 → Prop} {v : Int32} (hv : v < 0 ∨ nI 16 ≤ v) (h : post 0) : wpY_is post (tw_Y t q on d p who wen) v := by
  by_cases h0 : v < 0
  · exact br_t h0 h
  · have h1 : (15 : Int32) < v := by
      obtain ⟨j, hj, rfl⟩ := nI_of h0
      have := (nI_leI (a := 16) (b := j) (by decide) hj).mp (hv.resolve_left h0)
      exact nI_lt (a := 15) (b := j) (by omega) hj
    exact br_f h0 (br_t h1 h)
theorem tw_n15 (hk : k < 16) : ¬ (15 : Int32) < nI k := nI_nlt (a := 15) (b := k) (by omega) (by decide)
theorem tw_is_f {post : Int32 → Prop} (hk : k < 16) (ho : on k = false) (h : post 0) : wpY_is post (tw_Y t q on d p who wen) (nI k) :=
  br_f (nI_pos (by omega)) (br_f (tw_n15 hk) (And.intro (vp_in_nI hk (by decide)) (br_t (by rw [tw_bn_at on (by omega), tw_b_f ho]) h)))
theorem tw_is_t {post : Int32 → Prop} (hk : k < 16) (ho : on k = true) (h : post 1) : wpY_is post (tw_Y t q on d p who wen) (nI k) :=
  br_f (nI_pos (by omega)) (br_f (tw_n15 hk) (And.intro (vp_in_nI hk (by decide)) (br_f (by rw [tw_bn_at on (by omega)]; exact tw_b_t ho) h)))
theorem tw_r87 {post : SY → Prop} {b : Bool} (hk : k < 16)
    (h : post (tw_Y t q (tw_st on k b) (tw_st d k (d k + p k)) p who wen)) :
    wY_ring_87 post (nI k) (tw_b b) (nI k) (nI t) (nI q) (tw_bn on) (tw_fn d) (tw_fn p) who wen := by
  have hi : vp_in (nI k) 16 := vp_in_nI hk (by decide)
  refine And.intro hi (nm_r (e' := tw_bn (tw_st on k b)) ?_ (And.intro hi (And.intro hi (And.intro hi (nm_r (e' := tw_fn (tw_st d k (d k + p k))) ?_ h)))))
  · rw [nI_clamp (by omega)]
    exact tw_bn_upd (by cases b <;> rfl)
  · rw [nI_clamp (by omega)]
    exact tw_fn_upd (by rw [show tw_fn p k = nI (p k) from rfl, show tw_fn d k = nI (d k) from rfl, nI_add])
theorem tw_r3 {post : SY → Prop} (hk : k < 16) (hp : p k ≤ 500)
    (h : post (tw_Y t (q + 1) (tw_st on k (decide (0 < p k))) (tw_st d k (d k + p k)) p (tw_shf who (nI k)) (tw_shf wen (nI t)))) :
    ∀ n, n ≤ 19 → wY_ring_3 post (nI k) (nI t) (nI q) (n + 1) (nI n) (tw_bn on) (tw_fn d) (tw_fn p) (tw_sk who n) (tw_sk wen n) := by
  have hi : vp_in (nI k) 16 := vp_in_nI hk (by decide)
  have e0 : tw_fn p (nI k).toNatClampNeg = nI (p k) := tw_fn_at p (by omega)
  intro n
  induction n with
  | zero =>
    intro _
    refine br_t (nI_le (a := 0) (b := 0) (by decide) (by decide)) (nm_r (e' := tw_shf who (nI k)) tw_sk_e (nm_r (e' := tw_shf wen (nI t)) tw_sk_e (nm_r (e' := nI (q + 1)) (nI_1 q) (And.intro hi ?_))))
    refine pk_le (p k) 0 (fun z => ?_) (fun z => ?_) e0 nI_0.symm
    · rw [decide_eq_false (by omega)] at h
      exact tw_r87 (b := false) hk h
    · rw [decide_eq_true z] at h
      exact tw_r87 (b := true) hk h
  | succ n ih =>
    intro hn
    have h1 : vp_in (nI n) 20 := vp_in_nI (by omega) (by decide)
    have h2 : vp_in (nI (n + 1)) 20 := vp_in_nI (by omega) (by decide)
    refine br_f (nI_ge (a := 0) (b := n + 1) (by omega) (by omega)) ?_
    rw [nI_pred]
    refine And.intro h1 (And.intro h2 (nm_r (e' := tw_sk who n) ?_ (And.intro h1 (And.intro h2 (nm_r (e' := tw_sk wen n) ?_ (nm_r (pk_m1 n) (ih (by omega))))))))
    · rw [nI_clamp (by omega), nI_clamp (by omega)]
      exact tw_sk_s (by omega)
    · rw [nI_clamp (by omega), nI_clamp (by omega)]
      exact tw_sk_s (by omega)
theorem tw_ringY {post : SY → Prop} (hk : k < 16) (hp : p k ≤ 500)
    (h : post (tw_Y t (q + 1) (tw_st on k (decide (0 < p k))) (tw_st d k (d k + p k)) p (tw_shf who (nI k)) (tw_shf wen (nI t)))) :
    wpY_ring post (tw_Y t q on d p who wen) (nI k) := by
  have H := tw_r3 hk hp h 19 (by decide)
  rw [tw_sk_19, tw_sk_19] at H
  exact Exists.intro 20 H
theorem tw_t14 {post : Int32 → SY → Prop} (hd : ∀ j, on j = true → d j < 2 ^ 30) (hp : ∀ j, p j ≤ 500) (ht : t < 2 ^ 30)
    (h : post (nI (tw_cnt (tw_S t on d) 16)) (tw_Y t (q + tw_cnt (tw_S t on d) 16) (tw_up (tw_S t on d) (fun j => decide (0 < p j)) on 16) (tw_up (tw_S t on d) (fun j => t + p j) d 16) p (tw_ro (tw_S t on d) nI who 16) (tw_ro (tw_S t on d) (fun _ => nI t) wen 16))) :
    ∀ m k, k + m = 16 → wY_tick_14 post (m + 1) (nI (tw_cnt (tw_S t on d) k)) (nI k) (nI t) (nI (q + tw_cnt (tw_S t on d) k)) (tw_bn (tw_up (tw_S t on d) (fun j => decide (0 < p j)) on k)) (tw_fn (tw_up (tw_S t on d) (fun j => t + p j) d k)) (tw_fn p) (tw_ro (tw_S t on d) nI who k) (tw_ro (tw_S t on d) (fun _ => nI t) wen k) := by
  intro m
  induction m with
  | zero =>
    intro k hk
    cases (show k = 16 from hk)
    exact br_t (nI_le (a := 16) (b := 16) (by decide) (by decide)) h
  | succ m ih =>
    intro k hk
    have hk' : k < 16 := by omega
    have hv : vp_in (nI k) 16 := vp_in_nI hk' (by decide)
    have hi := ih (k + 1) (by omega)
    have eo : tw_bn (tw_up (tw_S t on d) (fun j => decide (0 < p j)) on k) (nI k).toNatClampNeg = tw_b (on k) := by rw [tw_bn_at _ (by omega), tw_up_at (Nat.le_refl k)]
    have ed : tw_fn (tw_up (tw_S t on d) (fun j => t + p j) d k) (nI k).toNatClampNeg = nI (d k) := by rw [tw_fn_at _ (by omega), tw_up_at (Nat.le_refl k)]
    refine br_f (nI_ge (b := 16) hk' (by decide)) (And.intro hv ?_)
    cases e : on k
    · have eS : tw_S t on d k = false := tw_S_f (fun z => by rw [e] at z; exact absurd z (by decide))
      rw [tw_cnt_f eS, tw_up_f eS, tw_up_f eS, tw_ro_f eS, tw_ro_f eS] at hi
      exact br_t (by rw [eo, tw_b_f e]) (nm_r (nI_1 k) hi)
    · refine br_f (by rw [eo]; exact tw_b_t e) (And.intro hv ?_)
      refine pk_eq (d k) t (fun z => ?_) (fun z => ?_) ed rfl (by have := hd k e; omega) (by omega)
      · have eS : tw_S t on d k = true := tw_S_t.mpr ⟨e, z⟩
        rw [tw_cnt_t eS, ← tw_up_t eS, ← tw_up_t eS, tw_ro_t eS, tw_ro_t eS] at hi
        refine tw_ringY hk' (hp k) ?_
        rw [tw_up_at (f := fun j => t + p j) (Nat.le_refl k), z]
        exact nm_r (nI_1 _) (nm_r (nI_1 k) hi)
      · have eS : tw_S t on d k = false := tw_S_f (fun _ => z)
        rw [tw_cnt_f eS, tw_up_f eS, tw_up_f eS, tw_ro_f eS, tw_ro_f eS] at hi
        exact nm_r (nI_1 k) hi
theorem tw_tickY {post : Int32 → SY → Prop} (hd : ∀ j, on j = true → d j < 2 ^ 30) (hp : ∀ j, p j ≤ 500) (ht : t < 2 ^ 24)
    (h : post (nI (tw_cnt (tw_S (t + 1) on d) 16)) (tw_Y (t + 1) (q + tw_cnt (tw_S (t + 1) on d) 16) (tw_up (tw_S (t + 1) on d) (fun j => decide (0 < p j)) on 16) (tw_up (tw_S (t + 1) on d) (fun j => t + 1 + p j) d 16) p (tw_ro (tw_S (t + 1) on d) nI who 16) (tw_ro (tw_S (t + 1) on d) (fun _ => nI (t + 1)) wen 16))) :
    wpY_tick post (tw_Y t q on d p who wen) := by
  refine nm_r (e' := nI (t + 1)) (nI_1 t) (Exists.intro 17 ?_)
  have H := tw_t14 hd hp (by omega) h 16 0 rfl
  rw [tw_up_0, tw_up_0] at H
  exact H
end
end
section
/-! the relation by plain things, a tick of both, loops of ticks -/
def tw_R (t : Nat) (on : Nat → Bool) (d p : Nat → Nat) (u : SX) (v : SY) : Prop :=
  ∃ (q : Nat) (cell : Nat → Nat) (row rat who wen : Nat → Int32), u = tw_X t on q d p on cell row rat ∧ v = tw_Y t q on d p who wen ∧
    (∀ j, on j = true → j < 16 ∧ t < d j ∧ d j ≤ t + 500 ∧ tw_Cl t (d j) (cell j)) ∧ (∀ j, p j ≤ 500) ∧ q ≤ 16 * t ∧ tw_H q row who ∧ tw_H q rat wen
/-- what a tick makes of the timers that are set, and of their times -/
def tw_on' (t : Nat) (on : Nat → Bool) (d p : Nat → Nat) : Nat → Bool := tw_up (tw_S (t + 1) on d) (fun j => decide (0 < p j)) on 16
def tw_d' (t : Nat) (on : Nat → Bool) (d p : Nat → Nat) : Nat → Nat := tw_up (tw_S (t + 1) on d) (fun j => t + 1 + p j) d 16
theorem tw_tick {t : Nat} {on : Nat → Bool} {d p : Nat → Nat} {u : SX} {v : SY} (I : tw_R t on d p u v) (ht : t < 2 ^ 24) :
    ∃ u' v', tw_R (t + 1) (tw_on' t on d p) (tw_d' t on d p) p u' v' ∧
      (∀ post : Int32 → SX → Prop, post (nI (tw_cnt (tw_S (t + 1) on d) 16)) u' → wpX_tick post u) ∧
      (∀ post : Int32 → SY → Prop, post (nI (tw_cnt (tw_S (t + 1) on d) 16)) v' → wpY_tick post v) := by
  obtain ⟨q, cell, row, rat, who, wen, rfl, rfl, hI, hp, hq, hr, ha⟩ := I
  have hn := tw_cnt_le (tw_S (t + 1) on d) 16
  have hs : ∀ i, tw_S (t + 1) on d i = true → i < 16 := fun i z => (hI i (tw_S_t.mp z).1).1
  refine ⟨tw_X (t + 1) (tw_on' t on d p) (q + tw_cnt (tw_S (t + 1) on d) 16) (tw_d' t on d p) p (tw_on' t on d p) (tw_up (tw_S (t + 1) on d) (fun j => if 0 < p j then tw_pl (t + 1) (t + 1 + p j) else tw_kk (t + 1) on d cell j) (tw_kk (t + 1) on d cell) 16) (tw_rw (tw_S (t + 1) on d) q nI row 16) (tw_rw (tw_S (t + 1) on d) q (fun _ => nI (t + 1)) rat 16),
    tw_Y (t + 1) (q + tw_cnt (tw_S (t + 1) on d) 16) (tw_on' t on d p) (tw_d' t on d p) p (tw_ro (tw_S (t + 1) on d) nI who 16) (tw_ro (tw_S (t + 1) on d) (fun _ => nI (t + 1)) wen 16),
    ⟨_, _, _, _, _, _, rfl, rfl, ?_, hp, ?_, ?_, ?_⟩, fun post h => tw_tickX hI hp ht (by omega) h, fun post h => tw_tickY (fun j z => ?_) hp ht h⟩
  · intro j
    cases e : tw_S (t + 1) on d j
    · unfold tw_on' tw_d'
      rw [tw_up_F e, tw_up_F e, tw_up_F e]
      intro ho
      have h := hI j ho
      have hne : d j ≠ t + 1 := fun z => by
        rw [tw_S_t.mpr ⟨ho, z⟩] at e
        exact absurd e (by decide)
      exact ⟨h.1, by omega, by omega, (tw_kk_ok ho h.2.1 h.2.2.2).1⟩
    · unfold tw_on' tw_d'
      rw [tw_up_T hs e, tw_up_T hs e, tw_up_T hs e]
      intro ho
      have h0 : 0 < p j := of_decide_eq_true ho
      have h5 := hp j
      rw [if_pos h0]
      exact ⟨hs j e, by omega, by omega, tw_Cl_pl (by omega)⟩
  · omega
  · exact tw_H_all _ _ hr 16
  · exact tw_H_all _ _ ha 16
  · have h := hI j z
    omega
/-! the loops of ticks, over whole states -/
def tw_PX (post : Int32 → SX → Prop) (x1 : Int32) (n : Nat) (x2 x3 : Int32) (u : SX) : Prop :=
  wX_pass_17 post x1 n x2 x3 u.1 u.2.1 u.2.2.1 u.2.2.2.1 u.2.2.2.2.1 u.2.2.2.2.2.1 u.2.2.2.2.2.2.1 u.2.2.2.2.2.2.2.1 u.2.2.2.2.2.2.2.2
def tw_PY (post : Int32 → SY → Prop) (x1 : Int32) (n : Nat) (x2 x3 : Int32) (v : SY) : Prop :=
  wY_pass_4 post x1 n x2 x3 v.1 v.2.1 v.2.2.1 v.2.2.2.1 v.2.2.2.2.1 v.2.2.2.2.2.1 v.2.2.2.2.2.2
theorem tw_PX_0 {post : Int32 → SX → Prop} {x1 x2 x3 : Int32} {n : Nat} {u : SX} (h : x1 ≤ x3) (H : post x2 u) : tw_PX post x1 (n + 1) x2 x3 u := br_t h H
theorem tw_PX_s {post : Int32 → SX → Prop} {x1 x2 x3 r : Int32} {n : Nat} {u u' : SX} (h : ¬ x1 ≤ x3) (T : ∀ post : Int32 → SX → Prop, post r u' → wpX_tick post u)
    (H : tw_PX post x1 n (x2 + r) (x3 + 1) u') : tw_PX post x1 (n + 1) x2 x3 u := by
  obtain ⟨a1, a2, a3, a4, a5, a6, a7, a8, a9⟩ := u
  obtain ⟨b1, b2, b3, b4, b5, b6, b7, b8, b9⟩ := u'
  exact br_f h (T _ (nm_e (nm_e H)))
theorem tw_PY_0 {post : Int32 → SY → Prop} {N i : Nat} {x2 : Int32} {n : Nat} {v : SY} (h : N ≤ i) (hN : N ≤ 1000) (hi : i < 2 ^ 31) (H : post x2 v) : tw_PY post (nI N) (n + 1) x2 (nI i) v := by
  obtain ⟨b1, b2, b3, b4, b5, b6, b7⟩ := v
  exact br_t (nI_le h hi) (br_f (nI_pos (by omega)) (br_t (nI_le (b := 1000) hN (by decide)) H))
theorem tw_PY_s {post : Int32 → SY → Prop} {N i : Nat} {x2 r : Int32} {n : Nat} {v v' : SY} (h : i < N) (hN : N ≤ 1000) (T : ∀ post : Int32 → SY → Prop, post r v' → wpY_tick post v)
    (H : tw_PY post (nI N) n (x2 + r) (nI i + 1) v') : tw_PY post (nI N) (n + 1) x2 (nI i) v := by
  obtain ⟨a1, a2, a3, a4, a5, a6, a7⟩ := v
  obtain ⟨b1, b2, b3, b4, b5, b6, b7⟩ := v'
  exact br_f (nI_ge h (by omega)) (br_f (nI_nlt (a := 1000) hN (by decide)) (T _ (nm_e (nm_e H))))
theorem tw_pass {p : Nat → Nat} {N : Nat} (hN : N ≤ 1000) : ∀ m i, i + m = N → ∀ (t : Nat) (on : Nat → Bool) (d : Nat → Nat) (x : Int32) (u : SX) (v : SY), tw_R t on d p u v → t + m < 2 ^ 24 →
    ∃ (on' : Nat → Bool) (d' : Nat → Nat) (y : Int32) (u' : SX) (v' : SY), tw_R (t + m) on' d' p u' v' ∧
      (∀ post : Int32 → SX → Prop, post y u' → tw_PX post (nI N) (m + 1) x (nI i) u) ∧ (∀ post : Int32 → SY → Prop, post y v' → tw_PY post (nI N) (m + 1) x (nI i) v) := by
  intro m
  induction m with
  | zero =>
    intro i hi t on d x u v I ht
    exact ⟨on, d, x, u, v, I, fun post h => tw_PX_0 (nI_le (by omega) (by omega)) h, fun post h => tw_PY_0 (by omega) hN (by omega) h⟩
  | succ m ih =>
    intro i hi t on d x u v I ht
    obtain ⟨u1, v1, I1, hX, hY⟩ := tw_tick I (by omega)
    obtain ⟨on', d', y, u', v', I', hX', hY'⟩ := ih (i + 1) (by omega) (t + 1) _ _ (x + nI (tw_cnt (tw_S (t + 1) on d) 16)) u1 v1 I1 (by omega)
    rw [show t + 1 + m = t + (m + 1) from by omega] at I'
    refine ⟨on', d', y, u', v', I', fun post h => tw_PX_s (nI_ge (by omega) (by omega)) hX ?_, fun post h => tw_PY_s (by omega) hN hY ?_⟩
    · rw [nI_1]
      exact hX' post h
    · rw [nI_1]
      exact hY' post h
def tw_NX (post : Int32 → SX → Prop) (n : Nat) (x1 x2 : Int32) (u : SX) : Prop :=
  wX_toNext_14 post n x1 x2 u.1 u.2.1 u.2.2.1 u.2.2.2.1 u.2.2.2.2.1 u.2.2.2.2.2.1 u.2.2.2.2.2.2.1 u.2.2.2.2.2.2.2.1 u.2.2.2.2.2.2.2.2
def tw_NY (post : Int32 → SY → Prop) (x2 : Int32) (n : Nat) (x3 : Int32) (v : SY) : Prop :=
  wY_toNext_26 post x2 n x3 v.1 v.2.1 v.2.2.1 v.2.2.2.1 v.2.2.2.2.1 v.2.2.2.2.2.1 v.2.2.2.2.2.2
theorem tw_NX_0 {post : Int32 → SX → Prop} {x1 x2 : Int32} {n : Nat} {u : SX} (h : ¬ x2 = 0) (H : post x1 u) : tw_NX post (n + 1) x1 x2 u :=
  br_c (fun _ => H) (fun _ => br_f h H)
theorem tw_NX_s {post : Int32 → SX → Prop} {x1 r : Int32} {n : Nat} {u u' : SX} (h : ¬ 500 ≤ x1) (T : ∀ post : Int32 → SX → Prop, post r u' → wpX_tick post u)
    (H : tw_NX post n (x1 + 1) r u') : tw_NX post (n + 1) x1 0 u := by
  obtain ⟨a1, a2, a3, a4, a5, a6, a7, a8, a9⟩ := u
  obtain ⟨b1, b2, b3, b4, b5, b6, b7, b8, b9⟩ := u'
  exact br_f h (br_t rfl (T _ (nm_e H)))
theorem tw_NY_0 {post : Int32 → SY → Prop} {x2 x3 : Int32} {n : Nat} {v : SY} (h : x2 ≤ x3) (H : post x2 v) : tw_NY post x2 (n + 1) x3 v := br_t h H
theorem tw_NY_s {post : Int32 → SY → Prop} {x2 x3 r : Int32} {n : Nat} {v v' : SY} (h : ¬ x2 ≤ x3) (T : ∀ post : Int32 → SY → Prop, post r v' → wpY_tick post v)
    (H : tw_NY post x2 n (x3 + 1) v') : tw_NY post x2 (n + 1) x3 v := by
  obtain ⟨a1, a2, a3, a4, a5, a6, a7⟩ := v
  obtain ⟨b1, b2, b3, b4, b5, b6, b7⟩ := v'
  exact br_f h (T _ (nm_e H))
/-- to the next ring: m + 1 ticks are left, i are passed -/
theorem tw_toNext {p : Nat → Nat} {N : Nat} (hN : N ≤ 500) : ∀ m i, i + (m + 1) = N → ∀ (t b : Nat) (on : Nat → Bool) (d : Nat → Nat) (u : SX) (v : SY), tw_R t on d p u v → t + m < 2 ^ 23 →
    b < 16 → on b = true → d b = t + (m + 1) → (∀ j, on j = true → d b ≤ d j) →
    ∃ (on' : Nat → Bool) (d' : Nat → Nat) (u' : SX) (v' : SY), tw_R (t + (m + 1)) on' d' p u' v' ∧
      (∀ post : Int32 → SX → Prop, post (nI N) u' → tw_NX post (m + 2) (nI i) 0 u) ∧ (∀ post : Int32 → SY → Prop, post (nI N) v' → tw_NY post (nI N) (m + 2) (nI i) v) := by
  intro m
  induction m with
  | zero =>
    intro i hi t b on d u v I ht hb ho hd hl
    obtain ⟨u1, v1, I1, hX, hY⟩ := tw_tick I (by omega)
    have hn := tw_cnt_le (tw_S (t + 1) on d) 16
    have hc : ¬ tw_cnt (tw_S (t + 1) on d) 16 = 0 := fun z => by
      have := (tw_cnt_0 _ 16).mp z b hb
      rw [tw_S_t.mpr ⟨ho, hd⟩] at this
      exact absurd this (by decide)
    refine ⟨_, _, u1, v1, I1, fun post h => tw_NX_s (nI_ge (b := 500) (by omega) (by decide)) hX ?_, fun post h => tw_NY_s (nI_ge (by omega) (by omega)) hY ?_⟩
    · rw [nI_1, show i + 1 = N from by omega]
      exact tw_NX_0 (nI_ne0 (by omega) (by omega)) h
    · rw [nI_1, show i + 1 = N from by omega]
      exact tw_NY_0 (nI_le (Nat.le_refl N) (by omega)) h
  | succ m ih =>
    intro i hi t b on d u v I ht hb ho hd hl
    obtain ⟨u1, v1, I1, hX, hY⟩ := tw_tick I (by omega)
    have hf : ∀ j, tw_S (t + 1) on d j = false := fun j => tw_S_f (fun z => by
      have := hl j z
      omega)
    have hc : tw_cnt (tw_S (t + 1) on d) 16 = 0 := (tw_cnt_0 _ 16).mpr (fun j _ => hf j)
    have eo : tw_on' t on d p = on := by
      funext j
      exact tw_up_F (hf j)
    have ed : tw_d' t on d p = d := by
      funext j
      exact tw_up_F (hf j)
    rw [eo, ed] at I1
    rw [hc] at hX hY
    obtain ⟨on', d', u', v', I', hX', hY'⟩ := ih (i + 1) (by omega) (t + 1) b on d u1 v1 I1 (by omega) hb ho (by omega) hl
    rw [show t + 1 + (m + 1) = t + (m + 1 + 1) from by omega] at I'
    refine ⟨on', d', u', v', I', fun post h => tw_NX_s (nI_ge (b := 500) (by omega) (by decide)) hX ?_, fun post h => tw_NY_s (nI_ge (by omega) (by omega)) hY ?_⟩
    · rw [nI_1]
      exact hX' post h
    · rw [nI_1]
      exact hY' post h
end
section
/-! next, within, timers -/
/-- b is the least timer with the least time among those from lo on, below hi -/
def tw_Bst (on : Nat → Bool) (d : Nat → Nat) (lo hi b : Nat) : Prop := lo ≤ b ∧ b < hi ∧ on b = true ∧ ∀ j, lo ≤ j → j < hi → on j = true → d b < d j ∨ (d b = d j ∧ b ≤ j)
theorem tw_Bst_u {on : Nat → Bool} {d : Nat → Nat} {lo hi a b : Nat} (ha : tw_Bst on d lo hi a) (hb : tw_Bst on d lo hi b) : a = b := by
  have h1 := ha.2.2.2 b hb.1 hb.2.1 hb.2.2.1
  have h2 := hb.2.2.2 a ha.1 ha.2.1 ha.2.2.1
  omega
section
variable {t q : Nat} {on act : Nat → Bool} {d p cell : Nat → Nat} {row rat who wen : Nat → Int32}
theorem tw_nx6 {post : Int32 → Prop} (hd : ∀ j, on j = true → d j < 2 ^ 30) (h0 : (∀ j, j < 16 → on j = false) → post (-2)) (h1 : ∀ b, tw_Bst on d 0 16 b → post (nI b)) :
    ∀ k, k ≤ 16 → ∀ x : Int32, ((x = -2 ∧ ∀ j, k ≤ j → j < 16 → on j = false) ∨ ∃ c, x = nI c ∧ tw_Bst on d k 16 c) →
      wX_next_6 post (nI t) (tw_mk on) (nI q) (tw_fn d) (tw_fn p) (tw_wh act cell) (tw_fn cell) row rat (k + 1) x (nI k + (-1)) := by
  intro k
  induction k with
  | zero =>
    intro _ x hx
    refine br_t (by decide) ?_
    rcases hx with ⟨rfl, h⟩ | ⟨c, rfl, h⟩
    · exact h0 (fun j hj => h j (by omega) hj)
    · exact h1 c h
  | succ k ih =>
    intro hk x hx
    have hk' : k < 16 := by omega
    rw [pk_m1]
    refine br_f (nI_pos (by omega)) ?_
    cases e : on k
    · refine tw_isSet_f hk' e (br_t rfl (nm_e (ih (by omega) x ?_)))
      rcases hx with ⟨rfl, h⟩ | ⟨c, rfl, h⟩
      · refine Or.inl ⟨rfl, fun j h2 h3 => ?_⟩
        by_cases ej : j = k
        · rw [ej, e]
        · exact h j (by omega) h3
      · refine Or.inr ⟨c, rfl, by have := h.1; omega, h.2.1, h.2.2.1, fun j h2 h3 h4 => ?_⟩
        by_cases ej : j = k
        · rw [ej, e] at h4
          exact absurd h4 (by decide)
        · exact h.2.2.2 j (by omega) h3 h4
    · refine tw_isSet_t hk' e (br_f (by decide) ?_)
      rcases hx with ⟨rfl, h⟩ | ⟨c, rfl, h⟩
      · refine br_t (by decide) (nm_e (ih (by omega) _ (Or.inr ⟨k, rfl, Nat.le_refl k, hk', e, fun j h2 h3 h4 => ?_⟩)))
        by_cases ej : j = k
        · subst ej
          exact Or.inr ⟨rfl, Nat.le_refl _⟩
        · rw [h j (by omega) h3] at h4
          exact absurd h4 (by decide)
      · have hc := h.2.1
        have hcl := h.1
        have dk := hd k e
        have dc := hd c h.2.2.1
        refine br_f (nI_pos (by omega)) (And.intro (vp_in_nI hk' (by decide)) (And.intro (vp_in_nI hc (by decide)) ?_))
        refine pk_lt (d c) (d k) (fun z => nm_e (ih (by omega) _ (Or.inr ⟨c, rfl, by omega, hc, h.2.2.1, fun j h2 h3 h4 => ?_⟩))) (fun z => nm_e (ih (by omega) _ (Or.inr ⟨k, rfl, Nat.le_refl k, hk', e, fun j h2 h3 h4 => ?_⟩))) (tw_fn_at d (by omega)) (tw_fn_at d (by omega)) (by omega) (by omega)
        · by_cases ej : j = k
          · subst ej
            exact Or.inl z
          · exact h.2.2.2 j (by omega) h3 h4
        · by_cases ej : j = k
          · subst ej
            exact Or.inr ⟨rfl, Nat.le_refl _⟩
          · have := h.2.2.2 j (by omega) h3 h4
            omega
theorem tw_nextX {post : Int32 → Prop} (hd : ∀ j, on j = true → d j < 2 ^ 30) (h0 : (∀ j, j < 16 → on j = false) → post (-2)) (h1 : ∀ b, tw_Bst on d 0 16 b → post (nI b)) :
    wpX_next post (tw_X t on q d p act cell row rat) :=
  Exists.intro 17 (tw_nx6 hd h0 h1 16 (Nat.le_refl 16) (-2) (Or.inl ⟨rfl, fun j h2 h3 => absurd h3 (by omega)⟩))
theorem tw_ny5 {post : Int32 → Prop} (hd : ∀ j, on j = true → d j < 2 ^ 30) (h0 : (∀ j, j < 16 → on j = false) → post (-2)) (h1 : ∀ b, tw_Bst on d 0 16 b → post (nI b)) :
    ∀ m k, k + m = 16 → ∀ x : Int32, ((x = -2 ∧ ∀ j, j < k → on j = false) ∨ ∃ c, x = nI c ∧ tw_Bst on d 0 k c) →
      wY_next_5 post (nI t) (nI q) (tw_bn on) (tw_fn d) (tw_fn p) who wen (m + 1) x (nI k) := by
  intro m
  induction m with
  | zero =>
    intro k hk x hx
    cases (show k = 16 from hk)
    refine br_t (nI_le (a := 16) (b := 16) (by decide) (by decide)) ?_
    rcases hx with ⟨rfl, h⟩ | ⟨c, rfl, h⟩
    · exact h0 h
    · exact h1 c h
  | succ m ih =>
    intro k hk x hx
    have hk' : k < 16 := by omega
    have hv : vp_in (nI k) 16 := vp_in_nI hk' (by decide)
    refine br_f (nI_ge (b := 16) hk' (by decide)) (And.intro hv ?_)
    cases e : on k
    · refine br_t (by rw [tw_bn_at on (by omega), tw_b_f e]) (nm_r (nI_1 k) (ih (k + 1) (by omega) x ?_))
      rcases hx with ⟨rfl, h⟩ | ⟨c, rfl, h⟩
      · refine Or.inl ⟨rfl, fun j h2 => ?_⟩
        by_cases ej : j = k
        · rw [ej, e]
        · exact h j (by omega)
      · refine Or.inr ⟨c, rfl, h.1, by have := h.2.1; omega, h.2.2.1, fun j h2 h3 h4 => ?_⟩
        by_cases ej : j = k
        · rw [ej, e] at h4
          exact absurd h4 (by decide)
        · exact h.2.2.2 j h2 (by omega) h4
    · refine br_f (by rw [tw_bn_at on (by omega)]; exact tw_b_t e) ?_
      rcases hx with ⟨rfl, h⟩ | ⟨c, rfl, h⟩
      · refine br_t (by decide) (nm_r (nI_1 k) (ih (k + 1) (by omega) _ (Or.inr ⟨k, rfl, by omega, by omega, e, fun j h2 h3 h4 => ?_⟩)))
        by_cases ej : j = k
        · subst ej
          exact Or.inr ⟨rfl, Nat.le_refl _⟩
        · rw [h j (by omega)] at h4
          exact absurd h4 (by decide)
      · have hc := h.2.1
        have dk := hd k e
        have dc := hd c h.2.2.1
        refine br_f (nI_pos (by omega)) (And.intro hv (And.intro (vp_in_nI (by omega) (by decide)) ?_))
        refine pk_le (d c) (d k) (fun z => nm_r (nI_1 k) (ih (k + 1) (by omega) _ (Or.inr ⟨c, rfl, by omega, by omega, h.2.2.1, fun j h2 h3 h4 => ?_⟩))) (fun z => nm_r (nI_1 k) (ih (k + 1) (by omega) _ (Or.inr ⟨k, rfl, by omega, by omega, e, fun j h2 h3 h4 => ?_⟩))) (tw_fn_at d (by omega)) (tw_fn_at d (by omega)) (by omega) (by omega)
        · by_cases ej : j = k
          · subst ej
            omega
          · exact h.2.2.2 j h2 (by omega) h4
        · by_cases ej : j = k
          · subst ej
            exact Or.inr ⟨rfl, Nat.le_refl _⟩
          · have := h.2.2.2 j h2 (by omega) h4
            omega
theorem tw_nextY {post : Int32 → Prop} (hd : ∀ j, on j = true → d j < 2 ^ 30) (h0 : (∀ j, j < 16 → on j = false) → post (-2)) (h1 : ∀ b, tw_Bst on d 0 16 b → post (nI b)) :
    wpY_next post (tw_Y t q on d p who wen) :=
  Exists.intro 17 (tw_ny5 hd h0 h1 16 0 rfl (-2) (Or.inl ⟨rfl, fun j h2 => absurd h2 (by omega)⟩))
/-- the timers that within counts -/
def tw_Wi (t : Nat) (on : Nat → Bool) (d : Nat → Nat) (x : Int32) : Nat → Bool := fun j => on j && decide (¬ x < nI (d j) - nI t)
theorem tw_Wi_f {x : Int32} {j : Nat} (h : on j = true → x < nI (d j) - nI t) : tw_Wi t on d x j = false := by
  unfold tw_Wi
  cases e : on j
  · rfl
  · rw [decide_eq_false (fun z => z (h e))]
    rfl
theorem tw_Wi_t {x : Int32} {j : Nat} (h : on j = true) (h2 : ¬ x < nI (d j) - nI t) : tw_Wi t on d x j = true := by
  unfold tw_Wi
  rw [h, decide_eq_true h2]
  rfl
theorem tw_wx4 {post : Int32 → Prop} {x : Int32} (h : post (nI (tw_cnt (tw_Wi t on d x) 16))) :
    ∀ m k, k + m = 16 → wX_within_4 post x (nI t) (tw_mk on) (nI q) (tw_fn d) (tw_fn p) (tw_wh act cell) (tw_fn cell) row rat (m + 1) (nI (tw_cnt (tw_Wi t on d x) k)) (nI k) := by
  intro m
  induction m with
  | zero =>
    intro k hk
    cases (show k = 16 from hk)
    exact br_t (nI_le (a := 16) (b := 16) (by decide) (by decide)) h
  | succ m ih =>
    intro k hk
    have hk' : k < 16 := by omega
    have hi := ih (k + 1) (by omega)
    refine br_f (nI_ge (b := 16) hk' (by decide)) ?_
    cases e : on k
    · have eS : tw_Wi t on d x k = false := tw_Wi_f (fun z => by rw [e] at z; exact absurd z (by decide))
      rw [tw_cnt_f eS] at hi
      exact tw_isSet_f hk' e (br_t rfl (nm_r (Int32.add_zero _) (nm_r (nI_1 k) hi)))
    · refine tw_isSet_t hk' e (br_f (by decide) (And.intro (vp_in_nI hk' (by decide)) ?_))
      rw [tw_fn_at d (by omega)]
      refine br_c (fun z => ?_) (fun z => ?_)
      · have eS : tw_Wi t on d x k = false := tw_Wi_f (fun _ => z)
        rw [tw_cnt_f eS] at hi
        exact nm_r (Int32.add_zero _) (nm_r (nI_1 k) hi)
      · have eS : tw_Wi t on d x k = true := tw_Wi_t e z
        rw [tw_cnt_t eS] at hi
        exact nm_r (nI_1 _) (nm_r (nI_1 k) hi)
theorem tw_wy4 {post : Int32 → Prop} {x : Int32} (h : post (nI (tw_cnt (tw_Wi t on d x) 16))) :
    ∀ m k, k + m = 16 → wY_within_4 post x (nI t) (nI q) (tw_bn on) (tw_fn d) (tw_fn p) who wen (m + 1) (nI (tw_cnt (tw_Wi t on d x) k)) (nI k) := by
  intro m
  induction m with
  | zero =>
    intro k hk
    cases (show k = 16 from hk)
    exact br_t (nI_le (a := 16) (b := 16) (by decide) (by decide)) h
  | succ m ih =>
    intro k hk
    have hk' : k < 16 := by omega
    have hi := ih (k + 1) (by omega)
    have hv : vp_in (nI k) 16 := vp_in_nI hk' (by decide)
    refine br_f (nI_ge (b := 16) hk' (by decide)) (And.intro hv ?_)
    cases e : on k
    · have eS : tw_Wi t on d x k = false := tw_Wi_f (fun z => by rw [e] at z; exact absurd z (by decide))
      rw [tw_cnt_f eS] at hi
      exact br_t (by rw [tw_bn_at on (by omega), tw_b_f e]) (nm_r (nI_1 k) hi)
    · refine br_f (by rw [tw_bn_at on (by omega)]; exact tw_b_t e) (And.intro hv ?_)
      rw [tw_fn_at d (by omega)]
      refine br_c (fun z => ?_) (fun z => ?_)
      · have eS : tw_Wi t on d x k = false := tw_Wi_f (fun _ => z)
        rw [tw_cnt_f eS] at hi
        exact nm_r (nI_1 k) hi
      · have eS : tw_Wi t on d x k = true := tw_Wi_t e z
        rw [tw_cnt_t eS] at hi
        exact nm_r (nI_1 _) (nm_r (nI_1 k) hi)
theorem tw_ty4 {post : Int32 → Prop} (h : post (tw_mk on)) :
    ∀ m k, k + m = 16 → wY_timers_4 post (nI t) (nI q) (tw_bn on) (tw_fn d) (tw_fn p) who wen (m + 1) (tw_m on k) (nI k) := by
  intro m
  induction m with
  | zero =>
    intro k hk
    cases (show k = 16 from hk)
    exact br_t (nI_le (a := 16) (b := 16) (by decide) (by decide)) h
  | succ m ih =>
    intro k hk
    have hk' : k < 16 := by omega
    have hi := ih (k + 1) (by omega)
    have hv : vp_in (nI k) 16 := vp_in_nI hk' (by decide)
    refine br_f (nI_ge (b := 16) hk' (by decide)) (And.intro hv ?_)
    cases e : on k
    · rw [show tw_m on (k + 1) = tw_m on k from if_neg (by rw [e]; decide)] at hi
      exact br_t (by rw [tw_bn_at on (by omega), tw_b_f e]) (nm_r (nI_1 k) hi)
    · rw [show tw_m on (k + 1) = tw_m on k ||| ((1 : Int32) <<< (nI k &&& 31)) from if_pos e] at hi
      exact br_f (by rw [tw_bn_at on (by omega)]; exact tw_b_t e) (nm_e (nm_r (nI_1 k) hi))
end
end
section
/-! what the calls share -/
def tw_no (on : Nat → Bool) (v : Int32) : Prop := (v < 0 ∨ nI 16 ≤ v) ∨ ∃ k, k < 16 ∧ v = nI k ∧ on k = false
theorem tw_no_or (on : Nat → Bool) (v : Int32) : tw_no on v ∨ ∃ k, k < 16 ∧ v = nI k ∧ on k = true := by
  rcases pk_ix v (n := 16) (by decide) with a | a | ⟨k, hk, rfl⟩
  · exact Or.inl (Or.inl (Or.inl a))
  · exact Or.inl (Or.inl (Or.inr a))
  · cases e : on k
    · exact Or.inl (Or.inr ⟨k, hk, rfl, e⟩)
    · exact Or.inr ⟨k, hk, rfl, e⟩
theorem tw_gt {v : Int32} {n : Nat} (hn : n + 1 < 2 ^ 31) (h : nI (n + 1) ≤ v) : ¬ v < 0 ∧ nI n < v := by
  have h0 : ¬ v < 0 := by
    rw [Int32.le_iff_toInt_le, nI_toInt hn] at h
    rw [Int32.lt_iff_toInt_lt, show (0 : Int32).toInt = 0 from by decide]
    omega
  refine ⟨h0, ?_⟩
  obtain ⟨j, hj, rfl⟩ := nI_of h0
  have := (nI_leI hn hj).mp h
  exact nI_lt (by omega) hj
theorem tw_in0 {x : Int32} {n : Nat} (hn : n < 2 ^ 31) (h1 : ¬ x < 0) (h2 : ¬ nI n < x) : ∃ j, j ≤ n ∧ x = nI j := by
  obtain ⟨j, hj, rfl⟩ := nI_of h1
  rw [nI_ltI hn hj] at h2
  exact ⟨j, by omega, rfl⟩
theorem tw_in1 {x : Int32} (h1 : ¬ x < 1) (h2 : ¬ 500 < x) : ∃ j, 1 ≤ j ∧ j ≤ 500 ∧ x = nI j := by
  have h0 : ¬ x < 0 := by
    rw [Int32.lt_iff_toInt_lt, show (1 : Int32).toInt = 1 from by decide] at h1
    rw [Int32.lt_iff_toInt_lt, show (0 : Int32).toInt = 0 from by decide]
    omega
  obtain ⟨j, hj, rfl⟩ := tw_in0 (n := 500) (by decide) h0 h2
  have h3 := mt (fun z => nI_lt (a := j) (b := 1) z (by decide)) h1
  exact ⟨j, by omega, hj, rfl⟩
theorem tw_Bst_ex (on : Nat → Bool) (d : Nat → Nat) : ∀ n, (∀ j, j < n → on j = false) ∨ ∃ b, tw_Bst on d 0 n b := by
  intro n
  induction n with
  | zero => exact Or.inl (fun j hj => absurd hj (by omega))
  | succ n ih =>
    cases e : on n
    · rcases ih with h | ⟨b, h⟩
      · refine Or.inl (fun j hj => ?_)
        by_cases ej : j = n
        · rw [ej, e]
        · exact h j (by omega)
      · refine Or.inr ⟨b, h.1, by have := h.2.1; omega, h.2.2.1, fun j h2 h3 h4 => ?_⟩
        by_cases ej : j = n
        · rw [ej, e] at h4
          exact absurd h4 (by decide)
        · exact h.2.2.2 j h2 (by omega) h4
    · rcases ih with h | ⟨b, h⟩
      · refine Or.inr ⟨n, by omega, by omega, e, fun j h2 h3 h4 => ?_⟩
        by_cases ej : j = n
        · subst ej
          exact Or.inr ⟨rfl, Nat.le_refl _⟩
        · rw [h j (by omega)] at h4
          exact absurd h4 (by decide)
      · have hb := h.2.1
        by_cases z : d b ≤ d n
        · refine Or.inr ⟨b, h.1, by omega, h.2.2.1, fun j h2 h3 h4 => ?_⟩
          by_cases ej : j = n
          · subst ej
            omega
          · exact h.2.2.2 j h2 (by omega) h4
        · refine Or.inr ⟨n, by omega, by omega, e, fun j h2 h3 h4 => ?_⟩
          by_cases ej : j = n
          · subst ej
            exact Or.inr ⟨rfl, Nat.le_refl _⟩
          · have := h.2.2.2 j h2 (by omega) h4
            omega
section
variable {t q i : Nat} {on act : Nat → Bool} {d p cell : Nat → Nat} {row rat who wen : Nat → Int32}
theorem tw_isSet_no {post : Int32 → Prop} {v : Int32} (hv : tw_no on v) (h : post 0) : wpX_isSet post (tw_X t on q d p act cell row rat) v := by
  rcases hv with hv | ⟨k, hk, rfl, e⟩
  · exact tw_isSet_n hv h
  · exact tw_isSet_f hk e h
theorem tw_is_no {post : Int32 → Prop} {v : Int32} (hv : tw_no on v) (h : post 0) : wpY_is post (tw_Y t q on d p who wen) v := by
  rcases hv with hv | ⟨k, hk, rfl, e⟩
  · exact tw_is_n hv h
  · exact tw_is_f hk e h
theorem tw_set44 {post : Int32 → SX → Prop} {k dl pd : Nat} (hk : k < 16) (ha : act k = false) (hdl : dl ≤ 500) (hpd : pd ≤ 500) (ht : t < 2 ^ 24)
    (h : post (nI (t + dl)) (tw_X t (tw_st on k true) q (tw_st d k (t + dl)) (tw_st p k pd) (tw_st act k true) (tw_st cell k (tw_pl t (t + dl))) row rat)) :
    wX_set_44 post (nI k) (nI dl) (nI pd) (nI t) (tw_mk on) (nI q) (tw_fn d) (tw_fn p) (tw_wh act cell) (tw_fn cell) row rat := by
  have hi : vp_in (nI k) 16 := vp_in_nI hk (by decide)
  refine nm_r (tw_or on hk) (And.intro hi (nm_r (e' := tw_fn (tw_st d k (t + dl))) ?_ (And.intro hi (nm_r (e' := tw_fn (tw_st p k pd)) ?_ (tw_place hk ha ?_ ?_ ?_)))))
  · rw [nI_clamp (by omega)]
    exact tw_fn_upd (nI_add t dl)
  · rw [nI_clamp (by omega)]
    exact tw_fn_upd (tw_short pd (by omega))
  · rw [tw_sts]
    omega
  · rw [tw_sts]
    omega
  · rw [tw_sts]
    refine And.intro hi ?_
    rw [tw_fn_at _ (by omega), tw_sts]
    exact h
theorem tw_setY {post : Int32 → SY → Prop} {k dl pd : Nat} (hk : k < 16) (h1 : 1 ≤ dl) (hdl : dl ≤ 500) (hpd : pd ≤ 500)
    (h : post (nI (t + dl)) (tw_Y t q (tw_st on k true) (tw_st d k (t + dl)) (tw_st p k pd) who wen)) :
    wpY_set post (tw_Y t q on d p who wen) (nI k) (nI dl) (nI pd) := by
  have hi : vp_in (nI k) 16 := vp_in_nI hk (by decide)
  refine br_f (nI_pos (by omega)) (br_f (tw_n15 hk) (br_f (nI_nlt (b := 1) h1 (by omega)) (br_f (nI_nlt (a := 500) hdl (by decide)) (br_f (nI_pos (by omega)) (br_t (nI_le (b := 500) hpd (by decide)) ?_)))))
  refine And.intro hi (nm_r (e' := tw_bn (tw_st on k true)) ?_ (And.intro hi (nm_r (e' := tw_fn (tw_st d k (t + dl))) ?_ (And.intro hi (nm_r (e' := tw_fn (tw_st p k pd)) ?_ (And.intro hi ?_))))))
  · rw [nI_clamp (by omega)]
    exact tw_bn_upd rfl
  · rw [nI_clamp (by omega)]
    exact tw_fn_upd (nI_add t dl)
  · rw [nI_clamp (by omega)]
    exact tw_fn_upd rfl
  · rw [tw_fn_at _ (by omega), tw_sts]
    exact h
/-! the rings that are kept -/
def tw_nn (q : Nat) (v : Int32) : Prop := v < 0 ∨ nI 20 ≤ v ∨ ∃ i, i < 20 ∧ v = nI i ∧ q ≤ i
theorem tw_nn_or (q : Nat) (v : Int32) : tw_nn q v ∨ ∃ i, i < 20 ∧ v = nI i ∧ i < q := by
  rcases pk_ix v (n := 20) (by decide) with a | a | ⟨i, hi, rfl⟩
  · exact Or.inl (Or.inl a)
  · exact Or.inl (Or.inr (Or.inl a))
  · by_cases h : i < q
    · exact Or.inr ⟨i, hi, rfl, h⟩
    · exact Or.inl (Or.inr (Or.inr ⟨i, hi, rfl, by omega⟩))
theorem tw_isN_no {post : Int32 → Prop} {v : Int32} (hv : tw_nn q v) (h : post 0) : wpX_isNoted post (tw_X t on q d p act cell row rat) v := by
  rcases hv with hv | hv | ⟨i, hi, rfl, e⟩
  · exact br_t hv h
  · exact br_f (tw_gt (n := 19) (by decide) hv).1 (br_t hv h)
  · exact br_f (nI_pos (by omega)) (br_f (nI_ge (b := 20) hi (by decide)) (br_t (nI_le e (by omega)) h))
theorem tw_isN_t {post : Int32 → Prop} (hi : i < 20) (hq : i < q) (hq2 : q < 2 ^ 31) (h : post 1) : wpX_isNoted post (tw_X t on q d p act cell row rat) (nI i) :=
  br_f (nI_pos (by omega)) (br_f (nI_ge (b := 20) hi (by decide)) (br_f (nI_ge hq hq2) h))
theorem tw_kept_no {post : Int32 → Prop} {v : Int32} (hv : tw_nn q v) (h : post 0) : wpY_kept post (tw_Y t q on d p who wen) v := by
  rcases hv with hv | hv | ⟨i, hi, rfl, e⟩
  · exact br_t hv h
  · exact br_f (tw_gt (n := 19) (by decide) hv).1 (br_t (tw_gt (n := 19) (by decide) hv).2 h)
  · exact br_f (nI_pos (by omega)) (br_f (nI_nlt (a := 19) (by omega) (by decide)) (br_t (nI_le e (by omega)) h))
theorem tw_kept_t {post : Int32 → Prop} (hi : i < 20) (hq : i < q) (hq2 : q < 2 ^ 31) (h : post 1) : wpY_kept post (tw_Y t q on d p who wen) (nI i) :=
  br_f (nI_pos (by omega)) (br_f (nI_nlt (a := 19) (by omega) (by decide)) (br_f (nI_ge hq hq2) h))
theorem tw_ri (hq : i < q) (hq2 : q < 2 ^ 31) : (nI q - 1 - nI i) - (nI q - 1 - nI i) / 20 * 20 = nI ((q - 1 - i) % 20) := by
  have e1 : nI q - 1 = nI (q - 1) := pk_sub (a := q) (b := 1) (by omega)
  rw [e1, pk_sub (by omega)]
  exact pk_rem (d := 20) (by omega) (by decide) (by decide)
end
end
section
/-! what is owed -/
def i_Rel (k : Nat) (u : SX) (v : SY) : Prop := ∃ (t : Nat) (on : Nat → Bool) (d p : Nat → Nat), t ≤ 250 * k ∧ tw_R t on d p u v
theorem i_up {k : Nat} {u : SX} {v : SY} (h : i_Rel k u v) : i_Rel (k + 4) u v := by
  obtain ⟨t, on, d, p, ht, I⟩ := h
  exact ⟨t, on, d, p, by omega, I⟩
theorem i_vc0 : wpX_init (fun u => wpY_init (fun v => i_Rel 0 u v)) := by
  have e1 : tw_mk (fun _ => false) = 0 := (tw_zero _).mpr (fun _ _ => rfl)
  have e2 : tw_wh (fun _ => false) (fun _ => 0) = fun _ => 0 := by
    funext c
    exact (tw_zero _).mpr (fun _ _ => rfl)
  have e3 : tw_fn (fun _ => 0) = fun _ => 0 := by
    funext c
    exact nI_0
  have e4 : tw_bn (fun _ => false) = fun _ => 0 := by
    funext c
    rfl
  refine ⟨0, fun _ => false, fun _ => 0, fun _ => 0, by omega, 0, fun _ => 0, fun _ => 0, fun _ => 0, fun _ => 0, fun _ => 0, ?_, ?_, ?_, ?_, ?_, ?_, ?_⟩
  · unfold tw_X
    rw [e1, e2, e3, nI_0]
  · unfold tw_Y
    rw [e3, e4, nI_0]
  · intro j h
    exact absurd (show false = true from h) (by decide)
  · intro j
    exact Nat.zero_le _
  · omega
  · intro i _ h
    omega
  · intro i _ h
    omega
theorem i_vc_set {k : Nat} {u : SX} {v : SY} (I : i_Rel k u v) (hk : k + 4 ≤ 2048) (v1 : Int32) (v2 : Int32) (v3 : Int32) : wpX_set (fun r u' => wpY_set (fun r' v' => r' = r ∧ i_Rel (k + 4) u' v') v v1 v2 v3) u v1 v2 v3 := by
  have I' := i_up I
  obtain ⟨t, on, d, p, ht, q, cell, row, rat, who, wen, rfl, rfl, hI, hp, hq, hr, ha⟩ := I
  rcases pk_ix v1 (n := 16) (by decide) with a | a | ⟨i, hi, rfl⟩
  · exact br_t a (br_t a ⟨rfl, I'⟩)
  · have b := tw_gt (n := 15) (by decide) a
    exact br_f b.1 (br_t a (br_f b.1 (br_t b.2 ⟨rfl, I'⟩)))
  have n0 : ¬ nI i < 0 := nI_pos (by omega)
  have n16 : ¬ (16 : Int32) ≤ nI i := nI_ge (b := 16) hi (by decide)
  have n15 := tw_n15 hi
  by_cases c : v2 < 1
  · exact br_f n0 (br_f n16 (br_t c (br_f n0 (br_f n15 (br_t c ⟨rfl, I'⟩)))))
  by_cases c2 : 500 < v2
  · exact br_f n0 (br_f n16 (br_f c (br_t c2 (br_f n0 (br_f n15 (br_f c (br_t c2 ⟨rfl, I'⟩)))))))
  by_cases e : v3 < 0
  · exact br_f n0 (br_f n16 (br_f c (br_f c2 (br_t e (br_t rfl (br_f n0 (br_f n15 (br_f c (br_f c2 (br_t e ⟨rfl, I'⟩))))))))))
  by_cases e2 : 500 < v3
  · exact br_f n0 (br_f n16 (br_f c (br_f c2 (br_f e (br_t e2 (br_t rfl (br_f n0 (br_f n15 (br_f c (br_f c2 (br_f e (br_f (Int32.not_le.mpr e2) ⟨rfl, I'⟩))))))))))))
  obtain ⟨dl, h1, hdl, rfl⟩ := tw_in1 c c2
  obtain ⟨pd, hpd, rfl⟩ := tw_in0 (n := 500) (by decide) e e2
  have J : i_Rel (k + 4) (tw_X t (tw_st on i true) q (tw_st d i (t + dl)) (tw_st p i pd) (tw_st on i true) (tw_st cell i (tw_pl t (t + dl))) row rat) (tw_Y t q (tw_st on i true) (tw_st d i (t + dl)) (tw_st p i pd) who wen) := by
    refine ⟨t, _, _, _, by omega, q, _, row, rat, who, wen, rfl, rfl, ?_, ?_, hq, hr, ha⟩
    · intro j hj
      by_cases ej : j = i
      · subst ej
        rw [tw_sts, tw_sts]
        exact ⟨hi, by omega, by omega, tw_Cl_pl (by omega)⟩
      · rw [tw_stn ej] at hj
        rw [tw_stn ej, tw_stn ej]
        exact hI j hj
    · intro j
      by_cases ej : j = i
      · subst ej
        rw [tw_sts]
        exact hpd
      · rw [tw_stn ej]
        exact hp j
  refine br_f n0 (br_f n16 (br_f c (br_f c2 (br_f e (br_f e2 (br_f (by decide) ?_))))))
  cases eo : on i
  · refine tw_isSet_f hi eo (br_t rfl (tw_set44 hi eo hdl hpd (by omega) ?_))
    exact tw_setY hi h1 hdl hpd ⟨rfl, J⟩
  · refine tw_isSet_t hi eo (br_f (by decide) (tw_unplace hi (tw_Cl_lt (hI i eo).2.2.2) (tw_set44 hi tw_sts hdl hpd (by omega) ?_)))
    rw [tw_st_st]
    exact tw_setY hi h1 hdl hpd ⟨rfl, J⟩
theorem i_vc_cancel {k : Nat} {u : SX} {v : SY} (I : i_Rel k u v) (hk : k + 4 ≤ 2048) (v1 : Int32) : wpX_cancel (fun r u' => wpY_cancel (fun r' v' => r' = r ∧ i_Rel (k + 4) u' v') v v1) u v1 := by
  have I' := i_up I
  obtain ⟨t, on, d, p, ht, q, cell, row, rat, who, wen, rfl, rfl, hI, hp, hq, hr, ha⟩ := I
  unfold wpX_cancel
  rcases tw_no_or on v1 with hn | ⟨i, hi, rfl, eo⟩
  · refine tw_isSet_no hn (br_t rfl ?_)
    unfold wpY_cancel
    exact tw_is_no hn (br_t rfl ⟨rfl, I'⟩)
  have hv : vp_in (nI i) 16 := vp_in_nI hi (by decide)
  have J : i_Rel (k + 4) (tw_X t (tw_st on i false) q d p (tw_st on i false) cell row rat) (tw_Y t q (tw_st on i false) d p who wen) := by
    refine ⟨t, _, _, _, by omega, q, _, row, rat, who, wen, rfl, rfl, ?_, hp, hq, hr, ha⟩
    intro j hj
    by_cases ej : j = i
    · subst ej
      rw [tw_sts] at hj
      exact absurd hj (by decide)
    · rw [tw_stn ej] at hj
      exact hI j hj
  refine tw_isSet_t hi eo (br_f (by decide) (tw_unplace hi (tw_Cl_lt (hI i eo).2.2.2) (nm_r (tw_clr on hi) (And.intro hv ?_))))
  unfold wpY_cancel
  refine tw_is_t hi eo (br_f (by decide) (And.intro hv (nm_r (e' := tw_bn (tw_st on i false)) ?_ (And.intro hv ⟨rfl, J⟩))))
  rw [nI_clamp (by omega)]
  exact tw_bn_upd rfl
theorem i_vc_pass {k : Nat} {u : SX} {v : SY} (I : i_Rel k u v) (hk : k + 4 ≤ 2048) (v1 : Int32) : wpX_pass (fun r u' => wpY_pass (fun r' v' => r' = r ∧ i_Rel (k + 4) u' v') v v1) u v1 := by
  have I' := i_up I
  obtain ⟨t, on, d, p, ht, I⟩ := I
  by_cases a : v1 < 0
  · obtain ⟨q, cell, row, rat, who, wen, rfl, rfl, _⟩ := I
    exact br_t a (Exists.intro 1 (br_t (Int32.le_of_lt a) (br_t a ⟨rfl, I'⟩)))
  by_cases b : 1000 < v1
  · obtain ⟨q, cell, row, rat, who, wen, rfl, rfl, _⟩ := I
    have z : ¬ v1 ≤ 0 := Int32.not_le.mpr (Int32.lt_trans (by decide) b)
    exact br_f a (br_f (Int32.not_le.mpr b) (Exists.intro 1 (br_f z (br_t b (br_f a (br_f (Int32.not_le.mpr b) ⟨rfl, I'⟩))))))
  obtain ⟨N, hN, rfl⟩ := tw_in0 (n := 1000) (by decide) a b
  obtain ⟨on', d', y, u', v', J, hX, hY⟩ := tw_pass hN N 0 (by omega) t on d 0 u v I (by omega)
  obtain ⟨q, cell, row, rat, who, wen, rfl, rfl, _⟩ := I
  refine br_f a (br_t (nI_le (b := 1000) hN (by decide)) (Exists.intro (N + 1) (hX _ (Exists.intro (N + 1) (hY _ ⟨rfl, ?_⟩)))))
  exact ⟨t + N, on', d', p, by omega, J⟩
theorem i_vc_toNext {k : Nat} {u : SX} {v : SY} (I : i_Rel k u v) (hk : k + 4 ≤ 2048) : wpX_toNext (fun r u' => wpY_toNext (fun r' v' => r' = r ∧ i_Rel (k + 4) u' v') v) u := by
  have I' := i_up I
  obtain ⟨t, on, d, p, ht, I⟩ := I
  have I0 := I
  obtain ⟨q, cell, row, rat, who, wen, rfl, rfl, hI, hp, hq, hr, ha⟩ := I
  have hd : ∀ j, on j = true → d j < 2 ^ 30 := fun j z => by
    have := hI j z
    omega
  rcases tw_Bst_ex on d 16 with z | ⟨b, hb⟩
  · refine br_t ((tw_zero on).mpr z) ?_
    unfold wpY_toNext
    refine tw_nextY hd (fun _ => br_f (by decide) ⟨rfl, I'⟩) (fun c hc => ?_)
    have := hc.2.2.1
    rw [z c hc.2.1] at this
    exact absurd this (by decide)
  have hI1 := hI b hb.2.2.1
  obtain ⟨on', d', u', v', J, hX, hY⟩ := tw_toNext (N := d b - t) (by omega) (d b - t - 1) 0 (by omega) t b on d _ _ I0 (by omega) hb.2.1 hb.2.2.1 (by omega) (fun j z => by
    have := hb.2.2.2 j (Nat.zero_le _) (hI j z).1 z
    omega)
  refine br_f (fun z => ?_) (Exists.intro (d b - t - 1 + 2) (hX _ ?_))
  · have := hb.2.2.1
    rw [(tw_zero on).mp z b hb.2.1] at this
    exact absurd this (by decide)
  unfold wpY_toNext
  refine tw_nextY hd (fun z => ?_) (fun c hc => ?_)
  · have := hb.2.2.1
    rw [z b hb.2.1] at this
    exact absurd this (by decide)
  have ec := tw_Bst_u hc hb
  subst ec
  have hc1 := hc.2.1
  refine br_t (nI_pos' (by omega)) (And.intro (vp_in_nI hc1 (by decide)) (nm_r (e' := nI (d c - t)) ?_ (Exists.intro (d c - t - 1 + 2) (hY _ ⟨rfl, ?_⟩))))
  · rw [tw_fn_at d (by omega), pk_sub (by omega)]
  · exact ⟨_, on', d', p, by omega, J⟩
theorem i_vc_now {k : Nat} {u : SX} {v : SY} (I : i_Rel k u v) (hk : k + 4 ≤ 2048) : wpX_now (fun r => wpY_now (fun r' => r' = r ∧ i_Rel (k + 4) u v) v) u := by
  have I' := i_up I
  obtain ⟨t, on, d, p, ht, q, cell, row, rat, who, wen, rfl, rfl, hI, hp, hq, hr, ha⟩ := I
  exact And.intro rfl I'
theorem i_vc_timers {k : Nat} {u : SX} {v : SY} (I : i_Rel k u v) (hk : k + 4 ≤ 2048) : wpX_timers (fun r => wpY_timers (fun r' => r' = r ∧ i_Rel (k + 4) u v) v) u := by
  have I' := i_up I
  obtain ⟨t, on, d, p, ht, q, cell, row, rat, who, wen, rfl, rfl, hI, hp, hq, hr, ha⟩ := I
  exact Exists.intro 17 (tw_ty4 ⟨rfl, I'⟩ 16 0 rfl)
theorem i_vc_left {k : Nat} {u : SX} {v : SY} (I : i_Rel k u v) (hk : k + 4 ≤ 2048) (v1 : Int32) : wpX_left (fun r => wpY_left (fun r' => r' = r ∧ i_Rel (k + 4) u v) v v1) u v1 := by
  have I' := i_up I
  obtain ⟨t, on, d, p, ht, q, cell, row, rat, who, wen, rfl, rfl, hI, hp, hq, hr, ha⟩ := I
  unfold wpX_left
  rcases tw_no_or on v1 with hn | ⟨i, hi, rfl, eo⟩
  · refine tw_isSet_no hn (br_t rfl ?_)
    unfold wpY_left
    exact tw_is_no hn (br_t rfl ⟨rfl, I'⟩)
  have hv : vp_in (nI i) 16 := vp_in_nI hi (by decide)
  refine tw_isSet_t hi eo (br_f (by decide) (And.intro hv ?_))
  unfold wpY_left
  exact tw_is_t hi eo (br_f (by decide) (And.intro hv ⟨rfl, I'⟩))
theorem i_vc_next {k : Nat} {u : SX} {v : SY} (I : i_Rel k u v) (hk : k + 4 ≤ 2048) : wpX_next (fun r => wpY_next (fun r' => r' = r ∧ i_Rel (k + 4) u v) v) u := by
  have I' := i_up I
  obtain ⟨t, on, d, p, ht, q, cell, row, rat, who, wen, rfl, rfl, hI, hp, hq, hr, ha⟩ := I
  have hd : ∀ j, on j = true → d j < 2 ^ 30 := fun j z => by
    have := hI j z
    omega
  refine tw_nextX hd (fun z => ?_) (fun b hb => ?_)
  · refine tw_nextY hd (fun _ => ⟨rfl, I'⟩) (fun c hc => ?_)
    have := hc.2.2.1
    rw [z c hc.2.1] at this
    exact absurd this (by decide)
  · refine tw_nextY hd (fun z => ?_) (fun c hc => ⟨by rw [tw_Bst_u hc hb], I'⟩)
    have := hb.2.2.1
    rw [z b hb.2.1] at this
    exact absurd this (by decide)
theorem i_vc_within {k : Nat} {u : SX} {v : SY} (I : i_Rel k u v) (hk : k + 4 ≤ 2048) (v1 : Int32) : wpX_within (fun r => wpY_within (fun r' => r' = r ∧ i_Rel (k + 4) u v) v v1) u v1 := by
  have I' := i_up I
  obtain ⟨t, on, d, p, ht, q, cell, row, rat, who, wen, rfl, rfl, hI, hp, hq, hr, ha⟩ := I
  refine Exists.intro 17 (tw_wx4 ?_ 16 0 rfl)
  exact Exists.intro 17 (tw_wy4 ⟨rfl, I'⟩ 16 0 rfl)
theorem i_vc_rings {k : Nat} {u : SX} {v : SY} (I : i_Rel k u v) (hk : k + 4 ≤ 2048) : wpX_rings (fun r => wpY_rings (fun r' => r' = r ∧ i_Rel (k + 4) u v) v) u := by
  have I' := i_up I
  obtain ⟨t, on, d, p, ht, q, cell, row, rat, who, wen, rfl, rfl, hI, hp, hq, hr, ha⟩ := I
  exact And.intro rfl I'
theorem i_vc_rung {k : Nat} {u : SX} {v : SY} (I : i_Rel k u v) (hk : k + 4 ≤ 2048) (v1 : Int32) : wpX_rung (fun r => wpY_rung (fun r' => r' = r ∧ i_Rel (k + 4) u v) v v1) u v1 := by
  have I' := i_up I
  obtain ⟨t, on, d, p, ht, q, cell, row, rat, who, wen, rfl, rfl, hI, hp, hq, hr, ha⟩ := I
  unfold wpX_rung
  rcases tw_nn_or q v1 with hn | ⟨i, hi, rfl, h⟩
  · refine tw_isN_no hn (br_t rfl ?_)
    unfold wpY_rung
    exact tw_kept_no hn (br_t rfl ⟨rfl, I'⟩)
  refine tw_isN_t hi h (by omega) (br_f (by decide) (And.intro (by decide) ?_))
  rw [tw_ri h (by omega)]
  refine And.intro (vp_in_nI (Nat.mod_lt _ (by decide)) (by decide)) ?_
  unfold wpY_rung
  refine tw_kept_t hi h (by omega) (br_f (by decide) (And.intro (vp_in_nI hi (by decide)) ⟨?_, I'⟩))
  rw [nI_clamp (by omega), nI_clamp (by omega), hr i hi h]
theorem i_vc_rungAt {k : Nat} {u : SX} {v : SY} (I : i_Rel k u v) (hk : k + 4 ≤ 2048) (v1 : Int32) : wpX_rungAt (fun r => wpY_rungAt (fun r' => r' = r ∧ i_Rel (k + 4) u v) v v1) u v1 := by
  have I' := i_up I
  obtain ⟨t, on, d, p, ht, q, cell, row, rat, who, wen, rfl, rfl, hI, hp, hq, hr, ha⟩ := I
  unfold wpX_rungAt
  rcases tw_nn_or q v1 with hn | ⟨i, hi, rfl, h⟩
  · refine tw_isN_no hn (br_t rfl ?_)
    unfold wpY_rungAt
    exact tw_kept_no hn (br_t rfl ⟨rfl, I'⟩)
  refine tw_isN_t hi h (by omega) (br_f (by decide) (And.intro (by decide) ?_))
  rw [tw_ri h (by omega)]
  refine And.intro (vp_in_nI (Nat.mod_lt _ (by decide)) (by decide)) ?_
  unfold wpY_rungAt
  refine tw_kept_t hi h (by omega) (br_f (by decide) (And.intro (vp_in_nI hi (by decide)) ⟨?_, I'⟩))
  rw [nI_clamp (by omega), nI_clamp (by omega), ha i hi h]
theorem i_vc_repeat {k : Nat} {u : SX} {v : SY} (I : i_Rel k u v) (hk : k + 4 ≤ 2048) (v1 : Int32) (v2 : Int32) : wpX_repeat (fun r u' => wpY_repeat (fun r' v' => r' = r ∧ i_Rel (k + 4) u' v') v v1 v2) u v1 v2 := by
  have I' := i_up I
  obtain ⟨t, on, d, p, ht, q, cell, row, rat, who, wen, rfl, rfl, hI, hp, hq, hr, ha⟩ := I
  unfold wpX_repeat
  rcases tw_no_or on v1 with hn | ⟨i, hi, rfl, eo⟩
  · refine tw_isSet_no hn (br_t rfl ?_)
    unfold wpY_repeat
    exact tw_is_no hn (br_t rfl ⟨rfl, I'⟩)
  have hv : vp_in (nI i) 16 := vp_in_nI hi (by decide)
  refine tw_isSet_t hi eo (br_f (by decide) ?_)
  by_cases e : v2 < 0
  · refine br_t e (br_t rfl ?_)
    unfold wpY_repeat
    exact tw_is_t hi eo (br_f (by decide) (br_t e ⟨rfl, I'⟩))
  by_cases e2 : 500 < v2
  · refine br_f e (br_t e2 (br_t rfl ?_))
    unfold wpY_repeat
    exact tw_is_t hi eo (br_f (by decide) (br_f e (br_f (Int32.not_le.mpr e2) ⟨rfl, I'⟩)))
  obtain ⟨pd, hpd, rfl⟩ := tw_in0 (n := 500) (by decide) e e2
  have J : i_Rel (k + 4) (tw_X t on q d (tw_st p i pd) on cell row rat) (tw_Y t q on d (tw_st p i pd) who wen) := by
    refine ⟨t, _, _, _, by omega, q, _, row, rat, who, wen, rfl, rfl, hI, ?_, hq, hr, ha⟩
    intro j
    by_cases ej : j = i
    · subst ej
      rw [tw_sts]
      exact hpd
    · rw [tw_stn ej]
      exact hp j
  refine br_f e (br_f e2 (br_f (by decide) (And.intro hv (nm_r (e' := tw_fn (tw_st p i pd)) ?_ ?_))))
  · rw [nI_clamp (by omega)]
    exact tw_fn_upd (tw_short pd (by omega))
  unfold wpY_repeat
  refine tw_is_t hi eo (br_f (by decide) (br_f e (br_t (Int32.not_lt.mp e2) (And.intro hv (nm_r (e' := tw_fn (tw_st p i pd)) ?_ ⟨rfl, J⟩)))))
  rw [nI_clamp (by omega)]
  exact tw_fn_upd rfl
theorem i_vc_period {k : Nat} {u : SX} {v : SY} (I : i_Rel k u v) (hk : k + 4 ≤ 2048) (v1 : Int32) : wpX_period (fun r => wpY_period (fun r' => r' = r ∧ i_Rel (k + 4) u v) v v1) u v1 := by
  have I' := i_up I
  obtain ⟨t, on, d, p, ht, q, cell, row, rat, who, wen, rfl, rfl, hI, hp, hq, hr, ha⟩ := I
  unfold wpX_period
  rcases tw_no_or on v1 with hn | ⟨i, hi, rfl, eo⟩
  · refine tw_isSet_no hn (br_t rfl ?_)
    unfold wpY_period
    exact tw_is_no hn (br_t rfl ⟨rfl, I'⟩)
  have hv : vp_in (nI i) 16 := vp_in_nI hi (by decide)
  refine tw_isSet_t hi eo (br_f (by decide) (And.intro hv ?_))
  unfold wpY_period
  exact tw_is_t hi eo (br_f (by decide) (And.intro hv ⟨rfl, I'⟩))
end
