section
/-! rows taken from kit/rows (PURE-ROWS) -/
theorem pk_us {f : Nat → Int32} {k : Nat} {x : Int32} : upd f k x k = x := if_pos rfl
theorem pk_un {f : Nat → Int32} {k j : Nat} {x : Int32} (h : j ≠ k) : upd f k x j = f j := if_neg h
theorem pk_sub {a b : Nat} (h : b ≤ a) : nI a - nI b = nI (a - b) := by
  obtain ⟨c, rfl⟩ : ∃ c, a = c + b := ⟨a - b, by omega⟩
  rw [← nI_add, Int32.add_sub_cancel, Nat.add_sub_cancel]
theorem pk_m1 (n : Nat) : nI (n + 1) + (-1) = nI n := by
  rw [← nI_1, Int32.add_assoc, show (1 : Int32) + (-1) = 0 from rfl, Int32.add_zero]
theorem pk_mul (a b : Nat) : nI a * nI b = nI (a * b) := (Int32.ofNat_mul a b).symm
theorem pk_ix (x : Int32) {n : Nat} (hn : n < 2 ^ 31) : x < 0 ∨ nI n ≤ x ∨ ∃ j : Nat, j < n ∧ x = nI j := by
  by_cases h : x < 0
  · exact Or.inl h
  · obtain ⟨j, hj, rfl⟩ := nI_of h
    by_cases h2 : j < n
    · exact Or.inr (Or.inr ⟨j, h2, rfl⟩)
    · exact Or.inr (Or.inl (nI_le (by omega) hj))
theorem pk_le {x y : Int32} {A B : Prop} (a b : Nat) (f : a ≤ b → A) (g : b < a → B) (hx : x = nI a := by rfl) (hy : y = nI b := by rfl) (ha : a < 2 ^ 31 := by omega) (hb : b < 2 ^ 31 := by omega) : (x ≤ y → A) ∧ (¬ x ≤ y → B) := by
  subst hx hy
  rw [nI_leI ha hb]
  exact ⟨f, fun z => g (by omega)⟩
theorem pk_lt {x y : Int32} {A B : Prop} (a b : Nat) (f : a < b → A) (g : b ≤ a → B) (hx : x = nI a := by rfl) (hy : y = nI b := by rfl) (ha : a < 2 ^ 31 := by omega) (hb : b < 2 ^ 31 := by omega) : (x < y → A) ∧ (¬ x < y → B) := by
  subst hx hy
  rw [nI_ltI ha hb]
  exact ⟨f, fun z => g (by omega)⟩
theorem pk_eq {x y : Int32} {A B : Prop} (a b : Nat) (f : a = b → A) (g : a ≠ b → B) (hx : x = nI a := by rfl) (hy : y = nI b := by rfl) (ha : a < 2 ^ 31 := by omega) (hb : b < 2 ^ 31 := by omega) : (x = y → A) ∧ (¬ x = y → B) := by
  subst hx hy
  rw [nI_eq ha hb]
  exact ⟨f, g⟩
theorem pk_in {x : Int32} (n N : Nat) (h : n < N) (hx : x = nI n := by rfl) (hN : N < 2 ^ 31 := by omega) : vp_in x N := by
  subst hx
  exact vp_in_nI h hN
theorem pk_cl {x : Int32} (n : Nat) (hx : x = nI n := by rfl) (h : n < 2 ^ 31 := by omega) : x.toNatClampNeg = n := by
  subst hx
  exact nI_clamp h
theorem pk_tn {n : Nat} (h : n < 2 ^ 32) : (nI n).toBitVec.toNat = n := Nat.mod_eq_of_lt h
theorem pk_and (x : Int32) {m : Int32} (k : Nat) (hm : m.toBitVec.toNat = 2 ^ k - 1) : x &&& m = nI (x.toBitVec.toNat % 2 ^ k) := by
  apply Int32.toBitVec_inj.mp
  apply BitVec.eq_of_toNat_eq
  rw [Int32.toBitVec_and, BitVec.toNat_and, hm, Nat.and_two_pow_sub_one_eq_mod]
  show _ = (BitVec.ofNat 32 _).toNat
  rw [BitVec.toNat_ofNat]
  exact (Nat.mod_eq_of_lt (Nat.lt_of_le_of_lt (Nat.mod_le _ _) x.toBitVec.isLt)).symm
theorem pk_andN {n : Nat} (h : n < 2 ^ 32) {m : Int32} (k : Nat) (hm : m.toBitVec.toNat = 2 ^ k - 1) : nI n &&& m = nI (n % 2 ^ k) := by
  rw [pk_and _ k hm, pk_tn h]
theorem pk_shr (a s : Int32) (k : Nat) (hs : (s.toBitVec.smod 32).toNat = k) : (a >>> s).toInt = a.toInt >>> k := by
  show (a.toBitVec.sshiftRight (s.toBitVec.smod 32).toNat).toInt = _
  rw [hs, BitVec.toInt_sshiftRight]
  rfl
theorem pk_shrN {n : Nat} (h : n < 2 ^ 31) (s : Int32) (k : Nat) (hs : (s.toBitVec.smod 32).toNat = k) : nI n >>> s = nI (n / 2 ^ k) := by
  apply Int32.toInt_inj.mp
  have h2 : n / 2 ^ k ≤ n := Nat.div_le_self _ _
  rw [pk_shr _ _ k hs, nI_toInt h, nI_toInt (by omega), Int.shiftRight_eq_div_pow]
  rfl
theorem pk_vb (z : Int32) : vp_nar .byte z.toInt8.toInt32 = z.toInt8.toInt32 := by rw [vp_nar_byte]; simp
theorem pk_vs (z : Int32) : vp_nar .short z.toInt16.toInt32 = z.toInt16.toInt32 := by rw [vp_nar_short]; simp
/-! ===== arrays of naturals, indices ===== -/
def ar_n (f : Nat → Nat) : Nat → Int32 := fun j => nI (f j)
def ar_u (f : Nat → Nat) (k x : Nat) : Nat → Nat := fun j => if j = k then x else f j
theorem ar_us {f : Nat → Nat} {k x : Nat} : ar_u f k x k = x := if_pos rfl
theorem ar_un {f : Nat → Nat} {k x j : Nat} (h : j ≠ k) : ar_u f k x j = f j := if_neg h
theorem ar_uu (f : Nat → Nat) (k x : Nat) : upd (ar_n f) k (nI x) = ar_n (ar_u f k x) := by
  funext j
  by_cases h : j = k
  · subst h; rw [pk_us]; unfold ar_n; rw [ar_us]
  · rw [pk_un h]; unfold ar_n; rw [ar_un h]
theorem ar_c {f : Nat → Nat} {n : Nat} (h : n < 2 ^ 31) : ar_n f (nI n).toNatClampNeg = nI (f n) := by rw [nI_clamp h]; rfl
/-- vp_nar of a small natural -/
theorem ar_b {n : Nat} (h : n < 128) : vp_nar .byte (nI n) = nI n := by
  have key : ∀ m, m < 128 → (nI m).toInt8.toInt32 = nI m := by decide +kernel
  rw [vp_nar_byte, key n h]
theorem ar_bb {n : Nat} (h : n < 128) : vp_nar .byte (nI n).toInt8.toInt32 = nI n := by
  have key : ∀ m, m < 128 → (nI m).toInt8.toInt32 = nI m := by decide +kernel
  rw [pk_vb, key n h]
theorem ar_s {n : Nat} (h : n < 200) : vp_nar .short (nI n) = nI n := by
  have key : ∀ m, m < 200 → (nI m).toInt16.toInt32 = nI m := by decide +kernel
  rw [vp_nar_short, key n h]
theorem ar_ss {n : Nat} (h : n < 200) : vp_nar .short (nI n).toInt16.toInt32 = nI n := by
  have key : ∀ m, m < 200 → (nI m).toInt16.toInt32 = nI m := by decide +kernel
  rw [pk_vs, key n h]
theorem ar_z0 : vp_nar .boolean 0 = 0 := rfl
theorem ar_z1 : vp_nar .boolean 1 = 1 := rfl
theorem ar_b0 : vp_nar .byte 0 = nI 0 := ar_b (n := 0) (by decide)
theorem ar_b2 : vp_nar .byte 2 = nI 2 := ar_b (n := 2) (by decide)
/-- the indices of the node arrays -/
theorem ar_5 (n i : Nat) : nI n * 5 + nI i = nI (5 * n + i) := by
  show nI n * nI 5 + nI i = _
  rw [pk_mul, nI_add, Nat.mul_comm]
theorem ar_6 (n i : Nat) : nI n * 6 + nI i = nI (6 * n + i) := by
  show nI n * nI 6 + nI i = _
  rw [pk_mul, nI_add, Nat.mul_comm]
theorem ar_50 (n : Nat) : nI n * 5 = nI (5 * n) := by
  show nI n * nI 5 = _
  rw [pk_mul, Nat.mul_comm]
theorem ar_60 (n : Nat) : nI n * 6 = nI (6 * n) := by
  show nI n * nI 6 = _
  rw [pk_mul, Nat.mul_comm]
theorem ar_k (n k : Nat) : nI n + Int32.ofNat k = nI (n + k) := nI_add n k
theorem ar_m (n : Nat) (h : 0 < n) : nI n - 1 = nI (n - 1) := by
  obtain ⟨m, rfl⟩ : ∃ m, n = m + 1 := ⟨n - 1, by omega⟩
  exact nI_pred m
theorem ar_m' (n : Nat) (h : 0 < n) : nI n + (-1) = nI (n - 1) := by
  obtain ⟨m, rfl⟩ : ∃ m, n = m + 1 := ⟨n - 1, by omega⟩
  exact pk_m1 m
/-- an index, named: x is nI n, n within, and the rest -/
theorem ix_i {x : Int32} {N : Nat} {P : Prop} (n : Nat) (hx : x = nI n) (h : n < N) (hN : N < 2 ^ 31) (p : P) : vp_in x N ∧ P :=
  ⟨by subst hx; exact vp_in_nI h hN, p⟩
theorem ix_e {α : Sort _} {P : α → Prop} {a b : α} (e : a = b) (h : P b) : P a := by rw [e]; exact h
/-! ===== shifts of a piece of an array ===== -/
def ar_sh (f : Nat → Nat) (a b : Nat) : Nat → Nat := fun j => if a < j ∧ j ≤ b then f (j - 1) else f j
def ar_sd (f : Nat → Nat) (a b : Nat) : Nat → Nat := fun j => if a ≤ j ∧ j < b then f (j + 1) else f j
theorem ar_sh0 (f : Nat → Nat) (a : Nat) : ar_sh f a a = f := by
  funext j
  exact if_neg (by omega)
theorem ar_sd0 (f : Nat → Nat) (a : Nat) : ar_sd f a a = f := by
  funext j
  exact if_neg (by omega)
theorem ar_sh1 (f : Nat → Nat) {a b : Nat} (h : a < b) : ar_u (ar_sh f (a + 1) b) (a + 1) (ar_sh f (a + 1) b a) = ar_sh f a b := by
  funext j
  unfold ar_u ar_sh
  by_cases e : j = a + 1
  · subst e
    rw [if_pos rfl, if_neg (by omega), if_pos (by omega), Nat.add_sub_cancel]
  · rw [if_neg e]
    by_cases e2 : a + 1 < j ∧ j ≤ b
    · rw [if_pos e2, if_pos (by omega)]
    · rw [if_neg e2, if_neg (by omega)]
theorem ar_sd1 (f : Nat → Nat) {a b : Nat} (h : a ≤ b) : ar_u (ar_sd f a b) b (ar_sd f a b (b + 1)) = ar_sd f a (b + 1) := by
  funext j
  unfold ar_u ar_sd
  by_cases e : j = b
  · subst e
    rw [if_pos rfl, if_neg (by omega), if_pos (by omega)]
  · rw [if_neg e]
    by_cases e2 : a ≤ j ∧ j < b
    · rw [if_pos e2, if_pos (by omega)]
    · rw [if_neg e2, if_neg (by omega)]
end
section
/-! ===== a node's content: a list of (record before the child, child); its head is (0, first child) ===== -/
section ND
variable {co re ch co' re' ch' : Nat → Nat} {n m i j k x c r d : Nat} {P Q : List (Nat × Nat)} {e : Nat × Nat}
def nd_e (re ch : Nat → Nat) (n i : Nat) : Nat × Nat := (if i = 0 then 0 else re (5 * n + i - 1), ch (6 * n + i))
def nd_X (co re ch : Nat → Nat) (n : Nat) : List (Nat × Nat) := (List.range (co n + 1)).map (nd_e re ch n)
theorem nd_len (co re ch : Nat → Nat) (n : Nat) : (nd_X co re ch n).length = co n + 1 := by
  unfold nd_X
  rw [List.length_map, List.length_range]
theorem nd_get (h : i ≤ co n) : (nd_X co re ch n)[i]? = some (nd_e re ch n i) := by
  unfold nd_X
  rw [List.getElem?_map, List.getElem?_range (by omega)]
  rfl
theorem nd_mk {l : List (Nat × Nat)} (hl : l.length = co n + 1) (h : ∀ i, i ≤ co n → l[i]? = some (nd_e re ch n i)) : nd_X co re ch n = l := by
  apply List.ext_getElem?
  intro i
  by_cases hi : i ≤ co n
  · rw [nd_get hi, h i hi]
  · rw [List.getElem?_eq_none (by rw [nd_len]; omega), List.getElem?_eq_none (by omega)]
theorem nd_at (h : nd_X co re ch n = P ++ e :: Q) : P.length ≤ co n ∧ nd_e re ch n P.length = e := by
  have hl := nd_len co re ch n
  rw [h, List.length_append, List.length_cons] at hl
  refine ⟨by omega, ?_⟩
  have g := nd_get (re := re) (ch := ch) (show P.length ≤ co n by omega)
  rw [h, List.getElem?_append_right (Nat.le_refl _), Nat.sub_self] at g
  exact (Option.some.inj g).symm
theorem nd_ch (h : nd_X co re ch n = P ++ (x, c) :: Q) : ch (6 * n + P.length) = c := congrArg Prod.snd (nd_at h).2
theorem nd_re (h : nd_X co re ch n = P ++ (x, c) :: Q) (hi : P.length = i + 1) : re (5 * n + i) = x := by
  have g := congrArg Prod.fst (nd_at h).2
  rw [hi] at g
  unfold nd_e at g
  rw [if_neg (by omega)] at g
  exact g
theorem nd_co (h : nd_X co re ch n = P ++ Q) : co n + 1 = P.length + Q.length := by
  have hl := nd_len co re ch n
  rw [h, List.length_append] at hl
  omega
theorem nd_lo (h : nd_X co re ch n = P ++ Q) (hi : i < P.length) : P[i]? = some (nd_e re ch n i) := by
  have := nd_co h
  rw [← List.getElem?_append_left hi (l₂ := Q), ← h, nd_get]
  omega
theorem nd_hi (h : nd_X co re ch n = P ++ Q) (hj : P.length + j ≤ co n) : Q[j]? = some (nd_e re ch n (P.length + j)) := by
  have g := nd_get (re := re) (ch := ch) hj
  rw [h, List.getElem?_append_right (by omega), Nat.add_sub_cancel_left] at g
  exact g
theorem nd_mk2 (hl : P.length + Q.length = co n + 1) (h1 : ∀ i, i < P.length → P[i]? = some (nd_e re ch n i))
    (h2 : ∀ j, P.length + j ≤ co n → Q[j]? = some (nd_e re ch n (P.length + j))) : nd_X co re ch n = P ++ Q := by
  refine nd_mk (by rw [List.length_append]; exact hl) (fun i hi => ?_)
  by_cases h : i < P.length
  · rw [List.getElem?_append_left h, h1 i h]
  · obtain ⟨j, rfl⟩ : ∃ j, i = P.length + j := ⟨i - P.length, by omega⟩
    rw [List.getElem?_append_right (by omega), Nat.add_sub_cancel_left, h2 j hi]
theorem nd_mk3 (hl : P.length + 1 + Q.length = co n + 1) (h1 : ∀ i, i < P.length → P[i]? = some (nd_e re ch n i))
    (he : nd_e re ch n P.length = e) (h2 : ∀ j, P.length + 1 + j ≤ co n → Q[j]? = some (nd_e re ch n (P.length + 1 + j))) : nd_X co re ch n = P ++ e :: Q := by
  refine nd_mk2 (by rw [List.length_cons]; omega) h1 (fun j hj => ?_)
  cases j with
  | zero => rw [List.getElem?_cons_zero, Nat.add_zero, he]
  | succ j => rw [List.getElem?_cons_succ, h2 j (by omega)]; exact congrArg some (congrArg _ (by omega))
theorem nd_ee (h0 : i = 0 ↔ j = 0) (h1 : i ≠ 0 → re' (5 * n + i - 1) = re (5 * m + j - 1)) (h2 : ch' (6 * n + i) = ch (6 * m + j)) : nd_e re' ch' n i = nd_e re ch m j := by
  unfold nd_e
  rw [h2]
  by_cases z : i = 0
  · rw [if_pos z, if_pos (h0.mp z)]
  · rw [if_neg z, if_neg (fun y => z (h0.mpr y)), h1 z]
/-- what another node's writes leave -/
theorem nd_fr (hc : co' m = co m) (hm : co m ≤ 5) (hr : ∀ j, j < 5 → re' (5 * m + j) = re (5 * m + j)) (hh : ∀ j, j < 6 → ch' (6 * m + j) = ch (6 * m + j)) : nd_X co' re' ch' m = nd_X co re ch m := by
  refine nd_mk (by rw [nd_len, hc]) (fun i hi => ?_)
  rw [nd_get (by omega)]
  refine congrArg some (nd_ee Iff.rfl (fun z => ?_) (hh i (by omega)).symm)
  have := hr (i - 1) (by omega)
  rw [show 5 * m + (i - 1) = 5 * m + i - 1 by omega] at this
  exact this.symm
/-- set a record -/
theorem nd_sr (h : nd_X co re ch n = P ++ (x, c) :: Q) (hi : P.length = i + 1) : nd_X co (ar_u re (5 * n + i) r) ch n = P ++ (r, c) :: Q := by
  have hl := nd_co h
  rw [List.length_cons] at hl
  refine nd_mk3 (by omega) (fun j hj => ?_) ?_ (fun j hj => ?_)
  · rw [nd_lo h hj]
    exact congrArg some (nd_ee Iff.rfl (fun z => (ar_un (by omega)).symm) rfl)
  · have g := nd_ch h
    rw [hi] at g ⊢
    unfold nd_e
    rw [if_neg (by omega), g]
    exact congrArg (fun z => (z, c)) ar_us
  · have g := nd_hi h (j := j + 1) (by omega)
    rw [List.getElem?_cons_succ] at g
    rw [g]
    refine congrArg some (nd_ee (by omega) (fun z => ?_) ?_)
    · rw [ar_un (by omega)]; exact congrArg re (by omega)
    · exact congrArg ch (by omega)
/-- set a child -/
theorem nd_sc (h : nd_X co re ch n = P ++ (x, c) :: Q) (hi : P.length = i) : nd_X co re (ar_u ch (6 * n + i) d) n = P ++ (x, d) :: Q := by
  have hl := nd_co h
  rw [List.length_cons] at hl
  refine nd_mk3 (by omega) (fun j hj => ?_) ?_ (fun j hj => ?_)
  · rw [nd_lo h hj]
    exact congrArg some (nd_ee Iff.rfl (fun z => rfl) (ar_un (by omega)).symm)
  · have g := congrArg Prod.fst (nd_at h).2
    unfold nd_e at g ⊢
    dsimp only at g
    rw [g, hi]
    exact congrArg (fun z => (x, z)) ar_us
  · have g := nd_hi h (j := j + 1) (by omega)
    rw [List.getElem?_cons_succ] at g
    rw [g]
    refine congrArg some (nd_ee (by omega) (fun z => ?_) ?_)
    · exact congrArg re (by omega)
    · rw [ar_un (by omega)]; exact congrArg ch (by omega)
/-- room for record i and child i + 1, both set -/
theorem nd_in (h : nd_X co re ch n = P ++ Q) (hi : P.length = i + 1) :
    nd_X (ar_u co n (co n + 1)) (ar_u (ar_sh re (5 * n + i) (5 * n + co n)) (5 * n + i) r) (ar_u (ar_sh ch (6 * n + (i + 1)) (6 * n + (co n + 1))) (6 * n + (i + 1)) d) n = P ++ (r, d) :: Q := by
  have hl := nd_co h
  refine nd_mk3 (by rw [ar_us]; omega) (fun j hj => ?_) ?_ (fun j hj => ?_)
  · rw [nd_lo h hj]
    refine congrArg some (nd_ee Iff.rfl (fun z => ?_) ?_)
    · rw [ar_un (by omega)]; exact (if_neg (by omega)).symm
    · rw [ar_un (by omega)]; exact (if_neg (by omega)).symm
  · rw [hi]
    unfold nd_e
    rw [if_neg (by omega), ar_us]
    exact congrArg (fun z => (z, d)) ar_us
  · rw [ar_us] at hj
    rw [nd_hi h (by omega)]
    refine congrArg some (nd_ee (by omega) (fun z => ?_) ?_)
    · rw [ar_un (by omega)]
      refine Eq.symm ((if_pos (by omega)).trans (congrArg re (by omega)))
    · rw [ar_un (by omega)]
      refine Eq.symm ((if_pos (by omega)).trans (congrArg ch (by omega)))
/-- the gap of record i and child i + 1 closed -/
theorem nd_er (h : nd_X co re ch n = P ++ e :: Q) (hi : P.length = i + 1) :
    nd_X (ar_u co n (co n - 1)) (ar_sd re (5 * n + i) (5 * n + (co n - 1))) (ar_sd ch (6 * n + (i + 1)) (6 * n + (co n - 1 + 1))) n = P ++ Q := by
  have hl := nd_co h
  rw [List.length_cons] at hl
  refine nd_mk2 (by rw [ar_us]; omega) (fun j hj => ?_) (fun j hj => ?_)
  · rw [nd_lo h hj]
    refine congrArg some (nd_ee Iff.rfl (fun z => ?_) ?_)
    · exact (if_neg (by omega)).symm
    · exact (if_neg (by omega)).symm
  · rw [ar_us] at hj
    have g := nd_hi h (j := j + 1) (by omega)
    rw [List.getElem?_cons_succ] at g
    rw [g]
    refine congrArg some (nd_ee (by omega) (fun z => ?_) ?_)
    · refine Eq.symm ((if_pos (by omega)).trans (congrArg re (by omega)))
    · refine Eq.symm ((if_pos (by omega)).trans (congrArg ch (by omega)))
/-- cut short -/
theorem nd_tr (h : nd_X co re ch n = P ++ Q) (hi : P.length = k + 1) : nd_X (ar_u co n k) re ch n = P := by
  refine nd_mk (by rw [ar_us]; exact hi) (fun j hj => ?_)
  rw [ar_us] at hj
  exact nd_lo h (by omega)
/-- one more at the end -/
theorem nd_ap (h : nd_X co re ch n = P) : nd_X (ar_u co n (co n + 1)) (ar_u re (5 * n + co n) r) (ar_u ch (6 * n + (co n + 1)) d) n = P ++ [(r, d)] := by
  have h' : nd_X co re ch n = P ++ [] := by rw [h, List.append_nil]
  have hl := nd_co h'
  rw [List.length_nil] at hl
  refine nd_mk3 (by rw [ar_us, List.length_nil]; omega) (fun j hj => ?_) ?_ (fun j hj => ?_)
  · rw [nd_lo h' hj]
    refine congrArg some (nd_ee Iff.rfl (fun z => ?_) ?_)
    · exact (ar_un (by omega)).symm
    · exact (ar_un (by omega)).symm
  · rw [show P.length = co n + 1 by omega]
    unfold nd_e
    rw [if_neg (by omega), ar_us]
    exact congrArg (fun z => (z, d)) ar_us
  · rw [ar_us] at hj; omega
theorem nd_hd : ∃ Q, nd_X co re ch n = (0, ch (6 * n)) :: Q := by
  unfold nd_X
  rw [List.range_succ_eq_map, List.map_cons]
  exact ⟨_, rfl⟩
theorem nd_hd' (h : nd_X co re ch n = P ++ (x, c) :: Q) (hP : P = []) : x = 0 := by
  subst hP
  obtain ⟨Q', e⟩ := nd_hd (co := co) (re := re) (ch := ch) (n := n)
  rw [e] at h
  exact (congrArg Prod.fst (List.cons.inj h).1).symm
end ND
/-- the bounds that every content of the node arrays keeps -/
def nd_ok (co re ch : Nat → Nat) : Prop := (∀ m, co m ≤ 5) ∧ (∀ j, re j < 200) ∧ (∀ j, ch j ≤ 110)
end
section
/-! ===== trees by height over the contents: height 0 is nothing, a leaf has height 1 (its children are of no account) ===== -/
def tr_L (X : Nat → List (Nat × Nat)) : Nat → Nat → List Nat
  | 0, _ => []
  | h + 1, n => ((X n).flatMap (fun e => e.1 :: tr_L X h e.2)).tail
def tr_N (X : Nat → List (Nat × Nat)) : Nat → Nat → List Nat
  | 0, _ => []
  | h + 1, n => n :: (X n).flatMap (fun e => tr_N X h e.2)
def tr_z (h : Nat) : Nat := if h = 0 then 1 else 0
def tr_W (X : Nat → List (Nat × Nat)) (le : Nat → Nat) : Nat → Nat → Prop
  | 0, _ => True
  | h + 1, n => le n = tr_z h ∧ (X n).length ≤ 6 ∧ ∀ e, e ∈ X n → (0 < h → 3 ≤ (X e.2).length) ∧ tr_W X le h e.2
def tr_g (X : Nat → List (Nat × Nat)) (h : Nat) (e : Nat × Nat) : List Nat := e.1 :: tr_L X h e.2
def tr_n (X : Nat → List (Nat × Nat)) (h : Nat) (e : Nat × Nat) : List Nat := tr_N X h e.2
/-- the records of a node ahead of the child behind P and x -/
def tr_p (X : Nat → List (Nat × Nat)) (h : Nat) (P : List (Nat × Nat)) (x : Nat) : List Nat := (P.flatMap (tr_g X h) ++ [x]).tail
theorem fm_c {α β : Type} {l : List α} {f g : α → List β} (h : ∀ e, e ∈ l → f e = g e) : l.flatMap f = l.flatMap g := by
  induction l with
  | nil => rfl
  | cons a t ih => rw [List.flatMap_cons, List.flatMap_cons, h a (List.mem_cons_self ..), ih (fun e he => h e (List.mem_cons_of_mem _ he))]
theorem tr_z0 : tr_z 0 = 1 := rfl
theorem tr_z1 {h : Nat} (hh : 0 < h) : tr_z h = 0 := if_neg (by omega)
section TR
variable {X X' : Nat → List (Nat × Nat)} {le le' : Nat → Nat} {h n m x c : Nat} {P Q : List (Nat × Nat)} {F : List Nat}
theorem tr_L0 : tr_L X 0 n = [] := rfl
theorem tr_Ls : tr_L X (h + 1) n = ((X n).flatMap (tr_g X h)).tail := rfl
theorem tr_N0 : tr_N X 0 n = [] := rfl
theorem tr_Ns : tr_N X (h + 1) n = n :: (X n).flatMap (tr_n X h) := rfl
theorem tr_hd (h n : Nat) : n ∈ tr_N X (h + 1) n := List.mem_cons_self ..
theorem tr_hd1 (hh : 0 < h) (n : Nat) : n ∈ tr_N X h n := by
  obtain ⟨k, rfl⟩ : ∃ k, h = k + 1 := ⟨h - 1, by omega⟩
  exact tr_hd k n
theorem tr_sub {e : Nat × Nat} (he : e ∈ X n) (hm : m ∈ tr_N X h e.2) : m ∈ tr_N X (h + 1) n := by
  rw [tr_Ns]
  exact List.mem_cons_of_mem _ (List.mem_flatMap.mpr ⟨e, he, hm⟩)
theorem tr_mem (hm : m ∈ tr_N X (h + 1) n) : m = n ∨ ∃ e, e ∈ X n ∧ m ∈ tr_N X h e.2 := by
  rw [tr_Ns] at hm
  rcases List.mem_cons.mp hm with e | e
  · exact Or.inl e
  · exact Or.inr (List.mem_flatMap.mp e)
theorem tr_fr : ∀ (h n : Nat), (∀ m, m ∈ tr_N X h n → X' m = X m) → tr_L X' h n = tr_L X h n ∧ tr_N X' h n = tr_N X h n
  | 0, _, _ => ⟨rfl, rfl⟩
  | h + 1, n, H => by
    have hn : X' n = X n := H n (tr_hd _ n)
    have hk : ∀ e, e ∈ X n → tr_L X' h e.2 = tr_L X h e.2 ∧ tr_N X' h e.2 = tr_N X h e.2 := fun e he => tr_fr h e.2 (fun m hm => H m (tr_sub he hm))
    constructor
    · rw [tr_Ls, tr_Ls, hn, fm_c (fun e he => show tr_g X' h e = tr_g X h e by unfold tr_g; rw [(hk e he).1])]
    · rw [tr_Ns, tr_Ns, hn, fm_c (fun e he => show tr_n X' h e = tr_n X h e from (hk e he).2)]
theorem tr_frW : ∀ (h n : Nat), (∀ m, m ∈ tr_N X h n → X' m = X m ∧ le' m = le m) → tr_W X le h n → tr_W X' le' h n
  | 0, _, _, _ => trivial
  | h + 1, n, H, w => by
    obtain ⟨a, b⟩ := H n (tr_hd _ n)
    refine ⟨b.trans w.1, by rw [a]; exact w.2.1, fun e he => ?_⟩
    rw [a] at he
    obtain ⟨w1, w2⟩ := w.2.2 e he
    exact ⟨fun hh => by rw [(H e.2 (tr_sub he (tr_hd1 hh e.2))).1]; exact w1 hh, tr_frW h e.2 (fun m hm => H m (tr_sub he hm)) w2⟩
theorem tr_cl : ∀ (h n : Nat), tr_W X le h n → ∀ m, m ∈ tr_N X h n → le m = 0 → ∀ e, e ∈ X m → e.2 ∈ tr_N X h n
  | 0, n, w, m, hm, hl, e, he => absurd hm (by rw [tr_N0]; exact List.not_mem_nil)
  | h + 1, n, w, m, hm, hl, e, he => by
    rcases tr_mem hm with rfl | ⟨e', he', hm'⟩
    · have hh : 0 < h := by
        rcases Nat.eq_zero_or_pos h with z | z
        · have := w.1
          rw [hl, z] at this
          exact absurd this (by decide)
        · exact z
      exact tr_sub he (tr_hd1 hh e.2)
    · exact tr_sub he' (tr_cl h e'.2 (w.2.2 e' he').2 m hm' hl e he)
theorem tr_Ld (hX : X n = P ++ (x, c) :: Q) : tr_L X (h + 1) n = tr_p X h P x ++ (tr_L X h c ++ Q.flatMap (tr_g X h)) := by
  rw [tr_Ls, hX, List.flatMap_append, List.flatMap_cons]
  show (P.flatMap (tr_g X h) ++ (x :: tr_L X h c ++ Q.flatMap (tr_g X h))).tail = _
  rw [show P.flatMap (tr_g X h) ++ (x :: tr_L X h c ++ Q.flatMap (tr_g X h)) = (P.flatMap (tr_g X h) ++ [x]) ++ (tr_L X h c ++ Q.flatMap (tr_g X h)) by simp]
  rw [List.tail_append_of_ne_nil (by simp)]
  rfl
theorem tr_Nd (hX : X n = P ++ (x, c) :: Q) : tr_N X (h + 1) n = (n :: P.flatMap (tr_n X h)) ++ (tr_N X h c ++ Q.flatMap (tr_n X h)) := by
  rw [tr_Ns, hX, List.flatMap_append, List.flatMap_cons]
  rfl
theorem tr_p0 : tr_p X h [] x = [] := rfl
theorem tr_p1 {e : Nat × Nat} : tr_p X h (e :: P) x = tr_L X h e.2 ++ (P.flatMap (tr_g X h) ++ [x]) := by
  unfold tr_p
  rw [List.flatMap_cons]
  show ((e.1 :: tr_L X h e.2) ++ P.flatMap (tr_g X h) ++ [x]).tail = _
  simp
/-- three pieces without repetition -/
theorem nd_3 {A B C F : List Nat} (h : (A ++ (B ++ C) ++ F).Nodup) : (∀ a, a ∈ A → a ∉ B ∧ a ∉ F) ∧ (∀ a, a ∈ C → a ∉ B ∧ a ∉ F) ∧ (B ++ F).Nodup := by
  rw [List.nodup_append] at h
  obtain ⟨h1, h2, h3⟩ := h
  rw [List.nodup_append] at h1
  obtain ⟨h4, h5, h6⟩ := h1
  rw [List.nodup_append] at h5
  obtain ⟨h7, h8, h9⟩ := h5
  refine ⟨fun a ha => ⟨fun hb => h6 a ha a (List.mem_append.mpr (Or.inl hb)) rfl, fun hf => h3 a (List.mem_append.mpr (Or.inl ha)) a hf rfl⟩,
    fun a ha => ⟨fun hb => h9 a hb a ha rfl, fun hf => h3 a (List.mem_append.mpr (Or.inr (List.mem_append.mpr (Or.inr ha)))) a hf rfl⟩, ?_⟩
  rw [List.nodup_append]
  exact ⟨h7, h2, fun a ha b hb => h3 a (List.mem_append.mpr (Or.inr (List.mem_append.mpr (Or.inl ha)))) b hb⟩
theorem tr_nd1 (hX : X n = P ++ (x, c) :: Q) (nd : (tr_N X (h + 1) n ++ F).Nodup) :
    (n ∉ tr_N X h c ∧ n ∉ F) ∧ (∀ e, e ∈ P ∨ e ∈ Q → ∀ m, m ∈ tr_N X h e.2 → m ∉ tr_N X h c ∧ m ∉ F) ∧ (tr_N X h c ++ F).Nodup := by
  rw [tr_Nd hX] at nd
  obtain ⟨a, b, d⟩ := nd_3 nd
  refine ⟨a n (List.mem_cons_self ..), fun e he m hm => ?_, d⟩
  rcases he with he | he
  · exact a m (List.mem_cons_of_mem _ (List.mem_flatMap.mpr ⟨e, he, hm⟩))
  · exact b m (List.mem_flatMap.mpr ⟨e, he, hm⟩)
/-- a change within the subtree of one child (and the free nodes), seen from the parent -/
theorem tr_lift (hX : X n = P ++ (x, c) :: Q) (nd : (tr_N X (h + 1) n ++ F).Nodup) (fr : ∀ m, m ∉ tr_N X h c → m ∉ F → X' m = X m) :
    X' n = X n ∧ tr_L X' (h + 1) n = tr_p X h P x ++ (tr_L X' h c ++ Q.flatMap (tr_g X h)) ∧
    tr_N X' (h + 1) n = (n :: P.flatMap (tr_n X h)) ++ (tr_N X' h c ++ Q.flatMap (tr_n X h)) := by
  obtain ⟨⟨a1, a2⟩, b, d⟩ := tr_nd1 hX nd
  have hn := fr n a1 a2
  have hk : ∀ e, e ∈ P ∨ e ∈ Q → tr_L X' h e.2 = tr_L X h e.2 ∧ tr_N X' h e.2 = tr_N X h e.2 :=
    fun e he => tr_fr h e.2 (fun m hm => fr m (b e he m hm).1 (b e he m hm).2)
  have gP : P.flatMap (tr_g X' h) = P.flatMap (tr_g X h) := fm_c (fun e he => by unfold tr_g; rw [(hk e (Or.inl he)).1])
  have gQ : Q.flatMap (tr_g X' h) = Q.flatMap (tr_g X h) := fm_c (fun e he => by unfold tr_g; rw [(hk e (Or.inr he)).1])
  have nP : P.flatMap (tr_n X' h) = P.flatMap (tr_n X h) := fm_c (fun e he => (hk e (Or.inl he)).2)
  have nQ : Q.flatMap (tr_n X' h) = Q.flatMap (tr_n X h) := fm_c (fun e he => (hk e (Or.inr he)).2)
  refine ⟨hn, ?_, ?_⟩
  · rw [tr_Ld (hn.trans hX), gQ]
    unfold tr_p
    rw [gP]
  · rw [tr_Nd (hn.trans hX), nP, nQ]
theorem tr_liftW (hX : X n = P ++ (x, c) :: Q) (nd : (tr_N X (h + 1) n ++ F).Nodup) (fr : ∀ m, m ∉ tr_N X h c → m ∉ F → X' m = X m ∧ le' m = le m)
    (w : tr_W X le (h + 1) n) (wc : tr_W X' le' h c) (hc : 0 < h → 3 ≤ (X' c).length) : tr_W X' le' (h + 1) n := by
  obtain ⟨⟨a1, a2⟩, b, d⟩ := tr_nd1 hX nd
  obtain ⟨f1, f2⟩ := fr n a1 a2
  refine ⟨f2.trans w.1, by rw [f1]; exact w.2.1, fun e he => ?_⟩
  rw [f1, hX] at he
  have he' : e ∈ X n := by rw [hX]; exact he
  rcases List.mem_append.mp he with he | he
  · have := w.2.2 e he'
    have g := fun m hm => fr m (b e (Or.inl he) m hm).1 (b e (Or.inl he) m hm).2
    exact ⟨fun hh => by rw [(g e.2 (tr_hd1 hh e.2)).1]; exact this.1 hh, tr_frW h e.2 g this.2⟩
  · rcases List.mem_cons.mp he with rfl | he
    · exact ⟨hc, wc⟩
    · have := w.2.2 e he'
      have g := fun m hm => fr m (b e (Or.inr he) m hm).1 (b e (Or.inr he) m hm).2
      exact ⟨fun hh => by rw [(g e.2 (tr_hd1 hh e.2)).1]; exact this.1 hh, tr_frW h e.2 g this.2⟩
/-! counts -/
theorem tr_sum {f g : Nat × Nat → List Nat} {l : List (Nat × Nat)} (H : ∀ e, e ∈ l → 2 * (g e).length + 1 ≤ (f e).length) : 2 * (l.flatMap g).length + l.length ≤ (l.flatMap f).length := by
  induction l with
  | nil => simp
  | cons a t ih =>
    have h1 := H a (List.mem_cons_self ..)
    have h2 := ih (fun e he => H e (List.mem_cons_of_mem _ he))
    rw [List.flatMap_cons, List.flatMap_cons, List.length_append, List.length_append, List.length_cons]
    omega
theorem tr_cnt : ∀ (h n : Nat), tr_W X le (h + 1) n → 2 * (tr_N X (h + 1) n).length + (X n).length ≤ (tr_L X (h + 1) n).length + 3
  | 0, n, w => by
    have := tr_sum (f := tr_g X 0) (g := tr_n X 0) (l := X n) (fun e he => by unfold tr_n tr_g; rw [tr_L0, tr_N0]; simp)
    rw [tr_Ls, tr_Ns, List.length_tail, List.length_cons]
    omega
  | h + 1, n, w => by
    have H : ∀ e, e ∈ X n → 2 * (tr_n X (h + 1) e).length + 1 ≤ (tr_g X (h + 1) e).length := fun e he => by
      have a := tr_cnt h e.2 (w.2.2 e he).2
      have b := (w.2.2 e he).1 (by omega)
      unfold tr_n tr_g
      rw [List.length_cons]
      omega
    have := tr_sum H
    rw [tr_Ls, tr_Ns, List.length_tail, List.length_cons]
    omega
theorem tr_sum2 {f : Nat × Nat → List Nat} {k : Nat} {l : List (Nat × Nat)} (H : ∀ e, e ∈ l → k ≤ (f e).length) : k * l.length ≤ (l.flatMap f).length := by
  induction l with
  | nil => simp
  | cons a t ih =>
    have h1 := H a (List.mem_cons_self ..)
    have h2 := ih (fun e he => H e (List.mem_cons_of_mem _ he))
    rw [List.flatMap_cons, List.length_append, List.length_cons, Nat.mul_add, Nat.mul_one]
    omega
theorem tr_hgt : ∀ (h n : Nat), tr_W X le (h + 1) n → (0 < h → 2 ≤ (X n).length) → 2 ^ h ≤ (tr_L X (h + 1) n).length + 1
  | 0, n, w, _ => by simp
  | h + 1, n, w, h2 => by
    have H : ∀ e, e ∈ X n → 2 ^ h ≤ (tr_g X (h + 1) e).length := fun e he => by
      have a := tr_hgt h e.2 (w.2.2 e he).2 (fun _ => by have := (w.2.2 e he).1 (by omega); omega)
      unfold tr_g
      rw [List.length_cons]
      exact a
    have a := tr_sum2 H
    have b := Nat.mul_le_mul_left (2 ^ h) (h2 (by omega))
    rw [tr_Ls, List.length_tail, Nat.pow_succ]
    omega
end TR
end
section
/-! ===== the order of records, as one integer ===== -/
def ky_e (o k b : Int32) : Int := (o.toInt * 4294967296 + k.toInt) * 4294967296 + b.toInt
def ky_r (ro rk rb : Nat → Int32) (r : Nat) : Int := ky_e (ro r) (rk r) (rb r)
theorem ky_c1 {a b c a' b' c' : Int} (hb : -2147483648 ≤ b ∧ b < 2147483648) (hc : -2147483648 ≤ c ∧ c < 2147483648) (hb' : -2147483648 ≤ b' ∧ b' < 2147483648) (hc' : -2147483648 ≤ c' ∧ c' < 2147483648) (h : a < a') :
    (a * 4294967296 + b) * 4294967296 + c < (a' * 4294967296 + b') * 4294967296 + c' := by omega
theorem ky_bd (x : Int32) : -2147483648 ≤ x.toInt ∧ x.toInt < 2147483648 := ⟨x.le_toInt, x.toInt_lt⟩
theorem ky_lo {o k b o' k' b' : Int32} (h : o < o') : ky_e o k b < ky_e o' k' b' :=
  ky_c1 (ky_bd k) (ky_bd b) (ky_bd k') (ky_bd b') (Int32.lt_iff_toInt_lt.mp h)
theorem ky_lk {o k b k' b' : Int32} (h : k < k') : ky_e o k b < ky_e o k' b' := by
  have := ky_c1 (a := 0) (a' := 0 + 1) (ky_bd k) (ky_bd b) (ky_bd k') (ky_bd b') (by omega)
  have h1 := Int32.lt_iff_toInt_lt.mp h
  have h2 := ky_bd b
  have h3 := ky_bd b'
  unfold ky_e
  omega
theorem ky_lb {o k b b' : Int32} (h : b < b') : ky_e o k b < ky_e o k b' := by
  have h1 := Int32.lt_iff_toInt_lt.mp h
  unfold ky_e
  omega
theorem ky_tr (o o' : Int32) : o < o' ∨ o = o' ∨ o' < o := by
  rw [Int32.lt_iff_toInt_lt, Int32.lt_iff_toInt_lt, ← Int32.toInt_inj]
  omega
theorem ky_lt {o k b o' k' b' : Int32} : ky_e o k b < ky_e o' k' b' ↔ o < o' ∨ (o = o' ∧ (k < k' ∨ (k = k' ∧ b < b'))) := by
  constructor
  · intro h
    rcases ky_tr o o' with z | rfl | z
    · exact Or.inl z
    · refine Or.inr ⟨rfl, ?_⟩
      rcases ky_tr k k' with z | rfl | z
      · exact Or.inl z
      · refine Or.inr ⟨rfl, ?_⟩
        rcases ky_tr b b' with z | rfl | z
        · exact z
        · omega
        · have := ky_lb (o := o) (k := k) z; omega
      · have := ky_lk (o := o) (b := b') (b' := b) z; omega
    · have := ky_lo (k := k') (b := b') (k' := k) (b' := b) z; omega
  · rintro (h | ⟨rfl, h | ⟨rfl, h⟩⟩)
    · exact ky_lo h
    · exact ky_lk h
    · exact ky_lb h
theorem ky_inj {o k b o' k' b' : Int32} (h : ky_e o k b = ky_e o' k' b') : o = o' ∧ k = k' ∧ b = b' := by
  have n1 : ¬ ky_e o k b < ky_e o' k' b' := by omega
  have n2 : ¬ ky_e o' k' b' < ky_e o k b := by omega
  rw [ky_lt] at n1 n2
  rcases ky_tr o o' with z | rfl | z
  · exact absurd (Or.inl z) n1
  · rcases ky_tr k k' with z | rfl | z
    · exact absurd (Or.inr ⟨rfl, Or.inl z⟩) n1
    · rcases ky_tr b b' with z | rfl | z
      · exact absurd (Or.inr ⟨rfl, Or.inr ⟨rfl, z⟩⟩) n1
      · exact ⟨rfl, rfl, rfl⟩
      · exact absurd (Or.inr ⟨rfl, Or.inr ⟨rfl, z⟩⟩) n2
    · exact absurd (Or.inr ⟨rfl, Or.inl z⟩) n2
  · exact absurd (Or.inl z) n2
def ky_S (κ : Nat → Int) (L : List Nat) : Prop := L.Pairwise (fun a b => κ a < κ b)
section SO
variable {X : Nat → List (Nat × Nat)} {h n x c : Nat} {P B : List (Nat × Nat)} {κ : Nat → Int} {q : Int}
/-- a sorted tree, at the place of q in a node -/
theorem so_node (hX : X n = P ++ (x, c) :: B) (s : ky_S κ (tr_L X (h + 1) n)) (h1 : ∀ e, e ∈ (P ++ [(x, c)]).tail → κ e.1 < q) (h2 : ∀ e B', B = e :: B' → q ≤ κ e.1) :
    (∀ a, a ∈ tr_p X h P x → κ a < q) ∧ (∀ b, b ∈ B.flatMap (tr_g X h) → q ≤ κ b) ∧ ky_S κ (tr_L X h c) := by
  unfold ky_S at s ⊢
  rw [tr_Ld hX, List.pairwise_append] at s
  obtain ⟨s1, s2, s3⟩ := s
  rw [List.pairwise_append] at s2
  obtain ⟨s4, s5, s6⟩ := s2
  refine ⟨fun a ha => ?_, fun b hb => ?_, s4⟩
  · cases P with
    | nil => exact absurd ha List.not_mem_nil
    | cons e P =>
      have hx : κ x < q := h1 (x, c) (by simp)
      rw [tr_p1, ← List.append_assoc] at ha s1
      rw [List.pairwise_append] at s1
      rcases List.mem_append.mp ha with z | z
      · have := s1.2.2 a z x (List.mem_singleton.mpr rfl)
        omega
      · rw [List.mem_singleton.mp z]; exact hx
  · cases B with
    | nil => exact absurd hb List.not_mem_nil
    | cons e B =>
      have he := h2 e B rfl
      rw [List.flatMap_cons] at hb s5
      change b ∈ e.1 :: (tr_L X h e.2 ++ B.flatMap (tr_g X h)) at hb
      change List.Pairwise _ (e.1 :: (tr_L X h e.2 ++ B.flatMap (tr_g X h))) at s5
      rw [List.pairwise_cons] at s5
      rcases List.mem_cons.mp hb with z | z
      · rw [z]; exact he
      · have := s5.1 b z
        omega
/-- behind the first record of B all are greater -/
theorem so_node1 {y d : Nat} (hX : X n = P ++ (x, c) :: (y, d) :: B) (s : ky_S κ (tr_L X (h + 1) n)) : ∀ b, b ∈ tr_L X h d ++ B.flatMap (tr_g X h) → κ y < κ b := by
  unfold ky_S at s
  rw [tr_Ld hX, List.pairwise_append] at s
  obtain ⟨s1, s2, s3⟩ := s
  rw [List.pairwise_append] at s2
  obtain ⟨s4, s5, s6⟩ := s2
  rw [List.flatMap_cons] at s5
  change List.Pairwise _ (y :: (tr_L X h d ++ B.flatMap (tr_g X h))) at s5
  rw [List.pairwise_cons] at s5
  exact s5.1
end SO
section WX
variable {f_freeRecord f_done f_changes f_undo f_volume f_snaps f_syncing f_synced f_goal f_cObj f_cKey f_cBorn f_begun f_fObj f_fKey f_fValue f_fBorn : Int32} {fn : Nat} {co le re ch : Nat → Nat} {ro rk rb rd rv rw la rt sz pa sp ur ud uv ua sn : Nat → Int32}
variable {o k b : Int32} {n r : Nat}
theorem wx_compare {post : Int32 → Prop} (hr : r < 200) (h1 : ky_r ro rk rb r < ky_e o k b → post (-1)) (h2 : ky_r ro rk rb r = ky_e o k b → post 0) (h3 : ky_e o k b < ky_r ro rk rb r → post 1) : wpX_compare post ((nI fn), f_freeRecord, f_done, f_changes, f_undo, f_volume, f_snaps, f_syncing, f_synced, f_goal, f_cObj, f_cKey, f_cBorn, f_begun, f_fObj, f_fKey, f_fValue, f_fBorn, ro, rk, rb, rd, rv, rw, (ar_n co), (ar_n le), (ar_n re), (ar_n ch), la, rt, sz, pa, sp, ur, ud, uv, ua, sn) (nI r) o k b := by
  have v : vp_in (nI r) 200 := vp_in_nI hr (by decide)
  have c : (nI r).toNatClampNeg = r := nI_clamp (by omega)
  unfold wpX_compare
  dsimp only
  rw [c]
  unfold ky_r at h1 h2 h3
  refine ⟨v, br_c (fun e1 => ⟨v, br_c (fun e2 => ⟨v, br_c (fun e3 => ⟨v, br_c (fun e4 => h2 ?_) (fun e4 => h3 ?_)⟩) (fun e3 => h1 ?_)⟩) (fun e2 => ⟨v, br_c (fun e3 => h3 ?_) (fun e3 => h1 ?_)⟩)⟩) (fun e1 => ⟨v, br_c (fun e3 => h3 ?_) (fun e3 => h1 ?_)⟩)⟩
  · rw [e1, e2, Int32.le_antisymm e4 e3]
  · rw [e1, e2]; exact ky_lb (Int32.not_le.mp e4)
  · rw [e1, e2]; exact ky_lb (Int32.not_le.mp e3)
  · rw [e1]
    rcases ky_tr k (rk r) with z | z | z
    · exact ky_lk z
    · exact absurd z.symm e2
    · exact absurd e3 (Int32.not_le.mpr z)
  · rw [e1]; exact ky_lk (Int32.not_le.mp e3)
  · rcases ky_tr o (ro r) with z | z | z
    · exact ky_lo z
    · exact absurd z.symm e1
    · exact absurd e3 (Int32.not_le.mpr z)
  · exact ky_lo (Int32.not_le.mp e3)
theorem wx_place3 {post : Int32 → Prop} (ok : nd_ok co re ch) (hn : n < 110)
    (K : ∀ P x c B, nd_X co re ch n = P ++ (x, c) :: B → (∀ e, e ∈ (P ++ [(x, c)]).tail → ky_r ro rk rb e.1 < ky_e o k b) → (∀ e B', B = e :: B' → ky_e o k b ≤ ky_r ro rk rb e.1) → post (nI P.length)) :
    ∀ (f : Nat) (P : List (Nat × Nat)) (x c : Nat) (R : List (Nat × Nat)), nd_X co re ch n = P ++ (x, c) :: R → (∀ e, e ∈ (P ++ [(x, c)]).tail → ky_r ro rk rb e.1 < ky_e o k b) → R.length < f →
      wX_place_3 post (nI n) o k b (nI fn) f_freeRecord f_done f_changes f_undo f_volume f_snaps f_syncing f_synced f_goal f_cObj f_cKey f_cBorn f_begun f_fObj f_fKey f_fValue f_fBorn ro rk rb rd rv rw (ar_n co) (ar_n le) (ar_n re) (ar_n ch) la rt sz pa sp ur ud uv ua sn f (nI P.length) := by
  intro f
  induction f with
  | zero => intro P x c R _ _ h; omega
  | succ f ih =>
    intro P x c R hX hlt hf
    have hl := nd_co hX
    rw [List.length_cons] at hl
    have h5 := ok.1 n
    rw [wX_place_3]
    dsimp only
    rw [ar_c (f := co) (n := n) (by omega)]
    refine ⟨vp_in_nI hn (by decide), ?_⟩
    cases R with
    | nil =>
      rw [List.length_nil] at hl
      exact br_t (nI_le (by omega) (by omega)) (K P x c [] hX hlt (fun e B' h => by cases h))
    | cons e R =>
      obtain ⟨y, d⟩ := e
      rw [List.length_cons] at hl
      refine br_f (nI_ge (by omega) (by omega)) ?_
      rw [ar_5, ar_c (f := re) (by omega)]
      refine ⟨vp_in_nI (by omega) (by decide), ?_⟩
      have hX' : nd_X co re ch n = (P ++ [(x, c)]) ++ (y, d) :: R := by rw [hX, List.append_assoc]; rfl
      have hy : re (5 * n + P.length) = y := nd_re hX' (by rw [List.length_append]; rfl)
      have hy2 := ok.2.1 (5 * n + P.length)
      refine wx_compare (by omega) (fun z => ?_) (fun z => ?_) (fun z => ?_)
      · refine br_f (by decide) (nm_r (nI_1 _) ?_)
        have g := ih (P ++ [(x, c)]) y d R hX' (fun e he => ?_) (by rw [List.length_cons] at hf; omega)
        · rw [List.length_append] at g
          exact g
        · rw [List.tail_append_of_ne_nil (by simp)] at he
          rcases List.mem_append.mp he with he | he
          · exact hlt e he
          · rw [List.mem_singleton.mp he]
            rw [hy] at z
            exact z
      · rw [hy] at z
        exact br_t (by decide) (K P x c _ hX hlt (fun e B' h => by cases h; exact Int.le_of_eq z.symm))
      · rw [hy] at z
        exact br_t (by decide) (K P x c _ hX hlt (fun e B' h => by cases h; exact Int.le_of_lt z))
theorem wx_place {post : Int32 → Prop} (ok : nd_ok co re ch) (hn : n < 110)
    (K : ∀ P x c B, nd_X co re ch n = P ++ (x, c) :: B → (∀ e, e ∈ (P ++ [(x, c)]).tail → ky_r ro rk rb e.1 < ky_e o k b) → (∀ e B', B = e :: B' → ky_e o k b ≤ ky_r ro rk rb e.1) → post (nI P.length)) :
    wpX_place post ((nI fn), f_freeRecord, f_done, f_changes, f_undo, f_volume, f_snaps, f_syncing, f_synced, f_goal, f_cObj, f_cKey, f_cBorn, f_begun, f_fObj, f_fKey, f_fValue, f_fBorn, ro, rk, rb, rd, rv, rw, (ar_n co), (ar_n le), (ar_n re), (ar_n ch), la, rt, sz, pa, sp, ur, ud, uv, ua, sn) (nI n) o k b := by
  obtain ⟨Q, e⟩ := nd_hd (co := co) (re := re) (ch := ch) (n := n)
  exact ⟨Q.length + 1, wx_place3 ok hn K (Q.length + 1) [] 0 _ Q e (fun e he => absurd he List.not_mem_nil) (by omega)⟩
end WX
end
section
/-! ===== floor, after, visible, seen ===== -/
def fo_f (κ : Nat → Int) (q : Int) (L : List Nat) : Option Nat := (L.filter (fun r => decide (κ r ≤ q))).getLast?
def fo_a (κ : Nat → Int) (q : Int) (L : List Nat) : Option Nat := (L.filter (fun r => decide (q < κ r))).head?
def fo_I (o : Option Nat) (b : Int32) : Int32 := (o.map nI).getD b
section FO
variable {κ : Nat → Int} {q : Int} {A B C : List Nat} {X : Nat → List (Nat × Nat)} {h n x c : Nat} {P R : List (Nat × Nat)} {best : Int32}
theorem fo_fn (hp : ∀ a, a ∈ A → κ a ≤ q) (hb : ∀ b, b ∈ B → q < κ b) : fo_f κ q (A ++ (C ++ B)) = (fo_f κ q C).or A.getLast? := by
  have e1 : A.filter (fun r => decide (κ r ≤ q)) = A := List.filter_eq_self.mpr (fun a ha => decide_eq_true (hp a ha))
  have e2 : B.filter (fun r => decide (κ r ≤ q)) = [] := List.filter_eq_nil_iff.mpr (fun a ha => by have := hb a ha; simp; omega)
  unfold fo_f
  rw [List.filter_append, List.filter_append, e1, e2, List.append_nil, List.getLast?_append]
theorem fo_an (hp : ∀ a, a ∈ A → κ a ≤ q) (hb : ∀ b, b ∈ B → q < κ b) : fo_a κ q (A ++ (C ++ B)) = (fo_a κ q C).or B.head? := by
  have e1 : A.filter (fun r => decide (q < κ r)) = [] := List.filter_eq_nil_iff.mpr (fun a ha => by have := hp a ha; simp; omega)
  have e2 : B.filter (fun r => decide (q < κ r)) = B := List.filter_eq_self.mpr (fun a ha => decide_eq_true (hb a ha))
  unfold fo_a
  rw [List.filter_append, List.filter_append, e1, e2, List.nil_append, List.head?_append]
theorem fo_Io (o p : Option Nat) (b : Int32) : fo_I (o.or p) b = fo_I o (fo_I p b) := by
  cases o <;> rfl
theorem tr_pl0 : (tr_p X h [] x).getLast? = none := rfl
theorem tr_pl1 {e : Nat × Nat} : (tr_p X h (e :: P) x).getLast? = some x := by
  rw [tr_p1, ← List.append_assoc, List.getLast?_append]
  rfl
theorem fo_fl (hX : X n = P ++ (x, c) :: R) (hp : ∀ a, a ∈ tr_p X h P x → κ a ≤ q) (hb : ∀ b, b ∈ R.flatMap (tr_g X h) → q < κ b) :
    fo_I (fo_f κ q (tr_L X (h + 1) n)) best = fo_I (fo_f κ q (tr_L X h c)) (fo_I (tr_p X h P x).getLast? best) := by
  rw [tr_Ld hX, fo_fn hp hb, fo_Io]
theorem fo_al (hX : X n = P ++ (x, c) :: R) (hp : ∀ a, a ∈ tr_p X h P x → κ a ≤ q) (hb : ∀ b, b ∈ R.flatMap (tr_g X h) → q < κ b) :
    fo_I (fo_a κ q (tr_L X (h + 1) n)) best = fo_I (fo_a κ q (tr_L X h c)) (fo_I (R.flatMap (tr_g X h)).head? best) := by
  rw [tr_Ld hX, fo_an hp hb, fo_Io]
theorem fo_fx {y d : Nat} (hX : X n = P ++ (x, c) :: (y, d) :: R) (s : ky_S κ (tr_L X (h + 1) n)) (hy : κ y = q) : fo_f κ q (tr_L X (h + 1) n) = some y := by
  have s1 := so_node1 hX s
  have e : tr_L X (h + 1) n = (tr_p X h P x ++ tr_L X h c) ++ ([y] ++ (tr_L X h d ++ R.flatMap (tr_g X h))) := by
    rw [tr_Ld hX, List.flatMap_cons, List.append_assoc]
    rfl
  unfold ky_S at s
  rw [e, List.pairwise_append] at s
  rw [e, fo_fn (fun a ha => ?_) (fun b hb => by rw [← hy]; exact s1 b hb)]
  · have : fo_f κ q [y] = some y := by
      unfold fo_f
      rw [List.filter_eq_self.mpr (fun a ha => decide_eq_true (by rw [List.mem_singleton.mp ha]; omega))]
      rfl
    rw [this]
    rfl
  · have := s.2.2 a ha y (List.mem_append.mpr (Or.inl (List.mem_singleton.mpr rfl)))
    omega
/-- floor's answer: the greatest at or before q -/
theorem fo_fs (s : ky_S κ A) {r : Nat} (e : fo_f κ q A = some r) : r ∈ A ∧ κ r ≤ q ∧ ∀ a, a ∈ A → κ a ≤ q → a = r ∨ κ a < κ r := by
  unfold fo_f at e
  have hm := List.mem_of_getLast? e
  rw [List.mem_filter] at hm
  refine ⟨hm.1, of_decide_eq_true hm.2, fun a ha hq => ?_⟩
  have hf : (A.filter (fun r => decide (κ r ≤ q))).Pairwise (fun a b => κ a < κ b) := List.Pairwise.filter _ s
  obtain ⟨l, hl⟩ := List.getLast?_eq_some_iff.mp e
  have ha' : a ∈ A.filter (fun r => decide (κ r ≤ q)) := List.mem_filter.mpr ⟨ha, decide_eq_true hq⟩
  rw [hl] at ha' hf
  rcases List.mem_append.mp ha' with z | z
  · exact Or.inr ((List.pairwise_append.mp hf).2.2 a z r (List.mem_singleton.mpr rfl))
  · exact Or.inl (List.mem_singleton.mp z)
theorem fo_f0 (e : fo_f κ q A = none) : ∀ a, a ∈ A → q < κ a := by
  unfold fo_f at e
  rw [List.getLast?_eq_none_iff, List.filter_eq_nil_iff] at e
  intro a ha
  have := e a ha
  simp at this
  omega
theorem fo_as (s : ky_S κ A) {r : Nat} (e : fo_a κ q A = some r) : r ∈ A ∧ q < κ r ∧ ∀ a, a ∈ A → q < κ a → a = r ∨ κ r < κ a := by
  unfold fo_a at e
  have hm := List.mem_of_head? e
  rw [List.mem_filter] at hm
  refine ⟨hm.1, of_decide_eq_true hm.2, fun a ha hq => ?_⟩
  have hf : (A.filter (fun r => decide (q < κ r))).Pairwise (fun a b => κ a < κ b) := List.Pairwise.filter _ s
  obtain ⟨l, hl⟩ := List.head?_eq_some_iff.mp e
  have ha' : a ∈ A.filter (fun r => decide (q < κ r)) := List.mem_filter.mpr ⟨ha, decide_eq_true hq⟩
  rw [hl] at ha' hf
  rcases List.mem_cons.mp ha' with z | z
  · exact Or.inl z
  · exact Or.inr ((List.pairwise_cons.mp hf).1 a z)
theorem fo_a0 (e : fo_a κ q A = none) : ∀ a, a ∈ A → κ a ≤ q := by
  unfold fo_a at e
  rw [List.head?_eq_none_iff, List.filter_eq_nil_iff] at e
  intro a ha
  have := e a ha
  simp at this
  omega
end FO
section WX
variable {f_freeRecord f_done f_changes f_undo f_volume f_snaps f_syncing f_synced f_goal f_cObj f_cKey f_cBorn f_begun f_fObj f_fKey f_fValue f_fBorn : Int32} {fn : Nat} {co le re ch : Nat → Nat} {ro rk rb rd rv rw la rt sz pa sp ur ud uv ua sn : Nat → Int32}
variable {o k b : Int32} {n r v i d c : Nat} {best : Int32} {post : Int32 → Prop} {J : Int32 → Int32 → Int32 → Prop}
theorem wx_floor102 (hn : n < 110) (hi : i < 6) (h1 : le n ≠ 0 → le n = 1 ∧ post best) (h2 : le n = 0 → J (nI (ch (6 * n + i))) best (nI (d + 1))) :
    wX_floor_102 post J o k b (nI n) best (nI d) (nI i) (nI fn) f_freeRecord f_done f_changes f_undo f_volume f_snaps f_syncing f_synced f_goal f_cObj f_cKey f_cBorn f_begun f_fObj f_fKey f_fValue f_fBorn ro rk rb rd rv rw (ar_n co) (ar_n le) (ar_n re) (ar_n ch) la rt sz pa sp ur ud uv ua sn := by
  unfold wX_floor_102
  rw [ar_c (f := le) (by omega), ar_6, ar_c (f := ch) (by omega)]
  refine ⟨vp_in_nI hn (by decide), ?_⟩
  by_cases z : le n = 0
  · rw [z]
    exact br_t rfl ⟨vp_in_nI (by omega) (by decide), nm_e (nm_r (nI_1 d) (h2 z))⟩
  · obtain ⟨a, p⟩ := h1 z
    rw [a]
    exact br_f (by decide) p
theorem tr_zc {le : Nat → Nat} {n h : Nat} (w : le n = tr_z h) : (le n ≠ 0 → le n = 1 ∧ h = 0) ∧ (le n = 0 → 0 < h) := by
  rw [w]
  rcases Nat.eq_zero_or_pos h with z | z
  · subst z
    exact ⟨fun _ => ⟨rfl, rfl⟩, fun y => absurd y (by decide)⟩
  · rw [tr_z1 z]
    exact ⟨fun y => absurd rfl y, fun _ => z⟩
theorem wx_floor14 (ok : nd_ok co re ch) : ∀ (h f n d : Nat) (best : Int32), 0 < h → tr_W (nd_X co re ch) le h n → (∀ m, m ∈ tr_N (nd_X co re ch) h n → m < 110) → ky_S (ky_r ro rk rb) (tr_L (nd_X co re ch) h n) → h < f → d + h ≤ 10 →
    post (fo_I (fo_f (ky_r ro rk rb) (ky_e o k b) (tr_L (nd_X co re ch) h n)) best) → wX_floor_14 post o k b (nI fn) f_freeRecord f_done f_changes f_undo f_volume f_snaps f_syncing f_synced f_goal f_cObj f_cKey f_cBorn f_begun f_fObj f_fKey f_fValue f_fBorn ro rk rb rd rv rw (ar_n co) (ar_n le) (ar_n re) (ar_n ch) la rt sz pa sp ur ud uv ua sn f (nI n) best (nI d) := by
  intro h
  induction h with
  | zero => intro f n d best h0; omega
  | succ h ih =>
    intro f n d best _ w hN hS hf hd hp
    obtain ⟨f, rfl⟩ : ∃ g, f = g + 1 := ⟨f - 1, by omega⟩
    have hn : n < 110 := hN n (tr_hd _ n)
    have h5 := ok.1 n
    rw [wX_floor_14]
    dsimp only
    refine br_f (nI_ge (b := 10) (by omega) (by decide)) (wx_place ok hn ?_)
    intro P x c B hX h1 h2
    obtain ⟨p1, p2, p3⟩ := so_node hX hS h1 h2
    have hl := nd_co hX
    rw [List.length_cons] at hl
    have hc := nd_ch hX
    have hcm : (x, c) ∈ nd_X co re ch n := by rw [hX]; simp
    have J : (∀ b', b' ∈ B.flatMap (tr_g (nd_X co re ch) h) → ky_e o k b < ky_r ro rk rb b') → wX_floor_81 post (wX_floor_14 post o k b (nI fn) f_freeRecord f_done f_changes f_undo f_volume f_snaps f_syncing f_synced f_goal f_cObj f_cKey f_cBorn f_begun f_fObj f_fKey f_fValue f_fBorn ro rk rb rd rv rw (ar_n co) (ar_n le) (ar_n re) (ar_n ch) la rt sz pa sp ur ud uv ua sn f) o k b (nI n) best (nI d) (nI P.length) (nI fn) f_freeRecord f_done f_changes f_undo f_volume f_snaps f_syncing f_synced f_goal f_cObj f_cKey f_cBorn f_begun f_fObj f_fKey f_fValue f_fBorn ro rk rb rd rv rw (ar_n co) (ar_n le) (ar_n re) (ar_n ch) la rt sz pa sp ur ud uv ua sn := by
      intro hB
      rw [fo_fl hX (fun a ha => Int.le_of_lt (p1 a ha)) hB] at hp
      have J2 : wX_floor_102 post (wX_floor_14 post o k b (nI fn) f_freeRecord f_done f_changes f_undo f_volume f_snaps f_syncing f_synced f_goal f_cObj f_cKey f_cBorn f_begun f_fObj f_fKey f_fValue f_fBorn ro rk rb rd rv rw (ar_n co) (ar_n le) (ar_n re) (ar_n ch) la rt sz pa sp ur ud uv ua sn f) o k b (nI n) (fo_I (tr_p (nd_X co re ch) h P x).getLast? best) (nI d) (nI P.length) (nI fn) f_freeRecord f_done f_changes f_undo f_volume f_snaps f_syncing f_synced f_goal f_cObj f_cKey f_cBorn f_begun f_fObj f_fKey f_fValue f_fBorn ro rk rb rd rv rw (ar_n co) (ar_n le) (ar_n re) (ar_n ch) la rt sz pa sp ur ud uv ua sn := by
        refine wx_floor102 hn (by omega) (fun z => ?_) (fun z => ?_)
        · obtain ⟨z1, z2⟩ := (tr_zc w.1).1 z
          subst z2
          exact ⟨z1, hp⟩
        · have z2 := (tr_zc w.1).2 z
          rw [hc]
          exact ih f c (d + 1) _ z2 (w.2.2 (x, c) hcm).2 (fun m hm => hN m (tr_sub hcm hm)) p3 (by omega) (by omega) hp
      unfold wX_floor_81
      cases P with
      | nil =>
        exact br_t (by decide) J2
      | cons e P =>
        rw [tr_pl1] at J2
        refine br_f (nI_ge (a := 0) (by simp) (by simp at hl ⊢; omega)) ?_
        rw [ar_5, ar_m _ (by simp; omega), ar_c (f := re) (by simp at hl ⊢; omega)]
        refine ⟨vp_in_nI (by simp at hl ⊢; omega) (by decide), nm_r (e' := nI x) ?_ J2⟩
        have := nd_re hX (i := P.length) rfl
        rw [show 5 * n + (e :: P).length - 1 = 5 * n + P.length by simp, this]
    rw [ar_c (f := co) (by omega)]
    refine ⟨vp_in_nI hn (by decide), ?_⟩
    cases B with
    | nil =>
      rw [List.length_nil] at hl
      exact br_t (nI_le (by omega) (by omega)) (J (fun b' hb => absurd hb List.not_mem_nil))
    | cons e B =>
      obtain ⟨y, dd⟩ := e
      rw [List.length_cons] at hl
      have hX' : nd_X co re ch n = (P ++ [(x, c)]) ++ (y, dd) :: B := by rw [hX, List.append_assoc]; rfl
      have hy : re (5 * n + P.length) = y := nd_re hX' (by rw [List.length_append]; rfl)
      have hy2 := ok.2.1 (5 * n + P.length)
      refine br_f (nI_ge (by omega) (by omega)) ?_
      rw [ar_5, ar_c (f := re) (by omega), hy]
      have hv : vp_in (nI (5 * n + P.length)) 550 := vp_in_nI (by omega) (by decide)
      refine ⟨hv, wx_compare (by omega) (fun z => ?_) (fun z => ?_) (fun z => ?_)⟩
      · have := h2 (y, dd) B rfl
        exact absurd z (Int.not_lt.mpr this)
      · refine br_t rfl ⟨hv, ?_⟩
        rw [fo_fx hX hS z] at hp
        exact hp
      · refine br_f (by decide) (J (fun b' hb => ?_))
        rw [List.flatMap_cons] at hb
        rcases List.mem_append.mp hb with hb | hb
        · rcases List.mem_cons.mp hb with hb | hb
          · rw [hb]; exact z
          · have := so_node1 hX hS b' (List.mem_append.mpr (Or.inl hb))
            omega
        · have := so_node1 hX hS b' (List.mem_append.mpr (Or.inr hb))
          omega
theorem wx_floor {h : Nat} (ok : nd_ok co re ch) (hv : v < 2) (hr : rt v = nI n) (h0 : 0 < h) (h9 : h ≤ 10) (w : tr_W (nd_X co re ch) le h n) (hN : ∀ m, m ∈ tr_N (nd_X co re ch) h n → m < 110) (hS : ky_S (ky_r ro rk rb) (tr_L (nd_X co re ch) h n))
    (hp : post (fo_I (fo_f (ky_r ro rk rb) (ky_e o k b) (tr_L (nd_X co re ch) h n)) (-1))) : wpX_floor post ((nI fn), f_freeRecord, f_done, f_changes, f_undo, f_volume, f_snaps, f_syncing, f_synced, f_goal, f_cObj, f_cKey, f_cBorn, f_begun, f_fObj, f_fKey, f_fValue, f_fBorn, ro, rk, rb, rd, rv, rw, (ar_n co), (ar_n le), (ar_n re), (ar_n ch), la, rt, sz, pa, sp, ur, ud, uv, ua, sn) (nI v) o k b := by
  unfold wpX_floor
  dsimp only
  rw [nI_clamp (by omega), hr]
  exact ⟨vp_in_nI hv (by decide), nm_e ⟨h + 1, wx_floor14 ok h (h + 1) n 0 (-1) h0 w hN hS (by omega) (by omega) hp⟩⟩
theorem fo_hd {X : Nat → List (Nat × Nat)} {h y d : Nat} {B : List (Nat × Nat)} {best : Int32} : fo_I (((y, d) :: B).flatMap (tr_g X h)).head? best = nI y := rfl
theorem wx_after97 (hn : n < 110) (hi : i < 6) (h1 : le n ≠ 0 → le n = 1 ∧ post best) (h2 : le n = 0 → J (nI (ch (6 * n + i))) best (nI (d + 1))) :
    wX_after_97 post J o k b (nI n) best (nI d) (nI i) (nI fn) f_freeRecord f_done f_changes f_undo f_volume f_snaps f_syncing f_synced f_goal f_cObj f_cKey f_cBorn f_begun f_fObj f_fKey f_fValue f_fBorn ro rk rb rd rv rw (ar_n co) (ar_n le) (ar_n re) (ar_n ch) la rt sz pa sp ur ud uv ua sn := by
  unfold wX_after_97
  rw [ar_c (f := le) (by omega), ar_6, ar_c (f := ch) (by omega)]
  refine ⟨vp_in_nI hn (by decide), ?_⟩
  by_cases z : le n = 0
  · rw [z]
    exact br_t rfl ⟨vp_in_nI (by omega) (by decide), nm_e (nm_r (nI_1 d) (h2 z))⟩
  · obtain ⟨a, p⟩ := h1 z
    rw [a]
    exact br_f (by decide) p
theorem wx_after14 (ok : nd_ok co re ch) : ∀ (h f n d : Nat) (best : Int32), 0 < h → tr_W (nd_X co re ch) le h n → (∀ m, m ∈ tr_N (nd_X co re ch) h n → m < 110) → ky_S (ky_r ro rk rb) (tr_L (nd_X co re ch) h n) → h < f → d + h ≤ 10 →
    post (fo_I (fo_a (ky_r ro rk rb) (ky_e o k b) (tr_L (nd_X co re ch) h n)) best) → wX_after_14 post o k b (nI fn) f_freeRecord f_done f_changes f_undo f_volume f_snaps f_syncing f_synced f_goal f_cObj f_cKey f_cBorn f_begun f_fObj f_fKey f_fValue f_fBorn ro rk rb rd rv rw (ar_n co) (ar_n le) (ar_n re) (ar_n ch) la rt sz pa sp ur ud uv ua sn f (nI n) best (nI d) := by
  intro h
  induction h with
  | zero => intro f n d best h0; omega
  | succ h ih =>
    intro f n d best _ w hN hS hf hd hp
    obtain ⟨f, rfl⟩ : ∃ g, f = g + 1 := ⟨f - 1, by omega⟩
    have hn : n < 110 := hN n (tr_hd _ n)
    have h5 := ok.1 n
    rw [wX_after_14]
    dsimp only
    refine br_f (nI_ge (b := 10) (by omega) (by decide)) (wx_place ok hn ?_)
    intro P x c B hX h1 h2
    obtain ⟨p1, p2, p3⟩ := so_node hX hS h1 h2
    have hl := nd_co hX
    rw [List.length_cons] at hl
    have J : ∀ P x c B, nd_X co re ch n = P ++ (x, c) :: B → ky_S (ky_r ro rk rb) (tr_L (nd_X co re ch) h c) → (∀ a, a ∈ tr_p (nd_X co re ch) h P x → ky_r ro rk rb a ≤ ky_e o k b) → (∀ b', b' ∈ B.flatMap (tr_g (nd_X co re ch) h) → ky_e o k b < ky_r ro rk rb b') → wX_after_71 post (wX_after_14 post o k b (nI fn) f_freeRecord f_done f_changes f_undo f_volume f_snaps f_syncing f_synced f_goal f_cObj f_cKey f_cBorn f_begun f_fObj f_fKey f_fValue f_fBorn ro rk rb rd rv rw (ar_n co) (ar_n le) (ar_n re) (ar_n ch) la rt sz pa sp ur ud uv ua sn f) o k b (nI n) best (nI d) (nI P.length) (nI fn) f_freeRecord f_done f_changes f_undo f_volume f_snaps f_syncing f_synced f_goal f_cObj f_cKey f_cBorn f_begun f_fObj f_fKey f_fValue f_fBorn ro rk rb rd rv rw (ar_n co) (ar_n le) (ar_n re) (ar_n ch) la rt sz pa sp ur ud uv ua sn := by
      intro P x c B hX p3 hA hB
      have hc := nd_ch hX
      have hl := nd_co hX
      rw [List.length_cons] at hl
      have hcm : (x, c) ∈ nd_X co re ch n := by rw [hX]; simp
      rw [fo_al hX hA hB] at hp
      have J2 : wX_after_97 post (wX_after_14 post o k b (nI fn) f_freeRecord f_done f_changes f_undo f_volume f_snaps f_syncing f_synced f_goal f_cObj f_cKey f_cBorn f_begun f_fObj f_fKey f_fValue f_fBorn ro rk rb rd rv rw (ar_n co) (ar_n le) (ar_n re) (ar_n ch) la rt sz pa sp ur ud uv ua sn f) o k b (nI n) (fo_I (B.flatMap (tr_g (nd_X co re ch) h)).head? best) (nI d) (nI P.length) (nI fn) f_freeRecord f_done f_changes f_undo f_volume f_snaps f_syncing f_synced f_goal f_cObj f_cKey f_cBorn f_begun f_fObj f_fKey f_fValue f_fBorn ro rk rb rd rv rw (ar_n co) (ar_n le) (ar_n re) (ar_n ch) la rt sz pa sp ur ud uv ua sn := by
        refine wx_after97 hn (by omega) (fun z => ?_) (fun z => ?_)
        · obtain ⟨z1, z2⟩ := (tr_zc w.1).1 z
          subst z2
          exact ⟨z1, hp⟩
        · have z2 := (tr_zc w.1).2 z
          rw [hc]
          exact ih f c (d + 1) _ z2 (w.2.2 (x, c) hcm).2 (fun m hm => hN m (tr_sub hcm hm)) p3 (by omega) (by omega) hp
      unfold wX_after_71
      rw [ar_c (f := co) (by omega), ar_5, ar_c (f := re) (by omega)]
      refine ⟨vp_in_nI hn (by decide), ?_⟩
      cases B with
      | nil =>
        rw [List.length_nil] at hl
        exact br_t (nI_le (by omega) (by omega)) J2
      | cons e B =>
        obtain ⟨y, dd⟩ := e
        rw [List.length_cons] at hl
        have hX' : nd_X co re ch n = (P ++ [(x, c)]) ++ (y, dd) :: B := by rw [hX, List.append_assoc]; rfl
        have hy : re (5 * n + P.length) = y := nd_re hX' (by rw [List.length_append]; rfl)
        rw [fo_hd] at J2
        refine br_f (nI_ge (by omega) (by omega)) ⟨vp_in_nI (by omega) (by decide), nm_r (e' := nI y) (by rw [hy]) J2⟩
    have hA : ∀ a, a ∈ tr_p (nd_X co re ch) h P x → ky_r ro rk rb a ≤ ky_e o k b := fun a ha => Int.le_of_lt (p1 a ha)
    rw [ar_c (f := co) (by omega)]
    refine ⟨vp_in_nI hn (by decide), ?_⟩
    cases B with
    | nil =>
      rw [List.length_nil] at hl
      exact br_t (nI_le (by omega) (by omega)) (J P x c [] hX p3 hA (fun b' hb => absurd hb List.not_mem_nil))
    | cons e B =>
      obtain ⟨y, dd⟩ := e
      rw [List.length_cons] at hl
      have hX' : nd_X co re ch n = (P ++ [(x, c)]) ++ (y, dd) :: B := by rw [hX, List.append_assoc]; rfl
      have hy : re (5 * n + P.length) = y := nd_re hX' (by rw [List.length_append]; rfl)
      have hy2 := ok.2.1 (5 * n + P.length)
      refine br_f (nI_ge (by omega) (by omega)) ?_
      rw [ar_5, ar_c (f := re) (by omega), hy]
      have hv : vp_in (nI (5 * n + P.length)) 550 := vp_in_nI (by omega) (by decide)
      refine ⟨hv, wx_compare (by omega) (fun z => ?_) (fun z => ?_) (fun z => ?_)⟩
      · have := h2 (y, dd) B rfl
        exact absurd z (Int.not_lt.mpr this)
      · refine br_t rfl (nm_r (nI_1 _) ?_)
        have g := J (P ++ [(x, c)]) y dd B hX' ?_ ?_ ?_
        · rw [List.length_append] at g
          exact g
        · unfold ky_S at hS ⊢
          rw [tr_Ld hX'] at hS
          exact (List.pairwise_append.mp (List.pairwise_append.mp hS).2.1).1
        · intro a ha
          unfold ky_S at hS
          rw [tr_Ld hX'] at hS
          have e : tr_p (nd_X co re ch) h (P ++ [(x, c)]) y = (tr_p (nd_X co re ch) h P x ++ tr_L (nd_X co re ch) h c) ++ [y] := by
            have t1 := tr_Ld (h := h) hX
            rw [tr_Ld hX', List.flatMap_cons] at t1
            have t2 : tr_p (nd_X co re ch) h P x ++ (tr_L (nd_X co re ch) h c ++ (tr_g (nd_X co re ch) h (y, dd) ++ B.flatMap (tr_g (nd_X co re ch) h))) = ((tr_p (nd_X co re ch) h P x ++ tr_L (nd_X co re ch) h c) ++ [y]) ++ (tr_L (nd_X co re ch) h dd ++ B.flatMap (tr_g (nd_X co re ch) h)) := by
              unfold tr_g
              simp
            rw [t2] at t1
            exact List.append_cancel_right t1
          rw [e] at ha hS
          have hs := (List.pairwise_append.mp (List.pairwise_append.mp hS).1).2.2
          rcases List.mem_append.mp ha with ha | ha
          · have := hs a ha y (List.mem_singleton.mpr rfl)
            omega
          · rw [List.mem_singleton.mp ha]; omega
        · intro b' hb
          have := so_node1 hX hS b' (List.mem_append.mpr (Or.inr hb))
          omega
      · refine br_f (by decide) (J P x c _ hX p3 hA (fun b' hb => ?_))
        rw [List.flatMap_cons] at hb
        rcases List.mem_append.mp hb with hb | hb
        · rcases List.mem_cons.mp hb with hb | hb
          · rw [hb]; exact z
          · have := so_node1 hX hS b' (List.mem_append.mpr (Or.inl hb))
            omega
        · have := so_node1 hX hS b' (List.mem_append.mpr (Or.inr hb))
          omega
theorem wx_after {h : Nat} (ok : nd_ok co re ch) (hv : v < 2) (hr : rt v = nI n) (h0 : 0 < h) (h9 : h ≤ 10) (w : tr_W (nd_X co re ch) le h n) (hN : ∀ m, m ∈ tr_N (nd_X co re ch) h n → m < 110) (hS : ky_S (ky_r ro rk rb) (tr_L (nd_X co re ch) h n))
    (hp : post (fo_I (fo_a (ky_r ro rk rb) (ky_e o k b) (tr_L (nd_X co re ch) h n)) (-1))) : wpX_after post ((nI fn), f_freeRecord, f_done, f_changes, f_undo, f_volume, f_snaps, f_syncing, f_synced, f_goal, f_cObj, f_cKey, f_cBorn, f_begun, f_fObj, f_fKey, f_fValue, f_fBorn, ro, rk, rb, rd, rv, rw, (ar_n co), (ar_n le), (ar_n re), (ar_n ch), la, rt, sz, pa, sp, ur, ud, uv, ua, sn) (nI v) o k b := by
  unfold wpX_after
  dsimp only
  rw [nI_clamp (by omega), hr]
  exact ⟨vp_in_nI hv (by decide), nm_e ⟨h + 1, wx_after14 ok h (h + 1) n 0 (-1) h0 w hN hS (by omega) (by omega) hp⟩⟩
/-- visible: born at or before t, not dead at t -/
def vi_s (b d t : Int32) : Prop := b ≤ t ∧ (d = 0 ∨ t < d)
theorem wx_visible {t : Int32} (hr : r < 200) (h1 : vi_s (rb r) (rd r) t → post 1) (h0 : ¬ vi_s (rb r) (rd r) t → post 0) : wpX_visible post ((nI fn), f_freeRecord, f_done, f_changes, f_undo, f_volume, f_snaps, f_syncing, f_synced, f_goal, f_cObj, f_cKey, f_cBorn, f_begun, f_fObj, f_fKey, f_fValue, f_fBorn, ro, rk, rb, rd, rv, rw, (ar_n co), (ar_n le), (ar_n re), (ar_n ch), la, rt, sz, pa, sp, ur, ud, uv, ua, sn) (nI r) t := by
  have v : vp_in (nI r) 200 := vp_in_nI hr (by decide)
  unfold wpX_visible
  dsimp only
  rw [nI_clamp (by omega)]
  refine ⟨v, br_c (fun e => h0 (fun z => ?_)) (fun e => ⟨v, br_c (fun e2 => h1 ⟨Int32.not_lt.mp e, Or.inl e2⟩) (fun e2 => ⟨v, br_c (fun e3 => h0 (fun z => ?_)) (fun e3 => h1 ⟨Int32.not_lt.mp e, Or.inr (Int32.not_le.mp e3)⟩)⟩)⟩)⟩
  · exact absurd e (Int32.not_lt.mpr z.1)
  · rcases z.2 with y | y
    · exact e2 y
    · exact absurd e3 (Int32.not_le.mpr y)
/-- seen: what floor gives, if it is of this object and key and visible -/
theorem wx_seen {h : Nat} {t : Int32} (ok : nd_ok co re ch) (hv : v < 2) (hr : rt v = nI n) (h0 : 0 < h) (h9 : h ≤ 10) (w : tr_W (nd_X co re ch) le h n) (hN : ∀ m, m ∈ tr_N (nd_X co re ch) h n → m < 110) (hS : ky_S (ky_r ro rk rb) (tr_L (nd_X co re ch) h n)) (hL : ∀ m, m ∈ tr_L (nd_X co re ch) h n → m < 200)
    (h1 : ∀ r, fo_f (ky_r ro rk rb) (ky_e o k t) (tr_L (nd_X co re ch) h n) = some r → r < 200 → ro r = o → rk r = k → vi_s (rb r) (rd r) t → post (nI r))
    (h2 : (∀ r, fo_f (ky_r ro rk rb) (ky_e o k t) (tr_L (nd_X co re ch) h n) = some r → ¬ (ro r = o ∧ rk r = k ∧ vi_s (rb r) (rd r) t)) → post (-1)) : wpX_seen post ((nI fn), f_freeRecord, f_done, f_changes, f_undo, f_volume, f_snaps, f_syncing, f_synced, f_goal, f_cObj, f_cKey, f_cBorn, f_begun, f_fObj, f_fKey, f_fValue, f_fBorn, ro, rk, rb, rd, rv, rw, (ar_n co), (ar_n le), (ar_n re), (ar_n ch), la, rt, sz, pa, sp, ur, ud, uv, ua, sn) (nI v) o k t := by
  unfold wpX_seen
  dsimp only
  refine wx_floor ok hv hr h0 h9 w hN hS ?_
  cases e : fo_f (ky_r ro rk rb) (ky_e o k t) (tr_L (nd_X co re ch) h n) with
  | none => exact br_t (show (-1 : Int32) < 0 by decide) (h2 (fun r hr => by rw [e] at hr; cases hr))
  | some r =>
    have hr2 : r < 200 := hL r (fo_fs hS e).1
    have v : vp_in (nI r) 200 := vp_in_nI hr2 (by decide)
    show _ ∧ _
    refine br_f (nI_pos (by omega)) ⟨v, ?_⟩
    rw [show (fo_I (some r) (-1)).toNatClampNeg = r from nI_clamp (by omega)]
    have no : ¬ (ro r = o ∧ rk r = k ∧ vi_s (rb r) (rd r) t) → post (-1) := fun z => h2 (fun s hs => by rw [e] at hs; cases hs; exact z)
    refine br_c (fun e1 => ⟨v, br_c (fun e2 => ?_) (fun e2 => no (fun z => e2 z.2.1))⟩) (fun e1 => no (fun z => e1 z.1))
    refine wx_visible hr2 (fun z => br_f (by decide) (h1 r e hr2 e1 e2 z)) (fun z => br_t rfl (no (fun y => z y.2.2)))
end WX
end
section
/-! ===== refresh, widen, narrow, newNode, dropNode ===== -/
theorem ar_2 (a : Nat) : nI a + 2 = nI (a + 2) := nI_add a 2
theorem ar_3 (a : Nat) : nI a + 3 = nI (a + 3) := nI_add a 3
theorem ar_4 (a : Nat) : nI a + 4 = nI (a + 4) := nI_add a 4
theorem ar_ws {f : Nat → Nat} {k j : Nat} (h : f j < 200) : upd (ar_n f) k (vp_nar .short (nI (f j))) = ar_n (ar_u f k (f j)) := by
  rw [ar_s h, ar_uu]
theorem ar_wb {f : Nat → Nat} {k j : Nat} (h : f j ≤ 110) : upd (ar_n f) k (vp_nar .byte (nI (f j))) = ar_n (ar_u f k (f j)) := by
  rw [ar_b (by omega), ar_uu]
theorem ar_shb {f : Nat → Nat} {a b N : Nat} (h : ∀ j, f j < N) : ∀ j, ar_sh f a b j < N := by
  intro j
  unfold ar_sh
  split
  · exact h _
  · exact h _
theorem ar_sdb {f : Nat → Nat} {a b N : Nat} (h : ∀ j, f j < N) : ∀ j, ar_sd f a b j < N := by
  intro j
  unfold ar_sd
  split
  · exact h _
  · exact h _
theorem ar_ub {f : Nat → Nat} {k x N : Nat} (h : ∀ j, f j < N) (hx : x < N) : ∀ j, ar_u f k x j < N := by
  intro j
  unfold ar_u
  split
  · exact hx
  · exact h _
section WX
variable {f_freeRecord f_done f_changes f_undo f_volume f_snaps f_syncing f_synced f_goal f_cObj f_cKey f_cBorn f_begun f_fObj f_fKey f_fValue f_fBorn : Int32} {fn : Nat} {co le re ch : Nat → Nat} {ro rk rb rd rv rw la rt sz pa sp ur ud uv ua sn : Nat → Int32}
variable {n i p : Nat} {post : SX → Prop}
theorem wx_refresh72 (ok : nd_ok co re ch) (hn : n < 110) (hz : le n = 0 ∨ le n = 1) (hc : le n = 0 → ∀ e, e ∈ nd_X co re ch n → e.2 < 110)
    (K : ∀ l, (∀ e, e ∈ (nd_X co re ch n).tail → rb e.1 ≤ l ∧ rd e.1 ≤ l) → (le n = 0 → ∀ e, e ∈ nd_X co re ch n → la e.2 ≤ l) → post ((nI fn), f_freeRecord, f_done, f_changes, f_undo, f_volume, f_snaps, f_syncing, f_synced, f_goal, f_cObj, f_cKey, f_cBorn, f_begun, f_fObj, f_fKey, f_fValue, f_fBorn, ro, rk, rb, rd, rv, rw, (ar_n co), (ar_n le), (ar_n re), (ar_n ch), (upd la n l), rt, sz, pa, sp, ur, ud, uv, ua, sn)) :
    ∀ (f : Nat) (P R : List (Nat × Nat)) (l : Int32), nd_X co re ch n = P ++ R → (∀ e, e ∈ (nd_X co re ch n).tail → rb e.1 ≤ l ∧ rd e.1 ≤ l) → (le n = 0 → ∀ e, e ∈ P → la e.2 ≤ l) → R.length < f →
      wX_refresh_72 post (nI n) (nI fn) f_freeRecord f_done f_changes f_undo f_volume f_snaps f_syncing f_synced f_goal f_cObj f_cKey f_cBorn f_begun f_fObj f_fKey f_fValue f_fBorn ro rk rb rd rv rw (ar_n co) (ar_n le) (ar_n re) (ar_n ch) la rt sz pa sp ur ud uv ua sn f l (nI P.length) := by
  have h5 := ok.1 n
  have hv : vp_in (nI n) 110 := vp_in_nI hn (by decide)
  intro f
  induction f with
  | zero => intro P R l _ _ _ h; omega
  | succ f ih =>
    intro P R l hX hl hp hf
    have hco := nd_co hX
    rw [wX_refresh_72]
    dsimp only
    rw [ar_c (f := co) (by omega), ar_c (f := le) (by omega), ar_6, ar_c (f := ch) (by omega), nI_clamp (n := n) (by omega)]
    refine ⟨hv, ?_⟩
    cases R with
    | nil =>
      rw [List.length_nil] at hco
      rw [List.append_nil] at hX
      exact br_t (nI_lt (by omega) (by omega)) ⟨hv, nm_e (K l hl (fun z => by rw [hX]; exact hp z))⟩
    | cons e R =>
      rw [List.length_cons] at hco hf
      refine br_f (nI_nlt (by omega) (by omega)) ⟨hv, ?_⟩
      rcases hz with z | z
      · rw [z]
        obtain ⟨x, c⟩ := e
        have hcm : (x, c) ∈ nd_X co re ch n := by rw [hX]; simp
        have hc2 : c < 110 := hc z (x, c) hcm
        rw [nd_ch hX, nI_clamp (n := c) (by omega)]
        have v1 : vp_in (nI (6 * n + P.length)) 660 := vp_in_nI (by omega) (by decide)
        have v2 : vp_in (nI c) 110 := vp_in_nI hc2 (by decide)
        have hX' : nd_X co re ch n = (P ++ [(x, c)]) ++ R := by rw [hX, List.append_assoc]; rfl
        have g := fun l' a b => ih (P ++ [(x, c)]) R l' hX' a b (by omega)
        rw [List.length_append] at g
        refine br_t rfl ⟨v1, v2, br_c (fun y => nm_r (nI_1 _) (g l hl (fun z e he => ?_))) (fun y => ⟨v1, v2, nm_e (nm_r (nI_1 _) (g (la c) (fun e he => ?_) (fun z e he => ?_)))⟩)⟩
        · rcases List.mem_append.mp he with he | he
          · exact hp z e he
          · rw [List.mem_singleton.mp he]; exact y
        · have y' := Int32.le_of_lt (Int32.not_le.mp y)
          exact ⟨Int32.le_trans (hl e he).1 y', Int32.le_trans (hl e he).2 y'⟩
        · have y' := Int32.le_of_lt (Int32.not_le.mp y)
          rcases List.mem_append.mp he with he | he
          · exact Int32.le_trans (hp z e he) y'
          · rw [List.mem_singleton.mp he]; exact Int32.le_refl _
      · rw [z]
        exact br_f (by decide) ⟨hv, nm_e (K l hl (fun y => absurd (z.symm.trans y) (by decide)))⟩
theorem wx_refresh4 (ok : nd_ok co re ch) (hn : n < 110) (hz : le n = 0 ∨ le n = 1) (hc : le n = 0 → ∀ e, e ∈ nd_X co re ch n → e.2 < 110)
    (K : ∀ l, (∀ e, e ∈ (nd_X co re ch n).tail → rb e.1 ≤ l ∧ rd e.1 ≤ l) → (le n = 0 → ∀ e, e ∈ nd_X co re ch n → la e.2 ≤ l) → post ((nI fn), f_freeRecord, f_done, f_changes, f_undo, f_volume, f_snaps, f_syncing, f_synced, f_goal, f_cObj, f_cKey, f_cBorn, f_begun, f_fObj, f_fKey, f_fValue, f_fBorn, ro, rk, rb, rd, rv, rw, (ar_n co), (ar_n le), (ar_n re), (ar_n ch), (upd la n l), rt, sz, pa, sp, ur, ud, uv, ua, sn)) :
    ∀ (f : Nat) (P : List (Nat × Nat)) (x c : Nat) (R : List (Nat × Nat)) (l : Int32), nd_X co re ch n = P ++ (x, c) :: R → (∀ e, e ∈ (P ++ [(x, c)]).tail → rb e.1 ≤ l ∧ rd e.1 ≤ l) → R.length < f →
      wX_refresh_4 post (nI n) (nI fn) f_freeRecord f_done f_changes f_undo f_volume f_snaps f_syncing f_synced f_goal f_cObj f_cKey f_cBorn f_begun f_fObj f_fKey f_fValue f_fBorn ro rk rb rd rv rw (ar_n co) (ar_n le) (ar_n re) (ar_n ch) la rt sz pa sp ur ud uv ua sn f l (nI P.length) := by
  have h5 := ok.1 n
  have hv : vp_in (nI n) 110 := vp_in_nI hn (by decide)
  intro f
  induction f with
  | zero => intro P x c R l _ _ h; omega
  | succ f ih =>
    intro P x c R l hX hl hf
    have hco := nd_co hX
    rw [List.length_cons] at hco
    rw [wX_refresh_4]
    dsimp only
    rw [ar_c (f := co) (by omega), ar_5, ar_c (f := re) (by omega)]
    refine ⟨hv, ?_⟩
    cases R with
    | nil =>
      rw [List.length_nil] at hco
      refine br_t (nI_le (by omega) (by omega)) ⟨(nd_X co re ch n).length + 1, wx_refresh72 ok hn hz hc K _ [] (nd_X co re ch n) l rfl (fun e he => hl e (by rw [hX] at he; exact he)) (fun _ e he => absurd he List.not_mem_nil) (by omega)⟩
    | cons e R =>
      obtain ⟨y, d⟩ := e
      rw [List.length_cons] at hco hf
      have hX' : nd_X co re ch n = (P ++ [(x, c)]) ++ (y, d) :: R := by rw [hX, List.append_assoc]; rfl
      have hy : re (5 * n + P.length) = y := nd_re hX' (by rw [List.length_append]; rfl)
      have hy2 := ok.2.1 (5 * n + P.length)
      have v1 : vp_in (nI y) 200 := vp_in_nI (by omega) (by decide)
      have g := fun l' a => ih (P ++ [(x, c)]) y d R l' hX' a (by omega)
      rw [List.length_append] at g
      have g2 : ∀ l', l ≤ l' → rb y ≤ l' → wX_refresh_45 post (wX_refresh_4 post (nI n) (nI fn) f_freeRecord f_done f_changes f_undo f_volume f_snaps f_syncing f_synced f_goal f_cObj f_cKey f_cBorn f_begun f_fObj f_fKey f_fValue f_fBorn ro rk rb rd rv rw (ar_n co) (ar_n le) (ar_n re) (ar_n ch) la rt sz pa sp ur ud uv ua sn f) (nI n) l' (nI P.length) (nI y) (nI fn) f_freeRecord f_done f_changes f_undo f_volume f_snaps f_syncing f_synced f_goal f_cObj f_cKey f_cBorn f_begun f_fObj f_fKey f_fValue f_fBorn ro rk rb rd rv rw (ar_n co) (ar_n le) (ar_n re) (ar_n ch) la rt sz pa sp ur ud uv ua sn := by
        intro l' h1 h2
        unfold wX_refresh_45
        rw [nI_clamp (n := y) (by omega)]
        refine ⟨v1, br_c (fun z => nm_r (nI_1 _) (g l' (fun e he => ?_))) (fun z => ⟨v1, nm_e (nm_r (nI_1 _) (g (rd y) (fun e he => ?_)))⟩)⟩
        · rw [List.tail_append_of_ne_nil (by simp)] at he
          rcases List.mem_append.mp he with he | he
          · exact ⟨Int32.le_trans (hl e he).1 h1, Int32.le_trans (hl e he).2 h1⟩
          · rw [List.mem_singleton.mp he]; exact ⟨h2, z⟩
        · have z' := Int32.le_of_lt (Int32.not_le.mp z)
          rw [List.tail_append_of_ne_nil (by simp)] at he
          rcases List.mem_append.mp he with he | he
          · exact ⟨Int32.le_trans (hl e he).1 (Int32.le_trans h1 z'), Int32.le_trans (hl e he).2 (Int32.le_trans h1 z')⟩
          · rw [List.mem_singleton.mp he]; exact ⟨Int32.le_trans h2 z', Int32.le_refl _⟩
      refine br_f (nI_ge (by omega) (by omega)) ⟨vp_in_nI (by omega) (by decide), nm_r (e' := nI y) (by rw [hy]) ⟨v1, ?_⟩⟩
      rw [nI_clamp (n := y) (by omega)]
      exact br_c (fun z => g2 l (Int32.le_refl _) z) (fun z => ⟨v1, nm_e (g2 _ (Int32.le_of_lt (Int32.not_le.mp z)) (Int32.le_refl _))⟩)
theorem wx_refresh (ok : nd_ok co re ch) (hn : n < 110) (hz : le n = 0 ∨ le n = 1) (hc : le n = 0 → ∀ e, e ∈ nd_X co re ch n → e.2 < 110)
    (K : ∀ l, (∀ e, e ∈ (nd_X co re ch n).tail → rb e.1 ≤ l ∧ rd e.1 ≤ l) → (le n = 0 → ∀ e, e ∈ nd_X co re ch n → la e.2 ≤ l) → post ((nI fn), f_freeRecord, f_done, f_changes, f_undo, f_volume, f_snaps, f_syncing, f_synced, f_goal, f_cObj, f_cKey, f_cBorn, f_begun, f_fObj, f_fKey, f_fValue, f_fBorn, ro, rk, rb, rd, rv, rw, (ar_n co), (ar_n le), (ar_n re), (ar_n ch), (upd la n l), rt, sz, pa, sp, ur, ud, uv, ua, sn)) :
    wpX_refresh post ((nI fn), f_freeRecord, f_done, f_changes, f_undo, f_volume, f_snaps, f_syncing, f_synced, f_goal, f_cObj, f_cKey, f_cBorn, f_begun, f_fObj, f_fKey, f_fValue, f_fBorn, ro, rk, rb, rd, rv, rw, (ar_n co), (ar_n le), (ar_n re), (ar_n ch), la, rt, sz, pa, sp, ur, ud, uv, ua, sn) (nI n) := by
  obtain ⟨Q, e⟩ := nd_hd (co := co) (re := re) (ch := ch) (n := n)
  exact ⟨Q.length + 1, wx_refresh4 ok hn hz hc K (Q.length + 1) [] 0 _ Q 0 e (fun e he => absurd he List.not_mem_nil) (by omega)⟩
theorem wx_widen7 (ok : nd_ok co re ch) (hn : n < 110) (h4 : co n ≤ 4)
    (K : post ((nI fn), f_freeRecord, f_done, f_changes, f_undo, f_volume, f_snaps, f_syncing, f_synced, f_goal, f_cObj, f_cKey, f_cBorn, f_begun, f_fObj, f_fKey, f_fValue, f_fBorn, ro, rk, rb, rd, rv, rw, (ar_n (ar_u co n (co n + 1))), (ar_n le), (ar_n (ar_sh re (5 * n + i) (5 * n + co n))), (ar_n (ar_sh ch (6 * n + (i + 1)) (6 * n + (co n + 1)))), la, rt, sz, pa, sp, ur, ud, uv, ua, sn)) :
    ∀ (f k : Nat), i ≤ k → k ≤ co n → k < f → wX_widen_7 post (nI n) (nI i) (nI fn) f_freeRecord f_done f_changes f_undo f_volume f_snaps f_syncing f_synced f_goal f_cObj f_cKey f_cBorn f_begun f_fObj f_fKey f_fValue f_fBorn f (nI k) ro rk rb rd rv rw (ar_n co) (ar_n le) (ar_n (ar_sh re (5 * n + k) (5 * n + co n))) (ar_n (ar_sh ch (6 * n + (k + 1)) (6 * n + (co n + 1)))) la rt sz pa sp ur ud uv ua sn := by
  have hv : vp_in (nI n) 110 := vp_in_nI hn (by decide)
  intro f
  induction f with
  | zero => intro k _ _ h; omega
  | succ f ih =>
    intro k hik hkc hf
    rw [wX_widen_7]
    dsimp only
    by_cases e : k = i
    · subst e
      rw [ar_c (f := co) (by omega), nI_1, ar_bb (by omega), nI_clamp (n := n) (by omega), ar_uu]
      exact br_t (Int32.le_refl _) ⟨hv, hv, nm_e K⟩
    · refine br_f (nI_ge (by omega) (by omega)) ?_
      obtain ⟨k, rfl⟩ : ∃ j, k = j + 1 := ⟨k - 1, by omega⟩
      rw [ar_5, ar_6, ar_m (5 * n + (k + 1)) (by omega), show 5 * n + (k + 1) - 1 = 5 * n + k by omega, nI_1, ar_c (f := ar_sh re _ _) (by omega), ar_c (f := ar_sh ch _ _) (by omega), nI_clamp (n := 5 * n + (k + 1)) (by omega), nI_clamp (n := 6 * n + (k + 1) + 1) (by omega)]
      have b1 := ar_shb (a := 5 * n + (k + 1)) (b := 5 * n + co n) ok.2.1
      have b2 := ar_shb (a := 6 * n + (k + 1 + 1)) (b := 6 * n + (co n + 1)) (N := 111) (fun j => Nat.lt_succ_of_le (ok.2.2 j))
      refine ⟨vp_in_nI (by omega) (by decide), vp_in_nI (by omega) (by decide), nm_r (e' := ar_n (ar_sh re (5 * n + k) (5 * n + co n))) ?_ ⟨vp_in_nI (by omega) (by decide), vp_in_nI (by omega) (by decide), nm_r (e' := ar_n (ar_sh ch (6 * n + (k + 1)) (6 * n + (co n + 1)))) ?_ (nm_r (pk_m1 k) (ih k (by omega) (by omega) (by omega)))⟩⟩
      · rw [ar_ws (b1 _)]
        exact congrArg ar_n (ar_sh1 re (a := 5 * n + k) (by omega))
      · rw [ar_wb (Nat.le_of_lt_succ (b2 _))]
        exact congrArg ar_n (ar_sh1 ch (a := 6 * n + (k + 1)) (by omega))
theorem wx_widen (ok : nd_ok co re ch) (hn : n < 110) (h4 : co n ≤ 4) (hi : i ≤ co n)
    (K : post ((nI fn), f_freeRecord, f_done, f_changes, f_undo, f_volume, f_snaps, f_syncing, f_synced, f_goal, f_cObj, f_cKey, f_cBorn, f_begun, f_fObj, f_fKey, f_fValue, f_fBorn, ro, rk, rb, rd, rv, rw, (ar_n (ar_u co n (co n + 1))), (ar_n le), (ar_n (ar_sh re (5 * n + i) (5 * n + co n))), (ar_n (ar_sh ch (6 * n + (i + 1)) (6 * n + (co n + 1)))), la, rt, sz, pa, sp, ur, ud, uv, ua, sn)) :
    wpX_widen post ((nI fn), f_freeRecord, f_done, f_changes, f_undo, f_volume, f_snaps, f_syncing, f_synced, f_goal, f_cObj, f_cKey, f_cBorn, f_begun, f_fObj, f_fKey, f_fValue, f_fBorn, ro, rk, rb, rd, rv, rw, (ar_n co), (ar_n le), (ar_n re), (ar_n ch), la, rt, sz, pa, sp, ur, ud, uv, ua, sn) (nI n) (nI i) := by
  unfold wpX_widen
  dsimp only
  rw [ar_c (f := co) (by omega)]
  have g := wx_widen7 ok hn h4 K (co n + 1) (co n) hi (Nat.le_refl _) (by omega)
  rw [ar_sh0, ar_sh0] at g
  exact ⟨vp_in_nI hn (by decide), nm_e ⟨_, g⟩⟩
theorem wx_narrow13 (ok : nd_ok co re ch) (hn : n < 110) (h1 : 0 < co n)
    (K : post ((nI fn), f_freeRecord, f_done, f_changes, f_undo, f_volume, f_snaps, f_syncing, f_synced, f_goal, f_cObj, f_cKey, f_cBorn, f_begun, f_fObj, f_fKey, f_fValue, f_fBorn, ro, rk, rb, rd, rv, rw, (ar_n (ar_u co n (co n - 1))), (ar_n le), (ar_n (ar_sd re (5 * n + i) (5 * n + (co n - 1)))), (ar_n (ar_sd ch (6 * n + (i + 1)) (6 * n + (co n - 1 + 1)))), la, rt, sz, pa, sp, ur, ud, uv, ua, sn)) :
    ∀ (f k : Nat), i ≤ k → k ≤ co n - 1 → co n < f + k + 1 → wX_narrow_13 post (nI n) (nI fn) f_freeRecord f_done f_changes f_undo f_volume f_snaps f_syncing f_synced f_goal f_cObj f_cKey f_cBorn f_begun f_fObj f_fKey f_fValue f_fBorn f (nI k) ro rk rb rd rv rw (ar_n (ar_u co n (co n - 1))) (ar_n le) (ar_n (ar_sd re (5 * n + i) (5 * n + k))) (ar_n (ar_sd ch (6 * n + (i + 1)) (6 * n + (k + 1)))) la rt sz pa sp ur ud uv ua sn := by
  have hv : vp_in (nI n) 110 := vp_in_nI hn (by decide)
  have h5 := ok.1 n
  intro f
  induction f with
  | zero => intro k _ _ h; omega
  | succ f ih =>
    intro k hik hkc hf
    rw [wX_narrow_13]
    dsimp only
    rw [ar_c (f := ar_u co _ _) (by omega), ar_us]
    refine ⟨hv, ?_⟩
    by_cases e : k = co n - 1
    · subst e
      exact br_t (Int32.le_refl _) K
    · refine br_f (nI_ge (by omega) (by omega)) ?_
      rw [ar_5, ar_6, nI_1, nI_1, ar_2, ar_c (f := ar_sd re _ _) (by omega), ar_c (f := ar_sd ch _ _) (by omega), nI_clamp (n := 5 * n + k) (by omega), nI_clamp (n := 6 * n + k + 1) (by omega)]
      have b1 := ar_sdb (a := 5 * n + i) (b := 5 * n + k) ok.2.1
      have b2 := ar_sdb (a := 6 * n + (i + 1)) (b := 6 * n + (k + 1)) (N := 111) (fun j => Nat.lt_succ_of_le (ok.2.2 j))
      refine ⟨vp_in_nI (by omega) (by decide), vp_in_nI (by omega) (by decide), nm_r (e' := ar_n (ar_sd re (5 * n + i) (5 * n + (k + 1)))) ?_ ⟨vp_in_nI (by omega) (by decide), vp_in_nI (by omega) (by decide), nm_r (e' := ar_n (ar_sd ch (6 * n + (i + 1)) (6 * n + (k + 1 + 1)))) ?_ (nm_r (nI_1 k) (ih (k + 1) (by omega) (by omega) (by omega)))⟩⟩
      · rw [ar_ws (b1 _)]
        exact congrArg ar_n (ar_sd1 re (b := 5 * n + k) (by omega))
      · rw [ar_wb (Nat.le_of_lt_succ (b2 _))]
        exact congrArg ar_n (ar_sd1 ch (b := 6 * n + (k + 1)) (by omega))
theorem wx_narrow (ok : nd_ok co re ch) (hn : n < 110) (h1 : 0 < co n) (hi : i ≤ co n - 1)
    (K : post ((nI fn), f_freeRecord, f_done, f_changes, f_undo, f_volume, f_snaps, f_syncing, f_synced, f_goal, f_cObj, f_cKey, f_cBorn, f_begun, f_fObj, f_fKey, f_fValue, f_fBorn, ro, rk, rb, rd, rv, rw, (ar_n (ar_u co n (co n - 1))), (ar_n le), (ar_n (ar_sd re (5 * n + i) (5 * n + (co n - 1)))), (ar_n (ar_sd ch (6 * n + (i + 1)) (6 * n + (co n - 1 + 1)))), la, rt, sz, pa, sp, ur, ud, uv, ua, sn)) :
    wpX_narrow post ((nI fn), f_freeRecord, f_done, f_changes, f_undo, f_volume, f_snaps, f_syncing, f_synced, f_goal, f_cObj, f_cKey, f_cBorn, f_begun, f_fObj, f_fKey, f_fValue, f_fBorn, ro, rk, rb, rd, rv, rw, (ar_n co), (ar_n le), (ar_n re), (ar_n ch), la, rt, sz, pa, sp, ur, ud, uv, ua, sn) (nI n) (nI i) := by
  have h5 := ok.1 n
  unfold wpX_narrow
  dsimp only
  rw [ar_c (f := co) (by omega), ar_m _ h1, ar_bb (by omega), nI_clamp (n := n) (by omega), ar_uu]
  have g := wx_narrow13 ok hn h1 K (co n + 1) i (Nat.le_refl _) hi (by omega)
  rw [ar_sd0, ar_sd0] at g
  exact ⟨vp_in_nI hn (by decide), vp_in_nI hn (by decide), nm_e ⟨_, g⟩⟩
theorem wx_newNode {post : Int32 → SX → Prop} {l : Nat} (hn : fn < 110) (hl : l = 0 ∨ l = 1)
    (K : post (nI fn) ((nI (ch (6 * fn))), f_freeRecord, f_done, f_changes, f_undo, f_volume, f_snaps, f_syncing, f_synced, f_goal, f_cObj, f_cKey, f_cBorn, f_begun, f_fObj, f_fKey, f_fValue, f_fBorn, ro, rk, rb, rd, rv, rw, (ar_n (ar_u co fn 0)), (ar_n (ar_u le fn l)), (ar_n re), (ar_n ch), (upd la fn 0), rt, sz, pa, sp, ur, ud, uv, ua, sn)) : wpX_newNode post ((nI fn), f_freeRecord, f_done, f_changes, f_undo, f_volume, f_snaps, f_syncing, f_synced, f_goal, f_cObj, f_cKey, f_cBorn, f_begun, f_fObj, f_fKey, f_fValue, f_fBorn, ro, rk, rb, rd, rv, rw, (ar_n co), (ar_n le), (ar_n re), (ar_n ch), la, rt, sz, pa, sp, ur, ud, uv, ua, sn) (nI l) := by
  have hv : vp_in (nI fn) 110 := vp_in_nI hn (by decide)
  have el : vp_nar .boolean (nI l) = nI l := by rcases hl with rfl | rfl <;> rfl
  unfold wpX_newNode
  dsimp only
  rw [ar_60, ar_c (f := ch) (by omega), nI_clamp (n := fn) (by omega), el, ar_b0, ar_uu, ar_uu]
  exact ⟨vp_in_nI (by omega) (by decide), nm_e ⟨hv, nm_e ⟨hv, nm_e ⟨hv, nm_e K⟩⟩⟩⟩
theorem wx_dropNode {d : Nat} (hd : d < 110) (hn : fn ≤ 110) (K : post ((nI d), f_freeRecord, f_done, f_changes, f_undo, f_volume, f_snaps, f_syncing, f_synced, f_goal, f_cObj, f_cKey, f_cBorn, f_begun, f_fObj, f_fKey, f_fValue, f_fBorn, ro, rk, rb, rd, rv, rw, (ar_n co), (ar_n le), (ar_n re), (ar_n (ar_u ch (6 * d) fn)), la, rt, sz, pa, sp, ur, ud, uv, ua, sn)) : wpX_dropNode post ((nI fn), f_freeRecord, f_done, f_changes, f_undo, f_volume, f_snaps, f_syncing, f_synced, f_goal, f_cObj, f_cKey, f_cBorn, f_begun, f_fObj, f_fKey, f_fValue, f_fBorn, ro, rk, rb, rd, rv, rw, (ar_n co), (ar_n le), (ar_n re), (ar_n ch), la, rt, sz, pa, sp, ur, ud, uv, ua, sn) (nI d) := by
  unfold wpX_dropNode
  dsimp only
  rw [ar_60, nI_clamp (n := 6 * d) (by omega), ar_bb (by omega), ar_uu]
  exact ⟨vp_in_nI (by omega) (by decide), nm_e K⟩
end WX
end
section
/-! ===== latest; split ===== -/
/-- latest of node m bounds what the node holds and the latest of its children -/
def tr_C (X : Nat → List (Nat × Nat)) (le : Nat → Nat) (rb rd la : Nat → Int32) (m : Nat) : Prop :=
  (∀ e, e ∈ (X m).tail → rb e.1 ≤ la m ∧ rd e.1 ≤ la m) ∧ (le m = 0 → ∀ e, e ∈ X m → la e.2 ≤ la m)
theorem tr_Cfr {X X' : Nat → List (Nat × Nat)} {le le' : Nat → Nat} {rb rd la la' : Nat → Int32} {h n : Nat} (w : tr_W X le h n) (H : ∀ m, m ∈ tr_N X h n → X' m = X m ∧ le' m = le m ∧ la' m = la m)
    (C : ∀ m, m ∈ tr_N X h n → tr_C X le rb rd la m) : ∀ m, m ∈ tr_N X h n → tr_C X' le' rb rd la' m := by
  intro m hm
  obtain ⟨h1, h2, h3⟩ := H m hm
  obtain ⟨c1, c2⟩ := C m hm
  unfold tr_C
  rw [h1, h2, h3]
  refine ⟨c1, fun z e he => ?_⟩
  rw [(H e.2 (tr_cl h n w m hm z e he)).2.2]
  exact c2 z e he
section WX
variable {f_freeRecord f_done f_changes f_undo f_volume f_snaps f_syncing f_synced f_goal f_cObj f_cKey f_cBorn f_begun f_fObj f_fKey f_fValue f_fBorn : Int32} {fn : Nat} {co le re ch : Nat → Nat} {ro rk rb rd rv rw la rt sz pa sp ur ud uv ua sn : Nat → Int32}
variable {n i c d : Nat} {post : SX → Prop}
theorem wx_refC (ok : nd_ok co re ch) (hn : n < 110) (hz : le n = 0 ∨ le n = 1) (hc : le n = 0 → ∀ e, e ∈ nd_X co re ch n → e.2 < 110 ∧ e.2 ≠ n)
    (K : ∀ la' : Nat → Int32, (∀ m, m ≠ n → la' m = la m) → tr_C (nd_X co re ch) le rb rd la' n → post ((nI fn), f_freeRecord, f_done, f_changes, f_undo, f_volume, f_snaps, f_syncing, f_synced, f_goal, f_cObj, f_cKey, f_cBorn, f_begun, f_fObj, f_fKey, f_fValue, f_fBorn, ro, rk, rb, rd, rv, rw, (ar_n co), (ar_n le), (ar_n re), (ar_n ch), la', rt, sz, pa, sp, ur, ud, uv, ua, sn)) :
    wpX_refresh post ((nI fn), f_freeRecord, f_done, f_changes, f_undo, f_volume, f_snaps, f_syncing, f_synced, f_goal, f_cObj, f_cKey, f_cBorn, f_begun, f_fObj, f_fKey, f_fValue, f_fBorn, ro, rk, rb, rd, rv, rw, (ar_n co), (ar_n le), (ar_n re), (ar_n ch), la, rt, sz, pa, sp, ur, ud, uv, ua, sn) (nI n) := by
  refine wx_refresh ok hn hz (fun z e he => (hc z e he).1) (fun l h1 h2 => K (upd la n l) (fun m hm => pk_un hm) ?_)
  unfold tr_C
  rw [pk_us]
  refine ⟨h1, fun z e he => ?_⟩
  rw [pk_un (hc z e he).2]
  exact h2 z e he
end WX
section SP
variable {co re ch C1 C2 C3 C4 R0 R1 R2 R3 H0 H1 H2 H3 H4 : Nat → Nat} {n i c d x r1 r2 r3 r4 r5 a0 a1 a2 a3 a4 a5 : Nat} {P Q : List (Nat × Nat)}
theorem sp_X (ok : nd_ok co re ch) (hX : nd_X co re ch n = P ++ (x, c) :: Q) (hi : P.length = i) (h4 : co n ≤ 4) (hc : nd_X co re ch c = [(0, a0), (r1, a1), (r2, a2), (r3, a3), (r4, a4), (r5, a5)])
    (hcn : c ≠ n) (hdn : d ≠ n) (hdc : d ≠ c) (hd : d < 110)
    (eC1 : C1 = ar_u co d 0) (eC2 : C2 = ar_u C1 n (C1 n + 1)) (eC3 : C3 = ar_u C2 c 2) (eC4 : C4 = ar_u C3 d 2)
    (eR0 : R0 = ar_sh re (5 * n + i) (5 * n + C1 n)) (eR1 : R1 = ar_u R0 (5 * n + i) (R0 (5 * c + 2))) (eR2 : R2 = ar_u R1 (5 * d) (R1 (5 * c + 3))) (eR3 : R3 = ar_u R2 (5 * d + 1) (R2 (5 * c + 3 + 1)))
    (eH0 : H0 = ar_sh ch (6 * n + (i + 1)) (6 * n + (C1 n + 1))) (eH1 : H1 = ar_u H0 (6 * n + (i + 1)) d) (eH2 : H2 = ar_u H1 (6 * d) (H1 (6 * c + 3))) (eH3 : H3 = ar_u H2 (6 * d + 1) (H2 (6 * c + 4))) (eH4 : H4 = ar_u H3 (6 * d + 1 + 1) (H3 (6 * c + 4 + 1))) :
    nd_ok C4 R3 H4 ∧ nd_X C4 R3 H4 n = P ++ (x, c) :: (r3, d) :: Q ∧ nd_X C4 R3 H4 c = [(0, a0), (r1, a1), (r2, a2)] ∧ nd_X C4 R3 H4 d = [(0, a3), (r4, a4), (r5, a5)] ∧
    (∀ m, m ≠ n → m ≠ c → m ≠ d → nd_X C4 R3 H4 m = nd_X co re ch m) := by
  have hco := nd_co hX
  rw [List.length_cons] at hco
  have ec : C1 n = co n := by rw [eC1]; exact ar_un (fun z => hdn z.symm)
  have hcc : co c = 5 := by have := nd_len co re ch c; rw [hc] at this; simp at this; omega
  have fR : ∀ m j, m ≠ n → j < 5 → R0 (5 * m + j) = re (5 * m + j) := fun m j h1 h2 => by rw [eR0, ec]; exact if_neg (by omega)
  have fH : ∀ m j, m ≠ n → j < 6 → H0 (6 * m + j) = ch (6 * m + j) := fun m j h1 h2 => by rw [eH0, ec]; exact if_neg (by omega)
  have fR1 : ∀ m j, m ≠ n → j < 5 → R1 (5 * m + j) = re (5 * m + j) := fun m j h1 h2 => by rw [eR1, ar_un (by omega), fR m j h1 h2]
  have fH1 : ∀ m j, m ≠ n → j < 6 → H1 (6 * m + j) = ch (6 * m + j) := fun m j h1 h2 => by rw [eH1, ar_un (by omega), fH m j h1 h2]
  have fR3 : ∀ m j, m ≠ d → j < 5 → R3 (5 * m + j) = R1 (5 * m + j) := fun m j h1 h2 => by rw [eR3, ar_un (by omega), eR2, ar_un (by omega)]
  have fH4 : ∀ m j, m ≠ d → j < 6 → H4 (6 * m + j) = H1 (6 * m + j) := fun m j h1 h2 => by rw [eH4, ar_un (by omega), eH3, ar_un (by omega), eH2, ar_un (by omega)]
  have g1 : ∀ j, R3 j < 200 := by
    have b0 : ∀ j, R0 j < 200 := by rw [eR0]; exact ar_shb ok.2.1
    have b1 : ∀ j, R1 j < 200 := by rw [eR1]; exact ar_ub b0 (b0 _)
    have b2 : ∀ j, R2 j < 200 := by rw [eR2]; exact ar_ub b1 (b1 _)
    rw [eR3]; exact ar_ub b2 (b2 _)
  have g2 : ∀ j, H4 j < 111 := by
    have b0 : ∀ j, H0 j < 111 := by rw [eH0]; exact ar_shb (fun j => Nat.lt_succ_of_le (ok.2.2 j))
    have b1 : ∀ j, H1 j < 111 := by rw [eH1]; exact ar_ub b0 (by omega)
    have b2 : ∀ j, H2 j < 111 := by rw [eH2]; exact ar_ub b1 (b1 _)
    have b3 : ∀ j, H3 j < 111 := by rw [eH3]; exact ar_ub b2 (b2 _)
    rw [eH4]; exact ar_ub b3 (b3 _)
  have g3 : ∀ j, C4 j < 6 := by
    have b0 : ∀ j, co j < 6 := fun j => Nat.lt_succ_of_le (ok.1 j)
    have b1 : ∀ j, C1 j < 6 := by rw [eC1]; exact ar_ub b0 (by omega)
    have b2 : ∀ j, C2 j < 6 := by rw [eC2]; exact ar_ub b1 (by omega)
    have b3 : ∀ j, C3 j < 6 := by rw [eC3]; exact ar_ub b2 (by omega)
    rw [eC4]; exact ar_ub b3 (by omega)
  have c4n : C4 n = co n + 1 := by rw [eC4, ar_un (fun z => hdn z.symm), eC3, ar_un (fun z => hcn z.symm), eC2, ar_us, ec]
  have c4c : C4 c = 2 := by rw [eC4, ar_un (fun z => hdc z.symm), eC3, ar_us]
  have c4d : C4 d = 2 := by rw [eC4, ar_us]
  have c4m : ∀ m, m ≠ n → m ≠ c → m ≠ d → C4 m = co m := fun m h1 h2 h3 => by rw [eC4, ar_un h3, eC3, ar_un h2, eC2, ar_un h1, eC1, ar_un h3]
  have e3 : ∀ j, j ≤ 5 → nd_e re ch c j = ([(0, a0), (r1, a1), (r2, a2), (r3, a3), (r4, a4), (r5, a5)] : List (Nat × Nat)).getD j (0, 0) := fun j hj => by
    have := nd_get (co := co) (re := re) (ch := ch) (n := c) (i := j) (by omega)
    rw [hc] at this
    rw [List.getD_eq_getElem?_getD, this]
    rfl
  have q2 : re (5 * c + 2) = r3 := congrArg Prod.fst (e3 3 (by decide))
  have q3 : re (5 * c + 3) = r4 := congrArg Prod.fst (e3 4 (by decide))
  have q4 : re (5 * c + 4) = r5 := congrArg Prod.fst (e3 5 (by decide))
  have p3 : ch (6 * c + 3) = a3 := congrArg Prod.snd (e3 3 (by decide))
  have p4 : ch (6 * c + 4) = a4 := congrArg Prod.snd (e3 4 (by decide))
  have p5 : ch (6 * c + 5) = a5 := congrArg Prod.snd (e3 5 (by decide))
  refine ⟨⟨fun j => Nat.le_of_lt_succ (g3 j), g1, fun j => Nat.le_of_lt_succ (g2 j)⟩, ?_, ?_, ?_, fun m h1 h2 h3 => ?_⟩
  · have hX' : nd_X co re ch n = (P ++ [(x, c)]) ++ Q := by rw [hX, List.append_assoc]; rfl
    have t := nd_in (r := r3) (d := d) hX' (i := i) (by rw [List.length_append, hi]; rfl)
    rw [List.append_assoc] at t
    refine Eq.trans (nd_fr ?_ ?_ (fun j hj => ?_) (fun j hj => ?_)) t
    · rw [c4n, ar_us]
    · rw [ar_us]; omega
    · rw [fR3 n j (fun z => hdn z.symm) hj, eR1, fR c 2 hcn (by decide), q2, eR0, ec]
    · rw [fH4 n j (fun z => hdn z.symm) hj, eH1, eH0, ec]
  · have t := nd_tr (k := 2) (P := [(0, a0), (r1, a1), (r2, a2)]) (Q := [(r3, a3), (r4, a4), (r5, a5)]) hc rfl
    refine Eq.trans (nd_fr ?_ ?_ (fun j hj => ?_) (fun j hj => ?_)) t
    · rw [c4c, ar_us]
    · rw [ar_us]; omega
    · rw [fR3 c j (fun z => hdc z.symm) hj, fR1 c j hcn hj]
    · rw [fH4 c j (fun z => hdc z.symm) hj, fH1 c j hcn hj]
  · have k0 : R3 (5 * d) = r4 := by rw [eR3, ar_un (by omega), eR2, ar_us, fR1 c 3 hcn (by decide), q3]
    have k1 : R3 (5 * d + 1) = r5 := by rw [eR3, ar_us, eR2, ar_un (by omega), fR1 c 4 hcn (by decide), q4]
    have l0 : H4 (6 * d) = a3 := by rw [eH4, ar_un (by omega), eH3, ar_un (by omega), eH2, ar_us, fH1 c 3 hcn (by decide), p3]
    have l1 : H4 (6 * d + 1) = a4 := by rw [eH4, ar_un (by omega), eH3, ar_us, eH2, ar_un (by omega), fH1 c 4 hcn (by decide), p4]
    have l2 : H4 (6 * d + 2) = a5 := by rw [eH4, ar_us, eH3, ar_un (by omega), eH2, ar_un (by omega), fH1 c 5 hcn (by decide), p5]
    refine nd_mk (by rw [c4d]; rfl) (fun j hj => ?_)
    rw [c4d] at hj
    match j, hj with
    | 0, _ => exact congrArg some (Prod.ext rfl l0.symm)
    | 1, _ => exact congrArg some (Prod.ext k0.symm l1.symm)
    | 2, _ => exact congrArg some (Prod.ext k1.symm l2.symm)
  · exact nd_fr (c4m m h1 h2 h3) (ok.1 m) (fun j hj => by rw [fR3 m j h3 hj, fR1 m j h1 hj]) (fun j hj => by rw [fH4 m j h3 hj, fH1 m j h1 hj])
end SP
end
section
/-! ===== the walk of split ===== -/
section WX
variable {f_freeRecord f_done f_changes f_undo f_volume f_snaps f_syncing f_synced f_goal f_cObj f_cKey f_cBorn f_begun f_fObj f_fKey f_fValue f_fBorn : Int32} {fn : Nat} {co le re ch : Nat → Nat} {ro rk rb rd rv rw la rt sz pa sp ur ud uv ua sn : Nat → Int32}
variable {n i c d x r1 r2 r3 r4 r5 a0 a1 a2 a3 a4 a5 : Nat} {P Q : List (Nat × Nat)} {post : SX → Prop}
theorem wx_sp90s {f k : Nat} (bR : ∀ j, re j < 200) (bH : ∀ j, ch j < 111) (hc : c < 110) (hd : d < 110) (hk : k < 2)
    (K : wX_split_90 post (nI c) (nI d) (nI fn) f_freeRecord f_done f_changes f_undo f_volume f_snaps f_syncing f_synced f_goal f_cObj f_cKey f_cBorn f_begun f_fObj f_fKey f_fValue f_fBorn f (nI (k + 1)) ro rk rb rd rv rw (ar_n co) (ar_n le) (ar_n (ar_u re (5 * d + k) (re (5 * c + 3 + k)))) (ar_n (ar_u ch (6 * d + k + 1) (ch (6 * c + 4 + k)))) la rt sz pa sp ur ud uv ua sn) :
    wX_split_90 post (nI c) (nI d) (nI fn) f_freeRecord f_done f_changes f_undo f_volume f_snaps f_syncing f_synced f_goal f_cObj f_cKey f_cBorn f_begun f_fObj f_fKey f_fValue f_fBorn (f + 1) (nI k) ro rk rb rd rv rw (ar_n co) (ar_n le) (ar_n re) (ar_n ch) la rt sz pa sp ur ud uv ua sn := by
  rw [wX_split_90]
  dsimp only
  refine br_f (nI_ge (b := 2) hk (by decide)) ?_
  rw [ar_50 c, ar_3, nI_add, ar_5, ar_c (f := re) (by omega), nI_clamp (n := 5 * d + k) (by omega), ar_ws (bR _), ar_60 c, ar_4, nI_add, ar_6, nI_1, ar_c (f := ch) (by omega), nI_clamp (n := 6 * d + k + 1) (by omega), ar_wb (Nat.le_of_lt_succ (bH _))]
  exact ⟨vp_in_nI (by omega) (by decide), vp_in_nI (by omega) (by decide), nm_e ⟨vp_in_nI (by omega) (by decide), vp_in_nI (by omega) (by decide), nm_e (nm_r (nI_1 k) K)⟩⟩
theorem wx_sp90e {f : Nat} (hc : c < 110) (hd : d < 110)
    (K : wpX_refresh (fun u => wpX_refresh post u (nI d)) ((nI fn), f_freeRecord, f_done, f_changes, f_undo, f_volume, f_snaps, f_syncing, f_synced, f_goal, f_cObj, f_cKey, f_cBorn, f_begun, f_fObj, f_fKey, f_fValue, f_fBorn, ro, rk, rb, rd, rv, rw, (ar_n (ar_u (ar_u co c 2) d 2)), (ar_n le), (ar_n re), (ar_n ch), la, rt, sz, pa, sp, ur, ud, uv, ua, sn) (nI c)) :
    wX_split_90 post (nI c) (nI d) (nI fn) f_freeRecord f_done f_changes f_undo f_volume f_snaps f_syncing f_synced f_goal f_cObj f_cKey f_cBorn f_begun f_fObj f_fKey f_fValue f_fBorn (f + 1) (nI 2) ro rk rb rd rv rw (ar_n co) (ar_n le) (ar_n re) (ar_n ch) la rt sz pa sp ur ud uv ua sn := by
  rw [wX_split_90]
  dsimp only
  rw [ar_b2, nI_clamp (n := c) (by omega), nI_clamp (n := d) (by omega), ar_uu]
  refine br_t (show (2 : Int32) ≤ nI 2 by decide) ⟨vp_in_nI hc (by decide), nm_e ⟨vp_in_nI hd (by decide), ?_⟩⟩
  rw [ar_uu]
  exact nm_e K
theorem wx_split (ok : nd_ok co re ch) (hX : nd_X co re ch n = P ++ (x, c) :: Q) (hi : P.length = i) (h4 : co n ≤ 4) (hc : nd_X co re ch c = [(0, a0), (r1, a1), (r2, a2), (r3, a3), (r4, a4), (r5, a5)])
    (hn : n < 110) (hc1 : c < 110) (hd : fn < 110) (hcn : c ≠ n) (hdn : fn ≠ n) (hdc : fn ≠ c) (hz : le c = 0 ∨ le c = 1) (hk : le c = 0 → ∀ e, e ∈ nd_X co re ch c → e.2 < 110 ∧ e.2 ≠ c ∧ e.2 ≠ fn)
    (K : ∀ (co' re' ch' : Nat → Nat) (la' : Nat → Int32), nd_ok co' re' ch' → nd_X co' re' ch' n = P ++ (x, c) :: (r3, fn) :: Q → nd_X co' re' ch' c = [(0, a0), (r1, a1), (r2, a2)] → nd_X co' re' ch' fn = [(0, a3), (r4, a4), (r5, a5)] →
      (∀ m, m ≠ n → m ≠ c → m ≠ fn → nd_X co' re' ch' m = nd_X co re ch m) → (∀ m, m ≠ c → m ≠ fn → la' m = la m) → tr_C (nd_X co' re' ch') (ar_u le fn (le c)) rb rd la' c → tr_C (nd_X co' re' ch') (ar_u le fn (le c)) rb rd la' fn →
      post ((nI (ch (6 * fn))), f_freeRecord, f_done, f_changes, f_undo, f_volume, f_snaps, f_syncing, f_synced, f_goal, f_cObj, f_cKey, f_cBorn, f_begun, f_fObj, f_fKey, f_fValue, f_fBorn, ro, rk, rb, rd, rv, rw, (ar_n co'), (ar_n (ar_u le fn (le c))), (ar_n re'), (ar_n ch'), la', rt, sz, pa, sp, ur, ud, uv, ua, sn)) :
    wpX_split post ((nI fn), f_freeRecord, f_done, f_changes, f_undo, f_volume, f_snaps, f_syncing, f_synced, f_goal, f_cObj, f_cKey, f_cBorn, f_begun, f_fObj, f_fKey, f_fValue, f_fBorn, ro, rk, rb, rd, rv, rw, (ar_n co), (ar_n le), (ar_n re), (ar_n ch), la, rt, sz, pa, sp, ur, ud, uv, ua, sn) (nI n) (nI i) := by
  have hco := nd_co hX
  rw [List.length_cons] at hco
  have hcc : ch (6 * n + i) = c := by rw [← hi]; exact nd_ch hX
  have v1 : vp_in (nI (6 * n + i)) 660 := vp_in_nI (by omega) (by decide)
  have vc : vp_in (nI c) 110 := vp_in_nI hc1 (by decide)
  have vd : vp_in (nI fn) 110 := vp_in_nI hd (by decide)
  obtain ⟨C1, eC1⟩ : ∃ C, C = ar_u co fn 0 := ⟨_, rfl⟩
  have ec : C1 n = co n := by rw [eC1]; exact ar_un (fun z => hdn z.symm)
  obtain ⟨C2, eC2⟩ : ∃ C, C = ar_u C1 n (C1 n + 1) := ⟨_, rfl⟩
  obtain ⟨C3, eC3⟩ : ∃ C, C = ar_u C2 c 2 := ⟨_, rfl⟩
  obtain ⟨C4, eC4⟩ : ∃ C, C = ar_u C3 fn 2 := ⟨_, rfl⟩
  obtain ⟨R0, eR0⟩ : ∃ C, C = ar_sh re (5 * n + i) (5 * n + C1 n) := ⟨_, rfl⟩
  obtain ⟨R1, eR1⟩ : ∃ C, C = ar_u R0 (5 * n + i) (R0 (5 * c + 2)) := ⟨_, rfl⟩
  obtain ⟨R2, eR2⟩ : ∃ C, C = ar_u R1 (5 * fn) (R1 (5 * c + 3)) := ⟨_, rfl⟩
  obtain ⟨R3, eR3⟩ : ∃ C, C = ar_u R2 (5 * fn + 1) (R2 (5 * c + 3 + 1)) := ⟨_, rfl⟩
  obtain ⟨H0, eH0⟩ : ∃ C, C = ar_sh ch (6 * n + (i + 1)) (6 * n + (C1 n + 1)) := ⟨_, rfl⟩
  obtain ⟨H1, eH1⟩ : ∃ C, C = ar_u H0 (6 * n + (i + 1)) fn := ⟨_, rfl⟩
  obtain ⟨H2, eH2⟩ : ∃ C, C = ar_u H1 (6 * fn) (H1 (6 * c + 3)) := ⟨_, rfl⟩
  obtain ⟨H3, eH3⟩ : ∃ C, C = ar_u H2 (6 * fn + 1) (H2 (6 * c + 4)) := ⟨_, rfl⟩
  obtain ⟨H4, eH4⟩ : ∃ C, C = ar_u H3 (6 * fn + 1 + 1) (H3 (6 * c + 4 + 1)) := ⟨_, rfl⟩
  obtain ⟨okF, xn, xc, xd, xm⟩ := sp_X ok hX hi h4 hc hcn hdn hdc hd eC1 eC2 eC3 eC4 eR0 eR1 eR2 eR3 eH0 eH1 eH2 eH3 eH4
  have bR0 : ∀ j, R0 j < 200 := by rw [eR0]; exact ar_shb ok.2.1
  have bR1 : ∀ j, R1 j < 200 := by rw [eR1]; exact ar_ub bR0 (bR0 _)
  have bR2 : ∀ j, R2 j < 200 := by rw [eR2]; exact ar_ub bR1 (bR1 _)
  have bH0 : ∀ j, H0 j < 111 := by rw [eH0]; exact ar_shb (fun j => Nat.lt_succ_of_le (ok.2.2 j))
  have bH1 : ∀ j, H1 j < 111 := by rw [eH1]; exact ar_ub bH0 (by omega)
  have bH2 : ∀ j, H2 j < 111 := by rw [eH2]; exact ar_ub bH1 (bH1 _)
  have bH3 : ∀ j, H3 j < 111 := by rw [eH3]; exact ar_ub bH2 (bH2 _)
  unfold wpX_split
  dsimp only
  rw [ar_6, ar_c (f := ch) (by omega), hcc]
  refine ⟨v1, nm_e ⟨vc, ?_⟩⟩
  rw [ar_c (f := le) (by omega)]
  refine wx_newNode hd hz ?_
  dsimp only
  rw [← eC1]
  refine wx_widen (co := C1) ⟨fun m => by rw [eC1]; exact Nat.le_of_lt_succ (ar_ub (fun j => Nat.lt_succ_of_le (ok.1 j)) (by omega) m), ok.2⟩ hn (by omega) (by omega) ?_
  dsimp only
  rw [← eC2, ← eR0, ← eH0, ar_50, ar_2, ar_5, ar_c (f := R0) (by omega), nI_clamp (n := 5 * n + i) (by omega), ar_ws (bR0 _), ← eR1, nI_1, nI_clamp (n := 6 * n + i + 1) (by omega), ar_bb (by omega), ar_uu, ar_60, ar_3]
  refine ⟨vp_in_nI (by omega) (by decide), vp_in_nI (by omega) (by decide), nm_e ⟨vp_in_nI (by omega) (by decide), nm_r (e' := ar_n H1) (by rw [eH1]; rfl) ⟨vp_in_nI (by omega) (by decide), ?_⟩⟩⟩
  rw [ar_60, ar_c (f := H1) (by omega), nI_clamp (n := 6 * fn) (by omega), ar_wb (Nat.le_of_lt_succ (bH1 _)), ← eH2]
  refine ⟨vp_in_nI (by omega) (by decide), nm_e ⟨3, ?_⟩⟩
  refine wx_sp90s (k := 0) bR1 bH2 hc1 hd (by decide) ?_
  rw [show ar_u R1 (5 * fn + 0) (R1 (5 * c + 3 + 0)) = R2 from eR2.symm, show ar_u H2 (6 * fn + 0 + 1) (H2 (6 * c + 4 + 0)) = H3 from eH3.symm]
  refine wx_sp90s (k := 1) bR2 bH3 hc1 hd (by decide) ?_
  rw [← eR3, ← eH4]
  refine wx_sp90e hc1 hd ?_
  rw [← eC3, ← eC4]
  have lc : ar_u le fn (le c) c = le c := ar_un (fun z => hdc z.symm)
  have ld : ar_u le fn (le c) fn = le c := ar_us
  have k6 : le c = 0 → (a0 < 110 ∧ a0 ≠ c ∧ a0 ≠ fn) ∧ (a1 < 110 ∧ a1 ≠ c ∧ a1 ≠ fn) ∧ (a2 < 110 ∧ a2 ≠ c ∧ a2 ≠ fn) ∧ (a3 < 110 ∧ a3 ≠ c ∧ a3 ≠ fn) ∧ (a4 < 110 ∧ a4 ≠ c ∧ a4 ≠ fn) ∧ (a5 < 110 ∧ a5 ≠ c ∧ a5 ≠ fn) := fun z => by
    have := hk z
    rw [hc] at this
    exact ⟨this (0, a0) (by simp), this (r1, a1) (by simp), this (r2, a2) (by simp), this (r3, a3) (by simp), this (r4, a4) (by simp), this (r5, a5) (by simp)⟩
  refine wx_refC okF hc1 (by rw [lc]; exact hz) (fun z e he => ?_) (fun la1 l1 t1 => wx_refC okF hd (by rw [ld]; exact hz) (fun z e he => ?_) (fun la2 l2 t2 => K C4 R3 H4 la2 okF xn xc xd xm (fun m h1 h2 => ?_) ?_ t2))
  · rw [lc] at z
    obtain ⟨k0, k1, k2, -⟩ := k6 z
    rw [xc] at he
    simp only [List.mem_cons, List.not_mem_nil, or_false] at he
    rcases he with rfl | rfl | rfl
    · exact ⟨k0.1, k0.2.1⟩
    · exact ⟨k1.1, k1.2.1⟩
    · exact ⟨k2.1, k2.2.1⟩
  · rw [ld] at z
    obtain ⟨-, -, -, k3, k4, k5⟩ := k6 z
    rw [xd] at he
    simp only [List.mem_cons, List.not_mem_nil, or_false] at he
    rcases he with rfl | rfl | rfl
    · exact ⟨k3.1, k3.2.2⟩
    · exact ⟨k4.1, k4.2.2⟩
    · exact ⟨k5.1, k5.2.2⟩
  · rw [l2 m h2, l1 m h1, pk_un h2]
  · unfold tr_C at t1 ⊢
    rw [l2 c (fun z => hdc z.symm)]
    refine ⟨t1.1, fun z e he => ?_⟩
    have hz' := z
    rw [lc] at hz'
    obtain ⟨k0, k1, k2, -⟩ := k6 hz'
    have := t1.2 z e he
    rw [xc] at he
    simp only [List.mem_cons, List.not_mem_nil, or_false] at he
    have hne : e.2 ≠ fn := by
      rcases he with rfl | rfl | rfl
      · exact k0.2.2
      · exact k1.2.2
      · exact k2.2.2
    rw [l2 e.2 hne]
    exact this
end WX
end
section
/-! ===== split, seen as a tree ===== -/
section TS
variable {X X' : Nat → List (Nat × Nat)} {le le' : Nat → Nat} {rb rd la la' : Nat → Int32} {h n c d x r1 r2 r3 r4 r5 a0 a1 a2 a3 a4 a5 : Nat} {P Q : List (Nat × Nat)} {F : List Nat}
theorem tr_nd2 (nd : (tr_N X (h + 1) n ++ F).Nodup) : ∀ e, e ∈ X n → ∀ m, m ∈ tr_N X h e.2 → m ≠ n ∧ m ∉ F := by
  intro e he m hm
  rw [tr_Ns] at nd
  have hm' : m ∈ (X n).flatMap (tr_n X h) := List.mem_flatMap.mpr ⟨e, he, hm⟩
  obtain ⟨n1, n2, n3⟩ := List.nodup_append.mp nd
  refine ⟨fun z => ?_, fun z => n3 m (List.mem_cons_of_mem _ hm') m z rfl⟩
  rw [z] at hm'
  exact (List.nodup_cons.mp n1).1 hm'
theorem tr_ndF (nd : (tr_N X h n ++ F).Nodup) : ∀ m, m ∈ tr_N X h n → m ∉ F :=
  fun m hm z => (List.nodup_append.mp nd).2.2 m hm m z rfl
/-- the nodes of the trees beside n's own content -/
def sp_D (X : Nat → List (Nat × Nat)) (h n c d : Nat) (P Q : List (Nat × Nat)) : Prop :=
  c ≠ n ∧ d ≠ n ∧ d ≠ c ∧ (∀ e, e ∈ P ∨ e ∈ Q → ∀ m, m ∈ tr_N X (h + 1) e.2 → m ≠ n ∧ m ≠ c ∧ m ≠ d) ∧ (∀ e, e ∈ X c → ∀ m, m ∈ tr_N X h e.2 → m ≠ n ∧ m ≠ c ∧ m ≠ d)
theorem sp_dis (hX : X n = P ++ (x, c) :: Q) (nd : (tr_N X (h + 2) n ++ d :: F).Nodup) : sp_D X h n c d P Q := by
  obtain ⟨⟨n1, n2⟩, n3, n4⟩ := tr_nd1 hX nd
  have hcm : (x, c) ∈ X n := by rw [hX]; simp
  have m1 := tr_nd2 nd
  have m2 := tr_nd2 (h := h) (n := c) n4
  refine ⟨(m1 (x, c) hcm c (tr_hd h c)).1, fun z => n2 (by rw [← z]; exact List.mem_cons_self ..), fun z => (m1 (x, c) hcm c (tr_hd h c)).2 (by rw [← z]; exact List.mem_cons_self ..), fun e he m hm => ?_, fun e he m hm => ?_⟩
  · have he' : e ∈ X n := by
      rw [hX]
      rcases he with he | he
      · exact List.mem_append.mpr (Or.inl he)
      · exact List.mem_append.mpr (Or.inr (List.mem_cons_of_mem _ he))
    obtain ⟨q1, q2⟩ := n3 e he m hm
    exact ⟨(m1 e he' m hm).1, fun z => q1 (by rw [z]; exact tr_hd h c), fun z => q2 (by rw [z]; exact List.mem_cons_self ..)⟩
  · obtain ⟨q1, q2⟩ := m2 e he m hm
    exact ⟨fun z => n1 (by rw [← z]; exact tr_sub he hm), q1, fun z => q2 (by rw [z]; exact List.mem_cons_self ..)⟩
theorem sp_tree (hX : X n = P ++ (x, c) :: Q) (hc : X c = [(0, a0), (r1, a1), (r2, a2), (r3, a3), (r4, a4), (r5, a5)]) (D : sp_D X h n c d P Q)
    (xn : X' n = P ++ (x, c) :: (r3, d) :: Q) (xc : X' c = [(0, a0), (r1, a1), (r2, a2)]) (xd : X' d = [(0, a3), (r4, a4), (r5, a5)]) (xm : ∀ m, m ≠ n → m ≠ c → m ≠ d → X' m = X m)
    (hl : (X n).length ≤ 5) (w : tr_W X le (h + 2) n) :
    tr_L X' (h + 2) n = tr_L X (h + 2) n ∧ (tr_N X' (h + 2) n).Perm (d :: tr_N X (h + 2) n) ∧ tr_W X' (ar_u le d (le c)) (h + 2) n := by
  obtain ⟨d1, d2, d3, d4, d5⟩ := D
  have kP : ∀ e, e ∈ P ∨ e ∈ Q → tr_L X' (h + 1) e.2 = tr_L X (h + 1) e.2 ∧ tr_N X' (h + 1) e.2 = tr_N X (h + 1) e.2 :=
    fun e he => tr_fr (h + 1) e.2 (fun m hm => xm m (d4 e he m hm).1 (d4 e he m hm).2.1 (d4 e he m hm).2.2)
  have kc : ∀ e, e ∈ X c → tr_L X' h e.2 = tr_L X h e.2 ∧ tr_N X' h e.2 = tr_N X h e.2 :=
    fun e he => tr_fr h e.2 (fun m hm => xm m (d5 e he m hm).1 (d5 e he m hm).2.1 (d5 e he m hm).2.2)
  have kc6 : (tr_L X' h a0 = tr_L X h a0 ∧ tr_N X' h a0 = tr_N X h a0) ∧ (tr_L X' h a1 = tr_L X h a1 ∧ tr_N X' h a1 = tr_N X h a1) ∧ (tr_L X' h a2 = tr_L X h a2 ∧ tr_N X' h a2 = tr_N X h a2) ∧
      (tr_L X' h a3 = tr_L X h a3 ∧ tr_N X' h a3 = tr_N X h a3) ∧ (tr_L X' h a4 = tr_L X h a4 ∧ tr_N X' h a4 = tr_N X h a4) ∧ (tr_L X' h a5 = tr_L X h a5 ∧ tr_N X' h a5 = tr_N X h a5) := by
    rw [hc] at kc
    exact ⟨kc (0, a0) (by simp), kc (r1, a1) (by simp), kc (r2, a2) (by simp), kc (r3, a3) (by simp), kc (r4, a4) (by simp), kc (r5, a5) (by simp)⟩
  obtain ⟨⟨l0, m0⟩, ⟨l1, m1⟩, ⟨l2, m2⟩, ⟨l3, m3⟩, ⟨l4, m4⟩, ⟨l5, m5⟩⟩ := kc6
  have gP : P.flatMap (tr_g X' (h + 1)) = P.flatMap (tr_g X (h + 1)) := fm_c (fun e he => by unfold tr_g; rw [(kP e (Or.inl he)).1])
  have gQ : Q.flatMap (tr_g X' (h + 1)) = Q.flatMap (tr_g X (h + 1)) := fm_c (fun e he => by unfold tr_g; rw [(kP e (Or.inr he)).1])
  have nP : P.flatMap (tr_n X' (h + 1)) = P.flatMap (tr_n X (h + 1)) := fm_c (fun e he => (kP e (Or.inl he)).2)
  have nQ : Q.flatMap (tr_n X' (h + 1)) = Q.flatMap (tr_n X (h + 1)) := fm_c (fun e he => (kP e (Or.inr he)).2)
  refine ⟨?_, ?_, ?_⟩
  · rw [tr_Ld hX, tr_Ld xn, List.flatMap_cons, gQ]
    unfold tr_p
    rw [gP]
    refine congrArg _ ?_
    rw [tr_Ls (X := X), hc, tr_Ls (X := X') (n := c), xc]
    unfold tr_g
    rw [tr_Ls (X := X') (n := d), xd]
    simp only [List.flatMap_cons, List.flatMap_nil, tr_g, l0, l1, l2, l3, l4, l5]
    simp
  · rw [tr_Nd hX, tr_Nd xn, List.flatMap_cons, nP, nQ]
    have e1 : tr_N X (h + 1) c = (c :: (tr_N X h a0 ++ tr_N X h a1 ++ tr_N X h a2)) ++ (tr_N X h a3 ++ tr_N X h a4 ++ tr_N X h a5) := by
      rw [tr_Ns, hc]; simp [tr_n]
    have e2 : tr_N X' (h + 1) c = c :: (tr_N X h a0 ++ tr_N X h a1 ++ tr_N X h a2) := by
      rw [tr_Ns, xc]; simp [tr_n, m0, m1, m2]
    have e3 : tr_n X' (h + 1) (r3, d) = d :: (tr_N X h a3 ++ tr_N X h a4 ++ tr_N X h a5) := by
      unfold tr_n
      rw [tr_Ns, xd]; simp [tr_n, m3, m4, m5]
    rw [e1, e2, e3]
    refine List.Perm.trans (List.Perm.of_eq ?_) (List.Perm.trans (List.perm_middle (a := d) (l₁ := (n :: P.flatMap (tr_n X (h + 1))) ++ (c :: (tr_N X h a0 ++ tr_N X h a1 ++ tr_N X h a2))) (l₂ := (tr_N X h a3 ++ tr_N X h a4 ++ tr_N X h a5) ++ Q.flatMap (tr_n X (h + 1)))) (List.Perm.of_eq ?_))
    · simp
    · simp
  · have hcm : (x, c) ∈ X n := by rw [hX]; simp
    obtain ⟨wc1, wc⟩ := w.2.2 (x, c) hcm
    have lec : ar_u le d (le c) c = le c := ar_un (fun z => d3 z.symm)
    have fW : ∀ e, e ∈ X c → (0 < h → 3 ≤ (X' e.2).length) ∧ tr_W X' (ar_u le d (le c)) h e.2 := fun e he => by
      obtain ⟨z1, z2⟩ := wc.2.2 e he
      have g := fun m hm => d5 e he m hm
      refine ⟨fun hh => ?_, tr_frW h e.2 (fun m hm => ⟨xm m (g m hm).1 (g m hm).2.1 (g m hm).2.2, ar_un (g m hm).2.2⟩) z2⟩
      have q := g e.2 (tr_hd1 hh e.2)
      rw [xm e.2 q.1 q.2.1 q.2.2]
      exact z1 hh
    have fW6 := fW
    rw [hc] at fW6
    refine ⟨by rw [ar_un (fun z => d2 z.symm)]; exact w.1, by rw [xn]; rw [hX] at hl; simp at hl ⊢; omega, fun e he => ?_⟩
    rw [xn] at he
    have old : e ∈ P ∨ e ∈ Q → (0 < h + 1 → 3 ≤ (X' e.2).length) ∧ tr_W X' (ar_u le d (le c)) (h + 1) e.2 := fun he => by
      have he' : e ∈ X n := by
        rw [hX]
        rcases he with he | he
        · exact List.mem_append.mpr (Or.inl he)
        · exact List.mem_append.mpr (Or.inr (List.mem_cons_of_mem _ he))
      obtain ⟨z1, z2⟩ := w.2.2 e he'
      have g := fun m hm => d4 e he m hm
      refine ⟨fun hh => ?_, tr_frW (h + 1) e.2 (fun m hm => ⟨xm m (g m hm).1 (g m hm).2.1 (g m hm).2.2, ar_un (g m hm).2.2⟩) z2⟩
      have q := g e.2 (tr_hd h e.2)
      rw [xm e.2 q.1 q.2.1 q.2.2]
      exact z1 hh
    rcases List.mem_append.mp he with he | he
    · exact old (Or.inl he)
    · rcases List.mem_cons.mp he with rfl | he
      · refine ⟨fun _ => by rw [xc]; simp, by rw [lec]; exact wc.1, by rw [xc]; simp, fun e he => fW6 e ?_⟩
        rw [xc] at he
        simp only [List.mem_cons, List.not_mem_nil, or_false] at he ⊢
        rcases he with z | z | z <;> simp [z]
      · rcases List.mem_cons.mp he with rfl | he
        · refine ⟨fun _ => by rw [xd]; simp, by rw [ar_us]; exact wc.1, by rw [xd]; simp, fun e he => ?_⟩
          rw [xd] at he
          simp only [List.mem_cons, List.not_mem_nil, or_false] at he
          rcases he with rfl | rfl | rfl
          · exact fW6 (r3, a3) (by simp)
          · exact fW6 (r4, a4) (by simp)
          · exact fW6 (r5, a5) (by simp)
        · exact old (Or.inr he)
/-- latest, after a split: all nodes but n -/
theorem sp_lat (hX : X n = P ++ (x, c) :: Q) (hc : X c = [(0, a0), (r1, a1), (r2, a2), (r3, a3), (r4, a4), (r5, a5)]) (D : sp_D X h n c d P Q)
    (xc : X' c = [(0, a0), (r1, a1), (r2, a2)]) (xd : X' d = [(0, a3), (r4, a4), (r5, a5)]) (xn : X' n = P ++ (x, c) :: (r3, d) :: Q) (xm : ∀ m, m ≠ n → m ≠ c → m ≠ d → X' m = X m)
    (w : tr_W X le (h + 2) n) (C : ∀ e, e ∈ X n → ∀ m, m ∈ tr_N X (h + 1) e.2 → tr_C X le rb rd la m) (lm : ∀ m, m ≠ c → m ≠ d → la' m = la m)
    (tc : tr_C X' (ar_u le d (le c)) rb rd la' c) (td : tr_C X' (ar_u le d (le c)) rb rd la' d) :
    ∀ e, e ∈ X' n → ∀ m, m ∈ tr_N X' (h + 1) e.2 → tr_C X' (ar_u le d (le c)) rb rd la' m := by
  obtain ⟨d1, d2, d3, d4, d5⟩ := D
  have hcm : (x, c) ∈ X n := by rw [hX]; simp
  have old : ∀ e, e ∈ P ∨ e ∈ Q → ∀ m, m ∈ tr_N X' (h + 1) e.2 → tr_C X' (ar_u le d (le c)) rb rd la' m := fun e he => by
    have he' : e ∈ X n := by
      rw [hX]
      rcases he with he | he
      · exact List.mem_append.mpr (Or.inl he)
      · exact List.mem_append.mpr (Or.inr (List.mem_cons_of_mem _ he))
    have g := fun m hm => d4 e he m hm
    rw [(tr_fr (X' := X') (h + 1) e.2 (fun m hm => xm m (g m hm).1 (g m hm).2.1 (g m hm).2.2)).2]
    exact tr_Cfr (w.2.2 e he').2 (fun m hm => ⟨xm m (g m hm).1 (g m hm).2.1 (g m hm).2.2, ar_un (g m hm).2.2, lm m (g m hm).2.1 (g m hm).2.2⟩) (fun m hm => C e he' m hm)
  have inn : ∀ e, e ∈ X c → ∀ m, m ∈ tr_N X' h e.2 → tr_C X' (ar_u le d (le c)) rb rd la' m := fun e he => by
    have g := fun m hm => d5 e he m hm
    rw [(tr_fr (X' := X') h e.2 (fun m hm => xm m (g m hm).1 (g m hm).2.1 (g m hm).2.2)).2]
    exact tr_Cfr ((w.2.2 (x, c) hcm).2.2.2 e he).2 (fun m hm => ⟨xm m (g m hm).1 (g m hm).2.1 (g m hm).2.2, ar_un (g m hm).2.2, lm m (g m hm).2.1 (g m hm).2.2⟩) (fun m hm => C (x, c) hcm m (tr_sub he hm))
  rw [hc] at inn
  intro e he m hm
  rw [xn] at he
  rcases List.mem_append.mp he with he | he
  · exact old e (Or.inl he) m hm
  · rcases List.mem_cons.mp he with rfl | he
    · rcases tr_mem hm with rfl | ⟨e, he, hm⟩
      · exact tc
      · rw [xc] at he
        refine inn e ?_ m hm
        simp only [List.mem_cons, List.not_mem_nil, or_false] at he ⊢
        rcases he with z | z | z <;> simp [z]
    · rcases List.mem_cons.mp he with rfl | he
      · rcases tr_mem hm with rfl | ⟨e, he, hm⟩
        · exact td
        · rw [xd] at he
          simp only [List.mem_cons, List.not_mem_nil, or_false] at he
          rcases he with rfl | rfl | rfl
          · exact inn (r3, a3) (by simp) m hm
          · exact inn (r4, a4) (by simp) m hm
          · exact inn (r5, a5) (by simp) m hm
      · exact old e (Or.inr he) m hm
end TS
end
section
/-! ===== touch ===== -/
/-- latest holds at every node but those on the way to r -/
def tr_R (X : Nat → List (Nat × Nat)) (le : Nat → Nat) (rb rd la : Nat → Int32) (r : Nat) : Nat → Nat → Prop
  | 0, _ => True
  | h + 1, n => ∀ e, e ∈ X n → (r ∉ tr_L X h e.2 → ∀ m, m ∈ tr_N X h e.2 → tr_C X le rb rd la m) ∧ (r ∈ tr_L X h e.2 → tr_R X le rb rd la r h e.2)
section TT
variable {X X' : Nat → List (Nat × Nat)} {le le' : Nat → Nat} {rb rd la la' : Nat → Int32} {h n c x r : Nat} {P B : List (Nat × Nat)} {κ : Nat → Int}
theorem tr_inP {e : Nat × Nat} (he : e ∈ P) {a : Nat} (ha : a ∈ tr_L X h e.2) : a ∈ tr_p X h P x := by
  cases P with
  | nil => exact absurd he List.not_mem_nil
  | cons e0 P =>
    rw [tr_p1]
    rcases List.mem_cons.mp he with rfl | he
    · exact List.mem_append.mpr (Or.inl ha)
    · exact List.mem_append.mpr (Or.inr (List.mem_append.mpr (Or.inl (List.mem_flatMap.mpr ⟨e, he, List.mem_cons_of_mem _ ha⟩))))
theorem tr_inB {e : Nat × Nat} (he : e ∈ B) {a : Nat} (ha : a ∈ tr_L X h e.2) : a ∈ B.flatMap (tr_g X h) :=
  List.mem_flatMap.mpr ⟨e, he, List.mem_cons_of_mem _ ha⟩
theorem ky_3 {A C B : List Nat} (s : ky_S κ (A ++ (C ++ B))) : (∀ a, a ∈ A → ∀ c, c ∈ C → κ a < κ c) ∧ (∀ a, a ∈ A → ∀ b, b ∈ B → κ a < κ b) ∧ (∀ c, c ∈ C → ∀ b, b ∈ B → κ c < κ b) ∧ ky_S κ C ∧ ky_S κ B ∧ ky_S κ A := by
  unfold ky_S at s ⊢
  obtain ⟨s1, s2, s3⟩ := List.pairwise_append.mp s
  obtain ⟨s4, s5, s6⟩ := List.pairwise_append.mp s2
  exact ⟨fun a ha c hc => s3 a ha c (List.mem_append.mpr (Or.inl hc)), fun a ha b hb => s3 a ha b (List.mem_append.mpr (Or.inr hb)), s6, s4, s5, s1⟩
theorem tr_Rof : ∀ (h n : Nat), (∀ m, m ∈ tr_N X h n → tr_C X le rb rd la m) → tr_R X le rb rd la r h n
  | 0, _, _ => trivial
  | h + 1, _, C => fun _ he => ⟨fun _ m hm => C m (tr_sub he hm), fun _ => tr_Rof h _ (fun m hm => C m (tr_sub he hm))⟩
end TT
section WX
variable {f_freeRecord f_done f_changes f_undo f_volume f_snaps f_syncing f_synced f_goal f_cObj f_cKey f_cBorn f_begun f_fObj f_fKey f_fValue f_fBorn : Int32} {fn : Nat} {co le re ch : Nat → Nat} {ro rk rb rd rv rw la rt sz pa sp ur ud uv ua sn : Nat → Int32}
variable {n d r : Nat} {post : SX → Prop}
theorem wx_t125 {g : Nat} (ok : nd_ok co re ch) (hn : n < 110) (hd : d < 10) (hp : pa d = nI n) (hz : le n = 0 ∨ le n = 1) (hc : le n = 0 → ∀ e, e ∈ nd_X co re ch n → e.2 < 110 ∧ e.2 ≠ n)
    (K : ∀ la' : Nat → Int32, (∀ m, m ≠ n → la' m = la m) → tr_C (nd_X co re ch) le rb rd la' n → wX_touch_125 post g (nI d) (nI fn) f_freeRecord f_done f_changes f_undo f_volume f_snaps f_syncing f_synced f_goal f_cObj f_cKey f_cBorn f_begun f_fObj f_fKey f_fValue f_fBorn ro rk rb rd rv rw (ar_n co) (ar_n le) (ar_n re) (ar_n ch) la' rt sz pa sp ur ud uv ua sn) :
    wX_touch_125 post (g + 1) (nI (d + 1)) (nI fn) f_freeRecord f_done f_changes f_undo f_volume f_snaps f_syncing f_synced f_goal f_cObj f_cKey f_cBorn f_begun f_fObj f_fKey f_fValue f_fBorn ro rk rb rd rv rw (ar_n co) (ar_n le) (ar_n re) (ar_n ch) la rt sz pa sp ur ud uv ua sn := by
  rw [wX_touch_125]
  refine br_f (nI_nle (by omega) (by omega)) (nm_r (pk_m1 d) ⟨vp_in_nI hd (by decide), ?_⟩)
  rw [nI_clamp (n := d) (by omega), hp]
  exact wx_refC ok hn hz hc K
theorem wx_touch13 (ok : nd_ok co re ch) (hr : r < 200) : ∀ (h f n d : Nat) (pa la : Nat → Int32), 0 < h → tr_W (nd_X co re ch) le h n → (∀ m, m ∈ tr_N (nd_X co re ch) h n → m < 110) → (tr_N (nd_X co re ch) h n).Nodup → ky_S (ky_r ro rk rb) (tr_L (nd_X co re ch) h n) →
    r ∈ tr_L (nd_X co re ch) h n → tr_R (nd_X co re ch) le rb rd la r h n → h < f → d + h ≤ 10 →
    (∀ (pa' la' : Nat → Int32) (g : Nat), (∀ j, j < d → pa' j = pa j) → (∀ m, m ∉ tr_N (nd_X co re ch) h n → la' m = la m) → (∀ m, m ∈ tr_N (nd_X co re ch) h n → tr_C (nd_X co re ch) le rb rd la' m) → d < g → wX_touch_125 post g (nI d) (nI fn) f_freeRecord f_done f_changes f_undo f_volume f_snaps f_syncing f_synced f_goal f_cObj f_cKey f_cBorn f_begun f_fObj f_fKey f_fValue f_fBorn ro rk rb rd rv rw (ar_n co) (ar_n le) (ar_n re) (ar_n ch) la' rt sz pa' sp ur ud uv ua sn) →
    wX_touch_13 post (nI r) (nI fn) f_freeRecord f_done f_changes f_undo f_volume f_snaps f_syncing f_synced f_goal f_cObj f_cKey f_cBorn f_begun f_fObj f_fKey f_fValue f_fBorn f (nI n) (nI d) 1 ro rk rb rd rv rw (ar_n co) (ar_n le) (ar_n re) (ar_n ch) la rt sz pa sp ur ud uv ua sn := by
  intro h
  induction h with
  | zero => intro f n d pa la h0; omega
  | succ h ih =>
    intro f n d pa la _ w hN hnd hS hrL hR hf hd Kasc
    obtain ⟨f, rfl⟩ : ∃ g, f = g + 1 := ⟨f - 1, by omega⟩
    have hn : n < 110 := hN n (tr_hd _ n)
    have h5 := ok.1 n
    have vr : vp_in (nI r) 200 := vp_in_nI hr (by decide)
    have vn : vp_in (nI n) 110 := vp_in_nI hn (by decide)
    have hnd' : (tr_N (nd_X co re ch) (h + 1) n ++ []).Nodup := by rw [List.append_nil]; exact hnd
    have hz : le n = 0 ∨ le n = 1 := by
      rcases Nat.eq_zero_or_pos (le n) with z | z
      · exact Or.inl z
      · exact Or.inr ((tr_zc w.1).1 (by omega)).1
    have hck : le n = 0 → ∀ e, e ∈ nd_X co re ch n → e.2 < 110 ∧ e.2 ≠ n := fun z e he => by
      have hh := (tr_zc w.1).2 z
      exact ⟨hN _ (tr_sub he (tr_hd1 hh e.2)), (tr_nd2 hnd' e he e.2 (tr_hd1 hh e.2)).1⟩
    rw [wX_touch_13]
    dsimp only
    refine br_f (by decide) (br_f (nI_ge (b := 10) (by omega) (by decide)) (nm_r (nI_1 d) ⟨vp_in_nI (by omega) (by decide), ?_⟩))
    rw [nI_clamp (n := d) (by omega), nI_clamp (n := r) (by omega), ar_bb (n := n) (by omega)]
    refine nm_e ⟨vr, vr, vr, wx_place ok hn ?_⟩
    intro P x c B hX h1 h2
    obtain ⟨p1, p2, p3⟩ := so_node hX hS h1 h2
    have hl := nd_co hX
    rw [List.length_cons] at hl
    have hcm : (x, c) ∈ nd_X co re ch n := by rw [hX]; simp
    have hLd := tr_Ld (h := h) hX
    obtain ⟨u1, u2, u3, u4, u5, -⟩ := ky_3 (by rw [← hLd]; exact hS)
    have hq : ky_e (ro r) (rk r) (rb r) = ky_r ro rk rb r := rfl
    rw [hq] at p1 p2
    -- stop here: all the children's trees are without r
    have stop : (∀ e, e ∈ nd_X co re ch n → r ∉ tr_L (nd_X co re ch) h e.2) → wX_touch_101 post (wX_touch_13 post (nI r) (nI fn) f_freeRecord f_done f_changes f_undo f_volume f_snaps f_syncing f_synced f_goal f_cObj f_cKey f_cBorn f_begun f_fObj f_fKey f_fValue f_fBorn f) (nI r) (nI n) (nI (d + 1)) (nI P.length) (nI fn) f_freeRecord f_done f_changes f_undo f_volume f_snaps f_syncing f_synced f_goal f_cObj f_cKey f_cBorn f_begun f_fObj f_fKey f_fValue f_fBorn ro rk rb rd rv rw (ar_n co) (ar_n le) (ar_n re) (ar_n ch) la rt sz (upd pa d (nI n)) sp ur ud uv ua sn := by
      intro hno
      unfold wX_touch_101 wX_touch_102
      refine br_t rfl ?_
      obtain ⟨f, rfl⟩ : ∃ g, f = g + 1 := ⟨f - 1, by omega⟩
      rw [wX_touch_13]
      refine br_t rfl ⟨d + 2, wx_t125 ok hn (by omega) pk_us hz hck (fun la' l1 l2 => Kasc (upd pa d (nI n)) la' (d + 1) (fun j hj => pk_un (by omega)) (fun m hm => l1 m (fun z => hm (by rw [z]; exact tr_hd h n))) (fun m hm => ?_) (by omega))⟩
      rcases tr_mem hm with rfl | ⟨e, he, hm⟩
      · exact l2
      · exact tr_Cfr (w.2.2 e he).2 (fun m hm => ⟨rfl, rfl, l1 m (tr_nd2 hnd' e he m hm).1⟩) (hR e he |>.1 (hno e he)) m hm
    -- go on
    have go : le n = 0 → r ∈ tr_L (nd_X co re ch) h c → wX_touch_97 post (wX_touch_13 post (nI r) (nI fn) f_freeRecord f_done f_changes f_undo f_volume f_snaps f_syncing f_synced f_goal f_cObj f_cKey f_cBorn f_begun f_fObj f_fKey f_fValue f_fBorn f) (nI r) (nI n) (nI (d + 1)) (nI P.length) (nI fn) f_freeRecord f_done f_changes f_undo f_volume f_snaps f_syncing f_synced f_goal f_cObj f_cKey f_cBorn f_begun f_fObj f_fKey f_fValue f_fBorn ro rk rb rd rv rw (ar_n co) (ar_n le) (ar_n re) (ar_n ch) la rt sz (upd pa d (nI n)) sp ur ud uv ua sn := by
      intro hle hrc
      have hh := (tr_zc w.1).2 hle
      obtain ⟨⟨m1, -⟩, m2, m3⟩ := tr_nd1 hX hnd'
      unfold wX_touch_97 wX_touch_102
      rw [ar_6, ar_c (f := ch) (by omega), nd_ch hX]
      refine br_f (by decide) ⟨vp_in_nI (by omega) (by decide), nm_e ?_⟩
      refine ih f c (d + 1) (upd pa d (nI n)) la hh (w.2.2 (x, c) hcm).2 (fun m hm => hN m (tr_sub hcm hm)) (by rw [List.append_nil] at m3; exact m3) p3 hrc ((hR (x, c) hcm).2 hrc) (by omega) (by omega) ?_
      intro pa' la' g q1 q2 q3 q4
      obtain ⟨g, rfl⟩ : ∃ k, g = k + 1 := ⟨g - 1, by omega⟩
      refine wx_t125 ok hn (by omega) (by rw [q1 d (by omega), pk_us]) hz hck (fun la2 l1 l2 => Kasc pa' la2 g (fun j hj => by rw [q1 j (by omega), pk_un (by omega)]) (fun m hm => ?_) (fun m hm => ?_) (by omega))
      · rw [l1 m (fun z => hm (by rw [z]; exact tr_hd h n)), q2 m (fun z => hm (tr_sub hcm z))]
      · rcases tr_mem hm with rfl | ⟨e, he, hm⟩
        · exact l2
        · have sub : ∀ e, e ∈ nd_X co re ch n → (e ∈ P ∨ e ∈ B) → ∀ m, m ∈ tr_N (nd_X co re ch) h e.2 → tr_C (nd_X co re ch) le rb rd la2 m := fun e he hpb => by
            refine tr_Cfr (w.2.2 e he).2 (fun m hm => ⟨rfl, rfl, by rw [l1 m (tr_nd2 hnd' e he m hm).1, q2 m (m2 e hpb m hm).1]⟩) ((hR e he).1 (fun z => ?_))
            rcases hpb with y | y
            · have := u1 r (tr_inP y z) r hrc
              omega
            · have := u3 r hrc r (tr_inB y z)
              omega
          have he' := he
          rw [hX] at he'
          rcases List.mem_append.mp he' with he' | he'
          · exact sub e he (Or.inl he') m hm
          · rcases List.mem_cons.mp he' with rfl | he'
            · exact tr_Cfr (w.2.2 _ he).2 (fun m hm => ⟨rfl, rfl, l1 m (tr_nd2 hnd' _ he m hm).1⟩) q3 m hm
            · exact sub e he (Or.inr he') m hm
    -- where r lies
    have whr : r ∈ tr_L (nd_X co re ch) h c ∨ r ∈ B.flatMap (tr_g (nd_X co re ch) h) := by
      rw [hLd] at hrL
      rcases List.mem_append.mp hrL with z | z
      · have := p1 r z
        omega
      · exact List.mem_append.mp z
    have hB : r ∈ B.flatMap (tr_g (nd_X co re ch) h) → ∃ dd B', B = (r, dd) :: B' := by
      intro z
      cases B with
      | nil => exact absurd z List.not_mem_nil
      | cons e B =>
        obtain ⟨y, dd⟩ := e
        have hy := h2 (y, dd) B rfl
        rw [hq] at hy
        have u6 := so_node1 hX hS
        rw [List.flatMap_cons] at z
        have z' : r = y ∨ r ∈ tr_L (nd_X co re ch) h dd ++ B.flatMap (tr_g (nd_X co re ch) h) := by
          rcases List.mem_append.mp z with z | z
          · rcases List.mem_cons.mp z with z | z
            · exact Or.inl z
            · exact Or.inr (List.mem_append.mpr (Or.inl z))
          · exact Or.inr (List.mem_append.mpr (Or.inr z))
        rcases z' with z | z
        · exact ⟨dd, B, by rw [z]⟩
        · have := u6 r z
          exact absurd this (Int.not_lt.mpr hy)
    have here : (∃ dd B', B = (r, dd) :: B') → ∀ e, e ∈ nd_X co re ch n → r ∉ tr_L (nd_X co re ch) h e.2 := by
      rintro ⟨dd, B', rfl⟩ e he z
      have u6 := so_node1 hX hS
      have hrB : r ∈ ((r, dd) :: B').flatMap (tr_g (nd_X co re ch) h) := by
        rw [List.flatMap_cons]
        exact List.mem_append.mpr (Or.inl (List.mem_cons_self ..))
      rw [hX] at he
      rcases List.mem_append.mp he with he | he
      · have := u2 r (tr_inP he z) r hrB
        omega
      · rcases List.mem_cons.mp he with rfl | he
        · have := u3 r z r hrB
          omega
        · rcases List.mem_cons.mp he with rfl | he
          · have := u6 r (List.mem_append.mpr (Or.inl z))
            omega
          · have := u6 r (List.mem_append.mpr (Or.inr (tr_inB he z)))
            omega
    rw [ar_c (f := le) (by omega), ar_c (f := co) (by omega)]
    refine ⟨vn, ?_⟩
    rcases hz with z0 | z0
    · rw [z0]
      refine br_t rfl ⟨vn, ?_⟩
      rcases whr with z | z
      · cases B with
        | nil =>
          rw [List.length_nil] at hl
          exact br_t (by rw [show P.length = co n by omega]) (go z0 z)
        | cons e B =>
          obtain ⟨y, dd⟩ := e
          rw [List.length_cons] at hl
          have hX' : nd_X co re ch n = (P ++ [(x, c)]) ++ (y, dd) :: B := by rw [hX, List.append_assoc]; rfl
          have hy : re (5 * n + P.length) = y := nd_re hX' (by rw [List.length_append]; rfl)
          have hy2 := ok.2.1 (5 * n + P.length)
          rw [ar_5, ar_c (f := re) (by omega), hy]
          refine br_f (fun q => absurd ((nI_eq (by omega) (by omega)).mp q) (by omega)) ⟨vp_in_nI (by omega) (by decide), br_f (fun q => ?_) (go z0 z)⟩
          rw [nI_eq (by omega) (by omega)] at q
          have := u3 r z y (by rw [List.flatMap_cons]; exact List.mem_append.mpr (Or.inl (List.mem_cons_self ..)))
          rw [q] at this
          omega
      · obtain ⟨dd, B', rfl⟩ := hB z
        rw [List.length_cons] at hl
        have hX' : nd_X co re ch n = (P ++ [(x, c)]) ++ (r, dd) :: B' := by rw [hX, List.append_assoc]; rfl
        have hy : re (5 * n + P.length) = r := nd_re hX' (by rw [List.length_append]; rfl)
        rw [ar_5, ar_c (f := re) (by omega), hy]
        exact br_f (fun q => absurd ((nI_eq (by omega) (by omega)).mp q) (by omega)) ⟨vp_in_nI (by omega) (by decide), br_t rfl (stop (here ⟨dd, B', rfl⟩))⟩
    · rw [z0]
      refine br_f (by decide) (stop ?_)
      have hh : h = 0 := ((tr_zc w.1).1 (by omega)).2
      subst hh
      exact fun e he => List.not_mem_nil
theorem wx_touch {h v : Nat} (ok : nd_ok co re ch) (hr : r < 200) (hv : v < 2) (hrt : rt v = nI n) (h0 : 0 < h) (h9 : h ≤ 10) (w : tr_W (nd_X co re ch) le h n) (hN : ∀ m, m ∈ tr_N (nd_X co re ch) h n → m < 110) (hnd : (tr_N (nd_X co re ch) h n).Nodup)
    (hS : ky_S (ky_r ro rk rb) (tr_L (nd_X co re ch) h n)) (hrL : r ∈ tr_L (nd_X co re ch) h n) (hR : tr_R (nd_X co re ch) le rb rd la r h n)
    (K : ∀ (pa' la' : Nat → Int32), (∀ m, m ∉ tr_N (nd_X co re ch) h n → la' m = la m) → (∀ m, m ∈ tr_N (nd_X co re ch) h n → tr_C (nd_X co re ch) le rb rd la' m) → post ((nI fn), f_freeRecord, f_done, f_changes, f_undo, f_volume, f_snaps, f_syncing, f_synced, f_goal, f_cObj, f_cKey, f_cBorn, f_begun, f_fObj, f_fKey, f_fValue, f_fBorn, ro, rk, rb, rd, rv, rw, (ar_n co), (ar_n le), (ar_n re), (ar_n ch), la', rt, sz, pa', sp, ur, ud, uv, ua, sn)) :
    wpX_touch post ((nI fn), f_freeRecord, f_done, f_changes, f_undo, f_volume, f_snaps, f_syncing, f_synced, f_goal, f_cObj, f_cKey, f_cBorn, f_begun, f_fObj, f_fKey, f_fValue, f_fBorn, ro, rk, rb, rd, rv, rw, (ar_n co), (ar_n le), (ar_n re), (ar_n ch), la, rt, sz, pa, sp, ur, ud, uv, ua, sn) (nI v) (nI r) := by
  unfold wpX_touch
  dsimp only
  rw [nI_clamp (n := v) (by omega), hrt]
  refine ⟨vp_in_nI hv (by decide), nm_e ⟨h + 1, wx_touch13 ok hr h (h + 1) n 0 pa la h0 w hN hnd hS hrL hR (by omega) (by omega) (fun pa' la' g _ q2 q3 q4 => ?_)⟩⟩
  obtain ⟨g, rfl⟩ : ∃ k, g = k + 1 := ⟨g - 1, by omega⟩
  rw [wX_touch_125]
  exact br_t (by decide) (K pa' la' q2 q3)
end WX
end
section
/-! ===== insert, without the program ===== -/
/-- the free nodes, linked by their first child -/
def fl_N (ch : Nat → Nat) : Nat → List Nat → Prop
  | _, [] => True
  | f, x :: xs => f = x ∧ fl_N ch (ch (6 * x)) xs
theorem fl_fr {ch ch' : Nat → Nat} : ∀ {F : List Nat} {f : Nat}, (∀ m, m ∈ F → ch' (6 * m) = ch (6 * m)) → fl_N ch f F → fl_N ch' f F
  | [], _, _, _ => trivial
  | x :: xs, _, H, c => ⟨c.1, by rw [H x (List.mem_cons_self ..)]; exact fl_fr (fun m hm => H m (List.mem_cons_of_mem _ hm)) c.2⟩
theorem nd_c0 {co re ch co' re' ch' : Nat → Nat} {m : Nat} (h : nd_X co' re' ch' m = nd_X co re ch m) : ch' (6 * m) = ch (6 * m) := by
  obtain ⟨Q, e⟩ := nd_hd (co := co) (re := re) (ch := ch) (n := m)
  obtain ⟨Q', e'⟩ := nd_hd (co := co') (re := re') (ch := ch') (n := m)
  rw [e, e'] at h
  exact congrArg Prod.snd (List.cons.inj h).1
theorem nd_6 {co re ch : Nat → Nat} {c : Nat} (hc : co c = 5) : ∃ a0 r1 a1 r2 a2 r3 a3 r4 a4 r5 a5, nd_X co re ch c = [(0, a0), (r1, a1), (r2, a2), (r3, a3), (r4, a4), (r5, a5)] := by
  unfold nd_X
  rw [hc]
  exact ⟨_, _, _, _, _, _, _, _, _, _, _, rfl⟩
theorem ar_uid (f : Nat → Nat) (k : Nat) : ar_u f k (f k) = f := by
  funext j
  unfold ar_u
  by_cases h : j = k
  · rw [if_pos h, h]
  · rw [if_neg h]
theorem pm_3 {A B B' C F F' : List Nat} (h : (B' ++ F').Perm (B ++ F)) : (A ++ (B' ++ C) ++ F').Perm (A ++ (B ++ C) ++ F) := by
  have t : ∀ B F : List Nat, (A ++ (B ++ C) ++ F).Perm (A ++ ((B ++ F) ++ C)) := fun B F => by
    rw [List.append_assoc, List.append_assoc, List.append_assoc]
    exact List.Perm.append_left A (List.Perm.append_left B List.perm_append_comm)
  exact (t B' F').trans ((List.Perm.append_left A (List.Perm.append_right C h)).trans (t B F).symm)
def in_S (κ : Nat → Int) (rb rd : Nat → Int32) (r h n : Nat) (X : Nat → List (Nat × Nat)) (le : Nat → Nat) (la : Nat → Int32) (F : List Nat) (X' : Nat → List (Nat × Nat)) (le' : Nat → Nat) (la' : Nat → Int32) (F' : List Nat) : Prop :=
  tr_W X' le' h n ∧ (X n).length ≤ (X' n).length ∧
  (∃ A B, tr_L X h n = A ++ B ∧ tr_L X' h n = A ++ r :: B ∧ (∀ a, a ∈ A → κ a < κ r) ∧ (∀ b, b ∈ B → κ r < κ b)) ∧
  (tr_N X' h n ++ F').Perm (tr_N X h n ++ F) ∧ (∀ m, m ∉ tr_N X h n → m ∉ F → X' m = X m ∧ le' m = le m ∧ la' m = la m) ∧ tr_R X' le' rb rd la' r h n
section IN
variable {X X1 X' : Nat → List (Nat × Nat)} {le le1 le' : Nat → Nat} {rb rd la la1 la' : Nat → Int32} {h n c x r : Nat} {P Q : List (Nat × Nat)} {κ : Nat → Int} {F F1 F' : List Nat}
theorem in_lift (hX : X n = P ++ (x, c) :: Q) (hh : 0 < h) (w : tr_W X le (h + 1) n) (nd : (tr_N X (h + 1) n ++ F).Nodup) (p1 : ∀ a, a ∈ tr_p X h P x → κ a < κ r) (p2 : ∀ b, b ∈ Q.flatMap (tr_g X h) → κ r < κ b)
    (C : ∀ e, e ∈ X n → ∀ m, m ∈ tr_N X h e.2 → tr_C X le rb rd la m) (S : in_S κ rb rd r h c X le la F X' le' la' F') : in_S κ rb rd r (h + 1) n X le la F X' le' la' F' := by
  obtain ⟨s1, s2, ⟨A, B, s3, s4, s5, s6⟩, s7, s8, s9⟩ := S
  obtain ⟨t1, t2, t3⟩ := tr_lift hX nd (fun m a b => (s8 m a b).1)
  obtain ⟨⟨n1, n2⟩, n3, n4⟩ := tr_nd1 hX nd
  have hcm : (x, c) ∈ X n := by rw [hX]; simp
  refine ⟨tr_liftW hX nd (fun m a b => ⟨(s8 m a b).1, (s8 m a b).2.1⟩) w s1 (fun hh => Nat.le_trans ((w.2.2 (x, c) hcm).1 hh) s2), by rw [t1]; exact Nat.le_refl _, ⟨tr_p X h P x ++ A, B ++ Q.flatMap (tr_g X h), ?_, ?_, ?_, ?_⟩, ?_, ?_, ?_⟩
  · rw [tr_Ld hX, s3]; simp
  · rw [t2, s4]; simp
  · intro a ha
    rcases List.mem_append.mp ha with ha | ha
    · exact p1 a ha
    · exact s5 a ha
  · intro a ha
    rcases List.mem_append.mp ha with ha | ha
    · exact s6 a ha
    · exact p2 a ha
  · rw [t3, tr_Nd hX]
    exact pm_3 s7
  · intro m h1 h2
    exact s8 m (fun z => h1 (tr_sub hcm z)) h2
  · intro e he
    rw [t1] at he
    have oth : e ∈ P ∨ e ∈ Q → (r ∉ tr_L X' h e.2 → ∀ m, m ∈ tr_N X' h e.2 → tr_C X' le' rb rd la' m) ∧ (r ∈ tr_L X' h e.2 → tr_R X' le' rb rd la' r h e.2) := fun hpq => by
      have g := fun m hm => s8 m (n3 e hpq m hm).1 (n3 e hpq m hm).2
      obtain ⟨q1, q2⟩ := tr_fr h e.2 (fun m hm => (g m hm).1)
      rw [q1, q2]
      refine ⟨fun _ => tr_Cfr (w.2.2 e he).2 g (C e he), fun z => ?_⟩
      rcases hpq with y | y
      · have := p1 r (tr_inP y z); omega
      · have := p2 r (tr_inB y z); omega
    have he' := he
    rw [hX] at he'
    rcases List.mem_append.mp he' with he' | he'
    · exact oth (Or.inl he')
    · rcases List.mem_cons.mp he' with rfl | he'
      · exact ⟨fun z => absurd (by rw [s4]; simp) z, fun _ => s9⟩
      · exact oth (Or.inr he')
theorem in_tr (hL : tr_L X1 h n = tr_L X h n) (hP : (tr_N X1 h n ++ F1).Perm (tr_N X h n ++ F)) (hl : (X n).length ≤ (X1 n).length) (fr : ∀ m, m ∉ tr_N X h n → m ∉ F → X1 m = X m ∧ le1 m = le m ∧ la1 m = la m)
    (S : in_S κ rb rd r h n X1 le1 la1 F1 X' le' la' F') : in_S κ rb rd r h n X le la F X' le' la' F' := by
  obtain ⟨s1, s2, ⟨A, B, s3, s4, s5, s6⟩, s7, s8, s9⟩ := S
  refine ⟨s1, Nat.le_trans hl s2, ⟨A, B, by rw [← hL]; exact s3, s4, s5, s6⟩, s7.trans hP, fun m h1 h2 => ?_, s9⟩
  have hm : m ∉ tr_N X1 h n ++ F1 := fun z => by
    rcases List.mem_append.mp (hP.mem_iff.mp z) with z | z
    · exact h1 z
    · exact h2 z
  obtain ⟨a, b, c⟩ := s8 m (fun z => hm (List.mem_append.mpr (Or.inl z))) (fun z => hm (List.mem_append.mpr (Or.inr z)))
  obtain ⟨a', b', c'⟩ := fr m h1 h2
  exact ⟨a.trans a', b.trans b', c.trans c'⟩
theorem tr_N1 : tr_N X 1 n = [n] := by
  rw [tr_Ns]
  have : (X n).flatMap (tr_n X 0) = [] := List.flatMap_eq_nil_iff.mpr (fun e _ => rfl)
  rw [this]
theorem in_leaf {d0 : Nat} (hX : X n = P ++ (x, c) :: Q) (xn : X' n = P ++ (x, c) :: (r, d0) :: Q) (xm : ∀ m, m ≠ n → X' m = X m) (w : tr_W X le 1 n) (hl : (X n).length ≤ 5) (p1 : ∀ a, a ∈ tr_p X 0 P x → κ a < κ r) (p2 : ∀ b, b ∈ Q.flatMap (tr_g X 0) → κ r < κ b) :
    in_S κ rb rd r 1 n X le la F X' le la F := by
  have hg : tr_g X' 0 = tr_g X 0 := rfl
  refine ⟨⟨w.1, by rw [xn]; rw [hX] at hl; simp at hl ⊢; omega, fun e _ => ⟨fun z => absurd z (Nat.lt_irrefl 0), trivial⟩⟩, by rw [xn, hX]; simp, ⟨tr_p X 0 P x, Q.flatMap (tr_g X 0), ?_, ?_, p1, p2⟩, ?_, fun m h1 _ => ?_, fun e _ => ⟨fun _ m hm => absurd hm List.not_mem_nil, fun z => absurd z List.not_mem_nil⟩⟩
  · rw [tr_Ld hX]; rfl
  · rw [tr_Ld xn]
    unfold tr_p
    rw [hg]
    rfl
  · rw [tr_N1, tr_N1]
  · exact ⟨xm m (fun z => h1 (by rw [z]; exact tr_hd 0 n)), rfl, rfl⟩
end IN
end
section
/-! ===== the walk of insert ===== -/
section WX
variable {f_freeRecord f_done f_changes f_undo f_volume f_snaps f_syncing f_synced f_goal f_cObj f_cKey f_cBorn f_begun f_fObj f_fKey f_fValue f_fBorn : Int32} {fn : Nat} {co le re ch : Nat → Nat} {ro rk rb rd rv rw la rt sz pa sp ur ud uv ua sn : Nat → Int32}
variable {n d r v s i c x : Nat} {post : SX → Prop} {P Q : List (Nat × Nat)}
/-- what is left of insert behind the leaf's store: the size, the volume, touch -/
theorem wx_ins_leaf (ok : nd_ok co re ch) (hn : n < 110) (hr : r < 200) (hv : v < 2) (hsz : sz v = nI s) (hs : s < 100) (h1 : le n = 1) (h4 : co n ≤ 4) {f : Nat}
    (K : ∀ (co' re' ch' : Nat → Nat) (P B : List (Nat × Nat)) (x c d0 : Nat) (Q : SX → Prop), (∀ u, post u → Q u) → nd_ok co' re' ch' → nd_X co re ch n = P ++ (x, c) :: B → (∀ e, e ∈ (P ++ [(x, c)]).tail → ky_r ro rk rb e.1 < ky_r ro rk rb r) → (∀ e B', B = e :: B' → ky_r ro rk rb r ≤ ky_r ro rk rb e.1) →
      nd_X co' re' ch' n = P ++ (x, c) :: (r, d0) :: B → (∀ m, m ≠ n → nd_X co' re' ch' m = nd_X co re ch m) → wpX_touch Q ((nI fn), f_freeRecord, f_done, f_changes, f_undo, f_volume, f_snaps, f_syncing, f_synced, f_goal, f_cObj, f_cKey, f_cBorn, f_begun, f_fObj, f_fKey, f_fValue, f_fBorn, ro, rk, rb, rd, rv, (upd rw r (nI v)), (ar_n co'), (ar_n le), (ar_n re'), (ar_n ch'), la, rt, (upd sz v (nI (s + 1))), pa, sp, ur, ud, uv, ua, sn) (nI v) (nI r)) :
    wX_insert_55 post (nI v) (nI r) (f + 1) (nI n) (nI fn) f_freeRecord f_done f_changes f_undo f_volume f_snaps f_syncing f_synced f_goal f_cObj f_cKey f_cBorn f_begun f_fObj f_fKey f_fValue f_fBorn ro rk rb rd rv rw (ar_n co) (ar_n le) (ar_n re) (ar_n ch) la rt sz pa sp ur ud uv ua sn := by
  have vn : vp_in (nI n) 110 := vp_in_nI hn (by decide)
  have vr : vp_in (nI r) 200 := vp_in_nI hr (by decide)
  have vv : vp_in (nI v) 2 := vp_in_nI hv (by decide)
  rw [wX_insert_55]
  dsimp only
  rw [ar_c (f := le) (by omega), h1, nI_clamp (n := r) (by omega)]
  refine ⟨vn, br_f (by decide) ⟨vr, vr, vr, wx_place ok hn ?_⟩⟩
  intro P x c B hX q1 q2
  have hl := nd_co hX
  rw [List.length_cons] at hl
  refine wx_widen ok hn h4 (by omega) ?_
  dsimp only
  rw [ar_5, nI_clamp (n := 5 * n + P.length) (by omega), nI_clamp (n := v) (by omega), ar_ss hr, ar_uu, hsz, nI_1, ar_bb (by omega), ar_bb (by omega)]
  refine ⟨vp_in_nI (by omega) (by decide), nm_e ⟨vv, vv, nm_e ⟨vr, nm_e ?_⟩⟩⟩
  have hX' : nd_X co re ch n = (P ++ [(x, c)]) ++ B := by rw [hX, List.append_assoc]; rfl
  have t := nd_in (r := r) (d := ar_sh ch (6 * n + (P.length + 1)) (6 * n + (co n + 1)) (6 * n + (P.length + 1))) hX' (i := P.length) (by rw [List.length_append]; rfl)
  rw [ar_uid, List.append_assoc] at t
  refine K _ _ _ P B x c _ _ (fun u h => h) ⟨fun m => Nat.le_of_lt_succ (ar_ub (fun j => Nat.lt_succ_of_le (ok.1 j)) (by omega) m), ar_ub (ar_shb ok.2.1) hr, fun j => Nat.le_of_lt_succ (ar_shb (fun j => Nat.lt_succ_of_le (ok.2.2 j)) j)⟩ hX q1 q2 t (fun m hm => ?_)
  refine nd_fr (ar_un hm) (ok.1 m) (fun j hj => ?_) (fun j hj => ?_)
  · rw [ar_un (by omega)]; exact if_neg (by omega)
  · exact if_neg (by omega)
theorem wx_ins156 {J : Int32 → Int32 → Int32 → Int32 → Int32 → Int32 → Int32 → Int32 → Int32 → Int32 → Int32 → Int32 → Int32 → Int32 → Int32 → Int32 → Int32 → Int32 → Int32 → (Nat → Int32) → (Nat → Int32) → (Nat → Int32) → (Nat → Int32) → (Nat → Int32) → (Nat → Int32) → (Nat → Int32) → (Nat → Int32) → (Nat → Int32) → (Nat → Int32) → (Nat → Int32) → (Nat → Int32) → (Nat → Int32) → (Nat → Int32) → (Nat → Int32) → (Nat → Int32) → (Nat → Int32) → (Nat → Int32) → (Nat → Int32) → (Nat → Int32) → Prop}
    {x1 x2 : Int32} (hn : n < 110) (hi : i < 6) (hc : ch (6 * n + i) = c) (K : J (nI c) (nI fn) f_freeRecord f_done f_changes f_undo f_volume f_snaps f_syncing f_synced f_goal f_cObj f_cKey f_cBorn f_begun f_fObj f_fKey f_fValue f_fBorn ro rk rb rd rv rw (ar_n co) (ar_n le) (ar_n re) (ar_n ch) la rt sz pa sp ur ud uv ua sn) : wX_insert_156 post J x1 x2 (nI n) (nI i) (nI fn) f_freeRecord f_done f_changes f_undo f_volume f_snaps f_syncing f_synced f_goal f_cObj f_cKey f_cBorn f_begun f_fObj f_fKey f_fValue f_fBorn ro rk rb rd rv rw (ar_n co) (ar_n le) (ar_n re) (ar_n ch) la rt sz pa sp ur ud uv ua sn := by
  unfold wX_insert_156
  rw [ar_6, ar_c (f := ch) (by omega), hc]
  exact ⟨vp_in_nI (by omega) (by decide), nm_e K⟩
end WX
section WY
variable {f_freeRecord f_done f_changes f_undo f_volume f_snaps f_syncing f_synced f_goal f_cObj f_cKey f_cBorn f_begun f_fObj f_fKey f_fValue f_fBorn : Int32} {fn : Nat} {co le re ch : Nat → Nat} {ro rk rb rd rv rw la rt sz pa sp ur ud uv ua sn : Nat → Int32}
variable {r v s : Nat} {post : SX → Prop}
theorem wx_ins55 (hr : r < 200) (hv : v < 2) (hsz : sz v = nI s) (hs : s < 100) : ∀ (h f n : Nat) (fn : Nat) (co le re ch : Nat → Nat) (la : Nat → Int32) (F : List Nat), 0 < h → nd_ok co re ch → tr_W (nd_X co re ch) le h n → (nd_X co re ch n).length ≤ 5 →
    (tr_N (nd_X co re ch) h n ++ F).Nodup → (∀ m, m ∈ tr_N (nd_X co re ch) h n ++ F → m < 110) → fl_N ch fn F → fn ≤ 110 → h ≤ F.length + 1 → ky_S (ky_r ro rk rb) (tr_L (nd_X co re ch) h n) → (∀ a, a ∈ tr_L (nd_X co re ch) h n → ky_r ro rk rb a ≠ ky_r ro rk rb r) →
    (∀ m, m ∈ tr_N (nd_X co re ch) h n → m ≠ n → tr_C (nd_X co re ch) le rb rd la m) → h < f →
    (∀ (co' le' re' ch' : Nat → Nat) (la' : Nat → Int32) (fn' : Nat) (F' : List Nat) (Q : SX → Prop), (∀ u, post u → Q u) → nd_ok co' re' ch' → fl_N ch' fn' F' → fn' ≤ 110 → in_S (ky_r ro rk rb) rb rd r h n (nd_X co re ch) le la F (nd_X co' re' ch') le' la' F' →
      wpX_touch Q ((nI fn'), f_freeRecord, f_done, f_changes, f_undo, f_volume, f_snaps, f_syncing, f_synced, f_goal, f_cObj, f_cKey, f_cBorn, f_begun, f_fObj, f_fKey, f_fValue, f_fBorn, ro, rk, rb, rd, rv, (upd rw r (nI v)), (ar_n co'), (ar_n le'), (ar_n re'), (ar_n ch'), la', rt, (upd sz v (nI (s + 1))), pa, sp, ur, ud, uv, ua, sn) (nI v) (nI r)) →
    wX_insert_55 post (nI v) (nI r) f (nI n) (nI fn) f_freeRecord f_done f_changes f_undo f_volume f_snaps f_syncing f_synced f_goal f_cObj f_cKey f_cBorn f_begun f_fObj f_fKey f_fValue f_fBorn ro rk rb rd rv rw (ar_n co) (ar_n le) (ar_n re) (ar_n ch) la rt sz pa sp ur ud uv ua sn := by
  intro h
  induction h with
  | zero => intro f n fn co le re ch la F h0; omega
  | succ h ih =>
    intro f n fn co le re ch la F _ ok w hl5 hnd hN hfl hfn hF hS hne hC hf K
    obtain ⟨f, rfl⟩ : ∃ g, f = g + 1 := ⟨f - 1, by omega⟩
    have hn : n < 110 := hN n (List.mem_append.mpr (Or.inl (tr_hd _ n)))
    have hlen := nd_len co re ch n
    rcases Nat.eq_zero_or_pos h with hh | hh
    · subst hh
      refine wx_ins_leaf ok hn hr hv hsz hs w.1 (by omega) ?_
      intro co' re' ch' P B x c d0 Q hQ ok' hX q1 q2 xn xm
      obtain ⟨p1, p2, p3⟩ := so_node hX hS q1 q2
      refine K co' le re' ch' la fn F Q hQ ok' (fl_fr (fun m hm => nd_c0 (xm m (fun z => ?_))) hfl) hfn (in_leaf hX xn xm w hl5 p1 (fun b hb => ?_))
      · exact tr_ndF hnd n (tr_hd _ n) (by rw [← z]; exact hm)
      · have t1 : ky_r ro rk rb r ≤ ky_r ro rk rb b := p2 b hb
        have := hne b (by rw [tr_Ld hX]; exact List.mem_append.mpr (Or.inr (List.mem_append.mpr (Or.inr hb))))
        omega
    · have vn : vp_in (nI n) 110 := vp_in_nI hn (by decide)
      have vr : vp_in (nI r) 200 := vp_in_nI hr (by decide)
      have hle : le n = 0 := by rw [w.1, tr_z1 hh]
      rw [wX_insert_55]
      dsimp only
      rw [ar_c (f := le) (by omega), hle, nI_clamp (n := r) (by omega)]
      refine ⟨vn, br_t rfl ⟨vr, vr, vr, wx_place ok hn ?_⟩⟩
      intro P x c Q hX q1 q2
      obtain ⟨p1, p2, p3⟩ := so_node hX hS q1 q2
      have hl := nd_co hX
      rw [List.length_cons] at hl
      have hcm : (x, c) ∈ nd_X co re ch n := by rw [hX]; simp
      have hc1 : c < 110 := hN c (List.mem_append.mpr (Or.inl (tr_sub hcm (tr_hd1 hh c))))
      have hlc := nd_len co re ch c
      have h5c := ok.1 c
      have p2' : ∀ b, b ∈ Q.flatMap (tr_g (nd_X co re ch) h) → ky_r ro rk rb r < ky_r ro rk rb b := fun b hb => by
        have t1 : ky_r ro rk rb r ≤ ky_r ro rk rb b := p2 b hb
        have := hne b (by rw [tr_Ld hX]; exact List.mem_append.mpr (Or.inr (List.mem_append.mpr (Or.inr hb))))
        omega
      rw [ar_6, ar_c (f := ch) (by omega), nd_ch hX, ar_c (f := co) (by omega)]
      have v6 : vp_in (nI (6 * n + P.length)) 660 := vp_in_nI (by omega) (by decide)
      have vc : vp_in (nI c) 110 := vp_in_nI hc1 (by decide)
      refine ⟨v6, vc, ?_⟩
      by_cases h5 : co c = 5
      · rw [h5]
        refine br_t rfl ?_
        obtain ⟨a0, r1, a1, r2, a2, r3, a3, r4, a4, r5, a5, hc⟩ := nd_6 (re := re) (ch := ch) h5
        obtain ⟨h, rfl⟩ : ∃ k, h = k + 1 := ⟨h - 1, by omega⟩
        cases F with
        | nil => exact absurd hF (by simp)
        | cons d F =>
          obtain ⟨rfl, hfl2⟩ := hfl
          have D := sp_dis hX hnd
          obtain ⟨D1, D2, D3, D4, D5⟩ := id D
          have wc := (w.2.2 (x, c) hcm).2
          refine wx_split ok hX rfl (by omega) hc hn hc1 (hN fn (by simp)) D1 D2 D3 (by rw [wc.1]; unfold tr_z; split <;> simp) (fun z e he => ?_) ?_
          · have hh2 := (tr_zc wc.1).2 z
            have hm := tr_hd1 (X := nd_X co re ch) hh2 e.2
            exact ⟨hN _ (List.mem_append.mpr (Or.inl (tr_sub hcm (tr_sub he hm)))), (D5 e he _ hm).2.1, (D5 e he _ hm).2.2⟩
          · intro co1 re1 ch1 la1 ok1 xn xc xd xm l1 tc td
            have ST := sp_tree hX hc D xn xc xd xm (by omega) w
            have SL := sp_lat hX hc D xc xd xn xm w (fun e he m hm => hC m (tr_sub he hm) (tr_nd2 hnd e he m hm).1) l1 tc td
            obtain ⟨T1, T2, T3⟩ := ST
            have hP1 : (tr_N (nd_X co1 re1 ch1) (h + 2) n ++ F).Perm (tr_N (nd_X co re ch) (h + 2) n ++ fn :: F) :=
              (List.Perm.append_right F T2).trans List.perm_middle.symm
            have hnd1 : (tr_N (nd_X co1 re1 ch1) (h + 2) n ++ F).Nodup := hP1.symm.nodup hnd
            have hN1 : ∀ m, m ∈ tr_N (nd_X co1 re1 ch1) (h + 2) n ++ F → m < 110 := fun m hm => hN m (hP1.mem_iff.mp hm)
            have hfl1 : fl_N ch1 (ch (6 * fn)) F := by
              refine fl_fr (fun m hm => nd_c0 (xm m (fun z => ?_) (fun z => ?_) (fun z => ?_))) hfl2
              · exact tr_ndF hnd n (tr_hd _ n) (by rw [← z]; exact List.mem_cons_of_mem _ hm)
              · exact tr_ndF hnd c (tr_sub hcm (tr_hd _ c)) (by rw [← z]; exact List.mem_cons_of_mem _ hm)
              · have := (List.nodup_append.mp hnd).2.1
                exact (List.nodup_cons.mp this).1 (by rw [← z]; exact hm)
            have hS1 : ky_S (ky_r ro rk rb) (tr_L (nd_X co1 re1 ch1) (h + 2) n) := by rw [T1]; exact hS
            have hne1 : ∀ a, a ∈ tr_L (nd_X co1 re1 ch1) (h + 2) n → ky_r ro rk rb a ≠ ky_r ro rk rb r := by rw [T1]; exact hne
            have xn' : nd_X co1 re1 ch1 n = (P ++ [(x, c)]) ++ (r3, fn) :: Q := by rw [xn, List.append_assoc]; rfl
            have hlx : (nd_X co re ch n).length ≤ (nd_X co1 re1 ch1 n).length := by rw [xn, hX]; simp
            have fr1 : ∀ m, m ∉ tr_N (nd_X co re ch) (h + 2) n → m ∉ fn :: F → nd_X co1 re1 ch1 m = nd_X co re ch m ∧ ar_u le fn (le c) m = le m ∧ la1 m = la m := fun m m1 m2 => by
              have mn : m ≠ n := fun z => m1 (by rw [z]; exact tr_hd _ n)
              have mc : m ≠ c := fun z => m1 (by rw [z]; exact tr_sub hcm (tr_hd _ c))
              have md : m ≠ fn := fun z => m2 (by rw [z]; exact List.mem_cons_self ..)
              exact ⟨xm m mn mc md, ar_un md, l1 m mc md⟩
            -- one descent
            have desc : ∀ P1 x1 c1 Q1, nd_X co1 re1 ch1 n = P1 ++ (x1, c1) :: Q1 → (nd_X co1 re1 ch1 c1).length ≤ 5 → (∀ a, a ∈ tr_p (nd_X co1 re1 ch1) (h + 1) P1 x1 → ky_r ro rk rb a < ky_r ro rk rb r) → (∀ b, b ∈ Q1.flatMap (tr_g (nd_X co1 re1 ch1) (h + 1)) → ky_r ro rk rb r < ky_r ro rk rb b) →
                wX_insert_156 post (wX_insert_55 post (nI v) (nI r) f) (nI v) (nI r) (nI n) (nI P1.length) (nI (ch (6 * fn))) f_freeRecord f_done f_changes f_undo f_volume f_snaps f_syncing f_synced f_goal f_cObj f_cKey f_cBorn f_begun f_fObj f_fKey f_fValue f_fBorn ro rk rb rd rv rw (ar_n co1) (ar_n (ar_u le fn (le c))) (ar_n re1) (ar_n ch1) la1 rt sz pa sp ur ud uv ua sn := by
              intro P1 x1 c1 Q1 e1 e2 e3 e4
              have e1m : (x1, c1) ∈ nd_X co1 re1 ch1 n := by rw [e1]; simp
              have hl1 := nd_co e1
              rw [List.length_cons] at hl1
              have h51 := ok1.1 n
              have hLd1 := tr_Ld (h := h + 1) e1
              obtain ⟨-, -, -, u4, -, -⟩ := ky_3 (by rw [← hLd1]; exact hS1)
              refine wx_ins156 hn (by omega) (nd_ch e1) (ih f c1 _ co1 _ re1 ch1 la1 F hh ok1 (T3.2.2 (x1, c1) e1m).2 e2 (tr_nd1 e1 hnd1).2.2 (fun m hm => hN1 m ?_) hfl1 (ok.2.2 _) (by simp at hF; omega) u4 (fun a ha => hne1 a (by rw [hLd1]; exact List.mem_append.mpr (Or.inr (List.mem_append.mpr (Or.inl ha))))) (fun m hm _ => SL (x1, c1) e1m m hm) (by omega) ?_)
              · rcases List.mem_append.mp hm with hm | hm
                · exact List.mem_append.mpr (Or.inl (tr_sub e1m hm))
                · exact List.mem_append.mpr (Or.inr hm)
              · intro co' le' re' ch' la' fn' F' Q' hQ' ok' fl' fn1 S'
                exact K co' le' re' ch' la' fn' F' Q' hQ' ok' fl' fn1 (in_tr T1 hP1 hlx fr1 (in_lift e1 hh T3 hnd1 e3 e4 SL S'))
            have h51 := ok1.1 n
            have hl1 := nd_co xn'
            rw [List.length_append, List.length_cons] at hl1
            have hy : re1 (5 * n + P.length) = r3 := nd_re xn' (by rw [List.length_append]; rfl)
            have hy2 := ok1.2.1 (5 * n + P.length)
            dsimp only
            rw [ar_5, ar_c (f := re1) (by omega), hy]
            have hLd1 := tr_Ld (h := h + 1) xn
            have hLd2 := tr_Ld (h := h + 1) xn'
            have hrS := ky_3 (by rw [← hLd1]; exact hS1)
            have hrS2 := ky_3 (by rw [← hLd2]; exact hS1)
            -- the pieces around c and the new child
            have pc : ∀ a, a ∈ tr_p (nd_X co1 re1 ch1) (h + 1) P x → ky_r ro rk rb a < ky_r ro rk rb r := by
              intro a ha
              cases P with
              | nil => exact absurd ha List.not_mem_nil
              | cons e P =>
                have hx : ky_r ro rk rb x < ky_r ro rk rb r := q1 (x, c) (by simp)
                rw [tr_p1, ← List.append_assoc] at ha hrS
                rcases List.mem_append.mp ha with z | z
                · have := (List.pairwise_append.mp hrS.2.2.2.2.2).2.2 a z x (List.mem_singleton.mpr rfl)
                  omega
                · rw [List.mem_singleton.mp z]; exact hx
            have pq : ∀ b, b ∈ Q.flatMap (tr_g (nd_X co1 re1 ch1) (h + 1)) → ky_r ro rk rb r < ky_r ro rk rb b := by
              intro b hb
              refine p2' b ?_
              rw [fm_c (f := tr_g (nd_X co1 re1 ch1) (h + 1)) (g := tr_g (nd_X co re ch) (h + 1)) (fun e he => ?_)] at hb
              · exact hb
              · unfold tr_g
                rw [(tr_fr (h + 1) e.2 (fun m hm => xm m (D4 e (Or.inr he) m hm).1 (D4 e (Or.inr he) m hm).2.1 (D4 e (Or.inr he) m hm).2.2)).1]
            refine ⟨vp_in_nI (by omega) (by decide), vr, vr, vr, wx_compare (by omega) (fun z => ?_) (fun z => ?_) (fun z => ?_)⟩
            · refine br_f (by decide) (nm_r (nI_1 _) ?_)
              have t := desc (P ++ [(x, c)]) r3 fn Q xn' (by rw [xd]; simp) (fun a ha => ?_) pq
              · rw [List.length_append] at t
                exact t
              · have e : tr_p (nd_X co1 re1 ch1) (h + 1) (P ++ [(x, c)]) r3 = (tr_p (nd_X co1 re1 ch1) (h + 1) P x ++ tr_L (nd_X co1 re1 ch1) (h + 1) c) ++ [r3] := by
                  have t1 := hLd1
                  rw [hLd2, List.flatMap_cons] at t1
                  have t2 : tr_p (nd_X co1 re1 ch1) (h + 1) P x ++ (tr_L (nd_X co1 re1 ch1) (h + 1) c ++ (tr_g (nd_X co1 re1 ch1) (h + 1) (r3, fn) ++ Q.flatMap (tr_g (nd_X co1 re1 ch1) (h + 1)))) = ((tr_p (nd_X co1 re1 ch1) (h + 1) P x ++ tr_L (nd_X co1 re1 ch1) (h + 1) c) ++ [r3]) ++ (tr_L (nd_X co1 re1 ch1) (h + 1) fn ++ Q.flatMap (tr_g (nd_X co1 re1 ch1) (h + 1))) := by
                    unfold tr_g
                    simp
                  rw [t2] at t1
                  exact List.append_cancel_right t1
                rw [e] at ha
                have hA := hrS2.2.2.2.2.2
                rw [e] at hA
                rcases List.mem_append.mp ha with y | y
                · have := (List.pairwise_append.mp hA).2.2 a y r3 (List.mem_singleton.mpr rfl)
                  change ky_r ro rk rb r3 < ky_r ro rk rb r at z
                  omega
                · rw [List.mem_singleton.mp y]; exact z
            · exact absurd z (hne1 r3 (by rw [hLd1, List.flatMap_cons]; exact List.mem_append.mpr (Or.inr (List.mem_append.mpr (Or.inr (List.mem_append.mpr (Or.inl (List.mem_cons_self ..))))))))
            · refine br_t (by decide) (desc P x c ((r3, fn) :: Q) xn (by rw [xc]; simp) pc (fun b hb => ?_))
              change ky_r ro rk rb r < ky_r ro rk rb r3 at z
              have u6 := so_node1 xn hS1
              rw [List.flatMap_cons] at hb
              rcases List.mem_append.mp hb with hb | hb
              · rcases List.mem_cons.mp hb with hb | hb
                · rw [hb]; exact z
                · have := u6 b (List.mem_append.mpr (Or.inl hb))
                  omega
              · have := u6 b (List.mem_append.mpr (Or.inr hb))
                omega
      · refine br_f (fun z => h5 ((nI_eq (b := 5) (by omega) (by omega)).mp z)) ?_
        refine wx_ins156 hn (by omega) (nd_ch hX) (ih f c fn co le re ch la F hh ok (w.2.2 (x, c) hcm).2 (by omega) (tr_nd1 hX hnd).2.2 (fun m hm => hN m ?_) hfl hfn (by omega) p3 (fun a ha => hne a (by rw [tr_Ld hX]; exact List.mem_append.mpr (Or.inr (List.mem_append.mpr (Or.inl ha))))) (fun m hm _ => hC m (tr_sub hcm hm) (tr_nd2 hnd _ hcm m hm).1) (by omega) ?_)
        · rcases List.mem_append.mp hm with hm | hm
          · exact List.mem_append.mpr (Or.inl (tr_sub hcm hm))
          · exact List.mem_append.mpr (Or.inr hm)
        · intro co' le' re' ch' la' fn' F' Q' hQ' ok' fl' fn1 S'
          exact K co' le' re' ch' la' fn' F' Q' hQ' ok' fl' fn1 (in_lift hX hh w hnd p1 p2' (fun e he m hm => hC m (tr_sub he hm) (tr_nd2 hnd e he m hm).1) S')
end WY
end
section
/-! ===== insert as a whole ===== -/
/-- a volume's tree: n its root, h its height -/
def vt_T (X : Nat → List (Nat × Nat)) (le : Nat → Nat) (κ : Nat → Int) (rb rd la : Nat → Int32) (h n : Nat) : Prop :=
  0 < h ∧ tr_W X le h n ∧ (1 < h → 2 ≤ (X n).length) ∧ ky_S κ (tr_L X h n) ∧ (∀ m, m ∈ tr_N X h n → tr_C X le rb rd la m)
theorem vt_h {X : Nat → List (Nat × Nat)} {le : Nat → Nat} {h n : Nat} (h0 : 0 < h) (w : tr_W X le h n) (h2 : 1 < h → 2 ≤ (X n).length) (hL : (tr_L X h n).length ≤ 100) : h ≤ 7 := by
  obtain ⟨k, rfl⟩ : ∃ k, h = k + 1 := ⟨h - 1, by omega⟩
  have a := tr_hgt k n w (fun z => h2 (by omega))
  rcases Nat.lt_or_ge 6 k with z | z
  · have := Nat.pow_le_pow_right (show 0 < 2 by decide) (show 7 ≤ k by omega)
    omega
  · omega
theorem ky_ins {κ : Nat → Int} {A B : List Nat} {r : Nat} (s : ky_S κ (A ++ B)) (h1 : ∀ a, a ∈ A → κ a < κ r) (h2 : ∀ b, b ∈ B → κ r < κ b) : ky_S κ (A ++ r :: B) := by
  unfold ky_S at s ⊢
  obtain ⟨s1, s2, s3⟩ := List.pairwise_append.mp s
  refine List.pairwise_append.mpr ⟨s1, List.pairwise_cons.mpr ⟨h2, s2⟩, fun a ha b hb => ?_⟩
  rcases List.mem_cons.mp hb with rfl | hb
  · exact h1 a ha
  · exact s3 a ha b hb
section WX
variable {f_freeRecord f_done f_changes f_undo f_volume f_snaps f_syncing f_synced f_goal f_cObj f_cKey f_cBorn f_begun f_fObj f_fKey f_fValue f_fBorn : Int32} {fn : Nat} {co le re ch : Nat → Nat} {ro rk rb rd rv rw la rt sz pa sp ur ud uv ua sn : Nat → Int32}
variable {n r v s h : Nat} {post : SX → Prop} {F : List Nat}
theorem wx_ins0 (ok : nd_ok co re ch) (hr : r < 200) (hv : v < 2) (hsz : sz v = nI s) (hs : s < 100) (hrt : rt v = nI n) (h0 : 0 < h) (h9 : h ≤ 10) (w : tr_W (nd_X co re ch) le h n) (hl5 : (nd_X co re ch n).length ≤ 5)
    (hnd : (tr_N (nd_X co re ch) h n ++ F).Nodup) (hN : ∀ m, m ∈ tr_N (nd_X co re ch) h n ++ F → m < 110) (hfl : fl_N ch fn F) (hfn : fn ≤ 110) (hF : h ≤ F.length + 1) (hS : ky_S (ky_r ro rk rb) (tr_L (nd_X co re ch) h n)) (hne : ∀ a, a ∈ tr_L (nd_X co re ch) h n → ky_r ro rk rb a ≠ ky_r ro rk rb r)
    (hC : ∀ m, m ∈ tr_N (nd_X co re ch) h n → m ≠ n → tr_C (nd_X co re ch) le rb rd la m)
    (K : ∀ (co' le' re' ch' : Nat → Nat) (la' pa' : Nat → Int32) (fn' : Nat) (F' : List Nat), nd_ok co' re' ch' → fl_N ch' fn' F' → fn' ≤ 110 → tr_W (nd_X co' re' ch') le' h n → (nd_X co re ch n).length ≤ (nd_X co' re' ch' n).length →
      (∃ A B, tr_L (nd_X co re ch) h n = A ++ B ∧ tr_L (nd_X co' re' ch') h n = A ++ r :: B) → ky_S (ky_r ro rk rb) (tr_L (nd_X co' re' ch') h n) → (tr_N (nd_X co' re' ch') h n ++ F').Perm (tr_N (nd_X co re ch) h n ++ F) →
      (∀ m, m ∉ tr_N (nd_X co re ch) h n → m ∉ F → nd_X co' re' ch' m = nd_X co re ch m ∧ le' m = le m ∧ la' m = la m) → (∀ m, m ∈ tr_N (nd_X co' re' ch') h n → tr_C (nd_X co' re' ch') le' rb rd la' m) →
      post ((nI fn'), f_freeRecord, f_done, f_changes, f_undo, f_volume, f_snaps, f_syncing, f_synced, f_goal, f_cObj, f_cKey, f_cBorn, f_begun, f_fObj, f_fKey, f_fValue, f_fBorn, ro, rk, rb, rd, rv, (upd rw r (nI v)), (ar_n co'), (ar_n le'), (ar_n re'), (ar_n ch'), la', rt, (upd sz v (nI (s + 1))), pa', sp, ur, ud, uv, ua, sn)) :
    ∃ f, wX_insert_55 post (nI v) (nI r) f (nI n) (nI fn) f_freeRecord f_done f_changes f_undo f_volume f_snaps f_syncing f_synced f_goal f_cObj f_cKey f_cBorn f_begun f_fObj f_fKey f_fValue f_fBorn ro rk rb rd rv rw (ar_n co) (ar_n le) (ar_n re) (ar_n ch) la rt sz pa sp ur ud uv ua sn := by
  refine ⟨h + 1, wx_ins55 hr hv hsz hs h (h + 1) n fn co le re ch la F h0 ok w hl5 hnd hN hfl hfn hF hS hne hC (by omega) ?_⟩
  intro co' le' re' ch' la' fn' F' Q hQ ok' fl' fn1 S
  obtain ⟨s1, s2, ⟨A, B, s3, s4, s5, s6⟩, s7, s8, s9⟩ := S
  have hS' : ky_S (ky_r ro rk rb) (tr_L (nd_X co' re' ch') h n) := by
    rw [s4]
    rw [s3] at hS
    exact ky_ins hS s5 s6
  refine wx_touch ok' hr hv hrt h0 h9 s1 (fun m hm => hN m (s7.mem_iff.mp (List.mem_append.mpr (Or.inl hm)))) (List.nodup_append.mp (s7.symm.nodup hnd)).1 hS' (by rw [s4]; simp) s9 ?_
  intro pa' la2 l1 l2
  refine hQ _ (K co' le' re' ch' la2 pa' fn' F' ok' fl' fn1 s1 s2 ⟨A, B, s3, s4⟩ hS' s7 (fun m h1 h2 => ?_) l2)
  obtain ⟨a, b, c⟩ := s8 m h1 h2
  refine ⟨a, b, (l1 m (fun z => ?_)).trans c⟩
  rcases List.mem_append.mp (s7.mem_iff.mp (List.mem_append.mpr (Or.inl z))) with y | y
  · exact h1 y
  · exact h2 y
theorem upd_id {f : Nat → Int32} {k : Nat} {x : Int32} (h : f k = x) : upd f k x = f := by
  funext j
  by_cases e : j = k
  · rw [e, pk_us, h]
  · rw [pk_un e]
theorem wx_insert (ok : nd_ok co re ch) (hr : r < 200) (hv : v < 2) (hsz : sz v = nI s) (hs : s < 100) (hrt : rt v = nI n) (T : vt_T (nd_X co re ch) le (ky_r ro rk rb) rb rd la h n) (hsL : (tr_L (nd_X co re ch) h n).length = s)
    (hnd : (tr_N (nd_X co re ch) h n ++ F).Nodup) (hN : ∀ m, m ∈ tr_N (nd_X co re ch) h n ++ F → m < 110) (hfl : fl_N ch fn F) (hfn : fn ≤ 110) (hF : 9 ≤ F.length) (hne : ∀ a, a ∈ tr_L (nd_X co re ch) h n → ky_r ro rk rb a ≠ ky_r ro rk rb r)
    (K : ∀ (co' le' re' ch' : Nat → Nat) (la' pa' rt' : Nat → Int32) (fn' : Nat) (F' : List Nat) (h' n' : Nat), nd_ok co' re' ch' → fl_N ch' fn' F' → fn' ≤ 110 → rt' v = nI n' → (∀ j, j ≠ v → rt' j = rt j) → vt_T (nd_X co' re' ch') le' (ky_r ro rk rb) rb rd la' h' n' →
      (∃ A B, tr_L (nd_X co re ch) h n = A ++ B ∧ tr_L (nd_X co' re' ch') h' n' = A ++ r :: B) → (tr_N (nd_X co' re' ch') h' n' ++ F').Perm (tr_N (nd_X co re ch) h n ++ F) →
      (∀ m, m ∉ tr_N (nd_X co re ch) h n → m ∉ F → nd_X co' re' ch' m = nd_X co re ch m ∧ le' m = le m ∧ la' m = la m) →
      post ((nI fn'), f_freeRecord, f_done, f_changes, f_undo, f_volume, f_snaps, f_syncing, f_synced, f_goal, f_cObj, f_cKey, f_cBorn, f_begun, f_fObj, f_fKey, f_fValue, f_fBorn, ro, rk, rb, rd, rv, (upd rw r (nI v)), (ar_n co'), (ar_n le'), (ar_n re'), (ar_n ch'), la', rt', (upd sz v (nI (s + 1))), pa', sp, ur, ud, uv, ua, sn)) :
    wpX_insert post ((nI fn), f_freeRecord, f_done, f_changes, f_undo, f_volume, f_snaps, f_syncing, f_synced, f_goal, f_cObj, f_cKey, f_cBorn, f_begun, f_fObj, f_fKey, f_fValue, f_fBorn, ro, rk, rb, rd, rv, rw, (ar_n co), (ar_n le), (ar_n re), (ar_n ch), la, rt, sz, pa, sp, ur, ud, uv, ua, sn) (nI v) (nI r) := by
  obtain ⟨h0, w, t2, hS, hC⟩ := T
  have hn : n < 110 := hN n (List.mem_append.mpr (Or.inl (tr_hd1 h0 n)))
  have h7 := vt_h h0 w t2 (by omega)
  have hlen := nd_len co re ch n
  have h5 := ok.1 n
  have vn : vp_in (nI n) 110 := vp_in_nI hn (by decide)
  have vv : vp_in (nI v) 2 := vp_in_nI hv (by decide)
  unfold wpX_insert
  dsimp only
  rw [nI_clamp (n := v) (by omega), hrt]
  refine ⟨vv, nm_e ⟨vn, ?_⟩⟩
  rw [ar_c (f := co) (by omega)]
  by_cases h5 : co n = 5
  · rw [h5]
    refine br_t rfl ?_
    obtain ⟨F2, d1, rfl, hd1, hfl2⟩ : ∃ F2 d1, F = fn :: d1 :: F2 ∧ ch (6 * fn) = d1 ∧ fl_N ch (ch (6 * d1)) F2 := by
      match F, hfl, hF with
      | a :: b :: F2, hfl, _ => exact ⟨F2, b, by rw [hfl.1], by rw [hfl.1]; exact hfl.2.1, by have := hfl.2.2; exact this⟩
      | [a], _, hF => exact absurd hF (by simp)
      | [], _, hF => exact absurd hF (by simp)
    have hfn1 : fn < 110 := hN fn (by simp)
    have hd2 : d1 < 110 := hN d1 (by simp)
    have nF := List.nodup_append.mp hnd
    have nfn : ∀ m, m ∈ tr_N (nd_X co re ch) h n → m ≠ fn := fun m hm z => nF.2.2 m hm fn (by simp) z
    have nd1 : ∀ m, m ∈ tr_N (nd_X co re ch) h n → m ≠ d1 := fun m hm z => nF.2.2 m hm d1 (by simp) z
    have hdf : d1 ≠ fn := fun z => by
      have := List.nodup_cons.mp nF.2.1
      exact this.1 (by rw [z]; simp)
    have hdn : n ≠ fn := nfn n (tr_hd1 h0 n)
    refine wx_newNode (l := 0) hfn1 (Or.inl rfl) ?_
    dsimp only
    rw [ar_60, nI_clamp (n := 6 * fn) (by omega), ar_bb (n := n) (by omega), ar_bb (n := fn) (by omega), ar_uu, hd1]
    refine ⟨vp_in_nI (by omega) (by decide), nm_e ⟨vv, nm_e ?_⟩⟩
    have x1t : nd_X (ar_u co fn 0) re (ar_u ch (6 * fn) n) fn = [(0, n)] := by
      refine nd_mk (by rw [ar_us]; rfl) (fun j hj => ?_)
      rw [ar_us] at hj
      match j, hj with
      | 0, _ => exact congrArg some (Prod.ext rfl ar_us.symm)
    have x1m : ∀ m, m ≠ fn → nd_X (ar_u co fn 0) re (ar_u ch (6 * fn) n) m = nd_X co re ch m := fun m hm => nd_fr (ar_un hm) (ok.1 m) (fun j hj => rfl) (fun j hj => ar_un (by omega))
    have ok1 : nd_ok (ar_u co fn 0) re (ar_u ch (6 * fn) n) := ⟨fun m => Nat.le_of_lt_succ (ar_ub (fun j => Nat.lt_succ_of_le (ok.1 j)) (by omega) m), ok.2.1, fun j => Nat.le_of_lt_succ (ar_ub (fun j => Nat.lt_succ_of_le (ok.2.2 j)) (by omega) j)⟩
    obtain ⟨C1, eC1⟩ : ∃ C, C = ar_u co fn 0 := ⟨_, rfl⟩
    obtain ⟨H1, eH1⟩ : ∃ C, C = ar_u ch (6 * fn) n := ⟨_, rfl⟩
    rw [← eC1, ← eH1] at x1t x1m ok1
    rw [← eC1, ← eH1]
    have f1 := tr_fr (X := nd_X co re ch) (X' := nd_X C1 re H1) h n (fun m hm => x1m m (nfn m hm))
    have N1 : tr_N (nd_X C1 re H1) (h + 1) fn = fn :: tr_N (nd_X co re ch) h n := by
      rw [tr_Ns, x1t, List.flatMap_cons, List.flatMap_nil, List.append_nil]
      unfold tr_n
      rw [f1.2]
    have L1 : tr_L (nd_X C1 re H1) (h + 1) fn = tr_L (nd_X co re ch) h n := by
      rw [tr_Ls, x1t, List.flatMap_cons, List.flatMap_nil, List.append_nil]
      unfold tr_g
      rw [f1.1]
      rfl
    have w1 : tr_W (nd_X C1 re H1) (ar_u le fn 0) (h + 1) fn := by
      refine ⟨by rw [ar_us, tr_z1 h0], by rw [x1t]; simp, fun e he => ?_⟩
      rw [x1t, List.mem_singleton] at he
      subst he
      exact ⟨fun _ => by rw [x1m n hdn]; omega, tr_frW h n (fun m hm => ⟨x1m m (nfn m hm), ar_un (nfn m hm)⟩) w⟩
    have P1 : (tr_N (nd_X C1 re H1) (h + 1) fn ++ d1 :: F2).Perm (tr_N (nd_X co re ch) h n ++ fn :: d1 :: F2) := by
      rw [N1]
      exact List.perm_middle.symm
    have nd2 := P1.symm.nodup hnd
    obtain ⟨k, rfl⟩ : ∃ k, h = k + 1 := ⟨h - 1, by omega⟩
    have x1t' : nd_X C1 re H1 fn = [] ++ (0, n) :: [] := x1t
    have D := sp_dis x1t' nd2
    obtain ⟨D1, D2, D3, D4, D5⟩ := id D
    obtain ⟨a0, r1, a1, r2, a2, r3, a3, r4, a4, r5, a5, hc⟩ := nd_6 (co := C1) (re := re) (ch := H1) (c := n) (by rw [eC1, ar_un hdn]; exact h5)
    have len : ar_u le fn 0 n = le n := ar_un hdn
    refine wx_split ok1 x1t' rfl (by rw [eC1, ar_us]; omega) hc hfn1 hn hd2 D1 D2 D3 (by rw [len, w.1]; unfold tr_z; split <;> simp) (fun z e he => ?_) ?_
    · rw [len] at z
      have hh2 := (tr_zc w.1).2 z
      have hm := tr_hd1 (X := nd_X C1 re H1) hh2 e.2
      refine ⟨hN _ (List.mem_append.mpr (Or.inl ?_)), (D5 e he _ hm).2.1, (D5 e he _ hm).2.2⟩
      rw [x1m n hdn] at he
      exact tr_sub he (tr_hd1 hh2 e.2)
    · intro co1 re1 ch1 la1 okF xn xc xd xm l1 tc td
      rw [len] at tc td
      obtain ⟨T1, T2, T3⟩ := sp_tree x1t' hc D xn xc xd xm (by rw [x1t]; simp) w1
      have SL := sp_lat x1t' hc D xc xd xn xm w1 (la := upd la fn 0) (fun e he m hm => ?_) l1 (by rw [len]; exact tc) (by rw [len]; exact td)
      · rw [len] at SL T3
        dsimp only
        rw [len]
        have P2 : (tr_N (nd_X co1 re1 ch1) (k + 1 + 1) fn ++ F2).Perm (tr_N (nd_X co re ch) (k + 1) n ++ fn :: d1 :: F2) :=
          (List.Perm.append_right F2 T2).trans (List.perm_middle.symm.trans P1)
        have e6 : H1 (6 * d1) = ch (6 * d1) := by rw [eH1]; exact ar_un (by omega)
        have mF2 : ∀ m, m ∈ F2 → m ≠ fn ∧ m ≠ n ∧ m ≠ d1 := fun m hm => by
          refine ⟨fun z => (List.nodup_cons.mp nF.2.1).1 (by rw [← z]; simp [hm]), fun z => nF.2.2 n (tr_hd _ n) m (by simp [hm]) z.symm, fun z => ?_⟩
          exact (List.nodup_cons.mp (List.nodup_cons.mp nF.2.1).2).1 (by rw [← z]; exact hm)
        have lall : ∀ m, m ≠ fn → m ≠ n → m ≠ d1 → nd_X co1 re1 ch1 m = nd_X co re ch m := fun m q1 q2 q3 => (xm m q1 q2 q3).trans (x1m m q1)
        rw [e6]
        refine wx_ins0 (rt := upd rt v (nI fn)) (F := F2) okF hr hv hsz hs pk_us (by omega) (by omega) T3 (by rw [xn]; simp) (P2.symm.nodup hnd) (fun m hm => hN m (P2.mem_iff.mp hm)) (fl_fr (fun m hm => nd_c0 (lall m (mF2 m hm).1 (mF2 m hm).2.1 (mF2 m hm).2.2)) hfl2) (ok.2.2 _) (by simp at hF; omega) (by rw [T1, L1]; exact hS) (by rw [T1, L1]; exact hne) (fun m hm hmn => ?_) ?_
        · rcases tr_mem hm with z | ⟨e, he, hm⟩
          · exact absurd z hmn
          · exact SL e he m hm
        · intro co' le' re' ch' la' pa' fn' F' ok' fl' fn1 s1 s2 s3 s4 s5 s6 s7
          refine K co' le' re' ch' la' pa' (upd rt v (nI fn)) fn' F' (k + 1 + 1) fn ok' fl' fn1 pk_us (fun j hj => pk_un hj) ⟨by omega, s1, fun _ => Nat.le_trans (by rw [xn]; simp) s2, s4, s7⟩ (by rw [T1, L1] at s3; exact s3) (s5.trans P2) (fun m h1 h2 => ?_)
          have hm2 : m ∉ tr_N (nd_X co1 re1 ch1) (k + 1 + 1) fn ++ F2 := fun z => by
            rcases List.mem_append.mp (P2.mem_iff.mp z) with z | z
            · exact h1 z
            · exact h2 z
          obtain ⟨a, b, c⟩ := s6 m (fun z => hm2 (List.mem_append.mpr (Or.inl z))) (fun z => hm2 (List.mem_append.mpr (Or.inr z)))
          have m1 : m ≠ fn := fun z => h2 (by rw [z]; simp)
          have m2 : m ≠ n := fun z => h1 (by rw [z]; exact tr_hd _ n)
          have m3 : m ≠ d1 := fun z => h2 (by rw [z]; simp)
          exact ⟨a.trans (lall m m1 m2 m3), b.trans ((ar_un m3).trans (ar_un m1)), c.trans ((l1 m m2 m3).trans (pk_un m1))⟩
      · rw [x1t, List.mem_singleton] at he
        subst he
        rw [f1.2] at hm
        exact tr_Cfr w (fun m hm => ⟨x1m m (nfn m hm), ar_un (nfn m hm), pk_un (nfn m hm)⟩) hC m hm
  · refine br_f (fun z => h5 ((nI_eq (b := 5) (by omega) (by omega)).mp z)) ?_
    refine wx_ins0 ok hr hv hsz hs hrt h0 (by omega) w (by omega) hnd hN hfl hfn (by omega) hS hne (fun m hm _ => hC m hm) ?_
    intro co' le' re' ch' la' pa' fn' F' ok' fl' fn1 s1 s2 s3 s4 s5 s6 s7
    exact K co' le' re' ch' la' pa' rt fn' F' h n ok' fl' fn1 hrt (fun _ _ => rfl) ⟨h0, s1, fun z => Nat.le_trans (t2 z) s2, s4, s7⟩ s3 s5 s6
end WX
end
section
/-! ===== fromLeft, fromRight, merge: the contents ===== -/
section RO
variable {co re ch C1 C2 R0 R1 R2 R3 R4 H0 H1 H2 H3 H4 H5 : Nat → Nat} {n i c d l g x y z e c0 c1 c2 s1 s2 t1 t2 d0 d1 d2 g0 g1 fn : Nat} {P Q A G : List (Nat × Nat)}
theorem fl_X (ok : nd_ok co re ch) (hX : nd_X co re ch n = P ++ (x, l) :: (y, c) :: Q) (hi : P.length = i) (hc : nd_X co re ch c = [(0, c0), (s1, c1), (s2, c2)]) (hl : nd_X co re ch l = A ++ [(z, e)]) (hA : 3 ≤ A.length)
    (hcn : c ≠ n) (hln : l ≠ n) (hlc : l ≠ c)
    (eC1 : C1 = ar_u co c (co c + 1)) (eC2 : C2 = ar_u C1 l (C1 l - 1))
    (eR0 : R0 = ar_sh re (5 * c + 0) (5 * c + co c)) (eR1 : R1 = ar_u R0 (5 * c) (R0 (5 * n + i))) (eR2 : R2 = ar_u R1 (5 * n + i) (R1 (5 * l + (C1 l - 1))))
    (eH0 : H0 = ar_sh ch (6 * c + (0 + 1)) (6 * c + (co c + 1))) (eH1 : H1 = ar_u H0 (6 * c + 1) (ch (6 * c))) (eH2 : H2 = ar_u H1 (6 * c) (H1 (6 * l + C1 l))) :
    nd_ok C2 R2 H2 ∧ nd_X C2 R2 H2 n = P ++ (x, l) :: (z, c) :: Q ∧ nd_X C2 R2 H2 l = A ∧ nd_X C2 R2 H2 c = [(0, e), (y, c0), (s1, c1), (s2, c2)] ∧
    (∀ m, m ≠ n → m ≠ c → m ≠ l → nd_X C2 R2 H2 m = nd_X co re ch m) := by
  have hco := nd_co hX
  rw [List.length_cons, List.length_cons] at hco
  have h5 := ok.1 n
  have hcc : co c = 2 := by have := nd_len co re ch c; rw [hc] at this; simp at this; omega
  have hcl := nd_co hl
  rw [List.length_singleton] at hcl
  have h5l := ok.1 l
  have ecl : C1 l = co l := by rw [eC1]; exact ar_un hlc
  have fR0 : ∀ m j, m ≠ c → j < 5 → R0 (5 * m + j) = re (5 * m + j) := fun m j h1 h2 => by rw [eR0, hcc]; exact if_neg (by omega)
  have fH0 : ∀ m j, m ≠ c → j < 6 → H0 (6 * m + j) = ch (6 * m + j) := fun m j h1 h2 => by rw [eH0, hcc]; exact if_neg (by omega)
  have fR1 : ∀ m j, m ≠ c → j < 5 → R1 (5 * m + j) = re (5 * m + j) := fun m j h1 h2 => by rw [eR1, ar_un (by omega), fR0 m j h1 h2]
  have fH2 : ∀ m j, m ≠ c → j < 6 → H2 (6 * m + j) = ch (6 * m + j) := fun m j h1 h2 => by rw [eH2, ar_un (by omega), eH1, ar_un (by omega), fH0 m j h1 h2]
  have fH1 : ∀ m j, m ≠ c → j < 6 → H1 (6 * m + j) = ch (6 * m + j) := fun m j h1 h2 => by rw [eH1, ar_un (by omega), fH0 m j h1 h2]
  have fR2 : ∀ m j, m ≠ n → j < 5 → R2 (5 * m + j) = R1 (5 * m + j) := fun m j h1 h2 => by rw [eR2, ar_un (by omega)]
  have hX' : nd_X co re ch n = (P ++ [(x, l)]) ++ (y, c) :: Q := by rw [hX, List.append_assoc]; rfl
  have hy : re (5 * n + i) = y := nd_re hX' (by rw [List.length_append, hi]; rfl)
  obtain ⟨k, hk⟩ : ∃ k, A.length = k + 1 := ⟨A.length - 1, by omega⟩
  have hz : re (5 * l + k) = z := nd_re (Q := []) hl hk
  have he : ch (6 * l + co l) = e := by have := nd_ch (Q := []) hl; rw [show A.length = co l by omega] at this; exact this
  have g1 : ∀ j, R2 j < 200 := by
    have b0 : ∀ j, R0 j < 200 := by rw [eR0]; exact ar_shb ok.2.1
    have b1 : ∀ j, R1 j < 200 := by rw [eR1]; exact ar_ub b0 (b0 _)
    rw [eR2]; exact ar_ub b1 (b1 _)
  have g2 : ∀ j, H2 j < 111 := by
    have b : ∀ j, ch j < 111 := fun j => Nat.lt_succ_of_le (ok.2.2 j)
    have b0 : ∀ j, H0 j < 111 := by rw [eH0]; exact ar_shb b
    have b1 : ∀ j, H1 j < 111 := by rw [eH1]; exact ar_ub b0 (b _)
    rw [eH2]; exact ar_ub b1 (b1 _)
  have g3 : ∀ j, C2 j < 6 := by
    have b0 : ∀ j, co j < 6 := fun j => Nat.lt_succ_of_le (ok.1 j)
    have b1 : ∀ j, C1 j < 6 := by rw [eC1]; exact ar_ub b0 (by omega)
    rw [eC2]; exact ar_ub b1 (by omega)
  refine ⟨⟨fun j => Nat.le_of_lt_succ (g3 j), g1, fun j => Nat.le_of_lt_succ (g2 j)⟩, ?_, ?_, ?_, fun m h1 h2 h3 => ?_⟩
  · have t := nd_sr (r := z) hX' (i := i) (by rw [List.length_append, hi]; rfl)
    rw [List.append_assoc] at t
    refine Eq.trans (nd_fr ?_ h5 (fun j hj => ?_) (fun j hj => fH2 n j (fun q => hcn q.symm) hj)) t
    · rw [eC2, ar_un (fun q => hln q.symm), eC1, ar_un (fun q => hcn q.symm)]
    · rw [eR2]
      by_cases q : j = i
      · subst q
        rw [ar_us, ar_us, ecl, show co l - 1 = k by omega, fR1 l k hlc (by omega), hz]
      · rw [ar_un (by omega), ar_un (by omega), fR1 n j (fun q => hcn q.symm) hj]
  · have t := nd_tr (k := k) hl hk
    refine Eq.trans (nd_fr ?_ (by rw [ar_us]; omega) (fun j hj => ?_) (fun j hj => fH2 l j hlc hj)) t
    · rw [eC2, ar_us, ar_us, ecl]; omega
    · rw [fR2 l j hln hj, fR1 l j hlc hj]
  · have t := nd_in (r := y) (d := c0) (P := [(0, c0)]) (Q := [(s1, c1), (s2, c2)]) hc (i := 0) rfl
    have t2 := nd_sc (d := e) (P := []) t (i := 0) rfl
    refine Eq.trans (nd_fr ?_ (by rw [ar_us]; omega) (fun j hj => ?_) (fun j hj => ?_)) t2
    · rw [eC2, ar_un (fun q => hlc q.symm), eC1]
    · rw [fR2 c j hcn hj, eR1, fR0 n i (fun q => hcn q.symm) (by omega), hy, eR0]; rfl
    · have h0 : ch (6 * c) = c0 := nd_ch (P := []) hc
      rw [eH2, ecl, fH1 l (co l) hlc (by omega), he, eH1, h0, eH0]; rfl
  · refine nd_fr ?_ (ok.1 m) (fun j hj => ?_) (fun j hj => fH2 m j h2 hj)
    · rw [eC2, ar_un h3, eC1, ar_un h2]
    · rw [fR2 m j h1 hj, fR1 m j h2 hj]
theorem fr_X (ok : nd_ok co re ch) (hX : nd_X co re ch n = P ++ (x, c) :: (y, g) :: Q) (hi : P.length = i) (hc : nd_X co re ch c = [(0, c0), (s1, c1), (s2, c2)]) (hg : nd_X co re ch g = (0, g0) :: (t1, g1) :: G)
    (hcn : c ≠ n) (hgn : g ≠ n) (hgc : g ≠ c)
    (eC1 : C1 = ar_u co c (co c + 1)) (eC2 : C2 = ar_u C1 g (C1 g - 1))
    (eR1 : R1 = ar_u re (5 * c + co c) (re (5 * n + i))) (eR2 : R2 = ar_u R1 (5 * n + i) (R1 (5 * g))) (eR3 : R3 = ar_sd R2 (5 * g + 0) (5 * g + (C1 g - 1)))
    (eH1 : H1 = ar_u ch (6 * c + (co c + 1)) (ch (6 * g))) (eH2 : H2 = ar_u H1 (6 * g) (H1 (6 * g + 1))) (eH3 : H3 = ar_sd H2 (6 * g + (0 + 1)) (6 * g + (C1 g - 1 + 1))) :
    nd_ok C2 R3 H3 ∧ nd_X C2 R3 H3 n = P ++ (x, c) :: (t1, g) :: Q ∧ nd_X C2 R3 H3 c = [(0, c0), (s1, c1), (s2, c2), (y, g0)] ∧ nd_X C2 R3 H3 g = (0, g1) :: G ∧
    (∀ m, m ≠ n → m ≠ c → m ≠ g → nd_X C2 R3 H3 m = nd_X co re ch m) := by
  have hco := nd_co hX
  rw [List.length_cons, List.length_cons] at hco
  have h5 := ok.1 n
  have hcc : co c = 2 := by have := nd_len co re ch c; rw [hc] at this; simp at this; omega
  have hcg : co g = G.length + 1 := by have := nd_len co re ch g; rw [hg] at this; simp at this; omega
  have h5g := ok.1 g
  have ecg : C1 g = co g := by rw [eC1]; exact ar_un hgc
  have hX' : nd_X co re ch n = (P ++ [(x, c)]) ++ (y, g) :: Q := by rw [hX, List.append_assoc]; rfl
  have hy : re (5 * n + i) = y := nd_re hX' (by rw [List.length_append, hi]; rfl)
  have hg0 : ch (6 * g) = g0 := nd_ch (P := []) hg
  have hg1 : ch (6 * g + 1) = g1 := nd_ch (P := [(0, g0)]) hg
  have ht1 : re (5 * g) = t1 := nd_re (P := [(0, g0)]) hg (i := 0) rfl
  have fR3 : ∀ m j, m ≠ g → j < 5 → R3 (5 * m + j) = R2 (5 * m + j) := fun m j h1 h2 => by rw [eR3, ecg]; exact if_neg (by omega)
  have fH3 : ∀ m j, m ≠ g → j < 6 → H3 (6 * m + j) = H2 (6 * m + j) := fun m j h1 h2 => by rw [eH3, ecg]; exact if_neg (by omega)
  have fR2 : ∀ m j, m ≠ n → j < 5 → R2 (5 * m + j) = R1 (5 * m + j) := fun m j h1 h2 => by rw [eR2, ar_un (by omega)]
  have fH2 : ∀ m j, m ≠ g → j < 6 → H2 (6 * m + j) = H1 (6 * m + j) := fun m j h1 h2 => by rw [eH2, ar_un (by omega)]
  have fR1 : ∀ m j, m ≠ c → j < 5 → R1 (5 * m + j) = re (5 * m + j) := fun m j h1 h2 => by rw [eR1, ar_un (by omega)]
  have fH1 : ∀ m j, m ≠ c → j < 6 → H1 (6 * m + j) = ch (6 * m + j) := fun m j h1 h2 => by rw [eH1, ar_un (by omega)]
  have q1 : ∀ j, R3 j < 200 := by
    have b1 : ∀ j, R1 j < 200 := by rw [eR1]; exact ar_ub ok.2.1 (ok.2.1 _)
    have b2 : ∀ j, R2 j < 200 := by rw [eR2]; exact ar_ub b1 (b1 _)
    rw [eR3]; exact ar_sdb b2
  have q2 : ∀ j, H3 j < 111 := by
    have b : ∀ j, ch j < 111 := fun j => Nat.lt_succ_of_le (ok.2.2 j)
    have b1 : ∀ j, H1 j < 111 := by rw [eH1]; exact ar_ub b (b _)
    have b2 : ∀ j, H2 j < 111 := by rw [eH2]; exact ar_ub b1 (b1 _)
    rw [eH3]; exact ar_sdb b2
  have q3 : ∀ j, C2 j < 6 := by
    have b0 : ∀ j, co j < 6 := fun j => Nat.lt_succ_of_le (ok.1 j)
    have b1 : ∀ j, C1 j < 6 := by rw [eC1]; exact ar_ub b0 (by omega)
    rw [eC2]; exact ar_ub b1 (by omega)
  refine ⟨⟨fun j => Nat.le_of_lt_succ (q3 j), q1, fun j => Nat.le_of_lt_succ (q2 j)⟩, ?_, ?_, ?_, fun m h1 h2 h3 => ?_⟩
  · have t := nd_sr (r := t1) hX' (i := i) (by rw [List.length_append, hi]; rfl)
    rw [List.append_assoc] at t
    refine Eq.trans (nd_fr ?_ h5 (fun j hj => ?_) (fun j hj => ?_)) t
    · rw [eC2, ar_un (fun q => hgn q.symm), eC1, ar_un (fun q => hcn q.symm)]
    · rw [fR3 n j (fun q => hgn q.symm) hj, eR2]
      by_cases q : j = i
      · subst q
        rw [ar_us, ar_us]
        exact (fR1 g 0 hgc (by decide)).trans ht1
      · rw [ar_un (by omega), ar_un (by omega), fR1 n j (fun q => hcn q.symm) hj]
    · rw [fH3 n j (fun q => hgn q.symm) hj, fH2 n j (fun q => hgn q.symm) hj, fH1 n j (fun q => hcn q.symm) hj]
  · have t := nd_ap (r := y) (d := g0) hc
    refine Eq.trans (nd_fr ?_ (by rw [ar_us]; omega) (fun j hj => ?_) (fun j hj => ?_)) t
    · rw [eC2, ar_un (fun q => hgc q.symm), eC1]
    · rw [fR3 c j (fun q => hgc q.symm) hj, fR2 c j hcn hj, eR1, hy]
    · rw [fH3 c j (fun q => hgc q.symm) hj, fH2 c j (fun q => hgc q.symm) hj, eH1, hg0]
  · have t0 := nd_sc (d := g1) (P := []) hg (i := 0) rfl
    have t := nd_er (P := [(0, g1)]) t0 (i := 0) rfl
    refine Eq.trans (nd_fr ?_ (by rw [ar_us]; omega) (fun j hj => ?_) (fun j hj => ?_)) t
    · rw [eC2, ar_us, ar_us, ecg]
    · have hR2 : ∀ j, j < 5 → R2 (5 * g + j) = re (5 * g + j) := fun j hj => by rw [fR2 g j hgn hj, fR1 g j hgc hj]
      rw [eR3, ecg]
      unfold ar_sd
      by_cases q : 5 * g + 0 ≤ 5 * g + j ∧ 5 * g + j < 5 * g + (co g - 1)
      · rw [if_pos q, if_pos q]; exact hR2 (j + 1) (by omega)
      · rw [if_neg q, if_neg q]; exact hR2 j hj
    · have hH1 : ∀ j, j < 6 → H1 (6 * g + j) = ch (6 * g + j) := fun j hj => fH1 g j hgc hj
      have hH2 : ∀ j, j < 6 → H2 (6 * g + j) = ar_u ch (6 * g + 0) g1 (6 * g + j) := fun j hj => by
        rw [eH2, hH1 1 (by decide), hg1]
        by_cases q : j = 0
        · subst q; rw [ar_us]; exact ar_us
        · rw [ar_un (by omega), ar_un (by omega), hH1 j hj]
      rw [eH3, ecg]
      unfold ar_sd
      by_cases q : 6 * g + (0 + 1) ≤ 6 * g + j ∧ 6 * g + j < 6 * g + (co g - 1 + 1)
      · rw [if_pos q, if_pos q]; exact hH2 (j + 1) (by omega)
      · rw [if_neg q, if_neg q]; exact hH2 j hj
  · refine nd_fr ?_ (ok.1 m) (fun j hj => ?_) (fun j hj => ?_)
    · rw [eC2, ar_un h3, eC1, ar_un h2]
    · rw [fR3 m j h3 hj, fR2 m j h1 hj, fR1 m j h2 hj]
    · rw [fH3 m j h3 hj, fH2 m j h3 hj, fH1 m j h2 hj]
theorem mg_X (ok : nd_ok co re ch) (hX : nd_X co re ch n = P ++ (x, c) :: (y, d) :: Q) (hi : P.length = i) (hc : nd_X co re ch c = [(0, c0), (s1, c1), (s2, c2)]) (hd : nd_X co re ch d = [(0, d0), (t1, d1), (t2, d2)])
    (hcn : c ≠ n) (hdn : d ≠ n) (hdc : d ≠ c) (hfn : fn ≤ 110)
    (eC1 : C1 = ar_u co c 5) (eC2 : C2 = ar_u C1 n (C1 n - 1))
    (eR1 : R1 = ar_u re (5 * c + 2) (re (5 * n + i))) (eR2 : R2 = ar_u R1 (5 * c + 2 + 1) (R1 (5 * d))) (eR3 : R3 = ar_u R2 (5 * c + 2 + 1 + 1) (R2 (5 * d + 1))) (eR4 : R4 = ar_sd R3 (5 * n + i) (5 * n + (C1 n - 1)))
    (eH1 : H1 = ar_u ch (6 * c + 2 + 1) (ch (6 * d))) (eH2 : H2 = ar_u H1 (6 * c + 2 + 2) (H1 (6 * d + 1))) (eH3 : H3 = ar_u H2 (6 * c + 2 + 2 + 1) (H2 (6 * d + 1 + 1))) (eH4 : H4 = ar_sd H3 (6 * n + (i + 1)) (6 * n + (C1 n - 1 + 1))) (eH5 : H5 = ar_u H4 (6 * d) fn) :
    nd_ok C2 R4 H5 ∧ nd_X C2 R4 H5 n = P ++ (x, c) :: Q ∧ nd_X C2 R4 H5 c = [(0, c0), (s1, c1), (s2, c2), (y, d0), (t1, d1), (t2, d2)] ∧
    (∀ m, m ≠ n → m ≠ c → m ≠ d → nd_X C2 R4 H5 m = nd_X co re ch m) := by
  have hco := nd_co hX
  rw [List.length_cons, List.length_cons] at hco
  have h5 := ok.1 n
  have hcc : co c = 2 := by have := nd_len co re ch c; rw [hc] at this; simp at this; omega
  have hcd : co d = 2 := by have := nd_len co re ch d; rw [hd] at this; simp at this; omega
  have ecn : C1 n = co n := by rw [eC1]; exact ar_un (fun q => hcn q.symm)
  have hX' : nd_X co re ch n = (P ++ [(x, c)]) ++ (y, d) :: Q := by rw [hX, List.append_assoc]; rfl
  have hy : re (5 * n + i) = y := nd_re hX' (by rw [List.length_append, hi]; rfl)
  have hd0 : ch (6 * d) = d0 := nd_ch (P := []) hd
  have hd1 : ch (6 * d + 1) = d1 := nd_ch (P := [(0, d0)]) hd
  have hd2 : ch (6 * d + 2) = d2 := nd_ch (P := [(0, d0), (t1, d1)]) hd
  have ht1 : re (5 * d) = t1 := nd_re (P := [(0, d0)]) hd (i := 0) rfl
  have ht2 : re (5 * d + 1) = t2 := nd_re (P := [(0, d0), (t1, d1)]) hd (i := 1) rfl
  have fR1 : ∀ m j, m ≠ c → j < 5 → R1 (5 * m + j) = re (5 * m + j) := fun m j h1 h2 => by rw [eR1, ar_un (by omega)]
  have fH1 : ∀ m j, m ≠ c → j < 6 → H1 (6 * m + j) = ch (6 * m + j) := fun m j h1 h2 => by rw [eH1, ar_un (by omega)]
  have fR2 : ∀ m j, m ≠ c → j < 5 → R2 (5 * m + j) = re (5 * m + j) := fun m j h1 h2 => by rw [eR2, ar_un (by omega), fR1 m j h1 h2]
  have fH2 : ∀ m j, m ≠ c → j < 6 → H2 (6 * m + j) = ch (6 * m + j) := fun m j h1 h2 => by rw [eH2, ar_un (by omega), fH1 m j h1 h2]
  have fR3 : ∀ m j, m ≠ c → j < 5 → R3 (5 * m + j) = re (5 * m + j) := fun m j h1 h2 => by rw [eR3, ar_un (by omega), fR2 m j h1 h2]
  have fH3 : ∀ m j, m ≠ c → j < 6 → H3 (6 * m + j) = ch (6 * m + j) := fun m j h1 h2 => by rw [eH3, ar_un (by omega), fH2 m j h1 h2]
  have fR4 : ∀ m j, m ≠ n → j < 5 → R4 (5 * m + j) = R3 (5 * m + j) := fun m j h1 h2 => by rw [eR4, ecn]; exact if_neg (by omega)
  have fH4 : ∀ m j, m ≠ n → j < 6 → H4 (6 * m + j) = H3 (6 * m + j) := fun m j h1 h2 => by rw [eH4, ecn]; exact if_neg (by omega)
  have fH5 : ∀ m j, m ≠ d → j < 6 → H5 (6 * m + j) = H4 (6 * m + j) := fun m j h1 h2 => by rw [eH5, ar_un (by omega)]
  have q1 : ∀ j, R4 j < 200 := by
    have b1 : ∀ j, R1 j < 200 := by rw [eR1]; exact ar_ub ok.2.1 (ok.2.1 _)
    have b2 : ∀ j, R2 j < 200 := by rw [eR2]; exact ar_ub b1 (b1 _)
    have b3 : ∀ j, R3 j < 200 := by rw [eR3]; exact ar_ub b2 (b2 _)
    rw [eR4]; exact ar_sdb b3
  have q2 : ∀ j, H5 j < 111 := by
    have b : ∀ j, ch j < 111 := fun j => Nat.lt_succ_of_le (ok.2.2 j)
    have b1 : ∀ j, H1 j < 111 := by rw [eH1]; exact ar_ub b (b _)
    have b2 : ∀ j, H2 j < 111 := by rw [eH2]; exact ar_ub b1 (b1 _)
    have b3 : ∀ j, H3 j < 111 := by rw [eH3]; exact ar_ub b2 (b2 _)
    have b4 : ∀ j, H4 j < 111 := by rw [eH4]; exact ar_sdb b3
    rw [eH5]; exact ar_ub b4 (by omega)
  have q3 : ∀ j, C2 j < 6 := by
    have b0 : ∀ j, co j < 6 := fun j => Nat.lt_succ_of_le (ok.1 j)
    have b1 : ∀ j, C1 j < 6 := by rw [eC1]; exact ar_ub b0 (by omega)
    rw [eC2]; exact ar_ub b1 (by omega)
  refine ⟨⟨fun j => Nat.le_of_lt_succ (q3 j), q1, fun j => Nat.le_of_lt_succ (q2 j)⟩, ?_, ?_, fun m h1 h2 h3 => ?_⟩
  · have t := nd_er hX' (i := i) (by rw [List.length_append, hi]; rfl)
    rw [List.append_assoc] at t
    refine Eq.trans (nd_fr ?_ (by rw [ar_us]; omega) (fun j hj => ?_) (fun j hj => ?_)) t
    · rw [eC2, ar_us, ar_us, ecn]
    · rw [eR4, ecn]
      unfold ar_sd
      by_cases q : 5 * n + i ≤ 5 * n + j ∧ 5 * n + j < 5 * n + (co n - 1)
      · rw [if_pos q, if_pos q]; exact fR3 n (j + 1) (fun q => hcn q.symm) (by omega)
      · rw [if_neg q, if_neg q]; exact fR3 n j (fun q => hcn q.symm) hj
    · rw [fH5 n j (fun q => hdn q.symm) hj, eH4, ecn]
      unfold ar_sd
      by_cases q : 6 * n + (i + 1) ≤ 6 * n + j ∧ 6 * n + j < 6 * n + (co n - 1 + 1)
      · rw [if_pos q, if_pos q]; exact fH3 n (j + 1) (fun q => hcn q.symm) (by omega)
      · rw [if_neg q, if_neg q]; exact fH3 n j (fun q => hcn q.symm) hj
  · have w : ∀ j, j ≤ 2 → nd_e re ch c j = ([(0, c0), (s1, c1), (s2, c2)] : List (Nat × Nat)).getD j (0, 0) := fun j hj => by
      have := nd_get (co := co) (re := re) (ch := ch) (n := c) (i := j) (by omega)
      rw [hc] at this
      rw [List.getD_eq_getElem?_getD, this]
      rfl
    have kR : ∀ j, j < 5 → R4 (5 * c + j) = R3 (5 * c + j) := fun j hj => fR4 c j hcn hj
    have kH : ∀ j, j < 6 → H5 (6 * c + j) = H3 (6 * c + j) := fun j hj => by rw [fH5 c j (fun q => hdc q.symm) hj, fH4 c j hcn hj]
    have r0 : R4 (5 * c + 0) = s1 := by
      rw [kR 0 (by decide), eR3, ar_un (by omega), eR2, ar_un (by omega), eR1, ar_un (by omega)]
      exact congrArg Prod.fst (w 1 (by decide))
    have r1 : R4 (5 * c + 1) = s2 := by
      rw [kR 1 (by decide), eR3, ar_un (by omega), eR2, ar_un (by omega), eR1, ar_un (by omega)]
      exact congrArg Prod.fst (w 2 (by decide))
    have r2 : R4 (5 * c + 2) = y := by
      rw [kR 2 (by decide), eR3, ar_un (by omega), eR2, ar_un (by omega), eR1, ar_us, hy]
    have r3 : R4 (5 * c + 3) = t1 := by
      rw [kR 3 (by decide), eR3, ar_un (by omega), eR2, ar_us]
      exact (fR1 d 0 hdc (by decide)).trans ht1
    have r4 : R4 (5 * c + 4) = t2 := by
      rw [kR 4 (by decide), eR3, ar_us, fR2 d 1 hdc (by decide), ht2]
    have k0 : H5 (6 * c + 0) = c0 := by
      rw [kH 0 (by decide), eH3, ar_un (by omega), eH2, ar_un (by omega), eH1, ar_un (by omega)]
      exact congrArg Prod.snd (w 0 (by decide))
    have k1 : H5 (6 * c + 1) = c1 := by
      rw [kH 1 (by decide), eH3, ar_un (by omega), eH2, ar_un (by omega), eH1, ar_un (by omega)]
      exact congrArg Prod.snd (w 1 (by decide))
    have k2 : H5 (6 * c + 2) = c2 := by
      rw [kH 2 (by decide), eH3, ar_un (by omega), eH2, ar_un (by omega), eH1, ar_un (by omega)]
      exact congrArg Prod.snd (w 2 (by decide))
    have k3 : H5 (6 * c + 3) = d0 := by
      rw [kH 3 (by decide), eH3, ar_un (by omega), eH2, ar_un (by omega), eH1, ar_us, hd0]
    have k4 : H5 (6 * c + 4) = d1 := by
      rw [kH 4 (by decide), eH3, ar_un (by omega), eH2, ar_us, fH1 d 1 hdc (by decide), hd1]
    have k5 : H5 (6 * c + 5) = d2 := by
      rw [kH 5 (by decide), eH3, ar_us, fH2 d 2 hdc (by decide), hd2]
    have c5 : C2 c = 5 := by rw [eC2, ar_un hcn, eC1, ar_us]
    refine nd_mk (by rw [c5]; rfl) (fun j hj => ?_)
    rw [c5] at hj
    match j, hj with
    | 0, _ => exact congrArg some (Prod.ext rfl k0.symm)
    | 1, _ => exact congrArg some (Prod.ext r0.symm k1.symm)
    | 2, _ => exact congrArg some (Prod.ext r1.symm k2.symm)
    | 3, _ => exact congrArg some (Prod.ext r2.symm k3.symm)
    | 4, _ => exact congrArg some (Prod.ext r3.symm k4.symm)
    | 5, _ => exact congrArg some (Prod.ext r4.symm k5.symm)
  · refine nd_fr ?_ (ok.1 m) (fun j hj => ?_) (fun j hj => ?_)
    · rw [eC2, ar_un h1, eC1, ar_un h2]
    · rw [fR4 m j h1 hj, fR3 m j h2 hj]
    · rw [fH5 m j h3 hj, fH4 m j h1 hj, fH3 m j h2 hj]
end RO
end
section
/-! ===== the walks of fromLeft, fromRight, merge ===== -/
theorem ar_i8 {n : Nat} (h : n < 128) : (nI n).toInt8.toInt32 = nI n := by
  have key : ∀ m, m < 128 → (nI m).toInt8.toInt32 = nI m := by decide +kernel
  exact key n h
section WX
variable {f_freeRecord f_done f_changes f_undo f_volume f_snaps f_syncing f_synced f_goal f_cObj f_cKey f_cBorn f_begun f_fObj f_fKey f_fValue f_fBorn : Int32} {fn : Nat} {co le re ch : Nat → Nat} {ro rk rb rd rv rw la rt sz pa sp ur ud uv ua sn : Nat → Int32}
variable {n i c d l g a b x y z e c0 c1 c2 s1 s2 t1 t2 d0 d1 d2 g0 g1 : Nat} {P Q A G : List (Nat × Nat)} {post : SX → Prop}
theorem wx_ref2 (ok : nd_ok co re ch) (ha : a < 110) (hb : b < 110) (hab : a ≠ b) (za : le a = 0 ∨ le a = 1) (zb : le b = 0 ∨ le b = 1) (ka : le a = 0 → ∀ e, e ∈ nd_X co re ch a → e.2 < 110 ∧ e.2 ≠ a ∧ e.2 ≠ b) (kb : le b = 0 → ∀ e, e ∈ nd_X co re ch b → e.2 < 110 ∧ e.2 ≠ a ∧ e.2 ≠ b)
    (K : ∀ la' : Nat → Int32, (∀ m, m ≠ a → m ≠ b → la' m = la m) → tr_C (nd_X co re ch) le rb rd la' a → tr_C (nd_X co re ch) le rb rd la' b → post ((nI fn), f_freeRecord, f_done, f_changes, f_undo, f_volume, f_snaps, f_syncing, f_synced, f_goal, f_cObj, f_cKey, f_cBorn, f_begun, f_fObj, f_fKey, f_fValue, f_fBorn, ro, rk, rb, rd, rv, rw, (ar_n co), (ar_n le), (ar_n re), (ar_n ch), la', rt, sz, pa, sp, ur, ud, uv, ua, sn)) :
    wpX_refresh (fun u => wpX_refresh post u (nI b)) ((nI fn), f_freeRecord, f_done, f_changes, f_undo, f_volume, f_snaps, f_syncing, f_synced, f_goal, f_cObj, f_cKey, f_cBorn, f_begun, f_fObj, f_fKey, f_fValue, f_fBorn, ro, rk, rb, rd, rv, rw, (ar_n co), (ar_n le), (ar_n re), (ar_n ch), la, rt, sz, pa, sp, ur, ud, uv, ua, sn) (nI a) := by
  refine wx_refC ok ha za (fun z e he => ⟨(ka z e he).1, (ka z e he).2.1⟩) (fun la1 l1 t1 => wx_refC ok hb zb (fun z e he => ⟨(kb z e he).1, (kb z e he).2.2⟩) (fun la2 l2 t2 => K la2 (fun m h1 h2 => by rw [l2 m h2, l1 m h1]) ?_ t2))
  unfold tr_C at t1 ⊢
  rw [l2 a hab]
  refine ⟨t1.1, fun z e he => ?_⟩
  rw [l2 e.2 (ka z e he).2.2]
  exact t1.2 z e he
theorem wx_fromLeft (ok : nd_ok co re ch) (hX : nd_X co re ch n = P ++ (x, l) :: (y, c) :: Q) (hi : P.length = i) (hc : nd_X co re ch c = [(0, c0), (s1, c1), (s2, c2)]) (hl : nd_X co re ch l = A ++ [(z, e)]) (hA : 3 ≤ A.length)
    (hn : n < 110) (hc1 : c < 110) (hl1 : l < 110) (hcn : c ≠ n) (hln : l ≠ n) (hlc : l ≠ c) (hz : le c = 0 ∨ le c = 1) (hlel : le l = le c) (hk : le c = 0 → ∀ e, e ∈ nd_X co re ch l ∨ e ∈ nd_X co re ch c → e.2 < 110 ∧ e.2 ≠ l ∧ e.2 ≠ c)
    (K : ∀ (co' re' ch' : Nat → Nat) (la' : Nat → Int32), nd_ok co' re' ch' → nd_X co' re' ch' n = P ++ (x, l) :: (z, c) :: Q → nd_X co' re' ch' l = A → nd_X co' re' ch' c = [(0, e), (y, c0), (s1, c1), (s2, c2)] →
      (∀ m, m ≠ n → m ≠ c → m ≠ l → nd_X co' re' ch' m = nd_X co re ch m) → (∀ m, m ≠ l → m ≠ c → la' m = la m) → tr_C (nd_X co' re' ch') le rb rd la' l → tr_C (nd_X co' re' ch') le rb rd la' c → post ((nI fn), f_freeRecord, f_done, f_changes, f_undo, f_volume, f_snaps, f_syncing, f_synced, f_goal, f_cObj, f_cKey, f_cBorn, f_begun, f_fObj, f_fKey, f_fValue, f_fBorn, ro, rk, rb, rd, rv, rw, (ar_n co'), (ar_n le), (ar_n re'), (ar_n ch'), la', rt, sz, pa, sp, ur, ud, uv, ua, sn)) :
    wpX_fromLeft post ((nI fn), f_freeRecord, f_done, f_changes, f_undo, f_volume, f_snaps, f_syncing, f_synced, f_goal, f_cObj, f_cKey, f_cBorn, f_begun, f_fObj, f_fKey, f_fValue, f_fBorn, ro, rk, rb, rd, rv, rw, (ar_n co), (ar_n le), (ar_n re), (ar_n ch), la, rt, sz, pa, sp, ur, ud, uv, ua, sn) (nI n) (nI (i + 1)) := by
  have hco := nd_co hX
  rw [List.length_cons, List.length_cons] at hco
  have h5 := ok.1 n
  have h5l := ok.1 l
  have hcc : co c = 2 := by have := nd_len co re ch c; rw [hc] at this; simp at this; omega
  have hcl := nd_co hl
  rw [List.length_singleton] at hcl
  have hX' : nd_X co re ch n = (P ++ [(x, l)]) ++ (y, c) :: Q := by rw [hX, List.append_assoc]; rfl
  have ec : ch (6 * n + (i + 1)) = c := by have := nd_ch hX'; rw [List.length_append, hi] at this; exact this
  have el : ch (6 * n + i) = l := by rw [← hi]; exact nd_ch hX
  obtain ⟨C1, eC1⟩ : ∃ C, C = ar_u co c (co c + 1) := ⟨_, rfl⟩
  have ecl : C1 l = co l := by rw [eC1]; exact ar_un hlc
  obtain ⟨C2, eC2⟩ : ∃ C, C = ar_u C1 l (C1 l - 1) := ⟨_, rfl⟩
  obtain ⟨R0, eR0⟩ : ∃ C, C = ar_sh re (5 * c + 0) (5 * c + co c) := ⟨_, rfl⟩
  obtain ⟨R1, eR1⟩ : ∃ C, C = ar_u R0 (5 * c) (R0 (5 * n + i)) := ⟨_, rfl⟩
  obtain ⟨R2, eR2⟩ : ∃ C, C = ar_u R1 (5 * n + i) (R1 (5 * l + (C1 l - 1))) := ⟨_, rfl⟩
  obtain ⟨H0, eH0⟩ : ∃ C, C = ar_sh ch (6 * c + (0 + 1)) (6 * c + (co c + 1)) := ⟨_, rfl⟩
  obtain ⟨H1, eH1⟩ : ∃ C, C = ar_u H0 (6 * c + 1) (ch (6 * c)) := ⟨_, rfl⟩
  obtain ⟨H2, eH2⟩ : ∃ C, C = ar_u H1 (6 * c) (H1 (6 * l + C1 l)) := ⟨_, rfl⟩
  obtain ⟨okF, xn, xl, xc, xm⟩ := fl_X ok hX hi hc hl hA hcn hln hlc eC1 eC2 eR0 eR1 eR2 eH0 eH1 eH2
  have bR0 : ∀ j, R0 j < 200 := by rw [eR0]; exact ar_shb ok.2.1
  have bR1 : ∀ j, R1 j < 200 := by rw [eR1]; exact ar_ub bR0 (bR0 _)
  have bH0 : ∀ j, H0 j < 111 := by rw [eH0]; exact ar_shb (fun j => Nat.lt_succ_of_le (ok.2.2 j))
  have bH1 : ∀ j, H1 j < 111 := by rw [eH1]; exact ar_ub bH0 (Nat.lt_succ_of_le (ok.2.2 _))
  have vc : vp_in (nI c) 110 := vp_in_nI hc1 (by decide)
  have vl : vp_in (nI l) 110 := vp_in_nI hl1 (by decide)
  have v6c : vp_in (nI (6 * c)) 660 := vp_in_nI (by omega) (by decide)
  unfold wpX_fromLeft
  dsimp only
  rw [ar_6 n (i + 1), ar_5 n (i + 1), ar_m (6 * n + (i + 1)) (by omega), ar_m (5 * n + (i + 1)) (by omega), show 6 * n + (i + 1) - 1 = 6 * n + i by omega, show 5 * n + (i + 1) - 1 = 5 * n + i by omega, ar_c (f := ch) (n := 6 * n + (i + 1)) (by omega), ar_c (f := ch) (n := 6 * n + i) (by omega), ec, el]
  refine ⟨vp_in_nI (by omega) (by decide), nm_e ⟨vp_in_nI (by omega) (by decide), nm_e ?_⟩⟩
  rw [ar_60 c, ar_c (f := ch) (n := 6 * c) (by omega)]
  refine ⟨v6c, nm_e ?_⟩
  refine wx_widen (i := 0) ok hc1 (by omega) (by omega) ?_
  dsimp only
  rw [← eC1, ← eR0, ← eH0, nI_1, nI_clamp (n := 6 * c + 1) (by omega), ar_b (n := ch (6 * c)) (by have := ok.2.2 (6 * c); omega), ar_uu, ← eH1, ar_50 c, nI_clamp (n := 5 * c) (by omega), ar_c (f := R0) (by omega), ar_ws (bR0 _), ← eR1, ar_c (f := C1) (by omega)]
  refine ⟨vp_in_nI (by omega) (by decide), nm_e ⟨vp_in_nI (by omega) (by decide), vp_in_nI (by omega) (by decide), nm_e ⟨vl, ?_⟩⟩⟩
  rw [ar_6 l, ar_c (f := H1) (by omega), nI_clamp (n := 6 * c) (by omega), ar_wb (Nat.le_of_lt_succ (bH1 _)), ← eH2]
  refine ⟨vp_in_nI (by omega) (by decide), v6c, nm_e ⟨vl, vl, ?_⟩⟩
  rw [ar_m (C1 l) (by omega), ar_bb (by omega), nI_clamp (n := l) (by omega), ar_uu, ← eC2, ar_i8 (by omega), ar_5 l, nI_clamp (n := 5 * n + i) (by omega), ar_c (f := R1) (by omega), ar_ws (bR1 _), ← eR2]
  refine nm_e ⟨vp_in_nI (by omega) (by decide), vp_in_nI (by omega) (by decide), nm_e ?_⟩
  have F := wx_ref2 (post := post) (a := l) (b := c) okF hl1 hc1 hlc (by rw [hlel]; exact hz) hz (fun q w hw => hk (by rw [← hlel]; exact q) w (Or.inl (by rw [xl] at hw; rw [hl]; exact List.mem_append.mpr (Or.inl hw)))) (fun q w hw => ?_) (fun la' l1 t1 t2 => K C2 R2 H2 la' okF xn xl xc xm l1 t1 t2)
  · exact F
  · have k := hk q
    rw [xc] at hw
    simp only [List.mem_cons, List.not_mem_nil, or_false] at hw
    rcases hw with rfl | rfl | rfl | rfl
    · exact k (z, e) (Or.inl (by rw [hl]; simp))
    · exact k (0, c0) (Or.inr (by rw [hc]; simp))
    · exact k (s1, c1) (Or.inr (by rw [hc]; simp))
    · exact k (s2, c2) (Or.inr (by rw [hc]; simp))
theorem wx_fromRight (ok : nd_ok co re ch) (hX : nd_X co re ch n = P ++ (x, c) :: (y, g) :: Q) (hi : P.length = i) (hc : nd_X co re ch c = [(0, c0), (s1, c1), (s2, c2)]) (hg : nd_X co re ch g = (0, g0) :: (t1, g1) :: G)
    (hn : n < 110) (hc1 : c < 110) (hg1 : g < 110) (hcn : c ≠ n) (hgn : g ≠ n) (hgc : g ≠ c) (hz : le c = 0 ∨ le c = 1) (hleg : le g = le c) (hk : le c = 0 → ∀ e, e ∈ nd_X co re ch g ∨ e ∈ nd_X co re ch c → e.2 < 110 ∧ e.2 ≠ c ∧ e.2 ≠ g)
    (K : ∀ (co' re' ch' : Nat → Nat) (la' : Nat → Int32), nd_ok co' re' ch' → nd_X co' re' ch' n = P ++ (x, c) :: (t1, g) :: Q → nd_X co' re' ch' c = [(0, c0), (s1, c1), (s2, c2), (y, g0)] → nd_X co' re' ch' g = (0, g1) :: G →
      (∀ m, m ≠ n → m ≠ c → m ≠ g → nd_X co' re' ch' m = nd_X co re ch m) → (∀ m, m ≠ c → m ≠ g → la' m = la m) → tr_C (nd_X co' re' ch') le rb rd la' c → tr_C (nd_X co' re' ch') le rb rd la' g → post ((nI fn), f_freeRecord, f_done, f_changes, f_undo, f_volume, f_snaps, f_syncing, f_synced, f_goal, f_cObj, f_cKey, f_cBorn, f_begun, f_fObj, f_fKey, f_fValue, f_fBorn, ro, rk, rb, rd, rv, rw, (ar_n co'), (ar_n le), (ar_n re'), (ar_n ch'), la', rt, sz, pa, sp, ur, ud, uv, ua, sn)) :
    wpX_fromRight post ((nI fn), f_freeRecord, f_done, f_changes, f_undo, f_volume, f_snaps, f_syncing, f_synced, f_goal, f_cObj, f_cKey, f_cBorn, f_begun, f_fObj, f_fKey, f_fValue, f_fBorn, ro, rk, rb, rd, rv, rw, (ar_n co), (ar_n le), (ar_n re), (ar_n ch), la, rt, sz, pa, sp, ur, ud, uv, ua, sn) (nI n) (nI i) := by
  have hco := nd_co hX
  rw [List.length_cons, List.length_cons] at hco
  have h5 := ok.1 n
  have h5g := ok.1 g
  have hcc : co c = 2 := by have := nd_len co re ch c; rw [hc] at this; simp at this; omega
  have hcg : co g = G.length + 1 := by have := nd_len co re ch g; rw [hg] at this; simp at this; omega
  have hX' : nd_X co re ch n = (P ++ [(x, c)]) ++ (y, g) :: Q := by rw [hX, List.append_assoc]; rfl
  have eg : ch (6 * n + i + 1) = g := by have := nd_ch hX'; rw [List.length_append, hi] at this; exact this
  have ec : ch (6 * n + i) = c := by rw [← hi]; exact nd_ch hX
  obtain ⟨C1, eC1⟩ : ∃ C, C = ar_u co c (co c + 1) := ⟨_, rfl⟩
  have ecg : C1 g = co g := by rw [eC1]; exact ar_un hgc
  have ecc : C1 c = co c + 1 := by rw [eC1]; exact ar_us
  obtain ⟨C2, eC2⟩ : ∃ C, C = ar_u C1 g (C1 g - 1) := ⟨_, rfl⟩
  obtain ⟨R1, eR1⟩ : ∃ C, C = ar_u re (5 * c + co c) (re (5 * n + i)) := ⟨_, rfl⟩
  obtain ⟨R2, eR2⟩ : ∃ C, C = ar_u R1 (5 * n + i) (R1 (5 * g)) := ⟨_, rfl⟩
  obtain ⟨R3, eR3⟩ : ∃ C, C = ar_sd R2 (5 * g + 0) (5 * g + (C1 g - 1)) := ⟨_, rfl⟩
  obtain ⟨H1, eH1⟩ : ∃ C, C = ar_u ch (6 * c + (co c + 1)) (ch (6 * g)) := ⟨_, rfl⟩
  obtain ⟨H2, eH2⟩ : ∃ C, C = ar_u H1 (6 * g) (H1 (6 * g + 1)) := ⟨_, rfl⟩
  obtain ⟨H3, eH3⟩ : ∃ C, C = ar_sd H2 (6 * g + (0 + 1)) (6 * g + (C1 g - 1 + 1)) := ⟨_, rfl⟩
  obtain ⟨okF, xn, xc, xg, xm⟩ := fr_X ok hX hi hc hg hcn hgn hgc eC1 eC2 eR1 eR2 eR3 eH1 eH2 eH3
  have bR1 : ∀ j, R1 j < 200 := by rw [eR1]; exact ar_ub ok.2.1 (ok.2.1 _)
  have bR2 : ∀ j, R2 j < 200 := by rw [eR2]; exact ar_ub bR1 (bR1 _)
  have bH1 : ∀ j, H1 j < 111 := by rw [eH1]; exact ar_ub (fun j => Nat.lt_succ_of_le (ok.2.2 j)) (Nat.lt_succ_of_le (ok.2.2 _))
  have bH2 : ∀ j, H2 j < 111 := by rw [eH2]; exact ar_ub bH1 (bH1 _)
  have bC1 : ∀ j, C1 j < 6 := by rw [eC1]; exact ar_ub (fun j => Nat.lt_succ_of_le (ok.1 j)) (by omega)
  have vc : vp_in (nI c) 110 := vp_in_nI hc1 (by decide)
  have vg : vp_in (nI g) 110 := vp_in_nI hg1 (by decide)
  unfold wpX_fromRight
  dsimp only
  rw [ar_6 n i, ar_5 n i, nI_1 (6 * n + i), ar_c (f := ch) (n := 6 * n + i) (by omega), ar_c (f := ch) (n := 6 * n + i + 1) (by omega), ec, eg]
  refine ⟨vp_in_nI (by omega) (by decide), nm_e ⟨vp_in_nI (by omega) (by decide), nm_e ⟨vc, vc, ?_⟩⟩⟩
  rw [ar_c (f := co) (n := c) (by omega), nI_1 (co c), ar_bb (by omega), nI_clamp (n := c) (by omega), ar_uu, ← eC1, ar_5 c, ar_c (f := re) (by omega), nI_clamp (n := 5 * c + co c) (by omega), ar_ws (ok.2.1 _), ← eR1]
  refine nm_e ⟨vp_in_nI (by omega) (by decide), vp_in_nI (by omega) (by decide), nm_e ⟨vc, ?_⟩⟩
  rw [show (ar_n C1) c = nI (co c + 1) by unfold ar_n; rw [ecc], ar_60 g, ar_6 c, ar_c (f := ch) (by omega), nI_clamp (n := 6 * c + (co c + 1)) (by omega), ar_wb (ok.2.2 _), ← eH1]
  refine ⟨vp_in_nI (by omega) (by decide), vp_in_nI (by omega) (by decide), nm_e ?_⟩
  rw [ar_50 g, ar_c (f := R1) (by omega), nI_clamp (n := 5 * n + i) (by omega), ar_ws (bR1 _), ← eR2]
  refine ⟨vp_in_nI (by omega) (by decide), vp_in_nI (by omega) (by decide), nm_e ?_⟩
  rw [nI_1 (6 * g), ar_c (f := H1) (by omega), nI_clamp (n := 6 * g) (by omega), ar_wb (Nat.le_of_lt_succ (bH1 _)), ← eH2]
  refine ⟨vp_in_nI (by omega) (by decide), vp_in_nI (by omega) (by decide), nm_e ?_⟩
  refine wx_narrow (i := 0) (co := C1) ⟨fun j => Nat.le_of_lt_succ (bC1 j), bR2, fun j => Nat.le_of_lt_succ (bH2 j)⟩ hg1 (by omega) (by omega) ?_
  rw [← eC2, ← eR3, ← eH3]
  have F := wx_ref2 (post := post) (a := c) (b := g) okF hc1 hg1 (fun q => hgc q.symm) hz (by rw [hleg]; exact hz) (fun q w hw => ?_) (fun q w hw => ?_) (fun la' l1 t1 t2 => K C2 R3 H3 la' okF xn xc xg xm l1 t1 t2)
  · exact F
  · have k := hk q
    rw [xc] at hw
    simp only [List.mem_cons, List.not_mem_nil, or_false] at hw
    rcases hw with rfl | rfl | rfl | rfl
    · exact k (0, c0) (Or.inr (by rw [hc]; simp))
    · exact k (s1, c1) (Or.inr (by rw [hc]; simp))
    · exact k (s2, c2) (Or.inr (by rw [hc]; simp))
    · exact k (0, g0) (Or.inl (by rw [hg]; simp))
  · have k := hk (by rw [← hleg]; exact q)
    rw [xg] at hw
    rcases List.mem_cons.mp hw with rfl | hw
    · exact k (t1, g1) (Or.inl (by rw [hg]; simp))
    · exact k w (Or.inl (by rw [hg]; simp [hw]))
end WX
end
section
/-! ===== the walk of merge ===== -/
section WX
variable {f_freeRecord f_done f_changes f_undo f_volume f_snaps f_syncing f_synced f_goal f_cObj f_cKey f_cBorn f_begun f_fObj f_fKey f_fValue f_fBorn : Int32} {fn : Nat} {co le re ch : Nat → Nat} {ro rk rb rd rv rw la rt sz pa sp ur ud uv ua sn : Nat → Int32}
variable {n i c d x y c0 c1 c2 s1 s2 t1 t2 d0 d1 d2 : Nat} {P Q : List (Nat × Nat)} {post : SX → Prop}
theorem wx_mg83s {f k : Nat} {x1 x2 : Int32} (bR : ∀ j, re j < 200) (bH : ∀ j, ch j < 111) (hc : c < 110) (hd : d < 110) (hk : k < 2) (hcd : co d = 2)
    (K : wX_merge_83 post x1 x2 (nI c) (nI d) (nI 2) (nI fn) f_freeRecord f_done f_changes f_undo f_volume f_snaps f_syncing f_synced f_goal f_cObj f_cKey f_cBorn f_begun f_fObj f_fKey f_fValue f_fBorn f (nI (k + 1)) ro rk rb rd rv rw (ar_n co) (ar_n le) (ar_n (ar_u re (5 * c + 2 + 1 + k) (re (5 * d + k)))) (ar_n (ar_u ch (6 * c + 2 + 2 + k) (ch (6 * d + k + 1)))) la rt sz pa sp ur ud uv ua sn) :
    wX_merge_83 post x1 x2 (nI c) (nI d) (nI 2) (nI fn) f_freeRecord f_done f_changes f_undo f_volume f_snaps f_syncing f_synced f_goal f_cObj f_cKey f_cBorn f_begun f_fObj f_fKey f_fValue f_fBorn (f + 1) (nI k) ro rk rb rd rv rw (ar_n co) (ar_n le) (ar_n re) (ar_n ch) la rt sz pa sp ur ud uv ua sn := by
  rw [wX_merge_83]
  dsimp only
  rw [ar_c (f := co) (by omega), hcd]
  refine ⟨vp_in_nI hd (by decide), br_f (nI_ge (b := 2) hk (by decide)) ?_⟩
  rw [ar_5 d, ar_5 c, nI_1, nI_add, ar_c (f := re) (by omega), nI_clamp (n := 5 * c + 2 + 1 + k) (by omega), ar_ws (bR _), ar_6 d, nI_1, ar_6 c, ar_2, nI_add, ar_c (f := ch) (by omega), nI_clamp (n := 6 * c + 2 + 2 + k) (by omega), ar_wb (Nat.le_of_lt_succ (bH _))]
  exact ⟨vp_in_nI (by omega) (by decide), vp_in_nI (by omega) (by decide), nm_e ⟨vp_in_nI (by omega) (by decide), vp_in_nI (by omega) (by decide), nm_e (nm_r (nI_1 k) K)⟩⟩
theorem wx_mg83e {f : Nat} {x1 x2 : Int32} (hc : c < 110) (hd : d < 110) (hcc : co c = 2) (hcd : co d = 2)
    (K : wpX_narrow (fun u => wpX_dropNode (fun u => wpX_refresh post u (nI c)) u (nI d)) ((nI fn), f_freeRecord, f_done, f_changes, f_undo, f_volume, f_snaps, f_syncing, f_synced, f_goal, f_cObj, f_cKey, f_cBorn, f_begun, f_fObj, f_fKey, f_fValue, f_fBorn, ro, rk, rb, rd, rv, rw, (ar_n (ar_u co c 5)), (ar_n le), (ar_n re), (ar_n ch), la, rt, sz, pa, sp, ur, ud, uv, ua, sn) x1 x2) :
    wX_merge_83 post x1 x2 (nI c) (nI d) (nI 2) (nI fn) f_freeRecord f_done f_changes f_undo f_volume f_snaps f_syncing f_synced f_goal f_cObj f_cKey f_cBorn f_begun f_fObj f_fKey f_fValue f_fBorn (f + 1) (nI 2) ro rk rb rd rv rw (ar_n co) (ar_n le) (ar_n re) (ar_n ch) la rt sz pa sp ur ud uv ua sn := by
  have vc : vp_in (nI c) 110 := vp_in_nI hc (by decide)
  have vd : vp_in (nI d) 110 := vp_in_nI hd (by decide)
  rw [wX_merge_83]
  dsimp only
  rw [ar_c (f := co) (n := d) (by omega), ar_c (f := co) (n := c) (by omega), hcd, hcc, nI_1, nI_add, ar_bb (by decide), nI_clamp (n := c) (by omega), ar_uu]
  exact ⟨vd, br_t (Int32.le_refl _) ⟨vc, vd, vc, nm_e K⟩⟩
theorem wx_merge (ok : nd_ok co re ch) (hX : nd_X co re ch n = P ++ (x, c) :: (y, d) :: Q) (hi : P.length = i) (hc : nd_X co re ch c = [(0, c0), (s1, c1), (s2, c2)]) (hd : nd_X co re ch d = [(0, d0), (t1, d1), (t2, d2)])
    (hn : n < 110) (hc1 : c < 110) (hd1 : d < 110) (hcn : c ≠ n) (hdn : d ≠ n) (hdc : d ≠ c) (hfn : fn ≤ 110) (hz : le c = 0 ∨ le c = 1) (hk : le c = 0 → ∀ e, e ∈ nd_X co re ch c ∨ e ∈ nd_X co re ch d → e.2 < 110 ∧ e.2 ≠ c)
    (K : ∀ (co' re' ch' : Nat → Nat) (la' : Nat → Int32), nd_ok co' re' ch' → nd_X co' re' ch' n = P ++ (x, c) :: Q → nd_X co' re' ch' c = [(0, c0), (s1, c1), (s2, c2), (y, d0), (t1, d1), (t2, d2)] →
      (∀ m, m ≠ n → m ≠ c → m ≠ d → nd_X co' re' ch' m = nd_X co re ch m) → ch' (6 * d) = fn → (∀ m, m ≠ c → la' m = la m) → tr_C (nd_X co' re' ch') le rb rd la' c → post ((nI d), f_freeRecord, f_done, f_changes, f_undo, f_volume, f_snaps, f_syncing, f_synced, f_goal, f_cObj, f_cKey, f_cBorn, f_begun, f_fObj, f_fKey, f_fValue, f_fBorn, ro, rk, rb, rd, rv, rw, (ar_n co'), (ar_n le), (ar_n re'), (ar_n ch'), la', rt, sz, pa, sp, ur, ud, uv, ua, sn)) :
    wpX_merge post ((nI fn), f_freeRecord, f_done, f_changes, f_undo, f_volume, f_snaps, f_syncing, f_synced, f_goal, f_cObj, f_cKey, f_cBorn, f_begun, f_fObj, f_fKey, f_fValue, f_fBorn, ro, rk, rb, rd, rv, rw, (ar_n co), (ar_n le), (ar_n re), (ar_n ch), la, rt, sz, pa, sp, ur, ud, uv, ua, sn) (nI n) (nI i) := by
  have hco := nd_co hX
  rw [List.length_cons, List.length_cons] at hco
  have h5 := ok.1 n
  have hcc : co c = 2 := by have := nd_len co re ch c; rw [hc] at this; simp at this; omega
  have hcd : co d = 2 := by have := nd_len co re ch d; rw [hd] at this; simp at this; omega
  have hX' : nd_X co re ch n = (P ++ [(x, c)]) ++ (y, d) :: Q := by rw [hX, List.append_assoc]; rfl
  have ed : ch (6 * n + i + 1) = d := by have := nd_ch hX'; rw [List.length_append, hi] at this; exact this
  have ec : ch (6 * n + i) = c := by rw [← hi]; exact nd_ch hX
  obtain ⟨C1, eC1⟩ : ∃ C, C = ar_u co c 5 := ⟨_, rfl⟩
  have ecn : C1 n = co n := by rw [eC1]; exact ar_un (fun q => hcn q.symm)
  obtain ⟨C2, eC2⟩ : ∃ C, C = ar_u C1 n (C1 n - 1) := ⟨_, rfl⟩
  obtain ⟨R1, eR1⟩ : ∃ C, C = ar_u re (5 * c + 2) (re (5 * n + i)) := ⟨_, rfl⟩
  obtain ⟨R2, eR2⟩ : ∃ C, C = ar_u R1 (5 * c + 2 + 1) (R1 (5 * d)) := ⟨_, rfl⟩
  obtain ⟨R3, eR3⟩ : ∃ C, C = ar_u R2 (5 * c + 2 + 1 + 1) (R2 (5 * d + 1)) := ⟨_, rfl⟩
  obtain ⟨R4, eR4⟩ : ∃ C, C = ar_sd R3 (5 * n + i) (5 * n + (C1 n - 1)) := ⟨_, rfl⟩
  obtain ⟨H1, eH1⟩ : ∃ C, C = ar_u ch (6 * c + 2 + 1) (ch (6 * d)) := ⟨_, rfl⟩
  obtain ⟨H2, eH2⟩ : ∃ C, C = ar_u H1 (6 * c + 2 + 2) (H1 (6 * d + 1)) := ⟨_, rfl⟩
  obtain ⟨H3, eH3⟩ : ∃ C, C = ar_u H2 (6 * c + 2 + 2 + 1) (H2 (6 * d + 1 + 1)) := ⟨_, rfl⟩
  obtain ⟨H4, eH4⟩ : ∃ C, C = ar_sd H3 (6 * n + (i + 1)) (6 * n + (C1 n - 1 + 1)) := ⟨_, rfl⟩
  obtain ⟨H5, eH5⟩ : ∃ C, C = ar_u H4 (6 * d) fn := ⟨_, rfl⟩
  obtain ⟨okF, xn, xc, xm⟩ := mg_X ok hX hi hc hd hcn hdn hdc hfn eC1 eC2 eR1 eR2 eR3 eR4 eH1 eH2 eH3 eH4 eH5
  have bR1 : ∀ j, R1 j < 200 := by rw [eR1]; exact ar_ub ok.2.1 (ok.2.1 _)
  have bR2 : ∀ j, R2 j < 200 := by rw [eR2]; exact ar_ub bR1 (bR1 _)
  have bR3 : ∀ j, R3 j < 200 := by rw [eR3]; exact ar_ub bR2 (bR2 _)
  have b : ∀ j, ch j < 111 := fun j => Nat.lt_succ_of_le (ok.2.2 j)
  have bH1 : ∀ j, H1 j < 111 := by rw [eH1]; exact ar_ub b (b _)
  have bH2 : ∀ j, H2 j < 111 := by rw [eH2]; exact ar_ub bH1 (bH1 _)
  have bH3 : ∀ j, H3 j < 111 := by rw [eH3]; exact ar_ub bH2 (bH2 _)
  have bC1 : ∀ j, C1 j < 6 := by rw [eC1]; exact ar_ub (fun j => Nat.lt_succ_of_le (ok.1 j)) (by omega)
  have vc : vp_in (nI c) 110 := vp_in_nI hc1 (by decide)
  unfold wpX_merge
  dsimp only
  rw [ar_6 n i, ar_5 n i, nI_1 (6 * n + i), ar_c (f := ch) (n := 6 * n + i) (by omega), ar_c (f := ch) (n := 6 * n + i + 1) (by omega), ec, ed]
  refine ⟨vp_in_nI (by omega) (by decide), nm_e ⟨vp_in_nI (by omega) (by decide), nm_e ⟨vc, ?_⟩⟩⟩
  rw [ar_c (f := co) (n := c) (by omega), hcc]
  refine nm_e ?_
  rw [ar_5 c, ar_c (f := re) (by omega), nI_clamp (n := 5 * c + 2) (by omega), ar_ws (ok.2.1 _), ← eR1]
  refine ⟨vp_in_nI (by omega) (by decide), vp_in_nI (by omega) (by decide), nm_e ?_⟩
  rw [ar_60 d, ar_6 c, nI_1, ar_c (f := ch) (by omega), nI_clamp (n := 6 * c + 2 + 1) (by omega), ar_wb (ok.2.2 _), ← eH1]
  refine ⟨vp_in_nI (by omega) (by decide), vp_in_nI (by omega) (by decide), nm_e ⟨3, ?_⟩⟩
  refine wx_mg83s (k := 0) bR1 bH1 hc1 hd1 (by decide) hcd ?_
  rw [show ar_u R1 (5 * c + 2 + 1 + 0) (R1 (5 * d + 0)) = R2 from eR2.symm, show ar_u H1 (6 * c + 2 + 2 + 0) (H1 (6 * d + 0 + 1)) = H2 from eH2.symm]
  refine wx_mg83s (k := 1) bR2 bH2 hc1 hd1 (by decide) hcd ?_
  rw [← eR3, ← eH3]
  refine wx_mg83e hc1 hd1 hcc hcd ?_
  rw [← eC1]
  refine wx_narrow ⟨fun j => Nat.le_of_lt_succ (bC1 j), bR3, fun j => Nat.le_of_lt_succ (bH3 j)⟩ hn (by omega) (by omega) ?_
  rw [← eC2, ← eR4, ← eH4]
  refine wx_dropNode hd1 hfn ?_
  rw [← eH5]
  refine wx_refC okF hc1 hz (fun q w hw => ?_) (fun la' l1 t1 => K C2 R4 H5 la' okF xn xc xm (by rw [eH5, ar_us]) l1 t1)
  have k := hk q
  rw [xc] at hw
  simp only [List.mem_cons, List.not_mem_nil, or_false] at hw
  rcases hw with rfl | rfl | rfl | rfl | rfl | rfl
  · exact k (0, c0) (Or.inl (by rw [hc]; simp))
  · exact k (s1, c1) (Or.inl (by rw [hc]; simp))
  · exact k (s2, c2) (Or.inl (by rw [hc]; simp))
  · exact k (0, d0) (Or.inr (by rw [hd]; simp))
  · exact k (t1, d1) (Or.inr (by rw [hd]; simp))
  · exact k (t2, d2) (Or.inr (by rw [hd]; simp))
end WX
end
section
/-! ===== fromLeft, fromRight, merge, seen as trees ===== -/
def de_S (rb rd : Nat → Int32) (h n : Nat) (X : Nat → List (Nat × Nat)) (le : Nat → Nat) (la : Nat → Int32) (F : List Nat) (X1 : Nat → List (Nat × Nat)) (la1 : Nat → Int32) (F1 : List Nat) : Prop :=
  tr_L X1 h n = tr_L X h n ∧ (tr_N X1 h n ++ F1).Perm (tr_N X h n ++ F) ∧ tr_W X1 le h n ∧ (X n).length ≤ (X1 n).length + 1 ∧
  (∀ m, m ∉ tr_N X h n → m ∉ F → X1 m = X m ∧ la1 m = la m) ∧ (∀ m, m ∈ tr_N X1 h n → m ≠ n → tr_C X1 le rb rd la1 m)
def ro_D (X : Nat → List (Nat × Nat)) (h n a b : Nat) (P Q : List (Nat × Nat)) : Prop :=
  a ≠ n ∧ b ≠ n ∧ a ≠ b ∧ (∀ e, e ∈ P ∨ e ∈ Q → ∀ m, m ∈ tr_N X (h + 1) e.2 → m ≠ n ∧ m ≠ a ∧ m ≠ b) ∧ (∀ e, e ∈ X a ∨ e ∈ X b → ∀ m, m ∈ tr_N X h e.2 → m ≠ n ∧ m ≠ a ∧ m ≠ b)
section RT
variable {X X' : Nat → List (Nat × Nat)} {le : Nat → Nat} {rb rd la la' : Nat → Int32} {h n a b c d l g x y y' z e c0 c1 c2 s1 s2 t1 t2 d0 d1 d2 g0 g1 : Nat} {P Q A G : List (Nat × Nat)} {F : List Nat}
theorem ro_dis (hX : X n = P ++ (x, a) :: (y, b) :: Q) (nd : (tr_N X (h + 2) n ++ F).Nodup) : ro_D X h n a b P Q := by
  have hX' : X n = (P ++ [(x, a)]) ++ (y, b) :: Q := by rw [hX, List.append_assoc]; rfl
  obtain ⟨⟨n1, -⟩, n3, n4⟩ := tr_nd1 hX nd
  obtain ⟨⟨m1, -⟩, m3, m4⟩ := tr_nd1 hX' nd
  have ham : (x, a) ∈ X n := by rw [hX]; simp
  have hbm : (y, b) ∈ X n := by rw [hX]; simp
  have k1 := tr_nd2 nd
  have k2 := tr_nd2 (h := h) (n := a) n4
  have k3 := tr_nd2 (h := h) (n := b) m4
  have hab : a ≠ b := fun z => (n3 (y, b) (Or.inr (List.mem_cons_self ..)) b (tr_hd h b)).1 (by rw [← z]; exact tr_hd h a)
  refine ⟨(k1 (x, a) ham a (tr_hd h a)).1, (k1 (y, b) hbm b (tr_hd h b)).1, hab, fun e he m hm => ?_, fun e he m hm => ?_⟩
  · have he' : e ∈ X n := by
      rw [hX]
      rcases he with he | he
      · exact List.mem_append.mpr (Or.inl he)
      · exact List.mem_append.mpr (Or.inr (by simp [he]))
    refine ⟨(k1 e he' m hm).1, fun q => ?_, fun q => ?_⟩
    · rcases he with he | he
      · exact (n3 e (Or.inl he) m hm).1 (by rw [q]; exact tr_hd h a)
      · exact (n3 e (Or.inr (by simp [he])) m hm).1 (by rw [q]; exact tr_hd h a)
    · rcases he with he | he
      · exact (m3 e (Or.inl (by simp [he])) m hm).1 (by rw [q]; exact tr_hd h b)
      · exact (m3 e (Or.inr he) m hm).1 (by rw [q]; exact tr_hd h b)
  · rcases he with he | he
    · refine ⟨(k1 (x, a) ham m (tr_sub he hm)).1, (k2 e he m hm).1, fun q => ?_⟩
      exact (m3 (x, a) (Or.inl (by simp)) m (tr_sub he hm)).1 (by rw [q]; exact tr_hd h b)
    · refine ⟨(k1 (y, b) hbm m (tr_sub he hm)).1, fun q => ?_, (k3 e he m hm).1⟩
      exact (n3 (y, b) (Or.inr (by simp)) m (tr_sub he hm)).1 (by rw [q]; exact tr_hd h a)
theorem ro_gen (hX : X n = P ++ (x, a) :: (y, b) :: Q) (xn : X' n = P ++ (x, a) :: (y', b) :: Q) (D : ro_D X h n a b P Q) (xm : ∀ m, m ≠ n → m ≠ a → m ≠ b → X' m = X m) (w : tr_W X le (h + 2) n)
    (kids : ∀ e', e' ∈ X' a ∨ e' ∈ X' b → ∃ e, (e ∈ X a ∨ e ∈ X b) ∧ e.2 = e'.2)
    (hL : tr_L X' (h + 1) a ++ y' :: tr_L X' (h + 1) b = tr_L X (h + 1) a ++ y :: tr_L X (h + 1) b) (hP : (tr_N X' (h + 1) a ++ tr_N X' (h + 1) b).Perm (tr_N X (h + 1) a ++ tr_N X (h + 1) b))
    (hla : 3 ≤ (X' a).length ∧ (X' a).length ≤ 6) (hlb : 3 ≤ (X' b).length ∧ (X' b).length ≤ 6)
    (C : ∀ m, m ∈ tr_N X (h + 2) n → m ≠ n → tr_C X le rb rd la m) (lm : ∀ m, m ≠ a → m ≠ b → la' m = la m) (ta : tr_C X' le rb rd la' a) (tb : tr_C X' le rb rd la' b) : de_S rb rd (h + 2) n X le la F X' la' F := by
  obtain ⟨d1, d2, d3, d4, d5⟩ := D
  have ham : (x, a) ∈ X n := by rw [hX]; simp
  have hbm : (y, b) ∈ X n := by rw [hX]; simp
  have kP : ∀ e, e ∈ P ∨ e ∈ Q → tr_L X' (h + 1) e.2 = tr_L X (h + 1) e.2 ∧ tr_N X' (h + 1) e.2 = tr_N X (h + 1) e.2 :=
    fun e he => tr_fr (h + 1) e.2 (fun m hm => xm m (d4 e he m hm).1 (d4 e he m hm).2.1 (d4 e he m hm).2.2)
  have gP : P.flatMap (tr_g X' (h + 1)) = P.flatMap (tr_g X (h + 1)) := fm_c (fun e he => by unfold tr_g; rw [(kP e (Or.inl he)).1])
  have gQ : Q.flatMap (tr_g X' (h + 1)) = Q.flatMap (tr_g X (h + 1)) := fm_c (fun e he => by unfold tr_g; rw [(kP e (Or.inr he)).1])
  have nP : P.flatMap (tr_n X' (h + 1)) = P.flatMap (tr_n X (h + 1)) := fm_c (fun e he => (kP e (Or.inl he)).2)
  have nQ : Q.flatMap (tr_n X' (h + 1)) = Q.flatMap (tr_n X (h + 1)) := fm_c (fun e he => (kP e (Or.inr he)).2)
  have mPQ : ∀ e, e ∈ P ∨ e ∈ Q → e ∈ X n := fun e he => by
    rw [hX]
    rcases he with he | he
    · exact List.mem_append.mpr (Or.inl he)
    · exact List.mem_append.mpr (Or.inr (by simp [he]))
  -- the children of a and b
  have wk : ∀ e, e ∈ X a ∨ e ∈ X b → (0 < h → 3 ≤ (X e.2).length) ∧ tr_W X le h e.2 := fun e he => by
    rcases he with he | he
    · exact (w.2.2 (x, a) ham).2.2.2 e he
    · exact (w.2.2 (y, b) hbm).2.2.2 e he
  have wk' : ∀ e', e' ∈ X' a ∨ e' ∈ X' b → (0 < h → 3 ≤ (X' e'.2).length) ∧ tr_W X' le h e'.2 := fun e' he' => by
    obtain ⟨e, he, q⟩ := kids e' he'
    rw [← q]
    have g := fun m hm => d5 e he m hm
    refine ⟨fun hh => ?_, tr_frW h e.2 (fun m hm => ⟨xm m (g m hm).1 (g m hm).2.1 (g m hm).2.2, rfl⟩) (wk e he).2⟩
    have q := g e.2 (tr_hd1 hh e.2)
    rw [xm e.2 q.1 q.2.1 q.2.2]
    exact (wk e he).1 hh
  have wa := (w.2.2 (x, a) ham).2
  have wb := (w.2.2 (y, b) hbm).2
  refine ⟨?_, ?_, ?_, by rw [xn, hX]; simp, fun m h1 h2 => ?_, fun m hm hmn => ?_⟩
  · rw [tr_Ld hX, tr_Ld xn, List.flatMap_cons, List.flatMap_cons, gQ]
    unfold tr_p
    rw [gP]
    refine congrArg _ ?_
    show tr_L X' (h + 1) a ++ ((y' :: tr_L X' (h + 1) b) ++ Q.flatMap (tr_g X (h + 1))) = tr_L X (h + 1) a ++ ((y :: tr_L X (h + 1) b) ++ Q.flatMap (tr_g X (h + 1)))
    rw [← List.append_assoc, hL, List.append_assoc]
  · refine List.Perm.append_right F ?_
    rw [tr_Nd hX, tr_Nd xn, List.flatMap_cons, List.flatMap_cons, nP, nQ]
    refine List.Perm.append_left _ ?_
    show (tr_N X' (h + 1) a ++ (tr_N X' (h + 1) b ++ Q.flatMap (tr_n X (h + 1)))).Perm (tr_N X (h + 1) a ++ (tr_N X (h + 1) b ++ Q.flatMap (tr_n X (h + 1))))
    rw [← List.append_assoc, ← List.append_assoc]
    exact List.Perm.append_right _ hP
  · refine ⟨w.1, by rw [xn]; have := w.2.1; rw [hX] at this; simp at this ⊢; omega, fun e he => ?_⟩
    rw [xn] at he
    have old : e ∈ P ∨ e ∈ Q → (0 < h + 1 → 3 ≤ (X' e.2).length) ∧ tr_W X' le (h + 1) e.2 := fun he => by
      obtain ⟨z1, z2⟩ := w.2.2 e (mPQ e he)
      have g := fun m hm => d4 e he m hm
      refine ⟨fun hh => ?_, tr_frW (h + 1) e.2 (fun m hm => ⟨xm m (g m hm).1 (g m hm).2.1 (g m hm).2.2, rfl⟩) z2⟩
      have q := g e.2 (tr_hd h e.2)
      rw [xm e.2 q.1 q.2.1 q.2.2]
      exact z1 hh
    rcases List.mem_append.mp he with he | he
    · exact old (Or.inl he)
    · rcases List.mem_cons.mp he with rfl | he
      · exact ⟨fun _ => hla.1, wa.1, hla.2, fun e' he' => wk' e' (Or.inl he')⟩
      · rcases List.mem_cons.mp he with rfl | he
        · exact ⟨fun _ => hlb.1, wb.1, hlb.2, fun e' he' => wk' e' (Or.inr he')⟩
        · exact old (Or.inr he)
  · have mn : m ≠ n := fun z => h1 (by rw [z]; exact tr_hd _ n)
    have ma : m ≠ a := fun z => h1 (by rw [z]; exact tr_sub ham (tr_hd _ a))
    have mb : m ≠ b := fun z => h1 (by rw [z]; exact tr_sub hbm (tr_hd _ b))
    exact ⟨xm m mn ma mb, lm m ma mb⟩
  · have inn : ∀ e', e' ∈ X' a ∨ e' ∈ X' b → m ∈ tr_N X' h e'.2 → tr_C X' le rb rd la' m := fun e' he' hm => by
      obtain ⟨e, he, q⟩ := kids e' he'
      rw [← q] at hm
      have g := fun m hm => d5 e he m hm
      rw [(tr_fr (X' := X') h e.2 (fun m hm => xm m (g m hm).1 (g m hm).2.1 (g m hm).2.2)).2] at hm
      refine tr_Cfr (wk e he).2 (fun m hm => ⟨xm m (g m hm).1 (g m hm).2.1 (g m hm).2.2, rfl, lm m (g m hm).2.1 (g m hm).2.2⟩) (fun m hm => C m ?_ (g m hm).1) m hm
      rcases he with he | he
      · exact tr_sub ham (tr_sub he hm)
      · exact tr_sub hbm (tr_sub he hm)
    have old : ∀ e, e ∈ P ∨ e ∈ Q → m ∈ tr_N X' (h + 1) e.2 → tr_C X' le rb rd la' m := fun e he hm => by
      have g := fun m hm => d4 e he m hm
      rw [(tr_fr (X' := X') (h + 1) e.2 (fun m hm => xm m (g m hm).1 (g m hm).2.1 (g m hm).2.2)).2] at hm
      exact tr_Cfr (w.2.2 e (mPQ e he)).2 (fun m hm => ⟨xm m (g m hm).1 (g m hm).2.1 (g m hm).2.2, rfl, lm m (g m hm).2.1 (g m hm).2.2⟩) (fun m hm => C m (tr_sub (mPQ e he) hm) (g m hm).1) m hm
    rcases tr_mem hm with z | ⟨e, he, hm⟩
    · exact absurd z hmn
    · rw [xn] at he
      rcases List.mem_append.mp he with he | he
      · exact old e (Or.inl he) hm
      · rcases List.mem_cons.mp he with rfl | he
        · rcases tr_mem hm with z | ⟨e', he', hm⟩
          · rw [z]; exact ta
          · exact inn e' (Or.inl he') hm
        · rcases List.mem_cons.mp he with rfl | he
          · rcases tr_mem hm with z | ⟨e', he', hm⟩
            · rw [z]; exact tb
            · exact inn e' (Or.inr he') hm
          · exact old e (Or.inr he) hm
/-- the children's trees stay -/
theorem ro_kid (D : ro_D X h n a b P Q) (xm : ∀ m, m ≠ n → m ≠ a → m ≠ b → X' m = X m) : ∀ e, e ∈ X a ∨ e ∈ X b → tr_L X' h e.2 = tr_L X h e.2 ∧ tr_N X' h e.2 = tr_N X h e.2 :=
  fun e he => tr_fr h e.2 (fun m hm => xm m (D.2.2.2.2 e he m hm).1 (D.2.2.2.2 e he m hm).2.1 (D.2.2.2.2 e he m hm).2.2)
theorem fl_tree (hX : X n = P ++ (x, l) :: (y, c) :: Q) (hc : X c = [(0, c0), (s1, c1), (s2, c2)]) (hl : X l = A ++ [(z, e)]) (hA : 3 ≤ A.length) (D : ro_D X h n l c P Q)
    (xn : X' n = P ++ (x, l) :: (z, c) :: Q) (xl : X' l = A) (xc : X' c = [(0, e), (y, c0), (s1, c1), (s2, c2)]) (xm : ∀ m, m ≠ n → m ≠ l → m ≠ c → X' m = X m) (w : tr_W X le (h + 2) n)
    (C : ∀ m, m ∈ tr_N X (h + 2) n → m ≠ n → tr_C X le rb rd la m) (lm : ∀ m, m ≠ l → m ≠ c → la' m = la m) (tl : tr_C X' le rb rd la' l) (tc : tr_C X' le rb rd la' c) :
    de_S rb rd (h + 2) n X le la F X' la' F ∧ (∀ t, t ∈ tr_L X (h + 1) c → t ∈ tr_L X' (h + 1) c) := by
  have hk := ro_kid D xm
  have hlm : (x, l) ∈ X n := by rw [hX]; simp
  have hl6 : (X l).length ≤ 6 := (w.2.2 (x, l) hlm).2.2.1
  rw [hl] at hl6
  simp at hl6
  have ke := hk (z, e) (Or.inl (by rw [hl]; simp))
  have k0 := hk (0, c0) (Or.inr (by rw [hc]; simp))
  have k1 := hk (s1, c1) (Or.inr (by rw [hc]; simp))
  have k2 := hk (s2, c2) (Or.inr (by rw [hc]; simp))
  have kA : ∀ e', e' ∈ A → tr_L X' h e'.2 = tr_L X h e'.2 ∧ tr_N X' h e'.2 = tr_N X h e'.2 := fun e' he' => hk e' (Or.inl (by rw [hl]; exact List.mem_append.mpr (Or.inl he')))
  dsimp only at ke k0 k1 k2
  have gA : A.flatMap (tr_g X' h) = A.flatMap (tr_g X h) := fm_c (fun e he => by unfold tr_g; rw [(kA e he).1])
  have nA : A.flatMap (tr_n X' h) = A.flatMap (tr_n X h) := fm_c (fun e he => (kA e he).2)
  have neA : A.flatMap (tr_g X h) ≠ [] := by
    cases A with
    | nil => simp at hA
    | cons a A => rw [List.flatMap_cons]; unfold tr_g; simp
  have L1 : tr_L X (h + 1) l = tr_L X' (h + 1) l ++ z :: tr_L X h e := by
    rw [tr_Ls, hl, tr_Ls, xl, List.flatMap_append, gA, List.tail_append_of_ne_nil neA]
    simp [tr_g]
  have L2 : tr_L X' (h + 1) c = tr_L X h e ++ y :: tr_L X (h + 1) c := by
    rw [tr_Ls, tr_Ls, hc, xc]
    simp only [List.flatMap_cons, List.flatMap_nil, tr_g, ke.1, k0.1, k1.1, k2.1]
    simp
  refine ⟨ro_gen hX xn D xm w ?_ ?_ ?_ ?_ ?_ C lm tl tc, fun t ht => by rw [L2]; simp [ht]⟩
  · intro e' he'
    rw [xl, xc] at he'
    rcases he' with he' | he'
    · exact ⟨e', Or.inl (by rw [hl]; exact List.mem_append.mpr (Or.inl he')), rfl⟩
    · simp only [List.mem_cons, List.not_mem_nil, or_false] at he'
      rcases he' with rfl | rfl | rfl | rfl
      · exact ⟨(z, e), Or.inl (by rw [hl]; simp), rfl⟩
      · exact ⟨(0, c0), Or.inr (by rw [hc]; simp), rfl⟩
      · exact ⟨(s1, c1), Or.inr (by rw [hc]; simp), rfl⟩
      · exact ⟨(s2, c2), Or.inr (by rw [hc]; simp), rfl⟩
  · rw [L1, L2]; simp
  · have N1 : tr_N X (h + 1) l = tr_N X' (h + 1) l ++ tr_N X h e := by
      rw [tr_Ns, hl, tr_Ns, xl, List.flatMap_append, nA]
      simp [tr_n]
    have N2 : tr_N X' (h + 1) c = c :: (tr_N X h e ++ (tr_N X h c0 ++ (tr_N X h c1 ++ tr_N X h c2))) := by
      rw [tr_Ns, xc]; simp [tr_n, ke.2, k0.2, k1.2, k2.2]
    have N3 : tr_N X (h + 1) c = c :: (tr_N X h c0 ++ (tr_N X h c1 ++ tr_N X h c2)) := by
      rw [tr_Ns, hc]; simp [tr_n]
    rw [N1, N2, N3, List.append_assoc]
    refine List.Perm.append_left _ ?_
    exact (List.perm_middle (l₁ := tr_N X h e) (a := c)).symm
  · rw [xl]; omega
  · rw [xc]; simp
theorem fr_tree (hX : X n = P ++ (x, c) :: (y, g) :: Q) (hc : X c = [(0, c0), (s1, c1), (s2, c2)]) (hg : X g = (0, g0) :: (t1, g1) :: G) (hG : 2 ≤ G.length) (D : ro_D X h n c g P Q)
    (xn : X' n = P ++ (x, c) :: (t1, g) :: Q) (xc : X' c = [(0, c0), (s1, c1), (s2, c2), (y, g0)]) (xg : X' g = (0, g1) :: G) (xm : ∀ m, m ≠ n → m ≠ c → m ≠ g → X' m = X m) (w : tr_W X le (h + 2) n)
    (C : ∀ m, m ∈ tr_N X (h + 2) n → m ≠ n → tr_C X le rb rd la m) (lm : ∀ m, m ≠ c → m ≠ g → la' m = la m) (tc : tr_C X' le rb rd la' c) (tg : tr_C X' le rb rd la' g) :
    de_S rb rd (h + 2) n X le la F X' la' F ∧ (∀ t, t ∈ tr_L X (h + 1) c → t ∈ tr_L X' (h + 1) c) := by
  have hk := ro_kid D xm
  have hgm : (y, g) ∈ X n := by rw [hX]; simp
  have hg6 : (X g).length ≤ 6 := (w.2.2 (y, g) hgm).2.2.1
  rw [hg] at hg6
  simp at hg6
  have e0 := hk (0, g0) (Or.inr (by rw [hg]; simp))
  have e1 := hk (t1, g1) (Or.inr (by rw [hg]; simp))
  have k0 := hk (0, c0) (Or.inl (by rw [hc]; simp))
  have k1 := hk (s1, c1) (Or.inl (by rw [hc]; simp))
  have k2 := hk (s2, c2) (Or.inl (by rw [hc]; simp))
  have kG : ∀ e', e' ∈ G → tr_L X' h e'.2 = tr_L X h e'.2 ∧ tr_N X' h e'.2 = tr_N X h e'.2 := fun e' he' => hk e' (Or.inr (by rw [hg]; simp [he']))
  dsimp only at e0 e1 k0 k1 k2
  have gG : G.flatMap (tr_g X' h) = G.flatMap (tr_g X h) := fm_c (fun e he => by unfold tr_g; rw [(kG e he).1])
  have nG : G.flatMap (tr_n X' h) = G.flatMap (tr_n X h) := fm_c (fun e he => (kG e he).2)
  have L1 : tr_L X (h + 1) g = tr_L X h g0 ++ t1 :: tr_L X' (h + 1) g := by
    rw [tr_Ls, hg, tr_Ls, xg, List.flatMap_cons, List.flatMap_cons, List.flatMap_cons, gG]
    simp [tr_g, e1.1]
  have L2 : tr_L X' (h + 1) c = tr_L X (h + 1) c ++ y :: tr_L X h g0 := by
    rw [tr_Ls, tr_Ls, hc, xc]
    simp only [List.flatMap_cons, List.flatMap_nil, tr_g, e0.1, k0.1, k1.1, k2.1]
    simp
  refine ⟨ro_gen hX xn D xm w ?_ ?_ ?_ ?_ ?_ C lm tc tg, fun t ht => by rw [L2]; simp [ht]⟩
  · intro e' he'
    rw [xc, xg] at he'
    rcases he' with he' | he'
    · simp only [List.mem_cons, List.not_mem_nil, or_false] at he'
      rcases he' with rfl | rfl | rfl | rfl
      · exact ⟨(0, c0), Or.inl (by rw [hc]; simp), rfl⟩
      · exact ⟨(s1, c1), Or.inl (by rw [hc]; simp), rfl⟩
      · exact ⟨(s2, c2), Or.inl (by rw [hc]; simp), rfl⟩
      · exact ⟨(0, g0), Or.inr (by rw [hg]; simp), rfl⟩
    · rcases List.mem_cons.mp he' with rfl | he'
      · exact ⟨(t1, g1), Or.inr (by rw [hg]; simp), rfl⟩
      · exact ⟨e', Or.inr (by rw [hg]; simp [he']), rfl⟩
  · rw [L1, L2]; simp
  · have N1 : tr_N X (h + 1) g = g :: (tr_N X h g0 ++ (tr_N X h g1 ++ G.flatMap (tr_n X h))) := by
      rw [tr_Ns, hg, List.flatMap_cons, List.flatMap_cons]
      simp [tr_n]
    have N1' : tr_N X' (h + 1) g = g :: (tr_N X h g1 ++ G.flatMap (tr_n X h)) := by
      rw [tr_Ns, xg, List.flatMap_cons, nG]
      simp [tr_n, e1.2]
    have N2 : tr_N X' (h + 1) c = tr_N X (h + 1) c ++ tr_N X h g0 := by
      rw [tr_Ns, tr_Ns, hc, xc]; simp [tr_n, e0.2, k0.2, k1.2, k2.2]
    rw [N1, N1', N2, List.append_assoc]
    refine List.Perm.append_left _ ?_
    exact List.perm_middle
  · rw [xc]; simp
  · rw [xg, List.length_cons]; omega
theorem mg_tree (hX : X n = P ++ (x, c) :: (y, d) :: Q) (hc : X c = [(0, c0), (s1, c1), (s2, c2)]) (hd : X d = [(0, d0), (t1, d1), (t2, d2)]) (D : ro_D X h n c d P Q)
    (xn : X' n = P ++ (x, c) :: Q) (xc : X' c = [(0, c0), (s1, c1), (s2, c2), (y, d0), (t1, d1), (t2, d2)]) (xm : ∀ m, m ≠ n → m ≠ c → m ≠ d → X' m = X m) (w : tr_W X le (h + 2) n)
    (C : ∀ m, m ∈ tr_N X (h + 2) n → m ≠ n → tr_C X le rb rd la m) (lm : ∀ m, m ≠ c → la' m = la m) (tc : tr_C X' le rb rd la' c) :
    de_S rb rd (h + 2) n X le la F X' la' (d :: F) ∧ (∀ t, t ∈ tr_L X (h + 1) c ∨ t = y ∨ t ∈ tr_L X (h + 1) d → t ∈ tr_L X' (h + 1) c) := by
  have hk := ro_kid D xm
  obtain ⟨D1, D2, D3, D4, D5⟩ := D
  have hcm : (x, c) ∈ X n := by rw [hX]; simp
  have hdm : (y, d) ∈ X n := by rw [hX]; simp
  have mPQ : ∀ e, e ∈ P ∨ e ∈ Q → e ∈ X n := fun e he => by
    rw [hX]
    rcases he with he | he
    · exact List.mem_append.mpr (Or.inl he)
    · exact List.mem_append.mpr (Or.inr (by simp [he]))
  have hk2 : ∀ e, e ∈ P ∨ e ∈ Q → tr_N X' (h + 1) e.2 = tr_N X (h + 1) e.2 := fun e he => (tr_fr (X' := X') (h + 1) e.2 (fun m hm => xm m (D4 e he m hm).1 (D4 e he m hm).2.1 (D4 e he m hm).2.2)).2
  have kids : ∀ e', e' ∈ X' c → ∃ e, (e ∈ X c ∨ e ∈ X d) ∧ e.2 = e'.2 := by
    intro e' he'
    rw [xc] at he'
    simp only [List.mem_cons, List.not_mem_nil, or_false] at he'
    rcases he' with rfl | rfl | rfl | rfl | rfl | rfl
    · exact ⟨(0, c0), Or.inl (by rw [hc]; simp), rfl⟩
    · exact ⟨(s1, c1), Or.inl (by rw [hc]; simp), rfl⟩
    · exact ⟨(s2, c2), Or.inl (by rw [hc]; simp), rfl⟩
    · exact ⟨(0, d0), Or.inr (by rw [hd]; simp), rfl⟩
    · exact ⟨(t1, d1), Or.inr (by rw [hd]; simp), rfl⟩
    · exact ⟨(t2, d2), Or.inr (by rw [hd]; simp), rfl⟩
  have wk : ∀ e, e ∈ X c ∨ e ∈ X d → (0 < h → 3 ≤ (X e.2).length) ∧ tr_W X le h e.2 := fun e he => by
    rcases he with he | he
    · exact (w.2.2 (x, c) hcm).2.2.2 e he
    · exact (w.2.2 (y, d) hdm).2.2.2 e he
  have w' : tr_W X' le (h + 2) n := by
    refine ⟨w.1, by rw [xn]; have := w.2.1; rw [hX] at this; simp at this ⊢; omega, fun e he => ?_⟩
    rw [xn] at he
    have old : e ∈ P ∨ e ∈ Q → (0 < h + 1 → 3 ≤ (X' e.2).length) ∧ tr_W X' le (h + 1) e.2 := fun he => by
      obtain ⟨z1, z2⟩ := w.2.2 e (mPQ e he)
      have g := fun m hm => D4 e he m hm
      refine ⟨fun hh => ?_, tr_frW (h + 1) e.2 (fun m hm => ⟨xm m (g m hm).1 (g m hm).2.1 (g m hm).2.2, rfl⟩) z2⟩
      have q := g e.2 (tr_hd h e.2)
      rw [xm e.2 q.1 q.2.1 q.2.2]
      exact z1 hh
    rcases List.mem_append.mp he with he | he
    · exact old (Or.inl he)
    · rcases List.mem_cons.mp he with rfl | he
      · refine ⟨fun _ => by rw [xc]; simp, (w.2.2 (x, c) hcm).2.1, by rw [xc]; simp, fun e' he' => ?_⟩
        obtain ⟨e, he, q⟩ := kids e' he'
        rw [← q]
        have g := fun m hm => D5 e he m hm
        refine ⟨fun hh => ?_, tr_frW h e.2 (fun m hm => ⟨xm m (g m hm).1 (g m hm).2.1 (g m hm).2.2, rfl⟩) (wk e he).2⟩
        have q := g e.2 (tr_hd1 hh e.2)
        rw [xm e.2 q.1 q.2.1 q.2.2]
        exact (wk e he).1 hh
      · exact old (Or.inr he)
  have DS : sp_D X' h n c d P Q := by
    refine ⟨D1, D2, fun z => D3 z.symm, fun e he m hm => ?_, fun e' he' m hm => ?_⟩
    · rw [hk2 e he] at hm
      exact D4 e he m hm
    · obtain ⟨e, he, q⟩ := kids e' he'
      rw [← q, (hk e he).2] at hm
      exact D5 e he m hm
  obtain ⟨S1, S2, -⟩ := sp_tree (le := le) xn xc DS hX hc hd (fun m h1 h2 h3 => (xm m h1 h2 h3).symm) (by have := w.2.1; rw [hX] at this; rw [xn]; simp at this ⊢; omega) w'
  have e0 := hk (0, d0) (Or.inr (by rw [hd]; simp))
  have e1 := hk (t1, d1) (Or.inr (by rw [hd]; simp))
  have e2 := hk (t2, d2) (Or.inr (by rw [hd]; simp))
  have k0 := hk (0, c0) (Or.inl (by rw [hc]; simp))
  have k1 := hk (s1, c1) (Or.inl (by rw [hc]; simp))
  have k2 := hk (s2, c2) (Or.inl (by rw [hc]; simp))
  dsimp only at e0 e1 e2 k0 k1 k2
  have L2 : tr_L X' (h + 1) c = tr_L X (h + 1) c ++ y :: tr_L X (h + 1) d := by
    rw [tr_Ls, tr_Ls, tr_Ls, hc, hd, xc]
    simp only [List.flatMap_cons, List.flatMap_nil, tr_g, e0.1, e1.1, e2.1, k0.1, k1.1, k2.1]
    simp
  refine ⟨⟨S1.symm, ?_, w', by rw [xn, hX]; simp; omega, fun m h1 h2 => ?_, fun m hm hmn => ?_⟩, fun t ht => ?_⟩
  · exact (List.perm_middle.trans (List.Perm.append_right F S2.symm))
  · have mn : m ≠ n := fun z => h1 (by rw [z]; exact tr_hd _ n)
    have mc : m ≠ c := fun z => h1 (by rw [z]; exact tr_sub hcm (tr_hd _ c))
    have md : m ≠ d := fun z => h1 (by rw [z]; exact tr_sub hdm (tr_hd _ d))
    exact ⟨xm m mn mc md, lm m mc⟩
  · have old : ∀ e, e ∈ P ∨ e ∈ Q → m ∈ tr_N X' (h + 1) e.2 → tr_C X' le rb rd la' m := fun e he hm => by
      have g := fun m hm => D4 e he m hm
      rw [hk2 e he] at hm
      exact tr_Cfr (w.2.2 e (mPQ e he)).2 (fun m hm => ⟨xm m (g m hm).1 (g m hm).2.1 (g m hm).2.2, rfl, lm m (g m hm).2.1⟩) (fun m hm => C m (tr_sub (mPQ e he) hm) (g m hm).1) m hm
    rcases tr_mem hm with z | ⟨e, he, hm⟩
    · exact absurd z hmn
    · rw [xn] at he
      rcases List.mem_append.mp he with he | he
      · exact old e (Or.inl he) hm
      · rcases List.mem_cons.mp he with rfl | he
        · rcases tr_mem hm with z | ⟨e', he', hm⟩
          · rw [z]; exact tc
          · obtain ⟨e, he, q⟩ := kids e' he'
            rw [← q, (hk e he).2] at hm
            have g := fun m hm => D5 e he m hm
            refine tr_Cfr (wk e he).2 (fun m hm => ⟨xm m (g m hm).1 (g m hm).2.1 (g m hm).2.2, rfl, lm m (g m hm).2.1⟩) (fun m hm => C m ?_ (g m hm).1) m hm
            rcases he with he | he
            · exact tr_sub hcm (tr_sub he hm)
            · exact tr_sub hdm (tr_sub he hm)
        · exact old e (Or.inr he) hm
  · rw [L2]
    rcases ht with z | z | z <;> simp [z]
end RT
end
section
/-! ===== enrich, greatest, least ===== -/
theorem nd_3l {co re ch : Nat → Nat} {c : Nat} (hc : co c = 2) : ∃ a0 r1 a1 r2 a2, nd_X co re ch c = [(0, a0), (r1, a1), (r2, a2)] := by
  unfold nd_X
  rw [hc]
  exact ⟨_, _, _, _, _, rfl⟩
theorem nd_2l {co re ch : Nat → Nat} {c : Nat} (hc : 1 ≤ co c) : ∃ a0 r1 a1 G, nd_X co re ch c = (0, a0) :: (r1, a1) :: G := by
  obtain ⟨Q, e⟩ := nd_hd (co := co) (re := re) (ch := ch) (n := c)
  have hl := nd_len co re ch c
  rw [e, List.length_cons] at hl
  cases Q with
  | nil => simp at hl; omega
  | cons q Q => exact ⟨_, q.1, q.2, Q, e⟩
theorem nd_zl {co re ch : Nat → Nat} {c : Nat} : ∃ A z e, nd_X co re ch c = A ++ [(z, e)] := by
  obtain ⟨Q, e⟩ := nd_hd (co := co) (re := re) (ch := ch) (n := c)
  rcases List.eq_nil_or_concat (nd_X co re ch c) with z | ⟨A, b, z⟩
  · rw [z] at e; cases e
  · exact ⟨A, b.1, b.2, by rw [z, List.concat_eq_append]⟩
theorem de_refl {rb rd la : Nat → Int32} {X : Nat → List (Nat × Nat)} {le : Nat → Nat} {h n : Nat} {F : List Nat} (w : tr_W X le h n) (C : ∀ m, m ∈ tr_N X h n → m ≠ n → tr_C X le rb rd la m) : de_S rb rd h n X le la F X la F :=
  ⟨rfl, List.Perm.refl _, w, Nat.le_succ _, fun _ _ _ => ⟨rfl, rfl⟩, C⟩
section WX
variable {f_freeRecord f_done f_changes f_undo f_volume f_snaps f_syncing f_synced f_goal f_cObj f_cKey f_cBorn f_begun f_fObj f_fKey f_fValue f_fBorn : Int32} {fn : Nat} {co le re ch : Nat → Nat} {ro rk rb rd rv rw la rt sz pa sp ur ud uv ua sn : Nat → Int32}
variable {n i c x h : Nat} {P B : List (Nat × Nat)} {F : List Nat} {post : Int32 → SX → Prop}
theorem wx_enrich (ok : nd_ok co re ch) (hX : nd_X co re ch n = P ++ (x, c) :: B) (w : tr_W (nd_X co re ch) le (h + 2) n) (h2 : 2 ≤ (nd_X co re ch n).length) (hnd : (tr_N (nd_X co re ch) (h + 2) n ++ F).Nodup) (hN : ∀ m, m ∈ tr_N (nd_X co re ch) (h + 2) n ++ F → m < 110)
    (hfl : fl_N ch fn F) (hfn : fn ≤ 110) (C : ∀ m, m ∈ tr_N (nd_X co re ch) (h + 2) n → m ≠ n → tr_C (nd_X co re ch) le rb rd la m)
    (K : ∀ (co1 re1 ch1 : Nat → Nat) (la1 : Nat → Int32) (fn1 : Nat) (F1 : List Nat) (P1 : List (Nat × Nat)) (x1 c1 : Nat) (Q1 : List (Nat × Nat)), nd_ok co1 re1 ch1 → fl_N ch1 fn1 F1 → fn1 ≤ 110 → de_S rb rd (h + 2) n (nd_X co re ch) le la F (nd_X co1 re1 ch1) la1 F1 →
      nd_X co1 re1 ch1 n = P1 ++ (x1, c1) :: Q1 → 4 ≤ (nd_X co1 re1 ch1 c1).length → (∀ t, t ∈ tr_L (nd_X co re ch) (h + 1) c → t ∈ tr_L (nd_X co1 re1 ch1) (h + 1) c1) → post (nI P1.length) ((nI fn1), f_freeRecord, f_done, f_changes, f_undo, f_volume, f_snaps, f_syncing, f_synced, f_goal, f_cObj, f_cKey, f_cBorn, f_begun, f_fObj, f_fKey, f_fValue, f_fBorn, ro, rk, rb, rd, rv, rw, (ar_n co1), (ar_n le), (ar_n re1), (ar_n ch1), la1, rt, sz, pa, sp, ur, ud, uv, ua, sn)) :
    wpX_enrich post ((nI fn), f_freeRecord, f_done, f_changes, f_undo, f_volume, f_snaps, f_syncing, f_synced, f_goal, f_cObj, f_cKey, f_cBorn, f_begun, f_fObj, f_fKey, f_fValue, f_fBorn, ro, rk, rb, rd, rv, rw, (ar_n co), (ar_n le), (ar_n re), (ar_n ch), la, rt, sz, pa, sp, ur, ud, uv, ua, sn) (nI n) (nI P.length) := by
  have hn : n < 110 := hN n (List.mem_append.mpr (Or.inl (tr_hd _ n)))
  have hcm : (x, c) ∈ nd_X co re ch n := by rw [hX]; simp
  have hsub : ∀ e, e ∈ nd_X co re ch n → ∀ m, m ∈ tr_N (nd_X co re ch) (h + 1) e.2 → m < 110 := fun e he m hm => hN m (List.mem_append.mpr (Or.inl (tr_sub he hm)))
  have hc1 : c < 110 := hsub _ hcm c (tr_hd _ c)
  have hl := nd_co hX
  rw [List.length_cons] at hl
  have h5 := ok.1 n
  have hlc := nd_len co re ch c
  have h5c := ok.1 c
  have wc := w.2.2 (x, c) hcm
  have h3c : 3 ≤ (nd_X co re ch c).length := wc.1 (by omega)
  have vn : vp_in (nI n) 110 := vp_in_nI hn (by decide)
  have vc : vp_in (nI c) 110 := vp_in_nI hc1 (by decide)
  have v6 : vp_in (nI (6 * n + P.length)) 660 := vp_in_nI (by omega) (by decide)
  have hlen2 : (P ++ (x, c) :: B).length = co n + 1 := by rw [← hX, nd_len]
  -- what refresh asks of the children's children
  have kid : ∀ a, (∃ y, (y, a) ∈ nd_X co re ch n) → le a = 0 → ∀ e, e ∈ nd_X co re ch a → e.2 < 110 ∧ e.2 ∈ tr_N (nd_X co re ch) h e.2 := fun a ha z e he => by
    obtain ⟨y, hy⟩ := ha
    have hh := (tr_zc (w.2.2 (y, a) hy).2.1).2 z
    exact ⟨hsub _ hy _ (tr_sub he (tr_hd1 hh e.2)), tr_hd1 hh e.2⟩
  have zor : ∀ a, (∃ y, (y, a) ∈ nd_X co re ch n) → le a = 0 ∨ le a = 1 := fun a ha => by
    obtain ⟨y, hy⟩ := ha
    rw [(w.2.2 (y, a) hy).2.1]
    unfold tr_z
    split <;> simp
  -- merge of two neighbours
  have mrg : ∀ P2 x2 a y2 b Q2, nd_X co re ch n = P2 ++ (x2, a) :: (y2, b) :: Q2 → co a = 2 → co b = 2 → (c = a ∨ c = b) → wpX_merge (fun u => post (nI P2.length) u) ((nI fn), f_freeRecord, f_done, f_changes, f_undo, f_volume, f_snaps, f_syncing, f_synced, f_goal, f_cObj, f_cKey, f_cBorn, f_begun, f_fObj, f_fKey, f_fValue, f_fBorn, ro, rk, rb, rd, rv, rw, (ar_n co), (ar_n le), (ar_n re), (ar_n ch), la, rt, sz, pa, sp, ur, ud, uv, ua, sn) (nI n) (nI P2.length) := by
    intro P2 x2 a y2 b Q2 e2 ha hb hab
    have D := ro_dis e2 hnd
    obtain ⟨D1, D2, D3, D4, D5⟩ := id D
    have ham : (x2, a) ∈ nd_X co re ch n := by rw [e2]; simp
    have hbm : (y2, b) ∈ nd_X co re ch n := by rw [e2]; simp
    obtain ⟨c0, s1, c1, s2, c2, hca⟩ := nd_3l (re := re) (ch := ch) ha
    obtain ⟨d0, t1, d1, t2, d2, hdb⟩ := nd_3l (re := re) (ch := ch) hb
    have hleab : le b = le a := (w.2.2 _ hbm).2.1.trans (w.2.2 _ ham).2.1.symm
    refine wx_merge ok e2 rfl hca hdb hn (hsub _ ham a (tr_hd _ a)) (hsub _ hbm b (tr_hd _ b)) D1 D2 (fun z => D3 z.symm) hfn (zor a ⟨_, ham⟩) (fun z e he => ?_) ?_
    · rcases he with he | he
      · obtain ⟨k1, k2⟩ := kid a ⟨_, ham⟩ z e he
        exact ⟨k1, (D5 e (Or.inl he) _ k2).2.1⟩
      · obtain ⟨k1, k2⟩ := kid b ⟨_, hbm⟩ (hleab.trans z) e he
        exact ⟨k1, (D5 e (Or.inr he) _ k2).2.1⟩
    · intro co1 re1 ch1 la1 ok1 xn xc xm cd l1 tc
      obtain ⟨S, S2⟩ := mg_tree (F := F) e2 hca hdb D xn xc xm w C l1 tc
      refine K co1 re1 ch1 la1 b (b :: F) P2 x2 a Q2 ok1 ⟨rfl, ?_⟩ (by have := hsub _ hbm b (tr_hd _ b); omega) S xn (by rw [xc]; simp) (fun t ht => S2 t ?_)
      · rw [cd]
        refine fl_fr (fun m hm => nd_c0 (xm m (fun z => ?_) (fun z => ?_) (fun z => ?_))) hfl
        · exact tr_ndF hnd n (tr_hd _ n) (by rw [← z]; exact hm)
        · exact tr_ndF hnd a (tr_sub ham (tr_hd _ a)) (by rw [← z]; exact hm)
        · exact tr_ndF hnd b (tr_sub hbm (tr_hd _ b)) (by rw [← z]; exact hm)
      · rcases hab with rfl | rfl
        · exact Or.inl ht
        · exact Or.inr (Or.inr ht)
  have fFr : ∀ (co1 re1 ch1 : Nat → Nat) (a b : Nat), (∃ y, (y, a) ∈ nd_X co re ch n) → (∃ y, (y, b) ∈ nd_X co re ch n) → (∀ m, m ≠ n → m ≠ a → m ≠ b → nd_X co1 re1 ch1 m = nd_X co re ch m) → fl_N ch1 fn F := by
    intro co1 re1 ch1 a b ⟨ya, ham⟩ ⟨yb, hbm⟩ xm
    refine fl_fr (fun m hm => nd_c0 (xm m (fun z => ?_) (fun z => ?_) (fun z => ?_))) hfl
    · exact tr_ndF hnd n (tr_hd _ n) (by rw [← z]; exact hm)
    · exact tr_ndF hnd a (tr_sub ham (tr_hd _ a)) (by rw [← z]; exact hm)
    · exact tr_ndF hnd b (tr_sub hbm (tr_hd _ b)) (by rw [← z]; exact hm)
  unfold wpX_enrich
  dsimp only
  rw [ar_6 n, ar_c (f := ch) (n := 6 * n + P.length) (by omega), nd_ch hX, ar_c (f := co) (n := c) (by omega)]
  refine ⟨v6, vc, ?_⟩
  by_cases hcc : co c = 2
  · rw [hcc]
    refine br_t (by decide) ?_
    obtain ⟨c0, s1, c1, s2, c2, hc⟩ := nd_3l (re := re) (ch := ch) hcc
    -- the right side, or merges
    have E98 : (∀ P2 x2 a, P = P2 ++ [(x2, a)] → co a = 2) → (∀ y b Q2, B = (y, b) :: Q2 → co b = 2) → wX_enrich_98 post (nI n) (nI P.length) (nI fn) f_freeRecord f_done f_changes f_undo f_volume f_snaps f_syncing f_synced f_goal f_cObj f_cKey f_cBorn f_begun f_fObj f_fKey f_fValue f_fBorn ro rk rb rd rv rw (ar_n co) (ar_n le) (ar_n re) (ar_n ch) la rt sz pa sp ur ud uv ua sn := by
      intro hleft hright
      unfold wX_enrich_98
      rw [ar_c (f := co) (n := n) (by omega)]
      refine ⟨vn, ?_⟩
      cases B with
      | nil =>
        rw [List.length_nil] at hl
        refine br_t (nI_le (by omega) (by omega)) ?_
        rcases List.eq_nil_or_concat P with z | ⟨P2, b, z⟩
        · subst z
          rw [hX] at h2
          simp at h2
        · obtain ⟨x2, a⟩ := b
          rw [List.concat_eq_append] at z
          subst z
          have t := mrg P2 x2 a x c [] (by rw [hX, List.append_assoc]; rfl) (hleft P2 x2 a rfl) hcc (Or.inr rfl)
          rw [show (P2 ++ [(x2, a)]).length = P2.length + 1 by simp, nI_pred]
          exact t
      | cons e B =>
        obtain ⟨y, b⟩ := e
        rw [List.length_cons] at hl
        exact br_f (nI_ge (by omega) (by omega)) (mrg P x c y b B hX hcc (hright y b B rfl) (Or.inl rfl))
    have E57 : (∀ P2 x2 a, P = P2 ++ [(x2, a)] → co a = 2) → wX_enrich_57 post (nI n) (nI P.length) (nI fn) f_freeRecord f_done f_changes f_undo f_volume f_snaps f_syncing f_synced f_goal f_cObj f_cKey f_cBorn f_begun f_fObj f_fKey f_fValue f_fBorn ro rk rb rd rv rw (ar_n co) (ar_n le) (ar_n re) (ar_n ch) la rt sz pa sp ur ud uv ua sn := by
      intro hleft
      unfold wX_enrich_57
      rw [ar_c (f := co) (n := n) (by omega)]
      refine ⟨vn, ?_⟩
      cases B with
      | nil =>
        rw [List.length_nil] at hl
        exact br_t (nI_le (by omega) (by omega)) (E98 hleft (fun y b Q2 z => by cases z))
      | cons e B =>
        obtain ⟨y, g⟩ := e
        rw [List.length_cons] at hl
        have hX' : nd_X co re ch n = (P ++ [(x, c)]) ++ (y, g) :: B := by rw [hX, List.append_assoc]; rfl
        have hgm : (y, g) ∈ nd_X co re ch n := by rw [hX]; simp
        have hg1 : g < 110 := hsub _ hgm g (tr_hd _ g)
        have hlg := nd_len co re ch g
        have h5g := ok.1 g
        have h3g : 3 ≤ (nd_X co re ch g).length := (w.2.2 (y, g) hgm).1 (by omega)
        have eg : ch (6 * n + P.length + 1) = g := by have := nd_ch hX'; rw [List.length_append] at this; exact this
        rw [ar_6 n, nI_1, ar_c (f := ch) (by omega), eg, ar_c (f := co) (n := g) (by omega)]
        refine br_f (nI_ge (by omega) (by omega)) ⟨vp_in_nI (by omega) (by decide), vp_in_nI hg1 (by decide), ?_⟩
        by_cases hgg : co g = 2
        · rw [hgg]
          exact br_t (by decide) (E98 hleft (fun y' b Q2 z => by cases z; exact hgg))
        · refine br_f (nI_ge (a := 2) (by omega) (by omega)) ?_
          obtain ⟨g0, t1, g2, G, hg⟩ := nd_2l (re := re) (ch := ch) (show 1 ≤ co g by omega)
          have hG : co g + 1 = G.length + 2 := by rw [← hlg, hg]; simp
          have D := ro_dis hX hnd
          obtain ⟨D1, D2, D3, D4, D5⟩ := id D
          have hleg : le g = le c := (w.2.2 _ hgm).2.1.trans wc.2.1.symm
          refine wx_fromRight ok hX rfl hc hg hn hc1 hg1 D1 D2 (fun z => D3 z.symm) (zor c ⟨_, hcm⟩) hleg (fun z e he => ?_) ?_
          · rcases he with he | he
            · obtain ⟨k1, k2⟩ := kid g ⟨_, hgm⟩ (hleg.trans z) e he
              exact ⟨k1, (D5 e (Or.inr he) _ k2).2.1, (D5 e (Or.inr he) _ k2).2.2⟩
            · obtain ⟨k1, k2⟩ := kid c ⟨_, hcm⟩ z e he
              exact ⟨k1, (D5 e (Or.inl he) _ k2).2.1, (D5 e (Or.inl he) _ k2).2.2⟩
          · intro co1 re1 ch1 la1 ok1 xn xc xg xm l1 tc tg
            obtain ⟨S, S2⟩ := fr_tree (F := F) hX hc hg (by omega) D xn xc xg xm w C l1 tc tg
            exact K co1 re1 ch1 la1 fn F P x c _ ok1 (fFr co1 re1 ch1 c g ⟨_, hcm⟩ ⟨_, hgm⟩ xm) hfn S xn (by rw [xc]; simp) S2
    rcases List.eq_nil_or_concat P with z | ⟨P2, b, z⟩
    · rw [z]
      rw [z] at E57
      exact br_t (by decide) (E57 (fun P2 x2 a q => by simp at q))
    · obtain ⟨x2, l⟩ := b
      rw [List.concat_eq_append] at z
      subst z
      have hX2 : nd_X co re ch n = P2 ++ (x2, l) :: (x, c) :: B := by rw [hX, List.append_assoc]; rfl
      have hlm : (x2, l) ∈ nd_X co re ch n := by rw [hX2]; simp
      have hl1 : l < 110 := hsub _ hlm l (tr_hd _ l)
      have hll := nd_len co re ch l
      have h5l := ok.1 l
      have h3l : 3 ≤ (nd_X co re ch l).length := (w.2.2 (x2, l) hlm).1 (by omega)
      have hPl : (P2 ++ [(x2, l)]).length = P2.length + 1 := by simp
      rw [hPl] at hl E57 ⊢
      refine br_f (nI_ge (a := 0) (by omega) (by omega)) ?_
      rw [ar_m _ (by omega), show 6 * n + (P2.length + 1) - 1 = 6 * n + P2.length by omega, ar_c (f := ch) (by omega), nd_ch hX2, ar_c (f := co) (n := l) (by omega)]
      refine ⟨vp_in_nI (by omega) (by decide), vp_in_nI hl1 (by decide), ?_⟩
      by_cases hcl : co l = 2
      · rw [hcl]
        refine br_t (by decide) (E57 (fun P3 x3 a q => ?_))
        obtain ⟨q1, q2⟩ := List.append_inj' q rfl
        cases q2
        exact hcl
      · refine br_f (nI_ge (a := 2) (by omega) (by omega)) ?_
        obtain ⟨A, z, e, hlA⟩ := nd_zl (co := co) (re := re) (ch := ch) (c := l)
        have hA : co l + 1 = A.length + 1 := by rw [← hll, hlA]; simp
        have D := ro_dis hX2 hnd
        obtain ⟨D1, D2, D3, D4, D5⟩ := id D
        have hlel : le l = le c := (w.2.2 _ hlm).2.1.trans wc.2.1.symm
        refine wx_fromLeft ok hX2 rfl hc hlA (by omega) hn hc1 hl1 D2 D1 D3 (zor c ⟨_, hcm⟩) hlel (fun z e he => ?_) ?_
        · rcases he with he | he
          · obtain ⟨k1, k2⟩ := kid l ⟨_, hlm⟩ (hlel.trans z) e he
            exact ⟨k1, (D5 e (Or.inl he) _ k2).2.1, (D5 e (Or.inl he) _ k2).2.2⟩
          · obtain ⟨k1, k2⟩ := kid c ⟨_, hcm⟩ z e he
            exact ⟨k1, (D5 e (Or.inr he) _ k2).2.1, (D5 e (Or.inr he) _ k2).2.2⟩
        · intro co1 re1 ch1 la1 ok1 xn xl xc xm l1 tl tc
          have xm' : ∀ m, m ≠ n → m ≠ l → m ≠ c → nd_X co1 re1 ch1 m = nd_X co re ch m := fun m a1 a2 a3 => xm m a1 a3 a2
          obtain ⟨S, S2⟩ := fl_tree (F := F) hX2 hc hlA (by omega) D xn xl xc xm' w C l1 tl tc
          have := K co1 re1 ch1 la1 fn F (P2 ++ [(x2, l)]) z c B ok1 (fFr co1 re1 ch1 l c ⟨_, hlm⟩ ⟨_, hcm⟩ xm') hfn S (by rw [xn, List.append_assoc]; rfl) (by rw [xc]; simp) S2
          rw [hPl] at this
          exact this
  · refine br_f (nI_ge (a := 2) (by omega) (by omega)) (K co re ch la fn F P x c B ok hfl hfn (de_refl w C) hX (by omega) (fun t ht => ht))
theorem wx_greatest2 (ok : nd_ok co re ch) : ∀ (h n : Nat), 0 < h → tr_W (nd_X co re ch) le h n → 2 ≤ (nd_X co re ch n).length → (∀ m, m ∈ tr_N (nd_X co re ch) h n → m < 110) → ∃ A t, tr_L (nd_X co re ch) h n = A ++ [t] ∧ ∀ post : Int32 → Prop, post (nI t) → wX_greatest_2 post (nI fn) f_freeRecord f_done f_changes f_undo f_volume f_snaps f_syncing f_synced f_goal f_cObj f_cKey f_cBorn f_begun f_fObj f_fKey f_fValue f_fBorn ro rk rb rd rv rw (ar_n co) (ar_n le) (ar_n re) (ar_n ch) la rt sz pa sp ur ud uv ua sn h (nI n) := by
  intro h
  induction h with
  | zero => intro n h0; omega
  | succ h ih =>
    intro n _ w h2 hN
    have hn : n < 110 := hN n (tr_hd _ n)
    have vn : vp_in (nI n) 110 := vp_in_nI hn (by decide)
    have h5 := ok.1 n
    obtain ⟨P, x, c, hX⟩ := nd_zl (co := co) (re := re) (ch := ch) (c := n)
    have hl := nd_co hX
    rw [List.length_singleton] at hl
    have hlen := nd_len co re ch n
    have hcm : (x, c) ∈ nd_X co re ch n := by rw [hX]; simp
    have hLd := tr_Ld (h := h) (Q := []) hX
    rw [List.flatMap_nil, List.append_nil] at hLd
    rcases Nat.eq_zero_or_pos h with hh | hh
    · subst hh
      obtain ⟨A, hA⟩ : ∃ A, tr_p (nd_X co re ch) 0 P x = A ++ [x] := by
        cases P with
        | nil => simp at hl; omega
        | cons e P => exact ⟨_, by rw [tr_p1, ← List.append_assoc]⟩
      refine ⟨A, x, by rw [hLd, hA, tr_L0, List.append_nil], fun post hp => ?_⟩
      rw [wX_greatest_2]
      dsimp only
      have hle : le n = 1 := w.1
      obtain ⟨k, hk⟩ : ∃ k, P.length = k + 1 := ⟨P.length - 1, by omega⟩
      rw [ar_c (f := le) (by omega), hle, ar_c (f := co) (by omega), ar_5, ar_m _ (by omega), ar_c (f := re) (by omega), show 5 * n + co n - 1 = 5 * n + k by omega, nd_re (Q := []) hX hk]
      exact ⟨vn, br_f (by decide) ⟨vn, vp_in_nI (by omega) (by decide), hp⟩⟩
    · have wc := w.2.2 (x, c) hcm
      obtain ⟨A, t, hA, hg⟩ := ih c hh wc.2 (by have t3 : 3 ≤ (nd_X co re ch c).length := wc.1 hh; omega) (fun m hm => hN m (tr_sub hcm hm))
      refine ⟨tr_p (nd_X co re ch) h P x ++ A, t, by rw [hLd, hA, List.append_assoc], fun post hp => ?_⟩
      rw [wX_greatest_2]
      dsimp only
      have hle : le n = 0 := by rw [w.1, tr_z1 hh]
      rw [ar_c (f := le) (by omega), hle, ar_c (f := co) (by omega), ar_6, ar_c (f := ch) (by omega), show 6 * n + co n = 6 * n + P.length by omega, nd_ch (Q := []) hX]
      exact ⟨vn, br_t rfl ⟨vn, vp_in_nI (by omega) (by decide), nm_e (hg post hp)⟩⟩
theorem wx_least2 (ok : nd_ok co re ch) : ∀ (h n : Nat), 0 < h → tr_W (nd_X co re ch) le h n → 2 ≤ (nd_X co re ch n).length → (∀ m, m ∈ tr_N (nd_X co re ch) h n → m < 110) → ∃ t A, tr_L (nd_X co re ch) h n = t :: A ∧ ∀ post : Int32 → Prop, post (nI t) → wX_least_2 post (nI fn) f_freeRecord f_done f_changes f_undo f_volume f_snaps f_syncing f_synced f_goal f_cObj f_cKey f_cBorn f_begun f_fObj f_fKey f_fValue f_fBorn ro rk rb rd rv rw (ar_n co) (ar_n le) (ar_n re) (ar_n ch) la rt sz pa sp ur ud uv ua sn h (nI n) := by
  intro h
  induction h with
  | zero => intro n h0; omega
  | succ h ih =>
    intro n _ w h2 hN
    have hn : n < 110 := hN n (tr_hd _ n)
    have vn : vp_in (nI n) 110 := vp_in_nI hn (by decide)
    have hlen := nd_len co re ch n
    obtain ⟨c, t1, c1, G, hX⟩ := nd_2l (re := re) (ch := ch) (show 1 ≤ co n by omega)
    have hcm : (0, c) ∈ nd_X co re ch n := by rw [hX]; simp
    have hLd := tr_Ld (h := h) (P := []) hX
    rw [tr_p0, List.nil_append] at hLd
    rcases Nat.eq_zero_or_pos h with hh | hh
    · subst hh
      refine ⟨t1, _, by rw [hLd, List.flatMap_cons]; rfl, fun post hp => ?_⟩
      rw [wX_least_2]
      dsimp only
      have hle : le n = 1 := w.1
      rw [ar_c (f := le) (by omega), hle, ar_50, ar_c (f := re) (by omega), show re (5 * n) = t1 from nd_re (P := [(0, c)]) hX (i := 0) rfl]
      exact ⟨vn, br_f (by decide) ⟨vp_in_nI (by omega) (by decide), hp⟩⟩
    · have wc := w.2.2 (0, c) hcm
      obtain ⟨t, A, hA, hg⟩ := ih c hh wc.2 (by have t3 : 3 ≤ (nd_X co re ch c).length := wc.1 hh; omega) (fun m hm => hN m (tr_sub hcm hm))
      refine ⟨t, _, by rw [hLd, hA]; rfl, fun post hp => ?_⟩
      rw [wX_least_2]
      dsimp only
      have hle : le n = 0 := by rw [w.1, tr_z1 hh]
      rw [ar_c (f := le) (by omega), hle, ar_60, ar_c (f := ch) (by omega), show ch (6 * n) = c from nd_ch (P := []) hX]
      exact ⟨vn, br_t rfl ⟨vp_in_nI (by omega) (by decide), nm_e (hg post hp)⟩⟩
end WX
end
section
/-! ===== delete, without the program ===== -/
def de_F (rb rd : Nat → Int32) (t h n : Nat) (X : Nat → List (Nat × Nat)) (le : Nat → Nat) (la : Nat → Int32) (F : List Nat) (X' : Nat → List (Nat × Nat)) (la' : Nat → Int32) (F' : List Nat) : Prop :=
  tr_W X' le h n ∧ (X n).length ≤ (X' n).length + 1 ∧ (∃ A B, tr_L X h n = A ++ t :: B ∧ tr_L X' h n = A ++ B) ∧ (tr_N X' h n ++ F').Perm (tr_N X h n ++ F) ∧
  (∀ m, m ∉ tr_N X h n → m ∉ F → X' m = X m ∧ la' m = la m) ∧ (∀ m, m ∈ tr_N X' h n → tr_C X' le rb rd la' m)
def de_G (rb rd : Nat → Int32) (t h n : Nat) (P1 : List (Nat × Nat)) (x1 c1 : Nat) (Q1 : List (Nat × Nat)) (X1 : Nat → List (Nat × Nat)) (le : Nat → Nat) (la1 : Nat → Int32) (F1 : List Nat) (X' : Nat → List (Nat × Nat)) (la' : Nat → Int32) (F' : List Nat) : Prop :=
  tr_W X' le (h + 1) n ∧ X' n = X1 n ∧ (∃ A B, tr_L X1 h c1 = A ++ t :: B ∧ tr_L X' (h + 1) n = tr_p X1 h P1 x1 ++ ((A ++ B) ++ Q1.flatMap (tr_g X1 h))) ∧ (tr_N X' (h + 1) n ++ F').Perm (tr_N X1 (h + 1) n ++ F1) ∧
  (∀ m, m ∉ tr_N X1 (h + 1) n → m ∉ F1 → X' m = X1 m ∧ la' m = la1 m) ∧ (∀ m, m ∈ tr_N X' (h + 1) n → tr_C X' le rb rd la' m)
section DE
variable {X X1 X' : Nat → List (Nat × Nat)} {le : Nat → Nat} {rb rd la la1 la' la2 : Nat → Int32} {h n c x t t' y dd c1 x1 : Nat} {P B P1 Q1 : List (Nat × Nat)} {κ : Nat → Int} {F F1 F' : List Nat}
theorem tr_p2 : tr_p X h (P ++ [(x, c)]) y = tr_p X h P x ++ (tr_L X h c ++ [y]) := by
  unfold tr_p
  rw [List.flatMap_append, List.flatMap_cons, List.flatMap_nil, List.append_nil]
  unfold tr_g
  rw [show P.flatMap (fun e => e.1 :: tr_L X h e.2) ++ x :: tr_L X h c ++ [y] = (P.flatMap (fun e => e.1 :: tr_L X h e.2) ++ [x]) ++ (tr_L X h c ++ [y]) by simp, List.tail_append_of_ne_nil (by simp)]
theorem de_lift (hX : X1 n = P1 ++ (x1, c1) :: Q1) (hh : 0 < h) (w : tr_W X1 le (h + 1) n) (nd : (tr_N X1 (h + 1) n ++ F1).Nodup) (C : ∀ m, m ∈ tr_N X1 (h + 1) n → m ≠ n → tr_C X1 le rb rd la1 m) (h4 : 4 ≤ (X1 c1).length)
    (S : de_F rb rd t h c1 X1 le la1 F1 X' la' F') (l2 : ∀ m, m ≠ n → la2 m = la' m) (tn : tr_C X' le rb rd la2 n) : de_G rb rd t h n P1 x1 c1 Q1 X1 le la1 F1 X' la2 F' := by
  obtain ⟨s1, s2, ⟨A, B, s3, s4⟩, s7, s8, s9⟩ := S
  obtain ⟨t1, t2, t3⟩ := tr_lift hX nd (fun m a b => (s8 m a b).1)
  obtain ⟨⟨n1, n2⟩, n3, n4⟩ := tr_nd1 hX nd
  have hcm : (x1, c1) ∈ X1 n := by rw [hX]; simp
  have w' : tr_W X' le (h + 1) n := tr_liftW hX nd (fun m a b => ⟨(s8 m a b).1, rfl⟩) w s1 (fun _ => by omega)
  have hP : (tr_N X' (h + 1) n ++ F').Perm (tr_N X1 (h + 1) n ++ F1) := by
    rw [t3, tr_Nd hX]
    exact pm_3 s7
  have nd' := hP.symm.nodup nd
  refine ⟨w', t1, ⟨A, B, s3, by rw [t2, s4]⟩, hP, fun m h1 h2 => ?_, fun m hm => ?_⟩
  · obtain ⟨a, b⟩ := s8 m (fun z => h1 (tr_sub hcm z)) h2
    exact ⟨a, (l2 m (fun z => h1 (by rw [z]; exact tr_hd h n))).trans b⟩
  · rcases tr_mem hm with z | ⟨e, he, hm⟩
    · rw [z]; exact tn
    · have mn := (tr_nd2 nd' e he m hm).1
      have he1 : e ∈ X1 n := by rw [← t1]; exact he
      refine tr_Cfr (X := X') (la := la') (w'.2.2 e he).2 (fun m hm => ⟨rfl, rfl, l2 m (tr_nd2 nd' e he m hm).1⟩) ?_ m hm
      have oth : e ∈ P1 ∨ e ∈ Q1 → ∀ m, m ∈ tr_N X' h e.2 → tr_C X' le rb rd la' m := fun hpq => by
        have g := fun m hm => s8 m (n3 e hpq m hm).1 (n3 e hpq m hm).2
        rw [(tr_fr h e.2 (fun m hm => (g m hm).1)).2]
        exact tr_Cfr (w.2.2 e he1).2 (fun m hm => ⟨(g m hm).1, rfl, (g m hm).2⟩) (fun m hm => C m (tr_sub he1 hm) (tr_nd2 nd e he1 m hm).1)
      rw [hX] at he1
      rcases List.mem_append.mp he1 with q | q
      · exact oth (Or.inl q)
      · rcases List.mem_cons.mp q with rfl | q
        · exact s9
        · exact oth (Or.inr q)
/-- a step that keeps the records, then the child's -/
theorem de_fin (S : de_S rb rd (h + 1) n X le la F X1 la1 F1) (hX : X1 n = P1 ++ (x1, c1) :: Q1) (G : de_G rb rd t h n P1 x1 c1 Q1 X1 le la1 F1 X' la' F') : de_F rb rd t (h + 1) n X le la F X' la' F' := by
  obtain ⟨s1, s2, s3, s4, s5, s6⟩ := S
  obtain ⟨g1, g2, ⟨A, B, g3, g4⟩, g5, g6, g7⟩ := G
  refine ⟨g1, by rw [g2]; exact s4, ⟨tr_p X1 h P1 x1 ++ A, B ++ Q1.flatMap (tr_g X1 h), ?_, ?_⟩, g5.trans s2, fun m h1 h2 => ?_, g7⟩
  · rw [← s1, tr_Ld hX, g3]; simp
  · rw [g4]; simp
  · have hm : m ∉ tr_N X1 (h + 1) n ++ F1 := fun z => by
      rcases List.mem_append.mp (s2.mem_iff.mp z) with z | z
      · exact h1 z
      · exact h2 z
    obtain ⟨a, b⟩ := g6 m (fun z => hm (List.mem_append.mpr (Or.inl z))) (fun z => hm (List.mem_append.mpr (Or.inr z)))
    obtain ⟨a', b'⟩ := s5 m h1 h2
    exact ⟨a.trans a', b.trans b'⟩
/-- the record at n replaced: what stays -/
theorem de_rep (hX : X n = P ++ (x, c) :: (t, dd) :: B) (x1n : X1 n = P ++ (x, c) :: (t', dd) :: B) (xm : ∀ m, m ≠ n → X1 m = X m) (nd : (tr_N X (h + 1) n ++ F).Nodup) (w : tr_W X le (h + 1) n) (C : ∀ m, m ∈ tr_N X (h + 1) n → m ≠ n → tr_C X le rb rd la m) :
    tr_W X1 le (h + 1) n ∧ tr_N X1 (h + 1) n = tr_N X (h + 1) n ∧ (∀ m, m ∈ tr_N X1 (h + 1) n → m ≠ n → tr_C X1 le rb rd la m) ∧ (∀ e, e ∈ X n → tr_L X1 h e.2 = tr_L X h e.2) := by
  have k := tr_nd2 nd
  have f := fun e he => tr_fr (X := X) (X' := X1) h e.2 (fun m hm => xm m (k e he m hm).1)
  have same : ∀ e1, e1 ∈ X1 n → ∃ e, e ∈ X n ∧ e.2 = e1.2 := fun e1 he1 => by
    rw [x1n] at he1
    rw [hX]
    rcases List.mem_append.mp he1 with q | q
    · exact ⟨e1, List.mem_append.mpr (Or.inl q), rfl⟩
    · rcases List.mem_cons.mp q with rfl | q
      · exact ⟨(x, c), by simp, rfl⟩
      · rcases List.mem_cons.mp q with rfl | q
        · exact ⟨(t, dd), by simp, rfl⟩
        · exact ⟨e1, by simp [q], rfl⟩
  have hNeq : tr_N X1 (h + 1) n = tr_N X (h + 1) n := by
    rw [tr_Nd hX, tr_Nd x1n, List.flatMap_cons, List.flatMap_cons]
    have f1 : P.flatMap (tr_n X1 h) = P.flatMap (tr_n X h) := fm_c (fun e he => (f e (by rw [hX]; simp [he])).2)
    have f2 : B.flatMap (tr_n X1 h) = B.flatMap (tr_n X h) := fm_c (fun e he => (f e (by rw [hX]; simp [he])).2)
    have f3 := (f (x, c) (by rw [hX]; simp)).2
    have f4 := (f (t, dd) (by rw [hX]; simp)).2
    dsimp only at f3 f4
    unfold tr_n at f1 f2 ⊢
    dsimp only
    rw [f1, f2, f3, f4]
  refine ⟨⟨w.1, by have := w.2.1; rw [hX] at this; rw [x1n]; simp at this ⊢; omega, fun e1 he1 => ?_⟩, hNeq, fun m hm hmn => ?_, fun e he => (f e he).1⟩
  · obtain ⟨e, he, q⟩ := same e1 he1
    rw [← q]
    refine ⟨fun hh => ?_, tr_frW h e.2 (fun m hm => ⟨xm m (k e he m hm).1, rfl⟩) (w.2.2 e he).2⟩
    rw [xm e.2 (k e he e.2 (tr_hd1 hh e.2)).1]
    exact (w.2.2 e he).1 hh
  · rcases tr_mem hm with z | ⟨e1, he1, hm⟩
    · exact absurd z hmn
    · obtain ⟨e, he, q⟩ := same e1 he1
      rw [← q, (f e he).2] at hm
      exact tr_Cfr (w.2.2 e he).2 (fun m hm => ⟨xm m (k e he m hm).1, rfl, rfl⟩) (fun m hm => C m (tr_sub he hm) (k e he m hm).1) m hm
theorem ky_nd {L : List Nat} (s : ky_S κ L) : L.Nodup := List.Pairwise.imp (fun hlt z => by rw [z] at hlt; omega) s
/-- the last one is at the end -/
theorem ls_last {A A' B : List Nat} (nd : (A' ++ [t]).Nodup) (e : A' ++ [t] = A ++ t :: B) : A = A' ∧ B = [] := by
  rcases List.eq_nil_or_concat B with z | ⟨B', b, z⟩
  · subst z
    exact ⟨(List.append_inj' e rfl).1.symm, rfl⟩
  · rw [List.concat_eq_append] at z
    subst z
    rw [e] at nd
    have e2 : A' ++ [t] = (A ++ t :: B') ++ [b] := by rw [e]; simp
    obtain ⟨q1, q2⟩ := List.append_inj' e2 rfl
    cases q2
    exact absurd (List.nodup_append.mp nd).2.1 (by simp)
theorem ls_head {A A' B : List Nat} (nd : (t :: A').Nodup) (e : t :: A' = A ++ t :: B) : A = [] ∧ B = A' := by
  cases A with
  | nil => exact ⟨rfl, (List.cons.inj e).2.symm⟩
  | cons a A =>
    obtain ⟨q1, q2⟩ := List.cons.inj e
    rw [q2] at nd
    exact absurd (List.nodup_cons.mp nd).1 (by simp)
theorem de_fin1 {Lc : List Nat} (hX : X n = P ++ (x, c) :: (t, dd) :: B) (x1n : X1 n = P ++ (x, c) :: (t', dd) :: B) (xm : ∀ m, m ≠ n → X1 m = X m) (nd : (tr_N X (h + 1) n ++ F).Nodup) (w : tr_W X le (h + 1) n) (C : ∀ m, m ∈ tr_N X (h + 1) n → m ≠ n → tr_C X le rb rd la m)
    (hS : ky_S κ (tr_L X h c)) (hLc : tr_L X h c = Lc ++ [t']) (G : de_G rb rd t' h n P x c ((t', dd) :: B) X1 le la F X' la' F') : de_F rb rd t (h + 1) n X le la F X' la' F' := by
  obtain ⟨r1, r2, r3, r4⟩ := de_rep hX x1n xm nd w C
  obtain ⟨g1, g2, ⟨A, B', g3, g4⟩, g5, g6, g7⟩ := G
  have ec := r4 (x, c) (by rw [hX]; simp)
  have ed := r4 (t, dd) (by rw [hX]; simp)
  dsimp only at ec ed
  rw [ec, hLc] at g3
  obtain ⟨rfl, rfl⟩ := ls_last (ky_nd (by rw [← hLc]; exact hS)) g3
  have eP : P.flatMap (tr_g X1 h) = P.flatMap (tr_g X h) := fm_c (fun e he => by unfold tr_g; rw [r4 e (by rw [hX]; simp [he])])
  have eB : B.flatMap (tr_g X1 h) = B.flatMap (tr_g X h) := fm_c (fun e he => by unfold tr_g; rw [r4 e (by rw [hX]; simp [he])])
  have ep : tr_p X1 h P x = tr_p X h P x := by unfold tr_p; rw [eP]
  refine ⟨g1, by rw [g2, x1n, hX]; simp, ⟨tr_p X h P x ++ (A ++ [t']), tr_L X h dd ++ B.flatMap (tr_g X h), ?_, ?_⟩, by rw [r2] at g5; exact g5, fun m h1 h2 => ?_, g7⟩
  · rw [tr_Ld hX, hLc, List.flatMap_cons]
    unfold tr_g
    simp
  · rw [g4, ep, List.flatMap_cons, eB]
    unfold tr_g
    rw [ed]
    simp
  · rw [r2] at g6
    obtain ⟨a, b⟩ := g6 m h1 h2
    exact ⟨a.trans (xm m (fun z => h1 (by rw [z]; exact tr_hd h n))), b⟩
theorem de_fin2 {Ld : List Nat} (hX : X n = P ++ (x, c) :: (t, dd) :: B) (x1n : X1 n = P ++ (x, c) :: (t', dd) :: B) (xm : ∀ m, m ≠ n → X1 m = X m) (nd : (tr_N X (h + 1) n ++ F).Nodup) (w : tr_W X le (h + 1) n) (C : ∀ m, m ∈ tr_N X (h + 1) n → m ≠ n → tr_C X le rb rd la m)
    (hS : ky_S κ (tr_L X h dd)) (hLd : tr_L X h dd = t' :: Ld) (G : de_G rb rd t' h n (P ++ [(x, c)]) t' dd B X1 le la F X' la' F') : de_F rb rd t (h + 1) n X le la F X' la' F' := by
  obtain ⟨r1, r2, r3, r4⟩ := de_rep hX x1n xm nd w C
  obtain ⟨g1, g2, ⟨A, B', g3, g4⟩, g5, g6, g7⟩ := G
  have ec := r4 (x, c) (by rw [hX]; simp)
  have ed := r4 (t, dd) (by rw [hX]; simp)
  dsimp only at ec ed
  rw [ed, hLd] at g3
  obtain ⟨rfl, rfl⟩ := ls_head (ky_nd (by rw [← hLd]; exact hS)) g3
  have eP : P.flatMap (tr_g X1 h) = P.flatMap (tr_g X h) := fm_c (fun e he => by unfold tr_g; rw [r4 e (by rw [hX]; simp [he])])
  have eB : B.flatMap (tr_g X1 h) = B.flatMap (tr_g X h) := fm_c (fun e he => by unfold tr_g; rw [r4 e (by rw [hX]; simp [he])])
  have ep : tr_p X1 h P x = tr_p X h P x := by unfold tr_p; rw [eP]
  refine ⟨g1, by rw [g2, x1n, hX]; simp, ⟨tr_p X h P x ++ tr_L X h c, (t' :: B') ++ B.flatMap (tr_g X h), ?_, ?_⟩, by rw [r2] at g5; exact g5, fun m h1 h2 => ?_, g7⟩
  · rw [tr_Ld hX, List.flatMap_cons]
    unfold tr_g
    dsimp only
    rw [hLd]
    simp
  · rw [g4, tr_p2, ep, ec, eB]
    simp
  · rw [r2] at g6
    obtain ⟨a, b⟩ := g6 m h1 h2
    exact ⟨a.trans (xm m (fun z => h1 (by rw [z]; exact tr_hd h n))), b⟩
theorem de_leaf (hX : X n = P ++ (x, c) :: (t, dd) :: B) (xn : X' n = P ++ (x, c) :: B) (xm : ∀ m, m ≠ n → X' m = X m) (w : tr_W X le 1 n) (lm : ∀ m, m ≠ n → la' m = la m) (tn : tr_C X' le rb rd la' n) : de_F rb rd t 1 n X le la F X' la' F := by
  refine ⟨⟨w.1, by have := w.2.1; rw [hX] at this; rw [xn]; simp at this ⊢; omega, fun e _ => ⟨fun z => absurd z (Nat.lt_irrefl 0), trivial⟩⟩, by rw [xn, hX]; simp; omega, ⟨tr_p X 0 P x, B.flatMap (tr_g X 0), ?_, ?_⟩, ?_, fun m h1 _ => ?_, fun m hm => ?_⟩
  · rw [tr_Ld hX]; rfl
  · rw [tr_Ld xn]; rfl
  · rw [tr_N1, tr_N1]
  · have mn : m ≠ n := fun z => h1 (by rw [z]; exact tr_hd 0 n)
    exact ⟨xm m mn, lm m mn⟩
  · rw [tr_N1, List.mem_singleton] at hm
    rw [hm]; exact tn
end DE
end
section
/-! ===== the walk of delete ===== -/
section WX
variable {f_freeRecord f_done f_changes f_undo f_volume f_snaps f_syncing f_synced f_goal f_cObj f_cKey f_cBorn f_begun f_fObj f_fKey f_fValue f_fBorn : Int32} {fn : Nat} {co le re ch : Nat → Nat} {ro rk rb rd rv rw la rt sz pa sp ur ud uv ua sn : Nat → Int32}
variable {n d r v s i c x : Nat} {post : SX → Prop} {x1 x2 : Int32}
theorem wx_d290 {g : Nat} (ok : nd_ok co re ch) (hn : n < 110) (hd : d < 10) (hp : pa d = nI n) (hz : le n = 0 ∨ le n = 1) (hc : le n = 0 → ∀ e, e ∈ nd_X co re ch n → e.2 < 110 ∧ e.2 ≠ n)
    (K : ∀ la' : Nat → Int32, (∀ m, m ≠ n → la' m = la m) → tr_C (nd_X co re ch) le rb rd la' n → wX_delete_290 post x1 x2 g (nI d) (nI fn) f_freeRecord f_done f_changes f_undo f_volume f_snaps f_syncing f_synced f_goal f_cObj f_cKey f_cBorn f_begun f_fObj f_fKey f_fValue f_fBorn ro rk rb rd rv rw (ar_n co) (ar_n le) (ar_n re) (ar_n ch) la' rt sz pa sp ur ud uv ua sn) :
    wX_delete_290 post x1 x2 (g + 1) (nI (d + 1)) (nI fn) f_freeRecord f_done f_changes f_undo f_volume f_snaps f_syncing f_synced f_goal f_cObj f_cKey f_cBorn f_begun f_fObj f_fKey f_fValue f_fBorn ro rk rb rd rv rw (ar_n co) (ar_n le) (ar_n re) (ar_n ch) la rt sz pa sp ur ud uv ua sn := by
  rw [wX_delete_290]
  refine br_f (nI_nle (by omega) (by omega)) (nm_r (pk_m1 d) ⟨vp_in_nI hd (by decide), ?_⟩)
  rw [nI_clamp (n := d) (by omega), hp]
  exact wx_refC ok hn hz hc K
theorem wx_del234 {J : Int32 → Int32 → Int32 → Int32 → Int32 → Int32 → Int32 → Int32 → Int32 → Int32 → Int32 → Int32 → Int32 → Int32 → Int32 → Int32 → Int32 → Int32 → Int32 → Int32 → Int32 → (Nat → Int32) → (Nat → Int32) → (Nat → Int32) → (Nat → Int32) → (Nat → Int32) → (Nat → Int32) → (Nat → Int32) → (Nat → Int32) → (Nat → Int32) → (Nat → Int32) → (Nat → Int32) → (Nat → Int32) → (Nat → Int32) → (Nat → Int32) → (Nat → Int32) → (Nat → Int32) → (Nat → Int32) → (Nat → Int32) → (Nat → Int32) → (Nat → Int32) → Prop}
    {x4 x5 : Int32} (hn : n < 110) (hi : i < 6) (hc : ch (6 * n + i) = c) (K : J (nI c) x4 x5 (nI fn) f_freeRecord f_done f_changes f_undo f_volume f_snaps f_syncing f_synced f_goal f_cObj f_cKey f_cBorn f_begun f_fObj f_fKey f_fValue f_fBorn ro rk rb rd rv rw (ar_n co) (ar_n le) (ar_n re) (ar_n ch) la rt sz pa sp ur ud uv ua sn) : wX_delete_234 post J x1 x2 (nI n) x4 x5 (nI i) (nI fn) f_freeRecord f_done f_changes f_undo f_volume f_snaps f_syncing f_synced f_goal f_cObj f_cKey f_cBorn f_begun f_fObj f_fKey f_fValue f_fBorn ro rk rb rd rv rw (ar_n co) (ar_n le) (ar_n re) (ar_n ch) la rt sz pa sp ur ud uv ua sn := by
  unfold wX_delete_234
  rw [ar_6, ar_c (f := ch) (by omega), hc]
  exact ⟨vp_in_nI (by omega) (by decide), nm_e K⟩
end WX
section WY
variable {f_freeRecord f_done f_changes f_undo f_volume f_snaps f_syncing f_synced f_goal f_cObj f_cKey f_cBorn f_begun f_fObj f_fKey f_fValue f_fBorn : Int32} {fn : Nat} {co le re ch : Nat → Nat} {ro rk rb rd rv rw la rt sz pa sp ur ud uv ua sn : Nat → Int32}
variable {post : SX → Prop} {x1 x2 : Int32}
theorem wx_del20 : ∀ (h f n t dep : Nat) (fn : Nat) (co re ch : Nat → Nat) (la pa : Nat → Int32) (F : List Nat), 0 < h → nd_ok co re ch → tr_W (nd_X co re ch) le h n → (1 < h → 2 ≤ (nd_X co re ch n).length) →
    (tr_N (nd_X co re ch) h n ++ F).Nodup → (∀ m, m ∈ tr_N (nd_X co re ch) h n ++ F → m < 110) → fl_N ch fn F → fn ≤ 110 → ky_S (ky_r ro rk rb) (tr_L (nd_X co re ch) h n) → t < 200 → t ∈ tr_L (nd_X co re ch) h n → (∀ m, m ∈ tr_L (nd_X co re ch) h n → m < 200) →
    (∀ m, m ∈ tr_N (nd_X co re ch) h n → m ≠ n → tr_C (nd_X co re ch) le rb rd la m) → h < f → dep + h ≤ 10 →
    (∀ (co' re' ch' : Nat → Nat) (la' pa' : Nat → Int32) (fn' : Nat) (F' : List Nat) (g : Nat), (∀ j, j < dep → pa' j = pa j) → nd_ok co' re' ch' → fl_N ch' fn' F' → fn' ≤ 110 → de_F rb rd t h n (nd_X co re ch) le la F (nd_X co' re' ch') la' F' → dep < g →
      wX_delete_290 post x1 x2 g (nI dep) (nI fn') f_freeRecord f_done f_changes f_undo f_volume f_snaps f_syncing f_synced f_goal f_cObj f_cKey f_cBorn f_begun f_fObj f_fKey f_fValue f_fBorn ro rk rb rd rv rw (ar_n co') (ar_n le) (ar_n re') (ar_n ch') la' rt sz pa' sp ur ud uv ua sn) →
    wX_delete_20 post x1 x2 f (nI n) (nI t) (nI dep) (nI fn) f_freeRecord f_done f_changes f_undo f_volume f_snaps f_syncing f_synced f_goal f_cObj f_cKey f_cBorn f_begun f_fObj f_fKey f_fValue f_fBorn ro rk rb rd rv rw (ar_n co) (ar_n le) (ar_n re) (ar_n ch) la rt sz pa sp ur ud uv ua sn := by
  intro h
  induction h with
  | zero => intro f n t dep fn co re ch la pa F h0; omega
  | succ h ih =>
    intro f n t dep fn co re ch la pa F _ ok w hr2 hnd hN hfl hfn hS ht htL hL hC hf hdep K
    obtain ⟨f, rfl⟩ : ∃ g, f = g + 1 := ⟨f - 1, by omega⟩
    have hn : n < 110 := hN n (List.mem_append.mpr (Or.inl (tr_hd _ n)))
    have h5 := ok.1 n
    have hlen := nd_len co re ch n
    have vn : vp_in (nI n) 110 := vp_in_nI hn (by decide)
    have vt : vp_in (nI t) 200 := vp_in_nI ht (by decide)
    have hq : ky_e (ro t) (rk t) (rb t) = ky_r ro rk rb t := rfl
    -- where t lies, at the place of t in n
    have whr : ∀ P x c B, nd_X co re ch n = P ++ (x, c) :: B → (∀ e, e ∈ (P ++ [(x, c)]).tail → ky_r ro rk rb e.1 < ky_r ro rk rb t) → (∀ e B', B = e :: B' → ky_r ro rk rb t ≤ ky_r ro rk rb e.1) → t ∈ tr_L (nd_X co re ch) h c ∨ ∃ dd B', B = (t, dd) :: B' := by
      intro P x c B hX h1 h2
      obtain ⟨p1, p2, p3⟩ := so_node hX hS h1 h2
      have hLd := tr_Ld (h := h) hX
      rw [hLd] at htL
      rcases List.mem_append.mp htL with z | z
      · have := p1 t z
        omega
      · rcases List.mem_append.mp z with z | z
        · exact Or.inl z
        · right
          cases B with
          | nil => exact absurd z List.not_mem_nil
          | cons e B =>
            obtain ⟨y, dd⟩ := e
            have hy : ky_r ro rk rb t ≤ ky_r ro rk rb y := h2 (y, dd) B rfl
            have u6 := so_node1 hX hS
            rw [List.flatMap_cons] at z
            have z' : t = y ∨ t ∈ tr_L (nd_X co re ch) h dd ++ B.flatMap (tr_g (nd_X co re ch) h) := by
              rcases List.mem_append.mp z with z | z
              · rcases List.mem_cons.mp z with z | z
                · exact Or.inl z
                · exact Or.inr (List.mem_append.mpr (Or.inl z))
              · exact Or.inr (List.mem_append.mpr (Or.inr z))
            rcases z' with z | z
            · exact ⟨dd, B, by rw [z]⟩
            · have := u6 t z
              omega
    rcases Nat.eq_zero_or_pos h with hh | hh
    · subst hh
      have hle : le n = 1 := w.1
      rw [wX_delete_20]
      dsimp only
      rw [ar_c (f := le) (by omega), hle, nI_clamp (n := t) (by omega)]
      refine ⟨vn, br_f (by decide) ⟨vt, vt, vt, wx_place ok hn ?_⟩⟩
      intro P x c B hX h1 h2
      rw [hq] at h1 h2
      rcases whr P x c B hX h1 h2 with z | ⟨dd, B', rfl⟩
      · exact absurd z List.not_mem_nil
      · have hl := nd_co hX
        rw [List.length_cons, List.length_cons] at hl
        have hX' : nd_X co re ch n = (P ++ [(x, c)]) ++ (t, dd) :: B' := by rw [hX, List.append_assoc]; rfl
        refine wx_narrow ok hn (by omega) (by omega) ?_
        have xn := nd_er hX' (i := P.length) (by rw [List.length_append]; rfl)
        rw [List.append_assoc] at xn
        obtain ⟨C2, eC2⟩ : ∃ C, C = ar_u co n (co n - 1) := ⟨_, rfl⟩
        obtain ⟨R2, eR2⟩ : ∃ C, C = ar_sd re (5 * n + P.length) (5 * n + (co n - 1)) := ⟨_, rfl⟩
        obtain ⟨H2, eH2⟩ : ∃ C, C = ar_sd ch (6 * n + (P.length + 1)) (6 * n + (co n - 1 + 1)) := ⟨_, rfl⟩
        have xm : ∀ m, m ≠ n → nd_X C2 R2 H2 m = nd_X co re ch m := fun m hm => by
          refine nd_fr (by rw [eC2]; exact ar_un hm) (ok.1 m) (fun j hj => ?_) (fun j hj => ?_)
          · rw [eR2]; exact if_neg (by omega)
          · rw [eH2]; exact if_neg (by omega)
        have ok2 : nd_ok C2 R2 H2 := by
          refine ⟨fun m => ?_, ?_, fun j => ?_⟩
          · rw [eC2]; exact Nat.le_of_lt_succ (ar_ub (fun j => Nat.lt_succ_of_le (ok.1 j)) (by omega) m)
          · rw [eR2]; exact ar_sdb ok.2.1
          · rw [eH2]; exact Nat.le_of_lt_succ (ar_sdb (fun j => Nat.lt_succ_of_le (ok.2.2 j)) j)
        rw [← eC2, ← eR2, ← eH2] at xn
        rw [← eC2, ← eR2, ← eH2]
        refine wx_refC ok2 hn (Or.inr hle) (fun z => absurd (hle.symm.trans z) (by decide)) (fun la' l1 tn => ⟨dep + 1, K C2 R2 H2 la' pa fn F (dep + 1) (fun _ _ => rfl) ok2 (fl_fr (fun m hm => nd_c0 (xm m (fun z => ?_))) hfl) hfn (de_leaf hX xn xm w l1 tn) (by omega)⟩)
        exact tr_ndF hnd n (tr_hd _ n) (by rw [← z]; exact hm)
    · have hle : le n = 0 := by rw [w.1, tr_z1 hh]
      have hr2' := hr2 (by omega)
      -- one descent
      have desc : ∀ (co1 re1 ch1 : Nat → Nat) (la1 : Nat → Int32) (fn1 : Nat) (F1 : List Nat) (P1 : List (Nat × Nat)) (x0 c1 : Nat) (Q1 : List (Nat × Nat)) (t1 : Nat), nd_ok co1 re1 ch1 → fl_N ch1 fn1 F1 → fn1 ≤ 110 → tr_W (nd_X co1 re1 ch1) le (h + 1) n →
          (tr_N (nd_X co1 re1 ch1) (h + 1) n ++ F1).Perm (tr_N (nd_X co re ch) (h + 1) n ++ F) → (∀ m, m ∈ tr_N (nd_X co1 re1 ch1) (h + 1) n → m ≠ n → tr_C (nd_X co1 re1 ch1) le rb rd la1 m) →
          nd_X co1 re1 ch1 n = P1 ++ (x0, c1) :: Q1 → 4 ≤ (nd_X co1 re1 ch1 c1).length → ky_S (ky_r ro rk rb) (tr_L (nd_X co1 re1 ch1) h c1) → t1 < 200 → t1 ∈ tr_L (nd_X co1 re1 ch1) h c1 → (∀ m, m ∈ tr_L (nd_X co1 re1 ch1) h c1 → m < 200) →
          (∀ (X' : Nat → List (Nat × Nat)) (la' : Nat → Int32) (F' : List Nat), de_G rb rd t1 h n P1 x0 c1 Q1 (nd_X co1 re1 ch1) le la1 F1 X' la' F' → de_F rb rd t (h + 1) n (nd_X co re ch) le la F X' la' F') →
          wX_delete_234 post (wX_delete_20 post x1 x2 f) x1 x2 (nI n) (nI t1) (nI (dep + 1)) (nI P1.length) (nI fn1) f_freeRecord f_done f_changes f_undo f_volume f_snaps f_syncing f_synced f_goal f_cObj f_cKey f_cBorn f_begun f_fObj f_fKey f_fValue f_fBorn ro rk rb rd rv rw (ar_n co1) (ar_n le) (ar_n re1) (ar_n ch1) la1 rt sz (upd pa dep (nI n)) sp ur ud uv ua sn := by
        intro co1 re1 ch1 la1 fn1 F1 P1 x0 c1 Q1 t1 ok1 fl1 hfn1 w1 hP1 C1 hX1 h4 hS1 ht1 ht1L hL1 fin
        have hnd1 := hP1.symm.nodup hnd
        have hN1 : ∀ m, m ∈ tr_N (nd_X co1 re1 ch1) (h + 1) n ++ F1 → m < 110 := fun m hm => hN m (hP1.mem_iff.mp hm)
        have hl1 := nd_co hX1
        rw [List.length_cons] at hl1
        have h51 := ok1.1 n
        have hcm : (x0, c1) ∈ nd_X co1 re1 ch1 n := by rw [hX1]; simp
        refine wx_del234 hn (by omega) (nd_ch hX1) (ih f c1 t1 (dep + 1) fn1 co1 re1 ch1 la1 (upd pa dep (nI n)) F1 hh ok1 (w1.2.2 _ hcm).2 (fun _ => by omega) (tr_nd1 hX1 hnd1).2.2 (fun m hm => hN1 m ?_) fl1 hfn1 hS1 ht1 ht1L hL1 (fun m hm _ => C1 m (tr_sub hcm hm) (tr_nd2 hnd1 _ hcm m hm).1) (by omega) (by omega) ?_)
        · rcases List.mem_append.mp hm with hm | hm
          · exact List.mem_append.mpr (Or.inl (tr_sub hcm hm))
          · exact List.mem_append.mpr (Or.inr hm)
        · intro co' re' ch' la' pa' fn' F' g q1 ok' fl' hfn' DF hg
          obtain ⟨g, rfl⟩ : ∃ k, g = k + 1 := ⟨g - 1, by omega⟩
          have G0 := fun la2 l2 tn => de_lift (la2 := la2) hX1 hh w1 hnd1 C1 h4 DF l2 tn
          -- the children of n in the end
          have hPc := DF.2.2.2.1
          have xnn : nd_X co' re' ch' n = nd_X co1 re1 ch1 n := (DF.2.2.2.2.1 n (tr_nd1 hX1 hnd1).1.1 (tr_nd1 hX1 hnd1).1.2).1
          have t3 := (tr_lift hX1 hnd1 (fun m a b => (DF.2.2.2.2.1 m a b).1)).2.2
          have hPn : (tr_N (nd_X co' re' ch') (h + 1) n ++ F').Perm (tr_N (nd_X co1 re1 ch1) (h + 1) n ++ F1) := by
            rw [t3, tr_Nd hX1]
            exact pm_3 hPc
          have hnd' := hPn.symm.nodup hnd1
          refine wx_d290 ok' hn (by omega) (by rw [q1 dep (by omega), pk_us]) (Or.inl hle) (fun _ e he => ⟨hN1 _ (hPn.mem_iff.mp (List.mem_append.mpr (Or.inl (tr_sub he (tr_hd1 hh e.2))))), (tr_nd2 hnd' e he e.2 (tr_hd1 hh e.2)).1⟩) (fun la2 l2 tn => ?_)
          exact K co' re' ch' la2 pa' fn' F' g (fun j hj => by rw [q1 j (by omega), pk_un (by omega)]) ok' fl' hfn' (fin _ la2 F' (G0 la2 l2 tn)) (by omega)
      obtain ⟨k, rfl⟩ : ∃ k, h = k + 1 := ⟨h - 1, by omega⟩
      rw [wX_delete_20]
      dsimp only
      rw [ar_c (f := le) (by omega), hle, nI_clamp (n := t) (by omega), nI_clamp (n := dep) (by omega), ar_bb (n := n) (by omega)]
      refine ⟨vn, br_t rfl (nm_r (nI_1 dep) ⟨vp_in_nI (by omega) (by decide), nm_e ⟨vt, vt, vt, wx_place ok hn ?_⟩⟩)⟩
      intro P x c B hX h1 h2
      rw [hq] at h1 h2
      obtain ⟨p1, p2, p3⟩ := so_node hX hS h1 h2
      have hl := nd_co hX
      rw [List.length_cons] at hl
      have hcm : (x, c) ∈ nd_X co re ch n := by rw [hX]; simp
      have hsub : ∀ e, e ∈ nd_X co re ch n → ∀ m, m ∈ tr_N (nd_X co re ch) (k + 1) e.2 → m < 110 := fun e he m hm => hN m (List.mem_append.mpr (Or.inl (tr_sub he hm)))
      have hc1 : c < 110 := hsub _ hcm c (tr_hd _ c)
      have hlc := nd_len co re ch c
      have h5c := ok.1 c
      have h3c : 3 ≤ (nd_X co re ch c).length := (w.2.2 (x, c) hcm).1 (by omega)
      have hLd := tr_Ld (h := k + 1) hX
      -- a step that keeps the records
      have keep : ∀ (co1 re1 ch1 : Nat → Nat) (la1 : Nat → Int32) (fn1 : Nat) (F1 : List Nat) (P1 : List (Nat × Nat)) (x0 c1 : Nat) (Q1 : List (Nat × Nat)), nd_ok co1 re1 ch1 → fl_N ch1 fn1 F1 → fn1 ≤ 110 → de_S rb rd (k + 2) n (nd_X co re ch) le la F (nd_X co1 re1 ch1) la1 F1 →
          nd_X co1 re1 ch1 n = P1 ++ (x0, c1) :: Q1 → 4 ≤ (nd_X co1 re1 ch1 c1).length → t ∈ tr_L (nd_X co1 re1 ch1) (k + 1) c1 →
          wX_delete_234 post (wX_delete_20 post x1 x2 f) x1 x2 (nI n) (nI t) (nI (dep + 1)) (nI P1.length) (nI fn1) f_freeRecord f_done f_changes f_undo f_volume f_snaps f_syncing f_synced f_goal f_cObj f_cKey f_cBorn f_begun f_fObj f_fKey f_fValue f_fBorn ro rk rb rd rv rw (ar_n co1) (ar_n le) (ar_n re1) (ar_n ch1) la1 rt sz (upd pa dep (nI n)) sp ur ud uv ua sn := by
        intro co1 re1 ch1 la1 fn1 F1 P1 x0 c1 Q1 ok1 fl1 hfn1 S hX1 h4 htc
        have hL1 := tr_Ld (h := k + 1) hX1
        rw [S.1] at hL1
        refine desc co1 re1 ch1 la1 fn1 F1 P1 x0 c1 Q1 t ok1 fl1 hfn1 S.2.2.1 S.2.1 S.2.2.2.2.2 hX1 h4 (ky_3 (by rw [← hL1]; exact hS)).2.2.2.1 ht htc (fun m hm => hL m (by rw [hL1]; exact List.mem_append.mpr (Or.inr (List.mem_append.mpr (Or.inl hm))))) (fun X' la' F' G => de_fin S hX1 G)
      have enr : t ∈ tr_L (nd_X co re ch) (k + 1) c → wX_delete_225 post (wX_delete_20 post x1 x2 f) x1 x2 (nI n) (nI t) (nI (dep + 1)) (nI P.length) (nI fn) f_freeRecord f_done f_changes f_undo f_volume f_snaps f_syncing f_synced f_goal f_cObj f_cKey f_cBorn f_begun f_fObj f_fKey f_fValue f_fBorn ro rk rb rd rv rw (ar_n co) (ar_n le) (ar_n re) (ar_n ch) la rt sz (upd pa dep (nI n)) sp ur ud uv ua sn := by
        intro htc
        unfold wX_delete_225
        refine wx_enrich ok hX w hr2' hnd hN hfl hfn hC ?_
        intro co1 re1 ch1 la1 fn1 F1 P1 x0 c1 Q1 ok1 fl1 hfn1 S hX1 h4 hsubs
        exact keep co1 re1 ch1 la1 fn1 F1 P1 x0 c1 Q1 ok1 fl1 hfn1 S hX1 h4 (hsubs t htc)
      rw [ar_c (f := co) (n := n) (by omega)]
      refine ⟨vn, ?_⟩
      rcases whr P x c B hX h1 h2 with z | ⟨dd, B', rfl⟩
      · cases B with
        | nil =>
          rw [List.length_nil] at hl
          exact br_t (nI_le (by omega) (by omega)) (enr z)
        | cons e B =>
          obtain ⟨y, dd⟩ := e
          rw [List.length_cons] at hl
          have hX' : nd_X co re ch n = (P ++ [(x, c)]) ++ (y, dd) :: B := by rw [hX, List.append_assoc]; rfl
          have hy : re (5 * n + P.length) = y := nd_re hX' (by rw [List.length_append]; rfl)
          have hy2 := ok.2.1 (5 * n + P.length)
          rw [ar_5, ar_c (f := re) (by omega), hy]
          refine br_f (nI_ge (by omega) (by omega)) ⟨vp_in_nI (by omega) (by decide), br_f (fun q => ?_) (enr z)⟩
          rw [nI_eq (by omega) (by omega)] at q
          have u3 := (ky_3 (by rw [← hLd]; exact hS)).2.2.1
          have := u3 t z y (by rw [List.flatMap_cons]; exact List.mem_append.mpr (Or.inl (List.mem_cons_self ..)))
          rw [q] at this
          omega
      · rw [List.length_cons] at hl
        have hX' : nd_X co re ch n = (P ++ [(x, c)]) ++ (t, dd) :: B' := by rw [hX, List.append_assoc]; rfl
        have hPl : (P ++ [(x, c)]).length = P.length + 1 := by simp
        have hy : re (5 * n + P.length) = t := nd_re hX' hPl
        have hdm : (t, dd) ∈ nd_X co re ch n := by rw [hX]; simp
        have hd1 : dd < 110 := hsub _ hdm dd (tr_hd _ dd)
        have hld := nd_len co re ch dd
        have h5d := ok.1 dd
        have h3d : 3 ≤ (nd_X co re ch dd).length := (w.2.2 (t, dd) hdm).1 (by omega)
        have edd : ch (6 * n + P.length + 1) = dd := by have := nd_ch hX'; rw [hPl] at this; exact this
        have v5 : vp_in (nI (5 * n + P.length)) 550 := vp_in_nI (by omega) (by decide)
        have v6 : vp_in (nI (6 * n + P.length)) 660 := vp_in_nI (by omega) (by decide)
        have v61 : vp_in (nI (6 * n + P.length + 1)) 660 := vp_in_nI (by omega) (by decide)
        have vc : vp_in (nI c) 110 := vp_in_nI hc1 (by decide)
        have vd : vp_in (nI dd) 110 := vp_in_nI hd1 (by decide)
        have hLd' := tr_Ld (h := k + 1) hX'
        have hSd : ky_S (ky_r ro rk rb) (tr_L (nd_X co re ch) (k + 1) dd) := (ky_3 (by rw [← hLd']; exact hS)).2.2.2.1
        -- the record at n replaced by t'
        have rep : ∀ t', t' < 200 → nd_ok co (ar_u re (5 * n + P.length) t') ch ∧ nd_X co (ar_u re (5 * n + P.length) t') ch n = P ++ (x, c) :: (t', dd) :: B' ∧ (∀ m, m ≠ n → nd_X co (ar_u re (5 * n + P.length) t') ch m = nd_X co re ch m) := fun t' ht' => by
          refine ⟨⟨ok.1, ar_ub ok.2.1 ht', ok.2.2⟩, ?_, fun m hm => nd_fr rfl (ok.1 m) (fun j hj => ar_un (by omega)) (fun j hj => rfl)⟩
          have := nd_sr (r := t') hX' hPl
          rw [List.append_assoc] at this
          exact this
        rw [ar_5, ar_c (f := re) (by omega), hy, ar_6, nI_1, ar_c (f := ch) (n := 6 * n + P.length) (by omega), ar_c (f := ch) (n := 6 * n + P.length + 1) (by omega), nd_ch hX, edd, ar_c (f := co) (n := c) (by omega), ar_c (f := co) (n := dd) (by omega), nI_clamp (n := 5 * n + P.length) (by omega)]
        refine br_f (nI_ge (by omega) (by omega)) ⟨v5, br_t rfl ⟨v6, vc, ?_⟩⟩
        by_cases hcc : co c = 2
        · rw [hcc]
          refine br_t (by decide) ⟨v61, vd, ?_⟩
          by_cases hcd : co dd = 2
          · rw [hcd]
            refine br_t (by decide) ?_
            obtain ⟨c0, s1, c1', s2, c2, hca⟩ := nd_3l (re := re) (ch := ch) hcc
            obtain ⟨d0, t1, d1, t2, d2, hdb⟩ := nd_3l (re := re) (ch := ch) hcd
            have D := ro_dis hX hnd
            obtain ⟨D1, D2, D3, D4, D5⟩ := id D
            have wc := (w.2.2 (x, c) hcm).2
            have wd := (w.2.2 (t, dd) hdm).2
            refine wx_merge ok hX rfl hca hdb hn hc1 hd1 D1 D2 (fun z => D3 z.symm) hfn (by rw [wc.1]; unfold tr_z; split <;> simp) (fun z e he => ?_) ?_
            · have hk := (tr_zc wc.1).2 z
              have hm := tr_hd1 (X := nd_X co re ch) hk e.2
              refine ⟨?_, (D5 e he _ hm).2.1⟩
              rcases he with he | he
              · exact hsub _ hcm _ (tr_sub he hm)
              · exact hsub _ hdm _ (tr_sub he hm)
            · intro co1 re1 ch1 la1 ok1 xn xc xm cd l1 tc
              obtain ⟨S, S2⟩ := mg_tree (F := F) hX hca hdb D xn xc xm w hC l1 tc
              refine keep co1 re1 ch1 la1 dd (dd :: F) P x c B' ok1 ⟨rfl, ?_⟩ (by omega) S xn (by rw [xc]; simp) (S2 t (Or.inr (Or.inl rfl)))
              rw [cd]
              refine fl_fr (fun m hm => nd_c0 (xm m (fun z => ?_) (fun z => ?_) (fun z => ?_))) hfl
              · exact tr_ndF hnd n (tr_hd _ n) (by rw [← z]; exact hm)
              · exact tr_ndF hnd c (tr_sub hcm (tr_hd _ c)) (by rw [← z]; exact hm)
              · exact tr_ndF hnd dd (tr_sub hdm (tr_hd _ dd)) (by rw [← z]; exact hm)
          · refine br_f (nI_ge (a := 2) (by omega) (by omega)) ⟨v61, ?_⟩
            obtain ⟨t', A, hA, hg⟩ := wx_least2 (fn := fn) (f_freeRecord := f_freeRecord) (f_done := f_done) (f_changes := f_changes) (f_undo := f_undo) (f_volume := f_volume) (f_snaps := f_snaps) (f_syncing := f_syncing) (f_synced := f_synced) (f_goal := f_goal) (f_cObj := f_cObj) (f_cKey := f_cKey) (f_cBorn := f_cBorn) (f_begun := f_begun) (f_fObj := f_fObj) (f_fKey := f_fKey) (f_fValue := f_fValue) (f_fBorn := f_fBorn) (ro := ro) (rk := rk) (rb := rb) (rd := rd) (rv := rv) (rw := rw) (la := la) (rt := rt) (sz := sz) (pa := upd pa dep (nI n)) (sp := sp) (ur := ur) (ud := ud) (uv := uv) (ua := ua) (sn := sn) ok (k + 1) dd (by omega) (w.2.2 (t, dd) hdm).2 (by omega) (hsub _ hdm)
            have ht' : t' < 200 := hL t' (by rw [hLd', hA]; simp)
            refine ⟨k + 1, hg _ (nm_r (nI_1 _) ⟨v5, ?_⟩)⟩
            rw [ar_ss ht', ar_uu]
            refine nm_e ?_
            obtain ⟨ok1, xn, xm⟩ := rep t' ht'
            obtain ⟨r1, r2, r3, r4⟩ := de_rep hX xn xm hnd w hC
            have xn' : nd_X co (ar_u re (5 * n + P.length) t') ch n = (P ++ [(x, c)]) ++ (t', dd) :: B' := by rw [xn, List.append_assoc]; rfl
            have ed := r4 (t, dd) hdm
            dsimp only at ed
            have := desc co (ar_u re (5 * n + P.length) t') ch la fn F (P ++ [(x, c)]) t' dd B' t' ok1 hfl hfn r1 (by rw [r2]) r3 xn' (by rw [xm dd (tr_nd2 hnd _ hdm dd (tr_hd _ dd)).1]; omega) (by rw [ed]; exact hSd) ht' (by rw [ed, hA]; simp) (fun m hm => hL m (by rw [ed] at hm; rw [hLd']; exact List.mem_append.mpr (Or.inr (List.mem_append.mpr (Or.inl hm))))) (fun X' la' F' G => de_fin2 hX xn xm hnd w hC hSd hA G)
            rw [hPl] at this
            exact this
        · refine br_f (nI_ge (a := 2) (by omega) (by omega)) ⟨v6, ?_⟩
          obtain ⟨A, t', hA, hg⟩ := wx_greatest2 (fn := fn) (f_freeRecord := f_freeRecord) (f_done := f_done) (f_changes := f_changes) (f_undo := f_undo) (f_volume := f_volume) (f_snaps := f_snaps) (f_syncing := f_syncing) (f_synced := f_synced) (f_goal := f_goal) (f_cObj := f_cObj) (f_cKey := f_cKey) (f_cBorn := f_cBorn) (f_begun := f_begun) (f_fObj := f_fObj) (f_fKey := f_fKey) (f_fValue := f_fValue) (f_fBorn := f_fBorn) (ro := ro) (rk := rk) (rb := rb) (rd := rd) (rv := rv) (rw := rw) (la := la) (rt := rt) (sz := sz) (pa := upd pa dep (nI n)) (sp := sp) (ur := ur) (ud := ud) (uv := uv) (ua := ua) (sn := sn) ok (k + 1) c (by omega) (w.2.2 (x, c) hcm).2 (by omega) (hsub _ hcm)
          have ht' : t' < 200 := hL t' (by rw [hLd, hA]; simp)
          refine ⟨k + 1, hg _ ⟨v5, ?_⟩⟩
          rw [ar_ss ht', ar_uu]
          refine nm_e ?_
          obtain ⟨ok1, xn, xm⟩ := rep t' ht'
          obtain ⟨r1, r2, r3, r4⟩ := de_rep hX xn xm hnd w hC
          have ec := r4 (x, c) hcm
          dsimp only at ec
          exact desc co (ar_u re (5 * n + P.length) t') ch la fn F P x c ((t', dd) :: B') t' ok1 hfl hfn r1 (by rw [r2]) r3 xn (by rw [xm c (tr_nd2 hnd _ hcm c (tr_hd _ c)).1]; omega) (by rw [ec]; exact p3) ht' (by rw [ec, hA]; simp) (fun m hm => hL m (by rw [ec] at hm; rw [hLd]; exact List.mem_append.mpr (Or.inr (List.mem_append.mpr (Or.inl hm))))) (fun X' la' F' G => de_fin1 hX xn xm hnd w hC p3 hA G)
end WY
end
section
/-! ===== delete as a whole; die ===== -/
section VT
variable {X X' : Nat → List (Nat × Nat)} {le le' : Nat → Nat} {κ κ' : Nat → Int} {rb rd rb' rd' la la' : Nat → Int32} {h n m a : Nat}
theorem tr_subL {e : Nat × Nat} (he : e ∈ X n) (ha : a ∈ tr_L X h e.2) : a ∈ tr_L X (h + 1) n := by
  obtain ⟨P, Q, hX⟩ := List.append_of_mem he
  rw [tr_Ld (x := e.1) (c := e.2) hX]
  exact List.mem_append.mpr (Or.inr (List.mem_append.mpr (Or.inl ha)))
theorem tr_recL : ∀ (h n : Nat), ∀ m, m ∈ tr_N X h n → ∀ e, e ∈ (X m).tail → e.1 ∈ tr_L X h n
  | 0, _, m, hm, _, _ => absurd hm List.not_mem_nil
  | h + 1, n, m, hm, e, he => by
    rcases tr_mem hm with rfl | ⟨e', he', hm⟩
    · rw [tr_Ls]
      cases hx : X m with
      | nil => rw [hx] at he; exact absurd he List.not_mem_nil
      | cons e0 T =>
        rw [hx] at he
        rw [List.flatMap_cons]
        unfold tr_g
        rw [List.cons_append, List.tail_cons]
        exact List.mem_append.mpr (Or.inr (List.mem_flatMap.mpr ⟨e, he, List.mem_cons_self ..⟩))
    · exact tr_subL he' (tr_recL h e'.2 m hm e he)
theorem ky_cg {L : List Nat} (s : ky_S κ L) (H : ∀ a, a ∈ L → κ' a = κ a) : ky_S κ' L := by
  unfold ky_S at s ⊢
  refine List.Pairwise.imp_of_mem (fun {a b} ha hb hab => ?_) s
  rw [H a ha, H b hb]
  exact hab
theorem vt_cg (T : vt_T X le κ rb rd la h n) (H : ∀ a, a ∈ tr_L X h n → κ' a = κ a ∧ rb' a = rb a ∧ rd' a = rd a) : vt_T X le κ' rb' rd' la h n := by
  obtain ⟨t1, t2, t3, t4, t5⟩ := T
  refine ⟨t1, t2, t3, ky_cg t4 (fun a ha => (H a ha).1), fun m hm => ⟨fun e he => ?_, (t5 m hm).2⟩⟩
  obtain ⟨-, q1, q2⟩ := H e.1 (tr_recL h n m hm e he)
  rw [q1, q2]
  exact (t5 m hm).1 e he
theorem vt_fr (T : vt_T X le κ rb rd la h n) (H : ∀ m, m ∈ tr_N X h n → X' m = X m ∧ le' m = le m ∧ la' m = la m) : vt_T X' le' κ rb rd la' h n ∧ tr_L X' h n = tr_L X h n ∧ tr_N X' h n = tr_N X h n := by
  obtain ⟨t1, t2, t3, t4, t5⟩ := T
  obtain ⟨f1, f2⟩ := tr_fr h n (fun m hm => (H m hm).1)
  refine ⟨⟨t1, tr_frW h n (fun m hm => ⟨(H m hm).1, (H m hm).2.1⟩) t2, fun z => ?_, by rw [f1]; exact t4, by rw [f2]; exact tr_Cfr t2 H t5⟩, f1, f2⟩
  rw [(H n (tr_hd1 t1 n)).1]
  exact t3 z
end VT
section WX
variable {f_freeRecord f_done f_changes f_undo f_volume f_snaps f_syncing f_synced f_goal f_cObj f_cKey f_cBorn f_begun f_fObj f_fKey f_fValue f_fBorn : Int32} {fn : Nat} {co le re ch : Nat → Nat} {ro rk rb rd rv rw la rt sz pa sp ur ud uv ua sn : Nat → Int32}
variable {n r v s h : Nat} {post : SX → Prop} {F : List Nat}
theorem ar_m1 : vp_nar .byte (-1) = -1 := by rw [vp_nar_byte]; decide
theorem wx_del362 (hr : r < 200) (hv : v < 2) (hsz : sz v = nI s) (h1 : 1 ≤ s) (hs : s ≤ 100) (K : post ((nI fn), (nI r), f_done, f_changes, f_undo, f_volume, f_snaps, f_syncing, f_synced, f_goal, f_cObj, f_cKey, f_cBorn, f_begun, f_fObj, f_fKey, f_fValue, f_fBorn, ro, rk, (upd rb r f_freeRecord), rd, rv, (upd rw r (-1)), (ar_n co), (ar_n le), (ar_n re), (ar_n ch), la, rt, (upd sz v (nI (s - 1))), pa, sp, ur, ud, uv, ua, sn)) : wX_delete_362 post (nI r) (nI v) (nI fn) f_freeRecord f_done f_changes f_undo f_volume f_snaps f_syncing f_synced f_goal f_cObj f_cKey f_cBorn f_begun f_fObj f_fKey f_fValue f_fBorn ro rk rb rd rv rw (ar_n co) (ar_n le) (ar_n re) (ar_n ch) la rt sz pa sp ur ud uv ua sn := by
  have vr : vp_in (nI r) 200 := vp_in_nI hr (by decide)
  have vv : vp_in (nI v) 2 := vp_in_nI hv (by decide)
  unfold wX_delete_362
  rw [nI_clamp (n := v) (by omega), nI_clamp (n := r) (by omega), hsz, ar_m s (by omega), ar_bb (by omega), ar_m1]
  exact ⟨vv, vv, nm_e ⟨vr, nm_e ⟨vr, nm_e K⟩⟩⟩
theorem wx_delete (ok : nd_ok co re ch) (hr : r < 200) (hv : v < 2) (hrw : rw r = nI v) (hsz : sz v = nI s) (hrt : rt v = nI n) (T : vt_T (nd_X co re ch) le (ky_r ro rk rb) rb rd la h n) (hsL : (tr_L (nd_X co re ch) h n).length = s) (hs : s ≤ 100)
    (hnd : (tr_N (nd_X co re ch) h n ++ F).Nodup) (hN : ∀ m, m ∈ tr_N (nd_X co re ch) h n ++ F → m < 110) (hfl : fl_N ch fn F) (hfn : fn ≤ 110) (hrL : r ∈ tr_L (nd_X co re ch) h n) (hL : ∀ m, m ∈ tr_L (nd_X co re ch) h n → m < 200)
    (K : ∀ (co' re' ch' : Nat → Nat) (la' pa' rt' : Nat → Int32) (fn' : Nat) (F' : List Nat) (h' n' : Nat), nd_ok co' re' ch' → fl_N ch' fn' F' → fn' ≤ 110 → rt' v = nI n' → (∀ j, j ≠ v → rt' j = rt j) →
      vt_T (nd_X co' re' ch') le (ky_r ro rk (upd rb r f_freeRecord)) (upd rb r f_freeRecord) rd la' h' n' →
      (∃ A B, tr_L (nd_X co re ch) h n = A ++ r :: B ∧ tr_L (nd_X co' re' ch') h' n' = A ++ B) → (tr_N (nd_X co' re' ch') h' n' ++ F').Perm (tr_N (nd_X co re ch) h n ++ F) →
      (∀ m, m ∉ tr_N (nd_X co re ch) h n → m ∉ F → nd_X co' re' ch' m = nd_X co re ch m ∧ la' m = la m) →
      post ((nI fn'), (nI r), f_done, f_changes, f_undo, f_volume, f_snaps, f_syncing, f_synced, f_goal, f_cObj, f_cKey, f_cBorn, f_begun, f_fObj, f_fKey, f_fValue, f_fBorn, ro, rk, (upd rb r f_freeRecord), rd, rv, (upd rw r (-1)), (ar_n co'), (ar_n le), (ar_n re'), (ar_n ch'), la', rt', (upd sz v (nI (s - 1))), pa', sp, ur, ud, uv, ua, sn)) :
    wpX_delete post ((nI fn), f_freeRecord, f_done, f_changes, f_undo, f_volume, f_snaps, f_syncing, f_synced, f_goal, f_cObj, f_cKey, f_cBorn, f_begun, f_fObj, f_fKey, f_fValue, f_fBorn, ro, rk, rb, rd, rv, rw, (ar_n co), (ar_n le), (ar_n re), (ar_n ch), la, rt, sz, pa, sp, ur, ud, uv, ua, sn) (nI r) := by
  obtain ⟨h0, w, t2, hS, hC⟩ := T
  have hn : n < 110 := hN n (List.mem_append.mpr (Or.inl (tr_hd1 h0 n)))
  have h7 := vt_h h0 w t2 (by omega)
  have hs1 : 1 ≤ s := by
    rw [← hsL]
    cases he : tr_L (nd_X co re ch) h n with
    | nil => rw [he] at hrL; exact absurd hrL List.not_mem_nil
    | cons a l => simp
  have vr : vp_in (nI r) 200 := vp_in_nI hr (by decide)
  have vv : vp_in (nI v) 2 := vp_in_nI hv (by decide)
  have vn : vp_in (nI n) 110 := vp_in_nI hn (by decide)
  unfold wpX_delete
  dsimp only
  rw [nI_clamp (n := r) (by omega), hrw]
  refine ⟨vr, nm_e ⟨vv, ?_⟩⟩
  rw [nI_clamp (n := v) (by omega), hrt]
  refine nm_e ⟨h + 1, wx_del20 h (h + 1) n r 0 fn co re ch la pa F h0 ok w t2 hnd hN hfl hfn hS hr hrL hL (fun m hm _ => hC m hm) (by omega) (by omega) ?_⟩
  intro co' re' ch' la' pa' fn' F' g _ ok' fl' hfn' DF hg
  obtain ⟨f1, f2, ⟨A, B, f3, f4⟩, f5, f6, f7⟩ := DF
  obtain ⟨g, rfl⟩ : ∃ k, g = k + 1 := ⟨g - 1, by omega⟩
  have h5' := ok'.1 n
  have hlen' := nd_len co' re' ch' n
  have nd' := f5.symm.nodup hnd
  have hN' : ∀ m, m ∈ tr_N (nd_X co' re' ch') h n ++ F' → m < 110 := fun m hm => hN m (f5.mem_iff.mp hm)
  -- the order of what is left
  have hAB : ky_S (ky_r ro rk rb) (A ++ r :: B) := by rw [← f3]; exact hS
  have hrAB : r ∉ A ++ B := fun z => by
    have nd := ky_nd hAB
    have := (List.perm_middle (a := r) (l₁ := A) (l₂ := B)).nodup nd
    exact (List.nodup_cons.mp this).1 z
  have hS' : ky_S (ky_r ro rk rb) (A ++ B) := by
    unfold ky_S at hAB ⊢
    exact List.Pairwise.sublist (List.Sublist.append_left (List.sublist_cons_self r B) A) hAB
  have cg : ∀ a, a ∈ A ++ B → ky_r ro rk (upd rb r f_freeRecord) a = ky_r ro rk rb a ∧ upd rb r f_freeRecord a = rb a ∧ rd a = rd a := fun a ha => by
    have : a ≠ r := fun z => hrAB (by rw [← z]; exact ha)
    have e : upd rb r f_freeRecord a = rb a := pk_un this
    exact ⟨by unfold ky_r; rw [e], e, rfl⟩
  rw [wX_delete_290]
  refine br_t (by decide) ⟨vv, ?_⟩
  rw [nI_clamp (n := v) (by omega), hrt]
  refine nm_e ⟨vn, ?_⟩
  rw [ar_c (f := co') (by omega), ar_c (f := le) (by omega)]
  by_cases hz : co' n = 0 ∧ 1 < h
  · obtain ⟨k, rfl⟩ : ∃ k, h = k + 2 := ⟨h - 2, by omega⟩
    have hle : le n = 0 := by rw [w.1, tr_z1 (by omega)]
    rw [hz.1, hle]
    obtain ⟨Q, e0⟩ := nd_hd (co := co') (re := re') (ch := ch') (n := n)
    have hQ : Q = [] := by
      rw [e0, List.length_cons, hz.1] at hlen'
      exact List.eq_nil_of_length_eq_zero (by omega)
    subst hQ
    obtain ⟨c, hc⟩ : ∃ c, c = ch' (6 * n) := ⟨_, rfl⟩
    rw [← hc] at e0
    have hcm : (0, c) ∈ nd_X co' re' ch' n := by rw [e0]; simp
    have hcN : c ∈ tr_N (nd_X co' re' ch') (k + 2) n := tr_sub hcm (tr_hd k c)
    have hc1 : c < 110 := hN' c (List.mem_append.mpr (Or.inl hcN))
    rw [ar_60, ar_c (f := ch') (by omega), ← hc, ar_b (n := c) (by omega)]
    refine br_t rfl ⟨vn, br_t rfl ⟨vp_in_nI (by omega) (by decide), vv, nm_e ?_⟩⟩
    refine wx_dropNode hn hfn' ?_
    refine wx_del362 hr hv hsz hs1 hs ?_
    have N1 : tr_N (nd_X co' re' ch') (k + 2) n = n :: tr_N (nd_X co' re' ch') (k + 1) c := by
      rw [tr_Ns, e0, List.flatMap_cons, List.flatMap_nil, List.append_nil]; rfl
    have L1 : tr_L (nd_X co' re' ch') (k + 2) n = tr_L (nd_X co' re' ch') (k + 1) c := by
      rw [tr_Ls, e0, List.flatMap_cons, List.flatMap_nil, List.append_nil]; rfl
    have nF := List.nodup_append.mp nd'
    have ncn : ∀ m, m ∈ tr_N (nd_X co' re' ch') (k + 1) c → m ≠ n := fun m hm => (tr_nd2 nd' (0, c) hcm m hm).1
    have xm : ∀ m, m ≠ n → nd_X co' re' (ar_u ch' (6 * n) fn') m = nd_X co' re' ch' m := fun m hm => nd_fr rfl (ok'.1 m) (fun j hj => rfl) (fun j hj => ar_un (by omega))
    have T' : vt_T (nd_X co' re' ch') le (ky_r ro rk rb) rb rd la' (k + 1) c :=
      ⟨by omega, (f1.2.2 (0, c) hcm).2, fun _ => by have t3 : 3 ≤ (nd_X co' re' ch' c).length := (f1.2.2 (0, c) hcm).1 (by omega); omega, by rw [← L1, f4]; exact hS', fun m hm => f7 m (tr_sub hcm hm)⟩
    obtain ⟨T2, T3, T4⟩ := vt_fr (X' := nd_X co' re' (ar_u ch' (6 * n) fn')) (le' := le) (la' := la') T' (fun m hm => ⟨xm m (ncn m hm), rfl, rfl⟩)
    refine K co' re' (ar_u ch' (6 * n) fn') la' pa' (upd rt v (nI c)) n (n :: F') (k + 1) c ⟨ok'.1, ok'.2.1, fun j => Nat.le_of_lt_succ (ar_ub (fun j => Nat.lt_succ_of_le (ok'.2.2 j)) (by omega) j)⟩ ⟨rfl, ?_⟩ (by omega) pk_us (fun j hj => pk_un hj) (vt_cg T2 (by rw [T3, ← L1, f4]; exact cg)) ⟨A, B, f3, by rw [T3, ← L1, f4]⟩ ?_ (fun m h1 h2 => ?_)
    · rw [ar_us]
      exact fl_fr (fun m hm => ar_un (by have : m ≠ n := fun z => nF.2.2 n (tr_hd _ n) m hm z.symm; omega)) fl'
    · rw [T4]
      refine List.Perm.trans ?_ f5
      rw [N1]
      exact List.perm_middle
    · have mn : m ≠ n := fun z => h1 (by rw [z]; exact tr_hd _ n)
      exact ⟨(xm m mn).trans (f6 m h1 h2).1, (f6 m h1 h2).2⟩
  · have fin : wX_delete_362 post (nI r) (nI v) (nI fn') f_freeRecord f_done f_changes f_undo f_volume f_snaps f_syncing f_synced f_goal f_cObj f_cKey f_cBorn f_begun f_fObj f_fKey f_fValue f_fBorn ro rk rb rd rv rw (ar_n co') (ar_n le) (ar_n re') (ar_n ch') la' rt sz pa' sp ur ud uv ua sn := by
      refine wx_del362 hr hv hsz hs1 hs ?_
      refine K co' re' ch' la' pa' rt fn' F' h n ok' fl' hfn' hrt (fun _ _ => rfl) (vt_cg (κ := ky_r ro rk rb) (rb := rb) (rd := rd) ⟨h0, f1, fun z => by omega, by rw [f4]; exact hS', f7⟩ (by rw [f4]; exact cg)) ⟨A, B, f3, f4⟩ f5 f6
    by_cases hz0 : co' n = 0
    · obtain ⟨k, rfl⟩ : ∃ k, h = k + 1 := ⟨h - 1, by omega⟩
      have hk : k = 0 := by omega
      subst hk
      rw [hz0, show le n = 1 from w.1]
      exact br_t rfl ⟨vn, br_f (by decide) fin⟩
    · exact br_f (nI_ne0 (by omega) (by omega)) fin
end WX
end
section
/-! ===== the store: two trees, two pools ===== -/
/-- the free records, linked by born -/
def fl_R (rb : Nat → Int32) : Int32 → List Nat → Prop
  | _, [] => True
  | f, x :: xs => f = nI x ∧ fl_R rb (rb x) xs
theorem fl_Rf {rb rb' : Nat → Int32} : ∀ {F : List Nat} {f : Int32}, (∀ m, m ∈ F → rb' m = rb m) → fl_R rb f F → fl_R rb' f F
  | [], _, _, _ => trivial
  | x :: xs, _, H, c => ⟨c.1, by rw [H x (List.mem_cons_self ..)]; exact fl_Rf (fun m hm => H m (List.mem_cons_of_mem _ hm)) c.2⟩
def ls_u (L : Nat → List Nat) (v : Nat) (l : List Nat) : Nat → List Nat := fun j => if j = v then l else L j
theorem ls_us {L : Nat → List Nat} {v : Nat} {l : List Nat} : ls_u L v l v = l := if_pos rfl
theorem ls_un {L : Nat → List Nat} {v j : Nat} {l : List Nat} (h : j ≠ v) : ls_u L v l j = L j := if_neg h
/-- the volume's list first, the other's behind it -/
theorem pm_v {A : Nat → List Nat} {F R : List Nat} {v : Nat} (hv : v < 2) : (A 0 ++ (A 1 ++ F)).Perm R ↔ (A v ++ (A (1 - v) ++ F)).Perm R := by
  have hc : v = 0 ∨ v = 1 := by omega
  rcases hc with rfl | rfl
  · exact Iff.rfl
  · have t : (A 0 ++ (A 1 ++ F)).Perm (A 1 ++ (A 0 ++ F)) := by
      rw [← List.append_assoc, ← List.append_assoc]
      exact List.Perm.append_right F List.perm_append_comm
    exact ⟨fun h => t.symm.trans h, fun h => t.trans h⟩
/-- volume v of the store -/
def gx_V (X : Nat → List (Nat × Nat)) (le : Nat → Nat) (ro rk rb rd la rt sz rw : Nat → Int32) (L : Nat → List Nat) (h n : Nat → Nat) (v : Nat) : Prop :=
  rt v = nI (n v) ∧ vt_T X le (ky_r ro rk rb) rb rd la (h v) (n v) ∧ tr_L X (h v) (n v) = L v ∧ sz v = nI (L v).length ∧ (L v).length ≤ 100 ∧ (∀ r, r ∈ L v → rw r = nI v)
def gx_I (fn : Nat) (fr : Int32) (ro rk rb rd rw : Nat → Int32) (co le re ch : Nat → Nat) (la rt sz : Nat → Int32) (L : Nat → List Nat) (FR : List Nat) (h n : Nat → Nat) (F : List Nat) : Prop :=
  nd_ok co re ch ∧ fl_N ch fn F ∧ fn ≤ 110 ∧ (∀ v, v < 2 → gx_V (nd_X co re ch) le ro rk rb rd la rt sz rw L h n v) ∧
  (tr_N (nd_X co re ch) (h 0) (n 0) ++ (tr_N (nd_X co re ch) (h 1) (n 1) ++ F)).Perm (List.range 110) ∧ (L 0 ++ (L 1 ++ FR)).Perm (List.range 200) ∧ (∀ r, r ∈ FR → rw r = -1 ∨ rd r = 0) ∧ fl_R rb fr FR
def gx_S (fn : Nat) (fr : Int32) (ro rk rb rd rw : Nat → Int32) (co le re ch : Nat → Nat) (la rt sz : Nat → Int32) (L : Nat → List Nat) (FR : List Nat) : Prop :=
  ∃ h n F, gx_I fn fr ro rk rb rd rw co le re ch la rt sz L FR h n F
section GX
variable {fn : Nat} {fr : Int32} {ro rk rb rd rw la rt sz : Nat → Int32} {co le re ch : Nat → Nat} {L : Nat → List Nat} {FR : List Nat} {h n : Nat → Nat} {F : List Nat} {v : Nat}
theorem gx_nd (I : gx_I fn fr ro rk rb rd rw co le re ch la rt sz L FR h n F) (hv : v < 2) : (tr_N (nd_X co re ch) (h v) (n v) ++ (tr_N (nd_X co re ch) (h (1 - v)) (n (1 - v)) ++ F)).Perm (List.range 110) :=
  (pm_v (A := fun v => tr_N (nd_X co re ch) (h v) (n v)) hv).mp I.2.2.2.2.1
theorem gx_rd (I : gx_I fn fr ro rk rb rd rw co le re ch la rt sz L FR h n F) (hv : v < 2) : (L v ++ (L (1 - v) ++ FR)).Perm (List.range 200) := (pm_v hv).mp I.2.2.2.2.2.1
theorem gx_N (I : gx_I fn fr ro rk rb rd rw co le re ch la rt sz L FR h n F) (hv : v < 2) : (tr_N (nd_X co re ch) (h v) (n v) ++ F).Nodup ∧ (∀ m, m ∈ tr_N (nd_X co re ch) (h v) (n v) ++ F → m < 110) ∧
    (∀ m, m ∈ tr_N (nd_X co re ch) (h (1 - v)) (n (1 - v)) → m ∉ tr_N (nd_X co re ch) (h v) (n v) ∧ m ∉ F) := by
  have p := gx_nd I hv
  have nd := p.symm.nodup List.nodup_range
  obtain ⟨n1, n2, n3⟩ := List.nodup_append.mp nd
  obtain ⟨n4, n5, n6⟩ := List.nodup_append.mp n2
  refine ⟨List.nodup_append.mpr ⟨n1, n5, fun a ha b hb => n3 a ha b (List.mem_append.mpr (Or.inr hb))⟩, fun m hm => ?_, fun m hm => ⟨fun z => n3 m z m (List.mem_append.mpr (Or.inl hm)) rfl, fun z => n6 m hm m z rfl⟩⟩
  refine List.mem_range.mp (p.mem_iff.mp ?_)
  rcases List.mem_append.mp hm with z | z
  · exact List.mem_append.mpr (Or.inl z)
  · exact List.mem_append.mpr (Or.inr (List.mem_append.mpr (Or.inr z)))
theorem gx_R (I : gx_I fn fr ro rk rb rd rw co le re ch la rt sz L FR h n F) (hv : v < 2) : (L v).Nodup ∧ FR.Nodup ∧ (∀ r, r ∈ L v → r < 200) ∧ (∀ r, r ∈ FR → r < 200) ∧ (∀ r, r ∈ L v → r ∉ L (1 - v)) ∧ (∀ r, r ∈ L v → r ∉ FR) := by
  have p := gx_rd I hv
  have nd := p.symm.nodup List.nodup_range
  obtain ⟨n1, n2, n3⟩ := List.nodup_append.mp nd
  obtain ⟨n4, n5, n6⟩ := List.nodup_append.mp n2
  exact ⟨n1, n5, fun r hr => List.mem_range.mp (p.mem_iff.mp (List.mem_append.mpr (Or.inl hr))), fun r hr => List.mem_range.mp (p.mem_iff.mp (List.mem_append.mpr (Or.inr (List.mem_append.mpr (Or.inr hr))))),
    fun r hr z => n3 r hr r (List.mem_append.mpr (Or.inl z)) rfl, fun r hr z => n3 r hr r (List.mem_append.mpr (Or.inr z)) rfl⟩
theorem gx_F9 (I : gx_I fn fr ro rk rb rd rw co le re ch la rt sz L FR h n F) (hv : v < 2) (hl : (L v).length < 100) : 9 ≤ F.length := by
  have p := (gx_nd I hv).length_eq
  rw [List.length_append, List.length_append, List.length_range] at p
  have cnt : ∀ w, w < 2 → 2 * (tr_N (nd_X co re ch) (h w) (n w)).length ≤ (L w).length + 2 := fun w hw => by
    obtain ⟨-, T, e, -⟩ := I.2.2.2.1 w hw
    obtain ⟨t1, t2, -⟩ := T
    obtain ⟨k, hk⟩ : ∃ k, h w = k + 1 := ⟨h w - 1, by omega⟩
    rw [hk] at t2 e ⊢
    have := tr_cnt k (n w) t2
    have := nd_len co re ch (n w)
    rw [← e]
    omega
  have c1 := cnt v hv
  have c2 := cnt (1 - v) (by omega)
  have := (I.2.2.2.1 (1 - v) (by omega)).2.2.2.2.1
  omega
theorem gx_h10 (I : gx_I fn fr ro rk rb rd rw co le re ch la rt sz L FR h n F) (hv : v < 2) : h v ≤ 7 := by
  obtain ⟨-, T, e, -, h5, -⟩ := I.2.2.2.1 v hv
  exact vt_h T.1 T.2.1 T.2.2.1 (by rw [e]; exact h5)
end GX
section WX
variable {f_freeRecord f_done f_changes f_undo f_volume f_snaps f_syncing f_synced f_goal f_cObj f_cKey f_cBorn f_begun f_fObj f_fKey f_fValue f_fBorn : Int32} {fn : Nat} {co le re ch : Nat → Nat} {ro rk rb rd rv rw la rt sz pa sp ur ud uv ua sn : Nat → Int32}
variable {o k b : Int32} {v : Nat} {L : Nat → List Nat} {FR : List Nat}
theorem gx_floor {post : Int32 → Prop} (G : gx_S fn f_freeRecord ro rk rb rd rw co le re ch la rt sz L FR) (hv : v < 2) (hp : post (fo_I (fo_f (ky_r ro rk rb) (ky_e o k b) (L v)) (-1))) : wpX_floor post ((nI fn), f_freeRecord, f_done, f_changes, f_undo, f_volume, f_snaps, f_syncing, f_synced, f_goal, f_cObj, f_cKey, f_cBorn, f_begun, f_fObj, f_fKey, f_fValue, f_fBorn, ro, rk, rb, rd, rv, rw, (ar_n co), (ar_n le), (ar_n re), (ar_n ch), la, rt, sz, pa, sp, ur, ud, uv, ua, sn) (nI v) o k b := by
  obtain ⟨h, n, F, I⟩ := G
  obtain ⟨a1, a2, a3, a4, a5, a6⟩ := I.2.2.2.1 v hv
  obtain ⟨b1, b2, b3⟩ := gx_N I hv
  exact wx_floor I.1 hv a1 a2.1 (by have := gx_h10 I hv; omega) a2.2.1 (fun m hm => b2 m (List.mem_append.mpr (Or.inl hm))) a2.2.2.2.1 (by rw [a3]; exact hp)
theorem gx_after {post : Int32 → Prop} (G : gx_S fn f_freeRecord ro rk rb rd rw co le re ch la rt sz L FR) (hv : v < 2) (hp : post (fo_I (fo_a (ky_r ro rk rb) (ky_e o k b) (L v)) (-1))) : wpX_after post ((nI fn), f_freeRecord, f_done, f_changes, f_undo, f_volume, f_snaps, f_syncing, f_synced, f_goal, f_cObj, f_cKey, f_cBorn, f_begun, f_fObj, f_fKey, f_fValue, f_fBorn, ro, rk, rb, rd, rv, rw, (ar_n co), (ar_n le), (ar_n re), (ar_n ch), la, rt, sz, pa, sp, ur, ud, uv, ua, sn) (nI v) o k b := by
  obtain ⟨h, n, F, I⟩ := G
  obtain ⟨a1, a2, a3, a4, a5, a6⟩ := I.2.2.2.1 v hv
  obtain ⟨b1, b2, b3⟩ := gx_N I hv
  exact wx_after I.1 hv a1 a2.1 (by have := gx_h10 I hv; omega) a2.2.1 (fun m hm => b2 m (List.mem_append.mpr (Or.inl hm))) a2.2.2.2.1 (by rw [a3]; exact hp)
theorem gx_seen {post : Int32 → Prop} {t : Int32} (G : gx_S fn f_freeRecord ro rk rb rd rw co le re ch la rt sz L FR) (hv : v < 2)
    (h1 : ∀ r, fo_f (ky_r ro rk rb) (ky_e o k t) (L v) = some r → r < 200 → ro r = o → rk r = k → vi_s (rb r) (rd r) t → post (nI r))
    (h2 : (∀ r, fo_f (ky_r ro rk rb) (ky_e o k t) (L v) = some r → ¬ (ro r = o ∧ rk r = k ∧ vi_s (rb r) (rd r) t)) → post (-1)) : wpX_seen post ((nI fn), f_freeRecord, f_done, f_changes, f_undo, f_volume, f_snaps, f_syncing, f_synced, f_goal, f_cObj, f_cKey, f_cBorn, f_begun, f_fObj, f_fKey, f_fValue, f_fBorn, ro, rk, rb, rd, rv, rw, (ar_n co), (ar_n le), (ar_n re), (ar_n ch), la, rt, sz, pa, sp, ur, ud, uv, ua, sn) (nI v) o k t := by
  obtain ⟨h, n, F, I⟩ := G
  obtain ⟨a1, a2, a3, a4, a5, a6⟩ := I.2.2.2.1 v hv
  obtain ⟨b1, b2, b3⟩ := gx_N I hv
  exact wx_seen I.1 hv a1 a2.1 (by have := gx_h10 I hv; omega) a2.2.1 (fun m hm => b2 m (List.mem_append.mpr (Or.inl hm))) a2.2.2.2.1 (by rw [a3]; exact (gx_R I hv).2.2.1) (by rw [a3]; exact h1) (by rw [a3]; exact h2)
/-- what every list of the store keeps -/
theorem gx_ls (G : gx_S fn f_freeRecord ro rk rb rd rw co le re ch la rt sz L FR) (hv : v < 2) : ky_S (ky_r ro rk rb) (L v) ∧ (L v).Nodup ∧ (∀ r, r ∈ L v → r < 200) ∧ (∀ r, r ∈ L v → r ∉ L (1 - v)) ∧ (∀ r, r ∈ L v → r ∉ FR) ∧ sz v = nI (L v).length ∧ (L v).length ≤ 100 ∧ (∀ r, r ∈ L v → rw r = nI v) ∧
    (∀ r, r ∈ FR → r < 200) ∧ (∀ r, r ∈ FR → rw r = -1 ∨ rd r = 0) ∧ (∀ r, r < 200 → r ∈ L v ∨ r ∈ L (1 - v) ∨ r ∈ FR) := by
  obtain ⟨h, n, F, I⟩ := G
  obtain ⟨a1, a2, a3, a4, a5, a6⟩ := I.2.2.2.1 v hv
  obtain ⟨b1, b2, b3, b4, b5, b6⟩ := gx_R I hv
  refine ⟨by rw [← a3]; exact a2.2.2.2.1, b1, b3, b5, b6, a4, a5, a6, b4, I.2.2.2.2.2.2.1, fun r hr => ?_⟩
  rcases List.mem_append.mp ((gx_rd I hv).mem_iff.mpr (List.mem_range.mpr hr)) with z | z
  · exact Or.inl z
  · exact Or.inr (List.mem_append.mp z)
end WX
end
section
/-! ===== add, delete, die on the store ===== -/
theorem gx_mk {fn : Nat} {fr : Int32} {ro rk rb rd rw la rt sz : Nat → Int32} {co le re ch : Nat → Nat} {L : Nat → List Nat} {FR : List Nat} {h n : Nat → Nat} {F : List Nat} {v : Nat} (hv : v < 2) (ok : nd_ok co re ch) (fl : fl_N ch fn F) (hf : fn ≤ 110)
    (Vv : gx_V (nd_X co re ch) le ro rk rb rd la rt sz rw L h n v) (Vu : gx_V (nd_X co re ch) le ro rk rb rd la rt sz rw L h n (1 - v))
    (pN : (tr_N (nd_X co re ch) (h v) (n v) ++ (tr_N (nd_X co re ch) (h (1 - v)) (n (1 - v)) ++ F)).Perm (List.range 110)) (pL : (L v ++ (L (1 - v) ++ FR)).Perm (List.range 200)) (hF : ∀ r, r ∈ FR → rw r = -1 ∨ rd r = 0) (fR : fl_R rb fr FR) :
    gx_I fn fr ro rk rb rd rw co le re ch la rt sz L FR h n F := by
  refine ⟨ok, fl, hf, fun w hw => ?_, (pm_v (A := fun v => tr_N (nd_X co re ch) (h v) (n v)) hv).mpr pN, (pm_v hv).mpr pL, hF, fR⟩
  rcases (show w = v ∨ w = 1 - v by omega) with rfl | rfl
  · exact Vv
  · exact Vu
theorem pm_sw {A A' B F F' R : List Nat} (p : (A ++ (B ++ F)).Perm R) (q : (A' ++ F').Perm (A ++ F)) : (A' ++ (B ++ F')).Perm R := by
  have t : ∀ A F : List Nat, (A ++ (B ++ F)).Perm (B ++ (A ++ F)) := fun A F => by
    rw [← List.append_assoc, ← List.append_assoc]
    exact List.Perm.append_right F List.perm_append_comm
  exact (t A' F').trans ((List.Perm.append_left B q).trans ((t A F).symm.trans p))
section WX
variable {f_freeRecord f_done f_changes f_undo f_volume f_snaps f_syncing f_synced f_goal f_cObj f_cKey f_cBorn f_begun f_fObj f_fKey f_fValue f_fBorn : Int32} {fn : Nat} {co le re ch : Nat → Nat} {ro rk rb rd rv rw la rt sz pa sp ur ud uv ua sn : Nat → Int32}
variable {o k b : Int32} {v r : Nat} {L : Nat → List Nat} {FR : List Nat}
theorem gx_add {post : Int32 → SX → Prop} (G : gx_S fn f_freeRecord ro rk rb rd rw co le re ch la rt sz L FR) (hv : v < 2) (hl : (L v).length < 100) (hne : ∀ a, a ∈ L v → ky_r ro rk rb a ≠ ky_e o k b)
    (K : ∀ (r : Nat) (FR' A B : List Nat) (co' le' re' ch' : Nat → Nat) (la' pa' rt' sz' : Nat → Int32) (fn' : Nat), FR = r :: FR' → r < 200 → L v = A ++ B →
      gx_S fn' (rb r) (upd ro r o) (upd rk r k) (upd rb r b) (upd rd r 0) (upd rw r (nI v)) co' le' re' ch' la' rt' sz' (ls_u L v (A ++ r :: B)) FR' →
      post (nI r) ((nI fn'), (rb r), f_done, f_changes, f_undo, f_volume, f_snaps, f_syncing, f_synced, f_goal, f_cObj, f_cKey, f_cBorn, f_begun, f_fObj, f_fKey, f_fValue, f_fBorn, (upd ro r o), (upd rk r k), (upd rb r b), (upd rd r 0), rv, (upd rw r (nI v)), (ar_n co'), (ar_n le'), (ar_n re'), (ar_n ch'), la', rt', sz', pa', sp, ur, ud, uv, ua, sn)) :
    wpX_add post ((nI fn), f_freeRecord, f_done, f_changes, f_undo, f_volume, f_snaps, f_syncing, f_synced, f_goal, f_cObj, f_cKey, f_cBorn, f_begun, f_fObj, f_fKey, f_fValue, f_fBorn, ro, rk, rb, rd, rv, rw, (ar_n co), (ar_n le), (ar_n re), (ar_n ch), la, rt, sz, pa, sp, ur, ud, uv, ua, sn) (nI v) o k b := by
  obtain ⟨h, n, F, I⟩ := G
  obtain ⟨a1, a2, a3, a4, a5, a6⟩ := I.2.2.2.1 v hv
  obtain ⟨u1, u2, u3, u4, u5, u6⟩ := I.2.2.2.1 (1 - v) (by omega)
  obtain ⟨b1, b2, b3⟩ := gx_N I hv
  have pL := gx_rd I hv
  have hlen := pL.length_eq
  rw [List.length_append, List.length_append, List.length_range] at hlen
  obtain ⟨r, FR', rfl⟩ : ∃ r FR', FR = r :: FR' := by
    cases FR with
    | nil => rw [List.length_nil] at hlen; omega
    | cons r FR' => exact ⟨r, FR', rfl⟩
  obtain ⟨c1, c2, c3, c4, c5, c6⟩ := gx_R I hv
  obtain ⟨d1, d2, d3, d4, d5, d6⟩ := gx_R I (v := 1 - v) (by omega)
  have hr : r < 200 := c4 r (List.mem_cons_self ..)
  obtain ⟨ef, fR⟩ := I.2.2.2.2.2.2.2
  have vr : vp_in (nI r) 200 := vp_in_nI hr (by decide)
  have rv_ : ∀ a, a ∈ L v → a ≠ r := fun a ha z => c6 a ha (by rw [z]; exact List.mem_cons_self ..)
  have ru_ : ∀ a, a ∈ L (1 - v) → a ≠ r := fun a ha z => d6 a ha (by rw [z]; exact List.mem_cons_self ..)
  have rF_ : ∀ a, a ∈ FR' → a ≠ r := fun a ha z => (List.nodup_cons.mp c2).1 (by rw [← z]; exact ha)
  have cg : ∀ a, a ≠ r → ky_r (upd ro r o) (upd rk r k) (upd rb r b) a = ky_r ro rk rb a ∧ upd rb r b a = rb a ∧ upd rd r 0 a = rd a := fun a ha => by
    unfold ky_r
    rw [pk_un ha, pk_un ha, pk_un ha, pk_un ha]
    exact ⟨rfl, rfl, rfl⟩
  have cr : ky_r (upd ro r o) (upd rk r k) (upd rb r b) r = ky_e o k b := by
    unfold ky_r
    rw [pk_us, pk_us, pk_us]
  unfold wpX_add
  dsimp only
  rw [ef, nI_clamp (n := r) (by omega)]
  refine ⟨vr, nm_e ⟨vr, nm_e ⟨vr, nm_e ⟨vr, nm_e ⟨vr, nm_e ?_⟩⟩⟩⟩⟩
  refine wx_insert I.1 hr hv a4 hl a1 (vt_cg a2 (fun a ha => cg a (rv_ a (by rw [← a3]; exact ha)))) (by rw [a3]) b1 b2 I.2.1 I.2.2.1 (gx_F9 I hv hl) (fun a ha => ?_) ?_
  · rw [a3] at ha
    rw [(cg a (rv_ a ha)).1, cr]
    exact hne a ha
  · intro co' le' re' ch' la' pa' rt' fn' F' h' n' ok' fl' hfn' hrt' hrt2 T' hL' hP' fr'
    obtain ⟨A, B, e1, e2⟩ := hL'
    rw [a3] at e1
    refine K r FR' A B co' le' re' ch' la' pa' rt' (upd sz v (nI ((L v).length + 1))) fn' rfl hr e1 ⟨ar_u h v h', ar_u n v n', F', ?_⟩
    have hu : (1 - v) ≠ v := by omega
    have VF := vt_fr (X' := nd_X co' re' ch') (le' := le') (la' := la') u2 (fun m hm => fr' m (b3 m hm).1 (b3 m hm).2)
    obtain ⟨VF1, VF2, VF3⟩ := VF
    refine gx_mk hv ok' fl' hfn' ?_ ?_ ?_ ?_ (fun a ha => ?_) (fl_Rf (fun a ha => pk_un (rF_ a ha)) fR)
    · refine ⟨by rw [ar_us]; exact hrt', by rw [ar_us, ar_us]; exact T', by rw [ar_us, ar_us, ls_us]; exact e2, by rw [pk_us, ls_us, e1]; simp; exact congrArg nI (by omega), by rw [ls_us]; rw [e1] at hl; simp at hl ⊢; omega, fun a ha => ?_⟩
      rw [ls_us] at ha
      rcases (show a ∈ L v ∨ a = r by rw [e1]; simp at ha ⊢; rcases ha with z | z | z <;> simp [z]) with z | z
      · rw [pk_un (rv_ a z)]; exact a6 a z
      · rw [z, pk_us]
    · refine ⟨by rw [ar_un hu, hrt2 _ hu]; exact u1, ?_, by rw [ar_un hu, ar_un hu, ls_un hu, VF2]; exact u3, by rw [pk_un hu, ls_un hu]; exact u4, by rw [ls_un hu]; exact u5, fun a ha => ?_⟩
      · rw [ar_un hu, ar_un hu]
        exact vt_cg VF1 (fun a ha => cg a (ru_ a (by rw [VF2, u3] at ha; exact ha)))
      · rw [ls_un hu] at ha
        rw [pk_un (ru_ a ha)]; exact u6 a ha
    · rw [ar_us, ar_us, ar_un hu, ar_un hu, VF3]
      exact pm_sw (gx_nd I hv) hP'
    · rw [ls_us, ls_un hu]
      refine List.Perm.trans ?_ pL
      rw [e1]
      have t : (A ++ r :: B ++ (L (1 - v) ++ FR')).Perm (r :: (A ++ B ++ (L (1 - v) ++ FR'))) := by
        rw [List.append_assoc, List.cons_append]
        refine List.perm_middle.trans ?_
        rw [List.append_assoc]
      refine t.trans ?_
      rw [← List.append_assoc, ← List.append_assoc]
      exact List.perm_middle.symm
    · rw [pk_un (rF_ a ha), pk_un (rF_ a ha)]
      exact I.2.2.2.2.2.2.1 a (List.mem_cons_of_mem _ ha)
theorem gx_del {post : SX → Prop} (G : gx_S fn f_freeRecord ro rk rb rd rw co le re ch la rt sz L FR) (hv : v < 2) (hr : r ∈ L v)
    (K : ∀ (A B : List Nat) (co' re' ch' : Nat → Nat) (la' pa' rt' sz' : Nat → Int32) (fn' : Nat), L v = A ++ r :: B →
      gx_S fn' (nI r) ro rk (upd rb r f_freeRecord) rd (upd rw r (-1)) co' le re' ch' la' rt' sz' (ls_u L v (A ++ B)) (r :: FR) →
      post ((nI fn'), (nI r), f_done, f_changes, f_undo, f_volume, f_snaps, f_syncing, f_synced, f_goal, f_cObj, f_cKey, f_cBorn, f_begun, f_fObj, f_fKey, f_fValue, f_fBorn, ro, rk, (upd rb r f_freeRecord), rd, rv, (upd rw r (-1)), (ar_n co'), (ar_n le), (ar_n re'), (ar_n ch'), la', rt', sz', pa', sp, ur, ud, uv, ua, sn)) :
    wpX_delete post ((nI fn), f_freeRecord, f_done, f_changes, f_undo, f_volume, f_snaps, f_syncing, f_synced, f_goal, f_cObj, f_cKey, f_cBorn, f_begun, f_fObj, f_fKey, f_fValue, f_fBorn, ro, rk, rb, rd, rv, rw, (ar_n co), (ar_n le), (ar_n re), (ar_n ch), la, rt, sz, pa, sp, ur, ud, uv, ua, sn) (nI r) := by
  obtain ⟨h, n, F, I⟩ := G
  obtain ⟨a1, a2, a3, a4, a5, a6⟩ := I.2.2.2.1 v hv
  obtain ⟨u1, u2, u3, u4, u5, u6⟩ := I.2.2.2.1 (1 - v) (by omega)
  obtain ⟨b1, b2, b3⟩ := gx_N I hv
  have pL := gx_rd I hv
  obtain ⟨c1, c2, c3, c4, c5, c6⟩ := gx_R I hv
  have hu : (1 - v) ≠ v := by omega
  have ru_ : ∀ a, a ∈ L (1 - v) → a ≠ r := fun a ha z => c5 r hr (by rw [← z]; exact ha)
  have rF_ : ∀ a, a ∈ FR → a ≠ r := fun a ha z => c6 r hr (by rw [← z]; exact ha)
  refine wx_delete I.1 (c3 r hr) hv (a6 r hr) a4 a1 a2 (by rw [a3]) a5 b1 b2 I.2.1 I.2.2.1 (by rw [a3]; exact hr) (by rw [a3]; exact c3) ?_
  intro co' re' ch' la' pa' rt' fn' F' h' n' ok' fl' hfn' hrt' hrt2 T' hL' hP' fr'
  obtain ⟨A, B, e1, e2⟩ := hL'
  rw [a3] at e1
  refine K A B co' re' ch' la' pa' rt' (upd sz v (nI ((L v).length - 1))) fn' e1 ⟨ar_u h v h', ar_u n v n', F', ?_⟩
  obtain ⟨VF1, VF2, VF3⟩ := vt_fr (X' := nd_X co' re' ch') (le' := le) (la' := la') u2 (fun m hm => ⟨(fr' m (b3 m hm).1 (b3 m hm).2).1, rfl, (fr' m (b3 m hm).1 (b3 m hm).2).2⟩)
  have hrAB : ∀ a, a ∈ A ++ B → a ≠ r := fun a ha z => by
    rw [e1] at c1
    have := (List.perm_middle (a := r) (l₁ := A) (l₂ := B)).nodup c1
    exact (List.nodup_cons.mp this).1 (by rw [← z]; exact ha)
  refine gx_mk hv ok' fl' hfn' ?_ ?_ ?_ ?_ (fun a ha => ?_) ⟨rfl, by rw [pk_us]; exact fl_Rf (fun a ha => pk_un (rF_ a ha)) I.2.2.2.2.2.2.2⟩
  · refine ⟨by rw [ar_us]; exact hrt', by rw [ar_us, ar_us]; exact T', by rw [ar_us, ar_us, ls_us]; exact e2, by rw [pk_us, ls_us, e1]; simp, by rw [ls_us]; rw [e1] at a5; simp at a5 ⊢; omega, fun a ha => ?_⟩
    rw [ls_us] at ha
    rw [pk_un (hrAB a ha)]
    refine a6 a ?_
    rw [e1]
    simp at ha ⊢
    rcases ha with z | z <;> simp [z]
  · refine ⟨by rw [ar_un hu, hrt2 _ hu]; exact u1, ?_, by rw [ar_un hu, ar_un hu, ls_un hu, VF2]; exact u3, by rw [pk_un hu, ls_un hu]; exact u4, by rw [ls_un hu]; exact u5, fun a ha => ?_⟩
    · rw [ar_un hu, ar_un hu]
      refine vt_cg VF1 (fun a ha => ?_)
      have ha' := ru_ a (by rw [VF2, u3] at ha; exact ha)
      exact ⟨by unfold ky_r; rw [pk_un ha'], pk_un ha', rfl⟩
    · rw [ls_un hu] at ha
      rw [pk_un (ru_ a ha)]; exact u6 a ha
  · rw [ar_us, ar_us, ar_un hu, ar_un hu, VF3]
    exact pm_sw (gx_nd I hv) hP'
  · rw [ls_us, ls_un hu]
    refine List.Perm.trans ?_ pL
    rw [e1]
    have t : (A ++ r :: B ++ (L (1 - v) ++ FR)).Perm (r :: (A ++ B ++ (L (1 - v) ++ FR))) := by
      rw [List.append_assoc, List.cons_append]
      refine List.perm_middle.trans ?_
      rw [List.append_assoc]
    refine List.Perm.trans ?_ t.symm
    rw [← List.append_assoc, ← List.append_assoc]
    exact List.perm_middle
  · rcases List.mem_cons.mp ha with rfl | ha
    · exact Or.inl pk_us
    · rw [pk_un (rF_ a ha)]
      exact I.2.2.2.2.2.2.1 a ha
theorem tr_Rd {X : Nat → List (Nat × Nat)} {le : Nat → Nat} {rb rd rd' la : Nat → Int32} {r : Nat} (hrd : ∀ a, a ≠ r → rd' a = rd a) : ∀ (h n : Nat), (∀ m, m ∈ tr_N X h n → tr_C X le rb rd la m) → tr_R X le rb rd' la r h n
  | 0, _, _ => trivial
  | h + 1, n, C => fun e he => ⟨fun hno m hm => ⟨fun e' he' => by
      have : e'.1 ≠ r := fun z => hno (by rw [← z]; exact tr_recL h e.2 m hm e' he')
      rw [hrd _ this]
      exact (C m (tr_sub he hm)).1 e' he', (C m (tr_sub he hm)).2⟩, fun _ => tr_Rd hrd h e.2 (fun m hm => C m (tr_sub he hm))⟩
theorem gx_die {post : SX → Prop} {t : Int32} (G : gx_S fn f_freeRecord ro rk rb rd rw co le re ch la rt sz L FR) (hv : v < 2) (hr : r ∈ L v)
    (K : ∀ (la' pa' : Nat → Int32), gx_S fn f_freeRecord ro rk rb (upd rd r t) rw co le re ch la' rt sz L FR → post ((nI fn), f_freeRecord, f_done, f_changes, f_undo, f_volume, f_snaps, f_syncing, f_synced, f_goal, f_cObj, f_cKey, f_cBorn, f_begun, f_fObj, f_fKey, f_fValue, f_fBorn, ro, rk, rb, (upd rd r t), rv, rw, (ar_n co), (ar_n le), (ar_n re), (ar_n ch), la', rt, sz, pa', sp, ur, ud, uv, ua, sn)) :
    wpX_die post ((nI fn), f_freeRecord, f_done, f_changes, f_undo, f_volume, f_snaps, f_syncing, f_synced, f_goal, f_cObj, f_cKey, f_cBorn, f_begun, f_fObj, f_fKey, f_fValue, f_fBorn, ro, rk, rb, rd, rv, rw, (ar_n co), (ar_n le), (ar_n re), (ar_n ch), la, rt, sz, pa, sp, ur, ud, uv, ua, sn) (nI r) t := by
  obtain ⟨h, n, F, I⟩ := G
  obtain ⟨a1, a2, a3, a4, a5, a6⟩ := I.2.2.2.1 v hv
  obtain ⟨u1, u2, u3, u4, u5, u6⟩ := I.2.2.2.1 (1 - v) (by omega)
  obtain ⟨b1, b2, b3⟩ := gx_N I hv
  obtain ⟨c1, c2, c3, c4, c5, c6⟩ := gx_R I hv
  have hr2 := c3 r hr
  have vr : vp_in (nI r) 200 := vp_in_nI hr2 (by decide)
  have ru_ : ∀ a, a ∈ L (1 - v) → a ≠ r := fun a ha z => c5 r hr (by rw [← z]; exact ha)
  have rF_ : ∀ a, a ∈ FR → a ≠ r := fun a ha z => c6 r hr (by rw [← z]; exact ha)
  unfold wpX_die
  dsimp only
  rw [nI_clamp (n := r) (by omega), a6 r hr]
  refine ⟨vr, nm_e ⟨vr, ?_⟩⟩
  refine wx_touch I.1 hr2 hv a1 a2.1 (by have := gx_h10 I hv; omega) a2.2.1 (fun m hm => b2 m (List.mem_append.mpr (Or.inl hm))) (List.nodup_append.mp b1).1 a2.2.2.2.1 (by rw [a3]; exact hr) (tr_Rd (fun a ha => pk_un ha) _ _ a2.2.2.2.2) ?_
  intro pa' la' l1 l2
  refine K la' pa' ⟨h, n, F, gx_mk hv I.1 I.2.1 I.2.2.1 ⟨a1, ⟨a2.1, a2.2.1, a2.2.2.1, a2.2.2.2.1, l2⟩, a3, a4, a5, a6⟩ ⟨u1, ?_, u3, u4, u5, u6⟩ (gx_nd I hv) (gx_rd I hv) (fun a ha => ?_) I.2.2.2.2.2.2.2⟩
  · obtain ⟨VF1, VF2, VF3⟩ := vt_fr (X' := nd_X co re ch) (le' := le) (la' := la') u2 (fun m hm => ⟨rfl, rfl, l1 m (b3 m hm).1⟩)
    refine vt_cg VF1 (fun a ha => ⟨rfl, rfl, pk_un (ru_ a (by rw [u3] at ha; exact ha))⟩)
  · rw [pk_un (rF_ a ha)]
    exact I.2.2.2.2.2.2.1 a ha
end WX
end
section
/-! ===== the constructor ===== -/
def in_c (k : Nat) : Nat → Nat := fun j => if j % 6 = 0 ∧ j < 6 * k then j / 6 + 1 else 0
def in_b (k : Nat) : Nat → Int32 := fun j => if j < k then nI (j + 1) else 0
theorem in_c0 : in_c 0 = fun _ => 0 := by
  funext j
  exact if_neg (by omega)
theorem in_b0 : in_b 0 = fun _ => 0 := by
  funext j
  exact if_neg (by omega)
theorem in_cs (i : Nat) : ar_u (in_c i) (6 * i) (i + 1) = in_c (i + 1) := by
  funext j
  unfold ar_u in_c
  by_cases h : j = 6 * i
  · rw [if_pos h, if_pos (by omega)]; omega
  · rw [if_neg h]
    by_cases h2 : j % 6 = 0 ∧ j < 6 * i
    · rw [if_pos h2, if_pos (by omega)]
    · rw [if_neg h2, if_neg (by omega)]
theorem in_bs (i : Nat) : upd (in_b i) i (nI (i + 1)) = in_b (i + 1) := by
  funext j
  by_cases h : j = i
  · rw [h, pk_us]; exact (if_pos (by omega)).symm
  · rw [pk_un h]
    unfold in_b
    by_cases h2 : j < i
    · rw [if_pos h2, if_pos (by omega)]
    · rw [if_neg h2, if_neg (by omega)]
theorem fl_rng {ch : Nat → Nat} : ∀ (k s : Nat), (∀ x, s ≤ x → x < s + k → ch (6 * x) = x + 1) → fl_N ch s (List.range' s k)
  | 0, _, _ => trivial
  | k + 1, s, H => ⟨rfl, by rw [H s (by omega) (by omega)]; exact fl_rng k (s + 1) (fun x h1 h2 => H x (by omega) (by omega))⟩
theorem fr_rng {rb : Nat → Int32} : ∀ (k s : Nat), (∀ x, s ≤ x → x < s + k → rb x = nI (x + 1)) → fl_R rb (nI s) (List.range' s k)
  | 0, _, _ => trivial
  | k + 1, s, H => ⟨rfl, by rw [H s (by omega) (by omega)]; exact fr_rng k (s + 1) (fun x h1 h2 => H x (by omega) (by omega))⟩
section WX
variable {f_freeRecord f_done f_changes f_undo f_volume f_snaps f_syncing f_synced f_goal f_cObj f_cKey f_cBorn f_begun f_fObj f_fKey f_fValue f_fBorn : Int32} {fn : Nat} {co le re ch : Nat → Nat} {ro rk rb rd rv rw la rt sz pa sp ur ud uv ua sn : Nat → Int32}
variable {post : SX → Prop}
theorem wx_i198 (K : ∃ m, wX_init_222 post m 0 (nI fn) f_freeRecord f_done f_changes f_undo f_volume f_snaps f_syncing f_synced f_goal f_cObj f_cKey f_cBorn f_begun f_fObj f_fKey f_fValue f_fBorn ro rk (in_b 200) rd rv rw (ar_n co) (ar_n le) (ar_n re) (ar_n ch) la rt sz pa sp ur ud uv ua sn) : ∀ (f i : Nat), i ≤ 200 → 200 < f + i → wX_init_198 post (nI fn) f_freeRecord f_done f_changes f_undo f_volume f_snaps f_syncing f_synced f_goal f_cObj f_cKey f_cBorn f_begun f_fObj f_fKey f_fValue f_fBorn f (nI i) ro rk (in_b i) rd rv rw (ar_n co) (ar_n le) (ar_n re) (ar_n ch) la rt sz pa sp ur ud uv ua sn := by
  intro f
  induction f with
  | zero => intro i _ h; omega
  | succ f ih =>
    intro i hi hf
    rw [wX_init_198]
    dsimp only
    by_cases e : i = 200
    · subst e
      exact br_t (show (200 : Int32) ≤ nI 200 by decide) K
    · refine br_f (nI_ge (b := 200) (by omega) (by omega)) ⟨vp_in_nI (by omega) (by decide), ?_⟩
      rw [nI_clamp (n := i) (by omega), nI_1, in_bs]
      exact nm_e (nm_e (ih (i + 1) (by omega) (by omega)))
theorem wx_i171 (K : ∃ m, wX_init_198 post (nI fn) f_freeRecord f_done f_changes f_undo f_volume f_snaps f_syncing f_synced f_goal f_cObj f_cKey f_cBorn f_begun f_fObj f_fKey f_fValue f_fBorn m 0 ro rk rb rd rv rw (ar_n co) (ar_n le) (ar_n re) (ar_n (in_c 110)) la rt sz pa sp ur ud uv ua sn) : ∀ (f i : Nat), i ≤ 110 → 110 < f + i → wX_init_171 post (nI fn) f_freeRecord f_done f_changes f_undo f_volume f_snaps f_syncing f_synced f_goal f_cObj f_cKey f_cBorn f_begun f_fObj f_fKey f_fValue f_fBorn f (nI i) ro rk rb rd rv rw (ar_n co) (ar_n le) (ar_n re) (ar_n (in_c i)) la rt sz pa sp ur ud uv ua sn := by
  intro f
  induction f with
  | zero => intro i _ h; omega
  | succ f ih =>
    intro i hi hf
    rw [wX_init_171]
    dsimp only
    by_cases e : i = 110
    · subst e
      exact br_t (show (110 : Int32) ≤ nI 110 by decide) K
    · refine br_f (nI_ge (b := 110) (by omega) (by omega)) ?_
      rw [ar_60, nI_1, ar_bb (by omega), nI_clamp (n := 6 * i) (by omega), ar_uu, in_cs]
      exact ⟨vp_in_nI (by omega) (by decide), nm_e (nm_e (ih (i + 1) (by omega) (by omega)))⟩
theorem wx_i222 {f v : Nat} (hv : v < 2) (hn : fn < 110) (K : wX_init_222 post f (nI (v + 1)) (nI (ch (6 * fn))) f_freeRecord f_done f_changes f_undo f_volume f_snaps f_syncing f_synced f_goal f_cObj f_cKey f_cBorn f_begun f_fObj f_fKey f_fValue f_fBorn ro rk rb rd rv rw (ar_n (ar_u co fn 0)) (ar_n (ar_u le fn 1)) (ar_n re) (ar_n ch) (upd la fn 0) (upd rt v (nI fn)) sz pa sp ur ud uv ua sn) :
    wX_init_222 post (f + 1) (nI v) (nI fn) f_freeRecord f_done f_changes f_undo f_volume f_snaps f_syncing f_synced f_goal f_cObj f_cKey f_cBorn f_begun f_fObj f_fKey f_fValue f_fBorn ro rk rb rd rv rw (ar_n co) (ar_n le) (ar_n re) (ar_n ch) la rt sz pa sp ur ud uv ua sn := by
  rw [wX_init_222]
  refine br_f (nI_ge (b := 2) hv (by decide)) (wx_newNode (l := 1) hn (Or.inr rfl) ?_)
  dsimp only
  rw [nI_clamp (n := v) (by omega), ar_bb (by omega)]
  exact ⟨vp_in_nI hv (by decide), nm_e (nm_r (nI_1 v) K)⟩
end WX
theorem in_node {co re ch le : Nat → Nat} {ro rk rb rd la : Nat → Int32} {n : Nat} (hc : co n = 0) (hl : le n = 1) : vt_T (nd_X co re ch) le (ky_r ro rk rb) rb rd la 1 n ∧ tr_L (nd_X co re ch) 1 n = [] ∧ tr_N (nd_X co re ch) 1 n = [n] := by
  have hX : nd_X co re ch n = [(0, ch (6 * n))] := by
    unfold nd_X
    rw [hc]
    rfl
  have hL : tr_L (nd_X co re ch) 1 n = [] := by rw [tr_Ls, hX]; rfl
  refine ⟨⟨by omega, ⟨hl, by rw [hX]; simp, fun e _ => ⟨fun z => absurd z (Nat.lt_irrefl 0), trivial⟩⟩, fun z => absurd z (by omega), by rw [hL]; exact List.Pairwise.nil, fun m hm => ?_⟩, hL, tr_N1⟩
  rw [tr_N1, List.mem_singleton] at hm
  subst hm
  exact ⟨fun e he => by rw [hX] at he; exact absurd he List.not_mem_nil, fun z => absurd (hl.symm.trans z) (by decide)⟩
theorem wx_init {post : SX → Prop} (K : ∀ (co le re ch : Nat → Nat) (la rt rb : Nat → Int32) (FR : List Nat), gx_S 2 0 (fun _ => 0) (fun _ => 0) rb (fun _ => 0) (fun _ => 0) co le re ch la rt (fun _ => 0) (fun _ => []) FR →
    post (nI 2, 0, 0, 0, 0, 0, 0, 0, 0, 0, 0, 0, 0, 0, 0, 0, 0, 0, (fun _ => 0), (fun _ => 0), rb, (fun _ => 0), (fun _ => 0), (fun _ => 0), ar_n co, ar_n le, ar_n re, ar_n ch, la, rt, (fun _ => 0), (fun _ => 0), (fun _ => 0), (fun _ => 0), (fun _ => 0), (fun _ => 0), (fun _ => 0), (fun _ => 0))) : wpX_init post := by
  have z0 : (ar_n (fun _ => 0)) = (fun _ => (0 : Int32)) := rfl
  have h110 : in_c 110 (6 * 0) = 1 := by decide
  have h111 : in_c 110 (6 * 1) = 2 := by decide
  refine ⟨111, ?_⟩
  have t := wx_i171 (post := post) (fn := 0) (f_freeRecord := 0) (f_done := 0) (f_changes := 0) (f_undo := 0) (f_volume := 0) (f_snaps := 0) (f_syncing := 0) (f_synced := 0) (f_goal := 0) (f_cObj := 0) (f_cKey := 0) (f_cBorn := 0) (f_begun := 0) (f_fObj := 0) (f_fKey := 0) (f_fValue := 0) (f_fBorn := 0) (co := fun _ => 0) (le := fun _ => 0) (re := fun _ => 0) (ro := fun _ => 0) (rk := fun _ => 0) (rb := fun _ => 0) (rd := fun _ => 0) (rv := fun _ => 0) (rw := fun _ => 0) (la := fun _ => 0) (rt := fun _ => 0) (sz := fun _ => 0) (pa := fun _ => 0) (sp := fun _ => 0) (ur := fun _ => 0) (ud := fun _ => 0) (uv := fun _ => 0) (ua := fun _ => 0) (sn := fun _ => 0) ?_ 111 0 (by omega) (by omega)
  · rw [in_c0] at t
    exact t
  · refine ⟨201, ?_⟩
    have t := wx_i198 (post := post) (fn := 0) (f_freeRecord := 0) (f_done := 0) (f_changes := 0) (f_undo := 0) (f_volume := 0) (f_snaps := 0) (f_syncing := 0) (f_synced := 0) (f_goal := 0) (f_cObj := 0) (f_cKey := 0) (f_cBorn := 0) (f_begun := 0) (f_fObj := 0) (f_fKey := 0) (f_fValue := 0) (f_fBorn := 0) (co := fun _ => 0) (le := fun _ => 0) (re := fun _ => 0) (ch := in_c 110) (ro := fun _ => 0) (rk := fun _ => 0) (rd := fun _ => 0) (rv := fun _ => 0) (rw := fun _ => 0) (la := fun _ => 0) (rt := fun _ => 0) (sz := fun _ => 0) (pa := fun _ => 0) (sp := fun _ => 0) (ur := fun _ => 0) (ud := fun _ => 0) (uv := fun _ => 0) (ua := fun _ => 0) (sn := fun _ => 0) ?_ 201 0 (by omega) (by omega)
    · rw [in_b0] at t
      exact t
    · refine ⟨3, wx_i222 (v := 0) (by decide) (by decide) ?_⟩
      rw [h110]
      refine wx_i222 (v := 1) (by decide) (by decide) ?_
      rw [h111, wX_init_222]
      refine br_t (show (2 : Int32) ≤ nI (1 + 1) by decide) (K _ _ _ _ _ _ _ (List.range' 0 200) ⟨fun _ => 1, fun v => v, List.range' 2 108, ?_⟩)
      refine ⟨⟨fun m => ?_, fun j => Nat.zero_lt_succ 199, fun j => ?_⟩, fl_rng 108 2 (fun x h1 h2 => ?_), by decide, fun v hv => ?_, ?_, ?_, fun r _ => Or.inr rfl, fr_rng 200 0 (fun x h1 h2 => if_pos (by omega))⟩
      · unfold ar_u
        dsimp only
        split <;> (try split) <;> omega
      · unfold in_c
        split <;> omega
      · unfold in_c
        rw [if_pos (by omega)]
        omega
      · have hc : ar_u (ar_u (fun _ => 0) 0 0) 1 0 v = 0 := by unfold ar_u; split <;> (try split) <;> rfl
        have hl : ar_u (ar_u (fun _ => 0) 0 1) 1 1 v = 1 := by
          rcases (show v = 0 ∨ v = 1 by omega) with rfl | rfl
          · rw [ar_un (by decide), ar_us]
          · rw [ar_us]
        obtain ⟨i1, i2, i3⟩ := in_node (re := fun _ => 0) (ch := in_c 110) (ro := fun _ => 0) (rk := fun _ => 0) (rb := in_b 200) (rd := fun _ => 0) (la := upd (upd (fun _ => 0) 0 0) 1 0) hc hl
        refine ⟨?_, i1, i2, rfl, by simp, fun r hr => absurd hr List.not_mem_nil⟩
        rcases (show v = 0 ∨ v = 1 by omega) with rfl | rfl
        · rw [pk_un (by decide), pk_us]
        · rw [pk_us]
      · rw [tr_N1, tr_N1]
        exact List.Perm.of_eq (by decide +kernel)
      · exact List.Perm.of_eq (by decide +kernel)
end
section
/-! ===== nextChanged: the walk over the tree ===== -/
def nc_p (sy go b d : Int32) : Bool := (decide (sy < b) && decide (b ≤ go)) || (decide (b ≤ sy) && (decide (sy < d) && decide (d ≤ go)))
theorem nc_iff {sy go b d : Int32} : nc_p sy go b d = true ↔ (sy < b ∧ b ≤ go) ∨ (b ≤ sy ∧ sy < d ∧ d ≤ go) := by
  unfold nc_p
  rw [Bool.or_eq_true, Bool.and_eq_true, Bool.and_eq_true, Bool.and_eq_true, decide_eq_true_iff, decide_eq_true_iff, decide_eq_true_iff, decide_eq_true_iff, decide_eq_true_iff]
theorem nc_f {sy go b d : Int32} (h : ¬ ((sy < b ∧ b ≤ go) ∨ (b ≤ sy ∧ sy < d ∧ d ≤ go))) : nc_p sy go b d = false := by
  cases e : nc_p sy go b d with
  | false => rfl
  | true => exact absurd (nc_iff.mp e) h
theorem tr_ub {X : Nat → List (Nat × Nat)} {le : Nat → Nat} {rb rd la : Nat → Int32} : ∀ (h n : Nat), tr_W X le h n → (∀ m, m ∈ tr_N X h n → tr_C X le rb rd la m) → ∀ a, a ∈ tr_L X h n → rb a ≤ la n ∧ rd a ≤ la n
  | 0, _, _, _, _, ha => absurd ha List.not_mem_nil
  | h + 1, n, w, C, a, ha => by
    have cn := C n (tr_hd h n)
    have sub : ∀ e, e ∈ X n → a ∈ tr_L X h e.2 → rb a ≤ la n ∧ rd a ≤ la n := fun e he ha => by
      have hh : 0 < h := by
        rcases Nat.eq_zero_or_pos h with z | z
        · subst z; exact absurd ha List.not_mem_nil
        · exact z
      obtain ⟨q1, q2⟩ := tr_ub h e.2 (w.2.2 e he).2 (fun m hm => C m (tr_sub he hm)) a ha
      have q3 := cn.2 (by rw [w.1, tr_z1 hh]) e he
      exact ⟨Int32.le_trans q1 q3, Int32.le_trans q2 q3⟩
    rw [tr_Ls] at ha
    cases hx : X n with
    | nil => rw [hx] at ha; exact absurd ha List.not_mem_nil
    | cons e0 T =>
      rw [hx, List.flatMap_cons] at ha
      unfold tr_g at ha
      rw [List.cons_append, List.tail_cons] at ha
      rcases List.mem_append.mp ha with ha | ha
      · exact sub e0 (by rw [hx]; simp) ha
      · obtain ⟨e, he, ha⟩ := List.mem_flatMap.mp ha
        rcases List.mem_cons.mp ha with rfl | ha
        · exact cn.1 e (by rw [hx]; exact he)
        · exact sub e (by rw [hx]; simp [he]) ha
section WX
variable {f_freeRecord f_done f_changes f_undo f_volume f_snaps f_syncing f_synced f_goal f_cObj f_cKey f_cBorn f_begun f_fObj f_fKey f_fValue f_fBorn : Int32} {fn : Nat} {co le re ch : Nat → Nat} {ro rk rb rd rv rw la rt sz pa sp ur ud uv ua sn : Nat → Int32}
variable {post : Int32 → SX → Prop} {n D i f c r x d : Nat} {P Q : List (Nat × Nat)}
theorem sh_1 {s : Nat} (h : s < 2 ^ 31) : nI s >>> ((1 : Int32) &&& 31) = nI (s / 2) := pk_shrN h _ 1 (by decide)
theorem an_1 {s : Nat} (h : s < 2 ^ 31) : nI s &&& (1 : Int32) = nI (s % 2) := pk_andN (by omega) 1 (by decide)
/-- one round, the child's turn -/
theorem nc_even (hD : D < 10) (hn : n < 110) (hi : i ≤ 5) (hp : pa D = nI n) (hs : sp D = nI (2 * i))
    (K1 : le n ≠ 0 → le n = 1 ∧ wX_nextChanged_5 post (nI fn) f_freeRecord f_done f_changes f_undo f_volume f_snaps f_syncing f_synced f_goal f_cObj f_cKey f_cBorn f_begun f_fObj f_fKey f_fValue f_fBorn f (nI (D + 1)) ro rk rb rd rv rw (ar_n co) (ar_n le) (ar_n re) (ar_n ch) la rt sz pa (upd sp D (nI (2 * i + 1))) ur ud uv ua sn)
    (K2 : le n = 0 → ch (6 * n + i) = c ∧ c < 110 ∧ (la c ≤ f_synced → wX_nextChanged_5 post (nI fn) f_freeRecord f_done f_changes f_undo f_volume f_snaps f_syncing f_synced f_goal f_cObj f_cKey f_cBorn f_begun f_fObj f_fKey f_fValue f_fBorn f (nI (D + 1)) ro rk rb rd rv rw (ar_n co) (ar_n le) (ar_n re) (ar_n ch) la rt sz pa (upd sp D (nI (2 * i + 1))) ur ud uv ua sn) ∧
      (¬ la c ≤ f_synced → D + 1 < 10 ∧ wX_nextChanged_5 post (nI fn) f_freeRecord f_done f_changes f_undo f_volume f_snaps f_syncing f_synced f_goal f_cObj f_cKey f_cBorn f_begun f_fObj f_fKey f_fValue f_fBorn f (nI (D + 1 + 1)) ro rk rb rd rv rw (ar_n co) (ar_n le) (ar_n re) (ar_n ch) la rt sz (upd pa (D + 1) (nI c)) (upd (upd sp D (nI (2 * i + 1))) (D + 1) (nI 0)) ur ud uv ua sn)) :
    wX_nextChanged_5 post (nI fn) f_freeRecord f_done f_changes f_undo f_volume f_snaps f_syncing f_synced f_goal f_cObj f_cKey f_cBorn f_begun f_fObj f_fKey f_fValue f_fBorn (f + 1) (nI (D + 1)) ro rk rb rd rv rw (ar_n co) (ar_n le) (ar_n re) (ar_n ch) la rt sz pa sp ur ud uv ua sn := by
  have vD : vp_in (nI D) 10 := vp_in_nI hD (by decide)
  rw [wX_nextChanged_5]
  dsimp only
  rw [nI_pred, nI_clamp (n := D) (by omega), hp, hs, nI_1 (2 * i), ar_bb (by omega)]
  refine br_f (nI_nle (by omega) (by omega)) ⟨vD, nm_e ⟨vD, vD, nm_e (nm_e ?_)⟩⟩
  rw [sh_1 (by omega), an_1 (by omega), show 2 * i / 2 = i by omega, show 2 * i % 2 = 0 by omega]
  refine nm_e (br_t rfl ⟨vp_in_nI hn (by decide), ?_⟩)
  rw [ar_c (f := le) (by omega)]
  by_cases z : le n = 0
  · obtain ⟨k1, k2, k3, k4⟩ := K2 z
    rw [z, ar_6, ar_c (f := ch) (by omega), k1, nI_clamp (n := c) (by omega)]
    have v6 : vp_in (nI (6 * n + i)) 660 := vp_in_nI (by omega) (by decide)
    have vc : vp_in (nI c) 110 := vp_in_nI k2 (by decide)
    refine br_t rfl ⟨v6, vc, br_c k3 (fun q => ?_)⟩
    obtain ⟨q1, q2⟩ := k4 q
    have vD1 : vp_in (nI (D + 1)) 10 := vp_in_nI q1 (by decide)
    rw [nI_clamp (n := D + 1) (by omega), ar_b (n := c) (by omega), ar_b0]
    exact ⟨v6, vD1, nm_e (nm_r (nI_1 _) ⟨vD1, nm_e q2⟩)⟩
  · obtain ⟨k1, k2⟩ := K1 z
    rw [k1]
    exact br_f (by decide) k2
/-- one round, the record's turn -/
theorem nc_odd (hD : D < 10) (hn : n < 110) (hi : i ≤ 5) (hp : pa D = nI n) (hs : sp D = nI (2 * i + 1)) (hco : co n ≤ 5)
    (K1 : i = co n → wX_nextChanged_5 post (nI fn) f_freeRecord f_done f_changes f_undo f_volume f_snaps f_syncing f_synced f_goal f_cObj f_cKey f_cBorn f_begun f_fObj f_fKey f_fValue f_fBorn f (nI D) ro rk rb rd rv rw (ar_n co) (ar_n le) (ar_n re) (ar_n ch) la rt sz pa (upd sp D (nI (2 * i + 2))) ur ud uv ua sn)
    (K2 : i ≠ co n → i < 5 ∧ re (5 * n + i) < 200 ∧ (nc_p f_synced f_goal (rb (re (5 * n + i))) (rd (re (5 * n + i))) = true → post (nI (re (5 * n + i))) ((nI fn), f_freeRecord, f_done, f_changes, f_undo, f_volume, f_snaps, f_syncing, f_synced, f_goal, f_cObj, f_cKey, f_cBorn, f_begun, f_fObj, f_fKey, f_fValue, f_fBorn, ro, rk, rb, rd, rv, rw, (ar_n co), (ar_n le), (ar_n re), (ar_n ch), la, rt, sz, pa, (upd sp D (nI (2 * i + 2))), ur, ud, uv, ua, sn)) ∧
      (nc_p f_synced f_goal (rb (re (5 * n + i))) (rd (re (5 * n + i))) = false → wX_nextChanged_5 post (nI fn) f_freeRecord f_done f_changes f_undo f_volume f_snaps f_syncing f_synced f_goal f_cObj f_cKey f_cBorn f_begun f_fObj f_fKey f_fValue f_fBorn f (nI (D + 1)) ro rk rb rd rv rw (ar_n co) (ar_n le) (ar_n re) (ar_n ch) la rt sz pa (upd sp D (nI (2 * i + 2))) ur ud uv ua sn)) :
    wX_nextChanged_5 post (nI fn) f_freeRecord f_done f_changes f_undo f_volume f_snaps f_syncing f_synced f_goal f_cObj f_cKey f_cBorn f_begun f_fObj f_fKey f_fValue f_fBorn (f + 1) (nI (D + 1)) ro rk rb rd rv rw (ar_n co) (ar_n le) (ar_n re) (ar_n ch) la rt sz pa sp ur ud uv ua sn := by
  have vD : vp_in (nI D) 10 := vp_in_nI hD (by decide)
  rw [wX_nextChanged_5]
  dsimp only
  rw [nI_pred, nI_clamp (n := D) (by omega), hp, hs, nI_1 (2 * i + 1), ar_bb (by omega)]
  refine br_f (nI_nle (by omega) (by omega)) ⟨vD, nm_e ⟨vD, vD, nm_e (nm_e ?_)⟩⟩
  rw [sh_1 (by omega), an_1 (by omega), show (2 * i + 1) / 2 = i by omega, show (2 * i + 1) % 2 = 1 by omega]
  refine nm_e (br_f (by decide) ⟨vp_in_nI hn (by decide), ?_⟩)
  rw [ar_c (f := co) (by omega)]
  by_cases z : i = co n
  · exact br_t (by rw [z]) (nm_r (pk_m1 D) (K1 z))
  · refine br_f (fun q => z ((nI_eq (by omega) (by omega)).mp q)) ?_
    obtain ⟨k1, k2, k3, k4⟩ := K2 z
    rw [ar_5, ar_c (f := re) (by omega)]
    obtain ⟨y, hy⟩ : ∃ y, y = re (5 * n + i) := ⟨_, rfl⟩
    rw [← hy] at k2 k3 k4
    rw [← hy]
    have vy : vp_in (nI y) 200 := vp_in_nI k2 (by decide)
    refine ⟨vp_in_nI (by omega) (by decide), nm_e ⟨vy, ?_⟩⟩
    rw [nI_clamp (n := y) (by omega)]
    have q174 : ¬ (f_synced < rb y ∧ rb y ≤ f_goal) → wX_nextChanged_174 post (wX_nextChanged_5 post (nI fn) f_freeRecord f_done f_changes f_undo f_volume f_snaps f_syncing f_synced f_goal f_cObj f_cKey f_cBorn f_begun f_fObj f_fKey f_fValue f_fBorn f) (nI (D + 1)) (nI y) (rb y) (rd y) (nI fn) f_freeRecord f_done f_changes f_undo f_volume f_snaps f_syncing f_synced f_goal f_cObj f_cKey f_cBorn f_begun f_fObj f_fKey f_fValue f_fBorn ro rk rb rd rv rw (ar_n co) (ar_n le) (ar_n re) (ar_n ch) la rt sz pa (upd sp D (nI (2 * i + 2))) ur ud uv ua sn := by
      intro no
      unfold wX_nextChanged_174
      refine br_c (fun q => k4 ?_) (fun q => br_c (fun q2 => k4 ?_) (fun q2 => br_c (fun q3 => k4 ?_) (fun q3 => k3 ?_)))
      · exact nc_f (fun z => z.elim no (fun w => absurd w.1 (Int32.not_le.mpr q)))
      · exact nc_f (fun z => z.elim no (fun w => absurd w.2.1 (Int32.not_lt.mpr q2)))
      · exact nc_f (fun z => z.elim no (fun w => absurd w.2.2 (Int32.not_le.mpr q3)))
      · exact nc_iff.mpr (Or.inr ⟨Int32.not_lt.mp q, Int32.not_le.mp q2, Int32.not_lt.mp q3⟩)
    refine nm_e ⟨vy, nm_e (br_c (fun q => q174 (fun z => absurd q (Int32.not_le.mpr z.1))) (fun q => br_c (fun q2 => k3 ?_) (fun q2 => q174 (fun z => q2 z.2))))⟩
    exact nc_iff.mpr (Or.inl ⟨Int32.not_le.mp q, q2⟩)
end WX
end
section
/-! ===== nextChanged: a frame and all above it ===== -/
section WX
variable {f_freeRecord f_done f_changes f_undo f_volume f_snaps f_syncing f_synced f_goal f_cObj f_cKey f_cBorn f_begun f_fObj f_fKey f_fValue f_fBorn : Int32} {fn : Nat} {co le re ch : Nat → Nat} {ro rk rb rd rv rw la rt sz pa sp ur ud uv ua sn : Nat → Int32}
variable {post : Int32 → SX → Prop}
theorem nc_all (ok : nd_ok co re ch) : ∀ (h n : Nat), tr_W (nd_X co re ch) le (h + 1) n → (∀ m, m ∈ tr_N (nd_X co re ch) (h + 1) n → m < 110) → (∀ m, m ∈ tr_N (nd_X co re ch) (h + 1) n → tr_C (nd_X co re ch) le rb rd la m) →
    ∀ (Q P : List (Nat × Nat)) (x c : Nat), nd_X co re ch n = P ++ (x, c) :: Q →
    (∃ k, ∀ (D : Nat) (pa sp : Nat → Int32) (f0 : Nat), D + (h + 1) ≤ 10 → pa D = nI n → sp D = nI (2 * P.length) →
      ((tr_L (nd_X co re ch) h c ++ Q.flatMap (tr_g (nd_X co re ch) h)).find? (fun r => nc_p f_synced f_goal (rb r) (rd r)) = none → ∀ pa' sp' : Nat → Int32, (∀ j, j < D → pa' j = pa j ∧ sp' j = sp j) → ∀ f, f0 ≤ f → wX_nextChanged_5 post (nI fn) f_freeRecord f_done f_changes f_undo f_volume f_snaps f_syncing f_synced f_goal f_cObj f_cKey f_cBorn f_begun f_fObj f_fKey f_fValue f_fBorn f (nI D) ro rk rb rd rv rw (ar_n co) (ar_n le) (ar_n re) (ar_n ch) la rt sz pa' sp' ur ud uv ua sn) →
      (∀ r, (tr_L (nd_X co re ch) h c ++ Q.flatMap (tr_g (nd_X co re ch) h)).find? (fun r => nc_p f_synced f_goal (rb r) (rd r)) = some r → ∀ pa' sp' : Nat → Int32, post (nI r) ((nI fn), f_freeRecord, f_done, f_changes, f_undo, f_volume, f_snaps, f_syncing, f_synced, f_goal, f_cObj, f_cKey, f_cBorn, f_begun, f_fObj, f_fKey, f_fValue, f_fBorn, ro, rk, rb, rd, rv, rw, (ar_n co), (ar_n le), (ar_n re), (ar_n ch), la, rt, sz, pa', sp', ur, ud, uv, ua, sn)) →
      ∀ f, f0 + k ≤ f → wX_nextChanged_5 post (nI fn) f_freeRecord f_done f_changes f_undo f_volume f_snaps f_syncing f_synced f_goal f_cObj f_cKey f_cBorn f_begun f_fObj f_fKey f_fValue f_fBorn f (nI (D + 1)) ro rk rb rd rv rw (ar_n co) (ar_n le) (ar_n re) (ar_n ch) la rt sz pa sp ur ud uv ua sn) ∧
    (∃ k, ∀ (D : Nat) (pa sp : Nat → Int32) (f0 : Nat), D + (h + 1) ≤ 10 → pa D = nI n → sp D = nI (2 * P.length + 1) →
      ((Q.flatMap (tr_g (nd_X co re ch) h)).find? (fun r => nc_p f_synced f_goal (rb r) (rd r)) = none → ∀ pa' sp' : Nat → Int32, (∀ j, j < D → pa' j = pa j ∧ sp' j = sp j) → ∀ f, f0 ≤ f → wX_nextChanged_5 post (nI fn) f_freeRecord f_done f_changes f_undo f_volume f_snaps f_syncing f_synced f_goal f_cObj f_cKey f_cBorn f_begun f_fObj f_fKey f_fValue f_fBorn f (nI D) ro rk rb rd rv rw (ar_n co) (ar_n le) (ar_n re) (ar_n ch) la rt sz pa' sp' ur ud uv ua sn) →
      (∀ r, (Q.flatMap (tr_g (nd_X co re ch) h)).find? (fun r => nc_p f_synced f_goal (rb r) (rd r)) = some r → ∀ pa' sp' : Nat → Int32, post (nI r) ((nI fn), f_freeRecord, f_done, f_changes, f_undo, f_volume, f_snaps, f_syncing, f_synced, f_goal, f_cObj, f_cKey, f_cBorn, f_begun, f_fObj, f_fKey, f_fValue, f_fBorn, ro, rk, rb, rd, rv, rw, (ar_n co), (ar_n le), (ar_n re), (ar_n ch), la, rt, sz, pa', sp', ur, ud, uv, ua, sn)) →
      ∀ f, f0 + k ≤ f → wX_nextChanged_5 post (nI fn) f_freeRecord f_done f_changes f_undo f_volume f_snaps f_syncing f_synced f_goal f_cObj f_cKey f_cBorn f_begun f_fObj f_fKey f_fValue f_fBorn f (nI (D + 1)) ro rk rb rd rv rw (ar_n co) (ar_n le) (ar_n re) (ar_n ch) la rt sz pa sp ur ud uv ua sn) := by
  -- the record's turn, from what follows it
  have odd : ∀ (h n : Nat), n < 110 → ∀ (Q P : List (Nat × Nat)) (x c : Nat), nd_X co re ch n = P ++ (x, c) :: Q →
      (∀ y d Q', Q = (y, d) :: Q' → ∃ k, ∀ (D : Nat) (pa sp : Nat → Int32) (f0 : Nat), D + (h + 1) ≤ 10 → pa D = nI n → sp D = nI (2 * (P.length + 1)) →
        ((tr_L (nd_X co re ch) h d ++ Q'.flatMap (tr_g (nd_X co re ch) h)).find? (fun r => nc_p f_synced f_goal (rb r) (rd r)) = none → ∀ pa' sp' : Nat → Int32, (∀ j, j < D → pa' j = pa j ∧ sp' j = sp j) → ∀ f, f0 ≤ f → wX_nextChanged_5 post (nI fn) f_freeRecord f_done f_changes f_undo f_volume f_snaps f_syncing f_synced f_goal f_cObj f_cKey f_cBorn f_begun f_fObj f_fKey f_fValue f_fBorn f (nI D) ro rk rb rd rv rw (ar_n co) (ar_n le) (ar_n re) (ar_n ch) la rt sz pa' sp' ur ud uv ua sn) →
        (∀ r, (tr_L (nd_X co re ch) h d ++ Q'.flatMap (tr_g (nd_X co re ch) h)).find? (fun r => nc_p f_synced f_goal (rb r) (rd r)) = some r → ∀ pa' sp' : Nat → Int32, post (nI r) ((nI fn), f_freeRecord, f_done, f_changes, f_undo, f_volume, f_snaps, f_syncing, f_synced, f_goal, f_cObj, f_cKey, f_cBorn, f_begun, f_fObj, f_fKey, f_fValue, f_fBorn, ro, rk, rb, rd, rv, rw, (ar_n co), (ar_n le), (ar_n re), (ar_n ch), la, rt, sz, pa', sp', ur, ud, uv, ua, sn)) →
        ∀ f, f0 + k ≤ f → wX_nextChanged_5 post (nI fn) f_freeRecord f_done f_changes f_undo f_volume f_snaps f_syncing f_synced f_goal f_cObj f_cKey f_cBorn f_begun f_fObj f_fKey f_fValue f_fBorn f (nI (D + 1)) ro rk rb rd rv rw (ar_n co) (ar_n le) (ar_n re) (ar_n ch) la rt sz pa sp ur ud uv ua sn) →
      ∃ k, ∀ (D : Nat) (pa sp : Nat → Int32) (f0 : Nat), D + (h + 1) ≤ 10 → pa D = nI n → sp D = nI (2 * P.length + 1) →
        ((Q.flatMap (tr_g (nd_X co re ch) h)).find? (fun r => nc_p f_synced f_goal (rb r) (rd r)) = none → ∀ pa' sp' : Nat → Int32, (∀ j, j < D → pa' j = pa j ∧ sp' j = sp j) → ∀ f, f0 ≤ f → wX_nextChanged_5 post (nI fn) f_freeRecord f_done f_changes f_undo f_volume f_snaps f_syncing f_synced f_goal f_cObj f_cKey f_cBorn f_begun f_fObj f_fKey f_fValue f_fBorn f (nI D) ro rk rb rd rv rw (ar_n co) (ar_n le) (ar_n re) (ar_n ch) la rt sz pa' sp' ur ud uv ua sn) →
        (∀ r, (Q.flatMap (tr_g (nd_X co re ch) h)).find? (fun r => nc_p f_synced f_goal (rb r) (rd r)) = some r → ∀ pa' sp' : Nat → Int32, post (nI r) ((nI fn), f_freeRecord, f_done, f_changes, f_undo, f_volume, f_snaps, f_syncing, f_synced, f_goal, f_cObj, f_cKey, f_cBorn, f_begun, f_fObj, f_fKey, f_fValue, f_fBorn, ro, rk, rb, rd, rv, rw, (ar_n co), (ar_n le), (ar_n re), (ar_n ch), la, rt, sz, pa', sp', ur, ud, uv, ua, sn)) →
        ∀ f, f0 + k ≤ f → wX_nextChanged_5 post (nI fn) f_freeRecord f_done f_changes f_undo f_volume f_snaps f_syncing f_synced f_goal f_cObj f_cKey f_cBorn f_begun f_fObj f_fKey f_fValue f_fBorn f (nI (D + 1)) ro rk rb rd rv rw (ar_n co) (ar_n le) (ar_n re) (ar_n ch) la rt sz pa sp ur ud uv ua sn := by
    intro h n hn Q P x c hX hE
    have h5 := ok.1 n
    have hl := nd_co hX
    rw [List.length_cons] at hl
    cases Q with
    | nil =>
      rw [List.length_nil] at hl
      refine ⟨1, fun D pa sp f0 hD hp hs Kn Ks f hf => ?_⟩
      obtain ⟨f, rfl⟩ : ∃ g, f = g + 1 := ⟨f - 1, by omega⟩
      exact nc_odd (by omega) hn (by omega) hp hs h5 (fun _ => Kn rfl pa _ (fun j hj => ⟨rfl, pk_un (by omega)⟩) f (by omega)) (fun z => absurd (show P.length = co n by omega) z)
    | cons e Q =>
      obtain ⟨y, d⟩ := e
      rw [List.length_cons] at hl
      have hX' : nd_X co re ch n = (P ++ [(x, c)]) ++ (y, d) :: Q := by rw [hX, List.append_assoc]; rfl
      have hy : re (5 * n + P.length) = y := nd_re hX' (by rw [List.length_append]; rfl)
      have hy2 := ok.2.1 (5 * n + P.length)
      have hfl : ((y, d) :: Q).flatMap (tr_g (nd_X co re ch) h) = y :: (tr_L (nd_X co re ch) h d ++ Q.flatMap (tr_g (nd_X co re ch) h)) := by rw [List.flatMap_cons]; rfl
      obtain ⟨k, hk⟩ := hE y d Q rfl
      refine ⟨k + 1, fun D pa sp f0 hD hp hs Kn Ks f hf => ?_⟩
      obtain ⟨f, rfl⟩ : ∃ g, f = g + 1 := ⟨f - 1, by omega⟩
      rw [hfl] at Kn Ks
      refine nc_odd (by omega) hn (by omega) hp hs h5 (fun z => absurd z (by omega)) (fun _ => ⟨by omega, by omega, fun z => ?_, fun z => ?_⟩)
      · rw [hy] at z ⊢
        exact Ks y (List.find?_cons_of_pos z) pa _
      · rw [hy] at z
        have z' : ¬ (nc_p f_synced f_goal (rb y) (rd y)) = true := by rw [z]; decide
        have eq : (y :: (tr_L (nd_X co re ch) h d ++ Q.flatMap (tr_g (nd_X co re ch) h))).find? (fun r => nc_p f_synced f_goal (rb r) (rd r)) = (tr_L (nd_X co re ch) h d ++ Q.flatMap (tr_g (nd_X co re ch) h)).find? (fun r => nc_p f_synced f_goal (rb r) (rd r)) := List.find?_cons_of_neg z'
        rw [eq] at Kn Ks
        refine hk D pa (upd sp D (nI (2 * P.length + 2))) f0 hD hp (by rw [pk_us]; exact congrArg nI (by omega)) (fun q pa' sp' hag f hf => Kn q pa' sp' (fun j hj => ⟨(hag j hj).1, by rw [(hag j hj).2, pk_un (by omega)]⟩) f hf) Ks f (by omega)
  intro h
  induction h with
  | zero =>
    intro n w hN hC Q
    have hn : n < 110 := hN n (tr_hd _ n)
    have h5 := ok.1 n
    have hle : le n = 1 := w.1
    have both : ∀ (Q P : List (Nat × Nat)) (x c : Nat), nd_X co re ch n = P ++ (x, c) :: Q → _ → _ := fun Q P x c hX (O : ∃ k, ∀ (D : Nat) (pa sp : Nat → Int32) (f0 : Nat), D + (0 + 1) ≤ 10 → pa D = nI n → sp D = nI (2 * P.length + 1) →
        ((Q.flatMap (tr_g (nd_X co re ch) 0)).find? (fun r => nc_p f_synced f_goal (rb r) (rd r)) = none → ∀ pa' sp' : Nat → Int32, (∀ j, j < D → pa' j = pa j ∧ sp' j = sp j) → ∀ f, f0 ≤ f → wX_nextChanged_5 post (nI fn) f_freeRecord f_done f_changes f_undo f_volume f_snaps f_syncing f_synced f_goal f_cObj f_cKey f_cBorn f_begun f_fObj f_fKey f_fValue f_fBorn f (nI D) ro rk rb rd rv rw (ar_n co) (ar_n le) (ar_n re) (ar_n ch) la rt sz pa' sp' ur ud uv ua sn) →
        (∀ r, (Q.flatMap (tr_g (nd_X co re ch) 0)).find? (fun r => nc_p f_synced f_goal (rb r) (rd r)) = some r → ∀ pa' sp' : Nat → Int32, post (nI r) ((nI fn), f_freeRecord, f_done, f_changes, f_undo, f_volume, f_snaps, f_syncing, f_synced, f_goal, f_cObj, f_cKey, f_cBorn, f_begun, f_fObj, f_fKey, f_fValue, f_fBorn, ro, rk, rb, rd, rv, rw, (ar_n co), (ar_n le), (ar_n re), (ar_n ch), la, rt, sz, pa', sp', ur, ud, uv, ua, sn)) →
        ∀ f, f0 + k ≤ f → wX_nextChanged_5 post (nI fn) f_freeRecord f_done f_changes f_undo f_volume f_snaps f_syncing f_synced f_goal f_cObj f_cKey f_cBorn f_begun f_fObj f_fKey f_fValue f_fBorn f (nI (D + 1)) ro rk rb rd rv rw (ar_n co) (ar_n le) (ar_n re) (ar_n ch) la rt sz pa sp ur ud uv ua sn) => (show (∃ k, ∀ (D : Nat) (pa sp : Nat → Int32) (f0 : Nat), D + (0 + 1) ≤ 10 → pa D = nI n → sp D = nI (2 * P.length) →
      ((tr_L (nd_X co re ch) 0 c ++ Q.flatMap (tr_g (nd_X co re ch) 0)).find? (fun r => nc_p f_synced f_goal (rb r) (rd r)) = none → ∀ pa' sp' : Nat → Int32, (∀ j, j < D → pa' j = pa j ∧ sp' j = sp j) → ∀ f, f0 ≤ f → wX_nextChanged_5 post (nI fn) f_freeRecord f_done f_changes f_undo f_volume f_snaps f_syncing f_synced f_goal f_cObj f_cKey f_cBorn f_begun f_fObj f_fKey f_fValue f_fBorn f (nI D) ro rk rb rd rv rw (ar_n co) (ar_n le) (ar_n re) (ar_n ch) la rt sz pa' sp' ur ud uv ua sn) →
      (∀ r, (tr_L (nd_X co re ch) 0 c ++ Q.flatMap (tr_g (nd_X co re ch) 0)).find? (fun r => nc_p f_synced f_goal (rb r) (rd r)) = some r → ∀ pa' sp' : Nat → Int32, post (nI r) ((nI fn), f_freeRecord, f_done, f_changes, f_undo, f_volume, f_snaps, f_syncing, f_synced, f_goal, f_cObj, f_cKey, f_cBorn, f_begun, f_fObj, f_fKey, f_fValue, f_fBorn, ro, rk, rb, rd, rv, rw, (ar_n co), (ar_n le), (ar_n re), (ar_n ch), la, rt, sz, pa', sp', ur, ud, uv, ua, sn)) →
      ∀ f, f0 + k ≤ f → wX_nextChanged_5 post (nI fn) f_freeRecord f_done f_changes f_undo f_volume f_snaps f_syncing f_synced f_goal f_cObj f_cKey f_cBorn f_begun f_fObj f_fKey f_fValue f_fBorn f (nI (D + 1)) ro rk rb rd rv rw (ar_n co) (ar_n le) (ar_n re) (ar_n ch) la rt sz pa sp ur ud uv ua sn) from by
        obtain ⟨k, hk⟩ := O
        have hl := nd_co hX
        rw [List.length_cons] at hl
        refine ⟨k + 1, fun D pa sp f0 hD hp hs Kn Ks f hf => ?_⟩
        obtain ⟨f, rfl⟩ : ∃ g, f = g + 1 := ⟨f - 1, by omega⟩
        refine nc_even (c := 0) (by omega) hn (by omega) hp hs (fun _ => ⟨hle, ?_⟩) (fun z => absurd (hle.symm.trans z) (by decide))
        exact hk D pa _ f0 hD hp pk_us (fun q pa' sp' hag f hf => Kn q pa' sp' (fun j hj => ⟨(hag j hj).1, by rw [(hag j hj).2, pk_un (by omega)]⟩) f hf) Ks f (by omega))
    induction Q with
    | nil =>
      intro P x c hX
      have O := odd 0 n hn [] P x c hX (fun y d Q' z => by cases z)
      exact ⟨both [] P x c hX O, O⟩
    | cons e Q ihQ =>
      intro P x c hX
      have O := odd 0 n hn (e :: Q) P x c hX (fun y d Q' z => by
        cases z
        have := (ihQ (P ++ [(x, c)]) y d (by rw [hX, List.append_assoc]; rfl)).1
        rw [List.length_append] at this
        exact this)
      exact ⟨both (e :: Q) P x c hX O, O⟩
  | succ h ih =>
    intro n w hN hC Q
    have hn : n < 110 := hN n (tr_hd _ n)
    have h5 := ok.1 n
    have hle : le n = 0 := by rw [w.1, tr_z1 (by omega)]
    have both : ∀ (Q P : List (Nat × Nat)) (x c : Nat), nd_X co re ch n = P ++ (x, c) :: Q → _ → _ := fun Q P x c hX (O : ∃ k, ∀ (D : Nat) (pa sp : Nat → Int32) (f0 : Nat), D + (h + 1 + 1) ≤ 10 → pa D = nI n → sp D = nI (2 * P.length + 1) →
        ((Q.flatMap (tr_g (nd_X co re ch) (h + 1))).find? (fun r => nc_p f_synced f_goal (rb r) (rd r)) = none → ∀ pa' sp' : Nat → Int32, (∀ j, j < D → pa' j = pa j ∧ sp' j = sp j) → ∀ f, f0 ≤ f → wX_nextChanged_5 post (nI fn) f_freeRecord f_done f_changes f_undo f_volume f_snaps f_syncing f_synced f_goal f_cObj f_cKey f_cBorn f_begun f_fObj f_fKey f_fValue f_fBorn f (nI D) ro rk rb rd rv rw (ar_n co) (ar_n le) (ar_n re) (ar_n ch) la rt sz pa' sp' ur ud uv ua sn) →
        (∀ r, (Q.flatMap (tr_g (nd_X co re ch) (h + 1))).find? (fun r => nc_p f_synced f_goal (rb r) (rd r)) = some r → ∀ pa' sp' : Nat → Int32, post (nI r) ((nI fn), f_freeRecord, f_done, f_changes, f_undo, f_volume, f_snaps, f_syncing, f_synced, f_goal, f_cObj, f_cKey, f_cBorn, f_begun, f_fObj, f_fKey, f_fValue, f_fBorn, ro, rk, rb, rd, rv, rw, (ar_n co), (ar_n le), (ar_n re), (ar_n ch), la, rt, sz, pa', sp', ur, ud, uv, ua, sn)) →
        ∀ f, f0 + k ≤ f → wX_nextChanged_5 post (nI fn) f_freeRecord f_done f_changes f_undo f_volume f_snaps f_syncing f_synced f_goal f_cObj f_cKey f_cBorn f_begun f_fObj f_fKey f_fValue f_fBorn f (nI (D + 1)) ro rk rb rd rv rw (ar_n co) (ar_n le) (ar_n re) (ar_n ch) la rt sz pa sp ur ud uv ua sn) => (show (∃ k, ∀ (D : Nat) (pa sp : Nat → Int32) (f0 : Nat), D + (h + 1 + 1) ≤ 10 → pa D = nI n → sp D = nI (2 * P.length) →
      ((tr_L (nd_X co re ch) (h + 1) c ++ Q.flatMap (tr_g (nd_X co re ch) (h + 1))).find? (fun r => nc_p f_synced f_goal (rb r) (rd r)) = none → ∀ pa' sp' : Nat → Int32, (∀ j, j < D → pa' j = pa j ∧ sp' j = sp j) → ∀ f, f0 ≤ f → wX_nextChanged_5 post (nI fn) f_freeRecord f_done f_changes f_undo f_volume f_snaps f_syncing f_synced f_goal f_cObj f_cKey f_cBorn f_begun f_fObj f_fKey f_fValue f_fBorn f (nI D) ro rk rb rd rv rw (ar_n co) (ar_n le) (ar_n re) (ar_n ch) la rt sz pa' sp' ur ud uv ua sn) →
      (∀ r, (tr_L (nd_X co re ch) (h + 1) c ++ Q.flatMap (tr_g (nd_X co re ch) (h + 1))).find? (fun r => nc_p f_synced f_goal (rb r) (rd r)) = some r → ∀ pa' sp' : Nat → Int32, post (nI r) ((nI fn), f_freeRecord, f_done, f_changes, f_undo, f_volume, f_snaps, f_syncing, f_synced, f_goal, f_cObj, f_cKey, f_cBorn, f_begun, f_fObj, f_fKey, f_fValue, f_fBorn, ro, rk, rb, rd, rv, rw, (ar_n co), (ar_n le), (ar_n re), (ar_n ch), la, rt, sz, pa', sp', ur, ud, uv, ua, sn)) →
      ∀ f, f0 + k ≤ f → wX_nextChanged_5 post (nI fn) f_freeRecord f_done f_changes f_undo f_volume f_snaps f_syncing f_synced f_goal f_cObj f_cKey f_cBorn f_begun f_fObj f_fKey f_fValue f_fBorn f (nI (D + 1)) ro rk rb rd rv rw (ar_n co) (ar_n le) (ar_n re) (ar_n ch) la rt sz pa sp ur ud uv ua sn) from by
        obtain ⟨k, hk⟩ := O
        have hl := nd_co hX
        rw [List.length_cons] at hl
        have hcm : (x, c) ∈ nd_X co re ch n := by rw [hX]; simp
        have hc1 : c < 110 := hN c (tr_sub hcm (tr_hd _ c))
        obtain ⟨Qc, ec⟩ := nd_hd (co := co) (re := re) (ch := ch) (n := c)
        obtain ⟨⟨k2, hk2⟩, -⟩ := ih c (w.2.2 (x, c) hcm).2 (fun m hm => hN m (tr_sub hcm hm)) (fun m hm => hC m (tr_sub hcm hm)) Qc [] 0 _ ec
        have eL : tr_L (nd_X co re ch) h (ch (6 * c)) ++ Qc.flatMap (tr_g (nd_X co re ch) h) = tr_L (nd_X co re ch) (h + 1) c := by
          rw [tr_Ld (h := h) (P := []) ec, tr_p0, List.nil_append]
        rw [eL] at hk2
        refine ⟨k + k2 + 1, fun D pa sp f0 hD hp hs Kn Ks f hf => ?_⟩
        obtain ⟨f, rfl⟩ : ∃ g, f = g + 1 := ⟨f - 1, by omega⟩
        rw [List.find?_append] at Kn Ks
        refine nc_even (c := c) (by omega) hn (by omega) hp hs (fun z => absurd hle z) (fun _ => ⟨nd_ch hX, hc1, fun z => ?_, fun z => ⟨by omega, ?_⟩⟩)
        · have none : (tr_L (nd_X co re ch) (h + 1) c).find? (fun r => nc_p f_synced f_goal (rb r) (rd r)) = none := by
            refine List.find?_eq_none.mpr (fun a ha q => ?_)
            obtain ⟨u1, u2⟩ := tr_ub (h + 1) c (w.2.2 (x, c) hcm).2 (fun m hm => hC m (tr_sub hcm hm)) a ha
            have u1' := Int32.le_trans u1 z
            have u2' := Int32.le_trans u2 z
            rcases nc_iff.mp q with y | y
            · exact absurd u1' (Int32.not_le.mpr y.1)
            · exact absurd u2' (Int32.not_le.mpr y.2.1)
          rw [none] at Kn Ks
          exact hk D pa _ f0 hD hp pk_us (fun q pa' sp' hag f hf => Kn q pa' sp' (fun j hj => ⟨(hag j hj).1, by rw [(hag j hj).2, pk_un (by omega)]⟩) f hf) (fun r q => Ks r q) f (by omega)
        · refine hk2 (D + 1) _ _ (f0 + k) (by omega) pk_us pk_us (fun q pa' sp' hag f hf => ?_) (fun r q pa' sp' => Ks r (by rw [q]; rfl) pa' sp') f (by omega)
          rw [q] at Kn Ks
          have hag1 := hag D (by omega)
          refine hk D pa' sp' f0 hD (by rw [hag1.1, pk_un (by omega), hp]) (by rw [hag1.2, pk_un (by omega), pk_us]) (fun q2 pa2 sp2 hag2 f hf => Kn q2 pa2 sp2 (fun j hj => ?_) f hf) (fun r q2 => Ks r q2) f (by omega)
          obtain ⟨e1, e2⟩ := hag2 j hj
          obtain ⟨e3, e4⟩ := hag j (by omega)
          exact ⟨by rw [e1, e3, pk_un (by omega)], by rw [e2, e4, pk_un (by omega), pk_un (by omega)]⟩)
    induction Q with
    | nil =>
      intro P x c hX
      have O := odd (h + 1) n hn [] P x c hX (fun y d Q' z => by cases z)
      exact ⟨both [] P x c hX O, O⟩
    | cons e Q ihQ =>
      intro P x c hX
      have O := odd (h + 1) n hn (e :: Q) P x c hX (fun y d Q' z => by
        cases z
        have := (ihQ (P ++ [(x, c)]) y d (by rw [hX, List.append_assoc]; rfl)).1
        rw [List.length_append] at this
        exact this)
      exact ⟨both (e :: Q) P x c hX O, O⟩
end WX
end
section
/-! ===== resume, nextChanged as a whole ===== -/
section WX
variable {f_freeRecord f_done f_changes f_undo f_volume f_snaps f_syncing f_synced f_goal f_cObj f_cKey f_cBorn f_begun f_fObj f_fKey f_fValue f_fBorn : Int32} {fn : Nat} {co le re ch : Nat → Nat} {ro rk rb rd rv rw la rt sz pa sp ur ud uv ua sn : Nat → Int32}
variable {post : Int32 → SX → Prop} {J : Int32 → Int32 → Int32 → (Nat → Int32) → (Nat → Int32) → (Nat → Int32) → (Nat → Int32) → (Nat → Int32) → (Nat → Int32) → (Nat → Int32) → (Nat → Int32) → (Nat → Int32) → (Nat → Int32) → (Nat → Int32) → (Nat → Int32) → (Nat → Int32) → (Nat → Int32) → (Nat → Int32) → (Nat → Int32) → (Nat → Int32) → (Nat → Int32) → (Nat → Int32) → (Nat → Int32) → Prop} {n i c D s : Nat}
theorem rs_177 {mo : Int32} (hn : n < 110) (hi : i < 6) (hD : D < 10) (hs : s < 128) (hc : ch (6 * n + i) = c) (K0 : mo = 0 → J (nI n) (nI (D + 1)) 0 ro rk rb rd rv rw (ar_n co) (ar_n le) (ar_n re) (ar_n ch) la rt sz pa (upd sp D (nI s)) ur ud uv ua sn) (K1 : mo = 1 → J (nI c) (nI (D + 1)) 1 ro rk rb rd rv rw (ar_n co) (ar_n le) (ar_n re) (ar_n ch) la rt sz pa (upd sp D (nI s)) ur ud uv ua sn) (hm : mo = 0 ∨ mo = 1) :
    wX_resume_177 post J (nI n) (nI (D + 1)) mo (nI i) (nI s) (nI D) (nI fn) f_freeRecord f_done f_changes f_undo f_volume f_snaps f_syncing f_synced f_goal f_cObj f_cKey f_cBorn f_begun f_fObj f_fKey f_fValue f_fBorn ro rk rb rd rv rw (ar_n co) (ar_n le) (ar_n re) (ar_n ch) la rt sz pa sp ur ud uv ua sn := by
  unfold wX_resume_177
  rw [ar_6, ar_c (f := ch) (by omega), hc, nI_clamp (n := D) (by omega), ar_bb hs]
  refine ⟨vp_in_nI hD (by decide), nm_e ?_⟩
  rcases hm with rfl | rfl
  · exact br_t rfl (K0 rfl)
  · exact br_f (by decide) ⟨vp_in_nI (by omega) (by decide), nm_e (K1 rfl)⟩
theorem rs_139 {mo at_ : Int32} (hn : n < 110) (hi : i < 6) (hD : D < 10) (hc : ch (6 * n + i) = c) (ha : at_ = 0 ∧ s = 2 * i + 1 ∨ at_ = 1 ∧ s = 2 * i + 2) (K0 : mo = 0 → J (nI n) (nI (D + 1)) 0 ro rk rb rd rv rw (ar_n co) (ar_n le) (ar_n re) (ar_n ch) la rt sz (upd pa D (nI n)) (upd sp D (nI s)) ur ud uv ua sn) (K1 : mo = 1 → J (nI c) (nI (D + 1)) 1 ro rk rb rd rv rw (ar_n co) (ar_n le) (ar_n re) (ar_n ch) la rt sz (upd pa D (nI n)) (upd sp D (nI s)) ur ud uv ua sn) (hm : mo = 0 ∨ mo = 1) :
    wX_resume_139 post J (nI n) (nI D) mo (nI i) at_ (nI fn) f_freeRecord f_done f_changes f_undo f_volume f_snaps f_syncing f_synced f_goal f_cObj f_cKey f_cBorn f_begun f_fObj f_fKey f_fValue f_fBorn ro rk rb rd rv rw (ar_n co) (ar_n le) (ar_n re) (ar_n ch) la rt sz pa sp ur ud uv ua sn := by
  unfold wX_resume_139
  rw [nI_clamp (n := D) (by omega), ar_bb (n := n) (by omega)]
  refine ⟨vp_in_nI hD (by decide), nm_e (nm_r (nI_1 D) ?_)⟩
  have e2 : nI i * 2 = nI (2 * i) := by
    show nI i * nI 2 = _
    rw [pk_mul, Nat.mul_comm]
  rw [e2, nI_1, ar_2]
  rcases ha with ⟨rfl, rfl⟩ | ⟨rfl, rfl⟩
  · exact br_t rfl (rs_177 hn hi hD (by omega) hc K0 K1 hm)
  · exact br_f (by decide) (rs_177 hn hi hD (by omega) hc K0 K1 hm)
end WX
section WY
variable {f_freeRecord f_done f_changes f_undo f_volume f_snaps f_syncing f_synced f_goal f_cObj f_cKey f_cBorn f_begun f_fObj f_fKey f_fValue f_fBorn : Int32} {fn : Nat} {co le re ch : Nat → Nat} {ro rk rb rd rv rw la rt sz pa sp ur ud uv ua sn : Nat → Int32}
variable {post rpost : Int32 → SX → Prop}
theorem rs_all (ok : nd_ok co re ch) (hb : f_begun = 1) (hR : ∀ (D : Nat) (pa' sp' : Nat → Int32), (∃ f, wX_nextChanged_5 post (nI fn) f_freeRecord f_done f_changes f_undo f_volume f_snaps f_syncing f_synced f_goal f_cObj f_cKey f_cBorn f_begun f_fObj f_fKey f_fValue f_fBorn f (nI D) ro rk rb rd rv rw (ar_n co) (ar_n le) (ar_n re) (ar_n ch) la rt sz pa' sp' ur ud uv ua sn) → rpost (nI D) ((nI fn), f_freeRecord, f_done, f_changes, f_undo, f_volume, f_snaps, f_syncing, f_synced, f_goal, f_cObj, f_cKey, f_cBorn, f_begun, f_fObj, f_fKey, f_fValue, f_fBorn, ro, rk, rb, rd, rv, rw, (ar_n co), (ar_n le), (ar_n re), (ar_n ch), la, rt, sz, pa', sp', ur, ud, uv, ua, sn)) :
    ∀ (h g n D : Nat) (pa sp : Nat → Int32) (f0 : Nat), 0 < h → tr_W (nd_X co re ch) le h n → (∀ m, m ∈ tr_N (nd_X co re ch) h n → m < 110) → (∀ m, m ∈ tr_N (nd_X co re ch) h n → tr_C (nd_X co re ch) le rb rd la m) → ky_S (ky_r ro rk rb) (tr_L (nd_X co re ch) h n) → h < g → D + h ≤ 10 →
    (((tr_L (nd_X co re ch) h n).filter (fun r => decide (ky_e f_cObj f_cKey f_cBorn < ky_r ro rk rb r))).find? (fun r => nc_p f_synced f_goal (rb r) (rd r)) = none → ∀ pa' sp' : Nat → Int32, (∀ j, j < D → pa' j = pa j ∧ sp' j = sp j) → ∀ f, f0 ≤ f → wX_nextChanged_5 post (nI fn) f_freeRecord f_done f_changes f_undo f_volume f_snaps f_syncing f_synced f_goal f_cObj f_cKey f_cBorn f_begun f_fObj f_fKey f_fValue f_fBorn f (nI D) ro rk rb rd rv rw (ar_n co) (ar_n le) (ar_n re) (ar_n ch) la rt sz pa' sp' ur ud uv ua sn) →
    (∀ r, ((tr_L (nd_X co re ch) h n).filter (fun r => decide (ky_e f_cObj f_cKey f_cBorn < ky_r ro rk rb r))).find? (fun r => nc_p f_synced f_goal (rb r) (rd r)) = some r → ∀ pa' sp' : Nat → Int32, post (nI r) ((nI fn), f_freeRecord, f_done, f_changes, f_undo, f_volume, f_snaps, f_syncing, f_synced, f_goal, f_cObj, f_cKey, f_cBorn, f_begun, f_fObj, f_fKey, f_fValue, f_fBorn, ro, rk, rb, rd, rv, rw, (ar_n co), (ar_n le), (ar_n re), (ar_n ch), la, rt, sz, pa', sp', ur, ud, uv, ua, sn)) →
    wX_resume_14 rpost (nI fn) f_freeRecord f_done f_changes f_undo f_volume f_snaps f_syncing f_synced f_goal f_cObj f_cKey f_cBorn f_begun f_fObj f_fKey f_fValue f_fBorn g (nI n) (nI D) 1 ro rk rb rd rv rw (ar_n co) (ar_n le) (ar_n re) (ar_n ch) la rt sz pa sp ur ud uv ua sn := by
  have fl : ∀ {A B C : List Nat} {p : Nat → Bool}, (∀ a, a ∈ A → p a = false) → (∀ b, b ∈ C → p b = true) → (A ++ (B ++ C)).filter p = B.filter p ++ C := fun {A B C p} h1 h2 => by
    rw [List.filter_append, List.filter_append, List.filter_eq_nil_iff.mpr (fun a ha => by rw [h1 a ha]; decide), List.filter_eq_self.mpr h2, List.nil_append]
  intro h
  induction h with
  | zero => intro g n D pa sp f0 h0; omega
  | succ h ih =>
    intro g n D pa sp f0 _ w hN hC hS hg hD Kn Ks
    obtain ⟨g, rfl⟩ : ∃ k, g = k + 1 := ⟨g - 1, by omega⟩
    have hn : n < 110 := hN n (tr_hd _ n)
    have h5 := ok.1 n
    have vn : vp_in (nI n) 110 := vp_in_nI hn (by decide)
    rw [wX_resume_14]
    dsimp only
    refine br_f (by decide) (wx_place ok hn ?_)
    intro P x c B hX h1 h2
    obtain ⟨p1, p2, p3⟩ := so_node hX hS h1 h2
    have hl := nd_co hX
    rw [List.length_cons] at hl
    have hcm : (x, c) ∈ nd_X co re ch n := by rw [hX]; simp
    have hLd := tr_Ld (h := h) hX
    have nc := nc_all (post := post) (fn := fn) (f_freeRecord := f_freeRecord) (f_done := f_done) (f_changes := f_changes) (f_undo := f_undo) (f_volume := f_volume) (f_snaps := f_snaps) (f_syncing := f_syncing) (f_synced := f_synced) (f_goal := f_goal) (f_cObj := f_cObj) (f_cKey := f_cKey) (f_cBorn := f_cBorn) (f_begun := f_begun) (f_fObj := f_fObj) (f_fKey := f_fKey) (f_fValue := f_fValue) (f_fBorn := f_fBorn) (ro := ro) (rk := rk) (rv := rv) (rw := rw) (rt := rt) (sz := sz) (ur := ur) (ud := ud) (uv := uv) (ua := ua) (sn := sn) ok h n w hN hC
    -- the end of the way: the stack stands
    have fin : ∀ (s : Nat), (∃ f, wX_nextChanged_5 post (nI fn) f_freeRecord f_done f_changes f_undo f_volume f_snaps f_syncing f_synced f_goal f_cObj f_cKey f_cBorn f_begun f_fObj f_fKey f_fValue f_fBorn f (nI (D + 1)) ro rk rb rd rv rw (ar_n co) (ar_n le) (ar_n re) (ar_n ch) la rt sz (upd pa D (nI n)) (upd sp D (nI s)) ur ud uv ua sn) → wX_resume_14 rpost (nI fn) f_freeRecord f_done f_changes f_undo f_volume f_snaps f_syncing f_synced f_goal f_cObj f_cKey f_cBorn f_begun f_fObj f_fKey f_fValue f_fBorn g (nI n) (nI (D + 1)) 0 ro rk rb rd rv rw (ar_n co) (ar_n le) (ar_n re) (ar_n ch) la rt sz (upd pa D (nI n)) (upd sp D (nI s)) ur ud uv ua sn := by
      intro s hf
      obtain ⟨g, rfl⟩ : ∃ k, g = k + 1 := ⟨g - 1, by omega⟩
      rw [wX_resume_14]
      exact br_t rfl (br_f (by rw [hb]; decide) (hR (D + 1) _ _ hf))
    -- at: the cursor's own record is here
    by_cases hat : ∃ y d B', B = (y, d) :: B' ∧ ky_r ro rk rb y = ky_e f_cObj f_cKey f_cBorn
    · obtain ⟨y, d, B', rfl, hyq⟩ := hat
      rw [List.length_cons] at hl
      have hX' : nd_X co re ch n = (P ++ [(x, c)]) ++ (y, d) :: B' := by rw [hX, List.append_assoc]; rfl
      have hPl : (P ++ [(x, c)]).length = P.length + 1 := by simp
      have hy : re (5 * n + P.length) = y := nd_re hX' hPl
      have hy2 := ok.2.1 (5 * n + P.length)
      have u6 := so_node1 hX hS
      have hM : (tr_L (nd_X co re ch) (h + 1) n).filter (fun r => decide (ky_e f_cObj f_cKey f_cBorn < ky_r ro rk rb r)) = tr_L (nd_X co re ch) h d ++ B'.flatMap (tr_g (nd_X co re ch) h) := by
        have hLd' := tr_Ld (h := h) hX'
        have f1 : ∀ a, a ∈ tr_p (nd_X co re ch) h (P ++ [(x, c)]) y → decide (ky_e f_cObj f_cKey f_cBorn < ky_r ro rk rb a) = false := fun a ha => by
          rw [tr_p2, ← List.append_assoc] at ha
          have k3 := ky_3 (by rw [← hLd']; exact hS)
          rw [tr_p2, ← List.append_assoc] at k3
          refine decide_eq_false ?_
          rcases List.mem_append.mp ha with z | z
          · have := (List.pairwise_append.mp k3.2.2.2.2.2).2.2 a z y (List.mem_singleton.mpr rfl)
            omega
          · rw [List.mem_singleton.mp z]; omega
        have f2 : ∀ b, b ∈ B'.flatMap (tr_g (nd_X co re ch) h) → decide (ky_e f_cObj f_cKey f_cBorn < ky_r ro rk rb b) = true := fun b hb => by
          refine decide_eq_true ?_
          have := u6 b (List.mem_append.mpr (Or.inr hb))
          omega
        have f3 : ∀ a, a ∈ tr_L (nd_X co re ch) h d → decide (ky_e f_cObj f_cKey f_cBorn < ky_r ro rk rb a) = true := fun a ha => by
          refine decide_eq_true ?_
          have := u6 a (List.mem_append.mpr (Or.inl ha))
          omega
        rw [hLd', fl f1 f2, List.filter_eq_self.mpr f3]
      rw [hM] at Kn Ks
      obtain ⟨⟨k, hk⟩, -⟩ := nc B' (P ++ [(x, c)]) y d hX'
      have stop : wX_resume_92 rpost (wX_resume_14 rpost (nI fn) f_freeRecord f_done f_changes f_undo f_volume f_snaps f_syncing f_synced f_goal f_cObj f_cKey f_cBorn f_begun f_fObj f_fKey f_fValue f_fBorn g) (nI n) (nI D) (nI P.length) 0 (nI fn) f_freeRecord f_done f_changes f_undo f_volume f_snaps f_syncing f_synced f_goal f_cObj f_cKey f_cBorn f_begun f_fObj f_fKey f_fValue f_fBorn ro rk rb rd rv rw (ar_n co) (ar_n le) (ar_n re) (ar_n ch) la rt sz pa sp ur ud uv ua sn := by
        unfold wX_resume_92
        rw [ar_c (f := co) (by omega), ar_5, ar_c (f := re) (by omega), hy]
        refine ⟨vn, br_f (nI_ge (by omega) (by omega)) ⟨vp_in_nI (by omega) (by decide), wx_compare (by omega) (fun z => by omega) (fun _ => br_t rfl ?_) (fun z => by omega)⟩⟩
        refine rs_139 (s := 2 * P.length + 2) hn (by omega) (by omega) (nd_ch hX) (Or.inr ⟨rfl, rfl⟩) (fun _ => fin _ ⟨f0 + k, ?_⟩) (fun z => absurd z (by decide)) (Or.inl rfl)
        refine hk D _ _ f0 hD pk_us (by rw [pk_us, hPl]; exact congrArg nI (by omega)) (fun q pa' sp' hag f hf => Kn q pa' sp' (fun j hj => ?_) f hf) Ks (f0 + k) (Nat.le_refl _)
        obtain ⟨e1, e2⟩ := hag j hj
        exact ⟨by rw [e1, pk_un (by omega)], by rw [e2, pk_un (by omega)]⟩
      rw [ar_c (f := le) (by omega), ar_c (f := co) (by omega), ar_5, ar_c (f := re) (by omega), hy]
      refine ⟨vn, ?_⟩
      by_cases z : le n = 0
      · rw [z]
        exact br_t rfl ⟨vn, br_f (fun q => absurd ((nI_eq (by omega) (by omega)).mp q) (by omega)) ⟨vp_in_nI (by omega) (by decide), wx_compare (by omega) (fun z => by omega) (fun _ => br_t rfl stop) (fun z => by omega)⟩⟩
      · rw [((tr_zc w.1).1 z).1]
        exact br_f (by decide) stop
    · have hBgt : ∀ b, b ∈ B.flatMap (tr_g (nd_X co re ch) h) → ky_e f_cObj f_cKey f_cBorn < ky_r ro rk rb b := by
        intro b hb
        cases B with
        | nil => exact absurd hb List.not_mem_nil
        | cons e B =>
          obtain ⟨y, d⟩ := e
          have hy : ky_e f_cObj f_cKey f_cBorn ≤ ky_r ro rk rb y := h2 (y, d) B rfl
          have hyn : ky_r ro rk rb y ≠ ky_e f_cObj f_cKey f_cBorn := fun z => hat ⟨y, d, B, rfl, z⟩
          have u6 := so_node1 hX hS
          rw [List.flatMap_cons] at hb
          rcases List.mem_append.mp hb with hb | hb
          · rcases List.mem_cons.mp hb with hb | hb
            · rw [hb]; show _ < ky_r ro rk rb y; omega
            · have := u6 b (List.mem_append.mpr (Or.inl hb))
              omega
          · have := u6 b (List.mem_append.mpr (Or.inr hb))
            omega
      have hM : (tr_L (nd_X co re ch) (h + 1) n).filter (fun r => decide (ky_e f_cObj f_cKey f_cBorn < ky_r ro rk rb r)) = (tr_L (nd_X co re ch) h c).filter (fun r => decide (ky_e f_cObj f_cKey f_cBorn < ky_r ro rk rb r)) ++ B.flatMap (tr_g (nd_X co re ch) h) := by
        rw [hLd, fl (fun a ha => decide_eq_false (by have := p1 a ha; omega)) (fun b hb => decide_eq_true (hBgt b hb))]
      rw [hM, List.find?_append] at Kn Ks
      obtain ⟨-, k, hk⟩ := nc B P x c hX
      have r92 : ∀ mo, wX_resume_139 rpost (wX_resume_14 rpost (nI fn) f_freeRecord f_done f_changes f_undo f_volume f_snaps f_syncing f_synced f_goal f_cObj f_cKey f_cBorn f_begun f_fObj f_fKey f_fValue f_fBorn g) (nI n) (nI D) mo (nI P.length) 0 (nI fn) f_freeRecord f_done f_changes f_undo f_volume f_snaps f_syncing f_synced f_goal f_cObj f_cKey f_cBorn f_begun f_fObj f_fKey f_fValue f_fBorn ro rk rb rd rv rw (ar_n co) (ar_n le) (ar_n re) (ar_n ch) la rt sz pa sp ur ud uv ua sn → wX_resume_92 rpost (wX_resume_14 rpost (nI fn) f_freeRecord f_done f_changes f_undo f_volume f_snaps f_syncing f_synced f_goal f_cObj f_cKey f_cBorn f_begun f_fObj f_fKey f_fValue f_fBorn g) (nI n) (nI D) (nI P.length) mo (nI fn) f_freeRecord f_done f_changes f_undo f_volume f_snaps f_syncing f_synced f_goal f_cObj f_cKey f_cBorn f_begun f_fObj f_fKey f_fValue f_fBorn ro rk rb rd rv rw (ar_n co) (ar_n le) (ar_n re) (ar_n ch) la rt sz pa sp ur ud uv ua sn := by
        intro mo h139
        unfold wX_resume_92
        rw [ar_c (f := co) (by omega)]
        refine ⟨vn, ?_⟩
        cases B with
        | nil =>
          rw [List.length_nil] at hl
          exact br_t (nI_le (by omega) (by omega)) h139
        | cons e B =>
          obtain ⟨y, d⟩ := e
          rw [List.length_cons] at hl
          have hX' : nd_X co re ch n = (P ++ [(x, c)]) ++ (y, d) :: B := by rw [hX, List.append_assoc]; rfl
          have hy : re (5 * n + P.length) = y := nd_re hX' (by rw [List.length_append]; rfl)
          have hy2 := ok.2.1 (5 * n + P.length)
          have hyq : ky_e f_cObj f_cKey f_cBorn ≤ ky_r ro rk rb y := h2 (y, d) B rfl
          rw [ar_5, ar_c (f := re) (by omega), hy]
          exact br_f (nI_ge (by omega) (by omega)) ⟨vp_in_nI (by omega) (by decide), wx_compare (by omega) (fun z => absurd z (Int.not_lt.mpr hyq)) (fun z => absurd ⟨y, d, B, rfl, z⟩ hat) (fun z => br_f (by decide) h139)⟩
      by_cases z : le n = 0
      · have hh := (tr_zc w.1).2 z
        have more : wX_resume_92 rpost (wX_resume_14 rpost (nI fn) f_freeRecord f_done f_changes f_undo f_volume f_snaps f_syncing f_synced f_goal f_cObj f_cKey f_cBorn f_begun f_fObj f_fKey f_fValue f_fBorn g) (nI n) (nI D) (nI P.length) 1 (nI fn) f_freeRecord f_done f_changes f_undo f_volume f_snaps f_syncing f_synced f_goal f_cObj f_cKey f_cBorn f_begun f_fObj f_fKey f_fValue f_fBorn ro rk rb rd rv rw (ar_n co) (ar_n le) (ar_n re) (ar_n ch) la rt sz pa sp ur ud uv ua sn := by
          refine r92 1 (rs_139 (s := 2 * P.length + 1) hn (by omega) (by omega) (nd_ch hX) (Or.inl ⟨rfl, rfl⟩) (fun z => absurd z (by decide)) (fun _ => ?_) (Or.inr rfl))
          refine ih g c (D + 1) _ _ (f0 + k) hh (w.2.2 (x, c) hcm).2 (fun m hm => hN m (tr_sub hcm hm)) (fun m hm => hC m (tr_sub hcm hm)) p3 (by omega) (by omega) (fun q pa' sp' hag f hf => ?_) (fun r q => Ks r (by rw [q]; rfl))
          rw [q] at Kn Ks
          have hag1 := hag D (by omega)
          refine hk D pa' sp' f0 hD (by rw [hag1.1, pk_us]) (by rw [hag1.2, pk_us]) (fun q2 pa2 sp2 hag2 f hf => Kn q2 pa2 sp2 (fun j hj => ?_) f hf) (fun r q2 => Ks r q2) f (by omega)
          obtain ⟨e1, e2⟩ := hag2 j hj
          obtain ⟨e3, e4⟩ := hag j (by omega)
          exact ⟨by rw [e1, e3, pk_un (by omega)], by rw [e2, e4, pk_un (by omega)]⟩
        rw [ar_c (f := le) (by omega), z, ar_c (f := co) (by omega)]
        refine ⟨vn, br_t rfl ⟨vn, ?_⟩⟩
        cases B with
        | nil =>
          rw [List.length_nil] at hl
          exact br_t (by rw [show P.length = co n by omega]) more
        | cons e B =>
          obtain ⟨y, d⟩ := e
          rw [List.length_cons] at hl
          have hX' : nd_X co re ch n = (P ++ [(x, c)]) ++ (y, d) :: B := by rw [hX, List.append_assoc]; rfl
          have hy : re (5 * n + P.length) = y := nd_re hX' (by rw [List.length_append]; rfl)
          have hy2 := ok.2.1 (5 * n + P.length)
          have hyq : ky_e f_cObj f_cKey f_cBorn ≤ ky_r ro rk rb y := h2 (y, d) B rfl
          rw [ar_5, ar_c (f := re) (by omega), hy]
          exact br_f (fun q => absurd ((nI_eq (by omega) (by omega)).mp q) (by omega)) ⟨vp_in_nI (by omega) (by decide), wx_compare (by omega) (fun z => absurd z (Int.not_lt.mpr hyq)) (fun z => absurd ⟨y, d, B, rfl, z⟩ hat) (fun z => br_f (by decide) more)⟩
      · obtain ⟨z1, z2⟩ := (tr_zc w.1).1 z
        subst z2
        rw [ar_c (f := le) (by omega), z1]
        refine ⟨vn, br_f (by decide) (r92 0 (rs_139 (s := 2 * P.length + 1) hn (by omega) (by omega) (nd_ch hX) (Or.inl ⟨rfl, rfl⟩) (fun _ => fin _ ⟨f0 + k, ?_⟩) (fun z => absurd z (by decide)) (Or.inl rfl)))⟩
        refine hk D _ _ f0 hD pk_us pk_us (fun q pa' sp' hag f hf => Kn q pa' sp' (fun j hj => ?_) f hf) (fun r q => Ks r q) (f0 + k) (Nat.le_refl _)
        obtain ⟨e1, e2⟩ := hag j hj
        exact ⟨by rw [e1, pk_un (by omega)], by rw [e2, pk_un (by omega)]⟩
/-- the records after the cursor, all of them if nothing was sent -/
def nc_M (bg : Int32) (κ : Nat → Int) (q : Int) (L : List Nat) : List Nat := if bg = 0 then L else L.filter (fun r => decide (q < κ r))
theorem gx_next {L : Nat → List Nat} {FR : List Nat} (G : gx_S fn f_freeRecord ro rk rb rd rw co le re ch la rt sz L FR) (hb : f_begun = 0 ∨ f_begun = 1)
    (Kn : (nc_M f_begun (ky_r ro rk rb) (ky_e f_cObj f_cKey f_cBorn) (L 0)).find? (fun r => nc_p f_synced f_goal (rb r) (rd r)) = none → ∀ pa' sp' : Nat → Int32, post (-1) ((nI fn), f_freeRecord, f_done, f_changes, f_undo, f_volume, f_snaps, f_syncing, f_synced, f_goal, f_cObj, f_cKey, f_cBorn, f_begun, f_fObj, f_fKey, f_fValue, f_fBorn, ro, rk, rb, rd, rv, rw, (ar_n co), (ar_n le), (ar_n re), (ar_n ch), la, rt, sz, pa', sp', ur, ud, uv, ua, sn))
    (Ks : ∀ r, (nc_M f_begun (ky_r ro rk rb) (ky_e f_cObj f_cKey f_cBorn) (L 0)).find? (fun r => nc_p f_synced f_goal (rb r) (rd r)) = some r → ∀ pa' sp' : Nat → Int32, post (nI r) ((nI fn), f_freeRecord, f_done, f_changes, f_undo, f_volume, f_snaps, f_syncing, f_synced, f_goal, f_cObj, f_cKey, f_cBorn, f_begun, f_fObj, f_fKey, f_fValue, f_fBorn, ro, rk, rb, rd, rv, rw, (ar_n co), (ar_n le), (ar_n re), (ar_n ch), la, rt, sz, pa', sp', ur, ud, uv, ua, sn)) :
    wpX_nextChanged post ((nI fn), f_freeRecord, f_done, f_changes, f_undo, f_volume, f_snaps, f_syncing, f_synced, f_goal, f_cObj, f_cKey, f_cBorn, f_begun, f_fObj, f_fKey, f_fValue, f_fBorn, ro, rk, rb, rd, rv, rw, (ar_n co), (ar_n le), (ar_n re), (ar_n ch), la, rt, sz, pa, sp, ur, ud, uv, ua, sn) := by
  obtain ⟨h, n, F, I⟩ := G
  obtain ⟨a1, a2, a3, a4, a5, a6⟩ := I.2.2.2.1 0 (by decide)
  obtain ⟨b1, b2, b3⟩ := gx_N I (v := 0) (by decide)
  have h7 := gx_h10 I (v := 0) (by decide)
  have hN : ∀ m, m ∈ tr_N (nd_X co re ch) (h 0) (n 0) → m < 110 := fun m hm => b2 m (List.mem_append.mpr (Or.inl hm))
  obtain ⟨t1, t2, t3, t4, t5⟩ := a2
  have hn : n 0 < 110 := hN _ (tr_hd1 t1 _)
  have end0 : ∀ (L' : List Nat), (nc_M f_begun (ky_r ro rk rb) (ky_e f_cObj f_cKey f_cBorn) (L 0)) = L' → L'.find? (fun r => nc_p f_synced f_goal (rb r) (rd r)) = none → ∀ pa' sp' : Nat → Int32, ∀ f, 1 ≤ f → wX_nextChanged_5 post (nI fn) f_freeRecord f_done f_changes f_undo f_volume f_snaps f_syncing f_synced f_goal f_cObj f_cKey f_cBorn f_begun f_fObj f_fKey f_fValue f_fBorn f (nI 0) ro rk rb rd rv rw (ar_n co) (ar_n le) (ar_n re) (ar_n ch) la rt sz pa' sp' ur ud uv ua sn := by
    intro L' e q pa' sp' f hf
    obtain ⟨f, rfl⟩ : ∃ g, f = g + 1 := ⟨f - 1, by omega⟩
    rw [wX_nextChanged_5]
    exact br_t (by decide) (Kn (by rw [e]; exact q) pa' sp')
  unfold wpX_nextChanged wpX_resume
  dsimp only
  rw [a1]
  refine nm_e ?_
  rcases hb with hb | hb
  · have eM : nc_M f_begun (ky_r ro rk rb) (ky_e f_cObj f_cKey f_cBorn) (L 0) = L 0 := by unfold nc_M; rw [if_pos hb]
    refine ⟨1, ?_⟩
    rw [wX_resume_14]
    dsimp only
    rw [ar_bb (n := n 0) (by omega), ar_b0]
    refine br_t hb (br_t hb (nm_e (nm_e ?_)))
    obtain ⟨k, hk⟩ : ∃ k, h 0 = k + 1 := ⟨h 0 - 1, by omega⟩
    rw [hk] at t2 t5 hN a3
    obtain ⟨Q, e⟩ := nd_hd (co := co) (re := re) (ch := ch) (n := n 0)
    obtain ⟨⟨kk, nc⟩, -⟩ := nc_all (post := post) (fn := fn) (f_freeRecord := f_freeRecord) (f_done := f_done) (f_changes := f_changes) (f_undo := f_undo) (f_volume := f_volume) (f_snaps := f_snaps) (f_syncing := f_syncing) (f_synced := f_synced) (f_goal := f_goal) (f_cObj := f_cObj) (f_cKey := f_cKey) (f_cBorn := f_cBorn) (f_begun := f_begun) (f_fObj := f_fObj) (f_fKey := f_fKey) (f_fValue := f_fValue) (f_fBorn := f_fBorn) (ro := ro) (rk := rk) (rv := rv) (rw := rw) (rt := rt) (sz := sz) (ur := ur) (ud := ud) (uv := uv) (ua := ua) (sn := sn) I.1 k (n 0) t2 hN t5 Q [] 0 _ e
    have eL : tr_L (nd_X co re ch) k (ch (6 * n 0)) ++ Q.flatMap (tr_g (nd_X co re ch) k) = L 0 := by
      rw [← a3, tr_Ld (h := k) (P := []) e, tr_p0, List.nil_append]
    rw [eL] at nc
    rw [eM] at Ks
    exact ⟨1 + kk, nc 0 (upd pa 0 (nI (n 0))) (upd sp 0 (nI 0)) 1 (by omega) pk_us pk_us (fun q pa' sp' _ f hf => end0 (L 0) eM q pa' sp' f hf) Ks (1 + kk) (Nat.le_refl _)⟩
  · have eM : nc_M f_begun (ky_r ro rk rb) (ky_e f_cObj f_cKey f_cBorn) (L 0) = (L 0).filter (fun r => decide (ky_e f_cObj f_cKey f_cBorn < ky_r ro rk rb r)) := by unfold nc_M; rw [if_neg (by rw [hb]; decide)]
    rw [eM, ← a3] at Ks
    refine ⟨h 0 + 1, ?_⟩
    have t := rs_all (post := post) (rpost := fun r u => match u with | (f_freeNode, f_freeRecord, f_done, f_changes, f_undo, f_volume, f_snaps, f_syncing, f_synced, f_goal, f_cObj, f_cKey, f_cBorn, f_begun, f_fObj, f_fKey, f_fValue, f_fBorn, a_rObj, a_rKey, a_rBorn, a_rDied, a_rValue, a_rVolume, a_count, a_leaf, a_rec, a_child, a_latest, a_root, a_sizes, a_path, a_step, a_uRec, a_uDied, a_uValue, a_uAdded, a_snap) => (∃ n5 : Nat, wX_nextChanged_5 post f_freeNode f_freeRecord f_done f_changes f_undo f_volume f_snaps f_syncing f_synced f_goal f_cObj f_cKey f_cBorn f_begun f_fObj f_fKey f_fValue f_fBorn n5 r a_rObj a_rKey a_rBorn a_rDied a_rValue a_rVolume a_count a_leaf a_rec a_child a_latest a_root a_sizes a_path a_step a_uRec a_uDied a_uValue a_uAdded a_snap))
      I.1 hb (fun D pa' sp' hf => hf) (h 0) (h 0 + 1) (n 0) 0 pa sp 1 t1 t2 hN t5 t4 (by omega) (by omega) (fun q pa' sp' _ f hf => end0 _ (by rw [eM, ← a3]) q pa' sp' f hf) Ks
    rw [hb] at t ⊢
    exact t
end WY
end
section
/-! ===== records as tuples; the reference's scans ===== -/
abbrev yt_T : Type := Int32 × Int32 × Int32 × Int32 × Int32
def yt_t (o k b d v : Nat → Int32) (i : Nat) : yt_T := (o i, k i, b i, d i, v i)
def yt_l (o k b d v : Nat → Int32) (a c : Nat) : List yt_T := (List.range c).map (fun i => yt_t o k b d v (a + i))
section YT
variable {o k b d v o' k' b' d' v' : Nat → Int32} {a c i j : Nat}
theorem yt_len : (yt_l o k b d v a c).length = c := by
  unfold yt_l
  rw [List.length_map, List.length_range]
theorem yt_mem {x : yt_T} : x ∈ yt_l o k b d v a c ↔ ∃ i, i < c ∧ yt_t o k b d v (a + i) = x := by
  unfold yt_l
  rw [List.mem_map]
  constructor
  · rintro ⟨i, h1, h2⟩
    exact ⟨i, List.mem_range.mp h1, h2⟩
  · rintro ⟨i, h1, h2⟩
    exact ⟨i, List.mem_range.mpr h1, h2⟩
theorem yt_cg (H : ∀ i, i < c → yt_t o' k' b' d' v' (a + i) = yt_t o k b d v (a + i)) : yt_l o' k' b' d' v' a c = yt_l o k b d v a c := by
  unfold yt_l
  exact List.map_congr_left (fun i hi => H i (List.mem_range.mp hi))
theorem yt_add (c e : Nat) : yt_l o k b d v a (c + e) = yt_l o k b d v a c ++ yt_l o k b d v (a + c) e := by
  unfold yt_l
  rw [List.range_add, List.map_append, List.map_map]
  refine congrArg _ (List.map_congr_left (fun i _ => ?_))
  exact congrArg (yt_t o k b d v) (Nat.add_assoc a c i).symm
theorem yt_one : yt_l o k b d v a 1 = [yt_t o k b d v a] := rfl
theorem yt_sp (hi : i < c) : yt_l o k b d v a c = yt_l o k b d v a i ++ yt_t o k b d v (a + i) :: yt_l o k b d v (a + i + 1) (c - i - 1) := by
  obtain ⟨e, rfl⟩ : ∃ e, c = i + (1 + e) := ⟨c - i - 1, by omega⟩
  rw [yt_add, yt_add, yt_one, show i + (1 + e) - i - 1 = e by omega]
  rfl
end YT
theorem ar_100 (v : Nat) : 100 * nI v = nI (100 * v) := pk_mul 100 v
section WY
variable {g_done g_changes g_volume g_snaps g_upTo g_underWay g_goal g_anySent g_lastObj g_lastKey g_lastBorn : Int32} {yo yk yb yd yv yc ys yh : Nat → Int32}
variable {v c : Nat} {o k t : Int32} {post : Int32 → Prop}
theorem wy_visible {i : Nat} (hi : i < 300) (h1 : vi_s (yb i) (yd i) t → post 1) (h0 : ¬ vi_s (yb i) (yd i) t → post 0) : wpY_visible post (g_done, g_changes, g_volume, g_snaps, g_upTo, g_underWay, g_goal, g_anySent, g_lastObj, g_lastKey, g_lastBorn, yo, yk, yb, yd, yv, yc, ys, yh) (nI i) t := by
  have v : vp_in (nI i) 300 := vp_in_nI hi (by decide)
  unfold wpY_visible
  dsimp only
  rw [nI_clamp (by omega)]
  refine ⟨v, br_c (fun e => h0 (fun z => ?_)) (fun e => ⟨v, br_c (fun e2 => h1 ⟨Int32.not_lt.mp e, Or.inl e2⟩) (fun e2 => ⟨v, br_c (fun e3 => h0 (fun z => ?_)) (fun e3 => h1 ⟨Int32.not_lt.mp e, Or.inr (Int32.not_le.mp e3)⟩)⟩)⟩)⟩
  · exact absurd e (Int32.not_lt.mpr z.1)
  · rcases z.2 with y | y
    · exact e2 y
    · exact absurd e3 (Int32.not_le.mpr y)
theorem wy_seen6 (hv : v < 3) (hc : yc v = nI c) (h100 : c ≤ 100) (K1 : ∀ i, i < c → yo (100 * v + i) = o → yk (100 * v + i) = k → vi_s (yb (100 * v + i)) (yd (100 * v + i)) t → post (nI (100 * v + i)))
    (K2 : (∀ i, i < c → ¬ (yo (100 * v + i) = o ∧ yk (100 * v + i) = k ∧ vi_s (yb (100 * v + i)) (yd (100 * v + i)) t)) → post (-1)) :
    ∀ (f j : Nat), j ≤ c → c < f + j → (∀ i, i < j → ¬ (yo (100 * v + i) = o ∧ yk (100 * v + i) = k ∧ vi_s (yb (100 * v + i)) (yd (100 * v + i)) t)) → wY_seen_6 post (nI v) o k t g_done g_changes g_volume g_snaps g_upTo g_underWay g_goal g_anySent g_lastObj g_lastKey g_lastBorn yo yk yb yd yv yc ys yh f (nI (100 * v + j)) := by
  intro f
  induction f with
  | zero => intro j _ h; omega
  | succ f ih =>
    intro j hj hf hno
    rw [wY_seen_6]
    dsimp only
    rw [nI_clamp (n := v) (by omega), hc, ar_100, nI_add, nI_clamp (n := 100 * v + j) (by omega)]
    refine ⟨vp_in_nI hv (by decide), ?_⟩
    by_cases e : j = c
    · subst e
      exact br_t (Int32.le_refl _) (K2 hno)
    · have vi : vp_in (nI (100 * v + j)) 300 := vp_in_nI (by omega) (by decide)
      have nx : ¬ (yo (100 * v + j) = o ∧ yk (100 * v + j) = k ∧ vi_s (yb (100 * v + j)) (yd (100 * v + j)) t) → wY_seen_6 post (nI v) o k t g_done g_changes g_volume g_snaps g_upTo g_underWay g_goal g_anySent g_lastObj g_lastKey g_lastBorn yo yk yb yd yv yc ys yh f (nI (100 * v + j + 1)) := fun z =>
        ih (j + 1) (by omega) (by omega) (lt_s hno z)
      refine br_f (nI_ge (by omega) (by omega)) ⟨vi, br_c (fun e1 => ⟨vi, br_c (fun e2 => wy_visible (by omega) (fun z => br_f (by decide) (K1 j (by omega) e1 e2 z)) (fun z => br_t rfl (nm_r (nI_1 _) (nx (fun y => z y.2.2))))) (fun e2 => nm_r (nI_1 _) (nx (fun y => e2 y.2.1)))⟩) (fun e1 => nm_r (nI_1 _) (nx (fun y => e1 y.1)))⟩
theorem wy_seen (hv : v < 3) (hc : yc v = nI c) (h100 : c ≤ 100) (K1 : ∀ i, i < c → yo (100 * v + i) = o → yk (100 * v + i) = k → vi_s (yb (100 * v + i)) (yd (100 * v + i)) t → post (nI (100 * v + i)))
    (K2 : (∀ i, i < c → ¬ (yo (100 * v + i) = o ∧ yk (100 * v + i) = k ∧ vi_s (yb (100 * v + i)) (yd (100 * v + i)) t)) → post (-1)) : wpY_seen post (g_done, g_changes, g_volume, g_snaps, g_upTo, g_underWay, g_goal, g_anySent, g_lastObj, g_lastKey, g_lastBorn, yo, yk, yb, yd, yv, yc, ys, yh) (nI v) o k t := by
  unfold wpY_seen
  dsimp only
  rw [ar_100]
  exact nm_e ⟨c + 1, wy_seen6 hv hc h100 K1 K2 (c + 1) 0 (by omega) (by omega) lt_0⟩
theorem wy_born6 (hv : v < 3) (hc : yc v = nI c) (h100 : c ≤ 100) (K1 : ∀ i, i < c → yo (100 * v + i) = o → yk (100 * v + i) = k → yb (100 * v + i) = t → post (nI (100 * v + i)))
    (K2 : (∀ i, i < c → ¬ (yo (100 * v + i) = o ∧ yk (100 * v + i) = k ∧ yb (100 * v + i) = t)) → post (-1)) :
    ∀ (f j : Nat), j ≤ c → c < f + j → (∀ i, i < j → ¬ (yo (100 * v + i) = o ∧ yk (100 * v + i) = k ∧ yb (100 * v + i) = t)) → wY_bornAt_6 post (nI v) o k t g_done g_changes g_volume g_snaps g_upTo g_underWay g_goal g_anySent g_lastObj g_lastKey g_lastBorn yo yk yb yd yv yc ys yh f (nI (100 * v + j)) := by
  intro f
  induction f with
  | zero => intro j _ h; omega
  | succ f ih =>
    intro j hj hf hno
    rw [wY_bornAt_6]
    dsimp only
    rw [nI_clamp (n := v) (by omega), hc, ar_100, nI_add, nI_clamp (n := 100 * v + j) (by omega)]
    refine ⟨vp_in_nI hv (by decide), ?_⟩
    by_cases e : j = c
    · subst e
      exact br_t (Int32.le_refl _) (K2 hno)
    · have vi : vp_in (nI (100 * v + j)) 300 := vp_in_nI (by omega) (by decide)
      have nx : ¬ (yo (100 * v + j) = o ∧ yk (100 * v + j) = k ∧ yb (100 * v + j) = t) → wY_bornAt_6 post (nI v) o k t g_done g_changes g_volume g_snaps g_upTo g_underWay g_goal g_anySent g_lastObj g_lastKey g_lastBorn yo yk yb yd yv yc ys yh f (nI (100 * v + j + 1)) := fun z =>
        ih (j + 1) (by omega) (by omega) (lt_s hno z)
      refine br_f (nI_ge (by omega) (by omega)) ⟨vi, br_c (fun e1 => ⟨vi, br_c (fun e2 => ⟨vi, br_c (fun e3 => K1 j (by omega) e1 e2 e3) (fun e3 => nm_r (nI_1 _) (nx (fun y => e3 y.2.2)))⟩) (fun e2 => nm_r (nI_1 _) (nx (fun y => e2 y.2.1)))⟩) (fun e1 => nm_r (nI_1 _) (nx (fun y => e1 y.1)))⟩
theorem wy_born (hv : v < 3) (hc : yc v = nI c) (h100 : c ≤ 100) (K1 : ∀ i, i < c → yo (100 * v + i) = o → yk (100 * v + i) = k → yb (100 * v + i) = t → post (nI (100 * v + i)))
    (K2 : (∀ i, i < c → ¬ (yo (100 * v + i) = o ∧ yk (100 * v + i) = k ∧ yb (100 * v + i) = t)) → post (-1)) : wpY_bornAt post (g_done, g_changes, g_volume, g_snaps, g_upTo, g_underWay, g_goal, g_anySent, g_lastObj, g_lastKey, g_lastBorn, yo, yk, yb, yd, yv, yc, ys, yh) (nI v) o k t := by
  unfold wpY_bornAt
  dsimp only
  rw [ar_100]
  exact nm_e ⟨c + 1, wy_born6 hv hc h100 K1 K2 (c + 1) 0 (by omega) (by omega) lt_0⟩
end WY
end
section
/-! ===== copyRecord, copyVolume, add, take ===== -/
def yt_c (f : Nat → Int32) (a b c : Nat) : Nat → Int32 := fun j => if b ≤ j ∧ j < b + c then f (a + (j - b)) else f j
theorem yt_c0 (f : Nat → Int32) (a b : Nat) : yt_c f a b 0 = f := by
  funext j
  exact if_neg (by omega)
theorem yt_cs (f : Nat → Int32) {a b i : Nat} (hd : a + i < b ∨ b + i ≤ a) : upd (yt_c f a b i) (b + i) (yt_c f a b i (a + i)) = yt_c f a b (i + 1) := by
  funext j
  have e : yt_c f a b i (a + i) = f (a + i) := if_neg (by omega)
  by_cases h : j = b + i
  · rw [h, pk_us, e]
    unfold yt_c
    rw [if_pos (by omega)]
    exact congrArg f (by omega)
  · rw [pk_un h]
    unfold yt_c
    by_cases h2 : b ≤ j ∧ j < b + i
    · rw [if_pos h2, if_pos (by omega)]
    · rw [if_neg h2, if_neg (by omega)]
section WY
variable {g_done g_changes g_volume g_snaps g_upTo g_underWay g_goal g_anySent g_lastObj g_lastKey g_lastBorn : Int32} {yo yk yb yd yv yc ys yh : Nat → Int32}
variable {v c p q i fv tv : Nat} {post : SY → Prop}
theorem wy_copyRec (hp : p < 300) (hq : q < 300) (K : post (g_done, g_changes, g_volume, g_snaps, g_upTo, g_underWay, g_goal, g_anySent, g_lastObj, g_lastKey, g_lastBorn, (upd yo q (yo p)), (upd yk q (yk p)), (upd yb q (yb p)), (upd yd q (yd p)), (upd yv q (yv p)), yc, ys, yh)) : wpY_copyRecord post (g_done, g_changes, g_volume, g_snaps, g_upTo, g_underWay, g_goal, g_anySent, g_lastObj, g_lastKey, g_lastBorn, yo, yk, yb, yd, yv, yc, ys, yh) (nI p) (nI q) := by
  have vp : vp_in (nI p) 300 := vp_in_nI hp (by decide)
  have vq : vp_in (nI q) 300 := vp_in_nI hq (by decide)
  unfold wpY_copyRecord
  dsimp only
  rw [nI_clamp (n := p) (by omega), nI_clamp (n := q) (by omega)]
  exact ⟨vp, vq, nm_e ⟨vp, vq, nm_e ⟨vp, vq, nm_e ⟨vp, vq, nm_e ⟨vp, vq, nm_e K⟩⟩⟩⟩⟩
theorem wy_copy14 (hf : fv < 3) (ht : tv < 3) (hne : fv ≠ tv) (hc : yc fv = nI c) (h100 : c ≤ 100)
    (K : post (g_done, g_changes, g_volume, g_snaps, g_upTo, g_underWay, g_goal, g_anySent, g_lastObj, g_lastKey, g_lastBorn, (yt_c yo (100 * fv) (100 * tv) c), (yt_c yk (100 * fv) (100 * tv) c), (yt_c yb (100 * fv) (100 * tv) c), (yt_c yd (100 * fv) (100 * tv) c), (yt_c yv (100 * fv) (100 * tv) c), yc, ys, yh)) :
    ∀ (f i : Nat), i ≤ c → c < f + i → wY_copyVolume_14 post (nI fv) (nI tv) f (nI i) g_done g_changes g_volume g_snaps g_upTo g_underWay g_goal g_anySent g_lastObj g_lastKey g_lastBorn (yt_c yo (100 * fv) (100 * tv) i) (yt_c yk (100 * fv) (100 * tv) i) (yt_c yb (100 * fv) (100 * tv) i) (yt_c yd (100 * fv) (100 * tv) i) (yt_c yv (100 * fv) (100 * tv) i) yc ys yh := by
  intro f
  induction f with
  | zero => intro i _ h; omega
  | succ f ih =>
    intro i hi hlt
    rw [wY_copyVolume_14]
    dsimp only
    rw [nI_clamp (n := fv) (by omega), hc, ar_100, ar_100, nI_add, nI_add]
    refine ⟨vp_in_nI hf (by decide), ?_⟩
    by_cases e : i = c
    · subst e
      exact br_t (Int32.le_refl _) K
    · refine br_f (nI_ge (by omega) (by omega)) (wy_copyRec (by omega) (by omega) (nm_r (nI_1 i) ?_))
      have hd : 100 * fv + i < 100 * tv ∨ 100 * tv + i ≤ 100 * fv := by omega
      rw [yt_cs yo hd, yt_cs yk hd, yt_cs yb hd, yt_cs yd hd, yt_cs yv hd]
      exact ih (i + 1) (by omega) (by omega)
theorem wy_copyVol (hf : fv < 3) (ht : tv < 3) (hne : fv ≠ tv) (hc : yc fv = nI c) (h100 : c ≤ 100)
    (K : post (g_done, g_changes, g_volume, g_snaps, g_upTo, g_underWay, g_goal, g_anySent, g_lastObj, g_lastKey, g_lastBorn, (yt_c yo (100 * fv) (100 * tv) c), (yt_c yk (100 * fv) (100 * tv) c), (yt_c yb (100 * fv) (100 * tv) c), (yt_c yd (100 * fv) (100 * tv) c), (yt_c yv (100 * fv) (100 * tv) c), (upd yc tv (nI c)), ys, yh)) :
    wpY_copyVolume post (g_done, g_changes, g_volume, g_snaps, g_upTo, g_underWay, g_goal, g_anySent, g_lastObj, g_lastKey, g_lastBorn, yo, yk, yb, yd, yv, yc, ys, yh) (nI fv) (nI tv) := by
  unfold wpY_copyVolume
  dsimp only
  rw [nI_clamp (n := fv) (by omega), nI_clamp (n := tv) (by omega), hc]
  refine ⟨vp_in_nI hf (by decide), vp_in_nI ht (by decide), nm_e ⟨c + 1, ?_⟩⟩
  have t := wy_copy14 (yc := upd yc tv (nI c)) hf ht hne (by rw [pk_un hne]; exact hc) h100 K (c + 1) 0 (by omega) (by omega)
  rw [yt_c0, yt_c0, yt_c0, yt_c0, yt_c0] at t
  exact t
theorem wy_add {o k b d w : Int32} (hv : v < 3) (hc : yc v = nI c) (h100 : c < 100)
    (K : post (g_done, g_changes, g_volume, g_snaps, g_upTo, g_underWay, g_goal, g_anySent, g_lastObj, g_lastKey, g_lastBorn, (upd yo (100 * v + c) o), (upd yk (100 * v + c) k), (upd yb (100 * v + c) b), (upd yd (100 * v + c) d), (upd yv (100 * v + c) w), (upd yc v (nI (c + 1))), ys, yh)) :
    wpY_add post (g_done, g_changes, g_volume, g_snaps, g_upTo, g_underWay, g_goal, g_anySent, g_lastObj, g_lastKey, g_lastBorn, yo, yk, yb, yd, yv, yc, ys, yh) (nI v) o k b d w := by
  have vv : vp_in (nI v) 3 := vp_in_nI hv (by decide)
  have vi : vp_in (nI (100 * v + c)) 300 := vp_in_nI (by omega) (by decide)
  unfold wpY_add
  dsimp only
  rw [nI_clamp (n := v) (by omega), hc, ar_100, nI_add, nI_1]
  refine ⟨vv, vv, nm_e (nm_e ?_)⟩
  rw [nI_clamp (n := 100 * v + c) (by omega)]
  exact ⟨vi, nm_e ⟨vi, nm_e ⟨vi, nm_e ⟨vi, nm_e ⟨vi, nm_e K⟩⟩⟩⟩⟩
theorem wy_take (hv : v < 3) (hc : yc v = nI c) (h1 : 1 ≤ c) (h100 : c ≤ 100) (hi : i < 300)
    (K : post (g_done, g_changes, g_volume, g_snaps, g_upTo, g_underWay, g_goal, g_anySent, g_lastObj, g_lastKey, g_lastBorn, (upd yo i (yo (100 * v + (c - 1)))), (upd yk i (yk (100 * v + (c - 1)))), (upd yb i (yb (100 * v + (c - 1)))), (upd yd i (yd (100 * v + (c - 1)))), (upd yv i (yv (100 * v + (c - 1)))), (upd yc v (nI (c - 1))), ys, yh)) :
    wpY_take post (g_done, g_changes, g_volume, g_snaps, g_upTo, g_underWay, g_goal, g_anySent, g_lastObj, g_lastKey, g_lastBorn, yo, yk, yb, yd, yv, yc, ys, yh) (nI v) (nI i) := by
  have vv : vp_in (nI v) 3 := vp_in_nI hv (by decide)
  unfold wpY_take
  dsimp only
  rw [nI_clamp (n := v) (by omega), hc, ar_100, ar_m c (by omega), nI_add]
  refine ⟨vv, vv, nm_e (nm_e ?_)⟩
  exact wy_copyRec (by omega) hi K
end WY
section YL
variable {o k b d v : Nat → Int32} {a c i j : Nat}
/-- a copy of a piece -/
theorem yt_cp {a' : Nat} (hd : a + c ≤ a' ∨ a' + c ≤ a) : yt_l (yt_c o a a' c) (yt_c k a a' c) (yt_c b a a' c) (yt_c d a a' c) (yt_c v a a' c) a' c = yt_l o k b d v a c := by
  unfold yt_l
  refine List.map_congr_left (fun i hi => ?_)
  have hi := List.mem_range.mp hi
  have e : ∀ f : Nat → Int32, yt_c f a a' c (a' + i) = f (a + i) := fun f => by
    unfold yt_c
    rw [if_pos (by omega)]
    exact congrArg f (by omega)
  unfold yt_t
  rw [e, e, e, e, e]
theorem yt_cn {a' x e : Nat} (hd : x + e ≤ a' ∨ a' + c ≤ x) : yt_l (yt_c o a a' c) (yt_c k a a' c) (yt_c b a a' c) (yt_c d a a' c) (yt_c v a a' c) x e = yt_l o k b d v x e := by
  refine yt_cg (fun i hi => ?_)
  have e : ∀ f : Nat → Int32, yt_c f a a' c (x + i) = f (x + i) := fun f => if_neg (by omega)
  unfold yt_t
  rw [e, e, e, e, e]
/-- a take at index a + j -/
theorem yt_tk (hj : j < c) : yt_l (upd o (a + j) (o (a + (c - 1)))) (upd k (a + j) (k (a + (c - 1)))) (upd b (a + j) (b (a + (c - 1)))) (upd d (a + j) (d (a + (c - 1)))) (upd v (a + j) (v (a + (c - 1)))) a j = yt_l o k b d v a j ∧
    (yt_l (upd o (a + j) (o (a + (c - 1)))) (upd k (a + j) (k (a + (c - 1)))) (upd b (a + j) (b (a + (c - 1)))) (upd d (a + j) (d (a + (c - 1)))) (upd v (a + j) (v (a + (c - 1)))) (a + j) (c - 1 - j)).Perm (yt_l o k b d v (a + j + 1) (c - j - 1)) := by
  refine ⟨yt_cg (fun i hi => ?_), ?_⟩
  · unfold yt_t
    rw [pk_un (by omega), pk_un (by omega), pk_un (by omega), pk_un (by omega), pk_un (by omega)]
  · rcases Nat.eq_zero_or_pos (c - 1 - j) with z | z
    · rw [z, show c - j - 1 = 0 by omega]
      exact List.Perm.refl _
    · obtain ⟨e, he⟩ : ∃ e, c = j + 1 + (e + 1) := ⟨c - j - 2, by omega⟩
      rw [show c - 1 - j = 1 + e by omega, show c - j - 1 = e + 1 by omega, yt_add, yt_one, yt_add (c := e), yt_one]
      have q1 : yt_t (upd o (a + j) (o (a + (c - 1)))) (upd k (a + j) (k (a + (c - 1)))) (upd b (a + j) (b (a + (c - 1)))) (upd d (a + j) (d (a + (c - 1)))) (upd v (a + j) (v (a + (c - 1)))) (a + j) = yt_t o k b d v (a + j + 1 + e) := by
        unfold yt_t
        rw [pk_us, pk_us, pk_us, pk_us, pk_us, show a + (c - 1) = a + j + 1 + e by omega]
      have q2 : yt_l (upd o (a + j) (o (a + (c - 1)))) (upd k (a + j) (k (a + (c - 1)))) (upd b (a + j) (b (a + (c - 1)))) (upd d (a + j) (d (a + (c - 1)))) (upd v (a + j) (v (a + (c - 1)))) (a + j + 1) e = yt_l o k b d v (a + j + 1) e := by
        refine yt_cg (fun i hi => ?_)
        unfold yt_t
        rw [pk_un (by omega), pk_un (by omega), pk_un (by omega), pk_un (by omega), pk_un (by omega)]
      rw [q1, q2]
      exact List.perm_append_comm
/-- a write elsewhere -/
theorem yt_ne {x : Nat} {v1 v2 v3 v4 v5 : Int32} (hx : x < a ∨ a + c ≤ x) : yt_l (upd o x v1) (upd k x v2) (upd b x v3) (upd d x v4) (upd v x v5) a c = yt_l o k b d v a c := by
  refine yt_cg (fun i hi => ?_)
  unfold yt_t
  rw [pk_un (by omega), pk_un (by omega), pk_un (by omega), pk_un (by omega), pk_un (by omega)]
theorem yt_ap {v1 v2 v3 v4 v5 : Int32} : yt_l (upd o (a + c) v1) (upd k (a + c) v2) (upd b (a + c) v3) (upd d (a + c) v4) (upd v (a + c) v5) a (c + 1) = yt_l o k b d v a c ++ [(v1, v2, v3, v4, v5)] := by
  rw [yt_add, yt_ne (by omega), yt_one]
  unfold yt_t
  rw [pk_us, pk_us, pk_us, pk_us, pk_us]
end YL
end
section
/-! ===== what master (H), committed copy (C) and mirror (M) keep: no program here ===== -/
def iv_s (s t : yt_T) : Prop := s.1 = t.1 ∧ s.2.1 = t.2.1
def iv_e (s t : yt_T) : Prop := s.1 = t.1 ∧ s.2.1 = t.2.1 ∧ s.2.2.1 = t.2.2.1
def iv_b (s : yt_T) : Int := s.2.2.1.toInt
def iv_d (s : yt_T) : Int := s.2.2.2.1.toInt
def iv_q (s : yt_T) : Int := ky_e s.1 s.2.1 s.2.2.1
def iv_D (S : List yt_T) : Prop := ∀ s t, s ∈ S → t ∈ S → iv_s s t → iv_b s < iv_b t → iv_d s ≠ 0 ∧ iv_d s ≤ iv_b t
def iv_R (S : List yt_T) (n : Int) : Prop := ∀ s, s ∈ S → 1 ≤ iv_b s ∧ iv_b s ≤ n ∧ 0 ≤ iv_d s ∧ iv_d s ≤ n
def iv_U (S : List yt_T) : Prop := ∀ s t, s ∈ S → t ∈ S → iv_e s t → s = t
def iv_M (H C : List yt_T) (dn : Int) : Prop :=
  (∀ h, h ∈ H → iv_b h ≤ dn → ∃ c, c ∈ C ∧ iv_e h c ∧ (iv_d h = iv_d c ∨ (iv_d c = 0 ∧ iv_d h = dn + 1))) ∧
  (∀ c, c ∈ C → ∃ h, h ∈ H ∧ iv_e h c ∧ (iv_d h = iv_d c ∨ (iv_d c = 0 ∧ iv_d h = dn + 1)))
def iv_I (C M : List yt_T) (dn sy go : Int) (sg bg : Prop) (cq : Int) : Prop :=
  iv_R M dn ∧ iv_D M ∧ (∀ m, m ∈ M → ∀ c, c ∈ C → iv_s c m → iv_b c < iv_b m → iv_d c ≠ 0 ∧ iv_d c ≤ iv_b m) ∧ (sg → ∀ m, m ∈ M → iv_b m ≤ go) ∧
  (∀ m, m ∈ M → iv_d m = 0 → ∃ c, c ∈ C ∧ iv_e c m ∧ (iv_d c = 0 ∨ (sy < iv_d c ∧ (sg → iv_d c ≤ go → bg → cq < iv_q m)))) ∧
  (∀ m, m ∈ M → ∀ c, c ∈ C → iv_d m ≠ 0 → iv_s m c → iv_b m < iv_b c → iv_d m ≤ iv_b c) ∧ 0 ≤ sy ∧ sy ≤ dn ∧ (sg → sy ≤ go ∧ go ≤ dn)
def iv_H (H C : List yt_T) (dn : Int) : Prop := iv_R H (dn + 1) ∧ iv_D H ∧ iv_R C dn ∧ iv_M H C dn
section IV
variable {H H' C C' M M' : List yt_T} {dn sy go cq cq' : Int} {sg bg : Prop} {s s' t new h : yt_T}
theorem iv_eb (e : iv_e s t) : iv_b s = iv_b t := congrArg Int32.toInt e.2.2
theorem iv_es (e : iv_e s t) : iv_s s t := ⟨e.1, e.2.1⟩
theorem iv_ey (e : iv_e s t) : iv_e t s := ⟨e.1.symm, e.2.1.symm, e.2.2.symm⟩
theorem iv_et {u : yt_T} (e : iv_e s t) (f : iv_e t u) : iv_e s u := ⟨e.1.trans f.1, e.2.1.trans f.2.1, e.2.2.trans f.2.2⟩
theorem iv_st {u : yt_T} (e : iv_s s t) (f : iv_s t u) : iv_s s u := ⟨e.1.trans f.1, e.2.trans f.2⟩
theorem iv_sy (e : iv_s s t) : iv_s t s := ⟨e.1.symm, e.2.symm⟩
theorem iv_eq (e : iv_e s t) : iv_q s = iv_q t := by unfold iv_q; rw [e.1, e.2.1, e.2.2]
theorem iv_qe (e : iv_q s = iv_q t) : iv_e s t := ky_inj e
theorem iv_bq (e : iv_s s t) (f : iv_b s = iv_b t) : iv_e s t := ⟨e.1, e.2, Int32.toInt_inj.mp f⟩
/-- C as ordered as H -/
theorem iv_DC (I : iv_H H C dn) : iv_D C := by
  obtain ⟨h1, h2, h3, h4, h5⟩ := I
  intro s t hs ht e hlt
  obtain ⟨a, ha, ea, da⟩ := h5 s hs
  obtain ⟨b, hb, eb, db⟩ := h5 t ht
  have q := h2 a b ha hb (iv_st (iv_es ea) (iv_st e (iv_sy (iv_es eb)))) (by rw [iv_eb ea, iv_eb eb]; exact hlt)
  rw [iv_eb eb] at q
  have := (h3 t ht).2.1
  rcases da with z | z
  · rw [z] at q; exact q
  · omega
/-- at most one is visible -/
theorem iv_vis {S : List yt_T} (D : iv_D S) (U : iv_U S) (hs : s ∈ S) (ht : t ∈ S) (e : iv_s s t) {x : Int32} (v1 : vi_s s.2.2.1 s.2.2.2.1 x) (v2 : vi_s t.2.2.1 t.2.2.2.1 x) : s = t := by
  have c : ∀ s t : yt_T, s ∈ S → t ∈ S → iv_s s t → vi_s s.2.2.1 s.2.2.2.1 x → vi_s t.2.2.1 t.2.2.2.1 x → ¬ iv_b s < iv_b t := by
    intro s t hs ht e v1 v2 hlt
    obtain ⟨q1, q2⟩ := D s t hs ht e hlt
    have w2 := Int32.le_iff_toInt_le.mp v2.1
    rcases v1.2 with z | z
    · exact q1 (by unfold iv_d; rw [z]; rfl)
    · have := Int32.lt_iff_toInt_lt.mp z
      unfold iv_b iv_d at *
      omega
  have a := c s t hs ht e v1 v2
  have b := c t s ht hs (iv_sy e) v2 v1
  exact U s t hs ht (iv_bq e (by omega))
theorem iv_0 : iv_H [] [] 0 ∧ iv_I [] [] 0 0 0 False False 0 :=
  ⟨⟨fun _ h => absurd h List.not_mem_nil, fun _ _ h => absurd h List.not_mem_nil, fun _ h => absurd h List.not_mem_nil, fun _ h => absurd h List.not_mem_nil, fun _ h => absurd h List.not_mem_nil⟩,
    fun _ h => absurd h List.not_mem_nil, fun _ _ h => absurd h List.not_mem_nil, fun _ h => absurd h List.not_mem_nil, fun h => absurd h id, fun _ h => absurd h List.not_mem_nil, fun _ h => absurd h List.not_mem_nil, by decide, by decide, fun h => absurd h id⟩
/-- a visible record of the master dies now -/
theorem iv_die (I : iv_H H C dn) (U : iv_U H) (hs : s ∈ H) (hd : iv_d s = 0) (e : iv_e s' s) (hd' : iv_d s' = dn + 1) (hdn : 0 ≤ dn) (m1 : ∀ x, x ∈ H' → x = s' ∨ (x ∈ H ∧ x ≠ s)) (m2 : ∀ x, x ∈ H → x ≠ s → x ∈ H') (m3 : s' ∈ H') : iv_H H' C dn := by
  obtain ⟨h1, h2, h3, h4, h5⟩ := I
  have eb := iv_eb e
  have rs := h1 s hs
  refine ⟨fun x hx => ?_, fun a b ha hb eab hlt => ?_, h3, fun x hx hb => ?_, fun c hc => ?_⟩
  · rcases m1 x hx with rfl | ⟨z, -⟩
    · rw [eb, hd']; omega
    · exact h1 x z
  · rcases m1 a ha with rfl | ⟨a1, a2⟩
    · rcases m1 b hb with rfl | ⟨b1, b2⟩
      · omega
      · have := h2 s b hs b1 (iv_st (iv_sy (iv_es e)) eab) (by omega)
        exact absurd hd this.1
    · rcases m1 b hb with rfl | ⟨b1, b2⟩
      · have := h2 a s a1 hs (iv_st eab (iv_es e)) (by omega)
        rw [eb]; exact this
      · exact h2 a b a1 b1 eab hlt
  · rcases m1 x hx with rfl | ⟨z, -⟩
    · obtain ⟨c, c1, c2, c3⟩ := h4 s hs (by omega)
      refine ⟨c, c1, iv_et e c2, Or.inr ⟨?_, hd'⟩⟩
      rcases c3 with c3 | c3
      · omega
      · exact c3.1
    · exact h4 x z hb
  · obtain ⟨a, a1, a2, a3⟩ := h5 c hc
    by_cases z : a = s
    · subst z
      refine ⟨s', m3, iv_et e a2, Or.inr ⟨?_, hd'⟩⟩
      rcases a3 with a3 | a3
      · omega
      · exact a3.1
    · exact ⟨a, m2 a a1 z, a2, a3⟩
/-- a record born now is changed -/
theorem iv_own (I : iv_H H C dn) (hs : s ∈ H) (hb : iv_b s = dn + 1) (e : iv_e s' s) (hd' : iv_d s' = 0) (hdn : 0 ≤ dn) (m1 : ∀ x, x ∈ H' → x = s' ∨ (x ∈ H ∧ x ≠ s)) (m2 : ∀ x, x ∈ H → x ≠ s → x ∈ H') : iv_H H' C dn := by
  obtain ⟨h1, h2, h3, h4, h5⟩ := I
  have eb := iv_eb e
  refine ⟨fun x hx => ?_, fun a b ha hb' eab hlt => ?_, h3, fun x hx hbx => ?_, fun c hc => ?_⟩
  · rcases m1 x hx with rfl | ⟨z, -⟩
    · rw [eb, hd']; omega
    · exact h1 x z
  · rcases m1 a ha with rfl | ⟨a1, a2⟩
    · rcases m1 b hb' with rfl | ⟨b1, b2⟩
      · omega
      · have := (h1 b b1).2.1
        omega
    · rcases m1 b hb' with rfl | ⟨b1, b2⟩
      · have := h2 a s a1 hs (iv_st eab (iv_es e)) (by omega)
        rw [eb]; exact this
      · exact h2 a b a1 b1 eab hlt
  · rcases m1 x hx with rfl | ⟨z, -⟩
    · omega
    · exact h4 x z hbx
  · obtain ⟨a, a1, a2, a3⟩ := h5 c hc
    refine ⟨a, m2 a a1 (fun z => ?_), a2, a3⟩
    have := (h3 c hc).2.1
    have := iv_eb a2
    rw [z] at this
    omega
/-- a new record, where none of its object and key is visible now -/
theorem iv_new (I : iv_H H C dn) (hb : iv_b new = dn + 1) (hd : iv_d new = 0) (hdn : 0 ≤ dn) (hno : ∀ x, x ∈ H → iv_s x new → iv_b x ≠ dn + 1 ∧ iv_d x ≠ 0) (m1 : ∀ x, x ∈ H' → x = new ∨ x ∈ H) (m2 : ∀ x, x ∈ H → x ∈ H') : iv_H H' C dn := by
  obtain ⟨h1, h2, h3, h4, h5⟩ := I
  refine ⟨fun x hx => ?_, fun a b ha hb' eab hlt => ?_, h3, fun x hx hbx => ?_, fun c hc => ?_⟩
  · rcases m1 x hx with rfl | z
    · rw [hb, hd]; omega
    · exact h1 x z
  · rcases m1 a ha with rfl | a1
    · rcases m1 b hb' with rfl | b1
      · omega
      · have := (h1 b b1).2.1
        omega
    · rcases m1 b hb' with rfl | b1
      · have := hno a a1 eab
        have := h1 a a1
        exact ⟨this.2.2.1 |> fun _ => (hno a a1 eab).2, by omega⟩
      · exact h2 a b a1 b1 eab hlt
  · rcases m1 x hx with rfl | z
    · omega
    · exact h4 x z hbx
  · obtain ⟨a, a1, a2, a3⟩ := h5 c hc
    exact ⟨a, m2 a a1, a2, a3⟩
/-- commit -/
theorem iv_commit (I : iv_H H C dn) (J : iv_I C M dn sy go sg bg cq) (hdn : 0 ≤ dn) (m1 : ∀ x, x ∈ H' ↔ x ∈ H ∧ ¬ (iv_b x = dn + 1 ∧ iv_d x = dn + 1)) : iv_H H' H' (dn + 1) ∧ iv_I H' M (dn + 1) sy go sg bg cq := by
  obtain ⟨h1, h2, h3, h4, h5⟩ := I
  obtain ⟨j1, j2, j3, j4, j5, j6, j7, j8, j9⟩ := J
  refine ⟨⟨fun x hx => ?_, fun a b ha hb e hlt => h2 a b ((m1 a).mp ha).1 ((m1 b).mp hb).1 e hlt, fun x hx => h1 x ((m1 x).mp hx).1, fun x hx _ => ⟨x, hx, ⟨rfl, rfl, rfl⟩, Or.inl rfl⟩, fun x hx => ⟨x, hx, ⟨rfl, rfl, rfl⟩, Or.inl rfl⟩⟩,
    fun m hm => ?_, j2, fun m hm c hc e hlt => ?_, j4, fun m hm hd => ?_, fun m hm c hc hd e hlt => ?_, j7, by omega, fun z => ⟨(j9 z).1, by have := (j9 z).2; omega⟩⟩
  · have := h1 x ((m1 x).mp hx).1
    omega
  · have := j1 m hm
    omega
  · have hc' := (m1 c).mp hc
    have hm1 := j1 m hm
    obtain ⟨c0, q1, q2, q3⟩ := h4 c hc'.1 (by omega)
    have := j3 m hm c0 q1 (iv_st (iv_sy (iv_es q2)) e) (by rw [← iv_eb q2]; exact hlt)
    rcases q3 with z | z
    · rw [z]; exact this
    · exact absurd z.1 this.1
  · obtain ⟨c, q1, q2, q3⟩ := j5 m hm hd
    obtain ⟨h, r1, r2, r3⟩ := h5 c q1
    have hm1 := j1 m hm
    have e1 := iv_eb q2
    have e2 := iv_eb r2
    refine ⟨h, (m1 h).mpr ⟨r1, fun z => by omega⟩, iv_et r2 q2, ?_⟩
    rcases r3 with z | z
    · rw [z]; exact q3
    · refine Or.inr ⟨by omega, fun g1 g2 => ?_⟩
      have := (j9 g1).2
      omega
  · have hc' := (m1 c).mp hc
    have hm1 := j1 m hm
    have hc1 := h1 c hc'.1
    rcases Int.lt_or_le dn (iv_b c) with z | z
    · omega
    · obtain ⟨c0, q1, q2, q3⟩ := h4 c hc'.1 z
      have := j6 m hm c0 q1 hd (iv_st e (iv_es q2)) (by rw [← iv_eb q2]; exact hlt)
      rw [iv_eb q2]; exact this
/-- abort -/
theorem iv_abort (I : iv_H H C dn) (hdn : 0 ≤ dn) (m1 : ∀ x, x ∈ H' ↔ x ∈ C) : iv_H H' C dn := by
  have D := iv_DC I
  obtain ⟨h1, h2, h3, h4, h5⟩ := I
  refine ⟨fun x hx => ?_, fun a b ha hb e hlt => D a b ((m1 a).mp ha) ((m1 b).mp hb) e hlt, h3, fun x hx _ => ⟨x, (m1 x).mp hx, ⟨rfl, rfl, rfl⟩, Or.inl rfl⟩, fun x hx => ⟨x, (m1 x).mpr hx, ⟨rfl, rfl, rfl⟩, Or.inl rfl⟩⟩
  have := h3 x ((m1 x).mp hx)
  omega
/-- prune of the master, no change under way -/
theorem iv_pr0 (I : iv_H H C dn) (J : iv_I C M dn sy go sg bg cq) (hdn : 0 ≤ dn) (m0 : ∀ x, x ∈ H ↔ x ∈ C) (m1 : ∀ x, x ∈ H' → x ∈ H) (m2 : ∀ x, x ∈ H → (iv_d x = 0 ∨ sy < iv_d x) → x ∈ H') : iv_H H' H' dn ∧ iv_I H' M dn sy go sg bg cq := by
  obtain ⟨h1, h2, h3, h4, h5⟩ := I
  obtain ⟨j1, j2, j3, j4, j5, j6, j7, j8, j9⟩ := J
  have mc : ∀ x, x ∈ H' → x ∈ C := fun x hx => (m0 x).mp (m1 x hx)
  refine ⟨⟨fun x hx => h1 x (m1 x hx), fun a b ha hb e hlt => h2 a b (m1 a ha) (m1 b hb) e hlt, fun x hx => h3 x (mc x hx), fun x hx _ => ⟨x, hx, ⟨rfl, rfl, rfl⟩, Or.inl rfl⟩, fun x hx => ⟨x, hx, ⟨rfl, rfl, rfl⟩, Or.inl rfl⟩⟩,
    j1, j2, fun m hm c hc => j3 m hm c (mc c hc), j4, fun m hm hd => ?_, fun m hm c hc => j6 m hm c (mc c hc), j7, j8, j9⟩
  obtain ⟨c, q1, q2, q3⟩ := j5 m hm hd
  exact ⟨c, m2 c ((m0 c).mpr q1) (q3.imp id (fun z => z.1)), q2, q3⟩
/-- prune of the mirror -/
theorem iv_pr1 (J : iv_I C M dn sy go sg bg cq) (m1 : ∀ x, x ∈ M' → x ∈ M) : iv_I C M' dn sy go sg bg cq := by
  obtain ⟨j1, j2, j3, j4, j5, j6, j7, j8, j9⟩ := J
  exact ⟨fun x hx => j1 x (m1 x hx), fun a b ha hb => j2 a b (m1 a ha) (m1 b hb), fun m hm => j3 m (m1 m hm), fun z m hm => j4 z m (m1 m hm), fun m hm => j5 m (m1 m hm), fun m hm => j6 m (m1 m hm), j7, j8, j9⟩
theorem iv_Cc (J : iv_I C M dn sy go sg bg cq) (m1 : ∀ x, x ∈ C' ↔ x ∈ C) : iv_I C' M dn sy go sg bg cq := by
  obtain ⟨j1, j2, j3, j4, j5, j6, j7, j8, j9⟩ := J
  refine ⟨j1, j2, fun m hm c hc => j3 m hm c ((m1 c).mp hc), j4, fun m hm hd => ?_, fun m hm c hc => j6 m hm c ((m1 c).mp hc), j7, j8, j9⟩
  obtain ⟨c, q1, q2⟩ := j5 m hm hd
  exact ⟨c, (m1 c).mpr q1, q2⟩
/-- the sync ends, or is given up -/
theorem iv_crash {sg' bg' : Prop} {go' cq' : Int} (J : iv_I C M dn sy go sg bg cq) (hs : ¬ sg') : iv_I C M dn sy go' sg' bg' cq' := by
  obtain ⟨j1, j2, j3, j4, j5, j6, j7, j8, j9⟩ := J
  refine ⟨j1, j2, j3, fun z => absurd z hs, fun m hm hd => ?_, j6, j7, j8, fun z => absurd z hs⟩
  obtain ⟨c, q1, q2, q3⟩ := j5 m hm hd
  exact ⟨c, q1, q2, q3.imp id (fun z => ⟨z.1, fun y => absurd y hs⟩)⟩
/-- a sync begins -/
theorem iv_start {sg' bg' : Prop} {cq' : Int} (J : iv_I C M dn sy go sg bg cq) (hb : ¬ bg') : iv_I C M dn sy dn sg' bg' cq' := by
  obtain ⟨j1, j2, j3, j4, j5, j6, j7, j8, j9⟩ := J
  refine ⟨j1, j2, j3, fun _ m hm => (j1 m hm).2.1, fun m hm hd => ?_, j6, j7, j8, fun _ => ⟨j8, Int.le_refl _⟩⟩
  obtain ⟨c, q1, q2, q3⟩ := j5 m hm hd
  exact ⟨c, q1, q2, q3.imp id (fun z => ⟨z.1, fun _ _ y => absurd y hb⟩)⟩
/-- a record that is to be sent -/
def iv_c (sy go : Int) (x : yt_T) : Prop := (sy < iv_b x ∧ iv_b x ≤ go) ∨ (iv_b x ≤ sy ∧ sy < iv_d x ∧ iv_d x ≤ go)
/-- nothing is left to send -/
theorem iv_end {sg' bg' : Prop} {go' cq' : Int} (I : iv_H H C dn) (J : iv_I C M dn sy go sg bg cq) (hs : sg) (hs' : ¬ sg') (none : ∀ x, x ∈ H → (bg → cq < iv_q x) → ¬ iv_c sy go x) : iv_I C M dn go go' sg' bg' cq' := by
  obtain ⟨h1, h2, h3, h4, h5⟩ := I
  obtain ⟨j1, j2, j3, j4, j5, j6, j7, j8, j9⟩ := J
  obtain ⟨k1, k2⟩ := j9 hs
  refine ⟨j1, j2, j3, fun z => absurd z hs', fun m hm hd => ?_, j6, by omega, k2, fun z => absurd z hs'⟩
  obtain ⟨c, q1, q2, q3⟩ := j5 m hm hd
  refine ⟨c, q1, q2, ?_⟩
  rcases q3 with z | ⟨z1, z2⟩
  · exact Or.inl z
  · refine Or.inr ⟨?_, fun y => absurd y hs'⟩
    rcases Int.lt_or_le go (iv_d c) with w | w
    · exact w
    · exfalso
      obtain ⟨h, r1, r2, r3⟩ := h5 c q1
      have hd2 : iv_d h = iv_d c := by
        rcases r3 with r3 | r3
        · exact r3
        · omega
      have hb2 := (iv_eb r2).trans (iv_eb q2)
      have := j4 hs m hm
      refine none h r1 (fun y => by rw [iv_eq (iv_et r2 q2)]; exact z2 hs w y) ?_
      unfold iv_c
      rcases Int.lt_or_le sy (iv_b h) with w2 | w2
      · exact Or.inl ⟨w2, by omega⟩
      · exact Or.inr ⟨w2, by omega, by omega⟩
/-- the first record h to be sent is sent: the mirror's record m of the same name has its end (d), and the cursor is at h -/
theorem iv_send {bg' : Prop} {mm : yt_T} (I : iv_H H C dn) (J : iv_I C M dn sy go sg bg cq) (hs : sg) (hh : h ∈ H) (hc : iv_c sy go h) (first : ∀ x, x ∈ H → (bg → cq < iv_q x) → iv_c sy go x → iv_q h ≤ iv_q x)
    (em : iv_e mm h) (dm : iv_d mm = if go < iv_d h then 0 else iv_d h) (m1 : ∀ x, x ∈ M' → x = mm ∨ (x ∈ M ∧ ¬ iv_e x h)) : iv_I C M' dn sy go sg bg' (iv_q h) := by
  obtain ⟨h1, h2, h3, h4, h5⟩ := I
  obtain ⟨j1, j2, j3, j4, j5, j6, j7, j8, j9⟩ := J
  obtain ⟨k1, k2⟩ := j9 hs
  have hbg : iv_b h ≤ go := by rcases hc with z | z <;> omega
  have hr := h1 h hh
  have ebm := iv_eb em
  obtain ⟨c0, c1, c2, c3⟩ := h4 h hh (by omega)
  have ebc := iv_eb c2
  have hrc := h3 c0 c1
  -- the end that is sent, seen from the copy
  have dmc : iv_d mm = (if go < iv_d c0 then 0 else iv_d c0) := by
    rw [dm]
    rcases c3 with z | z
    · rw [z]
    · rw [z.1, if_pos (by omega), if_neg (by omega)]
  have DC := iv_DC ⟨h1, h2, h3, h4, h5⟩
  -- a pending one comes before none
  have pend : ∀ m, m ∈ M → ¬ iv_e m h → ∀ c, c ∈ C → iv_e c m → sy < iv_d c → iv_d c ≤ go → (bg → cq < iv_q m) → iv_q h < iv_q m := by
    intro m hm hne c hc2 ec w1 w2 w3
    obtain ⟨x, r1, r2, r3⟩ := h5 c hc2
    have hd2 : iv_d x = iv_d c := by
      rcases r3 with r3 | r3
      · exact r3
      · omega
    have hxm := iv_et r2 ec
    have hb2 := iv_eb hxm
    have := j4 hs m hm
    have f := first x r1 (fun y => by rw [iv_eq hxm]; exact w3 y) (by
      unfold iv_c
      rcases Int.lt_or_le sy (iv_b x) with w2 | w2
      · exact Or.inl ⟨w2, by omega⟩
      · exact Or.inr ⟨w2, by omega, by omega⟩)
    rw [iv_eq hxm] at f
    have ne : iv_q h ≠ iv_q m := fun z => hne (iv_qe z.symm)
    omega
  refine ⟨fun x hx => ?_, fun a b ha hb e hlt => ?_, fun m hm c hc2 e hlt => ?_, fun z m hm => ?_, fun m hm hd => ?_, fun m hm c hc2 hd e hlt => ?_, j7, j8, fun _ => ⟨k1, k2⟩⟩
  · rcases m1 x hx with rfl | ⟨z, -⟩
    · rw [dm]
      split <;> omega
    · exact j1 x z
  · rcases m1 a ha with rfl | ⟨a1, a2⟩
    · rcases m1 b hb with rfl | ⟨b1, b2⟩
      · omega
      · have q := j3 b b1 c0 c1 (iv_st (iv_es (iv_ey (iv_et em c2))) e) (by omega)
        have := j4 hs b b1
        rw [dmc, if_neg (by omega)]
        exact q
    · rcases m1 b hb with rfl | ⟨b1, b2⟩
      · by_cases z : iv_d a = 0
        · exfalso
          obtain ⟨c, q1, q2, q3⟩ := j5 a a1 z
          have ebq := iv_eb q2
          have w := DC c c0 q1 c1 (iv_st (iv_es q2) (iv_st e (iv_es (iv_et em c2)))) (by omega)
          rcases q3 with q3 | ⟨q3, q4⟩
          · exact w.1 q3
          · have f := pend a a1 a2 c q1 q2 q3 (by omega) (q4 hs (by omega))
            have : iv_q a < iv_q h := by
              rw [← iv_eq em]
              have hlt' := hlt
              unfold iv_b at hlt'
              unfold iv_q
              rw [e.1, e.2]
              exact ky_lb (Int32.lt_iff_toInt_lt.mpr hlt')
            omega
        · refine ⟨z, ?_⟩
          have := j6 a a1 c0 c1 z (iv_st e (iv_es (iv_et em c2))) (by omega)
          omega
      · exact j2 a b a1 b1 e hlt
  · rcases m1 m hm with rfl | ⟨a1, a2⟩
    · have := DC c c0 hc2 c1 (iv_st e (iv_es (iv_et em c2))) (by omega)
      omega
    · exact j3 m a1 c hc2 e hlt
  · rcases m1 m hm with rfl | ⟨a1, a2⟩
    · omega
    · exact j4 z m a1
  · rcases m1 m hm with rfl | ⟨a1, a2⟩
    · refine ⟨c0, c1, iv_ey (iv_et em c2), ?_⟩
      rw [dmc] at hd
      by_cases z : go < iv_d c0
      · exact Or.inr ⟨by omega, fun _ w => by omega⟩
      · rw [if_neg z] at hd
        exact Or.inl hd
    · obtain ⟨c, q1, q2, q3⟩ := j5 m a1 hd
      refine ⟨c, q1, q2, q3.imp id (fun z => ⟨z.1, fun g1 g2 _ => ?_⟩)⟩
      exact pend m a1 a2 c q1 q2 z.1 g2 (z.2 g1 g2)
  · rcases m1 m hm with rfl | ⟨a1, a2⟩
    · have w := DC c0 c c1 hc2 (iv_st (iv_es (iv_ey (iv_et em c2))) e) (by omega)
      rw [dmc] at hd ⊢
      by_cases z : go < iv_d c0
      · rw [if_pos z] at hd
        exact absurd rfl hd
      · rw [if_neg z]
        exact w.2
    · exact j6 m a1 c hc2 hd e hlt
end IV
end
section
/-! ===== the relation ===== -/
/-- undoing the first j entries of the log gives C -/
def ul_U (ro rk rb ur ud uv ua : Nat → Int32) (C : List yt_T) : Nat → List Nat → (Nat → Int32) → (Nat → Int32) → Prop
  | 0, L, rd, rv => (L.map (yt_t ro rk rb rd rv)).Perm C
  | j + 1, L, rd, rv => ∃ r, r ∈ L ∧ ur j = nI r ∧ ((ua j = 1 ∧ ∃ A B, L = A ++ r :: B ∧ ul_U ro rk rb ur ud uv ua C j (A ++ B) rd rv) ∨ (ua j = 0 ∧ ul_U ro rk rb ur ud uv ua C j L (upd rd r (ud j)) (upd rv r (uv j))))
/-- the log against the records born now -/
def lg_F (rb ur ua : Nat → Int32) (l : List Nat) (un : Nat) (now : Int32) : Prop :=
  (∀ j, j < un → ∃ r, r ∈ l ∧ ur j = nI r ∧ (ua j = 0 ∨ (ua j = 1 ∧ rb r = now))) ∧ (∀ i j, i < j → j < un → ua i = 1 → ua j = 1 → ur i ≠ ur j) ∧ (∀ r, r ∈ l → rb r = now → ∃ j, j < un ∧ ua j = 1 ∧ ur j = nI r)
/-- the records of both sides -/
def rl_D (ro rk rb rd rv : Nat → Int32) (L : Nat → List Nat) (ur ud uv ua : Nat → Int32) (un dn c2 : Nat) (yo yk yb yd yv yc : Nat → Int32) : Prop :=
  yc 0 = nI (L 0).length ∧ yc 1 = nI (L 1).length ∧ yc 2 = nI c2 ∧ c2 ≤ 100 ∧ ((L 0).map (yt_t ro rk rb rd rv)).Perm (yt_l yo yk yb yd yv 0 (L 0).length) ∧ ((L 1).map (yt_t ro rk rb rd rv)).Perm (yt_l yo yk yb yd yv 100 (L 1).length) ∧
  ul_U ro rk rb ur ud uv ua (yt_l yo yk yb yd yv 200 c2) un (L 0) rd rv ∧ lg_F rb ur ua (L 0) un (nI (dn + 1)) ∧ iv_H ((L 0).map (yt_t ro rk rb rd rv)) (yt_l yo yk yb yd yv 200 c2) dn
def rl_F (k fn dn cg un vo ns sy go c2 : Nat) (f_freeRecord sg bg cO cK cB fO fK fV fB : Int32) (ro rk rb rd rv rw : Nat → Int32) (co le re ch : Nat → Nat) (la rt sz ur ud uv ua yo yk yb yd yv yc yh : Nat → Int32) (L : Nat → List Nat) (FR : List Nat) : Prop :=
  4 * dn ≤ k ∧ cg ≤ 40 ∧ un ≤ 2 * cg ∧ vo < 2 ∧ ns ≤ 4 ∧ (sg = 0 ∨ sg = 1) ∧ (bg = 0 ∨ bg = 1) ∧ gx_S fn f_freeRecord ro rk rb rd rw co le re ch la rt sz L FR ∧ rl_D ro rk rb rd rv L ur ud uv ua un dn c2 yo yk yb yd yv yc ∧
  iv_I (yt_l yo yk yb yd yv 200 c2) ((L 1).map (yt_t ro rk rb rd rv)) dn sy go (sg = 1) (bg = 1) (ky_e cO cK cB) ∧ (yh 0 = fO ∧ yh 1 = fK ∧ yh 2 = fV ∧ yh 3 = fB)
/-- the relation at the head of a turn whose first cell is k -/
def i_Rel (k : Nat) (u : SX) (v : SY) : Prop := ∃ (fn dn cg un vo ns sy go c2 : Nat) (f_freeRecord sg bg cO cK cB fO fK fV fB : Int32) (ro rk rb rd rv rw : Nat → Int32) (co le re ch : Nat → Nat) (la rt sz pa sp ur ud uv ua sn yo yk yb yd yv yc yh : Nat → Int32) (L : Nat → List Nat) (FR : List Nat), u = ((nI fn), f_freeRecord, (nI dn), (nI cg), (nI un), (nI vo), (nI ns), sg, (nI sy), (nI go), cO, cK, cB, bg, fO, fK, fV, fB, ro, rk, rb, rd, rv, rw, (ar_n co), (ar_n le), (ar_n re), (ar_n ch), la, rt, sz, pa, sp, ur, ud, uv, ua, sn) ∧ v = ((nI dn), (nI cg), (nI vo), (nI ns), (nI sy), sg, (nI go), bg, cO, cK, cB, yo, yk, yb, yd, yv, yc, sn, yh) ∧ rl_F k fn dn cg un vo ns sy go c2 f_freeRecord sg bg cO cK cB fO fK fV fB ro rk rb rd rv rw co le re ch la rt sz ur ud uv ua yo yk yb yd yv yc yh L FR
theorem rl_el {k : Nat} {P : SX → SY → Prop} (h : ∀ (fn dn cg un vo ns sy go c2 : Nat) (f_freeRecord sg bg cO cK cB fO fK fV fB : Int32) (ro rk rb rd rv rw : Nat → Int32) (co le re ch : Nat → Nat) (la rt sz pa sp ur ud uv ua sn yo yk yb yd yv yc yh : Nat → Int32) (L : Nat → List Nat) (FR : List Nat), rl_F k fn dn cg un vo ns sy go c2 f_freeRecord sg bg cO cK cB fO fK fV fB ro rk rb rd rv rw co le re ch la rt sz ur ud uv ua yo yk yb yd yv yc yh L FR → P ((nI fn), f_freeRecord, (nI dn), (nI cg), (nI un), (nI vo), (nI ns), sg, (nI sy), (nI go), cO, cK, cB, bg, fO, fK, fV, fB, ro, rk, rb, rd, rv, rw, (ar_n co), (ar_n le), (ar_n re), (ar_n ch), la, rt, sz, pa, sp, ur, ud, uv, ua, sn) ((nI dn), (nI cg), (nI vo), (nI ns), (nI sy), sg, (nI go), bg, cO, cK, cB, yo, yk, yb, yd, yv, yc, sn, yh)) {u : SX} {v : SY} (I : i_Rel k u v) : P u v :=
  I.elim fun fn I => I.elim fun dn I => I.elim fun cg I => I.elim fun un I => I.elim fun vo I => I.elim fun ns I => I.elim fun sy I => I.elim fun go I => I.elim fun c2 I => I.elim fun f_freeRecord I => I.elim fun sg I => I.elim fun bg I => I.elim fun cO I => I.elim fun cK I => I.elim fun cB I => I.elim fun fO I => I.elim fun fK I => I.elim fun fV I => I.elim fun fB I => I.elim fun ro I => I.elim fun rk I => I.elim fun rb I => I.elim fun rd I => I.elim fun rv I => I.elim fun rw I => I.elim fun co I => I.elim fun le I => I.elim fun re I => I.elim fun ch I => I.elim fun la I => I.elim fun rt I => I.elim fun sz I => I.elim fun pa I => I.elim fun sp I => I.elim fun ur I => I.elim fun ud I => I.elim fun uv I => I.elim fun ua I => I.elim fun sn I => I.elim fun yo I => I.elim fun yk I => I.elim fun yb I => I.elim fun yd I => I.elim fun yv I => I.elim fun yc I => I.elim fun yh I => I.elim fun L I => I.elim fun FR I => by
    rw [I.1, I.2.1]
    exact h fn dn cg un vo ns sy go c2 f_freeRecord sg bg cO cK cB fO fK fV fB ro rk rb rd rv rw co le re ch la rt sz pa sp ur ud uv ua sn yo yk yb yd yv yc yh L FR I.2.2
theorem rl_in {k : Nat} {fn dn cg un vo ns sy go c2 : Nat} {f_freeRecord sg bg cO cK cB fO fK fV fB : Int32} {ro rk rb rd rv rw : Nat → Int32} {co le re ch : Nat → Nat} {la rt sz pa sp ur ud uv ua sn yo yk yb yd yv yc yh : Nat → Int32} {L : Nat → List Nat} {FR : List Nat} (F : rl_F k fn dn cg un vo ns sy go c2 f_freeRecord sg bg cO cK cB fO fK fV fB ro rk rb rd rv rw co le re ch la rt sz ur ud uv ua yo yk yb yd yv yc yh L FR) : i_Rel k ((nI fn), f_freeRecord, (nI dn), (nI cg), (nI un), (nI vo), (nI ns), sg, (nI sy), (nI go), cO, cK, cB, bg, fO, fK, fV, fB, ro, rk, rb, rd, rv, rw, (ar_n co), (ar_n le), (ar_n re), (ar_n ch), la, rt, sz, pa, sp, ur, ud, uv, ua, sn) ((nI dn), (nI cg), (nI vo), (nI ns), (nI sy), sg, (nI go), bg, cO, cK, cB, yo, yk, yb, yd, yv, yc, sn, yh) :=
  ⟨fn, dn, cg, un, vo, ns, sy, go, c2, f_freeRecord, sg, bg, cO, cK, cB, fO, fK, fV, fB, ro, rk, rb, rd, rv, rw, co, le, re, ch, la, rt, sz, pa, sp, ur, ud, uv, ua, sn, yo, yk, yb, yd, yv, yc, yh, L, FR, rfl, rfl, F⟩
theorem i_up {k : Nat} {u : SX} {v : SY} (h : i_Rel k u v) : i_Rel (k + 4) u v := by
  refine rl_el (P := fun u v => i_Rel (k + 4) u v) ?_ h
  intro fn dn cg un vo ns sy go c2 f_freeRecord sg bg cO cK cB fO fK fV fB ro rk rb rd rv rw co le re ch la rt sz pa sp ur ud uv ua sn yo yk yb yd yv yc yh L FR F
  exact rl_in ⟨Nat.le_trans F.1 (Nat.le_add_right k 4), F.2⟩
end
section
/-! ===== use, found, snapshot, synced, size, done ===== -/
theorem i_vc_use {k : Nat} {u : SX} {v : SY} (I : i_Rel k u v) (hk : k + 4 ≤ 2048) (v1 : Int32) : wpX_use (fun r u' => wpY_use (fun r' v' => r' = r ∧ i_Rel (k + 4) u' v') v v1) u v1 := by
  refine rl_el (P := fun u v => wpX_use (fun r u' => wpY_use (fun r' v' => r' = r ∧ i_Rel (k + 4) u' v') v v1) u v1) ?_ I
  intro fn dn cg un vo ns sy go c2 f_freeRecord sg bg cO cK cB fO fK fV fB ro rk rb rd rv rw co le re ch la rt sz pa sp ur ud uv ua sn yo yk yb yd yv yc yh L FR F
  have F' : rl_F (k + 4) fn dn cg un vo ns sy go c2 f_freeRecord sg bg cO cK cB fO fK fV fB ro rk rb rd rv rw co le re ch la rt sz ur ud uv ua yo yk yb yd yv yc yh L FR := ⟨Nat.le_trans F.1 (Nat.le_add_right k 4), F.2⟩
  by_cases h0 : v1 < 0
  · exact br_t h0 (br_t h0 ⟨rfl, rl_in F'⟩)
  · by_cases h1 : v1 ≤ 1
    · obtain ⟨j, hj, rfl⟩ := nI_of2 (M := 1) (n := 1) (by decide) h0 h1
      have F2 : rl_F (k + 4) fn dn cg un j ns sy go c2 f_freeRecord sg bg cO cK cB fO fK fV fB ro rk rb rd rv rw co le re ch la rt sz ur ud uv ua yo yk yb yd yv yc yh L FR := ⟨F'.1, F'.2.1, F'.2.2.1, by omega, F'.2.2.2.2⟩
      exact br_f h0 (br_t h1 (br_f h0 (br_t h1 ⟨rfl, rl_in F2⟩)))
    · exact br_f h0 (br_f h1 (br_f h0 (br_f h1 ⟨rfl, rl_in F'⟩)))
theorem i_vc_found {k : Nat} {u : SX} {v : SY} (I : i_Rel k u v) (hk : k + 4 ≤ 2048) (v1 : Int32) : wpX_found (fun r => wpY_found (fun r' => r' = r ∧ i_Rel (k + 4) u v) v v1) u v1 := by
  have I' := i_up I
  revert I'
  refine rl_el (P := fun u v => i_Rel (k + 4) u v → wpX_found (fun r => wpY_found (fun r' => r' = r ∧ i_Rel (k + 4) u v) v v1) u v1) ?_ I
  intro fn dn cg un vo ns sy go c2 f_freeRecord sg bg cO cK cB fO fK fV fB ro rk rb rd rv rw co le re ch la rt sz pa sp ur ud uv ua sn yo yk yb yd yv yc yh L FR F I'
  obtain ⟨-, -, -, -, -, -, -, -, -, -, y0, y1, y2, y3⟩ := F
  by_cases h0 : v1 < 0
  · exact br_t h0 (br_t h0 ⟨rfl, I'⟩)
  · by_cases h3 : 3 < v1
    · exact br_f h0 (br_t h3 (br_f h0 (br_f (Int32.not_le.mpr h3) ⟨rfl, I'⟩)))
    · have h3' := Int32.not_lt.mp h3
      obtain ⟨j, hj, rfl⟩ := nI_of2 (M := 3) (n := 3) (by decide) h0 h3'
      have vj : vp_in (nI j) 4 := vp_in_nI (by omega) (by decide)
      have cj : (nI j).toNatClampNeg = j := nI_clamp (by omega)
      have yy : ∀ r, yh j = r → wpY_found (fun r' => r' = r ∧ i_Rel (k + 4) ((nI fn), f_freeRecord, (nI dn), (nI cg), (nI un), (nI vo), (nI ns), sg, (nI sy), (nI go), cO, cK, cB, bg, fO, fK, fV, fB, ro, rk, rb, rd, rv, rw, (ar_n co), (ar_n le), (ar_n re), (ar_n ch), la, rt, sz, pa, sp, ur, ud, uv, ua, sn) ((nI dn), (nI cg), (nI vo), (nI ns), (nI sy), sg, (nI go), bg, cO, cK, cB, yo, yk, yb, yd, yv, yc, sn, yh)) ((nI dn), (nI cg), (nI vo), (nI ns), (nI sy), sg, (nI go), bg, cO, cK, cB, yo, yk, yb, yd, yv, yc, sn, yh) (nI j) := fun r hr => by
        unfold wpY_found
        dsimp only
        rw [cj, hr]
        exact br_f h0 (br_t h3' ⟨vj, rfl, I'⟩)
      match j, hj with
      | 0, _ => exact br_f h0 (br_f h3 (br_t rfl (yy _ y0)))
      | 1, _ => exact br_f h0 (br_f h3 (br_f (by decide) (br_t rfl (yy _ y1))))
      | 2, _ => exact br_f h0 (br_f h3 (br_f (by decide) (br_f (by decide) (br_t rfl (yy _ y2)))))
      | 3, _ => exact br_f h0 (br_f h3 (br_f (by decide) (br_f (by decide) (br_f (by decide) (br_t rfl (yy _ y3))))))
theorem i_vc_synced {k : Nat} {u : SX} {v : SY} (I : i_Rel k u v) (hk : k + 4 ≤ 2048) : wpX_synced (fun r => wpY_synced (fun r' => r' = r ∧ i_Rel (k + 4) u v) v) u := by
  have I' := i_up I
  revert I'
  refine rl_el (P := fun u v => i_Rel (k + 4) u v → wpX_synced (fun r => wpY_synced (fun r' => r' = r ∧ i_Rel (k + 4) u v) v) u) ?_ I
  intro fn dn cg un vo ns sy go c2 f_freeRecord sg bg cO cK cB fO fK fV fB ro rk rb rd rv rw co le re ch la rt sz pa sp ur ud uv ua sn yo yk yb yd yv yc yh L FR F I'
  by_cases h : sg = 0
  · exact br_t h (br_t h ⟨rfl, I'⟩)
  · exact br_f h (br_f h ⟨rfl, I'⟩)
theorem i_vc_done {k : Nat} {u : SX} {v : SY} (I : i_Rel k u v) (hk : k + 4 ≤ 2048) : wpX_done (fun r => wpY_done (fun r' => r' = r ∧ i_Rel (k + 4) u v) v) u := by
  have I' := i_up I
  revert I'
  refine rl_el (P := fun u v => i_Rel (k + 4) u v → wpX_done (fun r => wpY_done (fun r' => r' = r ∧ i_Rel (k + 4) u v) v) u) ?_ I
  intro fn dn cg un vo ns sy go c2 f_freeRecord sg bg cO cK cB fO fK fV fB ro rk rb rd rv rw co le re ch la rt sz pa sp ur ud uv ua sn yo yk yb yd yv yc yh L FR F I'
  exact ⟨rfl, I'⟩
theorem i_vc_size {k : Nat} {u : SX} {v : SY} (I : i_Rel k u v) (hk : k + 4 ≤ 2048) : wpX_size (fun r => wpY_size (fun r' => r' = r ∧ i_Rel (k + 4) u v) v) u := by
  have I' := i_up I
  revert I'
  refine rl_el (P := fun u v => i_Rel (k + 4) u v → wpX_size (fun r => wpY_size (fun r' => r' = r ∧ i_Rel (k + 4) u v) v) u) ?_ I
  intro fn dn cg un vo ns sy go c2 f_freeRecord sg bg cO cK cB fO fK fV fB ro rk rb rd rv rw co le re ch la rt sz pa sp ur ud uv ua sn yo yk yb yd yv yc yh L FR F I'
  obtain ⟨-, -, -, hv, -, -, -, G, D, -⟩ := F
  unfold wpX_size wpY_size
  dsimp only
  rw [nI_clamp (n := vo) (by omega)]
  refine ⟨vp_in_nI hv (by decide), vp_in_nI (by omega) (by decide), ?_, I'⟩
  rw [(gx_ls G hv).2.2.2.2.2.1]
  rcases (show vo = 0 ∨ vo = 1 by omega) with rfl | rfl
  · exact D.1
  · exact D.2.1
theorem sn_ex (sn : Nat → Int32) (t : Int32) : ∀ ns : Nat, ∃ j, j ≤ ns ∧ (∀ i, i < j → sn i ≠ t) ∧ (j < ns → sn j = t)
  | 0 => ⟨0, Nat.le_refl _, fun i h => absurd h (by omega), fun h => absurd h (by omega)⟩
  | ns + 1 => by
    obtain ⟨j, h1, h2, h3⟩ := sn_ex sn t ns
    rcases Nat.lt_or_ge j ns with z | z
    · exact ⟨j, by omega, h2, fun _ => h3 z⟩
    · by_cases e : sn j = t
      · exact ⟨j, by omega, h2, fun _ => e⟩
      · refine ⟨j + 1, by omega, fun i hi => ?_, fun h => by omega⟩
        rcases Nat.lt_or_ge i j with y | y
        · exact h2 i y
        · rw [show i = j by omega]; exact e
section SN
variable {f_freeRecord f_done f_changes f_undo f_volume f_snaps f_syncing f_synced f_goal f_cObj f_cKey f_cBorn f_begun f_fObj f_fKey f_fValue f_fBorn : Int32} {fn : Nat} {co le re ch : Nat → Nat} {ro rk rb rd rv rw la rt sz pa sp ur ud uv ua sn : Nat → Int32}
variable {g_done g_changes g_volume g_snaps g_upTo g_underWay g_goal g_anySent g_lastObj g_lastKey g_lastBorn : Int32} {yo yk yb yd yv yc ys yh : Nat → Int32}
variable {ns j : Nat} {t : Int32}
theorem sn_X {post : Int32 → SX → Prop} (h4 : ns ≤ 4) (hj : j ≤ ns) (h1 : ∀ i, i < j → sn i ≠ t) (h2 : j < ns → sn j = t) (K : wX_snapshot_40 post t (nI j) (nI fn) f_freeRecord f_done f_changes f_undo f_volume (nI ns) f_syncing f_synced f_goal f_cObj f_cKey f_cBorn f_begun f_fObj f_fKey f_fValue f_fBorn ro rk rb rd rv rw (ar_n co) (ar_n le) (ar_n re) (ar_n ch) la rt sz pa sp ur ud uv ua sn) : ∀ (f i : Nat), i ≤ j → j < f + i → wX_snapshot_16 post t (nI fn) f_freeRecord f_done f_changes f_undo f_volume (nI ns) f_syncing f_synced f_goal f_cObj f_cKey f_cBorn f_begun f_fObj f_fKey f_fValue f_fBorn ro rk rb rd rv rw (ar_n co) (ar_n le) (ar_n re) (ar_n ch) la rt sz pa sp ur ud uv ua sn f (nI i) := by
  intro f
  induction f with
  | zero => intro i _ h; omega
  | succ f ih =>
    intro i hi hf
    rw [wX_snapshot_16]
    dsimp only
    rw [nI_clamp (n := i) (by omega)]
    by_cases e : i = j
    · subst e
      by_cases e2 : i = ns
      · exact br_t (nI_le (by omega) (by omega)) K
      · exact br_f (nI_ge (by omega) (by omega)) ⟨vp_in_nI (by omega) (by decide), br_t (h2 (by omega)) K⟩
    · exact br_f (nI_ge (by omega) (by omega)) ⟨vp_in_nI (by omega) (by decide), br_f (h1 i (by omega)) (nm_r (nI_1 i) (ih (i + 1) (by omega) (by omega)))⟩
theorem sn_Y {post : Int32 → SY → Prop} (h4 : ns ≤ 4) (hj : j ≤ ns) (h1 : ∀ i, i < j → ys i ≠ t) (h2 : j < ns → ys j = t)
    (K1 : j = ns → ns = 4 → post 0 (g_done, g_changes, g_volume, (nI ns), g_upTo, g_underWay, g_goal, g_anySent, g_lastObj, g_lastKey, g_lastBorn, yo, yk, yb, yd, yv, yc, ys, yh)) (K2 : j = ns → ns < 4 → post 1 (g_done, g_changes, g_volume, (nI (ns + 1)), g_upTo, g_underWay, g_goal, g_anySent, g_lastObj, g_lastKey, g_lastBorn, yo, yk, yb, yd, yv, yc, (upd ys ns t), yh)) (K3 : j < ns → post 1 (g_done, g_changes, g_volume, (nI (ns - 1)), g_upTo, g_underWay, g_goal, g_anySent, g_lastObj, g_lastKey, g_lastBorn, yo, yk, yb, yd, yv, yc, (upd ys j (ys (ns - 1))), yh)) : ∀ (f i : Nat), i ≤ j → j < f + i → wY_snapshot_16 post t g_done g_changes g_volume (nI ns) g_upTo g_underWay g_goal g_anySent g_lastObj g_lastKey g_lastBorn yo yk yb yd yv yc ys yh f (nI i) := by
  intro f
  induction f with
  | zero => intro i _ h; omega
  | succ f ih =>
    intro i hi hf
    rw [wY_snapshot_16]
    dsimp only
    rw [nI_clamp (n := i) (by omega)]
    by_cases e : i = j
    · subst e
      by_cases e2 : i = ns
      · refine br_t (nI_le (by omega) (by omega)) ?_
        by_cases e4 : ns = 4
        · subst e4
          exact br_t rfl (K1 e2 rfl)
        · refine br_f (fun z => e4 ((nI_eq (b := 4) (by omega) (by omega)).mp z)) (nm_r (nI_1 ns) ⟨vp_in_nI (by omega) (by decide), ?_⟩)
          rw [nI_clamp (n := ns) (by omega)]
          exact nm_e (K2 e2 (by omega))
      · refine br_f (nI_ge (by omega) (by omega)) ⟨vp_in_nI (by omega) (by decide), br_t (h2 (by omega)) ?_⟩
        rw [ar_m ns (by omega), nI_clamp (n := ns - 1) (by omega)]
        exact nm_e ⟨vp_in_nI (by omega) (by decide), vp_in_nI (by omega) (by decide), nm_e (K3 (by omega))⟩
    · exact br_f (nI_ge (by omega) (by omega)) ⟨vp_in_nI (by omega) (by decide), br_f (h1 i (by omega)) (nm_r (nI_1 i) (ih (i + 1) (by omega) (by omega)))⟩
end SN
theorem i_vc_snapshot {k : Nat} {u : SX} {v : SY} (I : i_Rel k u v) (hk : k + 4 ≤ 2048) (v1 : Int32) : wpX_snapshot (fun r u' => wpY_snapshot (fun r' v' => r' = r ∧ i_Rel (k + 4) u' v') v v1) u v1 := by
  refine rl_el (P := fun u v => wpX_snapshot (fun r u' => wpY_snapshot (fun r' v' => r' = r ∧ i_Rel (k + 4) u' v') v v1) u v1) ?_ I
  intro fn dn cg un vo ns sy go c2 f_freeRecord sg bg cO cK cB fO fK fV fB ro rk rb rd rv rw co le re ch la rt sz pa sp ur ud uv ua sn yo yk yb yd yv yc yh L FR F
  have F' : rl_F (k + 4) fn dn cg un vo ns sy go c2 f_freeRecord sg bg cO cK cB fO fK fV fB ro rk rb rd rv rw co le re ch la rt sz ur ud uv ua yo yk yb yd yv yc yh L FR := ⟨Nat.le_trans F.1 (Nat.le_add_right k 4), F.2⟩
  have h4 := F.2.2.2.2.1
  by_cases h0 : v1 < 0
  · exact br_t h0 (br_t h0 ⟨rfl, rl_in F'⟩)
  · by_cases h1 : v1 ≤ nI dn
    · obtain ⟨j, j1, j2, j3⟩ := sn_ex sn v1 ns
      refine br_f h0 (br_t h1 ⟨j + 1, sn_X h4 j1 j2 j3 ?_ (j + 1) 0 (by omega) (by omega)⟩)
      have yy : ∀ (r : Int32) (u' : SX), (j = ns → ns = 4 → (0 = r ∧ i_Rel (k + 4) u' ((nI dn), (nI cg), (nI vo), (nI ns), (nI sy), sg, (nI go), bg, cO, cK, cB, yo, yk, yb, yd, yv, yc, sn, yh))) → (j = ns → ns < 4 → (1 = r ∧ i_Rel (k + 4) u' ((nI dn), (nI cg), (nI vo), (nI (ns + 1)), (nI sy), sg, (nI go), bg, cO, cK, cB, yo, yk, yb, yd, yv, yc, (upd sn ns v1), yh))) → (j < ns → (1 = r ∧ i_Rel (k + 4) u' ((nI dn), (nI cg), (nI vo), (nI (ns - 1)), (nI sy), sg, (nI go), bg, cO, cK, cB, yo, yk, yb, yd, yv, yc, (upd sn j (sn (ns - 1))), yh))) →
          wpY_snapshot (fun r' v' => r' = r ∧ i_Rel (k + 4) u' v') ((nI dn), (nI cg), (nI vo), (nI ns), (nI sy), sg, (nI go), bg, cO, cK, cB, yo, yk, yb, yd, yv, yc, sn, yh) v1 := fun r u' a b c =>
        br_f h0 (br_t h1 ⟨j + 1, sn_Y h4 j1 j2 j3 a b c (j + 1) 0 (by omega) (by omega)⟩)
      unfold wX_snapshot_40
      by_cases e : j = ns
      · refine br_t (nI_le (by omega) (by omega)) ?_
        by_cases e4 : ns = 4
        · subst e4
          exact br_t rfl (yy _ _ (fun _ _ => ⟨rfl, rl_in F'⟩) (fun _ z => absurd z (by decide)) (fun z => absurd z (by omega)))
        · refine br_f (fun z => e4 ((nI_eq (b := 4) (by omega) (by omega)).mp z)) (nm_r (nI_1 ns) ⟨vp_in_nI (by omega) (by decide), ?_⟩)
          rw [nI_clamp (n := ns) (by omega)]
          have F2 : rl_F (k + 4) fn dn cg un vo (ns + 1) sy go c2 f_freeRecord sg bg cO cK cB fO fK fV fB ro rk rb rd rv rw co le re ch la rt sz ur ud uv ua yo yk yb yd yv yc yh L FR := ⟨F'.1, F'.2.1, F'.2.2.1, F'.2.2.2.1, by omega, F'.2.2.2.2.2⟩
          exact nm_e (yy _ _ (fun _ z => absurd z e4) (fun _ _ => ⟨rfl, rl_in F2⟩) (fun z => absurd z (by omega)))
      · refine br_f (nI_ge (by omega) (by omega)) ?_
        rw [ar_m ns (by omega), nI_clamp (n := ns - 1) (by omega), nI_clamp (n := j) (by omega)]
        have F2 : rl_F (k + 4) fn dn cg un vo (ns - 1) sy go c2 f_freeRecord sg bg cO cK cB fO fK fV fB ro rk rb rd rv rw co le re ch la rt sz ur ud uv ua yo yk yb yd yv yc yh L FR := ⟨F'.1, F'.2.1, F'.2.2.1, F'.2.2.2.1, by omega, F'.2.2.2.2.2⟩
        exact nm_e ⟨vp_in_nI (by omega) (by decide), vp_in_nI (by omega) (by decide), nm_e (yy _ _ (fun z => absurd z e) (fun z => absurd z e) (fun _ => ⟨rfl, rl_in F2⟩))⟩
    · exact br_f h0 (br_f h1 (br_f h0 (br_f h1 ⟨rfl, rl_in F'⟩)))
end
section
/-! ===== seen on both sides; has, read ===== -/
theorem ky_in {κ : Nat → Int} : ∀ {L : List Nat}, ky_S κ L → ∀ a, a ∈ L → ∀ b, b ∈ L → κ a = κ b → a = b
  | [], _, _, ha, _, _, _ => absurd ha List.not_mem_nil
  | x :: L, s, a, ha, b, hb, e => by
    unfold ky_S at s
    obtain ⟨s1, s2⟩ := List.pairwise_cons.mp s
    rcases List.mem_cons.mp ha with qa | qa
    · rcases List.mem_cons.mp hb with qb | qb
      · rw [qa, qb]
      · have := s1 b qb; rw [qa] at e; omega
    · rcases List.mem_cons.mp hb with qb | qb
      · have := s1 a qa; rw [qb] at e; omega
      · exact ky_in s2 a qa b qb e
theorem ky_sand {o k b o' k' b' t : Int32} (h1 : ky_e o k b ≤ ky_e o' k' b') (h2 : ky_e o' k' b' ≤ ky_e o k t) : o' = o ∧ k' = k ∧ b' ≤ t := by
  have n1 : ¬ ky_e o' k' b' < ky_e o k b := by omega
  have n2 : ¬ ky_e o k t < ky_e o' k' b' := by omega
  rw [ky_lt] at n1 n2
  rcases ky_tr o o' with z | rfl | z
  · exact absurd (Or.inl z) n2
  · rcases ky_tr k k' with z | rfl | z
    · exact absurd (Or.inr ⟨rfl, Or.inl z⟩) n2
    · refine ⟨rfl, rfl, ?_⟩
      rcases ky_tr t b' with z | rfl | z
      · exact absurd (Or.inr ⟨rfl, Or.inr ⟨rfl, z⟩⟩) n2
      · exact Int32.le_refl _
      · exact Int32.le_of_lt z
    · exact absurd (Or.inr ⟨rfl, Or.inl z⟩) n1
  · exact absurd (Or.inl z) n1
theorem ky_le {o k b t : Int32} (h : b ≤ t) : ky_e o k b ≤ ky_e o k t := by
  have := Int32.le_iff_toInt_le.mp h
  unfold ky_e
  omega
theorem yt_inj {o k b d v : Nat → Int32} {a c i j : Nat} (nd : (yt_l o k b d v a c).Nodup) (hi : i < c) (hj : j < c) (e : yt_t o k b d v (a + i) = yt_t o k b d v (a + j)) : i = j := by
  unfold yt_l at nd
  have p := List.pairwise_map.mp nd
  rw [List.pairwise_iff_getElem] at p
  have key : ∀ i j, i < j → j < c → yt_t o k b d v (a + i) ≠ yt_t o k b d v (a + j) := fun i j h1 h2 => by
    have := p i j (by rw [List.length_range]; omega) (by rw [List.length_range]; omega) h1
    rw [List.getElem_range, List.getElem_range] at this
    exact this
  rcases Nat.lt_trichotomy i j with z | z | z
  · exact absurd e (key i j z hj)
  · exact z
  · exact absurd e.symm (key j i z hi)
section GX
variable {f_freeRecord f_done f_changes f_undo f_volume f_snaps f_syncing f_synced f_goal f_cObj f_cKey f_cBorn f_begun f_fObj f_fKey f_fValue f_fBorn : Int32} {fn : Nat} {co le re ch : Nat → Nat} {ro rk rb rd rv rw la rt sz pa sp ur ud uv ua sn : Nat → Int32}
variable {v : Nat} {L : Nat → List Nat} {FR : List Nat} {o k t : Int32}
theorem gx_U (G : gx_S fn f_freeRecord ro rk rb rd rw co le re ch la rt sz L FR) (hv : v < 2) : iv_U ((L v).map (yt_t ro rk rb rd rv)) := by
  intro s t hs ht e
  obtain ⟨a, ha, rfl⟩ := List.mem_map.mp hs
  obtain ⟨b, hb, rfl⟩ := List.mem_map.mp ht
  rw [ky_in (gx_ls G hv).1 a ha b hb (iv_eq e)]
theorem gx_nd' (G : gx_S fn f_freeRecord ro rk rb rd rw co le re ch la rt sz L FR) (hv : v < 2) : ((L v).map (yt_t ro rk rb rd rv)).Nodup := by
  have s := (gx_ls G hv).1
  unfold ky_S at s
  refine List.pairwise_map.mpr (List.Pairwise.imp (fun {a b} h e => ?_) s)
  have : iv_q (yt_t ro rk rb rd rv a) = iv_q (yt_t ro rk rb rd rv b) := by rw [e]
  change ky_r ro rk rb a = ky_r ro rk rb b at this
  omega
theorem gx_see {post : Int32 → Prop} (G : gx_S fn f_freeRecord ro rk rb rd rw co le re ch la rt sz L FR) (hv : v < 2) (D : iv_D ((L v).map (yt_t ro rk rb rd rv)))
    (h1 : ∀ r, r ∈ L v → ro r = o → rk r = k → vi_s (rb r) (rd r) t → post (nI r)) (h2 : (∀ r, r ∈ L v → ¬ (ro r = o ∧ rk r = k ∧ vi_s (rb r) (rd r) t)) → post (-1)) : wpX_seen post ((nI fn), f_freeRecord, f_done, f_changes, f_undo, f_volume, f_snaps, f_syncing, f_synced, f_goal, f_cObj, f_cKey, f_cBorn, f_begun, f_fObj, f_fKey, f_fValue, f_fBorn, ro, rk, rb, rd, rv, rw, (ar_n co), (ar_n le), (ar_n re), (ar_n ch), la, rt, sz, pa, sp, ur, ud, uv, ua, sn) (nI v) o k t := by
  have hS := (gx_ls G hv).1
  refine gx_seen G hv (fun r e _ a b c => h1 r (fo_fs hS e).1 a b c) (fun no => h2 (fun s hs z => ?_))
  obtain ⟨rfl, rfl, z3⟩ := z
  have hq : ky_r ro rk rb s ≤ ky_e (ro s) (rk s) t := ky_le z3.1
  cases e : fo_f (ky_r ro rk rb) (ky_e (ro s) (rk s) t) (L v) with
  | none => have := fo_f0 e s hs; omega
  | some r =>
    obtain ⟨r1, r2, r3⟩ := fo_fs hS e
    rcases r3 s hs hq with z | z
    · rw [← z] at e
      exact no s e ⟨rfl, rfl, z3⟩
    · obtain ⟨q1, q2, q3⟩ := ky_sand (Int.le_of_lt z) r2
      have hlt : iv_b (yt_t ro rk rb rd rv s) < iv_b (yt_t ro rk rb rd rv r) := by
        have z' := z
        unfold ky_r at z'
        rw [ky_lt, q1, q2] at z'
        rcases z' with y | ⟨-, y | ⟨-, y⟩⟩
        · exact absurd y Int32.lt_irrefl
        · exact absurd y Int32.lt_irrefl
        · exact Int32.lt_iff_toInt_lt.mp y
      obtain ⟨d1, d2⟩ := D _ _ (List.mem_map.mpr ⟨s, hs, rfl⟩) (List.mem_map.mpr ⟨r, r1, rfl⟩) ⟨q1.symm, q2.symm⟩ hlt
      have q3' := Int32.le_iff_toInt_le.mp q3
      rcases z3.2 with y | y
      · exact d1 (by unfold iv_d yt_t; rw [y]; rfl)
      · have := Int32.lt_iff_toInt_lt.mp y
        unfold iv_d iv_b yt_t at *
        dsimp only at *
        omega
end GX
section BO
variable {f_freeRecord f_done f_changes f_undo f_volume f_snaps f_syncing f_synced f_goal f_cObj f_cKey f_cBorn f_begun f_fObj f_fKey f_fValue f_fBorn : Int32} {fn : Nat} {co le re ch : Nat → Nat} {ro rk rb rd rv rw la rt sz pa sp ur ud uv ua sn : Nat → Int32}
variable {g_done g_changes g_volume g_snaps g_upTo g_underWay g_goal g_anySent g_lastObj g_lastKey g_lastBorn : Int32} {yo yk yb yd yv yc ys yh : Nat → Int32}
variable {v : Nat} {L : Nat → List Nat} {FR : List Nat} {o k t : Int32}
/-- seen, both sides: the same record or none -/
theorem see_both (G : gx_S fn f_freeRecord ro rk rb rd rw co le re ch la rt sz L FR) (hv : v < 2) (D : iv_D ((L v).map (yt_t ro rk rb rd rv))) (hc : yc v = nI (L v).length) (P : ((L v).map (yt_t ro rk rb rd rv)).Perm (yt_l yo yk yb yd yv (100 * v) (L v).length)) (o k t : Int32) :
    (∃ r i, r ∈ L v ∧ i < (L v).length ∧ ro r = o ∧ rk r = k ∧ vi_s (rb r) (rd r) t ∧ yt_t yo yk yb yd yv (100 * v + i) = yt_t ro rk rb rd rv r ∧ (∀ post : Int32 → Prop, post (nI r) → wpX_seen post ((nI fn), f_freeRecord, f_done, f_changes, f_undo, f_volume, f_snaps, f_syncing, f_synced, f_goal, f_cObj, f_cKey, f_cBorn, f_begun, f_fObj, f_fKey, f_fValue, f_fBorn, ro, rk, rb, rd, rv, rw, (ar_n co), (ar_n le), (ar_n re), (ar_n ch), la, rt, sz, pa, sp, ur, ud, uv, ua, sn) (nI v) o k t) ∧ (∀ post : Int32 → Prop, post (nI (100 * v + i)) → wpY_seen post (g_done, g_changes, g_volume, g_snaps, g_upTo, g_underWay, g_goal, g_anySent, g_lastObj, g_lastKey, g_lastBorn, yo, yk, yb, yd, yv, yc, ys, yh) (nI v) o k t)) ∨
    ((∀ r, r ∈ L v → ¬ (ro r = o ∧ rk r = k ∧ vi_s (rb r) (rd r) t)) ∧ (∀ post : Int32 → Prop, post (-1) → wpX_seen post ((nI fn), f_freeRecord, f_done, f_changes, f_undo, f_volume, f_snaps, f_syncing, f_synced, f_goal, f_cObj, f_cKey, f_cBorn, f_begun, f_fObj, f_fKey, f_fValue, f_fBorn, ro, rk, rb, rd, rv, rw, (ar_n co), (ar_n le), (ar_n re), (ar_n ch), la, rt, sz, pa, sp, ur, ud, uv, ua, sn) (nI v) o k t) ∧ (∀ post : Int32 → Prop, post (-1) → wpY_seen post (g_done, g_changes, g_volume, g_snaps, g_upTo, g_underWay, g_goal, g_anySent, g_lastObj, g_lastKey, g_lastBorn, yo, yk, yb, yd, yv, yc, ys, yh) (nI v) o k t)) := by
  have h100 := (gx_ls G hv).2.2.2.2.2.2.1
  have U := gx_U (rv := rv) G hv
  have nd := P.nodup (gx_nd' (rv := rv) G hv)
  have toX : ∀ i, i < (L v).length → ∃ r, r ∈ L v ∧ yt_t ro rk rb rd rv r = yt_t yo yk yb yd yv (100 * v + i) := fun i hi => by
    have := P.mem_iff.mpr (yt_mem.mpr ⟨i, hi, rfl⟩)
    exact List.mem_map.mp this
  by_cases ex : ∃ r, r ∈ L v ∧ ro r = o ∧ rk r = k ∧ vi_s (rb r) (rd r) t
  · obtain ⟨r, hr, e1, e2, e3⟩ := ex
    obtain ⟨i, hi, ei⟩ := yt_mem.mp (P.mem_iff.mp (List.mem_map.mpr ⟨r, hr, rfl⟩))
    refine Or.inl ⟨r, i, hr, hi, e1, e2, e3, ei, fun post hp => ?_, fun post hp => ?_⟩
    · refine gx_see G hv D (fun r' hr' a1 a2 a3 => ?_) (fun no => absurd ⟨e1, e2, e3⟩ (no r hr))
      have : yt_t ro rk rb rd rv r' = yt_t ro rk rb rd rv r := iv_vis D U (List.mem_map.mpr ⟨r', hr', rfl⟩) (List.mem_map.mpr ⟨r, hr, rfl⟩) ⟨a1.trans e1.symm, a2.trans e2.symm⟩ (x := t) a3 e3
      have q : iv_q (yt_t ro rk rb rd rv r') = iv_q (yt_t ro rk rb rd rv r) := by rw [this]
      rw [ky_in (gx_ls G hv).1 r' hr' r hr q]
      exact hp
    · refine wy_seen (by omega) hc h100 (fun i' hi' a1 a2 a3 => ?_) (fun no => ?_)
      · obtain ⟨r', hr', er'⟩ := toX i' hi'
        have f1 := congrArg (fun z : yt_T => z.1) er'
        have f2 := congrArg (fun z : yt_T => z.2.1) er'
        have f3 := congrArg (fun z : yt_T => z.2.2.1) er'
        have f4 := congrArg (fun z : yt_T => z.2.2.2.1) er'
        change ro r' = _ at f1
        change rk r' = _ at f2
        change rb r' = yb _ at f3
        change rd r' = yd _ at f4
        have : yt_t ro rk rb rd rv r' = yt_t ro rk rb rd rv r := iv_vis D U (List.mem_map.mpr ⟨r', hr', rfl⟩) (List.mem_map.mpr ⟨r, hr, rfl⟩) ⟨f1.trans (a1.trans e1.symm), f2.trans (a2.trans e2.symm)⟩ (x := t) (by show vi_s (rb r') (rd r') t; rw [f3, f4]; exact a3) e3
        rw [yt_inj nd hi' hi (er'.symm.trans (this.trans ei.symm))]
        exact hp
      · refine absurd ?_ (no i hi)
        have f1 := congrArg (fun z : yt_T => z.1) ei
        have f2 := congrArg (fun z : yt_T => z.2.1) ei
        have f3 := congrArg (fun z : yt_T => z.2.2.1) ei
        have f4 := congrArg (fun z : yt_T => z.2.2.2.1) ei
        change yo _ = ro r at f1
        change yk _ = rk r at f2
        change yb _ = rb r at f3
        change yd _ = rd r at f4
        rw [f1, f2, f3, f4]
        exact ⟨e1, e2, e3⟩
  · have no : ∀ r, r ∈ L v → ¬ (ro r = o ∧ rk r = k ∧ vi_s (rb r) (rd r) t) := fun r hr z => ex ⟨r, hr, z⟩
    refine Or.inr ⟨no, fun post hp => gx_see G hv D (fun r hr a1 a2 a3 => absurd ⟨a1, a2, a3⟩ (no r hr)) (fun _ => hp), fun post hp => wy_seen (by omega) hc h100 (fun i hi a1 a2 a3 => ?_) (fun _ => hp)⟩
    obtain ⟨r, hr, er⟩ := toX i hi
    have f1 := congrArg (fun z : yt_T => z.1) er
    have f2 := congrArg (fun z : yt_T => z.2.1) er
    have f3 := congrArg (fun z : yt_T => z.2.2.1) er
    have f4 := congrArg (fun z : yt_T => z.2.2.2.1) er
    change ro r = _ at f1
    change rk r = _ at f2
    change rb r = yb _ at f3
    change rd r = yd _ at f4
    refine absurd ?_ (no r hr)
    rw [f1, f2, f3, f4]
    exact ⟨a1, a2, a3⟩
end BO
/-- what volume v has on both sides -/
theorem rl_V {k : Nat} {fn dn cg un vo ns sy go c2 : Nat} {f_freeRecord sg bg cO cK cB fO fK fV fB : Int32} {ro rk rb rd rv rw : Nat → Int32} {co le re ch : Nat → Nat} {la rt sz ur ud uv ua yo yk yb yd yv yc yh : Nat → Int32} {L : Nat → List Nat} {FR : List Nat} (F : rl_F k fn dn cg un vo ns sy go c2 f_freeRecord sg bg cO cK cB fO fK fV fB ro rk rb rd rv rw co le re ch la rt sz ur ud uv ua yo yk yb yd yv yc yh L FR) {v : Nat} (hv : v < 2) : iv_D ((L v).map (yt_t ro rk rb rd rv)) ∧ yc v = nI (L v).length ∧ ((L v).map (yt_t ro rk rb rd rv)).Perm (yt_l yo yk yb yd yv (100 * v) (L v).length) := by
  obtain ⟨-, -, -, -, -, -, -, G, D, J, -⟩ := F
  rcases (show v = 0 ∨ v = 1 by omega) with rfl | rfl
  · exact ⟨D.2.2.2.2.2.2.2.2.2.1, D.1, D.2.2.2.2.1⟩
  · exact ⟨J.2.1, D.2.1, D.2.2.2.2.2.1⟩
theorem i_vc_has {k : Nat} {u : SX} {v : SY} (I : i_Rel k u v) (hk : k + 4 ≤ 2048) (v1 : Int32) (v2 : Int32) (v3 : Int32) : wpX_has (fun r => wpY_has (fun r' => r' = r ∧ i_Rel (k + 4) u v) v v1 v2 v3) u v1 v2 v3 := by
  have I' := i_up I
  revert I'
  refine rl_el (P := fun u v => i_Rel (k + 4) u v → wpX_has (fun r => wpY_has (fun r' => r' = r ∧ i_Rel (k + 4) u v) v v1 v2 v3) u v1 v2 v3) ?_ I
  intro fn dn cg un vo ns sy go c2 f_freeRecord sg bg cO cK cB fO fK fV fB ro rk rb rd rv rw co le re ch la rt sz pa sp ur ud uv ua sn yo yk yb yd yv yc yh L FR F I'
  have hv := F.2.2.2.1
  have G := F.2.2.2.2.2.2.2.1
  obtain ⟨V1, V2, V3⟩ := rl_V F hv
  have h100 := (gx_ls G hv).2.2.2.2.2.2.1
  unfold wpX_has wpY_has
  dsimp only
  rcases see_both (f_done := nI dn) (f_changes := nI cg) (f_undo := nI un) (f_volume := nI vo) (f_snaps := nI ns) (f_syncing := sg) (f_synced := nI sy) (f_goal := nI go) (f_cObj := cO) (f_cKey := cK) (f_cBorn := cB) (f_begun := bg) (f_fObj := fO) (f_fKey := fK) (f_fValue := fV) (f_fBorn := fB) (pa := pa) (sp := sp) (ur := ur) (ud := ud) (uv := uv) (ua := ua) (sn := sn) (g_done := nI dn) (g_changes := nI cg) (g_volume := nI vo) (g_snaps := nI ns) (g_upTo := nI sy) (g_underWay := sg) (g_goal := nI go) (g_anySent := bg) (g_lastObj := cO) (g_lastKey := cK) (g_lastBorn := cB) (ys := sn) (yh := yh) G hv V1 V2 V3 v1 v2 v3 with ⟨r, i, h1, h2, -, -, -, -, hX, hY⟩ | ⟨-, hX, hY⟩
  · have hr := (gx_ls G hv).2.2.1 r h1
    exact hX _ (br_f (nI_pos (by omega)) (hY _ (br_f (nI_pos (by omega)) ⟨rfl, I'⟩)))
  · exact hX _ (br_t (by decide) (hY _ (br_t (by decide) ⟨rfl, I'⟩)))
theorem i_vc_read {k : Nat} {u : SX} {v : SY} (I : i_Rel k u v) (hk : k + 4 ≤ 2048) (v1 : Int32) (v2 : Int32) (v3 : Int32) : wpX_read (fun r => wpY_read (fun r' => r' = r ∧ i_Rel (k + 4) u v) v v1 v2 v3) u v1 v2 v3 := by
  have I' := i_up I
  revert I'
  refine rl_el (P := fun u v => i_Rel (k + 4) u v → wpX_read (fun r => wpY_read (fun r' => r' = r ∧ i_Rel (k + 4) u v) v v1 v2 v3) u v1 v2 v3) ?_ I
  intro fn dn cg un vo ns sy go c2 f_freeRecord sg bg cO cK cB fO fK fV fB ro rk rb rd rv rw co le re ch la rt sz pa sp ur ud uv ua sn yo yk yb yd yv yc yh L FR F I'
  have hv := F.2.2.2.1
  have G := F.2.2.2.2.2.2.2.1
  obtain ⟨V1, V2, V3⟩ := rl_V F hv
  have h100 := (gx_ls G hv).2.2.2.2.2.2.1
  unfold wpX_read wpY_read
  dsimp only
  rcases see_both (f_done := nI dn) (f_changes := nI cg) (f_undo := nI un) (f_volume := nI vo) (f_snaps := nI ns) (f_syncing := sg) (f_synced := nI sy) (f_goal := nI go) (f_cObj := cO) (f_cKey := cK) (f_cBorn := cB) (f_begun := bg) (f_fObj := fO) (f_fKey := fK) (f_fValue := fV) (f_fBorn := fB) (pa := pa) (sp := sp) (ur := ur) (ud := ud) (uv := uv) (ua := ua) (sn := sn) (g_done := nI dn) (g_changes := nI cg) (g_volume := nI vo) (g_snaps := nI ns) (g_upTo := nI sy) (g_underWay := sg) (g_goal := nI go) (g_anySent := bg) (g_lastObj := cO) (g_lastKey := cK) (g_lastBorn := cB) (ys := sn) (yh := yh) G hv V1 V2 V3 v1 v2 v3 with ⟨r, i, h1, h2, -, -, -, e, hX, hY⟩ | ⟨-, hX, hY⟩
  · have hr := (gx_ls G hv).2.2.1 r h1
    refine hX _ (br_t (nI_pos' (by omega)) ⟨vp_in_nI hr (by decide), hY _ (br_t (nI_pos' (by omega)) ⟨vp_in_nI (by omega) (by decide), ?_, I'⟩)⟩)
    rw [nI_clamp (n := r) (by omega), nI_clamp (n := 100 * vo + i) (by omega)]
    exact congrArg (fun z : yt_T => z.2.2.2.2) e
  · exact hX _ (br_f (by decide) (hY _ (br_f (by decide) ⟨rfl, I'⟩)))
end
section
/-! ===== next ===== -/
theorem ky_mx {o k o' k' b' : Int32} : ky_e o k 2147483647 < ky_e o' k' b' ↔ ky_e o k 0 < ky_e o' k' 0 := by
  rw [ky_lt, ky_lt]
  constructor
  · rintro (h | ⟨h1, h | ⟨h2, h⟩⟩)
    · exact Or.inl h
    · exact Or.inr ⟨h1, Or.inl h⟩
    · have := Int32.lt_iff_toInt_lt.mp h
      have := b'.toInt_lt
      rw [show (2147483647 : Int32).toInt = 2147483647 from by decide] at *
      omega
  · rintro (h | ⟨h1, h | ⟨h2, h⟩⟩)
    · exact Or.inl h
    · exact Or.inr ⟨h1, Or.inl h⟩
    · exact absurd h Int32.lt_irrefl
theorem fo_step {κ : Nat → Int} {q : Int} {L T : List Nat} {r : Nat} (s : ky_S κ L) (e : L.filter (fun x => decide (q < κ x)) = r :: T) : L.filter (fun x => decide (κ r < κ x)) = T := by
  have hr : r ∈ L.filter (fun x => decide (q < κ x)) := by rw [e]; exact List.mem_cons_self ..
  have hq : q < κ r := of_decide_eq_true (List.mem_filter.mp hr).2
  have hs : (r :: T).Pairwise (fun a b => κ a < κ b) := by rw [← e]; exact List.Pairwise.filter _ s
  obtain ⟨s1, s2⟩ := List.pairwise_cons.mp hs
  have e1 : L.filter (fun x => decide (κ r < κ x)) = (L.filter (fun x => decide (q < κ x))).filter (fun x => decide (κ r < κ x)) := by
    rw [List.filter_filter]
    refine List.filter_congr (fun a _ => ?_)
    by_cases z : κ r < κ a
    · simp [z, show q < κ a by omega]
    · simp [z]
  rw [e1, e, List.filter_cons_of_neg (by simp), List.filter_eq_self.mpr (fun a ha => decide_eq_true (s1 a ha))]
noncomputable def vi_b (b d t : Int32) : Bool := @decide (vi_s b d t) (Classical.propDecidable _)
theorem vi_bt {b d t : Int32} : vi_b b d t = true ↔ vi_s b d t := by
  unfold vi_b
  exact @decide_eq_true_iff _ (Classical.propDecidable _)
section NX
variable {f_freeRecord f_done f_changes f_undo f_volume f_snaps f_syncing f_synced f_goal f_cObj f_cKey f_cBorn f_begun f_fObj f_fKey f_fValue f_fBorn : Int32} {fn : Nat} {co le re ch : Nat → Nat} {ro rk rb rd rv rw la rt sz pa sp ur ud uv ua sn : Nat → Int32}
variable {L : Nat → List Nat} {FR : List Nat} {o k t : Int32} {vo : Nat} {post : Int32 → SX → Prop}
theorem nx_63 {r : Nat} (hr : r < 200) (K : post 1 ((nI fn), f_freeRecord, f_done, f_changes, f_undo, f_volume, f_snaps, f_syncing, f_synced, f_goal, f_cObj, f_cKey, f_cBorn, f_begun, (ro r), (rk r), (rv r), (rb r), ro, rk, rb, rd, rv, rw, (ar_n co), (ar_n le), (ar_n re), (ar_n ch), la, rt, sz, pa, sp, ur, ud, uv, ua, sn)) : wX_next_63 post (nI r) (nI fn) f_freeRecord f_done f_changes f_undo f_volume f_snaps f_syncing f_synced f_goal f_cObj f_cKey f_cBorn f_begun f_fObj f_fKey f_fValue f_fBorn ro rk rb rd rv rw (ar_n co) (ar_n le) (ar_n re) (ar_n ch) la rt sz pa sp ur ud uv ua sn := by
  have vr : vp_in (nI r) 200 := vp_in_nI hr (by decide)
  unfold wX_next_63
  rw [nI_clamp (n := r) (by omega)]
  exact br_t (nI_pos' (by omega)) ⟨vr, nm_e ⟨vr, nm_e ⟨vr, nm_e ⟨vr, nm_e K⟩⟩⟩⟩
theorem nx_14 (G : gx_S fn f_freeRecord ro rk rb rd rw co le re ch la rt sz L FR) (hv : vo < 2) :
    ∀ (T : List Nat) (q : Int) (f : Nat), (L vo).filter (fun x => decide (q < ky_r ro rk rb x)) = T → T.length < f →
    (T.find? (fun r => vi_b (rb r) (rd r) t) = none → post 0 ((nI fn), f_freeRecord, f_done, f_changes, f_undo, (nI vo), f_snaps, f_syncing, f_synced, f_goal, f_cObj, f_cKey, f_cBorn, f_begun, f_fObj, f_fKey, f_fValue, f_fBorn, ro, rk, rb, rd, rv, rw, (ar_n co), (ar_n le), (ar_n re), (ar_n ch), la, rt, sz, pa, sp, ur, ud, uv, ua, sn)) → (∀ r, T.find? (fun r => vi_b (rb r) (rd r) t) = some r → post 1 ((nI fn), f_freeRecord, f_done, f_changes, f_undo, (nI vo), f_snaps, f_syncing, f_synced, f_goal, f_cObj, f_cKey, f_cBorn, f_begun, (ro r), (rk r), (rv r), (rb r), ro, rk, rb, rd, rv, rw, (ar_n co), (ar_n le), (ar_n re), (ar_n ch), la, rt, sz, pa, sp, ur, ud, uv, ua, sn)) →
    wX_next_14 post t (nI fn) f_freeRecord f_done f_changes f_undo (nI vo) f_snaps f_syncing f_synced f_goal f_cObj f_cKey f_cBorn f_begun f_fObj f_fKey f_fValue f_fBorn ro rk rb rd rv rw (ar_n co) (ar_n le) (ar_n re) (ar_n ch) la rt sz pa sp ur ud uv ua sn f (fo_I (fo_a (ky_r ro rk rb) q (L vo)) (-1)) := by
  have hS := (gx_ls G hv).1
  intro T
  induction T with
  | nil =>
    intro q f e hf Kn Ks
    obtain ⟨f, rfl⟩ : ∃ g, f = g + 1 := ⟨f - 1, by omega⟩
    have e2 : fo_a (ky_r ro rk rb) q (L vo) = none := by unfold fo_a; rw [e]; rfl
    rw [e2, wX_next_14]
    refine br_t (show (-1 : Int32) < 0 by decide) ?_
    unfold wX_next_63
    exact br_f (show ¬ (0 : Int32) ≤ -1 by decide) (Kn rfl)
  | cons r T ih =>
    intro q f e hf Kn Ks
    rw [List.length_cons] at hf
    obtain ⟨f, rfl⟩ : ∃ g, f = g + 1 := ⟨f - 1, by omega⟩
    have e2 : fo_a (ky_r ro rk rb) q (L vo) = some r := by unfold fo_a; rw [e]; rfl
    have hr : r < 200 := (gx_ls G hv).2.2.1 r (fo_as hS e2).1
    have vr : vp_in (nI r) 200 := vp_in_nI hr (by decide)
    rw [e2, wX_next_14]
    show _ ∧ _
    rw [show fo_I (some r) (-1) = nI r from rfl, nI_clamp (n := r) (by omega)]
    refine br_f (nI_pos (by omega)) (wx_visible hr (fun z => br_f (by decide) (nx_63 hr (Ks r (List.find?_cons_of_pos (vi_bt.mpr z))))) (fun z => br_t rfl ⟨vr, vr, vr, gx_after G hv ?_⟩))
    have z' : ¬ vi_b (rb r) (rd r) t = true := fun y => z (vi_bt.mp y)
    have eq : (r :: T).find? (fun r => vi_b (rb r) (rd r) t) = T.find? (fun r => vi_b (rb r) (rd r) t) := List.find?_cons_of_neg z'
    rw [eq] at Kn Ks
    exact ih _ f (fo_step hS e) (by omega) Kn Ks
theorem gx_nextv (G : gx_S fn f_freeRecord ro rk rb rd rw co le re ch la rt sz L FR) (hv : vo < 2)
    (Kn : ((L vo).filter (fun x => decide (ky_e o k 2147483647 < ky_r ro rk rb x))).find? (fun r => vi_b (rb r) (rd r) t) = none → post 0 ((nI fn), f_freeRecord, f_done, f_changes, f_undo, (nI vo), f_snaps, f_syncing, f_synced, f_goal, f_cObj, f_cKey, f_cBorn, f_begun, f_fObj, f_fKey, f_fValue, f_fBorn, ro, rk, rb, rd, rv, rw, (ar_n co), (ar_n le), (ar_n re), (ar_n ch), la, rt, sz, pa, sp, ur, ud, uv, ua, sn))
    (Ks : ∀ r, ((L vo).filter (fun x => decide (ky_e o k 2147483647 < ky_r ro rk rb x))).find? (fun r => vi_b (rb r) (rd r) t) = some r → post 1 ((nI fn), f_freeRecord, f_done, f_changes, f_undo, (nI vo), f_snaps, f_syncing, f_synced, f_goal, f_cObj, f_cKey, f_cBorn, f_begun, (ro r), (rk r), (rv r), (rb r), ro, rk, rb, rd, rv, rw, (ar_n co), (ar_n le), (ar_n re), (ar_n ch), la, rt, sz, pa, sp, ur, ud, uv, ua, sn)) :
    wpX_next post ((nI fn), f_freeRecord, f_done, f_changes, f_undo, (nI vo), f_snaps, f_syncing, f_synced, f_goal, f_cObj, f_cKey, f_cBorn, f_begun, f_fObj, f_fKey, f_fValue, f_fBorn, ro, rk, rb, rd, rv, rw, (ar_n co), (ar_n le), (ar_n re), (ar_n ch), la, rt, sz, pa, sp, ur, ud, uv, ua, sn) o k t := by
  unfold wpX_next
  dsimp only
  exact gx_after G hv ⟨_, nx_14 G hv _ _ _ rfl (Nat.lt_succ_self _) Kn Ks⟩
end NX
section NY
variable {g_done g_changes g_volume g_snaps g_upTo g_underWay g_goal g_anySent g_lastObj g_lastKey g_lastBorn : Int32} {yo yk yb yd yv yc ys yh : Nat → Int32}
variable {o k t : Int32} {c vo : Nat} {post : Int32 → SY → Prop} {J : Int32 → Int32 → Prop}
/-- the record at i is greater and visible -/
def ny_m (yo yk yb yd : Nat → Int32) (o k t : Int32) (i : Nat) : Prop := ky_e o k 0 < ky_e (yo i) (yk i) 0 ∧ vi_s (yb i) (yd i) t
def ny_B (m : Nat → Prop) (κ : Nat → Int) (a j : Nat) : Option Nat → Prop
  | none => ∀ i, i < j → ¬ m (a + i)
  | some b => b < j ∧ m (a + b) ∧ ∀ i, i < j → m (a + i) → κ (a + b) ≤ κ (a + i)
theorem ny_72 {b : Option Nat} {a j : Nat} (hj : a + j < 300) (hb : ∀ m, b = some m → m < j) (hg : ky_e o k 0 < ky_e (yo (a + j)) (yk (a + j)) 0)
    (K : ∀ b', (ny_B (ny_m yo yk yb yd o k t) (fun i => ky_e (yo i) (yk i) 0) a j b → ny_B (ny_m yo yk yb yd o k t) (fun i => ky_e (yo i) (yk i) 0) a (j + 1) b') → J (fo_I (b'.map (a + ·)) (-1)) (nI (a + j + 1))) :
    wY_next_72 post J o k t (fo_I (b.map (a + ·)) (-1)) (nI (a + j)) 1 g_done g_changes g_volume g_snaps g_upTo g_underWay g_goal g_anySent g_lastObj g_lastKey g_lastBorn yo yk yb yd yv yc ys yh := by
  have vj : vp_in (nI (a + j)) 300 := vp_in_nI hj (by decide)
  unfold wY_next_72
  refine br_f (by decide) (wy_visible hj (fun z => br_f (by decide) ?_) (fun z => br_t rfl (nm_r (nI_1 _) (K b (fun H => ?_)))))
  · have hm : ny_m yo yk yb yd o k t (a + j) := ⟨hg, z⟩
    cases b with
    | none =>
      refine br_t (show (-1 : Int32) < 0 by decide) (nm_r (nI_1 _) (K (some j) (fun H => ⟨by omega, hm, fun i hi mi => ?_⟩)))
      rcases Nat.lt_or_ge i j with y | y
      · exact absurd mi (H i y)
      · rw [show i = j by omega]; exact Int.le_refl _
    | some m =>
      have hmj := hb m rfl
      have vm : vp_in (nI (a + m)) 300 := vp_in_nI (by omega) (by decide)
      have ex : ∀ H : ny_B (ny_m yo yk yb yd o k t) (fun i => ky_e (yo i) (yk i) 0) a j (some m), ky_e (yo (a + j)) (yk (a + j)) 0 < ky_e (yo (a + m)) (yk (a + m)) 0 → ny_B (ny_m yo yk yb yd o k t) (fun i => ky_e (yo i) (yk i) 0) a (j + 1) (some j) := fun H hlt => by
        refine ⟨by omega, hm, fun i hi mi => ?_⟩
        rcases Nat.lt_or_ge i j with y | y
        · have := H.2.2 i y mi
          exact Int.le_trans (Int.le_of_lt hlt) this
        · rw [show i = j by omega]; exact Int.le_refl _
      have st : ∀ H : ny_B (ny_m yo yk yb yd o k t) (fun i => ky_e (yo i) (yk i) 0) a j (some m), ¬ ky_e (yo (a + j)) (yk (a + j)) 0 < ky_e (yo (a + m)) (yk (a + m)) 0 → ny_B (ny_m yo yk yb yd o k t) (fun i => ky_e (yo i) (yk i) 0) a (j + 1) (some m) := fun H hlt => by
        refine ⟨by omega, H.2.1, fun i hi mi => ?_⟩
        rcases Nat.lt_or_ge i j with y | y
        · exact H.2.2 i y mi
        · rw [show i = j by omega]; exact Int.not_lt.mp hlt
      show (nI (a + m) < 0 → _) ∧ _
      refine br_f (nI_pos (by omega)) ⟨vj, vm, ?_⟩
      rw [show fo_I (Option.map (a + ·) (some m)) (-1) = nI (a + m) from rfl, nI_clamp (n := a + j) (by omega), nI_clamp (n := a + m) (by omega)]
      refine br_c (fun e1 => nm_r (nI_1 _) (K (some j) (fun H => ex H (ky_lt.mpr (Or.inl e1))))) (fun e1 => ⟨vj, vm, br_c (fun e2 => ⟨vj, vm, br_c (fun e3 => nm_r (nI_1 _) (K (some m) (fun H => st H (fun q => ?_)))) (fun e3 => nm_r (nI_1 _) (K (some j) (fun H => ex H (ky_lt.mpr (Or.inr ⟨e2, Or.inl (Int32.not_le.mp e3)⟩)))))⟩) (fun e2 => nm_r (nI_1 _) (K (some m) (fun H => st H (fun q => ?_))))⟩)
      · rcases ky_lt.mp q with y | ⟨-, y | ⟨-, y⟩⟩
        · exact e1 y
        · exact absurd e3 (Int32.not_le.mpr y)
        · exact absurd y Int32.lt_irrefl
      · rcases ky_lt.mp q with y | ⟨y, -⟩
        · exact e1 y
        · exact e2 y
  · cases b with
    | none => exact lt_s H (fun y => z y.2)
    | some m =>
      refine ⟨by have := H.1; omega, H.2.1, fun i hi mi => ?_⟩
      rcases Nat.lt_or_ge i j with y | y
      · exact H.2.2 i y mi
      · rw [show i = j by omega] at mi
        exact absurd mi.2 z
theorem ny_12 (hv : vo < 2) (hc : yc vo = nI c) (h100 : c ≤ 100)
    (Kn : (∀ i, i < c → ¬ ny_m yo yk yb yd o k t (100 * vo + i)) → post 0 (g_done, g_changes, (nI vo), g_snaps, g_upTo, g_underWay, g_goal, g_anySent, g_lastObj, g_lastKey, g_lastBorn, yo, yk, yb, yd, yv, yc, ys, yh))
    (Ks : ∀ m, m < c → ny_m yo yk yb yd o k t (100 * vo + m) → (∀ i, i < c → ny_m yo yk yb yd o k t (100 * vo + i) → ky_e (yo (100 * vo + m)) (yk (100 * vo + m)) 0 ≤ ky_e (yo (100 * vo + i)) (yk (100 * vo + i)) 0) →
      post 1 (g_done, g_changes, (nI vo), g_snaps, g_upTo, g_underWay, g_goal, g_anySent, g_lastObj, g_lastKey, g_lastBorn, yo, yk, yb, yd, yv, yc, ys, (upd (upd (upd (upd yh 0 (yo (100 * vo + m))) 1 (yk (100 * vo + m))) 2 (yv (100 * vo + m))) 3 (yb (100 * vo + m))))) :
    ∀ (f j : Nat) (b : Option Nat), j ≤ c → c < f + j → ny_B (ny_m yo yk yb yd o k t) (fun i => ky_e (yo i) (yk i) 0) (100 * vo) j b → wY_next_12 post o k t g_done g_changes (nI vo) g_snaps g_upTo g_underWay g_goal g_anySent g_lastObj g_lastKey g_lastBorn yo yk yb yd yv yc ys yh f (fo_I (b.map (100 * vo + ·)) (-1)) (nI (100 * vo + j)) := by
  intro f
  induction f with
  | zero => intro j b _ h; omega
  | succ f ih =>
    intro j b hj hf H
    rw [wY_next_12]
    dsimp only
    rw [nI_clamp (n := vo) (by omega), hc, ar_100, nI_add, nI_clamp (n := 100 * vo + j) (by omega)]
    refine ⟨vp_in_nI (by omega) (by decide), ?_⟩
    by_cases e : j = c
    · subst e
      refine br_t (Int32.le_refl _) ?_
      cases b with
      | none => exact br_f (show ¬ (0 : Int32) ≤ -1 by decide) (Kn H)
      | some m =>
        obtain ⟨m1, m2, m3⟩ := H
        have vm : vp_in (nI (100 * vo + m)) 300 := vp_in_nI (by omega) (by decide)
        show (0 ≤ nI (100 * vo + m) → _) ∧ _
        refine br_t (nI_pos' (by omega)) ?_
        show vp_in (nI (100 * vo + m)) 300 ∧ _
        rw [show fo_I (Option.map (100 * vo + ·) (some m)) (-1) = nI (100 * vo + m) from rfl, nI_clamp (n := 100 * vo + m) (by omega)]
        exact ⟨vm, nm_e ⟨vm, nm_e ⟨vm, nm_e ⟨vm, nm_e (Ks m m1 m2 m3)⟩⟩⟩⟩
    · have vj : vp_in (nI (100 * vo + j)) 300 := vp_in_nI (by omega) (by decide)
      have yes : ky_e o k 0 < ky_e (yo (100 * vo + j)) (yk (100 * vo + j)) 0 → wY_next_67 post (wY_next_12 post o k t g_done g_changes (nI vo) g_snaps g_upTo g_underWay g_goal g_anySent g_lastObj g_lastKey g_lastBorn yo yk yb yd yv yc ys yh f) o k t (fo_I (b.map (100 * vo + ·)) (-1)) (nI (100 * vo + j)) g_done g_changes (nI vo) g_snaps g_upTo g_underWay g_goal g_anySent g_lastObj g_lastKey g_lastBorn yo yk yb yd yv yc ys yh := fun hg => by
        unfold wY_next_67
        exact ny_72 (by omega) (fun m hm => by subst hm; exact H.1) hg (fun b' hb => ih (j + 1) b' (by omega) (by omega) (hb H))
      have no : ¬ ky_e o k 0 < ky_e (yo (100 * vo + j)) (yk (100 * vo + j)) 0 → wY_next_71 post (wY_next_12 post o k t g_done g_changes (nI vo) g_snaps g_upTo g_underWay g_goal g_anySent g_lastObj g_lastKey g_lastBorn yo yk yb yd yv yc ys yh f) o k t (fo_I (b.map (100 * vo + ·)) (-1)) (nI (100 * vo + j)) g_done g_changes (nI vo) g_snaps g_upTo g_underWay g_goal g_anySent g_lastObj g_lastKey g_lastBorn yo yk yb yd yv yc ys yh := fun hg => by
        unfold wY_next_71 wY_next_72
        refine br_t rfl (nm_r (nI_1 _) (ih (j + 1) b (by omega) (by omega) ?_))
        cases b with
        | none => exact lt_s H (fun y => hg y.1)
        | some m =>
          refine ⟨by have := H.1; omega, H.2.1, fun i hi mi => ?_⟩
          rcases Nat.lt_or_ge i j with y | y
          · exact H.2.2 i y mi
          · rw [show i = j by omega] at mi
            exact absurd mi.1 hg
      refine br_f (nI_ge (by omega) (by omega)) ⟨vj, br_c (fun e1 => yes (ky_lt.mpr (Or.inl e1))) (fun e1 => ⟨vj, br_c (fun e2 => ⟨vj, br_c (fun e3 => no (fun q => ?_)) (fun e3 => yes (ky_lt.mpr (Or.inr ⟨e2.symm, Or.inl (Int32.not_le.mp e3)⟩)))⟩) (fun e2 => no (fun q => ?_))⟩)⟩
      · rcases ky_lt.mp q with y | ⟨-, y | ⟨-, y⟩⟩
        · exact e1 y
        · exact absurd e3 (Int32.not_le.mpr y)
        · exact absurd y Int32.lt_irrefl
      · rcases ky_lt.mp q with y | ⟨y, -⟩
        · exact e1 y
        · exact e2 y.symm
theorem ny_next (hv : vo < 2) (hc : yc vo = nI c) (h100 : c ≤ 100)
    (Kn : (∀ i, i < c → ¬ ny_m yo yk yb yd o k t (100 * vo + i)) → post 0 (g_done, g_changes, (nI vo), g_snaps, g_upTo, g_underWay, g_goal, g_anySent, g_lastObj, g_lastKey, g_lastBorn, yo, yk, yb, yd, yv, yc, ys, yh))
    (Ks : ∀ m, m < c → ny_m yo yk yb yd o k t (100 * vo + m) → (∀ i, i < c → ny_m yo yk yb yd o k t (100 * vo + i) → ky_e (yo (100 * vo + m)) (yk (100 * vo + m)) 0 ≤ ky_e (yo (100 * vo + i)) (yk (100 * vo + i)) 0) →
      post 1 (g_done, g_changes, (nI vo), g_snaps, g_upTo, g_underWay, g_goal, g_anySent, g_lastObj, g_lastKey, g_lastBorn, yo, yk, yb, yd, yv, yc, ys, (upd (upd (upd (upd yh 0 (yo (100 * vo + m))) 1 (yk (100 * vo + m))) 2 (yv (100 * vo + m))) 3 (yb (100 * vo + m))))) :
    wpY_next post (g_done, g_changes, (nI vo), g_snaps, g_upTo, g_underWay, g_goal, g_anySent, g_lastObj, g_lastKey, g_lastBorn, yo, yk, yb, yd, yv, yc, ys, yh) o k t := by
  unfold wpY_next
  dsimp only
  rw [ar_100]
  exact nm_e ⟨c + 1, ny_12 hv hc h100 Kn Ks (c + 1) 0 none (by omega) (by omega) lt_0⟩
end NY
end
section
/-! ===== next, both sides ===== -/
theorem ky_2 {o k b o' k' b' : Int32} (h : ky_e o k 0 < ky_e o' k' 0) : ky_e o k b < ky_e o' k' b' := by
  rw [ky_lt] at h ⊢
  rcases h with h | ⟨h1, h | ⟨h2, h⟩⟩
  · exact Or.inl h
  · exact Or.inr ⟨h1, Or.inl h⟩
  · exact absurd h Int32.lt_irrefl
theorem fd_min {κ : Nat → Int} {l : List Nat} {p : Nat → Bool} {r : Nat} (s : ky_S κ l) (e : l.find? p = some r) : r ∈ l ∧ p r = true ∧ ∀ a, a ∈ l → p a = true → a = r ∨ κ r < κ a := by
  obtain ⟨h1, as, bs, h2, h3⟩ := List.find?_eq_some_iff_append.mp e
  refine ⟨by rw [h2]; simp, h1, fun a ha pa => ?_⟩
  rw [h2] at ha s
  unfold ky_S at s
  rcases List.mem_append.mp ha with z | z
  · have := h3 a z
    rw [pa] at this
    exact absurd this (by decide)
  · rcases List.mem_cons.mp z with z | z
    · exact Or.inl z
    · exact Or.inr ((List.pairwise_cons.mp (List.pairwise_append.mp s).2.1).1 a z)
theorem i_vc_next {k : Nat} {u : SX} {v : SY} (I : i_Rel k u v) (hk : k + 4 ≤ 2048) (v1 : Int32) (v2 : Int32) (v3 : Int32) : wpX_next (fun r u' => wpY_next (fun r' v' => r' = r ∧ i_Rel (k + 4) u' v') v v1 v2 v3) u v1 v2 v3 := by
  refine rl_el (P := fun u v => wpX_next (fun r u' => wpY_next (fun r' v' => r' = r ∧ i_Rel (k + 4) u' v') v v1 v2 v3) u v1 v2 v3) ?_ I
  intro fn dn cg un vo ns sy go c2 f_freeRecord sg bg cO cK cB fO fK fV fB ro rk rb rd rv rw co le re ch la rt sz pa sp ur ud uv ua sn yo yk yb yd yv yc yh L FR F
  have F' : rl_F (k + 4) fn dn cg un vo ns sy go c2 f_freeRecord sg bg cO cK cB fO fK fV fB ro rk rb rd rv rw co le re ch la rt sz ur ud uv ua yo yk yb yd yv yc yh L FR := ⟨Nat.le_trans F.1 (Nat.le_add_right k 4), F.2⟩
  have hv := F.2.2.2.1
  have G := F.2.2.2.2.2.2.2.1
  obtain ⟨V1, V2, V3⟩ := rl_V F hv
  obtain ⟨hS, -, h200, -, -, -, h100, -⟩ := gx_ls G hv
  have U := gx_U (rv := rv) G hv
  have toX : ∀ i, i < (L vo).length → ∃ r, r ∈ L vo ∧ yt_t ro rk rb rd rv r = yt_t yo yk yb yd yv (100 * vo + i) := fun i hi => by
    have := V3.mem_iff.mpr (yt_mem.mpr ⟨i, hi, rfl⟩)
    exact List.mem_map.mp this
  have comp : ∀ (r i : Nat), yt_t ro rk rb rd rv r = yt_t yo yk yb yd yv (100 * vo + i) → ro r = yo (100 * vo + i) ∧ rk r = yk (100 * vo + i) ∧ rb r = yb (100 * vo + i) ∧ rd r = yd (100 * vo + i) ∧ rv r = yv (100 * vo + i) := fun r i e =>
    ⟨congrArg (fun z : yt_T => z.1) e, congrArg (fun z : yt_T => z.2.1) e, congrArg (fun z : yt_T => z.2.2.1) e, congrArg (fun z : yt_T => z.2.2.2.1) e, congrArg (fun z : yt_T => z.2.2.2.2) e⟩
  have hSf : ky_S (ky_r ro rk rb) ((L vo).filter (fun x => decide (ky_e v1 v2 2147483647 < ky_r ro rk rb x))) := List.Pairwise.filter _ hS
  -- a record of the reference that counts is one of the list
  have mem : ∀ i, i < (L vo).length → ny_m yo yk yb yd v1 v2 v3 (100 * vo + i) → ∃ r, r ∈ (L vo).filter (fun x => decide (ky_e v1 v2 2147483647 < ky_r ro rk rb x)) ∧ vi_b (rb r) (rd r) v3 = true ∧ yt_t ro rk rb rd rv r = yt_t yo yk yb yd yv (100 * vo + i) := fun i hi hm => by
    obtain ⟨r, hr, er⟩ := toX i hi
    obtain ⟨c1, c2, c3, c4, c5⟩ := comp r i er
    refine ⟨r, List.mem_filter.mpr ⟨hr, decide_eq_true ?_⟩, vi_bt.mpr (by rw [c3, c4]; exact hm.2), er⟩
    unfold ky_r
    rw [ky_mx, c1, c2]
    exact hm.1
  refine gx_nextv G hv (fun no => ?_) (fun r fnd => ?_)
  · refine ny_next hv V2 h100 (fun _ => ⟨rfl, rl_in F'⟩) (fun m hm mm _ => ?_)
    obtain ⟨r, r1, r2, -⟩ := mem m hm mm
    exact absurd r2 (List.find?_eq_none.mp no r r1)
  · obtain ⟨m1, m2, m3⟩ := fd_min hSf fnd
    obtain ⟨m4, m5⟩ := List.mem_filter.mp m1
    have vr := vi_bt.mp m2
    obtain ⟨i0, i1, i2⟩ := yt_mem.mp (V3.mem_iff.mp (List.mem_map.mpr ⟨r, m4, rfl⟩))
    obtain ⟨d1, d2, d3, d4, d5⟩ := comp r i0 i2.symm
    have hm0 : ny_m yo yk yb yd v1 v2 v3 (100 * vo + i0) := by
      refine ⟨?_, by rw [← d3, ← d4]; exact vr⟩
      have := of_decide_eq_true m5
      unfold ky_r at this
      rw [ky_mx] at this
      rw [← d1, ← d2]
      exact this
    refine ny_next hv V2 h100 (fun no => absurd hm0 (no i0 i1)) (fun m hm mm mmin => ?_)
    obtain ⟨a, a1, a2, a3⟩ := mem m hm mm
    obtain ⟨e1, e2, e3, e4, e5⟩ := comp a m a3
    have key : yt_t ro rk rb rd rv a = yt_t ro rk rb rd rv r := by
      rcases m3 a a1 a2 with rfl | hlt
      · rfl
      · have q1 := mmin i0 i1 hm0
        rw [← e1, ← e2, ← d1, ← d2] at q1
        have q2 : ¬ ky_e (ro a) (rk a) 0 < ky_e (ro r) (rk r) 0 := fun z => by
          have : ky_r ro rk rb a < ky_r ro rk rb r := ky_2 z
          omega
        obtain ⟨w1, w2, -⟩ := ky_inj (show ky_e (ro a) (rk a) 0 = ky_e (ro r) (rk r) 0 by omega)
        exact iv_vis V1 U (List.mem_map.mpr ⟨a, (List.mem_filter.mp a1).1, rfl⟩) (List.mem_map.mpr ⟨r, m4, rfl⟩) ⟨w1, w2⟩ (x := v3) (vi_bt.mp a2) vr
    obtain ⟨g1, g2, g3, g4, g5⟩ := comp r m (key.symm.trans a3)
    refine ⟨rfl, ?_⟩
    rw [← g1, ← g2, ← g3, ← g5]
    have F2 : rl_F (k + 4) fn dn cg un vo ns sy go c2 f_freeRecord sg bg cO cK cB (ro r) (rk r) (rv r) (rb r) ro rk rb rd rv rw co le re ch la rt sz ur ud uv ua yo yk yb yd yv yc (upd (upd (upd (upd yh 0 (ro r)) 1 (rk r)) 2 (rv r)) 3 (rb r)) L FR := by
      obtain ⟨f1, f2, f3, f4, f5, f6, f7, f8, f9, f10, -⟩ := F'
      exact ⟨f1, f2, f3, f4, f5, f6, f7, f8, f9, f10, rfl, rfl, rfl, rfl⟩
    exact rl_in F2
end
section
/-! ===== the constructors; the log; one record changed on both sides ===== -/
theorem i_vc0 : wpX_init (fun u => wpY_init (fun v => i_Rel 0 u v)) := by
  refine wx_init (fun co le re ch la rt rb FR G => ?_)
  have F : rl_F 0 2 0 0 0 0 0 0 0 0 0 0 0 0 0 0 0 0 0 0 (fun _ => 0) (fun _ => 0) rb (fun _ => 0) (fun _ => 0) (fun _ => 0) co le re ch la rt (fun _ => 0) (fun _ => 0) (fun _ => 0) (fun _ => 0) (fun _ => 0) (fun _ => 0) (fun _ => 0) (fun _ => 0) (fun _ => 0) (fun _ => 0) (fun _ => 0) (fun _ => 0) (fun _ => []) FR := by
    refine ⟨by decide, by decide, by decide, by decide, by decide, Or.inl rfl, Or.inl rfl, G, ⟨rfl, rfl, rfl, by decide, List.Perm.refl _, List.Perm.refl _, List.Perm.refl _, ⟨fun j hj => absurd hj (by omega), fun i j _ hj => absurd hj (by omega), fun r hr => absurd hr List.not_mem_nil⟩, iv_0.1⟩, iv_crash iv_0.2 (by decide), rfl, rfl, rfl, rfl⟩
  exact rl_in (pa := fun _ => 0) (sp := fun _ => 0) (sn := fun _ => 0) F
section WX
variable {f_freeRecord f_done f_changes f_undo f_volume f_snaps f_syncing f_synced f_goal f_cObj f_cKey f_cBorn f_begun f_fObj f_fKey f_fValue f_fBorn : Int32} {fn : Nat} {co le re ch : Nat → Nat} {ro rk rb rd rv rw la rt sz pa sp ur ud uv ua sn : Nat → Int32}
variable {r un : Nat} {p1 : Int32} {post : SX → Prop}
theorem wx_note (hr : r < 200) (hu : un < 80) (hp : p1 = 0 ∨ p1 = 1) (K : post ((nI fn), f_freeRecord, f_done, f_changes, (nI (un + 1)), f_volume, f_snaps, f_syncing, f_synced, f_goal, f_cObj, f_cKey, f_cBorn, f_begun, f_fObj, f_fKey, f_fValue, f_fBorn, ro, rk, rb, rd, rv, rw, (ar_n co), (ar_n le), (ar_n re), (ar_n ch), la, rt, sz, pa, sp, (upd ur un (nI r)), (upd ud un (rd r)), (upd uv un (rv r)), (upd ua un p1), sn)) : wpX_note post ((nI fn), f_freeRecord, f_done, f_changes, (nI un), f_volume, f_snaps, f_syncing, f_synced, f_goal, f_cObj, f_cKey, f_cBorn, f_begun, f_fObj, f_fKey, f_fValue, f_fBorn, ro, rk, rb, rd, rv, rw, (ar_n co), (ar_n le), (ar_n re), (ar_n ch), la, rt, sz, pa, sp, ur, ud, uv, ua, sn) (nI r) p1 := by
  have vr : vp_in (nI r) 200 := vp_in_nI hr (by decide)
  have vu : vp_in (nI un) 80 := vp_in_nI hu (by decide)
  have ep : vp_nar .boolean p1 = p1 := by rcases hp with rfl | rfl <;> rfl
  unfold wpX_note
  dsimp only
  rw [nI_clamp (n := r) (by omega), nI_clamp (n := un) (by omega), ar_ss hr, ep]
  exact ⟨vu, nm_e ⟨vr, vu, nm_e ⟨vr, vu, nm_e (nm_r (nI_1 un) ⟨vu, nm_e K⟩)⟩⟩⟩
end WX
section UL
variable {ro rk rb ur ud uv ua ro' rk' rb' ur' ud' uv' ua' : Nat → Int32} {C C' : List yt_T}
theorem ul_cg (hC : C.Perm C') : ∀ (j : Nat) (L : List Nat) (rd rv rd' rv' : Nat → Int32), (∀ i, i < j → ur' i = ur i ∧ ud' i = ud i ∧ uv' i = uv i ∧ ua' i = ua i) → (∀ a, a ∈ L → ro' a = ro a ∧ rk' a = rk a ∧ rb' a = rb a ∧ rd' a = rd a ∧ rv' a = rv a) →
    ul_U ro rk rb ur ud uv ua C j L rd rv → ul_U ro' rk' rb' ur' ud' uv' ua' C' j L rd' rv'
  | 0, L, rd, rv, rd', rv', _, H, u => by
    have e : L.map (yt_t ro' rk' rb' rd' rv') = L.map (yt_t ro rk rb rd rv) := List.map_congr_left (fun a ha => by
      obtain ⟨h1, h2, h3, h4, h5⟩ := H a ha
      unfold yt_t
      rw [h1, h2, h3, h4, h5])
    show (L.map (yt_t ro' rk' rb' rd' rv')).Perm C'
    rw [e]
    exact u.trans hC
  | j + 1, L, rd, rv, rd', rv', hl, H, u => by
    obtain ⟨r, h1, h2, h3⟩ := u
    obtain ⟨l1, l2, l3, l4⟩ := hl j (Nat.lt_succ_self j)
    refine ⟨r, h1, l1.trans h2, ?_⟩
    rcases h3 with ⟨q1, A, B, q2, q3⟩ | ⟨q1, q2⟩
    · refine Or.inl ⟨l4.trans q1, A, B, q2, ul_cg hC j (A ++ B) rd rv rd' rv' (fun i hi => hl i (Nat.lt_succ_of_lt hi)) (fun a ha => H a ?_) q3⟩
      rw [q2]
      rcases List.mem_append.mp ha with z | z <;> simp [z]
    · refine Or.inr ⟨l4.trans q1, ul_cg hC j L _ _ _ _ (fun i hi => hl i (Nat.lt_succ_of_lt hi)) (fun a ha => ?_) q2⟩
      obtain ⟨k1, k2, k3, k4, k5⟩ := H a ha
      refine ⟨k1, k2, k3, ?_, ?_⟩
      · by_cases z : a = r
        · rw [z, pk_us, pk_us, l2]
        · rw [pk_un z, pk_un z, k4]
      · by_cases z : a = r
        · rw [z, pk_us, pk_us, l3]
        · rw [pk_un z, pk_un z, k5]
end UL
theorem pm_rep {α : Type} {P P' Q Q' : List α} {x y : α} (h : (P ++ x :: Q).Perm (P' ++ x :: Q')) : (P ++ y :: Q).Perm (P' ++ y :: Q') := by
  have t := (List.perm_middle.symm.trans (h.trans List.perm_middle)).cons_inv
  exact List.perm_middle.trans ((t.cons y).trans List.perm_middle.symm)
/-- one record changed on both sides -/
theorem rp_perm {L : List Nat} {f f' : Nat → yt_T} {o k b d v o' k' b' d' v' : Nat → Int32} {a c i r : Nat} (nd : L.Nodup) (hr : r ∈ L) (hf : ∀ x, x ∈ L → x ≠ r → f' x = f x) (hi : i < c) (ei : yt_t o k b d v (a + i) = f r) (P : (L.map f).Perm (yt_l o k b d v a c))
    (hy : ∀ j, j ≠ a + i → yt_t o' k' b' d' v' j = yt_t o k b d v j) (ei' : yt_t o' k' b' d' v' (a + i) = f' r) : (L.map f').Perm (yt_l o' k' b' d' v' a c) := by
  obtain ⟨A, B, e⟩ := List.append_of_mem hr
  have hn : r ∉ A ++ B := by
    rw [e] at nd
    exact (List.nodup_cons.mp ((List.perm_middle (a := r) (l₁ := A) (l₂ := B)).nodup nd)).1
  have fA : A.map f' = A.map f := List.map_congr_left (fun x hx => hf x (by rw [e]; simp [hx]) (fun z => hn (by rw [← z]; simp [hx])))
  have fB : B.map f' = B.map f := List.map_congr_left (fun x hx => hf x (by rw [e]; simp [hx]) (fun z => hn (by rw [← z]; simp [hx])))
  rw [e, List.map_append, List.map_cons] at P ⊢
  rw [yt_sp hi] at P ⊢
  rw [ei] at P
  rw [fA, fB, ei', yt_cg (fun j hj => hy (a + j) (by omega)), yt_cg (a := a + i + 1) (fun j hj => hy (a + i + 1 + j) (by omega))]
  exact pm_rep P
/-- membership after one record is changed -/
theorem rp_mem {L : List Nat} {f f' : Nat → yt_T} {r : Nat} (hr : r ∈ L) (hf : ∀ x, x ∈ L → x ≠ r → f' x = f x) (hne : ∀ x, x ∈ L → x ≠ r → f x ≠ f r) :
    (∀ x, x ∈ L.map f' → x = f' r ∨ (x ∈ L.map f ∧ x ≠ f r)) ∧ (∀ x, x ∈ L.map f → x ≠ f r → x ∈ L.map f') ∧ f' r ∈ L.map f' := by
  refine ⟨fun x hx => ?_, fun x hx hne => ?_, List.mem_map.mpr ⟨r, hr, rfl⟩⟩
  · obtain ⟨a, ha, rfl⟩ := List.mem_map.mp hx
    by_cases z : a = r
    · exact Or.inl (by rw [z])
    · rw [hf a ha z]
      exact Or.inr ⟨List.mem_map.mpr ⟨a, ha, rfl⟩, hne a ha z⟩
  · obtain ⟨a, ha, rfl⟩ := List.mem_map.mp hx
    have z : a ≠ r := fun z => hne (by rw [z])
    exact List.mem_map.mpr ⟨a, ha, hf a ha z⟩
end
section
/-! ===== the data steps of write and remove ===== -/
section DS
variable {fn : Nat} {fr : Int32} {ro rk rb rd rv rw la rt sz ur ud uv ua yo yk yb yd yv yc : Nat → Int32} {co le re ch : Nat → Nat} {L : Nat → List Nat} {FR : List Nat} {un dn c2 r i : Nat} {val x y : Int32}
theorem yt_n2 {a c x : Nat} {v1 v2 : Int32} (hx : x < a ∨ a + c ≤ x) : yt_l yo yk yb (upd yd x v1) (upd yv x v2) a c = yt_l yo yk yb yd yv a c := by
  refine yt_cg (fun i hi => ?_)
  unfold yt_t
  rw [pk_un (by omega), pk_un (by omega)]
theorem ds_ne (G : gx_S fn fr ro rk rb rd rw co le re ch la rt sz L FR) (hr : r ∈ L 0) : ∀ a, a ∈ L 0 → a ≠ r → yt_t ro rk rb rd rv a ≠ yt_t ro rk rb rd rv r := fun a ha hne e => by
  have q : iv_q (yt_t ro rk rb rd rv a) = iv_q (yt_t ro rk rb rd rv r) := by rw [e]
  exact hne (ky_in (gx_ls G (v := 0) (by decide)).1 a ha r hr q)
/-- a record's end and value are changed, and logged -/
theorem ds_chg {d' v' : Int32} (G : gx_S fn fr ro rk rb rd rw co le re ch la rt sz L FR) (D : rl_D ro rk rb rd rv L ur ud uv ua un dn c2 yo yk yb yd yv yc) (hr : r ∈ L 0) (hi : i < (L 0).length) (ei : yt_t yo yk yb yd yv i = yt_t ro rk rb rd rv r)
    (H : iv_H ((L 0).map (yt_t ro rk rb (upd rd r d') (upd rv r v'))) (yt_l yo yk yb yd yv 200 c2) dn) :
    rl_D ro rk rb (upd rd r d') (upd rv r v') L (upd ur un (nI r)) (upd ud un (rd r)) (upd uv un (rv r)) (upd ua un 0) (un + 1) dn c2 yo yk yb (upd yd i d') (upd yv i v') yc := by
  obtain ⟨d1, d2, d3, d4, d5, d6, d7, d8, d9⟩ := D
  obtain ⟨g1, g2, g3, g4, g5, g6, g7, g8, g9, g10, g11⟩ := gx_ls G (v := 0) (by decide)
  have eC : yt_l yo yk yb (upd yd i d') (upd yv i v') 200 c2 = yt_l yo yk yb yd yv 200 c2 := yt_n2 (by omega)
  have fX : ∀ a, a ≠ r → yt_t ro rk rb (upd rd r d') (upd rv r v') a = yt_t ro rk rb rd rv a := fun a ha => by
    unfold yt_t
    rw [pk_un ha, pk_un ha]
  refine ⟨d1, d2, d3, d4, ?_, ?_, ?_, ⟨fun j hj => ?_, fun a b hab hb q1 q2 => ?_, fun a ha hb => ?_⟩, by rw [eC]; exact H⟩
  · refine rp_perm (i := i) g2 hr (fun a _ hne => fX a hne) hi (by rw [Nat.zero_add]; exact ei) d5 (fun j hj => ?_) ?_
    · unfold yt_t
      rw [pk_un (by omega), pk_un (by omega)]
    · rw [Nat.zero_add]
      unfold yt_t at ei ⊢
      rw [pk_us, pk_us, pk_us, pk_us, congrArg (fun z : yt_T => z.1) ei |> fun e => (show yo i = ro r from e), congrArg (fun z : yt_T => z.2.1) ei |> fun e => (show yk i = rk r from e), congrArg (fun z : yt_T => z.2.2.1) ei |> fun e => (show yb i = rb r from e)]
  · rw [yt_n2 (by omega), List.map_congr_left (f := yt_t ro rk rb (upd rd r d') (upd rv r v')) (g := yt_t ro rk rb rd rv) (fun a ha => fX a (fun z => g4 r hr (by rw [← z]; exact ha)))]
    exact d6
  · rw [eC]
    refine ⟨r, hr, pk_us, Or.inr ⟨pk_us, ul_cg (List.Perm.refl _) un (L 0) rd rv _ _ (fun j hj => ⟨pk_un (by omega), pk_un (by omega), pk_un (by omega), pk_un (by omega)⟩) (fun a ha => ⟨rfl, rfl, rfl, ?_, ?_⟩) d7⟩⟩
    · by_cases z : a = r
      · rw [z, pk_us, pk_us]
      · rw [pk_un z, pk_un z]
    · by_cases z : a = r
      · rw [z, pk_us, pk_us]
      · rw [pk_un z, pk_un z]
  · rcases Nat.lt_or_ge j un with z | z
    · obtain ⟨a, q1, q2, q3⟩ := d8.1 j z
      exact ⟨a, q1, by rw [pk_un (by omega)]; exact q2, by rw [pk_un (by omega)]; exact q3⟩
    · have : j = un := by omega
      subst this
      exact ⟨r, hr, pk_us, Or.inl pk_us⟩
  · rcases Nat.lt_or_ge b un with z | z
    · rw [pk_un (by omega)] at q1 q2
      rw [pk_un (by omega), pk_un (by omega)]
      exact d8.2.1 a b hab z q1 q2
    · have : b = un := by omega
      subst this
      rw [pk_us] at q2
      exact absurd q2 (by decide)
  · obtain ⟨j, q1, q2, q3⟩ := d8.2.2 a ha hb
    exact ⟨j, by omega, by rw [pk_un (by omega)]; exact q2, by rw [pk_un (by omega)]; exact q3⟩
theorem nI_t {n : Nat} (h : n < 2 ^ 31) : (nI n).toInt = (n : Int) := nI_toInt h
/-- a visible record of the master dies now -/
theorem ds_die (G : gx_S fn fr ro rk rb rd rw co le re ch la rt sz L FR) (D : rl_D ro rk rb rd rv L ur ud uv ua un dn c2 yo yk yb yd yv yc) (hdn : dn < 2000) (hr : r ∈ L 0) (hz : rd r = 0) (hi : i < (L 0).length) (ei : yt_t yo yk yb yd yv i = yt_t ro rk rb rd rv r) :
    rl_D ro rk rb (upd rd r (nI (dn + 1))) rv L (upd ur un (nI r)) (upd ud un (rd r)) (upd uv un (rv r)) (upd ua un 0) (un + 1) dn c2 yo yk yb (upd yd i (nI (dn + 1))) yv yc := by
  have ev : upd rv r (rv r) = rv := upd_id rfl
  have eyv : upd yv i (rv r) = yv := upd_id (congrArg (fun z : yt_T => z.2.2.2.2) ei)
  have t := ds_chg (d' := nI (dn + 1)) (v' := rv r) G D hr hi ei ?_
  · rw [ev, eyv] at t
    exact t
  · rw [ev]
    obtain ⟨m1, m2, m3⟩ := rp_mem (f := yt_t ro rk rb rd rv) (f' := yt_t ro rk rb (upd rd r (nI (dn + 1))) rv) hr (fun a _ hne => by unfold yt_t; rw [pk_un hne]) (ds_ne G hr)
    refine iv_die (s' := yt_t ro rk rb (upd rd r (nI (dn + 1))) rv r) D.2.2.2.2.2.2.2.2 (gx_U G (by decide)) (List.mem_map.mpr ⟨r, hr, rfl⟩) ?_ ⟨rfl, rfl, rfl⟩ ?_ (by omega) m1 m2 m3
    · show (rd r).toInt = 0
      rw [hz]; rfl
    · show (upd rd r (nI (dn + 1)) r).toInt = _
      rw [pk_us, nI_t (by omega)]
      omega
/-- a record born now is written again -/
theorem ds_own (G : gx_S fn fr ro rk rb rd rw co le re ch la rt sz L FR) (D : rl_D ro rk rb rd rv L ur ud uv ua un dn c2 yo yk yb yd yv yc) (hdn : dn < 2000) (hr : r ∈ L 0) (hb : rb r = nI (dn + 1)) (hi : i < (L 0).length) (ei : yt_t yo yk yb yd yv i = yt_t ro rk rb rd rv r) :
    rl_D ro rk rb (upd rd r 0) (upd rv r val) L (upd ur un (nI r)) (upd ud un (rd r)) (upd uv un (rv r)) (upd ua un 0) (un + 1) dn c2 yo yk yb (upd yd i 0) (upd yv i val) yc := by
  refine ds_chg G D hr hi ei ?_
  obtain ⟨m1, m2, m3⟩ := rp_mem (f := yt_t ro rk rb rd rv) (f' := yt_t ro rk rb (upd rd r 0) (upd rv r val)) hr (fun a _ hne => by unfold yt_t; rw [pk_un hne, pk_un hne]) (ds_ne G hr)
  refine iv_own (s' := yt_t ro rk rb (upd rd r 0) (upd rv r val) r) D.2.2.2.2.2.2.2.2 (List.mem_map.mpr ⟨r, hr, rfl⟩) ?_ ⟨rfl, rfl, rfl⟩ ?_ (by omega) m1 m2
  · show (rb r).toInt = _
    rw [hb, nI_t (by omega)]
    omega
  · show (upd rd r 0 r).toInt = 0
    rw [pk_us]; rfl
/-- a new record -/
theorem ds_new {A B : List Nat} {o k : Int32} (D : rl_D ro rk rb rd rv L ur ud uv ua un dn c2 yo yk yb yd yv yc) (hdn : dn < 2000) (h100 : (L 0).length < 100) (h0 : r ∉ L 0) (h1 : r ∉ L 1) (hL1 : (L 1).length ≤ 100) (hr : r < 200) (hL200 : ∀ a, a ∈ L 0 → a < 200) (e : L 0 = A ++ B)
    (hno : ∀ a, a ∈ L 0 → ro a = o → rk a = k → rb a ≠ nI (dn + 1) ∧ rd a ≠ 0) :
    rl_D (upd ro r o) (upd rk r k) (upd rb r (nI (dn + 1))) (upd rd r 0) (upd rv r val) (ls_u L 0 (A ++ r :: B)) (upd ur un (nI r)) (upd ud un x) (upd uv un y) (upd ua un 1) (un + 1) dn c2
      (upd yo (L 0).length o) (upd yk (L 0).length k) (upd yb (L 0).length (nI (dn + 1))) (upd yd (L 0).length 0) (upd yv (L 0).length val) (upd yc 0 (nI ((L 0).length + 1))) := by
  obtain ⟨d1, d2, d3, d4, d5, d6, d7, d8, d9⟩ := D
  have fX : ∀ a, a ≠ r → yt_t (upd ro r o) (upd rk r k) (upd rb r (nI (dn + 1))) (upd rd r 0) (upd rv r val) a = yt_t ro rk rb rd rv a := fun a ha => by
    unfold yt_t
    rw [pk_un ha, pk_un ha, pk_un ha, pk_un ha, pk_un ha]
  have fr_ : yt_t (upd ro r o) (upd rk r k) (upd rb r (nI (dn + 1))) (upd rd r 0) (upd rv r val) r = (o, k, nI (dn + 1), 0, val) := by
    unfold yt_t
    rw [pk_us, pk_us, pk_us, pk_us, pk_us]
  have mA : ∀ l : List Nat, (∀ a, a ∈ l → a ∈ L 0) → l.map (yt_t (upd ro r o) (upd rk r k) (upd rb r (nI (dn + 1))) (upd rd r 0) (upd rv r val)) = l.map (yt_t ro rk rb rd rv) := fun l hl =>
    List.map_congr_left (fun a ha => fX a (fun z => h0 (by rw [← z]; exact hl a ha)))
  have hA : ∀ a, a ∈ A → a ∈ L 0 := fun a ha => by rw [e]; simp [ha]
  have hB : ∀ a, a ∈ B → a ∈ L 0 := fun a ha => by rw [e]; simp [ha]
  have eH : (ls_u L 0 (A ++ r :: B) 0).map (yt_t (upd ro r o) (upd rk r k) (upd rb r (nI (dn + 1))) (upd rd r 0) (upd rv r val)) = A.map (yt_t ro rk rb rd rv) ++ (o, k, nI (dn + 1), 0, val) :: B.map (yt_t ro rk rb rd rv) := by
    rw [ls_us, List.map_append, List.map_cons, mA A hA, mA B hB, fr_]
  have eH0 : (L 0).map (yt_t ro rk rb rd rv) = A.map (yt_t ro rk rb rd rv) ++ B.map (yt_t ro rk rb rd rv) := by rw [e, List.map_append]
  have eC : yt_l (upd yo (L 0).length o) (upd yk (L 0).length k) (upd yb (L 0).length (nI (dn + 1))) (upd yd (L 0).length 0) (upd yv (L 0).length val) 200 c2 = yt_l yo yk yb yd yv 200 c2 := yt_ne (by omega)
  have len : (ls_u L 0 (A ++ r :: B) 0).length = (L 0).length + 1 := by rw [ls_us, e]; simp; omega
  have ap := yt_ap (o := yo) (k := yk) (b := yb) (d := yd) (v := yv) (a := 0) (c := (L 0).length) (v1 := o) (v2 := k) (v3 := nI (dn + 1)) (v4 := 0) (v5 := val)
  rw [Nat.zero_add] at ap
  refine ⟨by rw [pk_us, len], by rw [pk_un (by decide), ls_un (by decide)]; exact d2, by rw [pk_un (by decide)]; exact d3, d4, ?_, ?_, ?_, ⟨fun j hj => ?_, fun a b hab hb q1 q2 => ?_, fun a ha hb => ?_⟩, ?_⟩
  · rw [eH, len, ap]
    rw [eH0] at d5
    exact List.perm_middle.trans ((d5.cons _).trans (List.perm_append_singleton _ _).symm)
  · rw [ls_un (by decide), yt_ne (by omega), List.map_congr_left (f := yt_t (upd ro r o) (upd rk r k) (upd rb r (nI (dn + 1))) (upd rd r 0) (upd rv r val)) (g := yt_t ro rk rb rd rv) (fun a ha => fX a (fun z => h1 (by rw [← z]; exact ha)))]
    exact d6
  · rw [eC]
    refine ⟨r, by rw [ls_us]; simp, pk_us, Or.inl ⟨pk_us, A, B, ls_us, ?_⟩⟩
    rw [← e]
    refine ul_cg (List.Perm.refl _) un (L 0) rd rv _ _ (fun j hj => ⟨pk_un (by omega), pk_un (by omega), pk_un (by omega), pk_un (by omega)⟩) (fun a ha => ?_) d7
    have z : a ≠ r := fun z => h0 (by rw [← z]; exact ha)
    exact ⟨pk_un z, pk_un z, pk_un z, pk_un z, pk_un z⟩
  · rw [ls_us]
    rcases Nat.lt_or_ge j un with z | z
    · obtain ⟨a, q1, q2, q3⟩ := d8.1 j z
      have za : a ≠ r := fun z => h0 (by rw [← z]; exact q1)
      refine ⟨a, ?_, by rw [pk_un (by omega)]; exact q2, by rw [pk_un (by omega), pk_un za]; exact q3⟩
      rw [e] at q1
      rcases List.mem_append.mp q1 with y | y <;> simp [y]
    · have : j = un := by omega
      subst this
      exact ⟨r, by simp, pk_us, Or.inr ⟨pk_us, pk_us⟩⟩
  · rcases Nat.lt_or_ge b un with z | z
    · rw [pk_un (by omega)] at q1 q2
      rw [pk_un (by omega), pk_un (by omega)]
      exact d8.2.1 a b hab z q1 q2
    · have : b = un := by omega
      subst this
      rw [pk_us, pk_un (by omega)]
      obtain ⟨w, q3, q4, q5⟩ := d8.1 a hab
      intro z
      rw [q4] at z
      have := (nI_eq (by have := hL200 w q3; omega) (by omega)).mp z
      exact h0 (by rw [← this]; exact q3)
  · rw [ls_us] at ha
    by_cases za : a = r
    · exact ⟨un, by omega, pk_us, by rw [pk_us, za]⟩
    · rw [pk_un za] at hb
      have ha' : a ∈ L 0 := by
        rw [e]
        rcases List.mem_append.mp ha with y | y
        · simp [y]
        · rcases List.mem_cons.mp y with y | y
          · exact absurd y za
          · simp [y]
      obtain ⟨j, q1, q2, q3⟩ := d8.2.2 a ha' hb
      exact ⟨j, by omega, by rw [pk_un (by omega)]; exact q2, by rw [pk_un (by omega)]; exact q3⟩
  · rw [eC, eH]
    refine iv_new (new := (o, k, nI (dn + 1), 0, val)) d9 ?_ rfl (by omega) (fun s hs es => ?_) (fun s hs => ?_) (fun s hs => ?_)
    · show (nI (dn + 1)).toInt = _
      rw [nI_t (by omega)]
      omega
    · obtain ⟨a, ha, rfl⟩ := List.mem_map.mp hs
      obtain ⟨n1, n2⟩ := hno a ha es.1 es.2
      refine ⟨fun z => n1 (Int32.toInt_inj.mp ?_), fun z => n2 (Int32.toInt_inj.mp ?_)⟩
      · change (rb a).toInt = _ at z
        rw [z, nI_t (by omega)]
        omega
      · change (rd a).toInt = 0 at z
        rw [z]; rfl
    · rw [eH0]
      rcases List.mem_append.mp hs with y | y
      · exact Or.inr (List.mem_append.mpr (Or.inl y))
      · rcases List.mem_cons.mp y with y | y
        · exact Or.inl y
        · exact Or.inr (List.mem_append.mpr (Or.inr y))
    · rw [eH0] at hs
      rcases List.mem_append.mp hs with y | y
      · exact List.mem_append.mpr (Or.inl y)
      · exact List.mem_append.mpr (Or.inr (List.mem_cons_of_mem _ y))
end DS
end
section
/-! ===== remove, write ===== -/
theorem vi_now {b d : Int32} {dn : Nat} (hdn : dn < 2000) (hd : d.toInt ≤ dn + 1) (v : vi_s b d (nI (dn + 1))) : d = 0 := by
  rcases v.2 with z | z
  · exact z
  · have := Int32.lt_iff_toInt_lt.mp z
    rw [nI_t (by omega)] at this
    omega
theorem i_vc_remove {k : Nat} {u : SX} {v : SY} (I : i_Rel k u v) (hk : k + 4 ≤ 2048) (v1 : Int32) (v2 : Int32) : wpX_remove (fun r u' => wpY_remove (fun r' v' => r' = r ∧ i_Rel (k + 4) u' v') v v1 v2) u v1 v2 := by
  refine rl_el (P := fun u v => wpX_remove (fun r u' => wpY_remove (fun r' v' => r' = r ∧ i_Rel (k + 4) u' v') v v1 v2) u v1 v2) ?_ I
  intro fn dn cg un vo ns sy go c2 f_freeRecord sg bg cO cK cB fO fK fV fB ro rk rb rd rv rw co le re ch la rt sz pa sp ur ud uv ua sn yo yk yb yd yv yc yh L FR F
  have F' : rl_F (k + 4) fn dn cg un vo ns sy go c2 f_freeRecord sg bg cO cK cB fO fK fV fB ro rk rb rd rv rw co le re ch la rt sz ur ud uv ua yo yk yb yd yv yc yh L FR := ⟨Nat.le_trans F.1 (Nat.le_add_right k 4), F.2⟩
  obtain ⟨V1, V2, V3⟩ := rl_V F (v := 0) (by decide)
  obtain ⟨f1, f2, f3, f4, f5, f6, f7, G, D, J, f11⟩ := F
  have hdn : dn < 2000 := by omega
  obtain ⟨g1, g2, g3, g4, g5, g6, g7, g8, g9, g10, g11⟩ := gx_ls G (v := 0) (by decide)
  unfold wpX_remove wpY_remove
  dsimp only
  rw [nI_1 dn]
  rcases see_both (f_done := nI dn) (f_changes := nI cg) (f_undo := nI un) (f_volume := nI vo) (f_snaps := nI ns) (f_syncing := sg) (f_synced := nI sy) (f_goal := nI go) (f_cObj := cO) (f_cKey := cK) (f_cBorn := cB) (f_begun := bg) (f_fObj := fO) (f_fKey := fK) (f_fValue := fV) (f_fBorn := fB) (pa := pa) (sp := sp) (ur := ur) (ud := ud) (uv := uv) (ua := ua) (sn := sn) (g_done := nI dn) (g_changes := nI cg) (g_volume := nI vo) (g_snaps := nI ns) (g_upTo := nI sy) (g_underWay := sg) (g_goal := nI go) (g_anySent := bg) (g_lastObj := cO) (g_lastKey := cK) (g_lastBorn := cB) (ys := sn) (yh := yh) G (by decide) V1 V2 V3 v1 v2 (nI (dn + 1)) with ⟨r, i, h1, h2, h3, h4, h5, h6, hX, hY⟩ | ⟨-, hX, hY⟩
  · have hr := g3 r h1
    rw [show 100 * 0 + i = i by omega] at h6 hY
    have hz : rd r = 0 := by
      have := (D.2.2.2.2.2.2.2.2.1 _ (List.mem_map.mpr ⟨r, h1, rfl⟩)).2.2.2
      exact vi_now hdn this h5
    refine hX _ (br_f (nI_pos (by omega)) ?_)
    by_cases hc : cg = 40
    · subst hc
      exact br_t rfl (hY _ (br_f (nI_pos (by omega)) (br_t rfl ⟨rfl, rl_in F'⟩)))
    · have hc' : ¬ nI cg = 40 := fun z => hc ((nI_eq (b := 40) (by omega) (by omega)).mp z)
      refine br_f hc' (wx_note hr (by omega) (Or.inl rfl) ?_)
      dsimp only
      rw [nI_1 dn]
      refine gx_die G (by decide) h1 (fun la' pa' G' => nm_r (nI_1 cg) ?_)
      refine hY _ (br_f (nI_pos (by omega)) (br_f hc' ⟨vp_in_nI (by omega) (by decide), ?_⟩))
      rw [nI_clamp (n := i) (by omega)]
      refine nm_e (nm_r (nI_1 cg) ⟨rfl, ?_⟩)
      have D' := ds_die G D hdn h1 hz h2 h6
      have eC : yt_l yo yk yb (upd yd i (nI (dn + 1))) yv 200 c2 = yt_l yo yk yb yd yv 200 c2 := yt_cg (fun j hj => by unfold yt_t; rw [pk_un (by omega)])
      have eM : (L 1).map (yt_t ro rk rb (upd rd r (nI (dn + 1))) rv) = (L 1).map (yt_t ro rk rb rd rv) := List.map_congr_left (fun a ha => by
        have : a ≠ r := fun z => g4 r h1 (by rw [← z]; exact ha)
        unfold yt_t
        rw [pk_un this])
      have F2 : rl_F (k + 4) fn dn (cg + 1) (un + 1) vo ns sy go c2 f_freeRecord sg bg cO cK cB fO fK fV fB ro rk rb (upd rd r (nI (dn + 1))) rv rw co le re ch la' rt sz (upd ur un (nI r)) (upd ud un (rd r)) (upd uv un (rv r)) (upd ua un 0) yo yk yb (upd yd i (nI (dn + 1))) yv yc yh L FR :=
        ⟨by omega, by omega, by omega, f4, f5, f6, f7, G', D', by rw [eC, eM]; exact J, f11⟩
      exact rl_in F2
  · exact hX _ (br_t (by decide) (hY _ (br_t (by decide) ⟨rfl, rl_in F'⟩)))
section BO
variable {f_freeRecord f_done f_changes f_undo f_volume f_snaps f_syncing f_synced f_goal f_cObj f_cKey f_cBorn f_begun f_fObj f_fKey f_fValue f_fBorn : Int32} {fn : Nat} {co le re ch : Nat → Nat} {ro rk rb rd rv rw la rt sz pa sp ur ud uv ua sn : Nat → Int32}
variable {g_done g_changes g_volume g_snaps g_upTo g_underWay g_goal g_anySent g_lastObj g_lastKey g_lastBorn : Int32} {yo yk yb yd yv yc ys yh : Nat → Int32}
variable {v : Nat} {L : Nat → List Nat} {FR : List Nat} {o k b : Int32}
/-- bornAt: the index of the record of that name, or none -/
theorem born_Y (G : gx_S fn f_freeRecord ro rk rb rd rw co le re ch la rt sz L FR) (hv : v < 2) (hc : yc v = nI (L v).length) (P : ((L v).map (yt_t ro rk rb rd rv)).Perm (yt_l yo yk yb yd yv (100 * v) (L v).length)) (o k b : Int32) :
    (∃ r i, r ∈ L v ∧ i < (L v).length ∧ ro r = o ∧ rk r = k ∧ rb r = b ∧ yt_t yo yk yb yd yv (100 * v + i) = yt_t ro rk rb rd rv r ∧ (∀ post : Int32 → Prop, post (nI (100 * v + i)) → wpY_bornAt post (g_done, g_changes, g_volume, g_snaps, g_upTo, g_underWay, g_goal, g_anySent, g_lastObj, g_lastKey, g_lastBorn, yo, yk, yb, yd, yv, yc, ys, yh) (nI v) o k b)) ∨
    ((∀ r, r ∈ L v → ¬ (ro r = o ∧ rk r = k ∧ rb r = b)) ∧ (∀ post : Int32 → Prop, post (-1) → wpY_bornAt post (g_done, g_changes, g_volume, g_snaps, g_upTo, g_underWay, g_goal, g_anySent, g_lastObj, g_lastKey, g_lastBorn, yo, yk, yb, yd, yv, yc, ys, yh) (nI v) o k b)) := by
  have h100 := (gx_ls G hv).2.2.2.2.2.2.1
  have U := gx_U (rv := rv) G hv
  have nd := P.nodup (gx_nd' (rv := rv) G hv)
  have toX : ∀ i, i < (L v).length → ∃ r, r ∈ L v ∧ yt_t ro rk rb rd rv r = yt_t yo yk yb yd yv (100 * v + i) := fun i hi => by
    have := P.mem_iff.mpr (yt_mem.mpr ⟨i, hi, rfl⟩)
    exact List.mem_map.mp this
  by_cases ex : ∃ r, r ∈ L v ∧ ro r = o ∧ rk r = k ∧ rb r = b
  · obtain ⟨r, hr, e1, e2, e3⟩ := ex
    obtain ⟨i, hi, ei⟩ := yt_mem.mp (P.mem_iff.mp (List.mem_map.mpr ⟨r, hr, rfl⟩))
    refine Or.inl ⟨r, i, hr, hi, e1, e2, e3, ei, fun post hp => wy_born (by omega) hc h100 (fun i' hi' a1 a2 a3 => ?_) (fun no => ?_)⟩
    · obtain ⟨r', hr', er'⟩ := toX i' hi'
      have f1 : ro r' = yo (100 * v + i') := congrArg (fun z : yt_T => z.1) er'
      have f2 : rk r' = yk (100 * v + i') := congrArg (fun z : yt_T => z.2.1) er'
      have f3 : rb r' = yb (100 * v + i') := congrArg (fun z : yt_T => z.2.2.1) er'
      have : yt_t ro rk rb rd rv r' = yt_t ro rk rb rd rv r := U _ _ (List.mem_map.mpr ⟨r', hr', rfl⟩) (List.mem_map.mpr ⟨r, hr, rfl⟩) ⟨f1.trans (a1.trans e1.symm), f2.trans (a2.trans e2.symm), f3.trans (a3.trans e3.symm)⟩
      rw [yt_inj nd hi' hi (er'.symm.trans (this.trans ei.symm))]
      exact hp
    · have f1 : yo (100 * v + i) = ro r := congrArg (fun z : yt_T => z.1) ei
      have f2 : yk (100 * v + i) = rk r := congrArg (fun z : yt_T => z.2.1) ei
      have f3 : yb (100 * v + i) = rb r := congrArg (fun z : yt_T => z.2.2.1) ei
      exact absurd ⟨f1.trans e1, f2.trans e2, f3.trans e3⟩ (no i hi)
  · have no : ∀ r, r ∈ L v → ¬ (ro r = o ∧ rk r = k ∧ rb r = b) := fun r hr z => ex ⟨r, hr, z⟩
    refine Or.inr ⟨no, fun post hp => wy_born (by omega) hc h100 (fun i hi a1 a2 a3 => ?_) (fun _ => hp)⟩
    obtain ⟨r, hr, er⟩ := toX i hi
    have f1 : ro r = yo (100 * v + i) := congrArg (fun z : yt_T => z.1) er
    have f2 : rk r = yk (100 * v + i) := congrArg (fun z : yt_T => z.2.1) er
    have f3 : rb r = yb (100 * v + i) := congrArg (fun z : yt_T => z.2.2.1) er
    exact absurd ⟨f1.trans a1, f2.trans a2, f3.trans a3⟩ (no r hr)
end BO
theorem i_vc_write {k : Nat} {u : SX} {v : SY} (I : i_Rel k u v) (hk : k + 4 ≤ 2048) (v1 : Int32) (v2 : Int32) (v3 : Int32) : wpX_write (fun r u' => wpY_write (fun r' v' => r' = r ∧ i_Rel (k + 4) u' v') v v1 v2 v3) u v1 v2 v3 := by
  refine rl_el (P := fun u v => wpX_write (fun r u' => wpY_write (fun r' v' => r' = r ∧ i_Rel (k + 4) u' v') v v1 v2 v3) u v1 v2 v3) ?_ I
  intro fn dn cg un vo ns sy go c2 f_freeRecord sg bg cO cK cB fO fK fV fB ro rk rb rd rv rw co le re ch la rt sz pa sp ur ud uv ua sn yo yk yb yd yv yc yh L FR F
  have F' : rl_F (k + 4) fn dn cg un vo ns sy go c2 f_freeRecord sg bg cO cK cB fO fK fV fB ro rk rb rd rv rw co le re ch la rt sz ur ud uv ua yo yk yb yd yv yc yh L FR := ⟨Nat.le_trans F.1 (Nat.le_add_right k 4), F.2⟩
  obtain ⟨V1, V2, V3⟩ := rl_V F (v := 0) (by decide)
  obtain ⟨f1, f2, f3, f4, f5, f6, f7, G, D, J, f11⟩ := F
  have hdn : dn < 2000 := by omega
  obtain ⟨g1, g2, g3, g4, g5, g6, g7, g8, g9, g10, g11⟩ := gx_ls G (v := 0) (by decide)
  have hL1 := (gx_ls G (v := 1) (by decide)).2.2.2.2.2.2.1
  have hR := D.2.2.2.2.2.2.2.2.1
  -- the reference, from its two questions on
  have Y0 : ∀ (r : Int32) (u' : SX) (ow ol : Int32), (∀ post : Int32 → Prop, post ow → wpY_bornAt post ((nI dn), (nI cg), (nI vo), (nI ns), (nI sy), sg, (nI go), bg, cO, cK, cB, yo, yk, yb, yd, yv, yc, sn, yh) (nI 0) v1 v2 (nI (dn + 1))) → (∀ post : Int32 → Prop, post ol → wpY_seen post ((nI dn), (nI cg), (nI vo), (nI ns), (nI sy), sg, (nI go), bg, cO, cK, cB, yo, yk, yb, yd, yv, yc, sn, yh) (nI 0) v1 v2 (nI (dn + 1))) →
      ((nI cg = 40 → (0 = r ∧ i_Rel (k + 4) u' ((nI dn), (nI cg), (nI vo), (nI ns), (nI sy), sg, (nI go), bg, cO, cK, cB, yo, yk, yb, yd, yv, yc, sn, yh))) ∧ (¬ nI cg = 40 → ((0 ≤ ow → wY_write_57 (fun r' v' => r' = r ∧ i_Rel (k + 4) u' v') v1 v2 v3 (nI (dn + 1)) ow ol (nI dn) (nI cg) (nI vo) (nI ns) (nI sy) sg (nI go) bg cO cK cB yo yk yb yd yv yc sn yh) ∧ (¬ 0 ≤ ow → ((yc 0 = 100 → (0 = r ∧ i_Rel (k + 4) u' ((nI dn), (nI cg), (nI vo), (nI ns), (nI sy), sg, (nI go), bg, cO, cK, cB, yo, yk, yb, yd, yv, yc, sn, yh))) ∧ (¬ yc 0 = 100 → wY_write_57 (fun r' v' => r' = r ∧ i_Rel (k + 4) u' v') v1 v2 v3 (nI (dn + 1)) ow ol (nI dn) (nI cg) (nI vo) (nI ns) (nI sy) sg (nI go) bg cO cK cB yo yk yb yd yv yc sn yh)))))) →
      wpY_write (fun r' v' => r' = r ∧ i_Rel (k + 4) u' v') ((nI dn), (nI cg), (nI vo), (nI ns), (nI sy), sg, (nI go), bg, cO, cK, cB, yo, yk, yb, yd, yv, yc, sn, yh) v1 v2 v3 := fun r u' ow ol hb hs h => by
    unfold wpY_write
    dsimp only
    rw [nI_1 dn]
    exact nm_e (hb _ (hs _ h))
  -- 40 changes
  have B := born_Y (g_done := nI dn) (g_changes := nI cg) (g_volume := nI vo) (g_snaps := nI ns) (g_upTo := nI sy) (g_underWay := sg) (g_goal := nI go) (g_anySent := bg) (g_lastObj := cO) (g_lastKey := cK) (g_lastBorn := cB) (ys := sn) (yh := yh) G (by decide) V2 V3 v1 v2 (nI (dn + 1))
  have S := see_both (f_done := nI dn) (f_changes := nI cg) (f_undo := nI un) (f_volume := nI vo) (f_snaps := nI ns) (f_syncing := sg) (f_synced := nI sy) (f_goal := nI go) (f_cObj := cO) (f_cKey := cK) (f_cBorn := cB) (f_begun := bg) (f_fObj := fO) (f_fKey := fK) (f_fValue := fV) (f_fBorn := fB) (pa := pa) (sp := sp) (ur := ur) (ud := ud) (uv := uv) (ua := ua) (sn := sn) (g_done := nI dn) (g_changes := nI cg) (g_volume := nI vo) (g_snaps := nI ns) (g_upTo := nI sy) (g_underWay := sg) (g_goal := nI go) (g_anySent := bg) (g_lastObj := cO) (g_lastKey := cK) (g_lastBorn := cB) (ys := sn) (yh := yh) G (by decide) V1 V2 V3 v1 v2 (nI (dn + 1))
  by_cases hc : cg = 40
  · subst hc
    have yy : wpY_write (fun r' v' => r' = 0 ∧ i_Rel (k + 4) ((nI fn), f_freeRecord, (nI dn), (nI 40), (nI un), (nI vo), (nI ns), sg, (nI sy), (nI go), cO, cK, cB, bg, fO, fK, fV, fB, ro, rk, rb, rd, rv, rw, (ar_n co), (ar_n le), (ar_n re), (ar_n ch), la, rt, sz, pa, sp, ur, ud, uv, ua, sn) v') ((nI dn), (nI 40), (nI vo), (nI ns), (nI sy), sg, (nI go), bg, cO, cK, cB, yo, yk, yb, yd, yv, yc, sn, yh) v1 v2 v3 := by
      rcases B with ⟨_, i, -, -, -, -, -, -, hB⟩ | ⟨-, hB⟩
      · rcases S with ⟨_, j, -, -, -, -, -, -, -, hS⟩ | ⟨-, -, hS⟩
        · exact Y0 0 _ _ _ hB hS (br_t rfl ⟨rfl, rl_in F'⟩)
        · exact Y0 0 _ _ _ hB hS (br_t rfl ⟨rfl, rl_in F'⟩)
      · rcases S with ⟨_, j, -, -, -, -, -, -, -, hS⟩ | ⟨-, -, hS⟩
        · exact Y0 0 _ _ _ hB hS (br_t rfl ⟨rfl, rl_in F'⟩)
        · exact Y0 0 _ _ _ hB hS (br_t rfl ⟨rfl, rl_in F'⟩)
    unfold wpX_write
    dsimp only
    rw [nI_1 dn]
    exact nm_e (gx_floor (v := 0) G (by decide) (br_t rfl yy))
  · have hc' : ¬ nI cg = 40 := fun z => hc ((nI_eq (b := 40) (by omega) (by omega)).mp z)
    have eC : ∀ (i : Nat) (x y : Int32), i < 100 → yt_l yo yk yb (upd yd i x) (upd yv i y) 200 c2 = yt_l yo yk yb yd yv 200 c2 := fun i x y hi => yt_n2 (by omega)
    have eC1 : ∀ (i : Nat) (x : Int32), i < 100 → yt_l yo yk yb (upd yd i x) yv 200 c2 = yt_l yo yk yb yd yv 200 c2 := fun i x hi => yt_cg (fun j hj => by unfold yt_t; rw [pk_un (by omega)])
    rcases B with ⟨r, i, b1, b2, b3, b4, b5, b6, hB⟩ | ⟨bno, hB⟩
    · -- written in this transaction already
      have hr := g3 r b1
      rw [show 100 * 0 + i = i by omega] at b6 hB
      have fl : fo_f (ky_r ro rk rb) (ky_e v1 v2 (nI (dn + 1))) (L 0) = some r := by
        have hq : ky_r ro rk rb r = ky_e v1 v2 (nI (dn + 1)) := by unfold ky_r; rw [b3, b4, b5]
        cases e : fo_f (ky_r ro rk rb) (ky_e v1 v2 (nI (dn + 1))) (L 0) with
        | none => have := fo_f0 e r b1; omega
        | some s =>
          obtain ⟨s1, s2, s3⟩ := fo_fs g1 e
          rcases s3 r b1 (by omega) with z | z
          · rw [z]
          · omega
      -- the reference's end
      have yend : ∀ (la' pa' : Nat → Int32), gx_S fn f_freeRecord ro rk rb (upd rd r 0) rw co le re ch la' rt sz L FR → ∀ (u' : SX), u' = ((nI fn), f_freeRecord, (nI dn), (nI (cg + 1)), (nI (un + 1)), (nI vo), (nI ns), sg, (nI sy), (nI go), cO, cK, cB, bg, fO, fK, fV, fB, ro, rk, rb, (upd rd r 0), (upd rv r v3), rw, (ar_n co), (ar_n le), (ar_n re), (ar_n ch), la', rt, sz, pa', sp, (upd ur un (nI r)), (upd ud un (rd r)), (upd uv un (rv r)), (upd ua un 0), sn) →
          wpY_write (fun r' v' => r' = 1 ∧ i_Rel (k + 4) u' v') ((nI dn), (nI cg), (nI vo), (nI ns), (nI sy), sg, (nI go), bg, cO, cK, cB, yo, yk, yb, yd, yv, yc, sn, yh) v1 v2 v3 := by
        intro la' pa' G' u' hu
        have D' := ds_own (val := v3) G D hdn b1 b5 b2 b6
        have eM : (L 1).map (yt_t ro rk rb (upd rd r 0) (upd rv r v3)) = (L 1).map (yt_t ro rk rb rd rv) := List.map_congr_left (fun a ha => by
          have : a ≠ r := fun z => g4 r b1 (by rw [← z]; exact ha)
          unfold yt_t
          rw [pk_un this, pk_un this])
        have F2 : rl_F (k + 4) fn dn (cg + 1) (un + 1) vo ns sy go c2 f_freeRecord sg bg cO cK cB fO fK fV fB ro rk rb (upd rd r 0) (upd rv r v3) rw co le re ch la' rt sz (upd ur un (nI r)) (upd ud un (rd r)) (upd uv un (rv r)) (upd ua un 0) yo yk yb (upd yd i 0) (upd yv i v3) yc yh L FR :=
          ⟨by omega, by omega, by omega, f4, f5, f6, f7, G', D', by rw [eC i _ _ (by omega), eM]; exact J, f11⟩
        have w78 : wY_write_78 (fun r' v' => r' = 1 ∧ i_Rel (k + 4) u' v') v1 v2 v3 (nI (dn + 1)) (nI i) (nI dn) (nI cg) (nI vo) (nI ns) (nI sy) sg (nI go) bg cO cK cB yo yk yb yd yv yc sn yh := by
          have vi : vp_in (nI i) 300 := vp_in_nI (by omega) (by decide)
          unfold wY_write_78 wY_write_113
          rw [nI_clamp (n := i) (by omega)]
          refine br_f (nI_pos (by omega)) ⟨vi, nm_e ⟨vi, nm_e (nm_r (nI_1 cg) ⟨rfl, ?_⟩)⟩⟩
          rw [hu]
          exact rl_in F2
        rcases S with ⟨s, j, s1, s2, s3, s4, s5, s6, -, hS⟩ | ⟨-, -, hS⟩
        · -- what is seen is the record itself
          have es : s = r := by
            have U := gx_U (rv := rv) G (v := 0) (by decide)
            have hs : yt_t ro rk rb rd rv s ∈ (L 0).map (yt_t ro rk rb rd rv) := List.mem_map.mpr ⟨s, s1, rfl⟩
            have hr' : yt_t ro rk rb rd rv r ∈ (L 0).map (yt_t ro rk rb rd rv) := List.mem_map.mpr ⟨r, b1, rfl⟩
            have sb := (hR _ hs).2.1
            have eb : iv_b (yt_t ro rk rb rd rv r) = dn + 1 := by
              show (rb r).toInt = _
              rw [b5, nI_t (by omega)]
              omega
            rcases Int.lt_or_le (iv_b (yt_t ro rk rb rd rv s)) (iv_b (yt_t ro rk rb rd rv r)) with z | z
            · have q := V1 _ _ hs hr' ⟨s3.trans b3.symm, s4.trans b4.symm⟩ z
              have this : rd s = 0 := vi_now hdn (hR _ hs).2.2.2 s5
              exact absurd (show iv_d (yt_t ro rk rb rd rv s) = 0 by show (rd s).toInt = 0; rw [this]; rfl) q.1
            · have e := U _ _ hs hr' (iv_bq ⟨s3.trans b3.symm, s4.trans b4.symm⟩ (by omega))
              have q : iv_q (yt_t ro rk rb rd rv s) = iv_q (yt_t ro rk rb rd rv r) := by rw [e]
              exact ky_in g1 s s1 r b1 q
          have ej : 100 * 0 + j = i := by
            rw [es] at s6
            have nd := V3.nodup (gx_nd' (rv := rv) G (v := 0) (by decide))
            have := yt_inj nd s2 b2 (s6.trans (by rw [show 100 * 0 + i = i by omega]; exact b6.symm))
            omega
          rw [ej] at hS
          refine Y0 1 _ _ _ hB hS (br_f hc' (br_t (nI_pos' (by omega)) ?_))
          unfold wY_write_57
          exact br_f (nI_pos (by omega)) (br_t rfl w78)
        · refine Y0 1 _ _ _ hB hS (br_f hc' (br_t (nI_pos' (by omega)) ?_))
          unfold wY_write_57
          exact br_t (by decide) w78
      have vr : vp_in (nI r) 200 := vp_in_nI hr (by decide)
      unfold wpX_write
      dsimp only
      rw [nI_1 dn]
      refine nm_e (gx_floor (v := 0) G (by decide) ?_)
      rw [fl]
      show _ ∧ _
      rw [show fo_I (some r) (-1) = nI r from rfl, nI_clamp (n := r) (by omega)]
      refine br_f hc' (br_f (nI_pos (by omega)) ⟨vr, br_t b3 ⟨vr, br_t b4 ⟨vr, br_t b5 ?_⟩⟩⟩)
      unfold wX_write_74
      refine br_f (by decide) (wx_note hr (by omega) (Or.inl rfl) ?_)
      dsimp only
      rw [nI_clamp (n := r) (by omega)]
      refine ⟨vr, ?_⟩
      by_cases hz : rd r = 0
      · refine br_t hz ?_
        unfold wX_write_170
        rw [nI_clamp (n := r) (by omega)]
        refine ⟨vr, nm_e (nm_r (nI_1 cg) ?_)⟩
        have e0 : upd rd r 0 = rd := upd_id hz
        exact yend la pa (by rw [e0]; exact G) _ (by rw [e0])
      · refine br_f hz (gx_die G (v := 0) (by decide) b1 (fun la' pa' G' => ?_))
        dsimp only
        unfold wX_write_170
        rw [nI_clamp (n := r) (by omega)]
        exact ⟨vr, nm_e (nm_r (nI_1 cg) (yend la' pa' G' _ rfl))⟩
    · -- new in this transaction
      have hne : ∀ a, a ∈ L 0 → ky_r ro rk rb a ≠ ky_e v1 v2 (nI (dn + 1)) := fun a ha e => by
        obtain ⟨e1, e2, e3⟩ := ky_inj e
        exact bno a ha ⟨e1, e2, e3⟩
      have toW : (wX_write_73 (fun r u' => wpY_write (fun r' v' => r' = r ∧ i_Rel (k + 4) u' v') ((nI dn), (nI cg), (nI vo), (nI ns), (nI sy), sg, (nI go), bg, cO, cK, cB, yo, yk, yb, yd, yv, yc, sn, yh) v1 v2 v3) v1 v2 v3 (nI (dn + 1)) (fo_I (fo_f (ky_r ro rk rb) (ky_e v1 v2 (nI (dn + 1))) (L 0)) (-1)) (nI fn) f_freeRecord (nI dn) (nI cg) (nI un) (nI vo) (nI ns) sg (nI sy) (nI go) cO cK cB bg fO fK fV fB ro rk rb rd rv rw (ar_n co) (ar_n le) (ar_n re) (ar_n ch) la rt sz pa sp ur ud uv ua sn) → wpX_write (fun r u' => wpY_write (fun r' v' => r' = r ∧ i_Rel (k + 4) u' v') ((nI dn), (nI cg), (nI vo), (nI ns), (nI sy), sg, (nI go), bg, cO, cK, cB, yo, yk, yb, yd, yv, yc, sn, yh) v1 v2 v3) ((nI fn), f_freeRecord, (nI dn), (nI cg), (nI un), (nI vo), (nI ns), sg, (nI sy), (nI go), cO, cK, cB, bg, fO, fK, fV, fB, ro, rk, rb, rd, rv, rw, (ar_n co), (ar_n le), (ar_n re), (ar_n ch), la, rt, sz, pa, sp, ur, ud, uv, ua, sn) v1 v2 v3 := by
        intro h73
        unfold wpX_write
        dsimp only
        rw [nI_1 dn]
        refine nm_e (gx_floor (v := 0) G (by decide) ?_)
        refine br_f hc' ?_
        cases e : fo_f (ky_r ro rk rb) (ky_e v1 v2 (nI (dn + 1))) (L 0) with
        | none =>
          rw [e] at h73
          exact br_t (show (-1 : Int32) < 0 by decide) h73
        | some s =>
          rw [e] at h73
          obtain ⟨s1, -, -⟩ := fo_fs g1 e
          have hs := g3 s s1
          have vs : vp_in (nI s) 200 := vp_in_nI hs (by decide)
          rw [show fo_I (some s) (-1) = nI s from rfl] at h73
          rw [show fo_I (some s) (-1) = nI s from rfl, nI_clamp (n := s) (by omega)]
          exact br_f (nI_pos (by omega)) ⟨vs, br_c (fun e1 => ⟨vs, br_c (fun e2 => ⟨vs, br_c (fun e3 => absurd ⟨e1, e2, e3⟩ (bno s s1)) (fun _ => h73)⟩) (fun _ => h73)⟩) (fun _ => h73)⟩
      refine toW ?_
      unfold wX_write_73 wX_write_74
      refine br_t rfl ?_
      rw [g6]
      by_cases h100 : (L 0).length = 100
      · rw [h100]
        have y100 : yc 0 = 100 := by rw [V2, h100]; rfl
        refine br_t rfl ?_
        rcases S with ⟨_, j, -, -, -, -, -, -, -, hS⟩ | ⟨-, -, hS⟩
        · exact Y0 0 _ _ _ hB hS (br_f hc' (br_f (by decide) (br_t y100 ⟨rfl, rl_in F'⟩)))
        · exact Y0 0 _ _ _ hB hS (br_f hc' (br_f (by decide) (br_t y100 ⟨rfl, rl_in F'⟩)))
      · have x100 : ¬ nI (L 0).length = 100 := fun z => h100 ((nI_eq (b := 100) (by omega) (by omega)).mp z)
        have y100 : ¬ yc 0 = 100 := by rw [V2]; exact x100
        refine br_f x100 ?_
        -- the new record, from a state whose old one is dead already
        have new : ∀ (un' : Nat) (rd' la' pa' ur' ud' uv' ua' yd' : Nat → Int32), un' + 1 ≤ 2 * (cg + 1) → un' < 80 → gx_S fn f_freeRecord ro rk rb rd' rw co le re ch la' rt sz L FR → rl_D ro rk rb rd' rv L ur' ud' uv' ua' un' dn c2 yo yk yb yd' yv yc →
            (∀ a, a ∈ L 0 → ro a = v1 → rk a = v2 → rb a ≠ nI (dn + 1) ∧ rd' a ≠ 0) → yt_l yo yk yb yd' yv 200 c2 = yt_l yo yk yb yd yv 200 c2 → (L 1).map (yt_t ro rk rb rd' rv) = (L 1).map (yt_t ro rk rb rd rv) →
            (∀ (u' : SX), (∀ v', v' = ((nI dn), (nI (cg + 1)), (nI vo), (nI ns), (nI sy), sg, (nI go), bg, cO, cK, cB, (upd yo (L 0).length v1), (upd yk (L 0).length v2), (upd yb (L 0).length (nI (dn + 1))), (upd yd' (L 0).length 0), (upd yv (L 0).length v3), (upd yc 0 (nI ((L 0).length + 1))), sn, yh) → i_Rel (k + 4) u' v') → wpY_write (fun r' v' => r' = 1 ∧ i_Rel (k + 4) u' v') ((nI dn), (nI cg), (nI vo), (nI ns), (nI sy), sg, (nI go), bg, cO, cK, cB, yo, yk, yb, yd, yv, yc, sn, yh) v1 v2 v3) →
            wX_write_125 (fun r u' => wpY_write (fun r' v' => r' = r ∧ i_Rel (k + 4) u' v') ((nI dn), (nI cg), (nI vo), (nI ns), (nI sy), sg, (nI go), bg, cO, cK, cB, yo, yk, yb, yd, yv, yc, sn, yh) v1 v2 v3) v1 v2 v3 (nI (dn + 1)) (nI fn) f_freeRecord (nI dn) (nI cg) (nI un') (nI vo) (nI ns) sg (nI sy) (nI go) cO cK cB bg fO fK fV fB ro rk rb rd' rv rw (ar_n co) (ar_n le) (ar_n re) (ar_n ch) la' rt sz pa' sp ur' ud' uv' ua' sn := by
          intro un' rd' la' pa' ur' ud' uv' ua' yd' hu1 hu2 G' D' hno eC' eM' fin
          unfold wX_write_125
          refine gx_add G' (v := 0) (by decide) (by omega) hne ?_
          intro r FR' A B co' le' re' ch' la2 pa2 rt2 sz2 fn' eF hr e G2
          have r0 : r ∉ L 0 := fun z => g5 r z (by rw [eF]; exact List.mem_cons_self ..)
          have r1 : r ∉ L 1 := fun z => (gx_ls G (v := 1) (by decide)).2.2.2.2.1 r z (by rw [eF]; exact List.mem_cons_self ..)
          refine wx_note hr hu2 (Or.inr rfl) ?_
          dsimp only
          unfold wX_write_170
          rw [nI_clamp (n := r) (by omega)]
          refine ⟨vp_in_nI hr (by decide), nm_e (nm_r (nI_1 cg) (fin _ (fun v' hv' => ?_)))⟩
          have D2 := ds_new (val := v3) (x := upd rd' r 0 r) (y := rv r) D' hdn (by omega) r0 r1 hL1 hr g3 e hno
          have eC2 : yt_l (upd yo (L 0).length v1) (upd yk (L 0).length v2) (upd yb (L 0).length (nI (dn + 1))) (upd yd' (L 0).length 0) (upd yv (L 0).length v3) 200 c2 = yt_l yo yk yb yd yv 200 c2 := (yt_ne (by omega)).trans eC'
          have eM2 : (ls_u L 0 (A ++ r :: B) 1).map (yt_t (upd ro r v1) (upd rk r v2) (upd rb r (nI (dn + 1))) (upd rd' r 0) (upd rv r v3)) = (L 1).map (yt_t ro rk rb rd rv) := by
            rw [ls_un (by decide), ← eM']
            refine List.map_congr_left (fun a ha => ?_)
            have : a ≠ r := fun z => r1 (by rw [← z]; exact ha)
            unfold yt_t
            rw [pk_un this, pk_un this, pk_un this, pk_un this, pk_un this]
          have F2 : rl_F (k + 4) fn' dn (cg + 1) (un' + 1) vo ns sy go c2 (rb r) sg bg cO cK cB fO fK fV fB (upd ro r v1) (upd rk r v2) (upd rb r (nI (dn + 1))) (upd rd' r 0) (upd rv r v3) (upd rw r (nI 0)) co' le' re' ch' la2 rt2 sz2 (upd ur' un' (nI r)) (upd ud' un' (upd rd' r 0 r)) (upd uv' un' (rv r)) (upd ua' un' 1) (upd yo (L 0).length v1) (upd yk (L 0).length v2) (upd yb (L 0).length (nI (dn + 1))) (upd yd' (L 0).length 0) (upd yv (L 0).length v3) (upd yc 0 (nI ((L 0).length + 1))) yh (ls_u L 0 (A ++ r :: B)) FR' :=
            ⟨by omega, by omega, hu1, f4, f5, f6, f7, G2, D2, by rw [eC2, eM2]; exact J, f11⟩
          rw [hv']
          exact rl_in F2
        rcases S with ⟨s, j, s1, s2, s3, s4, s5, s6, hSX, hS⟩ | ⟨sno, hSX, hS⟩
        · have hs := g3 s s1
          rw [show 100 * 0 + j = j by omega] at s6 hS
          have hz : rd s = 0 := vi_now hdn (hR _ (List.mem_map.mpr ⟨s, s1, rfl⟩)).2.2.2 s5
          refine hSX _ (br_f (nI_pos (by omega)) (wx_note hs (by omega) (Or.inl rfl) ?_))
          dsimp only
          refine gx_die G (v := 0) (by decide) s1 (fun la' pa' G' => ?_)
          have D' := ds_die G D hdn s1 hz s2 s6
          refine new (un + 1) (upd rd s (nI (dn + 1))) la' pa' _ _ _ _ (upd yd j (nI (dn + 1))) (by omega) (by omega) G' D' (fun a ha a1 a2 => ⟨fun z => bno a ha ⟨a1, a2, z⟩, fun z => ?_⟩) (eC1 j _ (by omega)) (List.map_congr_left (fun a ha => ?_)) (fun u' hu' => ?_)
          · by_cases za : a = s
            · rw [za, pk_us] at z
              exact absurd z (nI_ne0 (by omega) (by omega))
            · rw [pk_un za] at z
              have va : vi_s (rb a) (rd a) (nI (dn + 1)) := by
                refine ⟨?_, Or.inl z⟩
                have := (hR _ (List.mem_map.mpr ⟨a, ha, rfl⟩)).2.1
                rw [Int32.le_iff_toInt_le, nI_t (by omega)]
                show (rb a).toInt ≤ _
                change (rb a).toInt ≤ _ at this
                omega
              have U := gx_U (rv := rv) G (v := 0) (by decide)
              have e := iv_vis V1 U (List.mem_map.mpr ⟨a, ha, rfl⟩) (List.mem_map.mpr ⟨s, s1, rfl⟩) ⟨a1.trans s3.symm, a2.trans s4.symm⟩ (x := nI (dn + 1)) va s5
              have q : iv_q (yt_t ro rk rb rd rv a) = iv_q (yt_t ro rk rb rd rv s) := by rw [e]
              exact za (ky_in g1 a ha s s1 q)
          · have : a ≠ s := fun z => g4 s s1 (by rw [← z]; exact ha)
            unfold yt_t
            rw [pk_un this]
          · refine Y0 1 _ _ _ hB hS (br_f hc' (br_f (by decide) (br_f y100 ?_)))
            unfold wY_write_57
            refine br_f (nI_pos (by omega)) (br_f ?_ ⟨vp_in_nI (by omega) (by decide), ?_⟩)
            · intro z
              have := congrArg Int32.toInt z
              rw [nI_t (by omega), show (-1 : Int32).toInt = -1 from by decide] at this
              omega
            · rw [nI_clamp (n := j) (by omega)]
              refine nm_e ?_
              unfold wY_write_78 wY_write_113
              exact br_t (by decide) (wy_add (v := 0) (by decide) V2 (by omega) (nm_r (nI_1 cg) ⟨rfl, hu' _ (by rw [show 100 * 0 + (L 0).length = (L 0).length by omega])⟩))
        · refine hSX _ (br_t (by decide) ?_)
          refine new un rd la pa ur ud uv ua yd (by omega) (by omega) G D (fun a ha a1 a2 => ⟨fun z => bno a ha ⟨a1, a2, z⟩, fun z => sno a ha ⟨a1, a2, ?_, Or.inl z⟩⟩) rfl rfl (fun u' hu' => ?_)
          · have := (hR _ (List.mem_map.mpr ⟨a, ha, rfl⟩)).2.1
            rw [Int32.le_iff_toInt_le, nI_t (by omega)]
            change (rb a).toInt ≤ _ at this
            omega
          · refine Y0 1 _ _ _ hB hS (br_f hc' (br_f (by decide) (br_f y100 ?_)))
            unfold wY_write_57 wY_write_78 wY_write_113
            exact br_t (by decide) (br_t (by decide) (wy_add (v := 0) (by decide) V2 (by omega) (nm_r (nI_1 cg) ⟨rfl, hu' _ (by rw [show 100 * 0 + (L 0).length = (L 0).length by omega])⟩)))
end
section
/-! ===== abort, crash ===== -/
section AB
variable {f_freeRecord f_done f_changes f_undo f_volume f_snaps f_syncing f_synced f_goal f_cObj f_cKey f_cBorn f_begun f_fObj f_fKey f_fValue f_fBorn : Int32} {fn : Nat} {co le re ch : Nat → Nat} {ro rk rb rd rv rw la rt sz pa sp ur ud uv ua sn : Nat → Int32}
variable {post : Int32 → SX → Prop} {x1 : Int32} {C : List yt_T} {l1 : List Nat} {t1 : Nat → yt_T}
theorem ab_X (K : ∀ (fn' : Nat) (fr' : Int32) (rb' rd' rv' rw' : Nat → Int32) (co' re' ch' : Nat → Nat) (la' rt' sz' pa' : Nat → Int32) (L' : Nat → List Nat) (FR' : List Nat), gx_S fn' fr' ro rk rb' rd' rw' co' le re' ch' la' rt' sz' L' FR' → ((L' 0).map (yt_t ro rk rb' rd' rv')).Perm C → L' 1 = l1 → (∀ a, a ∈ l1 → yt_t ro rk rb' rd' rv' a = t1 a) →
      post x1 ((nI fn'), fr', f_done, 0, (nI 0), f_volume, f_snaps, f_syncing, f_synced, f_goal, f_cObj, f_cKey, f_cBorn, f_begun, f_fObj, f_fKey, f_fValue, f_fBorn, ro, rk, rb', rd', rv', rw', (ar_n co'), (ar_n le), (ar_n re'), (ar_n ch'), la', rt', sz', pa', sp, ur, ud, uv, ua, sn)) :
    ∀ (j f : Nat) (fn : Nat) (fr : Int32) (rb rd rv rw : Nat → Int32) (co re ch : Nat → Nat) (la rt sz pa : Nat → Int32) (L : Nat → List Nat) (FR : List Nat), j < f → j ≤ 80 → gx_S fn fr ro rk rb rd rw co le re ch la rt sz L FR → ul_U ro rk rb ur ud uv ua C j (L 0) rd rv → L 1 = l1 → (∀ a, a ∈ l1 → yt_t ro rk rb rd rv a = t1 a) →
      wX_abort_5 post x1 f (nI fn) fr f_done f_changes (nI j) f_volume f_snaps f_syncing f_synced f_goal f_cObj f_cKey f_cBorn f_begun f_fObj f_fKey f_fValue f_fBorn ro rk rb rd rv rw (ar_n co) (ar_n le) (ar_n re) (ar_n ch) la rt sz pa sp ur ud uv ua sn := by
  intro j
  induction j with
  | zero =>
    intro f fn fr rb rd rv rw co re ch la rt sz pa L FR hf _ G U e1 e2
    obtain ⟨f, rfl⟩ : ∃ g, f = g + 1 := ⟨f - 1, by omega⟩
    rw [wX_abort_5]
    exact br_t (by decide) (K fn fr rb rd rv rw co re ch la rt sz pa L FR G U e1 e2)
  | succ j ih =>
    intro f fn fr rb rd rv rw co re ch la rt sz pa L FR hf h80 G U e1 e2
    obtain ⟨f, rfl⟩ : ∃ g, f = g + 1 := ⟨f - 1, by omega⟩
    obtain ⟨r, u1, u2, u3⟩ := U
    obtain ⟨g1, g2, g3, g4, g5, g6, g7, g8, g9, g10, g11⟩ := gx_ls G (v := 0) (by decide)
    have hr := g3 r u1
    have vr : vp_in (nI r) 200 := vp_in_nI hr (by decide)
    have vj : vp_in (nI j) 80 := vp_in_nI (by omega) (by decide)
    have r1 : ∀ a, a ∈ l1 → a ≠ r := fun a ha z => g4 r u1 (by rw [← z]; show a ∈ L 1; rw [e1]; exact ha)
    rw [wX_abort_5]
    dsimp only
    rw [nI_pred, nI_clamp (n := j) (by omega)]
    refine br_f (nI_nle (by omega) (by omega)) (nm_e ⟨vj, ?_⟩)
    rw [u2]
    refine nm_e ⟨vj, ?_⟩
    rw [nI_clamp (n := j) (by omega)]
    rcases u3 with ⟨q1, A, B, q2, q3⟩ | ⟨q1, q2⟩
    · rw [q1]
      refine br_f (by decide) (gx_del G (v := 0) (by decide) u1 ?_)
      intro A' B' co' re' ch' la' pa' rt' sz' fn' e G'
      dsimp only
      have eAB : A' = A ∧ B' = B := by
        have nd := g2
        rw [e] at nd
        have nd2 := (List.perm_middle (a := r) (l₁ := A') (l₂ := B')).nodup nd
        have hn := (List.nodup_cons.mp nd2).1
        rw [e] at q2
        -- the place of r is one
        have key : ∀ (A A' B B' : List Nat), r ∉ A' ++ B' → A' ++ r :: B' = A ++ r :: B → A' = A ∧ B' = B := by
          intro A
          induction A with
          | nil =>
            intro A' B B' hn e
            cases A' with
            | nil => exact ⟨rfl, (List.cons.inj e).2⟩
            | cons a A' => exact absurd (show r ∈ a :: A' ++ B' by rw [(List.cons.inj e).1]; simp) hn
          | cons x A ihA =>
            intro A' B B' hn e
            cases A' with
            | nil =>
              have := (List.cons.inj e).2
              exact absurd (show r ∈ [] ++ B' by rw [this]; simp) hn
            | cons a A' =>
              obtain ⟨w1, w2⟩ := List.cons.inj e
              obtain ⟨w3, w4⟩ := ihA A' B B' (fun z => hn (List.mem_cons_of_mem _ z)) w2
              exact ⟨by rw [w1, w3], w4⟩
        exact key A A' B B' hn q2
      obtain ⟨rfl, rfl⟩ := eAB
      have hn : ∀ a, a ∈ A' ++ B' → a ≠ r := fun a ha z => by
        rw [e] at g2
        have nd2 := (List.perm_middle (a := r) (l₁ := A') (l₂ := B')).nodup g2
        exact (List.nodup_cons.mp nd2).1 (by rw [← z]; exact ha)
      refine ih f fn' (nI r) (upd rb r fr) rd rv (upd rw r (-1)) co' re' ch' la' rt' sz' pa' (ls_u L 0 (A' ++ B')) (r :: FR) (by omega) (by omega) G' ?_ (by rw [ls_un (by decide)]; exact e1) (fun a ha => ?_)
      · rw [ls_us]
        exact ul_cg (List.Perm.refl _) j (A' ++ B') rd rv rd rv (fun i _ => ⟨rfl, rfl, rfl, rfl⟩) (fun a ha => ⟨rfl, rfl, pk_un (hn a ha), rfl, rfl⟩) q3
      · rw [← e2 a ha]
        unfold yt_t
        rw [pk_un (r1 a ha)]
    · rw [q1, nI_clamp (n := r) (by omega)]
      have e2' : ∀ a, a ∈ l1 → yt_t ro rk rb (upd rd r (ud j)) (upd rv r (uv j)) a = t1 a := fun a ha => by
        rw [← e2 a ha]
        unfold yt_t
        rw [pk_un (r1 a ha), pk_un (r1 a ha)]
      refine br_t rfl ⟨vj, vr, nm_e ⟨vr, vj, ?_⟩⟩
      by_cases hz : rd r = ud j
      · have e0 : upd rd r (ud j) = rd := upd_id hz
        rw [e0] at q2 e2'
        exact br_t hz (ih f fn fr rb rd (upd rv r (uv j)) rw co re ch la rt sz pa L FR (by omega) (by omega) G q2 e1 e2')
      · refine br_f hz ⟨vj, gx_die G (v := 0) (by decide) u1 (fun la' pa' G' => ?_)⟩
        exact ih f fn fr rb (upd rd r (ud j)) (upd rv r (uv j)) rw co re ch la' rt sz pa' L FR (by omega) (by omega) G' q2 e1 e2'
end AB
theorem ab_rel {k : Nat} {fn dn cg un vo ns sy go c2 : Nat} {f_freeRecord sg bg cO cK cB fO fK fV fB : Int32} {ro rk rb rd rv rw : Nat → Int32} {co le re ch : Nat → Nat} {la rt sz pa sp ur ud uv ua sn yo yk yb yd yv yc yh : Nat → Int32} {L : Nat → List Nat} {FR : List Nat} (F : rl_F k fn dn cg un vo ns sy go c2 f_freeRecord sg bg cO cK cB fO fK fV fB ro rk rb rd rv rw co le re ch la rt sz ur ud uv ua yo yk yb yd yv yc yh L FR) (hk : k + 4 ≤ 2048) : wpX_abort (fun r u' => wpY_abort (fun r' v' => r' = r ∧ i_Rel (k + 4) u' v') ((nI dn), (nI cg), (nI vo), (nI ns), (nI sy), sg, (nI go), bg, cO, cK, cB, yo, yk, yb, yd, yv, yc, sn, yh)) ((nI fn), f_freeRecord, (nI dn), (nI cg), (nI un), (nI vo), (nI ns), sg, (nI sy), (nI go), cO, cK, cB, bg, fO, fK, fV, fB, ro, rk, rb, rd, rv, rw, (ar_n co), (ar_n le), (ar_n re), (ar_n ch), la, rt, sz, pa, sp, ur, ud, uv, ua, sn) := by
  obtain ⟨f1, f2, f3, f4, f5, f6, f7, G, D, J, f11⟩ := F
  obtain ⟨d1, d2, d3, d4, d5, d6, d7, d8, d9⟩ := D
  unfold wpX_abort
  dsimp only
  refine ⟨un + 1, ab_X (C := yt_l yo yk yb yd yv 200 c2) (l1 := L 1) (t1 := yt_t ro rk rb rd rv) ?_ un (un + 1) fn f_freeRecord rb rd rv rw co re ch la rt sz pa L FR (by omega) (by omega) G d7 rfl (fun _ _ => rfl)⟩
  intro fn' fr' rb' rd' rv' rw' co' re' ch' la' rt' sz' pa' L' FR' G' P' e1 e2
  have hl1 := (gx_ls G (v := 1) (by decide)).2.2.2.2.2.2.1
  have hlen : (L' 0).length = c2 := by
    have := P'.length_eq
    rw [List.length_map, yt_len] at this
    exact this
  unfold wpY_abort
  dsimp only
  refine wy_copyVol (fv := 2) (tv := 0) (by decide) (by decide) (by decide) d3 d4 ⟨rfl, ?_⟩
  rw [show 100 * 2 = 200 from rfl, show 100 * 0 = 0 from rfl]
  have eC0 : yt_l (yt_c yo 200 0 c2) (yt_c yk 200 0 c2) (yt_c yb 200 0 c2) (yt_c yd 200 0 c2) (yt_c yv 200 0 c2) 0 c2 = yt_l yo yk yb yd yv 200 c2 := yt_cp (by omega)
  have eC2 : yt_l (yt_c yo 200 0 c2) (yt_c yk 200 0 c2) (yt_c yb 200 0 c2) (yt_c yd 200 0 c2) (yt_c yv 200 0 c2) 200 c2 = yt_l yo yk yb yd yv 200 c2 := yt_cn (by omega)
  have eC1 : yt_l (yt_c yo 200 0 c2) (yt_c yk 200 0 c2) (yt_c yb 200 0 c2) (yt_c yd 200 0 c2) (yt_c yv 200 0 c2) 100 (L 1).length = yt_l yo yk yb yd yv 100 (L 1).length := yt_cn (by omega)
  have eM : (L' 1).map (yt_t ro rk rb' rd' rv') = (L 1).map (yt_t ro rk rb rd rv) := by rw [e1]; exact List.map_congr_left e2
  have F2 : rl_F (k + 4) fn' dn 0 0 vo ns sy go c2 fr' sg bg cO cK cB fO fK fV fB ro rk rb' rd' rv' rw' co' le re' ch' la' rt' sz' ur ud uv ua (yt_c yo 200 0 c2) (yt_c yk 200 0 c2) (yt_c yb 200 0 c2) (yt_c yd 200 0 c2) (yt_c yv 200 0 c2) (upd yc 0 (nI c2)) yh L' FR' := by
    refine ⟨by omega, by omega, by omega, f4, f5, f6, f7, G', ⟨by rw [pk_us, hlen], by rw [pk_un (by decide), e1]; exact d2, by rw [pk_un (by decide)]; exact d3, d4, by rw [hlen, eC0]; exact P', by rw [eM, e1, eC1]; exact d6, by rw [eC2]; exact P', ⟨fun j hj => absurd hj (by omega), fun i j _ hj => absurd hj (by omega), fun r hr hb => ?_⟩, ?_⟩, by rw [eC2, eM]; exact J, f11⟩
    · have := (d9.2.2.1 _ (P'.mem_iff.mp (List.mem_map.mpr ⟨r, hr, rfl⟩))).2.1
      change (rb' r).toInt ≤ _ at this
      rw [hb, nI_t (by omega)] at this
      omega
    · rw [eC2]
      exact iv_abort d9 (by omega) (fun x => P'.mem_iff)
  exact rl_in F2
theorem i_vc_abort {k : Nat} {u : SX} {v : SY} (I : i_Rel k u v) (hk : k + 4 ≤ 2048) : wpX_abort (fun r u' => wpY_abort (fun r' v' => r' = r ∧ i_Rel (k + 4) u' v') v) u := by
  refine rl_el (P := fun u v => wpX_abort (fun r u' => wpY_abort (fun r' v' => r' = r ∧ i_Rel (k + 4) u' v') v) u) ?_ I
  intro fn dn cg un vo ns sy go c2 f_freeRecord sg bg cO cK cB fO fK fV fB ro rk rb rd rv rw co le re ch la rt sz pa sp ur ud uv ua sn yo yk yb yd yv yc yh L FR F
  exact ab_rel F hk
theorem i_vc_crash {k : Nat} {u : SX} {v : SY} (I : i_Rel k u v) (hk : k + 4 ≤ 2048) : wpX_crash (fun r u' => wpY_crash (fun r' v' => r' = r ∧ i_Rel (k + 4) u' v') v) u := by
  refine rl_el (P := fun u v => wpX_crash (fun r u' => wpY_crash (fun r' v' => r' = r ∧ i_Rel (k + 4) u' v') v) u) ?_ I
  intro fn dn cg un vo ns sy go c2 f_freeRecord sg bg cO cK cB fO fK fV fB ro rk rb rd rv rw co le re ch la rt sz pa sp ur ud uv ua sn yo yk yb yd yv yc yh L FR F
  obtain ⟨f1, f2, f3, f4, f5, f6, f7, G, D, J, f11⟩ := F
  have F2 : rl_F k fn dn cg un 0 ns sy go c2 f_freeRecord 0 bg cO cK cB fO fK fV fB ro rk rb rd rv rw co le re ch la rt sz ur ud uv ua yo yk yb yd yv yc yh L FR := ⟨f1, f2, f3, by decide, f5, Or.inl rfl, f7, G, D, iv_crash J (by decide), f11⟩
  have t := ab_rel (pa := pa) (sp := sp) (sn := sn) F2 hk
  unfold wpX_crash wpY_crash
  dsimp only
  exact t
end
section
/-! ===== commit ===== -/
/-- the index j - 1 -/
def tk_x (j : Nat) : Int32 := if j = 0 then -1 else nI (j - 1)
theorem tk_x0 : tk_x 0 = -1 := rfl
theorem tk_xs (j : Nat) : tk_x (j + 1) = nI j := by unfold tk_x; rw [if_neg (by omega)]; rfl
theorem tk_xp (j : Nat) : nI j + (-1) = tk_x j := by
  cases j with
  | zero => decide
  | succ j => rw [tk_xs]; exact pk_m1 j
theorem tk_xm (c : Nat) : nI c - 1 = tk_x c := by
  cases c with
  | zero => decide
  | succ j => rw [tk_xs]; exact nI_pred j
/-- a loop of takes, from the end down: the first j records are as they were, behind them those that are kept -/
def tk_I (o k b d v : Nat → Int32) (p : yt_T → Bool) (a c0 j : Nat) (o' k' b' d' v' : Nat → Int32) (c : Nat) : Prop :=
  j ≤ c ∧ c ≤ c0 ∧ yt_l o' k' b' d' v' a j = yt_l o k b d v a j ∧ (yt_l o' k' b' d' v' (a + j) (c - j)).Perm ((yt_l o k b d v (a + j) (c0 - j)).filter p)
section TK
variable {o k b d v o' k' b' d' v' : Nat → Int32} {p : yt_T → Bool} {a c0 j c : Nat}
theorem tk_0 : tk_I o k b d v p a c0 c0 o k b d v c0 := ⟨Nat.le_refl _, Nat.le_refl _, rfl, by rw [Nat.sub_self]; exact List.Perm.refl _⟩
theorem tk_at (I : tk_I o k b d v p a c0 (j + 1) o' k' b' d' v' c) : yt_t o' k' b' d' v' (a + j) = yt_t o k b d v (a + j) ∧ yt_l o' k' b' d' v' a j = yt_l o k b d v a j := by
  have e := I.2.2.1
  rw [yt_add, yt_add, yt_one, yt_one] at e
  obtain ⟨e1, e2⟩ := List.append_inj' e rfl
  exact ⟨(List.cons.inj e2).1, e1⟩
theorem tk_keep (I : tk_I o k b d v p a c0 (j + 1) o' k' b' d' v' c) (hp : p (yt_t o k b d v (a + j)) = true) : tk_I o k b d v p a c0 j o' k' b' d' v' c := by
  obtain ⟨e1, e2⟩ := tk_at I
  obtain ⟨h1, h2, h3, h4⟩ := I
  refine ⟨by omega, h2, e2, ?_⟩
  rw [show c - j = 1 + (c - (j + 1)) by omega, show c0 - j = 1 + (c0 - (j + 1)) by omega, yt_add, yt_one, yt_add (c := 1), yt_one, e1, List.singleton_append, List.singleton_append, List.filter_cons_of_pos hp]
  exact h4.cons _
theorem tk_drop (I : tk_I o k b d v p a c0 (j + 1) o' k' b' d' v' c) (hp : p (yt_t o k b d v (a + j)) = false) :
    tk_I o k b d v p a c0 j (upd o' (a + j) (o' (a + (c - 1)))) (upd k' (a + j) (k' (a + (c - 1)))) (upd b' (a + j) (b' (a + (c - 1)))) (upd d' (a + j) (d' (a + (c - 1)))) (upd v' (a + j) (v' (a + (c - 1)))) (c - 1) := by
  obtain ⟨e1, e2⟩ := tk_at I
  obtain ⟨h1, h2, h3, h4⟩ := I
  obtain ⟨t1, t2⟩ := yt_tk (o := o') (k := k') (b := b') (d := d') (v := v') (a := a) (show j < c by omega)
  refine ⟨by omega, by omega, t1.trans e2, ?_⟩
  refine t2.trans ?_
  have hp' : ¬ p (yt_t o k b d v (a + j)) = true := by rw [hp]; decide
  rw [show c0 - j = 1 + (c0 - (j + 1)) by omega, yt_add (c := 1), yt_one, List.singleton_append, List.filter_cons_of_neg hp']
  exact h4
theorem tk_end (I : tk_I o k b d v p a c0 0 o' k' b' d' v' c) : (yt_l o' k' b' d' v' a c).Perm ((yt_l o k b d v a c0).filter p) := I.2.2.2
end TK
theorem iv_Hc {H C C' : List yt_T} {dn : Int} (I : iv_H H C dn) (m : ∀ x, x ∈ C' ↔ x ∈ C) : iv_H H C' dn := by
  obtain ⟨h1, h2, h3, h4, h5⟩ := I
  refine ⟨h1, h2, fun x hx => h3 x ((m x).mp hx), fun x hx hb => ?_, fun c hc => h5 c ((m c).mp hc)⟩
  obtain ⟨c, c1, c2⟩ := h4 x hx hb
  exact ⟨c, (m c).mpr c1, c2⟩
section CX
variable {f_freeRecord f_done f_changes f_undo f_volume f_snaps f_syncing f_synced f_goal f_cObj f_cKey f_cBorn f_begun f_fObj f_fKey f_fValue f_fBorn : Int32} {fn : Nat} {co le re ch : Nat → Nat} {ro rk rb rd rv rw la rt sz pa sp ur ud uv ua sn : Nat → Int32}
variable {post : Int32 → SX → Prop} {l0 l1 : List Nat} {rb0 : Nat → Int32} {un : Nat}
theorem cm_X (lg1 : ∀ j, j < un → ∃ r, r ∈ l0 ∧ ur j = nI r ∧ (ua j = 0 ∨ ua j = 1)) (lg2 : ∀ i j, i < j → j < un → ua i = 1 → ua j = 1 → ur i ≠ ur j) (h80 : un ≤ 80) (hl0 : ∀ a, a ∈ l0 → a < 200)
    (K : ∀ (fn' : Nat) (fr' : Int32) (rb' rw' : Nat → Int32) (co' re' ch' : Nat → Nat) (la' rt' sz' pa' : Nat → Int32) (L' : Nat → List Nat) (FR' : List Nat), gx_S fn' fr' ro rk rb' rd rw' co' le re' ch' la' rt' sz' L' FR' →
      (∀ r, r ∈ L' 0 ↔ r ∈ l0 ∧ ¬ ∃ j, j < un ∧ ua j = 1 ∧ ur j = nI r ∧ rd r = f_done) → (∀ a, a ∈ L' 0 → rb' a = rb0 a) → L' 1 = l1 → (∀ a, a ∈ l1 → rb' a = rb0 a) →
      post f_done ((nI fn'), fr', f_done, 0, (nI 0), f_volume, f_snaps, f_syncing, f_synced, f_goal, f_cObj, f_cKey, f_cBorn, f_begun, f_fObj, f_fKey, f_fValue, f_fBorn, ro, rk, rb', rd, rv, rw', (ar_n co'), (ar_n le), (ar_n re'), (ar_n ch'), la', rt', sz', pa', sp, ur, ud, uv, ua, sn)) :
    ∀ (f i : Nat) (fn : Nat) (fr : Int32) (rb rw : Nat → Int32) (co re ch : Nat → Nat) (la rt sz pa : Nat → Int32) (L : Nat → List Nat) (FR : List Nat), i ≤ un → un < f + i → gx_S fn fr ro rk rb rd rw co le re ch la rt sz L FR →
      (∀ r, r ∈ L 0 ↔ r ∈ l0 ∧ ¬ ∃ j, j < i ∧ ua j = 1 ∧ ur j = nI r ∧ rd r = f_done) → (∀ a, a ∈ L 0 → rb a = rb0 a) → L 1 = l1 → (∀ a, a ∈ l1 → rb a = rb0 a) →
      wX_commit_24 post f (nI i) (nI fn) fr f_done f_changes (nI un) f_volume f_snaps f_syncing f_synced f_goal f_cObj f_cKey f_cBorn f_begun f_fObj f_fKey f_fValue f_fBorn ro rk rb rd rv rw (ar_n co) (ar_n le) (ar_n re) (ar_n ch) la rt sz pa sp ur ud uv ua sn := by
  intro f
  induction f with
  | zero => intro i fn fr rb rw co re ch la rt sz pa L FR _ h; omega
  | succ f ih =>
    intro i fn fr rb rw co re ch la rt sz pa L FR hi hf G m1 m2 m3 m4
    rw [wX_commit_24]
    by_cases e : i = un
    · subst e
      exact br_t (Int32.le_refl _) (K fn fr rb rw co re ch la rt sz pa L FR G m1 m2 m3 m4)
    · have vi : vp_in (nI i) 80 := vp_in_nI (by omega) (by decide)
      obtain ⟨r, r1, r2, r3⟩ := lg1 i (by omega)
      have hr := hl0 r r1
      -- nothing happens at i
      have skip : ¬ (ua i = 1 ∧ rd r = f_done) → wX_commit_24 post f (nI (i + 1)) (nI fn) fr f_done f_changes (nI un) f_volume f_snaps f_syncing f_synced f_goal f_cObj f_cKey f_cBorn f_begun f_fObj f_fKey f_fValue f_fBorn ro rk rb rd rv rw (ar_n co) (ar_n le) (ar_n re) (ar_n ch) la rt sz pa sp ur ud uv ua sn := fun no => by
        refine ih (i + 1) fn fr rb rw co re ch la rt sz pa L FR (by omega) (by omega) G (fun a => ?_) m2 m3 m4
        rw [m1 a]
        refine and_congr_right (fun hal => not_congr ⟨?_, ?_⟩)
        · rintro ⟨j, h1, h2⟩
          exact ⟨j, by omega, h2⟩
        · rintro ⟨j, h1, h2, h3, h4⟩
          rcases Nat.lt_or_ge j i with z | z
          · exact ⟨j, z, h2, h3, h4⟩
          · have : j = i := by omega
            subst this
            rw [r2] at h3
            have := (nI_eq (by omega) (by have := hl0 a hal; omega)).mp h3
            rw [← this] at h4
            exact absurd ⟨h2, h4⟩ no
      dsimp only
      rw [nI_clamp (n := i) (by omega), r2]
      refine br_f (nI_ge (by omega) (by omega)) ⟨vi, ?_⟩
      rcases r3 with z | z
      · rw [z]
        exact br_t rfl (nm_r (nI_1 i) (skip (fun y => absurd (z.symm.trans y.1) (by decide))))
      · rw [z, nI_clamp (n := r) (by omega)]
        refine br_f (by decide) ⟨vi, vp_in_nI hr (by decide), ?_⟩
        by_cases hd : rd r = f_done
        · have rL : r ∈ L 0 := (m1 r).mpr ⟨r1, fun ⟨j, h1, h2, h3, h4⟩ => lg2 j i h1 (by omega) h2 z (h3.trans r2.symm)⟩
          obtain ⟨g1, g2, g3, g4, g5, g6, g7, g8, g9, g10, g11⟩ := gx_ls G (v := 0) (by decide)
          refine br_t hd ⟨vi, gx_del G (v := 0) (by decide) rL ?_⟩
          intro A B co' re' ch' la' pa' rt' sz' fn' e G'
          refine nm_r (nI_1 i) ?_
          have hn : r ∉ A ++ B := by
            rw [e] at g2
            exact (List.nodup_cons.mp ((List.perm_middle (a := r) (l₁ := A) (l₂ := B)).nodup g2)).1
          have mAB : ∀ a, a ∈ A ++ B ↔ a ∈ L 0 ∧ a ≠ r := fun a => by
            rw [e]
            constructor
            · intro ha
              refine ⟨?_, fun z => hn (by rw [← z]; exact ha)⟩
              rcases List.mem_append.mp ha with y | y <;> simp [y]
            · rintro ⟨ha, hne⟩
              rcases List.mem_append.mp ha with y | y
              · simp [y]
              · rcases List.mem_cons.mp y with y | y
                · exact absurd y hne
                · simp [y]
          refine ih (i + 1) fn' (nI r) (upd rb r fr) (upd rw r (-1)) co' re' ch' la' rt' sz' pa' (ls_u L 0 (A ++ B)) (r :: FR) (by omega) (by omega) G' (fun a => ?_) (fun a ha => ?_) (by rw [ls_un (by decide)]; exact m3) (fun a ha => ?_)
          · rw [ls_us, mAB a, m1 a]
            constructor
            · rintro ⟨⟨h1, h2⟩, h3⟩
              refine ⟨h1, ?_⟩
              rintro ⟨j, q1, q2, q3, q4⟩
              rcases Nat.lt_or_ge j i with y | y
              · exact h2 ⟨j, y, q2, q3, q4⟩
              · have : j = i := by omega
                subst this
                rw [r2] at q3
                exact h3 ((nI_eq (by omega) (by have := hl0 a h1; omega)).mp q3).symm
            · rintro ⟨h1, h2⟩
              refine ⟨⟨h1, fun ⟨j, q1, q2⟩ => h2 ⟨j, by omega, q2⟩⟩, fun y => h2 ⟨i, by omega, z, by rw [r2, y], by rw [y]; exact hd⟩⟩
          · rw [ls_us] at ha
            obtain ⟨q1, q2⟩ := (mAB a).mp ha
            rw [pk_un q2]
            exact m2 a q1
          · rw [pk_un (fun y => g4 r rL (by show r ∈ L 1; rw [m3, ← y]; exact ha))]
            exact m4 a ha
        · exact br_f hd (nm_r (nI_1 i) (skip (fun y => hd y.2)))
end CX
section CY
variable {g_done g_changes g_volume g_snaps g_upTo g_underWay g_goal g_anySent g_lastObj g_lastKey g_lastBorn : Int32} {yo yk yb yd yv yc ys yh : Nat → Int32}
variable {post : Int32 → SY → Prop} {oo ok_ ob od ov : Nat → Int32} {c0 : Nat} {now y1 : Int32} {l1 : List yt_T} {c1 : Nat}
def cm_p (now : Int32) (t : yt_T) : Bool := !(decide (t.2.2.1 = now) && decide (t.2.2.2.1 = now))
theorem cm_pf {t : yt_T} (h1 : t.2.2.1 = now) (h2 : t.2.2.2.1 = now) : cm_p now t = false := by unfold cm_p; rw [decide_eq_true h1, decide_eq_true h2]; rfl
theorem cm_pt {t : yt_T} (h : ¬ (t.2.2.1 = now ∧ t.2.2.2.1 = now)) : cm_p now t = true := by
  unfold cm_p
  by_cases z : t.2.2.1 = now
  · rw [decide_eq_true z, decide_eq_false (fun y => h ⟨z, y⟩)]; rfl
  · rw [decide_eq_false z]; rfl
theorem cm_iff {t : yt_T} : cm_p now t = true ↔ ¬ (t.2.2.1 = now ∧ t.2.2.2.1 = now) := by
  constructor
  · intro h z
    rw [cm_pf z.1 z.2] at h
    exact absurd h (by decide)
  · exact cm_pt
theorem cm_Y (hc0 : c0 ≤ 100) (h11 : c1 ≤ 100)
    (K : ∀ (yo' yk' yb' yd' yv' yc' : Nat → Int32) (c : Nat), tk_I oo ok_ ob od ov (cm_p g_done) 0 c0 0 yo' yk' yb' yd' yv' c → yc' 0 = nI c → yc' 1 = y1 → yt_l yo' yk' yb' yd' yv' 100 c1 = l1 → post g_done (g_done, 0, g_volume, g_snaps, g_upTo, g_underWay, g_goal, g_anySent, g_lastObj, g_lastKey, g_lastBorn, (yt_c yo' 0 200 c), (yt_c yk' 0 200 c), (yt_c yb' 0 200 c), (yt_c yd' 0 200 c), (yt_c yv' 0 200 c), (upd yc' 2 (nI c)), ys, yh)) :
    ∀ (j f : Nat) (yo yk yb yd yv yc : Nat → Int32) (c : Nat), j < f → tk_I oo ok_ ob od ov (cm_p g_done) 0 c0 j yo yk yb yd yv c → yc 0 = nI c → yc 1 = y1 → yt_l yo yk yb yd yv 100 c1 = l1 → wY_commit_31 post f (tk_x j) g_done g_changes g_volume g_snaps g_upTo g_underWay g_goal g_anySent g_lastObj g_lastKey g_lastBorn yo yk yb yd yv yc ys yh := by
  intro j
  induction j with
  | zero =>
    intro f yo yk yb yd yv yc c hf I h0 h1 hl
    obtain ⟨f, rfl⟩ : ∃ g, f = g + 1 := ⟨f - 1, by omega⟩
    rw [wY_commit_31, tk_x0]
    have hc := I.2.1
    exact br_t (by decide) (wy_copyVol (fv := 0) (tv := 2) (by decide) (by decide) (by decide) h0 (by omega) (K yo yk yb yd yv yc c I h0 h1 hl))
  | succ j ih =>
    intro f yo yk yb yd yv yc c hf I h0 h1 hl
    obtain ⟨f, rfl⟩ : ∃ g, f = g + 1 := ⟨f - 1, by omega⟩
    have hj := I.1
    have hc := I.2.1
    have vj : vp_in (nI j) 300 := vp_in_nI (by omega) (by decide)
    obtain ⟨ea, -⟩ := tk_at I
    rw [Nat.zero_add] at ea
    have eb : yb j = ob j := congrArg (fun z : yt_T => z.2.2.1) ea
    have ed : yd j = od j := congrArg (fun z : yt_T => z.2.2.2.1) ea
    rw [wY_commit_31, tk_xs]
    dsimp only
    rw [nI_clamp (n := j) (by omega)]
    have keep : ¬ (yb j = g_done ∧ yd j = g_done) → wY_commit_31 post f (tk_x j) g_done g_changes g_volume g_snaps g_upTo g_underWay g_goal g_anySent g_lastObj g_lastKey g_lastBorn yo yk yb yd yv yc ys yh := fun no => by
      refine ih f yo yk yb yd yv yc c (by omega) (tk_keep I (cm_pt ?_)) h0 h1 hl
      rw [Nat.zero_add]
      show ¬ (ob j = g_done ∧ od j = g_done)
      rw [← eb, ← ed]
      exact no
    refine br_f (nI_pos (by omega)) ⟨vj, br_c (fun e1 => ⟨vj, br_c (fun e2 => ?_) (fun e2 => nm_r (tk_xp j) (keep (fun z => e2 z.2)))⟩) (fun e1 => nm_r (tk_xp j) (keep (fun z => e1 z.1)))⟩
    refine wy_take (v := 0) (by decide) h0 (by omega) (by omega) (by omega) (nm_r (tk_xp j) ?_)
    have t := tk_drop I (cm_pf (t := yt_t oo ok_ ob od ov (0 + j)) (by rw [Nat.zero_add]; show ob j = _; rw [← eb]; exact e1) (by rw [Nat.zero_add]; show od j = _; rw [← ed]; exact e2))
    rw [show (0 : Nat) + j = j by omega] at t
    refine ih f (upd yo j (yo (0 + (c - 1)))) (upd yk j (yk (0 + (c - 1)))) (upd yb j (yb (0 + (c - 1)))) (upd yd j (yd (0 + (c - 1)))) (upd yv j (yv (0 + (c - 1)))) (upd yc 0 (nI (c - 1))) (c - 1) (by omega) t pk_us (by rw [pk_un (by decide)]; exact h1) ?_
    rw [yt_ne (by omega)]
    exact hl
end CY
theorem i_vc_commit {k : Nat} {u : SX} {v : SY} (I : i_Rel k u v) (hk : k + 4 ≤ 2048) : wpX_commit (fun r u' => wpY_commit (fun r' v' => r' = r ∧ i_Rel (k + 4) u' v') v) u := by
  refine rl_el (P := fun u v => wpX_commit (fun r u' => wpY_commit (fun r' v' => r' = r ∧ i_Rel (k + 4) u' v') v) u) ?_ I
  intro fn dn cg un vo ns sy go c2 f_freeRecord sg bg cO cK cB fO fK fV fB ro rk rb rd rv rw co le re ch la rt sz pa sp ur ud uv ua sn yo yk yb yd yv yc yh L FR F
  have F' : rl_F (k + 4) fn dn cg un vo ns sy go c2 f_freeRecord sg bg cO cK cB fO fK fV fB ro rk rb rd rv rw co le re ch la rt sz ur ud uv ua yo yk yb yd yv yc yh L FR := ⟨Nat.le_trans F.1 (Nat.le_add_right k 4), F.2⟩
  obtain ⟨f1, f2, f3, f4, f5, f6, f7, G, D, J, f11⟩ := F
  obtain ⟨d1, d2, d3, d4, d5, d6, d7, d8, d9⟩ := D
  obtain ⟨g1, g2, g3, g4, g5, g6, g7, g8, g9, g10, g11⟩ := gx_ls G (v := 0) (by decide)
  have hl1 := (gx_ls G (v := 1) (by decide)).2.2.2.2.2.2.1
  by_cases hc : cg = 0
  · subst hc
    exact br_t rfl (br_t rfl ⟨rfl, rl_in F'⟩)
  · have hc' : ¬ nI cg = 0 := nI_ne0 (by omega) (by omega)
    refine br_f hc' (nm_r (nI_1 dn) ⟨un + 1, cm_X (l0 := L 0) (l1 := L 1) (rb0 := rb) (fun j hj => ?_) d8.2.1 (by omega) g3 ?_ (un + 1) 0 fn f_freeRecord rb rw co re ch la rt sz pa L FR (by omega) (by omega) G (fun r => ⟨fun h => ⟨h, fun ⟨j, z, _⟩ => absurd z (by omega)⟩, fun h => h.1⟩) (fun _ _ => rfl) rfl (fun _ _ => rfl)⟩)
    · obtain ⟨r, q1, q2, q3⟩ := d8.1 j hj
      exact ⟨r, q1, q2, q3.imp id (fun z => z.1)⟩
    · intro fn' fr' rb' rw' co' re' ch' la' rt' sz' pa' L' FR' G' m1 m2 m3 m4
      refine br_f hc' (nm_r (nI_1 dn) ?_)
      rw [d1, tk_xm]
      refine nm_e ⟨(L 0).length + 1, cm_Y (oo := yo) (ok_ := yk) (ob := yb) (od := yd) (ov := yv) (c0 := (L 0).length) (c1 := (L 1).length) (y1 := yc 1) (l1 := yt_l yo yk yb yd yv 100 (L 1).length) (by omega) (by omega) ?_ (L 0).length ((L 0).length + 1) yo yk yb yd yv yc (L 0).length (by omega) tk_0 d1 rfl rfl⟩
      intro yo' yk' yb' yd' yv' yc' c TI y0 y1 yl1
      have hcc := TI.2.1
      have PE := tk_end TI
      -- who stays
      have stay : ∀ r, r ∈ L' 0 ↔ r ∈ L 0 ∧ ¬ (rb r = nI (dn + 1) ∧ rd r = nI (dn + 1)) := fun r => by
        rw [m1 r]
        refine and_congr_right (fun hr => not_congr ⟨?_, ?_⟩)
        · rintro ⟨j, q1, q2, q3, q4⟩
          obtain ⟨a, w1, w2, w3⟩ := d8.1 j q1
          have ea : a = r := (nI_eq (by have := g3 a w1; omega) (by have := g3 r hr; omega)).mp (w2.symm.trans q3)
          subst ea
          rcases w3 with w3 | w3
          · exact absurd (w3.symm.trans q2) (by decide)
          · exact ⟨w3.2, q4⟩
        · rintro ⟨q1, q2⟩
          obtain ⟨j, w1, w2, w3⟩ := d8.2.2 r hr q1
          exact ⟨j, w1, w2, w3, q2⟩
      have tX' : ∀ a, a ∈ L' 0 → yt_t ro rk rb' rd rv a = yt_t ro rk rb rd rv a := fun a ha => by unfold yt_t; rw [m2 a ha]
      have eH : (L' 0).map (yt_t ro rk rb' rd rv) = (L' 0).map (yt_t ro rk rb rd rv) := List.map_congr_left tX'
      have nd' : (L' 0).Nodup := (gx_ls G' (v := 0) (by decide)).2.1
      have pL : (L' 0).Perm ((L 0).filter (fun r => cm_p (nI (dn + 1)) (yt_t ro rk rb rd rv r))) := by
        refine (List.perm_ext_iff_of_nodup nd' (List.Pairwise.filter _ g2)).mpr (fun r => ?_)
        rw [stay r, List.mem_filter, cm_iff]
        exact Iff.rfl
      have PH : ((L' 0).map (yt_t ro rk rb' rd rv)).Perm (yt_l yo' yk' yb' yd' yv' 0 c) := by
        rw [eH]
        have t1 := (pL.map (yt_t ro rk rb rd rv))
        rw [show ((L 0).filter (fun r => cm_p (nI (dn + 1)) (yt_t ro rk rb rd rv r))).map (yt_t ro rk rb rd rv) = ((L 0).map (yt_t ro rk rb rd rv)).filter (cm_p (nI (dn + 1))) by rw [List.filter_map]; rfl] at t1
        exact t1.trans ((d5.filter _).trans PE.symm)
      have hlen : (L' 0).length = c := by
        have := PH.length_eq
        rw [List.length_map, yt_len] at this
        exact this
      refine ⟨rfl, ?_⟩
      have eC0 : yt_l (yt_c yo' 0 200 c) (yt_c yk' 0 200 c) (yt_c yb' 0 200 c) (yt_c yd' 0 200 c) (yt_c yv' 0 200 c) 0 c = yt_l yo' yk' yb' yd' yv' 0 c := yt_cn (by omega)
      have eC2 : yt_l (yt_c yo' 0 200 c) (yt_c yk' 0 200 c) (yt_c yb' 0 200 c) (yt_c yd' 0 200 c) (yt_c yv' 0 200 c) 200 c = yt_l yo' yk' yb' yd' yv' 0 c := yt_cp (by omega)
      have eC1 : yt_l (yt_c yo' 0 200 c) (yt_c yk' 0 200 c) (yt_c yb' 0 200 c) (yt_c yd' 0 200 c) (yt_c yv' 0 200 c) 100 (L 1).length = yt_l yo yk yb yd yv 100 (L 1).length := (yt_cn (by omega)).trans yl1
      have eM : (L' 1).map (yt_t ro rk rb' rd rv) = (L 1).map (yt_t ro rk rb rd rv) := by rw [m3]; exact List.map_congr_left (fun a ha => by unfold yt_t; rw [m4 a ha])
      have CI := iv_commit (H' := (L' 0).map (yt_t ro rk rb' rd rv)) d9 J (by omega) (fun x => by
        rw [eH]
        constructor
        · intro hx
          obtain ⟨a, ha, rfl⟩ := List.mem_map.mp hx
          obtain ⟨q1, q2⟩ := (stay a).mp ha
          refine ⟨List.mem_map.mpr ⟨a, q1, rfl⟩, fun ⟨z1, z2⟩ => q2 ⟨Int32.toInt_inj.mp ?_, Int32.toInt_inj.mp ?_⟩⟩
          · change (rb a).toInt = _ at z1
            rw [z1, nI_t (by omega)]; omega
          · change (rd a).toInt = _ at z2
            rw [z2, nI_t (by omega)]; omega
        · rintro ⟨hx, hn⟩
          obtain ⟨a, ha, rfl⟩ := List.mem_map.mp hx
          refine List.mem_map.mpr ⟨a, (stay a).mpr ⟨ha, fun ⟨z1, z2⟩ => hn ⟨?_, ?_⟩⟩, rfl⟩
          · show (rb a).toInt = _
            rw [z1, nI_t (by omega)]; omega
          · show (rd a).toInt = _
            rw [z2, nI_t (by omega)]; omega)
      obtain ⟨CI1, CI2⟩ := CI
      have mC : ∀ x, x ∈ yt_l yo' yk' yb' yd' yv' 0 c ↔ x ∈ (L' 0).map (yt_t ro rk rb' rd rv) := fun x => PH.symm.mem_iff
      have cd : ((dn + 1 : Nat) : Int) = (dn : Int) + 1 := by omega
      have F2 : rl_F (k + 4) fn' (dn + 1) 0 0 vo ns sy go c fr' sg bg cO cK cB fO fK fV fB ro rk rb' rd rv rw' co' le re' ch' la' rt' sz' ur ud uv ua (yt_c yo' 0 200 c) (yt_c yk' 0 200 c) (yt_c yb' 0 200 c) (yt_c yd' 0 200 c) (yt_c yv' 0 200 c) (upd yc' 2 (nI c)) yh L' FR' := by
        refine ⟨by omega, by omega, by omega, f4, f5, f6, f7, G', ⟨by rw [pk_un (by decide), y0, hlen], by rw [pk_un (by decide), y1, m3]; exact d2, pk_us, by omega, by rw [hlen, eC0]; exact PH, by rw [eM, m3, eC1]; exact d6, by rw [eC2]; exact PH, ⟨fun j hj => absurd hj (by omega), fun i j _ hj => absurd hj (by omega), fun r hr hb => ?_⟩, ?_⟩, ?_, f11⟩
        · have := (CI1.2.2.1 _ (List.mem_map.mpr ⟨r, hr, rfl⟩)).2.1
          change (rb' r).toInt ≤ _ at this
          rw [hb, nI_t (by omega)] at this
          omega
        · rw [eC2, cd]
          exact iv_Hc CI1 mC
        · rw [eC2, eM, cd]
          exact iv_Cc CI2 mC
      exact rl_in F2
end
section
/-! ===== prune ===== -/
/-- some snapshot sees it -/
def pr_n (sn : Nat → Int32) (ns : Nat) (b d : Int32) : Prop := ∃ i, i < ns ∧ vi_s b d (sn i)
def pr_D (sn : Nat → Int32) (ns : Nat) (lim b d : Int32) : Prop := d ≠ 0 ∧ d ≤ lim ∧ ¬ pr_n sn ns b d
section PX
variable {f_freeRecord f_done f_changes f_undo f_volume f_snaps f_syncing f_synced f_goal f_cObj f_cKey f_cBorn f_begun f_fObj f_fKey f_fValue f_fBorn : Int32} {fn : Nat} {co le re ch : Nat → Nat} {ro rk rb rd rv rw la rt sz pa sp ur ud uv ua sn : Nat → Int32}
variable {post : Int32 → SX → Prop} {vo ns : Nat} {lim : Int32}
theorem pr_80 {J : Int32 → Int32 → Int32 → Int32 → Int32 → Int32 → Int32 → Int32 → Int32 → Int32 → Int32 → Int32 → Int32 → Int32 → Int32 → Int32 → Int32 → Int32 → Int32 → Int32 → (Nat → Int32) → (Nat → Int32) → (Nat → Int32) → (Nat → Int32) → (Nat → Int32) → (Nat → Int32) → (Nat → Int32) → (Nat → Int32) → (Nat → Int32) → (Nat → Int32) → (Nat → Int32) → (Nat → Int32) → (Nat → Int32) → (Nat → Int32) → (Nat → Int32) → (Nat → Int32) → (Nat → Int32) → (Nat → Int32) → (Nat → Int32) → (Nat → Int32) → Prop} {x1 x2 : Int32} {r : Nat} (hr : r < 200) (h4 : ns ≤ 4)
    (K1 : pr_n sn ns (rb r) (rd r) → J x1 (nI (r + 1)) (nI fn) f_freeRecord f_done f_changes f_undo f_volume (nI ns) f_syncing f_synced f_goal f_cObj f_cKey f_cBorn f_begun f_fObj f_fKey f_fValue f_fBorn ro rk rb rd rv rw (ar_n co) (ar_n le) (ar_n re) (ar_n ch) la rt sz pa sp ur ud uv ua sn) (K0 : ¬ pr_n sn ns (rb r) (rd r) → ∀ Q : SX → Prop, (∀ (e1 e2 e3 e4 e5 e6 e7 e8 e9 e10 e11 e12 e13 e14 e15 e16 e17 e18 : Int32) (b1 b2 b3 b4 b5 b6 b7 b8 b9 b10 b11 b12 b13 b14 b15 b16 b17 b18 b19 b20 : Nat → Int32), J (x1 + 1) (nI (r + 1)) e1 e2 e3 e4 e5 e6 e7 e8 e9 e10 e11 e12 e13 e14 e15 e16 e17 e18 b1 b2 b3 b4 b5 b6 b7 b8 b9 b10 b11 b12 b13 b14 b15 b16 b17 b18 b19 b20 → Q (e1, e2, e3, e4, e5, e6, e7, e8, e9, e10, e11, e12, e13, e14, e15, e16, e17, e18, b1, b2, b3, b4, b5, b6, b7, b8, b9, b10, b11, b12, b13, b14, b15, b16, b17, b18, b19, b20)) → wpX_delete Q ((nI fn), f_freeRecord, f_done, f_changes, f_undo, f_volume, (nI ns), f_syncing, f_synced, f_goal, f_cObj, f_cKey, f_cBorn, f_begun, f_fObj, f_fKey, f_fValue, f_fBorn, ro, rk, rb, rd, rv, rw, (ar_n co), (ar_n le), (ar_n re), (ar_n ch), la, rt, sz, pa, sp, ur, ud, uv, ua, sn) (nI r)) :
    ∀ (f i : Nat) (kp : Int32), i ≤ ns → ns < f + i → (kp = 0 ∧ (∀ j, j < i → ¬ vi_s (rb r) (rd r) (sn j)) ∨ kp = 1 ∧ pr_n sn ns (rb r) (rd r)) → wX_prune_80 post J x1 x2 (nI r) (nI fn) f_freeRecord f_done f_changes f_undo f_volume (nI ns) f_syncing f_synced f_goal f_cObj f_cKey f_cBorn f_begun f_fObj f_fKey f_fValue f_fBorn ro rk rb rd rv rw (ar_n co) (ar_n le) (ar_n re) (ar_n ch) la rt sz pa sp ur ud uv ua sn f kp (nI i) := by
  intro f
  induction f with
  | zero => intro i kp _ h; omega
  | succ f ih =>
    intro i kp hi hf hk
    rw [wX_prune_80]
    dsimp only
    by_cases e : i = ns
    · subst e
      refine br_t (Int32.le_refl _) ?_
      rcases hk with ⟨rfl, h⟩ | ⟨rfl, h⟩
      · refine br_t rfl ?_
        exact K0 (fun ⟨j, j1, j2⟩ => h j j1 j2) _ (fun e1 e2 e3 e4 e5 e6 e7 e8 e9 e10 e11 e12 e13 e14 e15 e16 e17 e18 b1 b2 b3 b4 b5 b6 b7 b8 b9 b10 b11 b12 b13 b14 b15 b16 b17 b18 b19 b20 hJ => nm_e (nm_r (nI_1 r) hJ))
      · exact br_f (by decide) (nm_r (nI_1 r) (K1 h))
    · rw [nI_clamp (n := i) (by omega)]
      refine br_f (nI_ge (by omega) (by omega)) ⟨vp_in_nI (by omega) (by decide), wx_visible hr (fun z => ?_) (fun z => ?_)⟩
      · refine nm_e (nm_r (nI_1 i) (ih (i + 1) _ (by omega) (by omega) (Or.inr ⟨?_, i, by omega, z⟩)))
        rcases hk with ⟨rfl, _⟩ | ⟨rfl, _⟩ <;> decide
      · refine nm_e (nm_r (nI_1 i) (ih (i + 1) _ (by omega) (by omega) ?_))
        rcases hk with ⟨rfl, h⟩ | ⟨rfl, h⟩
        · exact Or.inl ⟨by decide, lt_s h z⟩
        · exact Or.inr ⟨by decide, h⟩
theorem pr_X {l0 l1 : List Nat} {rb0 : Nat → Int32} (hv : vo < 2) (h4 : ns ≤ 4) (hl0 : l0.length ≤ 100)
    (K : ∀ (fn' : Nat) (fr' : Int32) (rb' rw' : Nat → Int32) (co' re' ch' : Nat → Nat) (la' rt' sz' pa' : Nat → Int32) (L' : Nat → List Nat) (FR' : List Nat) (n' : Nat), gx_S fn' fr' ro rk rb' rd rw' co' le re' ch' la' rt' sz' L' FR' →
      (∀ a, a ∈ L' vo ↔ a ∈ l0 ∧ ¬ pr_D sn ns lim (rb0 a) (rd a)) → (∀ a, a ∈ L' vo → rb' a = rb0 a) → L' (1 - vo) = l1 → (∀ a, a ∈ l1 → rb' a = rb0 a) → n' + (L' vo).length = l0.length →
      post (nI n') ((nI fn'), fr', f_done, f_changes, f_undo, (nI vo), (nI ns), f_syncing, f_synced, f_goal, f_cObj, f_cKey, f_cBorn, f_begun, f_fObj, f_fKey, f_fValue, f_fBorn, ro, rk, rb', rd, rv, rw', (ar_n co'), (ar_n le), (ar_n re'), (ar_n ch'), la', rt', sz', pa', sp, ur, ud, uv, ua, sn)) :
    ∀ (f r : Nat) (fn : Nat) (fr : Int32) (rb rw : Nat → Int32) (co re ch : Nat → Nat) (la rt sz pa : Nat → Int32) (L : Nat → List Nat) (FR : List Nat) (m : Nat), r ≤ 200 → 200 < f + r → gx_S fn fr ro rk rb rd rw co le re ch la rt sz L FR →
      (∀ a, a ∈ L vo ↔ a ∈ l0 ∧ ¬ (a < r ∧ pr_D sn ns lim (rb0 a) (rd a))) → (∀ a, a ∈ L vo → rb a = rb0 a) → L (1 - vo) = l1 → (∀ a, a ∈ l1 → rb a = rb0 a) → m + (L vo).length = l0.length →
      wX_prune_32 post lim f (nI m) (nI r) (nI fn) fr f_done f_changes f_undo (nI vo) (nI ns) f_syncing f_synced f_goal f_cObj f_cKey f_cBorn f_begun f_fObj f_fKey f_fValue f_fBorn ro rk rb rd rv rw (ar_n co) (ar_n le) (ar_n re) (ar_n ch) la rt sz pa sp ur ud uv ua sn := by
  intro f
  induction f with
  | zero => intro r fn fr rb rw co re ch la rt sz pa L FR m _ h; omega
  | succ f ih =>
    intro r fn fr rb rw co re ch la rt sz pa L FR m hr hf G m1 m2 m3 m4 m5
    obtain ⟨g1, g2, g3, g4, g5, g6, g7, g8, g9, g10, g11⟩ := gx_ls G hv
    rw [wX_prune_32]
    by_cases e : r = 200
    · subst e
      refine br_t (show (200 : Int32) ≤ nI 200 by decide) (K fn fr rb rw co re ch la rt sz pa L FR m G (fun a => ?_) m2 m3 m4 m5)
      rw [m1 a]
      refine and_congr_right (fun ha => not_congr ⟨fun z => z.2, fun z => ⟨?_, z⟩⟩)
      by_cases q : a < 200
      · exact q
      · exact absurd (g3 a ((m1 a).mpr ⟨ha, fun z => q (by omega)⟩)) q
    · have vr : vp_in (nI r) 200 := vp_in_nI (by omega) (by decide)
      -- r stays, or isn't of this volume
      have skip : (r ∈ L vo → ¬ pr_D sn ns lim (rb0 r) (rd r)) → wX_prune_32 post lim f (nI m) (nI (r + 1)) (nI fn) fr f_done f_changes f_undo (nI vo) (nI ns) f_syncing f_synced f_goal f_cObj f_cKey f_cBorn f_begun f_fObj f_fKey f_fValue f_fBorn ro rk rb rd rv rw (ar_n co) (ar_n le) (ar_n re) (ar_n ch) la rt sz pa sp ur ud uv ua sn := fun no => by
        refine ih (r + 1) fn fr rb rw co re ch la rt sz pa L FR m (by omega) (by omega) G (fun a => ?_) m2 m3 m4 m5
        constructor
        · intro ha
          refine ⟨((m1 a).mp ha).1, fun ⟨z1, z2⟩ => ?_⟩
          rcases Nat.lt_or_ge a r with y | y
          · exact ((m1 a).mp ha).2 ⟨y, z2⟩
          · have : a = r := by omega
            subst this
            exact no ha z2
        · rintro ⟨h1, h2⟩
          exact (m1 a).mpr ⟨h1, fun ⟨z1, z2⟩ => h2 ⟨by omega, z2⟩⟩
      dsimp only
      rw [nI_clamp (n := r) (by omega)]
      refine br_f (nI_ge (b := 200) (by omega) (by omega)) ⟨vr, ?_⟩
      by_cases hw : rw r = nI vo
      · refine br_t hw ⟨vr, ?_⟩
        by_cases hd : rd r = 0
        · exact br_t hd (nm_r (nI_1 r) (skip (fun _ z => z.1 hd)))
        · -- then it is of this volume
          have rL : r ∈ L vo := by
            rcases g11 r (by omega) with z | z | z
            · exact z
            · have := (gx_ls G (v := 1 - vo) (by omega)).2.2.2.2.2.2.2.1 r z
              rw [hw] at this
              have := (nI_eq (by omega) (by omega)).mp this
              omega
            · rcases g10 r z with y | y
              · rw [hw] at y
                have := congrArg Int32.toInt y
                rw [nI_t (by omega), show (-1 : Int32).toInt = -1 from by decide] at this
                omega
              · exact absurd y hd
          have erb := m2 r rL
          refine br_f hd ⟨vr, ?_⟩
          by_cases hlim : rd r ≤ lim
          · refine br_t hlim ⟨ns + 1, pr_80 (by omega) h4 (fun z => skip (fun _ y => y.2.2 (by rw [← erb]; exact z))) (fun z Q hQ => ?_) (ns + 1) 0 0 (by omega) (by omega) (Or.inl ⟨rfl, fun j hj => absurd hj (by omega)⟩)⟩
            refine gx_del G hv rL ?_
            intro A B co' re' ch' la' pa' rt' sz' fn' e G'
            refine hQ _ _ _ _ _ _ _ _ _ _ _ _ _ _ _ _ _ _ _ _ _ _ _ _ _ _ _ _ _ _ _ _ _ _ _ _ _ _ ?_
            rw [nI_1 m]
            have hn : r ∉ A ++ B := by
              rw [e] at g2
              exact (List.nodup_cons.mp ((List.perm_middle (a := r) (l₁ := A) (l₂ := B)).nodup g2)).1
            have mAB : ∀ a, a ∈ A ++ B ↔ a ∈ L vo ∧ a ≠ r := fun a => by
              rw [e]
              constructor
              · intro ha
                refine ⟨?_, fun z => hn (by rw [← z]; exact ha)⟩
                rcases List.mem_append.mp ha with y | y <;> simp [y]
              · rintro ⟨ha, hne⟩
                rcases List.mem_append.mp ha with y | y
                · simp [y]
                · rcases List.mem_cons.mp y with y | y
                  · exact absurd y hne
                  · simp [y]
            have hu : (1 - vo) ≠ vo := by omega
            refine ih (r + 1) fn' (nI r) (upd rb r fr) (upd rw r (-1)) co' re' ch' la' rt' sz' pa' (ls_u L vo (A ++ B)) (r :: FR) (m + 1) (by omega) (by omega) G' (fun a => ?_) (fun a ha => ?_) (by rw [ls_un hu]; exact m3) (fun a ha => ?_) ?_
            · rw [ls_us, mAB a, m1 a]
              constructor
              · rintro ⟨⟨h1, h2⟩, h3⟩
                refine ⟨h1, fun ⟨z1, z2⟩ => ?_⟩
                rcases Nat.lt_or_ge a r with y | y
                · exact h2 ⟨y, z2⟩
                · exact h3 (by omega)
              · rintro ⟨h1, h2⟩
                refine ⟨⟨h1, fun ⟨z1, z2⟩ => h2 ⟨by omega, z2⟩⟩, fun y => h2 ⟨by omega, ?_⟩⟩
                rw [y]
                exact ⟨hd, hlim, by rw [← erb]; exact z⟩
            · rw [ls_us] at ha
              obtain ⟨q1, q2⟩ := (mAB a).mp ha
              rw [pk_un q2]
              exact m2 a q1
            · rw [pk_un (fun y => g4 r rL (by rw [m3, ← y]; exact ha))]
              exact m4 a ha
            · rw [ls_us]
              rw [e] at m5
              simp at m5 ⊢
              omega
          · exact br_f hlim (nm_r (nI_1 r) (skip (fun _ y => hlim y.2.1)))
      · exact br_f hw (nm_r (nI_1 r) (skip (fun y => absurd (g8 r y) hw)))
end PX
end
section
/-! ===== prune, both sides ===== -/
def pr_x (vo j : Nat) : Int32 := if j = 0 then (if vo = 0 then -1 else nI 99) else nI (100 * vo + (j - 1))
theorem pr_xs (vo j : Nat) : pr_x vo (j + 1) = nI (100 * vo + j) := by unfold pr_x; rw [if_neg (by omega)]; rfl
theorem pr_xp {vo : Nat} (hv : vo < 2) (j : Nat) : nI (100 * vo + j) + (-1) = pr_x vo j := by
  cases j with
  | zero =>
    rcases (show vo = 0 ∨ vo = 1 by omega) with rfl | rfl
    · decide
    · decide
  | succ j => rw [pr_xs]; exact pk_m1 (100 * vo + j)
theorem pr_xm {vo : Nat} (hv : vo < 2) (c : Nat) : nI (100 * vo + c) - 1 = pr_x vo c := by
  cases c with
  | zero =>
    rcases (show vo = 0 ∨ vo = 1 by omega) with rfl | rfl
    · decide
    · decide
  | succ j => rw [pr_xs]; exact nI_pred (100 * vo + j)
theorem pr_x0 {vo : Nat} (hv : vo < 2) : pr_x vo 0 < nI (100 * vo) := by
  rcases (show vo = 0 ∨ vo = 1 by omega) with rfl | rfl
  · decide
  · decide
noncomputable def pr_b (sn : Nat → Int32) (ns : Nat) (lim : Int32) (t : yt_T) : Bool := !(@decide (pr_D sn ns lim t.2.2.1 t.2.2.2.1) (Classical.propDecidable _))
theorem pr_bf {sn : Nat → Int32} {ns : Nat} {lim : Int32} {t : yt_T} (h : pr_D sn ns lim t.2.2.1 t.2.2.2.1) : pr_b sn ns lim t = false := by
  unfold pr_b
  rw [@decide_eq_true _ (Classical.propDecidable _) h]
  rfl
theorem pr_bt {sn : Nat → Int32} {ns : Nat} {lim : Int32} {t : yt_T} (h : ¬ pr_D sn ns lim t.2.2.1 t.2.2.2.1) : pr_b sn ns lim t = true := by
  unfold pr_b
  rw [@decide_eq_false _ (Classical.propDecidable _) h]
  rfl
theorem pr_iff {sn : Nat → Int32} {ns : Nat} {lim : Int32} {t : yt_T} : pr_b sn ns lim t = true ↔ ¬ pr_D sn ns lim t.2.2.1 t.2.2.2.1 := by
  constructor
  · intro h z
    rw [pr_bf z] at h
    exact absurd h (by decide)
  · exact pr_bt
section PY
variable {g_done g_changes g_volume g_snaps g_upTo g_underWay g_goal g_anySent g_lastObj g_lastKey g_lastBorn : Int32} {yo yk yb yd yv yc ys yh : Nat → Int32}
variable {vo ns i : Nat} {lim : Int32}
theorem ne_Y {post : Int32 → Prop} (hi : i < 300) (h4 : ns ≤ 4) (hv : vo < 2) (K1 : pr_n ys ns (yb i) (yd i) ∨ (vo = 0 ∧ ¬ yd i ≤ g_upTo) → post 1) (K0 : ¬ pr_n ys ns (yb i) (yd i) → (vo = 0 → yd i ≤ g_upTo) → post 0) :
    ∀ (f j : Nat), j ≤ ns → ns < f + j → (∀ a, a < j → ¬ vi_s (yb i) (yd i) (ys a)) → wY_needed_2 post (nI i) g_done g_changes (nI vo) (nI ns) g_upTo g_underWay g_goal g_anySent g_lastObj g_lastKey g_lastBorn yo yk yb yd yv yc ys yh f (nI j) := by
  intro f
  induction f with
  | zero => intro j _ h; omega
  | succ f ih =>
    intro j hj hf hno
    rw [wY_needed_2]
    dsimp only
    by_cases e : j = ns
    · subst e
      have no : ¬ pr_n ys j (yb i) (yd i) := fun ⟨a, a1, a2⟩ => hno a a1 a2
      refine br_t (Int32.le_refl _) ?_
      rw [nI_clamp (n := i) (by omega)]
      by_cases hz : vo = 0
      · subst hz
        exact br_t rfl ⟨vp_in_nI hi (by decide), br_c (fun z => K0 no (fun _ => z)) (fun z => K1 (Or.inr ⟨rfl, z⟩))⟩
      · exact br_f (nI_ne0 (by omega) (by omega)) (K0 no (fun z => absurd z hz))
    · rw [nI_clamp (n := j) (by omega)]
      exact br_f (nI_ge (by omega) (by omega)) ⟨vp_in_nI (by omega) (by decide), wy_visible hi (fun z => br_f (by decide) (K1 (Or.inl ⟨j, by omega, z⟩))) (fun z => br_t rfl (nm_r (nI_1 j) (ih (j + 1) (by omega) (by omega) (lt_s hno z))))⟩
variable {post : Int32 → SY → Prop} {oo ok_ ob od ov y0 : Nat → Int32} {c0 c1 : Nat} {l1 : List yt_T}
theorem pr_Y (hv : vo < 2) (h4 : ns ≤ 4) (hc0 : c0 ≤ 100) (h11 : c1 ≤ 100) (hl0 : vo = 0 → lim = g_upTo) (hl1 : vo ≠ 0 → lim = g_done) (hle : g_upTo ≤ g_done)
    (K : ∀ (yo' yk' yb' yd' yv' yc' : Nat → Int32) (c n' : Nat), tk_I oo ok_ ob od ov (pr_b ys ns lim) (100 * vo) c0 0 yo' yk' yb' yd' yv' c → yc' vo = nI c → (∀ w, w ≠ vo → yc' w = y0 w) → yt_l yo' yk' yb' yd' yv' (100 * (1 - vo)) c1 = l1 → n' + c = c0 → wpY_copyVolume (fun u => post (nI n') u) (g_done, g_changes, (nI vo), (nI ns), g_upTo, g_underWay, g_goal, g_anySent, g_lastObj, g_lastKey, g_lastBorn, yo', yk', yb', yd', yv', yc', ys, yh) (nI 0) (nI 2)) :
    ∀ (j f : Nat) (yo yk yb yd yv yc : Nat → Int32) (c m : Nat), j < f → tk_I oo ok_ ob od ov (pr_b ys ns lim) (100 * vo) c0 j yo yk yb yd yv c → yc vo = nI c → (∀ w, w ≠ vo → yc w = y0 w) → yt_l yo yk yb yd yv (100 * (1 - vo)) c1 = l1 → m + c = c0 →
      wY_prune_31 post f (nI m) (pr_x vo j) g_done g_changes (nI vo) (nI ns) g_upTo g_underWay g_goal g_anySent g_lastObj g_lastKey g_lastBorn yo yk yb yd yv yc ys yh := by
  intro j
  induction j with
  | zero =>
    intro f yo yk yb yd yv yc c m hf I h0 h1 hl hm
    obtain ⟨f, rfl⟩ : ∃ g, f = g + 1 := ⟨f - 1, by omega⟩
    rw [wY_prune_31]
    dsimp only
    rw [ar_100]
    exact br_t (pr_x0 hv) (K yo yk yb yd yv yc c m I h0 h1 hl hm)
  | succ j ih =>
    intro f yo yk yb yd yv yc c m hf I h0 h1 hl hm
    obtain ⟨f, rfl⟩ : ∃ g, f = g + 1 := ⟨f - 1, by omega⟩
    have hj := I.1
    have hc := I.2.1
    have vj : vp_in (nI (100 * vo + j)) 300 := vp_in_nI (by omega) (by decide)
    obtain ⟨ea, -⟩ := tk_at I
    have eb : yb (100 * vo + j) = ob (100 * vo + j) := congrArg (fun z : yt_T => z.2.2.1) ea
    have ed : yd (100 * vo + j) = od (100 * vo + j) := congrArg (fun z : yt_T => z.2.2.2.1) ea
    have keep : ¬ pr_D ys ns lim (yb (100 * vo + j)) (yd (100 * vo + j)) → wY_prune_31 post f (nI m) (pr_x vo j) g_done g_changes (nI vo) (nI ns) g_upTo g_underWay g_goal g_anySent g_lastObj g_lastKey g_lastBorn yo yk yb yd yv yc ys yh := fun no => by
      refine ih f yo yk yb yd yv yc c m (by omega) (tk_keep I (pr_bt ?_)) h0 h1 hl hm
      show ¬ pr_D ys ns lim (ob _) (od _)
      rw [← eb, ← ed]
      exact no
    rw [wY_prune_31, pr_xs]
    dsimp only
    rw [ar_100, nI_clamp (n := 100 * vo + j) (by omega)]
    refine br_f (nI_nlt (by omega) (by omega)) ⟨vj, br_c (fun e1 => nm_r (pr_xp hv j) (keep (fun z => z.1 e1))) (fun e1 => ⟨vj, br_c (fun e2 => nm_r (pr_xp hv j) (keep (fun z => ?_))) (fun e2 => ?_)⟩)⟩
    · have : lim ≤ g_done := by
        by_cases hz : vo = 0
        · rw [hl0 hz]; exact hle
        · rw [hl1 hz]; exact Int32.le_refl _
      exact absurd (Int32.le_trans z.2.1 this) (Int32.not_le.mpr e2)
    · refine ⟨ns + 1, ne_Y (by omega) h4 hv (fun z => br_f (by decide) (nm_r (pr_xp hv j) (keep (fun y => ?_)))) (fun z1 z2 => br_t rfl ?_) (ns + 1) 0 (by omega) (by omega) (fun a ha => absurd ha (by omega))⟩
      · rcases z with z | ⟨z1, z2⟩
        · exact y.2.2 z
        · exact z2 (by rw [← hl0 z1]; exact y.2.1)
      · have del : pr_D ys ns lim (yb (100 * vo + j)) (yd (100 * vo + j)) := by
          refine ⟨e1, ?_, z1⟩
          by_cases hz : vo = 0
          · rw [hl0 hz]; exact z2 hz
          · rw [hl1 hz]; exact Int32.not_lt.mp e2
        refine wy_take (by omega) h0 (by omega) (by omega) (by omega) (nm_r (nI_1 m) (nm_r (pr_xp hv j) ?_))
        have t := tk_drop I (pr_bf (t := yt_t oo ok_ ob od ov (100 * vo + j)) (by show pr_D ys ns lim (ob _) (od _); rw [← eb, ← ed]; exact del))
        refine ih f (upd yo (100 * vo + j) (yo (100 * vo + (c - 1)))) (upd yk (100 * vo + j) (yk (100 * vo + (c - 1)))) (upd yb (100 * vo + j) (yb (100 * vo + (c - 1)))) (upd yd (100 * vo + j) (yd (100 * vo + (c - 1)))) (upd yv (100 * vo + j) (yv (100 * vo + (c - 1)))) (upd yc vo (nI (c - 1))) (c - 1) (m + 1) (by omega) t pk_us (fun w hw => by rw [pk_un hw]; exact h1 w hw) ?_ (by omega)
        rw [yt_ne (by omega)]
        exact hl
end PY
theorem i_vc_prune {k : Nat} {u : SX} {v : SY} (I : i_Rel k u v) (hk : k + 4 ≤ 2048) : wpX_prune (fun r u' => wpY_prune (fun r' v' => r' = r ∧ i_Rel (k + 4) u' v') v) u := by
  refine rl_el (P := fun u v => wpX_prune (fun r u' => wpY_prune (fun r' v' => r' = r ∧ i_Rel (k + 4) u' v') v) u) ?_ I
  intro fn dn cg un vo ns sy go c2 f_freeRecord sg bg cO cK cB fO fK fV fB ro rk rb rd rv rw co le re ch la rt sz pa sp ur ud uv ua sn yo yk yb yd yv yc yh L FR F
  have F' : rl_F (k + 4) fn dn cg un vo ns sy go c2 f_freeRecord sg bg cO cK cB fO fK fV fB ro rk rb rd rv rw co le re ch la rt sz ur ud uv ua yo yk yb yd yv yc yh L FR := ⟨Nat.le_trans F.1 (Nat.le_add_right k 4), F.2⟩
  by_cases hc : cg = 0
  · subst hc
    have V := fun v hv => rl_V F (v := v) hv
    obtain ⟨f1, f2, f3, f4, f5, f6, f7, G, D, J, f11⟩ := F
    obtain ⟨d1, d2, d3, d4, d5, d6, d7, d8, d9⟩ := D
    have hun : un = 0 := by omega
    subst hun
    have hsy : sy ≤ dn := by
      have := J.2.2.2.2.2.2.2.1
      omega
    obtain ⟨g1, g2, g3, g4, g5, g6, g7, g8, g9, g10, g11⟩ := gx_ls G f4
    have hl0 := (gx_ls G (v := 0) (by decide)).2.2.2.2.2.2.1
    have hl1 := (gx_ls G (v := 1) (by decide)).2.2.2.2.2.2.1
    have hlu := (gx_ls G (v := 1 - vo) (by omega)).2.2.2.2.2.2.1
    obtain ⟨lim, hlim0, hlim1⟩ : ∃ lim : Int32, (vo = 0 → lim = nI sy) ∧ (vo ≠ 0 → lim = nI dn) := by
      by_cases hz : vo = 0
      · exact ⟨nI sy, fun _ => rfl, fun z => absurd hz z⟩
      · exact ⟨nI dn, fun z => absurd z hz, fun _ => rfl⟩
    -- both sides from their loops on
    have both : ∃ f, wX_prune_32 (fun r u' => wpY_prune (fun r' v' => r' = r ∧ i_Rel (k + 4) u' v') ((nI dn), (nI 0), (nI vo), (nI ns), (nI sy), sg, (nI go), bg, cO, cK, cB, yo, yk, yb, yd, yv, yc, sn, yh)) lim f (nI 0) (nI 0) (nI fn) f_freeRecord (nI dn) (nI 0) (nI 0) (nI vo) (nI ns) sg (nI sy) (nI go) cO cK cB bg fO fK fV fB ro rk rb rd rv rw (ar_n co) (ar_n le) (ar_n re) (ar_n ch) la rt sz pa sp ur ud uv ua sn := by
      refine ⟨201, pr_X (l0 := L vo) (l1 := L (1 - vo)) (rb0 := rb) f4 f5 g7 ?_ 201 0 fn f_freeRecord rb rw co re ch la rt sz pa L FR 0 (by omega) (by omega) G (fun a => ⟨fun h => ⟨h, fun z => absurd z.1 (by omega)⟩, fun h => h.1⟩) (fun _ _ => rfl) rfl (fun _ _ => rfl) (by omega)⟩
      intro fn' fr' rb' rw' co' re' ch' la' rt' sz' pa' L' FR' n' G' m1 m2 m3 m4 m5
      obtain ⟨V1, V2, V3⟩ := V vo f4
      unfold wpY_prune
      dsimp only
      rw [nI_clamp (n := vo) (by omega), V2, ar_100, nI_add, pr_xm f4]
      refine br_t (by decide) ⟨vp_in_nI (by omega) (by decide), nm_e ⟨(L vo).length + 1, pr_Y (oo := yo) (ok_ := yk) (ob := yb) (od := yd) (ov := yv) (y0 := yc) (c0 := (L vo).length) (c1 := (L (1 - vo)).length) (l1 := yt_l yo yk yb yd yv (100 * (1 - vo)) (L (1 - vo)).length) f4 f5 g7 hlu hlim0 hlim1 (nI_le hsy (by omega)) ?_ (L vo).length ((L vo).length + 1) yo yk yb yd yv yc (L vo).length 0 (by omega) tk_0 V2 (fun _ _ => rfl) rfl (by omega)⟩⟩
      intro yo' yk' yb' yd' yv' yc' c n2 TI y0 y1 yl1 hn2
      have hcc := TI.2.1
      have PE := tk_end TI
      have tX' : ∀ a, a ∈ L' vo → yt_t ro rk rb' rd rv a = yt_t ro rk rb rd rv a := fun a ha => by unfold yt_t; rw [m2 a ha]
      have eH : (L' vo).map (yt_t ro rk rb' rd rv) = (L' vo).map (yt_t ro rk rb rd rv) := List.map_congr_left tX'
      have eU : (L' (1 - vo)).map (yt_t ro rk rb' rd rv) = (L (1 - vo)).map (yt_t ro rk rb rd rv) := by rw [m3]; exact List.map_congr_left (fun a ha => by unfold yt_t; rw [m4 a ha])
      have nd' : (L' vo).Nodup := (gx_ls G' f4).2.1
      have pL : (L' vo).Perm ((L vo).filter (fun r => pr_b sn ns lim (yt_t ro rk rb rd rv r))) := by
        refine (List.perm_ext_iff_of_nodup nd' (List.Pairwise.filter _ g2)).mpr (fun r => ?_)
        rw [m1 r, List.mem_filter, pr_iff]
        exact Iff.rfl
      have PH : ((L' vo).map (yt_t ro rk rb' rd rv)).Perm (yt_l yo' yk' yb' yd' yv' (100 * vo) c) := by
        rw [eH]
        have t1 := (pL.map (yt_t ro rk rb rd rv))
        rw [show ((L vo).filter (fun r => pr_b sn ns lim (yt_t ro rk rb rd rv r))).map (yt_t ro rk rb rd rv) = ((L vo).map (yt_t ro rk rb rd rv)).filter (pr_b sn ns lim) by rw [List.filter_map]; rfl] at t1
        exact t1.trans ((V3.filter _).trans PE.symm)
      have hlen : (L' vo).length = c := by
        have := PH.length_eq
        rw [List.length_map, yt_len] at this
        exact this
      have hnn : n' = n2 := by omega
      subst hnn
      -- who stays
      have stay : ∀ x, x ∈ (L' vo).map (yt_t ro rk rb' rd rv) ↔ x ∈ (L vo).map (yt_t ro rk rb rd rv) ∧ ¬ pr_D sn ns lim x.2.2.1 x.2.2.2.1 := fun x => by
        rw [eH]
        constructor
        · intro hx
          obtain ⟨a, ha, rfl⟩ := List.mem_map.mp hx
          exact ⟨List.mem_map.mpr ⟨a, ((m1 a).mp ha).1, rfl⟩, ((m1 a).mp ha).2⟩
        · rintro ⟨hx, hn⟩
          obtain ⟨a, ha, rfl⟩ := List.mem_map.mp hx
          exact List.mem_map.mpr ⟨a, (m1 a).mpr ⟨ha, hn⟩, rfl⟩
      have m0 : ∀ x, x ∈ (L 0).map (yt_t ro rk rb rd rv) ↔ x ∈ yt_l yo yk yb yd yv 200 c2 := fun x => d7.mem_iff
      rcases (show vo = 0 ∨ vo = 1 by omega) with hvo | hvo
      · subst hvo
        have hl := hlim0 rfl
        refine wy_copyVol (fv := 0) (tv := 2) (by decide) (by decide) (by decide) y0 (by omega) ⟨rfl, ?_⟩
        rw [show 100 * 2 = 200 from rfl, show 100 * 0 = 0 from rfl]
        rw [show 100 * 0 = 0 from rfl] at PH
        have eC0 : yt_l (yt_c yo' 0 200 c) (yt_c yk' 0 200 c) (yt_c yb' 0 200 c) (yt_c yd' 0 200 c) (yt_c yv' 0 200 c) 0 c = yt_l yo' yk' yb' yd' yv' 0 c := yt_cn (by omega)
        have eC2 : yt_l (yt_c yo' 0 200 c) (yt_c yk' 0 200 c) (yt_c yb' 0 200 c) (yt_c yd' 0 200 c) (yt_c yv' 0 200 c) 200 c = yt_l yo' yk' yb' yd' yv' 0 c := yt_cp (by omega)
        have eC1 : yt_l (yt_c yo' 0 200 c) (yt_c yk' 0 200 c) (yt_c yb' 0 200 c) (yt_c yd' 0 200 c) (yt_c yv' 0 200 c) 100 (L 1).length = yt_l yo yk yb yd yv 100 (L 1).length := (yt_cn (by omega)).trans yl1
        have CI := iv_pr0 (H' := (L' 0).map (yt_t ro rk rb' rd rv)) d9 J (by omega) m0 (fun x hx => ((stay x).mp hx).1) (fun x hx hd => (stay x).mpr ⟨hx, fun z => by
          rcases hd with y | y
          · exact z.1 (Int32.toInt_inj.mp (show x.2.2.2.1.toInt = (0 : Int32).toInt from y))
          · have := Int32.le_iff_toInt_le.mp z.2.1
            rw [hl, nI_t (by omega)] at this
            unfold iv_d at y
            omega⟩)
        obtain ⟨CI1, CI2⟩ := CI
        have mC : ∀ x, x ∈ yt_l yo' yk' yb' yd' yv' 0 c ↔ x ∈ (L' 0).map (yt_t ro rk rb' rd rv) := fun x => PH.symm.mem_iff
        have F2 : rl_F (k + 4) fn' dn 0 0 0 ns sy go c fr' sg bg cO cK cB fO fK fV fB ro rk rb' rd rv rw' co' le re' ch' la' rt' sz' ur ud uv ua (yt_c yo' 0 200 c) (yt_c yk' 0 200 c) (yt_c yb' 0 200 c) (yt_c yd' 0 200 c) (yt_c yv' 0 200 c) (upd yc' 2 (nI c)) yh L' FR' := by
          refine ⟨by omega, by omega, by omega, by decide, f5, f6, f7, G', ⟨by rw [pk_un (by decide), y0, hlen], by rw [pk_un (by decide), y1 1 (by decide), show L' 1 = L 1 from m3]; exact d2, pk_us, by omega, by rw [hlen, eC0]; exact PH, by rw [show (L' 1).map (yt_t ro rk rb' rd rv) = (L 1).map (yt_t ro rk rb rd rv) from eU, show L' 1 = L 1 from m3, eC1]; exact d6, by rw [eC2]; exact PH, ⟨fun j hj => absurd hj (by omega), fun i j _ hj => absurd hj (by omega), fun r hr hb => ?_⟩, ?_⟩, ?_, f11⟩
          · have := (CI1.2.2.1 _ (List.mem_map.mpr ⟨r, hr, rfl⟩)).2.1
            change (rb' r).toInt ≤ _ at this
            rw [hb, nI_t (by omega)] at this
            omega
          · rw [eC2]
            exact iv_Hc CI1 mC
          · rw [eC2, show (L' 1).map (yt_t ro rk rb' rd rv) = (L 1).map (yt_t ro rk rb rd rv) from eU]
            exact iv_Cc CI2 mC
        exact rl_in F2
      · subst hvo
        have y00 : yc' 0 = nI (L 0).length := by rw [y1 0 (by decide)]; exact d1
        refine wy_copyVol (fv := 0) (tv := 2) (by decide) (by decide) (by decide) y00 (by omega) ⟨rfl, ?_⟩
        rw [show 100 * 2 = 200 from rfl, show 100 * 0 = 0 from rfl]
        obtain ⟨c', hc'⟩ : ∃ c', c' = (L 0).length := ⟨_, rfl⟩
        have yl0 : yt_l yo' yk' yb' yd' yv' 0 (L 0).length = yt_l yo yk yb yd yv 0 (L 0).length := yl1
        have eU0 : (L' 0).map (yt_t ro rk rb' rd rv) = (L 0).map (yt_t ro rk rb rd rv) := eU
        have eL0 : L' 0 = L 0 := m3
        rw [← hc'] at yl0 ⊢
        have eC0 : yt_l (yt_c yo' 0 200 c') (yt_c yk' 0 200 c') (yt_c yb' 0 200 c') (yt_c yd' 0 200 c') (yt_c yv' 0 200 c') 0 c' = yt_l yo yk yb yd yv 0 c' := (yt_cn (by omega)).trans yl0
        have eC2 : yt_l (yt_c yo' 0 200 c') (yt_c yk' 0 200 c') (yt_c yb' 0 200 c') (yt_c yd' 0 200 c') (yt_c yv' 0 200 c') 200 c' = yt_l yo yk yb yd yv 0 c' := (yt_cp (by omega)).trans yl0
        have eC1 : yt_l (yt_c yo' 0 200 c') (yt_c yk' 0 200 c') (yt_c yb' 0 200 c') (yt_c yd' 0 200 c') (yt_c yv' 0 200 c') 100 c = yt_l yo' yk' yb' yd' yv' 100 c := yt_cn (by omega)
        have d5' : ((L 0).map (yt_t ro rk rb rd rv)).Perm (yt_l yo yk yb yd yv 0 c') := by rw [hc']; exact d5
        have mC : ∀ x, x ∈ yt_l yo yk yb yd yv 0 c' ↔ x ∈ yt_l yo yk yb yd yv 200 c2 := fun x => d5'.symm.mem_iff.trans (m0 x)
        have CI := iv_pr1 (M' := (L' 1).map (yt_t ro rk rb' rd rv)) J (fun x hx => ((stay x).mp hx).1)
        have F2 : rl_F (k + 4) fn' dn 0 0 1 ns sy go c' fr' sg bg cO cK cB fO fK fV fB ro rk rb' rd rv rw' co' le re' ch' la' rt' sz' ur ud uv ua (yt_c yo' 0 200 c') (yt_c yk' 0 200 c') (yt_c yb' 0 200 c') (yt_c yd' 0 200 c') (yt_c yv' 0 200 c') (upd yc' 2 (nI c')) yh L' FR' := by
          refine ⟨by omega, by omega, by omega, by decide, f5, f6, f7, G', ⟨by rw [pk_un (by decide), y00, eL0], by rw [pk_un (by decide), y0, hlen], pk_us, by omega, by rw [eU0, eL0, ← hc', eC0]; exact d5', by rw [hlen, eC1]; exact PH, by rw [eC2]; show ((L' 0).map _).Perm _; rw [eU0]; exact d5', ⟨fun j hj => absurd hj (by omega), fun i j _ hj => absurd hj (by omega), fun r hr hb => ?_⟩, ?_⟩, ?_, f11⟩
          · rw [eL0] at hr
            have hr' : yt_t ro rk rb rd rv r ∈ yt_l yo yk yb yd yv 200 c2 := (m0 _).mp (List.mem_map.mpr ⟨r, hr, rfl⟩)
            have := (d9.2.2.1 _ hr').2.1
            change (rb r).toInt ≤ _ at this
            rw [m4 r (by rw [← eL0, eL0]; exact hr)] at hb
            rw [hb, nI_t (by omega)] at this
            omega
          · rw [eC2, eU0]
            exact iv_Hc d9 mC
          · rw [eC2]
            exact iv_Cc CI mC
        exact rl_in F2
    refine br_t (by decide) ?_
    by_cases hz : vo = 0
    · subst hz
      refine br_t rfl ?_
      rw [hlim0 rfl] at both
      exact both
    · refine br_f (nI_ne0 (by omega) (by omega)) ?_
      rw [hlim1 hz] at both
      exact both
  · have hcg := F.2.1
    have hc' : ¬ nI cg ≤ 0 := nI_nle (by omega) (by omega)
    exact br_f hc' (br_f hc' ⟨rfl, rl_in F'⟩)
end
section
/-! ===== sync: the next record, both sides ===== -/
section TS
variable {g_done g_changes g_volume g_snaps g_upTo g_underWay g_goal g_anySent g_lastObj g_lastKey g_lastBorn : Int32} {yo yk yb yd yv yc ys yh : Nat → Int32}
variable {post : Int32 → Prop} {c : Nat}
def ts_m (yo yk yb yd : Nat → Int32) (sy go bg lo lk lb : Int32) (i : Nat) : Prop := nc_p sy go (yb i) (yd i) = true ∧ (bg ≠ 0 → ky_e lo lk lb < ky_e (yo i) (yk i) (yb i))
theorem ts_56 {i : Nat} (hi : i < 300) (K1 : (g_anySent ≠ 0 → ky_e g_lastObj g_lastKey g_lastBorn < ky_e (yo i) (yk i) (yb i)) → post 1) (K0 : ¬ (g_anySent ≠ 0 → ky_e g_lastObj g_lastKey g_lastBorn < ky_e (yo i) (yk i) (yb i)) → post 0) : wY_toSend_56 post (nI i) g_done g_changes g_volume g_snaps g_upTo g_underWay g_goal g_anySent g_lastObj g_lastKey g_lastBorn yo yk yb yd yv yc ys yh := by
  have vi : vp_in (nI i) 300 := vp_in_nI hi (by decide)
  unfold wY_toSend_56
  rw [nI_clamp (n := i) (by omega)]
  refine br_c (fun e => K1 (fun z => absurd e z)) (fun e => ⟨vi, br_c (fun e1 => K1 (fun _ => ky_lt.mpr (Or.inl e1))) (fun e1 => ⟨vi, br_c (fun e2 => ⟨vi, br_c (fun e3 => K1 (fun _ => ky_lt.mpr (Or.inr ⟨e2.symm, Or.inl e3⟩))) (fun e3 => ⟨vi, br_c (fun e4 => ⟨vi, br_c (fun e5 => K0 (fun z => ?_)) (fun e5 => K1 (fun _ => ky_lt.mpr (Or.inr ⟨e2.symm, Or.inr ⟨e4.symm, Int32.not_le.mp e5⟩⟩)))⟩) (fun e4 => K0 (fun z => ?_))⟩)⟩) (fun e2 => K0 (fun z => ?_))⟩)⟩)
  · rcases ky_lt.mp (z e) with y | ⟨-, y | ⟨-, y⟩⟩
    · exact e1 y
    · exact e3 y
    · exact absurd e5 (Int32.not_le.mpr y)
  · rcases ky_lt.mp (z e) with y | ⟨-, y | ⟨y, -⟩⟩
    · exact e1 y
    · exact e3 y
    · exact e4 y.symm
  · rcases ky_lt.mp (z e) with y | ⟨y, -⟩
    · exact e1 y
    · exact e2 y.symm
theorem ts_Y {i : Nat} (hi : i < 300) (K1 : ts_m yo yk yb yd g_upTo g_goal g_anySent g_lastObj g_lastKey g_lastBorn i → post 1) (K0 : ¬ ts_m yo yk yb yd g_upTo g_goal g_anySent g_lastObj g_lastKey g_lastBorn i → post 0) : wpY_toSend post (g_done, g_changes, g_volume, g_snaps, g_upTo, g_underWay, g_goal, g_anySent, g_lastObj, g_lastKey, g_lastBorn, yo, yk, yb, yd, yv, yc, ys, yh) (nI i) := by
  have vi : vp_in (nI i) 300 := vp_in_nI hi (by decide)
  unfold wpY_toSend
  dsimp only
  rw [nI_clamp (n := i) (by omega)]
  have no : ¬ ((g_upTo < yb i ∧ yb i ≤ g_goal) ∨ (yb i ≤ g_upTo ∧ g_upTo < yd i ∧ yd i ≤ g_goal)) → post 0 := fun z => K0 (fun y => z (nc_iff.mp y.1))
  have yes : ((g_upTo < yb i ∧ yb i ≤ g_goal) ∨ (yb i ≤ g_upTo ∧ g_upTo < yd i ∧ yd i ≤ g_goal)) → wY_toSend_56 post (nI i) g_done g_changes g_volume g_snaps g_upTo g_underWay g_goal g_anySent g_lastObj g_lastKey g_lastBorn yo yk yb yd yv yc ys yh := fun z => ts_56 hi (fun y => K1 ⟨nc_iff.mpr z, y⟩) (fun y => K0 (fun w => y w.2))
  refine ⟨vi, br_c (fun e1 => ⟨vi, br_c (fun e2 => yes (Or.inl ⟨e2, e1⟩)) (fun e2 => ⟨vi, br_c (fun e3 => no ?_) (fun e3 => ⟨vi, br_c (fun e4 => yes (Or.inr ⟨Int32.not_lt.mp e2, Int32.not_le.mp e3, e4⟩)) (fun e4 => no ?_)⟩)⟩)⟩) (fun e1 => no ?_)⟩
  · rintro (z | z)
    · exact e2 z.1
    · exact absurd e3 (Int32.not_le.mpr z.2.1)
  · rintro (z | z)
    · exact e2 z.1
    · exact e4 z.2.2
  · rintro (z | z)
    · exact e1 z.2
    · exact e1 (Int32.le_trans z.1 (Int32.le_of_lt (Int32.lt_of_lt_of_le z.2.1 z.2.2)))
theorem ts_4 (hc : yc 0 = nI c) (h100 : c ≤ 100)
    (Kn : (∀ i, i < c → ¬ ts_m yo yk yb yd g_upTo g_goal g_anySent g_lastObj g_lastKey g_lastBorn i) → post (-1))
    (Ks : ∀ m, m < c → ts_m yo yk yb yd g_upTo g_goal g_anySent g_lastObj g_lastKey g_lastBorn m → (∀ i, i < c → ts_m yo yk yb yd g_upTo g_goal g_anySent g_lastObj g_lastKey g_lastBorn i → ky_e (yo m) (yk m) (yb m) ≤ ky_e (yo i) (yk i) (yb i)) → post (nI m)) :
    ∀ (f j : Nat) (b : Option Nat), j ≤ c → c < f + j → (match b with | none => ∀ i, i < j → ¬ ts_m yo yk yb yd g_upTo g_goal g_anySent g_lastObj g_lastKey g_lastBorn i | some m => m < j ∧ ts_m yo yk yb yd g_upTo g_goal g_anySent g_lastObj g_lastKey g_lastBorn m ∧ ∀ i, i < j → ts_m yo yk yb yd g_upTo g_goal g_anySent g_lastObj g_lastKey g_lastBorn i → ky_e (yo m) (yk m) (yb m) ≤ ky_e (yo i) (yk i) (yb i)) →
      wY_nextToSend_4 post g_done g_changes g_volume g_snaps g_upTo g_underWay g_goal g_anySent g_lastObj g_lastKey g_lastBorn yo yk yb yd yv yc ys yh f (fo_I b (-1)) (nI j) := by
  intro f
  induction f with
  | zero => intro j b _ h; omega
  | succ f ih =>
    intro j b hj hf H
    rw [wY_nextToSend_4]
    dsimp only
    rw [hc]
    by_cases e : j = c
    · subst e
      refine br_t (Int32.le_refl _) ?_
      cases b with
      | none => exact Kn H
      | some m => exact Ks m H.1 H.2.1 H.2.2
    · have vj : vp_in (nI j) 300 := vp_in_nI (by omega) (by decide)
      refine br_f (nI_ge (by omega) (by omega)) (ts_Y (by omega) (fun z => br_f (by decide) ?_) (fun z => br_t rfl (nm_r (nI_1 j) (ih (j + 1) b (by omega) (by omega) ?_))))
      · cases b with
        | none =>
          refine br_t (show (-1 : Int32) < 0 by decide) (nm_r (nI_1 j) (ih (j + 1) (some j) (by omega) (by omega) ⟨by omega, z, fun i hi mi => ?_⟩))
          rcases Nat.lt_or_ge i j with y | y
          · exact absurd mi (H i y)
          · rw [show i = j by omega]; exact Int.le_refl _
        | some m =>
          obtain ⟨m1, m2, m3⟩ := H
          have vm : vp_in (nI m) 300 := vp_in_nI (by omega) (by decide)
          have ex : ky_e (yo j) (yk j) (yb j) < ky_e (yo m) (yk m) (yb m) → wY_nextToSend_4 post g_done g_changes g_volume g_snaps g_upTo g_underWay g_goal g_anySent g_lastObj g_lastKey g_lastBorn yo yk yb yd yv yc ys yh f (nI j) (nI (j + 1)) := fun hlt => by
            refine ih (j + 1) (some j) (by omega) (by omega) ⟨by omega, z, fun i hi mi => ?_⟩
            rcases Nat.lt_or_ge i j with y | y
            · exact Int.le_trans (Int.le_of_lt hlt) (m3 i y mi)
            · rw [show i = j by omega]; exact Int.le_refl _
          have st : ¬ ky_e (yo j) (yk j) (yb j) < ky_e (yo m) (yk m) (yb m) → wY_nextToSend_4 post g_done g_changes g_volume g_snaps g_upTo g_underWay g_goal g_anySent g_lastObj g_lastKey g_lastBorn yo yk yb yd yv yc ys yh f (nI m) (nI (j + 1)) := fun hlt => by
            refine ih (j + 1) (some m) (by omega) (by omega) ⟨by omega, m2, fun i hi mi => ?_⟩
            rcases Nat.lt_or_ge i j with y | y
            · exact m3 i y mi
            · rw [show i = j by omega]; exact Int.not_lt.mp hlt
          show (nI m < 0 → _) ∧ _
          rw [show fo_I (some m) (-1) = nI m from rfl, nI_clamp (n := j) (by omega), nI_clamp (n := m) (by omega)]
          refine br_f (nI_pos (by omega)) ⟨vj, vm, br_c (fun e1 => nm_r (nI_1 j) (ex (ky_lt.mpr (Or.inl e1)))) (fun e1 => ⟨vj, vm, br_c (fun e2 => ⟨vj, vm, br_c (fun e3 => nm_r (nI_1 j) (ex (ky_lt.mpr (Or.inr ⟨e2, Or.inl e3⟩)))) (fun e3 => ⟨vj, vm, br_c (fun e4 => ⟨vj, vm, br_c (fun e5 => nm_r (nI_1 j) (st (fun q => ?_))) (fun e5 => nm_r (nI_1 j) (ex (ky_lt.mpr (Or.inr ⟨e2, Or.inr ⟨e4, Int32.not_le.mp e5⟩⟩))))⟩) (fun e4 => nm_r (nI_1 j) (st (fun q => ?_)))⟩)⟩) (fun e2 => nm_r (nI_1 j) (st (fun q => ?_)))⟩)⟩
          · rcases ky_lt.mp q with y | ⟨-, y | ⟨-, y⟩⟩
            · exact e1 y
            · exact e3 y
            · exact absurd e5 (Int32.not_le.mpr y)
          · rcases ky_lt.mp q with y | ⟨-, y | ⟨y, -⟩⟩
            · exact e1 y
            · exact e3 y
            · exact e4 y
          · rcases ky_lt.mp q with y | ⟨y, -⟩
            · exact e1 y
            · exact e2 y
      · cases b with
        | none => exact lt_s H z
        | some m =>
          refine ⟨by have := H.1; omega, H.2.1, fun i hi mi => ?_⟩
          rcases Nat.lt_or_ge i j with y | y
          · exact H.2.2 i y mi
          · rw [show i = j by omega] at mi
            exact absurd mi z
theorem ts_next (hc : yc 0 = nI c) (h100 : c ≤ 100)
    (Kn : (∀ i, i < c → ¬ ts_m yo yk yb yd g_upTo g_goal g_anySent g_lastObj g_lastKey g_lastBorn i) → post (-1))
    (Ks : ∀ m, m < c → ts_m yo yk yb yd g_upTo g_goal g_anySent g_lastObj g_lastKey g_lastBorn m → (∀ i, i < c → ts_m yo yk yb yd g_upTo g_goal g_anySent g_lastObj g_lastKey g_lastBorn i → ky_e (yo m) (yk m) (yb m) ≤ ky_e (yo i) (yk i) (yb i)) → post (nI m)) : wpY_nextToSend post (g_done, g_changes, g_volume, g_snaps, g_upTo, g_underWay, g_goal, g_anySent, g_lastObj, g_lastKey, g_lastBorn, yo, yk, yb, yd, yv, yc, ys, yh) :=
  ⟨c + 1, ts_4 hc h100 Kn Ks (c + 1) 0 none (by omega) (by omega) lt_0⟩
end TS
/-- r at i is the record to be sent next -/
def sy_N (ro rk rb rd rv : Nat → Int32) (l : List Nat) (yo yk yb yd yv : Nat → Int32) (sy go bg cO cK cB : Int32) (r i : Nat) : Prop :=
  r ∈ l ∧ i < l.length ∧ yt_t yo yk yb yd yv i = yt_t ro rk rb rd rv r ∧ nc_p sy go (rb r) (rd r) = true ∧ (bg ≠ 0 → ky_e cO cK cB < ky_r ro rk rb r) ∧ ∀ a, a ∈ l → (bg ≠ 0 → ky_e cO cK cB < ky_r ro rk rb a) → nc_p sy go (rb a) (rd a) = true → ky_r ro rk rb r ≤ ky_r ro rk rb a
/-- nothing is left to send -/
def sy_0 (ro rk rb rd : Nat → Int32) (l : List Nat) (sy go bg cO cK cB : Int32) : Prop := ∀ a, a ∈ l → (bg ≠ 0 → ky_e cO cK cB < ky_r ro rk rb a) → ¬ nc_p sy go (rb a) (rd a) = true
theorem nx_both {k : Nat} {fn dn cg un vo ns sy go c2 : Nat} {f_freeRecord sg bg cO cK cB fO fK fV fB : Int32} {ro rk rb rd rv rw : Nat → Int32} {co le re ch : Nat → Nat} {la rt sz pa sp ur ud uv ua sn yo yk yb yd yv yc yh : Nat → Int32} {L : Nat → List Nat} {FR : List Nat} (F : rl_F k fn dn cg un vo ns sy go c2 f_freeRecord sg bg cO cK cB fO fK fV fB ro rk rb rd rv rw co le re ch la rt sz ur ud uv ua yo yk yb yd yv yc yh L FR) :
    (∃ r i, sy_N ro rk rb rd rv (L 0) yo yk yb yd yv (nI sy) (nI go) bg cO cK cB r i ∧ (∀ post : Int32 → SX → Prop, (∀ pa' sp' : Nat → Int32, post (nI r) ((nI fn), f_freeRecord, (nI dn), (nI cg), (nI un), (nI vo), (nI ns), sg, (nI sy), (nI go), cO, cK, cB, bg, fO, fK, fV, fB, ro, rk, rb, rd, rv, rw, (ar_n co), (ar_n le), (ar_n re), (ar_n ch), la, rt, sz, pa', sp', ur, ud, uv, ua, sn)) → wpX_nextChanged post ((nI fn), f_freeRecord, (nI dn), (nI cg), (nI un), (nI vo), (nI ns), sg, (nI sy), (nI go), cO, cK, cB, bg, fO, fK, fV, fB, ro, rk, rb, rd, rv, rw, (ar_n co), (ar_n le), (ar_n re), (ar_n ch), la, rt, sz, pa, sp, ur, ud, uv, ua, sn)) ∧ (∀ post : Int32 → Prop, post (nI i) → wpY_nextToSend post ((nI dn), (nI cg), (nI vo), (nI ns), (nI sy), sg, (nI go), bg, cO, cK, cB, yo, yk, yb, yd, yv, yc, sn, yh))) ∨
    (sy_0 ro rk rb rd (L 0) (nI sy) (nI go) bg cO cK cB ∧ (∀ post : Int32 → SX → Prop, (∀ pa' sp' : Nat → Int32, post (-1) ((nI fn), f_freeRecord, (nI dn), (nI cg), (nI un), (nI vo), (nI ns), sg, (nI sy), (nI go), cO, cK, cB, bg, fO, fK, fV, fB, ro, rk, rb, rd, rv, rw, (ar_n co), (ar_n le), (ar_n re), (ar_n ch), la, rt, sz, pa', sp', ur, ud, uv, ua, sn)) → wpX_nextChanged post ((nI fn), f_freeRecord, (nI dn), (nI cg), (nI un), (nI vo), (nI ns), sg, (nI sy), (nI go), cO, cK, cB, bg, fO, fK, fV, fB, ro, rk, rb, rd, rv, rw, (ar_n co), (ar_n le), (ar_n re), (ar_n ch), la, rt, sz, pa, sp, ur, ud, uv, ua, sn)) ∧ (∀ post : Int32 → Prop, post (-1) → wpY_nextToSend post ((nI dn), (nI cg), (nI vo), (nI ns), (nI sy), sg, (nI go), bg, cO, cK, cB, yo, yk, yb, yd, yv, yc, sn, yh))) := by
  obtain ⟨V1, V2, V3⟩ := rl_V F (v := 0) (by decide)
  obtain ⟨f1, f2, f3, f4, f5, f6, f7, G, D, J, f11⟩ := F
  obtain ⟨g1, g2, g3, g4, g5, g6, g7, g8, g9, g10, g11⟩ := gx_ls G (v := 0) (by decide)
  have nd := V3.nodup (gx_nd' (rv := rv) G (v := 0) (by decide))
  have memM : ∀ a, a ∈ nc_M bg (ky_r ro rk rb) (ky_e cO cK cB) (L 0) ↔ a ∈ L 0 ∧ (bg ≠ 0 → ky_e cO cK cB < ky_r ro rk rb a) := fun a => by
    unfold nc_M
    by_cases z : bg = 0
    · rw [if_pos z]
      exact ⟨fun h => ⟨h, fun y => absurd z y⟩, fun h => h.1⟩
    · rw [if_neg z, List.mem_filter]
      exact ⟨fun h => ⟨h.1, fun _ => of_decide_eq_true h.2⟩, fun h => ⟨h.1, decide_eq_true (h.2 z)⟩⟩
  have sM : ky_S (ky_r ro rk rb) (nc_M bg (ky_r ro rk rb) (ky_e cO cK cB) (L 0)) := by
    unfold nc_M
    split
    · exact g1
    · exact List.Pairwise.filter _ g1
  have comp : ∀ (r i : Nat), yt_t ro rk rb rd rv r = yt_t yo yk yb yd yv i → ro r = yo i ∧ rk r = yk i ∧ rb r = yb i ∧ rd r = yd i := fun r i e =>
    ⟨congrArg (fun z : yt_T => z.1) e, congrArg (fun z : yt_T => z.2.1) e, congrArg (fun z : yt_T => z.2.2.1) e, congrArg (fun z : yt_T => z.2.2.2.1) e⟩
  have toX : ∀ i, i < (L 0).length → ts_m yo yk yb yd (nI sy) (nI go) bg cO cK cB i → ∃ r, r ∈ L 0 ∧ (bg ≠ 0 → ky_e cO cK cB < ky_r ro rk rb r) ∧ nc_p (nI sy) (nI go) (rb r) (rd r) = true ∧ yt_t ro rk rb rd rv r = yt_t yo yk yb yd yv i := fun i hi hm => by
    obtain ⟨r, hr, er⟩ := List.mem_map.mp (V3.mem_iff.mpr (yt_mem.mpr ⟨i, hi, rfl⟩))
    rw [show 100 * 0 + i = i by omega] at er
    obtain ⟨c1, c2, c3, c4⟩ := comp r i er
    refine ⟨r, hr, fun z => ?_, by rw [c3, c4]; exact hm.1, er⟩
    unfold ky_r
    rw [c1, c2, c3]
    exact hm.2 z
  cases e : (nc_M bg (ky_r ro rk rb) (ky_e cO cK cB) (L 0)).find? (fun r => nc_p (nI sy) (nI go) (rb r) (rd r)) with
  | none =>
    have no : sy_0 ro rk rb rd (L 0) (nI sy) (nI go) bg cO cK cB := fun a ha h1 h2 => List.find?_eq_none.mp e a ((memM a).mpr ⟨ha, h1⟩) h2
    refine Or.inr ⟨no, fun post hp => gx_next G f7 (fun _ pa' sp' => hp pa' sp') (fun r er => by rw [e] at er; cases er), fun post hp => ts_next V2 g7 (fun _ => hp) (fun m hm mm _ => ?_)⟩
    obtain ⟨r, r1, r2, r3, -⟩ := toX m hm mm
    exact absurd r3 (no r r1 r2)
  | some r =>
    obtain ⟨m1, m2, m3⟩ := fd_min sM e
    obtain ⟨m4, m5⟩ := (memM r).mp m1
    obtain ⟨i, hi, ei⟩ := yt_mem.mp (V3.mem_iff.mp (List.mem_map.mpr ⟨r, m4, rfl⟩))
    rw [show 100 * 0 + i = i by omega] at ei
    obtain ⟨d1, d2, d3, d4⟩ := comp r i ei.symm
    have hN : sy_N ro rk rb rd rv (L 0) yo yk yb yd yv (nI sy) (nI go) bg cO cK cB r i := ⟨m4, hi, ei, m2, m5, fun a ha h1 h2 => by
      rcases m3 a ((memM a).mpr ⟨ha, h1⟩) h2 with z | z
      · rw [z]; exact Int.le_refl _
      · exact Int.le_of_lt z⟩
    have tsi : ts_m yo yk yb yd (nI sy) (nI go) bg cO cK cB i := ⟨by rw [← d3, ← d4]; exact m2, fun z => by rw [← d1, ← d2, ← d3]; exact m5 z⟩
    refine Or.inl ⟨r, i, hN, fun post hp => gx_next G f7 (fun en => by rw [e] at en; cases en) (fun r' er pa' sp' => by rw [e] at er; cases er; exact hp pa' sp'), fun post hp => ts_next V2 g7 (fun no => absurd tsi (no i hi)) (fun m hm mm mmin => ?_)⟩
    obtain ⟨a, a1, a2, a3, a4⟩ := toX m hm mm
    obtain ⟨c1, c2, c3, c4⟩ := comp a m a4
    have q1 := mmin i hi tsi
    rw [← c1, ← c2, ← c3, ← d1, ← d2, ← d3] at q1
    have q2 := hN.2.2.2.2.2 a a1 a2 a3
    have ea := ky_in g1 a a1 r m4 (by unfold ky_r at q2 ⊢; omega)
    rw [ea] at a4
    have : m = i := yt_inj nd hm hi (by rw [show 100 * 0 + m = m by omega, show 100 * 0 + i = i by omega]; exact a4.symm.trans ei.symm)
    rw [this]
    exact hp
end
section
/-! ===== sync: what is sent ===== -/
/-- the end that is sent -/
def sy_d (go d : Int32) : Int32 := if d ≤ go then d else 0
theorem sy_di {go : Nat} {d : Int32} (hg : go < 2000) : (sy_d (nI go) d).toInt = if (go : Int) < d.toInt then 0 else d.toInt := by
  unfold sy_d
  by_cases h : d ≤ nI go
  · rw [if_pos h]
    rw [Int32.le_iff_toInt_le, nI_t (by omega)] at h
    rw [if_neg (by omega)]
  · rw [if_neg h]
    rw [Int32.le_iff_toInt_le, nI_t (by omega)] at h
    rw [if_pos (by omega)]
    rfl
theorem sy_ci {sy go : Nat} {x : yt_T} (hs : sy < 2000) (hg : go < 2000) : nc_p (nI sy) (nI go) x.2.2.1 x.2.2.2.1 = true ↔ iv_c sy go x := by
  rw [nc_iff]
  unfold iv_c iv_b iv_d
  rw [Int32.lt_iff_toInt_lt, Int32.le_iff_toInt_le, Int32.le_iff_toInt_le, Int32.lt_iff_toInt_lt, Int32.le_iff_toInt_le, nI_t (n := sy) (by omega), nI_t (n := go) (by omega)]
theorem lg_cg {rb rb' ur ua : Nat → Int32} {l : List Nat} {un : Nat} {now : Int32} (H : ∀ a, a ∈ l → rb' a = rb a) (h : lg_F rb ur ua l un now) : lg_F rb' ur ua l un now := by
  obtain ⟨h1, h2, h3⟩ := h
  refine ⟨fun j hj => ?_, h2, fun r hr hb => h3 r hr (by rw [← H r hr]; exact hb)⟩
  obtain ⟨r, q1, q2, q3⟩ := h1 j hj
  exact ⟨r, q1, q2, by rw [H r q1]; exact q3⟩
theorem bg_iff {bg : Int32} (h : bg = 0 ∨ bg = 1) : bg ≠ 0 ↔ bg = 1 := by
  rcases h with rfl | rfl
  · exact ⟨fun z => absurd rfl z, fun z => absurd z (by decide)⟩
  · exact ⟨fun _ => rfl, fun _ => by decide⟩
section SD
variable {k : Nat} {fn dn cg un vo ns sy go c2 : Nat} {f_freeRecord sg bg cO cK cB fO fK fV fB : Int32} {ro rk rb rd rv rw : Nat → Int32} {co le re ch : Nat → Nat} {la rt sz pa sp ur ud uv ua sn yo yk yb yd yv yc yh : Nat → Int32} {L : Nat → List Nat} {FR : List Nat}
variable {r i m j : Nat}
/-- the pure part -/
theorem sd_I {M' : List yt_T} {mm : yt_T} (hsg : sg = 1) (hbg : bg = 0 ∨ bg = 1) (hdn : dn < 2000) (d9 : iv_H ((L 0).map (yt_t ro rk rb rd rv)) (yt_l yo yk yb yd yv 200 c2) dn)
    (J : iv_I (yt_l yo yk yb yd yv 200 c2) ((L 1).map (yt_t ro rk rb rd rv)) dn sy go (sg = 1) (bg = 1) (ky_e cO cK cB)) (N : sy_N ro rk rb rd rv (L 0) yo yk yb yd yv (nI sy) (nI go) bg cO cK cB r i)
    (em : iv_e mm (yt_t ro rk rb rd rv r)) (dm : mm.2.2.2.1 = sy_d (nI go) (rd r)) (m1 : ∀ x, x ∈ M' → x = mm ∨ (x ∈ (L 1).map (yt_t ro rk rb rd rv) ∧ ¬ iv_e x (yt_t ro rk rb rd rv r))) :
    iv_I (yt_l yo yk yb yd yv 200 c2) M' dn sy go (sg = 1) ((1 : Int32) = 1) (ky_e (ro r) (rk r) (rb r)) := by
  obtain ⟨n1, n2, n3, n4, n5, n6⟩ := N
  have hgo : go < 2000 := by have := (J.2.2.2.2.2.2.2.2 hsg).2; omega
  have hsy : sy < 2000 := by have := J.2.2.2.2.2.2.2.1; omega
  refine iv_send (h := yt_t ro rk rb rd rv r) (mm := mm) d9 J hsg (List.mem_map.mpr ⟨r, n1, rfl⟩) ((sy_ci (x := yt_t ro rk rb rd rv r) hsy hgo).mp n4) (fun x hx h1 h2 => ?_) em ?_ m1
  · obtain ⟨a, ha, rfl⟩ := List.mem_map.mp hx
    exact n6 a ha (fun z => h1 ((bg_iff hbg).mp z)) ((sy_ci (x := yt_t ro rk rb rd rv a) hsy hgo).mpr h2)
  · show mm.2.2.2.1.toInt = _
    rw [dm, sy_di hgo]
    rfl
theorem sd_upd {la' : Nat → Int32} (F : rl_F k fn dn cg un vo ns sy go c2 f_freeRecord sg bg cO cK cB fO fK fV fB ro rk rb rd rv rw co le re ch la rt sz ur ud uv ua yo yk yb yd yv yc yh L FR) (hk : k ≤ 2048) (hsg : sg = 1) (N : sy_N ro rk rb rd rv (L 0) yo yk yb yd yv (nI sy) (nI go) bg cO cK cB r i) (hm : m ∈ L 1) (em : ro m = ro r ∧ rk m = rk r ∧ rb m = rb r) (hj : j < (L 1).length) (ej : yt_t yo yk yb yd yv (100 + j) = yt_t ro rk rb rd rv m)
    (G' : gx_S fn f_freeRecord ro rk rb (upd rd m (sy_d (nI go) (rd r))) rw co le re ch la' rt sz L FR) :
    rl_F k fn dn cg un vo ns sy go c2 f_freeRecord sg 1 (ro r) (rk r) (rb r) fO fK fV fB ro rk rb (upd rd m (sy_d (nI go) (rd r))) rv rw co le re ch la' rt sz ur ud uv ua yo yk yb (upd yd (100 + j) (sy_d (nI go) (rd r))) yv yc yh L FR := by
  obtain ⟨f1, f2, f3, f4, f5, f6, f7, G, D, J, f11⟩ := F
  obtain ⟨d1, d2, d3, d4, d5, d6, d7, d8, d9⟩ := D
  obtain ⟨g1, g2, g3, g4, g5, g6, g7, g8, g9, g10, g11⟩ := gx_ls G (v := 1) (by decide)
  have h0100 := (gx_ls G (v := 0) (by decide)).2.2.2.2.2.2.1
  have eX : ∀ a, a ≠ m → yt_t ro rk rb (upd rd m (sy_d (nI go) (rd r))) rv a = yt_t ro rk rb rd rv a := fun a ha => by unfold yt_t; rw [pk_un ha]
  have e0 : (L 0).map (yt_t ro rk rb (upd rd m (sy_d (nI go) (rd r))) rv) = (L 0).map (yt_t ro rk rb rd rv) := List.map_congr_left (fun a ha => eX a (fun z => g4 m hm (by rw [← z]; exact ha)))
  have eY : ∀ (a c : Nat), (100 + j < a ∨ a + c ≤ 100 + j) → yt_l yo yk yb (upd yd (100 + j) (sy_d (nI go) (rd r))) yv a c = yt_l yo yk yb yd yv a c := fun a c h => yt_cg (fun x hx => by unfold yt_t; rw [pk_un (by omega)])
  have mne : ∀ a, a ∈ L 1 → a ≠ m → yt_t ro rk rb rd rv a ≠ yt_t ro rk rb rd rv m := fun a ha hne e => by
    have q : iv_q (yt_t ro rk rb rd rv a) = iv_q (yt_t ro rk rb rd rv m) := by rw [e]
    exact hne (ky_in g1 a ha m hm q)
  obtain ⟨m1, m2, m3⟩ := rp_mem (f := yt_t ro rk rb rd rv) (f' := yt_t ro rk rb (upd rd m (sy_d (nI go) (rd r))) rv) hm (fun a _ hne => eX a hne) mne
  refine ⟨f1, f2, f3, f4, f5, f6, Or.inr rfl, G', ⟨d1, d2, d3, d4, ?_, ?_, ?_, d8, ?_⟩, ?_, f11⟩
  · rw [e0, eY _ _ (by omega)]
    exact d5
  · refine rp_perm (i := j) g2 hm (fun a _ hne => eX a hne) hj ej d6 (fun x hx => ?_) ?_
    · unfold yt_t
      rw [pk_un hx]
    · unfold yt_t at ej ⊢
      rw [pk_us, pk_us]
      have q1 := congrArg (fun z : yt_T => z.1) ej
      have q2 := congrArg (fun z : yt_T => z.2.1) ej
      have q3 := congrArg (fun z : yt_T => z.2.2.1) ej
      have q5 := congrArg (fun z : yt_T => z.2.2.2.2) ej
      dsimp only at q1 q2 q3 q5
      rw [q1, q2, q3, q5]
  · rw [eY _ _ (by omega)]
    exact ul_cg (List.Perm.refl _) un (L 0) rd rv _ _ (fun _ _ => ⟨rfl, rfl, rfl, rfl⟩) (fun a ha => ⟨rfl, rfl, rfl, pk_un (fun z => g4 m hm (by rw [← z]; exact ha)), rfl⟩) d7
  · rw [e0, eY _ _ (by omega)]
    exact d9
  · rw [eY _ _ (by omega)]
    refine sd_I (rv := rv) (mm := yt_t ro rk rb (upd rd m (sy_d (nI go) (rd r))) rv m) hsg f7 (by omega) d9 J N em (by show upd rd m _ m = _; rw [pk_us]) (fun x hx => ?_)
    rcases m1 x hx with z | ⟨z1, z2⟩
    · exact Or.inl z
    · refine Or.inr ⟨z1, fun y => z2 ?_⟩
      obtain ⟨a, ha, rfl⟩ := List.mem_map.mp z1
      have q : ky_r ro rk rb a = ky_r ro rk rb m := by
        have := iv_eq y
        change ky_r ro rk rb a = ky_r ro rk rb r at this
        rw [this]
        unfold ky_r
        rw [em.1, em.2.1, em.2.2]
      rw [ky_in g1 a ha m hm q]
theorem sd_new {fn' : Nat} {fr' : Int32} {co' le' re' ch' : Nat → Nat} {la' rt' sz' : Nat → Int32} {FR' A B : List Nat} (F : rl_F k fn dn cg un vo ns sy go c2 f_freeRecord sg bg cO cK cB fO fK fV fB ro rk rb rd rv rw co le re ch la rt sz ur ud uv ua yo yk yb yd yv yc yh L FR) (hk : k ≤ 2048) (hsg : sg = 1) (N : sy_N ro rk rb rd rv (L 0) yo yk yb yd yv (nI sy) (nI go) bg cO cK cB r i) (hl : (L 1).length < 100) (eF : FR = m :: FR') (e : L 1 = A ++ B)
    (no : ∀ a, a ∈ L 1 → ¬ (ro a = ro r ∧ rk a = rk r ∧ rb a = rb r))
    (G' : gx_S fn' fr' (upd ro m (ro r)) (upd rk m (rk r)) (upd rb m (rb r)) (upd rd m (sy_d (nI go) (rd r))) (upd rw m (nI 1)) co' le' re' ch' la' rt' sz' (ls_u L 1 (A ++ m :: B)) FR') :
    rl_F k fn' dn cg un vo ns sy go c2 fr' sg 1 (ro r) (rk r) (rb r) fO fK fV fB (upd ro m (ro r)) (upd rk m (rk r)) (upd rb m (rb r)) (upd rd m (sy_d (nI go) (rd r))) (upd rv m (rv r)) (upd rw m (nI 1)) co' le' re' ch' la' rt' sz' ur ud uv ua (upd yo (100 + (L 1).length) (ro r)) (upd yk (100 + (L 1).length) (rk r)) (upd yb (100 + (L 1).length) (rb r)) (upd yd (100 + (L 1).length) (sy_d (nI go) (rd r))) (upd yv (100 + (L 1).length) (rv r)) (upd yc 1 (nI ((L 1).length + 1))) yh (ls_u L 1 (A ++ m :: B)) FR' := by
  obtain ⟨f1, f2, f3, f4, f5, f6, f7, G, D, J, f11⟩ := F
  obtain ⟨d1, d2, d3, d4, d5, d6, d7, d8, d9⟩ := D
  obtain ⟨g1, g2, g3, g4, g5, g6, g7, g8, g9, g10, g11⟩ := gx_ls G (v := 1) (by decide)
  obtain ⟨-, -, -, -, h0F, -, h0100, -⟩ := gx_ls G (v := 0) (by decide)
  have m0 : m ∉ L 0 := fun z => h0F m z (by rw [eF]; exact List.mem_cons_self ..)
  have m1 : m ∉ L 1 := fun z => g5 m z (by rw [eF]; exact List.mem_cons_self ..)
  have eX : ∀ a, a ≠ m → yt_t (upd ro m (ro r)) (upd rk m (rk r)) (upd rb m (rb r)) (upd rd m (sy_d (nI go) (rd r))) (upd rv m (rv r)) a = yt_t ro rk rb rd rv a := fun a ha => by
    unfold yt_t
    rw [pk_un ha, pk_un ha, pk_un ha, pk_un ha, pk_un ha]
  have em : yt_t (upd ro m (ro r)) (upd rk m (rk r)) (upd rb m (rb r)) (upd rd m (sy_d (nI go) (rd r))) (upd rv m (rv r)) m = (ro r, rk r, rb r, sy_d (nI go) (rd r), rv r) := by
    unfold yt_t
    rw [pk_us, pk_us, pk_us, pk_us, pk_us]
  have mA : ∀ l : List Nat, (∀ a, a ∈ l → a ≠ m) → l.map (yt_t (upd ro m (ro r)) (upd rk m (rk r)) (upd rb m (rb r)) (upd rd m (sy_d (nI go) (rd r))) (upd rv m (rv r))) = l.map (yt_t ro rk rb rd rv) := fun l hl => List.map_congr_left (fun a ha => eX a (hl a ha))
  have e0 : (ls_u L 1 (A ++ m :: B) 0).map (yt_t (upd ro m (ro r)) (upd rk m (rk r)) (upd rb m (rb r)) (upd rd m (sy_d (nI go) (rd r))) (upd rv m (rv r))) = (L 0).map (yt_t ro rk rb rd rv) := by
    rw [ls_un (by decide)]
    exact mA _ (fun a ha z => m0 (by rw [← z]; exact ha))
  have hA : ∀ a, a ∈ A → a ≠ m := fun a ha z => m1 (by rw [e, ← z]; simp [ha])
  have hB : ∀ a, a ∈ B → a ≠ m := fun a ha z => m1 (by rw [e, ← z]; simp [ha])
  have eM : (ls_u L 1 (A ++ m :: B) 1).map (yt_t (upd ro m (ro r)) (upd rk m (rk r)) (upd rb m (rb r)) (upd rd m (sy_d (nI go) (rd r))) (upd rv m (rv r))) = A.map (yt_t ro rk rb rd rv) ++ (ro r, rk r, rb r, sy_d (nI go) (rd r), rv r) :: B.map (yt_t ro rk rb rd rv) := by
    rw [ls_us, List.map_append, List.map_cons, mA A hA, mA B hB, em]
  have eM0 : (L 1).map (yt_t ro rk rb rd rv) = A.map (yt_t ro rk rb rd rv) ++ B.map (yt_t ro rk rb rd rv) := by rw [e, List.map_append]
  have eY : ∀ (a c : Nat), (100 + (L 1).length < a ∨ a + c ≤ 100 + (L 1).length) → yt_l (upd yo (100 + (L 1).length) (ro r)) (upd yk (100 + (L 1).length) (rk r)) (upd yb (100 + (L 1).length) (rb r)) (upd yd (100 + (L 1).length) (sy_d (nI go) (rd r))) (upd yv (100 + (L 1).length) (rv r)) a c = yt_l yo yk yb yd yv a c := fun a c h => yt_ne h
  have len : (ls_u L 1 (A ++ m :: B) 1).length = (L 1).length + 1 := by rw [ls_us, e]; simp; omega
  have l0 : ls_u L 1 (A ++ m :: B) 0 = L 0 := ls_un (by decide)
  refine ⟨f1, f2, f3, f4, f5, f6, Or.inr rfl, G', ⟨by rw [pk_un (by decide), l0]; exact d1, by rw [pk_us, len], by rw [pk_un (by decide)]; exact d3, d4, ?_, ?_, ?_, ?_, ?_⟩, ?_, f11⟩
  · rw [e0, l0, eY _ _ (by omega)]
    exact d5
  · rw [eM, len, yt_ap]
    rw [eM0] at d6
    exact List.perm_middle.trans ((d6.cons _).trans (List.perm_append_singleton _ _).symm)
  · rw [eY _ _ (by omega), l0]
    refine ul_cg (List.Perm.refl _) un (L 0) rd rv _ _ (fun _ _ => ⟨rfl, rfl, rfl, rfl⟩) (fun a ha => ?_) d7
    have z : a ≠ m := fun z => m0 (by rw [← z]; exact ha)
    exact ⟨pk_un z, pk_un z, pk_un z, pk_un z, pk_un z⟩
  · rw [l0]
    exact lg_cg (fun a ha => pk_un (fun z => m0 (by rw [← z]; exact ha))) d8
  · rw [e0, eY _ _ (by omega)]
    exact d9
  · rw [eY _ _ (by omega), eM]
    refine sd_I (rv := rv) (mm := (ro r, rk r, rb r, sy_d (nI go) (rd r), rv r)) hsg f7 (by omega) d9 J N ⟨rfl, rfl, rfl⟩ rfl (fun x hx => ?_)
    have inn : x ∈ (L 1).map (yt_t ro rk rb rd rv) → x = (ro r, rk r, rb r, sy_d (nI go) (rd r), rv r) ∨ (x ∈ (L 1).map (yt_t ro rk rb rd rv) ∧ ¬ iv_e x (yt_t ro rk rb rd rv r)) := fun h => by
      refine Or.inr ⟨h, fun y => ?_⟩
      obtain ⟨a, ha, rfl⟩ := List.mem_map.mp h
      exact no a ha ⟨y.1, y.2.1, y.2.2⟩
    rcases List.mem_append.mp hx with z | z
    · exact inn (by rw [eM0]; exact List.mem_append.mpr (Or.inl z))
    · rcases List.mem_cons.mp z with z | z
      · exact Or.inl z
      · exact inn (by rw [eM0]; exact List.mem_append.mpr (Or.inr z))
end SD
end
section
/-! ===== sync: one record sent, each side ===== -/
theorem upd_uu {f : Nat → Int32} {k : Nat} {x y : Int32} : upd (upd f k x) k y = upd f k y := by
  funext j
  by_cases h : j = k
  · rw [h, pk_us, pk_us]
  · rw [pk_un h, pk_un h, pk_un h]
section SX
variable {fn dn cg un vo ns sy go c2 : Nat} {f_freeRecord sg bg cO cK cB fO fK fV fB : Int32} {ro rk rb rd rv rw : Nat → Int32} {co le re ch : Nat → Nat} {la rt sz pa sp ur ud uv ua sn yo yk yb yd yv yc yh : Nat → Int32} {L : Nat → List Nat} {FR : List Nat}
variable {r n s i : Nat}
theorem sx_143 {post : Int32 → SX → Prop} (hr : r < 200) (K : post 1 ((nI fn), f_freeRecord, (nI dn), (nI cg), (nI un), (nI vo), (nI ns), sg, (nI sy), (nI go), (ro r), (rk r), (rb r), 1, fO, fK, fV, fB, ro, rk, rb, rd, rv, rw, (ar_n co), (ar_n le), (ar_n re), (ar_n ch), la, rt, sz, pa, sp, ur, ud, uv, ua, sn)) : wX_send_143 post (nI r) (nI fn) f_freeRecord (nI dn) (nI cg) (nI un) (nI vo) (nI ns) sg (nI sy) (nI go) cO cK cB bg fO fK fV fB ro rk rb rd rv rw (ar_n co) (ar_n le) (ar_n re) (ar_n ch) la rt sz pa sp ur ud uv ua sn := by
  have vr : vp_in (nI r) 200 := vp_in_nI hr (by decide)
  unfold wX_send_143
  rw [nI_clamp (n := r) (by omega)]
  exact ⟨vr, nm_e ⟨vr, nm_e ⟨vr, nm_e K⟩⟩⟩
theorem sx_send {post : Int32 → SX → Prop} (G : gx_S fn f_freeRecord ro rk rb rd rw co le re ch la rt sz L FR) (h0 : r ∈ L 0)
    (Kf : (∀ a, a ∈ L 1 → ¬ (ro a = ro r ∧ rk a = rk r ∧ rb a = rb r)) → (L 1).length = 100 → post 0 ((nI fn), f_freeRecord, (nI dn), (nI cg), (nI un), (nI vo), (nI ns), sg, (nI sy), (nI go), cO, cK, cB, bg, fO, fK, fV, fB, ro, rk, rb, rd, rv, rw, (ar_n co), (ar_n le), (ar_n re), (ar_n ch), la, rt, sz, pa, sp, ur, ud, uv, ua, sn))
    (Ku : ∀ m, m ∈ L 1 → (ro m = ro r ∧ rk m = rk r ∧ rb m = rb r) → ∀ la' pa' : Nat → Int32, gx_S fn f_freeRecord ro rk rb (upd rd m (sy_d (nI go) (rd r))) rw co le re ch la' rt sz L FR → post 1 ((nI fn), f_freeRecord, (nI dn), (nI cg), (nI un), (nI vo), (nI ns), sg, (nI sy), (nI go), (ro r), (rk r), (rb r), 1, fO, fK, fV, fB, ro, rk, rb, (upd rd m (sy_d (nI go) (rd r))), rv, rw, (ar_n co), (ar_n le), (ar_n re), (ar_n ch), la', rt, sz, pa', sp, ur, ud, uv, ua, sn))
    (Kn : (∀ a, a ∈ L 1 → ¬ (ro a = ro r ∧ rk a = rk r ∧ rb a = rb r)) → (L 1).length < 100 → ∀ (m : Nat) (FR' A B : List Nat) (co' le' re' ch' : Nat → Nat) (la' pa' rt' sz' : Nat → Int32) (fn' : Nat), FR = m :: FR' → L 1 = A ++ B →
      gx_S fn' (rb m) (upd ro m (ro r)) (upd rk m (rk r)) (upd rb m (rb r)) (upd rd m (sy_d (nI go) (rd r))) (upd rw m (nI 1)) co' le' re' ch' la' rt' sz' (ls_u L 1 (A ++ m :: B)) FR' →
      post 1 ((nI fn'), (rb m), (nI dn), (nI cg), (nI un), (nI vo), (nI ns), sg, (nI sy), (nI go), (ro r), (rk r), (rb r), 1, fO, fK, fV, fB, (upd ro m (ro r)), (upd rk m (rk r)), (upd rb m (rb r)), (upd rd m (sy_d (nI go) (rd r))), (upd rv m (rv r)), (upd rw m (nI 1)), (ar_n co'), (ar_n le'), (ar_n re'), (ar_n ch'), la', rt', sz', pa', sp, ur, ud, uv, ua, sn)) :
    wpX_send post ((nI fn), f_freeRecord, (nI dn), (nI cg), (nI un), (nI vo), (nI ns), sg, (nI sy), (nI go), cO, cK, cB, bg, fO, fK, fV, fB, ro, rk, rb, rd, rv, rw, (ar_n co), (ar_n le), (ar_n re), (ar_n ch), la, rt, sz, pa, sp, ur, ud, uv, ua, sn) (nI r) := by
  obtain ⟨g1, g2, g3, g4, g5, g6, g7, g8, g9, g10, g11⟩ := gx_ls G (v := 1) (by decide)
  obtain ⟨-, -, h200, h01, h0F, -⟩ := gx_ls G (v := 0) (by decide)
  have hr := h200 r h0
  have vr : vp_in (nI r) 200 := vp_in_nI hr (by decide)
  -- the record is there
  have w127 : ∀ m, m ∈ L 1 → (ro m = ro r ∧ rk m = rk r ∧ rb m = rb r) → wX_send_127 post (nI r) (sy_d (nI go) (rd r)) (nI m) (nI fn) f_freeRecord (nI dn) (nI cg) (nI un) (nI vo) (nI ns) sg (nI sy) (nI go) cO cK cB bg fO fK fV fB ro rk rb rd rv rw (ar_n co) (ar_n le) (ar_n re) (ar_n ch) la rt sz pa sp ur ud uv ua sn := by
    intro m hm em
    have hm2 := g3 m hm
    unfold wX_send_127
    rw [nI_clamp (n := m) (by omega)]
    refine ⟨vp_in_nI hm2 (by decide), ?_⟩
    by_cases z : rd m = sy_d (nI go) (rd r)
    · refine br_t z (sx_143 hr ?_)
      have e0 : upd rd m (sy_d (nI go) (rd r)) = rd := upd_id z
      have t := Ku m hm em la pa (by rw [e0]; exact G)
      rw [e0] at t
      exact t
    · refine br_f z (gx_die G (v := 1) (by decide) hm (fun la' pa' G' => ?_))
      exact sx_143 hr (Ku m hm em la' pa' G')
  -- it is not there
  have w78 : (∀ a, a ∈ L 1 → ¬ (ro a = ro r ∧ rk a = rk r ∧ rb a = rb r)) → wX_send_78 post (nI r) (sy_d (nI go) (rd r)) (nI fn) f_freeRecord (nI dn) (nI cg) (nI un) (nI vo) (nI ns) sg (nI sy) (nI go) cO cK cB bg fO fK fV fB ro rk rb rd rv rw (ar_n co) (ar_n le) (ar_n re) (ar_n ch) la rt sz pa sp ur ud uv ua sn := by
    intro no
    unfold wX_send_78
    rw [nI_clamp (n := r) (by omega), g6]
    by_cases h100 : (L 1).length = 100
    · rw [h100]
      exact br_t rfl (Kf no h100)
    · refine br_f (fun z => h100 ((nI_eq (b := 100) (by omega) (by omega)).mp z)) ⟨vr, vr, vr, gx_add G (v := 1) (by decide) (by omega) (fun a ha e => ?_) ?_⟩
      · obtain ⟨q1, q2, q3⟩ := ky_inj e
        exact no a ha ⟨q1, q2, q3⟩
      · intro m FR' A B co' le' re' ch' la' pa' rt' sz' fn' eF hm eL G'
        have mr : r ≠ m := fun z => h0F r h0 (by rw [eF, z]; exact List.mem_cons_self ..)
        have vm : vp_in (nI m) 200 := vp_in_nI hm (by decide)
        dsimp only
        rw [nI_clamp (n := m) (by omega)]
        refine ⟨vr, vm, nm_e ?_⟩
        have q1 : upd ro m (ro r) r = ro r := pk_un mr
        have q2 : upd rk m (rk r) r = rk r := pk_un mr
        have q3 : upd rb m (rb r) r = rb r := pk_un mr
        unfold wX_send_127
        rw [nI_clamp (n := m) (by omega), pk_us]
        refine ⟨vm, ?_⟩
        by_cases z : (0 : Int32) = sy_d (nI go) (rd r)
        · refine br_t z (sx_143 hr ?_)
          rw [q1, q2, q3]
          have t := Kn no (by omega) m FR' A B co' le' re' ch' la' pa' rt' sz' fn' eF eL (by rw [← z]; exact G')
          rw [← z] at t
          exact t
        · refine br_f z (gx_die G' (v := 1) (by decide) (r := m) (by rw [ls_us]; simp) (fun la2 pa2 G2 => ?_))
          rw [upd_uu] at G2 ⊢
          refine sx_143 hr ?_
          rw [q1, q2, q3]
          exact Kn no (by omega) m FR' A B co' le' re' ch' la2 pa2 rt' sz' fn' eF eL G2
  have w23 : wX_send_23 post (nI r) (sy_d (nI go) (rd r)) (nI fn) f_freeRecord (nI dn) (nI cg) (nI un) (nI vo) (nI ns) sg (nI sy) (nI go) cO cK cB bg fO fK fV fB ro rk rb rd rv rw (ar_n co) (ar_n le) (ar_n re) (ar_n ch) la rt sz pa sp ur ud uv ua sn := by
    unfold wX_send_23
    rw [nI_clamp (n := r) (by omega)]
    refine ⟨vr, vr, vr, gx_floor G (v := 1) (by decide) ?_⟩
    by_cases ex : ∃ m, m ∈ L 1 ∧ ro m = ro r ∧ rk m = rk r ∧ rb m = rb r
    · obtain ⟨m, hm, em⟩ := ex
      have hm2 := g3 m hm
      have hq : ky_r ro rk rb m = ky_e (ro r) (rk r) (rb r) := by unfold ky_r; rw [em.1, em.2.1, em.2.2]
      have fl : fo_f (ky_r ro rk rb) (ky_e (ro r) (rk r) (rb r)) (L 1) = some m := by
        cases e : fo_f (ky_r ro rk rb) (ky_e (ro r) (rk r) (rb r)) (L 1) with
        | none => have := fo_f0 e m hm; omega
        | some t =>
          obtain ⟨s1, s2, s3⟩ := fo_fs g1 e
          rcases s3 m hm (by omega) with z | z
          · rw [z]
          · omega
      rw [fl]
      show (nI m < 0 → _) ∧ _
      exact br_f (nI_pos (by omega)) ⟨vr, vr, vr, wx_compare hm2 (fun z => by omega) (fun _ => br_t rfl (w127 m hm em)) (fun z => by omega)⟩
    · have no : ∀ a, a ∈ L 1 → ¬ (ro a = ro r ∧ rk a = rk r ∧ rb a = rb r) := fun a ha z => ex ⟨a, ha, z⟩
      cases e : fo_f (ky_r ro rk rb) (ky_e (ro r) (rk r) (rb r)) (L 1) with
      | none => exact br_t (show (-1 : Int32) < 0 by decide) (w78 no)
      | some t =>
        obtain ⟨s1, s2, s3⟩ := fo_fs g1 e
        have ht := g3 t s1
        show (nI t < 0 → _) ∧ _
        refine br_f (nI_pos (by omega)) ⟨vr, vr, vr, wx_compare ht (fun _ => br_f (by decide) (w78 no)) (fun z => ?_) (fun _ => br_f (by decide) (w78 no))⟩
        obtain ⟨q1, q2, q3⟩ := ky_inj z
        exact absurd ⟨q1, q2, q3⟩ (no t s1)
  unfold wpX_send
  dsimp only
  rw [nI_clamp (n := r) (by omega)]
  refine ⟨vr, ?_⟩
  by_cases z : rd r ≤ nI go
  · have e : sy_d (nI go) (rd r) = rd r := if_pos z
    rw [e] at w23
    exact br_t z ⟨vr, w23⟩
  · have e : sy_d (nI go) (rd r) = 0 := if_neg z
    rw [e] at w23
    exact br_f z w23
end SX
section SY
variable {fn dn cg un vo ns sy go c2 : Nat} {f_freeRecord sg bg cO cK cB fO fK fV fB : Int32} {ro rk rb rd rv rw : Nat → Int32} {co le re ch : Nat → Nat} {la rt sz pa sp ur ud uv ua sn yo yk yb yd yv yc yh : Nat → Int32} {L : Nat → List Nat} {FR : List Nat}
variable {r n s i f : Nat} {q : Int32 → SY → Prop}
theorem sy_188 {J : Int32 → Int32 → Int32 → Int32 → Int32 → Int32 → Int32 → Int32 → Int32 → Int32 → Int32 → Int32 → Int32 → (Nat → Int32) → (Nat → Int32) → (Nat → Int32) → (Nat → Int32) → (Nat → Int32) → (Nat → Int32) → (Nat → Int32) → (Nat → Int32) → Prop} (hi : i < 300) (e1 : yo i = ro r) (e2 : yk i = rk r) (e3 : yb i = rb r)
    (K : wpY_nextToSend (fun x => J (nI (s + 1)) x (nI dn) (nI cg) (nI vo) (nI ns) (nI sy) sg (nI go) 1 (ro r) (rk r) (rb r) yo yk yb yd yv yc sn yh) ((nI dn), (nI cg), (nI vo), (nI ns), (nI sy), sg, (nI go), 1, (ro r), (rk r), (rb r), yo, yk, yb, yd, yv, yc, sn, yh)) : wY_sync_188 q J (nI n) (nI s) (nI i) (nI dn) (nI cg) (nI vo) (nI ns) (nI sy) sg (nI go) bg cO cK cB yo yk yb yd yv yc sn yh := by
  have vi : vp_in (nI i) 300 := vp_in_nI hi (by decide)
  unfold wY_sync_188
  rw [nI_clamp (n := i) (by omega), e1, e2, e3]
  exact ⟨vi, nm_e ⟨vi, nm_e ⟨vi, nm_e (nm_r (nI_1 s) K)⟩⟩⟩
/-- one round of the reference -/
theorem sy_Y (G : gx_S fn f_freeRecord ro rk rb rd rw co le re ch la rt sz L FR) (hc : yc 1 = nI (L 1).length) (P : ((L 1).map (yt_t ro rk rb rd rv)).Perm (yt_l yo yk yb yd yv (100 * 1) (L 1).length)) (hs : s < n) (hn : n ≤ 50) (hi : i < 100) (ei : yt_t yo yk yb yd yv i = yt_t ro rk rb rd rv r)
    (Kf : (∀ a, a ∈ L 1 → ¬ (ro a = ro r ∧ rk a = rk r ∧ rb a = rb r)) → (L 1).length = 100 → q (nI s) ((nI dn), (nI cg), (nI vo), (nI ns), (nI sy), sg, (nI go), bg, cO, cK, cB, yo, yk, yb, yd, yv, yc, sn, yh))
    (Ku : ∀ m j, m ∈ L 1 → (ro m = ro r ∧ rk m = rk r ∧ rb m = rb r) → j < (L 1).length → yt_t yo yk yb yd yv (100 + j) = yt_t ro rk rb rd rv m →
      wpY_nextToSend (fun x => wY_sync_63 q (nI n) f (nI (s + 1)) x (nI dn) (nI cg) (nI vo) (nI ns) (nI sy) sg (nI go) 1 (ro r) (rk r) (rb r) yo yk yb (upd yd (100 + j) (sy_d (nI go) (rd r))) yv yc sn yh) ((nI dn), (nI cg), (nI vo), (nI ns), (nI sy), sg, (nI go), 1, (ro r), (rk r), (rb r), yo, yk, yb, (upd yd (100 + j) (sy_d (nI go) (rd r))), yv, yc, sn, yh))
    (Kn : (∀ a, a ∈ L 1 → ¬ (ro a = ro r ∧ rk a = rk r ∧ rb a = rb r)) → (L 1).length < 100 →
      wpY_nextToSend (fun x => wY_sync_63 q (nI n) f (nI (s + 1)) x (nI dn) (nI cg) (nI vo) (nI ns) (nI sy) sg (nI go) 1 (ro r) (rk r) (rb r) (upd yo (100 + (L 1).length) (ro r)) (upd yk (100 + (L 1).length) (rk r)) (upd yb (100 + (L 1).length) (rb r)) (upd yd (100 + (L 1).length) (sy_d (nI go) (rd r))) (upd yv (100 + (L 1).length) (rv r)) (upd yc 1 (nI ((L 1).length + 1))) sn yh)
        ((nI dn), (nI cg), (nI vo), (nI ns), (nI sy), sg, (nI go), 1, (ro r), (rk r), (rb r), (upd yo (100 + (L 1).length) (ro r)), (upd yk (100 + (L 1).length) (rk r)), (upd yb (100 + (L 1).length) (rb r)), (upd yd (100 + (L 1).length) (sy_d (nI go) (rd r))), (upd yv (100 + (L 1).length) (rv r)), (upd yc 1 (nI ((L 1).length + 1))), sn, yh)) :
    wY_sync_63 q (nI n) (f + 1) (nI s) (nI i) (nI dn) (nI cg) (nI vo) (nI ns) (nI sy) sg (nI go) bg cO cK cB yo yk yb yd yv yc sn yh := by
  have h100 := (gx_ls G (v := 1) (by decide)).2.2.2.2.2.2.1
  have vi : vp_in (nI i) 300 := vp_in_nI (by omega) (by decide)
  have e1 : yo i = ro r := congrArg (fun z : yt_T => z.1) ei
  have e2 : yk i = rk r := congrArg (fun z : yt_T => z.2.1) ei
  have e3 : yb i = rb r := congrArg (fun z : yt_T => z.2.2.1) ei
  have e4 : yd i = rd r := congrArg (fun z : yt_T => z.2.2.2.1) ei
  have e5 : yv i = rv r := congrArg (fun z : yt_T => z.2.2.2.2) ei
  -- the end that is sent
  have w115 : ∀ th : Int32, wY_sync_138 q (wY_sync_63 q (nI n) f) (nI n) (nI s) (nI i) th (sy_d (nI go) (rd r)) (nI dn) (nI cg) (nI vo) (nI ns) (nI sy) sg (nI go) bg cO cK cB yo yk yb yd yv yc sn yh → wY_sync_115 q (wY_sync_63 q (nI n) f) (nI n) (nI s) (nI i) th (nI dn) (nI cg) (nI vo) (nI ns) (nI sy) sg (nI go) bg cO cK cB yo yk yb yd yv yc sn yh := fun th h => by
    unfold wY_sync_115
    rw [nI_clamp (n := i) (by omega), e4]
    refine ⟨vi, ?_⟩
    by_cases z : rd r ≤ nI go
    · have e : sy_d (nI go) (rd r) = rd r := if_pos z
      rw [e] at h
      exact br_t z ⟨vi, h⟩
    · have e : sy_d (nI go) (rd r) = 0 := if_neg z
      rw [e] at h
      exact br_f z h
  rw [wY_sync_63]
  dsimp only
  rw [nI_clamp (n := i) (by omega), e1, e2, e3]
  refine br_f (nI_pos (by omega)) (br_f (nI_ge (by omega) (by omega)) ⟨vi, vi, vi, ?_⟩)
  rcases born_Y (g_done := nI dn) (g_changes := nI cg) (g_volume := nI vo) (g_snaps := nI ns) (g_upTo := nI sy) (g_underWay := sg) (g_goal := nI go) (g_anySent := bg) (g_lastObj := cO) (g_lastKey := cK) (g_lastBorn := cB) (ys := sn) (yh := yh) G (v := 1) (by decide) hc P (ro r) (rk r) (rb r) with ⟨m, j, b1, b2, b3, b4, b5, b6, hB⟩ | ⟨bno, hB⟩
  · rw [show 100 * 1 + j = 100 + j by omega] at b6 hB
    refine hB _ (br_t (nI_pos' (by omega)) (w115 _ ?_))
    unfold wY_sync_138
    rw [nI_clamp (n := 100 + j) (by omega)]
    exact br_f (nI_pos (by omega)) ⟨vp_in_nI (by omega) (by decide), nm_e (sy_188 (by omega) e1 e2 e3 (Ku m j b1 ⟨b3, b4, b5⟩ b2 b6))⟩
  · refine hB _ (br_f (by decide) ?_)
    rw [hc]
    by_cases hl : (L 1).length = 100
    · rw [hl]
      exact br_t rfl (Kf bno hl)
    · refine br_f (fun z => hl ((nI_eq (b := 100) (by omega) (by omega)).mp z)) (w115 _ ?_)
      unfold wY_sync_138
      rw [nI_clamp (n := i) (by omega), e1, e2, e3, e5]
      refine br_t (by decide) ⟨vi, vi, vi, vi, wy_add (v := 1) (by decide) hc (by omega) ?_⟩
      rw [show 100 * 1 + (L 1).length = 100 + (L 1).length by omega]
      refine sy_188 (by omega) ?_ ?_ ?_ (Kn bno (by omega))
      · rw [pk_un (by omega)]; exact e1
      · rw [pk_un (by omega)]; exact e2
      · rw [pk_un (by omega)]; exact e3
end SY
end
section
/-! ===== sync, both sides in step ===== -/
theorem sy_loop {k n dn cg un vo ns sy go c2 : Nat} {fO fK fV fB v1 : Int32} {ur ud uv ua sn yh : Nat → Int32} {start : SY} (hk : k + 4 ≤ 2048) (hn : n ≤ 50) :
    ∀ (f s : Nat) (fn : Nat) (f_freeRecord bg cO cK cB : Int32) (ro rk rb rd rv rw : Nat → Int32) (co le re ch : Nat → Nat) (la rt sz pa sp yo yk yb yd yv yc : Nat → Int32) (L : Nat → List Nat) (FR : List Nat) (x3 xi : Int32), s ≤ n → n < f + s → rl_F (k + 4) fn dn cg un vo ns sy go c2 f_freeRecord 1 bg cO cK cB fO fK fV fB ro rk rb rd rv rw co le re ch la rt sz ur ud uv ua yo yk yb yd yv yc yh L FR →
      ((x3 = -1 ∧ xi = -1 ∧ sy_0 ro rk rb rd (L 0) (nI sy) (nI go) bg cO cK cB) ∨ (∃ r i, x3 = nI r ∧ xi = nI i ∧ sy_N ro rk rb rd rv (L 0) yo yk yb yd yv (nI sy) (nI go) bg cO cK cB r i)) →
      (∀ q : Int32 → SY → Prop, (∃ h, wY_sync_63 q (nI n) h (nI s) xi (nI dn) (nI cg) (nI vo) (nI ns) (nI sy) 1 (nI go) bg cO cK cB yo yk yb yd yv yc sn yh) → wpY_sync q start v1) →
      wX_sync_63 (fun r u' => wpY_sync (fun r' v' => r' = r ∧ i_Rel (k + 4) u' v') start v1) (nI n) f (nI s) x3 (nI fn) f_freeRecord (nI dn) (nI cg) (nI un) (nI vo) (nI ns) 1 (nI sy) (nI go) cO cK cB bg fO fK fV fB ro rk rb rd rv rw (ar_n co) (ar_n le) (ar_n re) (ar_n ch) la rt sz pa sp ur ud uv ua sn := by
  intro f
  induction f with
  | zero => intro s fn f_freeRecord bg cO cK cB ro rk rb rd rv rw co le re ch la rt sz pa sp yo yk yb yd yv yc L FR x3 xi _ h; omega
  | succ f ih =>
    intro s fn f_freeRecord bg cO cK cB ro rk rb rd rv rw co le re ch la rt sz pa sp yo yk yb yd yv yc L FR x3 xi hs hf F cur Z
    rcases cur with ⟨rfl, rfl, no⟩ | ⟨r, i, rfl, rfl, N⟩
    · -- all is sent
      rw [wX_sync_63]
      refine br_t (by decide) ?_
      unfold wX_sync_97
      refine br_f (by decide) (Z _ ⟨1, ?_⟩)
      rw [wY_sync_63]
      refine br_t (by decide) ?_
      unfold wY_sync_234
      refine br_f (by decide) ⟨rfl, ?_⟩
      obtain ⟨f1, f2, f3, f4, f5, f6, f7, G, D, J, f11⟩ := F
      have hgo : go < 2000 := by have := (J.2.2.2.2.2.2.2.2 rfl).2; omega
      have hsy : sy < 2000 := by have := J.2.2.2.2.2.2.2.1; omega
      have J' := iv_end (sg' := (0 : Int32) = 1) (bg' := bg = 1) (go' := go) (cq' := ky_e cO cK cB) D.2.2.2.2.2.2.2.2 J rfl (by decide) (fun x hx h1 h2 => by
        obtain ⟨a, ha, rfl⟩ := List.mem_map.mp hx
        exact no a ha (fun z => h1 ((bg_iff f7).mp z)) ((sy_ci (x := yt_t ro rk rb rd rv a) hsy hgo).mpr h2))
      have F2 : rl_F (k + 4) fn dn cg un vo ns go go c2 f_freeRecord 0 bg cO cK cB fO fK fV fB ro rk rb rd rv rw co le re ch la rt sz ur ud uv ua yo yk yb yd yv yc yh L FR := ⟨f1, f2, f3, f4, f5, Or.inl rfl, f7, G, D, J', f11⟩
      exact rl_in F2
    · have h0 := N.1
      have G := F.2.2.2.2.2.2.2.1
      obtain ⟨-, -, h200, -, -, -, h0100, -⟩ := gx_ls G (v := 0) (by decide)
      have hr := h200 r h0
      have hi := N.2.1
      obtain ⟨-, W2, W3⟩ := rl_V F (v := 1) (by decide)
      rw [wX_sync_63]
      dsimp only
      refine br_f (nI_pos (by omega)) ?_
      by_cases e : s = n
      · subst e
        refine br_t (Int32.le_refl _) ?_
        unfold wX_sync_97
        refine br_t (nI_pos' (by omega)) (Z _ ⟨1, ?_⟩)
        rw [wY_sync_63]
        refine br_f (nI_pos (by omega)) (br_t (Int32.le_refl _) ?_)
        unfold wY_sync_234
        exact br_t (nI_pos' (by omega)) ⟨rfl, rl_in F⟩
      · refine br_f (nI_ge (by omega) (by omega)) (sx_send G h0 (fun no hl => ?_) (fun m hm em la' pa' G' => ?_) (fun no hl m FR' A B co' le' re' ch' la' pa' rt' sz' fn' eF eL G' => ?_))
        · -- no room
          refine br_t rfl (Z _ ⟨1, sy_Y (f := 0) G W2 W3 (by omega) hn (by omega) N.2.2.1 (fun _ _ => ⟨rfl, rl_in F⟩) (fun m j hm em => absurd em (no m hm)) (fun _ z => absurd hl (by omega))⟩)
        · -- it was there
          obtain ⟨j, hj, ej⟩ := yt_mem.mp (W3.mem_iff.mp (List.mem_map.mpr ⟨m, hm, rfl⟩))
          rw [show 100 * 1 + j = 100 + j by omega] at ej
          have F2 := sd_upd F (by omega) rfl N hm em hj ej G'
          refine br_f (by decide) (nm_r (nI_1 s) ?_)
          have Z2 : ∀ (xi' : Int32), (∀ p : Int32 → Prop, p xi' → wpY_nextToSend p ((nI dn), (nI cg), (nI vo), (nI ns), (nI sy), 1, (nI go), 1, (ro r), (rk r), (rb r), yo, yk, yb, (upd yd (100 + j) (sy_d (nI go) (rd r))), yv, yc, sn, yh)) → ∀ q : Int32 → SY → Prop, (∃ h, wY_sync_63 q (nI n) h (nI (s + 1)) xi' (nI dn) (nI cg) (nI vo) (nI ns) (nI sy) 1 (nI go) 1 (ro r) (rk r) (rb r) yo yk yb (upd yd (100 + j) (sy_d (nI go) (rd r))) yv yc sn yh) → wpY_sync q start v1 := by
            intro xi' hY q ⟨h, hq⟩
            refine Z q ⟨h + 1, sy_Y (f := h) G W2 W3 (by omega) hn (by omega) N.2.2.1 (fun no => absurd em (no m hm)) (fun m' j' hm' em' hj' ej' => ?_) (fun no => absurd em (no m hm))⟩
            have g1 := (gx_ls G (v := 1) (by decide)).1
            have emm : m' = m := ky_in g1 m' hm' m hm (by unfold ky_r; rw [em'.1, em'.2.1, em'.2.2, em.1, em.2.1, em.2.2])
            rw [emm] at ej'
            have nd := W3.nodup (gx_nd' (rv := rv) G (v := 1) (by decide))
            have ejj : j' = j := yt_inj nd hj' hj (by rw [show 100 * 1 + j' = 100 + j' by omega, show 100 * 1 + j = 100 + j by omega]; exact ej'.trans ej.symm)
            rw [ejj]
            exact hY _ hq
          rcases nx_both (pa := pa') (sp := sp) (sn := sn) F2 with ⟨r', i', N', hX, hY⟩ | ⟨no', hX, hY⟩
          · refine hX _ (fun pa2 sp2 => ?_)
            exact ih (s + 1) fn f_freeRecord 1 (ro r) (rk r) (rb r) ro rk rb (upd rd m (sy_d (nI go) (rd r))) rv rw co le re ch la' rt sz pa2 sp2 yo yk yb (upd yd (100 + j) (sy_d (nI go) (rd r))) yv yc L FR (nI r') (nI i') (by omega) (by omega) F2 (Or.inr ⟨r', i', rfl, rfl, N'⟩) (Z2 (nI i') hY)
          · refine hX _ (fun pa2 sp2 => ?_)
            exact ih (s + 1) fn f_freeRecord 1 (ro r) (rk r) (rb r) ro rk rb (upd rd m (sy_d (nI go) (rd r))) rv rw co le re ch la' rt sz pa2 sp2 yo yk yb (upd yd (100 + j) (sy_d (nI go) (rd r))) yv yc L FR (-1) (-1) (by omega) (by omega) F2 (Or.inl ⟨rfl, rfl, no'⟩) (Z2 (-1) hY)
        · -- it is new
          have F2 := sd_new F (by omega) rfl N hl eF eL no G'
          refine br_f (by decide) (nm_r (nI_1 s) ?_)
          have Z2 : ∀ (xi' : Int32), (∀ p : Int32 → Prop, p xi' → wpY_nextToSend p ((nI dn), (nI cg), (nI vo), (nI ns), (nI sy), 1, (nI go), 1, (ro r), (rk r), (rb r), (upd yo (100 + (L 1).length) (ro r)), (upd yk (100 + (L 1).length) (rk r)), (upd yb (100 + (L 1).length) (rb r)), (upd yd (100 + (L 1).length) (sy_d (nI go) (rd r))), (upd yv (100 + (L 1).length) (rv r)), (upd yc 1 (nI ((L 1).length + 1))), sn, yh)) → ∀ q : Int32 → SY → Prop, (∃ h, wY_sync_63 q (nI n) h (nI (s + 1)) xi' (nI dn) (nI cg) (nI vo) (nI ns) (nI sy) 1 (nI go) 1 (ro r) (rk r) (rb r) (upd yo (100 + (L 1).length) (ro r)) (upd yk (100 + (L 1).length) (rk r)) (upd yb (100 + (L 1).length) (rb r)) (upd yd (100 + (L 1).length) (sy_d (nI go) (rd r))) (upd yv (100 + (L 1).length) (rv r)) (upd yc 1 (nI ((L 1).length + 1))) sn yh) → wpY_sync q start v1 := by
            intro xi' hY q ⟨h, hq⟩
            exact Z q ⟨h + 1, sy_Y (f := h) G W2 W3 (by omega) hn (by omega) N.2.2.1 (fun _ z => absurd hl (by omega)) (fun m' j' hm' em' => absurd em' (no m' hm')) (fun _ _ => hY _ hq)⟩
          rcases nx_both (pa := pa') (sp := sp) (sn := sn) F2 with ⟨r', i', N', hX, hY⟩ | ⟨no', hX, hY⟩
          · refine hX _ (fun pa2 sp2 => ?_)
            exact ih (s + 1) fn' (rb m) 1 (ro r) (rk r) (rb r) (upd ro m (ro r)) (upd rk m (rk r)) (upd rb m (rb r)) (upd rd m (sy_d (nI go) (rd r))) (upd rv m (rv r)) (upd rw m (nI 1)) co' le' re' ch' la' rt' sz' pa2 sp2 (upd yo (100 + (L 1).length) (ro r)) (upd yk (100 + (L 1).length) (rk r)) (upd yb (100 + (L 1).length) (rb r)) (upd yd (100 + (L 1).length) (sy_d (nI go) (rd r))) (upd yv (100 + (L 1).length) (rv r)) (upd yc 1 (nI ((L 1).length + 1))) (ls_u L 1 (A ++ m :: B)) FR' (nI r') (nI i') (by omega) (by omega) F2 (Or.inr ⟨r', i', rfl, rfl, N'⟩) (Z2 (nI i') hY)
          · refine hX _ (fun pa2 sp2 => ?_)
            exact ih (s + 1) fn' (rb m) 1 (ro r) (rk r) (rb r) (upd ro m (ro r)) (upd rk m (rk r)) (upd rb m (rb r)) (upd rd m (sy_d (nI go) (rd r))) (upd rv m (rv r)) (upd rw m (nI 1)) co' le' re' ch' la' rt' sz' pa2 sp2 (upd yo (100 + (L 1).length) (ro r)) (upd yk (100 + (L 1).length) (rk r)) (upd yb (100 + (L 1).length) (rb r)) (upd yd (100 + (L 1).length) (sy_d (nI go) (rd r))) (upd yv (100 + (L 1).length) (rv r)) (upd yc 1 (nI ((L 1).length + 1))) (ls_u L 1 (A ++ m :: B)) FR' (-1) (-1) (by omega) (by omega) F2 (Or.inl ⟨rfl, rfl, no'⟩) (Z2 (-1) hY)
theorem i_vc_sync {k : Nat} {u : SX} {v : SY} (I : i_Rel k u v) (hk : k + 4 ≤ 2048) (v1 : Int32) : wpX_sync (fun r u' => wpY_sync (fun r' v' => r' = r ∧ i_Rel (k + 4) u' v') v v1) u v1 := by
  refine rl_el (P := fun u v => wpX_sync (fun r u' => wpY_sync (fun r' v' => r' = r ∧ i_Rel (k + 4) u' v') v v1) u v1) ?_ I
  intro fn dn cg un vo ns sy go c2 f_freeRecord sg bg cO cK cB fO fK fV fB ro rk rb rd rv rw co le re ch la rt sz pa sp ur ud uv ua sn yo yk yb yd yv yc yh L FR F
  have F' : rl_F (k + 4) fn dn cg un vo ns sy go c2 f_freeRecord sg bg cO cK cB fO fK fV fB ro rk rb rd rv rw co le re ch la rt sz ur ud uv ua yo yk yb yd yv yc yh L FR := ⟨Nat.le_trans F.1 (Nat.le_add_right k 4), F.2⟩
  by_cases h1 : v1 < 1
  · exact br_t h1 (br_t h1 ⟨rfl, rl_in F'⟩)
  · by_cases h50 : 50 < v1
    · exact br_f h1 (br_t h50 (br_f h1 (br_t h50 ⟨rfl, rl_in F'⟩)))
    · obtain ⟨n, hn, rfl⟩ : ∃ n : Nat, n ≤ 50 ∧ v1 = nI n := nI_of2 (M := 50) (n := 50) (by decide) (fun z => h1 (Int32.lt_of_lt_of_le z (by decide))) (Int32.not_lt.mp h50)
      have hdn : dn < 2000 := by have := F.1; omega
      have hsy : sy ≤ dn := by
        have := F.2.2.2.2.2.2.2.2.2.1.2.2.2.2.2.2.2.1
        omega
      by_cases hsg : sg = 0
      · subst hsg
        by_cases e : sy = dn
        · subst e
          exact br_f h1 (br_f h50 (br_t rfl (br_t rfl (br_f h1 (br_f h50 (br_t rfl (br_t rfl ⟨rfl, rl_in F'⟩)))))))
        · have e' : ¬ nI sy = nI dn := fun z => e ((nI_eq (by omega) (by omega)).mp z)
          have F0 : rl_F (k + 4) fn dn cg un vo ns sy dn c2 f_freeRecord 1 0 cO cK cB fO fK fV fB ro rk rb rd rv rw co le re ch la rt sz ur ud uv ua yo yk yb yd yv yc yh L FR := by
            obtain ⟨f1, f2, f3, f4, f5, f6, f7, G, D, J, f11⟩ := F'
            exact ⟨f1, f2, f3, f4, f5, Or.inr rfl, Or.inl rfl, G, D, iv_start J (by decide), f11⟩
          refine br_f h1 (br_f h50 (br_t rfl (br_f e' ?_)))
          unfold wX_sync_31 wX_sync_56
          refine br_t rfl ?_
          have Z : ∀ (xi : Int32), (∀ p : Int32 → Prop, p xi → wpY_nextToSend p ((nI dn), (nI cg), (nI vo), (nI ns), (nI sy), 1, (nI dn), 0, cO, cK, cB, yo, yk, yb, yd, yv, yc, sn, yh)) → ∀ q : Int32 → SY → Prop, (∃ h, wY_sync_63 q (nI n) h (nI 0) xi (nI dn) (nI cg) (nI vo) (nI ns) (nI sy) 1 (nI dn) 0 cO cK cB yo yk yb yd yv yc sn yh) → wpY_sync q ((nI dn), (nI cg), (nI vo), (nI ns), (nI sy), 0, (nI go), bg, cO, cK, cB, yo, yk, yb, yd, yv, yc, sn, yh) (nI n) := by
            intro xi hY q hq
            refine br_f h1 (br_f h50 (br_t rfl (br_f e' ?_)))
            unfold wY_sync_31 wY_sync_56
            exact br_t rfl (hY _ hq)
          rcases nx_both (pa := pa) (sp := sp) (sn := sn) F0 with ⟨r', i', N', hX, hY⟩ | ⟨no', hX, hY⟩
          · refine hX _ (fun pa2 sp2 => ⟨n + 1, ?_⟩)
            exact sy_loop hk hn (n + 1) 0 fn f_freeRecord 0 cO cK cB ro rk rb rd rv rw co le re ch la rt sz pa2 sp2 yo yk yb yd yv yc L FR (nI r') (nI i') (by omega) (by omega) F0 (Or.inr ⟨r', i', rfl, rfl, N'⟩) (Z (nI i') hY)
          · refine hX _ (fun pa2 sp2 => ⟨n + 1, ?_⟩)
            exact sy_loop hk hn (n + 1) 0 fn f_freeRecord 0 cO cK cB ro rk rb rd rv rw co le re ch la rt sz pa2 sp2 yo yk yb yd yv yc L FR (-1) (-1) (by omega) (by omega) F0 (Or.inl ⟨rfl, rfl, no'⟩) (Z (-1) hY)
      · have hs1 : sg = 1 := F.2.2.2.2.2.1.resolve_left hsg
        subst hs1
        refine br_f h1 (br_f h50 (br_f hsg ?_))
        unfold wX_sync_31 wX_sync_56
        refine br_f hsg ?_
        have Z : ∀ (xi : Int32), (∀ p : Int32 → Prop, p xi → wpY_nextToSend p ((nI dn), (nI cg), (nI vo), (nI ns), (nI sy), 1, (nI go), bg, cO, cK, cB, yo, yk, yb, yd, yv, yc, sn, yh)) → ∀ q : Int32 → SY → Prop, (∃ h, wY_sync_63 q (nI n) h (nI 0) xi (nI dn) (nI cg) (nI vo) (nI ns) (nI sy) 1 (nI go) bg cO cK cB yo yk yb yd yv yc sn yh) → wpY_sync q ((nI dn), (nI cg), (nI vo), (nI ns), (nI sy), 1, (nI go), bg, cO, cK, cB, yo, yk, yb, yd, yv, yc, sn, yh) (nI n) := by
          intro xi hY q hq
          refine br_f h1 (br_f h50 (br_f hsg ?_))
          unfold wY_sync_31 wY_sync_56
          exact br_f hsg (hY _ hq)
        rcases nx_both (pa := pa) (sp := sp) (sn := sn) F' with ⟨r', i', N', hX, hY⟩ | ⟨no', hX, hY⟩
        · refine hX _ (fun pa2 sp2 => ⟨n + 1, ?_⟩)
          exact sy_loop hk hn (n + 1) 0 fn f_freeRecord bg cO cK cB ro rk rb rd rv rw co le re ch la rt sz pa2 sp2 yo yk yb yd yv yc L FR (nI r') (nI i') (by omega) (by omega) F' (Or.inr ⟨r', i', rfl, rfl, N'⟩) (Z (nI i') hY)
        · refine hX _ (fun pa2 sp2 => ⟨n + 1, ?_⟩)
          exact sy_loop hk hn (n + 1) 0 fn f_freeRecord bg cO cK cB ro rk rb rd rv rw co le re ch la rt sz pa2 sp2 yo yk yb yd yv yc L FR (-1) (-1) (by omega) (by omega) F' (Or.inl ⟨rfl, rfl, no'⟩) (Z (-1) hY)
end
