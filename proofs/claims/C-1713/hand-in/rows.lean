section
/-! rows of kit/rows/PURE-ROWS, pasted -/
theorem pk_us {f : Nat → Int32} {k : Nat} {x : Int32} : upd f k x k = x := if_pos rfl
theorem pk_un {f : Nat → Int32} {k j : Nat} {x : Int32} (h : j ≠ k) : upd f k x j = f j := if_neg h
theorem pk_sub {a b : Nat} (h : b ≤ a) : nI a - nI b = nI (a - b) := by
  obtain ⟨c, rfl⟩ : ∃ c, a = c + b := ⟨a - b, by omega⟩
  rw [← nI_add, Int32.add_sub_cancel, Nat.add_sub_cancel]
theorem pk_m1 (n : Nat) : nI (n + 1) + (-1) = nI n := by
  rw [← nI_1, Int32.add_assoc, show (1 : Int32) + (-1) = 0 from rfl, Int32.add_zero]
theorem pk_mul (a b : Nat) : nI a * nI b = nI (a * b) := (Int32.ofNat_mul a b).symm
theorem pk_ix (x : Int32) {n : Nat} (hn : n < 2 ^ 31) : x < 0 ∨ nI n ≤ x ∨ ∃ j : Nat, j < n ∧ x = nI j := by
  by_cases h : x < 0
  · exact Or.inl h
  · obtain ⟨j, hj, rfl⟩ := nI_of h
    by_cases h2 : j < n
    · exact Or.inr (Or.inr ⟨j, h2, rfl⟩)
    · exact Or.inr (Or.inl (nI_le (by omega) hj))
theorem pk_le {x y : Int32} {A B : Prop} (a b : Nat) (f : a ≤ b → A) (g : b < a → B) (hx : x = nI a := by rfl) (hy : y = nI b := by rfl) (ha : a < 2 ^ 31 := by omega) (hb : b < 2 ^ 31 := by omega) : (x ≤ y → A) ∧ (¬ x ≤ y → B) := by
  subst hx hy
  rw [nI_leI ha hb]
  exact ⟨f, fun z => g (by omega)⟩
theorem pk_lt {x y : Int32} {A B : Prop} (a b : Nat) (f : a < b → A) (g : b ≤ a → B) (hx : x = nI a := by rfl) (hy : y = nI b := by rfl) (ha : a < 2 ^ 31 := by omega) (hb : b < 2 ^ 31 := by omega) : (x < y → A) ∧ (¬ x < y → B) := by
  subst hx hy
  rw [nI_ltI ha hb]
  exact ⟨f, fun z => g (by omega)⟩
theorem pk_eq {x y : Int32} {A B : Prop} (a b : Nat) (f : a = b → A) (g : a ≠ b → B) (hx : x = nI a := by rfl) (hy : y = nI b := by rfl) (ha : a < 2 ^ 31 := by omega) (hb : b < 2 ^ 31 := by omega) : (x = y → A) ∧ (¬ x = y → B) := by
  subst hx hy
  rw [nI_eq ha hb]
  exact ⟨f, g⟩
theorem pk_in {x : Int32} (n N : Nat) (h : n < N) (hx : x = nI n := by rfl) (hN : N < 2 ^ 31 := by omega) : vp_in x N := by
  subst hx
  exact vp_in_nI h hN
theorem pk_cl {x : Int32} (n : Nat) (hx : x = nI n := by rfl) (h : n < 2 ^ 31 := by omega) : x.toNatClampNeg = n := by
  subst hx
  exact nI_clamp h
theorem pk_tn {n : Nat} (h : n < 2 ^ 32) : (nI n).toBitVec.toNat = n := Nat.mod_eq_of_lt h
theorem pk_and (x : Int32) {m : Int32} (k : Nat) (hm : m.toBitVec.toNat = 2 ^ k - 1) : x &&& m = nI (x.toBitVec.toNat % 2 ^ k) := by
  apply Int32.toBitVec_inj.mp
  apply BitVec.eq_of_toNat_eq
  rw [Int32.toBitVec_and, BitVec.toNat_and, hm, Nat.and_two_pow_sub_one_eq_mod]
  show _ = (BitVec.ofNat 32 _).toNat
  rw [BitVec.toNat_ofNat]
  exact (Nat.mod_eq_of_lt (Nat.lt_of_le_of_lt (Nat.mod_le _ _) x.toBitVec.isLt)).symm
theorem pk_andN {n : Nat} (h : n < 2 ^ 32) {m : Int32} (k : Nat) (hm : m.toBitVec.toNat = 2 ^ k - 1) : nI n &&& m = nI (n % 2 ^ k) := by
  rw [pk_and _ k hm, pk_tn h]
theorem pk_andE (x : Int32) {m : Int32} (k : Nat) (hm : m.toBitVec.toNat = 2 ^ k - 1) : ∃ j : Nat, j < 2 ^ k ∧ x &&& m = nI j := ⟨_, Nat.mod_lt _ (Nat.two_pow_pos k), pk_and x k hm⟩
theorem pk_andIn (x : Int32) {m : Int32} (k : Nat) (hm : m.toBitVec.toNat = 2 ^ k - 1) (hk : k ≤ 30) : vp_in (x &&& m) (2 ^ k) := by
  obtain ⟨j, hj, e⟩ := pk_andE x k hm
  rw [e]
  exact vp_in_nI hj (Nat.lt_of_le_of_lt (Nat.pow_le_pow_right (by decide) hk) (by decide))
end
section
/-! truth values as ints, and masks of three threads -/
noncomputable def ie_d (P : Prop) : Bool := @decide P (Classical.propDecidable P)
theorem ie_dt {P : Prop} (h : P) : ie_d P = true := @decide_eq_true P (Classical.propDecidable P) h
theorem ie_df {P : Prop} (h : ¬ P) : ie_d P = false := @decide_eq_false P (Classical.propDecidable P) h
theorem ie_di {P : Prop} : ie_d P = true ↔ P := ⟨fun h => @of_decide_eq_true P (Classical.propDecidable P) h, ie_dt⟩
theorem ie_dor (P Q : Prop) : ie_d (P ∨ Q) = (ie_d P || ie_d Q) := by
  rcases Classical.em P with h | h <;> rcases Classical.em Q with k | k <;> simp [ie_d, h, k]
theorem ie_dand (P Q : Prop) : ie_d (P ∧ Q) = (ie_d P && ie_d Q) := by
  rcases Classical.em P with h | h <;> rcases Classical.em Q with k | k <;> simp [ie_d, h, k]
theorem ie_dnot (P : Prop) : ie_d (¬ P) = !(ie_d P) := by
  rcases Classical.em P with h | h <;> simp [ie_d, h]
noncomputable def ie_b (P : Prop) : Int32 := bif ie_d P then 1 else 0
theorem ie_b1 {P : Prop} (h : P) : ie_b P = 1 := by unfold ie_b; rw [ie_dt h]; rfl
theorem ie_b0 {P : Prop} (h : ¬ P) : ie_b P = 0 := by unfold ie_b; rw [ie_df h]; rfl
theorem ie_bz {P : Prop} : ie_b P = 0 ↔ ¬ P := by
  rcases Classical.em P with h | h
  · rw [ie_b1 h]; exact ⟨fun z => absurd z (by decide), fun z => absurd h z⟩
  · rw [ie_b0 h]; exact ⟨fun _ => h, fun _ => rfl⟩
theorem ie_bo {P : Prop} : ie_b P = 1 ↔ P := by
  rcases Classical.em P with h | h
  · rw [ie_b1 h]; exact ⟨fun _ => h, fun _ => rfl⟩
  · rw [ie_b0 h]; exact ⟨fun z => absurd z (by decide), fun z => absurd z h⟩
theorem ie_be {P Q : Prop} (h : P ↔ Q) : ie_b P = ie_b Q := by rw [propext h]
theorem ie_bn (P : Prop) : narrow .boolean (.int (ie_b P)) = .int (ie_b P) := by
  rcases Classical.em P with h | h
  · rw [ie_b1 h]; rfl
  · rw [ie_b0 h]; rfl
def ie_m3 (x y z : Bool) : Int32 := (bif x then 1 else 0) + (bif y then 2 else 0) + (bif z then 4 else 0)
noncomputable def ie_mk (Z : Nat → Prop) : Int32 := ie_m3 (ie_d (Z 0)) (ie_d (Z 1)) (ie_d (Z 2))
theorem ie_m3_or : ∀ x y z p q r : Bool, ie_m3 x y z ||| ie_m3 p q r = ie_m3 (x || p) (y || q) (z || r) := by decide +kernel
theorem ie_m3_nand : ∀ x y z p q r : Bool, ie_m3 x y z &&& (ie_m3 p q r ^^^ (-1)) = ie_m3 (x && !p) (y && !q) (z && !r) := by decide +kernel
theorem ie_m3_0 : ∀ x y z : Bool, ie_m3 x y z = 0 ↔ x = false ∧ y = false ∧ z = false := by decide +kernel
theorem ie_m3_s0 : ∀ x y z : Bool, ((ie_m3 x y z >>> (nI 0 &&& 31)) &&& 1) = 1 ↔ x = true := by decide +kernel
theorem ie_m3_s1 : ∀ x y z : Bool, ((ie_m3 x y z >>> (nI 1 &&& 31)) &&& 1) = 1 ↔ y = true := by decide +kernel
theorem ie_m3_s2 : ∀ x y z : Bool, ((ie_m3 x y z >>> (nI 2 &&& 31)) &&& 1) = 1 ↔ z = true := by decide +kernel
theorem ie_m3_a1 : ∀ x y z : Bool, (ie_m3 x y z &&& 1) = 1 ↔ x = true := by decide +kernel
theorem ie_m3_a2 : ∀ x y z : Bool, (ie_m3 x y z &&& 2) = 2 ↔ y = true := by decide +kernel
theorem ie_lt3 {P : Nat → Prop} (h0 : P 0) (h1 : P 1) (h2 : P 2) : ∀ t, t < 3 → P t := by
  intro t ht
  match t, ht with
  | 0, _ => exact h0
  | 1, _ => exact h1
  | 2, _ => exact h2
theorem ie_mk_e {Z Z' : Nat → Prop} (h : ∀ t, t < 3 → (Z t ↔ Z' t)) : ie_mk Z = ie_mk Z' := by
  unfold ie_mk
  rw [propext (h 0 (by omega)), propext (h 1 (by omega)), propext (h 2 (by omega))]
theorem ie_mk_or (Z T : Nat → Prop) : ie_mk Z ||| ie_mk T = ie_mk (fun u => Z u ∨ T u) := by
  unfold ie_mk
  rw [ie_m3_or, ie_dor, ie_dor, ie_dor]
theorem ie_mk_nand (E Z : Nat → Prop) : ie_mk E &&& (ie_mk Z ^^^ (-1)) = ie_mk (fun u => E u ∧ ¬ Z u) := by
  unfold ie_mk
  rw [ie_m3_nand, ie_dand, ie_dand, ie_dand, ie_dnot, ie_dnot, ie_dnot]
theorem ie_one : ∀ t, t < 3 → (1 : Int32) <<< (nI t &&& 31) = ie_mk (fun u => u = t) := by
  apply ie_lt3
  · have h : ie_mk (fun u => u = 0) = ie_m3 true false false := by unfold ie_mk; rw [ie_dt rfl, ie_df (by decide), ie_df (by decide)]
    rw [h]; decide +kernel
  · have h : ie_mk (fun u => u = 1) = ie_m3 false true false := by unfold ie_mk; rw [ie_dt rfl, ie_df (by decide), ie_df (by decide)]
    rw [h]; decide +kernel
  · have h : ie_mk (fun u => u = 2) = ie_m3 false false true := by unfold ie_mk; rw [ie_dt rfl, ie_df (by decide), ie_df (by decide)]
    rw [h]; decide +kernel
theorem ie_mk_set (T : Nat → Prop) {t : Nat} (ht : t < 3) : ie_mk T ||| ((1 : Int32) <<< (nI t &&& 31)) = ie_mk (fun u => T u ∨ u = t) := by
  rw [ie_one t ht, ie_mk_or]
theorem ie_mk_clr (L : Nat → Prop) {t : Nat} (ht : t < 3) : ie_mk L &&& (((1 : Int32) <<< (nI t &&& 31)) ^^^ (-1)) = ie_mk (fun u => L u ∧ ¬ u = t) := by
  rw [ie_one t ht, ie_mk_nand]
theorem ie_mk_0 {Z : Nat → Prop} : ie_mk Z = 0 ↔ ∀ t, t < 3 → ¬ Z t := by
  unfold ie_mk
  rw [ie_m3_0]
  constructor
  · rintro ⟨h0, h1, h2⟩
    refine ie_lt3 (fun z => ?_) (fun z => ?_) (fun z => ?_)
    · rw [ie_dt z] at h0; cases h0
    · rw [ie_dt z] at h1; cases h1
    · rw [ie_dt z] at h2; cases h2
  · intro h
    exact ⟨ie_df (h 0 (by omega)), ie_df (h 1 (by omega)), ie_df (h 2 (by omega))⟩
theorem ie_mk_F : ie_mk (fun _ => False) = 0 := ie_mk_0.mpr fun _ _ h => h
theorem ie_mk_bit {Z : Nat → Prop} {t : Nat} (ht : t < 3) : ((ie_mk Z >>> (nI t &&& 31)) &&& 1) = 1 ↔ Z t := by
  have key : ∀ t, t < 3 → (((ie_mk Z >>> (nI t &&& 31)) &&& 1) = 1 ↔ Z t) := by
    unfold ie_mk
    refine ie_lt3 ?_ ?_ ?_
    · rw [ie_m3_s0]; exact ie_di
    · rw [ie_m3_s1]; exact ie_di
    · rw [ie_m3_s2]; exact ie_di
  exact key t ht
theorem ie_mk_a1 {Z : Nat → Prop} : (ie_mk Z &&& 1) = 1 ↔ Z 0 := by unfold ie_mk; rw [ie_m3_a1]; exact ie_di
theorem ie_mk_a2 {Z : Nat → Prop} : (ie_mk Z &&& 2) = 2 ↔ Z 1 := by unfold ie_mk; rw [ie_m3_a2]; exact ie_di
/-- the three-fold loop of 'able' and 'sleepers': a bit a thread -/
noncomputable def ie_bb (P : Prop) (t : Nat) : Int32 := bif ie_d P then (1 : Int32) <<< (nI t &&& 31) else 0
theorem ie_m3_bb : ∀ x y z : Bool, (((0 : Int32) ||| (bif x then (1 : Int32) <<< (nI 0 &&& 31) else 0)) ||| (bif y then (1 : Int32) <<< (nI 1 &&& 31) else 0)) ||| (bif z then (1 : Int32) <<< (nI 2 &&& 31) else 0) = ie_m3 x y z := by decide +kernel
theorem ie_mk_bb (Z : Nat → Prop) : (((0 : Int32) ||| ie_bb (Z 0) 0) ||| ie_bb (Z 1) 1) ||| ie_bb (Z 2) 2 = ie_mk Z := ie_m3_bb _ _ _
theorem ie_bb1 {P : Prop} (h : P) (t : Nat) (x : Int32) : x ||| ie_bb P t = x ||| ((1 : Int32) <<< (nI t &&& 31)) := by unfold ie_bb; rw [ie_dt h]; rfl
theorem ie_bb0 {P : Prop} (h : ¬ P) (t : Nat) (x : Int32) : x ||| ie_bb P t = x := by unfold ie_bb; rw [ie_df h]; exact Int32.or_zero
theorem ie_m3_sum : ∀ x y z : Bool, ((bif x then (1 : Int32) else 0) + (bif y then 2 else 0)) + (bif z then 4 else 0) = ie_m3 x y z := fun _ _ _ => rfl
noncomputable def ie_bw (P : Prop) (w : Int32) : Int32 := bif ie_d P then w else 0
theorem ie_bw1 {P : Prop} (h : P) (w : Int32) : ie_bw P w = w := by unfold ie_bw; rw [ie_dt h]; rfl
theorem ie_bw0 {P : Prop} (h : ¬ P) (w : Int32) : ie_bw P w = 0 := by unfold ie_bw; rw [ie_df h]; rfl
theorem ie_mk_sum (Z : Nat → Prop) : (ie_bw (Z 0) 1 + ie_bw (Z 1) 2) + ie_bw (Z 2) 4 = ie_mk Z := rfl
end
section
/-! the pure machine: c = four variables, six registers, three places, two locks -/
def ie_p (c : Nat → Int32) (t : Nat) : Nat := (c (10 + t)).toNatClampNeg
def ie_i (c : Nat → Int32) (t : Nat) : Nat := t * 5 + ie_p c t
def ie_m1 (f : Nat → Int32) (i : Nat) : Nat := (f i &&& 1).toNatClampNeg
def ie_m4 (f : Nat → Int32) (i : Nat) : Nat := (f i &&& 3).toNatClampNeg
theorem ie_m1e (f : Nat → Int32) (i : Nat) : f i &&& 1 = nI (ie_m1 f i) ∧ ie_m1 f i < 2 := by
  obtain ⟨j, hj, e⟩ := pk_andE (f i) (m := 1) 1 (by decide)
  have h : ie_m1 f i = j := by unfold ie_m1; rw [e, nI_clamp (by omega)]
  rw [h]; exact ⟨e, by omega⟩
theorem ie_m4e (f : Nat → Int32) (i : Nat) : f i &&& 3 = nI (ie_m4 f i) ∧ ie_m4 f i < 4 := by
  obtain ⟨j, hj, e⟩ := pk_andE (f i) (m := 3) 2 (by decide)
  have h : ie_m4 f i = j := by unfold ie_m4; rw [e, nI_clamp (by omega)]
  rw [h]; exact ⟨e, by omega⟩
def ie_lk (o : Nat → Int32) (i : Nat) : Prop := o i = 4 ∨ o i = 5
def ie_wr (o : Nat → Int32) (i : Nat) : Prop := o i = 1 ∨ o i = 3 ∨ o i = 7
def ie_vo (o a b : Nat → Int32) (i : Nat) : Nat :=
  if o i = 0 ∨ o i = 1 ∨ o i = 3 ∨ o i = 7 then ie_m4 b i else if o i = 8 then ie_m4 a i else 9
def ie_ind (o a b : Nat → Int32) (i j : Nat) : Prop :=
  o i ≠ 6 ∧ o j ≠ 6 ∧ (ie_lk o i → ie_lk o j → ie_m1 a i ≠ ie_m1 a j) ∧ (ie_vo o a b i = ie_vo o a b j → ie_vo o a b i < 4 → ¬ ie_wr o i ∧ ¬ ie_wr o j)
def ie_en (s : Nat → Nat) (o a b c : Nat → Int32) (t : Nat) : Prop :=
  ie_p c t < s t ∧ (o (ie_i c t) = 4 → c (13 + ie_m1 a (ie_i c t)) = 0) ∧ (o (ie_i c t) = 8 → c (ie_m4 a (ie_i c t)) = b (ie_i c t))
def ie_fl (o a b c : Nat → Int32) (t : Nat) : Prop :=
  o (ie_i c t) = 6 ∧ c (4 + t * 2 + ie_m1 a (ie_i c t)) ≠ b (ie_i c t)
def ie_ef (o a b : Nat → Int32) (t i : Nat) (c : Nat → Int32) : Nat → Int32 :=
  if o i = 0 then upd c (4 + t * 2 + ie_m1 a i) (c (ie_m4 b i))
  else if o i = 1 then upd c (ie_m4 b i) (c (4 + t * 2 + ie_m1 a i))
  else if o i = 2 then upd c (4 + t * 2 + ie_m1 a i) (c (4 + t * 2 + ie_m1 a i) + b i)
  else if o i = 3 then upd c (ie_m4 b i) (a i)
  else if o i = 4 then upd c (13 + ie_m1 a i) (nI (t + 1))
  else if o i = 5 then (if c (13 + ie_m1 a i) = nI (t + 1) then upd c (13 + ie_m1 a i) 0 else c)
  else if o i = 7 then upd (upd c (4 + t * 2 + ie_m1 a i) (c (ie_m4 b i))) (ie_m4 b i) (c (4 + t * 2 + ie_m1 a i))
  else c
def ie_st (o a b c : Nat → Int32) (t : Nat) : Nat → Int32 := ie_ef o a b t (ie_i c t) (upd c (10 + t) (c (10 + t) + 1))
def ie_fin (s : Nat → Nat) (c : Nat → Int32) : Prop := ∀ t, t < 3 → ¬ ie_p c t < s t
def ie_W (s : Nat → Nat) (c : Nat → Int32) : Prop :=
  (∀ t, t < 3 → c (10 + t) = nI (ie_p c t) ∧ ie_p c t ≤ s t) ∧ (∀ k, k < 2 → ∃ m, m < 4 ∧ c (13 + k) = nI m)
/-- what an instruction looks at, and what it changes -/
def ie_ac (o a b : Nat → Int32) (t i j : Nat) : Prop :=
  j = 10 + t ∨ j = 4 + t * 2 ∨ j = 5 + t * 2 ∨ (ie_lk o i ∧ j = 13 + ie_m1 a i) ∨ (j < 4 ∧ j = ie_vo o a b i)
def ie_wt (o a b : Nat → Int32) (t i j : Nat) : Prop :=
  j = 10 + t ∨ j = 4 + t * 2 ∨ j = 5 + t * 2 ∨ (ie_lk o i ∧ j = 13 + ie_m1 a i) ∨ (ie_wr o i ∧ j < 4 ∧ j = ie_vo o a b i)
section
variable {s : Nat → Nat} {o a b c c' : Nat → Int32} {t u i k j : Nat}
theorem ie_wa (h : ie_wt o a b t i j) : ie_ac o a b t i j := by
  rcases h with h | h | h | h | ⟨_, h⟩
  · exact Or.inl h
  · exact Or.inr (Or.inl h)
  · exact Or.inr (Or.inr (Or.inl h))
  · exact Or.inr (Or.inr (Or.inr (Or.inl h)))
  · exact Or.inr (Or.inr (Or.inr (Or.inr h)))
theorem ie_is (h : ie_ind o a b i k) : ie_ind o a b k i := by
  obtain ⟨h1, h2, h3, h4⟩ := h
  exact ⟨h2, h1, fun x y e => h3 y x e.symm, fun e l => (h4 e.symm (by omega)).symm⟩
theorem ie_dj (ht : t < 3) (hu : u < 3) (h : t ≠ u) (hi : ie_ind o a b i k) (w : ie_wt o a b t i j) : ¬ ie_ac o a b u k j := by
  intro y
  obtain ⟨_, _, h3, h4⟩ := hi
  have q1 := (ie_m1e a i).2
  have q2 := (ie_m1e a k).2
  rcases w with w | w | w | ⟨l, w⟩ | ⟨x, w4, w⟩ <;> rcases y with y | y | y | ⟨l', y⟩ | ⟨y4, y⟩ <;> first | omega | skip
  · exact h3 l l' (by omega)
  · exact (h4 (by omega) (by omega)).1 x
theorem ie_vw (h : ie_wr o i) : ie_vo o a b i = ie_m4 b i := by
  unfold ie_vo
  rcases h with h | h | h
  · rw [if_pos (Or.inr (Or.inl h))]
  · rw [if_pos (Or.inr (Or.inr (Or.inl h)))]
  · rw [if_pos (Or.inr (Or.inr (Or.inr h)))]
theorem ie_ef_fr (h : ¬ ie_wt o a b t i j) : ie_ef o a b t i c j = c j := by
  have q1 := (ie_m1e a i).2
  have q4 := (ie_m4e b i).2
  have r : j ≠ 4 + t * 2 + ie_m1 a i := by
    intro e
    rcases (show ie_m1 a i = 0 ∨ ie_m1 a i = 1 by omega) with z | z
    · exact h (Or.inr (Or.inl (by omega)))
    · exact h (Or.inr (Or.inr (Or.inl (by omega))))
  have m : ie_lk o i → j ≠ 13 + ie_m1 a i := fun l e => h (Or.inr (Or.inr (Or.inr (Or.inl ⟨l, e⟩))))
  have v : ie_wr o i → j ≠ ie_m4 b i := fun l e => h (Or.inr (Or.inr (Or.inr (Or.inr ⟨l, by omega, by rw [ie_vw l]; exact e⟩))))
  unfold ie_ef
  by_cases o0 : o i = 0
  · rw [if_pos o0, pk_un r]
  rw [if_neg o0]
  by_cases o1 : o i = 1
  · rw [if_pos o1, pk_un (v (Or.inl o1))]
  rw [if_neg o1]
  by_cases o2 : o i = 2
  · rw [if_pos o2, pk_un r]
  rw [if_neg o2]
  by_cases o3 : o i = 3
  · rw [if_pos o3, pk_un (v (Or.inr (Or.inl o3)))]
  rw [if_neg o3]
  by_cases o4 : o i = 4
  · rw [if_pos o4, pk_un (m (Or.inl o4))]
  rw [if_neg o4]
  by_cases o5 : o i = 5
  · rw [if_pos o5]
    by_cases z : c (13 + ie_m1 a i) = nI (t + 1)
    · rw [if_pos z, pk_un (m (Or.inr o5))]
    · rw [if_neg z]
  rw [if_neg o5]
  by_cases o7 : o i = 7
  · rw [if_pos o7, pk_un (v (Or.inr (Or.inr o7))), pk_un r]
  rw [if_neg o7]
theorem ie_uc {k : Nat} {x x' : Int32} (hx : x = x') (h : c j = c' j) : upd c k x j = upd c' k x' j := by
  subst hx
  by_cases e : j = k
  · subst e; rw [pk_us, pk_us]
  · rw [pk_un e, pk_un e, h]
theorem ie_ef_lo (h : ∀ j, ie_ac o a b t i j → c j = c' j) (hj : ie_ac o a b t i j) : ie_ef o a b t i c j = ie_ef o a b t i c' j := by
  have q1 := (ie_m1e a i).2
  have q4 := (ie_m4e b i).2
  have r : c (4 + t * 2 + ie_m1 a i) = c' (4 + t * 2 + ie_m1 a i) := by
    apply h
    rcases (show ie_m1 a i = 0 ∨ ie_m1 a i = 1 by omega) with z | z
    · exact Or.inr (Or.inl (by omega))
    · exact Or.inr (Or.inr (Or.inl (by omega)))
  have m : ie_lk o i → c (13 + ie_m1 a i) = c' (13 + ie_m1 a i) := fun l => h _ (Or.inr (Or.inr (Or.inr (Or.inl ⟨l, rfl⟩))))
  have v : (o i = 0 ∨ o i = 1 ∨ o i = 3 ∨ o i = 7) → c (ie_m4 b i) = c' (ie_m4 b i) := fun l => h _ (Or.inr (Or.inr (Or.inr (Or.inr ⟨q4, by unfold ie_vo; rw [if_pos l]⟩))))
  have g := h j hj
  unfold ie_ef
  by_cases o0 : o i = 0
  · rw [if_pos o0, if_pos o0]; exact ie_uc (v (Or.inl o0)) g
  rw [if_neg o0, if_neg o0]
  by_cases o1 : o i = 1
  · rw [if_pos o1, if_pos o1]; exact ie_uc r g
  rw [if_neg o1, if_neg o1]
  by_cases o2 : o i = 2
  · rw [if_pos o2, if_pos o2]; exact ie_uc (by rw [r]) g
  rw [if_neg o2, if_neg o2]
  by_cases o3 : o i = 3
  · rw [if_pos o3, if_pos o3]; exact ie_uc rfl g
  rw [if_neg o3, if_neg o3]
  by_cases o4 : o i = 4
  · rw [if_pos o4, if_pos o4]; exact ie_uc rfl g
  rw [if_neg o4, if_neg o4]
  by_cases o5 : o i = 5
  · rw [if_pos o5, if_pos o5, m (Or.inr o5)]
    by_cases z : c' (13 + ie_m1 a i) = nI (t + 1)
    · rw [if_pos z, if_pos z]; exact ie_uc rfl g
    · rw [if_neg z, if_neg z]; exact g
  rw [if_neg o5, if_neg o5]
  by_cases o7 : o i = 7
  · rw [if_pos o7, if_pos o7]; exact ie_uc r (ie_uc (v (Or.inr (Or.inr (Or.inr o7)))) g)
  rw [if_neg o7, if_neg o7]; exact g
theorem ie_st_fr (h : ¬ ie_wt o a b t (ie_i c t) j) : ie_st o a b c t j = c j := by
  unfold ie_st
  rw [ie_ef_fr h, pk_un (fun e => h (Or.inl e))]
theorem ie_i_lo (h : ∀ j, ie_ac o a b t i j → c j = c' j) : ie_i c t = ie_i c' t := by
  unfold ie_i ie_p
  rw [h (10 + t) (Or.inl rfl)]
theorem ie_st_lo (h : ∀ j, ie_ac o a b t (ie_i c t) j → c j = c' j) (hj : ie_ac o a b t (ie_i c t) j) : ie_st o a b c t j = ie_st o a b c' t j := by
  unfold ie_st
  rw [← ie_i_lo h]
  exact ie_ef_lo (fun k hk => ie_uc (by rw [h (10 + t) (Or.inl rfl)]) (h k hk)) hj
theorem ie_en_lo1 (h : ∀ j, ie_ac o a b t (ie_i c t) j → c j = c' j) (e : ie_en s o a b c t) : ie_en s o a b c' t := by
  obtain ⟨e1, e2, e3⟩ := e
  have hi : ie_i c' t = ie_i c t := (ie_i_lo h).symm
  have hp : ie_p c' t = ie_p c t := by unfold ie_i at hi; omega
  refine ⟨by rw [hp]; exact e1, fun z => ?_, fun z => ?_⟩
  · rw [hi] at z ⊢
    rw [← h _ (Or.inr (Or.inr (Or.inr (Or.inl ⟨Or.inl z, rfl⟩))))]
    exact e2 z
  · rw [hi] at z ⊢
    have q : ie_vo o a b (ie_i c t) = ie_m4 a (ie_i c t) := by
      unfold ie_vo
      rw [if_neg (by rw [z]; decide), if_pos z]
    rw [← h _ (Or.inr (Or.inr (Or.inr (Or.inr ⟨(ie_m4e a _).2, q.symm⟩))))]
    exact e3 z
theorem ie_en_lo (h : ∀ j, ie_ac o a b t (ie_i c t) j → c j = c' j) : ie_en s o a b c t ↔ ie_en s o a b c' t :=
  ⟨ie_en_lo1 h, ie_en_lo1 (fun j hj => (h j (by rw [ie_i_lo h]; exact hj)).symm)⟩
/-- after another thread's independent step -/
theorem ie_apart (ht : t < 3) (hu : u < 3) (h : t ≠ u) (hi : ie_ind o a b (ie_i c t) (ie_i c u)) : ∀ j, ie_ac o a b u (ie_i c u) j → c j = ie_st o a b c t j :=
  fun _ hj => (ie_st_fr (fun w => ie_dj ht hu h hi w hj)).symm
theorem ie_comm (ht : t < 3) (hu : u < 3) (h : t ≠ u) (hi : ie_ind o a b (ie_i c t) (ie_i c u)) : ie_st o a b (ie_st o a b c t) u = ie_st o a b (ie_st o a b c u) t := by
  have A := ie_apart ht hu h hi
  have B := ie_apart hu ht (Ne.symm h) (ie_is hi)
  have iu : ie_i (ie_st o a b c t) u = ie_i c u := (ie_i_lo A).symm
  have it : ie_i (ie_st o a b c u) t = ie_i c t := (ie_i_lo B).symm
  funext j
  rcases Classical.em (ie_ac o a b u (ie_i c u) j) with x | x
  · rw [← ie_st_lo A x, ie_st_fr (c := ie_st o a b c u) (t := t) (by rw [it]; exact fun w => ie_dj ht hu h hi w x)]
  · have x1 : ¬ ie_wt o a b u (ie_i c u) j := fun w => x (ie_wa w)
    rw [ie_st_fr (c := ie_st o a b c t) (t := u) (by rw [iu]; exact x1)]
    rcases Classical.em (ie_ac o a b t (ie_i c t) j) with y | y
    · rw [← ie_st_lo B y]
    · have y1 : ¬ ie_wt o a b t (ie_i c t) j := fun w => y (ie_wa w)
      rw [ie_st_fr (c := ie_st o a b c u) (t := t) (by rw [it]; exact y1), ie_st_fr x1, ie_st_fr y1]
theorem ie_nofl (h : o (ie_i c t) ≠ 6) : ¬ ie_fl o a b c t := fun z => h z.1
/-- places -/
theorem ie_ef_pl (ht : t < 3) (hj : 10 ≤ j) (h13 : j < 13) : ie_ef o a b t i c j = c j := by
  have q1 := (ie_m1e a i).2
  have q4 := (ie_m4e b i).2
  have r : j ≠ 4 + t * 2 + ie_m1 a i := by omega
  have m : j ≠ 13 + ie_m1 a i := by omega
  have v : j ≠ ie_m4 b i := by omega
  unfold ie_ef
  by_cases o0 : o i = 0
  · rw [if_pos o0, pk_un r]
  rw [if_neg o0]
  by_cases o1 : o i = 1
  · rw [if_pos o1, pk_un v]
  rw [if_neg o1]
  by_cases o2 : o i = 2
  · rw [if_pos o2, pk_un r]
  rw [if_neg o2]
  by_cases o3 : o i = 3
  · rw [if_pos o3, pk_un v]
  rw [if_neg o3]
  by_cases o4 : o i = 4
  · rw [if_pos o4, pk_un m]
  rw [if_neg o4]
  by_cases o5 : o i = 5
  · rw [if_pos o5]
    by_cases z : c (13 + ie_m1 a i) = nI (t + 1)
    · rw [if_pos z, pk_un m]
    · rw [if_neg z]
  rw [if_neg o5]
  by_cases o7 : o i = 7
  · rw [if_pos o7, pk_un v, pk_un r]
  rw [if_neg o7]
theorem ie_st_p1 (ht : t < 3) : ie_st o a b c t (10 + t) = c (10 + t) + 1 := by
  unfold ie_st
  rw [ie_ef_pl ht (by omega) (by omega), pk_us]
theorem ie_st_p2 (ht : t < 3) (hu : u < 3) (h : u ≠ t) : ie_st o a b c t (10 + u) = c (10 + u) := by
  unfold ie_st
  rw [ie_ef_pl ht (by omega) (by omega), pk_un (by omega)]
theorem ie_pp1 (ht : t < 3) (w : c (10 + t) = nI (ie_p c t)) (hp : ie_p c t < 1000) : ie_p (ie_st o a b c t) t = ie_p c t + 1 := by
  have e : ie_st o a b c t (10 + t) = nI (ie_p c t + 1) := by rw [ie_st_p1 ht, w, nI_1]
  show (ie_st o a b c t (10 + t)).toNatClampNeg = _
  rw [e, nI_clamp (by omega)]
theorem ie_pp2 (ht : t < 3) (hu : u < 3) (h : u ≠ t) : ie_p (ie_st o a b c t) u = ie_p c u := by
  unfold ie_p
  rw [ie_st_p2 ht hu h]
theorem ie_lock (ht : t < 3) (w : ∀ k, k < 2 → ∃ m, m < 4 ∧ c (13 + k) = nI m) : ∀ k, k < 2 → ∃ m, m < 4 ∧ ie_ef o a b t i c (13 + k) = nI m := by
  intro k hk
  have q1 := (ie_m1e a i).2
  have q4 := (ie_m4e b i).2
  have r : 13 + k ≠ 4 + t * 2 + ie_m1 a i := by omega
  have v : 13 + k ≠ ie_m4 b i := by omega
  have w0 := w k hk
  have um : ∀ x : Int32, (∃ m, m < 4 ∧ x = nI m) → ∃ m, m < 4 ∧ upd c (13 + ie_m1 a i) x (13 + k) = nI m := by
    intro x hx
    by_cases e : k = ie_m1 a i
    · rw [← e, pk_us]; exact hx
    · rw [pk_un (by omega)]; exact w0
  unfold ie_ef
  by_cases o0 : o i = 0
  · rw [if_pos o0, pk_un r]; exact w0
  rw [if_neg o0]
  by_cases o1 : o i = 1
  · rw [if_pos o1, pk_un v]; exact w0
  rw [if_neg o1]
  by_cases o2 : o i = 2
  · rw [if_pos o2, pk_un r]; exact w0
  rw [if_neg o2]
  by_cases o3 : o i = 3
  · rw [if_pos o3, pk_un v]; exact w0
  rw [if_neg o3]
  by_cases o4 : o i = 4
  · rw [if_pos o4]; exact um _ ⟨t + 1, by omega, rfl⟩
  rw [if_neg o4]
  by_cases o5 : o i = 5
  · rw [if_pos o5]
    by_cases z : c (13 + ie_m1 a i) = nI (t + 1)
    · rw [if_pos z]; exact um _ ⟨0, by omega, nI_0.symm⟩
    · rw [if_neg z]; exact w0
  rw [if_neg o5]
  by_cases o7 : o i = 7
  · rw [if_pos o7, pk_un v, pk_un r]; exact w0
  rw [if_neg o7]; exact w0
theorem ie_Wst (hs : ∀ t, t < 3 → s t ≤ 5) (ht : t < 3) (w : ie_W s c) (e : ie_p c t < s t) : ie_W s (ie_st o a b c t) := by
  have h5 := hs t ht
  have wt := w.1 t ht
  refine ⟨fun u hu => ?_, ?_⟩
  · by_cases z : u = t
    · subst z
      rw [ie_pp1 ht wt.1 (by omega), ie_st_p1 ht, wt.1, nI_1]
      exact ⟨rfl, by omega⟩
    · rw [ie_pp2 ht hu z, ie_st_p2 ht hu z]
      exact w.1 u hu
  · exact ie_lock ht (fun k hk => by rw [pk_un (by omega)]; exact w.2 k hk)
end
end
section
/-! runs, and what sleep sets leave out -/
abbrev ie_O : Type := Sum (Nat → Int32) Nat
def ie_run (s : Nat → Nat) (o a b : Nat → Int32) : List Nat → (Nat → Int32) → ie_O → Prop
  | [], c, x => (∀ t, t < 3 → ¬ ie_en s o a b c t) ∧ x = Sum.inl c
  | t :: w, c, x => t < 3 ∧ ie_en s o a b c t ∧ ((ie_fl o a b c t ∧ w = [] ∧ x = Sum.inr t) ∨ (¬ ie_fl o a b c t ∧ ie_run s o a b w (ie_st o a b c t) x))
def ie_ini (o a b : Nat → Int32) : List Nat → (Nat → Int32) → Nat → Prop
  | [], _, _ => False
  | t :: w, c, z => t = z ∨ (t ≠ z ∧ ie_ind o a b (ie_i c t) (ie_i c z) ∧ ie_ini o a b w (ie_st o a b c t) z)
def ie_sl (s : Nat → Nat) (o a b c : Nat → Int32) (Z : Nat → Prop) (t u : Nat) : Prop :=
  u < 3 ∧ u ≠ t ∧ ie_p c u < s u ∧ (Z u ∨ (u < t ∧ ie_en s o a b c u ∧ ¬ Z u)) ∧ ie_ind o a b (ie_i c u) (ie_i c t)
def ie_xw (s : Nat → Nat) (o a b : Nat → Int32) : List Nat → (Nat → Int32) → (Nat → Prop) → ie_O → Prop
  | [], c, _, x => (∀ t, t < 3 → ¬ ie_en s o a b c t) ∧ x = Sum.inl c
  | t :: w, c, Z, x => t < 3 ∧ ie_en s o a b c t ∧ ¬ Z t ∧ ((ie_fl o a b c t ∧ w = [] ∧ x = Sum.inr t) ∨ (¬ ie_fl o a b c t ∧ ie_xw s o a b w (ie_st o a b c t) (ie_sl s o a b c Z t) x))
def ie_RO (s : Nat → Nat) (o a b c : Nat → Int32) (x : ie_O) : Prop := ∃ w, ie_run s o a b w c x
def ie_XO (s : Nat → Nat) (o a b c : Nat → Int32) (Z : Nat → Prop) (x : ie_O) : Prop := ∃ w, ie_xw s o a b w c Z x
section
variable {s : Nat → Nat} {o a b c : Nat → Int32} {t z : Nat} {x : ie_O}
theorem ie_move : ∀ (w : List Nat) (c : Nat → Int32), ie_run s o a b w c x → z < 3 → ie_ini o a b w c z →
    ie_en s o a b c z ∧ ((ie_fl o a b c z ∧ x = Sum.inr z) ∨ (¬ ie_fl o a b c z ∧ ∃ w', w'.length < w.length ∧ ie_run s o a b w' (ie_st o a b c z) x ∧
      ∀ y, y < 3 → y ≠ z → ie_ind o a b (ie_i c y) (ie_i c z) → ie_ini o a b w' (ie_st o a b c z) y → ie_ini o a b w c y))
  | [], _, _, _, h => h.elim
  | t :: w, c, r, hz, h => by
    obtain ⟨ht, e, r⟩ := r
    rcases h with h | ⟨n, d, h⟩
    · subst h
      refine ⟨e, ?_⟩
      rcases r with ⟨f, _, ex⟩ | ⟨f, r⟩
      · exact Or.inl ⟨f, ex⟩
      · exact Or.inr ⟨f, w, Nat.lt_succ_self _, r, fun y _ yz q k => Or.inr ⟨Ne.symm yz, ie_is q, k⟩⟩
    · have nf : ¬ ie_fl o a b c t := ie_nofl d.1
      have r1 : ie_run s o a b w (ie_st o a b c t) x := by
        rcases r with ⟨f, _⟩ | ⟨_, r⟩
        · exact absurd f nf
        · exact r
      have A := ie_apart ht hz n d
      have B := ie_apart hz ht (Ne.symm n) (ie_is d)
      have iz : ie_i (ie_st o a b c t) z = ie_i c z := (ie_i_lo A).symm
      have it : ie_i (ie_st o a b c z) t = ie_i c t := (ie_i_lo B).symm
      have C := ie_comm ht hz n d
      have nz : ¬ ie_fl o a b c z := ie_nofl d.2.1
      obtain ⟨e1, h1⟩ := ie_move w (ie_st o a b c t) r1 hz h
      refine ⟨(ie_en_lo A).mpr e1, Or.inr ⟨nz, ?_⟩⟩
      rcases h1 with ⟨f, _⟩ | ⟨_, w', hl, r2, hy⟩
      · exact absurd f (ie_nofl (by rw [iz]; exact d.2.1))
      · refine ⟨t :: w', Nat.succ_lt_succ hl, ⟨ht, (ie_en_lo B).mp e, Or.inr ⟨ie_nofl (by rw [it]; exact d.1), by rw [← C]; exact r2⟩⟩, ?_⟩
        intro y y3 yz q k
        rcases k with k | ⟨k1, k2, k3⟩
        · exact Or.inl k
        · have iy : ie_i (ie_st o a b c z) y = ie_i c y := (ie_i_lo (ie_apart hz y3 (Ne.symm yz) (ie_is q))).symm
          rw [it, iy] at k2
          have iy2 : ie_i (ie_st o a b c t) y = ie_i c y := (ie_i_lo (ie_apart ht y3 k1 k2)).symm
          rw [← C] at k3
          exact Or.inr ⟨k1, k2, hy y y3 yz (by rw [iy2, iz]; exact q) k3⟩
theorem ie_first (P : Nat → Prop) (h : ∃ t, t < 3 ∧ P t) : ∃ t, t < 3 ∧ P t ∧ ∀ u, u < t → ¬ P u := by
  obtain ⟨t, ht, p⟩ := h
  by_cases p0 : P 0
  · exact ⟨0, by omega, p0, fun u hu => by omega⟩
  by_cases p1 : P 1
  · exact ⟨1, by omega, p1, fun u hu => by have : u = 0 := by omega
                                           subst this; exact p0⟩
  refine ⟨2, by omega, ?_, fun u hu => ?_⟩
  · rcases (show t = 0 ∨ t = 1 ∨ t = 2 by omega) with e | e | e
    · subst e; exact absurd p p0
    · subst e; exact absurd p p1
    · subst e; exact p
  · rcases (show u = 0 ∨ u = 1 by omega) with e | e
    · subst e; exact p0
    · subst e; exact p1
theorem ie_sleep : ∀ (n : Nat) (w : List Nat) (c : Nat → Int32) (Z : Nat → Prop), w.length < n → ie_run s o a b w c x →
    (∀ z, z < 3 → Z z → ¬ ie_ini o a b w c z) → ie_XO s o a b c Z x := by
  intro n
  induction n with
  | zero => intro w c Z hn; omega
  | succ n ih =>
    intro w c Z hn r hZ
    match w, hn, r, hZ with
    | [], _, r, _ => exact ⟨[], r⟩
    | t0 :: w0, hn, r, hZ =>
      obtain ⟨t, ht, hi, hm⟩ := ie_first (fun t => ie_ini o a b (t0 :: w0) c t) ⟨t0, r.1, Or.inl rfl⟩
      obtain ⟨e, h⟩ := ie_move (t0 :: w0) c r ht hi
      have nz : ¬ Z t := fun z => hZ t ht z hi
      rcases h with ⟨f, ex⟩ | ⟨f, w', hl, r', hy⟩
      · exact ⟨[t], ht, e, nz, Or.inl ⟨f, rfl, ex⟩⟩
      · obtain ⟨w2, h2⟩ := ih w' (ie_st o a b c t) (ie_sl s o a b c Z t) (by omega) r' (by
          intro z z3 q k
          obtain ⟨_, q1, _, q3, q4⟩ := q
          have k2 := hy z z3 q1 q4 k
          rcases q3 with q3 | ⟨q3, _⟩
          · exact hZ z z3 q3 k2
          · exact hm z q3 k2)
        exact ⟨t :: w2, ht, e, nz, Or.inr ⟨f, h2⟩⟩
theorem ie_xr : ∀ (w : List Nat) (c : Nat → Int32) (Z : Nat → Prop), ie_xw s o a b w c Z x → ie_run s o a b w c x
  | [], _, _, h => h
  | _ :: w, _, _, ⟨h1, h2, _, h4⟩ => ⟨h1, h2, h4.elim Or.inl (fun k => Or.inr ⟨k.1, ie_xr w _ _ k.2⟩)⟩
theorem ie_XR : ie_XO s o a b c (fun _ => False) x ↔ ie_RO s o a b c x :=
  ⟨fun ⟨w, h⟩ => ⟨w, ie_xr w _ _ h⟩, fun ⟨w, h⟩ => ie_sleep (w.length + 1) w c _ (Nat.lt_succ_self _) h (fun _ _ z => z.elim)⟩
/-- a branch of X's search, and of all runs -/
def ie_xb (s : Nat → Nat) (o a b c : Nat → Int32) (Z : Nat → Prop) (t : Nat) (x : ie_O) : Prop :=
  ie_en s o a b c t ∧ ¬ Z t ∧ ((ie_fl o a b c t ∧ x = Sum.inr t) ∨ (¬ ie_fl o a b c t ∧ ie_XO s o a b (ie_st o a b c t) (ie_sl s o a b c Z t) x))
def ie_rb (s : Nat → Nat) (o a b c : Nat → Int32) (t : Nat) (x : ie_O) : Prop :=
  ie_en s o a b c t ∧ ((ie_fl o a b c t ∧ x = Sum.inr t) ∨ (¬ ie_fl o a b c t ∧ ie_RO s o a b (ie_st o a b c t) x))
theorem ie_XO_b {Z : Nat → Prop} : ie_XO s o a b c Z x ↔ ((∀ t, t < 3 → ¬ ie_en s o a b c t) ∧ x = Sum.inl c) ∨ ∃ t, t < 3 ∧ ie_xb s o a b c Z t x := by
  constructor
  · rintro ⟨w, h⟩
    match w, h with
    | [], h => exact Or.inl h
    | t :: w, ⟨h1, h2, h3, h4⟩ =>
      refine Or.inr ⟨t, h1, h2, h3, ?_⟩
      rcases h4 with ⟨f, _, e⟩ | ⟨f, k⟩
      · exact Or.inl ⟨f, e⟩
      · exact Or.inr ⟨f, w, k⟩
  · rintro (h | ⟨t, h1, h2, h3, h4⟩)
    · exact ⟨[], h⟩
    · rcases h4 with ⟨f, e⟩ | ⟨f, w, k⟩
      · exact ⟨[t], h1, h2, h3, Or.inl ⟨f, rfl, e⟩⟩
      · exact ⟨t :: w, h1, h2, h3, Or.inr ⟨f, k⟩⟩
theorem ie_RO_b : ie_RO s o a b c x ↔ ((∀ t, t < 3 → ¬ ie_en s o a b c t) ∧ x = Sum.inl c) ∨ ∃ t, t < 3 ∧ ie_rb s o a b c t x := by
  constructor
  · rintro ⟨w, h⟩
    match w, h with
    | [], h => exact Or.inl h
    | t :: w, ⟨h1, h2, h4⟩ =>
      refine Or.inr ⟨t, h1, h2, ?_⟩
      rcases h4 with ⟨f, _, e⟩ | ⟨f, k⟩
      · exact Or.inl ⟨f, e⟩
      · exact Or.inr ⟨f, w, k⟩
  · rintro (h | ⟨t, h1, h2, h4⟩)
    · exact ⟨[], h⟩
    · rcases h4 with ⟨f, e⟩ | ⟨f, w, k⟩
      · exact ⟨[t], h1, h2, Or.inl ⟨f, rfl, e⟩⟩
      · exact ⟨t :: w, h1, h2, Or.inr ⟨f, k⟩⟩
end
end
section
/-! bounds on the search's steps and on the number of runs, by what the threads have left -/
def ie_gt : List Nat := [1, 3, 5, 7, 9, 11, 3, 9, 17, 27, 39, 53, 5, 17, 37, 67, 109, 165, 7, 27, 67, 137, 249, 417, 9, 39, 109, 249, 501, 921, 11, 53, 165, 417, 921, 1845, 3, 9, 17, 27, 39, 53, 9, 31, 69, 127, 209, 319, 17, 69, 179, 377, 699, 1187, 27, 127, 377, 895, 1847, 3455, 39, 209, 699, 1847, 4199, 8579, 53, 319, 1187, 3455, 8579, 19007, 5, 17, 37, 67, 109, 165, 17, 69, 179, 377, 699, 1187, 37, 179, 541, 1299, 2701, 5079, 67, 377, 1299, 3497, 8049, 16587, 109, 699, 2701, 8049, 20301, 45471, 165, 1187, 5079, 16587, 45471, 109953, 7, 27, 67, 137, 249, 417, 27, 127, 377, 895, 1847, 3455, 67, 377, 1299, 3497, 8049, 16587, 137, 895, 3497, 10495, 26597, 59775, 249, 1847, 8049, 26597, 73499, 178749, 417, 3455, 16587, 59775, 178749, 467455, 9, 39, 109, 249, 501, 921, 39, 209, 699, 1847, 4199, 8579, 109, 699, 2701, 8049, 20301, 45471, 249, 1847, 8049, 26597, 73499, 178749, 501, 4199, 20301, 73499, 220501, 578003, 921, 8579, 45471, 178749, 578003, 1623465, 11, 53, 165, 417, 921, 1845, 53, 319, 1187, 3455, 8579, 19007, 165, 1187, 5079, 16587, 45471, 109953, 417, 3455, 16587, 59775, 178749, 467455, 921, 8579, 45471, 178749, 578003, 1623465, 1845, 19007, 109953, 467455, 1623465, 4870399]
def ie_mt : List Nat := [1, 1, 1, 1, 1, 1, 1, 2, 3, 4, 5, 6, 1, 3, 6, 10, 15, 21, 1, 4, 10, 20, 35, 56, 1, 5, 15, 35, 70, 126, 1, 6, 21, 56, 126, 252, 1, 2, 3, 4, 5, 6, 2, 6, 12, 20, 30, 42, 3, 12, 30, 60, 105, 168, 4, 20, 60, 140, 280, 504, 5, 30, 105, 280, 630, 1260, 6, 42, 168, 504, 1260, 2772, 1, 3, 6, 10, 15, 21, 3, 12, 30, 60, 105, 168, 6, 30, 90, 210, 420, 756, 10, 60, 210, 560, 1260, 2520, 15, 105, 420, 1260, 3150, 6930, 21, 168, 756, 2520, 6930, 16632, 1, 4, 10, 20, 35, 56, 4, 20, 60, 140, 280, 504, 10, 60, 210, 560, 1260, 2520, 20, 140, 560, 1680, 4200, 9240, 35, 280, 1260, 4200, 11550, 27720, 56, 504, 2520, 9240, 27720, 72072, 1, 5, 15, 35, 70, 126, 5, 30, 105, 280, 630, 1260, 15, 105, 420, 1260, 3150, 6930, 35, 280, 1260, 4200, 11550, 27720, 70, 630, 3150, 11550, 34650, 90090, 126, 1260, 6930, 27720, 90090, 252252, 1, 6, 21, 56, 126, 252, 6, 42, 168, 504, 1260, 2772, 21, 168, 756, 2520, 6930, 16632, 56, 504, 2520, 9240, 27720, 72072, 126, 1260, 6930, 27720, 90090, 252252, 252, 2772, 16632, 72072, 252252, 756756]
def ie_g (x y z : Nat) : Nat := ie_gt.getD (x * 36 + y * 6 + z) 0
def ie_m (x y z : Nat) : Nat := ie_mt.getD (x * 36 + y * 6 + z) 0
theorem ie_g_t : ∀ x, x < 6 → ∀ y, y < 6 → ∀ z, z < 6 → 1 + (if 0 < x then 1 + ie_g (x - 1) y z else 0) + (if 0 < y then 1 + ie_g x (y - 1) z else 0) + (if 0 < z then 1 + ie_g x y (z - 1) else 0) ≤ ie_g x y z := by decide +kernel
theorem ie_m_t : ∀ x, x < 6 → ∀ y, y < 6 → ∀ z, z < 6 → 1 ≤ ie_m x y z ∧ (if 0 < x then ie_m (x - 1) y z else 0) + (if 0 < y then ie_m x (y - 1) z else 0) + (if 0 < z then ie_m x y (z - 1) else 0) ≤ ie_m x y z := by decide +kernel
theorem ie_g_b : ∀ x, x < 6 → ∀ y, y < 6 → ∀ z, z < 6 → x + y + z ≤ 10 → ie_g x y z ≤ 199999 := by decide +kernel
theorem ie_m_b : ∀ x, x < 6 → ∀ y, y < 6 → ∀ z, z < 6 → x + y + z ≤ 10 → ie_m x y z ≤ 4200 := by decide +kernel
def ie_r (s : Nat → Nat) (c : Nat → Int32) (t : Nat) : Nat := s t - ie_p c t
def ie_rk (s : Nat → Nat) (c : Nat → Int32) : Nat := ie_r s c 0 + ie_r s c 1 + ie_r s c 2
def ie_gc (s : Nat → Nat) (c : Nat → Int32) : Nat := ie_g (ie_r s c 0) (ie_r s c 1) (ie_r s c 2)
def ie_mc (s : Nat → Nat) (c : Nat → Int32) : Nat := ie_m (ie_r s c 0) (ie_r s c 1) (ie_r s c 2)
/-- what a branch may cost -/
def ie_gb (s : Nat → Nat) (o a b c : Nat → Int32) (t : Nat) : Nat := if 0 < ie_r s c t then 1 + ie_gc s (ie_st o a b c t) else 0
def ie_mb (s : Nat → Nat) (o a b c : Nat → Int32) (t : Nat) : Nat := if 0 < ie_r s c t then ie_mc s (ie_st o a b c t) else 0
section
variable {s : Nat → Nat} {o a b c : Nat → Int32} {t u : Nat}
theorem ie_r5 (hs : ∀ t, t < 3 → s t ≤ 5) (ht : t < 3) : ie_r s c t < 6 := by
  have := hs t ht
  unfold ie_r; omega
theorem ie_r1 (hs : ∀ t, t < 3 → s t ≤ 5) (w : ie_W s c) (ht : t < 3) (h : 0 < ie_r s c t) : ie_r s (ie_st o a b c t) t = ie_r s c t - 1 := by
  have h5 := hs t ht
  unfold ie_r at h ⊢
  rw [ie_pp1 ht (w.1 t ht).1 (by omega)]
  omega
theorem ie_r2 (ht : t < 3) (hu : u < 3) (h : u ≠ t) : ie_r s (ie_st o a b c t) u = ie_r s c u := by
  unfold ie_r
  rw [ie_pp2 ht hu h]
theorem ie_rk1 (hs : ∀ t, t < 3 → s t ≤ 5) (w : ie_W s c) (ht : t < 3) (h : ie_p c t < s t) : ie_rk s (ie_st o a b c t) + 1 = ie_rk s c := by
  have h0 : 0 < ie_r s c t := by unfold ie_r; omega
  have A := ie_r1 (o := o) (a := a) (b := b) hs w ht h0
  have B := fun u hu n => ie_r2 (s := s) (o := o) (a := a) (b := b) (c := c) (u := u) ht hu n
  unfold ie_rk
  rcases (show t = 0 ∨ t = 1 ∨ t = 2 by omega) with e | e | e <;> subst e
  · rw [A, B 1 (by omega) (by omega), B 2 (by omega) (by omega)]; omega
  · rw [A, B 0 (by omega) (by omega), B 2 (by omega) (by omega)]; omega
  · rw [A, B 0 (by omega) (by omega), B 1 (by omega) (by omega)]; omega
theorem ie_gb_t (hs : ∀ t, t < 3 → s t ≤ 5) (w : ie_W s c) : 1 + ie_gb s o a b c 0 + ie_gb s o a b c 1 + ie_gb s o a b c 2 ≤ ie_gc s c := by
  have T := ie_g_t _ (ie_r5 (c := c) hs (t := 0) (by omega)) _ (ie_r5 (c := c) hs (t := 1) (by omega)) _ (ie_r5 (c := c) hs (t := 2) (by omega))
  have e0 : ie_gb s o a b c 0 = if 0 < ie_r s c 0 then 1 + ie_g (ie_r s c 0 - 1) (ie_r s c 1) (ie_r s c 2) else 0 := by
    unfold ie_gb ie_gc
    by_cases z : 0 < ie_r s c 0
    · rw [if_pos z, if_pos z, ie_r1 hs w (by omega) z, ie_r2 (u := 1) (by omega) (by omega) (by omega), ie_r2 (u := 2) (by omega) (by omega) (by omega)]
    · rw [if_neg z, if_neg z]
  have e1 : ie_gb s o a b c 1 = if 0 < ie_r s c 1 then 1 + ie_g (ie_r s c 0) (ie_r s c 1 - 1) (ie_r s c 2) else 0 := by
    unfold ie_gb ie_gc
    by_cases z : 0 < ie_r s c 1
    · rw [if_pos z, if_pos z, ie_r1 hs w (by omega) z, ie_r2 (u := 0) (by omega) (by omega) (by omega), ie_r2 (u := 2) (by omega) (by omega) (by omega)]
    · rw [if_neg z, if_neg z]
  have e2 : ie_gb s o a b c 2 = if 0 < ie_r s c 2 then 1 + ie_g (ie_r s c 0) (ie_r s c 1) (ie_r s c 2 - 1) else 0 := by
    unfold ie_gb ie_gc
    by_cases z : 0 < ie_r s c 2
    · rw [if_pos z, if_pos z, ie_r1 hs w (by omega) z, ie_r2 (u := 0) (by omega) (by omega) (by omega), ie_r2 (u := 1) (by omega) (by omega) (by omega)]
    · rw [if_neg z, if_neg z]
  rw [e0, e1, e2]
  exact T
theorem ie_mb_t (hs : ∀ t, t < 3 → s t ≤ 5) (w : ie_W s c) : 1 ≤ ie_mc s c ∧ ie_mb s o a b c 0 + ie_mb s o a b c 1 + ie_mb s o a b c 2 ≤ ie_mc s c := by
  have T := ie_m_t _ (ie_r5 (c := c) hs (t := 0) (by omega)) _ (ie_r5 (c := c) hs (t := 1) (by omega)) _ (ie_r5 (c := c) hs (t := 2) (by omega))
  have e0 : ie_mb s o a b c 0 = if 0 < ie_r s c 0 then ie_m (ie_r s c 0 - 1) (ie_r s c 1) (ie_r s c 2) else 0 := by
    unfold ie_mb ie_mc
    by_cases z : 0 < ie_r s c 0
    · rw [if_pos z, if_pos z, ie_r1 hs w (by omega) z, ie_r2 (u := 1) (by omega) (by omega) (by omega), ie_r2 (u := 2) (by omega) (by omega) (by omega)]
    · rw [if_neg z, if_neg z]
  have e1 : ie_mb s o a b c 1 = if 0 < ie_r s c 1 then ie_m (ie_r s c 0) (ie_r s c 1 - 1) (ie_r s c 2) else 0 := by
    unfold ie_mb ie_mc
    by_cases z : 0 < ie_r s c 1
    · rw [if_pos z, if_pos z, ie_r1 hs w (by omega) z, ie_r2 (u := 0) (by omega) (by omega) (by omega), ie_r2 (u := 2) (by omega) (by omega) (by omega)]
    · rw [if_neg z, if_neg z]
  have e2 : ie_mb s o a b c 2 = if 0 < ie_r s c 2 then ie_m (ie_r s c 0) (ie_r s c 1) (ie_r s c 2 - 1) else 0 := by
    unfold ie_mb ie_mc
    by_cases z : 0 < ie_r s c 2
    · rw [if_pos z, if_pos z, ie_r1 hs w (by omega) z, ie_r2 (u := 0) (by omega) (by omega) (by omega), ie_r2 (u := 1) (by omega) (by omega) (by omega)]
    · rw [if_neg z, if_neg z]
  rw [e0, e1, e2]
  exact T
theorem ie_gb_e (h : ie_p c t < s t) : ie_gb s o a b c t = 1 + ie_gc s (ie_st o a b c t) := by
  unfold ie_gb; rw [if_pos (by unfold ie_r; omega)]
theorem ie_mb_e (h : ie_p c t < s t) : ie_mb s o a b c t = ie_mc s (ie_st o a b c t) := by
  unfold ie_mb; rw [if_pos (by unfold ie_r; omega)]
/-- there is always an outcome -/
theorem ie_some (hs : ∀ t, t < 3 → s t ≤ 5) : ∀ (n : Nat) (c : Nat → Int32), ie_rk s c < n → ie_W s c → ∃ x, ie_RO s o a b c x := by
  intro n
  induction n with
  | zero => intro c h; omega
  | succ n ih =>
    intro c h w
    rcases Classical.em (∃ t, t < 3 ∧ ie_en s o a b c t) with ⟨t, ht, e⟩ | e
    · rcases Classical.em (ie_fl o a b c t) with f | f
      · exact ⟨Sum.inr t, ie_RO_b.mpr (Or.inr ⟨t, ht, e, Or.inl ⟨f, rfl⟩⟩)⟩
      · have k := ie_rk1 (o := o) (a := a) (b := b) hs w ht e.1
        obtain ⟨x, hx⟩ := ih (ie_st o a b c t) (by omega) (ie_Wst hs ht w e.1)
        exact ⟨x, ie_RO_b.mpr (Or.inr ⟨t, ht, e, Or.inr ⟨f, hx⟩⟩)⟩
    · exact ⟨Sum.inl c, ie_RO_b.mpr (Or.inl ⟨fun t ht k => e ⟨t, ht, k⟩, rfl⟩)⟩
end
end
section
/-! what has been noted, as a set of outcomes -/
def ie_E (s : Nat → Nat) (N : ie_O → Prop) (e : Nat → Int32) : Prop := N (Sum.inl e) ∧ ie_fin s e
def ie_S (s : Nat → Nat) (N : ie_O → Prop) : Prop := ∃ e, N (Sum.inl e) ∧ ¬ ie_fin s e
def ie_mn (s : Nat → Nat) (N : ie_O → Prop) (k : Nat) (x : Int32) : Prop := (∃ e, ie_E s N e ∧ e k = x) ∧ ∀ e, ie_E s N e → x ≤ e k
def ie_mx (s : Nat → Nat) (N : ie_O → Prop) (k : Nat) (x : Int32) : Prop := (∃ e, ie_E s N e ∧ e k = x) ∧ ∀ e, ie_E s N e → e k ≤ x
def ie_lw (f lo x : Int32) : Int32 := if f = 0 then x else if lo ≤ x then lo else x
def ie_hw (f hi x : Int32) : Int32 := if f = 0 then x else if x ≤ hi then hi else x
def ie_add (N : ie_O → Prop) (y : ie_O) (x : ie_O) : Prop := N x ∨ x = y
section
variable {s : Nat → Nat} {N : ie_O → Prop} {c : Nat → Int32} {k : Nat} {x y f : Int32}
theorem ie_E_add (h : ie_fin s c) (e : Nat → Int32) : ie_E s (ie_add N (Sum.inl c)) e ↔ ie_E s N e ∨ e = c := by
  constructor
  · rintro ⟨h1 | h1, h2⟩
    · exact Or.inl ⟨h1, h2⟩
    · exact Or.inr (Sum.inl.inj h1)
  · rintro (h1 | h1)
    · exact ⟨Or.inl h1.1, h1.2⟩
    · subst h1; exact ⟨Or.inr rfl, h⟩
theorem ie_E_stuck (h : ¬ ie_fin s c) (e : Nat → Int32) : ie_E s (ie_add N (Sum.inl c)) e ↔ ie_E s N e := by
  constructor
  · rintro ⟨h1 | h1, h2⟩
    · exact ⟨h1, h2⟩
    · cases Sum.inl.inj h1; exact absurd h2 h
  · exact fun z => ⟨Or.inl z.1, z.2⟩
theorem ie_E_fail (t : Nat) (e : Nat → Int32) : ie_E s (ie_add N (Sum.inr t)) e ↔ ie_E s N e := by
  constructor
  · rintro ⟨h1 | h1, h2⟩
    · exact ⟨h1, h2⟩
    · cases h1
  · exact fun z => ⟨Or.inl z.1, z.2⟩
theorem ie_ile (x y : Int32) : x ≤ y ↔ x.toInt ≤ y.toInt := Int32.le_iff_toInt_le
theorem ie_irf (x : Int32) : x ≤ x := (ie_ile x x).mpr (Int.le_refl _)
theorem ie_itr {z : Int32} (h : x ≤ y) (g : y ≤ z) : x ≤ z := (ie_ile x z).mpr (Int.le_trans ((ie_ile x y).mp h) ((ie_ile y z).mp g))
theorem ie_itt (h : ¬ x ≤ y) : y ≤ x := by
  have k : ¬ x.toInt ≤ y.toInt := fun z => h ((ie_ile x y).mpr z)
  exact (ie_ile y x).mpr (by omega)
theorem ie_ian (h : x ≤ y) (g : y ≤ x) : x = y := Int32.toInt_inj.mp (Int.le_antisymm ((ie_ile x y).mp h) ((ie_ile y x).mp g))
theorem ie_mn_u (h : ie_mn s N k x) (g : ie_mn s N k y) : x = y := by
  obtain ⟨⟨e, h1, h2⟩, h3⟩ := h
  obtain ⟨⟨d, g1, g2⟩, g3⟩ := g
  exact ie_ian (g2 ▸ h3 d g1) (h2 ▸ g3 e h1)
theorem ie_mx_u (h : ie_mx s N k x) (g : ie_mx s N k y) : x = y := by
  obtain ⟨⟨e, h1, h2⟩, h3⟩ := h
  obtain ⟨⟨d, g1, g2⟩, g3⟩ := g
  exact ie_ian (h2 ▸ g3 e h1) (g2 ▸ h3 d g1)
theorem ie_mn_s (hf : f = ie_b (∃ e, ie_E s N e)) (h : (∃ e, ie_E s N e) → ie_mn s N k x) (hc : ie_fin s c) : ie_mn s (ie_add N (Sum.inl c)) k (ie_lw f x (c k)) := by
  have cE : ie_E s (ie_add N (Sum.inl c)) c := (ie_E_add hc c).mpr (Or.inr rfl)
  unfold ie_lw
  rcases Classical.em (∃ e, ie_E s N e) with q | q
  · obtain ⟨⟨e, h1, h2⟩, h3⟩ := h q
    rw [if_neg (by rw [hf, ie_b1 q]; decide)]
    by_cases z : x ≤ c k
    · rw [if_pos z]
      refine ⟨⟨e, (ie_E_add hc e).mpr (Or.inl h1), h2⟩, fun d hd => ?_⟩
      rcases (ie_E_add hc d).mp hd with hd | hd
      · exact h3 d hd
      · subst hd; exact z
    · rw [if_neg z]
      refine ⟨⟨c, cE, rfl⟩, fun d hd => ?_⟩
      rcases (ie_E_add hc d).mp hd with hd | hd
      · exact ie_itr (ie_itt z) (h3 d hd)
      · subst hd; exact ie_irf _
  · rw [if_pos (by rw [hf, ie_b0 q])]
    refine ⟨⟨c, cE, rfl⟩, fun d hd => ?_⟩
    rcases (ie_E_add hc d).mp hd with hd | hd
    · exact absurd ⟨d, hd⟩ q
    · subst hd; exact ie_irf _
theorem ie_mx_s (hf : f = ie_b (∃ e, ie_E s N e)) (h : (∃ e, ie_E s N e) → ie_mx s N k x) (hc : ie_fin s c) : ie_mx s (ie_add N (Sum.inl c)) k (ie_hw f x (c k)) := by
  have cE : ie_E s (ie_add N (Sum.inl c)) c := (ie_E_add hc c).mpr (Or.inr rfl)
  unfold ie_hw
  rcases Classical.em (∃ e, ie_E s N e) with q | q
  · obtain ⟨⟨e, h1, h2⟩, h3⟩ := h q
    rw [if_neg (by rw [hf, ie_b1 q]; decide)]
    by_cases z : c k ≤ x
    · rw [if_pos z]
      refine ⟨⟨e, (ie_E_add hc e).mpr (Or.inl h1), h2⟩, fun d hd => ?_⟩
      rcases (ie_E_add hc d).mp hd with hd | hd
      · exact h3 d hd
      · subst hd; exact z
    · rw [if_neg z]
      refine ⟨⟨c, cE, rfl⟩, fun d hd => ?_⟩
      rcases (ie_E_add hc d).mp hd with hd | hd
      · exact ie_itr (h3 d hd) (ie_itt z)
      · subst hd; exact ie_irf _
  · rw [if_pos (by rw [hf, ie_b0 q])]
    refine ⟨⟨c, cE, rfl⟩, fun d hd => ?_⟩
    rcases (ie_E_add hc d).mp hd with hd | hd
    · exact absurd ⟨d, hd⟩ q
    · subst hd; exact ie_irf _
end
/-- X's fields hold what was noted; the core is what lasts from call to call -/
def ix_C (s : Nat → Nat) (N : ie_O → Prop) (fc fs ff fd : Int32) (fe lo hi : Nat → Int32) : Prop :=
  fc = ie_b (∃ e, ie_E s N e) ∧ fs = ie_b (ie_S s N) ∧ ff = ie_mk (fun t => N (Sum.inr t)) ∧
  fd = ie_b (∃ e, ie_E s N e ∧ ∃ v, v < 4 ∧ e v ≠ fe v) ∧
  ((∃ e, ie_E s N e) → (∃ e, ie_E s N e ∧ ∀ v, v < 4 → fe v = e v) ∧ (∀ k, k < 10 → ie_mn s N k (lo k)) ∧ (∀ k, k < 10 → ie_mx s N k (hi k)))
def ie_V (s : Nat → Nat) (N : ie_O → Prop) (v : Nat) (x : Int32) (w : Nat) (y : Int32) : Prop := ∃ e, ie_E s N e ∧ e v = x ∧ e w = y
def iy_C (s : Nat → Nat) (N : ie_O → Prop) (fc fs ff : Int32) (lo hi lr : Nat → Int32) : Prop :=
  fc = ie_b (∃ e, ie_E s N e) ∧ fs = ie_b (ie_S s N) ∧ ff = ie_mk (fun t => N (Sum.inr t)) ∧
  ((∃ e, ie_E s N e) → (∀ k, k < 4 → ie_mn s N k (lo k)) ∧ (∀ k, k < 4 → ie_mx s N k (hi k)) ∧ (∀ k, k < 6 → ie_mn s N (4 + k) (lr k)))
section
variable {s : Nat → Nat} {N N' : ie_O → Prop} {c : Nat → Int32} {fc fs ff fd fd' z : Int32} {fe lo hi lr fe' lo' hi' lr' : Nat → Int32} {v w t : Nat} {x y : Int32}
theorem ie_ext (h : ∀ x, N x ↔ N' x) : N = N' := funext fun x => propext (h x)
theorem ie_Eex (hc : ie_fin s c) : (∃ e, ie_E s (ie_add N (Sum.inl c)) e) := ⟨c, (ie_E_add hc c).mpr (Or.inr rfl)⟩
theorem ie_S_fin (hc : ie_fin s c) : ie_S s (ie_add N (Sum.inl c)) ↔ ie_S s N := by
  constructor
  · rintro ⟨e, h1 | h1, h2⟩
    · exact ⟨e, h1, h2⟩
    · cases Sum.inl.inj h1; exact absurd hc h2
  · rintro ⟨e, h1, h2⟩
    exact ⟨e, Or.inl h1, h2⟩
theorem ie_S_fail (t : Nat) : ie_S s (ie_add N (Sum.inr t)) ↔ ie_S s N := by
  constructor
  · rintro ⟨e, h1 | h1, h2⟩
    · exact ⟨e, h1, h2⟩
    · cases h1
  · rintro ⟨e, h1, h2⟩
    exact ⟨e, Or.inl h1, h2⟩
theorem ie_mk_inl (c : Nat → Int32) : ie_mk (fun t => ie_add N (Sum.inl c) (Sum.inr t)) = ie_mk (fun t => N (Sum.inr t)) :=
  ie_mk_e fun t _ => ⟨fun h => h.elim id (fun h => by cases h), Or.inl⟩
theorem ie_mk_inr (ht : t < 3) : ie_mk (fun u => ie_add N (Sum.inr t) (Sum.inr u)) = ie_mk (fun t => N (Sum.inr t)) ||| ((1 : Int32) <<< (nI t &&& 31)) := by
  rw [ie_mk_set _ ht]
  exact ie_mk_e fun u _ => ⟨fun h => h.elim Or.inl (fun h => Or.inr (Sum.inr.inj h)), fun h => h.elim Or.inl (fun h => Or.inr (congrArg _ h))⟩
theorem ie_Ef (t : Nat) : ie_E s (ie_add N (Sum.inr t)) = ie_E s N := funext fun e => propext (ie_E_fail t e)
theorem ie_Es (hc : ¬ ie_fin s c) : ie_E s (ie_add N (Sum.inl c)) = ie_E s N := funext fun e => propext (ie_E_stuck hc e)
theorem ie_V_end (hc : ie_fin s c) : ie_V s (ie_add N (Sum.inl c)) v x w y ↔ ie_V s N v x w y ∨ (c v = x ∧ c w = y) := by
  constructor
  · rintro ⟨e, h1, h2⟩
    rcases (ie_E_add hc e).mp h1 with h | h
    · exact Or.inl ⟨e, h, h2⟩
    · subst h; exact Or.inr h2
  · rintro (⟨e, h1, h2⟩ | h)
    · exact ⟨e, (ie_E_add hc e).mpr (Or.inl h1), h2⟩
    · exact ⟨c, (ie_E_add hc c).mpr (Or.inr rfl), h⟩
theorem ie_V_f (t : Nat) : ie_V s (ie_add N (Sum.inr t)) v x w y = ie_V s N v x w y := by unfold ie_V; rw [ie_Ef]
theorem ie_V_s (hc : ¬ ie_fin s c) : ie_V s (ie_add N (Sum.inl c)) v x w y = ie_V s N v x w y := by unfold ie_V; rw [ie_Es hc]
theorem ix_C0 (s : Nat → Nat) (fe lo hi : Nat → Int32) : ix_C s (fun _ => False) 0 0 0 0 fe lo hi := by
  have n : ¬ ∃ e, ie_E s (fun _ => False) e := fun ⟨_, h, _⟩ => h
  refine ⟨(ie_b0 n).symm, (ie_b0 fun ⟨_, h, _⟩ => h).symm, (ie_mk_0.mpr fun _ _ h => h).symm, (ie_b0 fun ⟨_, h, _⟩ => h.1).symm, fun q => absurd q n⟩
theorem iy_C0 (s : Nat → Nat) (lo hi lr : Nat → Int32) : iy_C s (fun _ => False) 0 0 0 lo hi lr := by
  have n : ¬ ∃ e, ie_E s (fun _ => False) e := fun ⟨_, h, _⟩ => h
  exact ⟨(ie_b0 n).symm, (ie_b0 fun ⟨_, h, _⟩ => h).symm, (ie_mk_0.mpr fun _ _ h => h).symm, fun q => absurd q n⟩
theorem ix_Cf (h : ix_C s N fc fs ff fd fe lo hi) (ht : t < 3) : ix_C s (ie_add N (Sum.inr t)) fc fs (ff ||| ((1 : Int32) <<< (nI t &&& 31))) fd fe lo hi := by
  obtain ⟨h1, h2, h3, h4, h5⟩ := h
  refine ⟨by rw [ie_Ef]; exact h1, by rw [h2]; exact (ie_be (ie_S_fail t)).symm, by rw [h3]; exact (ie_mk_inr ht).symm, by rw [ie_Ef]; exact h4, ?_⟩
  unfold ie_mn ie_mx at h5 ⊢
  rw [ie_Ef]; exact h5
theorem iy_Cf (h : iy_C s N fc fs ff lo hi lr) (ht : t < 3) : iy_C s (ie_add N (Sum.inr t)) fc fs (ff ||| ((1 : Int32) <<< (nI t &&& 31))) lo hi lr := by
  obtain ⟨h1, h2, h3, h5⟩ := h
  refine ⟨by rw [ie_Ef]; exact h1, by rw [h2]; exact (ie_be (ie_S_fail t)).symm, by rw [h3]; exact (ie_mk_inr ht).symm, ?_⟩
  unfold ie_mn ie_mx at h5 ⊢
  rw [ie_Ef]; exact h5
theorem ix_Cs (h : ix_C s N fc fs ff fd fe lo hi) (hc : ¬ ie_fin s c) : ix_C s (ie_add N (Sum.inl c)) fc 1 ff fd fe lo hi := by
  obtain ⟨h1, h2, h3, h4, h5⟩ := h
  refine ⟨by rw [ie_Es hc]; exact h1, (ie_b1 ⟨c, Or.inr rfl, hc⟩).symm, by rw [h3]; exact (ie_mk_inl c).symm, by rw [ie_Es hc]; exact h4, ?_⟩
  unfold ie_mn ie_mx at h5 ⊢
  rw [ie_Es hc]; exact h5
theorem iy_Cs (h : iy_C s N fc fs ff lo hi lr) (hc : ¬ ie_fin s c) : iy_C s (ie_add N (Sum.inl c)) fc 1 ff lo hi lr := by
  obtain ⟨h1, h2, h3, h5⟩ := h
  refine ⟨by rw [ie_Es hc]; exact h1, (ie_b1 ⟨c, Or.inr rfl, hc⟩).symm, by rw [h3]; exact (ie_mk_inl c).symm, ?_⟩
  unfold ie_mn ie_mx at h5 ⊢
  rw [ie_Es hc]; exact h5
theorem iy_Ce (h : iy_C s N fc fs ff lo hi lr) (hc : ie_fin s c)
    (l : ∀ k, k < 4 → lo' k = ie_lw fc (lo k) (c k)) (g : ∀ k, k < 4 → hi' k = ie_hw fc (hi k) (c k)) (r : ∀ k, k < 6 → lr' k = ie_lw fc (lr k) (c (4 + k))) :
    iy_C s (ie_add N (Sum.inl c)) 1 fs ff lo' hi' lr' := by
  obtain ⟨h1, h2, h3, h5⟩ := h
  refine ⟨(ie_b1 (ie_Eex hc)).symm, by rw [h2]; exact (ie_be (ie_S_fin hc)).symm, by rw [h3]; exact (ie_mk_inl c).symm, fun _ => ⟨fun k hk => ?_, fun k hk => ?_, fun k hk => ?_⟩⟩
  · rw [l k hk]; exact ie_mn_s h1 (fun q => (h5 q).1 k hk) hc
  · rw [g k hk]; exact ie_mx_s h1 (fun q => (h5 q).2.1 k hk) hc
  · rw [r k hk]; exact ie_mn_s h1 (fun q => (h5 q).2.2 k hk) hc
theorem ix_Ce (h : ix_C s N fc fs ff fd fe lo hi) (hc : ie_fin s c)
    (l : ∀ k, k < 10 → lo' k = ie_lw fc (lo k) (c k)) (g : ∀ k, k < 10 → hi' k = ie_hw fc (hi k) (c k))
    (f0 : fc = 0 → ∀ v, v < 4 → fe' v = c v) (f1 : fc ≠ 0 → fe' = fe)
    (d0 : fc = 0 → fd' = fd) (d1 : fc ≠ 0 → (∃ v, v < 4 ∧ c v ≠ fe v) → fd' = 1) (d2 : fc ≠ 0 → ¬ (∃ v, v < 4 ∧ c v ≠ fe v) → fd' = fd) :
    ix_C s (ie_add N (Sum.inl c)) 1 fs ff fd' fe' lo' hi' := by
  obtain ⟨h1, h2, h3, h4, h5⟩ := h
  refine ⟨(ie_b1 (ie_Eex hc)).symm, by rw [h2]; exact (ie_be (ie_S_fin hc)).symm, by rw [h3]; exact (ie_mk_inl c).symm, ?_, fun _ => ⟨?_, fun k hk => ?_, fun k hk => ?_⟩⟩
  · rcases Classical.em (∃ e, ie_E s N e) with q | q
    · have f : fc ≠ 0 := by rw [h1, ie_b1 q]; decide
      rw [f1 f]
      rcases Classical.em (∃ v, v < 4 ∧ c v ≠ fe v) with p | p
      · rw [d1 f p]
        exact (ie_b1 ⟨c, (ie_E_add hc c).mpr (Or.inr rfl), p⟩).symm
      · rw [d2 f p, h4]
        apply ie_be
        constructor
        · rintro ⟨e, e1, e2⟩
          exact ⟨e, (ie_E_add hc e).mpr (Or.inl e1), e2⟩
        · rintro ⟨e, e1, e2⟩
          rcases (ie_E_add hc e).mp e1 with e1 | e1
          · exact ⟨e, e1, e2⟩
          · subst e1; exact absurd e2 p
    · have f : fc = 0 := by rw [h1, ie_b0 q]
      rw [d0 f, h4]
      rw [ie_b0 (fun ⟨e, h, _⟩ => q ⟨e, h⟩), ie_b0]
      rintro ⟨e, e1, v, e2, e3⟩
      rcases (ie_E_add hc e).mp e1 with e1 | e1
      · exact q ⟨e, e1⟩
      · subst e1; exact e3 (f0 f v e2).symm
  · rcases Classical.em (∃ e, ie_E s N e) with q | q
    · have f : fc ≠ 0 := by rw [h1, ie_b1 q]; decide
      obtain ⟨e, e1, e2⟩ := (h5 q).1
      rw [f1 f]
      exact ⟨e, (ie_E_add hc e).mpr (Or.inl e1), e2⟩
    · have f : fc = 0 := by rw [h1, ie_b0 q]
      exact ⟨c, (ie_E_add hc c).mpr (Or.inr rfl), f0 f⟩
  · rw [l k hk]; exact ie_mn_s h1 (fun q => (h5 q).2.1 k hk) hc
  · rw [g k hk]; exact ie_mx_s h1 (fun q => (h5 q).2.2 k hk) hc
end
/-- a loop that writes F 0, F 1, .. into an array -/
def ie_it (F f : Nat → Int32) (i : Nat) : Nat → Int32 := fun k => if k < i then F k else f k
theorem ie_it0 (F f : Nat → Int32) : ie_it F f 0 = f := funext fun _ => if_neg (Nat.not_lt_zero _)
theorem ie_iti (F f : Nat → Int32) (i : Nat) : ie_it F f i i = f i := if_neg (Nat.lt_irrefl _)
theorem ie_itl {F f : Nat → Int32} {i k : Nat} (h : k < i) : ie_it F f i k = F k := if_pos h
theorem ie_ith {F f : Nat → Int32} {i k : Nat} (h : i ≤ k) : ie_it F f i k = f k := if_neg (by omega)
theorem ie_its (F f : Nat → Int32) (i : Nat) {x : Int32} (hx : x = F i) : upd (ie_it F f i) i x = ie_it F f (i + 1) := by
  subst hx
  funext k
  by_cases e : k = i
  · subst e; rw [pk_us, ie_itl (by omega)]
  · rw [pk_un e]
    by_cases l : k < i
    · rw [ie_itl l, ie_itl (by omega)]
    · rw [ie_ith (by omega), ie_ith (by omega)]
theorem ie_itk (F f : Nat → Int32) (i : Nat) (hx : f i = F i) : ie_it F f i = ie_it F f (i + 1) := by
  rw [← ie_its F f i hx]
  funext k
  by_cases e : k = i
  · subst e; rw [pk_us, ie_iti]
  · rw [pk_un e]
theorem ie_upk (f : Nat → Int32) (i : Nat) : upd f i (f i) = f := by
  funext k
  by_cases e : k = i
  · subst e; rw [pk_us]
  · rw [pk_un e]
end
section
/-! X's methods that only read -/
def ix_P (s : Nat → Nat) (z : Nat → Int32) : Prop := ∀ t, t < 3 → z t = nI (s t) ∧ s t ≤ 5
def ix_L (q : Nat → Int32) (l : Nat) (c : Nat → Int32) : Prop := ∀ k, k < 15 → q (l * 15 + k) = c k
noncomputable def ie_nx (s : Nat → Nat) (c : Nat → Int32) (t : Nat) : Int32 := if ie_p c t < s t then nI (ie_i c t) else -1
noncomputable def ie_vI (o a b : Nat → Int32) (i : Nat) : Int32 := if ie_vo o a b i < 4 then nI (ie_vo o a b i) else -1
theorem ix_ad (l k : Nat) (m : Nat) : (nI l * 15 + nI k) + nI m = nI (l * 15 + (k + m)) := by
  show nI l * nI 15 + nI k + nI m = _
  rw [pk_mul, nI_add, nI_add, Nat.add_assoc]
theorem ix_ad1 (l k : Nat) : nI l * 15 + nI k = nI (l * 15 + k) := by
  show nI l * nI 15 + nI k = _
  rw [pk_mul, nI_add]
theorem ix_at {q c : Nat → Int32} {l k : Nat} {x : Int32} (hL : ix_L q l c) (hl : l ≤ 11) (hk : k < 15) (hx : x = nI (l * 15 + k)) : vp_in x 180 ∧ q x.toNatClampNeg = c k := by
  subst hx
  exact ⟨vp_in_nI (by omega) (by omega), by rw [nI_clamp (by omega)]; exact hL k hk⟩
theorem ix_hs {s : Nat → Nat} {z : Nat → Int32} (h : ix_P s z) : ∀ t, t < 3 → s t ≤ 5 := fun t ht => (h t ht).2
theorem ie_i15 {s : Nat → Nat} {z c : Nat → Int32} {t : Nat} (h : ix_P s z) (ht : t < 3) (hu : ie_p c t < s t) : ie_i c t < 15 := by
  have := (h t ht).2
  unfold ie_i; omega
theorem ix_m1 : ¬ (0 : Int32) ≤ -1 := by decide
section
variable {f_ready f_completes f_sticks f_failing f_differs f_lookV f_lookX f_lookW f_lookY f_seen : Int32} {a_sizes a_op a_argA a_argB a_start a_cell a_asleep a_toTry a_tried a_firstEnd a_low a_high : Nat → Int32}
variable {s : Nat → Nat} {c : Nat → Int32} {l t u i j n : Nat} {post : Int32 → Prop} {Z T : Nat → Prop} {x2 : Int32}
theorem ix_nextOf (hP : ix_P s a_sizes) (w : ie_W s c) (hL : ix_L a_cell l c) (hl : l ≤ 11) (ht : t < 3) (h : post (ie_nx s c t)) : wpX_nextOf post (f_ready, f_completes, f_sticks, f_failing, f_differs, f_lookV, f_lookX, f_lookW, f_lookY, f_seen, a_sizes, a_op, a_argA, a_argB, a_start, a_cell, a_asleep, a_toTry, a_tried, a_firstEnd, a_low, a_high) (nI l) (nI t) := by
  obtain ⟨i1, i2⟩ := ix_at hL hl (k := 10 + t) (x := nI l * 15 + 10 + nI t) (by omega) (ix_ad l 10 t)
  have e1 : (nI t).toNatClampNeg = t := nI_clamp (by omega)
  have h5 := (hP t ht).2
  have hp := (w.1 t ht).2
  refine And.intro i1 (nm_r (e' := nI (ie_p c t)) (by rw [i2]; exact (w.1 t ht).1) (And.intro (vp_in_nI ht (by omega)) ?_))
  refine pk_lt (ie_p c t) (s t) (fun z => ?_) (fun z => ?_) rfl (by rw [e1]; exact (hP t ht).1)
  · have e : nI t * 5 + nI (ie_p c t) = nI (ie_i c t) := by
      show nI t * nI 5 + nI (ie_p c t) = _
      rw [pk_mul, nI_add]; rfl
    rw [e]
    have f : ie_nx s c t = nI (ie_i c t) := if_pos z
    rw [f] at h; exact h
  · have f : ie_nx s c t = -1 := if_neg (by omega)
    rw [f] at h; exact h
theorem ix_canGo (hP : ix_P s a_sizes) (w : ie_W s c) (hL : ix_L a_cell l c) (hl : l ≤ 11) (ht : t < 3) (h : post (ie_b (ie_en s a_op a_argA a_argB c t))) : wpX_canGo post (f_ready, f_completes, f_sticks, f_failing, f_differs, f_lookV, f_lookX, f_lookW, f_lookY, f_seen, a_sizes, a_op, a_argA, a_argB, a_start, a_cell, a_asleep, a_toTry, a_tried, a_firstEnd, a_low, a_high) (nI l) (nI t) := by
  unfold wpX_canGo
  refine ix_nextOf hP w hL hl ht ?_
  by_cases hu : ie_p c t < s t
  · have hi := ie_i15 hP ht hu
    have f : ie_nx s c t = nI (ie_i c t) := if_pos hu
    rw [f]
    have ei : (nI (ie_i c t)).toNatClampNeg = ie_i c t := nI_clamp (by omega)
    have vi : vp_in (nI (ie_i c t)) 15 := vp_in_nI hi (by omega)
    have q1 := ie_m1e a_argA (ie_i c t)
    have q4 := ie_m4e a_argA (ie_i c t)
    refine br_t (nI_pos' (by omega)) (nm_e (And.intro vi ?_))
    rw [ei]
    by_cases o4 : a_op (ie_i c t) = 4
    · refine br_t o4 (And.intro vi ?_)
      obtain ⟨i1, i2⟩ := ix_at hL hl (k := 13 + ie_m1 a_argA (ie_i c t)) (x := nI l * 15 + 13 + (a_argA (ie_i c t) &&& 1)) (by omega) (by rw [q1.1]; exact ix_ad l 13 _)
      refine And.intro i1 ?_
      rw [i2]
      have n8 : ¬ a_op (ie_i c t) = 8 := by rw [o4]; decide
      by_cases z : c (13 + ie_m1 a_argA (ie_i c t)) = 0
      · rw [ie_b1 ⟨hu, fun _ => z, fun k => absurd k n8⟩] at h
        exact br_t z h
      · rw [ie_b0 (fun k => z (k.2.1 o4))] at h
        exact br_f z h
    · refine br_f o4 (And.intro vi ?_)
      by_cases o8 : a_op (ie_i c t) = 8
      · refine br_t o8 (And.intro vi ?_)
        obtain ⟨i1, i2⟩ := ix_at hL hl (k := ie_m4 a_argA (ie_i c t)) (x := nI l * 15 + (a_argA (ie_i c t) &&& 3)) (by omega) (by rw [q4.1]; exact ix_ad1 l _)
        refine And.intro i1 (And.intro vi ?_)
        rw [i2]
        by_cases z : c (ie_m4 a_argA (ie_i c t)) = a_argB (ie_i c t)
        · rw [ie_b1 ⟨hu, fun k => absurd k o4, fun _ => z⟩] at h
          exact br_t z h
        · rw [ie_b0 (fun k => z (k.2.2 o8))] at h
          exact br_f z h
      · rw [ie_b1 ⟨hu, fun k => absurd k o4, fun k => absurd k o8⟩] at h
        exact br_f o8 h
  · have f : ie_nx s c t = -1 := if_neg hu
    rw [f]
    rw [ie_b0 (fun k => hu k.1)] at h
    exact br_f ix_m1 h
theorem ix_able1 (hP : ix_P s a_sizes) (w : ie_W s c) (hL : ix_L a_cell l c) (hl : l ≤ 11) (ht : t < 3) (k : wX_able_4 post (nI l) f_ready f_completes f_sticks f_failing f_differs f_lookV f_lookX f_lookW f_lookY f_seen a_sizes a_op a_argA a_argB a_start a_cell a_asleep a_toTry a_tried a_firstEnd a_low a_high n (x2 ||| ie_bb (ie_en s a_op a_argA a_argB c t) t) (nI (t + 1))) : wX_able_4 post (nI l) f_ready f_completes f_sticks f_failing f_differs f_lookV f_lookX f_lookW f_lookY f_seen a_sizes a_op a_argA a_argB a_start a_cell a_asleep a_toTry a_tried a_firstEnd a_low a_high (n + 1) x2 (nI t) := by
  refine br_f (nI_ge (b := 3) ht (by omega)) ?_
  refine ix_canGo hP w hL hl ht ?_
  by_cases e : ie_en s a_op a_argA a_argB c t
  · rw [ie_b1 e]
    rw [ie_bb1 e] at k
    exact br_f (by decide) (nm_e (nm_r (nI_1 t) k))
  · rw [ie_b0 e]
    rw [ie_bb0 e] at k
    exact br_t rfl (nm_r (nI_1 t) k)
theorem ix_able (hP : ix_P s a_sizes) (w : ie_W s c) (hL : ix_L a_cell l c) (hl : l ≤ 11) (h : post (ie_mk (ie_en s a_op a_argA a_argB c))) : wpX_able post (f_ready, f_completes, f_sticks, f_failing, f_differs, f_lookV, f_lookX, f_lookW, f_lookY, f_seen, a_sizes, a_op, a_argA, a_argB, a_start, a_cell, a_asleep, a_toTry, a_tried, a_firstEnd, a_low, a_high) (nI l) := by
  unfold wpX_able
  rw [← ie_mk_bb] at h
  exact ⟨4, ix_able1 (t := 0) hP w hL hl (by omega) (ix_able1 (t := 1) hP w hL hl (by omega) (ix_able1 (t := 2) hP w hL hl (by omega) (br_t (nI_le (Nat.le_refl 3) (by omega)) h)))⟩
theorem ix_all1 (hP : ix_P s a_sizes) (w : ie_W s c) (hL : ix_L a_cell l c) (hl : l ≤ 11) (ht : t < 3) (k0 : ie_p c t < s t → post 0) (k : ¬ ie_p c t < s t → wX_allFinished_2 post (nI l) f_ready f_completes f_sticks f_failing f_differs f_lookV f_lookX f_lookW f_lookY f_seen a_sizes a_op a_argA a_argB a_start a_cell a_asleep a_toTry a_tried a_firstEnd a_low a_high n (nI (t + 1))) : wX_allFinished_2 post (nI l) f_ready f_completes f_sticks f_failing f_differs f_lookV f_lookX f_lookW f_lookY f_seen a_sizes a_op a_argA a_argB a_start a_cell a_asleep a_toTry a_tried a_firstEnd a_low a_high (n + 1) (nI t) := by
  refine br_f (nI_ge (b := 3) ht (by omega)) ?_
  refine ix_nextOf hP w hL hl ht ?_
  by_cases e : ie_p c t < s t
  · have f : ie_nx s c t = nI (ie_i c t) := if_pos e
    have hi := ie_i15 hP ht e
    rw [f]
    exact br_f (nI_pos (by omega)) (k0 e)
  · have f : ie_nx s c t = -1 := if_neg e
    rw [f]
    exact br_t (by decide) (nm_r (nI_1 t) (k e))
theorem ix_all (hP : ix_P s a_sizes) (w : ie_W s c) (hL : ix_L a_cell l c) (hl : l ≤ 11) (h : post (ie_b (ie_fin s c))) : wpX_allFinished post (f_ready, f_completes, f_sticks, f_failing, f_differs, f_lookV, f_lookX, f_lookW, f_lookY, f_seen, a_sizes, a_op, a_argA, a_argB, a_start, a_cell, a_asleep, a_toTry, a_tried, a_firstEnd, a_low, a_high) (nI l) := by
  unfold wpX_allFinished
  have no : ∀ t, t < 3 → ie_p c t < s t → post 0 := by
    intro t ht e
    rw [ie_b0 (fun k => k t ht e)] at h; exact h
  refine ⟨4, ix_all1 (t := 0) hP w hL hl (by omega) (no 0 (by omega)) (fun e0 => ix_all1 (t := 1) hP w hL hl (by omega) (no 1 (by omega)) (fun e1 => ix_all1 (t := 2) hP w hL hl (by omega) (no 2 (by omega)) (fun e2 => br_t (nI_le (Nat.le_refl 3) (by omega)) ?_)))⟩
  rw [ie_b1 (P := ie_fin s c) (ie_lt3 e0 e1 e2)] at h; exact h
theorem ix_lock (hi : i < 15) (h : post (ie_b (ie_lk a_op i))) : wpX_touchesLock post (f_ready, f_completes, f_sticks, f_failing, f_differs, f_lookV, f_lookX, f_lookW, f_lookY, f_seen, a_sizes, a_op, a_argA, a_argB, a_start, a_cell, a_asleep, a_toTry, a_tried, a_firstEnd, a_low, a_high) (nI i) := by
  have ei : (nI i).toNatClampNeg = i := nI_clamp (by omega)
  have vi : vp_in (nI i) 15 := vp_in_nI hi (by omega)
  refine And.intro vi ?_
  rw [ei]
  by_cases o4 : a_op i = 4
  · rw [ie_b1 (P := ie_lk a_op i) (Or.inl o4)] at h; exact br_t o4 h
  · refine br_f o4 (And.intro vi ?_)
    by_cases o5 : a_op i = 5
    · rw [ie_b1 (P := ie_lk a_op i) (Or.inr o5)] at h; exact br_t o5 h
    · rw [ie_b0 (P := ie_lk a_op i) (fun k => k.elim o4 o5)] at h; exact br_f o5 h
theorem ix_writes (hi : i < 15) (h : post (ie_b (ie_wr a_op i))) : wpX_writes post (f_ready, f_completes, f_sticks, f_failing, f_differs, f_lookV, f_lookX, f_lookW, f_lookY, f_seen, a_sizes, a_op, a_argA, a_argB, a_start, a_cell, a_asleep, a_toTry, a_tried, a_firstEnd, a_low, a_high) (nI i) := by
  have ei : (nI i).toNatClampNeg = i := nI_clamp (by omega)
  have vi : vp_in (nI i) 15 := vp_in_nI hi (by omega)
  refine And.intro vi ?_
  rw [ei]
  by_cases o1 : a_op i = 1
  · rw [ie_b1 (P := ie_wr a_op i) (Or.inl o1)] at h; exact br_t o1 h
  · refine br_f o1 (And.intro vi ?_)
    by_cases o3 : a_op i = 3
    · rw [ie_b1 (P := ie_wr a_op i) (Or.inr (Or.inl o3))] at h; exact br_t o3 h
    · refine br_f o3 (And.intro vi ?_)
      by_cases o7 : a_op i = 7
      · rw [ie_b1 (P := ie_wr a_op i) (Or.inr (Or.inr o7))] at h; exact br_t o7 h
      · rw [ie_b0 (P := ie_wr a_op i) (fun k => k.elim o1 (fun k => k.elim o3 o7))] at h; exact br_f o7 h
theorem ix_var (hi : i < 15) (h : post (ie_vI a_op a_argA a_argB i)) : wpX_variableOf post (f_ready, f_completes, f_sticks, f_failing, f_differs, f_lookV, f_lookX, f_lookW, f_lookY, f_seen, a_sizes, a_op, a_argA, a_argB, a_start, a_cell, a_asleep, a_toTry, a_tried, a_firstEnd, a_low, a_high) (nI i) := by
  have ei : (nI i).toNatClampNeg = i := nI_clamp (by omega)
  have vi : vp_in (nI i) 15 := vp_in_nI hi (by omega)
  have q4 := ie_m4e a_argA i
  have r4 := ie_m4e a_argB i
  have yes : (a_op i = 0 ∨ a_op i = 1 ∨ a_op i = 3 ∨ a_op i = 7) → post (a_argB i &&& 3) := by
    intro k
    have e : ie_vo a_op a_argA a_argB i = ie_m4 a_argB i := by unfold ie_vo; rw [if_pos k]
    have f : ie_vI a_op a_argA a_argB i = nI (ie_m4 a_argB i) := by unfold ie_vI; rw [e, if_pos r4.2]
    rw [f] at h; rw [r4.1]; exact h
  refine And.intro vi (nm_r (e' := a_op i) (by rw [ei]) ?_)
  rw [ei]
  by_cases o0 : a_op i = 0
  · exact br_t o0 (And.intro vi (yes (Or.inl o0)))
  refine br_f o0 ?_
  by_cases o1 : a_op i = 1
  · exact br_t o1 (And.intro vi (yes (Or.inr (Or.inl o1))))
  refine br_f o1 ?_
  by_cases o3 : a_op i = 3
  · exact br_t o3 (And.intro vi (yes (Or.inr (Or.inr (Or.inl o3)))))
  refine br_f o3 ?_
  by_cases o7 : a_op i = 7
  · exact br_t o7 (And.intro vi (yes (Or.inr (Or.inr (Or.inr o7)))))
  refine br_f o7 ?_
  have nn : ¬ (a_op i = 0 ∨ a_op i = 1 ∨ a_op i = 3 ∨ a_op i = 7) := fun k => k.elim o0 (fun k => k.elim o1 (fun k => k.elim o3 o7))
  by_cases o8 : a_op i = 8
  · have e : ie_vo a_op a_argA a_argB i = ie_m4 a_argA i := by unfold ie_vo; rw [if_neg nn, if_pos o8]
    have f : ie_vI a_op a_argA a_argB i = nI (ie_m4 a_argA i) := by unfold ie_vI; rw [e, if_pos q4.2]
    rw [f] at h
    refine br_t o8 (And.intro vi ?_)
    rw [q4.1]; exact h
  · have e : ie_vo a_op a_argA a_argB i = 9 := by unfold ie_vo; rw [if_neg nn, if_neg o8]
    have f : ie_vI a_op a_argA a_argB i = -1 := by unfold ie_vI; rw [e, if_neg (by omega)]
    rw [f] at h
    exact br_f o8 h
theorem ie_vlk {o a b : Nat → Int32} (h : ie_lk o i) : ie_vo o a b i = 9 := by
  unfold ie_vo
  rcases h with h | h
  · rw [if_neg (by rw [h]; decide), if_neg (by rw [h]; decide)]
  · rw [if_neg (by rw [h]; decide), if_neg (by rw [h]; decide)]
theorem ix_ind71 (hi : i < 15) (hj : j < 15) (h : post (ie_b (ie_vo a_op a_argA a_argB i = ie_vo a_op a_argA a_argB j → ie_vo a_op a_argA a_argB i < 4 → ¬ ie_wr a_op i ∧ ¬ ie_wr a_op j))) : wX_independent_71 post (nI i) (nI j) f_ready f_completes f_sticks f_failing f_differs f_lookV f_lookX f_lookW f_lookY f_seen a_sizes a_op a_argA a_argB a_start a_cell a_asleep a_toTry a_tried a_firstEnd a_low a_high := by
  unfold wX_independent_71
  refine ix_var hi ?_
  refine ix_var hj ?_
  by_cases v4 : ie_vo a_op a_argA a_argB i < 4
  · have fi : ie_vI a_op a_argA a_argB i = nI (ie_vo a_op a_argA a_argB i) := if_pos v4
    rw [fi]
    refine br_f (nI_pos (by omega)) ?_
    by_cases e : ie_vo a_op a_argA a_argB i = ie_vo a_op a_argA a_argB j
    · have fj : ie_vI a_op a_argA a_argB j = nI (ie_vo a_op a_argA a_argB i) := by rw [e]; exact if_pos (by omega)
      rw [fj]
      refine br_t rfl ?_
      refine ix_writes hi ?_
      refine ix_writes hj ?_
      by_cases w1 : ie_wr a_op i
      · rw [ie_b1 w1]
        rw [ie_b0 (fun k => (k e v4).1 w1)] at h
        exact br_f (by decide) h
      · rw [ie_b0 w1]
        refine br_t rfl ?_
        by_cases w2 : ie_wr a_op j
        · rw [ie_b1 w2]
          rw [ie_b0 (fun k => (k e v4).2 w2)] at h
          exact br_f (by decide) h
        · rw [ie_b0 w2]
          rw [ie_b1 (fun _ _ => ⟨w1, w2⟩)] at h
          exact br_t rfl h
    · rw [ie_b1 (fun k => absurd k e)] at h
      refine br_f ?_ h
      by_cases vj : ie_vo a_op a_argA a_argB j < 4
      · have fj : ie_vI a_op a_argA a_argB j = nI (ie_vo a_op a_argA a_argB j) := if_pos vj
        rw [fj, nI_eq (by omega) (by omega)]; exact e
      · have fj : ie_vI a_op a_argA a_argB j = -1 := if_neg vj
        rw [fj]
        intro k
        exact nI_pos (n := ie_vo a_op a_argA a_argB i) (by omega) (by rw [k]; decide)
  · have fi : ie_vI a_op a_argA a_argB i = -1 := if_neg v4
    rw [fi]
    rw [ie_b1 (fun _ k => absurd k v4)] at h
    exact br_t (by decide) h
theorem ix_ind (hi : i < 15) (hj : j < 15) (h : post (ie_b (ie_ind a_op a_argA a_argB i j))) : wpX_independent post (f_ready, f_completes, f_sticks, f_failing, f_differs, f_lookV, f_lookX, f_lookW, f_lookY, f_seen, a_sizes, a_op, a_argA, a_argB, a_start, a_cell, a_asleep, a_toTry, a_tried, a_firstEnd, a_low, a_high) (nI i) (nI j) := by
  have ei : (nI i).toNatClampNeg = i := nI_clamp (by omega)
  have vi : vp_in (nI i) 15 := vp_in_nI hi (by omega)
  have ej : (nI j).toNatClampNeg = j := nI_clamp (by omega)
  have vj : vp_in (nI j) 15 := vp_in_nI hj (by omega)
  refine And.intro vi ?_
  rw [ei, ej]
  by_cases i6 : a_op i = 6
  · rw [ie_b0 (fun k => k.1 i6)] at h; exact br_t i6 h
  refine br_f i6 (And.intro vj ?_)
  by_cases j6 : a_op j = 6
  · rw [ie_b0 (fun k => k.2.1 j6)] at h; exact br_t j6 h
  refine br_f j6 ?_
  refine ix_lock hi ?_
  refine ix_lock hj ?_
  by_cases li : ie_lk a_op i
  · by_cases lj : ie_lk a_op j
    · rw [ie_b1 li, ie_b1 lj]
      refine br_f (by decide) (br_f (by decide) (And.intro vi (And.intro vj ?_)))
      have q1 := ie_m1e a_argA i
      have q2 := ie_m1e a_argA j
      rw [q1.1, q2.1]
      by_cases e : ie_m1 a_argA i = ie_m1 a_argA j
      · rw [ie_b0 (fun k => k.2.2.1 li lj e)] at h
        exact br_t (by rw [e]) h
      · rw [ie_b1 ⟨i6, j6, fun _ _ => e, fun _ k => by rw [ie_vlk li] at k; omega⟩] at h
        exact br_f (by rw [nI_eq (by omega) (by omega)]; exact e) h
    · rw [ie_b1 li, ie_b0 lj]
      refine br_f (by decide) (br_t rfl (ix_ind71 hi hj ?_))
      rw [ie_b1 (fun _ k => by rw [ie_vlk li] at k; omega)]
      rw [ie_b1 ⟨i6, j6, fun _ k => absurd k lj, fun _ k => by rw [ie_vlk li] at k; omega⟩] at h
      exact h
  · rw [ie_b0 li]
    refine br_t rfl (ix_ind71 hi hj ?_)
    have e : ie_ind a_op a_argA a_argB i j ↔ (ie_vo a_op a_argA a_argB i = ie_vo a_op a_argA a_argB j → ie_vo a_op a_argA a_argB i < 4 → ¬ ie_wr a_op i ∧ ¬ ie_wr a_op j) :=
      ⟨fun k => k.2.2.2, fun k => ⟨i6, j6, fun z => absurd z li, k⟩⟩
    rw [ie_be e] at h
    exact h
theorem ix_slp1 (hP : ix_P s a_sizes) (w : ie_W s c) (hL : ix_L a_cell l c) (hl : l ≤ 11) (ht : t < 3) (hu : u < 3) (ut : ie_p c t < s t) (hZ : a_asleep l = ie_mk Z) (hT : a_tried l = ie_mk T)
    (k : wX_sleepers_13 post (nI l) (nI t) (nI (ie_i c t)) f_ready f_completes f_sticks f_failing f_differs f_lookV f_lookX f_lookW f_lookY f_seen a_sizes a_op a_argA a_argB a_start a_cell a_asleep a_toTry a_tried a_firstEnd a_low a_high n (x2 ||| ie_bb (u ≠ t ∧ ie_p c u < s u ∧ (Z u ∨ T u) ∧ ie_ind a_op a_argA a_argB (ie_i c u) (ie_i c t)) u) (nI (u + 1))) :
    wX_sleepers_13 post (nI l) (nI t) (nI (ie_i c t)) f_ready f_completes f_sticks f_failing f_differs f_lookV f_lookX f_lookW f_lookY f_seen a_sizes a_op a_argA a_argB a_start a_cell a_asleep a_toTry a_tried a_firstEnd a_low a_high (n + 1) x2 (nI u) := by
  have el : (nI l).toNatClampNeg = l := nI_clamp (by omega)
  have vl : vp_in (nI l) 12 := vp_in_nI (by omega) (by omega)
  have hi := ie_i15 hP ht ut
  refine br_f (nI_ge (b := 3) hu (by omega)) ?_
  refine ix_nextOf hP w hL hl hu ?_
  by_cases e : u = t
  · rw [ie_bb0 (fun z => z.1 e)] at k
    exact br_t (by rw [e]) (nm_r (nI_1 u) k)
  refine br_f (by rw [nI_eq (by omega) (by omega)]; exact e) ?_
  by_cases e2 : ie_p c u < s u
  · have f : ie_nx s c u = nI (ie_i c u) := if_pos e2
    have hi2 := ie_i15 hP hu e2
    rw [f]
    refine br_f (nI_pos (by omega)) (And.intro vl (And.intro vl ?_))
    rw [el, hZ, hT, ie_mk_or]
    by_cases e3 : Z u ∨ T u
    · refine br_t ((ie_mk_bit hu).mpr e3) (ix_ind hi2 hi ?_)
      by_cases e4 : ie_ind a_op a_argA a_argB (ie_i c u) (ie_i c t)
      · rw [ie_b1 e4]
        rw [ie_bb1 ⟨e, e2, e3, e4⟩] at k
        exact br_f (by decide) (nm_e (nm_r (nI_1 u) k))
      · rw [ie_b0 e4]
        rw [ie_bb0 (fun z => e4 z.2.2.2)] at k
        exact br_t rfl (nm_r (nI_1 u) k)
    · rw [ie_bb0 (fun z => e3 z.2.2.1)] at k
      exact br_f (fun z => e3 ((ie_mk_bit hu).mp z)) (nm_r (nI_1 u) k)
  · have f : ie_nx s c u = -1 := if_neg e2
    rw [f]
    rw [ie_bb0 (fun z => e2 z.2.1)] at k
    exact br_t (by decide) (nm_r (nI_1 u) k)
theorem ix_slp (hP : ix_P s a_sizes) (w : ie_W s c) (hL : ix_L a_cell l c) (hl : l ≤ 11) (ht : t < 3) (ut : ie_p c t < s t) (hZ : a_asleep l = ie_mk Z) (hT : a_tried l = ie_mk T)
    (h : post (ie_mk (fun u => u ≠ t ∧ ie_p c u < s u ∧ (Z u ∨ T u) ∧ ie_ind a_op a_argA a_argB (ie_i c u) (ie_i c t)))) : wpX_sleepers post (f_ready, f_completes, f_sticks, f_failing, f_differs, f_lookV, f_lookX, f_lookW, f_lookY, f_seen, a_sizes, a_op, a_argA, a_argB, a_start, a_cell, a_asleep, a_toTry, a_tried, a_firstEnd, a_low, a_high) (nI l) (nI t) := by
  unfold wpX_sleepers
  refine ix_nextOf hP w hL hl ht ?_
  have f : ie_nx s c t = nI (ie_i c t) := if_pos ut
  rw [f]
  rw [← ie_mk_bb] at h
  exact ⟨4, ix_slp1 (u := 0) hP w hL hl ht (by omega) ut hZ hT (ix_slp1 (u := 1) hP w hL hl ht (by omega) ut hZ hT (ix_slp1 (u := 2) hP w hL hl ht (by omega) ut hZ hT (br_t (nI_le (Nat.le_refl 3) (by omega)) h)))⟩
end
end
section
/-! X carries an instruction out -/
def ix_K (q0 : Nat → Int32) (l : Nat) (q c : Nat → Int32) : Prop := ix_L q l c ∧ ∀ j, j < l * 15 → q j = q0 j
theorem ix_Ku {q0 q c : Nat → Int32} {l k : Nat} {x : Int32} (h : ix_K q0 l q c) (hk : k < 15) : ix_K q0 l (upd q (l * 15 + k) x) (upd c k x) := by
  refine ⟨fun j hj => ?_, fun j hj => ?_⟩
  · by_cases e : j = k
    · subst e; rw [pk_us, pk_us]
    · rw [pk_un e, pk_un (by omega)]; exact h.1 j hj
  · rw [pk_un (by omega)]; exact h.2 j hj
section
variable {o a b c : Nat → Int32} {t i : Nat}
theorem ie_ef_n (h0 : o i ≠ 0) (h1 : o i ≠ 1) (h2 : o i ≠ 2) (h3 : o i ≠ 3) (h4 : o i ≠ 4) (h5 : o i ≠ 5) (h7 : o i ≠ 7) : ie_ef o a b t i c = c := by
  unfold ie_ef
  rw [if_neg h0, if_neg h1, if_neg h2, if_neg h3, if_neg h4, if_neg h5, if_neg h7]
theorem ie_ef_0 (h : o i = 0) : ie_ef o a b t i c = upd c (4 + t * 2 + ie_m1 a i) (c (ie_m4 b i)) := by
  unfold ie_ef; rw [if_pos h]
theorem ie_ef_1 (h : o i = 1) : ie_ef o a b t i c = upd c (ie_m4 b i) (c (4 + t * 2 + ie_m1 a i)) := by
  unfold ie_ef; rw [if_neg (by rw [h]; decide), if_pos h]
theorem ie_ef_2 (h : o i = 2) : ie_ef o a b t i c = upd c (4 + t * 2 + ie_m1 a i) (c (4 + t * 2 + ie_m1 a i) + b i) := by
  unfold ie_ef; rw [if_neg (by rw [h]; decide), if_neg (by rw [h]; decide), if_pos h]
theorem ie_ef_3 (h : o i = 3) : ie_ef o a b t i c = upd c (ie_m4 b i) (a i) := by
  unfold ie_ef; rw [if_neg (by rw [h]; decide), if_neg (by rw [h]; decide), if_neg (by rw [h]; decide), if_pos h]
theorem ie_ef_4 (h : o i = 4) : ie_ef o a b t i c = upd c (13 + ie_m1 a i) (nI (t + 1)) := by
  unfold ie_ef; rw [if_neg (by rw [h]; decide), if_neg (by rw [h]; decide), if_neg (by rw [h]; decide), if_neg (by rw [h]; decide), if_pos h]
theorem ie_ef_5 (h : o i = 5) : ie_ef o a b t i c = if c (13 + ie_m1 a i) = nI (t + 1) then upd c (13 + ie_m1 a i) 0 else c := by
  unfold ie_ef; rw [if_neg (by rw [h]; decide), if_neg (by rw [h]; decide), if_neg (by rw [h]; decide), if_neg (by rw [h]; decide), if_neg (by rw [h]; decide), if_pos h]
theorem ie_ef_7 (h : o i = 7) : ie_ef o a b t i c = upd (upd c (4 + t * 2 + ie_m1 a i) (c (ie_m4 b i))) (ie_m4 b i) (c (4 + t * 2 + ie_m1 a i)) := by
  unfold ie_ef; rw [if_neg (by rw [h]; decide), if_neg (by rw [h]; decide), if_neg (by rw [h]; decide), if_neg (by rw [h]; decide), if_neg (by rw [h]; decide), if_neg (by rw [h]; decide), if_pos h]
end
theorem ix_neg {x : Int32} (h : x < 0) : x ≠ 0 ∧ x ≠ 1 ∧ x ≠ 2 ∧ x ≠ 3 ∧ x ≠ 4 ∧ x ≠ 5 ∧ x ≠ 6 ∧ x ≠ 7 := by
  refine ⟨?_, ?_, ?_, ?_, ?_, ?_, ?_, ?_⟩ <;> (intro e; rw [e] at h; exact absurd h (by decide))
theorem ix_big {x : Int32} (h : 7 < x) : x ≠ 0 ∧ x ≠ 1 ∧ x ≠ 2 ∧ x ≠ 3 ∧ x ≠ 4 ∧ x ≠ 5 ∧ x ≠ 6 ∧ x ≠ 7 := by
  refine ⟨?_, ?_, ?_, ?_, ?_, ?_, ?_, ?_⟩ <;> (intro e; rw [e] at h; exact absurd h (by decide))
section
variable {f_ready f_completes f_sticks f_failing f_differs f_lookV f_lookX f_lookW f_lookY f_seen : Int32} {a_sizes a_op a_argA a_argB a_start a_cell a_asleep a_toTry a_tried a_firstEnd a_low a_high : Nat → Int32}
variable {s : Nat → Nat} {c q0 : Nat → Int32} {l t u i j n r v : Nat}
theorem ix_swap {post : SX → Prop} (K : ix_K q0 l a_cell c) (hl : l ≤ 11) (hr : r < 15) (hv : v < 15) (h : ∀ q', ix_K q0 l q' (upd (upd c r (c v)) v (c r)) → post (f_ready, f_completes, f_sticks, f_failing, f_differs, f_lookV, f_lookX, f_lookW, f_lookY, f_seen, a_sizes, a_op, a_argA, a_argB, a_start, q', a_asleep, a_toTry, a_tried, a_firstEnd, a_low, a_high)) : wpX_swap post (f_ready, f_completes, f_sticks, f_failing, f_differs, f_lookV, f_lookX, f_lookW, f_lookY, f_seen, a_sizes, a_op, a_argA, a_argB, a_start, a_cell, a_asleep, a_toTry, a_tried, a_firstEnd, a_low, a_high) (nI (l * 15 + r)) (nI (l * 15 + v)) := by
  have vr : vp_in (nI (l * 15 + r)) 180 := vp_in_nI (by omega) (by omega)
  have vv : vp_in (nI (l * 15 + v)) 180 := vp_in_nI (by omega) (by omega)
  have er : (nI (l * 15 + r)).toNatClampNeg = l * 15 + r := nI_clamp (by omega)
  have ev : (nI (l * 15 + v)).toNatClampNeg = l * 15 + v := nI_clamp (by omega)
  unfold wpX_swap
  refine And.intro vr (nm_r (e' := c r) (by rw [er]; exact K.1 r hr) (And.intro vv (And.intro vr (nm_r (e' := upd a_cell (l * 15 + r) (c v)) (by rw [er, ev, K.1 v hv]) (And.intro vv (nm_r (e' := upd (upd a_cell (l * 15 + r) (c v)) (l * 15 + v) (c r)) (by rw [ev]) ?_))))))
  exact h _ (ix_Ku (ix_Ku K hr) hv)
theorem ix_perform {post : Int32 → SX → Prop} (hL : ix_L a_cell l c) (hl : l ≤ 11) (ht : t < 3) (hi : ie_i c t < 15) (h : ∀ q', ix_K a_cell l q' (ie_st a_op a_argA a_argB c t) → post (ie_b (¬ ie_fl a_op a_argA a_argB c t)) (f_ready, f_completes, f_sticks, f_failing, f_differs, f_lookV, f_lookX, f_lookW, f_lookY, f_seen, a_sizes, a_op, a_argA, a_argB, a_start, q', a_asleep, a_toTry, a_tried, a_firstEnd, a_low, a_high)) : wpX_perform post (f_ready, f_completes, f_sticks, f_failing, f_differs, f_lookV, f_lookX, f_lookW, f_lookY, f_seen, a_sizes, a_op, a_argA, a_argB, a_start, a_cell, a_asleep, a_toTry, a_tried, a_firstEnd, a_low, a_high) (nI l) (nI t) (nI (ie_i c t)) := by
  generalize eI : ie_i c t = I at hi ⊢
  have ei : (nI I).toNatClampNeg = I := nI_clamp (by omega)
  have vi : vp_in (nI I) 15 := vp_in_nI hi (by omega)
  have q1 := ie_m1e a_argA I
  have q4 := ie_m4e a_argB I
  have m1 := q1.2
  have m4 := q4.2
  have vp : vp_in (nI (l * 15) + 10 + nI t) 180 := by
    have e : nI (l * 15) + 10 + nI t = nI (l * 15 + (10 + t)) := by
      show nI (l * 15) + nI 10 + nI t = _
      rw [nI_add, nI_add, Nat.add_assoc]
    rw [e]; exact vp_in_nI (by omega) (by omega)
  have ep : (nI (l * 15) + 10 + nI t).toNatClampNeg = l * 15 + (10 + t) := by
    have e : nI (l * 15) + 10 + nI t = nI (l * 15 + (10 + t)) := by
      show nI (l * 15) + nI 10 + nI t = _
      rw [nI_add, nI_add, Nat.add_assoc]
    rw [e]; exact nI_clamp (by omega)
  have K1 : ix_K a_cell l (upd a_cell (l * 15 + (10 + t)) (c (10 + t) + 1)) (upd c (10 + t) (c (10 + t) + 1)) := ix_Ku ⟨hL, fun _ _ => rfl⟩ (by omega)
  have st : ie_st a_op a_argA a_argB c t = ie_ef a_op a_argA a_argB t I (upd c (10 + t) (c (10 + t) + 1)) := by rw [← eI]; rfl
  have cr : upd c (10 + t) (c (10 + t) + 1) (4 + t * 2 + ie_m1 a_argA I) = c (4 + t * 2 + ie_m1 a_argA I) := pk_un (by omega)
  rw [st] at h
  unfold wpX_perform
  refine nm_r (e' := nI (l * 15)) (pk_mul l 15) (And.intro vi (nm_r (e' := nI (l * 15 + (4 + t * 2 + ie_m1 a_argA I))) ?_ (And.intro vi (nm_r (e' := nI (l * 15 + ie_m4 a_argB I)) ?_ (And.intro vi (nm_r (e' := nI (l * 15 + (13 + ie_m1 a_argA I))) ?_ (And.intro vp (And.intro vp (nm_r (e' := upd a_cell (l * 15 + (10 + t)) (c (10 + t) + 1)) ?_ (And.intro vi (nm_r (e' := a_op I) ?_ ?_)))))))))))
  · rw [ei, q1.1]
    show nI (l * 15) + nI 4 + nI t * nI 2 + nI (ie_m1 a_argA I) = _
    rw [pk_mul, nI_add, nI_add, nI_add]
    congr 1; omega
  · rw [ei, q4.1, nI_add]
  · rw [ei, q1.1]
    show nI (l * 15) + nI 13 + nI (ie_m1 a_argA I) = _
    rw [nI_add, nI_add, Nat.add_assoc]
  · rw [ep, hL _ (by omega)]
  · rw [ei]
  generalize eq : upd a_cell (l * 15 + (10 + t)) (c (10 + t) + 1) = Q at K1 ⊢
  generalize ec : upd c (10 + t) (c (10 + t) + 1) = C at K1 cr h
  have vr : vp_in (nI (l * 15 + (4 + t * 2 + ie_m1 a_argA I))) 180 := vp_in_nI (by omega) (by omega)
  have vv : vp_in (nI (l * 15 + ie_m4 a_argB I)) 180 := vp_in_nI (by omega) (by omega)
  have vm : vp_in (nI (l * 15 + (13 + ie_m1 a_argA I))) 180 := vp_in_nI (by omega) (by omega)
  have er : (nI (l * 15 + (4 + t * 2 + ie_m1 a_argA I))).toNatClampNeg = l * 15 + (4 + t * 2 + ie_m1 a_argA I) := nI_clamp (by omega)
  have ev : (nI (l * 15 + ie_m4 a_argB I)).toNatClampNeg = l * 15 + ie_m4 a_argB I := nI_clamp (by omega)
  have em : (nI (l * 15 + (13 + ie_m1 a_argA I))).toNatClampNeg = l * 15 + (13 + ie_m1 a_argA I) := nI_clamp (by omega)
  have Kr := K1.1 (4 + t * 2 + ie_m1 a_argA I) (by omega)
  have Kv := K1.1 (ie_m4 a_argB I) (by omega)
  have Km := K1.1 (13 + ie_m1 a_argA I) (by omega)
  have hk : a_op I ≠ 6 → ∀ q', ix_K a_cell l q' (ie_ef a_op a_argA a_argB t I C) → post 1 (f_ready, f_completes, f_sticks, f_failing, f_differs, f_lookV, f_lookX, f_lookW, f_lookY, f_seen, a_sizes, a_op, a_argA, a_argB, a_start, q', a_asleep, a_toTry, a_tried, a_firstEnd, a_low, a_high) := by
    intro k q' hq
    have z := h q' hq
    rw [ie_b1 (fun f => k (by rw [← eI]; exact f.1))] at z
    exact z
  rw [er, ev, em, ei]
  by_cases k0 : a_op I < 0
  · obtain ⟨n0, n1, n2, n3, n4, n5, n6, n7⟩ := ix_neg k0
    exact br_t k0 (hk n6 _ (by rw [ie_ef_n n0 n1 n2 n3 n4 n5 n7]; exact K1))
  refine br_f k0 ?_
  by_cases k7 : 7 < a_op I
  · obtain ⟨n0, n1, n2, n3, n4, n5, n6, n7⟩ := ix_big k7
    exact br_t k7 (hk n6 _ (by rw [ie_ef_n n0 n1 n2 n3 n4 n5 n7]; exact K1))
  refine br_f k7 ?_
  by_cases o0 : a_op I = 0
  · refine br_t o0 (And.intro vv (And.intro vr (nm_r (e' := upd Q (l * 15 + (4 + t * 2 + ie_m1 a_argA I)) (C (ie_m4 a_argB I))) (by rw [Kv]) ?_)))
    exact hk (by rw [o0]; decide) _ (by rw [ie_ef_0 o0]; exact ix_Ku K1 (by omega))
  refine br_f o0 ?_
  by_cases o1 : a_op I = 1
  · refine br_t o1 (And.intro vr (And.intro vv (nm_r (e' := upd Q (l * 15 + ie_m4 a_argB I) (C (4 + t * 2 + ie_m1 a_argA I))) (by rw [Kr]) ?_)))
    exact hk (by rw [o1]; decide) _ (by rw [ie_ef_1 o1]; exact ix_Ku K1 (by omega))
  refine br_f o1 ?_
  by_cases o2 : a_op I = 2
  · refine br_t o2 (And.intro vr (And.intro vi (And.intro vr (nm_r (e' := upd Q (l * 15 + (4 + t * 2 + ie_m1 a_argA I)) (C (4 + t * 2 + ie_m1 a_argA I) + a_argB I)) (by rw [Kr]) ?_))))
    exact hk (by rw [o2]; decide) _ (by rw [ie_ef_2 o2]; exact ix_Ku K1 (by omega))
  refine br_f o2 ?_
  by_cases o3 : a_op I = 3
  · refine br_t o3 (And.intro vi (And.intro vv (nm_e ?_)))
    exact hk (by rw [o3]; decide) _ (by rw [ie_ef_3 o3]; exact ix_Ku K1 (by omega))
  refine br_f o3 ?_
  by_cases o4 : a_op I = 4
  · refine br_t o4 (And.intro vm (nm_r (e' := upd Q (l * 15 + (13 + ie_m1 a_argA I)) (nI (t + 1))) (by rw [nI_1]) ?_))
    exact hk (by rw [o4]; decide) _ (by rw [ie_ef_4 o4]; exact ix_Ku K1 (by omega))
  refine br_f o4 ?_
  by_cases o5 : a_op I = 5
  · have n6 : a_op I ≠ 6 := by rw [o5]; decide
    refine br_t o5 (And.intro vm ?_)
    rw [Km, nI_1]
    by_cases z : C (13 + ie_m1 a_argA I) = nI (t + 1)
    · refine br_t z (And.intro vm (nm_e ?_))
      exact hk n6 _ (by rw [ie_ef_5 o5, if_pos z]; exact ix_Ku K1 (by omega))
    · exact br_f z (hk n6 _ (by rw [ie_ef_5 o5, if_neg z]; exact K1))
  refine br_f o5 ?_
  by_cases o6 : a_op I = 6
  · refine br_t o6 (And.intro vr (And.intro vi ?_))
    rw [Kr, cr]
    have z := h Q (by rw [ie_ef_n (by rw [o6]; decide) (by rw [o6]; decide) (by rw [o6]; decide) (by rw [o6]; decide) (by rw [o6]; decide) (by rw [o6]; decide) (by rw [o6]; decide)]; exact K1)
    by_cases y : c (4 + t * 2 + ie_m1 a_argA I) = a_argB I
    · rw [ie_b1 (fun f => f.2 (by rw [eI]; exact y))] at z
      exact br_t y z
    · rw [ie_b0 (fun f => f ⟨by rw [eI]; exact o6, by rw [eI]; exact y⟩)] at z
      exact br_f y z
  refine br_f o6 ?_
  by_cases o7 : a_op I = 7
  · refine br_t o7 ?_
    refine ix_swap K1 hl (by omega) (by omega) ?_
    intro q' hq
    exact hk o6 q' (by rw [ie_ef_7 o7]; exact hq)
  · exact br_f o7 trivial
end
end
section
/-! X notes an end -/
def ie_dv (fe c : Nat → Int32) (d : Int32) : Nat → Int32
  | 0 => d
  | v + 1 => if c v = fe v then ie_dv fe c d v else 1
theorem ie_dv1 {fe c : Nat → Int32} {d : Int32} : ∀ (n : Nat), (∃ v, v < n ∧ c v ≠ fe v) → ie_dv fe c d n = 1
  | 0, ⟨_, h, _⟩ => absurd h (by omega)
  | n + 1, ⟨v, h, k⟩ => by
    by_cases e : c n = fe n
    · have r : ie_dv fe c d (n + 1) = ie_dv fe c d n := if_pos e
      rw [r]
      refine ie_dv1 n ⟨v, ?_, k⟩
      have : v ≠ n := fun z => k (by rw [z]; exact e)
      omega
    · exact if_neg e
theorem ie_dv0 {fe c : Nat → Int32} {d : Int32} : ∀ (n : Nat), ¬ (∃ v, v < n ∧ c v ≠ fe v) → ie_dv fe c d n = d
  | 0, _ => rfl
  | n + 1, h => by
    have e : c n = fe n := Classical.byContradiction fun k => h ⟨n, by omega, k⟩
    have r : ie_dv fe c d (n + 1) = ie_dv fe c d n := if_pos e
    rw [r]
    exact ie_dv0 n (fun ⟨v, h1, h2⟩ => h ⟨v, by omega, h2⟩)
def ix_A (s : Nat → Nat) (N : ie_O → Prop) (lv : Nat) (x : Int32) (lw : Nat) (y : Int32) (fc fs ff fd fz : Int32) (fe lo hi : Nat → Int32) : Prop :=
  ix_C s N fc fs ff fd fe lo hi ∧ fz = ie_b (ie_V s N lv x lw y)
section
variable {f_ready f_completes f_sticks f_failing f_differs f_lookV f_lookX f_lookW f_lookY f_seen : Int32} {a_sizes a_op a_argA a_argB a_start a_cell a_asleep a_toTry a_tried a_firstEnd a_low a_high : Nat → Int32}
variable {s : Nat → Nat} {c lo hi fe : Nat → Int32} {l t u i j n k lv lw : Nat} {x2 x4 d : Int32} {N : ie_O → Prop} {post : SX → Prop}
theorem ix_149 {J : Int32 → (Nat → Int32) → (Nat → Int32) → (Nat → Int32) → (Nat → Int32) → (Nat → Int32) → (Nat → Int32) → (Nat → Int32) → (Nat → Int32) → (Nat → Int32) → (Nat → Int32) → (Nat → Int32) → (Nat → Int32) → Prop} (hk : k < 10)
    (h : J (nI (k + 1)) a_sizes a_op a_argA a_argB a_start a_cell a_asleep a_toTry a_tried a_firstEnd a_low (upd a_high k (ie_hw f_completes (a_high k) x4))) : wX_noteEnd_149 post J x2 (nI k) x4 f_ready f_completes f_sticks f_failing f_differs f_lookV f_lookX f_lookW f_lookY f_seen a_sizes a_op a_argA a_argB a_start a_cell a_asleep a_toTry a_tried a_firstEnd a_low a_high := by
  have vk : vp_in (nI k) 10 := vp_in_nI hk (by omega)
  have ek : (nI k).toNatClampNeg = k := nI_clamp (by omega)
  unfold wX_noteEnd_149
  rw [ek]
  by_cases f0 : f_completes = 0
  · have e : ie_hw f_completes (a_high k) x4 = x4 := if_pos f0
    rw [e] at h
    exact br_t f0 (And.intro vk (nm_e (nm_r (nI_1 k) h)))
  · refine br_f f0 (And.intro vk ?_)
    by_cases z : x4 ≤ a_high k
    · have e : ie_hw f_completes (a_high k) x4 = a_high k := by unfold ie_hw; rw [if_neg f0, if_pos z]
      rw [e, ie_upk] at h
      exact br_t z (nm_r (nI_1 k) h)
    · have e : ie_hw f_completes (a_high k) x4 = x4 := by unfold ie_hw; rw [if_neg f0, if_neg z]
      rw [e] at h
      exact br_f z (And.intro vk (nm_e (nm_r (nI_1 k) h)))
theorem ix_107 (hL : ix_L a_cell l c) (hl : l ≤ 11) (h : post (f_ready, 1, f_sticks, f_failing, f_differs, f_lookV, f_lookX, f_lookW, f_lookY, f_seen, a_sizes, a_op, a_argA, a_argB, a_start, a_cell, a_asleep, a_toTry, a_tried, a_firstEnd, ie_it (fun k => ie_lw f_completes (lo k) (c k)) lo 10, ie_it (fun k => ie_hw f_completes (hi k) (c k)) hi 10)) : ∀ m i, i + m = 10 →
    wX_noteEnd_107 post (nI (l * 15)) f_ready f_completes f_sticks f_failing f_differs f_lookV f_lookX f_lookW f_lookY f_seen (m + 1) (nI i) a_sizes a_op a_argA a_argB a_start a_cell a_asleep a_toTry a_tried a_firstEnd (ie_it (fun k => ie_lw f_completes (lo k) (c k)) lo i) (ie_it (fun k => ie_hw f_completes (hi k) (c k)) hi i) := by
  intro m
  induction m with
  | zero =>
    intro i hi
    have e : i = 10 := by omega
    subst e
    exact br_t (nI_le (Nat.le_refl 10) (by omega)) h
  | succ m ih =>
    intro i hi10
    have g := ih (i + 1) (by omega)
    have vk : vp_in (nI i) 10 := vp_in_nI (by omega) (by omega)
    have ek : (nI i).toNatClampNeg = i := nI_clamp (by omega)
    obtain ⟨i1, i2⟩ := ix_at hL hl (k := i) (x := nI (l * 15) + nI i) (by omega) (nI_add _ _)
    refine br_f (nI_ge (b := 10) (by omega) (by omega)) (And.intro i1 (nm_r (e' := c i) i2 ?_))
    have el := ie_iti (fun k => ie_lw f_completes (lo k) (c k)) lo i
    have eh := ie_iti (fun k => ie_hw f_completes (hi k) (c k)) hi i
    have sh := ie_its (fun k => ie_hw f_completes (hi k) (c k)) hi i (x := ie_hw f_completes (ie_it (fun k => ie_hw f_completes (hi k) (c k)) hi i i) (c i)) (by rw [eh])
    by_cases f0 : f_completes = 0
    · have sl := ie_its (fun k => ie_lw f_completes (lo k) (c k)) lo i (x := c i) (if_pos f0).symm
      refine br_t f0 ?_
      unfold wX_noteEnd_141
      refine And.intro vk (nm_r (e' := ie_it (fun k => ie_lw f_completes (lo k) (c k)) lo (i + 1)) (by rw [ek, sl]) ?_)
      refine ix_149 (by omega) ?_
      rw [sh]; exact g
    · refine br_f f0 (And.intro vk ?_)
      rw [ek, el]
      by_cases z : lo i ≤ c i
      · refine br_t z ?_
        refine ix_149 (by omega) ?_
        have kl := ie_itk (fun k => ie_lw f_completes (lo k) (c k)) lo i (by show lo i = ie_lw f_completes (lo i) (c i); unfold ie_lw; rw [if_neg f0, if_pos z])
        rw [sh, kl]; exact g
      · have sl := ie_its (fun k => ie_lw f_completes (lo k) (c k)) lo i (x := c i) (by show c i = ie_lw f_completes (lo i) (c i); unfold ie_lw; rw [if_neg f0, if_neg z])
        refine br_f z ?_
        unfold wX_noteEnd_141
        refine And.intro vk (nm_r (e' := ie_it (fun k => ie_lw f_completes (lo k) (c k)) lo (i + 1)) (by rw [ek, sl]) ?_)
        refine ix_149 (by omega) ?_
        rw [sh]; exact g
theorem ix_48a (hL : ix_L a_cell l c) (hl : l ≤ 11) (f0 : f_completes = 0) (h : ∃ n107, wX_noteEnd_107 post (nI (l * 15)) f_ready f_completes f_sticks f_failing f_differs f_lookV f_lookX f_lookW f_lookY f_seen n107 0 a_sizes a_op a_argA a_argB a_start a_cell a_asleep a_toTry a_tried (ie_it c fe 4) a_low a_high) : ∀ m i, i + m = 4 →
    wX_noteEnd_48 post (nI (l * 15)) f_ready f_completes f_sticks f_failing f_lookV f_lookX f_lookW f_lookY f_seen (m + 1) (nI i) f_differs a_sizes a_op a_argA a_argB a_start a_cell a_asleep a_toTry a_tried (ie_it c fe i) a_low a_high := by
  intro m
  induction m with
  | zero =>
    intro i hi
    have e : i = 4 := by omega
    subst e
    exact br_t (nI_le (Nat.le_refl 4) (by omega)) h
  | succ m ih =>
    intro i hi4
    have g := ih (i + 1) (by omega)
    have vk : vp_in (nI i) 4 := vp_in_nI (by omega) (by omega)
    have ek : (nI i).toNatClampNeg = i := nI_clamp (by omega)
    obtain ⟨i1, i2⟩ := ix_at hL hl (k := i) (x := nI (l * 15) + nI i) (by omega) (nI_add _ _)
    exact br_f (nI_ge (b := 4) (by omega) (by omega)) (br_t f0 (And.intro i1 (And.intro vk (nm_r (e' := ie_it c fe (i + 1)) (by rw [ek, i2, ie_its c fe i rfl]) (nm_r (nI_1 i) g)))))
theorem ix_48b (hL : ix_L a_cell l c) (hl : l ≤ 11) (f0 : ¬ f_completes = 0) (h : ∃ n107, wX_noteEnd_107 post (nI (l * 15)) f_ready f_completes f_sticks f_failing (ie_dv a_firstEnd c d 4) f_lookV f_lookX f_lookW f_lookY f_seen n107 0 a_sizes a_op a_argA a_argB a_start a_cell a_asleep a_toTry a_tried a_firstEnd a_low a_high) : ∀ m i, i + m = 4 →
    wX_noteEnd_48 post (nI (l * 15)) f_ready f_completes f_sticks f_failing f_lookV f_lookX f_lookW f_lookY f_seen (m + 1) (nI i) (ie_dv a_firstEnd c d i) a_sizes a_op a_argA a_argB a_start a_cell a_asleep a_toTry a_tried a_firstEnd a_low a_high := by
  intro m
  induction m with
  | zero =>
    intro i hi
    have e : i = 4 := by omega
    subst e
    exact br_t (nI_le (Nat.le_refl 4) (by omega)) h
  | succ m ih =>
    intro i hi4
    have g := ih (i + 1) (by omega)
    have vk : vp_in (nI i) 4 := vp_in_nI (by omega) (by omega)
    have ek : (nI i).toNatClampNeg = i := nI_clamp (by omega)
    obtain ⟨i1, i2⟩ := ix_at hL hl (k := i) (x := nI (l * 15) + nI i) (by omega) (nI_add _ _)
    refine br_f (nI_ge (b := 4) (by omega) (by omega)) (br_f f0 (And.intro i1 (And.intro vk ?_)))
    rw [i2, ek]
    by_cases z : c i = a_firstEnd i
    · have e : ie_dv a_firstEnd c d (i + 1) = ie_dv a_firstEnd c d i := if_pos z
      rw [e] at g
      exact br_t z (nm_r (nI_1 i) g)
    · have e : ie_dv a_firstEnd c d (i + 1) = 1 := if_neg z
      rw [e] at g
      exact br_f z (nm_r (nI_1 i) g)
theorem ix_48 (hL : ix_L a_cell l c) (hl : l ≤ 11) (hc : ie_fin s c) (C : ix_C s N f_completes f_sticks f_failing f_differs a_firstEnd a_low a_high)
    (h : ∀ fd' fe' lo' hi', ix_C s (ie_add N (Sum.inl c)) 1 f_sticks f_failing fd' fe' lo' hi' → post (f_ready, 1, f_sticks, f_failing, fd', f_lookV, f_lookX, f_lookW, f_lookY, f_seen, a_sizes, a_op, a_argA, a_argB, a_start, a_cell, a_asleep, a_toTry, a_tried, fe', lo', hi')) :
    ∃ n48, wX_noteEnd_48 post (nI (l * 15)) f_ready f_completes f_sticks f_failing f_lookV f_lookX f_lookW f_lookY f_seen n48 0 f_differs a_sizes a_op a_argA a_argB a_start a_cell a_asleep a_toTry a_tried a_firstEnd a_low a_high := by
  refine ⟨5, ?_⟩
  have l1 : ∀ k, k < 10 → ie_it (fun k => ie_lw f_completes (a_low k) (c k)) a_low 10 k = ie_lw f_completes (a_low k) (c k) := fun k hk => ie_itl hk
  have l2 : ∀ k, k < 10 → ie_it (fun k => ie_hw f_completes (a_high k) (c k)) a_high 10 k = ie_hw f_completes (a_high k) (c k) := fun k hk => ie_itl hk
  by_cases f0 : f_completes = 0
  · have Q := ix_107 (f_ready := f_ready) (f_completes := f_completes) (f_sticks := f_sticks) (f_failing := f_failing) (f_differs := f_differs) (f_lookV := f_lookV) (f_lookX := f_lookX) (f_lookW := f_lookW) (f_lookY := f_lookY) (f_seen := f_seen) (a_sizes := a_sizes) (a_op := a_op) (a_argA := a_argA) (a_argB := a_argB) (a_start := a_start) (a_asleep := a_asleep) (a_toTry := a_toTry) (a_tried := a_tried) (a_firstEnd := ie_it c a_firstEnd 4) (lo := a_low) (hi := a_high) (post := post) hL hl
      (h _ _ _ _ (ix_Ce C hc l1 l2 (fun _ v hv => ie_itl hv) (fun z => absurd f0 z) (fun _ => rfl) (fun z => absurd f0 z) (fun z => absurd f0 z))) 10 0 rfl
    rw [ie_it0, ie_it0] at Q
    have R := ix_48a (fe := a_firstEnd) hL hl f0 ⟨11, Q⟩ 4 0 rfl
    rw [ie_it0] at R
    exact R
  · have Q := ix_107 (f_ready := f_ready) (f_completes := f_completes) (f_sticks := f_sticks) (f_failing := f_failing) (f_differs := ie_dv a_firstEnd c f_differs 4) (f_lookV := f_lookV) (f_lookX := f_lookX) (f_lookW := f_lookW) (f_lookY := f_lookY) (f_seen := f_seen) (a_sizes := a_sizes) (a_op := a_op) (a_argA := a_argA) (a_argB := a_argB) (a_start := a_start) (a_asleep := a_asleep) (a_toTry := a_toTry) (a_tried := a_tried) (a_firstEnd := a_firstEnd) (lo := a_low) (hi := a_high) (post := post) hL hl
      (h _ _ _ _ (ix_Ce C hc l1 l2 (fun z => absurd z f0) (fun _ => rfl) (fun z => absurd z f0) (fun _ z => ie_dv1 4 z) (fun _ z => ie_dv0 4 z))) 10 0 rfl
    rw [ie_it0, ie_it0] at Q
    exact ix_48b (d := f_differs) hL hl f0 ⟨11, Q⟩ 4 0 rfl
theorem ix_noteEnd (hL : ix_L a_cell l c) (hl : l ≤ 11) (hc : ie_fin s c) (hv : f_lookV = nI lv) (hw : f_lookW = nI lw) (v4 : lv < 4) (w4 : lw < 4)
    (A : ix_A s N lv f_lookX lw f_lookY f_completes f_sticks f_failing f_differs f_seen a_firstEnd a_low a_high)
    (h : ∀ fd' fz' fe' lo' hi', ix_A s (ie_add N (Sum.inl c)) lv f_lookX lw f_lookY 1 f_sticks f_failing fd' fz' fe' lo' hi' → post (f_ready, 1, f_sticks, f_failing, fd', f_lookV, f_lookX, f_lookW, f_lookY, fz', a_sizes, a_op, a_argA, a_argB, a_start, a_cell, a_asleep, a_toTry, a_tried, fe', lo', hi')) :
    wpX_noteEnd post (f_ready, f_completes, f_sticks, f_failing, f_differs, f_lookV, f_lookX, f_lookW, f_lookY, f_seen, a_sizes, a_op, a_argA, a_argB, a_start, a_cell, a_asleep, a_toTry, a_tried, a_firstEnd, a_low, a_high) (nI l) := by
  obtain ⟨C, V⟩ := A
  obtain ⟨i1, i2⟩ := ix_at hL hl (k := lv) (x := nI (l * 15) + f_lookV) (by omega) (by rw [hv, nI_add])
  obtain ⟨j1, j2⟩ := ix_at hL hl (k := lw) (x := nI (l * 15) + f_lookW) (by omega) (by rw [hw, nI_add])
  unfold wpX_noteEnd
  refine nm_r (e' := nI (l * 15)) (pk_mul l 15) (And.intro i1 ?_)
  rw [i2, j2]
  by_cases z : c lv = f_lookX
  · refine br_t z (And.intro j1 ?_)
    by_cases y : c lw = f_lookY
    · refine br_t y (ix_48 hL hl hc C fun fd' fe' lo' hi' C' => h _ _ _ _ _ ⟨C', ?_⟩)
      exact (ie_b1 ((ie_V_end hc).mpr (Or.inr ⟨z, y⟩))).symm
    · refine br_f y (ix_48 hL hl hc C fun fd' fe' lo' hi' C' => h _ _ _ _ _ ⟨C', ?_⟩)
      rw [V]; exact ie_be ⟨fun k => (ie_V_end hc).mpr (Or.inl k), fun k => ((ie_V_end hc).mp k).elim id (fun k => absurd k.2 y)⟩
  · refine br_f z (ix_48 hL hl hc C fun fd' fe' lo' hi' C' => h _ _ _ _ _ ⟨C', ?_⟩)
    rw [V]; exact ie_be ⟨fun k => (ie_V_end hc).mpr (Or.inl k), fun k => ((ie_V_end hc).mp k).elim id (fun k => absurd k.1 z)⟩
end
end
section
/-! X opens a level, and descends -/
section
variable {f_ready f_completes f_sticks f_failing f_differs f_lookV f_lookX f_lookW f_lookY f_seen : Int32} {a_sizes a_op a_argA a_argB a_start a_cell a_asleep a_toTry a_tried a_firstEnd a_low a_high : Nat → Int32}
variable {s : Nat → Nat} {c q0 : Nat → Int32} {l t u i j n k lv lw : Nat} {x2 x4 d : Int32} {N N' : ie_O → Prop} {Z B : Nat → Prop}
theorem ix_Ax {x y fc fs ff fd fz : Int32} {fe lo hi : Nat → Int32} (h : ix_A s N lv x lw y fc fs ff fd fz fe lo hi) (e : ∀ x, N x ↔ N' x) : ix_A s N' lv x lw y fc fs ff fd fz fe lo hi := by
  rw [← ie_ext e]; exact h
theorem ix_open {post : SX → Prop} (hP : ix_P s a_sizes) (w : ie_W s c) (hL : ix_L a_cell l c) (hl : l ≤ 11) (hZ : a_asleep l = ie_mk Z) (hv : f_lookV = nI lv) (hw : f_lookW = nI lw) (v4 : lv < 4) (w4 : lw < 4)
    (A : ix_A s N lv f_lookX lw f_lookY f_completes f_sticks f_failing f_differs f_seen a_firstEnd a_low a_high)
    (h : ∀ fc' fs' fd' fz' fe' lo' hi' to' tr', ix_A s (fun x => N x ∨ ((∀ t, t < 3 → ¬ ie_en s a_op a_argA a_argB c t) ∧ x = Sum.inl c)) lv f_lookX lw f_lookY fc' fs' f_failing fd' fz' fe' lo' hi' →
      (∀ j, j ≠ l → to' j = a_toTry j ∧ tr' j = a_tried j) → to' l = ie_mk (fun u => ie_en s a_op a_argA a_argB c u ∧ ¬ Z u) → tr' l = ie_mk (fun _ => False) →
      post (f_ready, fc', fs', f_failing, fd', f_lookV, f_lookX, f_lookW, f_lookY, fz', a_sizes, a_op, a_argA, a_argB, a_start, a_cell, a_asleep, to', tr', fe', lo', hi')) :
    wpX_open post (f_ready, f_completes, f_sticks, f_failing, f_differs, f_lookV, f_lookX, f_lookW, f_lookY, f_seen, a_sizes, a_op, a_argA, a_argB, a_start, a_cell, a_asleep, a_toTry, a_tried, a_firstEnd, a_low, a_high) (nI l) := by
  have vl : vp_in (nI l) 12 := vp_in_nI (by omega) (by omega)
  have el : (nI l).toNatClampNeg = l := nI_clamp (by omega)
  unfold wpX_open
  refine ix_able hP w hL hl ?_
  rw [el, hZ, ie_mk_nand]
  refine And.intro vl (nm_e (And.intro vl (And.intro vl (nm_e ?_))))
  have hj : ∀ j, j ≠ l → upd a_toTry l (ie_mk (fun u => ie_en s a_op a_argA a_argB c u ∧ ¬ Z u)) j = a_toTry j ∧ upd a_tried l 0 j = a_tried j := fun j hj => ⟨pk_un hj, pk_un hj⟩
  have h0 : upd a_tried l 0 l = ie_mk (fun _ => False) := by rw [pk_us, ie_mk_F]
  by_cases z : ie_mk (ie_en s a_op a_argA a_argB c) = 0
  · have ne := ie_mk_0.mp z
    refine br_t z ?_
    refine ix_all hP w hL hl ?_
    by_cases f : ie_fin s c
    · rw [ie_b1 f]
      refine br_f (by decide) ?_
      refine ix_noteEnd hL hl f hv hw v4 w4 A ?_
      intro fd' fz' fe' lo' hi' A'
      exact h _ _ _ _ _ _ _ _ _ (ix_Ax A' fun x => ⟨fun k => k.elim Or.inl (fun k => Or.inr ⟨ne, k⟩), fun k => k.elim Or.inl (fun k => Or.inr k.2)⟩) hj pk_us h0
    · rw [ie_b0 f]
      refine br_t rfl ?_
      exact h _ _ _ _ _ _ _ _ _ (ix_Ax ⟨ix_Cs A.1 f, by rw [ie_V_s f]; exact A.2⟩ fun x => ⟨fun k => k.elim Or.inl (fun k => Or.inr ⟨ne, k⟩), fun k => k.elim Or.inl (fun k => Or.inr k.2)⟩) hj pk_us h0
  · refine br_f z ?_
    exact h _ _ _ _ _ _ _ _ _ (ix_Ax A fun x => ⟨Or.inl, fun k => k.elim id (fun k => absurd (ie_mk_0.mpr k.1) z)⟩) hj pk_us h0
theorem ix_copy {post : Int32 → SX → Prop} (hl : l ≤ 10) (hL : ix_L q0 l c)
    (h : ∀ n q', ix_L q' (l + 1) c → (∀ j, j < (l + 1) * 15 → q' j = q0 j) → wX_descend_53 post (nI l) x2 (nI (l + 1)) x4 f_ready f_completes f_sticks f_failing f_differs f_lookV f_lookX f_lookW f_lookY f_seen (n + 1) (nI 15) a_sizes a_op a_argA a_argB a_start q' a_asleep a_toTry a_tried a_firstEnd a_low a_high) :
    ∀ m i q, i + m = 15 → (∀ k, k < i → q ((l + 1) * 15 + k) = c k) → (∀ j, j < (l + 1) * 15 → q j = q0 j) → wX_descend_53 post (nI l) x2 (nI (l + 1)) x4 f_ready f_completes f_sticks f_failing f_differs f_lookV f_lookX f_lookW f_lookY f_seen (m + 1) (nI i) a_sizes a_op a_argA a_argB a_start q a_asleep a_toTry a_tried a_firstEnd a_low a_high := by
  intro m
  induction m with
  | zero =>
    intro i q hi h1 h2
    have e : i = 15 := by omega
    subst e
    exact h 0 q h1 h2
  | succ m ih =>
    intro i q hi h1 h2
    have e1 := ix_ad1 l i
    have e2 := ix_ad1 (l + 1) i
    have v1 : vp_in (nI l * 15 + nI i) 180 := by rw [e1]; exact vp_in_nI (by omega) (by omega)
    have v2 : vp_in (nI (l + 1) * 15 + nI i) 180 := by rw [e2]; exact vp_in_nI (by omega) (by omega)
    have g := ih (i + 1) (upd q ((l + 1) * 15 + i) (c i)) (by omega) (by
      intro k hk
      by_cases e : k = i
      · subst e; exact pk_us
      · rw [pk_un (by omega)]; exact h1 k (by omega)) (by
      intro j hj
      rw [pk_un (by omega)]; exact h2 j hj)
    refine br_f (nI_ge (b := 15) (by omega) (by omega)) (And.intro v1 (And.intro v2 (nm_r (e' := upd q ((l + 1) * 15 + i) (c i)) ?_ (nm_r (nI_1 i) g))))
    rw [e1, e2, nI_clamp (by omega), nI_clamp (by omega), h2 _ (by omega), hL i (by omega)]
theorem ix_descend {post : Int32 → SX → Prop} (hP : ix_P s a_sizes) (w : ie_W s c) (hL : ix_L a_cell l c) (hl : l ≤ 10) (ht : t < 3) (he : ie_en s a_op a_argA a_argB c t)
    (hZ : a_asleep l = ie_mk Z) (hT : a_tried l = ie_mk (fun u => u < t ∧ ie_en s a_op a_argA a_argB c u ∧ ¬ Z u)) (hB : a_toTry l = ie_mk B)
    (hv : f_lookV = nI lv) (hw : f_lookW = nI lw) (v4 : lv < 4) (w4 : lw < 4)
    (A : ix_A s N lv f_lookX lw f_lookY f_completes f_sticks f_failing f_differs f_seen a_firstEnd a_low a_high)
    (hf : ie_fl a_op a_argA a_argB c t → ∀ q' as' to' tr', (∀ j, j < (l + 1) * 15 → q' j = a_cell j) → (∀ j, j ≤ l → as' j = a_asleep j) → (∀ j, j < l → to' j = a_toTry j ∧ tr' j = a_tried j) →
      to' l = ie_mk (fun u => B u ∧ ¬ u = t) → tr' l = ie_mk (fun u => (u < t ∧ ie_en s a_op a_argA a_argB c u ∧ ¬ Z u) ∨ u = t) →
      ix_A s (ie_add N (Sum.inr t)) lv f_lookX lw f_lookY f_completes f_sticks (f_failing ||| ((1 : Int32) <<< (nI t &&& 31))) f_differs f_seen a_firstEnd a_low a_high →
      post (nI l) (f_ready, f_completes, f_sticks, f_failing ||| ((1 : Int32) <<< (nI t &&& 31)), f_differs, f_lookV, f_lookX, f_lookW, f_lookY, f_seen, a_sizes, a_op, a_argA, a_argB, a_start, q', as', to', tr', a_firstEnd, a_low, a_high))
    (hg : ¬ ie_fl a_op a_argA a_argB c t → ∀ q' as' to' tr' fc' fs' fd' fz' fe' lo' hi', (∀ j, j < (l + 1) * 15 → q' j = a_cell j) → ix_L q' (l + 1) (ie_st a_op a_argA a_argB c t) →
      (∀ j, j ≤ l → as' j = a_asleep j) → as' (l + 1) = ie_mk (ie_sl s a_op a_argA a_argB c Z t) → (∀ j, j < l → to' j = a_toTry j ∧ tr' j = a_tried j) →
      to' l = ie_mk (fun u => B u ∧ ¬ u = t) → tr' l = ie_mk (fun u => (u < t ∧ ie_en s a_op a_argA a_argB c u ∧ ¬ Z u) ∨ u = t) →
      to' (l + 1) = ie_mk (fun u => ie_en s a_op a_argA a_argB (ie_st a_op a_argA a_argB c t) u ∧ ¬ ie_sl s a_op a_argA a_argB c Z t u) → tr' (l + 1) = ie_mk (fun _ => False) →
      ix_A s (fun x => N x ∨ ((∀ u, u < 3 → ¬ ie_en s a_op a_argA a_argB (ie_st a_op a_argA a_argB c t) u) ∧ x = Sum.inl (ie_st a_op a_argA a_argB c t))) lv f_lookX lw f_lookY fc' fs' f_failing fd' fz' fe' lo' hi' →
      post (nI (l + 1)) (f_ready, fc', fs', f_failing, fd', f_lookV, f_lookX, f_lookW, f_lookY, fz', a_sizes, a_op, a_argA, a_argB, a_start, q', as', to', tr', fe', lo', hi')) :
    wpX_descend post (f_ready, f_completes, f_sticks, f_failing, f_differs, f_lookV, f_lookX, f_lookW, f_lookY, f_seen, a_sizes, a_op, a_argA, a_argB, a_start, a_cell, a_asleep, a_toTry, a_tried, a_firstEnd, a_low, a_high) (nI l) (nI t) := by
  have vl : vp_in (nI l) 12 := vp_in_nI (by omega) (by omega)
  have el : (nI l).toNatClampNeg = l := nI_clamp (by omega)
  have vl1 : vp_in (nI (l + 1)) 12 := vp_in_nI (by omega) (by omega)
  have el1 : (nI (l + 1)).toNatClampNeg = l + 1 := nI_clamp (by omega)
  have hi := ie_i15 hP ht he.1
  have f : ie_nx s c t = nI (ie_i c t) := if_pos he.1
  have sl : ie_mk (fun u => u ≠ t ∧ ie_p c u < s u ∧ (Z u ∨ (u < t ∧ ie_en s a_op a_argA a_argB c u ∧ ¬ Z u)) ∧ ie_ind a_op a_argA a_argB (ie_i c u) (ie_i c t)) = ie_mk (ie_sl s a_op a_argA a_argB c Z t) :=
    ie_mk_e fun u hu => ⟨fun k => ⟨hu, k⟩, fun k => k.2⟩
  unfold wpX_descend
  refine nm_r (e' := nI (l + 1)) (nI_1 l) ?_
  refine ix_slp hP w hL (by omega) ht he.1 hZ hT ?_
  rw [sl, el1, el, hT, hB, ie_mk_set _ ht, ie_mk_clr _ ht]
  refine And.intro vl1 (nm_e (And.intro vl (And.intro vl (nm_e (And.intro vl (And.intro vl (nm_e ?_)))))))
  refine ix_nextOf hP w hL (by omega) ht ?_
  rw [f]
  refine ⟨16, ix_copy hl hL ?_ 15 0 a_cell rfl (fun k hk => by omega) (fun _ _ => rfl)⟩
  intro n q' hq hj
  refine br_t (nI_le (Nat.le_refl 15) (by omega)) ?_
  refine ix_perform hq (by omega) ht hi ?_
  intro q2 K2
  have B1 : ∀ j, j < (l + 1) * 15 → q2 j = a_cell j := fun j h => by rw [K2.2 j h, hj j h]
  have B2 : ∀ j, j ≤ l → upd a_asleep (l + 1) (ie_mk (ie_sl s a_op a_argA a_argB c Z t)) j = a_asleep j := fun j h => pk_un (by omega)
  have B3 : ∀ j, j < l → upd a_toTry l (ie_mk (fun u => B u ∧ ¬ u = t)) j = a_toTry j ∧ upd a_tried l (ie_mk (fun u => (u < t ∧ ie_en s a_op a_argA a_argB c u ∧ ¬ Z u) ∨ u = t)) j = a_tried j := fun j h => ⟨pk_un (by omega), pk_un (by omega)⟩
  by_cases fl : ie_fl a_op a_argA a_argB c t
  · rw [ie_b0 (fun k => k fl)]
    refine br_t rfl (nm_e ?_)
    exact hf fl _ _ _ _ B1 B2 B3 pk_us pk_us ⟨ix_Cf A.1 ht, by rw [ie_V_f]; exact A.2⟩
  · rw [ie_b1 fl]
    refine br_f (by decide) ?_
    refine ix_open hP (ie_Wst (ix_hs hP) ht w he.1) K2.1 (by omega) pk_us hv hw v4 w4 A ?_
    intro fc' fs' fd' fz' fe' lo' hi' to' tr' A' C1 C2 C3
    refine hg fl _ _ _ _ _ _ _ _ _ _ _ B1 K2.1 B2 pk_us (fun j h => ?_) ?_ ?_ C2 C3 A'
    · have z := C1 j (by omega)
      exact ⟨z.1.trans (B3 j h).1, z.2.trans (B3 j h).2⟩
    · exact (C1 l (by omega)).1.trans pk_us
    · exact (C1 l (by omega)).2.trans pk_us
theorem ix_lowest {post : Int32 → Prop} (ht : t < 3) (hB : B t) (hn : ∀ u, u < t → ¬ B u) (h : post (nI t)) : wpX_lowest post (ie_mk B) := by
  unfold wpX_lowest
  rcases (show t = 0 ∨ t = 1 ∨ t = 2 by omega) with e | e | e <;> subst e
  · exact br_t (ie_mk_a1.mpr hB) h
  · exact br_f (fun k => hn 0 (by omega) (ie_mk_a1.mp k)) (br_t (ie_mk_a2.mpr hB) h)
  · exact br_f (fun k => hn 0 (by omega) (ie_mk_a1.mp k)) (br_f (fun k => hn 1 (by omega) (ie_mk_a2.mp k)) h)
end
end
section
/-! X's search -/
def ie_gs (s : Nat → Nat) (o a b c : Nat → Int32) (t : Nat) : Nat :=
  1 + (if t ≤ 0 then ie_gb s o a b c 0 else 0) + (if t ≤ 1 then ie_gb s o a b c 1 else 0) + (if t ≤ 2 then ie_gb s o a b c 2 else 0)
theorem ie_split {P : Nat → Prop} {t : Nat} (ht : t < 3) : (∃ u, t ≤ u ∧ u < 3 ∧ P u) ↔ P t ∨ ∃ u, t + 1 ≤ u ∧ u < 3 ∧ P u := by
  constructor
  · rintro ⟨u, h1, h2, h3⟩
    by_cases e : u = t
    · subst e; exact Or.inl h3
    · exact Or.inr ⟨u, by omega, h2, h3⟩
  · rintro (h | ⟨u, h1, h2, h3⟩)
    · exact ⟨t, Nat.le_refl _, ht, h⟩
    · exact ⟨u, by omega, h2, h3⟩
section
variable {s : Nat → Nat} {o a b c : Nat → Int32} {t : Nat}
theorem ie_gs3 : ie_gs s o a b c 3 = 1 := rfl
theorem ie_gst (ht : t < 3) : ie_gs s o a b c t = ie_gb s o a b c t + ie_gs s o a b c (t + 1) := by
  unfold ie_gs
  rcases (show t = 0 ∨ t = 1 ∨ t = 2 by omega) with e | e | e <;> subst e <;> simp <;> omega
theorem ie_gs0 (hs : ∀ t, t < 3 → s t ≤ 5) (w : ie_W s c) : ie_gs s o a b c 0 ≤ ie_gc s c := by
  have := ie_gb_t (o := o) (a := a) (b := b) hs w
  unfold ie_gs
  simp
  omega
end
section
variable {f_ready f_lookV f_lookX f_lookW f_lookY : Int32} {a_sizes a_op a_argA a_argB a_start : Nat → Int32}
variable {s : Nat → Nat} {lv lw : Nat} {post : SX → Prop}
theorem ix_D (hP : ix_P s a_sizes) (hv : f_lookV = nI lv) (hw : f_lookW = nI lw) (v4 : lv < 4) (w4 : lw < 4) :
    ∀ (r : Nat) (c : Nat → Int32), ie_rk s c < r → ie_W s c → ∀ (d t l : Nat), t + d = 3 → l + ie_rk s c ≤ 10 → ∀ (Z : Nat → Prop) (N : ie_O → Prop) (n q : Nat)
    (f_completes f_sticks f_failing f_differs f_seen : Int32) (a_cell a_asleep a_toTry a_tried a_firstEnd a_low a_high : Nat → Int32),
    ix_L a_cell l c → a_asleep l = ie_mk Z → a_tried l = ie_mk (fun u => u < t ∧ ie_en s a_op a_argA a_argB c u ∧ ¬ Z u) → a_toTry l = ie_mk (fun u => t ≤ u ∧ ie_en s a_op a_argA a_argB c u ∧ ¬ Z u) →
    ix_A s N lv f_lookX lw f_lookY f_completes f_sticks f_failing f_differs f_seen a_firstEnd a_low a_high →
    q + ie_gs s a_op a_argA a_argB c t ≤ 200000 → n + q = 200001 →
    (∀ (n' q' : Nat) (fc fs ff fd fz : Int32) (ce as to tr fe lo hi : Nat → Int32), n' + q' = 200001 → q' ≤ q + ie_gs s a_op a_argA a_argB c t →
      ix_A s (fun x => N x ∨ ∃ u, t ≤ u ∧ u < 3 ∧ ie_xb s a_op a_argA a_argB c Z u x) lv f_lookX lw f_lookY fc fs ff fd fz fe lo hi →
      (∀ j, j < l * 15 → ce j = a_cell j) → (∀ j, j < l → as j = a_asleep j ∧ to j = a_toTry j ∧ tr j = a_tried j) →
      wX_search_51 post n' (nI l + (-1)) (nI q') f_ready fc fs ff fd f_lookV f_lookX f_lookW f_lookY fz a_sizes a_op a_argA a_argB a_start ce as to tr fe lo hi) →
    wX_search_51 post n (nI l) (nI q) f_ready f_completes f_sticks f_failing f_differs f_lookV f_lookX f_lookW f_lookY f_seen a_sizes a_op a_argA a_argB a_start a_cell a_asleep a_toTry a_tried a_firstEnd a_low a_high := by
  intro r
  induction r with
  | zero => intro c h; omega
  | succ r ihr =>
    intro c hr w d
    induction d with
    | zero =>
      intro t l htd hl Z N n q f_completes f_sticks f_failing f_differs f_seen a_cell a_asleep a_toTry a_tried a_firstEnd a_low a_high hL hZ hT hB A hq hn K
      have e : t = 3 := by omega
      subst e
      rw [ie_gs3] at hq K
      obtain ⟨m, rfl⟩ : ∃ m, n = m + 1 := ⟨n - 1, by omega⟩
      have el : (nI l).toNatClampNeg = l := nI_clamp (by omega)
      have b0 : ie_mk (fun u => 3 ≤ u ∧ ie_en s a_op a_argA a_argB c u ∧ ¬ Z u) = 0 := ie_mk_0.mpr fun u hu k => by omega
      refine br_f (nI_ge (b := 200000) (by omega) (by omega)) (br_f (nI_pos (by omega)) (And.intro (vp_in_nI (by omega) (by omega)) (nm_r (e' := 0) (by rw [el, hB, b0]) ?_)))
      unfold wpX_lowest
      refine br_f (by decide) (br_f (by decide) (br_t rfl (nm_e (nm_r (nI_1 q) ?_))))
      exact K m (q + 1) _ _ _ _ _ _ _ _ _ _ _ _ (by omega) (by omega) (ix_Ax A fun x => ⟨Or.inl, fun k => k.elim id (fun ⟨u, h1, h2, _⟩ => by omega)⟩) (fun _ _ => rfl) (fun _ _ => ⟨rfl, rfl, rfl⟩)
    | succ d ihd =>
      intro t l htd hl Z N n q f_completes f_sticks f_failing f_differs f_seen a_cell a_asleep a_toTry a_tried a_firstEnd a_low a_high hL hZ hT hB A hq hn K
      have ht : t < 3 := by omega
      rw [ie_gst ht] at hq K
      by_cases g : ie_en s a_op a_argA a_argB c t ∧ ¬ Z t
      · have g1 := g.1.1
        have hk := ie_rk1 (o := a_op) (a := a_argA) (b := a_argB) (ix_hs hP) w ht g1
        rw [ie_gb_e g1] at hq K
        have G0 := ie_gs0 (o := a_op) (a := a_argA) (b := a_argB) (ix_hs hP) (ie_Wst (o := a_op) (a := a_argA) (b := a_argB) (ix_hs hP) ht w g1)
        obtain ⟨m, rfl⟩ : ∃ m, n = m + 1 := ⟨n - 1, by omega⟩
        have el : (nI l).toNatClampNeg = l := nI_clamp (by omega)
        have n0 : ¬ ie_mk (fun u => t ≤ u ∧ ie_en s a_op a_argA a_argB c u ∧ ¬ Z u) = 0 := fun z => ie_mk_0.mp z t ht ⟨Nat.le_refl _, g⟩
        refine br_f (nI_ge (b := 200000) (by omega) (by omega)) (br_f (nI_pos (by omega)) (And.intro (vp_in_nI (by omega) (by omega)) (nm_r (e' := ie_mk (fun u => t ≤ u ∧ ie_en s a_op a_argA a_argB c u ∧ ¬ Z u)) (by rw [el, hB]) ?_)))
        refine ix_lowest ht ⟨Nat.le_refl _, g⟩ (fun u hu k => by omega) ?_
        refine br_f n0 ?_
        have mB : ie_mk (fun u => (t ≤ u ∧ ie_en s a_op a_argA a_argB c u ∧ ¬ Z u) ∧ ¬ u = t) = ie_mk (fun u => t + 1 ≤ u ∧ ie_en s a_op a_argA a_argB c u ∧ ¬ Z u) :=
          ie_mk_e fun u _ => ⟨fun k => ⟨by have := k.1.1; have := k.2; omega, k.1.2⟩, fun k => ⟨⟨by have := k.1; omega, k.2⟩, by have := k.1; omega⟩⟩
        have mT : ie_mk (fun u => (u < t ∧ ie_en s a_op a_argA a_argB c u ∧ ¬ Z u) ∨ u = t) = ie_mk (fun u => u < t + 1 ∧ ie_en s a_op a_argA a_argB c u ∧ ¬ Z u) := by
          apply ie_mk_e
          intro u _
          constructor
          · rintro (⟨k1, k2⟩ | k)
            · exact ⟨by omega, k2⟩
            · subst k; exact ⟨by omega, g⟩
          · rintro ⟨k1, k2⟩
            by_cases e : u = t
            · exact Or.inr e
            · exact Or.inl ⟨by omega, k2⟩
        refine ix_descend hP w hL (by omega) ht g.1 hZ hT hB hv hw v4 w4 A ?_ ?_
        · intro fl ce as to tr h1 h2 h3 h4 h5 A'
          refine nm_r (nI_1 q) ?_
          refine ihd (t + 1) l (by omega) hl Z (ie_add N (Sum.inr t)) m (q + 1) _ _ _ _ _ _ _ _ _ _ _ _ (fun k hk => ?_) (by rw [h2 l (Nat.le_refl _), hZ]) (by rw [h5, mT]) (by rw [h4, mB]) A' (by omega) (by omega) ?_
          · rw [h1 _ (by omega)]; exact hL k hk
          · intro n' q' fc fs ff fd fz ce' as' to' tr' fe lo hi e1 e2 A2 b1 b2
            refine K n' q' _ _ _ _ _ _ _ _ _ _ _ _ e1 (by omega) (ix_Ax A2 fun x => ?_) (fun j hj => by rw [b1 j hj, h1 j (by omega)]) (fun j hj => ?_)
            · rw [ie_split ht]
              constructor
              · rintro ((k | k) | k)
                · exact Or.inl k
                · exact Or.inr (Or.inl ⟨g.1, g.2, Or.inl ⟨fl, k⟩⟩)
                · exact Or.inr (Or.inr k)
              · rintro (k | k | k)
                · exact Or.inl (Or.inl k)
                · exact Or.inl (Or.inr (k.2.2.elim (fun z => z.2) (fun z => absurd fl z.1)))
                · exact Or.inr k
            · have z := b2 j hj
              exact ⟨z.1.trans (h2 j (by omega)), z.2.1.trans (h3 j hj).1, z.2.2.trans (h3 j hj).2⟩
        · intro fl ce as to tr fc fs fd fz fe lo hi h1 h1' h2 h2' h3 h4 h5 h4' h5' A'
          refine nm_r (nI_1 q) ?_
          refine ihr (ie_st a_op a_argA a_argB c t) (by omega) (ie_Wst (ix_hs hP) ht w g1) 3 0 (l + 1) rfl (by omega) (ie_sl s a_op a_argA a_argB c Z t) _ m (q + 1) _ _ _ _ _ _ _ _ _ _ _ _ h1' h2' (by rw [h5']; exact ie_mk_e fun u _ => ⟨fun k => k.elim, fun k => by omega⟩) (by rw [h4']; exact ie_mk_e fun u _ => ⟨fun k => ⟨Nat.zero_le _, k⟩, fun k => k.2⟩) A' (by omega) (by omega) ?_
          intro n1 q1 fc1 fs1 ff1 fd1 fz1 ce1 as1 to1 tr1 fe1 lo1 hi1 e1 e2 A1 b1 b2
          rw [pk_m1]
          have bl := b2 l (by omega)
          refine ihd (t + 1) l (by omega) hl Z _ n1 q1 _ _ _ _ _ _ _ _ _ _ _ _ (fun k hk => ?_) (by rw [bl.1, h2 l (Nat.le_refl _), hZ]) (by rw [bl.2.2, h5, mT]) (by rw [bl.2.1, h4, mB]) A1 (by omega) (by omega) ?_
          · rw [b1 _ (by omega), h1 _ (by omega)]; exact hL k hk
          · intro n' q' fc fs ff fd fz ce' as' to' tr' fe lo hi e3 e4 A2 b3 b4
            refine K n' q' _ _ _ _ _ _ _ _ _ _ _ _ e3 (by omega) (ix_Ax A2 fun x => ?_) (fun j hj => by rw [b3 j hj, b1 j (by omega), h1 j (by omega)]) (fun j hj => ?_)
            · rw [ie_split ht]
              constructor
              · rintro (((k | k) | ⟨u, _, k1, k2⟩) | k)
                · exact Or.inl k
                · exact Or.inr (Or.inl ⟨g.1, g.2, Or.inr ⟨fl, ie_XO_b.mpr (Or.inl k)⟩⟩)
                · exact Or.inr (Or.inl ⟨g.1, g.2, Or.inr ⟨fl, ie_XO_b.mpr (Or.inr ⟨u, k1, k2⟩)⟩⟩)
                · exact Or.inr (Or.inr k)
              · rintro (k | k | k)
                · exact Or.inl (Or.inl (Or.inl k))
                · rcases k.2.2 with k | k
                  · exact absurd k.1 fl
                  · rcases ie_XO_b.mp k.2 with z | ⟨u, k1, k2⟩
                    · exact Or.inl (Or.inl (Or.inr z))
                    · exact Or.inl (Or.inr ⟨u, Nat.zero_le _, k1, k2⟩)
                · exact Or.inr k
            · have z := b4 j hj
              have z2 := b2 j (by omega)
              exact ⟨(z.1.trans z2.1).trans (h2 j (by omega)), (z.2.1.trans z2.2.1).trans (h3 j hj).1, (z.2.2.trans z2.2.2).trans (h3 j hj).2⟩
      · have mB : ie_mk (fun u => t ≤ u ∧ ie_en s a_op a_argA a_argB c u ∧ ¬ Z u) = ie_mk (fun u => t + 1 ≤ u ∧ ie_en s a_op a_argA a_argB c u ∧ ¬ Z u) := by
          apply ie_mk_e
          intro u _
          constructor
          · rintro ⟨k1, k2⟩
            by_cases e : u = t
            · subst e; exact absurd k2 g
            · exact ⟨by omega, k2⟩
          · rintro ⟨k1, k2⟩
            exact ⟨by omega, k2⟩
        have mT : ie_mk (fun u => u < t ∧ ie_en s a_op a_argA a_argB c u ∧ ¬ Z u) = ie_mk (fun u => u < t + 1 ∧ ie_en s a_op a_argA a_argB c u ∧ ¬ Z u) := by
          apply ie_mk_e
          intro u _
          constructor
          · rintro ⟨k1, k2⟩
            exact ⟨by omega, k2⟩
          · rintro ⟨k1, k2⟩
            by_cases e : u = t
            · subst e; exact absurd k2 g
            · exact ⟨by omega, k2⟩
        refine ihd (t + 1) l (by omega) hl Z N n q _ _ _ _ _ _ _ _ _ _ _ _ hL hZ (by rw [hT, mT]) (by rw [hB, mB]) A (by omega) hn ?_
        intro n' q' fc fs ff fd fz ce as to tr fe lo hi e1 e2 A' b1 b2
        refine K n' q' _ _ _ _ _ _ _ _ _ _ _ _ e1 (by omega) (ix_Ax A' fun x => ?_) b1 b2
        rw [ie_split ht]
        exact ⟨fun k => k.elim Or.inl (fun k => Or.inr (Or.inr k)), fun k => k.elim Or.inl (fun k => k.elim (fun z => absurd ⟨z.1, z.2.1⟩ g) Or.inr)⟩
end
end
section
/-! X explores -/
def ie_c0 (st : Nat → Int32) : Nat → Int32 := fun k => if k < 4 then st k else 0
theorem ie_c0_hi {st : Nat → Int32} {k : Nat} (h : 4 ≤ k) : ie_c0 st k = 0 := if_neg (by omega)
theorem ie_c0_lo {st : Nat → Int32} {k : Nat} (h : k < 4) : ie_c0 st k = st k := if_pos h
theorem ie_p0 (st : Nat → Int32) (t : Nat) : ie_p (ie_c0 st) t = 0 := by
  unfold ie_p
  rw [ie_c0_hi (by omega)]; rfl
theorem ie_W0 (s : Nat → Nat) (st : Nat → Int32) : ie_W s (ie_c0 st) := by
  refine ⟨fun t _ => ?_, fun k _ => ⟨0, by omega, ?_⟩⟩
  · rw [ie_p0, ie_c0_hi (by omega), nI_0]
    exact ⟨rfl, Nat.zero_le _⟩
  · rw [ie_c0_hi (by omega), nI_0]
theorem ie_rk0 (s : Nat → Nat) (st : Nat → Int32) : ie_rk s (ie_c0 st) = s 0 + s 1 + s 2 := by
  unfold ie_rk ie_r
  rw [ie_p0, ie_p0, ie_p0]; rfl
theorem ie_gc0 {s : Nat → Nat} (st : Nat → Int32) (hs : ∀ t, t < 3 → s t ≤ 5) (h : s 0 + s 1 + s 2 ≤ 10) : ie_gc s (ie_c0 st) ≤ 199999 := by
  have h0 := hs 0 (by omega)
  have h1 := hs 1 (by omega)
  have h2 := hs 2 (by omega)
  unfold ie_gc ie_r
  rw [ie_p0, ie_p0, ie_p0]
  exact ie_g_b _ (by omega) _ (by omega) _ (by omega) (by omega)
theorem ie_mc0 {s : Nat → Nat} (st : Nat → Int32) (hs : ∀ t, t < 3 → s t ≤ 5) (h : s 0 + s 1 + s 2 ≤ 10) : ie_mc s (ie_c0 st) ≤ 4200 := by
  have h0 := hs 0 (by omega)
  have h1 := hs 1 (by omega)
  have h2 := hs 2 (by omega)
  unfold ie_mc ie_r
  rw [ie_p0, ie_p0, ie_p0]
  exact ie_m_b _ (by omega) _ (by omega) _ (by omega) (by omega)
section
variable {f_ready f_completes f_sticks f_failing f_differs f_lookV f_lookX f_lookW f_lookY f_seen : Int32} {a_sizes a_op a_argA a_argB a_start a_cell a_asleep a_toTry a_tried a_firstEnd a_low a_high : Nat → Int32}
variable {s : Nat → Nat} {c q0 : Nat → Int32} {l t u i j n k lv lw : Nat} {x y x2 x4 d : Int32} {N N' : ie_O → Prop} {Z B : Nat → Prop}
theorem ix_init {post : SX → Prop} (h : ∀ n, wX_search_2 post f_ready f_completes f_sticks f_failing f_differs f_lookV f_lookX f_lookW f_lookY f_seen (n + 1) (nI 15) a_sizes a_op a_argA a_argB a_start (ie_it (ie_c0 a_start) q0 15) a_asleep a_toTry a_tried a_firstEnd a_low a_high) : ∀ m i, i + m = 15 →
    wX_search_2 post f_ready f_completes f_sticks f_failing f_differs f_lookV f_lookX f_lookW f_lookY f_seen (m + 1) (nI i) a_sizes a_op a_argA a_argB a_start (ie_it (ie_c0 a_start) q0 i) a_asleep a_toTry a_tried a_firstEnd a_low a_high := by
  intro m
  induction m with
  | zero =>
    intro i hi
    have e : i = 15 := by omega
    subst e
    exact h 0
  | succ m ih =>
    intro i hi
    have g := ih (i + 1) (by omega)
    have ek : (nI i).toNatClampNeg = i := nI_clamp (by omega)
    have v1 : vp_in (nI i) 180 := vp_in_nI (by omega) (by omega)
    refine br_f (nI_ge (b := 15) (by omega) (by omega)) ?_
    by_cases z : i < 4
    · refine br_f (nI_ge (b := 4) z (by omega)) (And.intro (vp_in_nI z (by omega)) (And.intro v1 (nm_r (e' := ie_it (ie_c0 a_start) q0 (i + 1)) ?_ (nm_r (nI_1 i) g))))
      rw [ek]; exact ie_its _ _ i (ie_c0_lo z).symm
    · refine br_t (nI_le (a := 4) (by omega) (by omega)) (And.intro v1 (nm_r (e' := ie_it (ie_c0 a_start) q0 (i + 1)) ?_ (nm_r (nI_1 i) g)))
      rw [ek]; exact ie_its _ _ i (ie_c0_hi (by omega)).symm
theorem ix_search {post : SX → Prop} (hP : ix_P s a_sizes) (h10 : s 0 + s 1 + s 2 ≤ 10) (hv : f_lookV = nI lv) (hw : f_lookW = nI lw) (v4 : lv < 4) (w4 : lw < 4)
    (A : ix_A s (fun _ => False) lv f_lookX lw f_lookY f_completes f_sticks f_failing f_differs f_seen a_firstEnd a_low a_high)
    (h : ∀ fc fs ff fd fz ce as to tr fe lo hi, ix_A s (ie_RO s a_op a_argA a_argB (ie_c0 a_start)) lv f_lookX lw f_lookY fc fs ff fd fz fe lo hi →
      post (f_ready, fc, fs, ff, fd, f_lookV, f_lookX, f_lookW, f_lookY, fz, a_sizes, a_op, a_argA, a_argB, a_start, ce, as, to, tr, fe, lo, hi)) :
    wpX_search post (f_ready, f_completes, f_sticks, f_failing, f_differs, f_lookV, f_lookX, f_lookW, f_lookY, f_seen, a_sizes, a_op, a_argA, a_argB, a_start, a_cell, a_asleep, a_toTry, a_tried, a_firstEnd, a_low, a_high) := by
  unfold wpX_search
  have I := ix_init (q0 := a_cell) (post := post) (f_ready := f_ready) (f_completes := f_completes) (f_sticks := f_sticks) (f_failing := f_failing) (f_differs := f_differs) (f_lookV := f_lookV) (f_lookX := f_lookX) (f_lookW := f_lookW) (f_lookY := f_lookY) (f_seen := f_seen) (a_sizes := a_sizes) (a_op := a_op) (a_argA := a_argA) (a_argB := a_argB) (a_start := a_start) (a_asleep := a_asleep) (a_toTry := a_toTry) (a_tried := a_tried) (a_firstEnd := a_firstEnd) (a_low := a_low) (a_high := a_high) ?_ 15 0 rfl
  · rw [ie_it0] at I
    exact ⟨16, I⟩
  intro n
  have hL : ix_L (ie_it (ie_c0 a_start) a_cell 15) 0 (ie_c0 a_start) := by
    intro k hk
    rw [Nat.zero_mul, Nat.zero_add]
    exact ie_itl hk
  have w := ie_W0 s a_start
  have hs := ix_hs hP
  have g0 := ie_gs0 (o := a_op) (a := a_argA) (b := a_argB) hs w
  have g1 := ie_gc0 a_start hs h10
  have k0 := ie_rk0 s a_start
  refine br_t (nI_le (Nat.le_refl 15) (by omega)) (nm_e ?_)
  refine ix_open (l := 0) (Z := fun _ => False) hP w hL (by omega) (by rw [pk_us, ie_mk_F]) hv hw v4 w4 A ?_
  intro fc fs fd fz fe lo hi to tr A' C1 C2 C3
  refine ⟨200001, ?_⟩
  refine ix_D hP hv hw v4 w4 (ie_rk s (ie_c0 a_start) + 1) (ie_c0 a_start) (Nat.lt_succ_self _) w 3 0 0 rfl (by omega) (fun _ => False) _ 200001 0 _ _ _ _ _ _ _ _ _ _ _ _ hL (by rw [pk_us, ie_mk_F]) (by rw [C3]; exact ie_mk_e fun u _ => ⟨fun k => k.elim, fun k => by omega⟩) (by rw [C2]; exact ie_mk_e fun u _ => ⟨fun k => ⟨Nat.zero_le _, k⟩, fun k => k.2⟩) A' (by omega) rfl ?_
  intro n' q' fc fs ff fd fz ce as to tr fe lo hi e1 e2 A2 _ _
  obtain ⟨m, rfl⟩ : ∃ m, n' = m + 1 := ⟨n' - 1, by omega⟩
  have fin := h fc fs ff fd fz ce as to tr fe lo hi (ix_Ax A2 fun x => ?_)
  · refine br_f (nI_ge (b := 200000) (by omega) (by omega)) (br_t (by decide) fin)
  · rw [← ie_XR, ie_XO_b]
    constructor
    · rintro ((k | k) | ⟨u, _, k1, k2⟩)
      · exact k.elim
      · exact Or.inl k
      · exact Or.inr ⟨u, k1, k2⟩
    · rintro (k | ⟨u, k1, k2⟩)
      · exact Or.inl (Or.inr k)
      · exact Or.inr ⟨u, Nat.zero_le _, k1, k2⟩
theorem ix_explore {post : SX → Prop} (hP : ix_P s a_sizes) (h10 : s 0 + s 1 + s 2 ≤ 10) (v4 : lv < 4) (w4 : lw < 4)
    (h : ∀ fc fs ff fd fz ce as to tr fe lo hi, ix_A s (ie_RO s a_op a_argA a_argB (ie_c0 a_start)) lv x lw y fc fs ff fd fz fe lo hi →
      post (1, fc, fs, ff, fd, nI lv, x, nI lw, y, fz, a_sizes, a_op, a_argA, a_argB, a_start, ce, as, to, tr, fe, lo, hi)) :
    wpX_explore post (f_ready, f_completes, f_sticks, f_failing, f_differs, f_lookV, f_lookX, f_lookW, f_lookY, f_seen, a_sizes, a_op, a_argA, a_argB, a_start, a_cell, a_asleep, a_toTry, a_tried, a_firstEnd, a_low, a_high) (nI lv) x (nI lw) y := by
  unfold wpX_explore
  refine ix_search hP h10 rfl rfl v4 w4 ⟨ix_C0 s _ _ _, (ie_b0 fun ⟨_, k, _⟩ => k.1).symm⟩ ?_
  intro fc fs ff fd fz ce as to tr fe lo hi A
  exact h fc fs ff fd fz ce as to tr fe lo hi A
theorem ix_prepare {post : SX → Prop} (hP : ix_P s a_sizes) (h10 : s 0 + s 1 + s 2 ≤ 10)
    (hR : f_ready ≠ 0 → ix_C s (ie_RO s a_op a_argA a_argB (ie_c0 a_start)) f_completes f_sticks f_failing f_differs a_firstEnd a_low a_high)
    (h : ∀ f_ready f_completes f_sticks f_failing f_differs f_lookV f_lookX f_lookW f_lookY f_seen a_cell a_asleep a_toTry a_tried a_firstEnd a_low a_high,
      ix_C s (ie_RO s a_op a_argA a_argB (ie_c0 a_start)) f_completes f_sticks f_failing f_differs a_firstEnd a_low a_high → post (f_ready, f_completes, f_sticks, f_failing, f_differs, f_lookV, f_lookX, f_lookW, f_lookY, f_seen, a_sizes, a_op, a_argA, a_argB, a_start, a_cell, a_asleep, a_toTry, a_tried, a_firstEnd, a_low, a_high)) :
    wpX_prepare post (f_ready, f_completes, f_sticks, f_failing, f_differs, f_lookV, f_lookX, f_lookW, f_lookY, f_seen, a_sizes, a_op, a_argA, a_argB, a_start, a_cell, a_asleep, a_toTry, a_tried, a_firstEnd, a_low, a_high) := by
  unfold wpX_prepare
  by_cases z : f_ready = 0
  · refine br_t z ?_
    refine ix_explore (lv := 0) (lw := 0) hP h10 (by omega) (by omega) ?_
    intro fc fs ff fd fz ce as to tr fe lo hi A
    exact h _ _ _ _ _ _ _ _ _ _ _ _ _ _ _ _ _ A.1
  · exact br_f z (h _ _ _ _ _ _ _ _ _ _ _ _ _ _ _ _ _ (hR z))
end
end
section
/-! Y: whether a thread can go, a step, and the start of a run -/
def iy_R (c at' re va ho : Nat → Int32) : Prop :=
  (∀ t, t < 3 → at' t = c (10 + t)) ∧ (∀ r, r < 6 → re r = c (4 + r)) ∧ (∀ v, v < 4 → va v = c v) ∧ (∀ m, m < 2 → ho m = c (13 + m) - 1)
section
variable {c at' re va ho : Nat → Int32} {t r v m : Nat} {x y : Int32}
theorem iy_Rp (R : iy_R c at' re va ho) (ht : t < 3) : iy_R (upd c (10 + t) x) (upd at' t x) re va ho := by
  refine ⟨fun u hu => ?_, fun k hk => ?_, fun k hk => ?_, fun k hk => ?_⟩
  · by_cases e : u = t
    · subst e; rw [pk_us, pk_us]
    · rw [pk_un e, pk_un (by omega)]; exact R.1 u hu
  · rw [pk_un (by omega)]; exact R.2.1 k hk
  · rw [pk_un (by omega)]; exact R.2.2.1 k hk
  · rw [pk_un (by omega)]; exact R.2.2.2 k hk
theorem iy_Rr (R : iy_R c at' re va ho) (hr : r < 6) : iy_R (upd c (4 + r) x) at' (upd re r x) va ho := by
  refine ⟨fun u hu => ?_, fun k hk => ?_, fun k hk => ?_, fun k hk => ?_⟩
  · rw [pk_un (by omega)]; exact R.1 u hu
  · by_cases e : k = r
    · subst e; rw [pk_us, pk_us]
    · rw [pk_un e, pk_un (by omega)]; exact R.2.1 k hk
  · rw [pk_un (by omega)]; exact R.2.2.1 k hk
  · rw [pk_un (by omega)]; exact R.2.2.2 k hk
theorem iy_Rv (R : iy_R c at' re va ho) (hv : v < 4) : iy_R (upd c v x) at' re (upd va v x) ho := by
  refine ⟨fun u hu => ?_, fun k hk => ?_, fun k hk => ?_, fun k hk => ?_⟩
  · rw [pk_un (by omega)]; exact R.1 u hu
  · rw [pk_un (by omega)]; exact R.2.1 k hk
  · by_cases e : k = v
    · subst e; rw [pk_us, pk_us]
    · rw [pk_un e, pk_un (by omega)]; exact R.2.2.1 k hk
  · rw [pk_un (by omega)]; exact R.2.2.2 k hk
theorem iy_Rh (R : iy_R c at' re va ho) (hm : m < 2) (hy : y = x - 1) : iy_R (upd c (13 + m) x) at' re va (upd ho m y) := by
  refine ⟨fun u hu => ?_, fun k hk => ?_, fun k hk => ?_, fun k hk => ?_⟩
  · rw [pk_un (by omega)]; exact R.1 u hu
  · rw [pk_un (by omega)]; exact R.2.1 k hk
  · rw [pk_un (by omega)]; exact R.2.2.1 k hk
  · by_cases e : k = m
    · subst e; rw [pk_us, pk_us]; exact hy
    · rw [pk_un e, pk_un (by omega)]; exact R.2.2.2 k hk
theorem iy_h0 (w : ∃ k, k < 4 ∧ x = nI k) : 0 ≤ x - 1 ↔ x ≠ 0 := by
  obtain ⟨k, hk, rfl⟩ := w
  match k, hk with
  | 0, _ => exact ⟨fun z => absurd z (by decide), fun z => absurd nI_0 z⟩
  | k + 1, hk =>
    rw [nI_pred]
    exact ⟨fun _ => nI_ne0 (by omega) (by omega), fun _ => nI_pos' (by omega)⟩
theorem iy_ht : x - 1 = nI t ↔ x = nI (t + 1) := by
  constructor
  · intro h
    rw [← nI_1, ← h, Int32.sub_add_cancel]
  · intro h
    rw [h, nI_pred]
end
section
variable {f_failing f_length f_completes f_sticks f_fails f_found : Int32} {a_sizes a_ops a_as a_bs a_begins a_at a_regs a_vars a_holders a_turns a_could a_low a_high a_lowRegs : Nat → Int32}
variable {s : Nat → Nat} {c : Nat → Int32} {t u i j n k : Nat}
theorem iy_canGo {post : Int32 → Prop} (hP : ix_P s a_sizes) (w : ie_W s c) (R : iy_R c a_at a_regs a_vars a_holders) (ht : t < 3) (h : post (ie_b (ie_en s a_ops a_as a_bs c t))) : wpY_canGo post (f_failing, f_length, f_completes, f_sticks, f_fails, f_found, a_sizes, a_ops, a_as, a_bs, a_begins, a_at, a_regs, a_vars, a_holders, a_turns, a_could, a_low, a_high, a_lowRegs) (nI t) := by
  have vt : vp_in (nI t) 3 := vp_in_nI ht (by omega)
  have et : (nI t).toNatClampNeg = t := nI_clamp (by omega)
  have ea : a_at t = nI (ie_p c t) := (R.1 t ht).trans (w.1 t ht).1
  have h5 := (hP t ht).2
  have hp := (w.1 t ht).2
  unfold wpY_canGo
  refine And.intro vt (And.intro vt ?_)
  rw [et, ea, (hP t ht).1]
  refine pk_lt (ie_p c t) (s t) (fun hu => ?_) (fun hu => ?_)
  · have hi := ie_i15 hP ht hu
    have e5 : nI t * 5 + nI (ie_p c t) = nI (ie_i c t) := by
      show nI t * nI 5 + nI (ie_p c t) = _
      rw [pk_mul, nI_add]; rfl
    have ei : (nI (ie_i c t)).toNatClampNeg = ie_i c t := nI_clamp (by omega)
    have vi : vp_in (nI (ie_i c t)) 15 := vp_in_nI hi (by omega)
    refine And.intro vt (nm_r e5 (And.intro vi ?_))
    have q1 := ie_m1e a_as (ie_i c t)
    have q4 := ie_m4e a_as (ie_i c t)
    rw [ei, q1.1, q4.1, nI_clamp (n := ie_m1 a_as (ie_i c t)) (by omega), nI_clamp (n := ie_m4 a_as (ie_i c t)) (by omega)]
    have v1 : vp_in (nI (ie_m1 a_as (ie_i c t))) 2 := vp_in_nI q1.2 (by omega)
    have v4 : vp_in (nI (ie_m4 a_as (ie_i c t))) 4 := vp_in_nI q4.2 (by omega)
    rw [R.2.2.2 _ q1.2, R.2.2.1 _ q4.2]
    by_cases o4 : a_ops (ie_i c t) = 4
    · refine br_t o4 (And.intro vi (And.intro v1 ?_))
      have n8 : ¬ a_ops (ie_i c t) = 8 := by rw [o4]; decide
      have ho := iy_h0 (w.2 _ q1.2)
      by_cases z : c (13 + ie_m1 a_as (ie_i c t)) = 0
      · rw [ie_b1 ⟨hu, fun _ => z, fun k => absurd k n8⟩] at h
        exact br_f (fun k => ho.mp k z) h
      · rw [ie_b0 (fun k => z (k.2.1 o4))] at h
        exact br_t (ho.mpr z) h
    · refine br_f o4 (And.intro vi ?_)
      by_cases o8 : a_ops (ie_i c t) = 8
      · refine br_t o8 (And.intro vi (And.intro v4 (And.intro vi ?_)))
        by_cases z : c (ie_m4 a_as (ie_i c t)) = a_bs (ie_i c t)
        · rw [ie_b1 ⟨hu, fun k => absurd k o4, fun _ => z⟩] at h
          exact br_t z h
        · rw [ie_b0 (fun k => z (k.2.2 o8))] at h
          exact br_f z h
      · rw [ie_b1 ⟨hu, fun k => absurd k o4, fun k => absurd k o8⟩] at h
        exact br_f o8 h
  · rw [ie_b0 (fun k => by have := k.1; omega)] at h
    exact h
theorem iy_go {post : Int32 → SY → Prop} (hP : ix_P s a_sizes) (w : ie_W s c) (R : iy_R c a_at a_regs a_vars a_holders) (ht : t < 3) (hu : ie_p c t < s t)
    (h : ∀ at' re va ho, iy_R (ie_st a_ops a_as a_bs c t) at' re va ho → post (ie_b (ie_fl a_ops a_as a_bs c t)) (f_failing, f_length, f_completes, f_sticks, f_fails, f_found, a_sizes, a_ops, a_as, a_bs, a_begins, at', re, va, ho, a_turns, a_could, a_low, a_high, a_lowRegs)) : wpY_go post (f_failing, f_length, f_completes, f_sticks, f_fails, f_found, a_sizes, a_ops, a_as, a_bs, a_begins, a_at, a_regs, a_vars, a_holders, a_turns, a_could, a_low, a_high, a_lowRegs) (nI t) := by
  have hi := ie_i15 hP ht hu
  have vt : vp_in (nI t) 3 := vp_in_nI ht (by omega)
  have et : (nI t).toNatClampNeg = t := nI_clamp (by omega)
  have ea : a_at t = nI (ie_p c t) := (R.1 t ht).trans (w.1 t ht).1
  have e5 : nI t * 5 + a_at t = nI (ie_i c t) := by
    rw [ea]
    show nI t * nI 5 + nI (ie_p c t) = _
    rw [pk_mul, nI_add]; rfl
  have st : ie_st a_ops a_as a_bs c t = ie_ef a_ops a_as a_bs t (ie_i c t) (upd c (10 + t) (c (10 + t) + 1)) := rfl
  have R1 : iy_R (upd c (10 + t) (c (10 + t) + 1)) (upd a_at t (a_at t + 1)) a_regs a_vars a_holders := by
    rw [R.1 t ht]; exact iy_Rp R ht
  rw [st] at h
  have fl : ie_fl a_ops a_as a_bs c t ↔ (a_ops (ie_i c t) = 6 ∧ upd c (10 + t) (c (10 + t) + 1) (4 + (t * 2 + ie_m1 a_as (ie_i c t))) ≠ a_bs (ie_i c t)) := by
    have q1 := ie_m1e a_as (ie_i c t)
    rw [pk_un (by omega), ← Nat.add_assoc]; exact Iff.rfl
  rw [ie_be fl] at h
  generalize ie_i c t = I at hi e5 h
  have ei : (nI I).toNatClampNeg = I := nI_clamp (by omega)
  have vi : vp_in (nI I) 15 := vp_in_nI hi (by omega)
  have q1 := ie_m1e a_as I
  have q4 := ie_m4e a_bs I
  have m1 := q1.2
  have m4 := q4.2
  unfold wpY_go
  refine And.intro vt (nm_r (e' := nI I) (by rw [et]; exact e5) (And.intro vi (nm_r (e' := a_ops I) (by rw [ei]) (And.intro vi (nm_r (e' := nI (t * 2 + ie_m1 a_as I)) ?_ (And.intro vi (nm_r (e' := nI (ie_m1 a_as I)) (by rw [ei, q1.1]) (And.intro vi (nm_r (e' := nI (ie_m4 a_bs I)) (by rw [ei, q4.1]) (And.intro vt (And.intro vt (nm_r (e' := upd a_at t (a_at t + 1)) (by rw [et]) ?_))))))))))))
  · rw [ei, q1.1]
    show nI t * nI 2 + nI (ie_m1 a_as I) = _
    rw [pk_mul, nI_add]
  generalize upd a_at t (a_at t + 1) = A1 at R1
  generalize upd c (10 + t) (c (10 + t) + 1) = C at R1 h
  have vr : vp_in (nI (t * 2 + ie_m1 a_as I)) 6 := vp_in_nI (by omega) (by omega)
  have er : (nI (t * 2 + ie_m1 a_as I)).toNatClampNeg = t * 2 + ie_m1 a_as I := nI_clamp (by omega)
  have vv : vp_in (nI (ie_m4 a_bs I)) 4 := vp_in_nI (by omega) (by omega)
  have ev : (nI (ie_m4 a_bs I)).toNatClampNeg = ie_m4 a_bs I := nI_clamp (by omega)
  have vm : vp_in (nI (ie_m1 a_as I)) 2 := vp_in_nI (by omega) (by omega)
  have em : (nI (ie_m1 a_as I)).toNatClampNeg = ie_m1 a_as I := nI_clamp (by omega)
  have Rr := R1.2.1 (t * 2 + ie_m1 a_as I) (by omega)
  have Rv := R1.2.2.1 (ie_m4 a_bs I) (by omega)
  have Rm := R1.2.2.2 (ie_m1 a_as I) (by omega)
  have e4 : 4 + t * 2 + ie_m1 a_as I = 4 + (t * 2 + ie_m1 a_as I) := by omega
  have hk : a_ops I ≠ 6 → ∀ at' re va ho, iy_R (ie_ef a_ops a_as a_bs t I C) at' re va ho → wY_go_250 post (nI I) (a_ops I) (nI (t * 2 + ie_m1 a_as I)) f_failing f_length f_completes f_sticks f_fails f_found a_sizes a_ops a_as a_bs a_begins at' re va ho a_turns a_could a_low a_high a_lowRegs := by
    intro k at' re va ho hq
    have z := h at' re va ho hq
    rw [ie_b0 (fun f => k f.1)] at z
    unfold wY_go_250
    exact br_f k z
  rw [er, ev, em, ei]
  by_cases o0 : a_ops I = 0
  · refine br_t o0 (And.intro vv (And.intro vr (nm_e ?_)))
    refine hk (by rw [o0]; decide) _ _ _ _ ?_
    rw [ie_ef_0 o0, Rv, e4]; exact iy_Rr R1 (by omega)
  refine br_f o0 ?_
  by_cases o1 : a_ops I = 1
  · refine br_t o1 (And.intro vr (And.intro vv (nm_e ?_)))
    refine hk (by rw [o1]; decide) _ _ _ _ ?_
    rw [ie_ef_1 o1, Rr, e4]; exact iy_Rv R1 (by omega)
  refine br_f o1 ?_
  by_cases o2 : a_ops I = 2
  · refine br_t o2 (And.intro vr (And.intro vi (And.intro vr (nm_e ?_))))
    refine hk (by rw [o2]; decide) _ _ _ _ ?_
    rw [ie_ef_2 o2, Rr, e4]; exact iy_Rr R1 (by omega)
  refine br_f o2 ?_
  by_cases o3 : a_ops I = 3
  · refine br_t o3 (And.intro vi (And.intro vv (nm_e ?_)))
    refine hk (by rw [o3]; decide) _ _ _ _ ?_
    rw [ie_ef_3 o3]; exact iy_Rv R1 (by omega)
  refine br_f o3 ?_
  by_cases o4 : a_ops I = 4
  · refine br_t o4 (And.intro vm (nm_e ?_))
    refine hk (by rw [o4]; decide) _ _ _ _ ?_
    rw [ie_ef_4 o4]; exact iy_Rh R1 (by omega) (nI_pred t).symm
  refine br_f o4 ?_
  by_cases o5 : a_ops I = 5
  · have n6 : a_ops I ≠ 6 := by rw [o5]; decide
    refine br_t o5 (And.intro vm ?_)
    by_cases z : C (13 + ie_m1 a_as I) = nI (t + 1)
    · refine br_t (by rw [Rm]; exact iy_ht.mpr z) ?_
      unfold wY_go_208
      rw [em]
      refine And.intro vm (nm_e ?_)
      refine hk n6 _ _ _ _ ?_
      rw [ie_ef_5 o5, if_pos z]; exact iy_Rh R1 (by omega) rfl
    · refine br_f (by rw [Rm]; exact fun k => z (iy_ht.mp k)) (And.intro vm ?_)
      unfold wY_go_208
      rw [em, ie_upk]
      refine And.intro vm (nm_e ?_)
      refine hk n6 _ _ _ _ ?_
      rw [ie_ef_5 o5, if_neg z]; exact R1
  refine br_f o5 ?_
  by_cases o7 : a_ops I = 7
  · refine br_t o7 (And.intro vr (nm_e (And.intro vv (And.intro vr (nm_e (And.intro vv (nm_e ?_)))))))
    refine hk (by rw [o7]; decide) _ _ _ _ ?_
    rw [ie_ef_7 o7, Rv, Rr, e4]; exact iy_Rv (iy_Rr R1 (by omega)) (by omega)
  refine br_f o7 ?_
  by_cases o6 : a_ops I = 6
  · have z := h A1 a_regs a_vars a_holders (by rw [ie_ef_n o0 o1 o2 o3 o4 o5 o7]; exact R1)
    unfold wY_go_250
    refine br_t o6 (And.intro vr (And.intro vi ?_))
    rw [er, ei, Rr]
    by_cases y : C (4 + (t * 2 + ie_m1 a_as I)) = a_bs I
    · rw [ie_b0 (fun f => f.2 y)] at z
      exact br_t y z
    · rw [ie_b1 ⟨o6, y⟩] at z
      exact br_f y z
  · exact hk o6 _ _ _ _ (by rw [ie_ef_n o0 o1 o2 o3 o4 o5 o7]; exact R1)
theorem iy_s43 {post : SY → Prop} {va : Nat → Int32} (h : post (f_failing, f_length, f_completes, f_sticks, f_fails, f_found, a_sizes, a_ops, a_as, a_bs, a_begins, a_at, a_regs, ie_it a_begins va 4, upd (upd a_holders 0 (-1)) 1 (-1), a_turns, a_could, a_low, a_high, a_lowRegs)) : ∀ m i, i + m = 4 →
    wY_startRun_43 post f_failing f_length f_completes f_sticks f_fails f_found (m + 1) (nI i) a_sizes a_ops a_as a_bs a_begins a_at a_regs (ie_it a_begins va i) a_holders a_turns a_could a_low a_high a_lowRegs := by
  intro m
  induction m with
  | zero =>
    intro i hi
    have e : i = 4 := by omega
    subst e
    exact br_t (nI_le (Nat.le_refl 4) (by omega)) (nm_e (nm_e h))
  | succ m ih =>
    intro i hi
    have g := ih (i + 1) (by omega)
    have ek : (nI i).toNatClampNeg = i := nI_clamp (by omega)
    have v1 : vp_in (nI i) 4 := vp_in_nI (by omega) (by omega)
    refine br_f (nI_ge (b := 4) (by omega) (by omega)) (And.intro v1 (And.intro v1 (nm_r (e' := ie_it a_begins va (i + 1)) ?_ (nm_r (nI_1 i) g))))
    rw [ek]; exact ie_its _ _ i rfl
theorem iy_s22 {post : SY → Prop} {re : Nat → Int32} (h : ∃ n43, wY_startRun_43 post f_failing f_length f_completes f_sticks f_fails f_found n43 0 a_sizes a_ops a_as a_bs a_begins a_at (ie_it (fun _ => 0) re 6) a_vars a_holders a_turns a_could a_low a_high a_lowRegs) : ∀ m i, i + m = 6 →
    wY_startRun_22 post f_failing f_length f_completes f_sticks f_fails f_found (m + 1) (nI i) a_sizes a_ops a_as a_bs a_begins a_at (ie_it (fun _ => 0) re i) a_vars a_holders a_turns a_could a_low a_high a_lowRegs := by
  intro m
  induction m with
  | zero =>
    intro i hi
    have e : i = 6 := by omega
    subst e
    exact br_t (nI_le (Nat.le_refl 6) (by omega)) h
  | succ m ih =>
    intro i hi
    have g := ih (i + 1) (by omega)
    have ek : (nI i).toNatClampNeg = i := nI_clamp (by omega)
    have v1 : vp_in (nI i) 6 := vp_in_nI (by omega) (by omega)
    refine br_f (nI_ge (b := 6) (by omega) (by omega)) (And.intro v1 (nm_r (e' := ie_it (fun _ => 0) re (i + 1)) ?_ (nm_r (nI_1 i) g)))
    rw [ek]; exact ie_its _ _ i rfl
theorem iy_s2 {post : SY → Prop} {ta : Nat → Int32} (h : ∃ n22, wY_startRun_22 post f_failing f_length f_completes f_sticks f_fails f_found n22 0 a_sizes a_ops a_as a_bs a_begins (ie_it (fun _ => 0) ta 3) a_regs a_vars a_holders a_turns a_could a_low a_high a_lowRegs) : ∀ m i, i + m = 3 →
    wY_startRun_2 post f_failing f_length f_completes f_sticks f_fails f_found (m + 1) (nI i) a_sizes a_ops a_as a_bs a_begins (ie_it (fun _ => 0) ta i) a_regs a_vars a_holders a_turns a_could a_low a_high a_lowRegs := by
  intro m
  induction m with
  | zero =>
    intro i hi
    have e : i = 3 := by omega
    subst e
    exact br_t (nI_le (Nat.le_refl 3) (by omega)) h
  | succ m ih =>
    intro i hi
    have g := ih (i + 1) (by omega)
    have ek : (nI i).toNatClampNeg = i := nI_clamp (by omega)
    have v1 : vp_in (nI i) 3 := vp_in_nI (by omega) (by omega)
    refine br_f (nI_ge (b := 3) (by omega) (by omega)) (And.intro v1 (nm_r (e' := ie_it (fun _ => 0) ta (i + 1)) ?_ (nm_r (nI_1 i) g)))
    rw [ek]; exact ie_its _ _ i rfl
theorem iy_start {post : SY → Prop} (h : ∀ at' re va ho, iy_R (ie_c0 a_begins) at' re va ho → post (f_failing, f_length, f_completes, f_sticks, f_fails, f_found, a_sizes, a_ops, a_as, a_bs, a_begins, at', re, va, ho, a_turns, a_could, a_low, a_high, a_lowRegs)) : wpY_startRun post (f_failing, f_length, f_completes, f_sticks, f_fails, f_found, a_sizes, a_ops, a_as, a_bs, a_begins, a_at, a_regs, a_vars, a_holders, a_turns, a_could, a_low, a_high, a_lowRegs) := by
  unfold wpY_startRun
  have h0 := h (ie_it (fun _ => 0) a_at 3) (ie_it (fun _ => 0) a_regs 6) (ie_it a_begins a_vars 4) (upd (upd a_holders 0 (-1)) 1 (-1)) (by
    refine ⟨fun k hk => ?_, fun k hk => ?_, fun k hk => ?_, fun k hk => ?_⟩
    · rw [ie_itl hk, ie_c0_hi (by omega)]
    · rw [ie_itl hk, ie_c0_hi (by omega)]
    · rw [ie_itl hk, ie_c0_lo hk]
    · rw [ie_c0_hi (by omega)]
      rcases (show k = 0 ∨ k = 1 by omega) with e | e <;> subst e <;> rfl)
  have a := iy_s43 (va := a_vars) h0 4 0 rfl
  rw [ie_it0] at a
  have b := iy_s22 (re := a_regs) ⟨5, a⟩ 6 0 rfl
  rw [ie_it0] at b
  have d := iy_s2 (ta := a_at) ⟨7, b⟩ 3 0 rfl
  rw [ie_it0] at d
  exact ⟨4, d⟩
end
end
section
/-! Y makes a run -/
def iy_pt (o a b c0 : Nat → Int32) (tu : Nat → Nat) : Nat → (Nat → Int32)
  | 0 => c0
  | k + 1 => ie_st o a b (iy_pt o a b c0 tu k) (tu k)
def iy_ok (s : Nat → Nat) (o a b c0 : Nat → Int32) (tu : Nat → Nat) (k : Nat) : Prop :=
  ∀ j, j < k → tu j < 3 ∧ ie_en s o a b (iy_pt o a b c0 tu j) (tu j) ∧ ¬ ie_fl o a b (iy_pt o a b c0 tu j) (tu j)
def iy_ch (s : Nat → Nat) (o a b c0 : Nat → Int32) (tu : Nat → Nat) (g : Nat) (tr : Nat → Int32) (k : Nat) : Prop :=
  ∀ j, j < k → (j < g → tr j = nI (tu j)) ∧ (g ≤ j → ∀ u, u < tu j → ¬ ie_en s o a b (iy_pt o a b c0 tu j) u)
section
variable {s : Nat → Nat} {o a b c0 : Nat → Int32} {tu tu' : Nat → Nat}
theorem iy_pt_e : ∀ k, (∀ j, j < k → tu j = tu' j) → iy_pt o a b c0 tu k = iy_pt o a b c0 tu' k
  | 0, _ => rfl
  | k + 1, h => by
    show ie_st o a b (iy_pt o a b c0 tu k) (tu k) = ie_st o a b (iy_pt o a b c0 tu' k) (tu' k)
    rw [iy_pt_e k (fun j hj => h j (by omega)), h k (by omega)]
theorem iy_pt_W (hs : ∀ t, t < 3 → s t ≤ 5) (w : ie_W s c0) : ∀ k, iy_ok s o a b c0 tu k → ie_W s (iy_pt o a b c0 tu k) ∧ ie_rk s (iy_pt o a b c0 tu k) + k = ie_rk s c0
  | 0, _ => ⟨w, rfl⟩
  | k + 1, h => by
    have z := h k (by omega)
    have i := iy_pt_W hs w k (fun j hj => h j (by omega))
    refine ⟨ie_Wst hs z.1 i.1 z.2.1.1, ?_⟩
    have e := ie_rk1 (o := o) (a := a) (b := b) hs i.1 z.1 z.2.1.1
    show ie_rk s (ie_st o a b (iy_pt o a b c0 tu k) (tu k)) + (k + 1) = _
    omega
end
section
variable {f_failing f_length f_completes f_sticks f_fails f_found : Int32} {a_sizes a_ops a_as a_bs a_begins a_at a_regs a_vars a_holders a_turns a_could a_low a_high a_lowRegs : Nat → Int32}
variable {s : Nat → Nat} {c : Nat → Int32} {t u i j n k g : Nat} {x1 x2 x3 z0 z1 : Int32}
theorem iy_idle {post : Int32 → SY → Prop} (hx : ¬ x2 = 0) (h : post x2 (f_failing, f_length, f_completes, f_sticks, f_fails, f_found, a_sizes, a_ops, a_as, a_bs, a_begins, a_at, a_regs, a_vars, a_holders, a_turns, a_could, a_low, a_high, a_lowRegs)) : ∀ m k, k + m = 11 → wY_makeRun_8 post x1 (m + 1) x2 (nI k) f_failing f_length f_completes f_sticks f_fails f_found a_sizes a_ops a_as a_bs a_begins a_at a_regs a_vars a_holders a_turns a_could a_low a_high a_lowRegs := by
  intro m
  induction m with
  | zero =>
    intro k hk
    have e : k = 11 := by omega
    subst e
    exact br_t (nI_le (Nat.le_refl 11) (by omega)) h
  | succ m ih =>
    intro k hk
    exact br_f (nI_ge (b := 11) (by omega) (by omega)) (br_f hx (nm_r (nI_1 k) (ih (k + 1) (by omega))))
theorem iy_head {post : Int32 → SY → Prop} (hP : ix_P s a_sizes) (w : ie_W s c) (R : iy_R c a_at a_regs a_vars a_holders) (hk : k < 11)
    (h : wY_makeRun_58 post (wY_makeRun_8 post x1 n) x1 0 (nI k) (ie_bw (ie_en s a_ops a_as a_bs c 2) 4) (ie_bw (ie_en s a_ops a_as a_bs c 0) 1 + ie_bw (ie_en s a_ops a_as a_bs c 1) 2) f_failing f_length f_completes f_sticks f_fails f_found a_sizes a_ops a_as a_bs a_begins a_at a_regs a_vars a_holders a_turns a_could a_low a_high a_lowRegs) : wY_makeRun_8 post x1 (n + 1) 0 (nI k) f_failing f_length f_completes f_sticks f_fails f_found a_sizes a_ops a_as a_bs a_begins a_at a_regs a_vars a_holders a_turns a_could a_low a_high a_lowRegs := by
  refine br_f (nI_ge (b := 11) (by omega) (by omega)) (br_t rfl ?_)
  have s2 : ∀ z0 z1, wY_makeRun_58 post (wY_makeRun_8 post x1 n) x1 0 (nI k) (ie_bw (ie_en s a_ops a_as a_bs c 2) 4) (z1 + z0) f_failing f_length f_completes f_sticks f_fails f_found a_sizes a_ops a_as a_bs a_begins a_at a_regs a_vars a_holders a_turns a_could a_low a_high a_lowRegs → wY_makeRun_44 post (wY_makeRun_8 post x1 n) x1 0 (nI k) z0 z1 f_failing f_length f_completes f_sticks f_fails f_found a_sizes a_ops a_as a_bs a_begins a_at a_regs a_vars a_holders a_turns a_could a_low a_high a_lowRegs := by
    intro z0 z1 q
    unfold wY_makeRun_44
    refine iy_canGo (t := 2) hP w R (by omega) ?_
    by_cases e : ie_en s a_ops a_as a_bs c 2
    · rw [ie_bw1 e] at q
      rw [ie_b1 e]; exact br_f (by decide) q
    · rw [ie_bw0 e] at q
      rw [ie_b0 e]; exact br_t rfl q
  have s1 : ∀ z0, wY_makeRun_58 post (wY_makeRun_8 post x1 n) x1 0 (nI k) (ie_bw (ie_en s a_ops a_as a_bs c 2) 4) (z0 + ie_bw (ie_en s a_ops a_as a_bs c 1) 2) f_failing f_length f_completes f_sticks f_fails f_found a_sizes a_ops a_as a_bs a_begins a_at a_regs a_vars a_holders a_turns a_could a_low a_high a_lowRegs → wY_makeRun_31 post (wY_makeRun_8 post x1 n) x1 0 (nI k) z0 f_failing f_length f_completes f_sticks f_fails f_found a_sizes a_ops a_as a_bs a_begins a_at a_regs a_vars a_holders a_turns a_could a_low a_high a_lowRegs := by
    intro z0 q
    unfold wY_makeRun_31
    refine iy_canGo (t := 1) hP w R (by omega) ?_
    by_cases e : ie_en s a_ops a_as a_bs c 1
    · rw [ie_bw1 e] at q
      rw [ie_b1 e]; exact br_f (by decide) (s2 _ _ q)
    · rw [ie_bw0 e] at q
      rw [ie_b0 e]; exact br_t rfl (s2 _ _ q)
  refine iy_canGo (t := 0) hP w R (by omega) ?_
  by_cases e : ie_en s a_ops a_as a_bs c 0
  · rw [ie_bw1 e] at h
    rw [ie_b1 e]; exact br_f (by decide) (s1 _ h)
  · rw [ie_bw0 e] at h
    rw [ie_b0 e]; exact br_t rfl (s1 _ h)
theorem iy_itE {post : Int32 → SY → Prop} (hP : ix_P s a_sizes) (w : ie_W s c) (R : iy_R c a_at a_regs a_vars a_holders) (hk : k < 11) (hn : ∀ t, t < 3 → ¬ ie_en s a_ops a_as a_bs c t)
    (h1 : ie_fin s c → wY_makeRun_8 post x1 n 1 (nI (k + 1)) f_failing (nI k) f_completes f_sticks f_fails f_found a_sizes a_ops a_as a_bs a_begins a_at a_regs a_vars a_holders a_turns (upd a_could k (ie_mk (ie_en s a_ops a_as a_bs c))) a_low a_high a_lowRegs)
    (h2 : ¬ ie_fin s c → wY_makeRun_8 post x1 n 2 (nI (k + 1)) f_failing (nI k) f_completes f_sticks f_fails f_found a_sizes a_ops a_as a_bs a_begins a_at a_regs a_vars a_holders a_turns (upd a_could k (ie_mk (ie_en s a_ops a_as a_bs c))) a_low a_high a_lowRegs) : wY_makeRun_8 post x1 (n + 1) 0 (nI k) f_failing f_length f_completes f_sticks f_fails f_found a_sizes a_ops a_as a_bs a_begins a_at a_regs a_vars a_holders a_turns a_could a_low a_high a_lowRegs := by
  refine iy_head hP w R hk ?_
  unfold wY_makeRun_58
  have ek : (nI k).toNatClampNeg = k := nI_clamp (by omega)
  refine nm_r (ie_mk_sum (ie_en s a_ops a_as a_bs c)) (And.intro (vp_in_nI hk (by omega)) (nm_r (e' := upd a_could k (ie_mk (ie_en s a_ops a_as a_bs c))) (by rw [ek]) (br_t (ie_mk_0.mpr hn) ?_)))
  have q : ∀ t, t < 3 → (a_at t = a_sizes t ↔ ¬ ie_p c t < s t) := by
    intro t ht
    have h5 := (hP t ht).2
    have hp := (w.1 t ht).2
    rw [R.1 t ht, (w.1 t ht).1, (hP t ht).1, nI_eq (by omega) (by omega)]
    omega
  have no : ¬ ie_fin s c → wY_makeRun_128 post (wY_makeRun_8 post x1 n) x1 (nI k) f_failing (nI k) f_completes f_sticks f_fails f_found a_sizes a_ops a_as a_bs a_begins a_at a_regs a_vars a_holders a_turns (upd a_could k (ie_mk (ie_en s a_ops a_as a_bs c))) a_low a_high a_lowRegs := by
    intro f
    unfold wY_makeRun_128 wY_makeRun_129
    exact br_t rfl (nm_r (nI_1 k) (h2 f))
  by_cases f0 : ie_p c 0 < s 0
  · exact br_f (fun z => (q 0 (by omega)).mp z f0) (no fun f => f 0 (by omega) f0)
  refine br_t ((q 0 (by omega)).mpr f0) ?_
  by_cases f1 : ie_p c 1 < s 1
  · exact br_f (fun z => (q 1 (by omega)).mp z f1) (no fun f => f 1 (by omega) f1)
  refine br_t ((q 1 (by omega)).mpr f1) ?_
  by_cases f2 : ie_p c 2 < s 2
  · exact br_f (fun z => (q 2 (by omega)).mp z f2) (no fun f => f 2 (by omega) f2)
  refine br_t ((q 2 (by omega)).mpr f2) ?_
  unfold wY_makeRun_129
  exact br_f (by decide) (nm_r (nI_1 k) (h1 (ie_lt3 f0 f1 f2)))
theorem iy_181 {post : Int32 → SY → Prop} (hP : ix_P s a_sizes) (w : ie_W s c) (R : iy_R c a_at a_regs a_vars a_holders) (hk : k < 11) (ht : t < 3) (hu : ie_p c t < s t) (hT : a_turns k = nI t)
    (hf : ie_fl a_ops a_as a_bs c t → ∀ at' re va ho, wY_makeRun_8 post x1 n 3 (nI (k + 1)) (nI t) (nI (k + 1)) f_completes f_sticks f_fails f_found a_sizes a_ops a_as a_bs a_begins at' re va ho a_turns a_could a_low a_high a_lowRegs)
    (hg : ¬ ie_fl a_ops a_as a_bs c t → ∀ at' re va ho, iy_R (ie_st a_ops a_as a_bs c t) at' re va ho → wY_makeRun_8 post x1 n 0 (nI (k + 1)) f_failing (nI (k + 1)) f_completes f_sticks f_fails f_found a_sizes a_ops a_as a_bs a_begins at' re va ho a_turns a_could a_low a_high a_lowRegs) :
    wY_makeRun_181 post (wY_makeRun_8 post x1 n) x1 0 (nI k) f_failing f_length f_completes f_sticks f_fails f_found a_sizes a_ops a_as a_bs a_begins a_at a_regs a_vars a_holders a_turns a_could a_low a_high a_lowRegs := by
  have ek : (nI k).toNatClampNeg = k := nI_clamp (by omega)
  have vk : vp_in (nI k) 11 := vp_in_nI hk (by omega)
  unfold wY_makeRun_181
  refine nm_r (nI_1 k) (And.intro vk ?_)
  rw [ek, hT]
  refine iy_go hP w R ht hu ?_
  intro at' re va ho R'
  by_cases f : ie_fl a_ops a_as a_bs c t
  · rw [ie_b1 f]
    exact br_f (by decide) (And.intro vk (nm_r (e' := nI t) hT (nm_r (nI_1 k) (hf f _ _ _ _))))
  · rw [ie_b0 f]
    exact br_t rfl (nm_r (nI_1 k) (hg f _ _ _ _ R'))
theorem iy_itG {post : Int32 → SY → Prop} (hP : ix_P s a_sizes) (w : ie_W s c) (R : iy_R c a_at a_regs a_vars a_holders) (hk : k < 11) (ht : t < 3) (he : ie_en s a_ops a_as a_bs c t) (hg11 : g ≤ 11)
    (hc1 : k < g → a_turns k = nI t) (hc2 : g ≤ k → ∀ u, u < t → ¬ ie_en s a_ops a_as a_bs c u)
    (hf : ie_fl a_ops a_as a_bs c t → ∀ at' re va ho tr, tr k = nI t → (∀ j, j ≠ k → tr j = a_turns j) → wY_makeRun_8 post (nI g) n 3 (nI (k + 1)) (nI t) (nI (k + 1)) f_completes f_sticks f_fails f_found a_sizes a_ops a_as a_bs a_begins at' re va ho tr (upd a_could k (ie_mk (ie_en s a_ops a_as a_bs c))) a_low a_high a_lowRegs)
    (hg : ¬ ie_fl a_ops a_as a_bs c t → ∀ at' re va ho tr, tr k = nI t → (∀ j, j ≠ k → tr j = a_turns j) → iy_R (ie_st a_ops a_as a_bs c t) at' re va ho → wY_makeRun_8 post (nI g) n 0 (nI (k + 1)) f_failing (nI (k + 1)) f_completes f_sticks f_fails f_found a_sizes a_ops a_as a_bs a_begins at' re va ho tr (upd a_could k (ie_mk (ie_en s a_ops a_as a_bs c))) a_low a_high a_lowRegs) :
    wY_makeRun_8 post (nI g) (n + 1) 0 (nI k) f_failing f_length f_completes f_sticks f_fails f_found a_sizes a_ops a_as a_bs a_begins a_at a_regs a_vars a_holders a_turns a_could a_low a_high a_lowRegs := by
  refine iy_head hP w R hk ?_
  unfold wY_makeRun_58
  have ek : (nI k).toNatClampNeg = k := nI_clamp (by omega)
  have vk : vp_in (nI k) 11 := vp_in_nI hk (by omega)
  refine nm_r (ie_mk_sum (ie_en s a_ops a_as a_bs c)) (And.intro vk (nm_r (e' := upd a_could k (ie_mk (ie_en s a_ops a_as a_bs c))) (by rw [ek]) (br_f (fun z => ie_mk_0.mp z t ht he) ?_)))
  refine pk_lt k g (fun z => ?_) (fun z => ?_)
  · have T := hc1 z
    exact iy_181 hP w R hk ht he.1 T (fun f at' re va ho => hf f _ _ _ _ _ T (fun _ _ => rfl)) (fun f at' re va ho R' => hg f _ _ _ _ _ T (fun _ _ => rfl) R')
  · have key : wY_makeRun_180 post (wY_makeRun_8 post (nI g) n) (nI g) 0 (nI k) (nI t) (nI k) f_failing (nI k) f_completes f_sticks f_fails f_found a_sizes a_ops a_as a_bs a_begins a_at a_regs a_vars a_holders a_turns (upd a_could k (ie_mk (ie_en s a_ops a_as a_bs c))) a_low a_high a_lowRegs := by
      unfold wY_makeRun_180
      rw [ek]
      refine And.intro vk (nm_e ?_)
      exact iy_181 hP w R hk ht he.1 pk_us (fun f at' re va ho => hf f _ _ _ _ _ pk_us (fun _ e => pk_un e)) (fun f at' re va ho R' => hg f _ _ _ _ _ pk_us (fun _ e => pk_un e) R')
    have lo := hc2 z
    rcases (show t = 0 ∨ t = 1 ∨ t = 2 by omega) with e | e | e <;> subst e
    · exact br_t (ie_mk_a1.mpr he) key
    · exact br_f (fun k => lo 0 (by omega) (ie_mk_a1.mp k)) (br_t (ie_mk_a2.mpr he) key)
    · exact br_f (fun k => lo 0 (by omega) (ie_mk_a1.mp k)) (br_f (fun k => lo 1 (by omega) (ie_mk_a2.mp k)) key)
theorem iy_run {post : Int32 → SY → Prop} {tu : Nat → Nat} {tr0 : Nat → Int32} (hP : ix_P s a_sizes) (hk : k ≤ 10) (hg11 : g ≤ 11) (ok : iy_ok s a_ops a_as a_bs (ie_c0 a_begins) tu k) (ch : iy_ch s a_ops a_as a_bs (ie_c0 a_begins) tu g tr0 k)
    (h : ∀ le at' re va ho tr cd, iy_R (iy_pt a_ops a_as a_bs (ie_c0 a_begins) tu k) at' re va ho → (∀ i, i < k → tr i = nI (tu i)) → (∀ i, k ≤ i → tr i = tr0 i) → (∀ i, i < k → cd i = ie_mk (ie_en s a_ops a_as a_bs (iy_pt a_ops a_as a_bs (ie_c0 a_begins) tu i))) →
      wY_makeRun_8 post (nI g) (12 - k) 0 (nI k) f_failing le f_completes f_sticks f_fails f_found a_sizes a_ops a_as a_bs a_begins at' re va ho tr cd a_low a_high a_lowRegs) :
    ∀ m j, j + m = k → ∀ le at' re va ho tr cd, iy_R (iy_pt a_ops a_as a_bs (ie_c0 a_begins) tu j) at' re va ho → (∀ i, i < j → tr i = nI (tu i)) → (∀ i, j ≤ i → tr i = tr0 i) → (∀ i, i < j → cd i = ie_mk (ie_en s a_ops a_as a_bs (iy_pt a_ops a_as a_bs (ie_c0 a_begins) tu i))) →
      wY_makeRun_8 post (nI g) (12 - j) 0 (nI j) f_failing le f_completes f_sticks f_fails f_found a_sizes a_ops a_as a_bs a_begins at' re va ho tr cd a_low a_high a_lowRegs := by
  intro m
  induction m with
  | zero =>
    intro j hj le at' re va ho tr cd R t1 t2 t3
    have e : j = k := by omega
    subst e
    exact h le at' re va ho tr cd R t1 t2 t3
  | succ m ih =>
    intro j hj le at' re va ho tr cd R t1 t2 t3
    have z := ok j (by omega)
    have W := (iy_pt_W (ix_hs hP) (ie_W0 s a_begins) j (fun i hi => ok i (by omega))).1
    have c := ch j (by omega)
    have e12 : 12 - j = (12 - (j + 1)) + 1 := by omega
    rw [e12]
    refine iy_itG hP W R (by omega) z.1 z.2.1 hg11 (fun q => (t2 j (Nat.le_refl _)).trans (c.1 q)) c.2 (fun f => absurd f z.2.2) ?_
    intro _ at2 re2 va2 ho2 tr2 u1 u2 R2
    refine ih (j + 1) (by omega) _ _ _ _ _ _ _ R2 ?_ ?_ ?_
    · intro i hi
      by_cases e : i = j
      · subst e; exact u1
      · rw [u2 i e]; exact t1 i (by omega)
    · intro i hi
      rw [u2 i (by omega)]; exact t2 i (by omega)
    · intro i hi
      by_cases e : i = j
      · subst e; exact pk_us
      · rw [pk_un e]; exact t3 i (by omega)
theorem iy_mrE {post : Int32 → SY → Prop} {tu : Nat → Nat} (hP : ix_P s a_sizes) (hk : k ≤ 10) (hg11 : g ≤ 11) (ok : iy_ok s a_ops a_as a_bs (ie_c0 a_begins) tu k) (ch : iy_ch s a_ops a_as a_bs (ie_c0 a_begins) tu g a_turns k)
    (hn : ∀ t, t < 3 → ¬ ie_en s a_ops a_as a_bs (iy_pt a_ops a_as a_bs (ie_c0 a_begins) tu k) t)
    (h : ∀ how at' re va ho tr cd, (ie_fin s (iy_pt a_ops a_as a_bs (ie_c0 a_begins) tu k) → how = 1) → (¬ ie_fin s (iy_pt a_ops a_as a_bs (ie_c0 a_begins) tu k) → how = 2) → iy_R (iy_pt a_ops a_as a_bs (ie_c0 a_begins) tu k) at' re va ho → (∀ i, i < k → tr i = nI (tu i)) → (∀ i, i < k → cd i = ie_mk (ie_en s a_ops a_as a_bs (iy_pt a_ops a_as a_bs (ie_c0 a_begins) tu i))) →
      post how (f_failing, nI k, f_completes, f_sticks, f_fails, f_found, a_sizes, a_ops, a_as, a_bs, a_begins, at', re, va, ho, tr, cd, a_low, a_high, a_lowRegs)) :
    wpY_makeRun post (f_failing, f_length, f_completes, f_sticks, f_fails, f_found, a_sizes, a_ops, a_as, a_bs, a_begins, a_at, a_regs, a_vars, a_holders, a_turns, a_could, a_low, a_high, a_lowRegs) (nI g) := by
  unfold wpY_makeRun
  refine iy_start ?_
  intro at0 re0 va0 ho0 R0
  refine ⟨12, ?_⟩
  refine iy_run hP hk hg11 ok ch ?_ k 0 (by omega) _ _ _ _ _ _ _ R0 (fun i hi => by omega) (fun _ _ => rfl) (fun i hi => by omega)
  intro le at' re va ho tr cd R t1 t2 t3
  have W := (iy_pt_W (ix_hs hP) (ie_W0 s a_begins) k ok).1
  have e12 : 12 - k = (12 - (k + 1)) + 1 := by omega
  rw [e12]
  have c3 : ∀ i, i < k → upd cd k (ie_mk (ie_en s a_ops a_as a_bs (iy_pt a_ops a_as a_bs (ie_c0 a_begins) tu k))) i = ie_mk (ie_en s a_ops a_as a_bs (iy_pt a_ops a_as a_bs (ie_c0 a_begins) tu i)) := fun i hi => by rw [pk_un (by omega)]; exact t3 i hi
  have e11 : 12 - (k + 1) = (10 - k) + 1 := by omega
  rw [e11]
  refine iy_itE hP W R (by omega) hn (fun f => ?_) (fun f => ?_)
  · exact iy_idle (by decide) (h 1 _ _ _ _ _ _ (fun _ => rfl) (fun z => absurd f z) R t1 c3) (10 - k) (k + 1) (by omega)
  · exact iy_idle (by decide) (h 2 _ _ _ _ _ _ (fun z => absurd z f) (fun _ => rfl) R t1 c3) (10 - k) (k + 1) (by omega)
theorem iy_mrF {post : Int32 → SY → Prop} {tu : Nat → Nat} (hP : ix_P s a_sizes) (hk : k ≤ 9) (hg11 : g ≤ 11) (ok : iy_ok s a_ops a_as a_bs (ie_c0 a_begins) tu k) (ch : iy_ch s a_ops a_as a_bs (ie_c0 a_begins) tu g a_turns (k + 1))
    (ht : tu k < 3) (he : ie_en s a_ops a_as a_bs (iy_pt a_ops a_as a_bs (ie_c0 a_begins) tu k) (tu k)) (hf : ie_fl a_ops a_as a_bs (iy_pt a_ops a_as a_bs (ie_c0 a_begins) tu k) (tu k))
    (h : ∀ at' re va ho tr cd, (∀ i, i < k + 1 → tr i = nI (tu i)) → (∀ i, i < k + 1 → cd i = ie_mk (ie_en s a_ops a_as a_bs (iy_pt a_ops a_as a_bs (ie_c0 a_begins) tu i))) →
      post 3 (nI (tu k), nI (k + 1), f_completes, f_sticks, f_fails, f_found, a_sizes, a_ops, a_as, a_bs, a_begins, at', re, va, ho, tr, cd, a_low, a_high, a_lowRegs)) :
    wpY_makeRun post (f_failing, f_length, f_completes, f_sticks, f_fails, f_found, a_sizes, a_ops, a_as, a_bs, a_begins, a_at, a_regs, a_vars, a_holders, a_turns, a_could, a_low, a_high, a_lowRegs) (nI g) := by
  unfold wpY_makeRun
  refine iy_start ?_
  intro at0 re0 va0 ho0 R0
  refine ⟨12, ?_⟩
  refine iy_run hP (by omega) hg11 ok (fun j hj => ch j (by omega)) ?_ k 0 (by omega) _ _ _ _ _ _ _ R0 (fun i hi => by omega) (fun _ _ => rfl) (fun i hi => by omega)
  intro le at' re va ho tr cd R t1 t2 t3
  have W := (iy_pt_W (ix_hs hP) (ie_W0 s a_begins) k ok).1
  have c := ch k (by omega)
  have e12 : 12 - k = (12 - (k + 1)) + 1 := by omega
  rw [e12]
  have e11 : 12 - (k + 1) = (10 - k) + 1 := by omega
  rw [e11]
  refine iy_itG hP W R (by omega) ht he hg11 (fun q => (t2 k (Nat.le_refl _)).trans (c.1 q)) c.2 ?_ (fun f => absurd hf f)
  intro _ at2 re2 va2 ho2 tr2 u1 u2
  refine iy_idle (by decide) (h _ _ _ _ _ _ ?_ ?_) (10 - k) (k + 1) (by omega)
  · intro i hi
    by_cases e : i = k
    · subst e; exact u1
    · rw [u2 i e]; exact t1 i (by omega)
  · intro i hi
    by_cases e : i = k
    · subst e; exact pk_us
    · rw [pk_un e]; exact t3 i (by omega)
end
end
section
/-! Y: the next order, and the note of an end -/
def iy_A (s : Nat → Nat) (N : ie_O → Prop) (lv : Nat) (x : Int32) (lw : Nat) (y : Int32) (fc fs ff fz : Int32) (lo hi lr : Nat → Int32) : Prop :=
  iy_C s N fc fs ff lo hi lr ∧ fz = ie_b (ie_V s N lv x lw y)
section
variable {f_failing f_length f_completes f_sticks f_fails f_found : Int32} {a_sizes a_ops a_as a_bs a_begins a_at a_regs a_vars a_holders a_turns a_could a_low a_high a_lowRegs : Nat → Int32}
variable {s : Nat → Nat} {c lo hi lr : Nat → Int32} {t u i j n k g lv lw : Nat} {x1 x2 x3 x4 z0 z1 x y : Int32} {Z : Nat → Prop} {N N' : ie_O → Prop}
theorem iy_Ax {fc fs ff fz : Int32} (h : iy_A s N lv x lw y fc fs ff fz lo hi lr) (e : ∀ x, N x ↔ N' x) : iy_A s N' lv x lw y fc fs ff fz lo hi lr := by
  rw [← ie_ext e]; exact h
theorem iy_20f {post : Int32 → SY → Prop} {J : Int32 → Prop} (hk : k < 11) (hZ : a_could k = ie_mk Z) (hu : u < 3) (zu : Z u) (h : post (nI (k + 1)) (f_failing, f_length, f_completes, f_sticks, f_fails, f_found, a_sizes, a_ops, a_as, a_bs, a_begins, a_at, a_regs, a_vars, a_holders, upd a_turns k (nI u), a_could, a_low, a_high, a_lowRegs)) :
    ∀ m t, t + m = u → (∀ v, t ≤ v → v < u → ¬ Z v) → wY_nextOrder_20 post J (nI k) f_failing f_length f_completes f_sticks f_fails f_found a_sizes a_ops a_as a_bs a_begins a_at a_regs a_vars a_holders a_turns a_could a_low a_high a_lowRegs (m + 1) (nI t) := by
  have ek : (nI k).toNatClampNeg = k := nI_clamp (by omega)
  have vk : vp_in (nI k) 11 := vp_in_nI hk (by omega)
  intro m
  induction m with
  | zero =>
    intro t e _
    have e : t = u := by omega
    subst e
    refine br_f (nI_ge (b := 3) hu (by omega)) (And.intro vk ?_)
    rw [ek, hZ, nI_1]
    exact br_t ((ie_mk_bit hu).mpr zu) (And.intro vk (nm_e h))
  | succ m ih =>
    intro t e no
    refine br_f (nI_ge (b := 3) (by omega) (by omega)) (And.intro vk ?_)
    rw [ek, hZ]
    exact br_f (fun z => no t (Nat.le_refl _) (by omega) ((ie_mk_bit (by omega)).mp z)) (nm_r (nI_1 t) (ih (t + 1) (by omega) (fun v h1 h2 => no v (by omega) h2)))
theorem iy_20n {post : Int32 → SY → Prop} {J : Int32 → Prop} (hk : k < 11) (hZ : a_could k = ie_mk Z) (h : J (nI k + (-1))) :
    ∀ m t, t + m = 3 → (∀ v, t ≤ v → v < 3 → ¬ Z v) → wY_nextOrder_20 post J (nI k) f_failing f_length f_completes f_sticks f_fails f_found a_sizes a_ops a_as a_bs a_begins a_at a_regs a_vars a_holders a_turns a_could a_low a_high a_lowRegs (m + 1) (nI t) := by
  have ek : (nI k).toNatClampNeg = k := nI_clamp (by omega)
  have vk : vp_in (nI k) 11 := vp_in_nI hk (by omega)
  intro m
  induction m with
  | zero =>
    intro t e _
    have e : t = 3 := by omega
    subst e
    exact br_t (nI_le (Nat.le_refl 3) (by omega)) (nm_e h)
  | succ m ih =>
    intro t e no
    refine br_f (nI_ge (b := 3) (by omega) (by omega)) (And.intro vk ?_)
    rw [ek, hZ]
    exact br_f (fun z => no t (Nat.le_refl _) (by omega) ((ie_mk_bit (by omega)).mp z)) (nm_r (nI_1 t) (ih (t + 1) (by omega) (fun v h1 h2 => no v (by omega) h2)))
theorem iy_7f {post : Int32 → SY → Prop} (hk : k < 11) (hT : a_turns k = nI t) (hZ : a_could k = ie_mk Z) (tu : t < u) (hu : u < 3) (zu : Z u) (no : ∀ v, t < v → v < u → ¬ Z v) (h : post (nI (k + 1)) (f_failing, f_length, f_completes, f_sticks, f_fails, f_found, a_sizes, a_ops, a_as, a_bs, a_begins, a_at, a_regs, a_vars, a_holders, upd a_turns k (nI u), a_could, a_low, a_high, a_lowRegs)) :
    wY_nextOrder_7 post f_failing f_length f_completes f_sticks f_fails f_found a_sizes a_ops a_as a_bs a_begins a_at a_regs a_vars a_holders a_turns a_could a_low a_high a_lowRegs (n + 1) (nI k) := by
  have ek : (nI k).toNatClampNeg = k := nI_clamp (by omega)
  refine br_f (nI_pos (by omega)) (And.intro (vp_in_nI hk (by omega)) (nm_r (e' := nI (t + 1)) (by rw [ek, hT, nI_1]) ⟨_, iy_20f hk hZ hu zu h (u - (t + 1)) (t + 1) (by omega) (fun v h1 h2 => no v (by omega) h2)⟩))
theorem iy_7n {post : Int32 → SY → Prop} (hk : k < 11) (ht : t < 3) (hT : a_turns k = nI t) (hZ : a_could k = ie_mk Z) (no : ∀ v, t < v → v < 3 → ¬ Z v) (h : wY_nextOrder_7 post f_failing f_length f_completes f_sticks f_fails f_found a_sizes a_ops a_as a_bs a_begins a_at a_regs a_vars a_holders a_turns a_could a_low a_high a_lowRegs n (nI k + (-1))) :
    wY_nextOrder_7 post f_failing f_length f_completes f_sticks f_fails f_found a_sizes a_ops a_as a_bs a_begins a_at a_regs a_vars a_holders a_turns a_could a_low a_high a_lowRegs (n + 1) (nI k) := by
  have ek : (nI k).toNatClampNeg = k := nI_clamp (by omega)
  refine br_f (nI_pos (by omega)) (And.intro (vp_in_nI hk (by omega)) (nm_r (e' := nI (t + 1)) (by rw [ek, hT, nI_1]) ⟨_, iy_20n hk hZ h (3 - (t + 1)) (t + 1) (by omega) (fun v h1 h2 => no v (by omega) h2)⟩))
theorem iy_56 {post : SY → Prop} {J : Int32 → (Nat → Int32) → (Nat → Int32) → (Nat → Int32) → (Nat → Int32) → (Nat → Int32) → (Nat → Int32) → (Nat → Int32) → (Nat → Int32) → (Nat → Int32) → (Nat → Int32) → (Nat → Int32) → (Nat → Int32) → (Nat → Int32) → (Nat → Int32) → Prop} {z : Int32} (hk : k < 4) (h : J (nI (k + 1)) a_sizes a_ops a_as a_bs a_begins a_at a_regs a_vars a_holders a_turns a_could (upd a_low k z) (upd a_high k (ie_hw f_completes (a_high k) (a_vars k))) a_lowRegs) :
    wY_note_56 post J x1 x2 x3 x4 (nI k) z (nI k) f_failing f_length f_completes f_sticks f_fails f_found a_sizes a_ops a_as a_bs a_begins a_at a_regs a_vars a_holders a_turns a_could a_low a_high a_lowRegs := by
  have ek : (nI k).toNatClampNeg = k := nI_clamp (by omega)
  have vk : vp_in (nI k) 4 := vp_in_nI hk (by omega)
  unfold wY_note_56 wY_note_87
  rw [ek]
  refine And.intro vk (nm_e ?_)
  by_cases f0 : f_completes = 0
  · have e : ie_hw f_completes (a_high k) (a_vars k) = a_vars k := if_pos f0
    rw [e] at h
    exact br_t f0 (And.intro vk (And.intro vk (nm_e (nm_r (nI_1 k) h))))
  · refine br_f f0 (And.intro vk (And.intro vk ?_))
    by_cases q : a_vars k ≤ a_high k
    · have e : ie_hw f_completes (a_high k) (a_vars k) = a_high k := by unfold ie_hw; rw [if_neg f0, if_pos q]
      rw [e] at h
      exact br_t q (And.intro vk (And.intro vk (nm_e (nm_r (nI_1 k) h))))
    · have e : ie_hw f_completes (a_high k) (a_vars k) = a_vars k := by unfold ie_hw; rw [if_neg f0, if_neg q]
      rw [e] at h
      exact br_f q (And.intro vk (And.intro vk (nm_e (nm_r (nI_1 k) h))))
theorem iy_n3 {post : SY → Prop} (h : ∃ n114, wY_note_114 post x1 x2 x3 x4 f_failing f_length f_completes f_sticks f_fails f_found n114 0 a_sizes a_ops a_as a_bs a_begins a_at a_regs a_vars a_holders a_turns a_could (ie_it (fun k => ie_lw f_completes (lo k) (a_vars k)) lo 4) (ie_it (fun k => ie_hw f_completes (hi k) (a_vars k)) hi 4) a_lowRegs) :
    ∀ m i, i + m = 4 → wY_note_3 post x1 x2 x3 x4 f_failing f_length f_completes f_sticks f_fails f_found (m + 1) (nI i) a_sizes a_ops a_as a_bs a_begins a_at a_regs a_vars a_holders a_turns a_could (ie_it (fun k => ie_lw f_completes (lo k) (a_vars k)) lo i) (ie_it (fun k => ie_hw f_completes (hi k) (a_vars k)) hi i) a_lowRegs := by
  intro m
  induction m with
  | zero =>
    intro i hi
    have e : i = 4 := by omega
    subst e
    exact br_t (nI_le (Nat.le_refl 4) (by omega)) h
  | succ m ih =>
    intro i hi4
    have g := ih (i + 1) (by omega)
    have ek : (nI i).toNatClampNeg = i := nI_clamp (by omega)
    have vk : vp_in (nI i) 4 := vp_in_nI (by omega) (by omega)
    have el := ie_iti (fun k => ie_lw f_completes (lo k) (a_vars k)) lo i
    have eh := ie_iti (fun k => ie_hw f_completes (hi k) (a_vars k)) hi i
    have sh := ie_its (fun k => ie_hw f_completes (hi k) (a_vars k)) hi i (x := ie_hw f_completes (ie_it (fun k => ie_hw f_completes (hi k) (a_vars k)) hi i i) (a_vars i)) (by rw [eh])
    refine br_f (nI_ge (b := 4) (by omega) (by omega)) ?_
    unfold wY_note_39
    rw [ek]
    by_cases f0 : f_completes = 0
    · have sl := ie_its (fun k => ie_lw f_completes (lo k) (a_vars k)) lo i (x := a_vars i) (if_pos f0).symm
      refine br_t f0 (And.intro vk (iy_56 (by omega) ?_))
      rw [sh, sl]; exact g
    · refine br_f f0 (And.intro vk (And.intro vk ?_))
      by_cases q : lo i ≤ a_vars i
      · have sl := ie_its (fun k => ie_lw f_completes (lo k) (a_vars k)) lo i (x := lo i) (by show lo i = ie_lw f_completes (lo i) (a_vars i); unfold ie_lw; rw [if_neg f0, if_pos q])
        refine br_t (by rw [el]; exact q) (And.intro vk (iy_56 (by omega) ?_))
        rw [sh, el, sl]; exact g
      · have sl := ie_its (fun k => ie_lw f_completes (lo k) (a_vars k)) lo i (x := a_vars i) (by show a_vars i = ie_lw f_completes (lo i) (a_vars i); unfold ie_lw; rw [if_neg f0, if_neg q])
        refine br_f (by rw [el]; exact q) (And.intro vk (iy_56 (by omega) ?_))
        rw [sh, sl]; exact g
theorem iy_n114 {post : SY → Prop} (h : ∀ n, wY_note_114 post x1 x2 x3 x4 f_failing f_length f_completes f_sticks f_fails f_found (n + 1) (nI 6) a_sizes a_ops a_as a_bs a_begins a_at a_regs a_vars a_holders a_turns a_could a_low a_high (ie_it (fun k => ie_lw f_completes (lr k) (a_regs k)) lr 6)) :
    ∀ m i, i + m = 6 → wY_note_114 post x1 x2 x3 x4 f_failing f_length f_completes f_sticks f_fails f_found (m + 1) (nI i) a_sizes a_ops a_as a_bs a_begins a_at a_regs a_vars a_holders a_turns a_could a_low a_high (ie_it (fun k => ie_lw f_completes (lr k) (a_regs k)) lr i) := by
  intro m
  induction m with
  | zero =>
    intro i hi
    have e : i = 6 := by omega
    subst e
    exact h 0
  | succ m ih =>
    intro i hi6
    have g := ih (i + 1) (by omega)
    have ek : (nI i).toNatClampNeg = i := nI_clamp (by omega)
    have vk : vp_in (nI i) 6 := vp_in_nI (by omega) (by omega)
    have el := ie_iti (fun k => ie_lw f_completes (lr k) (a_regs k)) lr i
    refine br_f (nI_ge (b := 6) (by omega) (by omega)) ?_
    unfold wY_note_151
    rw [ek]
    by_cases f0 : f_completes = 0
    · have sl := ie_its (fun k => ie_lw f_completes (lr k) (a_regs k)) lr i (x := a_regs i) (if_pos f0).symm
      exact br_t f0 (And.intro vk (And.intro vk (nm_r sl (nm_r (nI_1 i) g))))
    · refine br_f f0 (And.intro vk (And.intro vk ?_))
      by_cases q : lr i ≤ a_regs i
      · have sl := ie_its (fun k => ie_lw f_completes (lr k) (a_regs k)) lr i (x := ie_it (fun k => ie_lw f_completes (lr k) (a_regs k)) lr i i) (by rw [el]; show lr i = ie_lw f_completes (lr i) (a_regs i); unfold ie_lw; rw [if_neg f0, if_pos q])
        exact br_t (by rw [el]; exact q) (And.intro vk (And.intro vk (nm_r sl (nm_r (nI_1 i) g))))
      · have sl := ie_its (fun k => ie_lw f_completes (lr k) (a_regs k)) lr i (x := a_regs i) (by show a_regs i = ie_lw f_completes (lr i) (a_regs i); unfold ie_lw; rw [if_neg f0, if_neg q])
        exact br_f (by rw [el]; exact q) (And.intro vk (And.intro vk (nm_r sl (nm_r (nI_1 i) g))))
theorem iy_note {post : SY → Prop} (R : iy_R c a_at a_regs a_vars a_holders) (hc : ie_fin s c) (v4 : lv < 4) (w4 : lw < 4)
    (A : iy_A s N lv x lw y f_completes f_sticks f_fails f_found a_low a_high a_lowRegs)
    (h : ∀ fz' lo' hi' lr', iy_A s (ie_add N (Sum.inl c)) lv x lw y 1 f_sticks f_fails fz' lo' hi' lr' → post (f_failing, f_length, 1, f_sticks, f_fails, fz', a_sizes, a_ops, a_as, a_bs, a_begins, a_at, a_regs, a_vars, a_holders, a_turns, a_could, lo', hi', lr')) :
    wpY_note post (f_failing, f_length, f_completes, f_sticks, f_fails, f_found, a_sizes, a_ops, a_as, a_bs, a_begins, a_at, a_regs, a_vars, a_holders, a_turns, a_could, a_low, a_high, a_lowRegs) (nI lv) x (nI lw) y := by
  obtain ⟨C, V⟩ := A
  have C' := iy_Ce (lo' := ie_it (fun k => ie_lw f_completes (a_low k) (a_vars k)) a_low 4) (hi' := ie_it (fun k => ie_hw f_completes (a_high k) (a_vars k)) a_high 4) (lr' := ie_it (fun k => ie_lw f_completes (a_lowRegs k) (a_regs k)) a_lowRegs 6) C hc
    (fun k hk => by rw [ie_itl hk, R.2.2.1 k hk]) (fun k hk => by rw [ie_itl hk, R.2.2.1 k hk]) (fun k hk => by rw [ie_itl hk, R.2.1 k hk])
  unfold wpY_note
  have P := iy_n114 (x1 := nI lv) (x2 := x) (x3 := nI lw) (x4 := y) (lr := a_lowRegs) (post := post) (f_failing := f_failing) (f_length := f_length) (f_completes := f_completes) (f_sticks := f_sticks) (f_fails := f_fails) (f_found := f_found) (a_sizes := a_sizes) (a_ops := a_ops) (a_as := a_as) (a_bs := a_bs) (a_begins := a_begins) (a_at := a_at) (a_regs := a_regs) (a_vars := a_vars) (a_holders := a_holders) (a_turns := a_turns) (a_could := a_could) (a_low := ie_it (fun k => ie_lw f_completes (a_low k) (a_vars k)) a_low 4) (a_high := ie_it (fun k => ie_hw f_completes (a_high k) (a_vars k)) a_high 4) ?_ 6 0 rfl
  · rw [ie_it0] at P
    have Q := iy_n3 (lo := a_low) (hi := a_high) ⟨7, P⟩ 4 0 rfl
    rw [ie_it0, ie_it0] at Q
    exact ⟨5, Q⟩
  intro n
  refine br_t (nI_le (Nat.le_refl 6) (by omega)) (And.intro (vp_in_nI v4 (by omega)) ?_)
  rw [nI_clamp (by omega), nI_clamp (by omega), R.2.2.1 lv v4, R.2.2.1 lw w4]
  by_cases z : c lv = x
  · refine br_t z (And.intro (vp_in_nI w4 (by omega)) ?_)
    by_cases q : c lw = y
    · exact br_t q (h _ _ _ _ ⟨C', (ie_b1 ((ie_V_end hc).mpr (Or.inr ⟨z, q⟩))).symm⟩)
    · refine br_f q (h _ _ _ _ ⟨C', ?_⟩)
      rw [V]; exact ie_be ⟨fun k => (ie_V_end hc).mpr (Or.inl k), fun k => ((ie_V_end hc).mp k).elim id (fun k => absurd k.2 q)⟩
  · refine br_f z (h _ _ _ _ ⟨C', ?_⟩)
    rw [V]; exact ie_be ⟨fun k => (ie_V_end hc).mpr (Or.inl k), fun k => ((ie_V_end hc).mp k).elim id (fun k => absurd k.1 z)⟩
end
end
section
/-! Y goes through all runs -/
def iy_Q (J : Int32 → Int32 → Int32 → Int32 → Int32 → Int32 → Int32 → Int32 → Int32 → (Nat → Int32) → (Nat → Int32) → (Nat → Int32) → (Nat → Int32) → (Nat → Int32) → (Nat → Int32) → (Nat → Int32) → (Nat → Int32) → (Nat → Int32) → (Nat → Int32) → (Nat → Int32) → (Nat → Int32) → (Nat → Int32) → (Nat → Int32) → Prop) (x7 : Int32) (r : Int32) (u : SY) : Prop := match u with
  | (f_failing, f_length, f_completes, f_sticks, f_fails, f_found, a_sizes, a_ops, a_as, a_bs, a_begins, a_at, a_regs, a_vars, a_holders, a_turns, a_could, a_low, a_high, a_lowRegs) => ((r ≤ 0 → ∀ z : Int32, z = x7 + 1 → J r 0 z f_failing f_length f_completes f_sticks f_fails f_found a_sizes a_ops a_as a_bs a_begins a_at a_regs a_vars a_holders a_turns a_could a_low a_high a_lowRegs) ∧ (¬ r ≤ 0 → ∀ z : Int32, z = x7 + 1 → J r 1 z f_failing f_length f_completes f_sticks f_fails f_found a_sizes a_ops a_as a_bs a_begins a_at a_regs a_vars a_holders a_turns a_could a_low a_high a_lowRegs))
theorem iy_97 {post : SY → Prop} {J : Int32 → Int32 → Int32 → Int32 → Int32 → Int32 → Int32 → Int32 → Int32 → (Nat → Int32) → (Nat → Int32) → (Nat → Int32) → (Nat → Int32) → (Nat → Int32) → (Nat → Int32) → (Nat → Int32) → (Nat → Int32) → (Nat → Int32) → (Nat → Int32) → (Nat → Int32) → (Nat → Int32) → (Nat → Int32) → (Nat → Int32) → Prop} {x1 x2 x3 x4 x7 : Int32} {f_failing f_length f_completes f_sticks f_fails f_found : Int32} {a_sizes a_ops a_as a_bs a_begins a_at a_regs a_vars a_holders a_turns a_could a_low a_high a_lowRegs : Nat → Int32} (h : ∃ n7, wY_nextOrder_7 (iy_Q J x7) f_failing f_length f_completes f_sticks f_fails f_found a_sizes a_ops a_as a_bs a_begins a_at a_regs a_vars a_holders a_turns a_could a_low a_high a_lowRegs n7 (f_length - 1)) : wY_explore_97 post J x1 x2 x3 x4 x7 f_failing f_length f_completes f_sticks f_fails f_found a_sizes a_ops a_as a_bs a_begins a_at a_regs a_vars a_holders a_turns a_could a_low a_high a_lowRegs := by
  unfold wY_explore_97 wpY_nextOrder
  exact nm_e h
def iy_up (tu : Nat → Nat) (k t : Nat) : Nat → Nat := fun j => if j = k then t else tu j
theorem iy_m1 (x : Int32) : x - 1 = x + (-1) := Int32.sub_eq_add_neg x 1
def ie_ms (s : Nat → Nat) (o a b c : Nat → Int32) (t : Nat) : Nat :=
  (if t ≤ 0 then ie_mb s o a b c 0 else 0) + (if t ≤ 1 then ie_mb s o a b c 1 else 0) + (if t ≤ 2 then ie_mb s o a b c 2 else 0)
section
variable {s : Nat → Nat} {o a b c : Nat → Int32} {t : Nat}
theorem ie_mst (ht : t < 3) : ie_ms s o a b c t = ie_mb s o a b c t + ie_ms s o a b c (t + 1) := by
  unfold ie_ms
  rcases (show t = 0 ∨ t = 1 ∨ t = 2 by omega) with e | e | e <;> subst e <;> simp <;> omega
theorem ie_msl : ie_ms s o a b c t ≤ ie_mb s o a b c 0 + ie_mb s o a b c 1 + ie_mb s o a b c 2 := by
  unfold ie_ms
  split <;> split <;> split <;> omega
end
/-- from a node on: the loop's head goes through all runs below it, then asks for the next order above it -/
def iy_Est (s : Nat → Nat) (lv lw : Nat) (x y : Int32) (post : SY → Prop) (a_sizes a_ops a_as a_bs a_begins : Nat → Int32) (r : Nat) : Prop :=
  ∀ (k : Nat) (tu : Nat → Nat) (g : Nat) (N : ie_O → Prop) (n q : Nat) (f_failing f_length f_completes f_sticks f_fails f_found : Int32) (a_at a_regs a_vars a_holders a_turns a_could a_low a_high a_lowRegs : Nat → Int32),
    ie_rk s (iy_pt a_ops a_as a_bs (ie_c0 a_begins) tu k) < r → iy_ok s a_ops a_as a_bs (ie_c0 a_begins) tu k → g ≤ k → iy_ch s a_ops a_as a_bs (ie_c0 a_begins) tu g a_turns k →
    iy_A s N lv x lw y f_completes f_sticks f_fails f_found a_low a_high a_lowRegs →
    q + ie_mc s (iy_pt a_ops a_as a_bs (ie_c0 a_begins) tu k) ≤ 4200 → n + q = 4201 →
    (∀ (n' q' : Nat) (fx fl fc fs ff fz : Int32) (at' re va ho tr cd lo hi lr : Nat → Int32), n' + q' = 4200 → q' + 1 ≤ q + ie_mc s (iy_pt a_ops a_as a_bs (ie_c0 a_begins) tu k) →
      iy_A s (fun z => N z ∨ ie_RO s a_ops a_as a_bs (iy_pt a_ops a_as a_bs (ie_c0 a_begins) tu k) z) lv x lw y fc fs ff fz lo hi lr →
      (∀ i, i < k → tr i = nI (tu i)) → (∀ i, i < k → cd i = ie_mk (ie_en s a_ops a_as a_bs (iy_pt a_ops a_as a_bs (ie_c0 a_begins) tu i))) → ∀ m, k < m →
      wY_nextOrder_7 (iy_Q (wY_explore_29 post (nI lv) x (nI lw) y n') (nI q')) fx fl fc fs ff fz a_sizes a_ops a_as a_bs a_begins at' re va ho tr cd lo hi lr m (nI k + (-1))) →
    wY_explore_29 post (nI lv) x (nI lw) y n (nI g) 1 (nI q) f_failing f_length f_completes f_sticks f_fails f_found a_sizes a_ops a_as a_bs a_begins a_at a_regs a_vars a_holders a_turns a_could a_low a_high a_lowRegs
section
variable {s : Nat → Nat} {lv lw : Nat} {x y : Int32} {post : SY → Prop} {a_sizes a_ops a_as a_bs a_begins : Nat → Int32}
theorem iy_BR (hP : ix_P s a_sizes) (h10 : s 0 + s 1 + s 2 ≤ 10) {r : Nat} (IH : iy_Est s lv lw x y post a_sizes a_ops a_as a_bs a_begins r)
    (k : Nat) (tu : Nat → Nat) (g : Nat) (N : ie_O → Prop) (n q : Nat) (f_failing f_length f_completes f_sticks f_fails f_found : Int32) (a_at a_regs a_vars a_holders a_turns a_could a_low a_high a_lowRegs : Nat → Int32)
    (hr : ie_rk s (iy_pt a_ops a_as a_bs (ie_c0 a_begins) tu k) < r + 1) (ok : iy_ok s a_ops a_as a_bs (ie_c0 a_begins) tu k) (hg : g ≤ k + 1) (ch : iy_ch s a_ops a_as a_bs (ie_c0 a_begins) tu g a_turns (k + 1))
    (ht : tu k < 3) (he : ie_en s a_ops a_as a_bs (iy_pt a_ops a_as a_bs (ie_c0 a_begins) tu k) (tu k))
    (A : iy_A s N lv x lw y f_completes f_sticks f_fails f_found a_low a_high a_lowRegs)
    (hq : q + ie_mb s a_ops a_as a_bs (iy_pt a_ops a_as a_bs (ie_c0 a_begins) tu k) (tu k) ≤ 4200) (hn : n + q = 4201)
    (K : ∀ (n' q' : Nat) (fx fl fc fs ff fz : Int32) (at' re va ho tr cd lo hi lr : Nat → Int32), n' + q' = 4200 → q' + 1 ≤ q + ie_mb s a_ops a_as a_bs (iy_pt a_ops a_as a_bs (ie_c0 a_begins) tu k) (tu k) →
      iy_A s (fun z => N z ∨ ie_rb s a_ops a_as a_bs (iy_pt a_ops a_as a_bs (ie_c0 a_begins) tu k) (tu k) z) lv x lw y fc fs ff fz lo hi lr →
      (∀ i, i < k + 1 → tr i = nI (tu i)) → (∀ i, i < k + 1 → cd i = ie_mk (ie_en s a_ops a_as a_bs (iy_pt a_ops a_as a_bs (ie_c0 a_begins) tu i))) → ∀ m, k + 1 < m →
      wY_nextOrder_7 (iy_Q (wY_explore_29 post (nI lv) x (nI lw) y n') (nI q')) fx fl fc fs ff fz a_sizes a_ops a_as a_bs a_begins at' re va ho tr cd lo hi lr m (nI k)) :
    wY_explore_29 post (nI lv) x (nI lw) y n (nI g) 1 (nI q) f_failing f_length f_completes f_sticks f_fails f_found a_sizes a_ops a_as a_bs a_begins a_at a_regs a_vars a_holders a_turns a_could a_low a_high a_lowRegs := by
  have hs := ix_hs hP
  have P := iy_pt_W (o := a_ops) (a := a_as) (b := a_bs) (tu := tu) hs (ie_W0 s a_begins) k ok
  have k0 := ie_rk0 s a_begins
  have rk := ie_rk1 (o := a_ops) (a := a_as) (b := a_bs) hs P.1 ht he.1
  have mb := ie_mb_e (o := a_ops) (a := a_as) (b := a_bs) he.1
  have mc := (ie_mb_t (o := a_ops) (a := a_as) (b := a_bs) hs (ie_Wst (o := a_ops) (a := a_as) (b := a_bs) hs ht P.1 he.1)).1
  rw [mb] at hq K
  by_cases f : ie_fl a_ops a_as a_bs (iy_pt a_ops a_as a_bs (ie_c0 a_begins) tu k) (tu k)
  · obtain ⟨n1, rfl⟩ : ∃ n1, n = n1 + 1 := ⟨n - 1, by omega⟩
    refine br_f (nI_ge (b := 4200) (by omega) (by omega)) (br_f (by decide) ?_)
    refine iy_mrF hP (by omega) (by omega) ok ch ht he f ?_
    intro at' re va ho tr cd t1 t3
    refine br_f (by decide) (br_f (by decide) (nm_e ?_))
    refine iy_97 ⟨k + 2, ?_⟩
    rw [nI_pred]
    refine K n1 q _ _ _ _ _ _ _ _ _ _ _ _ _ _ _ (by omega) (by omega) (iy_Ax ⟨iy_Cf A.1 ht, by rw [ie_V_f]; exact A.2⟩ fun z => ?_) t1 t3 _ (by omega)
    exact ⟨fun h => h.elim Or.inl (fun h => Or.inr ⟨he, Or.inl ⟨f, h⟩⟩), fun h => h.elim Or.inl (fun h => Or.inr (h.2.elim (fun h => h.2) (fun h => absurd f h.1)))⟩
  · refine IH (k + 1) tu g N n q _ _ _ _ _ _ _ _ _ _ _ _ _ _ _ (by show ie_rk s (ie_st a_ops a_as a_bs (iy_pt a_ops a_as a_bs (ie_c0 a_begins) tu k) (tu k)) < r; omega) ?_ hg ch A hq hn ?_
    · intro j hj
      by_cases e : j = k
      · subst e; exact ⟨ht, he, f⟩
      · exact ok j (by omega)
    · intro n' q' fx fl fc fs ff fz at' re va ho tr cd lo hi lr e1 e2 A' t1 t3 m hm
      rw [pk_m1]
      refine K n' q' _ _ _ _ _ _ _ _ _ _ _ _ _ _ _ e1 e2 (iy_Ax A' fun z => ?_) t1 t3 m hm
      exact ⟨fun h => h.elim Or.inl (fun h => Or.inr ⟨he, Or.inr ⟨f, h⟩⟩), fun h => h.elim Or.inl (fun h => Or.inr (h.2.elim (fun h => absurd h.1 f) (fun h => h.2)))⟩
theorem iy_NX (hP : ix_P s a_sizes) (h10 : s 0 + s 1 + s 2 ≤ 10) {r : Nat} (IH : iy_Est s lv lw x y post a_sizes a_ops a_as a_bs a_begins r)
    (k : Nat) (tu : Nat → Nat) (N0 : ie_O → Prop) (B : Nat) (hB : B ≤ 4200)
    (hr : ie_rk s (iy_pt a_ops a_as a_bs (ie_c0 a_begins) tu k) < r + 1) (ok : iy_ok s a_ops a_as a_bs (ie_c0 a_begins) tu k) (some : ∃ t, t < 3 ∧ ie_en s a_ops a_as a_bs (iy_pt a_ops a_as a_bs (ie_c0 a_begins) tu k) t)
    (K : ∀ (n' q' : Nat) (fx fl fc fs ff fz : Int32) (at' re va ho tr cd lo hi lr : Nat → Int32), n' + q' = 4200 → q' + 1 ≤ B →
      iy_A s (fun z => N0 z ∨ ie_RO s a_ops a_as a_bs (iy_pt a_ops a_as a_bs (ie_c0 a_begins) tu k) z) lv x lw y fc fs ff fz lo hi lr →
      (∀ i, i < k → tr i = nI (tu i)) → (∀ i, i < k → cd i = ie_mk (ie_en s a_ops a_as a_bs (iy_pt a_ops a_as a_bs (ie_c0 a_begins) tu i))) → ∀ m, k < m →
      wY_nextOrder_7 (iy_Q (wY_explore_29 post (nI lv) x (nI lw) y n') (nI q')) fx fl fc fs ff fz a_sizes a_ops a_as a_bs a_begins at' re va ho tr cd lo hi lr m (nI k + (-1))) :
    ∀ (d t t' : Nat), t + d = 3 → t' < t → (∀ u, t' < u → u < t → ¬ ie_en s a_ops a_as a_bs (iy_pt a_ops a_as a_bs (ie_c0 a_begins) tu k) u) →
    ∀ (n' q' : Nat) (fx fl fc fs ff fz : Int32) (at' re va ho tr cd lo hi lr : Nat → Int32), n' + q' = 4200 → q' + 1 + ie_ms s a_ops a_as a_bs (iy_pt a_ops a_as a_bs (ie_c0 a_begins) tu k) t ≤ B →
      iy_A s (fun z => N0 z ∨ ∃ u, u < t ∧ ie_rb s a_ops a_as a_bs (iy_pt a_ops a_as a_bs (ie_c0 a_begins) tu k) u z) lv x lw y fc fs ff fz lo hi lr →
      (∀ i, i < k → tr i = nI (tu i)) → tr k = nI t' → (∀ i, i < k + 1 → cd i = ie_mk (ie_en s a_ops a_as a_bs (iy_pt a_ops a_as a_bs (ie_c0 a_begins) tu i))) → ∀ m, k + 1 < m →
      wY_nextOrder_7 (iy_Q (wY_explore_29 post (nI lv) x (nI lw) y n') (nI q')) fx fl fc fs ff fz a_sizes a_ops a_as a_bs a_begins at' re va ho tr cd lo hi lr m (nI k) := by
  have hs := ix_hs hP
  have P := iy_pt_W (o := a_ops) (a := a_as) (b := a_bs) (tu := tu) hs (ie_W0 s a_begins) k ok
  have k0 := ie_rk0 s a_begins
  intro d
  induction d with
  | zero =>
    intro t t' htd htt no n' q' fx fl fc fs ff fz at' re va ho tr cd lo hi lr e1 e2 A t1 tk t3 m hm
    have e : t = 3 := by omega
    subst e
    obtain ⟨m1, rfl⟩ : ∃ m1, m = m1 + 1 := ⟨m - 1, by omega⟩
    refine iy_7n (t := t') (by omega) (by omega) tk (t3 k (by omega)) (fun v h1 h2 => no v h1 h2) ?_
    refine K n' q' _ _ _ _ _ _ _ _ _ _ _ _ _ _ _ e1 (by omega) (iy_Ax A fun z => ?_) t1 (fun i hi => t3 i (by omega)) m1 (by omega)
    rw [ie_RO_b]
    constructor
    · rintro (h | h)
      · exact Or.inl h
      · exact Or.inr (Or.inr h)
    · rintro (h | h | h)
      · exact Or.inl h
      · obtain ⟨u, h1, h2⟩ := some
        exact absurd h2 (h.1 u h1)
      · exact Or.inr h
  | succ d ih =>
    intro t t' htd htt no n' q' fx fl fc fs ff fz at' re va ho tr cd lo hi lr e1 e2 A t1 tk t3 m hm
    have ht : t < 3 := by omega
    rw [ie_mst ht] at e2
    by_cases e : ie_en s a_ops a_as a_bs (iy_pt a_ops a_as a_bs (ie_c0 a_begins) tu k) t
    · obtain ⟨m1, rfl⟩ : ∃ m1, m = m1 + 1 := ⟨m - 1, by omega⟩
      refine iy_7f (t := t') (u := t) (by omega) tk (t3 k (by omega)) htt ht e no ?_
      refine br_f (nI_nle (by omega) (by omega)) (nm_r (nI_1 q') ?_)
      have pe : ∀ i, i < k + 1 → iy_pt a_ops a_as a_bs (ie_c0 a_begins) (iy_up tu k t) i = iy_pt a_ops a_as a_bs (ie_c0 a_begins) tu i :=
        fun i hi => iy_pt_e i (fun j hj => if_neg (c := j = k) (by omega))
      have pk := pe k (by omega)
      have uk : iy_up tu k t k = t := if_pos rfl
      have ul : ∀ i, i < k → iy_up tu k t i = tu i := fun i hi => if_neg (c := i = k) (by omega)
      refine iy_BR hP h10 IH k (iy_up tu k t) (k + 1) _ n' (q' + 1) _ _ _ _ _ _ _ _ _ _ _ _ _ _ _ (by rw [pk]; exact hr) ?_ (Nat.le_refl _) ?_ (by rw [uk]; exact ht) (by rw [uk, pk]; exact e) A (by rw [uk, pk]; omega) (by omega) ?_
      · intro j hj
        rw [pe j (by omega), ul j hj]; exact ok j hj
      · intro j hj
        refine ⟨fun _ => ?_, fun z => by omega⟩
        by_cases q : j = k
        · subst q; rw [pk_us, uk]
        · rw [pk_un q, ul j (by omega)]; exact t1 j (by omega)
      · rw [uk, pk]
        intro n2 q2 fx fl fc fs ff fz at' re va ho tr cd lo hi lr g1 g2 A2 u1 u3 m2 hm2
        refine ih (t + 1) t (by omega) (by omega) (fun u h1 h2 => by omega) n2 q2 _ _ _ _ _ _ _ _ _ _ _ _ _ _ _ g1 (by omega) (iy_Ax A2 fun z => ?_) (fun i hi => ?_) ?_ (fun i hi => ?_) m2 hm2
        · constructor
          · rintro ((h | ⟨u, h1, h2⟩) | h)
            · exact Or.inl h
            · exact Or.inr ⟨u, by omega, h2⟩
            · exact Or.inr ⟨t, by omega, h⟩
          · rintro (h | ⟨u, h1, h2⟩)
            · exact Or.inl (Or.inl h)
            · by_cases q : u = t
              · subst q; exact Or.inr h2
              · exact Or.inl (Or.inr ⟨u, by omega, h2⟩)
        · rw [u1 i (by omega), ul i hi]
        · rw [u1 k (by omega), uk]
        · rw [u3 i hi, pe i hi]
    · refine ih (t + 1) t' (by omega) (by omega) (fun u h1 h2 => ?_) n' q' _ _ _ _ _ _ _ _ _ _ _ _ _ _ _ e1 (by omega) (iy_Ax A fun z => ?_) t1 tk t3 m hm
      · by_cases q : u = t
        · subst q; exact e
        · exact no u h1 (by omega)
      · constructor
        · rintro (h | ⟨u, h1, h2⟩)
          · exact Or.inl h
          · exact Or.inr ⟨u, by omega, h2⟩
        · rintro (h | ⟨u, h1, h2⟩)
          · exact Or.inl h
          · by_cases q : u = t
            · subst q; exact absurd h2.1 e
            · exact Or.inr ⟨u, by omega, h2⟩
theorem iy_E (hP : ix_P s a_sizes) (h10 : s 0 + s 1 + s 2 ≤ 10) (v4 : lv < 4) (w4 : lw < 4) : ∀ r, iy_Est s lv lw x y post a_sizes a_ops a_as a_bs a_begins r := by
  intro r
  induction r with
  | zero => intro k tu g N n q _ _ _ _ _ _ _ _ _ _ _ _ _ _ _ h; omega
  | succ r IH =>
    intro k tu g N n q f_failing f_length f_completes f_sticks f_fails f_found a_at a_regs a_vars a_holders a_turns a_could a_low a_high a_lowRegs hr ok hg ch A hq hn K
    have hs := ix_hs hP
    have P := iy_pt_W (o := a_ops) (a := a_as) (b := a_bs) (tu := tu) hs (ie_W0 s a_begins) k ok
    have k0 := ie_rk0 s a_begins
    have mt := ie_mb_t (o := a_ops) (a := a_as) (b := a_bs) hs P.1
    rcases Classical.em (∃ t, t < 3 ∧ ie_en s a_ops a_as a_bs (iy_pt a_ops a_as a_bs (ie_c0 a_begins) tu k) t) with some | none
    · obtain ⟨t, ht, e, lo⟩ := ie_first _ some
      have pe : ∀ i, i < k + 1 → iy_pt a_ops a_as a_bs (ie_c0 a_begins) (iy_up tu k t) i = iy_pt a_ops a_as a_bs (ie_c0 a_begins) tu i :=
        fun i hi => iy_pt_e i (fun j hj => if_neg (c := j = k) (by omega))
      have pk := pe k (by omega)
      have uk : iy_up tu k t k = t := if_pos rfl
      have ul : ∀ i, i < k → iy_up tu k t i = tu i := fun i hi => if_neg (c := i = k) (by omega)
      have ms0 := ie_mst (s := s) (o := a_ops) (a := a_as) (b := a_bs) (c := iy_pt a_ops a_as a_bs (ie_c0 a_begins) tu k) ht
      have msl := ie_msl (s := s) (o := a_ops) (a := a_as) (b := a_bs) (c := iy_pt a_ops a_as a_bs (ie_c0 a_begins) tu k) (t := t)
      refine iy_BR hP h10 IH k (iy_up tu k t) g N n q _ _ _ _ _ _ _ _ _ _ _ _ _ _ _ (by rw [pk]; exact hr) ?_ (by omega) ?_ (by rw [uk]; exact ht) (by rw [uk, pk]; exact e) A (by rw [uk, pk]; omega) hn ?_
      · intro j hj
        rw [pe j (by omega), ul j hj]; exact ok j hj
      · intro j hj
        by_cases z : j = k
        · subst z
          rw [uk, pk]
          exact ⟨fun z => by omega, fun _ => lo⟩
        · rw [pe j hj, ul j (by omega)]; exact ch j (by omega)
      · rw [uk, pk]
        intro n2 q2 fx fl fc fs ff fz at' re va ho tr cd lo' hi lr g1 g2 A2 u1 u3 m2 hm2
        refine iy_NX hP h10 IH k tu N (q + ie_mc s (iy_pt a_ops a_as a_bs (ie_c0 a_begins) tu k)) hq hr ok some K (3 - (t + 1)) (t + 1) t (by omega) (by omega) (fun u h1 h2 => by omega) n2 q2 _ _ _ _ _ _ _ _ _ _ _ _ _ _ _ g1 (by omega) (iy_Ax A2 fun z => ?_) (fun i hi => ?_) ?_ (fun i hi => ?_) m2 hm2
        · constructor
          · rintro (h | h)
            · exact Or.inl h
            · exact Or.inr ⟨t, by omega, h⟩
          · rintro (h | ⟨u, h1, h2⟩)
            · exact Or.inl h
            · by_cases z : u = t
              · subst z; exact Or.inr h2
              · exact absurd h2.1 (lo u (by omega))
        · rw [u1 i (by omega), ul i hi]
        · rw [u1 k (by omega), uk]
        · rw [u3 i hi, pe i hi]
    · have nn : ∀ t, t < 3 → ¬ ie_en s a_ops a_as a_bs (iy_pt a_ops a_as a_bs (ie_c0 a_begins) tu k) t := fun t ht e => none ⟨t, ht, e⟩
      obtain ⟨n1, rfl⟩ : ∃ n1, n = n1 + 1 := ⟨n - 1, by omega⟩
      have ro : ∀ z, ie_RO s a_ops a_as a_bs (iy_pt a_ops a_as a_bs (ie_c0 a_begins) tu k) z ↔ z = Sum.inl (iy_pt a_ops a_as a_bs (ie_c0 a_begins) tu k) := by
        intro z
        rw [ie_RO_b]
        exact ⟨fun h => h.elim (fun h => h.2) (fun ⟨u, h1, h2⟩ => absurd h2.1 (nn u h1)), fun h => Or.inl ⟨nn, h⟩⟩
      have ro2 : ∀ z, ie_add N (Sum.inl (iy_pt a_ops a_as a_bs (ie_c0 a_begins) tu k)) z ↔ (N z ∨ ie_RO s a_ops a_as a_bs (iy_pt a_ops a_as a_bs (ie_c0 a_begins) tu k) z) := fun z => by rw [ro z]; exact Iff.rfl
      refine br_f (nI_ge (b := 4200) (by omega) (by omega)) (br_f (by decide) ?_)
      refine iy_mrE hP (by omega) (by omega) ok ch nn ?_
      intro how at' re va ho tr cd w1 w2 R t1 t3
      by_cases fin : ie_fin s (iy_pt a_ops a_as a_bs (ie_c0 a_begins) tu k)
      · rw [w1 fin]
        refine br_t rfl ?_
        refine iy_note R fin v4 w4 A ?_
        intro fz' lo' hi' lr' A'
        refine iy_97 ⟨k + 1, ?_⟩
        rw [iy_m1]
        exact K n1 q _ _ _ _ _ _ _ _ _ _ _ _ _ _ _ (by omega) (by omega) (iy_Ax A' ro2) t1 t3 _ (by omega)
      · rw [w2 fin]
        refine br_f (by decide) (br_t rfl ?_)
        refine iy_97 ⟨k + 1, ?_⟩
        rw [iy_m1]
        exact K n1 q _ _ _ _ _ _ _ _ _ _ _ _ _ _ _ (by omega) (by omega) (iy_Ax ⟨iy_Cs A.1 fin, by rw [ie_V_s fin]; exact A.2⟩ ro2) t1 t3 _ (by omega)
end
section
variable {f_failing f_length f_completes f_sticks f_fails f_found : Int32} {a_sizes a_ops a_as a_bs a_begins a_at a_regs a_vars a_holders a_turns a_could a_low a_high a_lowRegs : Nat → Int32}
variable {s : Nat → Nat} {lv lw : Nat} {x y : Int32} {post : SY → Prop}
theorem iy_explore (hP : ix_P s a_sizes) (h10 : s 0 + s 1 + s 2 ≤ 10) (v4 : lv < 4) (w4 : lw < 4)
    (h : ∀ fx fl fc fs ff fz at' re va ho tr cd lo hi lr, iy_A s (ie_RO s a_ops a_as a_bs (ie_c0 a_begins)) lv x lw y fc fs ff fz lo hi lr →
      post (fx, fl, fc, fs, ff, fz, a_sizes, a_ops, a_as, a_bs, a_begins, at', re, va, ho, tr, cd, lo, hi, lr)) :
    wpY_explore post (f_failing, f_length, f_completes, f_sticks, f_fails, f_found, a_sizes, a_ops, a_as, a_bs, a_begins, a_at, a_regs, a_vars, a_holders, a_turns, a_could, a_low, a_high, a_lowRegs) (nI lv) x (nI lw) y := by
  unfold wpY_explore
  have m0 := ie_mc0 a_begins (ix_hs hP) h10
  refine ⟨4201, ?_⟩
  refine iy_E (x := x) (y := y) (post := post) (a_ops := a_ops) (a_as := a_as) (a_bs := a_bs) (a_begins := a_begins) hP h10 v4 w4 (ie_rk s (ie_c0 a_begins) + 1) 0 (fun _ => 0) 0 (fun _ => False) 4201 0 _ _ _ _ _ _ _ _ _ _ _ _ _ _ _ (Nat.lt_succ_self _) (fun j hj => by omega) (Nat.le_refl _) (fun j hj => by omega) ⟨iy_C0 s _ _ _, (ie_b0 fun ⟨_, k, _⟩ => k.1).symm⟩ (by show 0 + ie_mc s (ie_c0 a_begins) ≤ 4200; omega) rfl ?_
  intro n' q' fx fl fc fs ff fz at' re va ho tr cd lo hi lr e1 e2 A' _ _ m hm
  obtain ⟨m1, rfl⟩ : ∃ m1, m = m1 + 1 := ⟨m - 1, by omega⟩
  have e3 : q' + 1 ≤ 0 + ie_mc s (ie_c0 a_begins) := e2
  obtain ⟨n1, rfl⟩ : ∃ n1, n' = n1 + 1 := ⟨n' - 1, by omega⟩
  have fin := h fx fl fc fs ff fz at' re va ho tr cd lo hi lr (iy_Ax A' fun z => ⟨fun k => k.elim (fun k => k.elim) id, Or.inr⟩)
  refine br_t (by decide) ?_
  refine br_t (by decide) (nm_r (nI_1 q') ?_)
  exact br_c (fun _ => fin) (fun _ => br_t rfl fin)
end
end
section
/-! the relation -/
def i_Rel (_k : Nat) (u : SX) (v : SY) : Prop := match u, v with
  | (f_ready, f_completes, f_sticks, f_failing, f_differs, f_lookV, f_lookX, f_lookW, f_lookY, f_seen, a_sizes, a_op, a_argA, a_argB, a_start, a_cell, a_asleep, a_toTry, a_tried, a_firstEnd, a_low, a_high), (f_failing_y, f_length_y, f_completes_y, f_sticks_y, f_fails_y, f_found_y, a_sizes_y, a_ops_y, a_as_y, a_bs_y, a_begins_y, a_at_y, a_regs_y, a_vars_y, a_holders_y, a_turns_y, a_could_y, a_low_y, a_high_y, a_lowRegs_y) => a_sizes_y = a_sizes ∧ a_ops_y = a_op ∧ a_as_y = a_argA ∧ a_bs_y = a_argB ∧ a_begins_y = a_start ∧
    ∃ s : Nat → Nat, ix_P s a_sizes ∧ s 0 + s 1 + s 2 ≤ 10 ∧ (f_ready ≠ 0 → ix_C s (ie_RO s a_op a_argA a_argB (ie_c0 a_start)) f_completes f_sticks f_failing f_differs a_firstEnd a_low a_high)
theorem i_in {f_ready f_completes f_sticks f_failing f_differs f_lookV f_lookX f_lookW f_lookY f_seen : Int32} {a_sizes a_op a_argA a_argB a_start a_cell a_asleep a_toTry a_tried a_firstEnd a_low a_high : Nat → Int32} {f_failing_y f_length_y f_completes_y f_sticks_y f_fails_y f_found_y : Int32} {a_at_y a_regs_y a_vars_y a_holders_y a_turns_y a_could_y a_low_y a_high_y a_lowRegs_y : Nat → Int32} {k : Nat} {s : Nat → Nat}
    (hP : ix_P s a_sizes) (h10 : s 0 + s 1 + s 2 ≤ 10) (hR : f_ready ≠ 0 → ix_C s (ie_RO s a_op a_argA a_argB (ie_c0 a_start)) f_completes f_sticks f_failing f_differs a_firstEnd a_low a_high) : i_Rel k (f_ready, f_completes, f_sticks, f_failing, f_differs, f_lookV, f_lookX, f_lookW, f_lookY, f_seen, a_sizes, a_op, a_argA, a_argB, a_start, a_cell, a_asleep, a_toTry, a_tried, a_firstEnd, a_low, a_high) (f_failing_y, f_length_y, f_completes_y, f_sticks_y, f_fails_y, f_found_y, a_sizes, a_op, a_argA, a_argB, a_start, a_at_y, a_regs_y, a_vars_y, a_holders_y, a_turns_y, a_could_y, a_low_y, a_high_y, a_lowRegs_y) :=
  ⟨rfl, rfl, rfl, rfl, rfl, s, hP, h10, hR⟩
theorem i_el {P : SX → SY → Prop} {k : Nat} {u : SX} {v : SY} (h : ∀ f_ready f_completes f_sticks f_failing f_differs f_lookV f_lookX f_lookW f_lookY f_seen a_sizes a_op a_argA a_argB a_start a_cell a_asleep a_toTry a_tried a_firstEnd a_low a_high f_failing_y f_length_y f_completes_y f_sticks_y f_fails_y f_found_y a_at_y a_regs_y a_vars_y a_holders_y a_turns_y a_could_y a_low_y a_high_y a_lowRegs_y (s : Nat → Nat), ix_P s a_sizes → s 0 + s 1 + s 2 ≤ 10 → (f_ready ≠ 0 → ix_C s (ie_RO s a_op a_argA a_argB (ie_c0 a_start)) f_completes f_sticks f_failing f_differs a_firstEnd a_low a_high) → P (f_ready, f_completes, f_sticks, f_failing, f_differs, f_lookV, f_lookX, f_lookW, f_lookY, f_seen, a_sizes, a_op, a_argA, a_argB, a_start, a_cell, a_asleep, a_toTry, a_tried, a_firstEnd, a_low, a_high) (f_failing_y, f_length_y, f_completes_y, f_sticks_y, f_fails_y, f_found_y, a_sizes, a_op, a_argA, a_argB, a_start, a_at_y, a_regs_y, a_vars_y, a_holders_y, a_turns_y, a_could_y, a_low_y, a_high_y, a_lowRegs_y)) (I : i_Rel k u v) : P u v :=
  match u, v, I with
  | (f_ready, f_completes, f_sticks, f_failing, f_differs, f_lookV, f_lookX, f_lookW, f_lookY, f_seen, a_sizes, a_op, a_argA, a_argB, a_start, a_cell, a_asleep, a_toTry, a_tried, a_firstEnd, a_low, a_high), (f_failing_y, f_length_y, f_completes_y, f_sticks_y, f_fails_y, f_found_y, a_sizes_y, a_ops_y, a_as_y, a_bs_y, a_begins_y, a_at_y, a_regs_y, a_vars_y, a_holders_y, a_turns_y, a_could_y, a_low_y, a_high_y, a_lowRegs_y), ⟨e1, e2, e3, e4, e5, s, h1, h2, h3⟩ => by
    subst e1 e2 e3 e4 e5
    exact h _ _ _ _ _ _ _ _ _ _ _ _ _ _ _ _ _ _ _ _ _ _ _ _ _ _ _ _ _ _ _ _ _ _ _ _ _ s h1 h2 h3
theorem i_up {k : Nat} {u : SX} {v : SY} (h : i_Rel k u v) : i_Rel (k + 5) u v := h
theorem i_vc0 : wpX_init (fun u => wpY_init (fun v => i_Rel 0 u v)) :=
  ⟨rfl, rfl, rfl, rfl, rfl, fun _ => 0, fun _ _ => ⟨nI_0.symm, Nat.zero_le _⟩, Nat.zero_le _, fun z => absurd rfl z⟩
/-! arguments out of range -/
theorem i_bt {v : Int32} {n : Nat} (hn : n + 1 < 2 ^ 31) (h : nI (n + 1) ≤ v) : ¬ v ≤ nI n := by
  rw [ie_ile, nI_toInt (by omega)] at h
  rw [ie_ile, nI_toInt (by omega)]
  omega
theorem ix_bt1 {post : Int32 → Prop} {v : Int32} (h : v < 0 ∨ nI 3 ≤ v) (p : post 1) : wpX_badThread post v := by
  rcases h with h | h
  · exact br_t h p
  · exact br_c (fun _ => p) (fun _ => br_f (Int32.not_lt.mpr h) p)
theorem ix_bt0 {post : Int32 → Prop} {j : Nat} (h : j < 3) (p : post 0) : wpX_badThread post (nI j) :=
  br_f (nI_pos (by omega)) (br_t (nI_lt (b := 3) h (by omega)) p)
theorem ix_bv1 {post : Int32 → Prop} {v : Int32} (h : v < 0 ∨ nI 4 ≤ v) (p : post 1) : wpX_badVariable post v := by
  rcases h with h | h
  · exact br_t h p
  · exact br_c (fun _ => p) (fun _ => br_f (i_bt (n := 3) (by omega) h) p)
theorem ix_bv0 {post : Int32 → Prop} {j : Nat} (h : j < 4) (p : post 0) : wpX_badVariable post (nI j) :=
  br_f (nI_pos (by omega)) (br_t (nI_le (b := 3) (by omega) (by omega)) p)
section
variable {f_failing f_length f_completes f_sticks f_fails f_found : Int32} {a_sizes a_ops a_as a_bs a_begins a_at a_regs a_vars a_holders a_turns a_could a_low a_high a_lowRegs : Nat → Int32}
theorem iy_bt1 {post : Int32 → Prop} {v : Int32} (h : v < 0 ∨ nI 3 ≤ v) (p : post 1) : wpY_badThread post (f_failing, f_length, f_completes, f_sticks, f_fails, f_found, a_sizes, a_ops, a_as, a_bs, a_begins, a_at, a_regs, a_vars, a_holders, a_turns, a_could, a_low, a_high, a_lowRegs) v := by
  rcases h with h | h
  · exact br_t h p
  · exact br_c (fun _ => p) (fun _ => br_f (i_bt (n := 2) (by omega) h) p)
theorem iy_bt0 {post : Int32 → Prop} {j : Nat} (h : j < 3) (p : post 0) : wpY_badThread post (f_failing, f_length, f_completes, f_sticks, f_fails, f_found, a_sizes, a_ops, a_as, a_bs, a_begins, a_at, a_regs, a_vars, a_holders, a_turns, a_could, a_low, a_high, a_lowRegs) (nI j) :=
  br_f (nI_pos (by omega)) (br_t (nI_le (b := 2) (by omega) (by omega)) p)
theorem iy_bv1 {post : Int32 → Prop} {v : Int32} (h : v < 0 ∨ nI 4 ≤ v) (p : post 1) : wpY_badVariable post (f_failing, f_length, f_completes, f_sticks, f_fails, f_found, a_sizes, a_ops, a_as, a_bs, a_begins, a_at, a_regs, a_vars, a_holders, a_turns, a_could, a_low, a_high, a_lowRegs) v := by
  rcases h with h | h
  · exact br_t h p
  · exact br_c (fun _ => p) (fun _ => br_f (i_bt (n := 3) (by omega) h) p)
theorem iy_bv0 {post : Int32 → Prop} {j : Nat} (h : j < 4) (p : post 0) : wpY_badVariable post (f_failing, f_length, f_completes, f_sticks, f_fails, f_found, a_sizes, a_ops, a_as, a_bs, a_begins, a_at, a_regs, a_vars, a_holders, a_turns, a_could, a_low, a_high, a_lowRegs) (nI j) :=
  br_f (nI_pos (by omega)) (br_t (nI_le (b := 3) (by omega) (by omega)) p)
theorem iy_26t {post : Int32 → SY → Prop} (h : ∀ i, i < 4 → a_low i = a_high i) (p : post 1 (f_failing, f_length, f_completes, f_sticks, f_fails, f_found, a_sizes, a_ops, a_as, a_bs, a_begins, a_at, a_regs, a_vars, a_holders, a_turns, a_could, a_low, a_high, a_lowRegs)) : ∀ m i, i + m = 4 → wY_settled_26 post f_failing f_length f_completes f_sticks f_fails f_found a_sizes a_ops a_as a_bs a_begins a_at a_regs a_vars a_holders a_turns a_could a_low a_high a_lowRegs (m + 1) (nI i) := by
  intro m
  induction m with
  | zero =>
    intro i hi
    have e : i = 4 := by omega
    subst e
    exact br_t (nI_le (Nat.le_refl 4) (by omega)) p
  | succ m ih =>
    intro i hi
    have ek : (nI i).toNatClampNeg = i := nI_clamp (by omega)
    have vk : vp_in (nI i) 4 := vp_in_nI (by omega) (by omega)
    exact br_f (nI_ge (b := 4) (by omega) (by omega)) (And.intro vk (And.intro vk (br_t (by rw [ek]; exact h i (by omega)) (nm_r (nI_1 i) (ih (i + 1) (by omega))))))
theorem iy_26f {post : Int32 → SY → Prop} (p : post 0 (f_failing, f_length, f_completes, f_sticks, f_fails, f_found, a_sizes, a_ops, a_as, a_bs, a_begins, a_at, a_regs, a_vars, a_holders, a_turns, a_could, a_low, a_high, a_lowRegs)) : ∀ m i, i + m = 4 → (∃ v, i ≤ v ∧ v < 4 ∧ a_low v ≠ a_high v) → wY_settled_26 post f_failing f_length f_completes f_sticks f_fails f_found a_sizes a_ops a_as a_bs a_begins a_at a_regs a_vars a_holders a_turns a_could a_low a_high a_lowRegs (m + 1) (nI i) := by
  intro m
  induction m with
  | zero =>
    rintro i hi ⟨v, h1, h2, _⟩
    omega
  | succ m ih =>
    rintro i hi ⟨v, h1, h2, h3⟩
    have ek : (nI i).toNatClampNeg = i := nI_clamp (by omega)
    have vk : vp_in (nI i) 4 := vp_in_nI (by omega) (by omega)
    refine br_f (nI_ge (b := 4) (by omega) (by omega)) (And.intro vk (And.intro vk ?_))
    rw [ek]
    by_cases z : a_low i = a_high i
    · refine br_t z (nm_r (nI_1 i) (ih (i + 1) (by omega) ⟨v, ?_, h2, h3⟩))
      have : v ≠ i := fun e => h3 (by rw [e]; exact z)
      omega
    · exact br_f z p
end
/-! the calls that change the program -/
theorem i_vc_emit {k : Nat} {u : SX} {v : SY} (I : i_Rel k u v) (hk : k + 5 ≤ 2560) (v1 : Int32) (v2 : Int32) (v3 : Int32) (v4 : Int32) : wpX_emit (fun r u' => wpY_emit (fun r' v' => r' = r ∧ i_Rel (k + 5) u' v') v v1 v2 v3 v4) u v1 v2 v3 v4 := by
  refine i_el (P := fun u v => wpX_emit (fun r u' => wpY_emit (fun r' v' => r' = r ∧ i_Rel (k + 5) u' v') v v1 v2 v3 v4) u v1 v2 v3 v4) ?_ I
  intro f_ready f_completes f_sticks f_failing f_differs f_lookV f_lookX f_lookW f_lookY f_seen a_sizes a_op a_argA a_argB a_start a_cell a_asleep a_toTry a_tried a_firstEnd a_low a_high f_failing_y f_length_y f_completes_y f_sticks_y f_fails_y f_found_y a_at_y a_regs_y a_vars_y a_holders_y a_turns_y a_could_y a_low_y a_high_y a_lowRegs_y s hP h10 hR
  unfold wpX_emit wpY_emit
  have same : ∀ r : Int32, r = r ∧ i_Rel (k + 5) (f_ready, f_completes, f_sticks, f_failing, f_differs, f_lookV, f_lookX, f_lookW, f_lookY, f_seen, a_sizes, a_op, a_argA, a_argB, a_start, a_cell, a_asleep, a_toTry, a_tried, a_firstEnd, a_low, a_high) (f_failing_y, f_length_y, f_completes_y, f_sticks_y, f_fails_y, f_found_y, a_sizes, a_op, a_argA, a_argB, a_start, a_at_y, a_regs_y, a_vars_y, a_holders_y, a_turns_y, a_could_y, a_low_y, a_high_y, a_lowRegs_y) := fun r => ⟨rfl, i_in hP h10 hR⟩
  have bad : (v1 < 0 ∨ nI 3 ≤ v1) ∨ ∃ j, j < 3 ∧ v1 = nI j := by
    rcases pk_ix v1 (n := 3) (by omega) with h | h | h
    · exact Or.inl (Or.inl h)
    · exact Or.inl (Or.inr h)
    · exact Or.inr h
  rcases bad with h | ⟨j, hj, rfl⟩
  · exact ix_bt1 h (br_f (by decide) (iy_bt1 h (br_f (by decide) (same _))))
  refine ix_bt0 hj (br_t rfl ?_)
  have ej : (nI j).toNatClampNeg = j := nI_clamp (by omega)
  have vj : vp_in (nI j) 3 := vp_in_nI hj (by omega)
  by_cases p0 : v2 < 0
  · exact br_t p0 (iy_bt0 hj (br_t rfl (br_t p0 (same _))))
  refine br_f p0 ?_
  by_cases p8 : v2 ≤ 8
  · refine br_t p8 (And.intro vj ?_)
    rw [ej, (hP j hj).1, (hP 0 (by omega)).1, (hP 1 (by omega)).1, (hP 2 (by omega)).1, nI_add, nI_add]
    have h5 := (hP j hj).2
    have ez := (hP j hj).1
    have es : a_sizes 0 + a_sizes 1 + a_sizes 2 = nI (s 0 + s 1 + s 2) := by rw [(hP 0 (by omega)).1, (hP 1 (by omega)).1, (hP 2 (by omega)).1, nI_add, nI_add]
    have e15 : nI j * 5 + nI (s j) = nI (j * 5 + s j) := by
      show nI j * nI 5 + nI (s j) = _
      rw [pk_mul, nI_add]
    by_cases s5 : s j = 5
    · refine br_t (nI_le (a := 5) (by omega) (by omega)) (iy_bt0 hj (br_t rfl (br_f p0 (br_t p8 (And.intro vj (nm_e (br_t ?_ (same _))))))))
      rw [ez, s5]; rfl
    refine br_f (nI_ge (b := 5) (by omega) (by omega)) ?_
    have ne5 : ¬ a_sizes j = 5 := fun z => s5 ((nI_eq (a := s j) (b := 5) (by omega) (by omega)).mp (ez.symm.trans z))
    by_cases s10 : s 0 + s 1 + s 2 = 10
    · refine br_f (nI_nlt (b := 10) (by omega) (by omega)) (iy_bt0 hj (br_t rfl (br_f p0 (br_t p8 (And.intro vj (nm_e (br_f ne5 (br_t ?_ (same _)))))))))
      rw [es, s10]; rfl
    have ne10 : ¬ a_sizes 0 + a_sizes 1 + a_sizes 2 = 10 := fun z => s10 ((nI_eq (a := s 0 + s 1 + s 2) (b := 10) (by omega) (by omega)).mp (es.symm.trans z))
    refine br_t (nI_lt (b := 10) (by omega) (by omega)) (And.intro vj (nm_r e15 ?_))
    have va : vp_in (nI (j * 5 + s j)) 15 := vp_in_nI (by omega) (by omega)
    have ea : (nI (j * 5 + s j)).toNatClampNeg = j * 5 + s j := nI_clamp (by omega)
    rw [ea]
    refine And.intro va (nm_e (And.intro va (nm_e (And.intro va (nm_e (And.intro vj (And.intro vj (nm_e (And.intro vj ?_)))))))))
    refine iy_bt0 hj (br_t rfl (br_f p0 (br_t p8 (And.intro vj (nm_e (br_f ne5 (br_f ne10 ?_)))))))
    rw [ez, e15, ea]
    refine And.intro va (nm_e (And.intro va (nm_e (And.intro va (nm_e (And.intro vj (nm_e (And.intro ?_ ?_))))))))
    · rw [pk_us]
    · refine i_in (s := fun t => if t = j then s j + 1 else s t) ?_ ?_ (fun z => absurd rfl z)
      · intro t ht
        dsimp only
        by_cases e : t = j
        · subst e
          rw [pk_us, if_pos rfl, nI_1]
          exact ⟨rfl, by omega⟩
        · rw [pk_un e, if_neg e]; exact hP t ht
      · rcases (show j = 0 ∨ j = 1 ∨ j = 2 by omega) with e | e | e <;> subst e <;> simp <;> omega
  · exact br_f p8 (iy_bt0 hj (br_t rfl (br_f p0 (br_f p8 (same _)))))
theorem i_vc_begin {k : Nat} {u : SX} {v : SY} (I : i_Rel k u v) (hk : k + 5 ≤ 2560) (v1 : Int32) (v2 : Int32) : wpX_begin (fun r u' => wpY_begin (fun r' v' => r' = r ∧ i_Rel (k + 5) u' v') v v1 v2) u v1 v2 := by
  refine i_el (P := fun u v => wpX_begin (fun r u' => wpY_begin (fun r' v' => r' = r ∧ i_Rel (k + 5) u' v') v v1 v2) u v1 v2) ?_ I
  intro f_ready f_completes f_sticks f_failing f_differs f_lookV f_lookX f_lookW f_lookY f_seen a_sizes a_op a_argA a_argB a_start a_cell a_asleep a_toTry a_tried a_firstEnd a_low a_high f_failing_y f_length_y f_completes_y f_sticks_y f_fails_y f_found_y a_at_y a_regs_y a_vars_y a_holders_y a_turns_y a_could_y a_low_y a_high_y a_lowRegs_y s hP h10 hR
  unfold wpX_begin wpY_begin
  have same : ∀ r : Int32, r = r ∧ i_Rel (k + 5) (f_ready, f_completes, f_sticks, f_failing, f_differs, f_lookV, f_lookX, f_lookW, f_lookY, f_seen, a_sizes, a_op, a_argA, a_argB, a_start, a_cell, a_asleep, a_toTry, a_tried, a_firstEnd, a_low, a_high) (f_failing_y, f_length_y, f_completes_y, f_sticks_y, f_fails_y, f_found_y, a_sizes, a_op, a_argA, a_argB, a_start, a_at_y, a_regs_y, a_vars_y, a_holders_y, a_turns_y, a_could_y, a_low_y, a_high_y, a_lowRegs_y) := fun r => ⟨rfl, i_in hP h10 hR⟩
  rcases pk_ix v1 (n := 4) (by omega) with h | h | ⟨j, hj, rfl⟩
  · exact br_t h (iy_bv1 (Or.inl h) (br_f (by decide) (same _)))
  · exact br_c (fun _ => iy_bv1 (Or.inr h) (br_f (by decide) (same _))) (fun _ => br_f (i_bt (n := 3) (by omega) h) (iy_bv1 (Or.inr h) (br_f (by decide) (same _))))
  · have ej : (nI j).toNatClampNeg = j := nI_clamp (by omega)
    have vj : vp_in (nI j) 4 := vp_in_nI hj (by omega)
    refine br_f (nI_pos (by omega)) (br_t (nI_le (b := 3) (by omega) (by omega)) (And.intro vj (nm_e (And.intro vj (nm_e ?_)))))
    exact iy_bv0 hj (br_t rfl (And.intro vj (nm_e (And.intro vj (nm_e (And.intro rfl (i_in hP h10 (fun z => absurd rfl z))))))))
theorem i_vc_drop {k : Nat} {u : SX} {v : SY} (I : i_Rel k u v) (hk : k + 5 ≤ 2560) (v1 : Int32) : wpX_drop (fun r u' => wpY_drop (fun r' v' => r' = r ∧ i_Rel (k + 5) u' v') v v1) u v1 := by
  refine i_el (P := fun u v => wpX_drop (fun r u' => wpY_drop (fun r' v' => r' = r ∧ i_Rel (k + 5) u' v') v v1) u v1) ?_ I
  intro f_ready f_completes f_sticks f_failing f_differs f_lookV f_lookX f_lookW f_lookY f_seen a_sizes a_op a_argA a_argB a_start a_cell a_asleep a_toTry a_tried a_firstEnd a_low a_high f_failing_y f_length_y f_completes_y f_sticks_y f_fails_y f_found_y a_at_y a_regs_y a_vars_y a_holders_y a_turns_y a_could_y a_low_y a_high_y a_lowRegs_y s hP h10 hR
  unfold wpX_drop wpY_drop
  have same : ∀ r : Int32, r = r ∧ i_Rel (k + 5) (f_ready, f_completes, f_sticks, f_failing, f_differs, f_lookV, f_lookX, f_lookW, f_lookY, f_seen, a_sizes, a_op, a_argA, a_argB, a_start, a_cell, a_asleep, a_toTry, a_tried, a_firstEnd, a_low, a_high) (f_failing_y, f_length_y, f_completes_y, f_sticks_y, f_fails_y, f_found_y, a_sizes, a_op, a_argA, a_argB, a_start, a_at_y, a_regs_y, a_vars_y, a_holders_y, a_turns_y, a_could_y, a_low_y, a_high_y, a_lowRegs_y) := fun r => ⟨rfl, i_in hP h10 hR⟩
  rcases pk_ix v1 (n := 3) (by omega) with h | h | ⟨j, hj, rfl⟩
  · exact ix_bt1 (Or.inl h) (br_f (by decide) (iy_bt1 (Or.inl h) (br_f (by decide) (same _))))
  · exact ix_bt1 (Or.inr h) (br_f (by decide) (iy_bt1 (Or.inr h) (br_f (by decide) (same _))))
  · have ej : (nI j).toNatClampNeg = j := nI_clamp (by omega)
    have vj : vp_in (nI j) 3 := vp_in_nI hj (by omega)
    refine ix_bt0 hj (br_t rfl (And.intro vj (nm_e (And.intro vj (nm_e ?_)))))
    refine iy_bt0 hj (br_t rfl (And.intro vj (nm_e (And.intro vj (nm_e (And.intro rfl ?_))))))
    rw [ej]
    have h5 := (hP j hj).2
    refine i_in (s := fun t => if t = j then 0 else s t) ?_ ?_ (fun z => absurd rfl z)
    · intro t ht
      dsimp only
      by_cases e : t = j
      · subst e
        rw [pk_us, if_pos rfl]
        exact ⟨nI_0.symm, by omega⟩
      · rw [pk_un e, if_neg e]; exact hP t ht
    · rcases (show j = 0 ∨ j = 1 ∨ j = 2 by omega) with e | e | e <;> subst e <;> simp <;> omega
end
section
/-! the questions -/
theorem ie_inr {s : Nat → Nat} {o a b : Nat → Int32} {t : Nat} : ∀ (w : List Nat) (c : Nat → Int32), ie_run s o a b w c (Sum.inr t) → t < 3
  | [], _, h => by cases h.2
  | u :: w, c, ⟨h1, _, h3⟩ => by
    rcases h3 with ⟨_, _, e⟩ | ⟨_, k⟩
    · cases e; exact h1
    · exact ie_inr w _ k
theorem i_ends {s : Nat → Nat} {o a b st : Nat → Int32} (hs : ∀ t, t < 3 → s t ≤ 5) (hS : ¬ ie_S s (ie_RO s o a b (ie_c0 st))) (hF : ∀ t, t < 3 → ¬ ie_RO s o a b (ie_c0 st) (Sum.inr t)) : ∃ e, ie_E s (ie_RO s o a b (ie_c0 st)) e := by
  obtain ⟨x, hx⟩ := ie_some (o := o) (a := a) (b := b) hs (ie_rk s (ie_c0 st) + 1) (ie_c0 st) (Nat.lt_succ_self _) (ie_W0 s st)
  match x, hx with
  | Sum.inl e, hx => exact ⟨e, hx, Classical.byContradiction fun k => hS ⟨e, hx, k⟩⟩
  | Sum.inr t, hx =>
    obtain ⟨w, h⟩ := hx
    exact absurd ⟨w, h⟩ (hF t (ie_inr w _ h))
theorem i_differ {s : Nat → Nat} {N : ie_O → Prop} {fe lo hi : Nat → Int32} (h1 : ∃ e, ie_E s N e ∧ ∀ v, v < 4 → fe v = e v) (hl : ∀ k, k < 4 → ie_mn s N k (lo k)) (hh : ∀ k, k < 4 → ie_mx s N k (hi k)) :
    (∃ e, ie_E s N e ∧ ∃ v, v < 4 ∧ e v ≠ fe v) ↔ ∃ v, 0 ≤ v ∧ v < 4 ∧ lo v ≠ hi v := by
  obtain ⟨e0, h2, h3⟩ := h1
  constructor
  · rintro ⟨e, k1, v, k2, k3⟩
    refine ⟨v, Nat.zero_le _, k2, fun z => k3 ?_⟩
    have a1 := (hl v k2).2 e k1
    have a2 := (hh v k2).2 e k1
    have b1 := (hl v k2).2 e0 h2
    have b2 := (hh v k2).2 e0 h2
    rw [← z] at a2 b2
    rw [h3 v k2, ← ie_ian a1 a2, ← ie_ian b1 b2]
  · rintro ⟨v, _, k2, k3⟩
    obtain ⟨⟨e1, a1, a2⟩, _⟩ := hl v k2
    obtain ⟨⟨e2, b1, b2⟩, _⟩ := hh v k2
    rcases Classical.em (e1 v = fe v) with z | z
    · exact ⟨e2, b1, v, k2, fun y => k3 (by rw [← a2, ← b2, z, y])⟩
    · exact ⟨e1, a1, v, k2, z⟩
theorem i_vc_canComplete {k : Nat} {u : SX} {v : SY} (I : i_Rel k u v) (hk : k + 5 ≤ 2560) : wpX_canComplete (fun r u' => wpY_canComplete (fun r' v' => r' = r ∧ i_Rel (k + 5) u' v') v) u := by
  refine i_el (P := fun u v => wpX_canComplete (fun r u' => wpY_canComplete (fun r' v' => r' = r ∧ i_Rel (k + 5) u' v') v) u) ?_ I
  intro f_ready f_completes f_sticks f_failing f_differs f_lookV f_lookX f_lookW f_lookY f_seen a_sizes a_op a_argA a_argB a_start a_cell a_asleep a_toTry a_tried a_firstEnd a_low a_high f_failing_y f_length_y f_completes_y f_sticks_y f_fails_y f_found_y a_at_y a_regs_y a_vars_y a_holders_y a_turns_y a_could_y a_low_y a_high_y a_lowRegs_y s hP h10 hR
  unfold wpX_canComplete
  refine ix_prepare hP h10 hR ?_
  intro f_ready f_completes f_sticks f_failing f_differs f_lookV f_lookX f_lookW f_lookY f_seen a_cell a_asleep a_toTry a_tried a_firstEnd a_low a_high C
  refine And.intro (by rw [C.1]; exact ie_bn _) ?_
  unfold wpY_canComplete
  refine iy_explore (lv := 0) (lw := 0) hP h10 (by omega) (by omega) ?_
  intro fx fl fc fs ff fz at1 re va ho tr cd lo hi lr A
  exact And.intro (by rw [A.1.1]; exact ie_bn _) (And.intro (A.1.1.trans C.1.symm) (i_in hP h10 (fun _ => C)))
theorem i_vc_canStick {k : Nat} {u : SX} {v : SY} (I : i_Rel k u v) (hk : k + 5 ≤ 2560) : wpX_canStick (fun r u' => wpY_canStick (fun r' v' => r' = r ∧ i_Rel (k + 5) u' v') v) u := by
  refine i_el (P := fun u v => wpX_canStick (fun r u' => wpY_canStick (fun r' v' => r' = r ∧ i_Rel (k + 5) u' v') v) u) ?_ I
  intro f_ready f_completes f_sticks f_failing f_differs f_lookV f_lookX f_lookW f_lookY f_seen a_sizes a_op a_argA a_argB a_start a_cell a_asleep a_toTry a_tried a_firstEnd a_low a_high f_failing_y f_length_y f_completes_y f_sticks_y f_fails_y f_found_y a_at_y a_regs_y a_vars_y a_holders_y a_turns_y a_could_y a_low_y a_high_y a_lowRegs_y s hP h10 hR
  unfold wpX_canStick
  refine ix_prepare hP h10 hR ?_
  intro f_ready f_completes f_sticks f_failing f_differs f_lookV f_lookX f_lookW f_lookY f_seen a_cell a_asleep a_toTry a_tried a_firstEnd a_low a_high C
  refine And.intro (by rw [C.2.1]; exact ie_bn _) ?_
  unfold wpY_canStick
  refine iy_explore (lv := 0) (lw := 0) hP h10 (by omega) (by omega) ?_
  intro fx fl fc fs ff fz at1 re va ho tr cd lo hi lr A
  exact And.intro (by rw [A.1.2.1]; exact ie_bn _) (And.intro (A.1.2.1.trans C.2.1.symm) (i_in hP h10 (fun _ => C)))
theorem i_vc_canFail {k : Nat} {u : SX} {v : SY} (I : i_Rel k u v) (hk : k + 5 ≤ 2560) (v1 : Int32) : wpX_canFail (fun r u' => wpY_canFail (fun r' v' => r' = r ∧ i_Rel (k + 5) u' v') v v1) u v1 := by
  refine i_el (P := fun u v => wpX_canFail (fun r u' => wpY_canFail (fun r' v' => r' = r ∧ i_Rel (k + 5) u' v') v v1) u v1) ?_ I
  intro f_ready f_completes f_sticks f_failing f_differs f_lookV f_lookX f_lookW f_lookY f_seen a_sizes a_op a_argA a_argB a_start a_cell a_asleep a_toTry a_tried a_firstEnd a_low a_high f_failing_y f_length_y f_completes_y f_sticks_y f_fails_y f_found_y a_at_y a_regs_y a_vars_y a_holders_y a_turns_y a_could_y a_low_y a_high_y a_lowRegs_y s hP h10 hR
  unfold wpX_canFail wpY_canFail
  have same : ∀ r : Int32, r = r ∧ i_Rel (k + 5) (f_ready, f_completes, f_sticks, f_failing, f_differs, f_lookV, f_lookX, f_lookW, f_lookY, f_seen, a_sizes, a_op, a_argA, a_argB, a_start, a_cell, a_asleep, a_toTry, a_tried, a_firstEnd, a_low, a_high) (f_failing_y, f_length_y, f_completes_y, f_sticks_y, f_fails_y, f_found_y, a_sizes, a_op, a_argA, a_argB, a_start, a_at_y, a_regs_y, a_vars_y, a_holders_y, a_turns_y, a_could_y, a_low_y, a_high_y, a_lowRegs_y) := fun r => ⟨rfl, i_in hP h10 hR⟩
  rcases pk_ix v1 (n := 3) (by omega) with h | h | ⟨j, hj, rfl⟩
  · exact ix_bt1 (Or.inl h) (br_f (by decide) (iy_bt1 (Or.inl h) (br_f (by decide) (same _))))
  · exact ix_bt1 (Or.inr h) (br_f (by decide) (iy_bt1 (Or.inr h) (br_f (by decide) (same _))))
  refine ix_bt0 hj (br_t rfl ?_)
  refine ix_prepare hP h10 hR ?_
  intro f_ready f_completes f_sticks f_failing f_differs f_lookV f_lookX f_lookW f_lookY f_seen a_cell a_asleep a_toTry a_tried a_firstEnd a_low a_high C
  by_cases b : ((f_failing >>> (nI j &&& 31)) &&& 1) = 1
  · refine br_t b (iy_bt0 hj (br_t rfl ?_))
    refine iy_explore (lv := 0) (lw := 0) hP h10 (by omega) (by omega) ?_
    intro fx fl fc fs ff fz at1 re va ho tr cd lo hi lr A
    exact br_t (by rw [A.1.2.2.1, ← C.2.2.1]; exact b) (And.intro rfl (i_in hP h10 (fun _ => C)))
  · refine br_f b (iy_bt0 hj (br_t rfl ?_))
    refine iy_explore (lv := 0) (lw := 0) hP h10 (by omega) (by omega) ?_
    intro fx fl fc fs ff fz at1 re va ho tr cd lo hi lr A
    exact br_f (by rw [A.1.2.2.1, ← C.2.2.1]; exact b) (And.intro rfl (i_in hP h10 (fun _ => C)))
theorem i_vc_canEnd {k : Nat} {u : SX} {v : SY} (I : i_Rel k u v) (hk : k + 5 ≤ 2560) (v1 : Int32) (v2 : Int32) : wpX_canEnd (fun r u' => wpY_canEnd (fun r' v' => r' = r ∧ i_Rel (k + 5) u' v') v v1 v2) u v1 v2 := by
  refine i_el (P := fun u v => wpX_canEnd (fun r u' => wpY_canEnd (fun r' v' => r' = r ∧ i_Rel (k + 5) u' v') v v1 v2) u v1 v2) ?_ I
  intro f_ready f_completes f_sticks f_failing f_differs f_lookV f_lookX f_lookW f_lookY f_seen a_sizes a_op a_argA a_argB a_start a_cell a_asleep a_toTry a_tried a_firstEnd a_low a_high f_failing_y f_length_y f_completes_y f_sticks_y f_fails_y f_found_y a_at_y a_regs_y a_vars_y a_holders_y a_turns_y a_could_y a_low_y a_high_y a_lowRegs_y s hP h10 hR
  unfold wpX_canEnd wpY_canEnd wpY_canEndBoth
  have same : ∀ r : Int32, r = r ∧ i_Rel (k + 5) (f_ready, f_completes, f_sticks, f_failing, f_differs, f_lookV, f_lookX, f_lookW, f_lookY, f_seen, a_sizes, a_op, a_argA, a_argB, a_start, a_cell, a_asleep, a_toTry, a_tried, a_firstEnd, a_low, a_high) (f_failing_y, f_length_y, f_completes_y, f_sticks_y, f_fails_y, f_found_y, a_sizes, a_op, a_argA, a_argB, a_start, a_at_y, a_regs_y, a_vars_y, a_holders_y, a_turns_y, a_could_y, a_low_y, a_high_y, a_lowRegs_y) := fun r => ⟨rfl, i_in hP h10 hR⟩
  have bad : (v1 < 0 ∨ nI 4 ≤ v1) ∨ ∃ j, j < 4 ∧ v1 = nI j := by
    rcases pk_ix v1 (n := 4) (by omega) with h | h | h
    · exact Or.inl (Or.inl h)
    · exact Or.inl (Or.inr h)
    · exact Or.inr h
  rcases bad with h | ⟨j, hj, rfl⟩
  · exact ix_bv1 h (br_f (by decide) (iy_bv1 h (br_f (by decide) (And.intro rfl (same _)))))
  refine ix_bv0 hj (br_t rfl ?_)
  refine ix_explore hP h10 hj hj ?_
  intro fc1 fs1 ff1 fd1 fz1 ce1 as1 to1 tr1 fe1 lo1 hi1 B
  refine And.intro (by rw [B.2]; exact ie_bn _) ?_
  refine iy_bv0 hj (br_t rfl (iy_bv0 hj (br_t rfl ?_)))
  refine iy_explore hP h10 hj hj ?_
  intro fx fl fc fs ff fz at1 re va ho tr cd lo hi lr A
  have n1 : narrow .boolean (.int fz) = .int fz := by rw [A.2]; exact ie_bn _
  exact And.intro n1 (And.intro n1 (And.intro (A.2.trans B.2.symm) (i_in hP h10 (fun _ => B.1))))
theorem i_vc_canEndBoth {k : Nat} {u : SX} {v : SY} (I : i_Rel k u v) (hk : k + 5 ≤ 2560) (v1 : Int32) (v2 : Int32) (v3 : Int32) (v4 : Int32) : wpX_canEndBoth (fun r u' => wpY_canEndBoth (fun r' v' => r' = r ∧ i_Rel (k + 5) u' v') v v1 v2 v3 v4) u v1 v2 v3 v4 := by
  refine i_el (P := fun u v => wpX_canEndBoth (fun r u' => wpY_canEndBoth (fun r' v' => r' = r ∧ i_Rel (k + 5) u' v') v v1 v2 v3 v4) u v1 v2 v3 v4) ?_ I
  intro f_ready f_completes f_sticks f_failing f_differs f_lookV f_lookX f_lookW f_lookY f_seen a_sizes a_op a_argA a_argB a_start a_cell a_asleep a_toTry a_tried a_firstEnd a_low a_high f_failing_y f_length_y f_completes_y f_sticks_y f_fails_y f_found_y a_at_y a_regs_y a_vars_y a_holders_y a_turns_y a_could_y a_low_y a_high_y a_lowRegs_y s hP h10 hR
  unfold wpX_canEndBoth wpY_canEndBoth
  have same : ∀ r : Int32, r = r ∧ i_Rel (k + 5) (f_ready, f_completes, f_sticks, f_failing, f_differs, f_lookV, f_lookX, f_lookW, f_lookY, f_seen, a_sizes, a_op, a_argA, a_argB, a_start, a_cell, a_asleep, a_toTry, a_tried, a_firstEnd, a_low, a_high) (f_failing_y, f_length_y, f_completes_y, f_sticks_y, f_fails_y, f_found_y, a_sizes, a_op, a_argA, a_argB, a_start, a_at_y, a_regs_y, a_vars_y, a_holders_y, a_turns_y, a_could_y, a_low_y, a_high_y, a_lowRegs_y) := fun r => ⟨rfl, i_in hP h10 hR⟩
  have bad : ∀ v : Int32, (v < 0 ∨ nI 4 ≤ v) ∨ ∃ j, j < 4 ∧ v = nI j := by
    intro v
    rcases pk_ix v (n := 4) (by omega) with h | h | h
    · exact Or.inl (Or.inl h)
    · exact Or.inl (Or.inr h)
    · exact Or.inr h
  rcases bad v1 with h | ⟨j, hj, rfl⟩
  · exact ix_bv1 h (br_f (by decide) (iy_bv1 h (br_f (by decide) (same _))))
  refine ix_bv0 hj (br_t rfl ?_)
  rcases bad v3 with h | ⟨i, hi, rfl⟩
  · exact ix_bv1 h (br_f (by decide) (iy_bv0 hj (br_t rfl (iy_bv1 h (br_f (by decide) (same _))))))
  refine ix_bv0 hi (br_t rfl ?_)
  refine ix_explore hP h10 hj hi ?_
  intro fc1 fs1 ff1 fd1 fz1 ce1 as1 to1 tr1 fe1 lo1 hi1 B
  refine And.intro (by rw [B.2]; exact ie_bn _) ?_
  refine iy_bv0 hj (br_t rfl (iy_bv0 hi (br_t rfl ?_)))
  refine iy_explore hP h10 hj hi ?_
  intro fx fl fc fs ff fz at1 re va ho tr cd lo hi lr A
  exact And.intro (by rw [A.2]; exact ie_bn _) (And.intro (A.2.trans B.2.symm) (i_in hP h10 (fun _ => B.1)))
theorem i_vc_least {k : Nat} {u : SX} {v : SY} (I : i_Rel k u v) (hk : k + 5 ≤ 2560) (v1 : Int32) : wpX_least (fun r u' => wpY_least (fun r' v' => r' = r ∧ i_Rel (k + 5) u' v') v v1) u v1 := by
  refine i_el (P := fun u v => wpX_least (fun r u' => wpY_least (fun r' v' => r' = r ∧ i_Rel (k + 5) u' v') v v1) u v1) ?_ I
  intro f_ready f_completes f_sticks f_failing f_differs f_lookV f_lookX f_lookW f_lookY f_seen a_sizes a_op a_argA a_argB a_start a_cell a_asleep a_toTry a_tried a_firstEnd a_low a_high f_failing_y f_length_y f_completes_y f_sticks_y f_fails_y f_found_y a_at_y a_regs_y a_vars_y a_holders_y a_turns_y a_could_y a_low_y a_high_y a_lowRegs_y s hP h10 hR
  unfold wpX_least wpY_least
  have same : ∀ r : Int32, r = r ∧ i_Rel (k + 5) (f_ready, f_completes, f_sticks, f_failing, f_differs, f_lookV, f_lookX, f_lookW, f_lookY, f_seen, a_sizes, a_op, a_argA, a_argB, a_start, a_cell, a_asleep, a_toTry, a_tried, a_firstEnd, a_low, a_high) (f_failing_y, f_length_y, f_completes_y, f_sticks_y, f_fails_y, f_found_y, a_sizes, a_op, a_argA, a_argB, a_start, a_at_y, a_regs_y, a_vars_y, a_holders_y, a_turns_y, a_could_y, a_low_y, a_high_y, a_lowRegs_y) := fun r => ⟨rfl, i_in hP h10 hR⟩
  rcases pk_ix v1 (n := 4) (by omega) with h | h | ⟨j, hj, rfl⟩
  · exact ix_bv1 (Or.inl h) (br_f (by decide) (iy_bv1 (Or.inl h) (br_f (by decide) (same _))))
  · exact ix_bv1 (Or.inr h) (br_f (by decide) (iy_bv1 (Or.inr h) (br_f (by decide) (same _))))
  refine ix_bv0 hj (br_t rfl ?_)
  have ej : (nI j).toNatClampNeg = j := nI_clamp (by omega)
  refine ix_prepare hP h10 hR ?_
  intro f_ready f_completes f_sticks f_failing f_differs f_lookV f_lookX f_lookW f_lookY f_seen a_cell a_asleep a_toTry a_tried a_firstEnd a_low a_high C
  by_cases b : f_completes = 0
  · refine br_t b (iy_bv0 hj (br_t rfl ?_))
    refine iy_explore (lv := 0) (lw := 0) hP h10 (by omega) (by omega) ?_
    intro fx fl fc fs ff fz at1 re va ho tr cd lo hi lr A
    exact br_t (A.1.1.trans (C.1.symm.trans b)) (And.intro rfl (i_in hP h10 (fun _ => C)))
  · have ex : ∃ e, ie_E s (ie_RO s a_op a_argA a_argB (ie_c0 a_start)) e := Classical.byContradiction fun z => b (by rw [C.1, ie_b0 z])
    refine br_f b (And.intro (vp_in_nI (by omega) (by omega)) (iy_bv0 hj (br_t rfl ?_)))
    refine iy_explore (lv := 0) (lw := 0) hP h10 (by omega) (by omega) ?_
    intro fx fl fc fs ff fz at1 re va ho tr cd lo hi lr A
    refine br_f (fun z => b (C.1.trans (A.1.1.symm.trans z))) (And.intro (vp_in_nI hj (by omega)) (And.intro ?_ (i_in hP h10 (fun _ => C))))
    rw [ej]
    exact ie_mn_u ((A.1.2.2.2 ex).1 j hj) ((C.2.2.2.2 ex).2.1 j (by omega))
theorem i_vc_greatest {k : Nat} {u : SX} {v : SY} (I : i_Rel k u v) (hk : k + 5 ≤ 2560) (v1 : Int32) : wpX_greatest (fun r u' => wpY_greatest (fun r' v' => r' = r ∧ i_Rel (k + 5) u' v') v v1) u v1 := by
  refine i_el (P := fun u v => wpX_greatest (fun r u' => wpY_greatest (fun r' v' => r' = r ∧ i_Rel (k + 5) u' v') v v1) u v1) ?_ I
  intro f_ready f_completes f_sticks f_failing f_differs f_lookV f_lookX f_lookW f_lookY f_seen a_sizes a_op a_argA a_argB a_start a_cell a_asleep a_toTry a_tried a_firstEnd a_low a_high f_failing_y f_length_y f_completes_y f_sticks_y f_fails_y f_found_y a_at_y a_regs_y a_vars_y a_holders_y a_turns_y a_could_y a_low_y a_high_y a_lowRegs_y s hP h10 hR
  unfold wpX_greatest wpY_greatest
  have same : ∀ r : Int32, r = r ∧ i_Rel (k + 5) (f_ready, f_completes, f_sticks, f_failing, f_differs, f_lookV, f_lookX, f_lookW, f_lookY, f_seen, a_sizes, a_op, a_argA, a_argB, a_start, a_cell, a_asleep, a_toTry, a_tried, a_firstEnd, a_low, a_high) (f_failing_y, f_length_y, f_completes_y, f_sticks_y, f_fails_y, f_found_y, a_sizes, a_op, a_argA, a_argB, a_start, a_at_y, a_regs_y, a_vars_y, a_holders_y, a_turns_y, a_could_y, a_low_y, a_high_y, a_lowRegs_y) := fun r => ⟨rfl, i_in hP h10 hR⟩
  rcases pk_ix v1 (n := 4) (by omega) with h | h | ⟨j, hj, rfl⟩
  · exact ix_bv1 (Or.inl h) (br_f (by decide) (iy_bv1 (Or.inl h) (br_f (by decide) (same _))))
  · exact ix_bv1 (Or.inr h) (br_f (by decide) (iy_bv1 (Or.inr h) (br_f (by decide) (same _))))
  refine ix_bv0 hj (br_t rfl ?_)
  have ej : (nI j).toNatClampNeg = j := nI_clamp (by omega)
  refine ix_prepare hP h10 hR ?_
  intro f_ready f_completes f_sticks f_failing f_differs f_lookV f_lookX f_lookW f_lookY f_seen a_cell a_asleep a_toTry a_tried a_firstEnd a_low a_high C
  by_cases b : f_completes = 0
  · refine br_t b (iy_bv0 hj (br_t rfl ?_))
    refine iy_explore (lv := 0) (lw := 0) hP h10 (by omega) (by omega) ?_
    intro fx fl fc fs ff fz at1 re va ho tr cd lo hi lr A
    exact br_t (A.1.1.trans (C.1.symm.trans b)) (And.intro rfl (i_in hP h10 (fun _ => C)))
  · have ex : ∃ e, ie_E s (ie_RO s a_op a_argA a_argB (ie_c0 a_start)) e := Classical.byContradiction fun z => b (by rw [C.1, ie_b0 z])
    refine br_f b (And.intro (vp_in_nI (by omega) (by omega)) (iy_bv0 hj (br_t rfl ?_)))
    refine iy_explore (lv := 0) (lw := 0) hP h10 (by omega) (by omega) ?_
    intro fx fl fc fs ff fz at1 re va ho tr cd lo hi lr A
    refine br_f (fun z => b (C.1.trans (A.1.1.symm.trans z))) (And.intro (vp_in_nI hj (by omega)) (And.intro ?_ (i_in hP h10 (fun _ => C))))
    rw [ej]
    exact ie_mx_u ((A.1.2.2.2 ex).2.1 j hj) ((C.2.2.2.2 ex).2.2 j (by omega))
theorem i_vc_leastRegister {k : Nat} {u : SX} {v : SY} (I : i_Rel k u v) (hk : k + 5 ≤ 2560) (v1 : Int32) (v2 : Int32) : wpX_leastRegister (fun r u' => wpY_leastRegister (fun r' v' => r' = r ∧ i_Rel (k + 5) u' v') v v1 v2) u v1 v2 := by
  refine i_el (P := fun u v => wpX_leastRegister (fun r u' => wpY_leastRegister (fun r' v' => r' = r ∧ i_Rel (k + 5) u' v') v v1 v2) u v1 v2) ?_ I
  intro f_ready f_completes f_sticks f_failing f_differs f_lookV f_lookX f_lookW f_lookY f_seen a_sizes a_op a_argA a_argB a_start a_cell a_asleep a_toTry a_tried a_firstEnd a_low a_high f_failing_y f_length_y f_completes_y f_sticks_y f_fails_y f_found_y a_at_y a_regs_y a_vars_y a_holders_y a_turns_y a_could_y a_low_y a_high_y a_lowRegs_y s hP h10 hR
  unfold wpX_leastRegister wpY_leastRegister
  have same : ∀ r : Int32, r = r ∧ i_Rel (k + 5) (f_ready, f_completes, f_sticks, f_failing, f_differs, f_lookV, f_lookX, f_lookW, f_lookY, f_seen, a_sizes, a_op, a_argA, a_argB, a_start, a_cell, a_asleep, a_toTry, a_tried, a_firstEnd, a_low, a_high) (f_failing_y, f_length_y, f_completes_y, f_sticks_y, f_fails_y, f_found_y, a_sizes, a_op, a_argA, a_argB, a_start, a_at_y, a_regs_y, a_vars_y, a_holders_y, a_turns_y, a_could_y, a_low_y, a_high_y, a_lowRegs_y) := fun r => ⟨rfl, i_in hP h10 hR⟩
  rcases pk_ix v1 (n := 3) (by omega) with h | h | ⟨j, hj, rfl⟩
  · exact ix_bt1 (Or.inl h) (br_f (by decide) (iy_bt1 (Or.inl h) (br_f (by decide) (same _))))
  · exact ix_bt1 (Or.inr h) (br_f (by decide) (iy_bt1 (Or.inr h) (br_f (by decide) (same _))))
  refine ix_bt0 hj (br_t rfl ?_)
  obtain ⟨m, hm, em⟩ := pk_andE v2 (m := 1) 1 (by decide)
  have m2 : m < 2 := by omega
  have eX : (4 : Int32) + nI j * 2 + (v2 &&& 1) = nI (4 + (j * 2 + m)) := by
    rw [em]
    show nI 4 + nI j * nI 2 + nI m = _
    rw [pk_mul, nI_add, nI_add, Nat.add_assoc]
  have eY : nI j * 2 + (v2 &&& 1) = nI (j * 2 + m) := by
    rw [em]
    show nI j * nI 2 + nI m = _
    rw [pk_mul, nI_add]
  rw [eX, eY]
  refine ix_prepare hP h10 hR ?_
  intro f_ready f_completes f_sticks f_failing f_differs f_lookV f_lookX f_lookW f_lookY f_seen a_cell a_asleep a_toTry a_tried a_firstEnd a_low a_high C
  by_cases b : f_completes = 0
  · refine br_t b (iy_bt0 hj (br_t rfl ?_))
    refine iy_explore (lv := 0) (lw := 0) hP h10 (by omega) (by omega) ?_
    intro fx fl fc fs ff fz at1 re va ho tr cd lo hi lr A
    exact br_t (A.1.1.trans (C.1.symm.trans b)) (And.intro rfl (i_in hP h10 (fun _ => C)))
  · have ex : ∃ e, ie_E s (ie_RO s a_op a_argA a_argB (ie_c0 a_start)) e := Classical.byContradiction fun z => b (by rw [C.1, ie_b0 z])
    refine br_f b (And.intro (vp_in_nI (by omega) (by omega)) (iy_bt0 hj (br_t rfl ?_)))
    refine iy_explore (lv := 0) (lw := 0) hP h10 (by omega) (by omega) ?_
    intro fx fl fc fs ff fz at1 re va ho tr cd lo hi lr A
    refine br_f (fun z => b (C.1.trans (A.1.1.symm.trans z))) (And.intro (vp_in_nI (by omega) (by omega)) (And.intro ?_ (i_in hP h10 (fun _ => C))))
    rw [nI_clamp (n := j * 2 + m) (by omega), nI_clamp (n := 4 + (j * 2 + m)) (by omega)]
    exact ie_mn_u ((A.1.2.2.2 ex).2.2 (j * 2 + m) (by omega)) ((C.2.2.2.2 ex).2.1 (4 + (j * 2 + m)) (by omega))
theorem i_vc_settled {k : Nat} {u : SX} {v : SY} (I : i_Rel k u v) (hk : k + 5 ≤ 2560) : wpX_settled (fun r u' => wpY_settled (fun r' v' => r' = r ∧ i_Rel (k + 5) u' v') v) u := by
  refine i_el (P := fun u v => wpX_settled (fun r u' => wpY_settled (fun r' v' => r' = r ∧ i_Rel (k + 5) u' v') v) u) ?_ I
  intro f_ready f_completes f_sticks f_failing f_differs f_lookV f_lookX f_lookW f_lookY f_seen a_sizes a_op a_argA a_argB a_start a_cell a_asleep a_toTry a_tried a_firstEnd a_low a_high f_failing_y f_length_y f_completes_y f_sticks_y f_fails_y f_found_y a_at_y a_regs_y a_vars_y a_holders_y a_turns_y a_could_y a_low_y a_high_y a_lowRegs_y s hP h10 hR
  unfold wpX_settled
  refine ix_prepare hP h10 hR ?_
  intro f_ready f_completes f_sticks f_failing f_differs f_lookV f_lookX f_lookW f_lookY f_seen a_cell a_asleep a_toTry a_tried a_firstEnd a_low a_high C
  have Y : ∀ (Q : Int32 → SY → Prop), (∀ fx fl fc fs ff fz at1 re va ho tr cd lo hi lr, iy_A s (ie_RO s a_op a_argA a_argB (ie_c0 a_start)) 0 0 0 0 fc fs ff fz lo hi lr → ((fs = 0 → ((ff = 0 → (∃ n26 : Nat, wY_settled_26 Q fx fl fc fs ff fz a_sizes a_op a_argA a_argB a_start at1 re va ho tr cd lo hi lr n26 0)) ∧ (¬ ff = 0 → Q 0 (fx, fl, fc, fs, ff, fz, a_sizes, a_op, a_argA, a_argB, a_start, at1, re, va, ho, tr, cd, lo, hi, lr)))) ∧ (¬ fs = 0 → Q 0 (fx, fl, fc, fs, ff, fz, a_sizes, a_op, a_argA, a_argB, a_start, at1, re, va, ho, tr, cd, lo, hi, lr)))) →
      wpY_settled Q (f_failing_y, f_length_y, f_completes_y, f_sticks_y, f_fails_y, f_found_y, a_sizes, a_op, a_argA, a_argB, a_start, a_at_y, a_regs_y, a_vars_y, a_holders_y, a_turns_y, a_could_y, a_low_y, a_high_y, a_lowRegs_y) := by
    intro Q h
    unfold wpY_settled
    refine iy_explore (lv := 0) (lw := 0) hP h10 (by omega) (by omega) ?_
    intro fx fl fc fs ff fz at1 re va ho tr cd lo hi lr A
    exact h _ _ _ _ _ _ _ _ _ _ _ _ _ _ _ A
  have R : ∀ (r : Int32) fx fl fc fs ff fz at1 re va ho tr cd lo hi lr, r = r ∧ i_Rel (k + 5) (f_ready, f_completes, f_sticks, f_failing, f_differs, f_lookV, f_lookX, f_lookW, f_lookY, f_seen, a_sizes, a_op, a_argA, a_argB, a_start, a_cell, a_asleep, a_toTry, a_tried, a_firstEnd, a_low, a_high) (fx, fl, fc, fs, ff, fz, a_sizes, a_op, a_argA, a_argB, a_start, at1, re, va, ho, tr, cd, lo, hi, lr) := fun r fx fl fc fs ff fz at1 re va ho tr cd lo hi lr => ⟨rfl, i_in hP h10 (fun _ => C)⟩
  by_cases b1 : f_sticks = 0
  · by_cases b2 : f_failing = 0
    · have ex : ∃ e, ie_E s (ie_RO s a_op a_argA a_argB (ie_c0 a_start)) e := i_ends (ix_hs hP) (ie_bz.mp (C.2.1.symm.trans b1)) (ie_mk_0.mp (C.2.2.1.symm.trans b2))
      have b0 : ¬ f_completes = 0 := by rw [C.1, ie_b1 ex]; decide
      obtain ⟨c1, c2, c3⟩ := C.2.2.2.2 ex
      refine br_f b0 (br_t b1 (br_t b2 ?_))
      by_cases b3 : f_differs = 0
      · refine br_t b3 (Y _ ?_)
        intro fx fl fc fs ff fz at1 re va ho tr cd lo hi lr A
        obtain ⟨a1, a2, _⟩ := A.1.2.2.2 ex
        have D := i_differ c1 a1 a2
        refine br_t (A.1.2.1.trans (C.2.1.symm.trans b1)) (br_t (A.1.2.2.1.trans (C.2.2.1.symm.trans b2)) ⟨5, iy_26t ?_ (R _ _ _ _ _ _ _ _ _ _ _ _ _ _ _ _) 4 0 rfl⟩)
        intro i hi
        exact Classical.byContradiction fun z => ie_bz.mp (C.2.2.2.1.symm.trans b3) (D.mpr ⟨i, Nat.zero_le _, hi, z⟩)
      · refine br_f b3 (Y _ ?_)
        intro fx fl fc fs ff fz at1 re va ho tr cd lo hi lr A
        obtain ⟨a1, a2, _⟩ := A.1.2.2.2 ex
        have D := i_differ c1 a1 a2
        refine br_t (A.1.2.1.trans (C.2.1.symm.trans b1)) (br_t (A.1.2.2.1.trans (C.2.2.1.symm.trans b2)) ⟨5, iy_26f (R _ _ _ _ _ _ _ _ _ _ _ _ _ _ _ _) 4 0 rfl ?_⟩)
        exact D.mp (Classical.byContradiction fun z => b3 (C.2.2.2.1.trans (ie_b0 z)))
    · have Y0 : wpY_settled (fun r' v' => r' = 0 ∧ i_Rel (k + 5) (f_ready, f_completes, f_sticks, f_failing, f_differs, f_lookV, f_lookX, f_lookW, f_lookY, f_seen, a_sizes, a_op, a_argA, a_argB, a_start, a_cell, a_asleep, a_toTry, a_tried, a_firstEnd, a_low, a_high) v') (f_failing_y, f_length_y, f_completes_y, f_sticks_y, f_fails_y, f_found_y, a_sizes, a_op, a_argA, a_argB, a_start, a_at_y, a_regs_y, a_vars_y, a_holders_y, a_turns_y, a_could_y, a_low_y, a_high_y, a_lowRegs_y) := by
        refine Y _ ?_
        intro fx fl fc fs ff fz at1 re va ho tr cd lo hi lr A
        exact br_t (A.1.2.1.trans (C.2.1.symm.trans b1)) (br_f (fun z => b2 (C.2.2.1.trans (A.1.2.2.1.symm.trans z))) (R _ _ _ _ _ _ _ _ _ _ _ _ _ _ _ _))
      exact br_c (fun _ => Y0) (fun _ => br_t b1 (br_f b2 Y0))
  · have Y0 : wpY_settled (fun r' v' => r' = 0 ∧ i_Rel (k + 5) (f_ready, f_completes, f_sticks, f_failing, f_differs, f_lookV, f_lookX, f_lookW, f_lookY, f_seen, a_sizes, a_op, a_argA, a_argB, a_start, a_cell, a_asleep, a_toTry, a_tried, a_firstEnd, a_low, a_high) v') (f_failing_y, f_length_y, f_completes_y, f_sticks_y, f_fails_y, f_found_y, a_sizes, a_op, a_argA, a_argB, a_start, a_at_y, a_regs_y, a_vars_y, a_holders_y, a_turns_y, a_could_y, a_low_y, a_high_y, a_lowRegs_y) := by
      refine Y _ ?_
      intro fx fl fc fs ff fz at1 re va ho tr cd lo hi lr A
      exact br_f (fun z => b1 (C.2.1.trans (A.1.2.1.symm.trans z))) (R _ _ _ _ _ _ _ _ _ _ _ _ _ _ _ _)
    exact br_c (fun _ => Y0) (fun _ => br_f b1 Y0)
end
