section
/-! rows of kit/rows, pasted (starting texts) -/
theorem pk_us {f : Nat → Int32} {k : Nat} {x : Int32} : upd f k x k = x := if_pos rfl
theorem pk_un {f : Nat → Int32} {k j : Nat} {x : Int32} (h : j ≠ k) : upd f k x j = f j := if_neg h
theorem pk_sub {a b : Nat} (h : b ≤ a) : nI a - nI b = nI (a - b) := by
  obtain ⟨c, rfl⟩ : ∃ c, a = c + b := ⟨a - b, by omega⟩
  rw [← nI_add, Int32.add_sub_cancel, Nat.add_sub_cancel]
theorem pk_m1 (n : Nat) : nI (n + 1) + (-1) = nI n := by
  rw [← nI_1, Int32.add_assoc, show (1 : Int32) + (-1) = 0 from rfl, Int32.add_zero]
theorem pk_mul (a b : Nat) : nI a * nI b = nI (a * b) := (Int32.ofNat_mul a b).symm
theorem pk_sub_toInt {a b : Nat} (ha : a < 2 ^ 30) (hb : b < 2 ^ 30) : (nI a - nI b).toInt = (a : Int) - b := by
  rw [Int32.toInt_sub, nI_toInt (by omega), nI_toInt (by omega)]
  exact Int.bmod_eq_of_le (by omega) (by omega)
theorem pk_sneg {a b : Nat} (hb : b < 2 ^ 30) (h : a < b) : nI a - nI b < 0 := by
  rw [Int32.lt_iff_toInt_lt, pk_sub_toInt (by omega) hb, show (0 : Int32).toInt = 0 from by decide]
  omega
theorem pk_ix (x : Int32) {n : Nat} (hn : n < 2 ^ 31) : x < 0 ∨ nI n ≤ x ∨ ∃ j : Nat, j < n ∧ x = nI j := by
  by_cases h : x < 0
  · exact Or.inl h
  · obtain ⟨j, hj, rfl⟩ := nI_of h
    by_cases h2 : j < n
    · exact Or.inr (Or.inr ⟨j, h2, rfl⟩)
    · exact Or.inr (Or.inl (nI_le (by omega) hj))
theorem pk_le {x y : Int32} {A B : Prop} (a b : Nat) (f : a ≤ b → A) (g : b < a → B) (hx : x = nI a := by rfl) (hy : y = nI b := by rfl) (ha : a < 2 ^ 31 := by omega) (hb : b < 2 ^ 31 := by omega) : (x ≤ y → A) ∧ (¬ x ≤ y → B) := by
  subst hx hy
  rw [nI_leI ha hb]
  exact ⟨f, fun z => g (by omega)⟩
theorem pk_lt {x y : Int32} {A B : Prop} (a b : Nat) (f : a < b → A) (g : b ≤ a → B) (hx : x = nI a := by rfl) (hy : y = nI b := by rfl) (ha : a < 2 ^ 31 := by omega) (hb : b < 2 ^ 31 := by omega) : (x < y → A) ∧ (¬ x < y → B) := by
  subst hx hy
  rw [nI_ltI ha hb]
  exact ⟨f, fun z => g (by omega)⟩
theorem pk_eq {x y : Int32} {A B : Prop} (a b : Nat) (f : a = b → A) (g : a ≠ b → B) (hx : x = nI a := by rfl) (hy : y = nI b := by rfl) (ha : a < 2 ^ 31 := by omega) (hb : b < 2 ^ 31 := by omega) : (x = y → A) ∧ (¬ x = y → B) := by
  subst hx hy
  rw [nI_eq ha hb]
  exact ⟨f, g⟩
theorem pk_in {x : Int32} (n N : Nat) (h : n < N) (hx : x = nI n := by rfl) (hN : N < 2 ^ 31 := by omega) : vp_in x N := by
  subst hx
  exact vp_in_nI h hN
theorem pk_cl {x : Int32} (n : Nat) (hx : x = nI n := by rfl) (h : n < 2 ^ 31 := by omega) : x.toNatClampNeg = n := by
  subst hx
  exact nI_clamp h
theorem pk_tn {n : Nat} (h : n < 2 ^ 32) : (nI n).toBitVec.toNat = n := Nat.mod_eq_of_lt h
theorem pk_and (x : Int32) {m : Int32} (k : Nat) (hm : m.toBitVec.toNat = 2 ^ k - 1) : x &&& m = nI (x.toBitVec.toNat % 2 ^ k) := by
  apply Int32.toBitVec_inj.mp
  apply BitVec.eq_of_toNat_eq
  rw [Int32.toBitVec_and, BitVec.toNat_and, hm, Nat.and_two_pow_sub_one_eq_mod]
  show _ = (BitVec.ofNat 32 _).toNat
  rw [BitVec.toNat_ofNat]
  exact (Nat.mod_eq_of_lt (Nat.lt_of_le_of_lt (Nat.mod_le _ _) x.toBitVec.isLt)).symm
theorem pk_andN {n : Nat} (h : n < 2 ^ 32) {m : Int32} (k : Nat) (hm : m.toBitVec.toNat = 2 ^ k - 1) : nI n &&& m = nI (n % 2 ^ k) := by
  rw [pk_and _ k hm, pk_tn h]
theorem pk_shr (a s : Int32) (k : Nat) (hs : (s.toBitVec.smod 32).toNat = k) : (a >>> s).toInt = a.toInt >>> k := by
  show (a.toBitVec.sshiftRight (s.toBitVec.smod 32).toNat).toInt = _
  rw [hs, BitVec.toInt_sshiftRight]
  rfl
theorem pk_shrN {n : Nat} (h : n < 2 ^ 31) (s : Int32) (k : Nat) (hs : (s.toBitVec.smod 32).toNat = k) : nI n >>> s = nI (n / 2 ^ k) := by
  apply Int32.toInt_inj.mp
  have h2 : n / 2 ^ k ≤ n := Nat.div_le_self _ _
  rw [pk_shr _ _ k hs, nI_toInt h, nI_toInt (by omega), Int.shiftRight_eq_div_pow]
  rfl
def bt (x : Int32) (i : Nat) : Bool := x.toBitVec.getLsbD i
theorem b_ext {x y : Int32} (h : ∀ i, i < 32 → bt x i = bt y i) : x = y := Int32.toBitVec_inj.mp (BitVec.eq_of_getLsbD_eq (fun i hi => h i hi))
theorem b_or (x y : Int32) (i : Nat) : bt (x ||| y) i = (bt x i || bt y i) := by unfold bt; rw [Int32.toBitVec_or, BitVec.getLsbD_or]
theorem b_and (x y : Int32) (i : Nat) : bt (x &&& y) i = (bt x i && bt y i) := by unfold bt; rw [Int32.toBitVec_and, BitVec.getLsbD_and]
theorem b_xor (x y : Int32) (i : Nat) : bt (x ^^^ y) i = (bt x i ^^ bt y i) := by unfold bt; rw [Int32.toBitVec_xor, BitVec.getLsbD_xor]
theorem b_big {x : Int32} {i : Nat} (h : 32 ≤ i) : bt x i = false := BitVec.getLsbD_of_ge _ _ h
theorem b_m1 : ∀ i, i < 32 → bt (-1) i = true := by decide +kernel
theorem b_0 (i : Nat) : bt 0 i = false := BitVec.getLsbD_zero
theorem s_l : ∀ n, n < 32 → ((nI n &&& 31).toBitVec.smod 32).toNat = n := by decide +kernel
theorem b_shl (n : Nat) (hn : n < 32) (x : Int32) {i : Nat} (hi : i < 32) : bt (x <<< (nI n &&& 31)) i = (decide (n ≤ i) && bt x (i - n)) := by
  unfold bt
  rw [Int32.toBitVec_shiftLeft]
  show (x.toBitVec <<< ((nI n &&& 31).toBitVec.smod 32).toNat).getLsbD i = _
  rw [s_l n hn, BitVec.getLsbD_shiftLeft]
  rcases Nat.lt_or_ge i n with h | h
  · simp [h, Nat.not_le.mpr h]
  · simp [hi, h, Nat.not_lt.mpr h]
end
section
/-! the tokens as terms: T i is the first place of the term that ends ahead of i -/
def tr_p (k : Int32) : Nat := if k = 0 then 0 else if k = 1 then 0 else if k = 2 then 1 else if k = 6 then 1 else if k = 5 then 3 else 2
theorem tr_p3 (k : Int32) : tr_p k ≤ 3 := by
  unfold tr_p
  repeat' split
  all_goals decide
theorem tr_wpX {post : Int32 → Prop} {u : SX} {k : Int32} (h : post (nI (tr_p k))) : wpX_partsOf post u k := by
  unfold tr_p at h
  refine br_c (fun e => ?_) (fun e => br_c (fun e1 => ?_) (fun e1 => br_c (fun e2 => ?_) (fun e2 => br_c (fun e3 => ?_) (fun e3 => br_c (fun e4 => ?_) (fun e4 => ?_)))))
  · rw [if_pos e] at h; exact h
  · rw [if_neg e, if_pos e1] at h; exact h
  · rw [if_neg e, if_neg e1, if_pos e2] at h; exact h
  · rw [if_neg e, if_neg e1, if_neg e2, if_pos e3] at h; exact h
  · rw [if_neg e, if_neg e1, if_neg e2, if_neg e3, if_pos e4] at h; exact h
  · rw [if_neg e, if_neg e1, if_neg e2, if_neg e3, if_neg e4] at h; exact h
theorem tr_wpY {post : Int32 → Prop} {u : SY} {k : Int32} (h : post (nI (tr_p k))) : wpY_parts post u k := by
  unfold tr_p at h
  refine br_c (fun e => ?_) (fun e => br_c (fun e1 => ?_) (fun e1 => br_c (fun e2 => ?_) (fun e2 => br_c (fun e3 => ?_) (fun e3 => br_c (fun e4 => ?_) (fun e4 => ?_)))))
  · rw [if_pos e] at h; exact h
  · rw [if_neg e, if_pos e1] at h; exact h
  · rw [if_neg e, if_neg e1, if_pos e2] at h; exact h
  · rw [if_neg e, if_neg e1, if_neg e2, if_pos e3] at h; exact h
  · rw [if_neg e, if_neg e1, if_neg e2, if_neg e3, if_pos e4] at h; exact h
  · rw [if_neg e, if_neg e1, if_neg e2, if_neg e3, if_neg e4] at h; exact h
theorem tr_p0 : tr_p 0 = 0 := by decide
theorem tr_p1 : tr_p 1 = 0 := by decide
theorem tr_p2 : tr_p 2 = 1 := by decide
theorem tr_p3' : tr_p 3 = 2 := by decide
theorem tr_p4 : tr_p 4 = 2 := by decide
theorem tr_p5 : tr_p 5 = 3 := by decide
theorem tr_p6 : tr_p 6 = 1 := by decide
theorem tr_p7 : tr_p 7 = 2 := by decide
/-- T once, twice .. from i -/
def tr_it (T : Nat → Nat) : Nat → Nat → Nat
  | 0, i => i
  | j + 1, i => tr_it T j (T i)
theorem tr_it0 {T : Nat → Nat} {i : Nat} : tr_it T 0 i = i := rfl
theorem tr_itS {T : Nat → Nat} {j i : Nat} : tr_it T (j + 1) i = tr_it T j (T i) := rfl
theorem tr_it_add {T : Nat → Nat} : ∀ (a b i : Nat), tr_it T (a + b) i = tr_it T b (tr_it T a i) := by
  intro a
  induction a with
  | zero => intro b i; rw [Nat.zero_add]; rfl
  | succ a ih => intro b i; rw [show a + 1 + b = (a + b) + 1 from by omega, tr_itS, tr_itS, ih]
def tr_LC (kd : Nat → Int32) (T : Nat → Nat) (t : Nat) : Prop := (∀ j, j < tr_p (kd t) → 1 ≤ tr_it T j t) ∧ T (t + 1) = tr_it T (tr_p (kd t)) t
def tr_OK (kd : Nat → Int32) (T : Nat → Nat) (n : Nat) : Prop := T 0 = 0 ∧ ∀ t, t < n → tr_LC kd T t
theorem tr_lt {kd : Nat → Int32} {T : Nat → Nat} {n : Nat} (h : tr_OK kd T n) : ∀ i, i ≤ n → 1 ≤ i → T i < i := by
  intro i
  induction i using Nat.strongRecOn with
  | ind i ih =>
    intro hi h1
    obtain ⟨t, rfl⟩ : ∃ t, i = t + 1 := ⟨i - 1, by omega⟩
    obtain ⟨a, b⟩ := h.2 t (by omega)
    have key : ∀ p, (∀ j, j < p → 1 ≤ tr_it T j t) → ∀ j, j ≤ p → tr_it T j t + j ≤ t := by
      intro p hp j
      induction j with
      | zero => intro _; exact Nat.le_refl _
      | succ j ihj =>
        intro hj
        have q1 := ihj (by omega)
        have q2 := hp j (by omega)
        have q3 := ih (tr_it T j t) (by omega) (by omega) q2
        have q4 : tr_it T (j + 1) t = T (tr_it T j t) := by rw [tr_it_add j 1 t]; rfl
        omega
    have := key _ a _ (Nat.le_refl _)
    omega
theorem tr_itle {kd : Nat → Int32} {T : Nat → Nat} {n : Nat} (h : tr_OK kd T n) {i : Nat} (hi : i ≤ n) : ∀ j, (∀ l, l < j → 1 ≤ tr_it T l i) → tr_it T j i + j ≤ i := by
  intro j
  induction j with
  | zero => intro _; exact Nat.le_refl _
  | succ j ih =>
    intro hl
    have q1 := ih (fun l hl' => hl l (by omega))
    have q2 := hl j (by omega)
    have q3 := tr_lt h (tr_it T j i) (by omega) q2
    have q4 : tr_it T (j + 1) i = T (tr_it T j i) := by rw [tr_it_add j 1 i]; rfl
    omega
/-- two starts that agree below n agree in all their iterates from below n -/
theorem tr_itc {kd : Nat → Int32} {T T' : Nat → Nat} {n : Nat} (h : tr_OK kd T n) (e : ∀ i, i ≤ n → T' i = T i) : ∀ j i, i ≤ n → tr_it T' j i = tr_it T j i ∧ tr_it T j i ≤ n := by
  intro j
  induction j with
  | zero => intro i hi; exact ⟨rfl, hi⟩
  | succ j ih =>
    intro i hi
    have h2 : T i ≤ n := by
      rcases Nat.eq_zero_or_pos i with rfl | hp
      · rw [h.1]; exact Nat.zero_le _
      · have := tr_lt h i hi hp; omega
    rw [tr_itS, tr_itS, e i hi]
    exact ih (T i) h2
/-- the height by the reference's sum -/
def tr_hs (kd : Nat → Int32) : Nat → Int32
  | 0 => 0
  | n + 1 => tr_hs kd n + (1 - nI (tr_p (kd n)))
theorem tr_hsc {kd kd' : Nat → Int32} : ∀ n, (∀ i, i < n → kd' i = kd i) → tr_hs kd' n = tr_hs kd n := by
  intro n
  induction n with
  | zero => intro _; rfl
  | succ n ih => intro h; unfold tr_hs; rw [ih (fun i hi => h i (by omega)), h n (by omega)]
/-- the component's stack of finished terms -/
def tr_ST (T : Nat → Nat) (n h : Nat) (st : Nat → Int32) : Prop := (∀ j, j < h → 1 ≤ tr_it T j n ∧ st (h - 1 - j) = nI (tr_it T j n - 1)) ∧ tr_it T h n = 0
/-- the component's parts -/
def tr_PC (kd pa pb pc : Nat → Int32) (T : Nat → Nat) (t : Nat) : Prop :=
  (1 ≤ tr_p (kd t) → pa t = nI (tr_it T (tr_p (kd t) - 1) t - 1)) ∧ (2 ≤ tr_p (kd t) → pb t = nI (tr_it T (tr_p (kd t) - 2) t - 1)) ∧ (3 ≤ tr_p (kd t) → pc t = nI (tr_it T (tr_p (kd t) - 3) t - 1))
/-- kinds, and names of the named kinds -/
def tr_KD (kd ag : Nat → Int32) (t : Nat) : Prop := (∃ j, j < 8 ∧ kd t = nI j) ∧ (kd t = 1 ∨ kd t = 2 ∨ kd t = 7 → ∃ j, j < 8 ∧ ag t = nI j)
/-- the component's free names -/
def tr_FC (kd ag fr : Nat → Int32) (T : Nat → Nat) (t : Nat) : Prop :=
  (kd t = 0 → fr t = 0) ∧ (kd t = 1 → fr t = (1 : Int32) <<< (ag t &&& 31)) ∧
  (kd t = 2 → fr t = fr (t - 1) &&& (((1 : Int32) <<< (ag t &&& 31)) ^^^ (-1))) ∧
  (kd t = 3 ∨ kd t = 4 → fr t = fr (T t - 1) ||| fr (t - 1)) ∧
  (kd t = 5 → fr t = (fr (T (T t) - 1) ||| fr (T t - 1)) ||| fr (t - 1)) ∧
  (kd t = 6 → fr t = fr (t - 1)) ∧
  (kd t = 7 → fr t = fr (T t - 1) ||| (fr (t - 1) &&& (((1 : Int32) <<< (ag t &&& 31)) ^^^ (-1))))
/-- all of a program of n tokens, h terms high -/
def tr_G (kd ag pa pb pc fr st : Nat → Int32) (T : Nat → Nat) (n h : Nat) : Prop :=
  tr_OK kd T n ∧ (∀ t, t < n → tr_KD kd ag t ∧ tr_PC kd pa pb pc T t ∧ tr_FC kd ag fr T t) ∧ tr_ST T n h st
theorem tr_h_le {kd ag pa pb pc fr st : Nat → Int32} {T : Nat → Nat} {n h : Nat} (g : tr_G kd ag pa pb pc fr st T n h) : h ≤ n := by
  have := tr_itle g.1 (Nat.le_refl n) h (fun l hl => (g.2.2.1 l hl).1)
  omega
theorem tr_h0 {kd ag pa pb pc fr st : Nat → Int32} {T : Nat → Nat} {n h : Nat} (g : tr_G kd ag pa pb pc fr st T n h) (e : h = 0) : n = 0 := by
  subst e; exact g.2.2.2
theorem tr_top {kd ag pa pb pc fr st : Nat → Int32} {T : Nat → Nat} {n h : Nat} (g : tr_G kd ag pa pb pc fr st T n h) (e : 1 ≤ h) : 1 ≤ n ∧ st (h - 1) = nI (n - 1) := g.2.2.1 0 (by omega)
/-- the empty program -/
theorem tr_G0 (kd ag pa pb pc fr st : Nat → Int32) (T : Nat → Nat) (e : T 0 = 0) : tr_G kd ag pa pb pc fr st T 0 0 :=
  ⟨⟨e, fun _ h => absurd h (by omega)⟩, fun _ h => absurd h (by omega), fun _ h => absurd h (by omega), rfl⟩
end
section
/-! a token more, a token less -/
theorem tr_leT {kd : Nat → Int32} {T : Nat → Nat} {n : Nat} (h : tr_OK kd T n) {i : Nat} (hi : i ≤ n) : T i ≤ i := by
  rcases Nat.eq_zero_or_pos i with rfl | hp
  · rw [h.1]; exact Nat.le_refl _
  · have := tr_lt h i hi hp; omega
def tr_T (T : Nat → Nat) (n p : Nat) : Nat → Nat := fun i => if i = n + 1 then tr_it T p n else T i
theorem tr_Tlo {T : Nat → Nat} {n p i : Nat} (h : i ≤ n) : tr_T T n p i = T i := if_neg (by omega)
theorem tr_Tn {T : Nat → Nat} {n p : Nat} : tr_T T n p (n + 1) = tr_it T p n := if_pos rfl
section
variable {kd ag pa pb pc fr st kd' ag' pa' pb' pc' fr' st' : Nat → Int32} {T : Nat → Nat} {n h : Nat}
theorem tr_FCc {T' : Nat → Nat} {t : Nat} (h : tr_FC kd ag fr T t) (e1 : kd' t = kd t) (e2 : ag' t = ag t) (e3 : fr' t = fr t) (e4 : fr' (t - 1) = fr (t - 1)) (e5 : T' t = T t) (e6 : T' (T t) = T (T t)) (e7 : fr' (T t - 1) = fr (T t - 1)) (e8 : fr' (T (T t) - 1) = fr (T (T t) - 1)) : tr_FC kd' ag' fr' T' t := by
  unfold tr_FC
  rw [e1, e2, e3, e4, e5, e6, e7, e8]
  exact h
theorem tr_put (g : tr_G kd ag pa pb pc fr st T n h) (ekd : ∀ i, i < n → kd' i = kd i) (eag : ∀ i, i < n → ag' i = ag i) (epa : ∀ i, i < n → pa' i = pa i) (epb : ∀ i, i < n → pb' i = pb i) (epc : ∀ i, i < n → pc' i = pc i) (efr : ∀ i, i < n → fr' i = fr i)
    (hk : tr_KD kd' ag' n) (hp : tr_p (kd' n) ≤ h) (hA : 1 ≤ tr_p (kd' n) → pa' n = st (h - tr_p (kd' n))) (hB : 2 ≤ tr_p (kd' n) → pb' n = st (h - tr_p (kd' n) + 1)) (hC : 3 ≤ tr_p (kd' n) → pc' n = st (h - tr_p (kd' n) + 2))
    (hF : tr_FC kd' ag' fr' T n) (hs : ∀ i, i < h - tr_p (kd' n) → st' i = st i) (ht : st' (h - tr_p (kd' n)) = nI n) :
    tr_G kd' ag' pa' pb' pc' fr' st' (tr_T T n (tr_p (kd' n))) (n + 1) (h - tr_p (kd' n) + 1) := by
  generalize hpe : tr_p (kd' n) = p at hp hA hB hC hs ht
  have eT : ∀ i, i ≤ n → tr_T T n p i = T i := fun i hi => tr_Tlo hi
  have eI := tr_itc g.1 eT
  have g3 := g.2.2
  refine ⟨⟨?_, ?_⟩, ?_, ?_, ?_⟩
  · rw [tr_Tlo (Nat.zero_le _)]; exact g.1.1
  · intro t ht'
    rcases Nat.lt_or_ge t n with h1 | h1
    · obtain ⟨a, b⟩ := g.1.2 t h1
      unfold tr_LC
      rw [ekd t h1, tr_Tlo (i := t + 1) (by omega), (eI _ t (by omega)).1]
      exact ⟨fun j hj => by rw [(eI j t (by omega)).1]; exact a j hj, b⟩
    · obtain rfl : t = n := by omega
      unfold tr_LC
      rw [hpe, tr_Tn, (eI p t (Nat.le_refl _)).1]
      exact ⟨fun j hj => by rw [(eI j t (Nat.le_refl _)).1]; exact (g3.1 j (by omega)).1, rfl⟩
  · intro t ht'
    rcases Nat.lt_or_ge t n with h1 | h1
    · obtain ⟨a, b, c⟩ := g.2.1 t h1
      refine ⟨?_, ?_, ?_⟩
      · unfold tr_KD; rw [ekd t h1, eag t h1]; exact a
      · unfold tr_PC; rw [ekd t h1, epa t h1, epb t h1, epc t h1, (eI _ t (by omega)).1, (eI _ t (by omega)).1, (eI _ t (by omega)).1]; exact b
      · have q1 := tr_leT g.1 (i := t) (by omega)
        have q2 := tr_leT g.1 (i := T t) (by omega)
        exact tr_FCc c (ekd t h1) (eag t h1) (efr t h1) (efr _ (by omega)) (eT _ (by omega)) (eT _ (by omega)) (efr _ (by omega)) (efr _ (by omega))
    · obtain rfl : t = n := by omega
      refine ⟨hk, ?_, ?_⟩
      · unfold tr_PC
        rw [hpe, (eI _ t (Nat.le_refl _)).1, (eI _ t (Nat.le_refl _)).1, (eI _ t (Nat.le_refl _)).1]
        refine ⟨fun q => ?_, fun q => ?_, fun q => ?_⟩
        · rw [hA q, ← (g3.1 (p - 1) (by omega)).2]; exact congrArg st (by omega)
        · rw [hB q, ← (g3.1 (p - 2) (by omega)).2]; exact congrArg st (by omega)
        · rw [hC q, ← (g3.1 (p - 3) (by omega)).2]; exact congrArg st (by omega)
      · have q1 := tr_leT g.1 (i := t) (by omega)
        exact tr_FCc hF rfl rfl rfl rfl (eT _ (by omega)) (eT _ (by omega)) rfl rfl
  · intro j hj
    cases j with
    | zero => exact ⟨by rw [tr_it0]; omega, by rw [tr_it0, show h - p + 1 - 1 - 0 = h - p from by omega, ht]; exact congrArg nI (by omega)⟩
    | succ j =>
      have e : tr_it (tr_T T n p) (j + 1) (n + 1) = tr_it T (p + j) n := by
        rw [tr_itS, tr_Tn, (eI j _ (eI p n (Nat.le_refl _)).2).1, ← tr_it_add]
      have q := g3.1 (p + j) (by omega)
      rw [e, hs _ (by omega)]
      refine ⟨q.1, ?_⟩
      rw [← q.2]
      exact congrArg st (by omega)
  · rw [tr_itS, tr_Tn, (eI _ _ (eI p n (Nat.le_refl _)).2).1, ← tr_it_add, show p + (h - p) = h from by omega]
    exact g3.2
theorem tr_undo (g : tr_G kd ag pa pb pc fr st T (n + 1) h) (hs : ∀ i, i < h - 1 → st' i = st i) (hA : 1 ≤ tr_p (kd n) → st' (h - 1) = pa n) (hB : 2 ≤ tr_p (kd n) → st' (h - 1 + 1) = pb n) (hC : 3 ≤ tr_p (kd n) → st' (h - 1 + 2) = pc n) :
    tr_G kd ag pa pb pc fr st' T n (h - 1 + tr_p (kd n)) := by
  obtain ⟨l1, l2⟩ := g.1.2 n (by omega)
  obtain ⟨_, pA, pB, pC⟩ := g.2.1 n (by omega) |>.imp_right And.left
  have p3 := tr_p3 (kd n)
  generalize tr_p (kd n) = p at *
  have h1 : 1 ≤ h := by
    rcases Nat.eq_zero_or_pos h with e | e
    · exact absurd (tr_h0 g e) (by omega)
    · exact e
  have g3 := g.2.2
  have sh : ∀ j, p ≤ j → tr_it T j n = tr_it T (j - p + 1) (n + 1) := by
    intro j hj
    rw [tr_itS, l2, ← tr_it_add, show p + (j - p) = j from by omega]
  refine ⟨⟨g.1.1, fun t ht => g.1.2 t (by omega)⟩, fun t ht => g.2.1 t (by omega), ?_, ?_⟩
  · intro j hj
    rcases Nat.lt_or_ge j p with h2 | h2
    · refine ⟨l1 j h2, ?_⟩
      have hj3 : j = p - 1 ∨ j = p - 2 ∨ j = p - 3 := by omega
      by_cases e1 : j = p - 1
      · subst e1
        rw [show h - 1 + p - 1 - (p - 1) = h - 1 from by omega, hA (by omega), pA (by omega)]
      · by_cases e2 : j = p - 2
        · subst e2
          rw [show h - 1 + p - 1 - (p - 2) = h - 1 + 1 from by omega, hB (by omega), pB (by omega)]
        · obtain rfl : j = p - 3 := by omega
          rw [show h - 1 + p - 1 - (p - 3) = h - 1 + 2 from by omega, hC (by omega), pC (by omega)]
    · have q := g3.1 (j - p + 1) (by omega)
      rw [sh j h2, hs _ (by omega)]
      refine ⟨q.1, ?_⟩
      rw [← q.2]
      exact congrArg st (by omega)
  · rw [sh _ (by omega), show h - 1 + p - p + 1 = h from by omega]
    exact g3.2
/-- only numbers' arguments change -/
theorem tr_patch (g : tr_G kd ag pa pb pc fr st T n h) {a : Nat} {v : Int32} (hk : kd a = 0) : tr_G kd (upd ag a v) pa pb pc fr st T n h := by
  refine ⟨g.1, fun t ht => ?_, g.2.2⟩
  obtain ⟨x, y, z⟩ := g.2.1 t ht
  by_cases e : t = a
  · subst e
    refine ⟨⟨x.1, fun q => ?_⟩, y, ?_⟩
    · rw [hk] at q; exact absurd q (by decide)
    · unfold tr_FC at z ⊢
      rw [hk] at z ⊢
      exact ⟨z.1, fun q => absurd q (by decide), fun q => absurd q (by decide), z.2.2.2.1, z.2.2.2.2.1, z.2.2.2.2.2.1, fun q => absurd q (by decide)⟩
  · exact ⟨by unfold tr_KD; rw [pk_un e]; exact x, y, by unfold tr_FC; rw [pk_un e]; exact z⟩
end
end
section
/-! names: what a term's parts may use -/
theorem tr_bit : ∀ j, j < 8 → ∀ y, y < 32 → bt ((1 : Int32) <<< (nI j &&& 31)) y = decide (y = j) := by decide +kernel
theorem tr_andn {a : Int32} {j y : Nat} (hj : j < 8) (hy : y < 32) : bt (a &&& (((1 : Int32) <<< (nI j &&& 31)) ^^^ (-1))) y = (bt a y && decide (y ≠ j)) := by
  rw [b_and, b_xor, tr_bit j hj y hy, b_m1 y hy]
  by_cases e : y = j
  · simp [e]
  · simp [e]
section
variable {kd ag pa pb pc fr st : Nat → Int32} {T : Nat → Nat} {n h t : Nat}
theorem tr_var (g : tr_G kd ag pa pb pc fr st T n h) (ht : t < n) (hk : kd t = 1) : ∃ j, j < 8 ∧ ag t = nI j ∧ bt (fr t) j = true := by
  obtain ⟨a, b, c⟩ := g.2.1 t ht
  obtain ⟨j, hj, e⟩ := a.2 (Or.inl hk)
  refine ⟨j, hj, e, ?_⟩
  rw [c.2.1 hk, e, tr_bit j hj j (by omega)]
  exact decide_eq_true rfl
theorem tr_lam (g : tr_G kd ag pa pb pc fr st T n h) (ht : t < n) (hk : kd t = 2) : 1 ≤ t ∧ pa t = nI (t - 1) ∧ ∃ j, j < 8 ∧ ag t = nI j ∧ ∀ y, y < 8 → bt (fr (t - 1)) y = true → y = j ∨ bt (fr t) y = true := by
  obtain ⟨a, b, c⟩ := g.2.1 t ht
  obtain ⟨j, hj, e⟩ := a.2 (Or.inr (Or.inl hk))
  have l := g.1.2 t ht
  unfold tr_LC at l
  unfold tr_PC at b
  rw [hk, tr_p2] at l b
  refine ⟨l.1 0 (by omega), b.1 (by omega), j, hj, e, fun y hy q => ?_⟩
  rw [c.2.2.1 hk, e, tr_andn hj (by omega), q]
  by_cases e2 : y = j
  · exact Or.inl e2
  · right; simp [e2]
theorem tr_two (g : tr_G kd ag pa pb pc fr st T n h) (ht : t < n) (hk : kd t = 3 ∨ kd t = 4) : 1 ≤ t ∧ 1 ≤ T t ∧ T t ≤ t ∧ pa t = nI (T t - 1) ∧ pb t = nI (t - 1) ∧ (∀ y, bt (fr (T t - 1)) y = true → bt (fr t) y = true) ∧ (∀ y, bt (fr (t - 1)) y = true → bt (fr t) y = true) := by
  obtain ⟨a, b, c⟩ := g.2.1 t ht
  have l := g.1.2 t ht
  have p2 : tr_p (kd t) = 2 := by rcases hk with e | e <;> rw [e] <;> decide
  unfold tr_LC at l
  unfold tr_PC at b
  rw [p2] at l b
  refine ⟨l.1 0 (by omega), l.1 1 (by omega), tr_leT g.1 (by omega), b.1 (by omega), b.2.1 (by omega), fun y q => ?_, fun y q => ?_⟩
  · rw [c.2.2.2.1 hk, b_or, q]; rfl
  · rw [c.2.2.2.1 hk, b_or, q]; exact Bool.or_true _
theorem tr_ifz (g : tr_G kd ag pa pb pc fr st T n h) (ht : t < n) (hk : kd t = 5) : 1 ≤ t ∧ 1 ≤ T t ∧ 1 ≤ T (T t) ∧ T t ≤ t ∧ T (T t) ≤ t ∧ pa t = nI (T (T t) - 1) ∧ pb t = nI (T t - 1) ∧ pc t = nI (t - 1) ∧ (∀ y, bt (fr (T (T t) - 1)) y = true → bt (fr t) y = true) ∧ (∀ y, bt (fr (T t - 1)) y = true → bt (fr t) y = true) ∧ (∀ y, bt (fr (t - 1)) y = true → bt (fr t) y = true) := by
  obtain ⟨a, b, c⟩ := g.2.1 t ht
  have l := g.1.2 t ht
  unfold tr_LC at l
  unfold tr_PC at b
  rw [hk, tr_p5] at l b
  have q1 := tr_leT g.1 (i := t) (by omega)
  have q2 := tr_leT g.1 (i := T t) (by omega)
  refine ⟨l.1 0 (by omega), l.1 1 (by omega), l.1 2 (by omega), q1, by omega, b.1 (by omega), b.2.1 (by omega), b.2.2 (by omega), fun y q => ?_, fun y q => ?_, fun y q => ?_⟩
  · rw [c.2.2.2.2.1 hk, b_or, b_or, q]; rfl
  · rw [c.2.2.2.2.1 hk, b_or, b_or, q, Bool.or_true]; rfl
  · rw [c.2.2.2.2.1 hk, b_or, q]; exact Bool.or_true _
theorem tr_prt (g : tr_G kd ag pa pb pc fr st T n h) (ht : t < n) (hk : kd t = 6) : 1 ≤ t ∧ pa t = nI (t - 1) ∧ (∀ y, bt (fr (t - 1)) y = true → bt (fr t) y = true) := by
  obtain ⟨a, b, c⟩ := g.2.1 t ht
  have l := g.1.2 t ht
  unfold tr_LC at l
  unfold tr_PC at b
  rw [hk, tr_p6] at l b
  refine ⟨l.1 0 (by omega), b.1 (by omega), fun y q => ?_⟩
  rw [c.2.2.2.2.2.1 hk, q]
theorem tr_let (g : tr_G kd ag pa pb pc fr st T n h) (ht : t < n) (hk : kd t = 7) : 1 ≤ t ∧ 1 ≤ T t ∧ T t ≤ t ∧ pa t = nI (T t - 1) ∧ pb t = nI (t - 1) ∧ (∀ y, bt (fr (T t - 1)) y = true → bt (fr t) y = true) ∧ ∃ j, j < 8 ∧ ag t = nI j ∧ ∀ y, y < 8 → bt (fr (t - 1)) y = true → y = j ∨ bt (fr t) y = true := by
  obtain ⟨a, b, c⟩ := g.2.1 t ht
  obtain ⟨j, hj, e⟩ := a.2 (Or.inr (Or.inr hk))
  have l := g.1.2 t ht
  unfold tr_LC at l
  unfold tr_PC at b
  rw [hk, tr_p7] at l b
  refine ⟨l.1 0 (by omega), l.1 1 (by omega), tr_leT g.1 (by omega), b.1 (by omega), b.2.1 (by omega), fun y q => ?_, j, hj, e, fun y hy q => ?_⟩
  · rw [c.2.2.2.2.2.2 hk, b_or, q]; rfl
  · rw [c.2.2.2.2.2.2 hk, b_or, e, tr_andn hj (by omega), q]
    by_cases e2 : y = j
    · exact Or.inl e2
    · right; simp [e2]
theorem tr_kind (g : tr_G kd ag pa pb pc fr st T n h) (ht : t < n) : kd t = 0 ∨ kd t = 1 ∨ kd t = 2 ∨ kd t = 3 ∨ kd t = 4 ∨ kd t = 5 ∨ kd t = 6 ∨ kd t = 7 := by
  obtain ⟨j, hj, e⟩ := (g.2.1 t ht).1.1
  rw [e]
  clear e
  revert j
  decide +kernel
end
end
section
/-! the evaluator, over the reference's own table -/
abbrev gS : Type := Nat × (Nat → Int32) × (Nat → Int32) × (Nat → Int32) × (Nat → Int32) × (Nat → Int32) × (Nat → Int32) × (Nat → Int32) × (Nat → Int32)
def gs_n (s : gS) : Nat := s.1
def gs_tm (s : gS) : Nat → Int32 := s.2.1
def gs_dn (s : gS) : Nat → Int32 := s.2.2.1
def gs_fn (s : gS) : Nat → Int32 := s.2.2.2.1
def gs_nm (s : gS) : Nat → Int32 := s.2.2.2.2.1
def gs_hm (s : gS) : Nat → Int32 := s.2.2.2.2.2.1
def gs_bd (s : gS) : Nat → Int32 := s.2.2.2.2.2.2.1
def gs_pk (s : gS) : Nat → Int32 := s.2.2.2.2.2.2.2.1
def gs_pr (s : gS) : Nat → Int32 := s.2.2.2.2.2.2.2.2
/-- kinds, args, free, T, by name, budget, tokens, print cap, slot -/
abbrev gP : Type := (Nat → Int32) × (Nat → Int32) × (Nat → Int32) × (Nat → Nat) × Bool × Nat × Nat × Nat × Nat
def p_kd (P : gP) : Nat → Int32 := P.1
def p_ag (P : gP) : Nat → Int32 := P.2.1
def p_fr (P : gP) : Nat → Int32 := P.2.2.1
def p_T (P : gP) : Nat → Nat := P.2.2.2.1
def p_bn (P : gP) : Bool := P.2.2.2.2.1
def p_bu (P : gP) : Nat := P.2.2.2.2.2.1
def p_cn (P : gP) : Nat := P.2.2.2.2.2.2.1
def p_pc (P : gP) : Nat := P.2.2.2.2.2.2.2.1
def p_rc (P : gP) : Nat := P.2.2.2.2.2.2.2.2
def gs_t (s : gS) (r : Nat) : Nat := (gs_tm s r).toNatClampNeg
/-- the binding rows with row n new: as row e, but x is b -/
def gs_bb (bd : Nat → Int32) (n e : Nat) (x b : Int32) : Nat → Int32 := fun j => if n * 8 ≤ j ∧ j < n * 8 + 8 then (if nI (j - n * 8) = x then b else bd (e * 8 + (j - n * 8))) else bd j
theorem gs_bb_lo {bd : Nat → Int32} {n e j : Nat} {x b : Int32} (h : j < n * 8) : gs_bb bd n e x b j = bd j := if_neg (by omega)
theorem gs_bb_in {bd : Nat → Int32} {n e y : Nat} {x b : Int32} (h : y < 8) : gs_bb bd n e x b (n * 8 + y) = if nI y = x then b else bd (e * 8 + y) := by
  unfold gs_bb
  rw [if_pos (by omega), show n * 8 + y - n * 8 = y from by omega]
def gs_begin (s : gS) (t e : Nat) (x b : Int32) : gS := (gs_n s + 1, upd (gs_tm s) (gs_n s) (nI t), upd (gs_dn s) (gs_n s) 0, gs_fn s, gs_nm s, gs_hm s, gs_bb (gs_bd s) (gs_n s) e x b, gs_pk s, gs_pr s)
def gs_give (s : gS) (r : Nat) (f v h : Int32) : gS := (gs_n s, gs_tm s, upd (gs_dn s) r 1, upd (gs_fn s) r f, upd (gs_nm s) r v, upd (gs_hm s) r h, gs_bd s, gs_pk s, gs_pr s)
def gs_same (s : gS) (r q : Nat) : gS := gs_give s r (gs_fn s q) (gs_nm s q) (gs_hm s q)
def gs_prt (rc : Nat) (s : gS) (v : Int32) : gS := (gs_n s, gs_tm s, gs_dn s, gs_fn s, gs_nm s, gs_hm s, gs_bd s, upd (gs_pk s) rc (gs_pk s rc + 1), upd (gs_pr s) (32 * rc + (gs_pk s rc).toNatClampNeg) v)
abbrev gR : Type := Option (Int32 × Int32) × gS
def gs_bind (m : gR) (k : gS → gR) : gR := match m.1 with
  | none => k m.2
  | some e => (some e, m.2)
theorem gs_bind_el {m : gR} {k : gS → gR} {o : Option (Int32 × Int32)} {s' : gS} (h : gs_bind m k = (o, s')) : ∃ o1 s1, m = (o1, s1) ∧ ((∃ e, o1 = some e ∧ o = some e ∧ s' = s1) ∨ (o1 = none ∧ k s1 = (o, s'))) := by
  obtain ⟨o1, s1⟩ := m
  refine ⟨o1, s1, rfl, ?_⟩
  cases o1 with
  | none => exact Or.inr ⟨rfl, h⟩
  | some e =>
    have h2 : ((some e, s1) : gR) = (o, s') := h
    injection h2 with h3 h4
    exact Or.inl ⟨e, rfl, h3.symm, h4.symm⟩
def gs_susp (P : gP) (s : gS) (q : Nat) : Nat := if p_kd P (gs_t s q) = 3 then gs_t s q - 1 else p_T P (gs_t s q) - 1
def gs_stuck (t : Nat) (s : gS) : gR := (some (3, nI t), s)
def gs_body (P : gP) (G : Nat → Nat → Int32 → Int32 → gS → gR) (r t : Nat) (s : gS) : gR :=
  if p_kd P t = 0 then (none, gs_give s r 0 (p_ag P t) 0)
  else if p_kd P t = 2 then (none, gs_give s r 1 (nI t) (nI r))
  else if p_kd P t = 1 then
    (if p_bn P = true then gs_bind (G (gs_susp P s (gs_bd s (r * 8 + (p_ag P t).toNatClampNeg)).toNatClampNeg) (gs_bd s (r * 8 + (p_ag P t).toNatClampNeg)).toNatClampNeg (-1) 0 s) (fun s2 => (none, gs_same s2 r (r + 1)))
     else (none, gs_same s r (gs_bd s (r * 8 + (p_ag P t).toNatClampNeg)).toNatClampNeg))
  else if p_kd P t = 3 then gs_bind (G (p_T P t - 1) r (-1) 0 s) (fun s2 =>
    if gs_fn s2 (r + 1) = 0 then gs_stuck t s2
    else if p_bn P = true then gs_bind (G ((gs_nm s2 (r + 1)).toNatClampNeg - 1) (gs_hm s2 (r + 1)).toNatClampNeg (p_ag P (gs_nm s2 (r + 1)).toNatClampNeg) (nI r) s2) (fun s3 => (none, gs_same s3 r (gs_n s2)))
    else gs_bind (G (t - 1) r (-1) 0 s2) (fun s3 => gs_bind (G ((gs_nm s3 (r + 1)).toNatClampNeg - 1) (gs_hm s3 (r + 1)).toNatClampNeg (p_ag P (gs_nm s3 (r + 1)).toNatClampNeg) (nI (gs_n s2)) s3) (fun s4 => (none, gs_same s4 r (gs_n s3)))))
  else if p_kd P t = 4 then gs_bind (G (p_T P t - 1) r (-1) 0 s) (fun s2 =>
    if gs_fn s2 (r + 1) = 0 then gs_bind (G (t - 1) r (-1) 0 s2) (fun s3 => if gs_fn s3 (gs_n s2) = 0 then (none, gs_give s3 r 0 (gs_nm s3 (r + 1) + gs_nm s3 (gs_n s2)) 0) else gs_stuck t s3)
    else gs_stuck t s2)
  else if p_kd P t = 5 then gs_bind (G (p_T P (p_T P t) - 1) r (-1) 0 s) (fun s2 =>
    if gs_fn s2 (r + 1) = 0 then gs_bind (G (if gs_nm s2 (r + 1) = 0 then p_T P t - 1 else t - 1) r (-1) 0 s2) (fun s3 => (none, gs_same s3 r (gs_n s2)))
    else gs_stuck t s2)
  else if p_kd P t = 6 then gs_bind (G (t - 1) r (-1) 0 s) (fun s2 =>
    if gs_fn s2 (r + 1) = 0 then (if gs_pk s2 (p_rc P) < nI (p_pc P) then (none, gs_same (gs_prt (p_rc P) s2 (gs_nm s2 (r + 1))) r (r + 1)) else (some (5, 0), s2))
    else gs_stuck t s2)
  else if p_bn P = true then gs_bind (G (t - 1) r (p_ag P t) (nI r) s) (fun s2 => (none, gs_same s2 r (r + 1)))
  else gs_bind (G (p_T P t - 1) r (-1) 0 s) (fun s2 => gs_bind (G (t - 1) r (p_ag P t) (nI (r + 1)) s2) (fun s3 => (none, gs_same s3 r (gs_n s2))))
def gs_go (P : gP) : Nat → Nat → Nat → Int32 → Int32 → gS → gR
  | 0 => fun _ _ _ _ s => (some (4, 0), s)
  | f + 1 => fun t e x b s => if p_bu P ≤ gs_n s then (some (4, 0), s) else gs_body P (gs_go P f) (gs_n s) t (gs_begin s t e x b)
theorem gs_go0 {P : gP} {t e : Nat} {x b : Int32} {s : gS} : gs_go P 0 t e x b s = (some (4, 0), s) := rfl
theorem gs_goS {P : gP} {f t e : Nat} {x b : Int32} {s : gS} : gs_go P (f + 1) t e x b s = if p_bu P ≤ gs_n s then (some (4, 0), s) else gs_body P (gs_go P f) (gs_n s) t (gs_begin s t e x b) := rfl
section
variable {P : gP} {G : Nat → Nat → Int32 → Int32 → gS → gR} {r t : Nat} {s : gS}
theorem gs_b0 (h : p_kd P t = 0) : gs_body P G r t s = (none, gs_give s r 0 (p_ag P t) 0) := by unfold gs_body; rw [if_pos h]
theorem gs_b2 (h : p_kd P t = 2) : gs_body P G r t s = (none, gs_give s r 1 (nI t) (nI r)) := by
  unfold gs_body
  rw [h, if_neg (by decide), if_pos rfl]
theorem gs_b1 (h : p_kd P t = 1) : gs_body P G r t s = (if p_bn P = true then gs_bind (G (gs_susp P s (gs_bd s (r * 8 + (p_ag P t).toNatClampNeg)).toNatClampNeg) (gs_bd s (r * 8 + (p_ag P t).toNatClampNeg)).toNatClampNeg (-1) 0 s) (fun s2 => (none, gs_same s2 r (r + 1))) else (none, gs_same s r (gs_bd s (r * 8 + (p_ag P t).toNatClampNeg)).toNatClampNeg)) := by
  unfold gs_body
  rw [h, if_neg (by decide), if_neg (by decide), if_pos rfl]
theorem gs_b3 (h : p_kd P t = 3) : gs_body P G r t s = gs_bind (G (p_T P t - 1) r (-1) 0 s) (fun s2 =>
    if gs_fn s2 (r + 1) = 0 then gs_stuck t s2
    else if p_bn P = true then gs_bind (G ((gs_nm s2 (r + 1)).toNatClampNeg - 1) (gs_hm s2 (r + 1)).toNatClampNeg (p_ag P (gs_nm s2 (r + 1)).toNatClampNeg) (nI r) s2) (fun s3 => (none, gs_same s3 r (gs_n s2)))
    else gs_bind (G (t - 1) r (-1) 0 s2) (fun s3 => gs_bind (G ((gs_nm s3 (r + 1)).toNatClampNeg - 1) (gs_hm s3 (r + 1)).toNatClampNeg (p_ag P (gs_nm s3 (r + 1)).toNatClampNeg) (nI (gs_n s2)) s3) (fun s4 => (none, gs_same s4 r (gs_n s3))))) := by
  unfold gs_body
  rw [h, if_neg (by decide), if_neg (by decide), if_neg (by decide), if_pos rfl]
theorem gs_b4 (h : p_kd P t = 4) : gs_body P G r t s = gs_bind (G (p_T P t - 1) r (-1) 0 s) (fun s2 =>
    if gs_fn s2 (r + 1) = 0 then gs_bind (G (t - 1) r (-1) 0 s2) (fun s3 => if gs_fn s3 (gs_n s2) = 0 then (none, gs_give s3 r 0 (gs_nm s3 (r + 1) + gs_nm s3 (gs_n s2)) 0) else gs_stuck t s3)
    else gs_stuck t s2) := by
  unfold gs_body
  rw [h, if_neg (by decide), if_neg (by decide), if_neg (by decide), if_neg (by decide), if_pos rfl]
theorem gs_b5 (h : p_kd P t = 5) : gs_body P G r t s = gs_bind (G (p_T P (p_T P t) - 1) r (-1) 0 s) (fun s2 =>
    if gs_fn s2 (r + 1) = 0 then gs_bind (G (if gs_nm s2 (r + 1) = 0 then p_T P t - 1 else t - 1) r (-1) 0 s2) (fun s3 => (none, gs_same s3 r (gs_n s2)))
    else gs_stuck t s2) := by
  unfold gs_body
  rw [h, if_neg (by decide), if_neg (by decide), if_neg (by decide), if_neg (by decide), if_neg (by decide), if_pos rfl]
theorem gs_b6 (h : p_kd P t = 6) : gs_body P G r t s = gs_bind (G (t - 1) r (-1) 0 s) (fun s2 =>
    if gs_fn s2 (r + 1) = 0 then (if gs_pk s2 (p_rc P) < nI (p_pc P) then (none, gs_same (gs_prt (p_rc P) s2 (gs_nm s2 (r + 1))) r (r + 1)) else (some (5, 0), s2))
    else gs_stuck t s2) := by
  unfold gs_body
  rw [h, if_neg (by decide), if_neg (by decide), if_neg (by decide), if_neg (by decide), if_neg (by decide), if_neg (by decide), if_pos rfl]
theorem gs_b7 (h : p_kd P t = 7) : gs_body P G r t s = if p_bn P = true then gs_bind (G (t - 1) r (p_ag P t) (nI r) s) (fun s2 => (none, gs_same s2 r (r + 1)))
  else gs_bind (G (p_T P t - 1) r (-1) 0 s) (fun s2 => gs_bind (G (t - 1) r (p_ag P t) (nI (r + 1)) s2) (fun s3 => (none, gs_same s3 r (gs_n s2)))) := by
  unfold gs_body
  rw [h, if_neg (by decide), if_neg (by decide), if_neg (by decide), if_neg (by decide), if_neg (by decide), if_neg (by decide), if_neg (by decide)]
end
end
section
/-! what the table keeps -/
def gs_good (P : gP) (s : gS) (q : Nat) : Prop := q < gs_n s ∧ (p_bn P = true → p_kd P (gs_t s q) = 3 ∨ p_kd P (gs_t s q) = 7) ∧ (p_bn P = false → gs_dn s q = 1)
def gs_cl (P : gP) (s : gS) (v h : Int32) : Prop := ∃ hh, hh < gs_n s ∧ h = nI hh ∧ v = nI (gs_t s hh) ∧ p_kd P (gs_t s hh) = 2
def gs_vok (P : gP) (s : gS) (r : Nat) : Prop := (gs_fn s r = 0 ∨ gs_fn s r = 1) ∧ (gs_fn s r ≠ 0 → gs_cl P s (gs_nm s r) (gs_hm s r))
def gs_WF (P : gP) (s : gS) : Prop := gs_n s ≤ p_bu P ∧ (∀ r, r < gs_n s → gs_t s r < p_cn P ∧ gs_tm s r = nI (gs_t s r)) ∧ (∀ r, r < gs_n s → gs_dn s r = 1 → gs_vok P s r) ∧ (∀ r, r < gs_n s → ∀ y, y < 8 → bt (p_fr P (gs_t s r)) y = true → ∃ q, gs_bd s (r * 8 + y) = nI q ∧ gs_good P s q)
def gs_PK (P : gP) (s : gS) : Prop := ∃ c, c ≤ p_pc P ∧ gs_pk s (p_rc P) = nI c
def gs_FR (P : gP) (s s' : gS) : Prop := gs_n s ≤ gs_n s' ∧ (∀ i, i < gs_n s → gs_tm s' i = gs_tm s i ∧ gs_dn s' i = gs_dn s i ∧ gs_fn s' i = gs_fn s i ∧ gs_nm s' i = gs_nm s i ∧ gs_hm s' i = gs_hm s i) ∧ (∀ i, i < gs_n s * 8 → gs_bd s' i = gs_bd s i) ∧ (∀ i, i ≠ p_rc P → gs_pk s' i = gs_pk s i)
def gs_GR (s s' : gS) : Prop := gs_n s ≤ gs_n s' ∧ (∀ i, i < gs_n s → gs_tm s' i = gs_tm s i) ∧ (∀ i, i < gs_n s * 8 → gs_bd s' i = gs_bd s i) ∧ (∀ i, i < gs_n s → gs_dn s i = 1 → gs_dn s' i = 1 ∧ gs_fn s' i = gs_fn s i ∧ gs_nm s' i = gs_nm s i ∧ gs_hm s' i = gs_hm s i)
def gs_EN (P : gP) (s : gS) (t e : Nat) (x b : Int32) : Prop := t < p_cn P ∧ ∀ y, y < 8 → bt (p_fr P t) y = true → ∃ q, (if nI y = x then b else gs_bd s (e * 8 + y)) = nI q ∧ gs_good P s q
def gs_PG (P : gP) : Prop := p_cn P ≤ 32 ∧ p_bu P ≤ 240 ∧ p_pc P ≤ 32 ∧ p_rc P < 4 ∧ ∃ pa pb pc st h, tr_G (p_kd P) (p_ag P) pa pb pc (p_fr P) st (p_T P) (p_cn P) h
def gs_A0 (P : gP) (s s' : gS) : Prop := gs_FR P s s' ∧ gs_PK P s' ∧ gs_WF P s' ∧ ∀ i, gs_n s ≤ i → i < gs_n s' → gs_dn s' i = 1
def gs_CL (P : gP) (s : gS) (o : Option (Int32 × Int32)) (s' : gS) : Prop := gs_FR P s s' ∧ gs_PK P s' ∧ (o = none → gs_A0 P s s' ∧ gs_n s < gs_n s')
def gs_BP (P : gP) (s : gS) (r t : Nat) : Prop := gs_WF P s ∧ gs_PK P s ∧ gs_n s = r + 1 ∧ gs_t s r = t ∧ gs_dn s r = 0
section
variable {P : gP} {s s1 s2 s3 s' : gS}
theorem gs_FRr : gs_FR P s s := ⟨Nat.le_refl _, fun _ _ => ⟨rfl, rfl, rfl, rfl, rfl⟩, fun _ _ => rfl, fun _ _ => rfl⟩
theorem gs_FRt (a : gs_FR P s s1) (b : gs_FR P s1 s2) : gs_FR P s s2 := by
  refine ⟨Nat.le_trans a.1 b.1, fun i hi => ?_, fun i hi => ?_, fun i hi => ?_⟩
  · have x := a.2.1 i hi
    have y := b.2.1 i (Nat.lt_of_lt_of_le hi a.1)
    exact ⟨y.1.trans x.1, y.2.1.trans x.2.1, y.2.2.1.trans x.2.2.1, y.2.2.2.1.trans x.2.2.2.1, y.2.2.2.2.trans x.2.2.2.2⟩
  · have := a.1
    exact (b.2.2.1 i (by omega)).trans (a.2.2.1 i hi)
  · exact (b.2.2.2 i hi).trans (a.2.2.2 i hi)
theorem gs_GRr : gs_GR s s := ⟨Nat.le_refl _, fun _ _ => rfl, fun _ _ => rfl, fun _ _ h => ⟨h, rfl, rfl, rfl⟩⟩
theorem gs_GRt (a : gs_GR s s1) (b : gs_GR s1 s2) : gs_GR s s2 := by
  refine ⟨Nat.le_trans a.1 b.1, fun i hi => (b.2.1 i (Nat.lt_of_lt_of_le hi a.1)).trans (a.2.1 i hi), fun i hi => ?_, fun i hi h => ?_⟩
  · have := a.1
    exact (b.2.2.1 i (by omega)).trans (a.2.2.1 i hi)
  · have x := a.2.2.2 i hi h
    have y := b.2.2.2 i (Nat.lt_of_lt_of_le hi a.1) x.1
    exact ⟨y.1, y.2.1.trans x.2.1, y.2.2.1.trans x.2.2.1, y.2.2.2.trans x.2.2.2⟩
theorem gs_FRG (a : gs_FR P s s') : gs_GR s s' := ⟨a.1, fun i hi => (a.2.1 i hi).1, a.2.2.1, fun i hi h => ⟨(a.2.1 i hi).2.1.trans h, (a.2.1 i hi).2.2⟩⟩
theorem gs_GRtt (a : gs_GR s s') {i : Nat} (hi : i < gs_n s) : gs_t s' i = gs_t s i := by unfold gs_t; rw [a.2.1 i hi]
theorem gs_goodm {q : Nat} (a : gs_GR s s') (h : gs_good P s q) : gs_good P s' q := by
  refine ⟨Nat.lt_of_lt_of_le h.1 a.1, fun e => ?_, fun e => (a.2.2.2 q h.1 (h.2.2 e)).1⟩
  rw [gs_GRtt a h.1]; exact h.2.1 e
theorem gs_clm {v h : Int32} (a : gs_GR s s') (c : gs_cl P s v h) : gs_cl P s' v h := by
  obtain ⟨hh, h1, h2, h3, h4⟩ := c
  exact ⟨hh, Nat.lt_of_lt_of_le h1 a.1, h2, by rw [gs_GRtt a h1]; exact h3, by rw [gs_GRtt a h1]; exact h4⟩
theorem gs_vokm {r : Nat} (a : gs_GR s s') (hr : r < gs_n s) (hd : gs_dn s r = 1) (h : gs_vok P s r) : gs_vok P s' r := by
  obtain ⟨d1, d2, d3, d4⟩ := a.2.2.2 r hr hd
  unfold gs_vok
  rw [d2, d3, d4]
  exact ⟨h.1, fun e => gs_clm a (h.2 e)⟩
theorem gs_A0r (w : gs_WF P s) (k : gs_PK P s) : gs_A0 P s s := ⟨gs_FRr, k, w, fun i a b => absurd b (by omega)⟩
theorem gs_A0t (a : gs_A0 P s s1) (b : gs_A0 P s1 s2) : gs_A0 P s s2 := by
  refine ⟨gs_FRt a.1 b.1, b.2.1, b.2.2.1, fun i h1 h2 => ?_⟩
  rcases Nat.lt_or_ge i (gs_n s1) with h | h
  · rw [(b.1.2.1 i h).2.1]; exact a.2.2.2 i h1 h
  · exact b.2.2.2 i h h2
/-! beginning a row -/
theorem gs_beginFR {t e : Nat} {x b : Int32} : gs_FR P s (gs_begin s t e x b) :=
  ⟨Nat.le_succ _, fun i hi => ⟨pk_un (by omega), pk_un (by omega), rfl, rfl, rfl⟩, fun i hi => gs_bb_lo hi, fun _ _ => rfl⟩
theorem gs_begint {t e : Nat} {x b : Int32} (ht : t < 2 ^ 31) : gs_t (gs_begin s t e x b) (gs_n s) = t := by
  show (upd (gs_tm s) (gs_n s) (nI t) (gs_n s)).toNatClampNeg = t
  rw [pk_us, nI_clamp ht]
theorem gs_beginBP {t e : Nat} {x b : Int32} (g : gs_PG P) (w : gs_WF P s) (k : gs_PK P s) (en : gs_EN P s t e x b) (hb : gs_n s < p_bu P) : gs_BP P (gs_begin s t e x b) (gs_n s) t := by
  have F : gs_FR P s (gs_begin s t e x b) := gs_beginFR
  have G := gs_FRG F
  have ht : t < 2 ^ 31 := by have := en.1; have := g.1; omega
  have et := gs_begint (s := s) (e := e) (x := x) (b := b) ht
  have nn : gs_n (gs_begin s t e x b) = gs_n s + 1 := rfl
  refine ⟨⟨by omega, fun r hr => ?_, fun r hr hd => ?_, fun r hr y hy hf => ?_⟩, k, nn, et, pk_us⟩
  · rcases Nat.lt_or_ge r (gs_n s) with h | h
    · rw [gs_GRtt G h, G.2.1 r h]; exact w.2.1 r h
    · obtain rfl : r = gs_n s := by omega
      rw [et]; exact ⟨en.1, pk_us⟩
  · rcases Nat.lt_or_ge r (gs_n s) with h | h
    · have hd' : gs_dn s r = 1 := by rw [← (F.2.1 r h).2.1]; exact hd
      exact gs_vokm G h hd' (w.2.2.1 r h hd')
    · obtain rfl : r = gs_n s := by omega
      have : gs_dn (gs_begin s t e x b) (gs_n s) = 0 := pk_us
      rw [this] at hd
      exact absurd hd (by decide)
  · rcases Nat.lt_or_ge r (gs_n s) with h | h
    · rw [gs_GRtt G h] at hf
      obtain ⟨q, h1, h2⟩ := w.2.2.2 r h y hy hf
      exact ⟨q, by rw [G.2.2.1 _ (by omega)]; exact h1, gs_goodm G h2⟩
    · obtain rfl : r = gs_n s := by omega
      rw [et] at hf
      obtain ⟨q, h1, h2⟩ := en.2 y hy hf
      refine ⟨q, ?_, gs_goodm G h2⟩
      show gs_bb (gs_bd s) (gs_n s) e x b (gs_n s * 8 + y) = nI q
      rw [gs_bb_in hy]; exact h1
/-! a row gives -/
theorem gs_giveGR {r : Nat} {f v h : Int32} (hd : gs_dn s r ≠ 1) : gs_GR s (gs_give s r f v h) := by
  refine ⟨Nat.le_refl _, fun _ _ => rfl, fun _ _ => rfl, fun i hi h1 => ?_⟩
  have ne : i ≠ r := fun e => hd (e ▸ h1)
  exact ⟨(pk_un ne).trans h1, pk_un ne, pk_un ne, pk_un ne⟩
theorem gs_giveWF {r : Nat} {f v h : Int32} (w : gs_WF P s) (hd : gs_dn s r ≠ 1) (h1 : f = 0 ∨ f = 1) (h2 : f ≠ 0 → gs_cl P s v h) : gs_WF P (gs_give s r f v h) := by
  have G : gs_GR s (gs_give s r f v h) := gs_giveGR hd
  refine ⟨w.1, w.2.1, fun i hi hdi => ?_, fun i hi y hy hf => ?_⟩
  · by_cases e : i = r
    · subst e
      have e1 : gs_fn (gs_give s i f v h) i = f := pk_us
      have e2 : gs_nm (gs_give s i f v h) i = v := pk_us
      have e3 : gs_hm (gs_give s i f v h) i = h := pk_us
      unfold gs_vok
      rw [e1, e2, e3]
      exact ⟨h1, fun q => gs_clm G (h2 q)⟩
    · have hd' : gs_dn s i = 1 := by rw [← hdi]; exact (pk_un e).symm
      exact gs_vokm G hi hd' (w.2.2.1 i hi hd')
  · obtain ⟨q, a, b⟩ := w.2.2.2 i hi y hy hf
    exact ⟨q, a, gs_goodm G b⟩
/-- the end of an evaluation: s0 with row r begun is s1; all of its parts done, s2; it gives -/
theorem gs_fin {s0 : gS} {r : Nat} {f v h : Int32} (F : gs_FR P s0 s1) (n0 : gs_n s0 = r) (n1 : gs_n s1 = r + 1) (d1 : gs_dn s1 r = 0) (A : gs_A0 P s1 s2) (h1 : f = 0 ∨ f = 1) (h2 : f ≠ 0 → gs_cl P s2 v h) : gs_CL P s0 none (gs_give s2 r f v h) := by
  have dr : gs_dn s2 r = 0 := by rw [(A.1.2.1 r (by omega)).2.1]; exact d1
  have dr1 : gs_dn s2 r ≠ 1 := by rw [dr]; decide
  have le := A.1.1
  have F2 : gs_FR P s0 s2 := gs_FRt F A.1
  have FG : gs_FR P s0 (gs_give s2 r f v h) := by
    refine ⟨F2.1, fun i hi => ?_, F2.2.2.1, F2.2.2.2⟩
    have ne : i ≠ r := by omega
    obtain ⟨a, b, c, d, e⟩ := F2.2.1 i hi
    exact ⟨a, (pk_un ne).trans b, (pk_un ne).trans c, (pk_un ne).trans d, (pk_un ne).trans e⟩
  have ng : gs_n (gs_give s2 r f v h) = gs_n s2 := rfl
  refine ⟨FG, A.2.1, fun _ => ⟨⟨FG, A.2.1, gs_giveWF A.2.2.1 dr1 h1 h2, fun i hi hj => ?_⟩, by omega⟩⟩
  by_cases e : i = r
  · subst e; exact pk_us
  · exact (pk_un e).trans (A.2.2.2 i (by omega) (by omega))
theorem gs_sameOK {r q : Nat} (hq : q < gs_n s) (w : gs_WF P s) (hd : gs_dn s q = 1) : (gs_fn s q = 0 ∨ gs_fn s q = 1) ∧ (gs_fn s q ≠ 0 → gs_cl P s (gs_nm s q) (gs_hm s q)) := w.2.2.1 q hq hd
/-! the entries of the parts -/
theorem gs_nm1 : ∀ y, y < 8 → ¬ nI y = (-1 : Int32) := by decide
theorem gs_en_sub {r t t' : Nat} {x : Int32} (w : gs_WF P s) (hr : r < gs_n s) (et : gs_t s r = t) (ht : t' < p_cn P) (hf : ∀ y, y < 8 → bt (p_fr P t') y = true → bt (p_fr P t) y = true) : gs_EN P s t' r (-1) x := by
  refine ⟨ht, fun y hy h => ?_⟩
  rw [if_neg (gs_nm1 y hy)]
  exact w.2.2.2 r hr y hy (by rw [et]; exact hf y hy h)
theorem gs_en_ext {r t t' j q : Nat} (w : gs_WF P s) (hr : r < gs_n s) (et : gs_t s r = t) (ht : t' < p_cn P) (hj : j < 8) (gq : gs_good P s q) (hf : ∀ y, y < 8 → bt (p_fr P t') y = true → y = j ∨ bt (p_fr P t) y = true) : gs_EN P s t' r (nI j) (nI q) := by
  refine ⟨ht, fun y hy h => ?_⟩
  by_cases e : y = j
  · rw [if_pos (congrArg nI e)]; exact ⟨q, rfl, gq⟩
  · rw [if_neg (fun z => e ((nI_eq (by omega) (by omega)).mp z))]
    rcases hf y hy h with h2 | h2
    · exact absurd h2 e
    · exact w.2.2.2 r hr y hy (by rw [et]; exact h2)
theorem gs_en_susp {q : Nat} (g : gs_PG P) (w : gs_WF P s) (hq : q < gs_n s) (hk : p_kd P (gs_t s q) = 3 ∨ p_kd P (gs_t s q) = 7) : gs_EN P s (gs_susp P s q) q (-1) 0 ∧ gs_susp P s q < p_cn P ∧ ∀ y, bt (p_fr P (gs_susp P s q)) y = true → bt (p_fr P (gs_t s q)) y = true := by
  obtain ⟨g1, g2, g3, g4, pa, pb, pc, st, h, gt⟩ := g
  have ht := (w.2.1 q hq).1
  have key : gs_susp P s q < p_cn P ∧ ∀ y, bt (p_fr P (gs_susp P s q)) y = true → bt (p_fr P (gs_t s q)) y = true := by
    unfold gs_susp
    rcases hk with e | e
    · rw [if_pos e]
      obtain ⟨a1, a2, a3, a4, a5, a6, a7⟩ := tr_two gt ht (Or.inl e)
      exact ⟨by omega, a7⟩
    · rw [if_neg (by rw [e]; decide)]
      obtain ⟨a1, a2, a3, a4, a5, a6, a7⟩ := tr_let gt ht e
      exact ⟨by omega, a6⟩
  exact ⟨gs_en_sub w hq rfl key.1 (fun y _ => key.2 y), key⟩
theorem gs_en_bod {hh l q : Nat} (g : gs_PG P) (w : gs_WF P s) (hq : hh < gs_n s) (hl : gs_t s hh = l) (hk : p_kd P l = 2) (gq : gs_good P s q) : l < p_cn P ∧ gs_EN P s (l - 1) hh (p_ag P l) (nI q) ∧ ∃ j, j < 8 ∧ p_ag P l = nI j ∧ 1 ≤ l ∧ ∀ y, y < 8 → bt (p_fr P (l - 1)) y = true → y = j ∨ bt (p_fr P l) y = true := by
  obtain ⟨g1, g2, g3, g4, pa, pb, pc, st, h, gt⟩ := g
  have ht := (w.2.1 hh hq).1
  rw [hl] at ht
  obtain ⟨a1, a2, j, hj, ej, hf⟩ := tr_lam gt ht hk
  refine ⟨ht, ?_, j, hj, ej, a1, hf⟩
  rw [ej]
  exact gs_en_ext w hq hl (by omega) hj gq hf
end
end
section
/-! each kind's evaluation, with all that is known on the way -/
def gs_IH (P : gP) (f : Nat) : Prop := ∀ t e x b s, gs_WF P s → gs_PK P s → gs_EN P s t e x b → ∀ o s', gs_go P f t e x b s = (o, s') → gs_CL P s o s'
/-- a closure in row a: its home, its place -/
def gs_fun (P : gP) (s : gS) (a hh l : Nat) : Prop := gs_fn s a = 1 ∧ hh < gs_n s ∧ gs_hm s a = nI hh ∧ gs_nm s a = nI l ∧ gs_t s hh = l ∧ l < p_cn P ∧ p_kd P l = 2
theorem gs_stuck_eq {t : Nat} {s s' : gS} {o : Option (Int32 × Int32)} (h : gs_stuck t s = (o, s')) : o = some (3, nI t) ∧ s' = s := by
  have h2 : ((some (3, nI t), s) : gR) = (o, s') := h
  injection h2 with h3 h4
  exact ⟨h3.symm, h4.symm⟩
theorem gs_pair_eq {s s' : gS} {o p : Option (Int32 × Int32)} (h : ((p, s) : gR) = (o, s')) : o = p ∧ s' = s := by
  injection h with h3 h4
  exact ⟨h3.symm, h4.symm⟩
section
variable {P : gP} {s s' : gS} {o : Option (Int32 × Int32)} {f r t : Nat}
theorem gs_ACk {s2 : gS} (bp : gs_BP P s r t) (A : gs_A0 P s s2) : r < gs_n s2 ∧ gs_t s2 r = t ∧ gs_WF P s2 ∧ gs_PK P s2 ∧ gs_dn s2 r = 0 := by
  obtain ⟨w, k, n1, et, d0⟩ := bp
  have le := A.1.1
  exact ⟨by omega, by rw [gs_GRtt (gs_FRG A.1) (by omega)]; exact et, A.2.2.1, A.2.1, by rw [(A.1.2.1 r (by omega)).2.1]; exact d0⟩
theorem gs_funOf {s2 : gS} {a : Nat} (w : gs_WF P s2) (ha : a < gs_n s2) (hd : gs_dn s2 a = 1) (hf : ¬ gs_fn s2 a = 0) : ∃ hh l, gs_fun P s2 a hh l := by
  obtain ⟨v1, v2⟩ := w.2.2.1 a ha hd
  obtain ⟨hh, h1, h2, h3, h4⟩ := v2 hf
  refine ⟨hh, gs_t s2 hh, ?_, h1, h2, h3, rfl, (w.2.1 hh h1).1, h4⟩
  rcases v1 with e | e
  · exact absurd e hf
  · exact e
theorem gs_funm {s2 s3 : gS} {a hh l : Nat} (F : gs_FR P s2 s3) (ha : a < gs_n s2) (h : gs_fun P s2 a hh l) : gs_fun P s3 a hh l := by
  obtain ⟨h1, h2, h3, h4, h5, h6, h7⟩ := h
  obtain ⟨a1, a2, a3, a4, a5⟩ := F.2.1 a ha
  exact ⟨a3.trans h1, Nat.lt_of_lt_of_le h2 F.1, a5.trans h3, a4.trans h4, by rw [gs_GRtt (gs_FRG F) h2]; exact h5, h6, h7⟩
theorem gs_k1 (g : gs_PG P) (bp : gs_BP P s r t) (hk : p_kd P t = 1) : ∃ j q, j < 8 ∧ p_ag P t = nI j ∧ bt (p_fr P t) j = true ∧ gs_bd s (r * 8 + j) = nI q ∧ gs_good P s q ∧ (p_ag P t).toNatClampNeg = j ∧ (gs_bd s (r * 8 + j)).toNatClampNeg = q := by
  obtain ⟨w, k, n1, et, d0⟩ := bp
  have ht := (w.2.1 r (by omega)).1
  rw [et] at ht
  obtain ⟨g1, g2, g3, g4, pa, pb, pc, st, h, gt⟩ := g
  obtain ⟨j, hj, ej, hb⟩ := tr_var gt ht hk
  obtain ⟨q, h1, h2⟩ := w.2.2.2 r (by omega) j hj (by rw [et]; exact hb)
  have := h2.1
  have := w.1
  exact ⟨j, q, hj, ej, hb, h1, h2, by rw [ej, nI_clamp (by omega)], by rw [h1, nI_clamp (by omega)]⟩
theorem gs_k1V (g : gs_PG P) (bp : gs_BP P s r t) (hk : p_kd P t = 1) (hb : p_bn P = false) {G : Nat → Nat → Int32 → Int32 → gS → gR} (h : gs_body P G r t s = (o, s')) : ∃ j q, j < 8 ∧ p_ag P t = nI j ∧ bt (p_fr P t) j = true ∧ gs_bd s (r * 8 + j) = nI q ∧ gs_good P s q ∧ o = none ∧ s' = gs_same s r q := by
  obtain ⟨j, q, a1, a2, a3, a4, a5, a6, a7⟩ := gs_k1 g bp hk
  rw [gs_b1 hk, a6, a7, hb, if_neg (by decide)] at h
  obtain ⟨e1, e2⟩ := gs_pair_eq h
  exact ⟨j, q, a1, a2, a3, a4, a5, e1, e2⟩
theorem gs_k1N (ih : gs_IH P f) (g : gs_PG P) (bp : gs_BP P s r t) (hk : p_kd P t = 1) (hb : p_bn P = true) (h : gs_body P (gs_go P f) r t s = (o, s')) : ∃ j q o2 s2, j < 8 ∧ p_ag P t = nI j ∧ bt (p_fr P t) j = true ∧ gs_bd s (r * 8 + j) = nI q ∧ gs_good P s q ∧ gs_go P f (gs_susp P s q) q (-1) 0 s = (o2, s2) ∧ gs_EN P s (gs_susp P s q) q (-1) 0 ∧ gs_CL P s o2 s2 ∧
    ((∃ e, o2 = some e ∧ o = some e ∧ s' = s2) ∨ (o2 = none ∧ o = none ∧ s' = gs_same s2 r (r + 1))) := by
  obtain ⟨j, q, a1, a2, a3, a4, a5, a6, a7⟩ := gs_k1 g bp hk
  rw [gs_b1 hk, a6, a7, hb, if_pos rfl] at h
  obtain ⟨o2, s2, e, c⟩ := gs_bind_el h
  have en := (gs_en_susp g bp.1 a5.1 (a5.2.1 hb)).1
  refine ⟨j, q, o2, s2, a1, a2, a3, a4, a5, e, en, ih _ _ _ _ _ bp.1 bp.2.1 en _ _ e, ?_⟩
  rcases c with c | ⟨c, c2⟩
  · exact Or.inl c
  · obtain ⟨e1, e2⟩ := gs_pair_eq c2
    exact Or.inr ⟨c, e1, e2⟩
theorem gs_k3 (ih : gs_IH P f) (g : gs_PG P) (bp : gs_BP P s r t) (hk : p_kd P t = 3) (h : gs_body P (gs_go P f) r t s = (o, s')) : ∃ o2 s2, gs_go P f (p_T P t - 1) r (-1) 0 s = (o2, s2) ∧ gs_EN P s (p_T P t - 1) r (-1) 0 ∧ gs_CL P s o2 s2 ∧
    ((∃ e, o2 = some e ∧ o = some e ∧ s' = s2) ∨ (o2 = none ∧ gs_fn s2 (r + 1) = 0 ∧ o = some (3, nI t) ∧ s' = s2) ∨
     (o2 = none ∧ ∃ hh l, gs_fun P s2 (r + 1) hh l ∧
      ((p_bn P = true ∧ ∃ o3 s3, gs_go P f (l - 1) hh (p_ag P l) (nI r) s2 = (o3, s3) ∧ gs_EN P s2 (l - 1) hh (p_ag P l) (nI r) ∧ gs_CL P s2 o3 s3 ∧ ((∃ e, o3 = some e ∧ o = some e ∧ s' = s3) ∨ (o3 = none ∧ o = none ∧ s' = gs_same s3 r (gs_n s2)))) ∨
       (p_bn P = false ∧ ∃ o3 s3, gs_go P f (t - 1) r (-1) 0 s2 = (o3, s3) ∧ gs_EN P s2 (t - 1) r (-1) 0 ∧ gs_CL P s2 o3 s3 ∧ ((∃ e, o3 = some e ∧ o = some e ∧ s' = s3) ∨
         (o3 = none ∧ ∃ o4 s4, gs_go P f (l - 1) hh (p_ag P l) (nI (gs_n s2)) s3 = (o4, s4) ∧ gs_EN P s3 (l - 1) hh (p_ag P l) (nI (gs_n s2)) ∧ gs_CL P s3 o4 s4 ∧ ((∃ e, o4 = some e ∧ o = some e ∧ s' = s4) ∨ (o4 = none ∧ o = none ∧ s' = gs_same s4 r (gs_n s3))))))))) := by
  have bp0 := bp
  obtain ⟨w, k, n1, et, d0⟩ := bp
  have ht := (w.2.1 r (by omega)).1
  rw [et] at ht
  have g0 := g
  obtain ⟨g1, g2, g3, g4, pa, pb, pc, st, hg, gt⟩ := g
  obtain ⟨p1, p2, p3, p4, p5, p6, p7⟩ := tr_two gt ht (Or.inl hk)
  rw [gs_b3 hk] at h
  obtain ⟨o2, s2, e, c⟩ := gs_bind_el h
  have en : gs_EN P s (p_T P t - 1) r (-1) 0 := gs_en_sub w (by omega) et (by omega) (fun y _ => p6 y)
  have C2 := ih _ _ _ _ _ w k en _ _ e
  refine ⟨o2, s2, e, en, C2, ?_⟩
  rcases c with c | ⟨c, c2⟩
  · exact Or.inl c
  · right
    obtain ⟨A2, lt2⟩ := C2.2.2 c
    obtain ⟨r2, t2, w2, k2, d2⟩ := gs_ACk bp0 A2
    have da : gs_dn s2 (r + 1) = 1 := A2.2.2.2 _ (by omega) (by omega)
    by_cases hf : gs_fn s2 (r + 1) = 0
    · rw [if_pos hf] at c2
      obtain ⟨e1, e2⟩ := gs_stuck_eq c2
      exact Or.inl ⟨c, hf, e1, e2⟩
    · right
      refine ⟨c, ?_⟩
      rw [if_neg hf] at c2
      obtain ⟨hh, l, F⟩ := gs_funOf w2 (by omega) da hf
      have F0 := F
      obtain ⟨f1, f2, f3, f4, f5, f6, f7⟩ := F
      have bu := w2.1
      refine ⟨hh, l, F0, ?_⟩
      have cl1 : (gs_nm s2 (r + 1)).toNatClampNeg = l := by rw [f4, nI_clamp (by omega)]
      have cl2 : (gs_hm s2 (r + 1)).toNatClampNeg = hh := by rw [f3, nI_clamp (by omega)]
      by_cases hb : p_bn P = true
      · rw [if_pos hb, cl1, cl2] at c2
        obtain ⟨o3, s3, e3, c3⟩ := gs_bind_el c2
        have gr : gs_good P s2 r := ⟨r2, fun _ => Or.inl (by rw [t2]; exact hk), fun z => absurd (hb.symm.trans z) (by decide)⟩
        obtain ⟨_, en3, _⟩ := gs_en_bod g0 w2 f2 f5 f7 gr
        refine Or.inl ⟨hb, o3, s3, e3, en3, ih _ _ _ _ _ w2 k2 en3 _ _ e3, ?_⟩
        rcases c3 with c3 | ⟨c3, c4⟩
        · exact Or.inl c3
        · obtain ⟨e1, e2⟩ := gs_pair_eq c4
          exact Or.inr ⟨c3, e1, e2⟩
      · rw [if_neg hb] at c2
        obtain ⟨o3, s3, e3, c3⟩ := gs_bind_el c2
        have en3 : gs_EN P s2 (t - 1) r (-1) 0 := gs_en_sub w2 r2 t2 (by omega) (fun y _ => p7 y)
        have C3 := ih _ _ _ _ _ w2 k2 en3 _ _ e3
        have hb' : p_bn P = false := by cases hq : p_bn P with
          | true => exact absurd hq hb
          | false => rfl
        refine Or.inr ⟨hb', o3, s3, e3, en3, C3, ?_⟩
        rcases c3 with c3 | ⟨c3, c4⟩
        · exact Or.inl c3
        · right
          obtain ⟨A3, lt3⟩ := C3.2.2 c3
          obtain ⟨q1, q2, q3, q4, q5, q6, q7⟩ := gs_funm A3.1 (by omega) F0
          have bu3 := A3.2.2.1.1
          have cl3 : (gs_nm s3 (r + 1)).toNatClampNeg = l := by rw [q4, nI_clamp (by omega)]
          have cl4 : (gs_hm s3 (r + 1)).toNatClampNeg = hh := by rw [q3, nI_clamp (by omega)]
          have c4' := c4
          rw [cl3, cl4] at c4'
          obtain ⟨o4, s4, e4, c5⟩ := gs_bind_el c4'
          have gr : gs_good P s3 (gs_n s2) := ⟨lt3, fun z => absurd z hb, fun _ => A3.2.2.2 _ (Nat.le_refl _) lt3⟩
          obtain ⟨_, en4, _⟩ := gs_en_bod g0 A3.2.2.1 q2 q5 q7 gr
          refine ⟨c3, o4, s4, e4, en4, ih _ _ _ _ _ A3.2.2.1 A3.2.1 en4 _ _ e4, ?_⟩
          rcases c5 with c5 | ⟨c5, c6⟩
          · exact Or.inl c5
          · obtain ⟨e1, e2⟩ := gs_pair_eq c6
            exact Or.inr ⟨c5, e1, e2⟩
theorem gs_k4 (ih : gs_IH P f) (g : gs_PG P) (bp : gs_BP P s r t) (hk : p_kd P t = 4) (h : gs_body P (gs_go P f) r t s = (o, s')) : ∃ o2 s2, gs_go P f (p_T P t - 1) r (-1) 0 s = (o2, s2) ∧ gs_EN P s (p_T P t - 1) r (-1) 0 ∧ gs_CL P s o2 s2 ∧
    ((∃ e, o2 = some e ∧ o = some e ∧ s' = s2) ∨ (o2 = none ∧ gs_fn s2 (r + 1) ≠ 0 ∧ o = some (3, nI t) ∧ s' = s2) ∨
     (o2 = none ∧ gs_fn s2 (r + 1) = 0 ∧ ∃ o3 s3, gs_go P f (t - 1) r (-1) 0 s2 = (o3, s3) ∧ gs_EN P s2 (t - 1) r (-1) 0 ∧ gs_CL P s2 o3 s3 ∧ ((∃ e, o3 = some e ∧ o = some e ∧ s' = s3) ∨
         (o3 = none ∧ gs_fn s3 (gs_n s2) ≠ 0 ∧ o = some (3, nI t) ∧ s' = s3) ∨ (o3 = none ∧ gs_fn s3 (gs_n s2) = 0 ∧ o = none ∧ s' = gs_give s3 r 0 (gs_nm s3 (r + 1) + gs_nm s3 (gs_n s2)) 0)))) := by
  have bp0 := bp
  obtain ⟨w, k, n1, et, d0⟩ := bp
  have ht := (w.2.1 r (by omega)).1
  rw [et] at ht
  obtain ⟨g1, g2, g3, g4, pa, pb, pc, st, hg, gt⟩ := g
  obtain ⟨p1, p2, p3, p4, p5, p6, p7⟩ := tr_two gt ht (Or.inr hk)
  rw [gs_b4 hk] at h
  obtain ⟨o2, s2, e, c⟩ := gs_bind_el h
  have en : gs_EN P s (p_T P t - 1) r (-1) 0 := gs_en_sub w (by omega) et (by omega) (fun y _ => p6 y)
  have C2 := ih _ _ _ _ _ w k en _ _ e
  refine ⟨o2, s2, e, en, C2, ?_⟩
  rcases c with c | ⟨c, c2⟩
  · exact Or.inl c
  · right
    obtain ⟨A2, lt2⟩ := C2.2.2 c
    obtain ⟨r2, t2, w2, k2, d2⟩ := gs_ACk bp0 A2
    by_cases hf : gs_fn s2 (r + 1) = 0
    · right
      rw [if_pos hf] at c2
      obtain ⟨o3, s3, e3, c3⟩ := gs_bind_el c2
      have en3 : gs_EN P s2 (t - 1) r (-1) 0 := gs_en_sub w2 r2 t2 (by omega) (fun y _ => p7 y)
      refine ⟨c, hf, o3, s3, e3, en3, ih _ _ _ _ _ w2 k2 en3 _ _ e3, ?_⟩
      rcases c3 with c3 | ⟨c3, c4⟩
      · exact Or.inl c3
      · right
        by_cases hf3 : gs_fn s3 (gs_n s2) = 0
        · rw [if_pos hf3] at c4
          obtain ⟨e1, e2⟩ := gs_pair_eq c4
          exact Or.inr ⟨c3, hf3, e1, e2⟩
        · rw [if_neg hf3] at c4
          obtain ⟨e1, e2⟩ := gs_stuck_eq c4
          exact Or.inl ⟨c3, hf3, e1, e2⟩
    · rw [if_neg hf] at c2
      obtain ⟨e1, e2⟩ := gs_stuck_eq c2
      exact Or.inl ⟨c, hf, e1, e2⟩
theorem gs_k5 (ih : gs_IH P f) (g : gs_PG P) (bp : gs_BP P s r t) (hk : p_kd P t = 5) (h : gs_body P (gs_go P f) r t s = (o, s')) : ∃ o2 s2, gs_go P f (p_T P (p_T P t) - 1) r (-1) 0 s = (o2, s2) ∧ gs_EN P s (p_T P (p_T P t) - 1) r (-1) 0 ∧ gs_CL P s o2 s2 ∧
    ((∃ e, o2 = some e ∧ o = some e ∧ s' = s2) ∨ (o2 = none ∧ gs_fn s2 (r + 1) ≠ 0 ∧ o = some (3, nI t) ∧ s' = s2) ∨
     (o2 = none ∧ gs_fn s2 (r + 1) = 0 ∧ ∃ t3 o3 s3, ((gs_nm s2 (r + 1) = 0 ∧ t3 = p_T P t - 1) ∨ (gs_nm s2 (r + 1) ≠ 0 ∧ t3 = t - 1)) ∧ gs_go P f t3 r (-1) 0 s2 = (o3, s3) ∧ gs_EN P s2 t3 r (-1) 0 ∧ gs_CL P s2 o3 s3 ∧ ((∃ e, o3 = some e ∧ o = some e ∧ s' = s3) ∨
         (o3 = none ∧ o = none ∧ s' = gs_same s3 r (gs_n s2))))) := by
  have bp0 := bp
  obtain ⟨w, k, n1, et, d0⟩ := bp
  have ht := (w.2.1 r (by omega)).1
  rw [et] at ht
  obtain ⟨g1, g2, g3, g4, pa, pb, pc, st, hg, gt⟩ := g
  obtain ⟨p1, p2, p3, p4, p5, p6, p7, p8, p9, p10, p11⟩ := tr_ifz gt ht hk
  rw [gs_b5 hk] at h
  obtain ⟨o2, s2, e, c⟩ := gs_bind_el h
  have en : gs_EN P s (p_T P (p_T P t) - 1) r (-1) 0 := gs_en_sub w (by omega) et (by omega) (fun y _ => p9 y)
  have C2 := ih _ _ _ _ _ w k en _ _ e
  refine ⟨o2, s2, e, en, C2, ?_⟩
  rcases c with c | ⟨c, c2⟩
  · exact Or.inl c
  · right
    obtain ⟨A2, lt2⟩ := C2.2.2 c
    obtain ⟨r2, t2, w2, k2, d2⟩ := gs_ACk bp0 A2
    by_cases hf : gs_fn s2 (r + 1) = 0
    · right
      rw [if_pos hf] at c2
      obtain ⟨o3, s3, e3, c3⟩ := gs_bind_el c2
      have key : ∃ t3, (if gs_nm s2 (r + 1) = 0 then p_T P t - 1 else t - 1) = t3 ∧ ((gs_nm s2 (r + 1) = 0 ∧ t3 = p_T P t - 1) ∨ (gs_nm s2 (r + 1) ≠ 0 ∧ t3 = t - 1)) ∧ gs_EN P s2 t3 r (-1) 0 := by
        by_cases hz : gs_nm s2 (r + 1) = 0
        · exact ⟨_, if_pos hz, Or.inl ⟨hz, rfl⟩, gs_en_sub w2 r2 t2 (by omega) (fun y _ => p10 y)⟩
        · exact ⟨_, if_neg hz, Or.inr ⟨hz, rfl⟩, gs_en_sub w2 r2 t2 (by omega) (fun y _ => p11 y)⟩
      obtain ⟨t3, et3, ct3, en3⟩ := key
      rw [et3] at e3
      refine ⟨c, hf, t3, o3, s3, ct3, e3, en3, ih _ _ _ _ _ w2 k2 en3 _ _ e3, ?_⟩
      rcases c3 with c3 | ⟨c3, c4⟩
      · exact Or.inl c3
      · obtain ⟨e1, e2⟩ := gs_pair_eq c4
        exact Or.inr ⟨c3, e1, e2⟩
    · rw [if_neg hf] at c2
      obtain ⟨e1, e2⟩ := gs_stuck_eq c2
      exact Or.inl ⟨c, hf, e1, e2⟩
theorem gs_k6 (ih : gs_IH P f) (g : gs_PG P) (bp : gs_BP P s r t) (hk : p_kd P t = 6) (h : gs_body P (gs_go P f) r t s = (o, s')) : ∃ o2 s2, gs_go P f (t - 1) r (-1) 0 s = (o2, s2) ∧ gs_EN P s (t - 1) r (-1) 0 ∧ gs_CL P s o2 s2 ∧
    ((∃ e, o2 = some e ∧ o = some e ∧ s' = s2) ∨ (o2 = none ∧ gs_fn s2 (r + 1) ≠ 0 ∧ o = some (3, nI t) ∧ s' = s2) ∨
     (o2 = none ∧ gs_fn s2 (r + 1) = 0 ∧ ¬ gs_pk s2 (p_rc P) < nI (p_pc P) ∧ o = some (5, 0) ∧ s' = s2) ∨
     (o2 = none ∧ gs_fn s2 (r + 1) = 0 ∧ gs_pk s2 (p_rc P) < nI (p_pc P) ∧ o = none ∧ s' = gs_same (gs_prt (p_rc P) s2 (gs_nm s2 (r + 1))) r (r + 1))) := by
  have bp0 := bp
  obtain ⟨w, k, n1, et, d0⟩ := bp
  have ht := (w.2.1 r (by omega)).1
  rw [et] at ht
  obtain ⟨g1, g2, g3, g4, pa, pb, pc, st, hg, gt⟩ := g
  obtain ⟨p1, p2, p3⟩ := tr_prt gt ht hk
  rw [gs_b6 hk] at h
  obtain ⟨o2, s2, e, c⟩ := gs_bind_el h
  have en : gs_EN P s (t - 1) r (-1) 0 := gs_en_sub w (by omega) et (by omega) (fun y _ => p3 y)
  refine ⟨o2, s2, e, en, ih _ _ _ _ _ w k en _ _ e, ?_⟩
  rcases c with c | ⟨c, c2⟩
  · exact Or.inl c
  · right
    by_cases hf : gs_fn s2 (r + 1) = 0
    · right
      rw [if_pos hf] at c2
      by_cases hp : gs_pk s2 (p_rc P) < nI (p_pc P)
      · rw [if_pos hp] at c2
        obtain ⟨e1, e2⟩ := gs_pair_eq c2
        exact Or.inr ⟨c, hf, hp, e1, e2⟩
      · rw [if_neg hp] at c2
        obtain ⟨e1, e2⟩ := gs_pair_eq c2
        exact Or.inl ⟨c, hf, hp, e1, e2⟩
    · rw [if_neg hf] at c2
      obtain ⟨e1, e2⟩ := gs_stuck_eq c2
      exact Or.inl ⟨c, hf, e1, e2⟩
theorem gs_k7N (ih : gs_IH P f) (g : gs_PG P) (bp : gs_BP P s r t) (hk : p_kd P t = 7) (hb : p_bn P = true) (h : gs_body P (gs_go P f) r t s = (o, s')) : ∃ o2 s2, gs_go P f (t - 1) r (p_ag P t) (nI r) s = (o2, s2) ∧ gs_EN P s (t - 1) r (p_ag P t) (nI r) ∧ gs_CL P s o2 s2 ∧
    ((∃ e, o2 = some e ∧ o = some e ∧ s' = s2) ∨ (o2 = none ∧ o = none ∧ s' = gs_same s2 r (r + 1))) := by
  have bp0 := bp
  obtain ⟨w, k, n1, et, d0⟩ := bp
  have ht := (w.2.1 r (by omega)).1
  rw [et] at ht
  obtain ⟨g1, g2, g3, g4, pa, pb, pc, st, hg, gt⟩ := g
  obtain ⟨p1, p2, p3, p4, p5, p6, j, hj, ej, p7⟩ := tr_let gt ht hk
  rw [gs_b7 hk, if_pos hb] at h
  obtain ⟨o2, s2, e, c⟩ := gs_bind_el h
  have gr : gs_good P s r := ⟨by omega, fun _ => Or.inr (by rw [et]; exact hk), fun z => absurd (hb.symm.trans z) (by decide)⟩
  have en : gs_EN P s (t - 1) r (p_ag P t) (nI r) := by rw [ej]; exact gs_en_ext w (by omega) et (by omega) hj gr p7
  refine ⟨o2, s2, e, en, ih _ _ _ _ _ w k en _ _ e, ?_⟩
  rcases c with c | ⟨c, c2⟩
  · exact Or.inl c
  · obtain ⟨e1, e2⟩ := gs_pair_eq c2
    exact Or.inr ⟨c, e1, e2⟩
theorem gs_k7V (ih : gs_IH P f) (g : gs_PG P) (bp : gs_BP P s r t) (hk : p_kd P t = 7) (hb : p_bn P = false) (h : gs_body P (gs_go P f) r t s = (o, s')) : ∃ o2 s2, gs_go P f (p_T P t - 1) r (-1) 0 s = (o2, s2) ∧ gs_EN P s (p_T P t - 1) r (-1) 0 ∧ gs_CL P s o2 s2 ∧
    ((∃ e, o2 = some e ∧ o = some e ∧ s' = s2) ∨ (o2 = none ∧ ∃ o3 s3, gs_go P f (t - 1) r (p_ag P t) (nI (r + 1)) s2 = (o3, s3) ∧ gs_EN P s2 (t - 1) r (p_ag P t) (nI (r + 1)) ∧ gs_CL P s2 o3 s3 ∧ ((∃ e, o3 = some e ∧ o = some e ∧ s' = s3) ∨ (o3 = none ∧ o = none ∧ s' = gs_same s3 r (gs_n s2))))) := by
  have bp0 := bp
  obtain ⟨w, k, n1, et, d0⟩ := bp
  have ht := (w.2.1 r (by omega)).1
  rw [et] at ht
  obtain ⟨g1, g2, g3, g4, pa, pb, pc, st, hg, gt⟩ := g
  obtain ⟨p1, p2, p3, p4, p5, p6, j, hj, ej, p7⟩ := tr_let gt ht hk
  rw [gs_b7 hk, hb, if_neg (by decide)] at h
  obtain ⟨o2, s2, e, c⟩ := gs_bind_el h
  have en : gs_EN P s (p_T P t - 1) r (-1) 0 := gs_en_sub w (by omega) et (by omega) (fun y _ => p6 y)
  have C2 := ih _ _ _ _ _ w k en _ _ e
  refine ⟨o2, s2, e, en, C2, ?_⟩
  rcases c with c | ⟨c, c2⟩
  · exact Or.inl c
  · right
    obtain ⟨A2, lt2⟩ := C2.2.2 c
    obtain ⟨r2, t2, w2, k2, d2⟩ := gs_ACk bp0 A2
    obtain ⟨o3, s3, e3, c3⟩ := gs_bind_el c2
    have gr : gs_good P s2 (r + 1) := ⟨by omega, fun z => absurd (hb.symm.trans z) (by decide), fun _ => A2.2.2.2 _ (by omega) (by omega)⟩
    have en3 : gs_EN P s2 (t - 1) r (p_ag P t) (nI (r + 1)) := by rw [ej]; exact gs_en_ext w2 r2 t2 (by omega) hj gr p7
    refine ⟨c, o3, s3, e3, en3, ih _ _ _ _ _ w2 k2 en3 _ _ e3, ?_⟩
    rcases c3 with c3 | ⟨c3, c4⟩
    · exact Or.inl c3
    · obtain ⟨e1, e2⟩ := gs_pair_eq c4
      exact Or.inr ⟨c3, e1, e2⟩
end
end
section
/-! the evaluator keeps the table well -/
section
variable {P : gP} {s s' s0 : gS} {o : Option (Int32 × Int32)} {f r t : Nat}
theorem gs_stp {s1 s2 : gS} {o2 : Option (Int32 × Int32)} {e : Int32 × Int32} (F : gs_FR P s0 s1) (C : gs_CL P s1 o2 s2) : gs_CL P s0 (some e) s2 := ⟨gs_FRt F C.1, C.2.1, fun z => nomatch z⟩
theorem gs_stp0 {s1 s2 : gS} {e : Int32 × Int32} (F : gs_FR P s0 s1) (A : gs_A0 P s1 s2) : gs_CL P s0 (some e) s2 := ⟨gs_FRt F A.1, A.2.1, fun z => nomatch z⟩
theorem gs_fins {s2 : gS} {q : Nat} (F : gs_FR P s0 s) (n0 : gs_n s0 = r) (bp : gs_BP P s r t) (A : gs_A0 P s s2) (hq : q < gs_n s2) (hd : gs_dn s2 q = 1) : gs_CL P s0 none (gs_same s2 r q) := by
  have v := A.2.2.1.2.2.1 q hq hd
  exact gs_fin F n0 bp.2.2.1 bp.2.2.2.2 A v.1 v.2
theorem gs_prtA0 {s2 : gS} {v : Int32} (g : gs_PG P) (A : gs_A0 P s s2) (hp : gs_pk s2 (p_rc P) < nI (p_pc P)) : gs_A0 P s (gs_prt (p_rc P) s2 v) := by
  refine ⟨gs_FRt A.1 ⟨Nat.le_refl _, fun _ _ => ⟨rfl, rfl, rfl, rfl, rfl⟩, fun _ _ => rfl, fun i hi => pk_un hi⟩, ?_, A.2.2.1, A.2.2.2⟩
  obtain ⟨c, hc, ec⟩ := A.2.1
  have := g.2.2.1
  rw [ec, nI_ltI (by omega) (by omega)] at hp
  refine ⟨c + 1, hp, ?_⟩
  show upd (gs_pk s2) (p_rc P) (gs_pk s2 (p_rc P) + 1) (p_rc P) = nI (c + 1)
  rw [pk_us, ec, nI_1]
theorem gs_okb (g : gs_PG P) (ih : gs_IH P f) (F : gs_FR P s0 s) (n0 : gs_n s0 = r) (bp : gs_BP P s r t) (h : gs_body P (gs_go P f) r t s = (o, s')) : gs_CL P s0 o s' := by
  have bp0 := bp
  obtain ⟨w, k, n1, et, d0⟩ := bp
  have ht := (w.2.1 r (by omega)).1
  rw [et] at ht
  have g0 := g
  obtain ⟨g1, g2, g3, g4, pa, pb, pc, st, hg, gt⟩ := g
  rcases tr_kind gt ht with hk | hk | hk | hk | hk | hk | hk | hk
  · rw [gs_b0 hk] at h
    obtain ⟨e1, e2⟩ := gs_pair_eq h
    subst e1 e2
    exact gs_fin F n0 n1 d0 (gs_A0r w k) (Or.inl rfl) (fun z => absurd rfl z)
  · by_cases hb : p_bn P = true
    · obtain ⟨j, q, o2, s2, a1, a2, a3, a4, a5, a6, a7, C2, c⟩ := gs_k1N ih g0 bp0 hk hb h
      rcases c with ⟨e, _, c2, c3⟩ | ⟨c1, c2, c3⟩
      · subst c2 c3; exact gs_stp F C2
      · subst c2 c3
        obtain ⟨A2, lt2⟩ := C2.2.2 c1
        exact gs_fins F n0 bp0 A2 (by omega) (A2.2.2.2 _ (by omega) (by omega))
    · have hb' : p_bn P = false := Bool.eq_false_iff.mpr hb
      obtain ⟨j, q, a1, a2, a3, a4, a5, e1, e2⟩ := gs_k1V g0 bp0 hk hb' h
      subst e1 e2
      exact gs_fins F n0 bp0 (gs_A0r w k) a5.1 (a5.2.2 hb')
  · rw [gs_b2 hk] at h
    obtain ⟨e1, e2⟩ := gs_pair_eq h
    subst e1 e2
    exact gs_fin F n0 n1 d0 (gs_A0r w k) (Or.inr rfl) (fun _ => ⟨r, by omega, rfl, by rw [et], by rw [et]; exact hk⟩)
  · obtain ⟨o2, s2, e2, en2, C2, c⟩ := gs_k3 ih g0 bp0 hk h
    rcases c with ⟨e, _, c2, c3⟩ | ⟨c1, _, c2, c3⟩ | ⟨c1, hh, l, fu, c⟩
    · subst c2 c3; exact gs_stp F C2
    · subst c2 c3; exact gs_stp F C2
    · obtain ⟨A2, lt2⟩ := C2.2.2 c1
      rcases c with ⟨hb, o3, s3, e3, en3, C3, c⟩ | ⟨hb, o3, s3, e3, en3, C3, c⟩
      · rcases c with ⟨e, _, c2, c3⟩ | ⟨c4, c2, c3⟩
        · subst c2 c3; exact gs_stp (gs_FRt F A2.1) C3
        · subst c2 c3
          obtain ⟨A3, lt3⟩ := C3.2.2 c4
          exact gs_fins F n0 bp0 (gs_A0t A2 A3) lt3 (A3.2.2.2 _ (Nat.le_refl _) lt3)
      · rcases c with ⟨e, _, c2, c3⟩ | ⟨c4, o4, s4, e4, en4, C4, c⟩
        · subst c2 c3; exact gs_stp (gs_FRt F A2.1) C3
        · obtain ⟨A3, lt3⟩ := C3.2.2 c4
          rcases c with ⟨e, _, c2, c3⟩ | ⟨c5, c2, c3⟩
          · subst c2 c3; exact gs_stp (gs_FRt F (gs_FRt A2.1 A3.1)) C4
          · subst c2 c3
            obtain ⟨A4, lt4⟩ := C4.2.2 c5
            exact gs_fins F n0 bp0 (gs_A0t A2 (gs_A0t A3 A4)) lt4 (A4.2.2.2 _ (Nat.le_refl _) lt4)
  · obtain ⟨o2, s2, e2, en2, C2, c⟩ := gs_k4 ih g0 bp0 hk h
    rcases c with ⟨e, _, c2, c3⟩ | ⟨c1, _, c2, c3⟩ | ⟨c1, hf, o3, s3, e3, en3, C3, c⟩
    · subst c2 c3; exact gs_stp F C2
    · subst c2 c3; exact gs_stp F C2
    · obtain ⟨A2, lt2⟩ := C2.2.2 c1
      rcases c with ⟨e, _, c2, c3⟩ | ⟨c4, _, c2, c3⟩ | ⟨c4, hf3, c2, c3⟩
      · subst c2 c3; exact gs_stp (gs_FRt F A2.1) C3
      · subst c2 c3; exact gs_stp (gs_FRt F A2.1) C3
      · subst c2 c3
        obtain ⟨A3, lt3⟩ := C3.2.2 c4
        exact gs_fin F n0 n1 d0 (gs_A0t A2 A3) (Or.inl rfl) (fun z => absurd rfl z)
  · obtain ⟨o2, s2, e2, en2, C2, c⟩ := gs_k5 ih g0 bp0 hk h
    rcases c with ⟨e, _, c2, c3⟩ | ⟨c1, _, c2, c3⟩ | ⟨c1, hf, t3, o3, s3, ct3, e3, en3, C3, c⟩
    · subst c2 c3; exact gs_stp F C2
    · subst c2 c3; exact gs_stp F C2
    · obtain ⟨A2, lt2⟩ := C2.2.2 c1
      rcases c with ⟨e, _, c2, c3⟩ | ⟨c4, c2, c3⟩
      · subst c2 c3; exact gs_stp (gs_FRt F A2.1) C3
      · subst c2 c3
        obtain ⟨A3, lt3⟩ := C3.2.2 c4
        exact gs_fins F n0 bp0 (gs_A0t A2 A3) lt3 (A3.2.2.2 _ (Nat.le_refl _) lt3)
  · obtain ⟨o2, s2, e2, en2, C2, c⟩ := gs_k6 ih g0 bp0 hk h
    rcases c with ⟨e, _, c2, c3⟩ | ⟨c1, _, c2, c3⟩ | ⟨c1, _, _, c2, c3⟩ | ⟨c1, hf, hp, c2, c3⟩
    · subst c2 c3; exact gs_stp F C2
    · subst c2 c3; exact gs_stp F C2
    · subst c2 c3; exact gs_stp F C2
    · subst c2 c3
      obtain ⟨A2, lt2⟩ := C2.2.2 c1
      exact gs_fins F n0 bp0 (gs_prtA0 g0 A2 hp) (show r + 1 < gs_n s2 by omega) (A2.2.2.2 _ (by omega) (by omega))
  · by_cases hb : p_bn P = true
    · obtain ⟨o2, s2, e2, en2, C2, c⟩ := gs_k7N ih g0 bp0 hk hb h
      rcases c with ⟨e, _, c2, c3⟩ | ⟨c1, c2, c3⟩
      · subst c2 c3; exact gs_stp F C2
      · subst c2 c3
        obtain ⟨A2, lt2⟩ := C2.2.2 c1
        exact gs_fins F n0 bp0 A2 (by omega) (A2.2.2.2 _ (by omega) (by omega))
    · have hb' : p_bn P = false := Bool.eq_false_iff.mpr hb
      obtain ⟨o2, s2, e2, en2, C2, c⟩ := gs_k7V ih g0 bp0 hk hb' h
      rcases c with ⟨e, _, c2, c3⟩ | ⟨c1, o3, s3, e3, en3, C3, c⟩
      · subst c2 c3; exact gs_stp F C2
      · obtain ⟨A2, lt2⟩ := C2.2.2 c1
        rcases c with ⟨e, _, c2, c3⟩ | ⟨c4, c2, c3⟩
        · subst c2 c3; exact gs_stp (gs_FRt F A2.1) C3
        · subst c2 c3
          obtain ⟨A3, lt3⟩ := C3.2.2 c4
          exact gs_fins F n0 bp0 (gs_A0t A2 A3) lt3 (A3.2.2.2 _ (Nat.le_refl _) lt3)
theorem gs_ok (g : gs_PG P) : ∀ f, gs_IH P f := by
  intro f
  induction f with
  | zero =>
    intro t e x b s w k en o s' h
    rw [gs_go0] at h
    obtain ⟨e1, e2⟩ := gs_pair_eq h
    subst e1 e2
    exact ⟨gs_FRr, k, fun z => nomatch z⟩
  | succ f ih =>
    intro t e x b s w k en o s' h
    rw [gs_goS] at h
    by_cases hb : p_bu P ≤ gs_n s
    · rw [if_pos hb] at h
      obtain ⟨e1, e2⟩ := gs_pair_eq h
      subst e1 e2
      exact ⟨gs_FRr, k, fun z => nomatch z⟩
    · rw [if_neg hb] at h
      exact gs_okb g ih gs_beginFR rfl (gs_beginBP g w k en (by omega)) h
end
end
section
/-! the reference's small methods -/
abbrev yC : Type := Int32 × (Nat → Int32) × (Nat → Int32)
def yv_S (P : gP) (C : yC) (en ev : Int32) (sp kid : Nat → Int32) (s : gS) : SY := (C.1, nI (p_bu P), nI (p_pc P), nI (p_cn P), nI (gs_n s), en, ev, p_kd P, p_ag P, C.2.1, C.2.2, gs_pk s, gs_pr s, gs_tm s, sp, kid, gs_dn s, gs_fn s, gs_nm s, gs_hm s, gs_bd s)
theorem yv_mp {m p : Nat} (h : 1 ≤ m) : nI m + (nI p - 1) = nI (m + p - 1) := by
  obtain ⟨k, rfl⟩ : ∃ k, m = k + 1 := ⟨m - 1, by omega⟩
  rw [show k + 1 + p - 1 = k + p from by omega, ← nI_add k p, nI_succ k]
  generalize nI k = a
  generalize nI p = b
  grind
theorem yv_m1 (t : Nat) : nI t + (-1) = nI t - 1 := (Int32.sub_eq_add_neg _ _).symm
section
variable {f_tokenCap f_budget f_printCap f_count f_rows f_end f_endValue : Int32} {a_kinds a_args a_stat a_val a_printCount a_prints a_term a_step a_kid a_done a_fun a_num a_home a_bind : Nat → Int32}
theorem yv_scan1 {post : Int32 → Prop} {t m : Nat} (ht : t < 32) (hm1 : 1 ≤ m) (hm : m < 10000) (h0 : m + tr_p (a_kinds t) = 1 → post (nI t)) (h1 : m + tr_p (a_kinds t) ≠ 1 → wY_start_4 post f_tokenCap f_budget f_printCap f_count f_rows f_end f_endValue a_kinds a_args a_stat a_val a_printCount a_prints a_term a_step a_kid a_done a_fun a_num a_home a_bind (t + 1) (nI (m + tr_p (a_kinds t) - 1)) (nI t - 1)) : wY_start_4 post f_tokenCap f_budget f_printCap f_count f_rows f_end f_endValue a_kinds a_args a_stat a_val a_printCount a_prints a_term a_step a_kid a_done a_fun a_num a_home a_bind (t + 1 + 1) (nI m) (nI (t + 1) - 1) := by
  rw [nI_pred]
  have ek : a_kinds (nI t).toNatClampNeg = a_kinds t := by rw [nI_clamp (by omega)]
  have p3 := tr_p3 (a_kinds t)
  refine br_f (nI_pos (by omega)) (And.intro (vp_in_nI ht (by decide)) (tr_wpY ?_))
  rw [ek]
  refine nm_r (yv_mp hm1) (br_c (fun z => ?_) (fun z => nm_r (yv_m1 t) ?_))
  · refine h0 ?_
    rw [← nI_0, nI_eq (by omega) (by omega)] at z
    omega
  · refine h1 (fun e => z ?_)
    rw [e]; rfl
theorem yv_scan {post : Int32 → Prop} {T : Nat → Nat} {cn : Nat} (ok : tr_OK a_kinds T cn) (hc : cn ≤ 32) : ∀ i, i ≤ cn → 1 ≤ i → ∀ m, 1 ≤ m → m + 2 * i < 10000 → (m = 1 → post (nI (T i))) → (2 ≤ m → wY_start_4 post f_tokenCap f_budget f_printCap f_count f_rows f_end f_endValue a_kinds a_args a_stat a_val a_printCount a_prints a_term a_step a_kid a_done a_fun a_num a_home a_bind (T i + 1) (nI (m - 1)) (nI (T i) - 1)) → wY_start_4 post f_tokenCap f_budget f_printCap f_count f_rows f_end f_endValue a_kinds a_args a_stat a_val a_printCount a_prints a_term a_step a_kid a_done a_fun a_num a_home a_bind (i + 1) (nI m) (nI i - 1) := by
  intro i
  induction i using Nat.strongRecOn with
  | ind i ih =>
    intro hi h1 m hm hb k1 k2
    obtain ⟨t, rfl⟩ : ∃ t, i = t + 1 := ⟨i - 1, by omega⟩
    obtain ⟨la, lb⟩ := ok.2 t (by omega)
    have p3 := tr_p3 (a_kinds t)
    refine yv_scan1 (by omega) hm (by omega) (fun e => ?_) (fun e => ?_)
    · have p0 : tr_p (a_kinds t) = 0 := by omega
      rw [p0, tr_it0] at lb
      have := k1 (by omega)
      rw [lb] at this
      exact this
    · generalize hp : tr_p (a_kinds t) = p at *
      have cs : p = 0 ∨ p = 1 ∨ p = 2 ∨ p = 3 := by omega
      rcases cs with rfl | rfl | rfl | rfl
      · rw [tr_it0] at lb
        have := k2 (by omega)
        rw [lb] at this
        exact this
      · have q0 : 1 ≤ t := la 0 (by omega)
        have lb' : T (t + 1) = T t := lb
        rw [lb'] at k1 k2
        exact ih t (by omega) (by omega) q0 m hm (by omega) k1 k2
      · have q0 : 1 ≤ t := la 0 (by omega)
        have q1 : 1 ≤ T t := la 1 (by omega)
        have lb' : T (t + 1) = T (T t) := lb
        have l1 := tr_lt ok t (by omega) q0
        rw [lb'] at k1 k2
        refine ih t (by omega) (by omega) q0 (m + 1) (by omega) (by omega) (fun z => absurd z (by omega)) (fun _ => ?_)
        exact ih (T t) (by omega) (by omega) q1 m hm (by omega) k1 k2
      · have q0 : 1 ≤ t := la 0 (by omega)
        have q1 : 1 ≤ T t := la 1 (by omega)
        have q2 : 1 ≤ T (T t) := la 2 (by omega)
        have lb' : T (t + 1) = T (T (T t)) := lb
        have l1 := tr_lt ok t (by omega) q0
        have l2 := tr_lt ok (T t) (by omega) q1
        rw [lb'] at k1 k2
        refine ih t (by omega) (by omega) q0 (m + 2) (by omega) (by omega) (fun z => absurd z (by omega)) (fun _ => ?_)
        refine ih (T t) (by omega) (by omega) q1 (m + 1) (by omega) (by omega) (fun z => absurd z (by omega)) (fun _ => ?_)
        exact ih (T (T t)) (by omega) (by omega) q2 m hm (by omega) k1 k2
theorem yv_start {post : Int32 → Prop} {T : Nat → Nat} {cn i : Nat} (ok : tr_OK a_kinds T cn) (hc : cn ≤ 32) (hi : i ≤ cn) (hp : post (nI (T i))) : wpY_start post (f_tokenCap, f_budget, f_printCap, f_count, f_rows, f_end, f_endValue, a_kinds, a_args, a_stat, a_val, a_printCount, a_prints, a_term, a_step, a_kid, a_done, a_fun, a_num, a_home, a_bind) (nI i - 1) := by
  rcases Nat.eq_zero_or_pos i with rfl | h
  · rw [ok.1] at hp
    exact ⟨1, br_t (by decide) hp⟩
  · exact ⟨i + 1, yv_scan ok hc i hi h 1 (Nat.le_refl _) (by omega) (fun _ => hp) (fun z => absurd z (by omega))⟩
/-! the binding row -/
def gs_bw (bd : Nat → Int32) (n : Nat) (w : Nat → Int32) (i : Nat) : Nat → Int32 := fun j => if n * 8 ≤ j ∧ j < n * 8 + i then w (j - n * 8) else bd j
theorem gs_bw0 {bd : Nat → Int32} {n : Nat} {w : Nat → Int32} : gs_bw bd n w 0 = bd := by
  funext j
  exact if_neg (by omega)
theorem gs_bwS {bd : Nat → Int32} {n i : Nat} {w : Nat → Int32} : upd (gs_bw bd n w i) (n * 8 + i) (w i) = gs_bw bd n w (i + 1) := by
  funext j
  unfold upd gs_bw
  by_cases e : j = n * 8 + i
  · subst e
    rw [if_pos rfl, if_pos (by omega), show n * 8 + i - n * 8 = i from by omega]
  · rw [if_neg e]
    by_cases h : n * 8 ≤ j ∧ j < n * 8 + i
    · rw [if_pos h, if_pos (by omega)]
    · rw [if_neg h, if_neg (by omega)]
theorem yv_ix8 (n i : Nat) : nI n * 8 + nI i = nI (n * 8 + i) := by
  show nI n * nI 8 + nI i = _
  rw [pk_mul, nI_add]
theorem yv_ix3 (n i : Nat) : nI n * 3 + nI i = nI (n * 3 + i) := by
  show nI n * nI 3 + nI i = _
  rw [pk_mul, nI_add]
theorem yv_bl {post : SY → Prop} {x2 x4 x5 : Int32} {n e : Nat} (hn : n < 240) (he : e < n) (hend : wY_begin_55 post x2 (nI e) x4 x5 f_tokenCap f_budget f_printCap f_count (nI n) f_end f_endValue 1 (nI 8) a_kinds a_args a_stat a_val a_printCount a_prints a_term a_step a_kid a_done a_fun a_num a_home (gs_bb a_bind n e x4 x5)) : ∀ d i, i + d = 8 → wY_begin_55 post x2 (nI e) x4 x5 f_tokenCap f_budget f_printCap f_count (nI n) f_end f_endValue (d + 1) (nI i) a_kinds a_args a_stat a_val a_printCount a_prints a_term a_step a_kid a_done a_fun a_num a_home (gs_bw a_bind n (fun y => if nI y = x4 then x5 else a_bind (e * 8 + y)) i) := by
  intro d
  induction d with
  | zero =>
    intro i hi
    obtain rfl : i = 8 := by omega
    exact hend
  | succ d ih =>
    intro i hi
    have h8 : ¬ (8 : Int32) ≤ nI i := nI_ge (b := 8) (by omega) (by decide)
    have e1 := yv_ix8 n i
    have e2 := yv_ix8 e i
    have c1 : (nI n * 8 + nI i).toNatClampNeg = n * 8 + i := by rw [e1, nI_clamp (by omega)]
    have c2 : (nI e * 8 + nI i).toNatClampNeg = e * 8 + i := by rw [e2, nI_clamp (by omega)]
    have v1 : vp_in (nI n * 8 + nI i) 1920 := by rw [e1]; exact vp_in_nI (by omega) (by decide)
    have v2 : vp_in (nI e * 8 + nI i) 1920 := by rw [e2]; exact vp_in_nI (by omega) (by decide)
    refine br_f h8 (br_c (fun z => And.intro v1 (nm_r (e' := gs_bw a_bind n (fun y => if nI y = x4 then x5 else a_bind (e * 8 + y)) (i + 1)) ?_ (nm_r (nI_1 i) (ih (i + 1) (by omega))))) (fun z => br_t (nI_pos' (by omega)) (And.intro v2 (And.intro v1 (nm_r (e' := gs_bw a_bind n (fun y => if nI y = x4 then x5 else a_bind (e * 8 + y)) (i + 1)) ?_ (nm_r (nI_1 i) (ih (i + 1) (by omega))))))))
    · rw [c1, ← gs_bwS]
      rw [if_pos z]
    · rw [c1, c2, ← gs_bwS]
      rw [if_neg z]
      have : gs_bw a_bind n (fun y => if nI y = x4 then x5 else a_bind (e * 8 + y)) i (e * 8 + i) = a_bind (e * 8 + i) := if_neg (by omega)
      rw [this]
theorem yv_bl0 {post : SY → Prop} {x2 x5 : Int32} {n : Nat} (hn : n < 240) (hend : wY_begin_55 post x2 (-1) (-1) x5 f_tokenCap f_budget f_printCap f_count (nI n) f_end f_endValue 1 (nI 8) a_kinds a_args a_stat a_val a_printCount a_prints a_term a_step a_kid a_done a_fun a_num a_home (gs_bw a_bind n (fun _ => 0) 8)) : ∀ d i, i + d = 8 → wY_begin_55 post x2 (-1) (-1) x5 f_tokenCap f_budget f_printCap f_count (nI n) f_end f_endValue (d + 1) (nI i) a_kinds a_args a_stat a_val a_printCount a_prints a_term a_step a_kid a_done a_fun a_num a_home (gs_bw a_bind n (fun _ => 0) i) := by
  intro d
  induction d with
  | zero =>
    intro i hi
    obtain rfl : i = 8 := by omega
    exact hend
  | succ d ih =>
    intro i hi
    have h8 : ¬ (8 : Int32) ≤ nI i := nI_ge (b := 8) (by omega) (by decide)
    have e1 := yv_ix8 n i
    have c1 : (nI n * 8 + nI i).toNatClampNeg = n * 8 + i := by rw [e1, nI_clamp (by omega)]
    have v1 : vp_in (nI n * 8 + nI i) 1920 := by rw [e1]; exact vp_in_nI (by omega) (by decide)
    refine br_f h8 (br_f (gs_nm1 i (by omega)) (br_f (by decide) (And.intro v1 (nm_r (e' := gs_bw a_bind n (fun _ => 0) (i + 1)) ?_ (nm_r (nI_1 i) (ih (i + 1) (by omega)))))))
    rw [c1, ← gs_bwS]
end
section
variable {P : gP} {C : yC} {en ev : Int32} {sp kid : Nat → Int32} {s : gS} {post : SY → Prop}
theorem yv_give {r : Nat} {f v h : Int32} (hr : r < 240) (hf : f = 0 ∨ f = 1) (hp : post (yv_S P C en ev sp kid (gs_give s r f v h))) : wpY_give post (yv_S P C en ev sp kid s) (nI r) f v h := by
  have i : vp_in (nI r) 240 := vp_in_nI hr (by decide)
  have c : (nI r).toNatClampNeg = r := nI_clamp (by omega)
  have b : vp_nar .boolean f = f := by rcases hf with rfl | rfl <;> rfl
  have e1 : upd (gs_fn s) (nI r).toNatClampNeg (vp_nar .boolean f) = upd (gs_fn s) r f := by rw [c, b]
  have e2 : upd (gs_nm s) (nI r).toNatClampNeg v = upd (gs_nm s) r v := by rw [c]
  have e3 : upd (gs_hm s) (nI r).toNatClampNeg h = upd (gs_hm s) r h := by rw [c]
  have e4 : upd (gs_dn s) (nI r).toNatClampNeg (vp_nar .boolean 1) = upd (gs_dn s) r 1 := by rw [c]; rfl
  exact And.intro i (nm_r e1 (And.intro i (nm_r e2 (And.intro i (nm_r e3 (And.intro i (nm_r e4 hp)))))))
theorem yv_same {r q : Nat} (hr : r < 240) (hq : q < 240) (hf : gs_fn s q = 0 ∨ gs_fn s q = 1) (hp : post (yv_S P C en ev sp kid (gs_same s r q))) : wpY_same post (yv_S P C en ev sp kid s) (nI r) (nI q) := by
  have i : vp_in (nI q) 240 := vp_in_nI hq (by decide)
  have c : (nI q).toNatClampNeg = q := nI_clamp (by omega)
  have K : wpY_give post (yv_S P C en ev sp kid s) (nI r) (gs_fn s (nI q).toNatClampNeg) (gs_nm s (nI q).toNatClampNeg) (gs_hm s (nI q).toNatClampNeg) := by
    rw [c]
    exact yv_give hr hf hp
  exact And.intro i (And.intro i (And.intro i K))
theorem yv_begin {r t e k : Nat} {x b : Int32} (hn : gs_n s < p_bu P) (hb : p_bu P ≤ 240) (hr : r < gs_n s) (he : e < gs_n s) (hk : k < 3) (es : sp r = nI k) (hp : post (yv_S P C en ev (upd (upd sp (gs_n s) 0) r (nI (k + 1))) (upd kid (r * 3 + k) (nI (gs_n s))) (gs_begin s t e x b))) : wpY_begin post (yv_S P C en ev sp kid s) (nI t) (nI r) (nI e) x b := by
  have i : vp_in (nI (gs_n s)) 240 := vp_in_nI (by omega) (by decide)
  have c : (nI (gs_n s)).toNatClampNeg = gs_n s := nI_clamp (by omega)
  have ir : vp_in (nI r) 240 := vp_in_nI (by omega) (by decide)
  have cr : (nI r).toNatClampNeg = r := nI_clamp (by omega)
  have e1 : upd (gs_tm s) (nI (gs_n s)).toNatClampNeg (nI t) = upd (gs_tm s) (gs_n s) (nI t) := by rw [c]
  have e2 : upd sp (nI (gs_n s)).toNatClampNeg 0 = upd sp (gs_n s) 0 := by rw [c]
  have e3 : upd (gs_dn s) (nI (gs_n s)).toNatClampNeg (vp_nar .boolean 0) = upd (gs_dn s) (gs_n s) 0 := by rw [c]; rfl
  have es' : upd sp (gs_n s) 0 (nI r).toNatClampNeg = nI k := by rw [cr, pk_un (by omega)]; exact es
  have ix : nI r * 3 + upd sp (gs_n s) 0 (nI r).toNatClampNeg = nI (r * 3 + k) := by rw [es', yv_ix3]
  have vx : vp_in (nI r * 3 + upd sp (gs_n s) 0 (nI r).toNatClampNeg) 720 := by rw [ix]; exact vp_in_nI (by omega) (by decide)
  have e4 : upd kid (nI r * 3 + upd sp (gs_n s) 0 (nI r).toNatClampNeg).toNatClampNeg (nI (gs_n s)) = upd kid (r * 3 + k) (nI (gs_n s)) := by rw [ix, nI_clamp (by omega)]
  have e5 : upd (upd sp (gs_n s) 0) (nI r).toNatClampNeg (upd sp (gs_n s) 0 (nI r).toNatClampNeg + 1) = upd (upd sp (gs_n s) 0) r (nI (k + 1)) := by rw [es', cr, nI_1]
  refine br_t (nI_lt hn (by omega)) (And.intro i (nm_r e1 (And.intro i (nm_r e2 (And.intro i (nm_r e3 ⟨9, ?_⟩))))))
  have L := yv_bl (post := post) (x2 := nI r) (x4 := x) (x5 := b) (f_tokenCap := C.1) (f_budget := nI (p_bu P)) (f_printCap := nI (p_pc P)) (f_count := nI (p_cn P)) (f_end := en) (f_endValue := ev) (a_kinds := p_kd P) (a_args := p_ag P) (a_stat := C.2.1) (a_val := C.2.2) (a_printCount := gs_pk s) (a_prints := gs_pr s) (a_term := upd (gs_tm s) (gs_n s) (nI t)) (a_step := upd sp (gs_n s) 0) (a_kid := kid) (a_done := upd (gs_dn s) (gs_n s) 0) (a_fun := gs_fn s) (a_num := gs_nm s) (a_home := gs_hm s) (a_bind := gs_bd s) (n := gs_n s) (e := e) (by omega) he ?_ 8 0 rfl
  · rw [gs_bw0] at L
    exact L
  · exact br_t (by decide) (br_f (nI_pos (by omega)) (And.intro ir (And.intro vx (nm_r e4 (And.intro ir (And.intro ir (nm_r e5 (nm_r (nI_1 (gs_n s)) hp))))))))
theorem yv_spent {p0 p1 p2 p3 p4 : Int32} (hn : p_bu P ≤ gs_n s) (hb : gs_n s ≤ 240) (hp : post (yv_S P C 4 0 sp kid s)) : wpY_begin post (yv_S P C en ev sp kid s) p0 p1 p2 p3 p4 := br_f (nI_nlt hn (by omega)) hp
/-- the first row: no environment -/
def gs_zero (n : Nat) (s : gS) : gS := (n, gs_tm s, gs_dn s, gs_fn s, gs_nm s, gs_hm s, gs_bw (gs_bd s) 0 (fun _ => 0) 8, gs_pk s, gs_pr s)
theorem gs_zbb (bd : Nat → Int32) : gs_bb (gs_bw bd 0 (fun _ => 0) 8) 0 0 (-1) 0 = gs_bw bd 0 (fun _ => 0) 8 := by
  funext j
  unfold gs_bb
  by_cases h : 0 * 8 ≤ j ∧ j < 0 * 8 + 8
  · rw [if_pos h, if_neg (gs_nm1 _ (by omega))]
    exact congrArg _ (by omega)
  · rw [if_neg h]
theorem yv_root {t : Nat} (h0 : gs_n s = 0) (hb : 0 < p_bu P) (hb2 : p_bu P ≤ 240) (hp : post (yv_S P C en ev (upd sp 0 0) kid (gs_begin (gs_zero 0 s) t 0 (-1) 0))) : wpY_begin post (yv_S P C en ev sp kid s) (nI t) (-1) (-1) (-1) 0 := by
  have i : vp_in (nI (gs_n s)) 240 := vp_in_nI (by omega) (by decide)
  have c : (nI (gs_n s)).toNatClampNeg = 0 := by rw [h0]; decide
  have e1 : upd (gs_tm s) (nI (gs_n s)).toNatClampNeg (nI t) = upd (gs_tm s) 0 (nI t) := by rw [c]
  have e2 : upd sp (nI (gs_n s)).toNatClampNeg 0 = upd sp 0 0 := by rw [c]
  have e3 : upd (gs_dn s) (nI (gs_n s)).toNatClampNeg (vp_nar .boolean 0) = upd (gs_dn s) 0 0 := by rw [c]; rfl
  refine br_t (nI_lt (by omega) (by omega)) (And.intro i (nm_r e1 (And.intro i (nm_r e2 (And.intro i (nm_r e3 ⟨9, ?_⟩))))))
  have L := yv_bl0 (post := post) (x2 := -1) (x5 := 0) (f_tokenCap := C.1) (f_budget := nI (p_bu P)) (f_printCap := nI (p_pc P)) (f_count := nI (p_cn P)) (f_end := en) (f_endValue := ev) (a_kinds := p_kd P) (a_args := p_ag P) (a_stat := C.2.1) (a_val := C.2.2) (a_printCount := gs_pk s) (a_prints := gs_pr s) (a_term := upd (gs_tm s) 0 (nI t)) (a_step := upd sp 0 0) (a_kid := kid) (a_done := upd (gs_dn s) 0 0) (a_fun := gs_fn s) (a_num := gs_nm s) (a_home := gs_hm s) (a_bind := gs_bd s) (n := 0) (by omega) ?_ 8 0 rfl
  · rw [gs_bw0] at L
    rw [h0]
    exact L
  · unfold gs_begin gs_zero at hp
    refine br_t (by decide) (br_t (by decide) (nm_r (nI_1 0) ?_))
    have e := gs_zbb (gs_bd s)
    unfold yv_S at hp
    dsimp only [gs_n, gs_tm, gs_dn, gs_fn, gs_nm, gs_hm, gs_bd, gs_pk, gs_pr] at hp e ⊢
    rw [e] at hp
    exact hp
end
end
section
/-! one visit of the reference, a rule for each kind and step -/
def yv_at (P : gP) (s : gS) (sp : Nat → Int32) (r t : Nat) (c : Int32) : Prop := tr_OK (p_kd P) (p_T P) (p_cn P) ∧ p_cn P ≤ 32 ∧ r < 240 ∧ gs_tm s r = nI t ∧ t < p_cn P ∧ sp r = c
theorem yv_sub1 {i : Nat} (h : 1 ≤ i) : nI (i - 1) = nI i - 1 := by
  obtain ⟨j, rfl⟩ : ∃ j, i = j + 1 := ⟨i - 1, by omega⟩
  rw [nI_pred, Nat.add_sub_cancel]
section
variable {P : gP} {C : yC} {en ev : Int32} {sp kid : Nat → Int32} {s : gS} {post : SY → Prop} {r t : Nat} {z c : Int32}
theorem yv_pre {k x8 x9 x10 x11 x12 x13 : Int32} (H : yv_at P s sp r t c) (hk : p_kd P t = k) (h8 : x8 = nI t - 1) (h9 : x9 = nI (p_T P t) - 1) (h10 : x10 = nI (p_T P (p_T P t)) - 1) (h11 : x11 = kid (r * 3)) (h12 : x12 = kid (r * 3 + 1)) (h13 : x13 = kid (r * 3 + 2))
    (hI : (k = 4 ∨ k = 5 ∨ k = 6) → wY_visit_118 post (nI r) z (nI (p_rc P)) (nI t) k (p_ag P t) c x8 x9 x10 x11 x12 x13 1 C.1 (nI (p_bu P)) (nI (p_pc P)) (nI (p_cn P)) (nI (gs_n s)) en ev (p_kd P) (p_ag P) C.2.1 C.2.2 (gs_pk s) (gs_pr s) (gs_tm s) sp kid (gs_dn s) (gs_fn s) (gs_nm s) (gs_hm s) (gs_bd s)) (hO : ¬ (k = 4 ∨ k = 5 ∨ k = 6) → wY_visit_118 post (nI r) z (nI (p_rc P)) (nI t) k (p_ag P t) c x8 x9 x10 x11 x12 x13 0 C.1 (nI (p_bu P)) (nI (p_pc P)) (nI (p_cn P)) (nI (gs_n s)) en ev (p_kd P) (p_ag P) C.2.1 C.2.2 (gs_pk s) (gs_pr s) (gs_tm s) sp kid (gs_dn s) (gs_fn s) (gs_nm s) (gs_hm s) (gs_bd s)) : wpY_visit post (yv_S P C en ev sp kid s) (nI r) z (nI (p_rc P)) := by
  obtain ⟨ok, hc, hr, et, ht, hs⟩ := H
  subst h8 h9 h10 h11 h12 h13
  have i : vp_in (nI r) 240 := vp_in_nI hr (by decide)
  have cr : (nI r).toNatClampNeg = r := nI_clamp (by omega)
  have it : vp_in (nI t) 32 := vp_in_nI (by omega) (by decide)
  have ct : (nI t).toNatClampNeg = t := nI_clamp (by omega)
  have lT := tr_leT ok (i := t) (by omega)
  have f0 : nI r * 3 = nI (r * 3) := pk_mul r 3
  have f1 : nI r * 3 + 1 = nI (r * 3 + 1) := yv_ix3 r 1
  have f2 : nI r * 3 + 2 = nI (r * 3 + 2) := yv_ix3 r 2
  have v0 : vp_in (nI r * 3) 720 := by rw [f0]; exact vp_in_nI (by omega) (by decide)
  have v1 : vp_in (nI r * 3 + 1) 720 := by rw [f1]; exact vp_in_nI (by omega) (by decide)
  have v2 : vp_in (nI r * 3 + 2) 720 := by rw [f2]; exact vp_in_nI (by omega) (by decide)
  have g0 : kid (nI r * 3).toNatClampNeg = kid (r * 3) := by rw [f0, nI_clamp (by omega)]
  have g1 : kid (nI r * 3 + 1).toNatClampNeg = kid (r * 3 + 1) := by rw [f1, nI_clamp (by omega)]
  have g2 : kid (nI r * 3 + 2).toNatClampNeg = kid (r * 3 + 2) := by rw [f2, nI_clamp (by omega)]
  have e1 : gs_tm s (nI r).toNatClampNeg = nI t := by rw [cr]; exact et
  have e2 : p_kd P (nI t).toNatClampNeg = k := by rw [ct]; exact hk
  have e3 : p_ag P (nI t).toNatClampNeg = p_ag P t := by rw [ct]
  have e4 : sp (nI r).toNatClampNeg = c := by rw [cr]; exact hs
  refine And.intro i (nm_r e1 (And.intro it (nm_r e2 (And.intro it (nm_r e3 (And.intro i (nm_r e4 (nm_e (yv_start ok hc (i := t) (by omega) (nm_e (yv_start ok hc (i := p_T P t) (by omega) (nm_e (And.intro v0 (nm_r g0 (And.intro v1 (nm_r g1 (And.intro v2 (nm_r g2 ?_))))))))))))))))))
  exact br_c (fun e => hI (Or.inl e)) (fun n4 => br_c (fun e => hI (Or.inr (Or.inl e))) (fun n5 => br_c (fun e => hI (Or.inr (Or.inr e))) (fun n6 => hO (fun q => q.elim n4 (fun q => q.elim n5 n6)))))
theorem yv_preO {k x8 x9 x10 x11 x12 x13 : Int32} (H : yv_at P s sp r t c) (hk : p_kd P t = k) (h8 : x8 = nI t - 1) (h9 : x9 = nI (p_T P t) - 1) (h10 : x10 = nI (p_T P (p_T P t)) - 1) (h11 : x11 = kid (r * 3)) (h12 : x12 = kid (r * 3 + 1)) (h13 : x13 = kid (r * 3 + 2))
    (hn : ¬ (k = 4 ∨ k = 5 ∨ k = 6)) (h : wY_visit_118 post (nI r) z (nI (p_rc P)) (nI t) k (p_ag P t) c x8 x9 x10 x11 x12 x13 0 C.1 (nI (p_bu P)) (nI (p_pc P)) (nI (p_cn P)) (nI (gs_n s)) en ev (p_kd P) (p_ag P) C.2.1 C.2.2 (gs_pk s) (gs_pr s) (gs_tm s) sp kid (gs_dn s) (gs_fn s) (gs_nm s) (gs_hm s) (gs_bd s)) : wpY_visit post (yv_S P C en ev sp kid s) (nI r) z (nI (p_rc P)) := yv_pre H hk h8 h9 h10 h11 h12 h13 (fun q => absurd q hn) (fun _ => h)
theorem yv_preI {k x8 x9 x10 x11 x12 x13 : Int32} (H : yv_at P s sp r t c) (hk : p_kd P t = k) (h8 : x8 = nI t - 1) (h9 : x9 = nI (p_T P t) - 1) (h10 : x10 = nI (p_T P (p_T P t)) - 1) (h11 : x11 = kid (r * 3)) (h12 : x12 = kid (r * 3 + 1)) (h13 : x13 = kid (r * 3 + 2))
    (hn : k = 4 ∨ k = 5 ∨ k = 6) (h : wY_visit_118 post (nI r) z (nI (p_rc P)) (nI t) k (p_ag P t) c x8 x9 x10 x11 x12 x13 1 C.1 (nI (p_bu P)) (nI (p_pc P)) (nI (p_cn P)) (nI (gs_n s)) en ev (p_kd P) (p_ag P) C.2.1 C.2.2 (gs_pk s) (gs_pr s) (gs_tm s) sp kid (gs_dn s) (gs_fn s) (gs_nm s) (gs_hm s) (gs_bd s)) : wpY_visit post (yv_S P C en ev sp kid s) (nI r) z (nI (p_rc P)) := yv_pre H hk h8 h9 h10 h11 h12 h13 (fun _ => h) (fun q => absurd hn q)
theorem yv_num (H : yv_at P s sp r t c) (hk : p_kd P t = 0) (hp : post (yv_S P C en ev sp kid (gs_give s r 0 (p_ag P t) 0))) : wpY_visit post (yv_S P C en ev sp kid s) (nI r) z (nI (p_rc P)) :=
  yv_preO H hk rfl rfl rfl rfl rfl rfl (by decide) (br_t rfl (br_f (by decide) (br_f (by decide) (br_t rfl (yv_give H.2.2.1 (Or.inl rfl) hp)))))
theorem yv_lam (H : yv_at P s sp r t c) (hk : p_kd P t = 2) (hp : post (yv_S P C en ev sp kid (gs_give s r 1 (nI t) (nI r)))) : wpY_visit post (yv_S P C en ev sp kid s) (nI r) z (nI (p_rc P)) :=
  yv_preO H hk rfl rfl rfl rfl rfl rfl (by decide) (br_t rfl (br_f (by decide) (br_f (by decide) (br_f (by decide) (br_t rfl (yv_give H.2.2.1 (Or.inr rfl) hp))))))
theorem yv_var {j q tq : Nat} {x11 : Int32} (H : yv_at P s sp r t c) (hk : p_kd P t = 1) (h11 : x11 = kid (r * 3)) (hj : j < 8) (ej : p_ag P t = nI j) (eq : gs_bd s (r * 8 + j) = nI q) (hq : q < 240) (etq : gs_tm s q = nI tq) (htq : tq < p_cn P)
    (h : ∀ x16, (p_kd P tq = 3 → x16 = nI tq - 1) → (p_kd P tq ≠ 3 → x16 = nI (p_T P tq) - 1) → wY_visit_298 post (nI r) z c x11 (nI q) x16 C.1 (nI (p_bu P)) (nI (p_pc P)) (nI (p_cn P)) (nI (gs_n s)) en ev (p_kd P) (p_ag P) C.2.1 C.2.2 (gs_pk s) (gs_pr s) (gs_tm s) sp kid (gs_dn s) (gs_fn s) (gs_nm s) (gs_hm s) (gs_bd s)) : wpY_visit post (yv_S P C en ev sp kid s) (nI r) z (nI (p_rc P)) := by
  have hr := H.2.2.1
  have hc := H.2.1
  have f1 : nI r * 8 + p_ag P t = nI (r * 8 + j) := by rw [ej, yv_ix8]
  have v1 : vp_in (nI r * 8 + p_ag P t) 1920 := by rw [f1]; exact vp_in_nI (by omega) (by decide)
  have e1 : gs_bd s (nI r * 8 + p_ag P t).toNatClampNeg = nI q := by rw [f1, nI_clamp (by omega)]; exact eq
  have iq : vp_in (nI q) 240 := vp_in_nI hq (by decide)
  have cq : gs_tm s (nI q).toNatClampNeg = nI tq := by rw [nI_clamp (by omega)]; exact etq
  have it : vp_in (gs_tm s (nI q).toNatClampNeg) 32 := by rw [cq]; exact vp_in_nI (by omega) (by decide)
  have ek : p_kd P (gs_tm s (nI q).toNatClampNeg).toNatClampNeg = p_kd P tq := by rw [cq, nI_clamp (by omega)]
  have st : ∀ Q : Int32 → Prop, Q (nI (p_T P tq)) → wpY_start Q (yv_S P C en ev sp kid s) (gs_tm s (nI q).toNatClampNeg - 1) := by
    intro Q hQ
    rw [cq]
    exact yv_start H.1 hc (i := tq) (by omega) hQ
  refine yv_preO H hk rfl rfl rfl h11 rfl rfl (by decide) (br_t rfl (br_f (by decide) (br_f (by decide) (br_f (by decide) (br_f (by decide) (br_t rfl (And.intro v1 (nm_r e1 (And.intro iq (st _ (nm_e (And.intro iq (And.intro it (br_c (fun k3 => And.intro iq (nm_e (h _ (fun _ => ?_) (fun q' => absurd (ek.symm.trans k3) q')))) (fun k3 => h _ (fun q' => absurd (ek.trans q') k3) (fun _ => rfl))))))))))))))))
  rw [cq]
theorem yv_varV {j q tq : Nat} (H : yv_at P s sp r t c) (hk : p_kd P t = 1) (hj : j < 8) (ej : p_ag P t = nI j) (eq : gs_bd s (r * 8 + j) = nI q) (hq : q < 240) (etq : gs_tm s q = nI tq) (htq : tq < p_cn P) (hf : gs_fn s q = 0 ∨ gs_fn s q = 1) (hp : post (yv_S P C en ev sp kid (gs_same s r q))) : wpY_visit post (yv_S P C en ev sp kid s) (nI r) 0 (nI (p_rc P)) :=
  yv_var H hk rfl hj ej eq hq etq htq (fun x16 _ _ => br_t rfl (yv_same H.2.2.1 hq hf hp))
theorem yv_varN0 {j q : Nat} (g : gs_PG P) (H : yv_at P s sp r t 0) (hk : p_kd P t = 1) (hj : j < 8) (ej : p_ag P t = nI j) (eq : gs_bd s (r * 8 + j) = nI q) (hq : q < 240) (etq : gs_tm s q = nI (gs_t s q)) (htq : gs_t s q < p_cn P) (hkq : p_kd P (gs_t s q) = 3 ∨ p_kd P (gs_t s q) = 7) (hp : wpY_begin post (yv_S P C en ev sp kid s) (nI (gs_susp P s q)) (nI r) (nI q) (-1) 0) : wpY_visit post (yv_S P C en ev sp kid s) (nI r) 1 (nI (p_rc P)) := by
  refine yv_var H hk rfl hj ej eq hq etq htq (fun x16 h3 h7 => br_f (by decide) (br_t rfl ?_))
  have e : x16 = nI (gs_susp P s q) := by
    obtain ⟨g1, g2, g3, g4, pa, pb, pc, st, hg, gt⟩ := g
    unfold gs_susp
    rcases hkq with k | k
    · rw [if_pos k, h3 k, yv_sub1 (tr_two gt htq (Or.inl k)).1]
    · have k' : p_kd P (gs_t s q) ≠ 3 := by rw [k]; decide
      rw [if_neg k', h7 k', yv_sub1 (tr_let gt htq k).2.1]
  rw [e]
  exact hp
theorem yv_varN1 {j q tq a : Nat} (H : yv_at P s sp r t 1) (hk : p_kd P t = 1) (hj : j < 8) (ej : p_ag P t = nI j) (eq : gs_bd s (r * 8 + j) = nI q) (hq : q < 240) (etq : gs_tm s q = nI tq) (htq : tq < p_cn P) (ha : nI a = kid (r * 3)) (ha2 : a < 240) (hf : gs_fn s a = 0 ∨ gs_fn s a = 1) (hp : post (yv_S P C en ev sp kid (gs_same s r a))) : wpY_visit post (yv_S P C en ev sp kid s) (nI r) 1 (nI (p_rc P)) :=
  yv_var H hk ha hj ej eq hq etq htq (fun x16 _ _ => br_f (by decide) (br_f (by decide) (yv_same H.2.2.1 ha2 hf hp)))
/-! APP -/
theorem yv_app0 (H : yv_at P s sp r t 0) (hk : p_kd P t = 3) (hT : 1 ≤ p_T P t) (hp : wpY_begin post (yv_S P C en ev sp kid s) (nI (p_T P t - 1)) (nI r) (nI r) (-1) 0) : wpY_visit post (yv_S P C en ev sp kid s) (nI r) z (nI (p_rc P)) :=
  yv_preO H hk rfl (yv_sub1 hT) rfl rfl rfl rfl (by decide) (br_t rfl (br_f (by decide) (br_t rfl (br_f (by decide) (br_f (by decide) (br_f (by decide) (br_f (by decide) (br_t rfl (br_t rfl hp)))))))))
theorem yv_fa {a : Nat} (ha : a < 240) {X : Nat → Int32} {y : Int32} (h : X a = y) : X (nI a).toNatClampNeg = y := by rw [nI_clamp (by omega)]; exact h
theorem yv_fn {a : Nat} (ha : a < 240) {X : Nat → Int32} {y : Int32} (h : ¬ X a = y) : ¬ X (nI a).toNatClampNeg = y := by rw [nI_clamp (by omega)]; exact h
theorem yv_appS {a : Nat} (H : yv_at P s sp r t 1) (hk : p_kd P t = 3) (ha : nI a = kid (r * 3)) (ha2 : a < 240) (hf : gs_fn s a = 0) (hp : post (yv_S P C 3 (nI t) sp kid s)) : wpY_visit post (yv_S P C en ev sp kid s) (nI r) z (nI (p_rc P)) :=
  yv_preO H hk rfl rfl rfl ha rfl rfl (by decide) (br_t rfl (br_f (by decide) (br_t rfl (br_t rfl (And.intro (vp_in_nI ha2 (by decide)) (br_t (yv_fa ha2 hf) hp))))))
theorem yv_app1V {a : Nat} (H : yv_at P s sp r t 1) (hk : p_kd P t = 3) (ha : nI a = kid (r * 3)) (ha2 : a < 240) (hf : ¬ gs_fn s a = 0) (h1 : 1 ≤ t) (hp : wpY_begin post (yv_S P C en ev sp kid s) (nI (t - 1)) (nI r) (nI r) (-1) 0) : wpY_visit post (yv_S P C en ev sp kid s) (nI r) 0 (nI (p_rc P)) :=
  yv_preO H hk (yv_sub1 h1) rfl rfl ha rfl rfl (by decide) (br_t rfl (br_f (by decide) (br_t rfl (br_t rfl (And.intro (vp_in_nI ha2 (by decide)) (br_f (yv_fn ha2 hf) (br_f (by decide) (br_f (by decide) (br_f (by decide) (br_t rfl (br_f (by decide) (br_t rfl (br_t rfl hp)))))))))))))
theorem yv_app1N {a hh l : Nat} (H : yv_at P s sp r t 1) (hk : p_kd P t = 3) (ha : nI a = kid (r * 3)) (ha2 : a < 240) (hf : gs_fun P s a hh l) (hl1 : 1 ≤ l) (hp : wpY_begin post (yv_S P C en ev sp kid s) (nI (l - 1)) (nI r) (nI hh) (p_ag P l) (nI r)) : wpY_visit post (yv_S P C en ev sp kid s) (nI r) 1 (nI (p_rc P)) := by
  obtain ⟨f1, f2, f3, f4, f5, f6, f7⟩ := hf
  have hc := H.2.1
  have ia : vp_in (nI a) 240 := vp_in_nI ha2 (by decide)
  have en1 : gs_nm s (nI a).toNatClampNeg = nI l := yv_fa ha2 f4
  have eh : gs_hm s (nI a).toNatClampNeg = nI hh := yv_fa ha2 f3
  have iv : vp_in (gs_nm s (nI a).toNatClampNeg) 32 := by rw [en1]; exact vp_in_nI (by omega) (by decide)
  have K : wpY_begin post (yv_S P C en ev sp kid s) (gs_nm s (nI a).toNatClampNeg - 1) (nI r) (gs_hm s (nI a).toNatClampNeg) (p_ag P (gs_nm s (nI a).toNatClampNeg).toNatClampNeg) (nI r) := by
    rw [en1, eh, nI_clamp (by omega), ← yv_sub1 hl1]
    exact hp
  exact yv_preO H hk rfl rfl rfl ha rfl rfl (by decide) (br_t rfl (br_f (by decide) (br_t rfl (br_t rfl (And.intro ia (br_f (yv_fn ha2 (by rw [f1]; decide)) (br_f (by decide) (br_f (by decide) (br_f (by decide) (br_t rfl (br_f (by decide) (br_t rfl (br_f (by decide) (br_t rfl (And.intro ia (And.intro ia (And.intro ia (And.intro iv K))))))))))))))))))
theorem yv_app2V {a b hh l : Nat} (H : yv_at P s sp r t 2) (hk : p_kd P t = 3) (ha : nI a = kid (r * 3)) (ha2 : a < 240) (hb : nI b = kid (r * 3 + 1)) (hf : gs_fun P s a hh l) (hl1 : 1 ≤ l) (hp : wpY_begin post (yv_S P C en ev sp kid s) (nI (l - 1)) (nI r) (nI hh) (p_ag P l) (nI b)) : wpY_visit post (yv_S P C en ev sp kid s) (nI r) 0 (nI (p_rc P)) := by
  obtain ⟨f1, f2, f3, f4, f5, f6, f7⟩ := hf
  have hc := H.2.1
  have ia : vp_in (nI a) 240 := vp_in_nI ha2 (by decide)
  have en1 : gs_nm s (nI a).toNatClampNeg = nI l := yv_fa ha2 f4
  have eh : gs_hm s (nI a).toNatClampNeg = nI hh := yv_fa ha2 f3
  have iv : vp_in (gs_nm s (nI a).toNatClampNeg) 32 := by rw [en1]; exact vp_in_nI (by omega) (by decide)
  have K : wpY_begin post (yv_S P C en ev sp kid s) (gs_nm s (nI a).toNatClampNeg - 1) (nI r) (gs_hm s (nI a).toNatClampNeg) (p_ag P (gs_nm s (nI a).toNatClampNeg).toNatClampNeg) (nI b) := by
    rw [en1, eh, nI_clamp (by omega), ← yv_sub1 hl1]
    exact hp
  exact yv_preO H hk rfl rfl rfl ha hb rfl (by decide) (br_t rfl (br_f (by decide) (br_t rfl (br_f (by decide) (br_f (by decide) (br_f (by decide) (br_f (by decide) (br_t rfl (br_f (by decide) (br_f (by decide) (br_f (by decide) (br_t rfl (br_t rfl (And.intro ia (And.intro ia (And.intro ia (And.intro iv K)))))))))))))))))
theorem yv_app3V {a : Nat} (H : yv_at P s sp r t 3) (hk : p_kd P t = 3) (ha : nI a = kid (r * 3 + 2)) (ha2 : a < 240) (hf : gs_fn s a = 0 ∨ gs_fn s a = 1) (hp : post (yv_S P C en ev sp kid (gs_same s r a))) : wpY_visit post (yv_S P C en ev sp kid s) (nI r) 0 (nI (p_rc P)) :=
  yv_preO H hk rfl rfl rfl rfl rfl ha (by decide) (br_t rfl (br_f (by decide) (br_t rfl (br_f (by decide) (br_f (by decide) (br_f (by decide) (br_f (by decide) (br_t rfl (br_f (by decide) (br_f (by decide) (br_f (by decide) (br_f (by decide) (br_t rfl (yv_same H.2.2.1 ha2 hf hp))))))))))))))
theorem yv_app2N {a : Nat} (H : yv_at P s sp r t 2) (hk : p_kd P t = 3) (ha : nI a = kid (r * 3 + 1)) (ha2 : a < 240) (hf : gs_fn s a = 0 ∨ gs_fn s a = 1) (hp : post (yv_S P C en ev sp kid (gs_same s r a))) : wpY_visit post (yv_S P C en ev sp kid s) (nI r) 1 (nI (p_rc P)) :=
  yv_preO H hk rfl rfl rfl rfl ha rfl (by decide) (br_t rfl (br_f (by decide) (br_t rfl (br_f (by decide) (br_f (by decide) (br_f (by decide) (br_f (by decide) (br_t rfl (br_f (by decide) (br_f (by decide) (br_f (by decide) (br_t rfl (br_f (by decide) (br_f (by decide) (yv_same H.2.2.1 ha2 hf hp)))))))))))))))
/-! ADD, IFZ, PRT: the first part must be a number -/
theorem yv_intS {a : Nat} (H : yv_at P s sp r t 1) (hk : p_kd P t = 4 ∨ p_kd P t = 5 ∨ p_kd P t = 6) (ha : nI a = kid (r * 3)) (ha2 : a < 240) (hf : ¬ gs_fn s a = 0) (hp : post (yv_S P C 3 (nI t) sp kid s)) : wpY_visit post (yv_S P C en ev sp kid s) (nI r) z (nI (p_rc P)) :=
  yv_preI H rfl rfl rfl rfl ha rfl rfl hk (br_f (by decide) (br_t rfl (And.intro (vp_in_nI ha2 (by decide)) (br_f (yv_fn ha2 hf) hp))))
theorem yv_add0 (H : yv_at P s sp r t 0) (hk : p_kd P t = 4) (hT : 1 ≤ p_T P t) (hp : wpY_begin post (yv_S P C en ev sp kid s) (nI (p_T P t - 1)) (nI r) (nI r) (-1) 0) : wpY_visit post (yv_S P C en ev sp kid s) (nI r) z (nI (p_rc P)) :=
  yv_preI H hk rfl (yv_sub1 hT) rfl rfl rfl rfl (by decide) (br_f (by decide) (br_f (by decide) (br_t rfl (br_f (by decide) (br_f (by decide) (br_f (by decide) (br_f (by decide) (br_f (by decide) (br_f (by decide) (br_t rfl (br_f (by decide) (br_t rfl hp))))))))))))
theorem yv_add1 {a : Nat} (H : yv_at P s sp r t 1) (hk : p_kd P t = 4) (h1 : 1 ≤ t) (ha : nI a = kid (r * 3)) (ha2 : a < 240) (hf : gs_fn s a = 0) (hp : wpY_begin post (yv_S P C en ev sp kid s) (nI (t - 1)) (nI r) (nI r) (-1) 0) : wpY_visit post (yv_S P C en ev sp kid s) (nI r) z (nI (p_rc P)) :=
  yv_preI H hk (yv_sub1 h1) rfl rfl ha rfl rfl (by decide) (br_f (by decide) (br_t rfl (And.intro (vp_in_nI ha2 (by decide)) (br_t (yv_fa ha2 hf) (br_t rfl (br_f (by decide) (br_f (by decide) (br_f (by decide) (br_f (by decide) (br_f (by decide) (br_f (by decide) (br_t rfl (br_f (by decide) (br_f (by decide) hp))))))))))))))
theorem yv_addS {b : Nat} (H : yv_at P s sp r t 2) (hk : p_kd P t = 4) (hb : nI b = kid (r * 3 + 1)) (hb2 : b < 240) (hf : ¬ gs_fn s b = 0) (hp : post (yv_S P C 3 (nI t) sp kid s)) : wpY_visit post (yv_S P C en ev sp kid s) (nI r) z (nI (p_rc P)) :=
  yv_preI H hk rfl rfl rfl rfl hb rfl (by decide) (br_f (by decide) (br_f (by decide) (br_t rfl (br_t rfl (And.intro (vp_in_nI hb2 (by decide)) (br_f (yv_fn hb2 hf) hp))))))
theorem yv_add2 {a b : Nat} (H : yv_at P s sp r t 2) (hk : p_kd P t = 4) (ha : nI a = kid (r * 3)) (ha2 : a < 240) (hb : nI b = kid (r * 3 + 1)) (hb2 : b < 240) (hf : gs_fn s b = 0) (hp : post (yv_S P C en ev sp kid (gs_give s r 0 (gs_nm s a + gs_nm s b) 0))) : wpY_visit post (yv_S P C en ev sp kid s) (nI r) z (nI (p_rc P)) := by
  have ia : vp_in (nI a) 240 := vp_in_nI ha2 (by decide)
  have ib : vp_in (nI b) 240 := vp_in_nI hb2 (by decide)
  have e1 : gs_nm s (nI a).toNatClampNeg = gs_nm s a := yv_fa ha2 rfl
  have e2 : gs_nm s (nI b).toNatClampNeg = gs_nm s b := yv_fa hb2 rfl
  rw [← e1, ← e2] at hp
  exact yv_preI H hk rfl rfl rfl ha hb rfl (by decide) (br_f (by decide) (br_f (by decide) (br_t rfl (br_t rfl (And.intro ib (br_t (yv_fa hb2 hf) (br_f (by decide) (br_f (by decide) (br_f (by decide) (br_f (by decide) (br_f (by decide) (br_t rfl (br_t (by decide) (And.intro ia (And.intro ib (yv_give H.2.2.1 (Or.inl rfl) hp))))))))))))))))
theorem yv_ifz0 (H : yv_at P s sp r t 0) (hk : p_kd P t = 5) (hT : 1 ≤ p_T P (p_T P t)) (hp : wpY_begin post (yv_S P C en ev sp kid s) (nI (p_T P (p_T P t) - 1)) (nI r) (nI r) (-1) 0) : wpY_visit post (yv_S P C en ev sp kid s) (nI r) z (nI (p_rc P)) :=
  yv_preI H hk rfl rfl (yv_sub1 hT) rfl rfl rfl (by decide) (br_f (by decide) (br_f (by decide) (br_f (by decide) (br_f (by decide) (br_f (by decide) (br_f (by decide) (br_f (by decide) (br_f (by decide) (br_f (by decide) (br_t rfl (br_f (by decide) (br_t rfl hp))))))))))))
theorem yv_ifz1 {a t3 : Nat} (H : yv_at P s sp r t 1) (hk : p_kd P t = 5) (h1 : 1 ≤ t) (hT : 1 ≤ p_T P t) (ha : nI a = kid (r * 3)) (ha2 : a < 240) (hf : gs_fn s a = 0) (h3 : (gs_nm s a = 0 ∧ t3 = p_T P t - 1) ∨ (gs_nm s a ≠ 0 ∧ t3 = t - 1)) (hp : wpY_begin post (yv_S P C en ev sp kid s) (nI t3) (nI r) (nI r) (-1) 0) : wpY_visit post (yv_S P C en ev sp kid s) (nI r) z (nI (p_rc P)) := by
  have ia : vp_in (nI a) 240 := vp_in_nI ha2 (by decide)
  refine yv_preI H hk (yv_sub1 h1) (yv_sub1 hT) rfl ha rfl rfl (by decide) (br_f (by decide) (br_t rfl (And.intro ia (br_t (yv_fa ha2 hf) (br_f (by decide) (br_f (by decide) (br_f (by decide) (br_f (by decide) (br_f (by decide) (br_f (by decide) (br_f (by decide) (br_t rfl (br_f (by decide) (br_f (by decide) (And.intro ia ?_)))))))))))))))
  rcases h3 with ⟨h3, rfl⟩ | ⟨h3, rfl⟩
  · exact br_t (yv_fa ha2 h3) hp
  · exact br_f (yv_fn ha2 h3) hp
theorem yv_ifz2 {b : Nat} (H : yv_at P s sp r t 2) (hk : p_kd P t = 5) (hb : nI b = kid (r * 3 + 1)) (hb2 : b < 240) (hf : gs_fn s b = 0 ∨ gs_fn s b = 1) (hp : post (yv_S P C en ev sp kid (gs_same s r b))) : wpY_visit post (yv_S P C en ev sp kid s) (nI r) z (nI (p_rc P)) :=
  yv_preI H hk rfl rfl rfl rfl hb rfl (by decide) (br_f (by decide) (br_f (by decide) (br_f (by decide) (br_f (by decide) (br_f (by decide) (br_f (by decide) (br_f (by decide) (br_f (by decide) (br_f (by decide) (br_t rfl (br_t (by decide) (yv_same H.2.2.1 hb2 hf hp))))))))))))
theorem yv_prt0 (H : yv_at P s sp r t 0) (hk : p_kd P t = 6) (h1 : 1 ≤ t) (hp : wpY_begin post (yv_S P C en ev sp kid s) (nI (t - 1)) (nI r) (nI r) (-1) 0) : wpY_visit post (yv_S P C en ev sp kid s) (nI r) z (nI (p_rc P)) :=
  yv_preI H hk (yv_sub1 h1) rfl rfl rfl rfl rfl (by decide) (br_f (by decide) (br_f (by decide) (br_f (by decide) (br_f (by decide) (br_f (by decide) (br_f (by decide) (br_f (by decide) (br_f (by decide) (br_f (by decide) (br_f (by decide) (br_t rfl (br_t rfl hp))))))))))))
theorem yv_prtF {a : Nat} (H : yv_at P s sp r t 1) (hk : p_kd P t = 6) (hrc : p_rc P < 4) (ha : nI a = kid (r * 3)) (ha2 : a < 240) (hf : gs_fn s a = 0) (hq : ¬ gs_pk s (p_rc P) < nI (p_pc P)) (hp : post (yv_S P C 5 0 sp kid s)) : wpY_visit post (yv_S P C en ev sp kid s) (nI r) z (nI (p_rc P)) := by
  have ia : vp_in (nI a) 240 := vp_in_nI ha2 (by decide)
  have ir : vp_in (nI (p_rc P)) 4 := vp_in_nI hrc (by decide)
  have hq' : ¬ gs_pk s (nI (p_rc P)).toNatClampNeg < nI (p_pc P) := by rw [nI_clamp (by omega)]; exact hq
  exact yv_preI H hk rfl rfl rfl ha rfl rfl (by decide) (br_f (by decide) (br_t rfl (And.intro ia (br_t (yv_fa ha2 hf) (br_f (by decide) (br_f (by decide) (br_f (by decide) (br_f (by decide) (br_f (by decide) (br_f (by decide) (br_f (by decide) (br_f (by decide) (br_t rfl (br_f (by decide) (And.intro ir (br_f hq' hp))))))))))))))))
theorem yv_prt1 {a m : Nat} (H : yv_at P s sp r t 1) (hk : p_kd P t = 6) (hrc : p_rc P < 4) (ha : nI a = kid (r * 3)) (ha2 : a < 240) (hf : gs_fn s a = 0) (em : gs_pk s (p_rc P) = nI m) (hm : m < p_pc P) (hpc : p_pc P ≤ 32) (hp : post (yv_S P C en ev sp kid (gs_same (gs_prt (p_rc P) s (gs_nm s a)) r a))) : wpY_visit post (yv_S P C en ev sp kid s) (nI r) z (nI (p_rc P)) := by
  have ia : vp_in (nI a) 240 := vp_in_nI ha2 (by decide)
  have ir : vp_in (nI (p_rc P)) 4 := vp_in_nI hrc (by decide)
  have cr : (nI (p_rc P)).toNatClampNeg = p_rc P := nI_clamp (by omega)
  have ca : gs_nm s (nI a).toNatClampNeg = gs_nm s a := yv_fa ha2 rfl
  have hq' : gs_pk s (nI (p_rc P)).toNatClampNeg < nI (p_pc P) := by rw [cr, em]; exact nI_lt hm (by omega)
  have ix : nI (p_rc P) * 32 + gs_pk s (nI (p_rc P)).toNatClampNeg = nI (32 * p_rc P + m) := by
    rw [cr, em]
    show nI (p_rc P) * nI 32 + nI m = _
    rw [pk_mul, nI_add, Nat.mul_comm]
  have vx : vp_in (nI (p_rc P) * 32 + gs_pk s (nI (p_rc P)).toNatClampNeg) 128 := by rw [ix]; exact vp_in_nI (by omega) (by decide)
  have e1 : upd (gs_pr s) (nI (p_rc P) * 32 + gs_pk s (nI (p_rc P)).toNatClampNeg).toNatClampNeg (gs_nm s (nI a).toNatClampNeg) = upd (gs_pr s) (32 * p_rc P + (gs_pk s (p_rc P)).toNatClampNeg) (gs_nm s a) := by rw [ix, ca, em, nI_clamp (by omega), nI_clamp (by omega)]
  have e2 : upd (gs_pk s) (nI (p_rc P)).toNatClampNeg (gs_pk s (nI (p_rc P)).toNatClampNeg + 1) = upd (gs_pk s) (p_rc P) (gs_pk s (p_rc P) + 1) := by rw [cr]
  exact yv_preI H hk rfl rfl rfl ha rfl rfl (by decide) (br_f (by decide) (br_t rfl (And.intro ia (br_t (yv_fa ha2 hf) (br_f (by decide) (br_f (by decide) (br_f (by decide) (br_f (by decide) (br_f (by decide) (br_f (by decide) (br_f (by decide) (br_f (by decide) (br_t rfl (br_f (by decide) (And.intro ir (br_t hq' (And.intro ir (And.intro ia (And.intro vx (nm_r e1 (And.intro ir (And.intro ir (nm_r e2 (yv_same (s := gs_prt (p_rc P) s (gs_nm s a)) H.2.2.1 ha2 (Or.inl hf) hp))))))))))))))))))))))))
/-! LET -/
theorem yv_letN0 (H : yv_at P s sp r t 0) (hk : p_kd P t = 7) (h1 : 1 ≤ t) (hp : wpY_begin post (yv_S P C en ev sp kid s) (nI (t - 1)) (nI r) (nI r) (p_ag P t) (nI r)) : wpY_visit post (yv_S P C en ev sp kid s) (nI r) 1 (nI (p_rc P)) :=
  yv_preO H hk (yv_sub1 h1) rfl rfl rfl rfl rfl (by decide) (br_t rfl (br_f (by decide) (br_f (by decide) (br_f (by decide) (br_f (by decide) (br_f (by decide) (br_f (by decide) (br_f (by decide) (br_f (by decide) (br_f (by decide) (br_f (by decide) (br_t rfl hp))))))))))))
theorem yv_letN1 {a : Nat} (H : yv_at P s sp r t 1) (hk : p_kd P t = 7) (ha : nI a = kid (r * 3)) (ha2 : a < 240) (hf : gs_fn s a = 0 ∨ gs_fn s a = 1) (hp : post (yv_S P C en ev sp kid (gs_same s r a))) : wpY_visit post (yv_S P C en ev sp kid s) (nI r) 1 (nI (p_rc P)) :=
  yv_preO H hk rfl rfl rfl ha rfl rfl (by decide) (br_t rfl (br_f (by decide) (br_f (by decide) (br_f (by decide) (br_f (by decide) (br_f (by decide) (br_f (by decide) (br_f (by decide) (br_f (by decide) (br_f (by decide) (br_f (by decide) (br_f (by decide) (yv_same H.2.2.1 ha2 hf hp)))))))))))))
theorem yv_letV0 (H : yv_at P s sp r t 0) (hk : p_kd P t = 7) (hT : 1 ≤ p_T P t) (hp : wpY_begin post (yv_S P C en ev sp kid s) (nI (p_T P t - 1)) (nI r) (nI r) (-1) 0) : wpY_visit post (yv_S P C en ev sp kid s) (nI r) 0 (nI (p_rc P)) :=
  yv_preO H hk rfl (yv_sub1 hT) rfl rfl rfl rfl (by decide) (br_t rfl (br_f (by decide) (br_f (by decide) (br_f (by decide) (br_f (by decide) (br_f (by decide) (br_f (by decide) (br_f (by decide) (br_f (by decide) (br_f (by decide) (br_t rfl (br_t rfl hp))))))))))))
theorem yv_letV1 {a : Nat} (H : yv_at P s sp r t 1) (hk : p_kd P t = 7) (h1 : 1 ≤ t) (ha : nI a = kid (r * 3)) (hp : wpY_begin post (yv_S P C en ev sp kid s) (nI (t - 1)) (nI r) (nI r) (p_ag P t) (nI a)) : wpY_visit post (yv_S P C en ev sp kid s) (nI r) 0 (nI (p_rc P)) :=
  yv_preO H hk (yv_sub1 h1) rfl rfl ha rfl rfl (by decide) (br_t rfl (br_f (by decide) (br_f (by decide) (br_f (by decide) (br_f (by decide) (br_f (by decide) (br_f (by decide) (br_f (by decide) (br_f (by decide) (br_f (by decide) (br_t rfl (br_f (by decide) (br_t rfl hp)))))))))))))
theorem yv_letV2 {b : Nat} (H : yv_at P s sp r t 2) (hk : p_kd P t = 7) (hb : nI b = kid (r * 3 + 1)) (hb2 : b < 240) (hf : gs_fn s b = 0 ∨ gs_fn s b = 1) (hp : post (yv_S P C en ev sp kid (gs_same s r b))) : wpY_visit post (yv_S P C en ev sp kid s) (nI r) 0 (nI (p_rc P)) :=
  yv_preO H hk rfl rfl rfl rfl hb rfl (by decide) (br_t rfl (br_f (by decide) (br_f (by decide) (br_f (by decide) (br_f (by decide) (br_f (by decide) (br_f (by decide) (br_f (by decide) (br_f (by decide) (br_f (by decide) (br_t rfl (br_f (by decide) (br_f (by decide) (yv_same H.2.2.1 hb2 hf hp))))))))))))))
end
end
section
/-! the reference's run loop -/
def yv_L (post : Int32 → SY → Prop) (p1 x3 : Int32) (j : Nat) (u : SY) : Prop := match u with
  | (f_tokenCap, f_budget, f_printCap, f_count, f_rows, f_end, f_endValue, a_kinds, a_args, a_stat, a_val, a_printCount, a_prints, a_term, a_step, a_kid, a_done, a_fun, a_num, a_home, a_bind) => wY_run_72 post p1 x3 (1010 - j) (nI j) f_tokenCap f_budget f_printCap f_count f_rows f_end f_endValue a_kinds a_args a_stat a_val a_printCount a_prints a_term a_step a_kid a_done a_fun a_num a_home a_bind
def yv_M (post : Int32 → SY → Prop) (p1 x3 : Int32) (m : Nat) (y : Int32) (u : SY) : Prop := match u with
  | (f_tokenCap, f_budget, f_printCap, f_count, f_rows, f_end, f_endValue, a_kinds, a_args, a_stat, a_val, a_printCount, a_prints, a_term, a_step, a_kid, a_done, a_fun, a_num, a_home, a_bind) => ∀ x4 : Int32, x4 = y + 1 → wY_run_72 post p1 x3 m x4 f_tokenCap f_budget f_printCap f_count f_rows f_end f_endValue a_kinds a_args a_stat a_val a_printCount a_prints a_term a_step a_kid a_done a_fun a_num a_home a_bind
theorem yv_ML (post : Int32 → SY → Prop) (p1 x3 : Int32) (j : Nat) : yv_M post p1 x3 (1010 - (j + 1)) (nI j) = yv_L post p1 x3 (j + 1) := by
  funext u
  obtain ⟨f_tokenCap, f_budget, f_printCap, f_count, f_rows, f_end, f_endValue, a_kinds, a_args, a_stat, a_val, a_printCount, a_prints, a_term, a_step, a_kid, a_done, a_fun, a_num, a_home, a_bind⟩ := u
  apply propext
  constructor
  · intro h
    exact h _ (nI_1 j).symm
  · intro h x e
    rw [nI_1] at e
    subst e
    exact h
def yv_p1 (P : gP) : Int32 := if p_bn P = true then 1 else 0
section
variable {P : gP} {C : yC} {ev : Int32} {sp kid : Nat → Int32} {s : gS} {post : Int32 → SY → Prop}
theorem yv_top {p1 x3 z : Int32} {j r : Nat} (hj : j < 1000) (hr : r < gs_n s) (hn : gs_n s ≤ 240) (hd : gs_dn s r = 0) (hall : ∀ i, r < i → i < gs_n s → gs_dn s i = 1) (hz : (p1 = 1 ∧ z = 1) ∨ (¬ p1 = 1 ∧ z = 0)) (h : wpY_visit (yv_L post p1 x3 (j + 1)) (yv_S P C 0 ev sp kid s) (nI r) z x3) : yv_L post p1 x3 j (yv_S P C 0 ev sp kid s) := by
  rw [← yv_ML] at h
  have e : 1010 - j = (1010 - (j + 1)) + 1 := by omega
  have F : ∀ d i (x5 : Int32), i + d = gs_n s → (r < i → x5 = nI r) → wY_run_93 post (wY_run_72 post p1 x3 (1010 - (j + 1))) p1 x3 (nI j) C.1 (nI (p_bu P)) (nI (p_pc P)) (nI (p_cn P)) (nI (gs_n s)) 0 ev (p_kd P) (p_ag P) C.2.1 C.2.2 (gs_pk s) (gs_pr s) (gs_tm s) sp kid (gs_dn s) (gs_fn s) (gs_nm s) (gs_hm s) (gs_bd s) (d + 1) x5 (nI i) := by
    intro d
    induction d with
    | zero =>
      intro i x5 hi hx
      obtain rfl : i = gs_n s := by omega
      obtain rfl := hx hr
      refine br_t (nI_le (Nat.le_refl _) (by omega)) (br_f (nI_pos (by omega)) ?_)
      rcases hz with ⟨h1, h2⟩ | ⟨h1, h2⟩
      · subst h2; exact br_t h1 h
      · subst h2; exact br_f h1 h
    | succ d ih =>
      intro i x5 hi hx
      refine br_f (nI_ge (by omega) (by omega)) (And.intro (vp_in_nI (by omega) (by decide)) ?_)
      have ci : gs_dn s (nI i).toNatClampNeg = gs_dn s i := by rw [nI_clamp (by omega)]
      refine br_c (fun q => nm_r (nI_1 i) (ih (i + 1) _ (by omega) (fun hri => ?_))) (fun q => nm_r (nI_1 i) (ih (i + 1) _ (by omega) (fun hri => ?_)))
      · rw [ci] at q
        by_cases e2 : i = r
        · rw [e2]
        · have := hall i (by omega) (by omega)
          rw [this] at q
          exact absurd q (by decide)
      · rw [ci] at q
        by_cases e2 : i = r
        · rw [e2] at q
          exact absurd hd q
        · exact hx (by omega)
  show wY_run_72 post p1 x3 (1010 - j) (nI j) C.1 (nI (p_bu P)) (nI (p_pc P)) (nI (p_cn P)) (nI (gs_n s)) 0 ev (p_kd P) (p_ag P) C.2.1 C.2.2 (gs_pk s) (gs_pr s) (gs_tm s) sp kid (gs_dn s) (gs_fn s) (gs_nm s) (gs_hm s) (gs_bd s)
  rw [e]
  exact br_f (nI_ge (b := 1000) hj (by decide)) (br_t rfl ⟨gs_n s + 1, F (gs_n s) 0 (-1) (by omega) (fun q => absurd q (by omega))⟩)
/-- the run ends -/
theorem yv_end {p1 en : Int32} {j : Nat} (hj : j ≤ 1000) (hrc : p_rc P < 4) (he : ¬ en = 0) (h : post en (yv_S P (C.1, upd C.2.1 (p_rc P) en, upd C.2.2 (p_rc P) ev) en ev sp kid s)) : yv_L post p1 (nI (p_rc P)) j (yv_S P C en ev sp kid s) := by
  have e : 1010 - j = (1010 - (j + 1)) + 1 := by omega
  have ir : vp_in (nI (p_rc P)) 4 := vp_in_nI hrc (by decide)
  have cr : (nI (p_rc P)).toNatClampNeg = p_rc P := nI_clamp (by omega)
  have e1 : upd C.2.1 (nI (p_rc P)).toNatClampNeg en = upd C.2.1 (p_rc P) en := by rw [cr]
  have e2 : upd C.2.2 (nI (p_rc P)).toNatClampNeg ev = upd C.2.2 (p_rc P) ev := by rw [cr]
  have K : wY_run_181 post (nI (p_rc P)) C.1 (nI (p_bu P)) (nI (p_pc P)) (nI (p_cn P)) (nI (gs_n s)) en ev (p_kd P) (p_ag P) C.2.1 C.2.2 (gs_pk s) (gs_pr s) (gs_tm s) sp kid (gs_dn s) (gs_fn s) (gs_nm s) (gs_hm s) (gs_bd s) :=
    And.intro ir (nm_r e1 (And.intro ir (nm_r e2 h)))
  show wY_run_72 post p1 (nI (p_rc P)) (1010 - j) (nI j) C.1 (nI (p_bu P)) (nI (p_pc P)) (nI (p_cn P)) (nI (gs_n s)) en ev (p_kd P) (p_ag P) C.2.1 C.2.2 (gs_pk s) (gs_pr s) (gs_tm s) sp kid (gs_dn s) (gs_fn s) (gs_nm s) (gs_hm s) (gs_bd s)
  rw [e]
  exact br_c (fun _ => K) (fun _ => br_f he K)
/-- all rows done -/
theorem yv_all {p1 x3 : Int32} {j : Nat} (hj : j < 1000) (hn : gs_n s ≤ 240) (hall : ∀ i, i < gs_n s → gs_dn s i = 1) (h : yv_L post p1 x3 (j + 1) (yv_S P C (if gs_fn s 0 = 0 then 1 else 2) (gs_nm s 0) sp kid s)) : yv_L post p1 x3 j (yv_S P C 0 ev sp kid s) := by
  have e : 1010 - j = (1010 - (j + 1)) + 1 := by omega
  have F : ∀ d i, i + d = gs_n s → wY_run_93 post (wY_run_72 post p1 x3 (1010 - (j + 1))) p1 x3 (nI j) C.1 (nI (p_bu P)) (nI (p_pc P)) (nI (p_cn P)) (nI (gs_n s)) 0 ev (p_kd P) (p_ag P) C.2.1 C.2.2 (gs_pk s) (gs_pr s) (gs_tm s) sp kid (gs_dn s) (gs_fn s) (gs_nm s) (gs_hm s) (gs_bd s) (d + 1) (-1) (nI i) := by
    intro d
    induction d with
    | zero =>
      intro i hi
      obtain rfl : i = gs_n s := by omega
      refine br_t (nI_le (Nat.le_refl _) (by omega)) (br_t (by decide) (br_c (fun q => nm_e (nm_r (nI_1 j) ?_)) (fun q => nm_e (nm_r (nI_1 j) ?_))))
      · rw [if_pos q] at h; exact h
      · rw [if_neg q] at h; exact h
    | succ d ih =>
      intro i hi
      refine br_f (nI_ge (by omega) (by omega)) (And.intro (vp_in_nI (by omega) (by decide)) (br_f ?_ (nm_r (nI_1 i) (ih (i + 1) (by omega)))))
      rw [nI_clamp (by omega), hall i (by omega)]
      decide
  show wY_run_72 post p1 x3 (1010 - j) (nI j) C.1 (nI (p_bu P)) (nI (p_pc P)) (nI (p_cn P)) (nI (gs_n s)) 0 ev (p_kd P) (p_ag P) C.2.1 C.2.2 (gs_pk s) (gs_pr s) (gs_tm s) sp kid (gs_dn s) (gs_fn s) (gs_nm s) (gs_hm s) (gs_bd s)
  rw [e]
  exact br_f (nI_ge (b := 1000) hj (by decide)) (br_t rfl ⟨gs_n s + 1, F (gs_n s) 0 (by omega)⟩)
end
end
section
/-! the reference does what the evaluator says -/
def yv_en (o : Option (Int32 × Int32)) (ev : Int32) : Int32 × Int32 := match o with
  | none => (0, ev)
  | some e => e
def yv_SIM (P : gP) (C : yC) (ev : Int32) (j : Nat) (sp kid : Nat → Int32) (s : gS) (o : Option (Int32 × Int32)) (j' : Nat) (sp' kid' : Nat → Int32) (s' : gS) : Prop :=
  ∀ post : Int32 → SY → Prop, yv_L post (yv_p1 P) (nI (p_rc P)) j' (yv_S P C (yv_en o ev).1 (yv_en o ev).2 sp' kid' s') → yv_L post (yv_p1 P) (nI (p_rc P)) j (yv_S P C 0 ev sp kid s)
def yv_IH (P : gP) (C : yC) (f : Nat) : Prop := ∀ r t s sp kid j ev, gs_BP P s r t → sp r = 0 → j ≤ 2 * r → p_bu P ≤ gs_n s + f → ∀ o s', gs_body P (gs_go P f) r t s = (o, s') →
  ∃ j' sp' kid', j' ≤ 1000 ∧ (o = none → j' + 2 * r + 1 ≤ j + 2 * gs_n s') ∧ (∀ i, i < r → sp' i = sp i) ∧ (∀ i, i < r * 3 → kid' i = kid i) ∧ yv_SIM P C ev j sp kid s o j' sp' kid' s'
theorem yv_p1z (P : gP) : (yv_p1 P = 1 ∧ yv_p1 P = 1) ∨ (¬ yv_p1 P = 1 ∧ yv_p1 P = 0) := by
  unfold yv_p1
  by_cases h : p_bn P = true
  · rw [if_pos h]; exact Or.inl ⟨rfl, rfl⟩
  · rw [if_neg h]; exact Or.inr ⟨by decide, rfl⟩
theorem yv_p1t {P : gP} (h : p_bn P = true) : yv_p1 P = 1 := if_pos h
theorem yv_p1f {P : gP} (h : p_bn P = false) : yv_p1 P = 0 := if_neg (by rw [h]; decide)
section
variable {P : gP} {C : yC} {ev : Int32} {sp kid : Nat → Int32} {s : gS}
/-- row r is to be visited -/
def yv_now (P : gP) (s : gS) (r : Nat) : Prop := gs_WF P s ∧ gs_PK P s ∧ r < gs_n s ∧ gs_n s ≤ 240 ∧ gs_dn s r = 0 ∧ ∀ i, r < i → i < gs_n s → gs_dn s i = 1
theorem yv_nowA {s1 : gS} {r t : Nat} (g : gs_PG P) (bp : gs_BP P s r t) (A : gs_A0 P s s1) : yv_now P s1 r ∧ gs_t s1 r = t := by
  obtain ⟨a1, a2, a3, a4, a5⟩ := gs_ACk bp A
  have := a3.1
  have := g.2.1
  refine ⟨⟨a3, a4, a1, by omega, a5, fun i h1 h2 => A.2.2.2 i ?_ h2⟩, a2⟩
  rw [bp.2.2.1]; omega
theorem yv_now0 {r t : Nat} (g : gs_PG P) (bp : gs_BP P s r t) : yv_now P s r ∧ gs_t s r = t := yv_nowA g bp (gs_A0r bp.1 bp.2.1)
theorem yv_atOf {r t : Nat} {c : Int32} (g : gs_PG P) (w : yv_now P s r) (et : gs_t s r = t) (hs : sp r = c) : yv_at P s sp r t c := by
  obtain ⟨g1, g2, g3, g4, pa, pb, pc, st, h, gt⟩ := g
  obtain ⟨w1, w2, w3, w4, w5, w6⟩ := w
  obtain ⟨a, b⟩ := w1.2.1 r w3
  subst et
  exact ⟨gt.1, g1, by omega, b, a, hs⟩
theorem yv_vis {r j : Nat} {en' ev' : Int32} {sp' kid' : Nat → Int32} {s' : gS} (w : yv_now P s r) (hj : j < 1000) (Hv : ∀ Q : SY → Prop, Q (yv_S P C en' ev' sp' kid' s') → wpY_visit Q (yv_S P C 0 ev sp kid s) (nI r) (yv_p1 P) (nI (p_rc P))) (post : Int32 → SY → Prop) (h : yv_L post (yv_p1 P) (nI (p_rc P)) (j + 1) (yv_S P C en' ev' sp' kid' s')) : yv_L post (yv_p1 P) (nI (p_rc P)) j (yv_S P C 0 ev sp kid s) :=
  yv_top hj w.2.2.1 w.2.2.2.1 w.2.2.2.2.1 w.2.2.2.2.2 (yv_p1z P) (Hv _ h)
theorem yv_sub {f r t e k j : Nat} {x b : Int32} {o2 : Option (Int32 × Int32)} {s2 : gS} (g : gs_PG P) (ih : ∀ f', f = f' + 1 → yv_IH P C f') (w : yv_now P s r) (en : gs_EN P s t e x b) (he : e < gs_n s) (hk : k < 3) (hs : sp r = nI k) (hj : j + 2 ≤ 2 * gs_n s) (hf : p_bu P ≤ gs_n s + f)
    (Hv : ∀ Q : SY → Prop, wpY_begin Q (yv_S P C 0 ev sp kid s) (nI t) (nI r) (nI e) x b → wpY_visit Q (yv_S P C 0 ev sp kid s) (nI r) (yv_p1 P) (nI (p_rc P))) (h : gs_go P f t e x b s = (o2, s2)) :
    ∃ j2 sp2 kid2, j2 ≤ 1000 ∧ (o2 = none → j2 + 2 * gs_n s ≤ j + 2 * gs_n s2 ∧ sp2 r = nI (k + 1) ∧ kid2 (r * 3 + k) = nI (gs_n s) ∧ ∀ i, i < r * 3 + k → kid2 i = kid i) ∧ (∀ i, i < r → sp2 i = sp i) ∧ (∀ i, i < r * 3 → kid2 i = kid i) ∧ yv_SIM P C ev j sp kid s o2 j2 sp2 kid2 s2 := by
  have w0 := w
  obtain ⟨w1, w2, w3, w4, w5, w6⟩ := w
  have spent : p_bu P ≤ gs_n s → o2 = some (4, 0) → s2 = s → ∃ j2 sp2 kid2, j2 ≤ 1000 ∧ (o2 = none → j2 + 2 * gs_n s ≤ j + 2 * gs_n s2 ∧ sp2 r = nI (k + 1) ∧ kid2 (r * 3 + k) = nI (gs_n s) ∧ ∀ i, i < r * 3 + k → kid2 i = kid i) ∧ (∀ i, i < r → sp2 i = sp i) ∧ (∀ i, i < r * 3 → kid2 i = kid i) ∧ yv_SIM P C ev j sp kid s o2 j2 sp2 kid2 s2 := by
    intro hb e1 e2
    subst e1 e2
    exact ⟨j + 1, sp, kid, by omega, (fun z => nomatch z), fun _ _ => rfl, fun _ _ => rfl, yv_vis w0 (by omega) (fun Q hQ => Hv Q (yv_spent hb w4 hQ))⟩
  cases f with
  | zero =>
    rw [gs_go0] at h
    obtain ⟨e1, e2⟩ := gs_pair_eq h
    exact spent (by omega) e1 e2
  | succ f =>
    rw [gs_goS] at h
    by_cases hb : p_bu P ≤ gs_n s
    · rw [if_pos hb] at h
      obtain ⟨e1, e2⟩ := gs_pair_eq h
      exact spent hb e1 e2
    · rw [if_neg hb] at h
      have bp := gs_beginBP g w1 w2 en (by omega)
      have nn : gs_n (gs_begin s t e x b) = gs_n s + 1 := rfl
      have sp0 : upd (upd sp (gs_n s) 0) r (nI (k + 1)) (gs_n s) = 0 := by rw [pk_un (by omega), pk_us]
      obtain ⟨j2, sp2, kid2, a1, a2, a3, a4, a5⟩ := ih f rfl (gs_n s) t (gs_begin s t e x b) (upd (upd sp (gs_n s) 0) r (nI (k + 1))) (upd kid (r * 3 + k) (nI (gs_n s))) (j + 1) ev bp sp0 (by omega) (by omega) o2 s2 h
      refine ⟨j2, sp2, kid2, a1, fun z => ⟨?_, ?_, ?_, fun i hi => ?_⟩, fun i hi => ?_, fun i hi => ?_, fun post hp => ?_⟩
      · have := a2 z; omega
      · rw [a3 r w3, pk_us]
      · rw [a4 _ (by omega), pk_us]
      · rw [a4 i (by omega), pk_un (by omega)]
      · rw [a3 i (by omega), pk_un (by omega), pk_un (by omega)]
      · rw [a4 i (by omega), pk_un (by omega)]
      · exact yv_vis w0 (by omega) (fun Q hQ => Hv Q (yv_begin (by omega) g.2.1 w3 he hk hs hQ)) post (a5 post hp)
end
end
section
/-! the reference, kind by kind -/
def yv_OUT (P : gP) (C : yC) (r : Nat) (s : gS) (sp kid : Nat → Int32) (j : Nat) (ev : Int32) (o : Option (Int32 × Int32)) (s' : gS) : Prop :=
  ∃ j' sp' kid', j' ≤ 1000 ∧ (o = none → j' + 2 * r + 1 ≤ j + 2 * gs_n s') ∧ (∀ i, i < r → sp' i = sp i) ∧ (∀ i, i < r * 3 → kid' i = kid i) ∧ yv_SIM P C ev j sp kid s o j' sp' kid' s'
/-- k parts of row r are evaluated -/
def yv_PR (P : gP) (C : yC) (r : Nat) (s : gS) (sp kid : Nat → Int32) (j : Nat) (ev : Int32) (k : Nat) (sk : gS) (spk kidk : Nat → Int32) (jk : Nat) : Prop :=
  gs_A0 P s sk ∧ yv_SIM P C ev j sp kid s none jk spk kidk sk ∧ spk r = nI k ∧ jk + 2 * (r + 1) ≤ j + 2 * gs_n sk ∧ (∀ i, i < r → spk i = sp i) ∧ (∀ i, i < r * 3 → kidk i = kid i)
section
variable {P : gP} {C : yC} {ev : Int32} {sp kid : Nat → Int32} {s : gS} {f r t j : Nat} {o : Option (Int32 × Int32)} {s' : gS}
theorem yv_pr0 (bp : gs_BP P s r t) (hs : sp r = 0) : yv_PR P C r s sp kid j ev 0 s sp kid j := ⟨gs_A0r bp.1 bp.2.1, fun _ h => h, hs, by rw [bp.2.2.1]; omega, fun _ _ => rfl, fun _ _ => rfl⟩
theorem yv_subP {k jk t' e : Nat} {sk : gS} {spk kidk : Nat → Int32} {x b : Int32} {o2 : Option (Int32 × Int32)} {s2 : gS} (g : gs_PG P) (ih : ∀ f', f = f' + 1 → yv_IH P C f') (bp : gs_BP P s r t) (hj : j ≤ 2 * r) (hf : p_bu P ≤ gs_n s + f) (R : yv_PR P C r s sp kid j ev k sk spk kidk jk) (hk : k < 3) (en : gs_EN P sk t' e x b) (he : e < gs_n sk)
    (Hv : ∀ Q : SY → Prop, yv_at P sk spk r t (nI k) → wpY_begin Q (yv_S P C 0 ev spk kidk sk) (nI t') (nI r) (nI e) x b → wpY_visit Q (yv_S P C 0 ev spk kidk sk) (nI r) (yv_p1 P) (nI (p_rc P))) (h : gs_go P f t' e x b sk = (o2, s2)) (C2 : gs_CL P sk o2 s2) :
    (∀ e, o2 = some e → yv_OUT P C r s sp kid j ev (some e) s2) ∧ (o2 = none → ∃ sp2 kid2 j2, yv_PR P C r s sp kid j ev (k + 1) s2 sp2 kid2 j2 ∧ kid2 (r * 3 + k) = nI (gs_n sk) ∧ ∀ i, i < r * 3 + k → kid2 i = kidk i) := by
  obtain ⟨A, S, e1, e2, e3, e4⟩ := R
  obtain ⟨w, et⟩ := yv_nowA g bp A
  have nb := bp.2.2.1
  have le := A.1.1
  obtain ⟨j2, sp2, kid2, a1, a2, a3, a4, a5⟩ := yv_sub (j := jk) g ih w en he hk e1 (by omega) (by omega) (fun Q hQ => Hv Q (yv_atOf g w et e1) hQ) h
  refine ⟨fun e eo => ?_, fun eo => ?_⟩
  · subst eo
    exact ⟨j2, sp2, kid2, a1, (fun z => nomatch z), fun i hi => (a3 i hi).trans (e3 i hi), fun i hi => (a4 i hi).trans (e4 i hi), fun post hp => S post (a5 post hp)⟩
  · subst eo
    obtain ⟨b1, b2, b3, b4⟩ := a2 rfl
    obtain ⟨A2, lt2⟩ := C2.2.2 rfl
    exact ⟨sp2, kid2, j2, ⟨gs_A0t A A2, fun post hp => S post (a5 post hp), b2, by omega, fun i hi => (a3 i hi).trans (e3 i hi), fun i hi => (a4 i hi).trans (e4 i hi)⟩, b3, b4⟩
theorem yv_finP {k jk : Nat} {sk sn : gS} {spk kidk : Nat → Int32} (g : gs_PG P) (bp : gs_BP P s r t) (hj : j ≤ 2 * r) (R : yv_PR P C r s sp kid j ev k sk spk kidk jk) (nn : gs_n sn = gs_n sk)
    (Hv : ∀ Q : SY → Prop, yv_at P sk spk r t (nI k) → Q (yv_S P C 0 ev spk kidk sn) → wpY_visit Q (yv_S P C 0 ev spk kidk sk) (nI r) (yv_p1 P) (nI (p_rc P))) : yv_OUT P C r s sp kid j ev none sn := by
  obtain ⟨A, S, e1, e2, e3, e4⟩ := R
  obtain ⟨w, et⟩ := yv_nowA g bp A
  have := w.2.2.2.1
  exact ⟨jk + 1, spk, kidk, by omega, fun _ => by omega, e3, e4, fun post hp => S post (yv_vis w (by omega) (fun Q hQ => Hv Q (yv_atOf g w et e1) hQ) post hp)⟩
theorem yv_stpP {k jk : Nat} {sk : gS} {spk kidk : Nat → Int32} {en' ev' : Int32} (g : gs_PG P) (bp : gs_BP P s r t) (hj : j ≤ 2 * r) (R : yv_PR P C r s sp kid j ev k sk spk kidk jk)
    (Hv : ∀ Q : SY → Prop, yv_at P sk spk r t (nI k) → Q (yv_S P C en' ev' spk kidk sk) → wpY_visit Q (yv_S P C 0 ev spk kidk sk) (nI r) (yv_p1 P) (nI (p_rc P))) : yv_OUT P C r s sp kid j ev (some (en', ev')) sk := by
  obtain ⟨A, S, e1, e2, e3, e4⟩ := R
  obtain ⟨w, et⟩ := yv_nowA g bp A
  have := w.2.2.2.1
  exact ⟨jk + 1, spk, kidk, by omega, (fun z => nomatch z), e3, e4, fun post hp => S post (yv_vis w (by omega) (fun Q hQ => Hv Q (yv_atOf g w et e1) hQ) post hp)⟩
/-- a row that is done, in a state on the way -/
theorem yv_row {sk : gS} {a : Nat} (g : gs_PG P) (A : gs_A0 P s sk) (ha : a < gs_n sk) (hd : gs_dn sk a = 1) : a < 240 ∧ (gs_fn sk a = 0 ∨ gs_fn sk a = 1) := by
  have := A.2.2.1.1
  have := g.2.1
  exact ⟨by omega, (A.2.2.1.2.2.1 a ha hd).1⟩
theorem yv_kvar (g : gs_PG P) (ih : ∀ f', f = f' + 1 → yv_IH P C f') (bp : gs_BP P s r t) (hs : sp r = 0) (hj : j ≤ 2 * r) (hf : p_bu P ≤ gs_n s + f) (hk : p_kd P t = 1) (h : gs_body P (gs_go P f) r t s = (o, s')) : yv_OUT P C r s sp kid j ev o s' := by
  have nb := bp.2.2.1
  have R0 : yv_PR P C r s sp kid j ev 0 s sp kid j := yv_pr0 bp hs
  have bu := bp.1.1
  have bg := g.2.1
  by_cases hb : p_bn P = true
  · obtain ⟨j0, q, o2, s2, a1, a2, a3, a4, a5, a6, a7, C2, c⟩ := gs_k1N (gs_ok g f) g bp hk hb h
    have tq := bp.1.2.1 q a5.1
    have q1 := a5.1
    obtain ⟨X1, X2⟩ := yv_subP g ih bp hj hf R0 (by omega) a7 a5.1 (fun Q H hQ => by rw [yv_p1t hb]; exact yv_varN0 g H hk a1 a2 a4 (by omega) tq.2 tq.1 (a5.2.1 hb) hQ) a6 C2
    rcases c with ⟨e, c1, c2, c3⟩ | ⟨c1, c2, c3⟩
    · subst c2 c3; exact X1 e c1
    · subst c2 c3
      obtain ⟨sp2, kid2, j2, R2, k1, k2⟩ := X2 c1
      obtain ⟨A2, lt2⟩ := C2.2.2 c1
      have da : gs_dn s2 (r + 1) = 1 := A2.2.2.2 _ (by omega) (by omega)
      have ra := yv_row g R2.1 (by omega) da
      have G := gs_FRG A2.1
      have tq2 : gs_t s2 q < p_cn P ∧ gs_tm s2 q = nI (gs_t s2 q) := A2.2.2.1.2.1 q (by have := a5.1; omega)
      refine yv_finP g bp hj R2 rfl (fun Q H hQ => ?_)
      rw [yv_p1t hb]
      refine yv_varN1 (a := r + 1) H hk a1 a2 ((G.2.2.1 _ (by omega)).trans a4) (by omega) tq2.2 tq2.1 ?_ ra.1 ra.2 hQ
      rw [← nb]; exact k1.symm
  · have hb' : p_bn P = false := Bool.eq_false_iff.mpr hb
    obtain ⟨j0, q, a1, a2, a3, a4, a5, e1, e2⟩ := gs_k1V g bp hk hb' h
    subst e1 e2
    have tq := bp.1.2.1 q a5.1
    have q1 := a5.1
    have ra := yv_row g R0.1 a5.1 (a5.2.2 hb')
    refine yv_finP g bp hj R0 rfl (fun Q H hQ => ?_)
    rw [yv_p1f hb']
    exact yv_varV H hk a1 a2 a4 ra.1 tq.2 tq.1 ra.2 hQ
theorem yv_kapp (g : gs_PG P) (ih : ∀ f', f = f' + 1 → yv_IH P C f') (bp : gs_BP P s r t) (hs : sp r = 0) (hj : j ≤ 2 * r) (hf : p_bu P ≤ gs_n s + f) (hk : p_kd P t = 3) (ht : t < p_cn P) (h : gs_body P (gs_go P f) r t s = (o, s')) : yv_OUT P C r s sp kid j ev o s' := by
  have nb := bp.2.2.1
  have R0 : yv_PR P C r s sp kid j ev 0 s sp kid j := yv_pr0 bp hs
  obtain ⟨_, _, _, _, pa, pb, pc, st, hg, gt⟩ := g
  have g : gs_PG P := ⟨by assumption, by assumption, by assumption, by assumption, pa, pb, pc, st, hg, gt⟩
  obtain ⟨p1, p2, p3, _⟩ := tr_two gt ht (Or.inl hk)
  obtain ⟨o2, s2, e2, en2, C2, c⟩ := gs_k3 (gs_ok g f) g bp hk h
  obtain ⟨X1, X2⟩ := yv_subP g ih bp hj hf R0 (by omega) en2 (by omega) (fun Q H hQ => yv_app0 H hk p2 hQ) e2 C2
  rcases c with ⟨e, c1, c2, c3⟩ | ⟨c1, hf0, c2, c3⟩ | ⟨c1, hh, l, fu, c⟩
  · subst c2 c3; exact X1 e c1
  · subst c2 c3
    obtain ⟨sp2, kid2, j2, R2, k1, k2⟩ := X2 c1
    obtain ⟨A2, lt2⟩ := C2.2.2 c1
    have ra := yv_row (a := r + 1) g R2.1 (by omega) (A2.2.2.2 _ (by omega) (by omega))
    refine yv_stpP g bp hj R2 (fun Q H hQ => yv_appS H hk (a := r + 1) ?_ ra.1 hf0 hQ)
    rw [← nb]; exact k1.symm
  · obtain ⟨sp2, kid2, j2, R2, k1, k2⟩ := X2 c1
    obtain ⟨A2, lt2⟩ := C2.2.2 c1
    have ra := yv_row (a := r + 1) g R2.1 (by omega) (A2.2.2.2 _ (by omega) (by omega))
    have k1' : nI (r + 1) = kid2 (r * 3) := by rw [← nb]; exact k1.symm
    have l1 : 1 ≤ l := (tr_lam gt fu.2.2.2.2.2.1 fu.2.2.2.2.2.2).1
    rcases c with ⟨hb, o3, s3, e3, en3, C3, c⟩ | ⟨hb, o3, s3, e3, en3, C3, c⟩
    · obtain ⟨Y1, Y2⟩ := yv_subP g ih bp hj hf R2 (by omega) en3 fu.2.1 (fun Q H hQ => by rw [yv_p1t hb]; exact yv_app1N H hk k1' ra.1 fu l1 hQ) e3 C3
      rcases c with ⟨e, d1, c2, c3⟩ | ⟨d1, c2, c3⟩
      · subst c2 c3; exact Y1 e d1
      · subst c2 c3
        obtain ⟨sp3, kid3, j3, R3, k3, k4⟩ := Y2 d1
        obtain ⟨A3, lt3⟩ := C3.2.2 d1
        have rb := yv_row g R3.1 lt3 (A3.2.2.2 _ (Nat.le_refl _) lt3)
        refine yv_finP g bp hj R3 rfl (fun Q H hQ => ?_)
        rw [yv_p1t hb]
        exact yv_app2N H hk k3.symm rb.1 rb.2 hQ
    · obtain ⟨Y1, Y2⟩ := yv_subP g ih bp hj hf R2 (by omega) en3 (by omega) (fun Q H hQ => by rw [yv_p1f hb]; exact yv_app1V H hk k1' ra.1 (by rw [fu.1]; decide) p1 hQ) e3 C3
      rcases c with ⟨e, d1, c2, c3⟩ | ⟨d1, o4, s4, e4, en4, C4, c⟩
      · subst c2 c3; exact Y1 e d1
      · obtain ⟨sp3, kid3, j3, R3, k3, k4⟩ := Y2 d1
        obtain ⟨A3, lt3⟩ := C3.2.2 d1
        have rb := yv_row g R3.1 lt3 (A3.2.2.2 _ (Nat.le_refl _) lt3)
        have fu3 := gs_funm A3.1 (show r + 1 < gs_n s2 by omega) fu
        have k1'' : nI (r + 1) = kid3 (r * 3) := k1'.trans (k4 _ (by omega)).symm
        obtain ⟨Z1, Z2⟩ := yv_subP g ih bp hj hf R3 (by omega) en4 fu3.2.1 (fun Q H hQ => by rw [yv_p1f hb]; exact yv_app2V H hk k1'' ra.1 k3.symm fu3 l1 hQ) e4 C4
        rcases c with ⟨e, d2, c2, c3⟩ | ⟨d2, c2, c3⟩
        · subst c2 c3; exact Z1 e d2
        · subst c2 c3
          obtain ⟨sp4, kid4, j4, R4, k5, k6⟩ := Z2 d2
          obtain ⟨A4, lt4⟩ := C4.2.2 d2
          have rc := yv_row g R4.1 lt4 (A4.2.2.2 _ (Nat.le_refl _) lt4)
          refine yv_finP g bp hj R4 rfl (fun Q H hQ => ?_)
          rw [yv_p1f hb]
          exact yv_app3V H hk k5.symm rc.1 rc.2 hQ
theorem yv_kadd (g : gs_PG P) (ih : ∀ f', f = f' + 1 → yv_IH P C f') (bp : gs_BP P s r t) (hs : sp r = 0) (hj : j ≤ 2 * r) (hf : p_bu P ≤ gs_n s + f) (hk : p_kd P t = 4) (ht : t < p_cn P) (h : gs_body P (gs_go P f) r t s = (o, s')) : yv_OUT P C r s sp kid j ev o s' := by
  have nb := bp.2.2.1
  have R0 : yv_PR P C r s sp kid j ev 0 s sp kid j := yv_pr0 bp hs
  obtain ⟨_, _, _, _, pa, pb, pc, st, hg, gt⟩ := g
  have g : gs_PG P := ⟨by assumption, by assumption, by assumption, by assumption, pa, pb, pc, st, hg, gt⟩
  obtain ⟨p1, p2, p3, _⟩ := tr_two gt ht (Or.inr hk)
  obtain ⟨o2, s2, e2, en2, C2, c⟩ := gs_k4 (gs_ok g f) g bp hk h
  obtain ⟨X1, X2⟩ := yv_subP g ih bp hj hf R0 (by omega) en2 (by omega) (fun Q H hQ => yv_add0 H hk p2 hQ) e2 C2
  rcases c with ⟨e, c1, c2, c3⟩ | ⟨c1, hf0, c2, c3⟩ | ⟨c1, hf0, o3, s3, e3, en3, C3, c⟩
  · subst c2 c3; exact X1 e c1
  · subst c2 c3
    obtain ⟨sp2, kid2, j2, R2, k1, k2⟩ := X2 c1
    obtain ⟨A2, lt2⟩ := C2.2.2 c1
    have ra := yv_row (a := r + 1) g R2.1 (by omega) (A2.2.2.2 _ (by omega) (by omega))
    refine yv_stpP g bp hj R2 (fun Q H hQ => yv_intS H (Or.inl hk) (a := r + 1) ?_ ra.1 hf0 hQ)
    rw [← nb]; exact k1.symm
  · obtain ⟨sp2, kid2, j2, R2, k1, k2⟩ := X2 c1
    obtain ⟨A2, lt2⟩ := C2.2.2 c1
    have ra := yv_row (a := r + 1) g R2.1 (by omega) (A2.2.2.2 _ (by omega) (by omega))
    have k1' : nI (r + 1) = kid2 (r * 3) := by rw [← nb]; exact k1.symm
    obtain ⟨Y1, Y2⟩ := yv_subP g ih bp hj hf R2 (by omega) en3 (by omega) (fun Q H hQ => yv_add1 H hk p1 k1' ra.1 hf0 hQ) e3 C3
    rcases c with ⟨e, d1, c2, c3⟩ | ⟨d1, hf3, c2, c3⟩ | ⟨d1, hf3, c2, c3⟩
    · subst c2 c3; exact Y1 e d1
    · subst c2 c3
      obtain ⟨sp3, kid3, j3, R3, k3, k4⟩ := Y2 d1
      obtain ⟨A3, lt3⟩ := C3.2.2 d1
      have rb := yv_row g R3.1 lt3 (A3.2.2.2 _ (Nat.le_refl _) lt3)
      exact yv_stpP g bp hj R3 (fun Q H hQ => yv_addS H hk k3.symm rb.1 hf3 hQ)
    · subst c2 c3
      obtain ⟨sp3, kid3, j3, R3, k3, k4⟩ := Y2 d1
      obtain ⟨A3, lt3⟩ := C3.2.2 d1
      have rb := yv_row g R3.1 lt3 (A3.2.2.2 _ (Nat.le_refl _) lt3)
      have k1'' : nI (r + 1) = kid3 (r * 3) := k1'.trans (k4 _ (by omega)).symm
      exact yv_finP g bp hj R3 rfl (fun Q H hQ => yv_add2 H hk k1'' ra.1 k3.symm rb.1 hf3 hQ)
theorem yv_kifz (g : gs_PG P) (ih : ∀ f', f = f' + 1 → yv_IH P C f') (bp : gs_BP P s r t) (hs : sp r = 0) (hj : j ≤ 2 * r) (hf : p_bu P ≤ gs_n s + f) (hk : p_kd P t = 5) (ht : t < p_cn P) (h : gs_body P (gs_go P f) r t s = (o, s')) : yv_OUT P C r s sp kid j ev o s' := by
  have nb := bp.2.2.1
  have R0 : yv_PR P C r s sp kid j ev 0 s sp kid j := yv_pr0 bp hs
  obtain ⟨_, _, _, _, pa, pb, pc, st, hg, gt⟩ := g
  have g : gs_PG P := ⟨by assumption, by assumption, by assumption, by assumption, pa, pb, pc, st, hg, gt⟩
  obtain ⟨p1, p2, p3, _⟩ := tr_ifz gt ht hk
  obtain ⟨o2, s2, e2, en2, C2, c⟩ := gs_k5 (gs_ok g f) g bp hk h
  obtain ⟨X1, X2⟩ := yv_subP g ih bp hj hf R0 (by omega) en2 (by omega) (fun Q H hQ => yv_ifz0 H hk p3 hQ) e2 C2
  rcases c with ⟨e, c1, c2, c3⟩ | ⟨c1, hf0, c2, c3⟩ | ⟨c1, hf0, t3, o3, s3, ct3, e3, en3, C3, c⟩
  · subst c2 c3; exact X1 e c1
  · subst c2 c3
    obtain ⟨sp2, kid2, j2, R2, k1, k2⟩ := X2 c1
    obtain ⟨A2, lt2⟩ := C2.2.2 c1
    have ra := yv_row (a := r + 1) g R2.1 (by omega) (A2.2.2.2 _ (by omega) (by omega))
    refine yv_stpP g bp hj R2 (fun Q H hQ => yv_intS H (Or.inr (Or.inl hk)) (a := r + 1) ?_ ra.1 hf0 hQ)
    rw [← nb]; exact k1.symm
  · obtain ⟨sp2, kid2, j2, R2, k1, k2⟩ := X2 c1
    obtain ⟨A2, lt2⟩ := C2.2.2 c1
    have ra := yv_row (a := r + 1) g R2.1 (by omega) (A2.2.2.2 _ (by omega) (by omega))
    have k1' : nI (r + 1) = kid2 (r * 3) := by rw [← nb]; exact k1.symm
    obtain ⟨Y1, Y2⟩ := yv_subP g ih bp hj hf R2 (by omega) en3 (by omega) (fun Q H hQ => yv_ifz1 H hk p1 p2 k1' ra.1 hf0 ct3 hQ) e3 C3
    rcases c with ⟨e, d1, c2, c3⟩ | ⟨d1, c2, c3⟩
    · subst c2 c3; exact Y1 e d1
    · subst c2 c3
      obtain ⟨sp3, kid3, j3, R3, k3, k4⟩ := Y2 d1
      obtain ⟨A3, lt3⟩ := C3.2.2 d1
      have rb := yv_row g R3.1 lt3 (A3.2.2.2 _ (Nat.le_refl _) lt3)
      exact yv_finP g bp hj R3 rfl (fun Q H hQ => yv_ifz2 H hk k3.symm rb.1 rb.2 hQ)
theorem yv_kprt (g : gs_PG P) (ih : ∀ f', f = f' + 1 → yv_IH P C f') (bp : gs_BP P s r t) (hs : sp r = 0) (hj : j ≤ 2 * r) (hf : p_bu P ≤ gs_n s + f) (hk : p_kd P t = 6) (ht : t < p_cn P) (h : gs_body P (gs_go P f) r t s = (o, s')) : yv_OUT P C r s sp kid j ev o s' := by
  have nb := bp.2.2.1
  have R0 : yv_PR P C r s sp kid j ev 0 s sp kid j := yv_pr0 bp hs
  obtain ⟨_, _, hpc, hrc, pa, pb, pc, st, hg, gt⟩ := g
  have g : gs_PG P := ⟨by assumption, by assumption, hpc, hrc, pa, pb, pc, st, hg, gt⟩
  obtain ⟨p1, p2, p3⟩ := tr_prt gt ht hk
  obtain ⟨o2, s2, e2, en2, C2, c⟩ := gs_k6 (gs_ok g f) g bp hk h
  obtain ⟨X1, X2⟩ := yv_subP g ih bp hj hf R0 (by omega) en2 (by omega) (fun Q H hQ => yv_prt0 H hk p1 hQ) e2 C2
  rcases c with ⟨e, c1, c2, c3⟩ | ⟨c1, hf0, c2, c3⟩ | ⟨c1, hf0, hp, c2, c3⟩ | ⟨c1, hf0, hp, c2, c3⟩
  · subst c2 c3; exact X1 e c1
  · subst c2 c3
    obtain ⟨sp2, kid2, j2, R2, k1, k2⟩ := X2 c1
    obtain ⟨A2, lt2⟩ := C2.2.2 c1
    have ra := yv_row (a := r + 1) g R2.1 (by omega) (A2.2.2.2 _ (by omega) (by omega))
    refine yv_stpP g bp hj R2 (fun Q H hQ => yv_intS H (Or.inr (Or.inr hk)) (a := r + 1) ?_ ra.1 hf0 hQ)
    rw [← nb]; exact k1.symm
  · subst c2 c3
    obtain ⟨sp2, kid2, j2, R2, k1, k2⟩ := X2 c1
    obtain ⟨A2, lt2⟩ := C2.2.2 c1
    have ra := yv_row (a := r + 1) g R2.1 (by omega) (A2.2.2.2 _ (by omega) (by omega))
    refine yv_stpP g bp hj R2 (fun Q H hQ => yv_prtF H hk hrc (a := r + 1) ?_ ra.1 hf0 hp hQ)
    rw [← nb]; exact k1.symm
  · subst c2 c3
    obtain ⟨sp2, kid2, j2, R2, k1, k2⟩ := X2 c1
    obtain ⟨A2, lt2⟩ := C2.2.2 c1
    have ra := yv_row (a := r + 1) g R2.1 (by omega) (A2.2.2.2 _ (by omega) (by omega))
    obtain ⟨m, hm, em⟩ := A2.2.1
    have hm2 : m < p_pc P := by rw [em, nI_ltI (by omega) (by omega)] at hp; exact hp
    refine yv_finP g bp hj R2 rfl (fun Q H hQ => yv_prt1 H hk hrc (a := r + 1) ?_ ra.1 hf0 em hm2 hpc hQ)
    rw [← nb]; exact k1.symm
theorem yv_klet (g : gs_PG P) (ih : ∀ f', f = f' + 1 → yv_IH P C f') (bp : gs_BP P s r t) (hs : sp r = 0) (hj : j ≤ 2 * r) (hf : p_bu P ≤ gs_n s + f) (hk : p_kd P t = 7) (ht : t < p_cn P) (h : gs_body P (gs_go P f) r t s = (o, s')) : yv_OUT P C r s sp kid j ev o s' := by
  have nb := bp.2.2.1
  have R0 : yv_PR P C r s sp kid j ev 0 s sp kid j := yv_pr0 bp hs
  obtain ⟨_, _, _, _, pa, pb, pc, st, hg, gt⟩ := g
  have g : gs_PG P := ⟨by assumption, by assumption, by assumption, by assumption, pa, pb, pc, st, hg, gt⟩
  obtain ⟨p1, p2, p3, _⟩ := tr_let gt ht hk
  by_cases hb : p_bn P = true
  · obtain ⟨o2, s2, e2, en2, C2, c⟩ := gs_k7N (gs_ok g f) g bp hk hb h
    obtain ⟨X1, X2⟩ := yv_subP g ih bp hj hf R0 (by omega) en2 (by omega) (fun Q H hQ => by rw [yv_p1t hb]; exact yv_letN0 H hk p1 hQ) e2 C2
    rcases c with ⟨e, c1, c2, c3⟩ | ⟨c1, c2, c3⟩
    · subst c2 c3; exact X1 e c1
    · subst c2 c3
      obtain ⟨sp2, kid2, j2, R2, k1, k2⟩ := X2 c1
      obtain ⟨A2, lt2⟩ := C2.2.2 c1
      have ra := yv_row (a := r + 1) g R2.1 (by omega) (A2.2.2.2 _ (by omega) (by omega))
      have k1' : nI (r + 1) = kid2 (r * 3) := by rw [← nb]; exact k1.symm
      refine yv_finP g bp hj R2 rfl (fun Q H hQ => ?_)
      rw [yv_p1t hb]
      exact yv_letN1 H hk k1' ra.1 ra.2 hQ
  · have hb' : p_bn P = false := Bool.eq_false_iff.mpr hb
    obtain ⟨o2, s2, e2, en2, C2, c⟩ := gs_k7V (gs_ok g f) g bp hk hb' h
    obtain ⟨X1, X2⟩ := yv_subP g ih bp hj hf R0 (by omega) en2 (by omega) (fun Q H hQ => by rw [yv_p1f hb']; exact yv_letV0 H hk p2 hQ) e2 C2
    rcases c with ⟨e, c1, c2, c3⟩ | ⟨c1, o3, s3, e3, en3, C3, c⟩
    · subst c2 c3; exact X1 e c1
    · obtain ⟨sp2, kid2, j2, R2, k1, k2⟩ := X2 c1
      obtain ⟨A2, lt2⟩ := C2.2.2 c1
      have k1' : nI (r + 1) = kid2 (r * 3) := by rw [← nb]; exact k1.symm
      obtain ⟨Y1, Y2⟩ := yv_subP g ih bp hj hf R2 (by omega) en3 (by omega) (fun Q H hQ => by rw [yv_p1f hb']; exact yv_letV1 H hk p1 k1' hQ) e3 C3
      rcases c with ⟨e, d1, c2, c3⟩ | ⟨d1, c2, c3⟩
      · subst c2 c3; exact Y1 e d1
      · subst c2 c3
        obtain ⟨sp3, kid3, j3, R3, k3, k4⟩ := Y2 d1
        obtain ⟨A3, lt3⟩ := C3.2.2 d1
        have rb := yv_row g R3.1 lt3 (A3.2.2.2 _ (Nat.le_refl _) lt3)
        refine yv_finP g bp hj R3 rfl (fun Q H hQ => ?_)
        rw [yv_p1f hb']
        exact yv_letV2 H hk k3.symm rb.1 rb.2 hQ
end
theorem yv_main {P : gP} (C : yC) (g : gs_PG P) : ∀ f, yv_IH P C f := by
  have step : ∀ f, (∀ f', f = f' + 1 → yv_IH P C f') → yv_IH P C f := by
    intro f ih r t s sp kid j ev bp hs hj hf o s' h
    have ht : t < p_cn P := by
      have a := (bp.1.2.1 r (by rw [bp.2.2.1]; omega)).1
      rw [bp.2.2.2.1] at a
      exact a
    have g0 := g
    obtain ⟨g1, g2, g3, g4, pa, pb, pc, st, hg, gt⟩ := g
    have R0 : yv_PR P C r s sp kid j ev 0 s sp kid j := yv_pr0 bp hs
    rcases tr_kind gt ht with hk | hk | hk | hk | hk | hk | hk | hk
    · rw [gs_b0 hk] at h
      obtain ⟨e1, e2⟩ := gs_pair_eq h
      subst e1 e2
      exact yv_finP g0 bp hj R0 rfl (fun Q H hQ => yv_num H hk hQ)
    · exact yv_kvar g0 ih bp hs hj hf hk h
    · rw [gs_b2 hk] at h
      obtain ⟨e1, e2⟩ := gs_pair_eq h
      subst e1 e2
      exact yv_finP g0 bp hj R0 rfl (fun Q H hQ => yv_lam H hk hQ)
    · exact yv_kapp g0 ih bp hs hj hf hk ht h
    · exact yv_kadd g0 ih bp hs hj hf hk ht h
    · exact yv_kifz g0 ih bp hs hj hf hk ht h
    · exact yv_kprt g0 ih bp hs hj hf hk ht h
    · exact yv_klet g0 ih bp hs hj hf hk ht h
  intro f
  induction f with
  | zero => exact step 0 (fun f' e => absurd e (by omega))
  | succ f ih => exact step (f + 1) (fun f' e => by have : f' = f := by omega
                                                    subst this; exact ih)
end
section
/-! the component's state in a run -/
abbrev xK : Type := Int32 × Int32 × Int32 × Int32 × Int32 × Int32 × Int32 × Int32 × Int32 × Int32 × Int32 × Int32 × Int32 × Int32 × Int32 × Int32 × Int32 × Int32 × Int32 × Int32 × Int32 × Int32 × Int32 × Int32
abbrev xZ : Type := xK × (Nat → Int32) × (Nat → Int32) × (Nat → Int32) × (Nat → Int32) × (Nat → Int32) × (Nat → Int32) × (Nat → Int32) × (Nat → Int32) × (Nat → Int32)
def z_pa (Z : xZ) : Nat → Int32 := Z.2.1
def z_pb (Z : xZ) : Nat → Int32 := Z.2.2.1
def z_pc (Z : xZ) : Nat → Int32 := Z.2.2.2.1
def z_st (Z : xZ) : Nat → Int32 := Z.2.2.2.2.1
def z_cO (Z : xZ) : Nat → Int32 := Z.2.2.2.2.2.1
def z_cT (Z : xZ) : Nat → Int32 := Z.2.2.2.2.2.2.1
def z_cD (Z : xZ) : Nat → Int32 := Z.2.2.2.2.2.2.2.1
def z_cN (Z : xZ) : Nat → Int32 := Z.2.2.2.2.2.2.2.2.1
def z_cR (Z : xZ) : Nat → Int32 := Z.2.2.2.2.2.2.2.2.2
abbrev xH : Type := Nat × (Nat → Int32) × (Nat → Int32) × (Nat → Int32) × (Nat → Int32) × (Nat → Int32)
def h_n (h : xH) : Nat := h.1
def h_N (h : xH) : Nat → Int32 := h.2.1
def h_T (h : xH) : Nat → Int32 := h.2.2.1
def h_D (h : xH) : Nat → Int32 := h.2.2.2.1
def h_E (h : xH) : Nat → Int32 := h.2.2.2.2.1
def h_O (h : xH) : Nat → Int32 := h.2.2.2.2.2
abbrev xF : Type := Nat × (Nat → Int32) × (Nat → Int32) × (Nat → Int32) × (Nat → Int32) × (Nat → Int32) × (Nat → Int32)
def f_n (F : xF) : Nat := F.1
def f_S (F : xF) : Nat → Int32 := F.2.1
def f_C (F : xF) : Nat → Int32 := F.2.2.1
def f_E (F : xF) : Nat → Int32 := F.2.2.2.1
def f_T (F : xF) : Nat → Int32 := F.2.2.2.2.1
def f_D (F : xF) : Nat → Int32 := F.2.2.2.2.2.1
def f_V (F : xF) : Nat → Int32 := F.2.2.2.2.2.2
abbrev xO : Type := (Nat → Int32) × (Nat → Int32) × (Nat → Int32) × (Nat → Int32)
def o_s (o : xO) : Nat → Int32 := o.1
def o_v (o : xO) : Nat → Int32 := o.2.1
def o_p (o : xO) : Nat → Int32 := o.2.2.1
def o_l (o : xO) : Nat → Int32 := o.2.2.2
def xr_S (P : gP) (Z : xZ) (h : xH) (F : xF) (o : xO) (bg : Nat) (ret pc env vt vd ve : Int32) : SX := (Z.1.1, Z.1.2.1, Z.1.2.2.1, Z.1.2.2.2.1, Z.1.2.2.2.2.1, Z.1.2.2.2.2.2.1, Z.1.2.2.2.2.2.2.1, Z.1.2.2.2.2.2.2.2.1, Z.1.2.2.2.2.2.2.2.2.1, Z.1.2.2.2.2.2.2.2.2.2.1, Z.1.2.2.2.2.2.2.2.2.2.2.1, Z.1.2.2.2.2.2.2.2.2.2.2.2.1, Z.1.2.2.2.2.2.2.2.2.2.2.2.2.1, Z.1.2.2.2.2.2.2.2.2.2.2.2.2.2.1, Z.1.2.2.2.2.2.2.2.2.2.2.2.2.2.2.1, Z.1.2.2.2.2.2.2.2.2.2.2.2.2.2.2.2.1, Z.1.2.2.2.2.2.2.2.2.2.2.2.2.2.2.2.2.1, Z.1.2.2.2.2.2.2.2.2.2.2.2.2.2.2.2.2.2.1, Z.1.2.2.2.2.2.2.2.2.2.2.2.2.2.2.2.2.2.2.1, Z.1.2.2.2.2.2.2.2.2.2.2.2.2.2.2.2.2.2.2.2.1, Z.1.2.2.2.2.2.2.2.2.2.2.2.2.2.2.2.2.2.2.2.2.1, Z.1.2.2.2.2.2.2.2.2.2.2.2.2.2.2.2.2.2.2.2.2.2.1, nI (p_bu P), nI (p_pc P), Z.1.2.2.2.2.2.2.2.2.2.2.2.2.2.2.2.2.2.2.2.2.2.2.1, Z.1.2.2.2.2.2.2.2.2.2.2.2.2.2.2.2.2.2.2.2.2.2.2.2, nI (h_n h), nI (f_n F), nI (p_rc P), yv_p1 P, ret, nI bg, pc, env, vt, vd, ve, p_kd P, p_ag P, z_pa Z, z_pb Z, z_pc Z, p_fr P, z_st Z, o_s o, o_v o, o_p o, o_l o, z_cO Z, z_cT Z, z_cD Z, z_cN Z, z_cR Z, h_N h, h_T h, h_D h, h_E h, h_O h, f_S F, f_C F, f_E F, f_T F, f_D F, f_V F)

def xh_x (h : xH) (nm tg da en ou : Int32) : xH := (h_n h + 1, upd (h_N h) (h_n h) nm, upd (h_T h) (h_n h) tg, upd (h_D h) (h_n h) da, upd (h_E h) (h_n h) en, upd (h_O h) (h_n h) ou)
def xf_p (F : xF) (sg co en tg da ve : Int32) : xF := (f_n F + 1, upd (f_S F) (f_n F) sg, upd (f_C F) (f_n F) co, upd (f_E F) (f_n F) en, upd (f_T F) (f_n F) tg, upd (f_D F) (f_n F) da, upd (f_V F) (f_n F) ve)
def xf_d (F : xF) : xF := (f_n F - 1, f_S F, f_C F, f_E F, f_T F, f_D F, f_V F)
def xo_f (rc : Nat) (o : xO) (st v : Int32) : xO := (upd (o_s o) rc st, upd (o_v o) rc v, o_p o, o_l o)
def xo_p (rc : Nat) (o : xO) (v : Int32) : xO := (o_s o, o_v o, upd (o_p o) rc (o_p o rc + 1), upd (o_l o) (32 * rc + (o_p o rc).toNatClampNeg) v)
/-- the innermost binding of x from c on -/
def xh_lf (N O : Nat → Int32) (x : Int32) : Nat → Nat → Nat
  | 0, _ => 0
  | f + 1, c => if c = 0 then 0 else if N c = x then c else xh_lf N O x f (O c).toNatClampNeg
def xh_l (h : xH) (c : Nat) (x : Int32) : Nat := xh_lf (h_N h) (h_O h) x c c
def xh_ok (h : xH) : Prop := 1 ≤ h_n h ∧ ∀ a, 1 ≤ a → a < h_n h → ∃ b, b < a ∧ h_O h a = nI b
theorem xh_lfe {N O N' O' : Nat → Int32} {x : Int32} {n : Nat} (ok : ∀ a, 1 ≤ a → a < n → ∃ b, b < a ∧ O a = nI b) (hn : n < 2 ^ 31) (eN : ∀ a, a < n → N' a = N a) (eO : ∀ a, a < n → O' a = O a) : ∀ f f' c, c ≤ f → c ≤ f' → c < n → xh_lf N' O' x f' c = xh_lf N O x f c := by
  intro f
  induction f with
  | zero =>
    intro f' c h1 h2 h3
    obtain rfl : c = 0 := by omega
    cases f' with
    | zero => rfl
    | succ f' => exact if_pos rfl
  | succ f ih =>
    intro f' c h1 h2 h3
    cases f' with
    | zero =>
      obtain rfl : c = 0 := by omega
      exact (if_pos rfl).symm
    | succ f' =>
      show (if c = 0 then 0 else if N' c = x then c else xh_lf N' O' x f' (O' c).toNatClampNeg) = (if c = 0 then 0 else if N c = x then c else xh_lf N O x f (O c).toNatClampNeg)
      by_cases e : c = 0
      · rw [if_pos e, if_pos e]
      · obtain ⟨b, hb, eb⟩ := ok c (by omega) h3
        rw [if_neg e, if_neg e, eN c h3, eO c h3, eb, nI_clamp (by omega), ih f' b (by omega) (by omega) (by omega)]
theorem xh_l0 {h : xH} {x : Int32} : xh_l h 0 x = 0 := rfl
theorem xh_lS {h : xH} {c b : Nat} {x : Int32} (ok : xh_ok h) (hn : h_n h < 2 ^ 31) (h1 : 1 ≤ c) (h2 : c < h_n h) (hb : b < c) (eb : h_O h c = nI b) : xh_l h c x = if h_N h c = x then c else xh_l h b x := by
  obtain ⟨d, rfl⟩ : ∃ d, c = d + 1 := ⟨c - 1, by omega⟩
  show (if d + 1 = 0 then 0 else if h_N h (d + 1) = x then d + 1 else xh_lf (h_N h) (h_O h) x d (h_O h (d + 1)).toNatClampNeg) = _
  rw [if_neg (by omega), eb, nI_clamp (by omega)]
  have := xh_lfe (N := h_N h) (O := h_O h) (N' := h_N h) (O' := h_O h) (x := x) ok.2 hn (fun _ _ => rfl) (fun _ _ => rfl) b d b (by omega) (by omega) (by omega)
  rw [this]
  rfl
theorem xh_lle {h : xH} {x : Int32} (ok : xh_ok h) (hn : h_n h < 2 ^ 31) : ∀ c, c < h_n h → xh_l h c x ≤ c := by
  intro c
  induction c using Nat.strongRecOn with
  | ind c ih =>
    intro hc
    rcases Nat.eq_zero_or_pos c with rfl | hp
    · exact Nat.le_refl _
    · obtain ⟨b, hb, eb⟩ := ok.2 c hp hc
      rw [xh_lS ok hn hp hc hb eb]
      by_cases e : h_N h c = x
      · rw [if_pos e]; exact Nat.le_refl _
      · rw [if_neg e]
        have := ih b hb (by omega)
        omega
section
variable {P : gP} {Z : xZ} {h : xH} {F : xF} {o : xO} {bg : Nat} {ret pc env vt vd ve : Int32}
theorem xr_begin {post : Int32 → SX → Prop} (hb : bg < p_bu P) (hb2 : p_bu P ≤ 240) (hp : post 1 (xr_S P Z h F o (bg + 1) ret pc env vt vd ve)) : wpX_begin post (xr_S P Z h F o bg ret pc env vt vd ve) := br_t (nI_lt hb (by omega)) (nm_r (nI_1 bg) hp)
theorem xr_finish {post : SX → Prop} {st v : Int32} (hr : p_rc P < 4) (hp : post (xr_S P Z h F (xo_f (p_rc P) o st v) bg ret pc env vt vd ve)) : wpX_finish post (xr_S P Z h F o bg ret pc env vt vd ve) st v := by
  have i : vp_in (nI (p_rc P)) 4 := vp_in_nI hr (by decide)
  have c : (nI (p_rc P)).toNatClampNeg = p_rc P := nI_clamp (by omega)
  have e1 : upd (o_s o) (nI (p_rc P)).toNatClampNeg st = upd (o_s o) (p_rc P) st := by rw [c]
  have e2 : upd (o_v o) (nI (p_rc P)).toNatClampNeg v = upd (o_v o) (p_rc P) v := by rw [c]
  exact And.intro i (nm_r e1 (And.intro i (nm_r e2 hp)))
theorem xr_beginF {post : Int32 → SX → Prop} (hb : p_bu P ≤ bg) (hb2 : bg ≤ 240) (hr : p_rc P < 4) (hp : post 0 (xr_S P Z h F (xo_f (p_rc P) o 4 0) bg ret pc env vt vd ve)) : wpX_begin post (xr_S P Z h F o bg ret pc env vt vd ve) := br_f (nI_nlt hb (by omega)) (xr_finish hr hp)
theorem xr_extend {post : Int32 → SX → Prop} {ou nm : Int32} (hn : h_n h < 1024) (hp : post (nI (h_n h)) (xr_S P Z (xh_x h nm vt vd ve ou) F o bg ret pc env vt vd ve)) : wpX_extend post (xr_S P Z h F o bg ret pc env vt vd ve) ou nm := by
  have i : vp_in (nI (h_n h)) 1024 := vp_in_nI hn (by decide)
  have c : (nI (h_n h)).toNatClampNeg = h_n h := nI_clamp (by omega)
  have e1 : upd (h_N h) (nI (h_n h)).toNatClampNeg nm = upd (h_N h) (h_n h) nm := by rw [c]
  have e2 : upd (h_T h) (nI (h_n h)).toNatClampNeg vt = upd (h_T h) (h_n h) vt := by rw [c]
  have e3 : upd (h_D h) (nI (h_n h)).toNatClampNeg vd = upd (h_D h) (h_n h) vd := by rw [c]
  have e4 : upd (h_E h) (nI (h_n h)).toNatClampNeg ve = upd (h_E h) (h_n h) ve := by rw [c]
  have e5 : upd (h_O h) (nI (h_n h)).toNatClampNeg ou = upd (h_O h) (h_n h) ou := by rw [c]
  exact And.intro i (nm_r e1 (And.intro i (nm_r e2 (And.intro i (nm_r e3 (And.intro i (nm_r e4 (And.intro i (nm_r e5 (nm_r (nI_1 (h_n h)) hp))))))))))
theorem xr_push {post : SX → Prop} {sg co : Int32} (hn : f_n F < 256) (hp : post (xr_S P Z h (xf_p F sg co env vt vd ve) o bg ret pc env vt vd ve)) : wpX_pushFrame post (xr_S P Z h F o bg ret pc env vt vd ve) sg co := by
  have i : vp_in (nI (f_n F)) 256 := vp_in_nI hn (by decide)
  have c : (nI (f_n F)).toNatClampNeg = f_n F := nI_clamp (by omega)
  have e1 : upd (f_S F) (nI (f_n F)).toNatClampNeg sg = upd (f_S F) (f_n F) sg := by rw [c]
  have e2 : upd (f_C F) (nI (f_n F)).toNatClampNeg co = upd (f_C F) (f_n F) co := by rw [c]
  have e3 : upd (f_E F) (nI (f_n F)).toNatClampNeg env = upd (f_E F) (f_n F) env := by rw [c]
  have e4 : upd (f_T F) (nI (f_n F)).toNatClampNeg vt = upd (f_T F) (f_n F) vt := by rw [c]
  have e5 : upd (f_D F) (nI (f_n F)).toNatClampNeg vd = upd (f_D F) (f_n F) vd := by rw [c]
  have e6 : upd (f_V F) (nI (f_n F)).toNatClampNeg ve = upd (f_V F) (f_n F) ve := by rw [c]
  exact And.intro i (nm_r e1 (And.intro i (nm_r e2 (And.intro i (nm_r e3 (And.intro i (nm_r e4 (And.intro i (nm_r e5 (And.intro i (nm_r e6 (nm_r (nI_1 (f_n F)) hp))))))))))))
theorem xr_find {post : Int32 → Prop} {x : Int32} {c : Nat} (ok : xh_ok h) (hn : h_n h ≤ 1024) (hc : c < h_n h) (he : env = nI c) (hp : post (nI (xh_l h c x))) : wpX_find post (xr_S P Z h F o bg ret pc env vt vd ve) x := by
  have key : ∀ n c i, c < n → c < h_n h → i + c < 1024 → post (nI (xh_l h c x)) → wX_find_7 post x Z.1.1 Z.1.2.1 Z.1.2.2.1 Z.1.2.2.2.1 Z.1.2.2.2.2.1 Z.1.2.2.2.2.2.1 Z.1.2.2.2.2.2.2.1 Z.1.2.2.2.2.2.2.2.1 Z.1.2.2.2.2.2.2.2.2.1 Z.1.2.2.2.2.2.2.2.2.2.1 Z.1.2.2.2.2.2.2.2.2.2.2.1 Z.1.2.2.2.2.2.2.2.2.2.2.2.1 Z.1.2.2.2.2.2.2.2.2.2.2.2.2.1 Z.1.2.2.2.2.2.2.2.2.2.2.2.2.2.1 Z.1.2.2.2.2.2.2.2.2.2.2.2.2.2.2.1 Z.1.2.2.2.2.2.2.2.2.2.2.2.2.2.2.2.1 Z.1.2.2.2.2.2.2.2.2.2.2.2.2.2.2.2.2.1 Z.1.2.2.2.2.2.2.2.2.2.2.2.2.2.2.2.2.2.1 Z.1.2.2.2.2.2.2.2.2.2.2.2.2.2.2.2.2.2.2.1 Z.1.2.2.2.2.2.2.2.2.2.2.2.2.2.2.2.2.2.2.2.1 Z.1.2.2.2.2.2.2.2.2.2.2.2.2.2.2.2.2.2.2.2.2.1 Z.1.2.2.2.2.2.2.2.2.2.2.2.2.2.2.2.2.2.2.2.2.2.1 (nI (p_bu P)) (nI (p_pc P)) Z.1.2.2.2.2.2.2.2.2.2.2.2.2.2.2.2.2.2.2.2.2.2.2.1 Z.1.2.2.2.2.2.2.2.2.2.2.2.2.2.2.2.2.2.2.2.2.2.2.2 (nI (h_n h)) (nI (f_n F)) (nI (p_rc P)) (yv_p1 P) ret (nI bg) pc env vt vd ve (p_kd P) (p_ag P) (z_pa Z) (z_pb Z) (z_pc Z) (p_fr P) (z_st Z) (o_s o) (o_v o) (o_p o) (o_l o) (z_cO Z) (z_cT Z) (z_cD Z) (z_cN Z) (z_cR Z) (h_N h) (h_T h) (h_D h) (h_E h) (h_O h) (f_S F) (f_C F) (f_E F) (f_T F) (f_D F) (f_V F) n (nI c) (nI i) := by
    intro n
    induction n with
    | zero => intro c i h1; exact absurd h1 (by omega)
    | succ n ih =>
      intro c i h1 h2 h3 hp
      have cc : (nI c).toNatClampNeg = c := nI_clamp (by omega)
      rcases Nat.eq_zero_or_pos c with rfl | hpos
      · exact br_f (nI_ge (b := 1024) (by omega) (by decide)) (br_t (by decide) hp)
      · obtain ⟨b, hb, eb⟩ := ok.2 c hpos h2
        have ic : vp_in (nI c) 1024 := vp_in_nI (by omega) (by decide)
        rw [xh_lS ok (by omega) hpos h2 hb eb] at hp
        refine br_f (nI_ge (b := 1024) (by omega) (by decide)) (br_f (nI_nle hpos (by omega)) (And.intro ic (br_c (fun q => ?_) (fun q => And.intro ic (nm_r (e' := nI b) ?_ (nm_r (nI_1 i) (ih b (i + 1) (by omega) (by omega) (by omega) ?_)))))))
        · rw [cc] at q; rw [if_pos q] at hp; exact hp
        · rw [cc]; exact eb
        · rw [cc] at q; rw [if_neg q] at hp; exact hp
  subst he
  exact ⟨c + 1, key (c + 1) c 0 (by omega) hc (by omega) hp⟩
theorem xr_load {post : SX → Prop} {x : Int32} {c a : Nat} (ok : xh_ok h) (hn : h_n h ≤ 1024) (hc : c < h_n h) (he : env = nI c) (ha : xh_l h c x = a) (hp : post (xr_S P Z h F o bg ret pc env (h_T h a) (h_D h a) (h_E h a))) : wpX_loadName post (xr_S P Z h F o bg ret pc env vt vd ve) x := by
  have la := xh_lle (x := x) ok (by omega) c hc
  rw [ha] at la
  have ia : vp_in (nI a) 1024 := vp_in_nI (by omega) (by decide)
  have ca : (nI a).toNatClampNeg = a := nI_clamp (by omega)
  refine xr_find ok hn hc he ?_
  rw [ha]
  refine And.intro ia (And.intro ia (And.intro ia ?_))
  rw [ca]
  exact hp
theorem xr_print {post : Int32 → SX → Prop} {m : Nat} (hr : p_rc P < 4) (hm : o_p o (p_rc P) = nI m) (hm2 : m < p_pc P) (hpc : p_pc P ≤ 32) (hp : post 1 (xr_S P Z h F (xo_p (p_rc P) o vd) bg ret pc env vt vd ve)) : wpX_print post (xr_S P Z h F o bg ret pc env vt vd ve) := by
  have i : vp_in (nI (p_rc P)) 4 := vp_in_nI hr (by decide)
  have c : (nI (p_rc P)).toNatClampNeg = p_rc P := nI_clamp (by omega)
  have e0 : o_p o (nI (p_rc P)).toNatClampNeg = nI m := by rw [c]; exact hm
  have ix : 32 * nI (p_rc P) + nI m = nI (32 * p_rc P + m) := by
    show nI 32 * nI (p_rc P) + nI m = _
    rw [pk_mul, nI_add]
  have vx : vp_in (32 * nI (p_rc P) + nI m) 128 := by rw [ix]; exact vp_in_nI (by omega) (by decide)
  have e1 : upd (o_l o) (32 * nI (p_rc P) + nI m).toNatClampNeg vd = upd (o_l o) (32 * p_rc P + (o_p o (p_rc P)).toNatClampNeg) vd := by rw [ix, hm, nI_clamp (by omega), nI_clamp (by omega)]
  have e2 : upd (o_p o) (nI (p_rc P)).toNatClampNeg (nI m + 1) = upd (o_p o) (p_rc P) (o_p o (p_rc P) + 1) := by rw [c, hm]
  exact And.intro i (nm_r e0 (br_t (nI_lt hm2 (by omega)) (And.intro vx (nm_r e1 (And.intro i (nm_r e2 hp))))))
theorem xr_printF {post : Int32 → SX → Prop} (hr : p_rc P < 4) (hm : ¬ o_p o (p_rc P) < nI (p_pc P)) (hp : post 0 (xr_S P Z h F (xo_f (p_rc P) o 5 0) bg ret pc env vt vd ve)) : wpX_print post (xr_S P Z h F o bg ret pc env vt vd ve) := by
  have i : vp_in (nI (p_rc P)) 4 := vp_in_nI hr (by decide)
  have c : (nI (p_rc P)).toNatClampNeg = p_rc P := nI_clamp (by omega)
  have e0 : o_p o (nI (p_rc P)).toNatClampNeg = o_p o (p_rc P) := by rw [c]
  exact And.intro i (nm_r e0 (br_f hm (xr_finish hr hp)))
end
/-! the run loop -/
def xr_L (post : Int32 → SX → Prop) (x1 x3 : Int32) (k : Nat) (u : SX) : Prop := match u with
  | (f_tagAny, f_tagInt, f_tagClosure, f_tagName, f_nameF, f_nameA, f_nameB, f_opReturn, f_opTo, f_opFn, f_opPush, f_opForce, f_opPlus, f_opIfzero, f_opPrint, f_stageFirst, f_stageSecond, f_stageTo, f_stageArg, f_maxSteps, f_maxBindings, f_tokenCap, f_budget, f_printCap, f_count, f_height, f_bindings, f_depth, f_current, f_byName, f_returning, f_begun, f_pc, f_env, f_valTag, f_valData, f_valEnv, a_kinds, a_args, a_partA, a_partB, a_partC, a_free, a_stack, a_outStatus, a_outValue, a_outPrinted, a_outList, a_codeOp, a_codeTag, a_codeData, a_codeNext, a_codeOther, a_bindName, a_bindTag, a_bindData, a_bindEnv, a_bindOuter, a_frameStage, a_frameCode, a_frameEnv, a_frameTag, a_frameData, a_frameValEnv) => wX_run_80 post x1 x3 (4100 - k) (nI k) f_tagAny f_tagInt f_tagClosure f_tagName f_nameF f_nameA f_nameB f_opReturn f_opTo f_opFn f_opPush f_opForce f_opPlus f_opIfzero f_opPrint f_stageFirst f_stageSecond f_stageTo f_stageArg f_maxSteps f_maxBindings f_tokenCap f_budget f_printCap f_count f_height f_bindings f_depth f_current f_byName f_returning f_begun f_pc f_env f_valTag f_valData f_valEnv a_kinds a_args a_partA a_partB a_partC a_free a_stack a_outStatus a_outValue a_outPrinted a_outList a_codeOp a_codeTag a_codeData a_codeNext a_codeOther a_bindName a_bindTag a_bindData a_bindEnv a_bindOuter a_frameStage a_frameCode a_frameEnv a_frameTag a_frameData a_frameValEnv
def xr_M (post : Int32 → SX → Prop) (x1 x3 : Int32) (m : Nat) (y : Int32) (u : SX) : Prop := match u with
  | (f_tagAny, f_tagInt, f_tagClosure, f_tagName, f_nameF, f_nameA, f_nameB, f_opReturn, f_opTo, f_opFn, f_opPush, f_opForce, f_opPlus, f_opIfzero, f_opPrint, f_stageFirst, f_stageSecond, f_stageTo, f_stageArg, f_maxSteps, f_maxBindings, f_tokenCap, f_budget, f_printCap, f_count, f_height, f_bindings, f_depth, f_current, f_byName, f_returning, f_begun, f_pc, f_env, f_valTag, f_valData, f_valEnv, a_kinds, a_args, a_partA, a_partB, a_partC, a_free, a_stack, a_outStatus, a_outValue, a_outPrinted, a_outList, a_codeOp, a_codeTag, a_codeData, a_codeNext, a_codeOther, a_bindName, a_bindTag, a_bindData, a_bindEnv, a_bindOuter, a_frameStage, a_frameCode, a_frameEnv, a_frameTag, a_frameData, a_frameValEnv) => ∀ x5 : Int32, x5 = y + 1 → wX_run_80 post x1 x3 m x5 f_tagAny f_tagInt f_tagClosure f_tagName f_nameF f_nameA f_nameB f_opReturn f_opTo f_opFn f_opPush f_opForce f_opPlus f_opIfzero f_opPrint f_stageFirst f_stageSecond f_stageTo f_stageArg f_maxSteps f_maxBindings f_tokenCap f_budget f_printCap f_count f_height f_bindings f_depth f_current f_byName f_returning f_begun f_pc f_env f_valTag f_valData f_valEnv a_kinds a_args a_partA a_partB a_partC a_free a_stack a_outStatus a_outValue a_outPrinted a_outList a_codeOp a_codeTag a_codeData a_codeNext a_codeOther a_bindName a_bindTag a_bindData a_bindEnv a_bindOuter a_frameStage a_frameCode a_frameEnv a_frameTag a_frameData a_frameValEnv
theorem xr_ML (post : Int32 → SX → Prop) (x1 x3 : Int32) (k : Nat) : xr_M post x1 x3 (4100 - (k + 1)) (nI k) = xr_L post x1 x3 (k + 1) := by
  funext u
  obtain ⟨f_tagAny, f_tagInt, f_tagClosure, f_tagName, f_nameF, f_nameA, f_nameB, f_opReturn, f_opTo, f_opFn, f_opPush, f_opForce, f_opPlus, f_opIfzero, f_opPrint, f_stageFirst, f_stageSecond, f_stageTo, f_stageArg, f_maxSteps, f_maxBindings, f_tokenCap, f_budget, f_printCap, f_count, f_height, f_bindings, f_depth, f_current, f_byName, f_returning, f_begun, f_pc, f_env, f_valTag, f_valData, f_valEnv, a_kinds, a_args, a_partA, a_partB, a_partC, a_free, a_stack, a_outStatus, a_outValue, a_outPrinted, a_outList, a_codeOp, a_codeTag, a_codeData, a_codeNext, a_codeOther, a_bindName, a_bindTag, a_bindData, a_bindEnv, a_bindOuter, a_frameStage, a_frameCode, a_frameEnv, a_frameTag, a_frameData, a_frameValEnv⟩ := u
  apply propext
  constructor
  · intro h
    exact h _ (nI_1 k).symm
  · intro h x e
    rw [nI_1] at e
    subst e
    exact h
section
variable {P : gP} {Z : xZ} {h : xH} {F : xF} {o : xO} {bg : Nat} {ret pc env vt vd ve : Int32} {post : Int32 → SX → Prop} {k : Nat}
theorem xr_stop {x1 st : Int32} (hk : k ≤ 4096) (hr : p_rc P < 4) (hs : o_s o (p_rc P) = st) (h0 : ¬ st = 0) (hp : post st (xr_S P Z h F o bg ret pc env vt vd ve)) : xr_L post x1 (nI (p_rc P)) k (xr_S P Z h F o bg ret pc env vt vd ve) := by
  have e : 4100 - k = (4100 - (k + 1)) + 1 := by omega
  have i : vp_in (nI (p_rc P)) 4 := vp_in_nI hr (by decide)
  have c : o_s o (nI (p_rc P)).toNatClampNeg = st := by rw [nI_clamp (by omega)]; exact hs
  have K : vp_in (nI (p_rc P)) 4 ∧ post (o_s o (nI (p_rc P)).toNatClampNeg) (xr_S P Z h F o bg ret pc env vt vd ve) := by rw [c]; exact ⟨i, hp⟩
  show wX_run_80 post x1 (nI (p_rc P)) (4100 - k) (nI k) Z.1.1 Z.1.2.1 Z.1.2.2.1 Z.1.2.2.2.1 Z.1.2.2.2.2.1 Z.1.2.2.2.2.2.1 Z.1.2.2.2.2.2.2.1 Z.1.2.2.2.2.2.2.2.1 Z.1.2.2.2.2.2.2.2.2.1 Z.1.2.2.2.2.2.2.2.2.2.1 Z.1.2.2.2.2.2.2.2.2.2.2.1 Z.1.2.2.2.2.2.2.2.2.2.2.2.1 Z.1.2.2.2.2.2.2.2.2.2.2.2.2.1 Z.1.2.2.2.2.2.2.2.2.2.2.2.2.2.1 Z.1.2.2.2.2.2.2.2.2.2.2.2.2.2.2.1 Z.1.2.2.2.2.2.2.2.2.2.2.2.2.2.2.2.1 Z.1.2.2.2.2.2.2.2.2.2.2.2.2.2.2.2.2.1 Z.1.2.2.2.2.2.2.2.2.2.2.2.2.2.2.2.2.2.1 Z.1.2.2.2.2.2.2.2.2.2.2.2.2.2.2.2.2.2.2.1 Z.1.2.2.2.2.2.2.2.2.2.2.2.2.2.2.2.2.2.2.2.1 Z.1.2.2.2.2.2.2.2.2.2.2.2.2.2.2.2.2.2.2.2.2.1 Z.1.2.2.2.2.2.2.2.2.2.2.2.2.2.2.2.2.2.2.2.2.2.1 (nI (p_bu P)) (nI (p_pc P)) Z.1.2.2.2.2.2.2.2.2.2.2.2.2.2.2.2.2.2.2.2.2.2.2.1 Z.1.2.2.2.2.2.2.2.2.2.2.2.2.2.2.2.2.2.2.2.2.2.2.2 (nI (h_n h)) (nI (f_n F)) (nI (p_rc P)) (yv_p1 P) ret (nI bg) pc env vt vd ve (p_kd P) (p_ag P) (z_pa Z) (z_pb Z) (z_pc Z) (p_fr P) (z_st Z) (o_s o) (o_v o) (o_p o) (o_l o) (z_cO Z) (z_cT Z) (z_cD Z) (z_cN Z) (z_cR Z) (h_N h) (h_T h) (h_D h) (h_E h) (h_O h) (f_S F) (f_C F) (f_E F) (f_T F) (f_D F) (f_V F)
  rw [e]
  exact br_c (fun _ => K) (fun _ => And.intro i (br_f (by rw [c]; exact h0) K))
theorem xr_stepT (hk : k < 4096) (hr : p_rc P < 4) (hs : o_s o (p_rc P) = 0) (hp : wpX_stepTarget (xr_L post 1 (nI (p_rc P)) (k + 1)) (xr_S P Z h F o bg ret pc env vt vd ve)) : xr_L post 1 (nI (p_rc P)) k (xr_S P Z h F o bg ret pc env vt vd ve) := by
  rw [← xr_ML] at hp
  have e : 4100 - k = (4100 - (k + 1)) + 1 := by omega
  have i : vp_in (nI (p_rc P)) 4 := vp_in_nI hr (by decide)
  have c : o_s o (nI (p_rc P)).toNatClampNeg = 0 := by rw [nI_clamp (by omega)]; exact hs
  show wX_run_80 post 1 (nI (p_rc P)) (4100 - k) (nI k) Z.1.1 Z.1.2.1 Z.1.2.2.1 Z.1.2.2.2.1 Z.1.2.2.2.2.1 Z.1.2.2.2.2.2.1 Z.1.2.2.2.2.2.2.1 Z.1.2.2.2.2.2.2.2.1 Z.1.2.2.2.2.2.2.2.2.1 Z.1.2.2.2.2.2.2.2.2.2.1 Z.1.2.2.2.2.2.2.2.2.2.2.1 Z.1.2.2.2.2.2.2.2.2.2.2.2.1 Z.1.2.2.2.2.2.2.2.2.2.2.2.2.1 Z.1.2.2.2.2.2.2.2.2.2.2.2.2.2.1 Z.1.2.2.2.2.2.2.2.2.2.2.2.2.2.2.1 Z.1.2.2.2.2.2.2.2.2.2.2.2.2.2.2.2.1 Z.1.2.2.2.2.2.2.2.2.2.2.2.2.2.2.2.2.1 Z.1.2.2.2.2.2.2.2.2.2.2.2.2.2.2.2.2.2.1 Z.1.2.2.2.2.2.2.2.2.2.2.2.2.2.2.2.2.2.2.1 Z.1.2.2.2.2.2.2.2.2.2.2.2.2.2.2.2.2.2.2.2.1 Z.1.2.2.2.2.2.2.2.2.2.2.2.2.2.2.2.2.2.2.2.2.1 Z.1.2.2.2.2.2.2.2.2.2.2.2.2.2.2.2.2.2.2.2.2.2.1 (nI (p_bu P)) (nI (p_pc P)) Z.1.2.2.2.2.2.2.2.2.2.2.2.2.2.2.2.2.2.2.2.2.2.2.1 Z.1.2.2.2.2.2.2.2.2.2.2.2.2.2.2.2.2.2.2.2.2.2.2.2 (nI (h_n h)) (nI (f_n F)) (nI (p_rc P)) (yv_p1 P) ret (nI bg) pc env vt vd ve (p_kd P) (p_ag P) (z_pa Z) (z_pb Z) (z_pc Z) (p_fr P) (z_st Z) (o_s o) (o_v o) (o_p o) (o_l o) (z_cO Z) (z_cT Z) (z_cD Z) (z_cN Z) (z_cR Z) (h_N h) (h_T h) (h_D h) (h_E h) (h_O h) (f_S F) (f_C F) (f_E F) (f_T F) (f_D F) (f_V F)
  rw [e]
  exact br_f (nI_ge (b := 4096) hk (by decide)) (And.intro i (br_t c (br_t rfl hp)))
theorem xr_stepE (hk : k < 4096) (hr : p_rc P < 4) (hs : o_s o (p_rc P) = 0) (h0 : ret = 0) (hp : wpX_evaluateDirect (xr_L post 0 (nI (p_rc P)) (k + 1)) (xr_S P Z h F o bg ret pc env vt vd ve)) : xr_L post 0 (nI (p_rc P)) k (xr_S P Z h F o bg ret pc env vt vd ve) := by
  rw [← xr_ML] at hp
  have e : 4100 - k = (4100 - (k + 1)) + 1 := by omega
  have i : vp_in (nI (p_rc P)) 4 := vp_in_nI hr (by decide)
  have c : o_s o (nI (p_rc P)).toNatClampNeg = 0 := by rw [nI_clamp (by omega)]; exact hs
  show wX_run_80 post 0 (nI (p_rc P)) (4100 - k) (nI k) Z.1.1 Z.1.2.1 Z.1.2.2.1 Z.1.2.2.2.1 Z.1.2.2.2.2.1 Z.1.2.2.2.2.2.1 Z.1.2.2.2.2.2.2.1 Z.1.2.2.2.2.2.2.2.1 Z.1.2.2.2.2.2.2.2.2.1 Z.1.2.2.2.2.2.2.2.2.2.1 Z.1.2.2.2.2.2.2.2.2.2.2.1 Z.1.2.2.2.2.2.2.2.2.2.2.2.1 Z.1.2.2.2.2.2.2.2.2.2.2.2.2.1 Z.1.2.2.2.2.2.2.2.2.2.2.2.2.2.1 Z.1.2.2.2.2.2.2.2.2.2.2.2.2.2.2.1 Z.1.2.2.2.2.2.2.2.2.2.2.2.2.2.2.2.1 Z.1.2.2.2.2.2.2.2.2.2.2.2.2.2.2.2.2.1 Z.1.2.2.2.2.2.2.2.2.2.2.2.2.2.2.2.2.2.1 Z.1.2.2.2.2.2.2.2.2.2.2.2.2.2.2.2.2.2.2.1 Z.1.2.2.2.2.2.2.2.2.2.2.2.2.2.2.2.2.2.2.2.1 Z.1.2.2.2.2.2.2.2.2.2.2.2.2.2.2.2.2.2.2.2.2.1 Z.1.2.2.2.2.2.2.2.2.2.2.2.2.2.2.2.2.2.2.2.2.2.1 (nI (p_bu P)) (nI (p_pc P)) Z.1.2.2.2.2.2.2.2.2.2.2.2.2.2.2.2.2.2.2.2.2.2.2.1 Z.1.2.2.2.2.2.2.2.2.2.2.2.2.2.2.2.2.2.2.2.2.2.2.2 (nI (h_n h)) (nI (f_n F)) (nI (p_rc P)) (yv_p1 P) ret (nI bg) pc env vt vd ve (p_kd P) (p_ag P) (z_pa Z) (z_pb Z) (z_pc Z) (p_fr P) (z_st Z) (o_s o) (o_v o) (o_p o) (o_l o) (z_cO Z) (z_cT Z) (z_cD Z) (z_cN Z) (z_cR Z) (h_N h) (h_T h) (h_D h) (h_E h) (h_O h) (f_S F) (f_C F) (f_E F) (f_T F) (f_D F) (f_V F)
  rw [e]
  exact br_f (nI_ge (b := 4096) hk (by decide)) (And.intro i (br_t c (br_f (by decide) (br_t h0 hp))))
theorem xr_stepR (hk : k < 4096) (hr : p_rc P < 4) (hs : o_s o (p_rc P) = 0) (h0 : ¬ ret = 0) (hp : wpX_resumeDirect (xr_L post 0 (nI (p_rc P)) (k + 1)) (xr_S P Z h F o bg ret pc env vt vd ve)) : xr_L post 0 (nI (p_rc P)) k (xr_S P Z h F o bg ret pc env vt vd ve) := by
  rw [← xr_ML] at hp
  have e : 4100 - k = (4100 - (k + 1)) + 1 := by omega
  have i : vp_in (nI (p_rc P)) 4 := vp_in_nI hr (by decide)
  have c : o_s o (nI (p_rc P)).toNatClampNeg = 0 := by rw [nI_clamp (by omega)]; exact hs
  show wX_run_80 post 0 (nI (p_rc P)) (4100 - k) (nI k) Z.1.1 Z.1.2.1 Z.1.2.2.1 Z.1.2.2.2.1 Z.1.2.2.2.2.1 Z.1.2.2.2.2.2.1 Z.1.2.2.2.2.2.2.1 Z.1.2.2.2.2.2.2.2.1 Z.1.2.2.2.2.2.2.2.2.1 Z.1.2.2.2.2.2.2.2.2.2.1 Z.1.2.2.2.2.2.2.2.2.2.2.1 Z.1.2.2.2.2.2.2.2.2.2.2.2.1 Z.1.2.2.2.2.2.2.2.2.2.2.2.2.1 Z.1.2.2.2.2.2.2.2.2.2.2.2.2.2.1 Z.1.2.2.2.2.2.2.2.2.2.2.2.2.2.2.1 Z.1.2.2.2.2.2.2.2.2.2.2.2.2.2.2.2.1 Z.1.2.2.2.2.2.2.2.2.2.2.2.2.2.2.2.2.1 Z.1.2.2.2.2.2.2.2.2.2.2.2.2.2.2.2.2.2.1 Z.1.2.2.2.2.2.2.2.2.2.2.2.2.2.2.2.2.2.2.1 Z.1.2.2.2.2.2.2.2.2.2.2.2.2.2.2.2.2.2.2.2.1 Z.1.2.2.2.2.2.2.2.2.2.2.2.2.2.2.2.2.2.2.2.2.1 Z.1.2.2.2.2.2.2.2.2.2.2.2.2.2.2.2.2.2.2.2.2.2.1 (nI (p_bu P)) (nI (p_pc P)) Z.1.2.2.2.2.2.2.2.2.2.2.2.2.2.2.2.2.2.2.2.2.2.2.1 Z.1.2.2.2.2.2.2.2.2.2.2.2.2.2.2.2.2.2.2.2.2.2.2.2 (nI (h_n h)) (nI (f_n F)) (nI (p_rc P)) (yv_p1 P) ret (nI bg) pc env vt vd ve (p_kd P) (p_ag P) (z_pa Z) (z_pb Z) (z_pc Z) (p_fr P) (z_st Z) (o_s o) (o_v o) (o_p o) (o_l o) (z_cO Z) (z_cT Z) (z_cD Z) (z_cN Z) (z_cR Z) (h_N h) (h_T h) (h_D h) (h_E h) (h_O h) (f_S F) (f_C F) (f_E F) (f_T F) (f_D F) (f_V F)
  rw [e]
  exact br_f (nI_ge (b := 4096) hk (by decide)) (And.intro i (br_t c (br_f (by decide) (br_f h0 hp))))
end
end
section
/-! the component's environments stand for the table's rows: b (ghost) gives each binding its row -/
def xh_ER (P : gP) (s : gS) (h : xH) (b : Nat → Nat) (c r : Nat) : Prop := c < h_n h ∧ ∀ y, y < 8 → bt (p_fr P (gs_t s r)) y = true → 1 ≤ xh_l h c (nI y) ∧ xh_l h c (nI y) < h_n h ∧ h_N h (xh_l h c (nI y)) = nI y ∧ gs_bd s (r * 8 + y) = nI (b (xh_l h c (nI y)))
def xh_RV (P : gP) (cF : Nat → Nat) (s : gS) (h : xH) (b : Nat → Nat) (vt vd ve : Int32) (q : Nat) : Prop := (gs_fn s q = 0 ∧ vt = 1 ∧ vd = gs_nm s q) ∨ (gs_fn s q ≠ 0 ∧ vt = 2 ∧ ∃ hh c, gs_hm s q = nI hh ∧ hh < gs_n s ∧ gs_nm s q = nI (gs_t s hh) ∧ p_kd P (gs_t s hh) = 2 ∧ vd = nI (cF (gs_t s hh)) ∧ ve = nI c ∧ xh_ER P s h b c hh)
def xh_TH (P : gP) (cT : Nat → Nat) (s : gS) (h : xH) (b : Nat → Nat) (vd ve : Int32) (q : Nat) : Prop := vd = nI (cT (gs_susp P s q)) ∧ ∃ c, ve = nI c ∧ xh_ER P s h b c q
def xh_VC (P : gP) (cF cT : Nat → Nat) (s : gS) (h : xH) (b : Nat → Nat) (vt vd ve : Int32) (q : Nat) : Prop := gs_good P s q ∧ (p_bn P = true → xh_TH P cT s h b vd ve q) ∧ (p_bn P = false → xh_RV P cF s h b vt vd ve q)
def xh_XI (P : gP) (cF cT : Nat → Nat) (s : gS) (h : xH) (b : Nat → Nat) : Prop := xh_ok h ∧ ∀ a, 1 ≤ a → a < h_n h → ∀ y, y < 8 → h_N h a = nI y → xh_VC P cF cT s h b (h_T h a) (h_D h a) (h_E h a) (b a)
def xh_HG (h : xH) (b : Nat → Nat) (h' : xH) (b' : Nat → Nat) : Prop := h_n h ≤ h_n h' ∧ ∀ a, a < h_n h → h_N h' a = h_N h a ∧ h_T h' a = h_T h a ∧ h_D h' a = h_D h a ∧ h_E h' a = h_E h a ∧ h_O h' a = h_O h a ∧ b' a = b a
def xh_GR (s : gS) (h : xH) (b : Nat → Nat) (s' : gS) (h' : xH) (b' : Nat → Nat) : Prop := gs_GR s s' ∧ xh_HG h b h' b'
section
variable {P : gP} {cF cT : Nat → Nat} {s s' s'' : gS} {h h' h'' : xH} {b b' b'' : Nat → Nat}
theorem xh_HGr : xh_HG h b h b := ⟨Nat.le_refl _, fun _ _ => ⟨rfl, rfl, rfl, rfl, rfl, rfl⟩⟩
theorem xh_HGt (x : xh_HG h b h' b') (y : xh_HG h' b' h'' b'') : xh_HG h b h'' b'' := by
  refine ⟨Nat.le_trans x.1 y.1, fun a ha => ?_⟩
  obtain ⟨p1, p2, p3, p4, p5, p6⟩ := x.2 a ha
  obtain ⟨q1, q2, q3, q4, q5, q6⟩ := y.2 a (Nat.lt_of_lt_of_le ha x.1)
  exact ⟨q1.trans p1, q2.trans p2, q3.trans p3, q4.trans p4, q5.trans p5, q6.trans p6⟩
theorem xh_GRr : xh_GR s h b s h b := ⟨gs_GRr, xh_HGr⟩
theorem xh_GRt (x : xh_GR s h b s' h' b') (y : xh_GR s' h' b' s'' h'' b'') : xh_GR s h b s'' h'' b'' := ⟨gs_GRt x.1 y.1, xh_HGt x.2 y.2⟩
theorem xh_GRs (x : gs_GR s s') : xh_GR s h b s' h b := ⟨x, xh_HGr⟩
theorem xh_lm {c : Nat} {x : Int32} (ok : xh_ok h) (hn : h_n h < 2 ^ 31) (G : xh_HG h b h' b') (hc : c < h_n h) : xh_l h' c x = xh_l h c x :=
  xh_lfe ok.2 hn (fun a ha => (G.2 a ha).1) (fun a ha => (G.2 a ha).2.2.2.2.1) c c c (Nat.le_refl _) (Nat.le_refl _) hc
theorem xh_ERm {c r : Nat} (ok : xh_ok h) (hn : h_n h < 2 ^ 31) (G : xh_GR s h b s' h' b') (hr : r < gs_n s) (E : xh_ER P s h b c r) : xh_ER P s' h' b' c r := by
  refine ⟨Nat.lt_of_lt_of_le E.1 G.2.1, fun y hy hf => ?_⟩
  rw [gs_GRtt G.1 hr] at hf
  obtain ⟨a1, a2, a3, a4⟩ := E.2 y hy hf
  rw [xh_lm ok hn G.2 E.1]
  refine ⟨a1, Nat.lt_of_lt_of_le a2 G.2.1, by rw [(G.2.2 _ a2).1]; exact a3, ?_⟩
  rw [(G.2.2 _ a2).2.2.2.2.2, G.1.2.2.1 _ (by omega)]
  exact a4
theorem xh_RVm {vt vd ve : Int32} {q : Nat} (ok : xh_ok h) (hn : h_n h < 2 ^ 31) (G : xh_GR s h b s' h' b') (hq : q < gs_n s) (hd : gs_dn s q = 1) (E : xh_RV P cF s h b vt vd ve q) : xh_RV P cF s' h' b' vt vd ve q := by
  obtain ⟨d1, d2, d3, d4⟩ := G.1.2.2.2 q hq hd
  unfold xh_RV
  rw [d2, d3, d4]
  rcases E with E | ⟨e1, e2, hh, c, e3, e4, e5, e6, e7, e8, e9⟩
  · exact Or.inl E
  · refine Or.inr ⟨e1, e2, hh, c, e3, Nat.lt_of_lt_of_le e4 G.1.1, ?_, ?_, ?_, e8, xh_ERm ok hn G e4 e9⟩
    · rw [gs_GRtt G.1 e4]; exact e5
    · rw [gs_GRtt G.1 e4]; exact e6
    · rw [gs_GRtt G.1 e4]; exact e7
theorem gs_suspm {q : Nat} (G : gs_GR s s') (hq : q < gs_n s) : gs_susp P s' q = gs_susp P s q := by unfold gs_susp; rw [gs_GRtt G hq]
theorem xh_THm {vd ve : Int32} {q : Nat} (ok : xh_ok h) (hn : h_n h < 2 ^ 31) (G : xh_GR s h b s' h' b') (hq : q < gs_n s) (E : xh_TH P cT s h b vd ve q) : xh_TH P cT s' h' b' vd ve q := by
  obtain ⟨e1, c, e2, e3⟩ := E
  exact ⟨by rw [gs_suspm G.1 hq]; exact e1, c, e2, xh_ERm ok hn G hq e3⟩
theorem xh_VCm {vt vd ve : Int32} {q : Nat} (ok : xh_ok h) (hn : h_n h < 2 ^ 31) (G : xh_GR s h b s' h' b') (E : xh_VC P cF cT s h b vt vd ve q) : xh_VC P cF cT s' h' b' vt vd ve q :=
  ⟨gs_goodm G.1 E.1, fun e => xh_THm ok hn G E.1.1 (E.2.1 e), fun e => xh_RVm ok hn G E.1.1 (E.1.2.2 e) (E.2.2 e)⟩
theorem xh_XIs (hn : h_n h < 2 ^ 31) (G : gs_GR s s') (X : xh_XI P cF cT s h b) : xh_XI P cF cT s' h b := ⟨X.1, fun a h1 h2 y hy e => xh_VCm X.1 hn (xh_GRs G) (X.2 a h1 h2 y hy e)⟩
/-! one more binding -/
def xh_b (b : Nat → Nat) (n q : Nat) : Nat → Nat := fun a => if a = n then q else b a
theorem xh_bs {n q : Nat} : xh_b b n q n = q := if_pos rfl
theorem xh_bn {n q a : Nat} (h : a ≠ n) : xh_b b n q a = b a := if_neg h
section
variable {nm tg da en ou : Int32} {q c : Nat}
theorem xh_xHG : xh_HG h b (xh_x h nm tg da en ou) (xh_b b (h_n h) q) := ⟨Nat.le_succ _, fun a ha => ⟨pk_un (by omega), pk_un (by omega), pk_un (by omega), pk_un (by omega), pk_un (by omega), xh_bn (by omega)⟩⟩
theorem xh_xok (ok : xh_ok h) (hc : c < h_n h) (eo : ou = nI c) : xh_ok (xh_x h nm tg da en ou) := by
  refine ⟨Nat.le_succ_of_le ok.1, fun a h1 h2 => ?_⟩
  have nn : h_n (xh_x h nm tg da en ou) = h_n h + 1 := rfl
  by_cases e : a = h_n h
  · refine ⟨c, by omega, ?_⟩
    rw [e, ← eo]
    exact pk_us
  · obtain ⟨d, d1, d2⟩ := ok.2 a h1 (by omega)
    exact ⟨d, d1, (pk_un e).trans d2⟩
theorem xh_xl {x : Int32} (ok : xh_ok h) (hn : h_n h + 1 < 2 ^ 31) (hc : c < h_n h) (eo : ou = nI c) : xh_l (xh_x h nm tg da en ou) (h_n h) x = if nm = x then h_n h else xh_l h c x := by
  have nn : h_n (xh_x h nm tg da en ou) = h_n h + 1 := rfl
  have eN : h_N (xh_x h nm tg da en ou) (h_n h) = nm := pk_us
  have eO : h_O (xh_x h nm tg da en ou) (h_n h) = nI c := by rw [← eo]; exact pk_us
  rw [xh_lS (xh_xok ok hc eo) (by omega) ok.1 (by omega) hc eO, eN, xh_lm (b := fun _ => 0) (b' := xh_b (fun _ => 0) (h_n h) 0) ok (by omega) xh_xHG hc]
theorem xh_xXI (X : xh_XI P cF cT s h b) (hn : h_n h + 1 < 2 ^ 31) (hc : c < h_n h) (eo : ou = nI c) (V : ∀ y, y < 8 → nm = nI y → xh_VC P cF cT s h b tg da en q) : xh_XI P cF cT s (xh_x h nm tg da en ou) (xh_b b (h_n h) q) := by
  refine ⟨xh_xok X.1 hc eo, fun a h1 h2 y hy e => ?_⟩
  have nn : h_n (xh_x h nm tg da en ou) = h_n h + 1 := rfl
  have G : xh_GR s h b s (xh_x h nm tg da en ou) (xh_b b (h_n h) q) := ⟨gs_GRr, xh_xHG⟩
  by_cases ea : a = h_n h
  · subst ea
    have e0 : h_N (xh_x h nm tg da en ou) (h_n h) = nm := pk_us
    have e1 : h_T (xh_x h nm tg da en ou) (h_n h) = tg := pk_us
    have e2 : h_D (xh_x h nm tg da en ou) (h_n h) = da := pk_us
    have e3 : h_E (xh_x h nm tg da en ou) (h_n h) = en := pk_us
    rw [e1, e2, e3, xh_bs]
    exact xh_VCm X.1 (by omega) G (V y hy (e0.symm.trans e))
  · obtain ⟨p1, p2, p3, p4, p5, p6⟩ := G.2.2 a (by omega)
    rw [p2, p3, p4, p6]
    exact xh_VCm X.1 (by omega) G (X.2 a h1 (by omega) y hy (p1.symm.trans e))
/-- the environment of a row to be begun: a part's -/
theorem xh_ERs {t r : Nat} {x : Int32} (g : gs_PG P) (ht : t < p_cn P) (hr : r < gs_n s) (hf : ∀ y, y < 8 → bt (p_fr P t) y = true → bt (p_fr P (gs_t s r)) y = true) (E : xh_ER P s h b c r) : xh_ER P (gs_begin s t r (-1) x) h b c (gs_n s) := by
  refine ⟨E.1, fun y hy h1 => ?_⟩
  have g1 := g.1
  rw [gs_begint (by omega)] at h1
  obtain ⟨a1, a2, a3, a4⟩ := E.2 y hy (hf y hy h1)
  refine ⟨a1, a2, a3, ?_⟩
  show gs_bb (gs_bd s) (gs_n s) r (-1) x (gs_n s * 8 + y) = _
  rw [gs_bb_in hy, if_neg (gs_nm1 y hy)]
  exact a4
/-- one name more -/
theorem xh_ERx {t r j : Nat} (g : gs_PG P) (ok : xh_ok h) (hn : h_n h + 1 < 2 ^ 31) (hj : j < 8) (ht : t < p_cn P) (hr : r < gs_n s) (hf : ∀ y, y < 8 → bt (p_fr P t) y = true → y = j ∨ bt (p_fr P (gs_t s r)) y = true) (eo : ou = nI c) (E : xh_ER P s h b c r) : xh_ER P (gs_begin s t r (nI j) (nI q)) (xh_x h (nI j) tg da en ou) (xh_b b (h_n h) q) (h_n h) (gs_n s) := by
  have g1 := g.1
  have nn : h_n (xh_x h (nI j) tg da en ou) = h_n h + 1 := rfl
  refine ⟨by omega, fun y hy h1 => ?_⟩
  rw [gs_begint (by omega)] at h1
  have eb : gs_bd (gs_begin s t r (nI j) (nI q)) (gs_n s * 8 + y) = if nI y = nI j then nI q else gs_bd s (r * 8 + y) := gs_bb_in hy
  rw [xh_xl ok hn E.1 eo, eb]
  by_cases e : y = j
  · subst e
    rw [if_pos rfl, if_pos rfl, xh_bs]
    exact ⟨ok.1, by omega, pk_us, rfl⟩
  · have ne : ¬ nI y = nI j := fun z => e ((nI_eq (by omega) (by omega)).mp z)
    have ne2 : ¬ nI j = nI y := fun z => ne z.symm
    rw [if_neg ne2, if_neg ne]
    obtain ⟨a1, a2, a3, a4⟩ := E.2 y hy ((hf y hy h1).resolve_left e)
    have la : xh_l h c (nI y) ≠ h_n h := by omega
    exact ⟨a1, by omega, (pk_un la).trans a3, by rw [xh_bn la]; exact a4⟩
/-- a name of the translation's own hides nothing -/
theorem xh_ERn {r m : Nat} (ok : xh_ok h) (hn : h_n h + 1 < 2 ^ 31) (hm : 8 ≤ m) (hm2 : m < 100) (en0 : nm = nI m) (eo : ou = nI c) (E : xh_ER P s h b c r) : xh_ER P s (xh_x h nm tg da en ou) (xh_b b (h_n h) q) (h_n h) r := by
  have nn : h_n (xh_x h nm tg da en ou) = h_n h + 1 := rfl
  refine ⟨by omega, fun y hy h1 => ?_⟩
  have ne : ¬ nm = nI y := by rw [en0]; exact fun z => absurd ((nI_eq (by omega) (by omega)).mp z) (by omega)
  rw [xh_xl ok hn E.1 eo, if_neg ne]
  obtain ⟨a1, a2, a3, a4⟩ := E.2 y hy h1
  have la : xh_l h c (nI y) ≠ h_n h := by omega
  exact ⟨a1, by omega, (pk_un la).trans a3, by rw [xh_bn la]; exact a4⟩
end
/-! what a row gives, the value register has -/
theorem xh_RVg0 {r : Nat} {v hm vt vd ve : Int32} (e1 : vt = 1) (e2 : vd = v) : xh_RV P cF (gs_give s r 0 v hm) h b vt vd ve r := Or.inl ⟨pk_us, e1, e2.trans (Eq.symm pk_us)⟩
theorem xh_RVsame {r q : Nat} {vt vd ve : Int32} (ok : xh_ok h) (hn : h_n h < 2 ^ 31) (hd : gs_dn s r ≠ 1) (E : xh_RV P cF s h b vt vd ve q) : xh_RV P cF (gs_same s r q) h b vt vd ve r := by
  have G : gs_GR s (gs_same s r q) := gs_giveGR hd
  have e1 : gs_fn (gs_same s r q) r = gs_fn s q := pk_us
  have e2 : gs_nm (gs_same s r q) r = gs_nm s q := pk_us
  have e3 : gs_hm (gs_same s r q) r = gs_hm s q := pk_us
  unfold xh_RV
  rw [e1, e2, e3]
  rcases E with E | ⟨e1, e2, hh, c, e3, e4, e5, e6, e7, e8, e9⟩
  · exact Or.inl E
  · exact Or.inr ⟨e1, e2, hh, c, e3, e4, e5, e6, e7, e8, xh_ERm ok hn (xh_GRs G) e4 e9⟩
theorem xh_RVlam {r t c : Nat} (hn : h_n h < 2 ^ 31) (ok : xh_ok h) (hd : gs_dn s r ≠ 1) (hr : r < gs_n s) (et : gs_t s r = t) (hk : p_kd P t = 2) (E : xh_ER P s h b c r) : xh_RV P cF (gs_give s r 1 (nI t) (nI r)) h b 2 (nI (cF t)) (nI c) r := by
  have G : gs_GR s (gs_give s r 1 (nI t) (nI r)) := gs_giveGR hd
  have e1 : gs_fn (gs_give s r 1 (nI t) (nI r)) r = 1 := pk_us
  have e2 : gs_nm (gs_give s r 1 (nI t) (nI r)) r = nI t := pk_us
  have e3 : gs_hm (gs_give s r 1 (nI t) (nI r)) r = nI r := pk_us
  have e4 : gs_t (gs_give s r 1 (nI t) (nI r)) r = t := et
  refine Or.inr ⟨by rw [e1]; decide, rfl, r, c, e3, hr, by rw [e2, e4], by rw [e4]; exact hk, by rw [e4], rfl, xh_ERm ok hn (xh_GRs G) hr E⟩
/-- the closure of a row, in the register -/
theorem xh_RVfun {q hh l : Nat} {vt vd ve : Int32} (fu : gs_fun P s q hh l) (hb : gs_n s ≤ 240) (E : xh_RV P cF s h b vt vd ve q) : vt = 2 ∧ vd = nI (cF l) ∧ ∃ c, ve = nI c ∧ xh_ER P s h b c hh := by
  obtain ⟨f1, f2, f3, f4, f5, f6, f7⟩ := fu
  rcases E with ⟨e1, _⟩ | ⟨e1, e2, h2, c, e3, e4, e5, e6, e7, e8, e9⟩
  · rw [f1] at e1; exact absurd e1 (by decide)
  · have : h2 = hh := by
      rw [f3, nI_eq (by omega) (by omega)] at e3
      exact e3.symm
    subst this
    rw [f5] at e7
    exact ⟨e2, e7, c, e8, e9⟩
theorem xh_RVint {q : Nat} {vt vd ve : Int32} (hf : gs_fn s q = 0) (E : xh_RV P cF s h b vt vd ve q) : vt = 1 ∧ vd = gs_nm s q := by
  rcases E with E | E
  · exact E.2
  · exact absurd hf E.1
theorem xh_RVtag {q : Nat} {vt vd ve : Int32} (hf : ¬ gs_fn s q = 0) (E : xh_RV P cF s h b vt vd ve q) : ¬ vt = 1 := by
  rcases E with E | E
  · exact absurd E.1 hf
  · rw [E.2.1]; decide
end
end
section
/-! DIRECT, one step, a rule for each case -/
section
variable {P : gP} {Z : xZ} {h : xH} {F : xF} {o : xO} {bg : Nat} {ret pc env vt vd ve : Int32} {Q : SX → Prop}
theorem xd_spent (hb : p_bu P ≤ bg) (hb2 : bg ≤ 240) (hr : p_rc P < 4) (hp : Q (xr_S P Z h F (xo_f (p_rc P) o 4 0) bg ret pc env vt vd ve)) : wpX_evaluateDirect Q (xr_S P Z h F o bg ret pc env vt vd ve) := by
  unfold wpX_evaluateDirect
  refine xr_beginF (P := P) (Z := Z) (h := h) (F := F) (o := o) (bg := bg) (ret := ret) (pc := pc) (env := env) (vt := vt) (vd := vd) (ve := ve) hb hb2 hr ?_
  exact br_t rfl hp
theorem xd_num {t : Nat} (hb : bg < p_bu P) (hb2 : p_bu P ≤ 240) (ht : t < 32) (hk : p_kd P t = 0) (hp : Q (xr_S P Z h F o (bg + 1) 1 (nI t) env 1 (p_ag P t) 0)) : wpX_evaluateDirect Q (xr_S P Z h F o bg ret (nI t) env vt vd ve) := by
  have it : vp_in (nI t) 32 := vp_in_nI ht (by decide)
  have ct : (nI t).toNatClampNeg = t := nI_clamp (by omega)
  have ek : p_kd P (nI t).toNatClampNeg = 0 := by rw [ct]; exact hk
  unfold wpX_evaluateDirect
  refine xr_begin (P := P) (Z := Z) (h := h) (F := F) (o := o) (bg := bg) (ret := ret) (pc := nI t) (env := env) (vt := vt) (vd := vd) (ve := ve) hb hb2 ?_
  refine br_f (by decide) (And.intro it (nm_r ek (br_t rfl (And.intro it ?_))))
  rw [ct]
  exact hp
theorem xd_lam {t : Nat} (hb : bg < p_bu P) (hb2 : p_bu P ≤ 240) (ht : t < 32) (hk : p_kd P t = 2) (hp : Q (xr_S P Z h F o (bg + 1) 1 (nI t) env 2 (nI t) env)) : wpX_evaluateDirect Q (xr_S P Z h F o bg ret (nI t) env vt vd ve) := by
  have it : vp_in (nI t) 32 := vp_in_nI ht (by decide)
  have ct : (nI t).toNatClampNeg = t := nI_clamp (by omega)
  have ek : p_kd P (nI t).toNatClampNeg = 2 := by rw [ct]; exact hk
  unfold wpX_evaluateDirect
  refine xr_begin (P := P) (Z := Z) (h := h) (F := F) (o := o) (bg := bg) (ret := ret) (pc := nI t) (env := env) (vt := vt) (vd := vd) (ve := ve) hb hb2 ?_
  exact br_f (by decide) (And.intro it (nm_r ek (br_f (by decide) (br_f (by decide) (br_t rfl hp)))))
theorem xd_varV {t c a : Nat} (hb : bg < p_bu P) (hb2 : p_bu P ≤ 240) (ht : t < 32) (hk : p_kd P t = 1) (hbn : p_bn P = false) (ok : xh_ok h) (hn : h_n h ≤ 1024) (hc : c < h_n h) (ha : xh_l h c (p_ag P t) = a) (hp : Q (xr_S P Z h F o (bg + 1) 1 (nI t) (nI c) (h_T h a) (h_D h a) (h_E h a))) : wpX_evaluateDirect Q (xr_S P Z h F o bg ret (nI t) (nI c) vt vd ve) := by
  have it : vp_in (nI t) 32 := vp_in_nI ht (by decide)
  have ct : (nI t).toNatClampNeg = t := nI_clamp (by omega)
  have ek : p_kd P (nI t).toNatClampNeg = 1 := by rw [ct]; exact hk
  unfold wpX_evaluateDirect
  refine xr_begin (P := P) (Z := Z) (h := h) (F := F) (o := o) (bg := bg) (ret := ret) (pc := nI t) (env := nI c) (vt := vt) (vd := vd) (ve := ve) hb hb2 ?_
  refine br_f (by decide) (And.intro it (nm_r ek (br_f (by decide) (br_t rfl (And.intro it ?_)))))
  rw [ct]
  exact xr_load ok hn hc rfl ha (br_t (yv_p1f hbn) hp)
theorem xd_varN {t c a : Nat} (hb : bg < p_bu P) (hb2 : p_bu P ≤ 240) (ht : t < 32) (hk : p_kd P t = 1) (hbn : p_bn P = true) (ok : xh_ok h) (hn : h_n h ≤ 1024) (hc : c < h_n h) (ha : xh_l h c (p_ag P t) = a) (hp : Q (xr_S P Z h F o (bg + 1) ret (h_D h a) (h_E h a) (h_T h a) (h_D h a) (h_E h a))) : wpX_evaluateDirect Q (xr_S P Z h F o bg ret (nI t) (nI c) vt vd ve) := by
  have it : vp_in (nI t) 32 := vp_in_nI ht (by decide)
  have ct : (nI t).toNatClampNeg = t := nI_clamp (by omega)
  have ek : p_kd P (nI t).toNatClampNeg = 1 := by rw [ct]; exact hk
  have z1 : ¬ yv_p1 P = 0 := by rw [yv_p1t hbn]; decide
  unfold wpX_evaluateDirect
  refine xr_begin (P := P) (Z := Z) (h := h) (F := F) (o := o) (bg := bg) (ret := ret) (pc := nI t) (env := nI c) (vt := vt) (vd := vd) (ve := ve) hb hb2 ?_
  refine br_f (by decide) (And.intro it (nm_r ek (br_f (by decide) (br_t rfl (And.intro it ?_)))))
  rw [ct]
  exact xr_load ok hn hc rfl ha (br_f z1 hp)
theorem xd_letN {t : Nat} (hb : bg < p_bu P) (hb2 : p_bu P ≤ 240) (ht : t < 32) (hk : p_kd P t = 7) (hbn : p_bn P = true) (hn : h_n h < 1024) (hp : Q (xr_S P Z (xh_x h (p_ag P t) 2 (z_pa Z t) env env) F o (bg + 1) ret (z_pb Z t) (nI (h_n h)) 2 (z_pa Z t) env)) : wpX_evaluateDirect Q (xr_S P Z h F o bg ret (nI t) env vt vd ve) := by
  have it : vp_in (nI t) 32 := vp_in_nI ht (by decide)
  have ct : (nI t).toNatClampNeg = t := nI_clamp (by omega)
  have ek : p_kd P (nI t).toNatClampNeg = 7 := by rw [ct]; exact hk
  have ep : z_pb Z (nI t).toNatClampNeg = z_pb Z t := by rw [ct]
  have z1 : ¬ yv_p1 P = 0 := by rw [yv_p1t hbn]; decide
  have K : wpX_extend (fun r u => match u with | (f_tagAny, f_tagInt, f_tagClosure, f_tagName, f_nameF, f_nameA, f_nameB, f_opReturn, f_opTo, f_opFn, f_opPush, f_opForce, f_opPlus, f_opIfzero, f_opPrint, f_stageFirst, f_stageSecond, f_stageTo, f_stageArg, f_maxSteps, f_maxBindings, f_tokenCap, f_budget, f_printCap, f_count, f_height, f_bindings, f_depth, f_current, f_byName, f_returning, f_begun, f_pc, f_env, f_valTag, f_valData, f_valEnv, a_kinds, a_args, a_partA, a_partB, a_partC, a_free, a_stack, a_outStatus, a_outValue, a_outPrinted, a_outList, a_codeOp, a_codeTag, a_codeData, a_codeNext, a_codeOther, a_bindName, a_bindTag, a_bindData, a_bindEnv, a_bindOuter, a_frameStage, a_frameCode, a_frameEnv, a_frameTag, a_frameData, a_frameValEnv) => vp_in (nI t) 32 ∧ ∀ f_pc' : Int32, f_pc' = a_partB (nI t).toNatClampNeg → Q (f_tagAny, f_tagInt, f_tagClosure, f_tagName, f_nameF, f_nameA, f_nameB, f_opReturn, f_opTo, f_opFn, f_opPush, f_opForce, f_opPlus, f_opIfzero, f_opPrint, f_stageFirst, f_stageSecond, f_stageTo, f_stageArg, f_maxSteps, f_maxBindings, f_tokenCap, f_budget, f_printCap, f_count, f_height, f_bindings, f_depth, f_current, f_byName, f_returning, f_begun, f_pc', r, f_valTag, f_valData, f_valEnv, a_kinds, a_args, a_partA, a_partB, a_partC, a_free, a_stack, a_outStatus, a_outValue, a_outPrinted, a_outList, a_codeOp, a_codeTag, a_codeData, a_codeNext, a_codeOther, a_bindName, a_bindTag, a_bindData, a_bindEnv, a_bindOuter, a_frameStage, a_frameCode, a_frameEnv, a_frameTag, a_frameData, a_frameValEnv)) (xr_S P Z h F o (bg + 1) ret (nI t) env 2 (z_pa Z t) env) env (p_ag P t) := xr_extend hn (And.intro it (nm_r ep hp))
  have K2 : wpX_extend (fun r u => match u with | (f_tagAny, f_tagInt, f_tagClosure, f_tagName, f_nameF, f_nameA, f_nameB, f_opReturn, f_opTo, f_opFn, f_opPush, f_opForce, f_opPlus, f_opIfzero, f_opPrint, f_stageFirst, f_stageSecond, f_stageTo, f_stageArg, f_maxSteps, f_maxBindings, f_tokenCap, f_budget, f_printCap, f_count, f_height, f_bindings, f_depth, f_current, f_byName, f_returning, f_begun, f_pc, f_env, f_valTag, f_valData, f_valEnv, a_kinds, a_args, a_partA, a_partB, a_partC, a_free, a_stack, a_outStatus, a_outValue, a_outPrinted, a_outList, a_codeOp, a_codeTag, a_codeData, a_codeNext, a_codeOther, a_bindName, a_bindTag, a_bindData, a_bindEnv, a_bindOuter, a_frameStage, a_frameCode, a_frameEnv, a_frameTag, a_frameData, a_frameValEnv) => vp_in (nI t) 32 ∧ ∀ f_pc' : Int32, f_pc' = a_partB (nI t).toNatClampNeg → Q (f_tagAny, f_tagInt, f_tagClosure, f_tagName, f_nameF, f_nameA, f_nameB, f_opReturn, f_opTo, f_opFn, f_opPush, f_opForce, f_opPlus, f_opIfzero, f_opPrint, f_stageFirst, f_stageSecond, f_stageTo, f_stageArg, f_maxSteps, f_maxBindings, f_tokenCap, f_budget, f_printCap, f_count, f_height, f_bindings, f_depth, f_current, f_byName, f_returning, f_begun, f_pc', r, f_valTag, f_valData, f_valEnv, a_kinds, a_args, a_partA, a_partB, a_partC, a_free, a_stack, a_outStatus, a_outValue, a_outPrinted, a_outList, a_codeOp, a_codeTag, a_codeData, a_codeNext, a_codeOther, a_bindName, a_bindTag, a_bindData, a_bindEnv, a_bindOuter, a_frameStage, a_frameCode, a_frameEnv, a_frameTag, a_frameData, a_frameValEnv)) (xr_S P Z h F o (bg + 1) ret (nI t) env 2 (z_pa Z (nI t).toNatClampNeg) env) env (p_ag P (nI t).toNatClampNeg) := by
    rw [show z_pa Z (nI t).toNatClampNeg = z_pa Z t by rw [ct], show p_ag P (nI t).toNatClampNeg = p_ag P t by rw [ct]]
    exact K
  unfold wpX_evaluateDirect
  refine xr_begin (P := P) (Z := Z) (h := h) (F := F) (o := o) (bg := bg) (ret := ret) (pc := nI t) (env := env) (vt := vt) (vd := vd) (ve := ve) hb hb2 ?_
  exact br_f (by decide) (And.intro it (nm_r ek (br_f (by decide) (br_f (by decide) (br_f (by decide) (br_t rfl (br_f z1 (And.intro it (And.intro it K2)))))))))
theorem xd_push0 {t : Nat} (it : vp_in (nI t) 32) (ct : (nI t).toNatClampNeg = t) (hn : f_n F < 256) (hp : Q (xr_S P Z h (xf_p F 0 (nI t) env vt vd ve) o bg ret (z_pa Z t) env vt vd ve)) : wpX_pushFrame (fun u => match u with | (f_tagAny, f_tagInt, f_tagClosure, f_tagName, f_nameF, f_nameA, f_nameB, f_opReturn, f_opTo, f_opFn, f_opPush, f_opForce, f_opPlus, f_opIfzero, f_opPrint, f_stageFirst, f_stageSecond, f_stageTo, f_stageArg, f_maxSteps, f_maxBindings, f_tokenCap, f_budget, f_printCap, f_count, f_height, f_bindings, f_depth, f_current, f_byName, f_returning, f_begun, f_pc, f_env, f_valTag, f_valData, f_valEnv, a_kinds, a_args, a_partA, a_partB, a_partC, a_free, a_stack, a_outStatus, a_outValue, a_outPrinted, a_outList, a_codeOp, a_codeTag, a_codeData, a_codeNext, a_codeOther, a_bindName, a_bindTag, a_bindData, a_bindEnv, a_bindOuter, a_frameStage, a_frameCode, a_frameEnv, a_frameTag, a_frameData, a_frameValEnv) => vp_in (nI t) 32 ∧ ∀ f_pc' : Int32, f_pc' = a_partA (nI t).toNatClampNeg → Q (f_tagAny, f_tagInt, f_tagClosure, f_tagName, f_nameF, f_nameA, f_nameB, f_opReturn, f_opTo, f_opFn, f_opPush, f_opForce, f_opPlus, f_opIfzero, f_opPrint, f_stageFirst, f_stageSecond, f_stageTo, f_stageArg, f_maxSteps, f_maxBindings, f_tokenCap, f_budget, f_printCap, f_count, f_height, f_bindings, f_depth, f_current, f_byName, f_returning, f_begun, f_pc', f_env, f_valTag, f_valData, f_valEnv, a_kinds, a_args, a_partA, a_partB, a_partC, a_free, a_stack, a_outStatus, a_outValue, a_outPrinted, a_outList, a_codeOp, a_codeTag, a_codeData, a_codeNext, a_codeOther, a_bindName, a_bindTag, a_bindData, a_bindEnv, a_bindOuter, a_frameStage, a_frameCode, a_frameEnv, a_frameTag, a_frameData, a_frameValEnv)) (xr_S P Z h F o bg ret (nI t) env vt vd ve) 0 (nI t) := by
  have ep : z_pa Z (nI t).toNatClampNeg = z_pa Z t := by rw [ct]
  exact xr_push hn (And.intro it (nm_r ep hp))
theorem xd_push {t : Nat} {kk : Int32} (hb : bg < p_bu P) (hb2 : p_bu P ≤ 240) (ht : t < 32) (hk : p_kd P t = kk) (h0 : ¬ kk = 0) (h1 : ¬ kk = 1) (h2 : ¬ kk = 2) (h7 : kk = 7 → p_bn P = false) (hn : f_n F < 256) (hp : Q (xr_S P Z h (xf_p F 0 (nI t) env vt vd ve) o (bg + 1) ret (z_pa Z t) env vt vd ve)) : wpX_evaluateDirect Q (xr_S P Z h F o bg ret (nI t) env vt vd ve) := by
  have it : vp_in (nI t) 32 := vp_in_nI ht (by decide)
  have ct : (nI t).toNatClampNeg = t := nI_clamp (by omega)
  have ek : p_kd P (nI t).toNatClampNeg = kk := by rw [ct]; exact hk
  unfold wpX_evaluateDirect
  refine xr_begin (P := P) (Z := Z) (h := h) (F := F) (o := o) (bg := bg) (ret := ret) (pc := nI t) (env := env) (vt := vt) (vd := vd) (ve := ve) hb hb2 ?_
  exact br_f (by decide) (And.intro it (nm_r ek (br_f h0 (br_f h1 (br_f h2 (br_c (fun e => br_t (yv_p1f (h7 e)) (xd_push0 it ct hn hp)) (fun e => xd_push0 it ct hn hp)))))))
/-! giving the value back -/
theorem xd_done {st : Int32} (hr : p_rc P < 4) (hd : f_n F = 0) (hs : (vt = 1 ∧ st = 1) ∨ (¬ vt = 1 ∧ st = 2)) (hp : Q (xr_S P Z h F (xo_f (p_rc P) o st vd) bg ret pc env vt vd ve)) : wpX_resumeDirect Q (xr_S P Z h F o bg ret pc env vt vd ve) := by
  have d0 : nI (f_n F) = 0 := by rw [hd]; rfl
  rcases hs with ⟨a, rfl⟩ | ⟨a, rfl⟩
  · exact br_t d0 (br_t a (xr_finish hr hp))
  · exact br_t d0 (br_f a (xr_finish hr hp))
theorem xd_enter {l : Nat} {ou : Int32} (hl : l < 32) (hn : h_n h < 1024) (hp : Q (xr_S P Z (xh_x h (p_ag P l) vt vd ve ou) F o bg 0 (z_pa Z l) (nI (h_n h)) vt vd ve)) : wpX_enterFunction Q (xr_S P Z h F o bg ret pc env vt vd ve) (nI l) ou := by
  have il : vp_in (nI l) 32 := vp_in_nI hl (by decide)
  have cl : (nI l).toNatClampNeg = l := nI_clamp (by omega)
  refine And.intro il ?_
  rw [cl]
  refine xr_extend hn (And.intro il ?_)
  exact hp
theorem xd_second {t d : Nat} {e2 : Int32} (ht : t < 32) (hd : f_n F = d) (hd2 : d < 256) (hE : f_E F d = e2) (hp : Q (xr_S P Z h (xf_p F 1 (nI t) e2 vt vd ve) o bg 0 (z_pb Z t) e2 vt vd ve)) : wpX_evaluateSecond Q (xr_S P Z h F o bg ret pc env vt vd ve) (nI t) := by
  have it : vp_in (nI t) 32 := vp_in_nI ht (by decide)
  have ct : (nI t).toNatClampNeg = t := nI_clamp (by omega)
  have i : vp_in (nI (f_n F)) 256 := vp_in_nI (by omega) (by decide)
  have c : (nI (f_n F)).toNatClampNeg = d := by rw [hd]; exact nI_clamp (by omega)
  have eE : f_E F (nI (f_n F)).toNatClampNeg = e2 := by rw [c]; exact hE
  refine And.intro i (nm_r eE ?_)
  rw [ct]
  exact xr_push (by omega) (And.intro it hp)
/-- a frame is taken: t its code, kk the kind -/
theorem xd_top {t d : Nat} {kk : Int32} (hd : f_n F = d + 1) (hd2 : d < 256) (ht : t < 32) (hC : f_C F d = nI t) (hk : p_kd P t = kk) : ¬ nI (f_n F) = 0 ∧ nI (f_n F) - 1 = nI (f_n (xf_d F)) ∧ vp_in (nI (f_n (xf_d F))) 256 ∧ (nI (f_n (xf_d F))).toNatClampNeg = d ∧ f_C F (nI (f_n (xf_d F))).toNatClampNeg = nI t ∧ vp_in (nI t) 32 ∧ (nI t).toNatClampNeg = t ∧ p_kd P (nI t).toNatClampNeg = kk := by
  have e : f_n (xf_d F) = d := by show f_n F - 1 = d; omega
  have c : (nI (f_n (xf_d F))).toNatClampNeg = d := by rw [e]; exact nI_clamp (by omega)
  have ct : (nI t).toNatClampNeg = t := nI_clamp (by omega)
  exact ⟨nI_ne0 (by omega) (by omega), by rw [hd, nI_pred, e], by rw [e]; exact vp_in_nI hd2 (by decide), c, by rw [c]; exact hC, vp_in_nI ht (by decide), ct, by rw [ct]; exact hk⟩
theorem xd_appS {t d : Nat} (hr : p_rc P < 4) (hd : f_n F = d + 1) (hd2 : d < 256) (ht : t < 32) (hC : f_C F d = nI t) (hk : p_kd P t = 3) (hS : f_S F d = 0) (hv : ¬ vt = 2) (hp : Q (xr_S P Z h (xf_d F) (xo_f (p_rc P) o 3 (nI t)) bg ret pc env vt vd ve)) : wpX_resumeDirect Q (xr_S P Z h F o bg ret pc env vt vd ve) := by
  obtain ⟨a1, a2, a3, a4, a5, a6, a7, a8⟩ := xd_top hd hd2 ht hC hk
  have eS : ¬ f_S F (nI (f_n (xf_d F))).toNatClampNeg = 1 := by rw [a4, hS]; decide
  exact br_f a1 (nm_r a2 (And.intro a3 (nm_r a5 (And.intro a6 (nm_r a8 (br_t rfl (And.intro a3 (br_f eS (br_f hv (xr_finish (F := xf_d F) hr hp))))))))))
theorem xd_appN {t d l : Nat} {e2 : Int32} (hd : f_n F = d + 1) (hd2 : d < 256) (ht : t < 32) (hC : f_C F d = nI t) (hk : p_kd P t = 3) (hS : f_S F d = 0) (hE : f_E F d = e2) (hbn : p_bn P = true) (hv : vt = 2) (hl : l < 32) (hvd : vd = nI l) (hn : h_n h < 1024) (hp : Q (xr_S P Z (xh_x h (p_ag P l) 2 (z_pb Z t) e2 ve) (xf_d F) o bg 0 (z_pa Z l) (nI (h_n h)) 2 (z_pb Z t) e2)) : wpX_resumeDirect Q (xr_S P Z h F o bg ret pc env vt vd ve) := by
  subst hvd hE
  obtain ⟨a1, a2, a3, a4, a5, a6, a7, a8⟩ := xd_top hd hd2 ht hC hk
  have eS : ¬ f_S F (nI (f_n (xf_d F))).toNatClampNeg = 1 := by rw [a4, hS]; decide
  have z1 : ¬ yv_p1 P = 0 := by rw [yv_p1t hbn]; decide
  have K := xd_enter (P := P) (Z := Z) (F := xf_d F) (o := o) (bg := bg) (ret := ret) (pc := pc) (env := env) (Q := Q) hl hn hp
  have K2 : wpX_enterFunction Q (xr_S P Z h (xf_d F) o bg ret pc env 2 (z_pb Z (nI t).toNatClampNeg) (f_E F (nI (f_n (xf_d F))).toNatClampNeg)) (nI l) ve := by rw [a4, a7]; exact K
  exact br_f a1 (nm_r a2 (And.intro a3 (nm_r a5 (And.intro a6 (nm_r a8 (br_t rfl (And.intro a3 (br_f eS (br_t hv (br_f z1 (And.intro a6 (And.intro a3 K2))))))))))))
theorem xd_appV {t d : Nat} {e2 : Int32} (hd : f_n F = d + 1) (hd2 : d < 256) (ht : t < 32) (hC : f_C F d = nI t) (hk : p_kd P t = 3) (hS : f_S F d = 0) (hE : f_E F d = e2) (hbn : p_bn P = false) (hv : vt = 2) (hp : Q (xr_S P Z h (xf_p (xf_d F) 1 (nI t) e2 vt vd ve) o bg 0 (z_pb Z t) e2 vt vd ve)) : wpX_resumeDirect Q (xr_S P Z h F o bg ret pc env vt vd ve) := by
  obtain ⟨a1, a2, a3, a4, a5, a6, a7, a8⟩ := xd_top hd hd2 ht hC hk
  have eS : ¬ f_S F (nI (f_n (xf_d F))).toNatClampNeg = 1 := by rw [a4, hS]; decide
  have ed : f_n (xf_d F) = d := by show f_n F - 1 = d; omega
  exact br_f a1 (nm_r a2 (And.intro a3 (nm_r a5 (And.intro a6 (nm_r a8 (br_t rfl (And.intro a3 (br_f eS (br_t hv (br_t (yv_p1f hbn) (xd_second (F := xf_d F) ht ed hd2 hE hp)))))))))))
theorem xd_app2 {t d l : Nat} {e2 : Int32} (hd : f_n F = d + 1) (hd2 : d < 256) (ht : t < 32) (hC : f_C F d = nI t) (hk : p_kd P t = 3) (hS : f_S F d = 1) (hl : l < 32) (hD : f_D F d = nI l) (hV : f_V F d = e2) (hn : h_n h < 1024) (hp : Q (xr_S P Z (xh_x h (p_ag P l) vt vd ve e2) (xf_d F) o bg 0 (z_pa Z l) (nI (h_n h)) vt vd ve)) : wpX_resumeDirect Q (xr_S P Z h F o bg ret pc env vt vd ve) := by
  subst hV
  obtain ⟨a1, a2, a3, a4, a5, a6, a7, a8⟩ := xd_top hd hd2 ht hC hk
  have eS : f_S F (nI (f_n (xf_d F))).toNatClampNeg = 1 := by rw [a4, hS]
  have K := xd_enter (P := P) (Z := Z) (F := xf_d F) (o := o) (bg := bg) (ret := ret) (pc := pc) (env := env) (Q := Q) hl hn hp
  have K2 : wpX_enterFunction Q (xr_S P Z h (xf_d F) o bg ret pc env vt vd ve) (f_D F (nI (f_n (xf_d F))).toNatClampNeg) (f_V F (nI (f_n (xf_d F))).toNatClampNeg) := by rw [a4, hD]; exact K
  exact br_f a1 (nm_r a2 (And.intro a3 (nm_r a5 (And.intro a6 (nm_r a8 (br_t rfl (And.intro a3 (br_t eS (And.intro a3 (And.intro a3 K2))))))))))
theorem xd_let {t d : Nat} {e2 : Int32} (hd : f_n F = d + 1) (hd2 : d < 256) (ht : t < 32) (hC : f_C F d = nI t) (hk : p_kd P t = 7) (hE : f_E F d = e2) (hn : h_n h < 1024) (hp : Q (xr_S P Z (xh_x h (p_ag P t) vt vd ve e2) (xf_d F) o bg 0 (z_pb Z t) (nI (h_n h)) vt vd ve)) : wpX_resumeDirect Q (xr_S P Z h F o bg ret pc env vt vd ve) := by
  subst hE
  obtain ⟨a1, a2, a3, a4, a5, a6, a7, a8⟩ := xd_top hd hd2 ht hC hk
  refine br_f a1 (nm_r a2 (And.intro a3 (nm_r a5 (And.intro a6 (nm_r a8 (br_f (by decide) (br_t rfl (And.intro a3 (And.intro a6 ?_)))))))))
  rw [a4, a7]
  exact xr_extend (F := xf_d F) hn (And.intro a6 hp)
theorem xd_intS {t d : Nat} (hr : p_rc P < 4) (hd : f_n F = d + 1) (hd2 : d < 256) (ht : t < 32) (hC : f_C F d = nI t) (hk : p_kd P t = 4 ∨ p_kd P t = 5 ∨ p_kd P t = 6) (hv : ¬ vt = 1) (hp : Q (xr_S P Z h (xf_d F) (xo_f (p_rc P) o 3 (nI t)) bg ret pc env vt vd ve)) : wpX_resumeDirect Q (xr_S P Z h F o bg ret pc env vt vd ve) := by
  obtain ⟨a1, a2, a3, a4, a5, a6, a7, a8⟩ := xd_top hd hd2 ht hC (rfl : p_kd P t = p_kd P t)
  have n3 : ¬ p_kd P t = 3 := by rcases hk with e | e | e <;> rw [e] <;> decide
  have n7 : ¬ p_kd P t = 7 := by rcases hk with e | e | e <;> rw [e] <;> decide
  exact br_f a1 (nm_r a2 (And.intro a3 (nm_r a5 (And.intro a6 (nm_r a8 (br_f n3 (br_f n7 (br_f hv (xr_finish (F := xf_d F) hr hp)))))))))
theorem xd_add1 {t d : Nat} {e2 : Int32} (hd : f_n F = d + 1) (hd2 : d < 256) (ht : t < 32) (hC : f_C F d = nI t) (hk : p_kd P t = 4) (hS : f_S F d = 0) (hE : f_E F d = e2) (hv : vt = 1) (hp : Q (xr_S P Z h (xf_p (xf_d F) 1 (nI t) e2 vt vd ve) o bg 0 (z_pb Z t) e2 vt vd ve)) : wpX_resumeDirect Q (xr_S P Z h F o bg ret pc env vt vd ve) := by
  obtain ⟨a1, a2, a3, a4, a5, a6, a7, a8⟩ := xd_top hd hd2 ht hC hk
  have eS : ¬ f_S F (nI (f_n (xf_d F))).toNatClampNeg = 1 := by rw [a4, hS]; decide
  have ed : f_n (xf_d F) = d := by show f_n F - 1 = d; omega
  exact br_f a1 (nm_r a2 (And.intro a3 (nm_r a5 (And.intro a6 (nm_r a8 (br_f (by decide) (br_f (by decide) (br_t hv (br_t rfl (And.intro a3 (br_f eS (xd_second (F := xf_d F) ht ed hd2 hE hp))))))))))))
theorem xd_add2 {t d : Nat} {y : Int32} (hd : f_n F = d + 1) (hd2 : d < 256) (ht : t < 32) (hC : f_C F d = nI t) (hk : p_kd P t = 4) (hS : f_S F d = 1) (hD : f_D F d = y) (hv : vt = 1) (hp : Q (xr_S P Z h (xf_d F) o bg ret pc env vt (y + vd) ve)) : wpX_resumeDirect Q (xr_S P Z h F o bg ret pc env vt vd ve) := by
  obtain ⟨a1, a2, a3, a4, a5, a6, a7, a8⟩ := xd_top hd hd2 ht hC hk
  have eS : f_S F (nI (f_n (xf_d F))).toNatClampNeg = 1 := by rw [a4, hS]
  have eD : f_D F (nI (f_n (xf_d F))).toNatClampNeg + vd = y + vd := by rw [a4, hD]
  exact br_f a1 (nm_r a2 (And.intro a3 (nm_r a5 (And.intro a6 (nm_r a8 (br_f (by decide) (br_f (by decide) (br_t hv (br_t rfl (And.intro a3 (br_t eS (And.intro a3 (nm_r eD hp)))))))))))))
theorem xd_ifz {t d : Nat} {e2 y : Int32} (hd : f_n F = d + 1) (hd2 : d < 256) (ht : t < 32) (hC : f_C F d = nI t) (hk : p_kd P t = 5) (hE : f_E F d = e2) (hv : vt = 1) (hy : (vd = 0 ∧ y = z_pb Z t) ∨ (¬ vd = 0 ∧ y = z_pc Z t)) (hp : Q (xr_S P Z h (xf_d F) o bg 0 y e2 vt vd ve)) : wpX_resumeDirect Q (xr_S P Z h F o bg ret pc env vt vd ve) := by
  obtain ⟨a1, a2, a3, a4, a5, a6, a7, a8⟩ := xd_top hd hd2 ht hC hk
  have eE : f_E F (nI (f_n (xf_d F))).toNatClampNeg = e2 := by rw [a4, hE]
  refine br_f a1 (nm_r a2 (And.intro a3 (nm_r a5 (And.intro a6 (nm_r a8 (br_f (by decide) (br_f (by decide) (br_t hv (br_f (by decide) (br_t rfl (And.intro a3 (nm_r eE ?_))))))))))))
  rw [a7]
  rcases hy with ⟨y1, rfl⟩ | ⟨y1, rfl⟩
  · exact br_t y1 (And.intro a6 hp)
  · exact br_f y1 (And.intro a6 hp)
theorem xd_prt {t d m : Nat} (hr : p_rc P < 4) (hpc : p_pc P ≤ 32) (hd : f_n F = d + 1) (hd2 : d < 256) (ht : t < 32) (hC : f_C F d = nI t) (hk : p_kd P t = 6) (hv : vt = 1) (hm : o_p o (p_rc P) = nI m) (hm2 : m < p_pc P) (hp : Q (xr_S P Z h (xf_d F) (xo_p (p_rc P) o vd) bg ret pc env vt vd ve)) : wpX_resumeDirect Q (xr_S P Z h F o bg ret pc env vt vd ve) := by
  obtain ⟨a1, a2, a3, a4, a5, a6, a7, a8⟩ := xd_top hd hd2 ht hC hk
  exact br_f a1 (nm_r a2 (And.intro a3 (nm_r a5 (And.intro a6 (nm_r a8 (br_f (by decide) (br_f (by decide) (br_t hv (br_f (by decide) (br_f (by decide) (xr_print (F := xf_d F) hr hm hm2 hpc hp)))))))))))
theorem xd_prtF {t d : Nat} (hr : p_rc P < 4) (hd : f_n F = d + 1) (hd2 : d < 256) (ht : t < 32) (hC : f_C F d = nI t) (hk : p_kd P t = 6) (hv : vt = 1) (hm : ¬ o_p o (p_rc P) < nI (p_pc P)) (hp : Q (xr_S P Z h (xf_d F) (xo_f (p_rc P) o 5 0) bg ret pc env vt vd ve)) : wpX_resumeDirect Q (xr_S P Z h F o bg ret pc env vt vd ve) := by
  obtain ⟨a1, a2, a3, a4, a5, a6, a7, a8⟩ := xd_top hd hd2 ht hC hk
  exact br_f a1 (nm_r a2 (And.intro a3 (nm_r a5 (And.intro a6 (nm_r a8 (br_f (by decide) (br_f (by decide) (br_t hv (br_f (by decide) (br_f (by decide) (xr_printF (F := xf_d F) hr hm hp)))))))))))
end
end
section
/-! common to both machines: outs, frames, runs -/
def xo_s (os ov : Nat → Int32) (s : gS) : xO := (os, ov, gs_pk s, gs_pr s)
def xf_EQ (F F' : xF) : Prop := f_n F' = f_n F ∧ ∀ i, i < f_n F → f_S F' i = f_S F i ∧ f_C F' i = f_C F i ∧ f_E F' i = f_E F i ∧ f_T F' i = f_T F i ∧ f_D F' i = f_D F i ∧ f_V F' i = f_V F i
theorem xf_EQr {F : xF} : xf_EQ F F := ⟨rfl, fun _ _ => ⟨rfl, rfl, rfl, rfl, rfl, rfl⟩⟩
theorem xf_EQt {F F' F'' : xF} (a : xf_EQ F F') (b : xf_EQ F' F'') : xf_EQ F F'' := by
  refine ⟨b.1.trans a.1, fun i hi => ?_⟩
  obtain ⟨p1, p2, p3, p4, p5, p6⟩ := a.2 i hi
  obtain ⟨q1, q2, q3, q4, q5, q6⟩ := b.2 i (by rw [a.1]; exact hi)
  exact ⟨q1.trans p1, q2.trans p2, q3.trans p3, q4.trans p4, q5.trans p5, q6.trans p6⟩
theorem xf_pop {F F2 : xF} {sg co en tg da ve : Int32} (h : xf_EQ (xf_p F sg co en tg da ve) F2) : f_n F2 = f_n F + 1 ∧ xf_EQ F (xf_d F2) ∧ f_S F2 (f_n F) = sg ∧ f_C F2 (f_n F) = co ∧ f_E F2 (f_n F) = en ∧ f_T F2 (f_n F) = tg ∧ f_D F2 (f_n F) = da ∧ f_V F2 (f_n F) = ve := by
  have n1 : f_n (xf_p F sg co en tg da ve) = f_n F + 1 := rfl
  have n2 : f_n F2 = f_n F + 1 := h.1
  obtain ⟨q1, q2, q3, q4, q5, q6⟩ := h.2 (f_n F) (by omega)
  refine ⟨n2, ⟨?_, fun i hi => ?_⟩, q1.trans pk_us, q2.trans pk_us, q3.trans pk_us, q4.trans pk_us, q5.trans pk_us, q6.trans pk_us⟩
  · show f_n F2 - 1 = f_n F
    omega
  · obtain ⟨p1, p2, p3, p4, p5, p6⟩ := h.2 i (by omega)
    have ne : i ≠ f_n F := by omega
    exact ⟨p1.trans (pk_un ne), p2.trans (pk_un ne), p3.trans (pk_un ne), p4.trans (pk_un ne), p5.trans (pk_un ne), p6.trans (pk_un ne)⟩
def xx_at (x1 : Int32) (P : gP) (Z : xZ) (os ov : Nat → Int32) (s : gS) (k : Nat) (h : xH) (F : xF) (bg : Nat) (ret pc env vt vd ve : Int32) (post : Int32 → SX → Prop) : Prop := xr_L post x1 (nI (p_rc P)) k (xr_S P Z h F (xo_s os ov s) bg ret pc env vt vd ve)
/-- the tokens as the component has them, the caps, no outcome yet -/
def xx_H (P : gP) (Z : xZ) (os : Nat → Int32) : Prop := (∃ hg, tr_G (p_kd P) (p_ag P) (z_pa Z) (z_pb Z) (z_pc Z) (p_fr P) (z_st Z) (p_T P) (p_cn P) hg) ∧ p_cn P ≤ 32 ∧ p_bu P ≤ 240 ∧ p_pc P ≤ 32 ∧ p_rc P < 4 ∧ os (p_rc P) = 0
theorem xx_PG {P : gP} {Z : xZ} {os : Nat → Int32} (H : xx_H P Z os) : gs_PG P := by
  obtain ⟨⟨hg, gt⟩, h1, h2, h3, h4, _⟩ := H
  exact ⟨h1, h2, h3, h4, _, _, _, _, _, gt⟩
/-- the end of a run that stops -/
def xx_ST (x1 : Int32) (P : gP) (Z : xZ) (os ov : Nat → Int32) (A : (Int32 → SX → Prop) → Prop) (oo : Option (Int32 × Int32)) (s' : gS) : Prop :=
  ∀ st v, oo = some (st, v) → ∃ h' F' k' bg ret pc env vt vd ve, k' ≤ 4096 ∧ ∀ post, xx_at x1 P Z (upd os (p_rc P) st) (upd ov (p_rc P) v) s' k' h' F' bg ret pc env vt vd ve post → A post
theorem xx_STn {x1 : Int32} {P : gP} {Z : xZ} {os ov : Nat → Int32} {A : (Int32 → SX → Prop) → Prop} {s' : gS} : xx_ST x1 P Z os ov A none s' := fun _ _ z => nomatch z
theorem xx_STc {x1 : Int32} {P : gP} {Z : xZ} {os ov : Nat → Int32} {A A' : (Int32 → SX → Prop) → Prop} {oo : Option (Int32 × Int32)} {s' : gS} (S : xx_ST x1 P Z os ov A oo s') (i : ∀ post, A post → A' post) : xx_ST x1 P Z os ov A' oo s' := by
  intro st v e
  obtain ⟨h', F', k', bg, ret, pc, env, vt, vd, ve, hk, c⟩ := S st v e
  exact ⟨h', F', k', bg, ret, pc, env, vt, vd, ve, hk, fun post hp => i post (c post hp)⟩
theorem xx_ST1 {x1 : Int32} {P : gP} {Z : xZ} {os ov : Nat → Int32} {A : (Int32 → SX → Prop) → Prop} {s' : gS} {st v : Int32} {h' : xH} {F' : xF} {k' bg : Nat} {ret pc env vt vd ve : Int32} (hk : k' ≤ 4096) (c : ∀ post, xx_at x1 P Z (upd os (p_rc P) st) (upd ov (p_rc P) v) s' k' h' F' bg ret pc env vt vd ve post → A post) : xx_ST x1 P Z os ov A (some (st, v)) s' := by
  intro st' v' e
  injection e with e
  injection e with e1 e2
  subst e1 e2
  exact ⟨h', F', k', bg, ret, pc, env, vt, vd, ve, hk, c⟩
end
section
/-! DIRECT does what the evaluator says -/
def xd_OUT (P : gP) (Z : xZ) (os ov : Nat → Int32) (s : gS) (r : Nat) (h : xH) (b : Nat → Nat) (F : xF) (k : Nat) (A : (Int32 → SX → Prop) → Prop) (oo : Option (Int32 × Int32)) (s' : gS) : Prop :=
  (oo = none → ∃ h' b' F' k' pc env vt vd ve, xh_GR s h b s' h' b' ∧ xh_XI P id id s' h' b' ∧ xf_EQ F F' ∧ h_n h' + 3 * r ≤ h_n h + 3 * gs_n s' ∧ k' + 8 * r ≤ k + 8 * gs_n s' ∧ xh_RV P id s' h' b' vt vd ve r ∧ ∀ post, xx_at 0 P Z os ov s' k' h' F' (gs_n s') 1 pc env vt vd ve post → A post) ∧ xx_ST 0 P Z os ov A oo s'
abbrev xd_OB := xd_OUT
def xd_IH (P : gP) (Z : xZ) (os ov : Nat → Int32) (f : Nat) : Prop := ∀ t e x b0 s h b F k c vt vd ve, gs_WF P s → gs_PK P s → gs_EN P s t e x b0 → p_bu P ≤ gs_n s + f → xh_XI P id id s h b → xh_ER P (gs_begin s t e x b0) h b c (gs_n s) → h_n h ≤ 3 * gs_n s + 1 → f_n F ≤ gs_n s → k ≤ 8 * gs_n s →
  ∀ oo s', gs_go P f t e x b0 s = (oo, s') → xd_OUT P Z os ov s (gs_n s) h b F k (xx_at 0 P Z os ov s k h F (gs_n s) 0 (nI t) (nI c) vt vd ve) oo s'
/-- row r is begun in the table; the component is to evaluate t -/
def xd_ent (P : gP) (f : Nat) (s1 : gS) (r t : Nat) (h : xH) (b : Nat → Nat) (F : xF) (k c : Nat) : Prop := gs_BP P s1 r t ∧ r < p_bu P ∧ p_bu P ≤ r + 1 + f ∧ xh_XI P id id s1 h b ∧ xh_ER P s1 h b c r ∧ h_n h ≤ 3 * r + 1 ∧ f_n F ≤ r ∧ k ≤ 8 * r
section
variable {P : gP} {Z : xZ} {os ov : Nat → Int32} {f r t k c : Nat} {s1 s' : gS} {h : xH} {b : Nat → Nat} {F : xF} {vt vd ve : Int32} {oo : Option (Int32 × Int32)}
theorem xd_stp {A A2 : (Int32 → SX → Prop) → Prop} {o2 : Option (Int32 × Int32)} {e : Int32 × Int32} {s2 : gS} (c1 : o2 = some e) (R : xx_ST 0 P Z os ov A2 o2 s2) (i : ∀ post, A2 post → A post) : xd_OUT P Z os ov s1 r h b F k A (some e) s2 := by
  subst c1
  exact ⟨(fun z => nomatch z), xx_STc R i⟩
/-- a kid's value is the row's -/
theorem xd_fsame {sk : gS} {hk : xH} {bk : Nat → Nat} {Fk : xF} {kk q : Nat} {A : (Int32 → SX → Prop) → Prop} {pc env wt wd we : Int32} (bp : gs_BP P s1 r t) (A0 : gs_A0 P s1 sk) (G : xh_GR s1 h b sk hk bk) (X : xh_XI P id id sk hk bk) (hn : h_n hk < 2 ^ 31) (e1 : xf_EQ F Fk) (e2 : h_n hk + 3 * r ≤ h_n h + 3 * gs_n sk) (e3 : kk + 8 * r ≤ k + 8 * gs_n sk) (V : xh_RV P id sk hk bk wt wd we q)
    (S : ∀ post, xx_at 0 P Z os ov sk kk hk Fk (gs_n sk) 1 pc env wt wd we post → A post) : xd_OUT P Z os ov s1 r h b F k A none (gs_same sk r q) := by
  have dr : gs_dn sk r ≠ 1 := by rw [(gs_ACk bp A0).2.2.2.2]; decide
  have Gs : gs_GR sk (gs_same sk r q) := gs_giveGR dr
  exact ⟨fun _ => ⟨hk, bk, Fk, kk, pc, env, wt, wd, we, xh_GRt G (xh_GRs Gs), xh_XIs hn Gs X, e1, e2, e3, xh_RVsame X.1 hn dr V, S⟩, xx_STn⟩
theorem xd_k0 (H : xx_H P Z os) (ih : xd_IH P Z os ov f) (N : xd_ent P f s1 r t h b F k c) (hk : p_kd P t = 0) (hx : gs_body P (gs_go P f) r t s1 = (oo, s')) : xd_OB P Z os ov s1 r h b F k (xx_at 0 P Z os ov s1 k h F r 0 (nI t) (nI c) vt vd ve) oo s' := by
  obtain ⟨bp, hlt, hf, X, E, hb, hF, hkk⟩ := N
  obtain ⟨gt, h1, h2, h3, h4, h5⟩ := H
  obtain ⟨w, pk, n1, et, d0⟩ := bp
  have ht := (w.2.1 r (by omega)).1
  rw [et] at ht
  rw [gs_b0 hk] at hx
  obtain ⟨e1, e2⟩ := gs_pair_eq hx
  subst e1 e2
  have dr : gs_dn s1 r ≠ 1 := by rw [d0]; decide
  have Gs : gs_GR s1 (gs_give s1 r 0 (p_ag P t) 0) := gs_giveGR dr
  have nn : gs_n (gs_give s1 r 0 (p_ag P t) 0) = r + 1 := n1
  refine ⟨fun _ => ⟨h, b, F, k + 1, nI t, nI c, 1, p_ag P t, 0, xh_GRs Gs, xh_XIs (by omega) Gs X, xf_EQr, by omega, by omega, xh_RVg0 rfl rfl, fun post hp => ?_⟩, xx_STn⟩
  rw [nn] at hp
  exact xr_stepE (by omega) h4 h5 rfl (xd_num hlt h2 (by omega) hk hp)
theorem xd_k2 (H : xx_H P Z os) (ih : xd_IH P Z os ov f) (N : xd_ent P f s1 r t h b F k c) (hk : p_kd P t = 2) (hx : gs_body P (gs_go P f) r t s1 = (oo, s')) : xd_OB P Z os ov s1 r h b F k (xx_at 0 P Z os ov s1 k h F r 0 (nI t) (nI c) vt vd ve) oo s' := by
  obtain ⟨bp, hlt, hf, X, E, hb, hF, hkk⟩ := N
  obtain ⟨gt, h1, h2, h3, h4, h5⟩ := H
  obtain ⟨w, pk, n1, et, d0⟩ := bp
  have ht := (w.2.1 r (by omega)).1
  rw [et] at ht
  rw [gs_b2 hk] at hx
  obtain ⟨e1, e2⟩ := gs_pair_eq hx
  subst e1 e2
  have dr : gs_dn s1 r ≠ 1 := by rw [d0]; decide
  have Gs : gs_GR s1 (gs_give s1 r 1 (nI t) (nI r)) := gs_giveGR dr
  have nn : gs_n (gs_give s1 r 1 (nI t) (nI r)) = r + 1 := n1
  refine ⟨fun _ => ⟨h, b, F, k + 1, nI t, nI c, 2, nI (id t), nI c, xh_GRs Gs, xh_XIs (by omega) Gs X, xf_EQr, by omega, by omega, xh_RVlam (by omega) X.1 dr (by omega) et hk E, fun post hp => ?_⟩, xx_STn⟩
  rw [nn] at hp
  exact xr_stepE (by omega) h4 h5 rfl (xd_lam hlt h2 (by omega) hk hp)
/-- the binding of a variable -/
theorem xd_bind {cF cT : Nat → Nat} {j q : Nat} (bp : gs_BP P s1 r t) (hb2 : p_bu P ≤ 240) (X : xh_XI P cF cT s1 h b) (E : xh_ER P s1 h b c r) (hj : j < 8) (hfv : bt (p_fr P t) j = true) (eq : gs_bd s1 (r * 8 + j) = nI q) (hq : gs_good P s1 q) : xh_VC P cF cT s1 h b (h_T h (xh_l h c (nI j))) (h_D h (xh_l h c (nI j))) (h_E h (xh_l h c (nI j))) q := by
  obtain ⟨w, pk, n1, et, d0⟩ := bp
  obtain ⟨a1, a2, a3, a4⟩ := E.2 j hj (by rw [et]; exact hfv)
  have V := X.2 _ a1 a2 j hj a3
  have : b (xh_l h c (nI j)) = q := by
    rw [eq] at a4
    have v1 := V.1.1
    have v2 := hq.1
    have v3 := w.1
    exact ((nI_eq (by omega) (by omega)).mp a4).symm
  rw [this] at V
  exact V
theorem xd_k1 (H : xx_H P Z os) (ih : xd_IH P Z os ov f) (N : xd_ent P f s1 r t h b F k c) (hk : p_kd P t = 1) (hx : gs_body P (gs_go P f) r t s1 = (oo, s')) : xd_OB P Z os ov s1 r h b F k (xx_at 0 P Z os ov s1 k h F r 0 (nI t) (nI c) vt vd ve) oo s' := by
  have g := xx_PG H
  obtain ⟨bp, hlt, hf, X, E, hb, hF, hkk⟩ := N
  obtain ⟨gt, h1, h2, h3, h4, h5⟩ := H
  have n1 := bp.2.2.1
  have ht := (bp.1.2.1 r (by omega)).1
  rw [bp.2.2.2.1] at ht
  by_cases hbn : p_bn P = true
  · obtain ⟨j, q, o2, s2, a1, a2, a3, a4, a5, a6, a7, C2, cs⟩ := gs_k1N (gs_ok g f) g bp hk hbn hx
    have V := xd_bind bp h2 X E a1 a3 a4 a5
    obtain ⟨v1, c', v2, v3⟩ := V.2.1 hbn
    obtain ⟨u1, u2, u3⟩ := gs_en_susp g bp.1 a5.1 (a5.2.1 hbn)
    have E' := xh_ERs (x := 0) g u2 a5.1 (fun y _ => u3 y) v3
    obtain ⟨R1, R2⟩ := ih _ _ _ _ s1 h b F (k + 1) c' (h_T h (xh_l h c (nI j))) (h_D h (xh_l h c (nI j))) (h_E h (xh_l h c (nI j))) bp.1 bp.2.1 a7 (by omega) X E' (by omega) (by omega) (by omega) _ _ a6
    have step : ∀ post, xx_at 0 P Z os ov s1 (k + 1) h F (gs_n s1) 0 (nI (gs_susp P s1 q)) (nI c') (h_T h (xh_l h c (nI j))) (h_D h (xh_l h c (nI j))) (h_E h (xh_l h c (nI j))) post → (xx_at 0 P Z os ov s1 k h F r 0 (nI t) (nI c) vt vd ve) post := by
      intro post hp
      have hp2 : xx_at 0 P Z os ov s1 (k + 1) h F (r + 1) 0 (h_D h (xh_l h c (nI j))) (h_E h (xh_l h c (nI j))) (h_T h (xh_l h c (nI j))) (h_D h (xh_l h c (nI j))) (h_E h (xh_l h c (nI j))) post := by
        unfold xx_at at hp ⊢
        rw [n1] at hp
        have v1' : h_D h (xh_l h c (nI j)) = nI (gs_susp P s1 q) := v1
        rw [← v1', ← v2] at hp
        exact hp
      exact xr_stepE (by omega) h4 h5 rfl (xd_varN hlt h2 (by omega) hk hbn X.1 (by omega) E.1 (by rw [a2]) hp2)
    rcases cs with ⟨e, c1, c2, c3⟩ | ⟨c1, c2, c3⟩
    · subst c2 c3
      exact xd_stp c1 R2 step
    · subst c2 c3
      obtain ⟨h', b', F', k', pc', env', wt, wd, we, q1, q2, q3, q4, q5, q6, q7⟩ := R1 c1
      obtain ⟨A2, lt2⟩ := C2.2.2 c1
      have bu := A2.2.2.1.1
      rw [n1] at q4 q5 q6
      exact xd_fsame bp A2 q1 q2 (by omega) q3 (by omega) (by omega) q6 (fun post hp => step post (q7 post hp))
  · have hbn' : p_bn P = false := Bool.eq_false_iff.mpr hbn
    obtain ⟨j, q, a1, a2, a3, a4, a5, e1, e2⟩ := gs_k1V g bp hk hbn' hx
    subst e1 e2
    have V := xd_bind bp h2 X E a1 a3 a4 a5
    refine xd_fsame (kk := k + 1) (pc := nI t) (env := nI c) bp (gs_A0r bp.1 bp.2.1) xh_GRr X (by omega) xf_EQr (by omega) (by omega) (V.2.2 hbn') (fun post hp => ?_)
    rw [n1] at hp
    exact xr_stepE (by omega) h4 h5 rfl (xd_varV hlt h2 (by omega) hk hbn' X.1 (by omega) E.1 (by rw [a2]) hp)
end
end
section
/-! DIRECT: the kinds with parts -/
section
variable {P : gP} {Z : xZ} {os ov : Nat → Int32} {f r t k c : Nat} {s1 s' : gS} {h : xH} {b : Nat → Nat} {F : xF} {vt vd ve : Int32} {oo : Option (Int32 × Int32)}
/-- the last part: its value is the row's -/
theorem xd_tail {sk sn : gS} {hk : xH} {bk : Nat → Nat} {Fk : xF} {kk t' e' c' : Nat} {x' b0 : Int32} {A : (Int32 → SX → Prop) → Prop} {wt wd we : Int32} {o2 : Option (Int32 × Int32)} (H : xx_H P Z os) (ih : xd_IH P Z os ov f) (N : xd_ent P f s1 r t h b F k c) (A2 : gs_A0 P s1 sk) (G : xh_GR s1 h b sk hk bk) (X : xh_XI P id id sk hk bk) (e1 : xf_EQ F Fk) (e2 : h_n hk + 3 * r ≤ h_n h + 3 * gs_n sk) (e3 : kk + 8 * r ≤ k + 8 * gs_n sk) (en : gs_EN P sk t' e' x' b0) (E : xh_ER P (gs_begin sk t' e' x' b0) hk bk c' (gs_n sk)) (go : gs_go P f t' e' x' b0 sk = (o2, sn))
    (S : ∀ post, xx_at 0 P Z os ov sk kk hk Fk (gs_n sk) 0 (nI t') (nI c') wt wd we post → A post) : (∀ e, o2 = some e → xd_OUT P Z os ov s1 r h b F k A (some e) sn) ∧ (o2 = none → xd_OUT P Z os ov s1 r h b F k A none (gs_same sn r (gs_n sk))) := by
  have g := xx_PG H
  obtain ⟨bp, hlt, hf, X0, E0, hb, hF, hkk⟩ := N
  have n1 := bp.2.2.1
  have le := A2.1.1
  have eF := e1.1
  obtain ⟨R1, R2⟩ := ih t' e' x' b0 sk hk bk Fk kk c' wt wd we A2.2.2.1 A2.2.1 en (by omega) X E (by omega) (by omega) (by omega) o2 sn go
  refine ⟨fun e eo => xd_stp eo R2 S, fun eo => ?_⟩
  obtain ⟨h', b', F', k', pc', env', ut, ud, ue, q1, q2, q3, q4, q5, q6, q7⟩ := R1 eo
  obtain ⟨A3, lt3⟩ := (gs_ok g f _ _ _ _ _ A2.2.2.1 A2.2.1 en _ _ go).2.2 eo
  have bu := A3.2.2.1.1
  have hbu := H.2.2.1
  exact xd_fsame bp (gs_A0t A2 A3) (xh_GRt G q1) q2 (by omega) (xf_EQt e1 q3) (by omega) (by omega) q6 (fun post hp => S post (q7 post hp))
/-- the first part, behind a frame -/
theorem xd_first {tA : Nat} {s2 : gS} {o2 : Option (Int32 × Int32)} {kk : Int32} (H : xx_H P Z os) (ih : xd_IH P Z os ov f) (N : xd_ent P f s1 r t h b F k c) (hk : p_kd P t = kk) (k0 : ¬ kk = 0) (k1 : ¬ kk = 1) (k2 : ¬ kk = 2) (k7 : kk = 7 → p_bn P = false) (pA : z_pa Z t = nI tA) (hA : tA < p_cn P) (fA : ∀ y, bt (p_fr P tA) y = true → bt (p_fr P t) y = true) (en : gs_EN P s1 tA r (-1) 0) (go : gs_go P f tA r (-1) 0 s1 = (o2, s2)) :
    xx_ST 0 P Z os ov (xx_at 0 P Z os ov s1 k h F r 0 (nI t) (nI c) vt vd ve) o2 s2 ∧ (o2 = none → ∃ h2 b2 F2 k2 pc2 env2 wt wd we, xh_GR s1 h b s2 h2 b2 ∧ xh_XI P id id s2 h2 b2 ∧ f_n F2 = f_n F + 1 ∧ xf_EQ F (xf_d F2) ∧ f_S F2 (f_n F) = 0 ∧ f_C F2 (f_n F) = nI t ∧ f_E F2 (f_n F) = nI c ∧ h_n h2 + 3 * (r + 1) ≤ h_n h + 3 * gs_n s2 ∧ k2 + 8 * (r + 1) ≤ k + 1 + 8 * gs_n s2 ∧ xh_RV P id s2 h2 b2 wt wd we (r + 1) ∧ xh_ER P s2 h2 b2 c r ∧ gs_n s2 ≤ 240 ∧ h_n h2 ≤ 800 ∧ k2 ≤ 2000 ∧ ∀ post, xx_at 0 P Z os ov s2 k2 h2 F2 (gs_n s2) 1 pc2 env2 wt wd we post → (xx_at 0 P Z os ov s1 k h F r 0 (nI t) (nI c) vt vd ve) post) := by
  have g := xx_PG H
  obtain ⟨bp, hlt, hf, X, E, hb, hF, hkk⟩ := N
  obtain ⟨gt, h1, h2, h3, h4, h5⟩ := H
  have n1 := bp.2.2.1
  have et := bp.2.2.2.1
  have ht := (bp.1.2.1 r (by omega)).1
  rw [et] at ht
  have E' := xh_ERs (x := 0) g hA (by omega) (fun y _ => by rw [et]; exact fA y) E
  have nF : f_n (xf_p F 0 (nI t) (nI c) vt vd ve) = f_n F + 1 := rfl
  obtain ⟨R1, R2⟩ := ih tA r (-1) 0 s1 h b (xf_p F 0 (nI t) (nI c) vt vd ve) (k + 1) c vt vd ve bp.1 bp.2.1 en (by omega) X E' (by omega) (by omega) (by omega) o2 s2 go
  have step : ∀ post, xx_at 0 P Z os ov s1 (k + 1) h (xf_p F 0 (nI t) (nI c) vt vd ve) (gs_n s1) 0 (nI tA) (nI c) vt vd ve post → (xx_at 0 P Z os ov s1 k h F r 0 (nI t) (nI c) vt vd ve) post := by
    intro post hp
    rw [n1, ← pA] at hp
    exact xr_stepE (by omega) h4 h5 rfl (xd_push hlt h2 (by omega) hk k0 k1 k2 k7 (by omega) hp)
  refine ⟨xx_STc R2 step, fun eo => ?_⟩
  obtain ⟨h', b', F', k', pc', env', wt, wd, we, q1, q2, q3, q4, q5, q6, q7⟩ := R1 eo
  obtain ⟨A2, lt2⟩ := (gs_ok g f _ _ _ _ _ bp.1 bp.2.1 en _ _ go).2.2 eo
  obtain ⟨p1, p2, p3, p4, p5, p6, p7, p8⟩ := xf_pop q3
  have bu := A2.2.2.1.1
  rw [n1] at q4 q5 q6
  exact ⟨h', b', F', k', pc', env', wt, wd, we, q1, q2, p1, p2, p3, p4, p5, q4, q5, q6, xh_ERm X.1 (by omega) q1 (by omega) E, by omega, by omega, by omega, fun post hp => step post (q7 post hp)⟩
/-- the second part, behind a frame that keeps the first one's value -/
theorem xd_secd {tB kk q2 : Nat} {sk s3 : gS} {hk : xH} {bk : Nat → Nat} {Fk : xF} {o3 : Option (Int32 × Int32)} {wt wd we : Int32} (H : xx_H P Z os) (ih : xd_IH P Z os ov f) (N : xd_ent P f s1 r t h b F k c) (A2 : gs_A0 P s1 sk) (G : xh_GR s1 h b sk hk bk) (X : xh_XI P id id sk hk bk) (e0 : xf_EQ F (xf_d Fk)) (e1 : h_n hk + 3 * (r + 1) ≤ h_n h + 3 * gs_n sk) (e2 : kk + 8 * (r + 1) ≤ k + 1 + 8 * gs_n sk) (E : xh_ER P sk hk bk c r) (V : xh_RV P id sk hk bk wt wd we q2) (hq2 : q2 < gs_n sk) (hd2 : gs_dn sk q2 = 1) (hB : tB < p_cn P) (fB : ∀ y, bt (p_fr P tB) y = true → bt (p_fr P t) y = true) (en : gs_EN P sk tB r (-1) 0) (go : gs_go P f tB r (-1) 0 sk = (o3, s3))
    (S : ∀ post, xx_at 0 P Z os ov sk (kk + 1) hk (xf_p (xf_d Fk) 1 (nI t) (nI c) wt wd we) (gs_n sk) 0 (nI tB) (nI c) wt wd we post → (xx_at 0 P Z os ov s1 k h F r 0 (nI t) (nI c) vt vd ve) post) :
    xx_ST 0 P Z os ov (xx_at 0 P Z os ov s1 k h F r 0 (nI t) (nI c) vt vd ve) o3 s3 ∧ (o3 = none → ∃ h3 b3 F3 k3 pc3 env3 ut ud ue, xh_GR s1 h b s3 h3 b3 ∧ xh_XI P id id s3 h3 b3 ∧ f_n F3 = f_n F + 1 ∧ xf_EQ F (xf_d F3) ∧ f_S F3 (f_n F) = 1 ∧ f_C F3 (f_n F) = nI t ∧ f_D F3 (f_n F) = wd ∧ f_V F3 (f_n F) = we ∧ h_n h3 + 3 * (r + 1) ≤ h_n h + 3 * gs_n s3 ∧ k3 + 8 * (r + 1) ≤ k + 2 + 8 * gs_n s3 ∧ xh_RV P id s3 h3 b3 ut ud ue (gs_n sk) ∧ xh_RV P id s3 h3 b3 wt wd we q2 ∧ gs_n s3 ≤ 240 ∧ h_n h3 ≤ 800 ∧ k3 ≤ 2000 ∧ ∀ post, xx_at 0 P Z os ov s3 k3 h3 F3 (gs_n s3) 1 pc3 env3 ut ud ue post → (xx_at 0 P Z os ov s1 k h F r 0 (nI t) (nI c) vt vd ve) post) := by
  have g := xx_PG H
  obtain ⟨bp, hlt, hf, X0, E0, hb, hF, hkk⟩ := N
  have hbu := H.2.2.1
  have n1 := bp.2.2.1
  have le := A2.1.1
  obtain ⟨r2, t2, w2, pk2, d2⟩ := gs_ACk bp A2
  have E' := xh_ERs (x := 0) g hB r2 (fun y _ => by rw [t2]; exact fB y) E
  have nF : f_n (xf_p (xf_d Fk) 1 (nI t) (nI c) wt wd we) = f_n (xf_d Fk) + 1 := rfl
  have eF := e0.1
  obtain ⟨R1, R2⟩ := ih tB r (-1) 0 sk hk bk (xf_p (xf_d Fk) 1 (nI t) (nI c) wt wd we) (kk + 1) c wt wd we w2 pk2 en (by omega) X E' (by omega) (by omega) (by omega) o3 s3 go
  refine ⟨xx_STc R2 S, fun eo => ?_⟩
  obtain ⟨h', b', F', k', pc', env', ut, ud, ue, q1, q2', q3, q4, q5, q6, q7⟩ := R1 eo
  obtain ⟨A3, lt3⟩ := (gs_ok g f _ _ _ _ _ w2 pk2 en _ _ go).2.2 eo
  obtain ⟨p1, p2, p3, p4, p5, p6, p7, p8⟩ := xf_pop q3
  rw [eF] at p1 p3 p4 p7 p8
  have bu := A3.2.2.1.1
  have bu2 := w2.1
  exact ⟨h', b', F', k', pc', env', ut, ud, ue, xh_GRt G q1, q2', p1, xf_EQt e0 p2, p3, p4, p7, p8, by omega, by omega, q6, xh_RVm X.1 (by omega) q1 hq2 hd2 V, by omega, by omega, by omega, fun post hp => S post (q7 post hp)⟩
end
end
section
/-! DIRECT, kind by kind -/
section
variable {P : gP} {Z : xZ} {os ov : Nat → Int32} {f r t k c : Nat} {s1 s' : gS} {h : xH} {b : Nat → Nat} {F : xF} {vt vd ve : Int32} {oo : Option (Int32 × Int32)}
theorem xd_k3 (H : xx_H P Z os) (ih : xd_IH P Z os ov f) (N : xd_ent P f s1 r t h b F k c) (hk : p_kd P t = 3) (hx : gs_body P (gs_go P f) r t s1 = (oo, s')) : xd_OUT P Z os ov s1 r h b F k (xx_at 0 P Z os ov s1 k h F r 0 (nI t) (nI c) vt vd ve) oo s' := by
  have g := xx_PG H
  have H0 := H
  have N0 := N
  obtain ⟨bp, hlt, hf, X, E, hb, hF, hkk⟩ := N
  obtain ⟨⟨hg, gt⟩, h1, h2, h3, h4, h5⟩ := H
  have n1 := bp.2.2.1
  have ht := (bp.1.2.1 r (by omega)).1
  rw [bp.2.2.2.1] at ht
  obtain ⟨p1, p2, p3, p4, p5, p6, p7⟩ := tr_two gt ht (Or.inl hk)
  obtain ⟨o2, s2, e2, en2, C2, cs⟩ := gs_k3 (gs_ok g f) g bp hk hx
  obtain ⟨S2, R2⟩ := xd_first (vt := vt) (vd := vd) (ve := ve) H0 ih N0 hk (by decide) (by decide) (by decide) (fun z => absurd z (by decide)) p4 (by omega) p6 en2 e2
  rcases cs with ⟨e, c1, c2, c3⟩ | ⟨c1, hf0, c2, c3⟩ | ⟨c1, hh, l, fu, cs⟩
  · subst c2 c3; exact xd_stp c1 S2 (fun _ z => z)
  · subst c2 c3
    obtain ⟨h2', b2, F2, k2, pc2, env2, wt, wd, we, q1, q2, q3, q4, q5, q6, q7, q8, q9, q10, q11, q12, q13, q14, q15⟩ := R2 c1
    obtain ⟨v1, v2⟩ := xh_RVint hf0 q10
    refine ⟨(fun z => nomatch z), xx_ST1 (h' := h2') (F' := xf_d F2) (k' := k2 + 1) (bg := gs_n s') (ret := 1) (pc := pc2) (env := env2) (vt := wt) (vd := wd) (ve := we) (by omega) (fun post hp => q15 post ?_)⟩
    exact xr_stepR (by omega) h4 h5 (by decide) (xd_appS h4 q3 (by omega) (by omega) q6 hk q5 (by rw [v1]; decide) hp)
  · obtain ⟨h2', b2, F2, k2, pc2, env2, wt, wd, we, q1, q2, q3, q4, q5, q6, q7, q8, q9, q10, q11, q12, q13, q14, q15⟩ := R2 c1
    obtain ⟨A2, lt2⟩ := C2.2.2 c1
    obtain ⟨r2, t2, w2, pk2, d2⟩ := gs_ACk bp A2
    obtain ⟨v1, v2, c', v3, v4⟩ := xh_RVfun fu q12 q10
    have fu0 := fu
    obtain ⟨f1, f2, f3, f4, f5, f6, f7⟩ := fu
    obtain ⟨l1, l2, j, hj, ej, l3⟩ := tr_lam gt f6 f7
    rcases cs with ⟨hbn, o3, s3, e3, en3, C3, cs⟩ | ⟨hbn, o3, s3, e3, en3, C3, cs⟩
    · have V : xh_VC P id id s2 h2' b2 2 (nI (t - 1)) (nI c) r := by
        refine ⟨⟨r2, fun _ => Or.inl (by rw [t2]; exact hk), fun z => absurd (hbn.symm.trans z) (by decide)⟩, fun _ => ⟨?_, c, rfl, q11⟩, fun z => absurd (hbn.symm.trans z) (by decide)⟩
        unfold gs_susp
        rw [t2, if_pos hk]
        rfl
      have X3 := xh_xXI (nm := nI j) (ou := nI c') (q := r) q2 (by omega) v4.1 rfl (fun _ _ _ => V)
      have E3 := xh_ERx (q := r) (tg := 2) (da := nI (t - 1)) (en := nI c) (ou := nI c') g q2.1 (by omega) hj (show l - 1 < p_cn P by omega) f2 (by rw [f5]; exact l3) rfl v4
      rw [ej] at e3 en3
      have hn : h_n (xh_x h2' (nI j) 2 (nI (t - 1)) (nI c) (nI c')) = h_n h2' + 1 := rfl
      obtain ⟨T1, T2⟩ := xd_tail (kk := k2 + 1) (wt := 2) (wd := nI (t - 1)) (we := nI c) (A := (xx_at 0 P Z os ov s1 k h F r 0 (nI t) (nI c) vt vd ve)) H0 ih N0 A2 (xh_GRt q1 ⟨gs_GRr, xh_xHG⟩) X3 q4 (by omega) (by omega) en3 E3 e3 (fun post hp => by
        refine q15 post ?_
        rw [← l2, ← p5, ← ej, ← v3] at hp
        exact xr_stepR (by omega) h4 h5 (by decide) (xd_appN q3 (by omega) (by omega) q6 hk q5 q7 hbn v1 (show l < 32 by omega) v2 (by omega) hp))
      rcases cs with ⟨e, d1, c2, c3⟩ | ⟨d1, c2, c3⟩
      · subst c2 c3; exact T1 e d1
      · subst c2 c3; exact T2 d1
    · have da : gs_dn s2 (r + 1) = 1 := A2.2.2.2 _ (by omega) (by omega)
      obtain ⟨S3, R3⟩ := xd_secd (vt := vt) (vd := vd) (ve := ve) H0 ih N0 A2 q1 q2 q4 q8 q9 q11 q10 (by omega) da (show t - 1 < p_cn P by omega) p7 en3 e3 (fun post hp => by
        refine q15 post ?_
        rw [← p5] at hp
        exact xr_stepR (by omega) h4 h5 (by decide) (xd_appV q3 (by omega) (by omega) q6 hk q5 q7 hbn v1 hp))
      rcases cs with ⟨e, d1, c2, c3⟩ | ⟨d1, o4, s4, e4, en4, C4, cs⟩
      · subst c2 c3; exact xd_stp d1 S3 (fun _ z => z)
      · obtain ⟨h3', b3, F3, k3, pc3, env3, ut, ud, ue, u1, u2, u3, u4, u5, u6, u7, u8, u9, u10, u11, u12, u13, u14, u15, u16⟩ := R3 d1
        obtain ⟨A3, lt3⟩ := C3.2.2 d1
        have fu3 := gs_funm A3.1 (show r + 1 < gs_n s2 by omega) fu0
        obtain ⟨y1, y2, c'', y3, y4⟩ := xh_RVfun fu3 u13 u12
        have V : xh_VC P id id s3 h3' b3 ut ud ue (gs_n s2) := ⟨⟨lt3, fun z => absurd (hbn.symm.trans z) (by decide), fun _ => A3.2.2.2 _ (Nat.le_refl _) lt3⟩, fun z => absurd (hbn.symm.trans z) (by decide), fun _ => u11⟩
        have X4 := xh_xXI (nm := nI j) (ou := nI c'') (q := gs_n s2) u2 (by omega) y4.1 rfl (fun _ _ _ => V)
        have E4 := xh_ERx (q := gs_n s2) (tg := ut) (da := ud) (en := ue) (ou := nI c'') g u2.1 (by omega) hj (show l - 1 < p_cn P by omega) fu3.2.1 (by rw [fu3.2.2.2.2.1]; exact l3) rfl y4
        rw [ej] at e4 en4
        have hn : h_n (xh_x h3' (nI j) ut ud ue (nI c'')) = h_n h3' + 1 := rfl
        obtain ⟨T1, T2⟩ := xd_tail (kk := k3 + 1) (wt := ut) (wd := ud) (we := ue) (A := (xx_at 0 P Z os ov s1 k h F r 0 (nI t) (nI c) vt vd ve)) H0 ih N0 (gs_A0t A2 A3) (xh_GRt u1 ⟨gs_GRr, xh_xHG⟩) X4 u4 (by omega) (by omega) en4 E4 e4 (fun post hp => by
          refine u16 post ?_
          rw [← l2, ← ej, ← y3] at hp
          exact xr_stepR (by omega) h4 h5 (by decide) (xd_app2 u3 (by omega) (by omega) u6 hk u5 (show l < 32 by omega) (u7.trans y2) u8 (by omega) hp))
        rcases cs with ⟨e, d2, c2, c3⟩ | ⟨d2, c2, c3⟩
        · subst c2 c3; exact T1 e d2
        · subst c2 c3; exact T2 d2
theorem xd_k4 (H : xx_H P Z os) (ih : xd_IH P Z os ov f) (N : xd_ent P f s1 r t h b F k c) (hk : p_kd P t = 4) (hx : gs_body P (gs_go P f) r t s1 = (oo, s')) : xd_OUT P Z os ov s1 r h b F k (xx_at 0 P Z os ov s1 k h F r 0 (nI t) (nI c) vt vd ve) oo s' := by
  have g := xx_PG H
  have H0 := H
  have N0 := N
  obtain ⟨bp, hlt, hf, X, E, hb, hF, hkk⟩ := N
  obtain ⟨⟨hg, gt⟩, h1, h2, h3, h4, h5⟩ := H
  have n1 := bp.2.2.1
  have ht := (bp.1.2.1 r (by omega)).1
  rw [bp.2.2.2.1] at ht
  obtain ⟨p1, p2, p3, p4, p5, p6, p7⟩ := tr_two gt ht (Or.inr hk)
  obtain ⟨o2, s2, e2, en2, C2, cs⟩ := gs_k4 (gs_ok g f) g bp hk hx
  obtain ⟨S2, R2⟩ := xd_first (vt := vt) (vd := vd) (ve := ve) H0 ih N0 hk (by decide) (by decide) (by decide) (fun z => absurd z (by decide)) p4 (by omega) p6 en2 e2
  rcases cs with ⟨e, c1, c2, c3⟩ | ⟨c1, hf0, c2, c3⟩ | ⟨c1, hf0, o3, s3, e3, en3, C3, cs⟩
  · subst c2 c3; exact xd_stp c1 S2 (fun _ z => z)
  · subst c2 c3
    obtain ⟨h2', b2, F2, k2, pc2, env2, wt, wd, we, q1, q2, q3, q4, q5, q6, q7, q8, q9, q10, q11, q12, q13, q14, q15⟩ := R2 c1
    refine ⟨(fun z => nomatch z), xx_ST1 (h' := h2') (F' := xf_d F2) (k' := k2 + 1) (bg := gs_n s') (ret := 1) (pc := pc2) (env := env2) (vt := wt) (vd := wd) (ve := we) (by omega) (fun post hp => q15 post ?_)⟩
    exact xr_stepR (by omega) h4 h5 (by decide) (xd_intS h4 q3 (by omega) (by omega) q6 (Or.inl hk) (xh_RVtag hf0 q10) hp)
  · obtain ⟨h2', b2, F2, k2, pc2, env2, wt, wd, we, q1, q2, q3, q4, q5, q6, q7, q8, q9, q10, q11, q12, q13, q14, q15⟩ := R2 c1
    obtain ⟨A2, lt2⟩ := C2.2.2 c1
    obtain ⟨v1, v2⟩ := xh_RVint hf0 q10
    have da : gs_dn s2 (r + 1) = 1 := A2.2.2.2 _ (by omega) (by omega)
    obtain ⟨S3, R3⟩ := xd_secd (vt := vt) (vd := vd) (ve := ve) H0 ih N0 A2 q1 q2 q4 q8 q9 q11 q10 (by omega) da (show t - 1 < p_cn P by omega) p7 en3 e3 (fun post hp => by
      refine q15 post ?_
      rw [← p5] at hp
      exact xr_stepR (by omega) h4 h5 (by decide) (xd_add1 q3 (by omega) (by omega) q6 hk q5 q7 v1 hp))
    rcases cs with ⟨e, d1, c2, c3⟩ | ⟨d1, hf3, c2, c3⟩ | ⟨d1, hf3, c2, c3⟩
    · subst c2 c3; exact xd_stp d1 S3 (fun _ z => z)
    · subst c2 c3
      obtain ⟨h3', b3, F3, k3, pc3, env3, ut, ud, ue, u1, u2, u3, u4, u5, u6, u7, u8, u9, u10, u11, u12, u13, u14, u15, u16⟩ := R3 d1
      refine ⟨(fun z => nomatch z), xx_ST1 (h' := h3') (F' := xf_d F3) (k' := k3 + 1) (bg := gs_n s') (ret := 1) (pc := pc3) (env := env3) (vt := ut) (vd := ud) (ve := ue) (by omega) (fun post hp => u16 post ?_)⟩
      exact xr_stepR (by omega) h4 h5 (by decide) (xd_intS h4 u3 (by omega) (by omega) u6 (Or.inl hk) (xh_RVtag hf3 u11) hp)
    · subst c2 c3
      obtain ⟨h3', b3, F3, k3, pc3, env3, ut, ud, ue, u1, u2, u3, u4, u5, u6, u7, u8, u9, u10, u11, u12, u13, u14, u15, u16⟩ := R3 d1
      obtain ⟨A3, lt3⟩ := C3.2.2 d1
      obtain ⟨r3, t3, w3, pk3, d3⟩ := gs_ACk bp (gs_A0t A2 A3)
      obtain ⟨y1, y2⟩ := xh_RVint hf3 u11
      have fa : gs_fn s3 (r + 1) = 0 := ((A3.1.2.1 _ (show r + 1 < gs_n s2 by omega)).2.2.1).trans hf0
      obtain ⟨z1, z2⟩ := xh_RVint fa u12
      have dr : gs_dn s3 r ≠ 1 := by rw [d3]; decide
      have Gs : gs_GR s3 (gs_give s3 r 0 (gs_nm s3 (r + 1) + gs_nm s3 (gs_n s2)) 0) := gs_giveGR dr
      have nn : gs_n (gs_give s3 r 0 (gs_nm s3 (r + 1) + gs_nm s3 (gs_n s2)) 0) = gs_n s3 := rfl
      refine ⟨fun _ => ⟨h3', b3, xf_d F3, k3 + 1, pc3, env3, ut, wd + ud, ue, xh_GRt u1 (xh_GRs Gs), xh_XIs (by omega) Gs u2, u4, by omega, by omega, xh_RVg0 y1 (by rw [y2, z2]), fun post hp => u16 post ?_⟩, xx_STn⟩
      exact xr_stepR (by omega) h4 h5 (by decide) (xd_add2 u3 (by omega) (by omega) u6 hk u5 u7 y1 hp)
theorem xd_k5 (H : xx_H P Z os) (ih : xd_IH P Z os ov f) (N : xd_ent P f s1 r t h b F k c) (hk : p_kd P t = 5) (hx : gs_body P (gs_go P f) r t s1 = (oo, s')) : xd_OUT P Z os ov s1 r h b F k (xx_at 0 P Z os ov s1 k h F r 0 (nI t) (nI c) vt vd ve) oo s' := by
  have g := xx_PG H
  have H0 := H
  have N0 := N
  obtain ⟨bp, hlt, hf, X, E, hb, hF, hkk⟩ := N
  obtain ⟨⟨hg, gt⟩, h1, h2, h3, h4, h5⟩ := H
  have n1 := bp.2.2.1
  have ht := (bp.1.2.1 r (by omega)).1
  rw [bp.2.2.2.1] at ht
  obtain ⟨p1, p2, p3, p4, p5, p6, p7, p8, p9, p10, p11⟩ := tr_ifz gt ht hk
  obtain ⟨o2, s2, e2, en2, C2, cs⟩ := gs_k5 (gs_ok g f) g bp hk hx
  obtain ⟨S2, R2⟩ := xd_first (vt := vt) (vd := vd) (ve := ve) H0 ih N0 hk (by decide) (by decide) (by decide) (fun z => absurd z (by decide)) p6 (by omega) p9 en2 e2
  rcases cs with ⟨e, c1, c2, c3⟩ | ⟨c1, hf0, c2, c3⟩ | ⟨c1, hf0, t3, o3, s3, ct3, e3, en3, C3, cs⟩
  · subst c2 c3; exact xd_stp c1 S2 (fun _ z => z)
  · subst c2 c3
    obtain ⟨h2', b2, F2, k2, pc2, env2, wt, wd, we, q1, q2, q3, q4, q5, q6, q7, q8, q9, q10, q11, q12, q13, q14, q15⟩ := R2 c1
    refine ⟨(fun z => nomatch z), xx_ST1 (h' := h2') (F' := xf_d F2) (k' := k2 + 1) (bg := gs_n s') (ret := 1) (pc := pc2) (env := env2) (vt := wt) (vd := wd) (ve := we) (by omega) (fun post hp => q15 post ?_)⟩
    exact xr_stepR (by omega) h4 h5 (by decide) (xd_intS h4 q3 (by omega) (by omega) q6 (Or.inr (Or.inl hk)) (xh_RVtag hf0 q10) hp)
  · obtain ⟨h2', b2, F2, k2, pc2, env2, wt, wd, we, q1, q2, q3, q4, q5, q6, q7, q8, q9, q10, q11, q12, q13, q14, q15⟩ := R2 c1
    obtain ⟨A2, lt2⟩ := C2.2.2 c1
    obtain ⟨r2, t2, w2, pk2, d2⟩ := gs_ACk bp A2
    obtain ⟨v1, v2⟩ := xh_RVint hf0 q10
    have key : ∃ y, ((wd = 0 ∧ y = z_pb Z t) ∨ (¬ wd = 0 ∧ y = z_pc Z t)) ∧ y = nI t3 ∧ t3 < p_cn P ∧ ∀ y', bt (p_fr P t3) y' = true → bt (p_fr P t) y' = true := by
      rcases ct3 with ⟨z1, z2⟩ | ⟨z1, z2⟩
      · exact ⟨_, Or.inl ⟨v2.trans z1, rfl⟩, by rw [p7, z2], by omega, by rw [z2]; exact p10⟩
      · exact ⟨_, Or.inr ⟨fun z => z1 (v2.symm.trans z), rfl⟩, by rw [p8, z2], by omega, by rw [z2]; exact p11⟩
    obtain ⟨y, ky, ey, kt, kf⟩ := key
    have E3 := xh_ERs (x := 0) g kt r2 (fun y' _ => by rw [t2]; exact kf y') q11
    obtain ⟨T1, T2⟩ := xd_tail (kk := k2 + 1) (wt := wt) (wd := wd) (we := we) (A := (xx_at 0 P Z os ov s1 k h F r 0 (nI t) (nI c) vt vd ve)) H0 ih N0 A2 q1 q2 q4 (by omega) (by omega) en3 E3 e3 (fun post hp => by
      refine q15 post ?_
      rw [← ey] at hp
      exact xr_stepR (by omega) h4 h5 (by decide) (xd_ifz q3 (by omega) (by omega) q6 hk q7 v1 ky hp))
    rcases cs with ⟨e, d1, c2, c3⟩ | ⟨d1, c2, c3⟩
    · subst c2 c3; exact T1 e d1
    · subst c2 c3; exact T2 d1
theorem xd_k6 (H : xx_H P Z os) (ih : xd_IH P Z os ov f) (N : xd_ent P f s1 r t h b F k c) (hk : p_kd P t = 6) (hx : gs_body P (gs_go P f) r t s1 = (oo, s')) : xd_OUT P Z os ov s1 r h b F k (xx_at 0 P Z os ov s1 k h F r 0 (nI t) (nI c) vt vd ve) oo s' := by
  have g := xx_PG H
  have H0 := H
  have N0 := N
  obtain ⟨bp, hlt, hf, X, E, hb, hF, hkk⟩ := N
  obtain ⟨⟨hg, gt⟩, h1, h2, h3, h4, h5⟩ := H
  have n1 := bp.2.2.1
  have ht := (bp.1.2.1 r (by omega)).1
  rw [bp.2.2.2.1] at ht
  obtain ⟨p1, p2, p3⟩ := tr_prt gt ht hk
  obtain ⟨o2, s2, e2, en2, C2, cs⟩ := gs_k6 (gs_ok g f) g bp hk hx
  obtain ⟨S2, R2⟩ := xd_first (vt := vt) (vd := vd) (ve := ve) H0 ih N0 hk (by decide) (by decide) (by decide) (fun z => absurd z (by decide)) p2 (by omega) p3 en2 e2
  rcases cs with ⟨e, c1, c2, c3⟩ | ⟨c1, hf0, c2, c3⟩ | ⟨c1, hf0, hp0, c2, c3⟩ | ⟨c1, hf0, hp0, c2, c3⟩
  · subst c2 c3; exact xd_stp c1 S2 (fun _ z => z)
  · subst c2 c3
    obtain ⟨h2', b2, F2, k2, pc2, env2, wt, wd, we, q1, q2, q3, q4, q5, q6, q7, q8, q9, q10, q11, q12, q13, q14, q15⟩ := R2 c1
    refine ⟨(fun z => nomatch z), xx_ST1 (h' := h2') (F' := xf_d F2) (k' := k2 + 1) (bg := gs_n s') (ret := 1) (pc := pc2) (env := env2) (vt := wt) (vd := wd) (ve := we) (by omega) (fun post hp => q15 post ?_)⟩
    exact xr_stepR (by omega) h4 h5 (by decide) (xd_intS h4 q3 (by omega) (by omega) q6 (Or.inr (Or.inr hk)) (xh_RVtag hf0 q10) hp)
  · subst c2 c3
    obtain ⟨h2', b2, F2, k2, pc2, env2, wt, wd, we, q1, q2, q3, q4, q5, q6, q7, q8, q9, q10, q11, q12, q13, q14, q15⟩ := R2 c1
    obtain ⟨v1, v2⟩ := xh_RVint hf0 q10
    refine ⟨(fun z => nomatch z), xx_ST1 (h' := h2') (F' := xf_d F2) (k' := k2 + 1) (bg := gs_n s') (ret := 1) (pc := pc2) (env := env2) (vt := wt) (vd := wd) (ve := we) (by omega) (fun post hp => q15 post ?_)⟩
    exact xr_stepR (by omega) h4 h5 (by decide) (xd_prtF h4 q3 (by omega) (by omega) q6 hk v1 hp0 hp)
  · subst c2 c3
    obtain ⟨h2', b2, F2, k2, pc2, env2, wt, wd, we, q1, q2, q3, q4, q5, q6, q7, q8, q9, q10, q11, q12, q13, q14, q15⟩ := R2 c1
    obtain ⟨A2, lt2⟩ := C2.2.2 c1
    obtain ⟨v1, v2⟩ := xh_RVint hf0 q10
    obtain ⟨m, hm, em⟩ := A2.2.1
    have hm2 : m < p_pc P := by rw [em, nI_ltI (by omega) (by omega)] at hp0; exact hp0
    have da : gs_dn s2 (r + 1) = 1 := A2.2.2.2 _ (by omega) (by omega)
    have Gp : gs_GR s2 (gs_prt (p_rc P) s2 (gs_nm s2 (r + 1))) := ⟨Nat.le_refl _, fun _ _ => rfl, fun _ _ => rfl, fun _ _ z => ⟨z, rfl, rfl, rfl⟩⟩
    refine xd_fsame (Fk := xf_d F2) (kk := k2 + 1) (pc := pc2) (env := env2) bp (gs_prtA0 g A2 hp0) (xh_GRt q1 (xh_GRs Gp)) (xh_XIs (by omega) Gp q2) (by omega) q4 (show h_n h2' + 3 * r ≤ h_n h + 3 * gs_n s2 by omega) (show k2 + 1 + 8 * r ≤ k + 8 * gs_n s2 by omega) (xh_RVm q2.1 (by omega) (xh_GRs Gp) (by omega) da q10) (fun post hp => q15 post ?_)
    rw [← v2] at hp
    exact xr_stepR (by omega) h4 h5 (by decide) (xd_prt h4 h3 q3 (by omega) (by omega) q6 hk v1 em hm2 hp)
theorem xd_k7 (H : xx_H P Z os) (ih : xd_IH P Z os ov f) (N : xd_ent P f s1 r t h b F k c) (hk : p_kd P t = 7) (hx : gs_body P (gs_go P f) r t s1 = (oo, s')) : xd_OUT P Z os ov s1 r h b F k (xx_at 0 P Z os ov s1 k h F r 0 (nI t) (nI c) vt vd ve) oo s' := by
  have g := xx_PG H
  have H0 := H
  have N0 := N
  obtain ⟨bp, hlt, hf, X, E, hb, hF, hkk⟩ := N
  obtain ⟨⟨hg, gt⟩, h1, h2, h3, h4, h5⟩ := H
  have n1 := bp.2.2.1
  have et := bp.2.2.2.1
  have ht := (bp.1.2.1 r (by omega)).1
  rw [bp.2.2.2.1] at ht
  obtain ⟨p1, p2, p3, p4, p5, p6, j, hj, ej, p7⟩ := tr_let gt ht hk
  by_cases hbn : p_bn P = true
  · obtain ⟨o2, s2, e2, en2, C2, cs⟩ := gs_k7N (gs_ok g f) g bp hk hbn hx
    have V : xh_VC P id id s1 h b 2 (nI (p_T P t - 1)) (nI c) r := by
      refine ⟨⟨by omega, fun _ => Or.inr (by rw [et]; exact hk), fun z => absurd (hbn.symm.trans z) (by decide)⟩, fun _ => ⟨?_, c, rfl, E⟩, fun z => absurd (hbn.symm.trans z) (by decide)⟩
      unfold gs_susp
      rw [et, if_neg (by rw [hk]; decide)]
      rfl
    have X3 := xh_xXI (nm := nI j) (ou := nI c) (q := r) X (by omega) E.1 rfl (fun _ _ _ => V)
    have E3 := xh_ERx (q := r) (tg := 2) (da := nI (p_T P t - 1)) (en := nI c) (ou := nI c) g X.1 (by omega) hj (show t - 1 < p_cn P by omega) (show r < gs_n s1 by omega) (by rw [et]; exact p7) rfl E
    rw [ej] at e2 en2
    have hn : h_n (xh_x h (nI j) 2 (nI (p_T P t - 1)) (nI c) (nI c)) = h_n h + 1 := rfl
    obtain ⟨T1, T2⟩ := xd_tail (kk := k + 1) (wt := 2) (wd := nI (p_T P t - 1)) (we := nI c) (A := (xx_at 0 P Z os ov s1 k h F r 0 (nI t) (nI c) vt vd ve)) H0 ih N0 (gs_A0r bp.1 bp.2.1) ⟨gs_GRr, xh_xHG⟩ X3 xf_EQr (by omega) (by omega) en2 E3 e2 (fun post hp => by
      rw [← p5, ← p4, ← ej, n1] at hp
      exact xr_stepE (by omega) h4 h5 rfl (xd_letN hlt h2 (by omega) hk hbn (by omega) hp))
    rw [n1] at T2
    rcases cs with ⟨e, d1, c2, c3⟩ | ⟨d1, c2, c3⟩
    · subst c2 c3; exact T1 e d1
    · subst c2 c3; exact T2 d1
  · have hbn' : p_bn P = false := Bool.eq_false_iff.mpr hbn
    obtain ⟨o2, s2, e2, en2, C2, cs⟩ := gs_k7V (gs_ok g f) g bp hk hbn' hx
    obtain ⟨S2, R2⟩ := xd_first (vt := vt) (vd := vd) (ve := ve) H0 ih N0 hk (by decide) (by decide) (by decide) (fun _ => hbn') p4 (by omega) p6 en2 e2
    rcases cs with ⟨e, c1, c2, c3⟩ | ⟨c1, o3, s3, e3, en3, C3, cs⟩
    · subst c2 c3; exact xd_stp c1 S2 (fun _ z => z)
    · obtain ⟨h2', b2, F2, k2, pc2, env2, wt, wd, we, q1, q2, q3, q4, q5, q6, q7, q8, q9, q10, q11, q12, q13, q14, q15⟩ := R2 c1
      obtain ⟨A2, lt2⟩ := C2.2.2 c1
      obtain ⟨r2, t2, w2, pk2, d2⟩ := gs_ACk bp A2
      have da : gs_dn s2 (r + 1) = 1 := A2.2.2.2 _ (by omega) (by omega)
      have V : xh_VC P id id s2 h2' b2 wt wd we (r + 1) := ⟨⟨by omega, fun z => absurd z hbn, fun _ => da⟩, fun z => absurd z hbn, fun _ => q10⟩
      have X3 := xh_xXI (nm := nI j) (ou := nI c) (q := r + 1) q2 (by omega) q11.1 rfl (fun _ _ _ => V)
      have E3 := xh_ERx (q := r + 1) (tg := wt) (da := wd) (en := we) (ou := nI c) g q2.1 (by omega) hj (show t - 1 < p_cn P by omega) r2 (by rw [t2]; exact p7) rfl q11
      rw [ej] at e3 en3
      have hn : h_n (xh_x h2' (nI j) wt wd we (nI c)) = h_n h2' + 1 := rfl
      obtain ⟨T1, T2⟩ := xd_tail (kk := k2 + 1) (wt := wt) (wd := wd) (we := we) (A := (xx_at 0 P Z os ov s1 k h F r 0 (nI t) (nI c) vt vd ve)) H0 ih N0 A2 (xh_GRt q1 ⟨gs_GRr, xh_xHG⟩) X3 q4 (by omega) (by omega) en3 E3 e3 (fun post hp => by
        refine q15 post ?_
        rw [← p5, ← ej] at hp
        exact xr_stepR (by omega) h4 h5 (by decide) (xd_let q3 (by omega) (by omega) q6 hk q7 (by omega) hp))
      rcases cs with ⟨e, d1, c2, c3⟩ | ⟨d1, c2, c3⟩
      · subst c2 c3; exact T1 e d1
      · subst c2 c3; exact T2 d1
end
theorem xd_main {P : gP} {Z : xZ} {os ov : Nat → Int32} (H : xx_H P Z os) : ∀ f, xd_IH P Z os ov f := by
  have g := xx_PG H
  have spent : ∀ t e x b0 s h b F k c vt vd ve, p_bu P ≤ gs_n s → gs_n s ≤ p_bu P → k ≤ 8 * gs_n s → ∀ f oo s', gs_go P f t e x b0 s = (oo, s') → (oo, s') = (some (4, 0), s) → xd_OUT P Z os ov s (gs_n s) h b F k (xx_at 0 P Z os ov s k h F (gs_n s) 0 (nI t) (nI c) vt vd ve) oo s' := by
    intro t e x b0 s h b F k c vt vd ve h1 h1' hk f oo s' _ e2
    obtain ⟨c2, c3⟩ := gs_pair_eq e2.symm
    subst c2 c3
    obtain ⟨⟨hg, gt⟩, a1, a2, a3, a4, a5⟩ := H
    refine ⟨(fun z => nomatch z), xx_ST1 (h' := h) (F' := F) (k' := k + 1) (bg := gs_n s') (ret := 0) (pc := nI t) (env := nI c) (vt := vt) (vd := vd) (ve := ve) (by omega) (fun post hp => ?_)⟩
    exact xr_stepE (by omega) a4 a5 rfl (xd_spent h1 (by omega) a4 hp)
  intro f
  induction f with
  | zero =>
    intro t e x b0 s h b F k c vt vd ve w pk en hf X E hb hF hk oo s' hx
    exact spent t e x b0 s h b F k c vt vd ve (by omega) w.1 hk 0 oo s' hx (hx.symm.trans gs_go0)
  | succ f ih =>
    intro t e x b0 s h b F k c vt vd ve w pk en hf X E hb hF hk oo s' hx
    by_cases hlt : p_bu P ≤ gs_n s
    · exact spent t e x b0 s h b F k c vt vd ve hlt w.1 hk (f + 1) oo s' hx (hx.symm.trans (by rw [gs_goS, if_pos hlt]))
    · rw [gs_goS, if_neg hlt] at hx
      have bp := gs_beginBP g w pk en (by omega)
      have ht := en.1
      have Gb : gs_GR s (gs_begin s t e x b0) := gs_FRG (gs_beginFR (P := P))
      have bu := H.2.2.1
      have N : xd_ent P f (gs_begin s t e x b0) (gs_n s) t h b F k c := ⟨bp, by omega, by omega, xh_XIs (by omega) Gb X, E, hb, hF, hk⟩
      have key : xd_OUT P Z os ov (gs_begin s t e x b0) (gs_n s) h b F k (xx_at 0 P Z os ov (gs_begin s t e x b0) k h F (gs_n s) 0 (nI t) (nI c) vt vd ve) oo s' := by
        obtain ⟨⟨hg, gt⟩, a1, a2, a3, a4, a5⟩ := id H
        rcases tr_kind gt ht with hk | hk | hk | hk | hk | hk | hk | hk
        · exact xd_k0 H ih N hk hx
        · exact xd_k1 H ih N hk hx
        · exact xd_k2 H ih N hk hx
        · exact xd_k3 H ih N hk hx
        · exact xd_k4 H ih N hk hx
        · exact xd_k5 H ih N hk hx
        · exact xd_k6 H ih N hk hx
        · exact xd_k7 H ih N hk hx
      refine ⟨fun eo => ?_, key.2⟩
      obtain ⟨h', b', F', k', pc', env', wt, wd, we, q1, q2, q3, q4, q5, q6, q7⟩ := key.1 eo
      exact ⟨h', b', F', k', pc', env', wt, wd, we, xh_GRt (xh_GRs Gb) q1, q2, q3, q4, q5, q6, q7⟩
end
section
/-! TARGET, one step, a rule for each operation -/
def xt_ND (Z : xZ) (i : Nat) (op tg da ne ot : Int32) : Prop := z_cO Z i = op ∧ z_cT Z i = tg ∧ z_cD Z i = da ∧ z_cN Z i = ne ∧ z_cR Z i = ot
section
variable {P : gP} {Z : xZ} {h : xH} {F : xF} {o : xO} {bg : Nat} {ret pc env vt vd ve : Int32} {Q : SX → Prop} {i : Nat} {op tg da ne ot : Int32}
def xt_19 (Q : SX → Prop) (i : Nat) (P : gP) (Z : xZ) (h : xH) (F : xF) (o : xO) (bg : Nat) (ret pc env vt vd ve : Int32) : Prop := wX_stepTarget_19 Q (nI i) Z.1.1 Z.1.2.1 Z.1.2.2.1 Z.1.2.2.2.1 Z.1.2.2.2.2.1 Z.1.2.2.2.2.2.1 Z.1.2.2.2.2.2.2.1 Z.1.2.2.2.2.2.2.2.1 Z.1.2.2.2.2.2.2.2.2.1 Z.1.2.2.2.2.2.2.2.2.2.1 Z.1.2.2.2.2.2.2.2.2.2.2.1 Z.1.2.2.2.2.2.2.2.2.2.2.2.1 Z.1.2.2.2.2.2.2.2.2.2.2.2.2.1 Z.1.2.2.2.2.2.2.2.2.2.2.2.2.2.1 Z.1.2.2.2.2.2.2.2.2.2.2.2.2.2.2.1 Z.1.2.2.2.2.2.2.2.2.2.2.2.2.2.2.2.1 Z.1.2.2.2.2.2.2.2.2.2.2.2.2.2.2.2.2.1 Z.1.2.2.2.2.2.2.2.2.2.2.2.2.2.2.2.2.2.1 Z.1.2.2.2.2.2.2.2.2.2.2.2.2.2.2.2.2.2.2.1 Z.1.2.2.2.2.2.2.2.2.2.2.2.2.2.2.2.2.2.2.2.1 Z.1.2.2.2.2.2.2.2.2.2.2.2.2.2.2.2.2.2.2.2.2.1 Z.1.2.2.2.2.2.2.2.2.2.2.2.2.2.2.2.2.2.2.2.2.2.1 (nI (p_bu P)) (nI (p_pc P)) Z.1.2.2.2.2.2.2.2.2.2.2.2.2.2.2.2.2.2.2.2.2.2.2.1 Z.1.2.2.2.2.2.2.2.2.2.2.2.2.2.2.2.2.2.2.2.2.2.2.2 (nI (h_n h)) (nI (f_n F)) (nI (p_rc P)) (yv_p1 P) ret (nI bg) pc env vt vd ve (p_kd P) (p_ag P) (z_pa Z) (z_pb Z) (z_pc Z) (p_fr P) (z_st Z) (o_s o) (o_v o) (o_p o) (o_l o) (z_cO Z) (z_cT Z) (z_cD Z) (z_cN Z) (z_cR Z) (h_N h) (h_T h) (h_D h) (h_E h) (h_O h) (f_S F) (f_C F) (f_E F) (f_T F) (f_D F) (f_V F)
theorem xt_and0 {t : Nat} (h : t < 32) : nI (4 * t) &&& 3 = 0 := by
  rw [pk_andN (by omega) 2 (by decide), show 4 * t % 2 ^ 2 = 0 by omega]
  rfl
theorem xt_and1 {i : Nat} (h : i < 128) (h2 : i % 4 ≠ 0) : ¬ nI i &&& 3 = 0 := by
  rw [pk_andN (by omega) 2 (by decide)]
  exact nI_ne0 (by omega) (by omega)
theorem xt_shr {m : Nat} (h : m < 1000) : nI m >>> ((2 : Int32) &&& 31) = nI (m / 4) := pk_shrN (by omega) _ 2 (by decide)
theorem xt_spent {t : Nat} (ht : t < 32) (hb : p_bu P ≤ bg) (hb2 : bg ≤ 240) (hr : p_rc P < 4) (hp : Q (xr_S P Z h F (xo_f (p_rc P) o 4 0) bg ret (nI (4 * t)) env vt vd ve)) : wpX_stepTarget Q (xr_S P Z h F o bg ret (nI (4 * t)) env vt vd ve) := by
  refine br_t (xt_and0 ht) ?_
  refine xr_beginF (P := P) (Z := Z) (h := h) (F := F) (o := o) (bg := bg) (ret := ret) (pc := nI (4 * t)) (env := env) (vt := vt) (vd := vd) (ve := ve) hb hb2 hr ?_
  exact br_t rfl hp
theorem xt_root {t : Nat} (ht : t < 32) (hb : bg < p_bu P) (hb2 : p_bu P ≤ 240) (hp : xt_19 Q (4 * t) P Z h F o (bg + 1) ret (nI (4 * t)) env vt vd ve) : wpX_stepTarget Q (xr_S P Z h F o bg ret (nI (4 * t)) env vt vd ve) := by
  refine br_t (xt_and0 ht) ?_
  refine xr_begin (P := P) (Z := Z) (h := h) (F := F) (o := o) (bg := bg) (ret := ret) (pc := nI (4 * t)) (env := env) (vt := vt) (vd := vd) (ve := ve) hb hb2 ?_
  exact br_f (by decide) hp
theorem xt_mid (hi : i < 128) (h2 : i % 4 ≠ 0) (hp : xt_19 Q i P Z h F o bg ret (nI i) env vt vd ve) : wpX_stepTarget Q (xr_S P Z h F o bg ret (nI i) env vt vd ve) := br_f (xt_and1 hi h2) hp
/-! operands -/
theorem xt_opL {post : SX → Prop} (hi : i < 128) (nd : xt_ND Z i op tg da ne ot) (ht : ¬ tg = 3) (hp : post (xr_S P Z h F o bg ret pc env tg da env)) : wpX_loadOperand post (xr_S P Z h F o bg ret pc env vt vd ve) (nI i) := by
  have ii : vp_in (nI i) 128 := vp_in_nI hi (by decide)
  have ci : (nI i).toNatClampNeg = i := nI_clamp (by omega)
  have e1 : z_cT Z (nI i).toNatClampNeg = tg := by rw [ci]; exact nd.2.1
  have e2 : z_cD Z (nI i).toNatClampNeg = da := by rw [ci]; exact nd.2.2.1
  refine And.intro ii (br_f (by rw [e1]; exact ht) (And.intro ii (And.intro ii ?_)))
  rw [e1, e2]
  exact hp
theorem xt_opN {post : SX → Prop} {c a : Nat} (hi : i < 128) (nd : xt_ND Z i op 3 da ne ot) (ok : xh_ok h) (hn : h_n h ≤ 1024) (hc : c < h_n h) (he : env = nI c) (ha : xh_l h c da = a) (hp : post (xr_S P Z h F o bg ret pc env (h_T h a) (h_D h a) (h_E h a))) : wpX_loadOperand post (xr_S P Z h F o bg ret pc env vt vd ve) (nI i) := by
  have ii : vp_in (nI i) 128 := vp_in_nI hi (by decide)
  have ci : (nI i).toNatClampNeg = i := nI_clamp (by omega)
  have e1 : z_cT Z (nI i).toNatClampNeg = 3 := by rw [ci]; exact nd.2.1
  have e2 : z_cD Z (nI i).toNatClampNeg = da := by rw [ci]; exact nd.2.2.1
  refine And.intro ii (br_t e1 (And.intro ii ?_))
  rw [e2]
  exact xr_load ok hn hc he ha hp
/-! the operations -/
theorem xt_ret0 (hi : i < 128) (nd : xt_ND Z i 0 tg da ne ot) (ht : ¬ tg = 3) (hp : wpX_resumeTarget Q (xr_S P Z h F o bg ret pc env tg da env)) : xt_19 Q i P Z h F o bg ret pc env vt vd ve := by
  have ii : vp_in (nI i) 128 := vp_in_nI hi (by decide)
  have e0 : z_cO Z (nI i).toNatClampNeg = 0 := by rw [nI_clamp (by omega)]; exact nd.1
  exact And.intro ii (nm_r e0 (br_f (by decide) (br_f (by decide) (br_t rfl (xt_opL (P := P) (Z := Z) (h := h) (F := F) (o := o) (bg := bg) (ret := ret) (pc := pc) (env := env) (vt := vt) (vd := vd) (ve := ve) hi nd ht hp)))))
theorem xt_ret3 {c a : Nat} (hi : i < 128) (nd : xt_ND Z i 0 3 da ne ot) (ok : xh_ok h) (hn : h_n h ≤ 1024) (hc : c < h_n h) (he : env = nI c) (ha : xh_l h c da = a) (hp : wpX_resumeTarget Q (xr_S P Z h F o bg ret pc env (h_T h a) (h_D h a) (h_E h a))) : xt_19 Q i P Z h F o bg ret pc env vt vd ve := by
  have ii : vp_in (nI i) 128 := vp_in_nI hi (by decide)
  have e0 : z_cO Z (nI i).toNatClampNeg = 0 := by rw [nI_clamp (by omega)]; exact nd.1
  exact And.intro ii (nm_r e0 (br_f (by decide) (br_f (by decide) (br_t rfl (xt_opN (P := P) (Z := Z) (h := h) (F := F) (o := o) (bg := bg) (ret := ret) (pc := pc) (env := env) (vt := vt) (vd := vd) (ve := ve) hi nd ok hn hc he ha hp)))))
theorem xt_to (hi : i < 128) (nd : xt_ND Z i 1 tg da ne ot) (hF : f_n F < 256) (hp : Q (xr_S P Z h (xf_p F 2 (nI i) env vt vd ve) o bg ret ne env vt vd ve)) : xt_19 Q i P Z h F o bg ret pc env vt vd ve := by
  have ii : vp_in (nI i) 128 := vp_in_nI hi (by decide)
  have ci : (nI i).toNatClampNeg = i := nI_clamp (by omega)
  have e0 : z_cO Z (nI i).toNatClampNeg = 1 := by rw [ci]; exact nd.1
  have e3 : z_cN Z (nI i).toNatClampNeg = ne := by rw [ci]; exact nd.2.2.2.1
  exact And.intro ii (nm_r e0 (br_f (by decide) (br_f (by decide) (br_f (by decide) (br_t rfl (xr_push (P := P) (Z := Z) (h := h) (F := F) (o := o) (bg := bg) (ret := ret) (pc := pc) (env := env) (vt := vt) (vd := vd) (ve := ve) hF (And.intro ii (nm_r e3 hp))))))))
theorem xt_fn (hi : i < 128) (nd : xt_ND Z i 2 tg da ne ot) (hp : wpX_takeArgument Q (xr_S P Z h F o bg ret pc env vt vd ve) (nI i)) : xt_19 Q i P Z h F o bg ret pc env vt vd ve := by
  have ii : vp_in (nI i) 128 := vp_in_nI hi (by decide)
  have e0 : z_cO Z (nI i).toNatClampNeg = 2 := by rw [nI_clamp (by omega)]; exact nd.1
  exact And.intro ii (nm_r e0 (br_f (by decide) (br_f (by decide) (br_f (by decide) (br_f (by decide) (br_t rfl hp))))))
theorem xt_push0 (hi : i < 128) (nd : xt_ND Z i 3 tg da ne ot) (ht : ¬ tg = 3) (hF : f_n F < 256) (hp : Q (xr_S P Z h (xf_p F 3 (nI i) env tg da env) o bg ret ne env tg da env)) : xt_19 Q i P Z h F o bg ret pc env vt vd ve := by
  have ii : vp_in (nI i) 128 := vp_in_nI hi (by decide)
  have ci : (nI i).toNatClampNeg = i := nI_clamp (by omega)
  have e0 : z_cO Z (nI i).toNatClampNeg = 3 := by rw [ci]; exact nd.1
  have e3 : z_cN Z (nI i).toNatClampNeg = ne := by rw [ci]; exact nd.2.2.2.1
  refine And.intro ii (nm_r e0 (br_f (by decide) (br_f (by decide) (br_f (by decide) (br_f (by decide) (br_f (by decide) (br_t rfl ?_)))))))
  refine xt_opL (P := P) (Z := Z) (h := h) (F := F) (o := o) (bg := bg) (ret := ret) (pc := pc) (env := env) (vt := vt) (vd := vd) (ve := ve) hi nd ht ?_
  exact xr_push (P := P) (Z := Z) (h := h) (F := F) (o := o) (bg := bg) (ret := ret) (pc := pc) (env := env) (vt := tg) (vd := da) (ve := env) hF (And.intro ii (nm_r e3 hp))
theorem xt_push3 {c a : Nat} (hi : i < 128) (nd : xt_ND Z i 3 3 da ne ot) (ok : xh_ok h) (hn : h_n h ≤ 1024) (hc : c < h_n h) (he : env = nI c) (ha : xh_l h c da = a) (hF : f_n F < 256) (hp : Q (xr_S P Z h (xf_p F 3 (nI i) env (h_T h a) (h_D h a) (h_E h a)) o bg ret ne env (h_T h a) (h_D h a) (h_E h a))) : xt_19 Q i P Z h F o bg ret pc env vt vd ve := by
  have ii : vp_in (nI i) 128 := vp_in_nI hi (by decide)
  have ci : (nI i).toNatClampNeg = i := nI_clamp (by omega)
  have e0 : z_cO Z (nI i).toNatClampNeg = 3 := by rw [ci]; exact nd.1
  have e3 : z_cN Z (nI i).toNatClampNeg = ne := by rw [ci]; exact nd.2.2.2.1
  refine And.intro ii (nm_r e0 (br_f (by decide) (br_f (by decide) (br_f (by decide) (br_f (by decide) (br_f (by decide) (br_t rfl ?_)))))))
  refine xt_opN (P := P) (Z := Z) (h := h) (F := F) (o := o) (bg := bg) (ret := ret) (pc := pc) (env := env) (vt := vt) (vd := vd) (ve := ve) hi nd ok hn hc he ha ?_
  exact xr_push (P := P) (Z := Z) (h := h) (F := F) (o := o) (bg := bg) (ret := ret) (pc := pc) (env := env) (vt := h_T h a) (vd := h_D h a) (ve := h_E h a) hF (And.intro ii (nm_r e3 hp))
/-- operations on a name: the rest behind the load -/
theorem xt_on {c a : Nat} (hi : i < 128) (nd : xt_ND Z i op 3 da ne ot) (h3 : 3 < op) (ok : xh_ok h) (hn : h_n h ≤ 1024) (hc : c < h_n h) (he : env = nI c) (ha : xh_l h c da = a) (hp : wpX_stepOnName Q (xr_S P Z h F o bg ret pc env vt vd ve) (nI i)) : xt_19 Q i P Z h F o bg ret pc env vt vd ve := by
  have ii : vp_in (nI i) 128 := vp_in_nI hi (by decide)
  have e0 : z_cO Z (nI i).toNatClampNeg = op := by rw [nI_clamp (by omega)]; exact nd.1
  have h0 : ¬ op < 0 := by rw [Int32.lt_iff_toInt_lt] at h3 ⊢; have e3 : (3 : Int32).toInt = 3 := by decide
                           have e4 : (0 : Int32).toInt = 0 := by decide
                           omega
  exact And.intro ii (nm_r e0 (br_f h0 (br_t h3 hp)))
theorem xt_force {c a : Nat} (hi : i < 128) (nd : xt_ND Z i 4 3 da ne ot) (ok : xh_ok h) (hn : h_n h ≤ 1024) (hc : c < h_n h) (he : env = nI c) (ha : xh_l h c da = a) (hp : Q (xr_S P Z h F o bg ret (h_D h a) (h_E h a) (h_T h a) (h_D h a) (h_E h a))) : xt_19 Q i P Z h F o bg ret pc env vt vd ve := by
  have ii : vp_in (nI i) 128 := vp_in_nI hi (by decide)
  have e0 : z_cO Z (nI i).toNatClampNeg = 4 := by rw [nI_clamp (by omega)]; exact nd.1
  refine xt_on hi nd (by decide) ok hn hc he ha ?_
  unfold wpX_stepOnName
  refine xt_opN (P := P) (Z := Z) (h := h) (F := F) (o := o) (bg := bg) (ret := ret) (pc := pc) (env := env) (vt := vt) (vd := vd) (ve := ve) hi nd ok hn hc he ha ?_
  exact And.intro ii (nm_r e0 (br_t rfl hp))
theorem xt_ifz {c a : Nat} {y : Int32} (hi : i < 128) (nd : xt_ND Z i 6 3 da ne ot) (ok : xh_ok h) (hn : h_n h ≤ 1024) (hc : c < h_n h) (he : env = nI c) (ha : xh_l h c da = a) (hy : (h_D h a = 0 ∧ y = ne) ∨ (¬ h_D h a = 0 ∧ y = ot)) (hp : Q (xr_S P Z h F o bg ret y env (h_T h a) (h_D h a) (h_E h a))) : xt_19 Q i P Z h F o bg ret pc env vt vd ve := by
  have ii : vp_in (nI i) 128 := vp_in_nI hi (by decide)
  have ci : (nI i).toNatClampNeg = i := nI_clamp (by omega)
  have e0 : z_cO Z (nI i).toNatClampNeg = 6 := by rw [ci]; exact nd.1
  have e3 : z_cN Z (nI i).toNatClampNeg = ne := by rw [ci]; exact nd.2.2.2.1
  have e4 : z_cR Z (nI i).toNatClampNeg = ot := by rw [ci]; exact nd.2.2.2.2
  refine xt_on hi nd (by decide) ok hn hc he ha ?_
  unfold wpX_stepOnName
  refine xt_opN (P := P) (Z := Z) (h := h) (F := F) (o := o) (bg := bg) (ret := ret) (pc := pc) (env := env) (vt := vt) (vd := vd) (ve := ve) hi nd ok hn hc he ha ?_
  rcases hy with ⟨y1, rfl⟩ | ⟨y1, rfl⟩
  · exact And.intro ii (nm_r e0 (br_f (by decide) (br_t rfl (br_t y1 (And.intro ii (nm_r e3 hp))))))
  · exact And.intro ii (nm_r e0 (br_f (by decide) (br_t rfl (br_f y1 (And.intro ii (nm_r e4 hp))))))
theorem xt_plus {c a a2 : Nat} (hi : i < 128) (nd : xt_ND Z i 5 3 da ne ot) (ok : xh_ok h) (hn : h_n h ≤ 1024) (hc : c < h_n h) (he : env = nI c) (ha : xh_l h c da = a) (ha2 : xh_l h c ot = a2) (hp : wpX_resumeTarget Q (xr_S P Z h F o bg ret pc env (h_T h a) (h_D h a + h_D h a2) (h_E h a))) : xt_19 Q i P Z h F o bg ret pc env vt vd ve := by
  have ii : vp_in (nI i) 128 := vp_in_nI hi (by decide)
  have ci : (nI i).toNatClampNeg = i := nI_clamp (by omega)
  have e0 : z_cO Z (nI i).toNatClampNeg = 5 := by rw [ci]; exact nd.1
  have e4 : z_cR Z (nI i).toNatClampNeg = ot := by rw [ci]; exact nd.2.2.2.2
  have l2 := xh_lle (x := ot) ok (by omega) c hc
  rw [ha2] at l2
  have i2 : vp_in (nI a2) 1024 := vp_in_nI (by omega) (by decide)
  have e5 : h_D h a + h_D h (nI a2).toNatClampNeg = h_D h a + h_D h a2 := by rw [nI_clamp (by omega)]
  refine xt_on hi nd (by decide) ok hn hc he ha ?_
  unfold wpX_stepOnName
  refine xt_opN (P := P) (Z := Z) (h := h) (F := F) (o := o) (bg := bg) (ret := ret) (pc := pc) (env := env) (vt := vt) (vd := vd) (ve := ve) hi nd ok hn hc he ha ?_
  refine And.intro ii (nm_r e0 (br_f (by decide) (br_f (by decide) (br_t rfl (And.intro ii ?_)))))
  rw [e4]
  refine xr_find (P := P) (Z := Z) (h := h) (F := F) (o := o) (bg := bg) (ret := ret) (pc := pc) (env := env) (vt := h_T h a) (vd := h_D h a) (ve := h_E h a) ok hn hc he ?_
  rw [ha2]
  exact And.intro i2 (nm_r e5 hp)
theorem xt_prt {c a m : Nat} (hi : i < 128) (nd : xt_ND Z i 7 3 da ne ot) (ok : xh_ok h) (hn : h_n h ≤ 1024) (hc : c < h_n h) (he : env = nI c) (ha : xh_l h c da = a) (hr : p_rc P < 4) (hpc : p_pc P ≤ 32) (hm : o_p o (p_rc P) = nI m) (hm2 : m < p_pc P) (hp : wpX_resumeTarget Q (xr_S P Z h F (xo_p (p_rc P) o (h_D h a)) bg ret pc env (h_T h a) (h_D h a) (h_E h a))) : xt_19 Q i P Z h F o bg ret pc env vt vd ve := by
  have ii : vp_in (nI i) 128 := vp_in_nI hi (by decide)
  have e0 : z_cO Z (nI i).toNatClampNeg = 7 := by rw [nI_clamp (by omega)]; exact nd.1
  refine xt_on hi nd (by decide) ok hn hc he ha ?_
  unfold wpX_stepOnName
  refine xt_opN (P := P) (Z := Z) (h := h) (F := F) (o := o) (bg := bg) (ret := ret) (pc := pc) (env := env) (vt := vt) (vd := vd) (ve := ve) hi nd ok hn hc he ha ?_
  refine And.intro ii (nm_r e0 (br_f (by decide) (br_f (by decide) (br_f (by decide) (br_t rfl ?_)))))
  refine xr_print (P := P) (Z := Z) (h := h) (F := F) (o := o) (bg := bg) (ret := ret) (pc := pc) (env := env) (vt := h_T h a) (vd := h_D h a) (ve := h_E h a) hr hm hm2 hpc ?_
  exact br_f (by decide) hp
theorem xt_prtF {c a : Nat} (hi : i < 128) (nd : xt_ND Z i 7 3 da ne ot) (ok : xh_ok h) (hn : h_n h ≤ 1024) (hc : c < h_n h) (he : env = nI c) (ha : xh_l h c da = a) (hr : p_rc P < 4) (hm : ¬ o_p o (p_rc P) < nI (p_pc P)) (hp : Q (xr_S P Z h F (xo_f (p_rc P) o 5 0) bg ret pc env (h_T h a) (h_D h a) (h_E h a))) : xt_19 Q i P Z h F o bg ret pc env vt vd ve := by
  have ii : vp_in (nI i) 128 := vp_in_nI hi (by decide)
  have e0 : z_cO Z (nI i).toNatClampNeg = 7 := by rw [nI_clamp (by omega)]; exact nd.1
  refine xt_on hi nd (by decide) ok hn hc he ha ?_
  unfold wpX_stepOnName
  refine xt_opN (P := P) (Z := Z) (h := h) (F := F) (o := o) (bg := bg) (ret := ret) (pc := pc) (env := env) (vt := vt) (vd := vd) (ve := ve) hi nd ok hn hc he ha ?_
  refine And.intro ii (nm_r e0 (br_f (by decide) (br_f (by decide) (br_f (by decide) (br_t rfl ?_)))))
  refine xr_printF (P := P) (Z := Z) (h := h) (F := F) (o := o) (bg := bg) (ret := ret) (pc := pc) (env := env) (vt := h_T h a) (vd := h_D h a) (ve := h_E h a) hr hm ?_
  exact br_t rfl hp
/-! returning -/
theorem xt_done1 (hr : p_rc P < 4) (hd : f_n F = 0) (hv : vt = 1) (hp : Q (xr_S P Z h F (xo_f (p_rc P) o 1 vd) bg ret pc env vt vd ve)) : wpX_resumeTarget Q (xr_S P Z h F o bg ret pc env vt vd ve) := by
  have d0 : nI (f_n F) = 0 := by rw [hd]; rfl
  exact br_t d0 (br_t hv (xr_finish hr hp))
theorem xt_done2 {l : Nat} (hr : p_rc P < 4) (hd : f_n F = 0) (hv : ¬ vt = 1) (hl : l < 32) (hvd : vd = nI (4 * l + 1)) (hp : Q (xr_S P Z h F (xo_f (p_rc P) o 2 (nI l)) bg ret pc env vt vd ve)) : wpX_resumeTarget Q (xr_S P Z h F o bg ret pc env vt vd ve) := by
  have d0 : nI (f_n F) = 0 := by rw [hd]; rfl
  have e : vd >>> ((2 : Int32) &&& 31) = nI l := by rw [hvd, xt_shr (by omega), show (4 * l + 1) / 4 = l by omega]
  rw [← e] at hp
  exact br_t d0 (br_f hv (xr_finish hr hp))
theorem xt_top {m d : Nat} (hd : f_n F = d + 1) (hd2 : d < 256) (hm : m < 128) (hC : f_C F d = nI m) : ¬ nI (f_n F) = 0 ∧ nI (f_n F) - 1 = nI (f_n (xf_d F)) ∧ vp_in (nI (f_n (xf_d F))) 256 ∧ (nI (f_n (xf_d F))).toNatClampNeg = d ∧ f_C F (nI (f_n (xf_d F))).toNatClampNeg = nI m ∧ vp_in (nI m) 128 ∧ (nI m).toNatClampNeg = m := by
  have e : f_n (xf_d F) = d := by show f_n F - 1 = d; omega
  have c : (nI (f_n (xf_d F))).toNatClampNeg = d := by rw [e]; exact nI_clamp (by omega)
  exact ⟨nI_ne0 (by omega) (by omega), by rw [hd, nI_pred, e], by rw [e]; exact vp_in_nI hd2 (by decide), c, by rw [c]; exact hC, vp_in_nI hm (by decide), nI_clamp (by omega)⟩
theorem xt_res {m d : Nat} {e2 : Int32} (hd : f_n F = d + 1) (hd2 : d < 256) (hm : m < 128) (hC : f_C F d = nI m) (hS : f_S F d = 2) (hE : f_E F d = e2) (nd : xt_ND Z m op tg da ne ot) (ht : tg = 0 ∨ tg = vt) (hn : h_n h < 1024) (hp : Q (xr_S P Z (xh_x h da vt vd ve e2) (xf_d F) o bg ret ot (nI (h_n h)) vt vd ve)) : wpX_resumeTarget Q (xr_S P Z h F o bg ret pc env vt vd ve) := by
  subst hE
  obtain ⟨a1, a2, a3, a4, a5, a6, a7⟩ := xt_top hd hd2 hm hC
  have eT : z_cT Z (nI m).toNatClampNeg = tg := by rw [a7]; exact nd.2.1
  have eD : z_cD Z (nI m).toNatClampNeg = da := by rw [a7]; exact nd.2.2.1
  have eR : z_cR Z (nI m).toNatClampNeg = ot := by rw [a7]; exact nd.2.2.2.2
  have eS : ¬ f_S F (nI (f_n (xf_d F))).toNatClampNeg = 3 := by rw [a4, hS]; decide
  have K : wX_resumeTarget_86 Q (nI m) 1 Z.1.1 Z.1.2.1 Z.1.2.2.1 Z.1.2.2.2.1 Z.1.2.2.2.2.1 Z.1.2.2.2.2.2.1 Z.1.2.2.2.2.2.2.1 Z.1.2.2.2.2.2.2.2.1 Z.1.2.2.2.2.2.2.2.2.1 Z.1.2.2.2.2.2.2.2.2.2.1 Z.1.2.2.2.2.2.2.2.2.2.2.1 Z.1.2.2.2.2.2.2.2.2.2.2.2.1 Z.1.2.2.2.2.2.2.2.2.2.2.2.2.1 Z.1.2.2.2.2.2.2.2.2.2.2.2.2.2.1 Z.1.2.2.2.2.2.2.2.2.2.2.2.2.2.2.1 Z.1.2.2.2.2.2.2.2.2.2.2.2.2.2.2.2.1 Z.1.2.2.2.2.2.2.2.2.2.2.2.2.2.2.2.2.1 Z.1.2.2.2.2.2.2.2.2.2.2.2.2.2.2.2.2.2.1 Z.1.2.2.2.2.2.2.2.2.2.2.2.2.2.2.2.2.2.2.1 Z.1.2.2.2.2.2.2.2.2.2.2.2.2.2.2.2.2.2.2.2.1 Z.1.2.2.2.2.2.2.2.2.2.2.2.2.2.2.2.2.2.2.2.2.1 Z.1.2.2.2.2.2.2.2.2.2.2.2.2.2.2.2.2.2.2.2.2.2.1 (nI (p_bu P)) (nI (p_pc P)) Z.1.2.2.2.2.2.2.2.2.2.2.2.2.2.2.2.2.2.2.2.2.2.2.1 Z.1.2.2.2.2.2.2.2.2.2.2.2.2.2.2.2.2.2.2.2.2.2.2.2 (nI (h_n h)) (nI (f_n (xf_d F))) (nI (p_rc P)) (yv_p1 P) ret (nI bg) pc env vt vd ve (p_kd P) (p_ag P) (z_pa Z) (z_pb Z) (z_pc Z) (p_fr P) (z_st Z) (o_s o) (o_v o) (o_p o) (o_l o) (z_cO Z) (z_cT Z) (z_cD Z) (z_cN Z) (z_cR Z) (h_N h) (h_T h) (h_D h) (h_E h) (h_O h) (f_S F) (f_C F) (f_E F) (f_T F) (f_D F) (f_V F) := by
    refine And.intro a3 (br_f eS (br_f (by decide) (And.intro a3 (And.intro a6 ?_))))
    rw [eD, a4]
    exact xr_extend (F := xf_d F) hn (And.intro a6 (nm_r eR hp))
  refine br_f a1 (nm_r a2 (And.intro a3 (nm_r a5 (And.intro a6 (br_c (fun _ => K) (fun z => And.intro a6 (br_t ?_ K)))))))
  rw [eT] at z ⊢
  exact ht.resolve_left z
theorem xt_resS {m d t : Nat} (hr : p_rc P < 4) (hd : f_n F = d + 1) (hd2 : d < 256) (hm : m < 128) (hC : f_C F d = nI m) (nd : xt_ND Z m op tg da ne ot) (hs : f_S F d = 3 ∨ (¬ tg = 0 ∧ ¬ tg = vt)) (et : m / 4 = t) (hp : Q (xr_S P Z h (xf_d F) (xo_f (p_rc P) o 3 (nI t)) bg ret pc env vt vd ve)) : wpX_resumeTarget Q (xr_S P Z h F o bg ret pc env vt vd ve) := by
  obtain ⟨a1, a2, a3, a4, a5, a6, a7⟩ := xt_top hd hd2 hm hC
  have eT : z_cT Z (nI m).toNatClampNeg = tg := by rw [a7]; exact nd.2.1
  have e : nI m >>> ((2 : Int32) &&& 31) = nI t := by rw [xt_shr (by omega), et]
  rw [← e] at hp
  have K4 : wX_resumeTarget_104 Q (nI m) Z.1.1 Z.1.2.1 Z.1.2.2.1 Z.1.2.2.2.1 Z.1.2.2.2.2.1 Z.1.2.2.2.2.2.1 Z.1.2.2.2.2.2.2.1 Z.1.2.2.2.2.2.2.2.1 Z.1.2.2.2.2.2.2.2.2.1 Z.1.2.2.2.2.2.2.2.2.2.1 Z.1.2.2.2.2.2.2.2.2.2.2.1 Z.1.2.2.2.2.2.2.2.2.2.2.2.1 Z.1.2.2.2.2.2.2.2.2.2.2.2.2.1 Z.1.2.2.2.2.2.2.2.2.2.2.2.2.2.1 Z.1.2.2.2.2.2.2.2.2.2.2.2.2.2.2.1 Z.1.2.2.2.2.2.2.2.2.2.2.2.2.2.2.2.1 Z.1.2.2.2.2.2.2.2.2.2.2.2.2.2.2.2.2.1 Z.1.2.2.2.2.2.2.2.2.2.2.2.2.2.2.2.2.2.1 Z.1.2.2.2.2.2.2.2.2.2.2.2.2.2.2.2.2.2.2.1 Z.1.2.2.2.2.2.2.2.2.2.2.2.2.2.2.2.2.2.2.2.1 Z.1.2.2.2.2.2.2.2.2.2.2.2.2.2.2.2.2.2.2.2.2.1 Z.1.2.2.2.2.2.2.2.2.2.2.2.2.2.2.2.2.2.2.2.2.2.1 (nI (p_bu P)) (nI (p_pc P)) Z.1.2.2.2.2.2.2.2.2.2.2.2.2.2.2.2.2.2.2.2.2.2.2.1 Z.1.2.2.2.2.2.2.2.2.2.2.2.2.2.2.2.2.2.2.2.2.2.2.2 (nI (h_n h)) (nI (f_n (xf_d F))) (nI (p_rc P)) (yv_p1 P) ret (nI bg) pc env vt vd ve (p_kd P) (p_ag P) (z_pa Z) (z_pb Z) (z_pc Z) (p_fr P) (z_st Z) (o_s o) (o_v o) (o_p o) (o_l o) (z_cO Z) (z_cT Z) (z_cD Z) (z_cN Z) (z_cR Z) (h_N h) (h_T h) (h_D h) (h_E h) (h_O h) (f_S F) (f_C F) (f_E F) (f_T F) (f_D F) (f_V F) := by
    unfold wX_resumeTarget_104
    exact xr_finish (F := xf_d F) hr hp
  have K : ∀ z0 : Int32, (z0 = 0 ∨ f_S F d = 3) → wX_resumeTarget_86 Q (nI m) z0 Z.1.1 Z.1.2.1 Z.1.2.2.1 Z.1.2.2.2.1 Z.1.2.2.2.2.1 Z.1.2.2.2.2.2.1 Z.1.2.2.2.2.2.2.1 Z.1.2.2.2.2.2.2.2.1 Z.1.2.2.2.2.2.2.2.2.1 Z.1.2.2.2.2.2.2.2.2.2.1 Z.1.2.2.2.2.2.2.2.2.2.2.1 Z.1.2.2.2.2.2.2.2.2.2.2.2.1 Z.1.2.2.2.2.2.2.2.2.2.2.2.2.1 Z.1.2.2.2.2.2.2.2.2.2.2.2.2.2.1 Z.1.2.2.2.2.2.2.2.2.2.2.2.2.2.2.1 Z.1.2.2.2.2.2.2.2.2.2.2.2.2.2.2.2.1 Z.1.2.2.2.2.2.2.2.2.2.2.2.2.2.2.2.2.1 Z.1.2.2.2.2.2.2.2.2.2.2.2.2.2.2.2.2.2.1 Z.1.2.2.2.2.2.2.2.2.2.2.2.2.2.2.2.2.2.2.1 Z.1.2.2.2.2.2.2.2.2.2.2.2.2.2.2.2.2.2.2.2.1 Z.1.2.2.2.2.2.2.2.2.2.2.2.2.2.2.2.2.2.2.2.2.1 Z.1.2.2.2.2.2.2.2.2.2.2.2.2.2.2.2.2.2.2.2.2.2.1 (nI (p_bu P)) (nI (p_pc P)) Z.1.2.2.2.2.2.2.2.2.2.2.2.2.2.2.2.2.2.2.2.2.2.2.1 Z.1.2.2.2.2.2.2.2.2.2.2.2.2.2.2.2.2.2.2.2.2.2.2.2 (nI (h_n h)) (nI (f_n (xf_d F))) (nI (p_rc P)) (yv_p1 P) ret (nI bg) pc env vt vd ve (p_kd P) (p_ag P) (z_pa Z) (z_pb Z) (z_pc Z) (p_fr P) (z_st Z) (o_s o) (o_v o) (o_p o) (o_l o) (z_cO Z) (z_cT Z) (z_cD Z) (z_cN Z) (z_cR Z) (h_N h) (h_T h) (h_D h) (h_E h) (h_O h) (f_S F) (f_C F) (f_E F) (f_T F) (f_D F) (f_V F) := by
    intro z0 hz
    refine And.intro a3 (br_c (fun _ => K4) (fun q => ?_))
    rw [a4] at q
    exact br_t (hz.resolve_right q) K4
  refine br_f a1 (nm_r a2 (And.intro a3 (nm_r a5 (And.intro a6 (br_c (fun z => ?_) (fun z => And.intro a6 (br_c (fun y => ?_) (fun y => ?_))))))))
  · rw [eT] at z
    exact K 1 (Or.inr (hs.resolve_right (fun q => q.1 z)))
  · rw [eT] at y
    exact K 1 (Or.inr (hs.resolve_right (fun q => q.2 y)))
  · exact K 0 (Or.inl rfl)
/-! a function takes its argument -/
theorem xt_take0 {l : Nat} (hr : p_rc P < 4) (hl : l < 32) (hd : f_n F = 0) (hp : Q (xr_S P Z h F (xo_f (p_rc P) o 2 (nI l)) bg ret pc env vt vd ve)) : wpX_takeArgument Q (xr_S P Z h F o bg ret pc env vt vd ve) (nI (4 * l)) := by
  have d0 : nI (f_n F) = 0 := by rw [hd]; rfl
  have e : nI (4 * l) >>> ((2 : Int32) &&& 31) = nI l := by rw [xt_shr (by omega), show 4 * l / 4 = l by omega]
  rw [← e] at hp
  exact br_t d0 (xr_finish hr hp)
theorem xt_takeS {m d t : Nat} (hr : p_rc P < 4) (hd : f_n F = d + 1) (hd2 : d < 256) (hm : m < 128) (hC : f_C F d = nI m) (hS : ¬ f_S F d = 3) (et : m / 4 = t) (hp : Q (xr_S P Z h (xf_d F) (xo_f (p_rc P) o 3 (nI t)) bg ret pc env vt vd ve)) : wpX_takeArgument Q (xr_S P Z h F o bg ret pc env vt vd ve) (nI i) := by
  obtain ⟨a1, a2, a3, a4, a5, a6, a7⟩ := xt_top hd hd2 hm hC
  have eS : ¬ f_S F (nI (f_n (xf_d F))).toNatClampNeg = 3 := by rw [a4]; exact hS
  have e : nI m >>> ((2 : Int32) &&& 31) = nI t := by rw [xt_shr (by omega), et]
  rw [← e] at hp
  refine br_f a1 (nm_r a2 (And.intro a3 (br_f eS (And.intro a3 ?_))))
  rw [a5]
  exact xr_finish (F := xf_d F) hr hp
theorem xt_take {d : Nat} {tt td tv : Int32} (hi : i < 128) (nd : xt_ND Z i op tg da ne ot) (hd : f_n F = d + 1) (hd2 : d < 256) (hS : f_S F d = 3) (hT : f_T F d = tt) (hD : f_D F d = td) (hV : f_V F d = tv) (hn : h_n h < 1024) (hp : Q (xr_S P Z (xh_x h da tt td tv env) (xf_d F) o bg ret ne (nI (h_n h)) tt td tv)) : wpX_takeArgument Q (xr_S P Z h F o bg ret pc env vt vd ve) (nI i) := by
  have e : f_n (xf_d F) = d := by show f_n F - 1 = d; omega
  have c : (nI (f_n (xf_d F))).toNatClampNeg = d := by rw [e]; exact nI_clamp (by omega)
  have a1 : ¬ nI (f_n F) = 0 := nI_ne0 (by omega) (by omega)
  have a2 : nI (f_n F) - 1 = nI (f_n (xf_d F)) := by rw [hd, nI_pred, e]
  have a3 : vp_in (nI (f_n (xf_d F))) 256 := by rw [e]; exact vp_in_nI hd2 (by decide)
  have ii : vp_in (nI i) 128 := vp_in_nI hi (by decide)
  have ci : (nI i).toNatClampNeg = i := nI_clamp (by omega)
  have eS : f_S F (nI (f_n (xf_d F))).toNatClampNeg = 3 := by rw [c]; exact hS
  have eT : f_T F (nI (f_n (xf_d F))).toNatClampNeg = tt := by rw [c]; exact hT
  have eDD : f_D F (nI (f_n (xf_d F))).toNatClampNeg = td := by rw [c]; exact hD
  have eV : f_V F (nI (f_n (xf_d F))).toNatClampNeg = tv := by rw [c]; exact hV
  have eN : z_cN Z (nI i).toNatClampNeg = ne := by rw [ci]; exact nd.2.2.2.1
  have eD : z_cD Z (nI i).toNatClampNeg = da := by rw [ci]; exact nd.2.2.1
  refine br_f a1 (nm_r a2 (And.intro a3 (br_t eS (And.intro a3 (And.intro a3 (And.intro a3 ?_))))))
  rw [eT, eDD, eV]
  refine And.intro ii ?_
  show wpX_extend _ (xr_S P Z h (xf_d F) o bg ret pc env tt td tv) env (z_cD Z (nI i).toNatClampNeg)
  rw [eD]
  exact xr_extend hn (And.intro ii (nm_r eN hp))
end
end
section
/-! TARGET does what the evaluator says: the frame of the proof -/
def xt_cF : Nat → Nat := fun l => 4 * l + 1
def xt_cT : Nat → Nat := fun p => 4 * p
/-- the code of the term at t -/
def xt_CS (P : gP) (Z : xZ) (t : Nat) : Prop :=
  (p_kd P t = 0 → xt_ND Z (4 * t) 0 1 (p_ag P t) 0 0) ∧
  (p_kd P t = 4 → xt_ND Z (4 * t) 1 1 9 (nI (4 * (p_T P t - 1))) (nI (4 * t + 1)) ∧ xt_ND Z (4 * t + 1) 1 1 10 (nI (4 * (t - 1))) (nI (4 * t + 2)) ∧ xt_ND Z (4 * t + 2) 5 3 9 0 10) ∧
  (p_kd P t = 5 → xt_ND Z (4 * t) 1 1 9 (nI (4 * (p_T P (p_T P t) - 1))) (nI (4 * t + 1)) ∧ xt_ND Z (4 * t + 1) 6 3 9 (nI (4 * (p_T P t - 1))) (nI (4 * (t - 1)))) ∧
  (p_kd P t = 6 → xt_ND Z (4 * t) 1 1 9 (nI (4 * (t - 1))) (nI (4 * t + 1)) ∧ xt_ND Z (4 * t + 1) 7 3 9 0 0)
def xt_CV (P : gP) (Z : xZ) (t : Nat) : Prop :=
  (p_kd P t = 1 → xt_ND Z (4 * t) 0 3 (p_ag P t) 0 0) ∧
  (p_kd P t = 2 → xt_ND Z (4 * t) 0 2 (nI (4 * t + 1)) 0 0 ∧ xt_ND Z (4 * t + 1) 2 0 (p_ag P t) (nI (4 * (t - 1))) 0) ∧
  (p_kd P t = 7 → xt_ND Z (4 * t) 1 0 (p_ag P t) (nI (4 * (p_T P t - 1))) (nI (4 * (t - 1)))) ∧
  (p_kd P t = 3 → xt_ND Z (4 * t) 1 2 8 (nI (4 * (p_T P t - 1))) (nI (4 * t + 1)) ∧ xt_ND Z (4 * t + 1) 1 0 9 (nI (4 * (t - 1))) (nI (4 * t + 2)) ∧ xt_ND Z (4 * t + 2) 3 3 9 (nI (4 * t + 3)) 0 ∧ xt_ND Z (4 * t + 3) 4 3 8 0 0)
def xt_CN (P : gP) (Z : xZ) (t : Nat) : Prop :=
  (p_kd P t = 1 → xt_ND Z (4 * t) 4 3 (p_ag P t) 0 0) ∧
  (p_kd P t = 2 → xt_ND Z (4 * t) 2 0 (p_ag P t) (nI (4 * (t - 1))) 0) ∧
  (p_kd P t = 7 → xt_ND Z (4 * t) 3 2 (nI (4 * (p_T P t - 1))) (nI (4 * t + 1)) 0 ∧ xt_ND Z (4 * t + 1) 2 0 (p_ag P t) (nI (4 * (t - 1))) 0) ∧
  (p_kd P t = 3 → xt_ND Z (4 * t) 3 2 (nI (4 * (t - 1))) (nI (4 * (p_T P t - 1))) 0)
def xt_H (P : gP) (Z : xZ) (os : Nat → Int32) : Prop := xx_H P Z os ∧ ∀ t, t < p_cn P → xt_CS P Z t ∧ (p_bn P = false → xt_CV P Z t) ∧ (p_bn P = true → xt_CN P Z t)
def xt_TR (P : gP) (Z : xZ) (os ov : Nat → Int32) (s : gS) (k : Nat) (h : xH) (F : xF) (ret pc env vt vd ve : Int32) (post : Int32 → SX → Prop) : Prop := wpX_resumeTarget (xr_L post 1 (nI (p_rc P)) k) (xr_S P Z h F (xo_s os ov s) (gs_n s) ret pc env vt vd ve)
def xt_TA (P : gP) (Z : xZ) (os ov : Nat → Int32) (s : gS) (k : Nat) (h : xH) (F : xF) (ret pc env vt vd ve : Int32) (i : Nat) (post : Int32 → SX → Prop) : Prop := wpX_takeArgument (xr_L post 1 (nI (p_rc P)) k) (xr_S P Z h F (xo_s os ov s) (gs_n s) ret pc env vt vd ve) (nI i)
/-- row q's value is returned: a number; a function -/
def xt_RI (P : gP) (Z : xZ) (os ov : Nat → Int32) (s : gS) (q k : Nat) (h : xH) (F : xF) (A : (Int32 → SX → Prop) → Prop) : Prop := ∃ ret pc env ve, ∀ post, xt_TR P Z os ov s k h F ret pc env 1 (gs_nm s q) ve post → A post
def xt_RF (P : gP) (Z : xZ) (os ov : Nat → Int32) (s : gS) (q k : Nat) (h : xH) (b : Nat → Nat) (F : xF) (A : (Int32 → SX → Prop) → Prop) : Prop := ∃ hh l c, gs_fun P s q hh l ∧ xh_ER P s h b c hh ∧ (p_bn P = false → ∃ ret pc env, ∀ post, xt_TR P Z os ov s k h F ret pc env 2 (nI (4 * l + 1)) (nI c) post → A post) ∧ (p_bn P = true → ∃ ret pc vt vd ve, ∀ post, xt_TA P Z os ov s k h F ret pc (nI c) vt vd ve (4 * l) post → A post)
def xt_RT (P : gP) (Z : xZ) (os ov : Nat → Int32) (s : gS) (q k : Nat) (h : xH) (b : Nat → Nat) (F : xF) (A : (Int32 → SX → Prop) → Prop) : Prop := (gs_fn s q = 0 ∧ xt_RI P Z os ov s q k h F A) ∨ (gs_fn s q ≠ 0 ∧ xt_RF P Z os ov s q k h b F A)
def xt_OUT (P : gP) (Z : xZ) (os ov : Nat → Int32) (s : gS) (r : Nat) (h : xH) (b : Nat → Nat) (F : xF) (k : Nat) (A : (Int32 → SX → Prop) → Prop) (oo : Option (Int32 × Int32)) (s' : gS) : Prop :=
  (oo = none → ∃ h' b' F' k', xh_GR s h b s' h' b' ∧ xh_XI P xt_cF xt_cT s' h' b' ∧ xf_EQ F F' ∧ h_n h' + 3 * r ≤ h_n h + 3 * gs_n s' ∧ k' + 8 * r ≤ k + 8 * gs_n s' ∧ xt_RT P Z os ov s' r k' h' b' F' A) ∧ xx_ST 1 P Z os ov A oo s'
def xt_IH (P : gP) (Z : xZ) (os ov : Nat → Int32) (f : Nat) : Prop := ∀ t e x b0 s h b F k c ret vt vd ve, gs_WF P s → gs_PK P s → gs_EN P s t e x b0 → p_bu P ≤ gs_n s + f → xh_XI P xt_cF xt_cT s h b → xh_ER P (gs_begin s t e x b0) h b c (gs_n s) → h_n h ≤ 3 * gs_n s + 1 → f_n F ≤ gs_n s → k ≤ 8 * gs_n s →
  ∀ oo s', gs_go P f t e x b0 s = (oo, s') → xt_OUT P Z os ov s (gs_n s) h b F k (xx_at 1 P Z os ov s k h F (gs_n s) ret (nI (4 * t)) (nI c) vt vd ve) oo s'
def xt_ent (P : gP) (f : Nat) (s1 : gS) (r t : Nat) (h : xH) (b : Nat → Nat) (F : xF) (k c : Nat) : Prop := gs_BP P s1 r t ∧ r < p_bu P ∧ p_bu P ≤ r + 1 + f ∧ xh_XI P xt_cF xt_cT s1 h b ∧ xh_ER P s1 h b c r ∧ h_n h ≤ 3 * r + 1 ∧ f_n F ≤ r ∧ k ≤ 8 * r
section
variable {P : gP} {Z : xZ} {os ov : Nat → Int32} {f r t k c : Nat} {s1 s' : gS} {h : xH} {b : Nat → Nat} {F : xF} {ret vt vd ve : Int32} {oo : Option (Int32 × Int32)}
theorem xt_RTc {s : gS} {q k : Nat} {A A' : (Int32 → SX → Prop) → Prop} (R : xt_RT P Z os ov s q k h b F A) (i : ∀ post, A post → A' post) : xt_RT P Z os ov s q k h b F A' := by
  rcases R with ⟨a, ret, pc, env, ve, R⟩ | ⟨a, hh, l, c, f1, f2, f3, f4⟩
  · exact Or.inl ⟨a, ret, pc, env, ve, fun post hp => i post (R post hp)⟩
  · refine Or.inr ⟨a, hh, l, c, f1, f2, fun e => ?_, fun e => ?_⟩
    · obtain ⟨ret, pc, env, R⟩ := f3 e
      exact ⟨ret, pc, env, fun post hp => i post (R post hp)⟩
    · obtain ⟨ret, pc, vt, vd, ve, R⟩ := f4 e
      exact ⟨ret, pc, vt, vd, ve, fun post hp => i post (R post hp)⟩
theorem xt_RTsame {s : gS} {q k : Nat} {A : (Int32 → SX → Prop) → Prop} (ok : xh_ok h) (hn : h_n h < 2 ^ 31) (hd : gs_dn s r ≠ 1) (R : xt_RT P Z os ov s q k h b F A) : xt_RT P Z os ov (gs_same s r q) r k h b F A := by
  have G : gs_GR s (gs_same s r q) := gs_giveGR hd
  have e1 : gs_fn (gs_same s r q) r = gs_fn s q := pk_us
  have e2 : gs_nm (gs_same s r q) r = gs_nm s q := pk_us
  have e3 : gs_hm (gs_same s r q) r = gs_hm s q := pk_us
  unfold xt_RT xt_RI xt_RF gs_fun
  rw [e1, e2, e3]
  rcases R with ⟨a, R⟩ | ⟨a, hh, l, c, ⟨f1, f2, f3, f4, f5, f6, f7⟩, g2, g3, g4⟩
  · exact Or.inl ⟨a, R⟩
  · exact Or.inr ⟨a, hh, l, c, ⟨f1, f2, f3, f4, f5, f6, f7⟩, xh_ERm ok hn (xh_GRs G) f2 g2, g3, g4⟩
/-- by value: the value register stands for the row -/
theorem xt_RTV {s : gS} {q k : Nat} {A : (Int32 → SX → Prop) → Prop} (hb : p_bn P = false) (R : xt_RT P Z os ov s q k h b F A) : ∃ ret pc env wt wd we, xh_RV P xt_cF s h b wt wd we q ∧ ∀ post, xt_TR P Z os ov s k h F ret pc env wt wd we post → A post := by
  rcases R with ⟨a, ret, pc, env, ve, R⟩ | ⟨a, hh, l, c, ⟨f1, f2, f3, f4, f5, f6, f7⟩, g2, g3, g4⟩
  · exact ⟨ret, pc, env, 1, gs_nm s q, ve, Or.inl ⟨a, rfl, rfl⟩, R⟩
  · obtain ⟨ret, pc, env, R⟩ := g3 hb
    refine ⟨ret, pc, env, 2, nI (4 * l + 1), nI c, Or.inr ⟨a, rfl, hh, c, f3, f2, ?_, ?_, ?_, rfl, g2⟩, R⟩
    · rw [f5]; exact f4
    · rw [f5]; exact f7
    · rw [f5]; rfl
theorem xt_stp {A A2 : (Int32 → SX → Prop) → Prop} {o2 : Option (Int32 × Int32)} {e : Int32 × Int32} {s2 : gS} (c1 : o2 = some e) (R : xx_ST 1 P Z os ov A2 o2 s2) (i : ∀ post, A2 post → A post) : xt_OUT P Z os ov s1 r h b F k A (some e) s2 := by
  subst c1
  exact ⟨(fun z => nomatch z), xx_STc R i⟩
theorem xt_fsame {sk : gS} {hk : xH} {bk : Nat → Nat} {Fk : xF} {kk q : Nat} {A : (Int32 → SX → Prop) → Prop} (bp : gs_BP P s1 r t) (A0 : gs_A0 P s1 sk) (G : xh_GR s1 h b sk hk bk) (X : xh_XI P xt_cF xt_cT sk hk bk) (hn : h_n hk < 2 ^ 31) (e1 : xf_EQ F Fk) (e2 : h_n hk + 3 * r ≤ h_n h + 3 * gs_n sk) (e3 : kk + 8 * r ≤ k + 8 * gs_n sk) (V : xt_RT P Z os ov sk q kk hk bk Fk A) : xt_OUT P Z os ov s1 r h b F k A none (gs_same sk r q) := by
  have dr : gs_dn sk r ≠ 1 := by rw [(gs_ACk bp A0).2.2.2.2]; decide
  have Gs : gs_GR sk (gs_same sk r q) := gs_giveGR dr
  exact ⟨fun _ => ⟨hk, bk, Fk, kk, xh_GRt G (xh_GRs Gs), xh_XIs hn Gs X, e1, e2, e3, xt_RTsame X.1 hn dr V⟩, xx_STn⟩
/-- the last part -/
theorem xt_tail {sk sn : gS} {hk : xH} {bk : Nat → Nat} {Fk : xF} {kk t' e' c' : Nat} {x' b0 : Int32} {A : (Int32 → SX → Prop) → Prop} {rt wt wd we : Int32} {o2 : Option (Int32 × Int32)} (H : xt_H P Z os) (ih : xt_IH P Z os ov f) (N : xt_ent P f s1 r t h b F k c) (A2 : gs_A0 P s1 sk) (G : xh_GR s1 h b sk hk bk) (X : xh_XI P xt_cF xt_cT sk hk bk) (e1 : xf_EQ F Fk) (e2 : h_n hk + 3 * r ≤ h_n h + 3 * gs_n sk) (e3 : kk + 8 * r ≤ k + 8 * gs_n sk) (en : gs_EN P sk t' e' x' b0) (E : xh_ER P (gs_begin sk t' e' x' b0) hk bk c' (gs_n sk)) (go : gs_go P f t' e' x' b0 sk = (o2, sn))
    (S : ∀ post, xx_at 1 P Z os ov sk kk hk Fk (gs_n sk) rt (nI (4 * t')) (nI c') wt wd we post → A post) : (∀ e, o2 = some e → xt_OUT P Z os ov s1 r h b F k A (some e) sn) ∧ (o2 = none → xt_OUT P Z os ov s1 r h b F k A none (gs_same sn r (gs_n sk))) := by
  have g := xx_PG H.1
  obtain ⟨bp, hlt, hf, X0, E0, hb, hF, hkk⟩ := N
  have n1 := bp.2.2.1
  have le := A2.1.1
  have eF := e1.1
  obtain ⟨R1, R2⟩ := ih t' e' x' b0 sk hk bk Fk kk c' rt wt wd we A2.2.2.1 A2.2.1 en (by omega) X E (by omega) (by omega) (by omega) o2 sn go
  refine ⟨fun e eo => xt_stp eo R2 S, fun eo => ?_⟩
  obtain ⟨h', b', F', k', q1, q2, q3, q4, q5, q6⟩ := R1 eo
  obtain ⟨A3, lt3⟩ := (gs_ok g f _ _ _ _ _ A2.2.2.1 A2.2.1 en _ _ go).2.2 eo
  have bu := A3.2.2.1.1
  have hbu := H.1.2.2.1
  exact xt_fsame bp (gs_A0t A2 A3) (xh_GRt G q1) q2 (by omega) (xf_EQt e1 q3) (by omega) (by omega) (xt_RTc q6 S)
/-- a part behind a frame -/
theorem xt_call {sk s2 : gS} {hk : xH} {bk : Nat → Nat} {Fk : xF} {kk t' e' c' : Nat} {x' b0 : Int32} {A : (Int32 → SX → Prop) → Prop} {rt wt wd we sg co fe ft fd fv : Int32} {o2 : Option (Int32 × Int32)} (H : xt_H P Z os) (ih : xt_IH P Z os ov f) (N : xt_ent P f s1 r t h b F k c) (A2 : gs_A0 P s1 sk) (G : xh_GR s1 h b sk hk bk) (X : xh_XI P xt_cF xt_cT sk hk bk) (e1 : xf_EQ F Fk) (e2 : h_n hk + 3 * r ≤ h_n h + 3 * gs_n sk) (e3 : kk + 8 * r ≤ k + 8 * gs_n sk) (en : gs_EN P sk t' e' x' b0) (E : xh_ER P (gs_begin sk t' e' x' b0) hk bk c' (gs_n sk)) (go : gs_go P f t' e' x' b0 sk = (o2, s2))
    (S : ∀ post, xx_at 1 P Z os ov sk kk hk (xf_p Fk sg co fe ft fd fv) (gs_n sk) rt (nI (4 * t')) (nI c') wt wd we post → A post) :
    xx_ST 1 P Z os ov A o2 s2 ∧ (o2 = none → ∃ h2 b2 F2 k2, xh_GR sk hk bk s2 h2 b2 ∧ xh_GR s1 h b s2 h2 b2 ∧ gs_A0 P s1 s2 ∧ gs_n sk < gs_n s2 ∧ xh_XI P xt_cF xt_cT s2 h2 b2 ∧ f_n F2 = f_n F + 1 ∧ xf_EQ F (xf_d F2) ∧ f_S F2 (f_n F) = sg ∧ f_C F2 (f_n F) = co ∧ f_E F2 (f_n F) = fe ∧ f_T F2 (f_n F) = ft ∧ f_D F2 (f_n F) = fd ∧ f_V F2 (f_n F) = fv ∧ h_n h2 + 3 * gs_n sk ≤ h_n hk + 3 * gs_n s2 ∧ k2 + 8 * gs_n sk ≤ kk + 8 * gs_n s2 ∧ gs_n s2 ≤ 240 ∧ h_n h2 ≤ 800 ∧ k2 ≤ 2000 ∧ xt_RT P Z os ov s2 (gs_n sk) k2 h2 b2 F2 A) := by
  have g := xx_PG H.1
  obtain ⟨bp, hlt, hf, X0, E0, hb, hF, hkk⟩ := N
  have n1 := bp.2.2.1
  have le := A2.1.1
  have eF := e1.1
  have nF : f_n (xf_p Fk sg co fe ft fd fv) = f_n Fk + 1 := rfl
  obtain ⟨R1, R2⟩ := ih t' e' x' b0 sk hk bk (xf_p Fk sg co fe ft fd fv) kk c' rt wt wd we A2.2.2.1 A2.2.1 en (by omega) X E (by omega) (by omega) (by omega) o2 s2 go
  refine ⟨xx_STc R2 S, fun eo => ?_⟩
  obtain ⟨h', b', F', k', q1, q2, q3, q4, q5, q6⟩ := R1 eo
  obtain ⟨A3, lt3⟩ := (gs_ok g f _ _ _ _ _ A2.2.2.1 A2.2.1 en _ _ go).2.2 eo
  obtain ⟨p1, p2, p3, p4, p5, p6, p7, p8⟩ := xf_pop q3
  rw [eF] at p1 p3 p4 p5 p6 p7 p8
  have bu := A3.2.2.1.1
  have hbu := H.1.2.2.1
  exact ⟨h', b', F', k', q1, xh_GRt G q1, gs_A0t A2 A3, lt3, q2, p1, xf_EQt e1 p2, p3, p4, p5, p6, p7, p8, q4, q5, by omega, by omega, by omega, xt_RTc q6 S⟩
/-- a number comes to a frame that wants one: it is bound -/
theorem xt_resI {s2 : gS} {q k2 m d : Nat} {h2 : xH} {F2 : xF} {A : (Int32 → SX → Prop) → Prop} {op tg da ne ot e2 : Int32} (R : xt_RI P Z os ov s2 q k2 h2 F2 A) (hd : f_n F2 = d + 1) (hd2 : d < 256) (hm : m < 128) (hC : f_C F2 d = nI m) (hS : f_S F2 d = 2) (hE : f_E F2 d = e2) (nd : xt_ND Z m op tg da ne ot) (ht : tg = 0 ∨ tg = 1) (hn : h_n h2 < 1024) :
    ∃ rt we, ∀ post, xx_at 1 P Z os ov s2 k2 (xh_x h2 da 1 (gs_nm s2 q) we e2) (xf_d F2) (gs_n s2) rt ot (nI (h_n h2)) 1 (gs_nm s2 q) we post → A post := by
  obtain ⟨rt, pc, env, we, R⟩ := R
  exact ⟨rt, we, fun post hp => R post (xt_res hd hd2 hm hC hS hE nd ht hn hp)⟩
/-- a function comes to a frame that wants a number -/
theorem xt_stF {s2 : gS} {q k2 m d : Nat} {h2 : xH} {b2 : Nat → Nat} {F2 : xF} {A : (Int32 → SX → Prop) → Prop} {op da ne ot : Int32} (hr : p_rc P < 4) (hk : k2 ≤ 4096) (R : xt_RF P Z os ov s2 q k2 h2 b2 F2 A) (hd : f_n F2 = d + 1) (hd2 : d < 256) (hm : m < 128) (hC : f_C F2 d = nI m) (hS : f_S F2 d = 2) (nd : xt_ND Z m op 1 da ne ot) (et : m / 4 = t) : xx_ST 1 P Z os ov A (some (3, nI t)) s2 := by
  obtain ⟨hh, l, c, f1, f2, f3, f4⟩ := R
  by_cases hb : p_bn P = true
  · obtain ⟨rt, pc, wt, wd, we, R⟩ := f4 hb
    exact xx_ST1 (h' := h2) (F' := xf_d F2) (k' := k2) (bg := gs_n s2) (ret := rt) (pc := pc) (env := nI c) (vt := wt) (vd := wd) (ve := we) hk (fun post hp => R post (xt_takeS hr hd hd2 hm hC (by rw [hS]; decide) et hp))
  · obtain ⟨rt, pc, env, R⟩ := f3 (Bool.eq_false_iff.mpr hb)
    exact xx_ST1 (h' := h2) (F' := xf_d F2) (k' := k2) (bg := gs_n s2) (ret := rt) (pc := pc) (env := env) (vt := 2) (vd := nI (4 * l + 1)) (ve := nI c) hk (fun post hp => R post (xt_resS hr hd hd2 hm hC nd (Or.inr ⟨by decide, by decide⟩) et hp))
/-- a number comes to a frame that wants a function -/
theorem xt_stI {s2 : gS} {q k2 m d : Nat} {h2 : xH} {F2 : xF} {A : (Int32 → SX → Prop) → Prop} {op tg da ne ot : Int32} (hr : p_rc P < 4) (hk : k2 ≤ 4096) (R : xt_RI P Z os ov s2 q k2 h2 F2 A) (hd : f_n F2 = d + 1) (hd2 : d < 256) (hm : m < 128) (hC : f_C F2 d = nI m) (nd : xt_ND Z m op tg da ne ot) (hs : f_S F2 d = 3 ∨ tg = 2) (et : m / 4 = t) : xx_ST 1 P Z os ov A (some (3, nI t)) s2 := by
  obtain ⟨rt, pc, env, we, R⟩ := R
  exact xx_ST1 (h' := h2) (F' := xf_d F2) (k' := k2) (bg := gs_n s2) (ret := rt) (pc := pc) (env := env) (vt := 1) (vd := gs_nm s2 q) (ve := we) hk (fun post hp => R post (xt_resS hr hd hd2 hm hC nd (hs.imp_right (fun z => by rw [z]; exact ⟨by decide, by decide⟩)) et hp))
/-- the translation's own names -/
theorem xt_own {s2 : gS} {h2 : xH} {b2 : Nat → Nat} {c2 m : Nat} {nm tg da en : Int32} (X : xh_XI P xt_cF xt_cT s2 h2 b2) (hn : h_n h2 + 1 < 2 ^ 31) (E : xh_ER P s2 h2 b2 c2 r) (hm : 8 ≤ m) (hm2 : m < 100) (e0 : nm = nI m) :
    xh_XI P xt_cF xt_cT s2 (xh_x h2 nm tg da en (nI c2)) (xh_b b2 (h_n h2) 0) ∧ xh_ER P s2 (xh_x h2 nm tg da en (nI c2)) (xh_b b2 (h_n h2) 0) (h_n h2) r ∧ xh_GR s2 h2 b2 s2 (xh_x h2 nm tg da en (nI c2)) (xh_b b2 (h_n h2) 0) := by
  refine ⟨xh_xXI X hn E.1 rfl (fun y hy e => ?_), xh_ERn X.1 hn hm hm2 e0 rfl E, ⟨gs_GRr, xh_xHG⟩⟩
  rw [e0] at e
  exact absurd ((nI_eq (by omega) (by omega)).mp e) (by omega)
theorem xt_l9 {h2 : xH} {c2 : Nat} {nm tg da en : Int32} (ok : xh_ok h2) (hn : h_n h2 + 1 < 2 ^ 31) (hc : c2 < h_n h2) : xh_l (xh_x h2 nm tg da en (nI c2)) (h_n h2) nm = h_n h2 := by
  rw [xh_xl ok hn hc rfl, if_pos rfl]
end
end
section
/-! TARGET: the kinds that both disciplines translate alike -/
section
variable {P : gP} {Z : xZ} {os ov : Nat → Int32} {f r t k c : Nat} {s1 s' : gS} {h : xH} {b : Nat → Nat} {F : xF} {ret vt vd ve : Int32} {oo : Option (Int32 × Int32)}
theorem xt_k0 (H : xt_H P Z os) (ih : xt_IH P Z os ov f) (N : xt_ent P f s1 r t h b F k c) (hk : p_kd P t = 0) (hx : gs_body P (gs_go P f) r t s1 = (oo, s')) : xt_OUT P Z os ov s1 r h b F k (xx_at 1 P Z os ov s1 k h F r ret (nI (4 * t)) (nI c) vt vd ve) oo s' := by
  obtain ⟨bp, hlt, hf, X, E, hb, hF, hkk⟩ := N
  obtain ⟨⟨gt, h1, h2, h3, h4, h5⟩, HC⟩ := H
  obtain ⟨w, pk, n1, et, d0⟩ := bp
  have ht := (w.2.1 r (by omega)).1
  rw [et] at ht
  have nd := (HC t ht).1.1 hk
  rw [gs_b0 hk] at hx
  obtain ⟨e1, e2⟩ := gs_pair_eq hx
  subst e1 e2
  have dr : gs_dn s1 r ≠ 1 := by rw [d0]; decide
  have Gs : gs_GR s1 (gs_give s1 r 0 (p_ag P t) 0) := gs_giveGR dr
  have nn : gs_n (gs_give s1 r 0 (p_ag P t) 0) = r + 1 := n1
  have ev : gs_nm (gs_give s1 r 0 (p_ag P t) 0) r = p_ag P t := pk_us
  refine ⟨fun _ => ⟨h, b, F, k + 1, xh_GRs Gs, xh_XIs (by omega) Gs X, xf_EQr, by omega, by omega, Or.inl ⟨pk_us, ret, nI (4 * t), nI c, nI c, fun post hp => ?_⟩⟩, xx_STn⟩
  unfold xt_TR at hp
  rw [nn, ev] at hp
  exact xr_stepT (by omega) h4 h5 (xt_root (by omega) hlt h2 (xt_ret0 (by omega) nd (by decide) hp))
/-- a 'to' at the root, then the first part -/
theorem xt_toA {tA : Nat} {s2 : gS} {tg da ot : Int32} {o2 : Option (Int32 × Int32)} (H : xt_H P Z os) (ih : xt_IH P Z os ov f) (N : xt_ent P f s1 r t h b F k c) (ht : t < p_cn P) (nd : xt_ND Z (4 * t) 1 tg da (nI (4 * tA)) ot) (hA : tA < p_cn P) (fA : ∀ y, bt (p_fr P tA) y = true → bt (p_fr P t) y = true) (en : gs_EN P s1 tA r (-1) 0) (go : gs_go P f tA r (-1) 0 s1 = (o2, s2)) :
    xx_ST 1 P Z os ov (xx_at 1 P Z os ov s1 k h F r ret (nI (4 * t)) (nI c) vt vd ve) o2 s2 ∧ (o2 = none → ∃ h2 b2 F2 k2, xh_GR s1 h b s2 h2 b2 ∧ gs_A0 P s1 s2 ∧ r + 1 < gs_n s2 ∧ xh_XI P xt_cF xt_cT s2 h2 b2 ∧ f_n F2 = f_n F + 1 ∧ xf_EQ F (xf_d F2) ∧ f_S F2 (f_n F) = 2 ∧ f_C F2 (f_n F) = nI (4 * t) ∧ f_E F2 (f_n F) = nI c ∧ h_n h2 + 3 * (r + 1) ≤ h_n h + 3 * gs_n s2 ∧ k2 + 8 * (r + 1) ≤ k + 1 + 8 * gs_n s2 ∧ gs_n s2 ≤ 240 ∧ h_n h2 ≤ 800 ∧ k2 ≤ 2000 ∧ xh_ER P s2 h2 b2 c r ∧ xt_RT P Z os ov s2 (r + 1) k2 h2 b2 F2 (xx_at 1 P Z os ov s1 k h F r ret (nI (4 * t)) (nI c) vt vd ve)) := by
  have g := xx_PG H.1
  have H0 := H
  have N0 := N
  obtain ⟨bp, hlt, hf, X, E, hb, hF, hkk⟩ := N
  obtain ⟨⟨gt, h1, h2, h3, h4, h5⟩, HC⟩ := H
  have n1 := bp.2.2.1
  have et := bp.2.2.2.1
  have E' := xh_ERs (x := 0) g hA (show r < gs_n s1 by omega) (fun y _ => by rw [et]; exact fA y) E
  obtain ⟨R1, R2⟩ := xt_call (A := (xx_at 1 P Z os ov s1 k h F r ret (nI (4 * t)) (nI c) vt vd ve)) (Fk := F) (kk := k + 1) (sg := 2) (co := nI (4 * t)) (fe := nI c) (ft := vt) (fd := vd) (fv := ve) (rt := ret) (wt := vt) (wd := vd) (we := ve) H0 ih N0 (gs_A0r bp.1 bp.2.1) xh_GRr X xf_EQr (by omega) (by omega) en E' go (fun post hp => by
    rw [n1] at hp
    exact xr_stepT (by omega) h4 h5 (xt_root (by omega) hlt h2 (xt_to (by omega) nd (by omega) hp)))
  refine ⟨R1, fun eo => ?_⟩
  obtain ⟨h2', b2, F2, k2, q0, q1, q2, q3, q4, q5, q6, q7, q8, q9, q10, q11, q12, q13, q14, q15, q16, q17, q18⟩ := R2 eo
  rw [n1] at q3 q13 q14 q18
  exact ⟨h2', b2, F2, k2, q1, q2, q3, q4, q5, q6, q7, q8, q9, q13, q14, q15, q16, q17, xh_ERm X.1 (by omega) q1 (by omega) E, q18⟩
theorem xt_k5 (H : xt_H P Z os) (ih : xt_IH P Z os ov f) (N : xt_ent P f s1 r t h b F k c) (hk : p_kd P t = 5) (hx : gs_body P (gs_go P f) r t s1 = (oo, s')) : xt_OUT P Z os ov s1 r h b F k (xx_at 1 P Z os ov s1 k h F r ret (nI (4 * t)) (nI c) vt vd ve) oo s' := by
  have g := xx_PG H.1
  have H0 := H
  have N0 := N
  obtain ⟨bp, hlt, hf, X, E, hb, hF, hkk⟩ := N
  obtain ⟨⟨⟨hg, gt⟩, h1, h2, h3, h4, h5⟩, HC⟩ := H
  have n1 := bp.2.2.1
  have ht := (bp.1.2.1 r (by omega)).1
  rw [bp.2.2.2.1] at ht
  obtain ⟨p1, p2, p3, p4, p5, p6, p7, p8, p9, p10, p11⟩ := tr_ifz gt ht hk
  obtain ⟨cA, cB⟩ := (HC t ht).1.2.2.1 hk
  obtain ⟨o2, s2, e2, en2, C2, cs⟩ := gs_k5 (gs_ok g f) g bp hk hx
  obtain ⟨S2, R2⟩ := xt_toA (ret := ret) (vt := vt) (vd := vd) (ve := ve) H0 ih N0 ht cA (by omega) p9 en2 e2
  rcases cs with ⟨e, c1, c2, c3⟩ | ⟨c1, hf0, c2, c3⟩ | ⟨c1, hf0, t3, o3, s3, ct3, e3, en3, C3, cs⟩
  · subst c2 c3; exact xt_stp c1 S2 (fun _ z => z)
  · subst c2 c3
    obtain ⟨h2', b2, F2, k2, q1, q2, q3, q4, q5, q6, q7, q8, q9, q10, q11, q12, q13, q14, q15, q16⟩ := R2 c1
    rcases q16 with ⟨z, _⟩ | ⟨_, RF⟩
    · exact absurd z hf0
    · exact ⟨(fun z => nomatch z), xt_stF h4 (by omega) RF q5 (by omega) (by omega) q8 q7 cA (by omega)⟩
  · obtain ⟨h2', b2, F2, k2, q1, q2, q3, q4, q5, q6, q7, q8, q9, q10, q11, q12, q13, q14, q15, q16⟩ := R2 c1
    rcases q16 with ⟨_, RI⟩ | ⟨z, _⟩
    · obtain ⟨rt, we, step⟩ := xt_resI RI q5 (by omega) (by omega) q8 q7 q9 cA (Or.inr rfl) (by omega)
      obtain ⟨r2, t2, w2, pk2, d2⟩ := gs_ACk bp q2
      obtain ⟨X3, E3, G3⟩ := xt_own (m := 9) (nm := 9) (tg := 1) (da := gs_nm s2 (r + 1)) (en := we) q4 (by omega) q15 (by decide) (by decide) rfl
      have l9 := xt_l9 (nm := 9) (tg := 1) (da := gs_nm s2 (r + 1)) (en := we) q4.1 (by omega) q15.1
      have hn : h_n (xh_x h2' 9 1 (gs_nm s2 (r + 1)) we (nI c)) = h_n h2' + 1 := rfl
      have hD : h_D (xh_x h2' 9 1 (gs_nm s2 (r + 1)) we (nI c)) (h_n h2') = gs_nm s2 (r + 1) := pk_us
      have key : ∃ y, ((h_D (xh_x h2' 9 1 (gs_nm s2 (r + 1)) we (nI c)) (h_n h2') = 0 ∧ y = nI (4 * (p_T P t - 1))) ∨ (¬ h_D (xh_x h2' 9 1 (gs_nm s2 (r + 1)) we (nI c)) (h_n h2') = 0 ∧ y = nI (4 * (t - 1)))) ∧ y = nI (4 * t3) ∧ t3 < p_cn P ∧ ∀ y', bt (p_fr P t3) y' = true → bt (p_fr P t) y' = true := by
        rw [hD]
        rcases ct3 with ⟨z1, z2⟩ | ⟨z1, z2⟩
        · exact ⟨_, Or.inl ⟨z1, rfl⟩, by rw [z2], by omega, by rw [z2]; exact p10⟩
        · exact ⟨_, Or.inr ⟨z1, rfl⟩, by rw [z2], by omega, by rw [z2]; exact p11⟩
      obtain ⟨y, ky, ey, kt, kf⟩ := key
      have E4 := xh_ERs (x := 0) g kt r2 (fun y' _ => by rw [t2]; exact kf y') E3
      obtain ⟨T1, T2⟩ := xt_tail (kk := k2 + 1) (rt := rt) (wt := h_T (xh_x h2' 9 1 (gs_nm s2 (r + 1)) we (nI c)) (h_n h2')) (wd := h_D (xh_x h2' 9 1 (gs_nm s2 (r + 1)) we (nI c)) (h_n h2')) (we := h_E (xh_x h2' 9 1 (gs_nm s2 (r + 1)) we (nI c)) (h_n h2')) (A := (xx_at 1 P Z os ov s1 k h F r ret (nI (4 * t)) (nI c) vt vd ve)) H0 ih N0 q2 (xh_GRt q1 G3) X3 q6 (by omega) (by omega) en3 E4 e3 (fun post hp => by
        refine step post ?_
        rw [← ey] at hp
        exact xr_stepT (by omega) h4 h5 (xt_mid (by omega) (by omega) (xt_ifz (by omega) cB X3.1 (by omega) E3.1 rfl l9 ky hp)))
      rcases cs with ⟨e, d1, c2, c3⟩ | ⟨d1, c2, c3⟩
      · subst c2 c3; exact T1 e d1
      · subst c2 c3; exact T2 d1
    · exact absurd hf0 z
theorem xt_k6 (H : xt_H P Z os) (ih : xt_IH P Z os ov f) (N : xt_ent P f s1 r t h b F k c) (hk : p_kd P t = 6) (hx : gs_body P (gs_go P f) r t s1 = (oo, s')) : xt_OUT P Z os ov s1 r h b F k (xx_at 1 P Z os ov s1 k h F r ret (nI (4 * t)) (nI c) vt vd ve) oo s' := by
  have g := xx_PG H.1
  have H0 := H
  have N0 := N
  obtain ⟨bp, hlt, hf, X, E, hb, hF, hkk⟩ := N
  obtain ⟨⟨⟨hg, gt⟩, h1, h2, h3, h4, h5⟩, HC⟩ := H
  have n1 := bp.2.2.1
  have ht := (bp.1.2.1 r (by omega)).1
  rw [bp.2.2.2.1] at ht
  obtain ⟨p1, p2, p3⟩ := tr_prt gt ht hk
  obtain ⟨cA, cB⟩ := (HC t ht).1.2.2.2 hk
  obtain ⟨o2, s2, e2, en2, C2, cs⟩ := gs_k6 (gs_ok g f) g bp hk hx
  obtain ⟨S2, R2⟩ := xt_toA (ret := ret) (vt := vt) (vd := vd) (ve := ve) H0 ih N0 ht cA (by omega) p3 en2 e2
  rcases cs with ⟨e, c1, c2, c3⟩ | ⟨c1, hf0, c2, c3⟩ | ⟨c1, hf0, hp0, c2, c3⟩ | ⟨c1, hf0, hp0, c2, c3⟩
  · subst c2 c3; exact xt_stp c1 S2 (fun _ z => z)
  · subst c2 c3
    obtain ⟨h2', b2, F2, k2, q1, q2, q3, q4, q5, q6, q7, q8, q9, q10, q11, q12, q13, q14, q15, q16⟩ := R2 c1
    rcases q16 with ⟨z, _⟩ | ⟨_, RF⟩
    · exact absurd z hf0
    · exact ⟨(fun z => nomatch z), xt_stF h4 (by omega) RF q5 (by omega) (by omega) q8 q7 cA (by omega)⟩
  · subst c2 c3
    obtain ⟨h2', b2, F2, k2, q1, q2, q3, q4, q5, q6, q7, q8, q9, q10, q11, q12, q13, q14, q15, q16⟩ := R2 c1
    rcases q16 with ⟨_, RI⟩ | ⟨z, _⟩
    · obtain ⟨rt, we, step⟩ := xt_resI RI q5 (by omega) (by omega) q8 q7 q9 cA (Or.inr rfl) (by omega)
      obtain ⟨X3, E3, G3⟩ := xt_own (m := 9) (nm := 9) (tg := 1) (da := gs_nm s' (r + 1)) (en := we) q4 (by omega) q15 (by decide) (by decide) rfl
      have l9 := xt_l9 (nm := 9) (tg := 1) (da := gs_nm s' (r + 1)) (en := we) q4.1 (by omega) q15.1
      have hn : h_n (xh_x h2' 9 1 (gs_nm s' (r + 1)) we (nI c)) = h_n h2' + 1 := rfl
      refine ⟨(fun z => nomatch z), xx_ST1 (h' := xh_x h2' 9 1 (gs_nm s' (r + 1)) we (nI c)) (F' := xf_d F2) (k' := k2 + 1) (bg := gs_n s') (ret := rt) (pc := nI (4 * t + 1)) (env := nI (h_n h2')) (vt := h_T (xh_x h2' 9 1 (gs_nm s' (r + 1)) we (nI c)) (h_n h2')) (vd := h_D (xh_x h2' 9 1 (gs_nm s' (r + 1)) we (nI c)) (h_n h2')) (ve := h_E (xh_x h2' 9 1 (gs_nm s' (r + 1)) we (nI c)) (h_n h2')) (by omega) (fun post hp => step post ?_)⟩
      exact xr_stepT (by omega) h4 h5 (xt_mid (by omega) (by omega) (xt_prtF (by omega) cB X3.1 (by omega) E3.1 rfl l9 h4 hp0 hp))
    · exact absurd hf0 z
  · subst c2 c3
    obtain ⟨h2', b2, F2, k2, q1, q2, q3, q4, q5, q6, q7, q8, q9, q10, q11, q12, q13, q14, q15, q16⟩ := R2 c1
    rcases q16 with ⟨_, RI⟩ | ⟨z, _⟩
    · obtain ⟨rt, we, step⟩ := xt_resI RI q5 (by omega) (by omega) q8 q7 q9 cA (Or.inr rfl) (by omega)
      obtain ⟨X3, E3, G3⟩ := xt_own (m := 9) (nm := 9) (tg := 1) (da := gs_nm s2 (r + 1)) (en := we) q4 (by omega) q15 (by decide) (by decide) rfl
      have l9 := xt_l9 (nm := 9) (tg := 1) (da := gs_nm s2 (r + 1)) (en := we) q4.1 (by omega) q15.1
      have hn : h_n (xh_x h2' 9 1 (gs_nm s2 (r + 1)) we (nI c)) = h_n h2' + 1 := rfl
      have hT : h_T (xh_x h2' 9 1 (gs_nm s2 (r + 1)) we (nI c)) (h_n h2') = 1 := pk_us
      have hD : h_D (xh_x h2' 9 1 (gs_nm s2 (r + 1)) we (nI c)) (h_n h2') = gs_nm s2 (r + 1) := pk_us
      have hE : h_E (xh_x h2' 9 1 (gs_nm s2 (r + 1)) we (nI c)) (h_n h2') = we := pk_us
      obtain ⟨m, hm, em⟩ := q2.2.1
      have hm2 : m < p_pc P := by rw [em, nI_ltI (by omega) (by omega)] at hp0; exact hp0
      have Gp : gs_GR s2 (gs_prt (p_rc P) s2 (gs_nm s2 (r + 1))) := ⟨Nat.le_refl _, fun _ _ => rfl, fun _ _ => rfl, fun _ _ z => ⟨z, rfl, rfl, rfl⟩⟩
      refine xt_fsame (Fk := xf_d F2) (kk := k2 + 1) bp (gs_prtA0 g q2 hp0) (xh_GRt (xh_GRt q1 G3) (xh_GRs Gp)) (xh_XIs (by omega) Gp X3) (by omega) q6 (show h_n (xh_x h2' 9 1 (gs_nm s2 (r + 1)) we (nI c)) + 3 * r ≤ h_n h + 3 * gs_n s2 by omega) (show k2 + 1 + 8 * r ≤ k + 8 * gs_n s2 by omega) (Or.inl ⟨hf0, rt, nI (4 * t + 1), nI (h_n h2'), we, fun post hp => step post ?_⟩)
      refine xr_stepT (by omega) h4 h5 (xt_mid (by omega) (by omega) (xt_prt (by omega) cB X3.1 (by omega) E3.1 rfl l9 h4 h3 em hm2 ?_))
      rw [hT, hD, hE]
      exact hp
    · exact absurd hf0 z
theorem xt_k4 (H : xt_H P Z os) (ih : xt_IH P Z os ov f) (N : xt_ent P f s1 r t h b F k c) (hk : p_kd P t = 4) (hx : gs_body P (gs_go P f) r t s1 = (oo, s')) : xt_OUT P Z os ov s1 r h b F k (xx_at 1 P Z os ov s1 k h F r ret (nI (4 * t)) (nI c) vt vd ve) oo s' := by
  have g := xx_PG H.1
  have H0 := H
  have N0 := N
  obtain ⟨bp, hlt, hf, X, E, hb, hF, hkk⟩ := N
  obtain ⟨⟨⟨hg, gt⟩, h1, h2, h3, h4, h5⟩, HC⟩ := H
  have n1 := bp.2.2.1
  have ht := (bp.1.2.1 r (by omega)).1
  rw [bp.2.2.2.1] at ht
  obtain ⟨p1, p2, p3, p4, p5, p6, p7⟩ := tr_two gt ht (Or.inr hk)
  obtain ⟨cA, cB, cP⟩ := (HC t ht).1.2.1 hk
  obtain ⟨o2, s2, e2, en2, C2, cs⟩ := gs_k4 (gs_ok g f) g bp hk hx
  obtain ⟨S2, R2⟩ := xt_toA (ret := ret) (vt := vt) (vd := vd) (ve := ve) H0 ih N0 ht cA (by omega) p6 en2 e2
  rcases cs with ⟨e, c1, c2, c3⟩ | ⟨c1, hf0, c2, c3⟩ | ⟨c1, hf0, o3, s3, e3, en3, C3, cs⟩
  · subst c2 c3; exact xt_stp c1 S2 (fun _ z => z)
  · subst c2 c3
    obtain ⟨h2', b2, F2, k2, q1, q2, q3, q4, q5, q6, q7, q8, q9, q10, q11, q12, q13, q14, q15, q16⟩ := R2 c1
    rcases q16 with ⟨z, _⟩ | ⟨_, RF⟩
    · exact absurd z hf0
    · exact ⟨(fun z => nomatch z), xt_stF h4 (by omega) RF q5 (by omega) (by omega) q8 q7 cA (by omega)⟩
  · obtain ⟨h2', b2, F2, k2, q1, q2, q3, q4, q5, q6, q7, q8, q9, q10, q11, q12, q13, q14, q15, q16⟩ := R2 c1
    rcases q16 with ⟨_, RI⟩ | ⟨z, _⟩
    · obtain ⟨rt, we, step⟩ := xt_resI RI q5 (by omega) (by omega) q8 q7 q9 cA (Or.inr rfl) (by omega)
      obtain ⟨r2, t2, w2, pk2, d2⟩ := gs_ACk bp q2
      obtain ⟨X3, E3, G3⟩ := xt_own (m := 9) (nm := 9) (tg := 1) (da := gs_nm s2 (r + 1)) (en := we) q4 (by omega) q15 (by decide) (by decide) rfl
      have l9 := xt_l9 (nm := 9) (tg := 1) (da := gs_nm s2 (r + 1)) (en := we) q4.1 (by omega) q15.1
      have hn : h_n (xh_x h2' 9 1 (gs_nm s2 (r + 1)) we (nI c)) = h_n h2' + 1 := rfl
      have E4 := xh_ERs (x := 0) g (show t - 1 < p_cn P by omega) r2 (fun y' _ => by rw [t2]; exact p7 y') E3
      have fF := q6.1
      obtain ⟨S3, R3⟩ := xt_call (A := (xx_at 1 P Z os ov s1 k h F r ret (nI (4 * t)) (nI c) vt vd ve)) (Fk := xf_d F2) (kk := k2 + 1) (sg := 2) (co := nI (4 * t + 1)) (fe := nI (h_n h2')) (ft := 1) (fd := gs_nm s2 (r + 1)) (fv := we) (rt := rt) (wt := 1) (wd := gs_nm s2 (r + 1)) (we := we) H0 ih N0 q2 (xh_GRt q1 G3) X3 q6 (by omega) (by omega) en3 E4 e3 (fun post hp => by
        refine step post ?_
        exact xr_stepT (by omega) h4 h5 (xt_mid (by omega) (by omega) (xt_to (by omega) cB (by omega) hp)))
      rcases cs with ⟨e, d1, c2, c3⟩ | ⟨d1, hf3, c2, c3⟩ | ⟨d1, hf3, c2, c3⟩
      · subst c2 c3; exact xt_stp d1 S3 (fun _ z => z)
      · subst c2 c3
        obtain ⟨h3', b3, F3, k3, u0, u1, u2, u3, u4, u5, u6, u7, u8, u9, u10, u11, u12, u13, u14, u15, u16, u17, u18⟩ := R3 d1
        rcases u18 with ⟨z, _⟩ | ⟨_, RF⟩
        · exact absurd z hf3
        · exact ⟨(fun z => nomatch z), xt_stF h4 (by omega) RF u5 (by omega) (by omega) u8 u7 cB (by omega)⟩
      · subst c2 c3
        obtain ⟨h3', b3, F3, k3, u0, u1, u2, u3, u4, u5, u6, u7, u8, u9, u10, u11, u12, u13, u14, u15, u16, u17, u18⟩ := R3 d1
        obtain ⟨A3, lt3⟩ := C3.2.2 d1
        rcases u18 with ⟨_, RI3⟩ | ⟨z, _⟩
        · obtain ⟨rt3, we3, step3⟩ := xt_resI RI3 u5 (by omega) (by omega) u8 u7 u9 cB (Or.inr rfl) (by omega)
          obtain ⟨r3, t3, w3, pk3, d3⟩ := gs_ACk bp u2
          have E5 : xh_ER P s3 h3' b3 (h_n h2') r := xh_ERm X3.1 (by omega) u0 r2 E3
          obtain ⟨X5, E6, G5⟩ := xt_own (m := 10) (nm := 10) (tg := 1) (da := gs_nm s3 (gs_n s2)) (en := we3) u4 (by omega) E5 (by decide) (by decide) rfl
          have l10 := xt_l9 (nm := 10) (tg := 1) (da := gs_nm s3 (gs_n s2)) (en := we3) u4.1 (by omega) E5.1
          have hn3 : h_n (xh_x h3' 10 1 (gs_nm s3 (gs_n s2)) we3 (nI (h_n h2'))) = h_n h3' + 1 := rfl
          have l9' : xh_l (xh_x h3' 10 1 (gs_nm s3 (gs_n s2)) we3 (nI (h_n h2'))) (h_n h3') 9 = h_n h2' := by
            rw [xh_xl u4.1 (by omega) E5.1 rfl, if_neg (by decide), xh_lm X3.1 (by omega) u0.2 E3.1]
            exact l9
          have lt23 : h_n h2' < h_n h3' := E5.1
          have o9 := u0.2.2 (h_n h2') (by omega)
          have hT : h_T (xh_x h3' 10 1 (gs_nm s3 (gs_n s2)) we3 (nI (h_n h2'))) (h_n h2') = 1 := by
            have e1 : h_T (xh_x h3' 10 1 (gs_nm s3 (gs_n s2)) we3 (nI (h_n h2'))) (h_n h2') = h_T h3' (h_n h2') := pk_un (by omega)
            rw [e1, o9.2.1]; exact pk_us
          have hD : h_D (xh_x h3' 10 1 (gs_nm s3 (gs_n s2)) we3 (nI (h_n h2'))) (h_n h2') = gs_nm s2 (r + 1) := by
            have e1 : h_D (xh_x h3' 10 1 (gs_nm s3 (gs_n s2)) we3 (nI (h_n h2'))) (h_n h2') = h_D h3' (h_n h2') := pk_un (by omega)
            rw [e1, o9.2.2.1]; exact pk_us
          have hD2 : h_D (xh_x h3' 10 1 (gs_nm s3 (gs_n s2)) we3 (nI (h_n h2'))) (h_n h3') = gs_nm s3 (gs_n s2) := pk_us
          have na : gs_nm s3 (r + 1) = gs_nm s2 (r + 1) := (A3.1.2.1 _ (show r + 1 < gs_n s2 by omega)).2.2.2.1
          have dr : gs_dn s3 r ≠ 1 := by rw [d3]; decide
          have Gs : gs_GR s3 (gs_give s3 r 0 (gs_nm s3 (r + 1) + gs_nm s3 (gs_n s2)) 0) := gs_giveGR dr
          have nn : gs_n (gs_give s3 r 0 (gs_nm s3 (r + 1) + gs_nm s3 (gs_n s2)) 0) = gs_n s3 := rfl
          have ev : gs_nm (gs_give s3 r 0 (gs_nm s3 (r + 1) + gs_nm s3 (gs_n s2)) 0) r = gs_nm s3 (r + 1) + gs_nm s3 (gs_n s2) := pk_us
          refine ⟨fun _ => ⟨_, _, xf_d F3, k3 + 1, xh_GRt (xh_GRt u1 G5) (xh_GRs Gs), xh_XIs (by omega) Gs X5, u6, by omega, by omega, Or.inl ⟨pk_us, rt3, nI (4 * t + 2), nI (h_n h3'), h_E (xh_x h3' 10 1 (gs_nm s3 (gs_n s2)) we3 (nI (h_n h2'))) (h_n h2'), fun post hp => step3 post ?_⟩⟩, xx_STn⟩
          refine xr_stepT (by omega) h4 h5 (xt_mid (by omega) (by omega) (xt_plus (by omega) cP X5.1 (by omega) E6.1 rfl l9' l10 ?_))
          unfold xt_TR at hp
          rw [ev, na] at hp
          rw [hT, hD, hD2]
          exact hp
        · exact absurd hf3 z
    · exact absurd hf0 z
end
end
section
/-! TARGET: variables, functions, LET, APP -/
section
variable {P : gP} {Z : xZ} {os ov : Nat → Int32} {f r t k c : Nat} {s1 s' : gS} {h : xH} {b : Nat → Nat} {F : xF} {ret vt vd ve : Int32} {oo : Option (Int32 × Int32)}
theorem xt_RVT {s : gS} {q k : Nat} {A : (Int32 → SX → Prop) → Prop} {rt pc env wt wd we : Int32} (hb : p_bn P = false) (w : gs_WF P s) (hq : q < gs_n s) (hd : gs_dn s q = 1) (V : xh_RV P xt_cF s h b wt wd we q) (S : ∀ post, xt_TR P Z os ov s k h F rt pc env wt wd we post → A post) : xt_RT P Z os ov s q k h b F A := by
  rcases V with ⟨e1, e2, e3⟩ | ⟨e1, e2, hh, c', e3, e4, e5, e6, e7, e8, e9⟩
  · subst e2 e3
    exact Or.inl ⟨e1, rt, pc, env, we, S⟩
  · subst e2 e7 e8
    have f1 : gs_fn s q = 1 := ((w.2.2.1 q hq hd).1).resolve_left e1
    exact Or.inr ⟨e1, hh, gs_t s hh, c', ⟨f1, e4, e3, e5, rfl, (w.2.1 hh e4).1, e6⟩, e9, fun _ => ⟨rt, pc, env, S⟩, fun z => absurd (hb.symm.trans z) (by decide)⟩
theorem gs_fun_u {s : gS} {a hh l hh' l' : Nat} (hn : gs_n s ≤ 240) (x : gs_fun P s a hh l) (y : gs_fun P s a hh' l') : hh' = hh ∧ l' = l := by
  obtain ⟨x1, x2, x3, x4, x5, x6, x7⟩ := x
  obtain ⟨y1, y2, y3, y4, y5, y6, y7⟩ := y
  have e : hh' = hh := ((nI_eq (by omega) (by omega)).mp (x3.symm.trans y3)).symm
  subst e
  exact ⟨rfl, y5.symm.trans x5⟩
theorem xt_k1 (H : xt_H P Z os) (ih : xt_IH P Z os ov f) (N : xt_ent P f s1 r t h b F k c) (hk : p_kd P t = 1) (hx : gs_body P (gs_go P f) r t s1 = (oo, s')) : xt_OUT P Z os ov s1 r h b F k (xx_at 1 P Z os ov s1 k h F r ret (nI (4 * t)) (nI c) vt vd ve) oo s' := by
  have g := xx_PG H.1
  have H0 := H
  have N0 := N
  obtain ⟨bp, hlt, hf, X, E, hb, hF, hkk⟩ := N
  obtain ⟨⟨⟨hg, gt⟩, h1, h2, h3, h4, h5⟩, HC⟩ := H
  have n1 := bp.2.2.1
  have ht := (bp.1.2.1 r (by omega)).1
  rw [bp.2.2.2.1] at ht
  by_cases hbn : p_bn P = true
  · obtain ⟨j, q, o2, s2, a1, a2, a3, a4, a5, a6, a7, C2, cs⟩ := gs_k1N (gs_ok g f) g bp hk hbn hx
    have nd := ((HC t ht).2.2 hbn).1 hk
    have V := xd_bind bp h2 X E a1 a3 a4 a5
    obtain ⟨v1, c', v2, v3⟩ := V.2.1 hbn
    obtain ⟨u1, u2, u3⟩ := gs_en_susp g bp.1 a5.1 (a5.2.1 hbn)
    have E' := xh_ERs (x := 0) g u2 a5.1 (fun y _ => u3 y) v3
    obtain ⟨T1, T2⟩ := xt_tail (kk := k + 1) (rt := ret) (wt := h_T h (xh_l h c (nI j))) (wd := h_D h (xh_l h c (nI j))) (we := h_E h (xh_l h c (nI j))) (A := (xx_at 1 P Z os ov s1 k h F r ret (nI (4 * t)) (nI c) vt vd ve)) H0 ih N0 (gs_A0r bp.1 bp.2.1) xh_GRr X xf_EQr (by omega) (by omega) a7 E' a6 (fun post hp => by
      have v1' : h_D h (xh_l h c (nI j)) = nI (4 * gs_susp P s1 q) := v1
      rw [n1, ← v1', ← v2] at hp
      exact xr_stepT (by omega) h4 h5 (xt_root (by omega) hlt h2 (xt_force (by omega) nd X.1 (by omega) E.1 rfl (by rw [a2]) hp)))
    rw [n1] at T2
    rcases cs with ⟨e, c1, c2, c3⟩ | ⟨c1, c2, c3⟩
    · subst c2 c3; exact T1 e c1
    · subst c2 c3; exact T2 c1
  · have hbn' : p_bn P = false := Bool.eq_false_iff.mpr hbn
    obtain ⟨j, q, a1, a2, a3, a4, a5, e1, e2⟩ := gs_k1V g bp hk hbn' hx
    subst e1 e2
    have nd := ((HC t ht).2.1 hbn').1 hk
    have V := xd_bind bp h2 X E a1 a3 a4 a5
    refine xt_fsame (kk := k + 1) bp (gs_A0r bp.1 bp.2.1) xh_GRr X (by omega) xf_EQr (by omega) (by omega) (xt_RVT (rt := ret) (pc := nI (4 * t)) (env := nI c) hbn' bp.1 a5.1 (a5.2.2 hbn') (V.2.2 hbn') (fun post hp => ?_))
    unfold xt_TR at hp
    rw [n1] at hp
    exact xr_stepT (by omega) h4 h5 (xt_root (by omega) hlt h2 (xt_ret3 (by omega) nd X.1 (by omega) E.1 rfl (by rw [a2]) hp))
theorem xt_k2 (H : xt_H P Z os) (ih : xt_IH P Z os ov f) (N : xt_ent P f s1 r t h b F k c) (hk : p_kd P t = 2) (hx : gs_body P (gs_go P f) r t s1 = (oo, s')) : xt_OUT P Z os ov s1 r h b F k (xx_at 1 P Z os ov s1 k h F r ret (nI (4 * t)) (nI c) vt vd ve) oo s' := by
  obtain ⟨bp, hlt, hf, X, E, hb, hF, hkk⟩ := N
  obtain ⟨⟨⟨hg, gt⟩, h1, h2, h3, h4, h5⟩, HC⟩ := H
  obtain ⟨w, pk, n1, et, d0⟩ := bp
  have ht := (w.2.1 r (by omega)).1
  rw [et] at ht
  rw [gs_b2 hk] at hx
  obtain ⟨e1, e2⟩ := gs_pair_eq hx
  subst e1 e2
  have dr : gs_dn s1 r ≠ 1 := by rw [d0]; decide
  have Gs : gs_GR s1 (gs_give s1 r 1 (nI t) (nI r)) := gs_giveGR dr
  have nn : gs_n (gs_give s1 r 1 (nI t) (nI r)) = r + 1 := n1
  have ef : gs_fn (gs_give s1 r 1 (nI t) (nI r)) r = 1 := pk_us
  have fu : gs_fun P (gs_give s1 r 1 (nI t) (nI r)) r r t := ⟨pk_us, by omega, pk_us, pk_us, et, ht, hk⟩
  have E' : xh_ER P (gs_give s1 r 1 (nI t) (nI r)) h b c r := xh_ERm X.1 (by omega) (xh_GRs Gs) (by omega) E
  refine ⟨fun _ => ⟨h, b, F, k + 1, xh_GRs Gs, xh_XIs (by omega) Gs X, xf_EQr, by omega, by omega, Or.inr ⟨by rw [ef]; decide, r, t, c, fu, E', fun hbn => ⟨ret, nI (4 * t), nI c, fun post hp => ?_⟩, fun hbn => ⟨ret, nI (4 * t), vt, vd, ve, fun post hp => ?_⟩⟩⟩, xx_STn⟩
  · have nd := (((HC t ht).2.1 hbn).2.1 hk).1
    unfold xt_TR at hp
    rw [nn] at hp
    exact xr_stepT (by omega) h4 h5 (xt_root (by omega) hlt h2 (xt_ret0 (by omega) nd (by decide) hp))
  · have nd := ((HC t ht).2.2 hbn).2.1 hk
    unfold xt_TA at hp
    rw [nn] at hp
    exact xr_stepT (by omega) h4 h5 (xt_root (by omega) hlt h2 (xt_fn (by omega) nd hp))
theorem xt_k7 (H : xt_H P Z os) (ih : xt_IH P Z os ov f) (N : xt_ent P f s1 r t h b F k c) (hk : p_kd P t = 7) (hx : gs_body P (gs_go P f) r t s1 = (oo, s')) : xt_OUT P Z os ov s1 r h b F k (xx_at 1 P Z os ov s1 k h F r ret (nI (4 * t)) (nI c) vt vd ve) oo s' := by
  have g := xx_PG H.1
  have H0 := H
  have N0 := N
  obtain ⟨bp, hlt, hf, X, E, hb, hF, hkk⟩ := N
  obtain ⟨⟨⟨hg, gt⟩, h1, h2, h3, h4, h5⟩, HC⟩ := H
  have n1 := bp.2.2.1
  have et := bp.2.2.2.1
  have ht := (bp.1.2.1 r (by omega)).1
  rw [bp.2.2.2.1] at ht
  obtain ⟨p1, p2, p3, p4, p5, p6, j, hj, ej, p7⟩ := tr_let gt ht hk
  by_cases hbn : p_bn P = true
  · obtain ⟨o2, s2, e2, en2, C2, cs⟩ := gs_k7N (gs_ok g f) g bp hk hbn hx
    obtain ⟨nd1, nd2⟩ := ((HC t ht).2.2 hbn).2.2.1 hk
    have V : xh_VC P xt_cF xt_cT s1 h b 2 (nI (4 * (p_T P t - 1))) (nI c) r := by
      refine ⟨⟨by omega, fun _ => Or.inr (by rw [et]; exact hk), fun z => absurd (hbn.symm.trans z) (by decide)⟩, fun _ => ⟨?_, c, rfl, E⟩, fun z => absurd (hbn.symm.trans z) (by decide)⟩
      unfold gs_susp
      rw [et, if_neg (by rw [hk]; decide)]
      rfl
    have X3 := xh_xXI (nm := nI j) (ou := nI c) (q := r) X (by omega) E.1 rfl (fun _ _ _ => V)
    have E3 := xh_ERx (q := r) (tg := 2) (da := nI (4 * (p_T P t - 1))) (en := nI c) (ou := nI c) g X.1 (by omega) hj (show t - 1 < p_cn P by omega) (show r < gs_n s1 by omega) (by rw [et]; exact p7) rfl E
    rw [ej] at e2 en2
    have hn : h_n (xh_x h (nI j) 2 (nI (4 * (p_T P t - 1))) (nI c) (nI c)) = h_n h + 1 := rfl
    obtain ⟨y1, y2, y3, y4, y5, y6, y7, y8⟩ := xf_pop (xf_EQr (F := xf_p F 3 (nI (4 * t)) (nI c) 2 (nI (4 * (p_T P t - 1))) (nI c)))
    obtain ⟨T1, T2⟩ := xt_tail (Fk := xf_d (xf_p F 3 (nI (4 * t)) (nI c) 2 (nI (4 * (p_T P t - 1))) (nI c))) (kk := k + 2) (rt := ret) (wt := 2) (wd := nI (4 * (p_T P t - 1))) (we := nI c) (A := (xx_at 1 P Z os ov s1 k h F r ret (nI (4 * t)) (nI c) vt vd ve)) H0 ih N0 (gs_A0r bp.1 bp.2.1) ⟨gs_GRr, xh_xHG⟩ X3 y2 (by omega) (by omega) en2 E3 e2 (fun post hp => by
      rw [← ej, n1] at hp
      exact xr_stepT (by omega) h4 h5 (xt_root (by omega) hlt h2 (xt_push0 (by omega) nd1 (by decide) (by omega) (xr_stepT (by omega) h4 h5 (xt_mid (by omega) (by omega) (xt_fn (by omega) nd2 (xt_take (by omega) nd2 y1 (by omega) y3 y6 y7 y8 (by omega) hp)))))))
    rw [n1] at T2
    rcases cs with ⟨e, d1, c2, c3⟩ | ⟨d1, c2, c3⟩
    · subst c2 c3; exact T1 e d1
    · subst c2 c3; exact T2 d1
  · have hbn' : p_bn P = false := Bool.eq_false_iff.mpr hbn
    obtain ⟨o2, s2, e2, en2, C2, cs⟩ := gs_k7V (gs_ok g f) g bp hk hbn' hx
    have nd := ((HC t ht).2.1 hbn').2.2.1 hk
    obtain ⟨S2, R2⟩ := xt_toA (ret := ret) (vt := vt) (vd := vd) (ve := ve) H0 ih N0 ht nd (by omega) p6 en2 e2
    rcases cs with ⟨e, c1, c2, c3⟩ | ⟨c1, o3, s3, e3, en3, C3, cs⟩
    · subst c2 c3; exact xt_stp c1 S2 (fun _ z => z)
    · obtain ⟨h2', b2, F2, k2, q1, q2, q3, q4, q5, q6, q7, q8, q9, q10, q11, q12, q13, q14, q15, q16⟩ := R2 c1
      obtain ⟨rt, pc', env', wt, wd, we, RV, step⟩ := xt_RTV hbn' q16
      obtain ⟨r2, t2, w2, pk2, d2⟩ := gs_ACk bp q2
      have da : gs_dn s2 (r + 1) = 1 := q2.2.2.2 _ (by omega) (by omega)
      have V : xh_VC P xt_cF xt_cT s2 h2' b2 wt wd we (r + 1) := ⟨⟨by omega, fun z => absurd z hbn, fun _ => da⟩, fun z => absurd z hbn, fun _ => RV⟩
      have X3 := xh_xXI (nm := nI j) (ou := nI c) (q := r + 1) q4 (by omega) q15.1 rfl (fun _ _ _ => V)
      have E3 := xh_ERx (q := r + 1) (tg := wt) (da := wd) (en := we) (ou := nI c) g q4.1 (by omega) hj (show t - 1 < p_cn P by omega) r2 (by rw [t2]; exact p7) rfl q15
      rw [ej] at e3 en3
      have hn : h_n (xh_x h2' (nI j) wt wd we (nI c)) = h_n h2' + 1 := rfl
      obtain ⟨T1, T2⟩ := xt_tail (kk := k2) (rt := rt) (wt := wt) (wd := wd) (we := we) (A := (xx_at 1 P Z os ov s1 k h F r ret (nI (4 * t)) (nI c) vt vd ve)) H0 ih N0 q2 (xh_GRt q1 ⟨gs_GRr, xh_xHG⟩) X3 q6 (by omega) (by omega) en3 E3 e3 (fun post hp => by
        refine step post ?_
        rw [← ej] at hp
        exact xt_res q5 (by omega) (by omega) q8 q7 q9 nd (Or.inl rfl) (by omega) hp)
      rcases cs with ⟨e, d1, c2, c3⟩ | ⟨d1, c2, c3⟩
      · subst c2 c3; exact T1 e d1
      · subst c2 c3; exact T2 d1
theorem xt_k3N (H : xt_H P Z os) (ih : xt_IH P Z os ov f) (N : xt_ent P f s1 r t h b F k c) (hk : p_kd P t = 3) (hbn : p_bn P = true) (hx : gs_body P (gs_go P f) r t s1 = (oo, s')) : xt_OUT P Z os ov s1 r h b F k (xx_at 1 P Z os ov s1 k h F r ret (nI (4 * t)) (nI c) vt vd ve) oo s' := by
  have g := xx_PG H.1
  have H0 := H
  have N0 := N
  obtain ⟨bp, hlt, hf, X, E, hb, hF, hkk⟩ := N
  obtain ⟨⟨⟨hg, gt⟩, h1, h2, h3, h4, h5⟩, HC⟩ := H
  have n1 := bp.2.2.1
  have et := bp.2.2.2.1
  have ht := (bp.1.2.1 r (by omega)).1
  rw [bp.2.2.2.1] at ht
  obtain ⟨p1, p2, p3, p4, p5, p6, p7⟩ := tr_two gt ht (Or.inl hk)
  have nd := ((HC t ht).2.2 hbn).2.2.2 hk
  obtain ⟨o2, s2, e2, en2, C2, cs⟩ := gs_k3 (gs_ok g f) g bp hk hx
  have E' := xh_ERs (x := 0) g (show p_T P t - 1 < p_cn P by omega) (show r < gs_n s1 by omega) (fun y _ => by rw [et]; exact p6 y) E
  obtain ⟨S2, R2⟩ := xt_call (A := (xx_at 1 P Z os ov s1 k h F r ret (nI (4 * t)) (nI c) vt vd ve)) (Fk := F) (kk := k + 1) (sg := 3) (co := nI (4 * t)) (fe := nI c) (ft := 2) (fd := nI (4 * (t - 1))) (fv := nI c) (rt := ret) (wt := 2) (wd := nI (4 * (t - 1))) (we := nI c) H0 ih N0 (gs_A0r bp.1 bp.2.1) xh_GRr X xf_EQr (by omega) (by omega) en2 E' e2 (fun post hp => by
    rw [n1] at hp
    exact xr_stepT (by omega) h4 h5 (xt_root (by omega) hlt h2 (xt_push0 (by omega) nd (by decide) (by omega) hp)))
  rcases cs with ⟨e, c1, c2, c3⟩ | ⟨c1, hf0, c2, c3⟩ | ⟨c1, hh, l, fu, cs⟩
  · subst c2 c3; exact xt_stp c1 S2 (fun _ z => z)
  · subst c2 c3
    obtain ⟨h2', b2, F2, k2, q0, q1, q2, q3, q4, q5, q6, q7, q8, q9, q10, q11, q12, q13, q14, q15, q16, q17, q18⟩ := R2 c1
    rw [n1] at q18
    rcases q18 with ⟨_, RI⟩ | ⟨z, _⟩
    · exact ⟨(fun z => nomatch z), xt_stI h4 (by omega) RI q5 (by omega) (by omega) q8 nd (Or.inl q7) (by omega)⟩
    · exact absurd hf0 z
  · obtain ⟨h2', b2, F2, k2, q0, q1, q2, q3, q4, q5, q6, q7, q8, q9, q10, q11, q12, q13, q14, q15, q16, q17, q18⟩ := R2 c1
    rw [n1] at q3 q13 q14 q18
    obtain ⟨r2, t2, w2, pk2, d2⟩ := gs_ACk bp q2
    have E2 : xh_ER P s2 h2' b2 c r := xh_ERm X.1 (by omega) q1 (by omega) E
    rcases cs with ⟨_, o3, s3, e3, en3, C3, cs⟩ | ⟨hbn', _⟩
    · rcases q18 with ⟨z, _⟩ | ⟨_, hh', l', c', fu', E4, _, RN⟩
      · rw [fu.1] at z; exact absurd z (by decide)
      · obtain ⟨eh, el⟩ := gs_fun_u q15 fu fu'
        subst eh el
        obtain ⟨f1, f2, f3, f4, f5, f6, f7⟩ := fu
        obtain ⟨rt, pc', wt, wd, we, step⟩ := RN hbn
        obtain ⟨l1, l2, j, hj, ej, l3⟩ := tr_lam gt f6 f7
        have ndl := ((HC l' f6).2.2 hbn).2.1 f7
        have V : xh_VC P xt_cF xt_cT s2 h2' b2 2 (nI (4 * (t - 1))) (nI c) r := by
          refine ⟨⟨r2, fun _ => Or.inl (by rw [t2]; exact hk), fun z => absurd (hbn.symm.trans z) (by decide)⟩, fun _ => ⟨?_, c, rfl, E2⟩, fun z => absurd (hbn.symm.trans z) (by decide)⟩
          unfold gs_susp
          rw [t2, if_pos hk]
          rfl
        have X3 := xh_xXI (nm := nI j) (ou := nI c') (q := r) q4 (by omega) E4.1 rfl (fun _ _ _ => V)
        have E3 := xh_ERx (q := r) (tg := 2) (da := nI (4 * (t - 1))) (en := nI c) (ou := nI c') g q4.1 (by omega) hj (show l' - 1 < p_cn P by omega) f2 (by rw [f5]; exact l3) rfl E4
        rw [ej] at e3 en3
        have hn : h_n (xh_x h2' (nI j) 2 (nI (4 * (t - 1))) (nI c) (nI c')) = h_n h2' + 1 := rfl
        obtain ⟨T1, T2⟩ := xt_tail (kk := k2) (rt := rt) (wt := 2) (wd := nI (4 * (t - 1))) (we := nI c) (A := (xx_at 1 P Z os ov s1 k h F r ret (nI (4 * t)) (nI c) vt vd ve)) H0 ih N0 q2 (xh_GRt q1 ⟨gs_GRr, xh_xHG⟩) X3 q6 (by omega) (by omega) en3 E3 e3 (fun post hp => by
          refine step post ?_
          rw [← ej] at hp
          exact xt_take (by omega) ndl q5 (by omega) q7 q10 q11 q12 (by omega) hp)
        rcases cs with ⟨e, d1, c2, c3⟩ | ⟨d1, c2, c3⟩
        · subst c2 c3; exact T1 e d1
        · subst c2 c3; exact T2 d1
    · exact absurd (hbn.symm.trans hbn') (by decide)
theorem xt_k3V (H : xt_H P Z os) (ih : xt_IH P Z os ov f) (N : xt_ent P f s1 r t h b F k c) (hk : p_kd P t = 3) (hbn : p_bn P = false) (hx : gs_body P (gs_go P f) r t s1 = (oo, s')) : xt_OUT P Z os ov s1 r h b F k (xx_at 1 P Z os ov s1 k h F r ret (nI (4 * t)) (nI c) vt vd ve) oo s' := by
  have g := xx_PG H.1
  have H0 := H
  have N0 := N
  obtain ⟨bp, hlt, hf, X, E, hb, hF, hkk⟩ := N
  obtain ⟨⟨⟨hg, gt⟩, h1, h2, h3, h4, h5⟩, HC⟩ := H
  have n1 := bp.2.2.1
  have et := bp.2.2.2.1
  have ht := (bp.1.2.1 r (by omega)).1
  rw [bp.2.2.2.1] at ht
  obtain ⟨p1, p2, p3, p4, p5, p6, p7⟩ := tr_two gt ht (Or.inl hk)
  obtain ⟨nd0, nd1, nd2, nd3⟩ := ((HC t ht).2.1 hbn).2.2.2 hk
  obtain ⟨o2, s2, e2, en2, C2, cs⟩ := gs_k3 (gs_ok g f) g bp hk hx
  obtain ⟨S2, R2⟩ := xt_toA (ret := ret) (vt := vt) (vd := vd) (ve := ve) H0 ih N0 ht nd0 (by omega) p6 en2 e2
  rcases cs with ⟨e, c1, c2, c3⟩ | ⟨c1, hf0, c2, c3⟩ | ⟨c1, hh, l, fu, cs⟩
  · subst c2 c3; exact xt_stp c1 S2 (fun _ z => z)
  · subst c2 c3
    obtain ⟨h2', b2, F2, k2, q1, q2, q3, q4, q5, q6, q7, q8, q9, q10, q11, q12, q13, q14, q15, q16⟩ := R2 c1
    rcases q16 with ⟨_, RI⟩ | ⟨z, _⟩
    · exact ⟨(fun z => nomatch z), xt_stI h4 (by omega) RI q5 (by omega) (by omega) q8 nd0 (Or.inr rfl) (by omega)⟩
    · exact absurd hf0 z
  · obtain ⟨h2', b2, F2, k2, q1, q2, q3, q4, q5, q6, q7, q8, q9, q10, q11, q12, q13, q14, q15, q16⟩ := R2 c1
    obtain ⟨r2, t2, w2, pk2, d2⟩ := gs_ACk bp q2
    rcases cs with ⟨hbn', _⟩ | ⟨_, o3, s3, e3, en3, C3, cs⟩
    · exact absurd (hbn'.symm.trans hbn) (by decide)
    · rcases q16 with ⟨z, _⟩ | ⟨_, hh', l', c', fu', E4, RV, _⟩
      · rw [fu.1] at z; exact absurd z (by decide)
      · obtain ⟨eh, el⟩ := gs_fun_u q12 fu fu'
        subst eh el
        have fu0 := fu
        obtain ⟨f1, f2, f3, f4, f5, f6, f7⟩ := fu
        obtain ⟨rt, pc', env', step⟩ := RV hbn
        obtain ⟨l1, l2, j, hj, ej, l3⟩ := tr_lam gt f6 f7
        have ndl := (((HC l' f6).2.1 hbn).2.1 f7).2
        obtain ⟨X3, E3, G3⟩ := xt_own (m := 8) (nm := 8) (tg := 2) (da := nI (4 * l' + 1)) (en := nI c') q4 (by omega) q15 (by decide) (by decide) rfl
        have l8 := xt_l9 (nm := 8) (tg := 2) (da := nI (4 * l' + 1)) (en := nI c') q4.1 (by omega) q15.1
        have hn : h_n (xh_x h2' 8 2 (nI (4 * l' + 1)) (nI c') (nI c)) = h_n h2' + 1 := rfl
        have E5 := xh_ERs (x := 0) g (show t - 1 < p_cn P by omega) r2 (fun y' _ => by rw [t2]; exact p7 y') E3
        have fF := q6.1
        obtain ⟨S3, R3⟩ := xt_call (A := (xx_at 1 P Z os ov s1 k h F r ret (nI (4 * t)) (nI c) vt vd ve)) (Fk := xf_d F2) (kk := k2 + 1) (sg := 2) (co := nI (4 * t + 1)) (fe := nI (h_n h2')) (ft := 2) (fd := nI (4 * l' + 1)) (fv := nI c') (rt := rt) (wt := 2) (wd := nI (4 * l' + 1)) (we := nI c') H0 ih N0 q2 (xh_GRt q1 G3) X3 q6 (by omega) (by omega) en3 E5 e3 (fun post hp => by
          refine step post (xt_res q5 (by omega) (by omega) q8 q7 q9 nd0 (Or.inr rfl) (by omega) ?_)
          exact xr_stepT (by omega) h4 h5 (xt_mid (by omega) (by omega) (xt_to (by omega) nd1 (by omega) hp)))
        rcases cs with ⟨e, d1, c2, c3⟩ | ⟨d1, o4, s4, e4, en4, C4, cs⟩
        · subst c2 c3; exact xt_stp d1 S3 (fun _ z => z)
        · obtain ⟨h3', b3, F3, k3, u0, u1, u2, u3, u4, u5, u6, u7, u8, u9, u10, u11, u12, u13, u14, u15, u16, u17, u18⟩ := R3 d1
          obtain ⟨A3, lt3⟩ := C3.2.2 d1
          obtain ⟨r3, t3, w3, pk3, d3⟩ := gs_ACk bp u2
          obtain ⟨rt3, pc3, env3, ut, ud, ue, RV3, step3⟩ := xt_RTV hbn u18
          have fu3 := gs_funm A3.1 (show r + 1 < gs_n s2 by omega) fu0
          have E6 : xh_ER P s3 h3' b3 (h_n h2') r := xh_ERm X3.1 (by omega) u0 r2 E3
          obtain ⟨X7, E7, G7⟩ := xt_own (m := 9) (nm := 9) (tg := ut) (da := ud) (en := ue) u4 (by omega) E6 (by decide) (by decide) rfl
          have l9 := xt_l9 (nm := 9) (tg := ut) (da := ud) (en := ue) u4.1 (by omega) E6.1
          have hn3 : h_n (xh_x h3' 9 ut ud ue (nI (h_n h2'))) = h_n h3' + 1 := rfl
          have l8' : xh_l (xh_x h3' 9 ut ud ue (nI (h_n h2'))) (h_n h3') 8 = h_n h2' := by
            rw [xh_xl u4.1 (by omega) E6.1 rfl, if_neg (by decide), xh_lm X3.1 (by omega) u0.2 E3.1]
            exact l8
          have lt23 : h_n h2' < h_n h3' := E6.1
          have o8 := u0.2.2 (h_n h2') (by omega)
          have hD8 : h_D (xh_x h3' 9 ut ud ue (nI (h_n h2'))) (h_n h2') = nI (4 * l' + 1) := by
            have e1 : h_D (xh_x h3' 9 ut ud ue (nI (h_n h2'))) (h_n h2') = h_D h3' (h_n h2') := pk_un (by omega)
            rw [e1, o8.2.2.1]; exact pk_us
          have hE8 : h_E (xh_x h3' 9 ut ud ue (nI (h_n h2'))) (h_n h2') = nI c' := by
            have e1 : h_E (xh_x h3' 9 ut ud ue (nI (h_n h2'))) (h_n h2') = h_E h3' (h_n h2') := pk_un (by omega)
            rw [e1, o8.2.2.2.1]; exact pk_us
          have hT9 : h_T (xh_x h3' 9 ut ud ue (nI (h_n h2'))) (h_n h3') = ut := pk_us
          have hD9 : h_D (xh_x h3' 9 ut ud ue (nI (h_n h2'))) (h_n h3') = ud := pk_us
          have hE9 : h_E (xh_x h3' 9 ut ud ue (nI (h_n h2'))) (h_n h3') = ue := pk_us
          have E8 : xh_ER P s3 (xh_x h3' 9 ut ud ue (nI (h_n h2'))) (xh_b b3 (h_n h3') 0) c' hh' := xh_ERm q4.1 (by omega) (xh_GRt G3 (xh_GRt u0 G7)) f2 E4
          have dn2 : gs_dn s3 (gs_n s2) = 1 := A3.2.2.2 _ (Nat.le_refl _) lt3
          have V : xh_VC P xt_cF xt_cT s3 (xh_x h3' 9 ut ud ue (nI (h_n h2'))) (xh_b b3 (h_n h3') 0) ut ud ue (gs_n s2) := ⟨⟨lt3, fun z => absurd (hbn.symm.trans z) (by decide), fun _ => dn2⟩, fun z => absurd (hbn.symm.trans z) (by decide), fun _ => xh_RVm u4.1 (by omega) G7 lt3 dn2 RV3⟩
          have X9 := xh_xXI (nm := nI j) (ou := nI c') (q := gs_n s2) X7 (by omega) E8.1 rfl (fun _ _ _ => V)
          have E9 := xh_ERx (q := gs_n s2) (tg := ut) (da := ud) (en := ue) (ou := nI c') g X7.1 (by omega) hj (show l' - 1 < p_cn P by omega) fu3.2.1 (by rw [fu3.2.2.2.2.1]; exact l3) rfl E8
          rw [ej] at e4 en4
          have hn4 : h_n (xh_x (xh_x h3' 9 ut ud ue (nI (h_n h2'))) (nI j) ut ud ue (nI c')) = h_n (xh_x h3' 9 ut ud ue (nI (h_n h2'))) + 1 := rfl
          have fF3 := u6.1
          obtain ⟨y1, y2, y3, y4, y5, y6, y7, y8⟩ := xf_pop (xf_EQr (F := xf_p (xf_d F3) 3 (nI (4 * t + 2)) (nI (h_n h3')) ut ud ue))
          obtain ⟨T1, T2⟩ := xt_tail (Fk := xf_d (xf_p (xf_d F3) 3 (nI (4 * t + 2)) (nI (h_n h3')) ut ud ue)) (kk := k3 + 3) (rt := rt3) (wt := ut) (wd := ud) (we := ue) (A := (xx_at 1 P Z os ov s1 k h F r ret (nI (4 * t)) (nI c) vt vd ve)) H0 ih N0 u2 (xh_GRt (xh_GRt u1 G7) ⟨gs_GRr, xh_xHG⟩) X9 (xf_EQt u6 y2) (by omega) (by omega) en4 E9 e4 (fun post hp => by
            refine step3 post (xt_res u5 (by omega) (by omega) u8 u7 u9 nd1 (Or.inl rfl) (by omega) ?_)
            refine xr_stepT (by omega) h4 h5 (xt_mid (by omega) (by omega) (xt_push3 (by omega) nd2 X7.1 (by omega) E7.1 rfl l9 (by omega) ?_))
            rw [hT9, hD9, hE9]
            refine xr_stepT (by omega) h4 h5 (xt_mid (by omega) (by omega) (xt_force (by omega) nd3 X7.1 (by omega) E7.1 rfl l8' ?_))
            rw [hD8, hE8]
            rw [← ej] at hp
            exact xr_stepT (by omega) h4 h5 (xt_mid (by omega) (by omega) (xt_fn (by omega) ndl (xt_take (by omega) ndl y1 (by omega) y3 y6 y7 y8 (by omega) hp))))
          rcases cs with ⟨e, d2, c2, c3⟩ | ⟨d2, c2, c3⟩
          · subst c2 c3; exact T1 e d2
          · subst c2 c3; exact T2 d2
end
theorem xt_main {P : gP} {Z : xZ} {os ov : Nat → Int32} (H : xt_H P Z os) : ∀ f, xt_IH P Z os ov f := by
  have g := xx_PG H.1
  have spent : ∀ t e x b0 s h b F k c ret vt vd ve, t < p_cn P → p_bu P ≤ gs_n s → gs_n s ≤ p_bu P → k ≤ 8 * gs_n s → ∀ f oo s', gs_go P f t e x b0 s = (oo, s') → (oo, s') = (some (4, 0), s) → xt_OUT P Z os ov s (gs_n s) h b F k (xx_at 1 P Z os ov s k h F (gs_n s) ret (nI (4 * t)) (nI c) vt vd ve) oo s' := by
    intro t e x b0 s h b F k c ret vt vd ve ht h1 h1' hk f oo s' _ e2
    obtain ⟨c2, c3⟩ := gs_pair_eq e2.symm
    subst c2 c3
    obtain ⟨⟨⟨hg, gt⟩, a1, a2, a3, a4, a5⟩, HC⟩ := H
    refine ⟨(fun z => nomatch z), xx_ST1 (h' := h) (F' := F) (k' := k + 1) (bg := gs_n s') (ret := ret) (pc := nI (4 * t)) (env := nI c) (vt := vt) (vd := vd) (ve := ve) (by omega) (fun post hp => ?_)⟩
    exact xr_stepT (by omega) a4 a5 (xt_spent (by omega) h1 (by omega) a4 hp)
  intro f
  induction f with
  | zero =>
    intro t e x b0 s h b F k c ret vt vd ve w pk en hf X E hb hF hk oo s' hx
    exact spent t e x b0 s h b F k c ret vt vd ve en.1 (by omega) w.1 hk 0 oo s' hx (hx.symm.trans gs_go0)
  | succ f ih =>
    intro t e x b0 s h b F k c ret vt vd ve w pk en hf X E hb hF hk oo s' hx
    by_cases hlt : p_bu P ≤ gs_n s
    · exact spent t e x b0 s h b F k c ret vt vd ve en.1 hlt w.1 hk (f + 1) oo s' hx (hx.symm.trans (by rw [gs_goS, if_pos hlt]))
    · rw [gs_goS, if_neg hlt] at hx
      have bp := gs_beginBP g w pk en (by omega)
      have ht := en.1
      have Gb : gs_GR s (gs_begin s t e x b0) := gs_FRG (gs_beginFR (P := P))
      have bu := H.1.2.2.1
      have N : xt_ent P f (gs_begin s t e x b0) (gs_n s) t h b F k c := ⟨bp, by omega, by omega, xh_XIs (by omega) Gb X, E, hb, hF, hk⟩
      have key : xt_OUT P Z os ov (gs_begin s t e x b0) (gs_n s) h b F k (xx_at 1 P Z os ov (gs_begin s t e x b0) k h F (gs_n s) ret (nI (4 * t)) (nI c) vt vd ve) oo s' := by
        obtain ⟨⟨⟨hg, gt⟩, a1, a2, a3, a4, a5⟩, HC⟩ := id H
        rcases tr_kind gt ht with hk | hk | hk | hk | hk | hk | hk | hk
        · exact xt_k0 H ih N hk hx
        · exact xt_k1 H ih N hk hx
        · exact xt_k2 H ih N hk hx
        · by_cases hbn : p_bn P = true
          · exact xt_k3N H ih N hk hbn hx
          · exact xt_k3V H ih N hk (Bool.eq_false_iff.mpr hbn) hx
        · exact xt_k4 H ih N hk hx
        · exact xt_k5 H ih N hk hx
        · exact xt_k6 H ih N hk hx
        · exact xt_k7 H ih N hk hx
      refine ⟨fun eo => ?_, key.2⟩
      obtain ⟨h', b', F', k', q1, q2, q3, q4, q5, q6⟩ := key.1 eo
      exact ⟨h', b', F', k', xh_GRt (xh_GRs Gb) q1, q2, q3, q4, q5, q6⟩
end
section
/-! the translation -/
def z_cn (Z : xZ) : Int32 := Z.1.2.2.2.2.2.2.2.2.2.2.2.2.2.2.2.2.2.2.2.2.2.2.1
def z_hg (Z : xZ) : Int32 := Z.1.2.2.2.2.2.2.2.2.2.2.2.2.2.2.2.2.2.2.2.2.2.2.2
def z_e (Z : xZ) (i : Nat) (op tg da ne ot : Int32) : xZ := (Z.1, z_pa Z, z_pb Z, z_pc Z, z_st Z, upd (z_cO Z) i op, upd (z_cT Z) i tg, upd (z_cD Z) i da, upd (z_cN Z) i ne, upd (z_cR Z) i ot)
/-- but for the nodes of p the same -/
def z_same (Z Z' : xZ) (p : Nat) : Prop := Z'.1 = Z.1 ∧ z_pa Z' = z_pa Z ∧ z_pb Z' = z_pb Z ∧ z_pc Z' = z_pc Z ∧ z_st Z' = z_st Z ∧ ∀ i, i / 4 ≠ p → z_cO Z' i = z_cO Z i ∧ z_cT Z' i = z_cT Z i ∧ z_cD Z' i = z_cD Z i ∧ z_cN Z' i = z_cN Z i ∧ z_cR Z' i = z_cR Z i
theorem z_samer {Z : xZ} {p : Nat} : z_same Z Z p := ⟨rfl, rfl, rfl, rfl, rfl, fun _ _ => ⟨rfl, rfl, rfl, rfl, rfl⟩⟩
theorem z_samee {Z Z' : xZ} {p i : Nat} {op tg da ne ot : Int32} (h : z_same Z Z' p) (hi : i / 4 = p) : z_same Z (z_e Z' i op tg da ne ot) p := by
  obtain ⟨h1, h2, h3, h4, h5, h6⟩ := h
  refine ⟨h1, h2, h3, h4, h5, fun j hj => ?_⟩
  have ne : j ≠ i := fun e => hj (e ▸ hi)
  obtain ⟨a1, a2, a3, a4, a5⟩ := h6 j hj
  exact ⟨(pk_un ne).trans a1, (pk_un ne).trans a2, (pk_un ne).trans a3, (pk_un ne).trans a4, (pk_un ne).trans a5⟩
theorem z_nde {Z : xZ} {i : Nat} {op tg da ne ot : Int32} : xt_ND (z_e Z i op tg da ne ot) i op tg da ne ot := ⟨pk_us, pk_us, pk_us, pk_us, pk_us⟩
theorem z_ndn {Z : xZ} {i j : Nat} {op tg da ne ot op' tg' da' ne' ot' : Int32} (h : xt_ND Z j op' tg' da' ne' ot') (hj : j ≠ i) : xt_ND (z_e Z i op tg da ne ot) j op' tg' da' ne' ot' := ⟨(pk_un hj).trans h.1, (pk_un hj).trans h.2.1, (pk_un hj).trans h.2.2.1, (pk_un hj).trans h.2.2.2.1, (pk_un hj).trans h.2.2.2.2⟩
theorem z_ndm {Z Z' : xZ} {p i : Nat} {op tg da ne ot : Int32} (s : z_same Z Z' p) (hi : i / 4 ≠ p) (h : xt_ND Z i op tg da ne ot) : xt_ND Z' i op tg da ne ot := by
  obtain ⟨a1, a2, a3, a4, a5⟩ := s.2.2.2.2.2 i hi
  exact ⟨a1.trans h.1, a2.trans h.2.1, a3.trans h.2.2.1, a4.trans h.2.2.2.1, a5.trans h.2.2.2.2⟩
/-- the code of t, whatever the discipline -/
def xt_CC (P : gP) (Z : xZ) (t : Nat) : Prop := xt_CS P Z t ∧ (p_bn P = false → xt_CV P Z t) ∧ (p_bn P = true → xt_CN P Z t)
theorem xt_CCm {P : gP} {Z Z' : xZ} {p t : Nat} (s : z_same Z Z' p) (hp : t ≠ p) (h : xt_CC P Z t) : xt_CC P Z' t := by
  have m0 : ∀ {op tg da ne ot : Int32}, xt_ND Z (4 * t) op tg da ne ot → xt_ND Z' (4 * t) op tg da ne ot := fun x => z_ndm s (by omega) x
  have m1 : ∀ {op tg da ne ot : Int32}, xt_ND Z (4 * t + 1) op tg da ne ot → xt_ND Z' (4 * t + 1) op tg da ne ot := fun x => z_ndm s (by omega) x
  have m2 : ∀ {op tg da ne ot : Int32}, xt_ND Z (4 * t + 2) op tg da ne ot → xt_ND Z' (4 * t + 2) op tg da ne ot := fun x => z_ndm s (by omega) x
  have m3 : ∀ {op tg da ne ot : Int32}, xt_ND Z (4 * t + 3) op tg da ne ot → xt_ND Z' (4 * t + 3) op tg da ne ot := fun x => z_ndm s (by omega) x
  obtain ⟨⟨a1, a2, a3, a4⟩, b, c⟩ := h
  refine ⟨⟨fun e => m0 (a1 e), fun e => ⟨m0 (a2 e).1, m1 (a2 e).2.1, m2 (a2 e).2.2⟩, fun e => ⟨m0 (a3 e).1, m1 (a3 e).2⟩, fun e => ⟨m0 (a4 e).1, m1 (a4 e).2⟩⟩, fun hb => ?_, fun hb => ?_⟩
  · obtain ⟨b1, b2, b3, b4⟩ := b hb
    exact ⟨fun e => m0 (b1 e), fun e => ⟨m0 (b2 e).1, m1 (b2 e).2⟩, fun e => m0 (b3 e), fun e => ⟨m0 (b4 e).1, m1 (b4 e).2.1, m2 (b4 e).2.2.1, m3 (b4 e).2.2.2⟩⟩
  · obtain ⟨c1, c2, c3, c4⟩ := c hb
    exact ⟨fun e => m0 (c1 e), fun e => m0 (c2 e), fun e => ⟨m0 (c3 e).1, m1 (c3 e).2⟩, fun e => m0 (c4 e)⟩
section
variable {P : gP} {Z : xZ} {h : xH} {F : xF} {o : xO} {bg : Nat} {ret pc env vt vd ve : Int32}
theorem xr_emit {post : SX → Prop} {i : Nat} {op tg da ne ot i0 da0 ne0 ot0 : Int32} (hi : i < 128) (e0 : i0 = nI i) (e1 : da0 = da) (e2 : ne0 = ne) (e3 : ot0 = ot) (hp : post (xr_S P (z_e Z i op tg da ne ot) h F o bg ret pc env vt vd ve)) : wpX_emit post (xr_S P Z h F o bg ret pc env vt vd ve) i0 op tg da0 ne0 ot0 := by
  subst e0 e1 e2 e3
  have ii : vp_in (nI i) 128 := vp_in_nI hi (by decide)
  have c : (nI i).toNatClampNeg = i := nI_clamp (by omega)
  have f1 : upd (z_cO Z) (nI i).toNatClampNeg op = upd (z_cO Z) i op := by rw [c]
  have f2 : upd (z_cT Z) (nI i).toNatClampNeg tg = upd (z_cT Z) i tg := by rw [c]
  have f3 : upd (z_cD Z) (nI i).toNatClampNeg da0 = upd (z_cD Z) i da0 := by rw [c]
  have f4 : upd (z_cN Z) (nI i).toNatClampNeg ne0 = upd (z_cN Z) i ne0 := by rw [c]
  have f5 : upd (z_cR Z) (nI i).toNatClampNeg ot0 = upd (z_cR Z) i ot0 := by rw [c]
  exact And.intro ii (nm_r f1 (And.intro ii (nm_r f2 (And.intro ii (nm_r f3 (And.intro ii (nm_r f4 (And.intro ii (nm_r f5 hp)))))))))
theorem xe_4 (p : Nat) : 4 * nI p = nI (4 * p) := pk_mul 4 p
theorem xe_p2 (p : Nat) : nI p + 2 = nI (p + 2) := nI_add p 2
theorem xe_p3 (p : Nat) : nI p + 3 = nI (p + 3) := nI_add p 3
/-- a part's address -/
theorem xe_a {A : Nat → Int32} {p a : Nat} (hp : p < 32) (h : A p = nI a) : 4 * A (nI p).toNatClampNeg = nI (4 * a) := by rw [nI_clamp (by omega), h, xe_4]
theorem xe_k {A : Nat → Int32} {p : Nat} {y : Int32} (hp : p < 32) (h : A p = y) : A (nI p).toNatClampNeg = y := by rw [nI_clamp (by omega)]; exact h
theorem xe_kn {A : Nat → Int32} {p : Nat} {y z : Int32} (hp : p < 32) (h : A p = y) (n : ¬ y = z) : ¬ A (nI p).toNatClampNeg = z := by rw [nI_clamp (by omega), h]; exact n
def xe_OK (P : gP) (Z : xZ) (p : Nat) (Z' : xZ) : Prop := z_same Z Z' p ∧ xt_CC P Z' p
section
variable {p hg : Nat} (hc : p_cn P ≤ 32) (hp : p < p_cn P) (gt : tr_G (p_kd P) (p_ag P) (z_pa Z) (z_pb Z) (z_pc Z) (p_fr P) (z_st Z) (p_T P) (p_cn P) hg)
theorem xe_sh (hk : p_kd P p = 0 ∨ p_kd P p = 4 ∨ p_kd P p = 5 ∨ p_kd P p = 6) (hc : p_cn P ≤ 32) (hp : p < p_cn P) (gt : tr_G (p_kd P) (p_ag P) (z_pa Z) (z_pb Z) (z_pc Z) (p_fr P) (z_st Z) (p_T P) (p_cn P) hg) : ∃ Z', xe_OK P Z p Z' ∧ ∀ post : SX → Prop, post (xr_S P Z' h F o bg ret pc env vt vd ve) → wpX_translateShared post (xr_S P Z h F o bg ret pc env vt vd ve) (nI p) := by
  have ip : vp_in (nI p) 32 := vp_in_nI (by omega) (by decide)
  have p32 : p < 32 := by omega
  rcases hk with hk | hk | hk | hk
  · refine ⟨z_e Z (4 * p) 0 1 (p_ag P p) 0 0, ⟨z_samee z_samer (by omega), ⟨fun _ => z_nde, fun e => absurd (hk.symm.trans e) (by decide), fun e => absurd (hk.symm.trans e) (by decide), fun e => absurd (hk.symm.trans e) (by decide)⟩, fun _ => ⟨fun e => absurd (hk.symm.trans e) (by decide), fun e => absurd (hk.symm.trans e) (by decide), fun e => absurd (hk.symm.trans e) (by decide), fun e => absurd (hk.symm.trans e) (by decide)⟩, fun _ => ⟨fun e => absurd (hk.symm.trans e) (by decide), fun e => absurd (hk.symm.trans e) (by decide), fun e => absurd (hk.symm.trans e) (by decide), fun e => absurd (hk.symm.trans e) (by decide)⟩⟩, fun post q => ?_⟩
    exact nm_r (xe_4 p) (And.intro ip (br_t (xe_k p32 hk) (And.intro ip (xr_emit (Z := Z) (P := P) (h := h) (F := F) (o := o) (bg := bg) (ret := ret) (pc := pc) (env := env) (vt := vt) (vd := vd) (ve := ve) (by omega) rfl (xe_k p32 rfl) rfl rfl q))))
  · obtain ⟨p1, p2, p3, p4, p5, p6, p7⟩ := tr_two gt hp (Or.inr hk)
    refine ⟨z_e (z_e (z_e Z (4 * p) 1 1 9 (nI (4 * (p_T P p - 1))) (nI (4 * p + 1))) (4 * p + 1) 1 1 10 (nI (4 * (p - 1))) (nI (4 * p + 2))) (4 * p + 2) 5 3 9 0 10, ⟨z_samee (z_samee (z_samee z_samer (by omega)) (by omega)) (by omega), ⟨fun e => absurd (hk.symm.trans e) (by decide), fun _ => ⟨z_ndn (z_ndn z_nde (by omega)) (by omega), z_ndn z_nde (by omega), z_nde⟩, fun e => absurd (hk.symm.trans e) (by decide), fun e => absurd (hk.symm.trans e) (by decide)⟩, fun _ => ⟨fun e => absurd (hk.symm.trans e) (by decide), fun e => absurd (hk.symm.trans e) (by decide), fun e => absurd (hk.symm.trans e) (by decide), fun e => absurd (hk.symm.trans e) (by decide)⟩, fun _ => ⟨fun e => absurd (hk.symm.trans e) (by decide), fun e => absurd (hk.symm.trans e) (by decide), fun e => absurd (hk.symm.trans e) (by decide), fun e => absurd (hk.symm.trans e) (by decide)⟩⟩, fun post q => ?_⟩
    refine nm_r (xe_4 p) (And.intro ip (br_f (xe_kn p32 hk (by decide)) (And.intro ip ?_)))
    refine xr_emit (Z := Z) (P := P) (h := h) (F := F) (o := o) (bg := bg) (ret := ret) (pc := pc) (env := env) (vt := vt) (vd := vd) (ve := ve) (by omega) rfl rfl (xe_a p32 p4) (nI_1 _) ?_
    refine And.intro ip (br_t (xe_k p32 hk) (And.intro ip ?_))
    refine xr_emit (Z := z_e Z (4 * p) 1 1 9 (nI (4 * (p_T P p - 1))) (nI (4 * p + 1))) (P := P) (h := h) (F := F) (o := o) (bg := bg) (ret := ret) (pc := pc) (env := env) (vt := vt) (vd := vd) (ve := ve) (by omega) (nI_1 _) rfl (xe_a (A := z_pb Z) p32 p5) (xe_p2 _) ?_
    exact xr_emit (Z := z_e (z_e Z (4 * p) 1 1 9 (nI (4 * (p_T P p - 1))) (nI (4 * p + 1))) (4 * p + 1) 1 1 10 (nI (4 * (p - 1))) (nI (4 * p + 2))) (P := P) (h := h) (F := F) (o := o) (bg := bg) (ret := ret) (pc := pc) (env := env) (vt := vt) (vd := vd) (ve := ve) (by omega) (xe_p2 _) rfl rfl rfl q
  · obtain ⟨p1, p2, p3, p4, p5, p6, p7, p8, p9, p10, p11⟩ := tr_ifz gt hp hk
    refine ⟨z_e (z_e Z (4 * p) 1 1 9 (nI (4 * (p_T P (p_T P p) - 1))) (nI (4 * p + 1))) (4 * p + 1) 6 3 9 (nI (4 * (p_T P p - 1))) (nI (4 * (p - 1))), ⟨z_samee (z_samee z_samer (by omega)) (by omega), ⟨fun e => absurd (hk.symm.trans e) (by decide), fun e => absurd (hk.symm.trans e) (by decide), fun _ => ⟨z_ndn z_nde (by omega), z_nde⟩, fun e => absurd (hk.symm.trans e) (by decide)⟩, fun _ => ⟨fun e => absurd (hk.symm.trans e) (by decide), fun e => absurd (hk.symm.trans e) (by decide), fun e => absurd (hk.symm.trans e) (by decide), fun e => absurd (hk.symm.trans e) (by decide)⟩, fun _ => ⟨fun e => absurd (hk.symm.trans e) (by decide), fun e => absurd (hk.symm.trans e) (by decide), fun e => absurd (hk.symm.trans e) (by decide), fun e => absurd (hk.symm.trans e) (by decide)⟩⟩, fun post q => ?_⟩
    refine nm_r (xe_4 p) (And.intro ip (br_f (xe_kn p32 hk (by decide)) (And.intro ip ?_)))
    refine xr_emit (Z := Z) (P := P) (h := h) (F := F) (o := o) (bg := bg) (ret := ret) (pc := pc) (env := env) (vt := vt) (vd := vd) (ve := ve) (by omega) rfl rfl (xe_a p32 p6) (nI_1 _) ?_
    refine And.intro ip (br_f (xe_kn p32 hk (by decide)) (And.intro ip (br_t (xe_k p32 hk) (And.intro ip (And.intro ip ?_)))))
    exact xr_emit (Z := z_e Z (4 * p) 1 1 9 (nI (4 * (p_T P (p_T P p) - 1))) (nI (4 * p + 1))) (P := P) (h := h) (F := F) (o := o) (bg := bg) (ret := ret) (pc := pc) (env := env) (vt := vt) (vd := vd) (ve := ve) (by omega) (nI_1 _) rfl (xe_a (A := z_pb Z) p32 p7) (xe_a (A := z_pc Z) p32 p8) q
  · obtain ⟨p1, p2, p3⟩ := tr_prt gt hp hk
    refine ⟨z_e (z_e Z (4 * p) 1 1 9 (nI (4 * (p - 1))) (nI (4 * p + 1))) (4 * p + 1) 7 3 9 0 0, ⟨z_samee (z_samee z_samer (by omega)) (by omega), ⟨fun e => absurd (hk.symm.trans e) (by decide), fun e => absurd (hk.symm.trans e) (by decide), fun e => absurd (hk.symm.trans e) (by decide), fun _ => ⟨z_ndn z_nde (by omega), z_nde⟩⟩, fun _ => ⟨fun e => absurd (hk.symm.trans e) (by decide), fun e => absurd (hk.symm.trans e) (by decide), fun e => absurd (hk.symm.trans e) (by decide), fun e => absurd (hk.symm.trans e) (by decide)⟩, fun _ => ⟨fun e => absurd (hk.symm.trans e) (by decide), fun e => absurd (hk.symm.trans e) (by decide), fun e => absurd (hk.symm.trans e) (by decide), fun e => absurd (hk.symm.trans e) (by decide)⟩⟩, fun post q => ?_⟩
    refine nm_r (xe_4 p) (And.intro ip (br_f (xe_kn p32 hk (by decide)) (And.intro ip ?_)))
    refine xr_emit (Z := Z) (P := P) (h := h) (F := F) (o := o) (bg := bg) (ret := ret) (pc := pc) (env := env) (vt := vt) (vd := vd) (ve := ve) (by omega) rfl rfl (xe_a p32 p2) (nI_1 _) ?_
    refine And.intro ip (br_f (xe_kn p32 hk (by decide)) (And.intro ip (br_f (xe_kn p32 hk (by decide)) ?_)))
    exact xr_emit (Z := z_e Z (4 * p) 1 1 9 (nI (4 * (p - 1))) (nI (4 * p + 1))) (P := P) (h := h) (F := F) (o := o) (bg := bg) (ret := ret) (pc := pc) (env := env) (vt := vt) (vd := vd) (ve := ve) (by omega) (nI_1 _) rfl rfl rfl q
end
end
end
section
/-! the translation, by value, by name; the loop -/
section
variable {P : gP} {Z : xZ} {h : xH} {F : xF} {o : xO} {bg : Nat} {ret pc env vt vd ve : Int32} {p hg : Nat}
theorem xe_bv (hbn : p_bn P = false) (hk : p_kd P p = 1 ∨ p_kd P p = 2 ∨ p_kd P p = 7 ∨ p_kd P p = 3) (hc : p_cn P ≤ 32) (hp : p < p_cn P) (gt : tr_G (p_kd P) (p_ag P) (z_pa Z) (z_pb Z) (z_pc Z) (p_fr P) (z_st Z) (p_T P) (p_cn P) hg) : ∃ Z', xe_OK P Z p Z' ∧ ∀ post : SX → Prop, post (xr_S P Z' h F o bg ret pc env vt vd ve) → wpX_translateByValue post (xr_S P Z h F o bg ret pc env vt vd ve) (nI p) := by
  have ip : vp_in (nI p) 32 := vp_in_nI (by omega) (by decide)
  have p32 : p < 32 := by omega
  rcases hk with hk | hk | hk | hk
  · refine ⟨z_e Z (4 * p) 0 3 (p_ag P p) 0 0, ⟨z_samee z_samer (by omega), ⟨(fun e => absurd (hk.symm.trans e) (by decide)), (fun e => absurd (hk.symm.trans e) (by decide)), (fun e => absurd (hk.symm.trans e) (by decide)), (fun e => absurd (hk.symm.trans e) (by decide))⟩, fun _ => ⟨fun _ => z_nde, (fun e => absurd (hk.symm.trans e) (by decide)), (fun e => absurd (hk.symm.trans e) (by decide)), (fun e => absurd (hk.symm.trans e) (by decide))⟩, (fun z => absurd (hbn.symm.trans z) (by decide))⟩, fun post q => ?_⟩
    exact nm_r (xe_4 p) (And.intro ip (nm_e (And.intro ip (nm_e (And.intro ip (br_t (xe_k p32 hk) (And.intro ip (xr_emit (Z := Z) (P := P) (h := h) (F := F) (o := o) (bg := bg) (ret := ret) (pc := pc) (env := env) (vt := vt) (vd := vd) (ve := ve) (by omega) rfl (xe_k p32 rfl) rfl rfl q))))))))
  · obtain ⟨p1, p2, p3⟩ := tr_lam gt hp hk
    refine ⟨z_e (z_e Z (4 * p) 0 2 (nI (4 * p + 1)) 0 0) (4 * p + 1) 2 0 (p_ag P p) (nI (4 * (p - 1))) 0, ⟨z_samee (z_samee z_samer (by omega)) (by omega), ⟨(fun e => absurd (hk.symm.trans e) (by decide)), (fun e => absurd (hk.symm.trans e) (by decide)), (fun e => absurd (hk.symm.trans e) (by decide)), (fun e => absurd (hk.symm.trans e) (by decide))⟩, fun _ => ⟨(fun e => absurd (hk.symm.trans e) (by decide)), fun _ => ⟨z_ndn z_nde (by omega), z_nde⟩, (fun e => absurd (hk.symm.trans e) (by decide)), (fun e => absurd (hk.symm.trans e) (by decide))⟩, (fun z => absurd (hbn.symm.trans z) (by decide))⟩, fun post q => ?_⟩
    refine nm_r (xe_4 p) (And.intro ip (nm_r (xe_a p32 p2) (And.intro ip (nm_e (And.intro ip (br_f (xe_kn p32 hk (by decide)) (And.intro ip (br_t (xe_k p32 hk) ?_))))))))
    refine xr_emit (Z := Z) (P := P) (h := h) (F := F) (o := o) (bg := bg) (ret := ret) (pc := pc) (env := env) (vt := vt) (vd := vd) (ve := ve) (by omega) rfl (nI_1 _) rfl rfl ?_
    refine And.intro ip ?_
    exact xr_emit (Z := z_e Z (4 * p) 0 2 (nI (4 * p + 1)) 0 0) (P := P) (h := h) (F := F) (o := o) (bg := bg) (ret := ret) (pc := pc) (env := env) (vt := vt) (vd := vd) (ve := ve) (by omega) (nI_1 _) (xe_k p32 rfl) rfl rfl q
  · obtain ⟨p1, p2, p3, p4, p5, p6⟩ := tr_let gt hp hk
    refine ⟨z_e Z (4 * p) 1 0 (p_ag P p) (nI (4 * (p_T P p - 1))) (nI (4 * (p - 1))), ⟨z_samee z_samer (by omega), ⟨(fun e => absurd (hk.symm.trans e) (by decide)), (fun e => absurd (hk.symm.trans e) (by decide)), (fun e => absurd (hk.symm.trans e) (by decide)), (fun e => absurd (hk.symm.trans e) (by decide))⟩, fun _ => ⟨(fun e => absurd (hk.symm.trans e) (by decide)), (fun e => absurd (hk.symm.trans e) (by decide)), fun _ => z_nde, (fun e => absurd (hk.symm.trans e) (by decide))⟩, (fun z => absurd (hbn.symm.trans z) (by decide))⟩, fun post q => ?_⟩
    exact nm_r (xe_4 p) (And.intro ip (nm_r (xe_a p32 p4) (And.intro ip (nm_r (xe_a p32 p5) (And.intro ip (br_f (xe_kn p32 hk (by decide)) (And.intro ip (br_f (xe_kn p32 hk (by decide)) (And.intro ip (br_t (xe_k p32 hk) (And.intro ip (xr_emit (Z := Z) (P := P) (h := h) (F := F) (o := o) (bg := bg) (ret := ret) (pc := pc) (env := env) (vt := vt) (vd := vd) (ve := ve) (by omega) rfl (xe_k p32 rfl) rfl rfl q))))))))))))
  · obtain ⟨p1, p2, p3, p4, p5, p6, p7⟩ := tr_two gt hp (Or.inl hk)
    refine ⟨z_e (z_e (z_e (z_e Z (4 * p) 1 2 8 (nI (4 * (p_T P p - 1))) (nI (4 * p + 1))) (4 * p + 1) 1 0 9 (nI (4 * (p - 1))) (nI (4 * p + 2))) (4 * p + 2) 3 3 9 (nI (4 * p + 3)) 0) (4 * p + 3) 4 3 8 0 0, ⟨z_samee (z_samee (z_samee (z_samee z_samer (by omega)) (by omega)) (by omega)) (by omega), ⟨(fun e => absurd (hk.symm.trans e) (by decide)), (fun e => absurd (hk.symm.trans e) (by decide)), (fun e => absurd (hk.symm.trans e) (by decide)), (fun e => absurd (hk.symm.trans e) (by decide))⟩, fun _ => ⟨(fun e => absurd (hk.symm.trans e) (by decide)), (fun e => absurd (hk.symm.trans e) (by decide)), (fun e => absurd (hk.symm.trans e) (by decide)), fun _ => ⟨z_ndn (z_ndn (z_ndn z_nde (by omega)) (by omega)) (by omega), z_ndn (z_ndn z_nde (by omega)) (by omega), z_ndn z_nde (by omega), z_nde⟩⟩, (fun z => absurd (hbn.symm.trans z) (by decide))⟩, fun post q => ?_⟩
    refine nm_r (xe_4 p) (And.intro ip (nm_r (xe_a p32 p4) (And.intro ip (nm_r (xe_a p32 p5) (And.intro ip (br_f (xe_kn p32 hk (by decide)) (And.intro ip (br_f (xe_kn p32 hk (by decide)) (And.intro ip (br_f (xe_kn p32 hk (by decide)) ?_))))))))))
    refine xr_emit (Z := Z) (P := P) (h := h) (F := F) (o := o) (bg := bg) (ret := ret) (pc := pc) (env := env) (vt := vt) (vd := vd) (ve := ve) (by omega) rfl rfl rfl (nI_1 _) ?_
    refine xr_emit (Z := z_e Z (4 * p) 1 2 8 (nI (4 * (p_T P p - 1))) (nI (4 * p + 1))) (P := P) (h := h) (F := F) (o := o) (bg := bg) (ret := ret) (pc := pc) (env := env) (vt := vt) (vd := vd) (ve := ve) (by omega) (nI_1 _) rfl rfl (xe_p2 _) ?_
    refine xr_emit (Z := z_e (z_e Z (4 * p) 1 2 8 (nI (4 * (p_T P p - 1))) (nI (4 * p + 1))) (4 * p + 1) 1 0 9 (nI (4 * (p - 1))) (nI (4 * p + 2))) (P := P) (h := h) (F := F) (o := o) (bg := bg) (ret := ret) (pc := pc) (env := env) (vt := vt) (vd := vd) (ve := ve) (by omega) (xe_p2 _) rfl (xe_p3 _) rfl ?_
    exact xr_emit (Z := z_e (z_e (z_e Z (4 * p) 1 2 8 (nI (4 * (p_T P p - 1))) (nI (4 * p + 1))) (4 * p + 1) 1 0 9 (nI (4 * (p - 1))) (nI (4 * p + 2))) (4 * p + 2) 3 3 9 (nI (4 * p + 3)) 0) (P := P) (h := h) (F := F) (o := o) (bg := bg) (ret := ret) (pc := pc) (env := env) (vt := vt) (vd := vd) (ve := ve) (by omega) (xe_p3 _) rfl rfl rfl q
theorem xe_bn (hbn : p_bn P = true) (hk : p_kd P p = 1 ∨ p_kd P p = 2 ∨ p_kd P p = 7 ∨ p_kd P p = 3) (hc : p_cn P ≤ 32) (hp : p < p_cn P) (gt : tr_G (p_kd P) (p_ag P) (z_pa Z) (z_pb Z) (z_pc Z) (p_fr P) (z_st Z) (p_T P) (p_cn P) hg) : ∃ Z', xe_OK P Z p Z' ∧ ∀ post : SX → Prop, post (xr_S P Z' h F o bg ret pc env vt vd ve) → wpX_translateByName post (xr_S P Z h F o bg ret pc env vt vd ve) (nI p) := by
  have ip : vp_in (nI p) 32 := vp_in_nI (by omega) (by decide)
  have p32 : p < 32 := by omega
  rcases hk with hk | hk | hk | hk
  · refine ⟨z_e Z (4 * p) 4 3 (p_ag P p) 0 0, ⟨z_samee z_samer (by omega), ⟨(fun e => absurd (hk.symm.trans e) (by decide)), (fun e => absurd (hk.symm.trans e) (by decide)), (fun e => absurd (hk.symm.trans e) (by decide)), (fun e => absurd (hk.symm.trans e) (by decide))⟩, (fun z => absurd (hbn.symm.trans z) (by decide)), fun _ => ⟨fun _ => z_nde, (fun e => absurd (hk.symm.trans e) (by decide)), (fun e => absurd (hk.symm.trans e) (by decide)), (fun e => absurd (hk.symm.trans e) (by decide))⟩⟩, fun post q => ?_⟩
    exact nm_r (xe_4 p) (And.intro ip (nm_e (And.intro ip (nm_e (And.intro ip (br_t (xe_k p32 hk) (And.intro ip (xr_emit (Z := Z) (P := P) (h := h) (F := F) (o := o) (bg := bg) (ret := ret) (pc := pc) (env := env) (vt := vt) (vd := vd) (ve := ve) (by omega) rfl (xe_k p32 rfl) rfl rfl q))))))))
  · obtain ⟨p1, p2, p3⟩ := tr_lam gt hp hk
    refine ⟨z_e Z (4 * p) 2 0 (p_ag P p) (nI (4 * (p - 1))) 0, ⟨z_samee z_samer (by omega), ⟨(fun e => absurd (hk.symm.trans e) (by decide)), (fun e => absurd (hk.symm.trans e) (by decide)), (fun e => absurd (hk.symm.trans e) (by decide)), (fun e => absurd (hk.symm.trans e) (by decide))⟩, (fun z => absurd (hbn.symm.trans z) (by decide)), fun _ => ⟨(fun e => absurd (hk.symm.trans e) (by decide)), fun _ => z_nde, (fun e => absurd (hk.symm.trans e) (by decide)), (fun e => absurd (hk.symm.trans e) (by decide))⟩⟩, fun post q => ?_⟩
    exact nm_r (xe_4 p) (And.intro ip (nm_r (xe_a p32 p2) (And.intro ip (nm_e (And.intro ip (br_f (xe_kn p32 hk (by decide)) (And.intro ip (br_t (xe_k p32 hk) (And.intro ip (xr_emit (Z := Z) (P := P) (h := h) (F := F) (o := o) (bg := bg) (ret := ret) (pc := pc) (env := env) (vt := vt) (vd := vd) (ve := ve) (by omega) rfl (xe_k p32 rfl) rfl rfl q))))))))))
  · obtain ⟨p1, p2, p3, p4, p5, p6⟩ := tr_let gt hp hk
    refine ⟨z_e (z_e Z (4 * p) 3 2 (nI (4 * (p_T P p - 1))) (nI (4 * p + 1)) 0) (4 * p + 1) 2 0 (p_ag P p) (nI (4 * (p - 1))) 0, ⟨z_samee (z_samee z_samer (by omega)) (by omega), ⟨(fun e => absurd (hk.symm.trans e) (by decide)), (fun e => absurd (hk.symm.trans e) (by decide)), (fun e => absurd (hk.symm.trans e) (by decide)), (fun e => absurd (hk.symm.trans e) (by decide))⟩, (fun z => absurd (hbn.symm.trans z) (by decide)), fun _ => ⟨(fun e => absurd (hk.symm.trans e) (by decide)), (fun e => absurd (hk.symm.trans e) (by decide)), fun _ => ⟨z_ndn z_nde (by omega), z_nde⟩, (fun e => absurd (hk.symm.trans e) (by decide))⟩⟩, fun post q => ?_⟩
    refine nm_r (xe_4 p) (And.intro ip (nm_r (xe_a p32 p4) (And.intro ip (nm_r (xe_a p32 p5) (And.intro ip (br_f (xe_kn p32 hk (by decide)) (And.intro ip (br_f (xe_kn p32 hk (by decide)) (And.intro ip (br_t (xe_k p32 hk) ?_))))))))))
    refine xr_emit (Z := Z) (P := P) (h := h) (F := F) (o := o) (bg := bg) (ret := ret) (pc := pc) (env := env) (vt := vt) (vd := vd) (ve := ve) (by omega) rfl rfl (nI_1 _) rfl ?_
    refine And.intro ip ?_
    exact xr_emit (Z := z_e Z (4 * p) 3 2 (nI (4 * (p_T P p - 1))) (nI (4 * p + 1)) 0) (P := P) (h := h) (F := F) (o := o) (bg := bg) (ret := ret) (pc := pc) (env := env) (vt := vt) (vd := vd) (ve := ve) (by omega) (nI_1 _) (xe_k p32 rfl) rfl rfl q
  · obtain ⟨p1, p2, p3, p4, p5, p6, p7⟩ := tr_two gt hp (Or.inl hk)
    refine ⟨z_e Z (4 * p) 3 2 (nI (4 * (p - 1))) (nI (4 * (p_T P p - 1))) 0, ⟨z_samee z_samer (by omega), ⟨(fun e => absurd (hk.symm.trans e) (by decide)), (fun e => absurd (hk.symm.trans e) (by decide)), (fun e => absurd (hk.symm.trans e) (by decide)), (fun e => absurd (hk.symm.trans e) (by decide))⟩, (fun z => absurd (hbn.symm.trans z) (by decide)), fun _ => ⟨(fun e => absurd (hk.symm.trans e) (by decide)), (fun e => absurd (hk.symm.trans e) (by decide)), (fun e => absurd (hk.symm.trans e) (by decide)), fun _ => z_nde⟩⟩, fun post q => ?_⟩
    exact nm_r (xe_4 p) (And.intro ip (nm_r (xe_a p32 p4) (And.intro ip (nm_r (xe_a p32 p5) (And.intro ip (br_f (xe_kn p32 hk (by decide)) (And.intro ip (br_f (xe_kn p32 hk (by decide)) (And.intro ip (br_f (xe_kn p32 hk (by decide)) (xr_emit (Z := Z) (P := P) (h := h) (F := F) (o := o) (bg := bg) (ret := ret) (pc := pc) (env := env) (vt := vt) (vd := vd) (ve := ve) (by omega) rfl rfl rfl rfl q)))))))))))
/-- one turn of the translation -/
theorem xe_turn {post : SX → Prop} {n : Nat} (hc : p_cn P ≤ 32) (hp : p < p_cn P) (gt : tr_G (p_kd P) (p_ag P) (z_pa Z) (z_pb Z) (z_pc Z) (p_fr P) (z_st Z) (p_T P) (p_cn P) hg) (hcn : z_cn Z = nI (p_cn P)) : ∃ Z', xe_OK P Z p Z' ∧ ((∀ Z : xZ, Z = Z' → wX_translate_2 post n (nI (p + 1)) Z.1.1 Z.1.2.1 Z.1.2.2.1 Z.1.2.2.2.1 Z.1.2.2.2.2.1 Z.1.2.2.2.2.2.1 Z.1.2.2.2.2.2.2.1 Z.1.2.2.2.2.2.2.2.1 Z.1.2.2.2.2.2.2.2.2.1 Z.1.2.2.2.2.2.2.2.2.2.1 Z.1.2.2.2.2.2.2.2.2.2.2.1 Z.1.2.2.2.2.2.2.2.2.2.2.2.1 Z.1.2.2.2.2.2.2.2.2.2.2.2.2.1 Z.1.2.2.2.2.2.2.2.2.2.2.2.2.2.1 Z.1.2.2.2.2.2.2.2.2.2.2.2.2.2.2.1 Z.1.2.2.2.2.2.2.2.2.2.2.2.2.2.2.2.1 Z.1.2.2.2.2.2.2.2.2.2.2.2.2.2.2.2.2.1 Z.1.2.2.2.2.2.2.2.2.2.2.2.2.2.2.2.2.2.1 Z.1.2.2.2.2.2.2.2.2.2.2.2.2.2.2.2.2.2.2.1 Z.1.2.2.2.2.2.2.2.2.2.2.2.2.2.2.2.2.2.2.2.1 Z.1.2.2.2.2.2.2.2.2.2.2.2.2.2.2.2.2.2.2.2.2.1 Z.1.2.2.2.2.2.2.2.2.2.2.2.2.2.2.2.2.2.2.2.2.2.1 (nI (p_bu P)) (nI (p_pc P)) Z.1.2.2.2.2.2.2.2.2.2.2.2.2.2.2.2.2.2.2.2.2.2.2.1 Z.1.2.2.2.2.2.2.2.2.2.2.2.2.2.2.2.2.2.2.2.2.2.2.2 (nI (h_n h)) (nI (f_n F)) (nI (p_rc P)) (yv_p1 P) ret (nI bg) pc env vt vd ve (p_kd P) (p_ag P) (z_pa Z) (z_pb Z) (z_pc Z) (p_fr P) (z_st Z) (o_s o) (o_v o) (o_p o) (o_l o) (z_cO Z) (z_cT Z) (z_cD Z) (z_cN Z) (z_cR Z) (h_N h) (h_T h) (h_D h) (h_E h) (h_O h) (f_S F) (f_C F) (f_E F) (f_T F) (f_D F) (f_V F)) → wX_translate_2 post (n + 1) (nI p) Z.1.1 Z.1.2.1 Z.1.2.2.1 Z.1.2.2.2.1 Z.1.2.2.2.2.1 Z.1.2.2.2.2.2.1 Z.1.2.2.2.2.2.2.1 Z.1.2.2.2.2.2.2.2.1 Z.1.2.2.2.2.2.2.2.2.1 Z.1.2.2.2.2.2.2.2.2.2.1 Z.1.2.2.2.2.2.2.2.2.2.2.1 Z.1.2.2.2.2.2.2.2.2.2.2.2.1 Z.1.2.2.2.2.2.2.2.2.2.2.2.2.1 Z.1.2.2.2.2.2.2.2.2.2.2.2.2.2.1 Z.1.2.2.2.2.2.2.2.2.2.2.2.2.2.2.1 Z.1.2.2.2.2.2.2.2.2.2.2.2.2.2.2.2.1 Z.1.2.2.2.2.2.2.2.2.2.2.2.2.2.2.2.2.1 Z.1.2.2.2.2.2.2.2.2.2.2.2.2.2.2.2.2.2.1 Z.1.2.2.2.2.2.2.2.2.2.2.2.2.2.2.2.2.2.2.1 Z.1.2.2.2.2.2.2.2.2.2.2.2.2.2.2.2.2.2.2.2.1 Z.1.2.2.2.2.2.2.2.2.2.2.2.2.2.2.2.2.2.2.2.2.1 Z.1.2.2.2.2.2.2.2.2.2.2.2.2.2.2.2.2.2.2.2.2.2.1 (nI (p_bu P)) (nI (p_pc P)) Z.1.2.2.2.2.2.2.2.2.2.2.2.2.2.2.2.2.2.2.2.2.2.2.1 Z.1.2.2.2.2.2.2.2.2.2.2.2.2.2.2.2.2.2.2.2.2.2.2.2 (nI (h_n h)) (nI (f_n F)) (nI (p_rc P)) (yv_p1 P) ret (nI bg) pc env vt vd ve (p_kd P) (p_ag P) (z_pa Z) (z_pb Z) (z_pc Z) (p_fr P) (z_st Z) (o_s o) (o_v o) (o_p o) (o_l o) (z_cO Z) (z_cT Z) (z_cD Z) (z_cN Z) (z_cR Z) (h_N h) (h_T h) (h_D h) (h_E h) (h_O h) (f_S F) (f_C F) (f_E F) (f_T F) (f_D F) (f_V F)) := by
  have ip : vp_in (nI p) 32 := vp_in_nI (by omega) (by decide)
  have p32 : p < 32 := by omega
  have cc : ¬ z_cn Z ≤ nI p := by rw [hcn]; exact nI_ge hp (by omega)
  rcases tr_kind gt hp with hk | hk | hk | hk | hk | hk | hk | hk
  · obtain ⟨Z', ok, K⟩ := xe_sh (Z := Z) (P := P) (h := h) (F := F) (o := o) (bg := bg) (ret := ret) (pc := pc) (env := env) (vt := vt) (vd := vd) (ve := ve) (Or.inl hk) hc hp gt
    refine ⟨Z', ok, fun q => ?_⟩
    exact br_f cc (And.intro ip (nm_r (xe_k p32 hk) (br_t rfl (br_f (by decide) (K _ (nm_r (nI_1 p) (q Z' rfl)))))))
  · by_cases hbn : p_bn P = true
    · obtain ⟨Z', ok, K⟩ := xe_bn (Z := Z) (P := P) (h := h) (F := F) (o := o) (bg := bg) (ret := ret) (pc := pc) (env := env) (vt := vt) (vd := vd) (ve := ve) hbn (Or.inl hk) hc hp gt
      refine ⟨Z', ok, fun q => ?_⟩
      exact br_f cc (And.intro ip (nm_r (xe_k p32 hk) (br_f (by decide) (br_f (by decide) (br_f (by decide) (br_f (by decide) (br_t rfl (br_f (by rw [yv_p1t hbn]; decide) (K _ (nm_r (nI_1 p) (q Z' rfl)))))))))))
    · have hbn' : p_bn P = false := Bool.eq_false_iff.mpr hbn
      obtain ⟨Z', ok, K⟩ := xe_bv (Z := Z) (P := P) (h := h) (F := F) (o := o) (bg := bg) (ret := ret) (pc := pc) (env := env) (vt := vt) (vd := vd) (ve := ve) hbn' (Or.inl hk) hc hp gt
      refine ⟨Z', ok, fun q => ?_⟩
      exact br_f cc (And.intro ip (nm_r (xe_k p32 hk) (br_f (by decide) (br_f (by decide) (br_f (by decide) (br_f (by decide) (br_t rfl (br_t (yv_p1f hbn') (K _ (nm_r (nI_1 p) (q Z' rfl)))))))))))
  · by_cases hbn : p_bn P = true
    · obtain ⟨Z', ok, K⟩ := xe_bn (Z := Z) (P := P) (h := h) (F := F) (o := o) (bg := bg) (ret := ret) (pc := pc) (env := env) (vt := vt) (vd := vd) (ve := ve) hbn (Or.inr (Or.inl hk)) hc hp gt
      refine ⟨Z', ok, fun q => ?_⟩
      exact br_f cc (And.intro ip (nm_r (xe_k p32 hk) (br_f (by decide) (br_f (by decide) (br_f (by decide) (br_f (by decide) (br_t rfl (br_f (by rw [yv_p1t hbn]; decide) (K _ (nm_r (nI_1 p) (q Z' rfl)))))))))))
    · have hbn' : p_bn P = false := Bool.eq_false_iff.mpr hbn
      obtain ⟨Z', ok, K⟩ := xe_bv (Z := Z) (P := P) (h := h) (F := F) (o := o) (bg := bg) (ret := ret) (pc := pc) (env := env) (vt := vt) (vd := vd) (ve := ve) hbn' (Or.inr (Or.inl hk)) hc hp gt
      refine ⟨Z', ok, fun q => ?_⟩
      exact br_f cc (And.intro ip (nm_r (xe_k p32 hk) (br_f (by decide) (br_f (by decide) (br_f (by decide) (br_f (by decide) (br_t rfl (br_t (yv_p1f hbn') (K _ (nm_r (nI_1 p) (q Z' rfl)))))))))))
  · by_cases hbn : p_bn P = true
    · obtain ⟨Z', ok, K⟩ := xe_bn (Z := Z) (P := P) (h := h) (F := F) (o := o) (bg := bg) (ret := ret) (pc := pc) (env := env) (vt := vt) (vd := vd) (ve := ve) hbn (Or.inr (Or.inr (Or.inr hk))) hc hp gt
      refine ⟨Z', ok, fun q => ?_⟩
      exact br_f cc (And.intro ip (nm_r (xe_k p32 hk) (br_f (by decide) (br_f (by decide) (br_f (by decide) (br_f (by decide) (br_t rfl (br_f (by rw [yv_p1t hbn]; decide) (K _ (nm_r (nI_1 p) (q Z' rfl)))))))))))
    · have hbn' : p_bn P = false := Bool.eq_false_iff.mpr hbn
      obtain ⟨Z', ok, K⟩ := xe_bv (Z := Z) (P := P) (h := h) (F := F) (o := o) (bg := bg) (ret := ret) (pc := pc) (env := env) (vt := vt) (vd := vd) (ve := ve) hbn' (Or.inr (Or.inr (Or.inr hk))) hc hp gt
      refine ⟨Z', ok, fun q => ?_⟩
      exact br_f cc (And.intro ip (nm_r (xe_k p32 hk) (br_f (by decide) (br_f (by decide) (br_f (by decide) (br_f (by decide) (br_t rfl (br_t (yv_p1f hbn') (K _ (nm_r (nI_1 p) (q Z' rfl)))))))))))
  · obtain ⟨Z', ok, K⟩ := xe_sh (Z := Z) (P := P) (h := h) (F := F) (o := o) (bg := bg) (ret := ret) (pc := pc) (env := env) (vt := vt) (vd := vd) (ve := ve) (Or.inr (Or.inl hk)) hc hp gt
    refine ⟨Z', ok, fun q => ?_⟩
    exact br_f cc (And.intro ip (nm_r (xe_k p32 hk) (br_f (by decide) (br_t rfl (br_f (by decide) (K _ (nm_r (nI_1 p) (q Z' rfl))))))))
  · obtain ⟨Z', ok, K⟩ := xe_sh (Z := Z) (P := P) (h := h) (F := F) (o := o) (bg := bg) (ret := ret) (pc := pc) (env := env) (vt := vt) (vd := vd) (ve := ve) (Or.inr (Or.inr (Or.inl hk))) hc hp gt
    refine ⟨Z', ok, fun q => ?_⟩
    exact br_f cc (And.intro ip (nm_r (xe_k p32 hk) (br_f (by decide) (br_f (by decide) (br_t rfl (br_f (by decide) (K _ (nm_r (nI_1 p) (q Z' rfl)))))))))
  · obtain ⟨Z', ok, K⟩ := xe_sh (Z := Z) (P := P) (h := h) (F := F) (o := o) (bg := bg) (ret := ret) (pc := pc) (env := env) (vt := vt) (vd := vd) (ve := ve) (Or.inr (Or.inr (Or.inr hk))) hc hp gt
    refine ⟨Z', ok, fun q => ?_⟩
    exact br_f cc (And.intro ip (nm_r (xe_k p32 hk) (br_f (by decide) (br_f (by decide) (br_f (by decide) (br_t rfl (br_f (by decide) (K _ (nm_r (nI_1 p) (q Z' rfl))))))))))
  · by_cases hbn : p_bn P = true
    · obtain ⟨Z', ok, K⟩ := xe_bn (Z := Z) (P := P) (h := h) (F := F) (o := o) (bg := bg) (ret := ret) (pc := pc) (env := env) (vt := vt) (vd := vd) (ve := ve) hbn (Or.inr (Or.inr (Or.inl hk))) hc hp gt
      refine ⟨Z', ok, fun q => ?_⟩
      exact br_f cc (And.intro ip (nm_r (xe_k p32 hk) (br_f (by decide) (br_f (by decide) (br_f (by decide) (br_f (by decide) (br_t rfl (br_f (by rw [yv_p1t hbn]; decide) (K _ (nm_r (nI_1 p) (q Z' rfl)))))))))))
    · have hbn' : p_bn P = false := Bool.eq_false_iff.mpr hbn
      obtain ⟨Z', ok, K⟩ := xe_bv (Z := Z) (P := P) (h := h) (F := F) (o := o) (bg := bg) (ret := ret) (pc := pc) (env := env) (vt := vt) (vd := vd) (ve := ve) hbn' (Or.inr (Or.inr (Or.inl hk))) hc hp gt
      refine ⟨Z', ok, fun q => ?_⟩
      exact br_f cc (And.intro ip (nm_r (xe_k p32 hk) (br_f (by decide) (br_f (by decide) (br_f (by decide) (br_f (by decide) (br_t rfl (br_t (yv_p1f hbn') (K _ (nm_r (nI_1 p) (q Z' rfl)))))))))))
end
/-- what the translation leaves -/
def xe_done (P : gP) (Z Z' : xZ) : Prop := Z'.1 = Z.1 ∧ z_pa Z' = z_pa Z ∧ z_pb Z' = z_pb Z ∧ z_pc Z' = z_pc Z ∧ z_st Z' = z_st Z ∧ ∀ t, t < p_cn P → xt_CC P Z' t
theorem xe_loop {P : gP} {h : xH} {F : xF} {o : xO} {bg hg : Nat} {ret pc env vt vd ve : Int32} {post : SX → Prop} (hc : p_cn P ≤ 32) : ∀ d p (Z : xZ), p + d = p_cn P → tr_G (p_kd P) (p_ag P) (z_pa Z) (z_pb Z) (z_pc Z) (p_fr P) (z_st Z) (p_T P) (p_cn P) hg → z_cn Z = nI (p_cn P) → (∀ t, t < p → xt_CC P Z t) → (∀ Z', xe_done P Z Z' → post (xr_S P Z' h F o bg ret pc env vt vd ve)) → wX_translate_2 post (d + 1) (nI p) Z.1.1 Z.1.2.1 Z.1.2.2.1 Z.1.2.2.2.1 Z.1.2.2.2.2.1 Z.1.2.2.2.2.2.1 Z.1.2.2.2.2.2.2.1 Z.1.2.2.2.2.2.2.2.1 Z.1.2.2.2.2.2.2.2.2.1 Z.1.2.2.2.2.2.2.2.2.2.1 Z.1.2.2.2.2.2.2.2.2.2.2.1 Z.1.2.2.2.2.2.2.2.2.2.2.2.1 Z.1.2.2.2.2.2.2.2.2.2.2.2.2.1 Z.1.2.2.2.2.2.2.2.2.2.2.2.2.2.1 Z.1.2.2.2.2.2.2.2.2.2.2.2.2.2.2.1 Z.1.2.2.2.2.2.2.2.2.2.2.2.2.2.2.2.1 Z.1.2.2.2.2.2.2.2.2.2.2.2.2.2.2.2.2.1 Z.1.2.2.2.2.2.2.2.2.2.2.2.2.2.2.2.2.2.1 Z.1.2.2.2.2.2.2.2.2.2.2.2.2.2.2.2.2.2.2.1 Z.1.2.2.2.2.2.2.2.2.2.2.2.2.2.2.2.2.2.2.2.1 Z.1.2.2.2.2.2.2.2.2.2.2.2.2.2.2.2.2.2.2.2.2.1 Z.1.2.2.2.2.2.2.2.2.2.2.2.2.2.2.2.2.2.2.2.2.2.1 (nI (p_bu P)) (nI (p_pc P)) Z.1.2.2.2.2.2.2.2.2.2.2.2.2.2.2.2.2.2.2.2.2.2.2.1 Z.1.2.2.2.2.2.2.2.2.2.2.2.2.2.2.2.2.2.2.2.2.2.2.2 (nI (h_n h)) (nI (f_n F)) (nI (p_rc P)) (yv_p1 P) ret (nI bg) pc env vt vd ve (p_kd P) (p_ag P) (z_pa Z) (z_pb Z) (z_pc Z) (p_fr P) (z_st Z) (o_s o) (o_v o) (o_p o) (o_l o) (z_cO Z) (z_cT Z) (z_cD Z) (z_cN Z) (z_cR Z) (h_N h) (h_T h) (h_D h) (h_E h) (h_O h) (f_S F) (f_C F) (f_E F) (f_T F) (f_D F) (f_V F) := by
  intro d
  induction d with
  | zero =>
    intro p Z e gt hcn hC hp
    obtain rfl : p = p_cn P := by omega
    have cc : z_cn Z ≤ nI (p_cn P) := by rw [hcn]; exact nI_le (Nat.le_refl _) (by omega)
    exact br_t cc (hp Z ⟨rfl, rfl, rfl, rfl, rfl, hC⟩)
  | succ d ih =>
    intro p Z e gt hcn hC hp
    obtain ⟨Z', ⟨sm, c1⟩, K⟩ := xe_turn (p := p) (n := d + 1) (post := post) (Z := Z) (h := h) (F := F) (o := o) (bg := bg) (ret := ret) (pc := pc) (env := env) (vt := vt) (vd := vd) (ve := ve) hc (by omega) gt hcn
    refine K (fun Z2 e2 => ?_)
    subst e2
    obtain ⟨s1, s2, s3, s4, s5, s6⟩ := id sm
    have gt2 := gt
    rw [← s2, ← s3, ← s4, ← s5] at gt2
    have hcn2 : z_cn Z2 = nI (p_cn P) := by unfold z_cn at hcn ⊢; rw [s1]; exact hcn
    refine ih (p + 1) Z2 (by omega) gt2 hcn2 (fun t ht => ?_) (fun Z3 h3 => hp Z3 ?_)
    · by_cases et : t = p
      · subst et; exact c1
      · exact xt_CCm sm et (hC t (by omega))
    · obtain ⟨r1, r2, r3, r4, r5, r6⟩ := h3
      exact ⟨r1.trans s1, r2.trans s2, r3.trans s3, r4.trans s4, r5.trans s5, r6⟩
theorem xe_translate {P : gP} {Z : xZ} {h : xH} {F : xF} {o : xO} {bg hg : Nat} {ret pc env vt vd ve : Int32} {post : SX → Prop} (hc : p_cn P ≤ 32) (gt : tr_G (p_kd P) (p_ag P) (z_pa Z) (z_pb Z) (z_pc Z) (p_fr P) (z_st Z) (p_T P) (p_cn P) hg) (hcn : z_cn Z = nI (p_cn P)) (hp : ∀ Z', xe_done P Z Z' → post (xr_S P Z' h F o bg ret pc env vt vd ve)) : wpX_translate post (xr_S P Z h F o bg ret pc env vt vd ve) :=
  ⟨p_cn P + 1, xe_loop hc (p_cn P) 0 Z (by omega) gt hcn (fun t ht => absurd ht (by omega)) hp⟩
end
section
/-! the reference's height and free names -/
def fn_bi (kd : Nat → Int32) (j : Nat) : Prop := kd j = 2 ∨ kd j = 7
def fn_free (kd ag : Nat → Int32) (T : Nat → Nat) (t i : Nat) : Prop := kd i = 1 ∧ ∀ j, i < j → j ≤ t → fn_bi kd j → ag j = ag i → i < T j
section
variable {kd ag pa pb pc fr st : Nat → Int32} {T : Nat → Nat} {n h : Nat}
theorem fn_nest (ok : tr_OK kd T n) : ∀ t, t < n → ∀ j, T (t + 1) ≤ j → j ≤ t → T (t + 1) ≤ T (j + 1) := by
  intro t
  induction t using Nat.strongRecOn with
  | ind t ih =>
    intro ht j h1 h2
    by_cases e : j = t
    · subst e; exact Nat.le_refl _
    · obtain ⟨la, lb⟩ := ok.2 t ht
      have p3 := tr_p3 (kd t)
      generalize tr_p (kd t) = p at la lb p3
      have cs : p = 0 ∨ p = 1 ∨ p = 2 ∨ p = 3 := by omega
      rcases cs with rfl | rfl | rfl | rfl
      · have lb' : T (t + 1) = t := lb
        omega
      · have q0 : 1 ≤ t := la 0 (by omega)
        have lb' : T (t + 1) = T t := lb
        have := ih (t - 1) (by omega) (by omega) j (by rw [Nat.sub_add_cancel q0]; omega) (by omega)
        rw [Nat.sub_add_cancel q0] at this
        omega
      · have q0 : 1 ≤ t := la 0 (by omega)
        have q1 : 1 ≤ T t := la 1 (by omega)
        have lb' : T (t + 1) = T (T t) := lb
        have l1 := tr_leT ok (i := t) (by omega)
        have l2 := tr_leT ok (i := T t) (by omega)
        by_cases hj : T t ≤ j
        · have := ih (t - 1) (by omega) (by omega) j (by rw [Nat.sub_add_cancel q0]; omega) (by omega)
          rw [Nat.sub_add_cancel q0] at this
          omega
        · have := ih (T t - 1) (by omega) (by omega) j (by rw [Nat.sub_add_cancel q1]; omega) (by omega)
          rw [Nat.sub_add_cancel q1] at this
          omega
      · have q0 : 1 ≤ t := la 0 (by omega)
        have q1 : 1 ≤ T t := la 1 (by omega)
        have q2 : 1 ≤ T (T t) := la 2 (by omega)
        have lb' : T (t + 1) = T (T (T t)) := lb
        have l1 := tr_leT ok (i := t) (by omega)
        have l2 := tr_leT ok (i := T t) (by omega)
        have l3 := tr_leT ok (i := T (T t)) (by omega)
        by_cases hj : T t ≤ j
        · have := ih (t - 1) (by omega) (by omega) j (by rw [Nat.sub_add_cancel q0]; omega) (by omega)
          rw [Nat.sub_add_cancel q0] at this
          omega
        · by_cases hj2 : T (T t) ≤ j
          · have := ih (T t - 1) (by omega) (by omega) j (by rw [Nat.sub_add_cancel q1]; omega) (by omega)
            rw [Nat.sub_add_cancel q1] at this
            omega
          · have := ih (T (T t) - 1) (by omega) (by omega) j (by rw [Nat.sub_add_cancel q2]; omega) (by omega)
            rw [Nat.sub_add_cancel q2] at this
            omega
/-- a binder within the term that ends ahead of a binds nothing ahead of it -/
theorem fn_bT (ok : tr_OK kd T n) {a j : Nat} (ha : a ≤ n) (h1 : T a ≤ j) (h2 : j < a) (hb : fn_bi kd j) : T a ≤ T j := by
  have h := fn_nest ok (a - 1) (by omega) j (by rw [Nat.sub_add_cancel (by omega)]; exact h1) (by omega)
  rw [Nat.sub_add_cancel (by omega)] at h
  obtain ⟨la, lb⟩ := ok.2 j (by omega)
  rcases hb with e | e
  · rw [e, tr_p2] at lb
    have lb' : T (j + 1) = T j := lb
    omega
  · rw [e, tr_p7] at lb
    have lb' : T (j + 1) = T (T j) := lb
    have l1 := tr_leT ok (i := j) (by omega)
    have l2 := tr_leT ok (i := T j) (by omega)
    omega
theorem fn_up {t a i : Nat} (ha : a ≤ t) (h1 : 1 ≤ a) (hi : i < a) (later : ∀ j, a ≤ j → j < t → fn_bi kd j → i < T j) (last : fn_bi kd t → ag t = ag i → i < T t) (f : fn_free kd ag T (a - 1) i) : fn_free kd ag T t i := by
  refine ⟨f.1, fun j hj hjt hb he => ?_⟩
  by_cases e : j = t
  · subst e; exact last hb he
  · by_cases e2 : a ≤ j
    · exact later j e2 (by omega) hb
    · exact f.2 j hj (by omega) hb he
theorem fn_dn {t a i : Nat} (ha : a - 1 ≤ t) (f : fn_free kd ag T t i) : fn_free kd ag T (a - 1) i := ⟨f.1, fun j hj hjt => f.2 j hj (by omega)⟩
def fn_E (kd ag : Nat → Int32) (T : Nat → Nat) (t y : Nat) : Prop := ∃ i, T (t + 1) ≤ i ∧ i ≤ t ∧ ag i = nI y ∧ fn_free kd ag T t i
theorem fn_ag {j y : Nat} (hj : j < 8) (hy : y < 8) : nI j = nI y ↔ y = j := by rw [nI_eq (by omega) (by omega)]; exact eq_comm
theorem fn_main (g : tr_G kd ag pa pb pc fr st T n h) : ∀ t, t < n → ∀ y, y < 8 → (bt (fr t) y = true ↔ fn_E kd ag T t y) := by
  have ok := g.1
  intro t
  induction t using Nat.strongRecOn with
  | ind t ih =>
    intro ht y hy
    obtain ⟨kc, pcn, fc⟩ := g.2.1 t ht
    obtain ⟨la, lb⟩ := ok.2 t ht
    have l1 := tr_leT ok (i := t) (by omega)
    have l2 := tr_leT ok (i := T t) (by omega)
    have l3 := tr_leT ok (i := T (T t)) (by omega)
    have nt : ∀ i, ¬ kd t = 1 → i ≤ t → fn_free kd ag T t i → i < t := by
      intro i hk hi f
      by_cases e : i = t
      · subst e; exact absurd f.1 hk
      · omega
    rcases tr_kind g ht with hk | hk | hk | hk | hk | hk | hk | hk
    · rw [fc.1 hk, b_0]
      rw [hk, tr_p0] at lb
      have lb' : T (t + 1) = t := lb
      refine ⟨(fun z => nomatch z), fun ⟨i, h1, h2, h3, h4⟩ => ?_⟩
      have := nt i (by rw [hk]; decide) h2 h4
      omega
    · obtain ⟨j, hj, ej⟩ := kc.2 (Or.inl hk)
      rw [fc.2.1 hk, ej, tr_bit j hj y (by omega), decide_eq_true_iff]
      rw [hk, tr_p1] at lb
      have lb' : T (t + 1) = t := lb
      constructor
      · intro e
        exact ⟨t, by omega, by omega, by rw [ej, e], hk, fun j' a b => absurd b (by omega)⟩
      · intro ⟨i, h1, h2, h3, h4⟩
        obtain rfl : i = t := by omega
        rw [ej, fn_ag hj hy] at h3
        exact h3
    · obtain ⟨j, hj, ej⟩ := kc.2 (Or.inr (Or.inl hk))
      rw [hk, tr_p2] at la lb
      have q0 : 1 ≤ t := la 0 (by omega)
      have lb' : T (t + 1) = T t := lb
      have hA := ih (t - 1) (by omega) (by omega) y hy
      unfold fn_E at hA
      rw [Nat.sub_add_cancel q0] at hA
      rw [fc.2.2.1 hk, ej, tr_andn hj (by omega), Bool.and_eq_true, hA, decide_eq_true_iff]
      constructor
      · intro ⟨⟨i, h1, h2, h3, h4⟩, ne⟩
        refine ⟨i, by omega, by omega, h3, fn_up (a := t) (Nat.le_refl _) q0 (by omega) (fun j' a b => absurd b (by omega)) (fun _ e => ?_) h4⟩
        rw [ej, h3, fn_ag hj hy] at e
        exact absurd e ne
      · intro ⟨i, h1, h2, h3, h4⟩
        have lt := nt i (by rw [hk]; decide) h2 h4
        refine ⟨⟨i, by omega, by omega, h3, fn_dn (by omega) h4⟩, fun e => ?_⟩
        have := h4.2 t lt (Nat.le_refl _) (Or.inl hk) (by rw [ej, h3, e])
        omega
    · rw [hk, tr_p3'] at la lb
      have q0 : 1 ≤ t := la 0 (by omega)
      have q1 : 1 ≤ T t := la 1 (by omega)
      have lb' : T (t + 1) = T (T t) := lb
      have hB := ih (t - 1) (by omega) (by omega) y hy
      have hA := ih (T t - 1) (by omega) (by omega) y hy
      unfold fn_E at hA hB
      rw [Nat.sub_add_cancel q0] at hB
      rw [Nat.sub_add_cancel q1] at hA
      rw [fc.2.2.2.1 (Or.inl hk), b_or, Bool.or_eq_true, hA, hB]
      have nb : ¬ fn_bi kd t := by unfold fn_bi; rw [hk]; decide
      constructor
      · rintro (⟨i, h1, h2, h3, h4⟩ | ⟨i, h1, h2, h3, h4⟩)
        · exact ⟨i, by omega, by omega, h3, fn_up (a := T t) (by omega) q1 (by omega) (fun j' a b c => by have := fn_bT ok (a := t) (by omega) a b c; omega) (fun z => absurd z nb) h4⟩
        · exact ⟨i, by omega, by omega, h3, fn_up (a := t) (Nat.le_refl _) q0 (by omega) (fun j' a b => absurd b (by omega)) (fun z => absurd z nb) h4⟩
      · intro ⟨i, h1, h2, h3, h4⟩
        have lt := nt i (by rw [hk]; decide) h2 h4
        by_cases c : T t ≤ i
        · exact Or.inr ⟨i, c, by omega, h3, fn_dn (by omega) h4⟩
        · exact Or.inl ⟨i, by omega, by omega, h3, fn_dn (by omega) h4⟩
    · rw [hk, tr_p4] at la lb
      have q0 : 1 ≤ t := la 0 (by omega)
      have q1 : 1 ≤ T t := la 1 (by omega)
      have lb' : T (t + 1) = T (T t) := lb
      have hB := ih (t - 1) (by omega) (by omega) y hy
      have hA := ih (T t - 1) (by omega) (by omega) y hy
      unfold fn_E at hA hB
      rw [Nat.sub_add_cancel q0] at hB
      rw [Nat.sub_add_cancel q1] at hA
      rw [fc.2.2.2.1 (Or.inr hk), b_or, Bool.or_eq_true, hA, hB]
      have nb : ¬ fn_bi kd t := by unfold fn_bi; rw [hk]; decide
      constructor
      · rintro (⟨i, h1, h2, h3, h4⟩ | ⟨i, h1, h2, h3, h4⟩)
        · exact ⟨i, by omega, by omega, h3, fn_up (a := T t) (by omega) q1 (by omega) (fun j' a b c => by have := fn_bT ok (a := t) (by omega) a b c; omega) (fun z => absurd z nb) h4⟩
        · exact ⟨i, by omega, by omega, h3, fn_up (a := t) (Nat.le_refl _) q0 (by omega) (fun j' a b => absurd b (by omega)) (fun z => absurd z nb) h4⟩
      · intro ⟨i, h1, h2, h3, h4⟩
        have lt := nt i (by rw [hk]; decide) h2 h4
        by_cases c : T t ≤ i
        · exact Or.inr ⟨i, c, by omega, h3, fn_dn (by omega) h4⟩
        · exact Or.inl ⟨i, by omega, by omega, h3, fn_dn (by omega) h4⟩
    · rw [hk, tr_p5] at la lb
      have q0 : 1 ≤ t := la 0 (by omega)
      have q1 : 1 ≤ T t := la 1 (by omega)
      have q2 : 1 ≤ T (T t) := la 2 (by omega)
      have lb' : T (t + 1) = T (T (T t)) := lb
      have hC := ih (t - 1) (by omega) (by omega) y hy
      have hB := ih (T t - 1) (by omega) (by omega) y hy
      have hA := ih (T (T t) - 1) (by omega) (by omega) y hy
      unfold fn_E at hA hB hC
      rw [Nat.sub_add_cancel q0] at hC
      rw [Nat.sub_add_cancel q1] at hB
      rw [Nat.sub_add_cancel q2] at hA
      rw [fc.2.2.2.2.1 hk, b_or, b_or, Bool.or_eq_true, Bool.or_eq_true, hA, hB, hC]
      have nb : ¬ fn_bi kd t := by unfold fn_bi; rw [hk]; decide
      constructor
      · rintro ((⟨i, h1, h2, h3, h4⟩ | ⟨i, h1, h2, h3, h4⟩) | ⟨i, h1, h2, h3, h4⟩)
        · refine ⟨i, by omega, by omega, h3, fn_up (a := T (T t)) (by omega) q2 (by omega) (fun j' a b c => ?_) (fun z => absurd z nb) h4⟩
          by_cases d : T t ≤ j'
          · have := fn_bT ok (a := t) (by omega) d b c; omega
          · have := fn_bT ok (a := T t) (by omega) a (by omega) c; omega
        · exact ⟨i, by omega, by omega, h3, fn_up (a := T t) (by omega) q1 (by omega) (fun j' a b c => by have := fn_bT ok (a := t) (by omega) a b c; omega) (fun z => absurd z nb) h4⟩
        · exact ⟨i, by omega, by omega, h3, fn_up (a := t) (Nat.le_refl _) q0 (by omega) (fun j' a b => absurd b (by omega)) (fun z => absurd z nb) h4⟩
      · intro ⟨i, h1, h2, h3, h4⟩
        have lt := nt i (by rw [hk]; decide) h2 h4
        by_cases c : T t ≤ i
        · exact Or.inr ⟨i, c, by omega, h3, fn_dn (by omega) h4⟩
        · by_cases c2 : T (T t) ≤ i
          · exact Or.inl (Or.inr ⟨i, c2, by omega, h3, fn_dn (by omega) h4⟩)
          · exact Or.inl (Or.inl ⟨i, by omega, by omega, h3, fn_dn (by omega) h4⟩)
    · rw [hk, tr_p6] at la lb
      have q0 : 1 ≤ t := la 0 (by omega)
      have lb' : T (t + 1) = T t := lb
      have hA := ih (t - 1) (by omega) (by omega) y hy
      unfold fn_E at hA
      rw [Nat.sub_add_cancel q0] at hA
      rw [fc.2.2.2.2.2.1 hk, hA]
      have nb : ¬ fn_bi kd t := by unfold fn_bi; rw [hk]; decide
      constructor
      · intro ⟨i, h1, h2, h3, h4⟩
        exact ⟨i, by omega, by omega, h3, fn_up (a := t) (Nat.le_refl _) q0 (by omega) (fun j' a b => absurd b (by omega)) (fun z => absurd z nb) h4⟩
      · intro ⟨i, h1, h2, h3, h4⟩
        have lt := nt i (by rw [hk]; decide) h2 h4
        exact ⟨i, by omega, by omega, h3, fn_dn (by omega) h4⟩
    · obtain ⟨j, hj, ej⟩ := kc.2 (Or.inr (Or.inr hk))
      rw [hk, tr_p7] at la lb
      have q0 : 1 ≤ t := la 0 (by omega)
      have q1 : 1 ≤ T t := la 1 (by omega)
      have lb' : T (t + 1) = T (T t) := lb
      have hB := ih (t - 1) (by omega) (by omega) y hy
      have hA := ih (T t - 1) (by omega) (by omega) y hy
      unfold fn_E at hA hB
      rw [Nat.sub_add_cancel q0] at hB
      rw [Nat.sub_add_cancel q1] at hA
      rw [fc.2.2.2.2.2.2 hk, ej, b_or, tr_andn hj (by omega), Bool.or_eq_true, Bool.and_eq_true, hA, hB, decide_eq_true_iff]
      constructor
      · rintro (⟨i, h1, h2, h3, h4⟩ | ⟨⟨i, h1, h2, h3, h4⟩, ne⟩)
        · exact ⟨i, by omega, by omega, h3, fn_up (a := T t) (by omega) q1 (by omega) (fun j' a b c => by have := fn_bT ok (a := t) (by omega) a b c; omega) (fun _ _ => by omega) h4⟩
        · refine ⟨i, by omega, by omega, h3, fn_up (a := t) (Nat.le_refl _) q0 (by omega) (fun j' a b => absurd b (by omega)) (fun _ e => ?_) h4⟩
          rw [ej, h3, fn_ag hj hy] at e
          exact absurd e ne
      · intro ⟨i, h1, h2, h3, h4⟩
        have lt := nt i (by rw [hk]; decide) h2 h4
        by_cases c : T t ≤ i
        · refine Or.inr ⟨⟨i, c, by omega, h3, fn_dn (by omega) h4⟩, fun e => ?_⟩
          have := h4.2 t lt (Nat.le_refl _) (Or.inr hk) (by rw [ej, h3, e])
          omega
        · exact Or.inl ⟨i, by omega, by omega, h3, fn_dn (by omega) h4⟩
/-- no bits but the names' -/
theorem fn_hi (g : tr_G kd ag pa pb pc fr st T n h) : ∀ t, t < n → ∀ y, 8 ≤ y → y < 32 → bt (fr t) y = false := by
  have ok := g.1
  intro t
  induction t using Nat.strongRecOn with
  | ind t ih =>
    intro ht y h8 hy
    obtain ⟨kc, pcn, fc⟩ := g.2.1 t ht
    have l1 := tr_leT ok (i := t) (by omega)
    have l2 := tr_leT ok (i := T t) (by omega)
    rcases tr_kind g ht with hk | hk | hk | hk | hk | hk | hk | hk
    · rw [fc.1 hk, b_0]
    · obtain ⟨j, hj, ej⟩ := kc.2 (Or.inl hk)
      rw [fc.2.1 hk, ej, tr_bit j hj y hy, decide_eq_false_iff_not]
      omega
    · obtain ⟨q0, _, j, hj, ej, _⟩ := tr_lam g ht hk
      rw [fc.2.2.1 hk, ej, tr_andn hj hy, ih (t - 1) (by omega) (by omega) y h8 hy]
      rfl
    · obtain ⟨q0, q1, _⟩ := tr_two g ht (Or.inl hk)
      rw [fc.2.2.2.1 (Or.inl hk), b_or, ih (t - 1) (by omega) (by omega) y h8 hy, ih (T t - 1) (by omega) (by omega) y h8 hy]
      rfl
    · obtain ⟨q0, q1, _⟩ := tr_two g ht (Or.inr hk)
      rw [fc.2.2.2.1 (Or.inr hk), b_or, ih (t - 1) (by omega) (by omega) y h8 hy, ih (T t - 1) (by omega) (by omega) y h8 hy]
      rfl
    · obtain ⟨q0, q1, q2, _⟩ := tr_ifz g ht hk
      rw [fc.2.2.2.2.1 hk, b_or, b_or, ih (t - 1) (by omega) (by omega) y h8 hy, ih (T t - 1) (by omega) (by omega) y h8 hy, ih (T (T t) - 1) (by omega) (by omega) y h8 hy]
      rfl
    · obtain ⟨q0, _⟩ := tr_prt g ht hk
      rw [fc.2.2.2.2.2.1 hk, ih (t - 1) (by omega) (by omega) y h8 hy]
    · obtain ⟨q0, q1, _, _, _, _, j, hj, ej, _⟩ := tr_let g ht hk
      rw [fc.2.2.2.2.2.2 hk, ej, b_or, tr_andn hj hy, ih (t - 1) (by omega) (by omega) y h8 hy, ih (T t - 1) (by omega) (by omega) y h8 hy]
      rfl
end
end
section
/-! the reference's walks of height and free names -/
section
variable {f_tokenCap f_budget f_printCap f_rows f_end f_endValue : Int32} {a_kinds a_args a_stat a_val a_printCount a_prints a_term a_step a_kid a_done a_fun a_num a_home a_bind : Nat → Int32} {cn : Nat}
theorem yh_loop {post : Int32 → Prop} (hc : cn ≤ 32) (hp : post (tr_hs a_kinds cn)) : ∀ d i, i + d = cn → wY_height_4 post f_tokenCap f_budget f_printCap (nI cn) f_rows f_end f_endValue a_kinds a_args a_stat a_val a_printCount a_prints a_term a_step a_kid a_done a_fun a_num a_home a_bind (d + 1) (tr_hs a_kinds i) (nI i) := by
  intro d
  induction d with
  | zero =>
    intro i hi
    obtain rfl : i = cn := by omega
    exact br_t (nI_le (Nat.le_refl _) (by omega)) hp
  | succ d ih =>
    intro i hi
    have ci : a_kinds (nI i).toNatClampNeg = a_kinds i := by rw [nI_clamp (by omega)]
    refine br_f (nI_ge (by omega) (by omega)) (And.intro (vp_in_nI (by omega) (by decide)) (tr_wpY ?_))
    rw [ci]
    exact nm_e (nm_r (nI_1 i) (ih (i + 1) (by omega)))
theorem yh_height {post : Int32 → Prop} (hc : cn ≤ 32) (hp : post (tr_hs a_kinds cn)) : wpY_height post (f_tokenCap, f_budget, f_printCap, nI cn, f_rows, f_end, f_endValue, a_kinds, a_args, a_stat, a_val, a_printCount, a_prints, a_term, a_step, a_kid, a_done, a_fun, a_num, a_home, a_bind) := ⟨cn + 1, yh_loop hc hp cn 0 (by omega)⟩
theorem yf_in {post : Int32 → Prop} {J : Int32 → Int32 → Prop} {T : Nat → Nat} {i : Nat} {m : Int32} (ok : tr_OK a_kinds T cn) (hc : cn ≤ 32) (hi : i < cn) (hT : fn_free a_kinds a_args T (cn - 1) i → J (m ||| ((1 : Int32) <<< (a_args i &&& 31))) (nI (i + 1))) (hF : ¬ fn_free a_kinds a_args T (cn - 1) i → J m (nI (i + 1))) :
    ∀ d j (x4 : Int32), j + d = cn → i < j → ((¬ x4 = 0) ↔ (a_kinds i = 1 ∧ ∀ j', i < j' → j' < j → fn_bi a_kinds j' → a_args j' = a_args i → i < T j')) → wY_freeNames_45 post J m (nI i) f_tokenCap f_budget f_printCap (nI cn) f_rows f_end f_endValue a_kinds a_args a_stat a_val a_printCount a_prints a_term a_step a_kid a_done a_fun a_num a_home a_bind (d + 1) x4 (nI j) := by
  have ii : vp_in (nI i) 32 := vp_in_nI (by omega) (by decide)
  have ci : a_args (nI i).toNatClampNeg = a_args i := by rw [nI_clamp (by omega)]
  intro d
  induction d with
  | zero =>
    intro j x4 hj hij hx
    obtain rfl : j = cn := by omega
    have key : (¬ x4 = 0) ↔ fn_free a_kinds a_args T (j - 1) i := by
      rw [hx]
      constructor
      · intro ⟨a, b⟩
        exact ⟨a, fun j' x y => b j' x (by omega)⟩
      · intro ⟨a, b⟩
        exact ⟨a, fun j' x y => b j' x (by omega)⟩
    refine br_t (nI_le (Nat.le_refl _) (by omega)) (br_c (fun z => nm_r (nI_1 i) (hF (fun f => key.mpr f z))) (fun z => And.intro ii ?_))
    rw [ci]
    exact nm_e (nm_r (nI_1 i) (hT (key.mp z)))
  | succ d ih =>
    intro j x4 hj hij hx
    have ij : vp_in (nI j) 32 := vp_in_nI (by omega) (by decide)
    have cj : a_kinds (nI j).toNatClampNeg = a_kinds j := by rw [nI_clamp (by omega)]
    have caj : a_args (nI j).toNatClampNeg = a_args j := by rw [nI_clamp (by omega)]
    have keep : (fn_bi a_kinds j → a_args j = a_args i → i < T j) → wY_freeNames_45 post J m (nI i) f_tokenCap f_budget f_printCap (nI cn) f_rows f_end f_endValue a_kinds a_args a_stat a_val a_printCount a_prints a_term a_step a_kid a_done a_fun a_num a_home a_bind (d + 1) x4 (nI (j + 1)) := by
      intro q
      refine ih (j + 1) x4 (by omega) (by omega) ?_
      rw [hx]
      constructor
      · intro ⟨a, b⟩
        refine ⟨a, fun j' x y hb he => ?_⟩
        by_cases e : j' = j
        · subst e; exact q hb he
        · exact b j' x (by omega) hb he
      · intro ⟨a, b⟩
        exact ⟨a, fun j' x y => b j' x (by omega)⟩
    have K : fn_bi a_kinds j → wY_freeNames_77 post J (wY_freeNames_45 post J m (nI i) f_tokenCap f_budget f_printCap (nI cn) f_rows f_end f_endValue a_kinds a_args a_stat a_val a_printCount a_prints a_term a_step a_kid a_done a_fun a_num a_home a_bind (d + 1)) m (nI i) x4 (nI j) f_tokenCap f_budget f_printCap (nI cn) f_rows f_end f_endValue a_kinds a_args a_stat a_val a_printCount a_prints a_term a_step a_kid a_done a_fun a_num a_home a_bind := by
      intro hb
      refine And.intro ij (And.intro ii ?_)
      rw [ci, caj]
      refine br_c (fun e => yv_start ok hc (i := j) (by omega) (br_c (fun z => nm_r (nI_1 j) (keep (fun _ _ => ?_))) (fun z => nm_r (nI_1 j) (ih (j + 1) 0 (by omega) (by omega) ?_)))) (fun e => nm_r (nI_1 j) (keep (fun _ z => absurd z e)))
      · have lt := tr_leT ok (i := j) (by omega)
        rw [nI_ltI (by omega) (by omega)] at z
        exact z
      · have lt := tr_leT ok (i := j) (by omega)
        rw [nI_ltI (by omega) (by omega)] at z
        constructor
        · intro y; exact absurd rfl y
        · intro ⟨_, b⟩
          exact absurd (b j hij (by omega) hb e) z
    refine br_f (nI_ge (by omega) (by omega)) (And.intro ij ?_)
    rw [cj]
    exact br_c (fun e => K (Or.inl e)) (fun e => And.intro ij (br_c (fun e2 => K (Or.inr e2)) (fun e2 => nm_r (nI_1 j) (keep (fun hb => absurd hb (fun q => q.elim e e2))))))
theorem yf_out {post : Int32 → Prop} {T : Nat → Nat} {pa pb pc fr st : Nat → Int32} {hg : Nat} (g : tr_G a_kinds a_args pa pb pc fr st T cn hg) (hc : cn ≤ 32) (h1 : 1 ≤ cn) (hp : post (fr (cn - 1))) :
    ∀ d i (m : Int32), i + d = cn → T cn ≤ i → (∀ y, y < 32 → (bt m y = true ↔ ∃ i', T cn ≤ i' ∧ i' < i ∧ a_args i' = nI y ∧ fn_free a_kinds a_args T (cn - 1) i')) → wY_freeNames_15 post f_tokenCap f_budget f_printCap (nI cn) f_rows f_end f_endValue a_kinds a_args a_stat a_val a_printCount a_prints a_term a_step a_kid a_done a_fun a_num a_home a_bind (d + 1) m (nI i) := by
  intro d
  induction d with
  | zero =>
    intro i m hi hT inv
    obtain rfl : i = cn := by omega
    have e : m = fr (i - 1) := by
      apply b_ext
      intro y hy
      rcases Nat.lt_or_ge y 8 with h8 | h8
      · have a := inv y hy
        have b := fn_main g (i - 1) (by omega) y h8
        unfold fn_E at b
        rw [Nat.sub_add_cancel h1] at b
        have c : bt m y = true ↔ bt (fr (i - 1)) y = true := by
          rw [a, b]
          constructor
          · intro ⟨i', x1, x2, x3, x4⟩; exact ⟨i', x1, by omega, x3, x4⟩
          · intro ⟨i', x1, x2, x3, x4⟩; exact ⟨i', x1, by omega, x3, x4⟩
        cases hm : bt m y with
        | true => exact (c.mp hm).symm
        | false =>
          cases hf : bt (fr (i - 1)) y with
          | false => rfl
          | true => rw [c.mpr hf] at hm; exact hm.symm
      · rw [fn_hi g (i - 1) (by omega) y h8 hy]
        cases hm : bt m y with
        | false => rfl
        | true =>
          obtain ⟨i', x1, x2, x3, x4⟩ := (inv y hy).mp hm
          obtain ⟨j, hj, ej, _⟩ := tr_var g (show i' < i by omega) x4.1
          rw [ej, nI_eq (by omega) (by omega)] at x3
          omega
    rw [e]
    exact br_t (nI_le (Nat.le_refl _) (by omega)) hp
  | succ d ih =>
    intro i m hi hT inv
    have ii : vp_in (nI i) 32 := vp_in_nI (by omega) (by decide)
    have ci : a_kinds (nI i).toNatClampNeg = a_kinds i := by rw [nI_clamp (by omega)]
    have A : fn_free a_kinds a_args T (cn - 1) i → wY_freeNames_15 post f_tokenCap f_budget f_printCap (nI cn) f_rows f_end f_endValue a_kinds a_args a_stat a_val a_printCount a_prints a_term a_step a_kid a_done a_fun a_num a_home a_bind (d + 1) (m ||| ((1 : Int32) <<< (a_args i &&& 31))) (nI (i + 1)) := by
      intro f
      obtain ⟨j, hj, ej, _⟩ := tr_var g (show i < cn by omega) f.1
      refine ih (i + 1) _ (by omega) (by omega) (fun y hy => ?_)
      rw [b_or, ej, tr_bit j hj y hy, Bool.or_eq_true, inv y hy, decide_eq_true_iff]
      constructor
      · rintro (⟨i', x1, x2, x3, x4⟩ | e)
        · exact ⟨i', x1, by omega, x3, x4⟩
        · exact ⟨i, hT, by omega, by rw [ej, e], f⟩
      · intro ⟨i', x1, x2, x3, x4⟩
        by_cases e : i' = i
        · subst e
          rw [ej, nI_eq (by omega) (by omega)] at x3
          exact Or.inr x3.symm
        · exact Or.inl ⟨i', x1, by omega, x3, x4⟩
    have B : ¬ fn_free a_kinds a_args T (cn - 1) i → wY_freeNames_15 post f_tokenCap f_budget f_printCap (nI cn) f_rows f_end f_endValue a_kinds a_args a_stat a_val a_printCount a_prints a_term a_step a_kid a_done a_fun a_num a_home a_bind (d + 1) m (nI (i + 1)) := by
      intro f
      refine ih (i + 1) _ (by omega) (by omega) (fun y hy => ?_)
      rw [inv y hy]
      constructor
      · intro ⟨i', x1, x2, x3, x4⟩
        exact ⟨i', x1, by omega, x3, x4⟩
      · intro ⟨i', x1, x2, x3, x4⟩
        by_cases e : i' = i
        · subst e; exact absurd x4 f
        · exact ⟨i', x1, by omega, x3, x4⟩
    refine br_f (nI_ge (by omega) (by omega)) (And.intro ii ?_)
    rw [ci]
    refine br_c (fun e => nm_r (nI_1 i) ⟨cn - (i + 1) + 1, yf_in g.1 hc (by omega) A B (cn - (i + 1)) (i + 1) 1 (by omega) (by omega) ?_⟩) (fun e => nm_r (nI_1 i) ⟨cn - (i + 1) + 1, yf_in g.1 hc (by omega) A B (cn - (i + 1)) (i + 1) 0 (by omega) (by omega) ?_⟩)
    · constructor
      · intro _; exact ⟨e, fun j' x y => absurd y (by omega)⟩
      · intro _; decide
    · constructor
      · intro z; exact absurd rfl z
      · intro ⟨z, _⟩; exact absurd z e
/-- the reference's free names are the component's -/
theorem yf_names {post : Int32 → Prop} {T : Nat → Nat} {pa pb pc fr st : Nat → Int32} {hg : Nat} (g : tr_G a_kinds a_args pa pb pc fr st T cn hg) (hc : cn ≤ 32) (hp : post (if cn = 0 then 0 else fr (cn - 1))) : wpY_freeNames post (f_tokenCap, f_budget, f_printCap, nI cn, f_rows, f_end, f_endValue, a_kinds, a_args, a_stat, a_val, a_printCount, a_prints, a_term, a_step, a_kid, a_done, a_fun, a_num, a_home, a_bind) := by
  unfold wpY_freeNames
  refine yv_start g.1 hc (i := cn) (Nat.le_refl _) ?_
  rcases Nat.eq_zero_or_pos cn with e | e
  · rw [if_pos e] at hp
    subst e
    refine ⟨1, ?_⟩
    rw [g.1.1]
    exact br_t (by decide) hp
  · rw [if_neg (by omega)] at hp
    have l := tr_leT g.1 (i := cn) (Nat.le_refl _)
    refine ⟨cn - T cn + 1, yf_out g hc e hp (cn - T cn) (T cn) 0 (by omega) (Nat.le_refl _) (fun y hy => ?_)⟩
    rw [b_0]
    constructor
    · intro z; exact nomatch z
    · intro ⟨i', x1, x2, _⟩; omega
end
end
section
/-! the relation -/
def rl_F (tc bu pk n hg : Nat) (T : Nat → Nat) (kd ag pa pb pc fr st op : Nat → Int32) : Prop :=
  tc ≤ 32 ∧ 1 ≤ bu ∧ bu ≤ 240 ∧ pk ≤ 32 ∧ n ≤ tc ∧ nI hg = tr_hs kd n ∧ (∀ i, i < 4 → ∃ c, c ≤ 32 ∧ op i = nI c) ∧ tr_G kd ag pa pb pc fr st T n hg
def i_Rel (_ : Nat) (u : SX) (v : SY) : Prop := ∃ tc bu pk n hg T, match u with
  | (f_tagAny, f_tagInt, f_tagClosure, f_tagName, f_nameF, f_nameA, f_nameB, f_opReturn, f_opTo, f_opFn, f_opPush, f_opForce, f_opPlus, f_opIfzero, f_opPrint, f_stageFirst, f_stageSecond, f_stageTo, f_stageArg, f_maxSteps, f_maxBindings, f_tokenCap, f_budget, f_printCap, f_count, f_height, f_bindings, f_depth, f_current, f_byName, f_returning, f_begun, f_pc, f_env, f_valTag, f_valData, f_valEnv, a_kinds, a_args, a_partA, a_partB, a_partC, a_free, a_stack, a_outStatus, a_outValue, a_outPrinted, a_outList, a_codeOp, a_codeTag, a_codeData, a_codeNext, a_codeOther, a_bindName, a_bindTag, a_bindData, a_bindEnv, a_bindOuter, a_frameStage, a_frameCode, a_frameEnv, a_frameTag, a_frameData, a_frameValEnv) => match v with
    | (g_tokenCap, g_budget, g_printCap, g_count, f_rows, f_end, f_endValue, b_kinds, b_args, a_stat, a_val, a_printCount, a_prints, a_term, a_step, a_kid, a_done, a_fun, a_num, a_home, a_bind) => f_tokenCap = nI tc ∧ f_budget = nI bu ∧ f_printCap = nI pk ∧ f_count = nI n ∧ f_height = nI hg ∧ g_tokenCap = nI tc ∧ g_budget = nI bu ∧ g_printCap = nI pk ∧ g_count = nI n ∧ a_kinds = b_kinds ∧ a_args = b_args ∧ a_outStatus = a_stat ∧ a_outValue = a_val ∧ a_outPrinted = a_printCount ∧ a_outList = a_prints ∧ rl_F tc bu pk n hg T a_kinds a_args a_partA a_partB a_partC a_free a_stack a_outPrinted
theorem i_up {k : Nat} {u : SX} {v : SY} (h : i_Rel k u v) : i_Rel (k + 4) u v := h
theorem rl_mk {k : Nat} {tc bu pk n hg : Nat} {T : Nat → Nat} {f_tagAny f_tagInt f_tagClosure f_tagName f_nameF f_nameA f_nameB f_opReturn f_opTo f_opFn f_opPush f_opForce f_opPlus f_opIfzero f_opPrint f_stageFirst f_stageSecond f_stageTo f_stageArg f_maxSteps f_maxBindings f_bindings f_depth f_current f_byName f_returning f_begun f_pc f_env f_valTag f_valData f_valEnv f_rows f_end f_endValue : Int32} {a_kinds a_args a_partA a_partB a_partC a_free a_stack a_outStatus a_outValue a_outPrinted a_outList a_codeOp a_codeTag a_codeData a_codeNext a_codeOther a_bindName a_bindTag a_bindData a_bindEnv a_bindOuter a_frameStage a_frameCode a_frameEnv a_frameTag a_frameData a_frameValEnv a_term a_step a_kid a_done a_fun a_num a_home a_bind : Nat → Int32} (h : rl_F tc bu pk n hg T a_kinds a_args a_partA a_partB a_partC a_free a_stack a_outPrinted) : i_Rel k (f_tagAny, f_tagInt, f_tagClosure, f_tagName, f_nameF, f_nameA, f_nameB, f_opReturn, f_opTo, f_opFn, f_opPush, f_opForce, f_opPlus, f_opIfzero, f_opPrint, f_stageFirst, f_stageSecond, f_stageTo, f_stageArg, f_maxSteps, f_maxBindings, nI tc, nI bu, nI pk, nI n, nI hg, f_bindings, f_depth, f_current, f_byName, f_returning, f_begun, f_pc, f_env, f_valTag, f_valData, f_valEnv, a_kinds, a_args, a_partA, a_partB, a_partC, a_free, a_stack, a_outStatus, a_outValue, a_outPrinted, a_outList, a_codeOp, a_codeTag, a_codeData, a_codeNext, a_codeOther, a_bindName, a_bindTag, a_bindData, a_bindEnv, a_bindOuter, a_frameStage, a_frameCode, a_frameEnv, a_frameTag, a_frameData, a_frameValEnv) (nI tc, nI bu, nI pk, nI n, f_rows, f_end, f_endValue, a_kinds, a_args, a_outStatus, a_outValue, a_outPrinted, a_outList, a_term, a_step, a_kid, a_done, a_fun, a_num, a_home, a_bind) := ⟨tc, bu, pk, n, hg, T, rfl, rfl, rfl, rfl, rfl, rfl, rfl, rfl, rfl, rfl, rfl, rfl, rfl, rfl, rfl, h⟩
theorem rl_el {k : Nat} {u : SX} {v : SY} {P : SX → SY → Prop} (h : ∀ (tc bu pk n hg : Nat) (T : Nat → Nat) (f_tagAny f_tagInt f_tagClosure f_tagName f_nameF f_nameA f_nameB f_opReturn f_opTo f_opFn f_opPush f_opForce f_opPlus f_opIfzero f_opPrint f_stageFirst f_stageSecond f_stageTo f_stageArg f_maxSteps f_maxBindings f_bindings f_depth f_current f_byName f_returning f_begun f_pc f_env f_valTag f_valData f_valEnv : Int32) (a_kinds a_args a_partA a_partB a_partC a_free a_stack a_outStatus a_outValue a_outPrinted a_outList a_codeOp a_codeTag a_codeData a_codeNext a_codeOther a_bindName a_bindTag a_bindData a_bindEnv a_bindOuter a_frameStage a_frameCode a_frameEnv a_frameTag a_frameData a_frameValEnv : Nat → Int32) (f_rows f_end f_endValue : Int32) (a_term a_step a_kid a_done a_fun a_num a_home a_bind : Nat → Int32), rl_F tc bu pk n hg T a_kinds a_args a_partA a_partB a_partC a_free a_stack a_outPrinted → P (f_tagAny, f_tagInt, f_tagClosure, f_tagName, f_nameF, f_nameA, f_nameB, f_opReturn, f_opTo, f_opFn, f_opPush, f_opForce, f_opPlus, f_opIfzero, f_opPrint, f_stageFirst, f_stageSecond, f_stageTo, f_stageArg, f_maxSteps, f_maxBindings, nI tc, nI bu, nI pk, nI n, nI hg, f_bindings, f_depth, f_current, f_byName, f_returning, f_begun, f_pc, f_env, f_valTag, f_valData, f_valEnv, a_kinds, a_args, a_partA, a_partB, a_partC, a_free, a_stack, a_outStatus, a_outValue, a_outPrinted, a_outList, a_codeOp, a_codeTag, a_codeData, a_codeNext, a_codeOther, a_bindName, a_bindTag, a_bindData, a_bindEnv, a_bindOuter, a_frameStage, a_frameCode, a_frameEnv, a_frameTag, a_frameData, a_frameValEnv) (nI tc, nI bu, nI pk, nI n, f_rows, f_end, f_endValue, a_kinds, a_args, a_outStatus, a_outValue, a_outPrinted, a_outList, a_term, a_step, a_kid, a_done, a_fun, a_num, a_home, a_bind)) (I : i_Rel k u v) : P u v := by
  obtain ⟨f_tagAny, f_tagInt, f_tagClosure, f_tagName, f_nameF, f_nameA, f_nameB, f_opReturn, f_opTo, f_opFn, f_opPush, f_opForce, f_opPlus, f_opIfzero, f_opPrint, f_stageFirst, f_stageSecond, f_stageTo, f_stageArg, f_maxSteps, f_maxBindings, f_tokenCap, f_budget, f_printCap, f_count, f_height, f_bindings, f_depth, f_current, f_byName, f_returning, f_begun, f_pc, f_env, f_valTag, f_valData, f_valEnv, a_kinds, a_args, a_partA, a_partB, a_partC, a_free, a_stack, a_outStatus, a_outValue, a_outPrinted, a_outList, a_codeOp, a_codeTag, a_codeData, a_codeNext, a_codeOther, a_bindName, a_bindTag, a_bindData, a_bindEnv, a_bindOuter, a_frameStage, a_frameCode, a_frameEnv, a_frameTag, a_frameData, a_frameValEnv⟩ := u
  obtain ⟨g_tokenCap, g_budget, g_printCap, g_count, f_rows, f_end, f_endValue, b_kinds, b_args, a_stat, a_val, a_printCount, a_prints, a_term, a_step, a_kid, a_done, a_fun, a_num, a_home, a_bind⟩ := v
  obtain ⟨tc, bu, pk, n, hg, T, e1, e2, e3, e4, e5, e6, e7, e8, e9, e10, e11, e12, e13, e14, e15, f⟩ := I
  subst e1 e2 e3 e4 e5 e6 e7 e8 e9 e10 e11 e12 e13 e14 e15
  exact h tc bu pk n hg T f_tagAny f_tagInt f_tagClosure f_tagName f_nameF f_nameA f_nameB f_opReturn f_opTo f_opFn f_opPush f_opForce f_opPlus f_opIfzero f_opPrint f_stageFirst f_stageSecond f_stageTo f_stageArg f_maxSteps f_maxBindings f_bindings f_depth f_current f_byName f_returning f_begun f_pc f_env f_valTag f_valData f_valEnv a_kinds a_args a_partA a_partB a_partC a_free a_stack a_outStatus a_outValue a_outPrinted a_outList a_codeOp a_codeTag a_codeData a_codeNext a_codeOther a_bindName a_bindTag a_bindData a_bindEnv a_bindOuter a_frameStage a_frameCode a_frameEnv a_frameTag a_frameData a_frameValEnv f_rows f_end f_endValue a_term a_step a_kid a_done a_fun a_num a_home a_bind f
end
section
/-! the methods that only read -/
theorem sl_cases (v1 v2 : Int32) : (∃ a b, a < 2 ∧ b < 2 ∧ v1 = nI a ∧ v2 = nI b) ∨ (¬ v1 = 0 ∧ ¬ v1 = 1) ∨ ((v1 = 0 ∨ v1 = 1) ∧ ¬ v2 = 0 ∧ ¬ v2 = 1) := by
  by_cases a0 : v1 = 0
  · by_cases b0 : v2 = 0
    · exact Or.inl ⟨0, 0, by decide, by decide, a0, b0⟩
    · by_cases b1 : v2 = 1
      · exact Or.inl ⟨0, 1, by decide, by decide, a0, b1⟩
      · exact Or.inr (Or.inr ⟨Or.inl a0, b0, b1⟩)
  · by_cases a1 : v1 = 1
    · by_cases b0 : v2 = 0
      · exact Or.inl ⟨1, 0, by decide, by decide, a1, b0⟩
      · by_cases b1 : v2 = 1
        · exact Or.inl ⟨1, 1, by decide, by decide, a1, b1⟩
        · exact Or.inr (Or.inr ⟨Or.inr a1, b0, b1⟩)
    · exact Or.inr (Or.inl ⟨a0, a1⟩)
theorem sl_two {a : Nat} (h : a < 2) : (a = 0 ∧ nI a = 0) ∨ (a = 1 ∧ nI a = 1) := by
  have : a = 0 ∨ a = 1 := by omega
  rcases this with rfl | rfl
  · exact Or.inl ⟨rfl, rfl⟩
  · exact Or.inr ⟨rfl, rfl⟩
theorem sl_X {post : Int32 → Prop} {u : SX} {a b : Nat} (ha : a < 2) (hb : b < 2) (hp : post (nI (2 * a + b))) : wpX_slotOf post u (nI a) (nI b) := by
  have e : 2 * nI a + nI b = nI (2 * a + b) := by
    show nI 2 * nI a + nI b = _
    rw [pk_mul, nI_add]
  rw [← e] at hp
  have K : wX_slotOf_11 post (nI a) (nI b) u.1 u.2.1 u.2.2.1 u.2.2.2.1 u.2.2.2.2.1 u.2.2.2.2.2.1 u.2.2.2.2.2.2.1 u.2.2.2.2.2.2.2.1 u.2.2.2.2.2.2.2.2.1 u.2.2.2.2.2.2.2.2.2.1 u.2.2.2.2.2.2.2.2.2.2.1 u.2.2.2.2.2.2.2.2.2.2.2.1 u.2.2.2.2.2.2.2.2.2.2.2.2.1 u.2.2.2.2.2.2.2.2.2.2.2.2.2.1 u.2.2.2.2.2.2.2.2.2.2.2.2.2.2.1 u.2.2.2.2.2.2.2.2.2.2.2.2.2.2.2.1 u.2.2.2.2.2.2.2.2.2.2.2.2.2.2.2.2.1 u.2.2.2.2.2.2.2.2.2.2.2.2.2.2.2.2.2.1 u.2.2.2.2.2.2.2.2.2.2.2.2.2.2.2.2.2.2.1 u.2.2.2.2.2.2.2.2.2.2.2.2.2.2.2.2.2.2.2.1 u.2.2.2.2.2.2.2.2.2.2.2.2.2.2.2.2.2.2.2.2.1 u.2.2.2.2.2.2.2.2.2.2.2.2.2.2.2.2.2.2.2.2.2.1 u.2.2.2.2.2.2.2.2.2.2.2.2.2.2.2.2.2.2.2.2.2.2.1 u.2.2.2.2.2.2.2.2.2.2.2.2.2.2.2.2.2.2.2.2.2.2.2.1 u.2.2.2.2.2.2.2.2.2.2.2.2.2.2.2.2.2.2.2.2.2.2.2.2.1 u.2.2.2.2.2.2.2.2.2.2.2.2.2.2.2.2.2.2.2.2.2.2.2.2.2.1 u.2.2.2.2.2.2.2.2.2.2.2.2.2.2.2.2.2.2.2.2.2.2.2.2.2.2.1 u.2.2.2.2.2.2.2.2.2.2.2.2.2.2.2.2.2.2.2.2.2.2.2.2.2.2.2.1 u.2.2.2.2.2.2.2.2.2.2.2.2.2.2.2.2.2.2.2.2.2.2.2.2.2.2.2.2.1 u.2.2.2.2.2.2.2.2.2.2.2.2.2.2.2.2.2.2.2.2.2.2.2.2.2.2.2.2.2.1 u.2.2.2.2.2.2.2.2.2.2.2.2.2.2.2.2.2.2.2.2.2.2.2.2.2.2.2.2.2.2.1 u.2.2.2.2.2.2.2.2.2.2.2.2.2.2.2.2.2.2.2.2.2.2.2.2.2.2.2.2.2.2.2.1 u.2.2.2.2.2.2.2.2.2.2.2.2.2.2.2.2.2.2.2.2.2.2.2.2.2.2.2.2.2.2.2.2.1 u.2.2.2.2.2.2.2.2.2.2.2.2.2.2.2.2.2.2.2.2.2.2.2.2.2.2.2.2.2.2.2.2.2.1 u.2.2.2.2.2.2.2.2.2.2.2.2.2.2.2.2.2.2.2.2.2.2.2.2.2.2.2.2.2.2.2.2.2.2.1 u.2.2.2.2.2.2.2.2.2.2.2.2.2.2.2.2.2.2.2.2.2.2.2.2.2.2.2.2.2.2.2.2.2.2.2.1 u.2.2.2.2.2.2.2.2.2.2.2.2.2.2.2.2.2.2.2.2.2.2.2.2.2.2.2.2.2.2.2.2.2.2.2.2.1 u.2.2.2.2.2.2.2.2.2.2.2.2.2.2.2.2.2.2.2.2.2.2.2.2.2.2.2.2.2.2.2.2.2.2.2.2.2.1 u.2.2.2.2.2.2.2.2.2.2.2.2.2.2.2.2.2.2.2.2.2.2.2.2.2.2.2.2.2.2.2.2.2.2.2.2.2.2.1 u.2.2.2.2.2.2.2.2.2.2.2.2.2.2.2.2.2.2.2.2.2.2.2.2.2.2.2.2.2.2.2.2.2.2.2.2.2.2.2.1 u.2.2.2.2.2.2.2.2.2.2.2.2.2.2.2.2.2.2.2.2.2.2.2.2.2.2.2.2.2.2.2.2.2.2.2.2.2.2.2.2.1 u.2.2.2.2.2.2.2.2.2.2.2.2.2.2.2.2.2.2.2.2.2.2.2.2.2.2.2.2.2.2.2.2.2.2.2.2.2.2.2.2.2.1 u.2.2.2.2.2.2.2.2.2.2.2.2.2.2.2.2.2.2.2.2.2.2.2.2.2.2.2.2.2.2.2.2.2.2.2.2.2.2.2.2.2.2.1 u.2.2.2.2.2.2.2.2.2.2.2.2.2.2.2.2.2.2.2.2.2.2.2.2.2.2.2.2.2.2.2.2.2.2.2.2.2.2.2.2.2.2.2.1 u.2.2.2.2.2.2.2.2.2.2.2.2.2.2.2.2.2.2.2.2.2.2.2.2.2.2.2.2.2.2.2.2.2.2.2.2.2.2.2.2.2.2.2.2.1 u.2.2.2.2.2.2.2.2.2.2.2.2.2.2.2.2.2.2.2.2.2.2.2.2.2.2.2.2.2.2.2.2.2.2.2.2.2.2.2.2.2.2.2.2.2.1 u.2.2.2.2.2.2.2.2.2.2.2.2.2.2.2.2.2.2.2.2.2.2.2.2.2.2.2.2.2.2.2.2.2.2.2.2.2.2.2.2.2.2.2.2.2.2.1 u.2.2.2.2.2.2.2.2.2.2.2.2.2.2.2.2.2.2.2.2.2.2.2.2.2.2.2.2.2.2.2.2.2.2.2.2.2.2.2.2.2.2.2.2.2.2.2.1 u.2.2.2.2.2.2.2.2.2.2.2.2.2.2.2.2.2.2.2.2.2.2.2.2.2.2.2.2.2.2.2.2.2.2.2.2.2.2.2.2.2.2.2.2.2.2.2.2.1 u.2.2.2.2.2.2.2.2.2.2.2.2.2.2.2.2.2.2.2.2.2.2.2.2.2.2.2.2.2.2.2.2.2.2.2.2.2.2.2.2.2.2.2.2.2.2.2.2.2.1 u.2.2.2.2.2.2.2.2.2.2.2.2.2.2.2.2.2.2.2.2.2.2.2.2.2.2.2.2.2.2.2.2.2.2.2.2.2.2.2.2.2.2.2.2.2.2.2.2.2.2.1 u.2.2.2.2.2.2.2.2.2.2.2.2.2.2.2.2.2.2.2.2.2.2.2.2.2.2.2.2.2.2.2.2.2.2.2.2.2.2.2.2.2.2.2.2.2.2.2.2.2.2.2.1 u.2.2.2.2.2.2.2.2.2.2.2.2.2.2.2.2.2.2.2.2.2.2.2.2.2.2.2.2.2.2.2.2.2.2.2.2.2.2.2.2.2.2.2.2.2.2.2.2.2.2.2.2.1 u.2.2.2.2.2.2.2.2.2.2.2.2.2.2.2.2.2.2.2.2.2.2.2.2.2.2.2.2.2.2.2.2.2.2.2.2.2.2.2.2.2.2.2.2.2.2.2.2.2.2.2.2.2.1 u.2.2.2.2.2.2.2.2.2.2.2.2.2.2.2.2.2.2.2.2.2.2.2.2.2.2.2.2.2.2.2.2.2.2.2.2.2.2.2.2.2.2.2.2.2.2.2.2.2.2.2.2.2.2.1 u.2.2.2.2.2.2.2.2.2.2.2.2.2.2.2.2.2.2.2.2.2.2.2.2.2.2.2.2.2.2.2.2.2.2.2.2.2.2.2.2.2.2.2.2.2.2.2.2.2.2.2.2.2.2.2.1 u.2.2.2.2.2.2.2.2.2.2.2.2.2.2.2.2.2.2.2.2.2.2.2.2.2.2.2.2.2.2.2.2.2.2.2.2.2.2.2.2.2.2.2.2.2.2.2.2.2.2.2.2.2.2.2.2.1 u.2.2.2.2.2.2.2.2.2.2.2.2.2.2.2.2.2.2.2.2.2.2.2.2.2.2.2.2.2.2.2.2.2.2.2.2.2.2.2.2.2.2.2.2.2.2.2.2.2.2.2.2.2.2.2.2.2.1 u.2.2.2.2.2.2.2.2.2.2.2.2.2.2.2.2.2.2.2.2.2.2.2.2.2.2.2.2.2.2.2.2.2.2.2.2.2.2.2.2.2.2.2.2.2.2.2.2.2.2.2.2.2.2.2.2.2.2.1 u.2.2.2.2.2.2.2.2.2.2.2.2.2.2.2.2.2.2.2.2.2.2.2.2.2.2.2.2.2.2.2.2.2.2.2.2.2.2.2.2.2.2.2.2.2.2.2.2.2.2.2.2.2.2.2.2.2.2.2.1 u.2.2.2.2.2.2.2.2.2.2.2.2.2.2.2.2.2.2.2.2.2.2.2.2.2.2.2.2.2.2.2.2.2.2.2.2.2.2.2.2.2.2.2.2.2.2.2.2.2.2.2.2.2.2.2.2.2.2.2.2.1 u.2.2.2.2.2.2.2.2.2.2.2.2.2.2.2.2.2.2.2.2.2.2.2.2.2.2.2.2.2.2.2.2.2.2.2.2.2.2.2.2.2.2.2.2.2.2.2.2.2.2.2.2.2.2.2.2.2.2.2.2.2.1 u.2.2.2.2.2.2.2.2.2.2.2.2.2.2.2.2.2.2.2.2.2.2.2.2.2.2.2.2.2.2.2.2.2.2.2.2.2.2.2.2.2.2.2.2.2.2.2.2.2.2.2.2.2.2.2.2.2.2.2.2.2.2.1 u.2.2.2.2.2.2.2.2.2.2.2.2.2.2.2.2.2.2.2.2.2.2.2.2.2.2.2.2.2.2.2.2.2.2.2.2.2.2.2.2.2.2.2.2.2.2.2.2.2.2.2.2.2.2.2.2.2.2.2.2.2.2.2 := by
    rcases sl_two hb with ⟨_, e⟩ | ⟨_, e⟩
    · exact br_t e hp
    · exact br_f (by rw [e]; decide) (br_t e hp)
  rcases sl_two ha with ⟨_, e⟩ | ⟨_, e⟩
  · exact br_t e K
  · exact br_f (by rw [e]; decide) (br_t e K)
theorem sl_Xb {post : Int32 → Prop} {u : SX} {v1 v2 : Int32} (h : (¬ v1 = 0 ∧ ¬ v1 = 1) ∨ ((v1 = 0 ∨ v1 = 1) ∧ ¬ v2 = 0 ∧ ¬ v2 = 1)) (hp : post (-1)) : wpX_slotOf post u v1 v2 := by
  rcases h with ⟨a, b⟩ | ⟨a, b, c⟩
  · exact br_f a (br_f b hp)
  · by_cases a0 : v1 = 0
    · exact br_t a0 (br_f b (br_f c hp))
    · exact br_f a0 (br_t (a.resolve_left a0) (br_f b (br_f c hp)))
theorem sl_Y {post : Int32 → Prop} {u : SY} {a b : Nat} (ha : a < 2) (hb : b < 2) (hp : post 0) : wpY_bad post u (nI a) (nI b) :=
  br_f (nI_pos (by omega)) (br_f (nI_nlt (b := a) (a := 1) (by omega) (by omega)) (br_f (nI_pos (by omega)) (br_t (nI_le (b := 1) (by omega) (by omega)) hp)))
theorem sl_01 {v : Int32} (h0 : ¬ v < 0) (h1 : ¬ 1 < v) : v = 0 ∨ v = 1 := by
  obtain ⟨j, hj, rfl⟩ := nI_of h0
  have : ¬ 1 < j := fun z => h1 (nI_lt (a := 1) z hj)
  have : j = 0 ∨ j = 1 := by omega
  rcases this with rfl | rfl
  · exact Or.inl rfl
  · exact Or.inr rfl
theorem sl_Yb {post : Int32 → Prop} {u : SY} {v1 v2 : Int32} (h : (¬ v1 = 0 ∧ ¬ v1 = 1) ∨ ((v1 = 0 ∨ v1 = 1) ∧ ¬ v2 = 0 ∧ ¬ v2 = 1)) (hp : post 1) : wpY_bad post u v1 v2 := by
  refine br_c (fun _ => hp) (fun a => br_c (fun _ => hp) (fun b => br_c (fun _ => hp) (fun c => br_c (fun d => ?_) (fun _ => hp))))
  exfalso
  have x := sl_01 a b
  have y := sl_01 c (fun z => absurd d (Int32.not_le.mpr z))
  rcases h with ⟨p, q⟩ | ⟨_, p, q⟩
  · exact x.elim p q
  · exact y.elim p q
theorem sl_yix (a b : Nat) : nI a * 2 + nI b = nI (2 * a + b) := by
  show nI a * nI 2 + nI b = _
  rw [pk_mul, nI_add, Nat.mul_comm]
theorem i_vc_tokens {k : Nat} {u : SX} {v : SY} (I : i_Rel k u v) (hk : k + 4 ≤ 2051) : wpX_tokens (fun r => wpY_tokens (fun r' => r' = r ∧ i_Rel (k + 4) u v) v) u := by
  refine rl_el (P := fun u v => wpX_tokens (fun r => wpY_tokens (fun r' => r' = r ∧ i_Rel (k + 4) u v) v) u) ?_ I
  intro tc bu pk n hg T f_tagAny f_tagInt f_tagClosure f_tagName f_nameF f_nameA f_nameB f_opReturn f_opTo f_opFn f_opPush f_opForce f_opPlus f_opIfzero f_opPrint f_stageFirst f_stageSecond f_stageTo f_stageArg f_maxSteps f_maxBindings f_bindings f_depth f_current f_byName f_returning f_begun f_pc f_env f_valTag f_valData f_valEnv a_kinds a_args a_partA a_partB a_partC a_free a_stack a_outStatus a_outValue a_outPrinted a_outList a_codeOp a_codeTag a_codeData a_codeNext a_codeOther a_bindName a_bindTag a_bindData a_bindEnv a_bindOuter a_frameStage a_frameCode a_frameEnv a_frameTag a_frameData a_frameValEnv f_rows f_end f_endValue a_term a_step a_kid a_done a_fun a_num a_home a_bind f
  exact And.intro rfl (rl_mk f)
theorem i_vc_height {k : Nat} {u : SX} {v : SY} (I : i_Rel k u v) (hk : k + 4 ≤ 2051) : wpX_height (fun r => wpY_height (fun r' => r' = r ∧ i_Rel (k + 4) u v) v) u := by
  refine rl_el (P := fun u v => wpX_height (fun r => wpY_height (fun r' => r' = r ∧ i_Rel (k + 4) u v) v) u) ?_ I
  intro tc bu pk n hg T f_tagAny f_tagInt f_tagClosure f_tagName f_nameF f_nameA f_nameB f_opReturn f_opTo f_opFn f_opPush f_opForce f_opPlus f_opIfzero f_opPrint f_stageFirst f_stageSecond f_stageTo f_stageArg f_maxSteps f_maxBindings f_bindings f_depth f_current f_byName f_returning f_begun f_pc f_env f_valTag f_valData f_valEnv a_kinds a_args a_partA a_partB a_partC a_free a_stack a_outStatus a_outValue a_outPrinted a_outList a_codeOp a_codeTag a_codeData a_codeNext a_codeOther a_bindName a_bindTag a_bindData a_bindEnv a_bindOuter a_frameStage a_frameCode a_frameEnv a_frameTag a_frameData a_frameValEnv f_rows f_end f_endValue a_term a_step a_kid a_done a_fun a_num a_home a_bind f
  obtain ⟨f1, f2, f3, f4, f5, f6, f7, f8⟩ := id f
  exact yh_height (cn := n) (by omega) (And.intro f6.symm (rl_mk f))
theorem i_vc_freeNames {k : Nat} {u : SX} {v : SY} (I : i_Rel k u v) (hk : k + 4 ≤ 2051) : wpX_freeNames (fun r => wpY_freeNames (fun r' => r' = r ∧ i_Rel (k + 4) u v) v) u := by
  refine rl_el (P := fun u v => wpX_freeNames (fun r => wpY_freeNames (fun r' => r' = r ∧ i_Rel (k + 4) u v) v) u) ?_ I
  intro tc bu pk n hg T f_tagAny f_tagInt f_tagClosure f_tagName f_nameF f_nameA f_nameB f_opReturn f_opTo f_opFn f_opPush f_opForce f_opPlus f_opIfzero f_opPrint f_stageFirst f_stageSecond f_stageTo f_stageArg f_maxSteps f_maxBindings f_bindings f_depth f_current f_byName f_returning f_begun f_pc f_env f_valTag f_valData f_valEnv a_kinds a_args a_partA a_partB a_partC a_free a_stack a_outStatus a_outValue a_outPrinted a_outList a_codeOp a_codeTag a_codeData a_codeNext a_codeOther a_bindName a_bindTag a_bindData a_bindEnv a_bindOuter a_frameStage a_frameCode a_frameEnv a_frameTag a_frameData a_frameValEnv f_rows f_end f_endValue a_term a_step a_kid a_done a_fun a_num a_home a_bind f
  obtain ⟨f1, f2, f3, f4, f5, f6, f7, f8⟩ := id f
  have hn := tr_h_le f8
  rcases Nat.eq_zero_or_pos hg with e | e
  · have n0 := tr_h0 f8 e
    refine br_t (by rw [e]; rfl) (yf_names f8 (by omega) ?_)
    rw [if_pos n0]
    exact And.intro rfl (rl_mk f)
  · obtain ⟨n1, es⟩ := tr_top f8 e
    have eh : nI hg - 1 = nI (hg - 1) := (yv_sub1 e).symm
    have e1 : a_stack (nI hg - 1).toNatClampNeg = nI (n - 1) := by rw [eh, nI_clamp (by omega)]; exact es
    have v1 : vp_in (nI hg - 1) 32 := by rw [eh]; exact vp_in_nI (by omega) (by decide)
    have v2 : vp_in (a_stack (nI hg - 1).toNatClampNeg) 32 := by rw [e1]; exact vp_in_nI (by omega) (by decide)
    refine br_f (nI_ne0 e (by omega)) (And.intro v1 (And.intro v2 (yf_names f8 (by omega) ?_)))
    rw [if_neg (by omega)]
    refine And.intro ?_ (rl_mk f)
    rw [e1, nI_clamp (by omega)]
theorem i_vc_kindAt {k : Nat} {u : SX} {v : SY} (I : i_Rel k u v) (hk : k + 4 ≤ 2051) (v1 : Int32) : wpX_kindAt (fun r => wpY_kindAt (fun r' => r' = r ∧ i_Rel (k + 4) u v) v v1) u v1 := by
  refine rl_el (P := fun u v => wpX_kindAt (fun r => wpY_kindAt (fun r' => r' = r ∧ i_Rel (k + 4) u v) v v1) u v1) ?_ I
  intro tc bu pk n hg T f_tagAny f_tagInt f_tagClosure f_tagName f_nameF f_nameA f_nameB f_opReturn f_opTo f_opFn f_opPush f_opForce f_opPlus f_opIfzero f_opPrint f_stageFirst f_stageSecond f_stageTo f_stageArg f_maxSteps f_maxBindings f_bindings f_depth f_current f_byName f_returning f_begun f_pc f_env f_valTag f_valData f_valEnv a_kinds a_args a_partA a_partB a_partC a_free a_stack a_outStatus a_outValue a_outPrinted a_outList a_codeOp a_codeTag a_codeData a_codeNext a_codeOther a_bindName a_bindTag a_bindData a_bindEnv a_bindOuter a_frameStage a_frameCode a_frameEnv a_frameTag a_frameData a_frameValEnv f_rows f_end f_endValue a_term a_step a_kid a_done a_fun a_num a_home a_bind f
  obtain ⟨f1, f2, f3, f4, f5, f6, f7, f8⟩ := id f
  by_cases h0 : v1 < 0
  · exact br_t h0 (br_t h0 (And.intro rfl (rl_mk f)))
  · by_cases h1 : v1 < nI n
    · have i1 : vp_in v1 32 := by
        obtain ⟨j, hj, rfl⟩ := nI_of h0
        rw [nI_ltI hj (by omega)] at h1
        exact vp_in_nI (by omega) (by decide)
      exact br_f h0 (br_t h1 (And.intro i1 (br_f h0 (br_t h1 (And.intro i1 (And.intro rfl (rl_mk f)))))))
    · exact br_f h0 (br_f h1 (br_f h0 (br_f h1 (And.intro rfl (rl_mk f)))))
theorem i_vc_argAt {k : Nat} {u : SX} {v : SY} (I : i_Rel k u v) (hk : k + 4 ≤ 2051) (v1 : Int32) : wpX_argAt (fun r => wpY_argAt (fun r' => r' = r ∧ i_Rel (k + 4) u v) v v1) u v1 := by
  refine rl_el (P := fun u v => wpX_argAt (fun r => wpY_argAt (fun r' => r' = r ∧ i_Rel (k + 4) u v) v v1) u v1) ?_ I
  intro tc bu pk n hg T f_tagAny f_tagInt f_tagClosure f_tagName f_nameF f_nameA f_nameB f_opReturn f_opTo f_opFn f_opPush f_opForce f_opPlus f_opIfzero f_opPrint f_stageFirst f_stageSecond f_stageTo f_stageArg f_maxSteps f_maxBindings f_bindings f_depth f_current f_byName f_returning f_begun f_pc f_env f_valTag f_valData f_valEnv a_kinds a_args a_partA a_partB a_partC a_free a_stack a_outStatus a_outValue a_outPrinted a_outList a_codeOp a_codeTag a_codeData a_codeNext a_codeOther a_bindName a_bindTag a_bindData a_bindEnv a_bindOuter a_frameStage a_frameCode a_frameEnv a_frameTag a_frameData a_frameValEnv f_rows f_end f_endValue a_term a_step a_kid a_done a_fun a_num a_home a_bind f
  obtain ⟨f1, f2, f3, f4, f5, f6, f7, f8⟩ := id f
  by_cases h0 : v1 < 0
  · exact br_t h0 (br_t h0 (And.intro rfl (rl_mk f)))
  · by_cases h1 : v1 < nI n
    · have i1 : vp_in v1 32 := by
        obtain ⟨j, hj, rfl⟩ := nI_of h0
        rw [nI_ltI hj (by omega)] at h1
        exact vp_in_nI (by omega) (by decide)
      exact br_f h0 (br_t h1 (And.intro i1 (br_f h0 (br_t h1 (And.intro i1 (And.intro rfl (rl_mk f)))))))
    · exact br_f h0 (br_f h1 (br_f h0 (br_f h1 (And.intro rfl (rl_mk f)))))
theorem i_vc_status {k : Nat} {u : SX} {v : SY} (I : i_Rel k u v) (hk : k + 4 ≤ 2051) (v1 : Int32) (v2 : Int32) : wpX_status (fun r => wpY_status (fun r' => r' = r ∧ i_Rel (k + 4) u v) v v1 v2) u v1 v2 := by
  refine rl_el (P := fun u v => wpX_status (fun r => wpY_status (fun r' => r' = r ∧ i_Rel (k + 4) u v) v v1 v2) u v1 v2) ?_ I
  intro tc bu pk n hg T f_tagAny f_tagInt f_tagClosure f_tagName f_nameF f_nameA f_nameB f_opReturn f_opTo f_opFn f_opPush f_opForce f_opPlus f_opIfzero f_opPrint f_stageFirst f_stageSecond f_stageTo f_stageArg f_maxSteps f_maxBindings f_bindings f_depth f_current f_byName f_returning f_begun f_pc f_env f_valTag f_valData f_valEnv a_kinds a_args a_partA a_partB a_partC a_free a_stack a_outStatus a_outValue a_outPrinted a_outList a_codeOp a_codeTag a_codeData a_codeNext a_codeOther a_bindName a_bindTag a_bindData a_bindEnv a_bindOuter a_frameStage a_frameCode a_frameEnv a_frameTag a_frameData a_frameValEnv f_rows f_end f_endValue a_term a_step a_kid a_done a_fun a_num a_home a_bind f
  unfold wpX_status wpY_status
  rcases sl_cases v1 v2 with ⟨a, b, ha, hb, rfl, rfl⟩ | h
  · have i1 : vp_in (nI (2 * a + b)) 4 := vp_in_nI (by omega) (by decide)
    refine sl_X ha hb (br_t (nI_pos' (by omega)) (And.intro i1 ?_))
    refine sl_Y ha hb (br_t rfl ?_)
    rw [sl_yix]
    exact And.intro i1 (And.intro rfl (rl_mk f))
  · refine sl_Xb h (br_f (by decide) ?_)
    exact sl_Yb h (br_f (by decide) (And.intro rfl (rl_mk f)))
theorem i_vc_value {k : Nat} {u : SX} {v : SY} (I : i_Rel k u v) (hk : k + 4 ≤ 2051) (v1 : Int32) (v2 : Int32) : wpX_value (fun r => wpY_value (fun r' => r' = r ∧ i_Rel (k + 4) u v) v v1 v2) u v1 v2 := by
  refine rl_el (P := fun u v => wpX_value (fun r => wpY_value (fun r' => r' = r ∧ i_Rel (k + 4) u v) v v1 v2) u v1 v2) ?_ I
  intro tc bu pk n hg T f_tagAny f_tagInt f_tagClosure f_tagName f_nameF f_nameA f_nameB f_opReturn f_opTo f_opFn f_opPush f_opForce f_opPlus f_opIfzero f_opPrint f_stageFirst f_stageSecond f_stageTo f_stageArg f_maxSteps f_maxBindings f_bindings f_depth f_current f_byName f_returning f_begun f_pc f_env f_valTag f_valData f_valEnv a_kinds a_args a_partA a_partB a_partC a_free a_stack a_outStatus a_outValue a_outPrinted a_outList a_codeOp a_codeTag a_codeData a_codeNext a_codeOther a_bindName a_bindTag a_bindData a_bindEnv a_bindOuter a_frameStage a_frameCode a_frameEnv a_frameTag a_frameData a_frameValEnv f_rows f_end f_endValue a_term a_step a_kid a_done a_fun a_num a_home a_bind f
  unfold wpX_value wpY_value
  rcases sl_cases v1 v2 with ⟨a, b, ha, hb, rfl, rfl⟩ | h
  · have i1 : vp_in (nI (2 * a + b)) 4 := vp_in_nI (by omega) (by decide)
    refine sl_X ha hb (br_t (nI_pos' (by omega)) (And.intro i1 ?_))
    refine sl_Y ha hb (br_t rfl ?_)
    rw [sl_yix]
    exact And.intro i1 (And.intro rfl (rl_mk f))
  · refine sl_Xb h (br_f (by decide) ?_)
    exact sl_Yb h (br_f (by decide) (And.intro rfl (rl_mk f)))
theorem i_vc_printed {k : Nat} {u : SX} {v : SY} (I : i_Rel k u v) (hk : k + 4 ≤ 2051) (v1 : Int32) (v2 : Int32) : wpX_printed (fun r => wpY_printed (fun r' => r' = r ∧ i_Rel (k + 4) u v) v v1 v2) u v1 v2 := by
  refine rl_el (P := fun u v => wpX_printed (fun r => wpY_printed (fun r' => r' = r ∧ i_Rel (k + 4) u v) v v1 v2) u v1 v2) ?_ I
  intro tc bu pk n hg T f_tagAny f_tagInt f_tagClosure f_tagName f_nameF f_nameA f_nameB f_opReturn f_opTo f_opFn f_opPush f_opForce f_opPlus f_opIfzero f_opPrint f_stageFirst f_stageSecond f_stageTo f_stageArg f_maxSteps f_maxBindings f_bindings f_depth f_current f_byName f_returning f_begun f_pc f_env f_valTag f_valData f_valEnv a_kinds a_args a_partA a_partB a_partC a_free a_stack a_outStatus a_outValue a_outPrinted a_outList a_codeOp a_codeTag a_codeData a_codeNext a_codeOther a_bindName a_bindTag a_bindData a_bindEnv a_bindOuter a_frameStage a_frameCode a_frameEnv a_frameTag a_frameData a_frameValEnv f_rows f_end f_endValue a_term a_step a_kid a_done a_fun a_num a_home a_bind f
  unfold wpX_printed wpY_printed
  rcases sl_cases v1 v2 with ⟨a, b, ha, hb, rfl, rfl⟩ | h
  · have i1 : vp_in (nI (2 * a + b)) 4 := vp_in_nI (by omega) (by decide)
    refine sl_X ha hb (br_t (nI_pos' (by omega)) (And.intro i1 ?_))
    refine sl_Y ha hb (br_t rfl ?_)
    rw [sl_yix]
    exact And.intro i1 (And.intro rfl (rl_mk f))
  · refine sl_Xb h (br_f (by decide) ?_)
    exact sl_Yb h (br_f (by decide) (And.intro rfl (rl_mk f)))
theorem i_vc_printedAt {k : Nat} {u : SX} {v : SY} (I : i_Rel k u v) (hk : k + 4 ≤ 2051) (v1 : Int32) (v2 : Int32) (v3 : Int32) : wpX_printedAt (fun r => wpY_printedAt (fun r' => r' = r ∧ i_Rel (k + 4) u v) v v1 v2 v3) u v1 v2 v3 := by
  refine rl_el (P := fun u v => wpX_printedAt (fun r => wpY_printedAt (fun r' => r' = r ∧ i_Rel (k + 4) u v) v v1 v2 v3) u v1 v2 v3) ?_ I
  intro tc bu pk n hg T f_tagAny f_tagInt f_tagClosure f_tagName f_nameF f_nameA f_nameB f_opReturn f_opTo f_opFn f_opPush f_opForce f_opPlus f_opIfzero f_opPrint f_stageFirst f_stageSecond f_stageTo f_stageArg f_maxSteps f_maxBindings f_bindings f_depth f_current f_byName f_returning f_begun f_pc f_env f_valTag f_valData f_valEnv a_kinds a_args a_partA a_partB a_partC a_free a_stack a_outStatus a_outValue a_outPrinted a_outList a_codeOp a_codeTag a_codeData a_codeNext a_codeOther a_bindName a_bindTag a_bindData a_bindEnv a_bindOuter a_frameStage a_frameCode a_frameEnv a_frameTag a_frameData a_frameValEnv f_rows f_end f_endValue a_term a_step a_kid a_done a_fun a_num a_home a_bind f
  obtain ⟨f1, f2, f3, f4, f5, f6, f7, f8⟩ := id f
  unfold wpX_printedAt wpY_printedAt
  rcases sl_cases v1 v2 with ⟨a, b, ha, hb, rfl, rfl⟩ | h
  · have i1 : vp_in (nI (2 * a + b)) 4 := vp_in_nI (by omega) (by decide)
    have c1 : (nI (2 * a + b)).toNatClampNeg = 2 * a + b := nI_clamp (by omega)
    obtain ⟨m, hm, em⟩ := f7 (2 * a + b) (by omega)
    have em' : a_outPrinted (nI (2 * a + b)).toNatClampNeg = nI m := by rw [c1]; exact em
    by_cases h0 : v3 < 0
    · refine sl_X ha hb (br_f (nI_pos (by omega)) (br_t h0 ?_))
      exact sl_Y ha hb (br_t rfl (nm_r (sl_yix a b) (br_t h0 (And.intro rfl (rl_mk f)))))
    · by_cases h1 : v3 < a_outPrinted (nI (2 * a + b)).toNatClampNeg
      · have ix : ∃ j, j < 32 ∧ v3 = nI j := by
          obtain ⟨j, hj, rfl⟩ := nI_of h0
          rw [em', nI_ltI hj (by omega)] at h1
          exact ⟨j, by omega, rfl⟩
        obtain ⟨j, hj, ej⟩ := ix
        have x1 : 32 * nI (2 * a + b) + v3 = nI (32 * (2 * a + b) + j) := by
          rw [ej]
          show nI 32 * nI (2 * a + b) + nI j = _
          rw [pk_mul, nI_add]
        have x2 : nI (2 * a + b) * 32 + v3 = nI (32 * (2 * a + b) + j) := by
          rw [ej]
          show nI (2 * a + b) * nI 32 + nI j = _
          rw [pk_mul, nI_add, Nat.mul_comm (2 * a + b) 32]
        have w1 : vp_in (32 * nI (2 * a + b) + v3) 128 := by rw [x1]; exact vp_in_nI (by omega) (by decide)
        have w2 : vp_in (nI (2 * a + b) * 32 + v3) 128 := by rw [x2]; exact vp_in_nI (by omega) (by decide)
        refine sl_X ha hb (br_f (nI_pos (by omega)) (br_f h0 (And.intro i1 (br_t h1 (And.intro w1 ?_)))))
        refine sl_Y ha hb (br_t rfl (nm_r (sl_yix a b) (br_f h0 (And.intro i1 (br_t h1 (And.intro w2 (And.intro ?_ (rl_mk f))))))))
        rw [x1, x2]
      · refine sl_X ha hb (br_f (nI_pos (by omega)) (br_f h0 (And.intro i1 (br_f h1 ?_))))
        exact sl_Y ha hb (br_t rfl (nm_r (sl_yix a b) (br_f h0 (And.intro i1 (br_f h1 (And.intro rfl (rl_mk f)))))))
  · refine sl_Xb h (br_t (by decide) ?_)
    exact sl_Yb h (br_f (by decide) (And.intro rfl (rl_mk f)))
end
section
/-! emptying the outcomes -/
def rl_z (i : Nat) (a : Nat → Int32) : Nat → Int32 := fun j => if j < i then 0 else a j
theorem rl_z0 {a : Nat → Int32} : rl_z 0 a = a := by funext j; exact if_neg (by omega)
theorem rl_zS {a : Nat → Int32} {i : Nat} : upd (rl_z i a) i 0 = rl_z (i + 1) a := by
  funext j
  unfold upd rl_z
  by_cases e : j = i
  · rw [if_pos e, if_pos (by omega)]
  · rw [if_neg e]
    by_cases h : j < i
    · rw [if_pos h, if_pos (by omega)]
    · rw [if_neg h, if_neg (by omega)]
theorem rl_zP {a : Nat → Int32} : ∀ i, i < 4 → ∃ c, c ≤ 32 ∧ rl_z 4 a i = nI c := fun i hi => ⟨0, by omega, if_pos hi⟩
section
variable {f_tagAny f_tagInt f_tagClosure f_tagName f_nameF f_nameA f_nameB f_opReturn f_opTo f_opFn f_opPush f_opForce f_opPlus f_opIfzero f_opPrint f_stageFirst f_stageSecond f_stageTo f_stageArg f_maxSteps f_maxBindings f_tokenCap f_budget f_printCap f_count f_height f_bindings f_depth f_current f_byName f_returning f_begun f_pc f_env f_valTag f_valData f_valEnv : Int32} {a_kinds a_args a_partA a_partB a_partC a_free a_stack a_outStatus a_outValue a_outPrinted a_outList a_codeOp a_codeTag a_codeData a_codeNext a_codeOther a_bindName a_bindTag a_bindData a_bindEnv a_bindOuter a_frameStage a_frameCode a_frameEnv a_frameTag a_frameData a_frameValEnv : Nat → Int32}
theorem em_X {post : SX → Prop} (hp : post (f_tagAny, f_tagInt, f_tagClosure, f_tagName, f_nameF, f_nameA, f_nameB, f_opReturn, f_opTo, f_opFn, f_opPush, f_opForce, f_opPlus, f_opIfzero, f_opPrint, f_stageFirst, f_stageSecond, f_stageTo, f_stageArg, f_maxSteps, f_maxBindings, f_tokenCap, f_budget, f_printCap, f_count, f_height, f_bindings, f_depth, f_current, f_byName, f_returning, f_begun, f_pc, f_env, f_valTag, f_valData, f_valEnv, a_kinds, a_args, a_partA, a_partB, a_partC, a_free, a_stack, rl_z 4 a_outStatus, rl_z 4 a_outValue, rl_z 4 a_outPrinted, a_outList, a_codeOp, a_codeTag, a_codeData, a_codeNext, a_codeOther, a_bindName, a_bindTag, a_bindData, a_bindEnv, a_bindOuter, a_frameStage, a_frameCode, a_frameEnv, a_frameTag, a_frameData, a_frameValEnv)) : ∀ d i, i + d = 4 → wX_emptyAll_2 post (d + 1) (nI i) f_tagAny f_tagInt f_tagClosure f_tagName f_nameF f_nameA f_nameB f_opReturn f_opTo f_opFn f_opPush f_opForce f_opPlus f_opIfzero f_opPrint f_stageFirst f_stageSecond f_stageTo f_stageArg f_maxSteps f_maxBindings f_tokenCap f_budget f_printCap f_count f_height f_bindings f_depth f_current f_byName f_returning f_begun f_pc f_env f_valTag f_valData f_valEnv a_kinds a_args a_partA a_partB a_partC a_free a_stack (rl_z i a_outStatus) (rl_z i a_outValue) (rl_z i a_outPrinted) a_outList a_codeOp a_codeTag a_codeData a_codeNext a_codeOther a_bindName a_bindTag a_bindData a_bindEnv a_bindOuter a_frameStage a_frameCode a_frameEnv a_frameTag a_frameData a_frameValEnv := by
  intro d
  induction d with
  | zero =>
    intro i hi
    obtain rfl : i = 4 := by omega
    exact br_t (by decide) hp
  | succ d ih =>
    intro i hi
    have i1 : vp_in (nI i) 4 := vp_in_nI (by omega) (by decide)
    have e : ∀ a : Nat → Int32, upd (rl_z i a) (nI i).toNatClampNeg 0 = rl_z (i + 1) a := fun a => by rw [nI_clamp (by omega)]; exact rl_zS
    exact br_f (nI_ge (b := 4) (by omega) (by decide)) (And.intro i1 (nm_r (e a_outStatus) (And.intro i1 (nm_r (e a_outValue) (And.intro i1 (nm_r (e a_outPrinted) (nm_r (nI_1 i) (ih (i + 1) (by omega)))))))))
theorem em_Xall {post : SX → Prop} (hp : post (f_tagAny, f_tagInt, f_tagClosure, f_tagName, f_nameF, f_nameA, f_nameB, f_opReturn, f_opTo, f_opFn, f_opPush, f_opForce, f_opPlus, f_opIfzero, f_opPrint, f_stageFirst, f_stageSecond, f_stageTo, f_stageArg, f_maxSteps, f_maxBindings, f_tokenCap, f_budget, f_printCap, f_count, f_height, f_bindings, f_depth, f_current, f_byName, f_returning, f_begun, f_pc, f_env, f_valTag, f_valData, f_valEnv, a_kinds, a_args, a_partA, a_partB, a_partC, a_free, a_stack, rl_z 4 a_outStatus, rl_z 4 a_outValue, rl_z 4 a_outPrinted, a_outList, a_codeOp, a_codeTag, a_codeData, a_codeNext, a_codeOther, a_bindName, a_bindTag, a_bindData, a_bindEnv, a_bindOuter, a_frameStage, a_frameCode, a_frameEnv, a_frameTag, a_frameData, a_frameValEnv)) : wpX_emptyAll post (f_tagAny, f_tagInt, f_tagClosure, f_tagName, f_nameF, f_nameA, f_nameB, f_opReturn, f_opTo, f_opFn, f_opPush, f_opForce, f_opPlus, f_opIfzero, f_opPrint, f_stageFirst, f_stageSecond, f_stageTo, f_stageArg, f_maxSteps, f_maxBindings, f_tokenCap, f_budget, f_printCap, f_count, f_height, f_bindings, f_depth, f_current, f_byName, f_returning, f_begun, f_pc, f_env, f_valTag, f_valData, f_valEnv, a_kinds, a_args, a_partA, a_partB, a_partC, a_free, a_stack, a_outStatus, a_outValue, a_outPrinted, a_outList, a_codeOp, a_codeTag, a_codeData, a_codeNext, a_codeOther, a_bindName, a_bindTag, a_bindData, a_bindEnv, a_bindOuter, a_frameStage, a_frameCode, a_frameEnv, a_frameTag, a_frameData, a_frameValEnv) := by
  have L := em_X hp 4 0 rfl
  rw [rl_z0, rl_z0, rl_z0] at L
  exact ⟨5, L⟩
/-! a token's parts leave the stack -/
theorem tp_X {post : SX → Prop} {n hg p : Nat} {A B C : Int32} (p3 : p ≤ 3) (ph : p ≤ hg) (hh : hg ≤ n) (hn : n < 32) (hA0 : p = 0 → A = 0) (hA : 1 ≤ p → A = a_stack (hg - p)) (hB0 : p ≤ 1 → B = 0) (hB : 2 ≤ p → B = a_stack (hg - p + 1)) (hC0 : p ≤ 2 → C = 0) (hC : 3 ≤ p → C = a_stack (hg - p + 2))
    (hp : post (f_tagAny, f_tagInt, f_tagClosure, f_tagName, f_nameF, f_nameA, f_nameB, f_opReturn, f_opTo, f_opFn, f_opPush, f_opForce, f_opPlus, f_opIfzero, f_opPrint, f_stageFirst, f_stageSecond, f_stageTo, f_stageArg, f_maxSteps, f_maxBindings, f_tokenCap, f_budget, f_printCap, nI n, nI (hg - p + 1), f_bindings, f_depth, f_current, f_byName, f_returning, f_begun, f_pc, f_env, f_valTag, f_valData, f_valEnv, a_kinds, a_args, upd a_partA n A, upd a_partB n B, upd a_partC n C, a_free, upd a_stack (hg - p) (nI n), a_outStatus, a_outValue, a_outPrinted, a_outList, a_codeOp, a_codeTag, a_codeData, a_codeNext, a_codeOther, a_bindName, a_bindTag, a_bindData, a_bindEnv, a_bindOuter, a_frameStage, a_frameCode, a_frameEnv, a_frameTag, a_frameData, a_frameValEnv)) : wpX_takeParts post (f_tagAny, f_tagInt, f_tagClosure, f_tagName, f_nameF, f_nameA, f_nameB, f_opReturn, f_opTo, f_opFn, f_opPush, f_opForce, f_opPlus, f_opIfzero, f_opPrint, f_stageFirst, f_stageSecond, f_stageTo, f_stageArg, f_maxSteps, f_maxBindings, f_tokenCap, f_budget, f_printCap, nI n, nI hg, f_bindings, f_depth, f_current, f_byName, f_returning, f_begun, f_pc, f_env, f_valTag, f_valData, f_valEnv, a_kinds, a_args, a_partA, a_partB, a_partC, a_free, a_stack, a_outStatus, a_outValue, a_outPrinted, a_outList, a_codeOp, a_codeTag, a_codeData, a_codeNext, a_codeOther, a_bindName, a_bindTag, a_bindData, a_bindEnv, a_bindOuter, a_frameStage, a_frameCode, a_frameEnv, a_frameTag, a_frameData, a_frameValEnv) (nI p) := by
  have i1 : vp_in (nI n) 32 := vp_in_nI hn (by decide)
  have cn : (nI n).toNatClampNeg = n := nI_clamp (by omega)
  have i2 : vp_in (nI (hg - p)) 32 := vp_in_nI (by omega) (by decide)
  have c2 : (nI (hg - p)).toNatClampNeg = hg - p := nI_clamp (by omega)
  have eC : upd a_partC (nI n).toNatClampNeg C = upd a_partC n C := by rw [cn]
  have eB : upd a_partB (nI n).toNatClampNeg B = upd a_partB n B := by rw [cn]
  have eA : upd a_partA (nI n).toNatClampNeg A = upd a_partA n A := by rw [cn]
  have eS : upd a_stack (nI (hg - p)).toNatClampNeg (nI n) = upd a_stack (hg - p) (nI n) := by rw [c2]
  have K81 : wX_takeParts_81 post (nI (hg - p)) C (nI n) f_tagAny f_tagInt f_tagClosure f_tagName f_nameF f_nameA f_nameB f_opReturn f_opTo f_opFn f_opPush f_opForce f_opPlus f_opIfzero f_opPrint f_stageFirst f_stageSecond f_stageTo f_stageArg f_maxSteps f_maxBindings f_tokenCap f_budget f_printCap (nI n) (nI hg) f_bindings f_depth f_current f_byName f_returning f_begun f_pc f_env f_valTag f_valData f_valEnv a_kinds a_args (upd a_partA n A) (upd a_partB n B) a_partC a_free a_stack a_outStatus a_outValue a_outPrinted a_outList a_codeOp a_codeTag a_codeData a_codeNext a_codeOther a_bindName a_bindTag a_bindData a_bindEnv a_bindOuter a_frameStage a_frameCode a_frameEnv a_frameTag a_frameData a_frameValEnv := And.intro i1 (nm_r eC (And.intro i2 (nm_r eS (nm_r (nI_1 _) hp))))
  have K55 : wX_takeParts_55 post (nI p) (nI (hg - p)) B (nI n) f_tagAny f_tagInt f_tagClosure f_tagName f_nameF f_nameA f_nameB f_opReturn f_opTo f_opFn f_opPush f_opForce f_opPlus f_opIfzero f_opPrint f_stageFirst f_stageSecond f_stageTo f_stageArg f_maxSteps f_maxBindings f_tokenCap f_budget f_printCap (nI n) (nI hg) f_bindings f_depth f_current f_byName f_returning f_begun f_pc f_env f_valTag f_valData f_valEnv a_kinds a_args (upd a_partA n A) a_partB a_partC a_free a_stack a_outStatus a_outValue a_outPrinted a_outList a_codeOp a_codeTag a_codeData a_codeNext a_codeOther a_bindName a_bindTag a_bindData a_bindEnv a_bindOuter a_frameStage a_frameCode a_frameEnv a_frameTag a_frameData a_frameValEnv := by
    refine And.intro i1 (nm_r eB (pk_le p 2 (fun z => ?_) (fun z => ?_)))
    · rw [hC0 z] at K81; exact K81
    · have e : nI (hg - p) + 2 = nI (hg - p + 2) := nI_add _ 2
      rw [e]
      refine And.intro (vp_in_nI (by omega) (by decide)) ?_
      rw [nI_clamp (by omega), ← hC (by omega)]
      exact K81
  have K29 : wX_takeParts_29 post (nI p) (nI (hg - p)) A (nI n) f_tagAny f_tagInt f_tagClosure f_tagName f_nameF f_nameA f_nameB f_opReturn f_opTo f_opFn f_opPush f_opForce f_opPlus f_opIfzero f_opPrint f_stageFirst f_stageSecond f_stageTo f_stageArg f_maxSteps f_maxBindings f_tokenCap f_budget f_printCap (nI n) (nI hg) f_bindings f_depth f_current f_byName f_returning f_begun f_pc f_env f_valTag f_valData f_valEnv a_kinds a_args a_partA a_partB a_partC a_free a_stack a_outStatus a_outValue a_outPrinted a_outList a_codeOp a_codeTag a_codeData a_codeNext a_codeOther a_bindName a_bindTag a_bindData a_bindEnv a_bindOuter a_frameStage a_frameCode a_frameEnv a_frameTag a_frameData a_frameValEnv := by
    refine And.intro i1 (nm_r eA (pk_le p 1 (fun z => ?_) (fun z => ?_)))
    · rw [hB0 z] at K55; exact K55
    · have e : nI (hg - p) + 1 = nI (hg - p + 1) := nI_1 _
      rw [e]
      refine And.intro (vp_in_nI (by omega) (by decide)) ?_
      rw [nI_clamp (by omega), ← hB (by omega)]
      exact K55
  refine nm_r (pk_sub ph) (pk_le p 0 (fun z => ?_) (fun z => ?_))
  · rw [hA0 (by omega)] at K29; exact K29
  · refine And.intro i2 ?_
    rw [c2, ← hA (by omega)]
    exact K29
/-! the free names of a new token -/
theorem fo_X {post : Int32 → Prop} {n a b c j : Nat} {G : Int32} (hn : n < 32) (hj : j < 8) (hk : a_kinds n = nI j) (hA : a_partA n = nI a) (ha : a < 32) (hB : a_partB n = nI b) (hb : b < 32) (hC : a_partC n = nI c) (hc : c < 32)
    (hG : (j = 0 → G = 0) ∧ (j = 1 → G = (1 : Int32) <<< (a_args n &&& 31)) ∧ (j = 2 → G = a_free a &&& (((1 : Int32) <<< (a_args n &&& 31)) ^^^ (-1))) ∧ (j = 3 ∨ j = 4 → G = a_free a ||| a_free b) ∧ (j = 5 → G = (a_free a ||| a_free b) ||| a_free c) ∧ (j = 6 → G = a_free a) ∧ (j = 7 → G = a_free a ||| (a_free b &&& (((1 : Int32) <<< (a_args n &&& 31)) ^^^ (-1)))))
    (hp : post G) : wpX_freeOf post (f_tagAny, f_tagInt, f_tagClosure, f_tagName, f_nameF, f_nameA, f_nameB, f_opReturn, f_opTo, f_opFn, f_opPush, f_opForce, f_opPlus, f_opIfzero, f_opPrint, f_stageFirst, f_stageSecond, f_stageTo, f_stageArg, f_maxSteps, f_maxBindings, f_tokenCap, f_budget, f_printCap, f_count, f_height, f_bindings, f_depth, f_current, f_byName, f_returning, f_begun, f_pc, f_env, f_valTag, f_valData, f_valEnv, a_kinds, a_args, a_partA, a_partB, a_partC, a_free, a_stack, a_outStatus, a_outValue, a_outPrinted, a_outList, a_codeOp, a_codeTag, a_codeData, a_codeNext, a_codeOther, a_bindName, a_bindTag, a_bindData, a_bindEnv, a_bindOuter, a_frameStage, a_frameCode, a_frameEnv, a_frameTag, a_frameData, a_frameValEnv) (nI n) := by
  have i1 : vp_in (nI n) 32 := vp_in_nI hn (by decide)
  have cn : (nI n).toNatClampNeg = n := nI_clamp (by omega)
  have eA : a_partA (nI n).toNatClampNeg = nI a := by rw [cn]; exact hA
  have eB : a_partB (nI n).toNatClampNeg = nI b := by rw [cn]; exact hB
  have eC : a_partC (nI n).toNatClampNeg = nI c := by rw [cn]; exact hC
  have iA : vp_in (a_partA (nI n).toNatClampNeg) 32 := by rw [eA]; exact vp_in_nI ha (by decide)
  have iB : vp_in (a_partB (nI n).toNatClampNeg) 32 := by rw [eB]; exact vp_in_nI hb (by decide)
  have iC : vp_in (a_partC (nI n).toNatClampNeg) 32 := by rw [eC]; exact vp_in_nI hc (by decide)
  have fA : a_free (a_partA (nI n).toNatClampNeg).toNatClampNeg = a_free a := by rw [eA, nI_clamp (by omega)]
  have fB : a_free (a_partB (nI n).toNatClampNeg).toNatClampNeg = a_free b := by rw [eB, nI_clamp (by omega)]
  have fC : a_free (a_partC (nI n).toNatClampNeg).toNatClampNeg = a_free c := by rw [eC, nI_clamp (by omega)]
  have fS : (1 : Int32) <<< (a_args (nI n).toNatClampNeg &&& 31) = (1 : Int32) <<< (a_args n &&& 31) := by rw [cn]
  have fK : a_kinds (nI n).toNatClampNeg = nI j := by rw [cn]; exact hk
  obtain ⟨g0, g1, g2, g3, g5, g6, g7⟩ := hG
  refine And.intro i1 (And.intro iA (nm_r fA (And.intro i1 (And.intro iB (nm_r fB (And.intro i1 (nm_r fS (And.intro i1 (nm_r fK ?_)))))))))
  have cs : j = 0 ∨ j = 1 ∨ j = 2 ∨ j = 3 ∨ j = 4 ∨ j = 5 ∨ j = 6 ∨ j = 7 := by omega
  rcases cs with rfl | rfl | rfl | rfl | rfl | rfl | rfl | rfl
  · rw [g0 rfl] at hp
    exact br_f (by decide) (br_f (by decide) (br_t rfl hp))
  · rw [g1 rfl] at hp
    exact br_f (by decide) (br_f (by decide) (br_f (by decide) (br_t rfl hp)))
  · rw [g2 rfl] at hp
    exact br_f (by decide) (br_f (by decide) (br_f (by decide) (br_f (by decide) (br_t rfl hp))))
  · rw [g3 (Or.inl rfl)] at hp
    exact br_f (by decide) (br_f (by decide) (br_f (by decide) (br_f (by decide) (br_f (by decide) (br_t rfl hp)))))
  · rw [g3 (Or.inr rfl)] at hp
    exact br_f (by decide) (br_f (by decide) (br_f (by decide) (br_f (by decide) (br_f (by decide) (br_f (by decide) (br_t rfl hp))))))
  · rw [g5 rfl] at hp
    refine br_f (by decide) (br_f (by decide) (br_f (by decide) (br_f (by decide) (br_f (by decide) (br_f (by decide) (br_f (by decide) (br_t rfl (And.intro i1 (And.intro iC ?_)))))))))
    rw [fC]
    exact hp
  · rw [g6 rfl] at hp
    exact br_f (by decide) (br_f (by decide) (br_f (by decide) (br_f (by decide) (br_f (by decide) (br_f (by decide) (br_f (by decide) (br_f (by decide) (br_t rfl hp))))))))
  · rw [g7 rfl] at hp
    exact br_f (by decide) (br_f (by decide) (br_f (by decide) (br_f (by decide) (br_f (by decide) (br_f (by decide) (br_f (by decide) (br_f (by decide) (br_f (by decide) (br_t rfl hp)))))))))
end
section
variable {f_tokenCap f_budget f_printCap f_count f_rows f_end f_endValue : Int32} {a_kinds a_args a_stat a_val a_printCount a_prints a_term a_step a_kid a_done a_fun a_num a_home a_bind : Nat → Int32}
theorem em_Y {post : SY → Prop} (hp : post (f_tokenCap, f_budget, f_printCap, f_count, f_rows, f_end, f_endValue, a_kinds, a_args, rl_z 4 a_stat, rl_z 4 a_val, rl_z 4 a_printCount, a_prints, a_term, a_step, a_kid, a_done, a_fun, a_num, a_home, a_bind)) : ∀ d i, i + d = 4 → wY_emptyRecords_2 post f_tokenCap f_budget f_printCap f_count f_rows f_end f_endValue (d + 1) (nI i) a_kinds a_args (rl_z i a_stat) (rl_z i a_val) (rl_z i a_printCount) a_prints a_term a_step a_kid a_done a_fun a_num a_home a_bind := by
  intro d
  induction d with
  | zero =>
    intro i hi
    obtain rfl : i = 4 := by omega
    exact br_t (by decide) hp
  | succ d ih =>
    intro i hi
    have i1 : vp_in (nI i) 4 := vp_in_nI (by omega) (by decide)
    have e : ∀ a : Nat → Int32, upd (rl_z i a) (nI i).toNatClampNeg 0 = rl_z (i + 1) a := fun a => by rw [nI_clamp (by omega)]; exact rl_zS
    exact br_f (nI_ge (b := 4) (by omega) (by decide)) (And.intro i1 (nm_r (e a_stat) (And.intro i1 (nm_r (e a_val) (And.intro i1 (nm_r (e a_printCount) (nm_r (nI_1 i) (ih (i + 1) (by omega)))))))))
theorem em_Yall {post : SY → Prop} (hp : post (f_tokenCap, f_budget, f_printCap, f_count, f_rows, f_end, f_endValue, a_kinds, a_args, rl_z 4 a_stat, rl_z 4 a_val, rl_z 4 a_printCount, a_prints, a_term, a_step, a_kid, a_done, a_fun, a_num, a_home, a_bind)) : wpY_emptyRecords post (f_tokenCap, f_budget, f_printCap, f_count, f_rows, f_end, f_endValue, a_kinds, a_args, a_stat, a_val, a_printCount, a_prints, a_term, a_step, a_kid, a_done, a_fun, a_num, a_home, a_bind) := by
  have L := em_Y hp 4 0 rfl
  rw [rl_z0, rl_z0, rl_z0] at L
  exact ⟨5, L⟩
end
theorem i_vc_clear {k : Nat} {u : SX} {v : SY} (I : i_Rel k u v) (hk : k + 4 ≤ 2051) : wpX_clear (fun u' => wpY_clear (fun v' => i_Rel (k + 4) u' v') v) u := by
  refine rl_el (P := fun u v => wpX_clear (fun u' => wpY_clear (fun v' => i_Rel (k + 4) u' v') v) u) ?_ I
  intro tc bu pk n hg T f_tagAny f_tagInt f_tagClosure f_tagName f_nameF f_nameA f_nameB f_opReturn f_opTo f_opFn f_opPush f_opForce f_opPlus f_opIfzero f_opPrint f_stageFirst f_stageSecond f_stageTo f_stageArg f_maxSteps f_maxBindings f_bindings f_depth f_current f_byName f_returning f_begun f_pc f_env f_valTag f_valData f_valEnv a_kinds a_args a_partA a_partB a_partC a_free a_stack a_outStatus a_outValue a_outPrinted a_outList a_codeOp a_codeTag a_codeData a_codeNext a_codeOther a_bindName a_bindTag a_bindData a_bindEnv a_bindOuter a_frameStage a_frameCode a_frameEnv a_frameTag a_frameData a_frameValEnv f_rows f_end f_endValue a_term a_step a_kid a_done a_fun a_num a_home a_bind f
  obtain ⟨f1, f2, f3, f4, f5, f6, f7, f8⟩ := id f
  unfold wpX_clear
  refine em_Xall ?_
  show wpY_clear _ _
  unfold wpY_clear
  refine em_Yall ?_
  exact rl_mk (n := 0) (hg := 0) (T := T) ⟨f1, f2, f3, f4, by omega, rfl, rl_zP, tr_G0 _ _ _ _ _ _ _ _ f8.1.1⟩
theorem i_vc_patch {k : Nat} {u : SX} {v : SY} (I : i_Rel k u v) (hk : k + 4 ≤ 2051) (v1 : Int32) (v2 : Int32) : wpX_patch (fun r u' => wpY_patch (fun r' v' => r' = r ∧ i_Rel (k + 4) u' v') v v1 v2) u v1 v2 := by
  refine rl_el (P := fun u v => wpX_patch (fun r u' => wpY_patch (fun r' v' => r' = r ∧ i_Rel (k + 4) u' v') v v1 v2) u v1 v2) ?_ I
  intro tc bu pk n hg T f_tagAny f_tagInt f_tagClosure f_tagName f_nameF f_nameA f_nameB f_opReturn f_opTo f_opFn f_opPush f_opForce f_opPlus f_opIfzero f_opPrint f_stageFirst f_stageSecond f_stageTo f_stageArg f_maxSteps f_maxBindings f_bindings f_depth f_current f_byName f_returning f_begun f_pc f_env f_valTag f_valData f_valEnv a_kinds a_args a_partA a_partB a_partC a_free a_stack a_outStatus a_outValue a_outPrinted a_outList a_codeOp a_codeTag a_codeData a_codeNext a_codeOther a_bindName a_bindTag a_bindData a_bindEnv a_bindOuter a_frameStage a_frameCode a_frameEnv a_frameTag a_frameData a_frameValEnv f_rows f_end f_endValue a_term a_step a_kid a_done a_fun a_num a_home a_bind f
  obtain ⟨f1, f2, f3, f4, f5, f6, f7, f8⟩ := id f
  by_cases h0 : v1 < 0
  · exact br_t h0 (br_t h0 (And.intro rfl (rl_mk f)))
  · by_cases h1 : v1 < nI n
    · obtain ⟨j, hj, rfl⟩ := nI_of h0
      rw [nI_ltI hj (by omega)] at h1
      have i1 : vp_in (nI j) 32 := vp_in_nI (by omega) (by decide)
      have h1' : nI j < nI n := nI_lt h1 (by omega)
      have cj : (nI j).toNatClampNeg = j := nI_clamp hj
      have eU : upd a_args (nI j).toNatClampNeg v2 = upd a_args j v2 := by rw [cj]
      by_cases hz : a_kinds (nI j).toNatClampNeg = 0
      · have hz' : a_kinds j = 0 := by rw [cj] at hz; exact hz
        refine br_f h0 (br_t h1' (And.intro i1 (br_t hz (And.intro i1 (nm_r eU ?_)))))
        refine em_Xall ?_
        refine br_f h0 (br_t h1' (And.intro i1 (br_t hz (And.intro i1 (nm_r eU ?_)))))
        refine em_Yall ?_
        exact And.intro rfl (rl_mk (n := n) (hg := hg) (T := T) ⟨f1, f2, f3, f4, f5, f6, rl_zP, tr_patch f8 hz'⟩)
      · exact br_f h0 (br_t h1' (And.intro i1 (br_f hz (br_f h0 (br_t h1' (And.intro i1 (br_f hz (And.intro rfl (rl_mk f)))))))))
    · exact br_f h0 (br_f h1 (br_f h0 (br_f h1 (And.intro rfl (rl_mk f)))))
end
section
/-! constructors, undo, put -/
theorem cl_any (v : Int32) {lo hi : Nat} (hl : lo ≤ hi) (hh : hi < 2 ^ 31) : ∃ c, lo ≤ c ∧ c ≤ hi ∧ ∀ A : Int32 → Prop, A (nI c) → ((nI lo ≤ v → ((v ≤ nI hi → A v) ∧ (¬ v ≤ nI hi → A (nI hi)))) ∧ (¬ nI lo ≤ v → A (nI lo))) := by
  by_cases h1 : nI lo ≤ v
  · by_cases h2 : v ≤ nI hi
    · have h0 : ¬ v < 0 := fun z => absurd (Int32.lt_of_le_of_lt h1 z) (nI_pos (by omega))
      obtain ⟨j, hj, rfl⟩ := nI_of h0
      rw [nI_leI (by omega) (by omega)] at h1
      rw [nI_leI (by omega) (by omega)] at h2
      exact ⟨j, h1, h2, fun A a => br_t (nI_le h1 hj) (br_t (nI_le h2 hh) a)⟩
    · exact ⟨hi, hl, Nat.le_refl _, fun A a => br_t h1 (br_f h2 a)⟩
  · exact ⟨lo, Nat.le_refl _, hl, fun A a => br_f h1 a⟩
theorem i_vc0 (k0 : Int32) (k1 : Int32) (k2 : Int32) : wpX_init (fun u => wpY_init (fun v => i_Rel 3 u v) k0 k1 k2) k0 k1 k2 := by
  obtain ⟨c0, a1, a2, K0⟩ := cl_any k0 (lo := 8) (hi := 32) (by decide) (by decide)
  obtain ⟨c1, b1, b2, K1⟩ := cl_any k1 (lo := 16) (hi := 240) (by decide) (by decide)
  obtain ⟨c2, d1, d2, K2⟩ := cl_any k2 (lo := 4) (hi := 32) (by decide) (by decide)
  have X0 : ∀ (post : Int32 → Prop) (u : SX), post (nI c0) → wpX_clamp post u k0 8 32 := fun post u h => K0 post h
  have X1 : ∀ (post : Int32 → Prop) (u : SX), post (nI c1) → wpX_clamp post u k1 16 240 := fun post u h => K1 post h
  have X2 : ∀ (post : Int32 → Prop) (u : SX), post (nI c2) → wpX_clamp post u k2 4 32 := fun post u h => K2 post h
  unfold wpX_init
  refine X0 _ _ ?_
  refine X1 _ _ ?_
  refine X2 _ _ ?_
  refine K0 (fun z => wY_init_146 _ k1 k2 z 0 0 0 0 0 0 0 (fun _ => 0) (fun _ => 0) (fun _ => 0) (fun _ => 0) (fun _ => 0) (fun _ => 0) (fun _ => 0) (fun _ => 0) (fun _ => 0) (fun _ => 0) (fun _ => 0) (fun _ => 0) (fun _ => 0) (fun _ => 0)) ?_
  refine K1 (fun z => wY_init_175 _ k2 z (nI c0) 0 0 0 0 0 0 (fun _ => 0) (fun _ => 0) (fun _ => 0) (fun _ => 0) (fun _ => 0) (fun _ => 0) (fun _ => 0) (fun _ => 0) (fun _ => 0) (fun _ => 0) (fun _ => 0) (fun _ => 0) (fun _ => 0) (fun _ => 0)) ?_
  refine K2 (fun z => (fun v => i_Rel 3 _ v) (nI c0, nI c1, z, 0, 0, 0, 0, (fun _ => 0), (fun _ => 0), (fun _ => 0), (fun _ => 0), (fun _ => 0), (fun _ => 0), (fun _ => 0), (fun _ => 0), (fun _ => 0), (fun _ => 0), (fun _ => 0), (fun _ => 0), (fun _ => 0), (fun _ => 0))) ?_
  exact rl_mk (tc := c0) (bu := c1) (pk := c2) (n := 0) (hg := 0) (T := fun _ => 0) ⟨a2, by omega, b2, d2, by omega, rfl, fun i _ => ⟨0, by omega, rfl⟩, tr_G0 _ _ _ _ _ _ _ _ rfl⟩
section
variable {tc bu pk n hg : Nat} {T : Nat → Nat} {f_tagAny f_tagInt f_tagClosure f_tagName f_nameF f_nameA f_nameB f_opReturn f_opTo f_opFn f_opPush f_opForce f_opPlus f_opIfzero f_opPrint f_stageFirst f_stageSecond f_stageTo f_stageArg f_maxSteps f_maxBindings f_bindings f_depth f_current f_byName f_returning f_begun f_pc f_env f_valTag f_valData f_valEnv f_rows f_end f_endValue : Int32} {a_kinds a_args a_partA a_partB a_partC a_free a_stack a_outStatus a_outValue a_outPrinted a_outList a_codeOp a_codeTag a_codeData a_codeNext a_codeOther a_bindName a_bindTag a_bindData a_bindEnv a_bindOuter a_frameStage a_frameCode a_frameEnv a_frameTag a_frameData a_frameValEnv a_term a_step a_kid a_done a_fun a_num a_home a_bind : Nat → Int32}
theorem un_bound {m : Nat} (g : tr_G a_kinds a_args a_partA a_partB a_partC a_free a_stack T (m + 1) hg) : hg - 1 + tr_p (a_kinds m) ≤ m := by
  have G := tr_undo (st' := fun i => if i < hg - 1 then a_stack i else if i = hg - 1 then a_partA m else if i = hg - 1 + 1 then a_partB m else a_partC m) g (fun i hi => if_pos hi) (fun _ => by rw [if_neg (by omega), if_pos rfl]) (fun _ => by rw [if_neg (by omega), if_neg (by omega), if_pos rfl]) (fun _ => by rw [if_neg (by omega), if_neg (by omega), if_neg (by omega)])
  exact tr_h_le G
end
theorem i_vc_undo {k : Nat} {u : SX} {v : SY} (I : i_Rel k u v) (hk : k + 4 ≤ 2051) : wpX_undo (fun r u' => wpY_undo (fun r' v' => r' = r ∧ i_Rel (k + 4) u' v') v) u := by
  refine rl_el (P := fun u v => wpX_undo (fun r u' => wpY_undo (fun r' v' => r' = r ∧ i_Rel (k + 4) u' v') v) u) ?_ I
  intro tc bu pk n hg T f_tagAny f_tagInt f_tagClosure f_tagName f_nameF f_nameA f_nameB f_opReturn f_opTo f_opFn f_opPush f_opForce f_opPlus f_opIfzero f_opPrint f_stageFirst f_stageSecond f_stageTo f_stageArg f_maxSteps f_maxBindings f_bindings f_depth f_current f_byName f_returning f_begun f_pc f_env f_valTag f_valData f_valEnv a_kinds a_args a_partA a_partB a_partC a_free a_stack a_outStatus a_outValue a_outPrinted a_outList a_codeOp a_codeTag a_codeData a_codeNext a_codeOther a_bindName a_bindTag a_bindData a_bindEnv a_bindOuter a_frameStage a_frameCode a_frameEnv a_frameTag a_frameData a_frameValEnv f_rows f_end f_endValue a_term a_step a_kid a_done a_fun a_num a_home a_bind f
  obtain ⟨f1, f2, f3, f4, f5, f6, f7, f8⟩ := id f
  rcases Nat.eq_zero_or_pos n with e | e
  · have z0 : nI n = 0 := by rw [e]; rfl
    exact br_t z0 (br_t z0 (And.intro rfl (rl_mk f)))
  · obtain ⟨m, rfl⟩ : ∃ m, n = m + 1 := ⟨n - 1, by omega⟩
    have nz : ¬ nI (m + 1) = 0 := nI_ne0 (by omega) (by omega)
    have h1 : 1 ≤ hg := by
      rcases Nat.eq_zero_or_pos hg with q | q
      · exact absurd (tr_h0 f8 q) (by omega)
      · exact q
    have hle := tr_h_le f8
    have bd := un_bound f8
    have p3 := tr_p3 (a_kinds m)
    have im : vp_in (nI m) 32 := vp_in_nI (by omega) (by decide)
    have cm : (nI m).toNatClampNeg = m := nI_clamp (by omega)
    have eh : nI hg - 1 = nI (hg - 1) := (yv_sub1 h1).symm
    have i0 : vp_in (nI (hg - 1)) 32 := vp_in_nI (by omega) (by decide)
    have c0 : (nI (hg - 1)).toNatClampNeg = hg - 1 := nI_clamp (by omega)
    have K104 : ∀ st' : Nat → Int32, (∀ i, i < hg - 1 → st' i = a_stack i) → (1 ≤ tr_p (a_kinds m) → st' (hg - 1) = a_partA m) → (2 ≤ tr_p (a_kinds m) → st' (hg - 1 + 1) = a_partB m) → (3 ≤ tr_p (a_kinds m) → st' (hg - 1 + 2) = a_partC m) → wX_undo_104 (fun r u' => wpY_undo (fun r' v' => r' = r ∧ i_Rel (k + 4) u' v') (nI tc, nI bu, nI pk, nI (m + 1), f_rows, f_end, f_endValue, a_kinds, a_args, a_outStatus, a_outValue, a_outPrinted, a_outList, a_term, a_step, a_kid, a_done, a_fun, a_num, a_home, a_bind)) (nI (tr_p (a_kinds m))) (nI (hg - 1)) f_tagAny f_tagInt f_tagClosure f_tagName f_nameF f_nameA f_nameB f_opReturn f_opTo f_opFn f_opPush f_opForce f_opPlus f_opIfzero f_opPrint f_stageFirst f_stageSecond f_stageTo f_stageArg f_maxSteps f_maxBindings (nI tc) (nI bu) (nI pk) (nI m) (nI hg) f_bindings f_depth f_current f_byName f_returning f_begun f_pc f_env f_valTag f_valData f_valEnv a_kinds a_args a_partA a_partB a_partC a_free st' a_outStatus a_outValue a_outPrinted a_outList a_codeOp a_codeTag a_codeData a_codeNext a_codeOther a_bindName a_bindTag a_bindData a_bindEnv a_bindOuter a_frameStage a_frameCode a_frameEnv a_frameTag a_frameData a_frameValEnv := by
      intro st' q0 qA qB qC
      have G := tr_undo f8 q0 qA qB qC
      have hh : nI (hg - 1) + nI (tr_p (a_kinds m)) = nI (hg - 1 + tr_p (a_kinds m)) := nI_add _ _
      unfold wX_undo_104
      refine nm_r hh ?_
      refine em_Xall ?_
      refine br_f nz (nm_r (nI_pred m) ?_)
      refine em_Yall ?_
      refine And.intro rfl (rl_mk (n := m) (hg := hg - 1 + tr_p (a_kinds m)) (T := T) ⟨f1, f2, f3, f4, by omega, ?_, rl_zP, G⟩)
      have e6 : nI hg = tr_hs a_kinds m + (1 - nI (tr_p (a_kinds m))) := f6
      rw [← nI_add, ← eh, e6]
      generalize tr_hs a_kinds m = x
      generalize nI (tr_p (a_kinds m)) = y
      grind
    refine br_f nz (nm_r (nI_pred m) (And.intro im (tr_wpX ?_)))
    rw [cm]
    refine nm_r eh ?_
    generalize hp : tr_p (a_kinds m) = p at *
    have cs : p = 0 ∨ p = 1 ∨ p = 2 ∨ p = 3 := by omega
    have eA : upd a_stack (nI (hg - 1)).toNatClampNeg (a_partA m) = upd a_stack (hg - 1) (a_partA m) := by rw [c0]
    have e1 : nI (hg - 1) + 1 = nI (hg - 1 + 1) := nI_1 _
    have e2 : nI (hg - 1) + 2 = nI (hg - 1 + 2) := nI_add _ 2
    rcases cs with rfl | rfl | rfl | rfl
    · exact br_t (by decide) (br_t (by decide) (br_t (by decide) (K104 a_stack (fun _ _ => rfl) (fun z => absurd z (by omega)) (fun z => absurd z (by omega)) (fun z => absurd z (by omega)))))
    · exact br_f (by decide) (And.intro im (And.intro i0 (nm_r eA (br_t (by decide) (br_t (by decide) (K104 (upd a_stack (hg - 1) (a_partA m)) (fun i hi => pk_un (by omega)) (fun _ => pk_us) (fun z => absurd z (by omega)) (fun z => absurd z (by omega))))))))
    · have i1 : vp_in (nI (hg - 1) + 1) 32 := by rw [e1]; exact vp_in_nI (by omega) (by decide)
      have eB : upd (upd a_stack (hg - 1) (a_partA m)) (nI (hg - 1) + 1).toNatClampNeg (a_partB (nI m).toNatClampNeg) = upd (upd a_stack (hg - 1) (a_partA m)) (hg - 1 + 1) (a_partB m) := by rw [cm, e1, nI_clamp (by omega)]
      exact br_f (by decide) (And.intro im (And.intro i0 (nm_r eA (br_f (by decide) (And.intro im (And.intro i1 (nm_r eB (br_t (by decide) (K104 (upd (upd a_stack (hg - 1) (a_partA m)) (hg - 1 + 1) (a_partB m)) (fun i hi => by rw [pk_un (by omega), pk_un (by omega)]) (fun _ => by rw [pk_un (by omega), pk_us]) (fun _ => pk_us) (fun z => absurd z (by omega)))))))))))
    · have i1 : vp_in (nI (hg - 1) + 1) 32 := by rw [e1]; exact vp_in_nI (by omega) (by decide)
      have i2 : vp_in (nI (hg - 1) + 2) 32 := by rw [e2]; exact vp_in_nI (by omega) (by decide)
      have eB : upd (upd a_stack (hg - 1) (a_partA m)) (nI (hg - 1) + 1).toNatClampNeg (a_partB (nI m).toNatClampNeg) = upd (upd a_stack (hg - 1) (a_partA m)) (hg - 1 + 1) (a_partB m) := by rw [cm, e1, nI_clamp (by omega)]
      have eC : upd (upd (upd a_stack (hg - 1) (a_partA m)) (hg - 1 + 1) (a_partB m)) (nI (hg - 1) + 2).toNatClampNeg (a_partC (nI m).toNatClampNeg) = upd (upd (upd a_stack (hg - 1) (a_partA m)) (hg - 1 + 1) (a_partB m)) (hg - 1 + 2) (a_partC m) := by rw [cm, e2, nI_clamp (by omega)]
      exact br_f (by decide) (And.intro im (And.intro i0 (nm_r eA (br_f (by decide) (And.intro im (And.intro i1 (nm_r eB (br_f (by decide) (And.intro im (And.intro i2 (nm_r eC (K104 (upd (upd (upd a_stack (hg - 1) (a_partA m)) (hg - 1 + 1) (a_partB m)) (hg - 1 + 2) (a_partC m)) (fun i hi => by rw [pk_un (by omega), pk_un (by omega), pk_un (by omega)]) (fun _ => by rw [pk_un (by omega), pk_un (by omega), pk_us]) (fun _ => by rw [pk_un (by omega), pk_us]) (fun _ => pk_us)))))))))))))
end
section
/-! put -/
section
variable {tc bu pk n hg : Nat} {T : Nat → Nat} {f_tagAny f_tagInt f_tagClosure f_tagName f_nameF f_nameA f_nameB f_opReturn f_opTo f_opFn f_opPush f_opForce f_opPlus f_opIfzero f_opPrint f_stageFirst f_stageSecond f_stageTo f_stageArg f_maxSteps f_maxBindings f_bindings f_depth f_current f_byName f_returning f_begun f_pc f_env f_valTag f_valData f_valEnv f_rows f_end f_endValue : Int32} {a_kinds a_args a_partA a_partB a_partC a_free a_stack a_outStatus a_outValue a_outPrinted a_outList a_codeOp a_codeTag a_codeData a_codeNext a_codeOther a_bindName a_bindTag a_bindData a_bindEnv a_bindOuter a_frameStage a_frameCode a_frameEnv a_frameTag a_frameData a_frameValEnv a_term a_step a_kid a_done a_fun a_num a_home a_bind : Nat → Int32}
section
variable {postX : Int32 → SX → Prop} {postY : Int32 → SY → Prop} {v1 v2 : Int32}
theorem pt_X1 (h : v1 < 0 ∨ ¬ v1 ≤ 7) (hp : postX (-1) (f_tagAny, f_tagInt, f_tagClosure, f_tagName, f_nameF, f_nameA, f_nameB, f_opReturn, f_opTo, f_opFn, f_opPush, f_opForce, f_opPlus, f_opIfzero, f_opPrint, f_stageFirst, f_stageSecond, f_stageTo, f_stageArg, f_maxSteps, f_maxBindings, nI tc, nI bu, nI pk, nI n, nI hg, f_bindings, f_depth, f_current, f_byName, f_returning, f_begun, f_pc, f_env, f_valTag, f_valData, f_valEnv, a_kinds, a_args, a_partA, a_partB, a_partC, a_free, a_stack, a_outStatus, a_outValue, a_outPrinted, a_outList, a_codeOp, a_codeTag, a_codeData, a_codeNext, a_codeOther, a_bindName, a_bindTag, a_bindData, a_bindEnv, a_bindOuter, a_frameStage, a_frameCode, a_frameEnv, a_frameTag, a_frameData, a_frameValEnv)) : wpX_put postX (f_tagAny, f_tagInt, f_tagClosure, f_tagName, f_nameF, f_nameA, f_nameB, f_opReturn, f_opTo, f_opFn, f_opPush, f_opForce, f_opPlus, f_opIfzero, f_opPrint, f_stageFirst, f_stageSecond, f_stageTo, f_stageArg, f_maxSteps, f_maxBindings, nI tc, nI bu, nI pk, nI n, nI hg, f_bindings, f_depth, f_current, f_byName, f_returning, f_begun, f_pc, f_env, f_valTag, f_valData, f_valEnv, a_kinds, a_args, a_partA, a_partB, a_partC, a_free, a_stack, a_outStatus, a_outValue, a_outPrinted, a_outList, a_codeOp, a_codeTag, a_codeData, a_codeNext, a_codeOther, a_bindName, a_bindTag, a_bindData, a_bindEnv, a_bindOuter, a_frameStage, a_frameCode, a_frameEnv, a_frameTag, a_frameData, a_frameValEnv) v1 v2 := by
  by_cases h0 : v1 < 0
  · exact br_t h0 hp
  · exact br_f h0 (br_f (h.resolve_left h0) hp)
theorem pt_Y1 (h : v1 < 0 ∨ ¬ v1 ≤ 7) (hp : postY (-1) (nI tc, nI bu, nI pk, nI n, f_rows, f_end, f_endValue, a_kinds, a_args, a_outStatus, a_outValue, a_outPrinted, a_outList, a_term, a_step, a_kid, a_done, a_fun, a_num, a_home, a_bind)) : wpY_put postY (nI tc, nI bu, nI pk, nI n, f_rows, f_end, f_endValue, a_kinds, a_args, a_outStatus, a_outValue, a_outPrinted, a_outList, a_term, a_step, a_kid, a_done, a_fun, a_num, a_home, a_bind) v1 v2 := by
  by_cases h0 : v1 < 0
  · exact br_t h0 hp
  · exact br_f h0 (br_f (h.resolve_left h0) hp)
theorem pt_X2 (h0 : ¬ v1 < 0) (h7 : v1 ≤ 7) (nm : (v1 = 1 ∨ v1 = 2 ∨ v1 = 7)) (ha : v2 < 0 ∨ ¬ v2 ≤ 7) (hp : postX (-1) (f_tagAny, f_tagInt, f_tagClosure, f_tagName, f_nameF, f_nameA, f_nameB, f_opReturn, f_opTo, f_opFn, f_opPush, f_opForce, f_opPlus, f_opIfzero, f_opPrint, f_stageFirst, f_stageSecond, f_stageTo, f_stageArg, f_maxSteps, f_maxBindings, nI tc, nI bu, nI pk, nI n, nI hg, f_bindings, f_depth, f_current, f_byName, f_returning, f_begun, f_pc, f_env, f_valTag, f_valData, f_valEnv, a_kinds, a_args, a_partA, a_partB, a_partC, a_free, a_stack, a_outStatus, a_outValue, a_outPrinted, a_outList, a_codeOp, a_codeTag, a_codeData, a_codeNext, a_codeOther, a_bindName, a_bindTag, a_bindData, a_bindEnv, a_bindOuter, a_frameStage, a_frameCode, a_frameEnv, a_frameTag, a_frameData, a_frameValEnv)) : wpX_put postX (f_tagAny, f_tagInt, f_tagClosure, f_tagName, f_nameF, f_nameA, f_nameB, f_opReturn, f_opTo, f_opFn, f_opPush, f_opForce, f_opPlus, f_opIfzero, f_opPrint, f_stageFirst, f_stageSecond, f_stageTo, f_stageArg, f_maxSteps, f_maxBindings, nI tc, nI bu, nI pk, nI n, nI hg, f_bindings, f_depth, f_current, f_byName, f_returning, f_begun, f_pc, f_env, f_valTag, f_valData, f_valEnv, a_kinds, a_args, a_partA, a_partB, a_partC, a_free, a_stack, a_outStatus, a_outValue, a_outPrinted, a_outList, a_codeOp, a_codeTag, a_codeData, a_codeNext, a_codeOther, a_bindName, a_bindTag, a_bindData, a_bindEnv, a_bindOuter, a_frameStage, a_frameCode, a_frameEnv, a_frameTag, a_frameData, a_frameValEnv) v1 v2 := by
  have K : wX_put_33 postX v1 v2 1 f_tagAny f_tagInt f_tagClosure f_tagName f_nameF f_nameA f_nameB f_opReturn f_opTo f_opFn f_opPush f_opForce f_opPlus f_opIfzero f_opPrint f_stageFirst f_stageSecond f_stageTo f_stageArg f_maxSteps f_maxBindings (nI tc) (nI bu) (nI pk) (nI n) (nI hg) f_bindings f_depth f_current f_byName f_returning f_begun f_pc f_env f_valTag f_valData f_valEnv a_kinds a_args a_partA a_partB a_partC a_free a_stack a_outStatus a_outValue a_outPrinted a_outList a_codeOp a_codeTag a_codeData a_codeNext a_codeOther a_bindName a_bindTag a_bindData a_bindEnv a_bindOuter a_frameStage a_frameCode a_frameEnv a_frameTag a_frameData a_frameValEnv := by
    by_cases a0 : v2 < 0
    · exact br_f (by decide) (br_t a0 hp)
    · exact br_f (by decide) (br_f a0 (br_f (ha.resolve_left a0) hp))
  exact br_f h0 (br_t h7 (br_c (fun _ => K) (fun n1 => br_c (fun _ => K) (fun n2 => br_c (fun _ => K) (fun n3 => absurd nm (fun z => z.elim n1 (fun z => z.elim n2 n3)))))))
theorem pt_Y2 (h0 : ¬ v1 < 0) (h7 : v1 ≤ 7) (nm : (v1 = 1 ∨ v1 = 2 ∨ v1 = 7)) (ha : v2 < 0 ∨ ¬ v2 ≤ 7) (hp : postY (-1) (nI tc, nI bu, nI pk, nI n, f_rows, f_end, f_endValue, a_kinds, a_args, a_outStatus, a_outValue, a_outPrinted, a_outList, a_term, a_step, a_kid, a_done, a_fun, a_num, a_home, a_bind)) : wpY_put postY (nI tc, nI bu, nI pk, nI n, f_rows, f_end, f_endValue, a_kinds, a_args, a_outStatus, a_outValue, a_outPrinted, a_outList, a_term, a_step, a_kid, a_done, a_fun, a_num, a_home, a_bind) v1 v2 := by
  have K : wY_put_33 postY v1 v2 1 (nI tc) (nI bu) (nI pk) (nI n) f_rows f_end f_endValue a_kinds a_args a_outStatus a_outValue a_outPrinted a_outList a_term a_step a_kid a_done a_fun a_num a_home a_bind := by
    by_cases a0 : v2 < 0
    · exact br_f (by decide) (br_t a0 hp)
    · exact br_f (by decide) (br_f a0 (br_f (ha.resolve_left a0) hp))
  exact br_f h0 (br_t h7 (br_c (fun _ => K) (fun n1 => br_c (fun _ => K) (fun n2 => br_c (fun _ => K) (fun n3 => absurd nm (fun z => z.elim n1 (fun z => z.elim n2 n3)))))))
theorem pt_X3 (h0 : ¬ v1 < 0) (h7 : v1 ≤ 7) (ok : (v1 = 1 ∨ v1 = 2 ∨ v1 = 7) → ¬ v2 < 0 ∧ v2 ≤ 7) (hp : ∀ x3 : Int32, (x3 = 0 ↔ ¬ (v1 = 1 ∨ v1 = 2 ∨ v1 = 7)) → wX_put_50 postX v1 v2 x3 f_tagAny f_tagInt f_tagClosure f_tagName f_nameF f_nameA f_nameB f_opReturn f_opTo f_opFn f_opPush f_opForce f_opPlus f_opIfzero f_opPrint f_stageFirst f_stageSecond f_stageTo f_stageArg f_maxSteps f_maxBindings (nI tc) (nI bu) (nI pk) (nI n) (nI hg) f_bindings f_depth f_current f_byName f_returning f_begun f_pc f_env f_valTag f_valData f_valEnv a_kinds a_args a_partA a_partB a_partC a_free a_stack a_outStatus a_outValue a_outPrinted a_outList a_codeOp a_codeTag a_codeData a_codeNext a_codeOther a_bindName a_bindTag a_bindData a_bindEnv a_bindOuter a_frameStage a_frameCode a_frameEnv a_frameTag a_frameData a_frameValEnv) : wpX_put postX (f_tagAny, f_tagInt, f_tagClosure, f_tagName, f_nameF, f_nameA, f_nameB, f_opReturn, f_opTo, f_opFn, f_opPush, f_opForce, f_opPlus, f_opIfzero, f_opPrint, f_stageFirst, f_stageSecond, f_stageTo, f_stageArg, f_maxSteps, f_maxBindings, nI tc, nI bu, nI pk, nI n, nI hg, f_bindings, f_depth, f_current, f_byName, f_returning, f_begun, f_pc, f_env, f_valTag, f_valData, f_valEnv, a_kinds, a_args, a_partA, a_partB, a_partC, a_free, a_stack, a_outStatus, a_outValue, a_outPrinted, a_outList, a_codeOp, a_codeTag, a_codeData, a_codeNext, a_codeOther, a_bindName, a_bindTag, a_bindData, a_bindEnv, a_bindOuter, a_frameStage, a_frameCode, a_frameEnv, a_frameTag, a_frameData, a_frameValEnv) v1 v2 := by
  have K : (v1 = 1 ∨ v1 = 2 ∨ v1 = 7) → wX_put_33 postX v1 v2 1 f_tagAny f_tagInt f_tagClosure f_tagName f_nameF f_nameA f_nameB f_opReturn f_opTo f_opFn f_opPush f_opForce f_opPlus f_opIfzero f_opPrint f_stageFirst f_stageSecond f_stageTo f_stageArg f_maxSteps f_maxBindings (nI tc) (nI bu) (nI pk) (nI n) (nI hg) f_bindings f_depth f_current f_byName f_returning f_begun f_pc f_env f_valTag f_valData f_valEnv a_kinds a_args a_partA a_partB a_partC a_free a_stack a_outStatus a_outValue a_outPrinted a_outList a_codeOp a_codeTag a_codeData a_codeNext a_codeOther a_bindName a_bindTag a_bindData a_bindEnv a_bindOuter a_frameStage a_frameCode a_frameEnv a_frameTag a_frameData a_frameValEnv := fun nm => br_f (by decide) (br_f (ok nm).1 (br_t (ok nm).2 (hp 1 ⟨fun z => absurd z (by decide), fun z => absurd nm z⟩)))
  exact br_f h0 (br_t h7 (br_c (fun e => K (Or.inl e)) (fun n1 => br_c (fun e => K (Or.inr (Or.inl e))) (fun n2 => br_c (fun e => K (Or.inr (Or.inr e))) (fun n3 => br_t rfl (hp 0 ⟨fun _ z => z.elim n1 (fun z => z.elim n2 n3), fun _ => rfl⟩))))))
theorem pt_Y3 (h0 : ¬ v1 < 0) (h7 : v1 ≤ 7) (ok : (v1 = 1 ∨ v1 = 2 ∨ v1 = 7) → ¬ v2 < 0 ∧ v2 ≤ 7) (hp : ∀ x3 : Int32, (x3 = 0 ↔ ¬ (v1 = 1 ∨ v1 = 2 ∨ v1 = 7)) → wY_put_50 postY v1 v2 x3 (nI tc) (nI bu) (nI pk) (nI n) f_rows f_end f_endValue a_kinds a_args a_outStatus a_outValue a_outPrinted a_outList a_term a_step a_kid a_done a_fun a_num a_home a_bind) : wpY_put postY (nI tc, nI bu, nI pk, nI n, f_rows, f_end, f_endValue, a_kinds, a_args, a_outStatus, a_outValue, a_outPrinted, a_outList, a_term, a_step, a_kid, a_done, a_fun, a_num, a_home, a_bind) v1 v2 := by
  have K : (v1 = 1 ∨ v1 = 2 ∨ v1 = 7) → wY_put_33 postY v1 v2 1 (nI tc) (nI bu) (nI pk) (nI n) f_rows f_end f_endValue a_kinds a_args a_outStatus a_outValue a_outPrinted a_outList a_term a_step a_kid a_done a_fun a_num a_home a_bind := fun nm => br_f (by decide) (br_f (ok nm).1 (br_t (ok nm).2 (hp 1 ⟨fun z => absurd z (by decide), fun z => absurd nm z⟩)))
  exact br_f h0 (br_t h7 (br_c (fun e => K (Or.inl e)) (fun n1 => br_c (fun e => K (Or.inr (Or.inl e))) (fun n2 => br_c (fun e => K (Or.inr (Or.inr e))) (fun n3 => br_t rfl (hp 0 ⟨fun _ z => z.elim n1 (fun z => z.elim n2 n3), fun _ => rfl⟩))))))
theorem pt_X4 {x3 : Int32} (h : tc ≤ n) (hn : n ≤ 32) (hp : postX (-2) (f_tagAny, f_tagInt, f_tagClosure, f_tagName, f_nameF, f_nameA, f_nameB, f_opReturn, f_opTo, f_opFn, f_opPush, f_opForce, f_opPlus, f_opIfzero, f_opPrint, f_stageFirst, f_stageSecond, f_stageTo, f_stageArg, f_maxSteps, f_maxBindings, nI tc, nI bu, nI pk, nI n, nI hg, f_bindings, f_depth, f_current, f_byName, f_returning, f_begun, f_pc, f_env, f_valTag, f_valData, f_valEnv, a_kinds, a_args, a_partA, a_partB, a_partC, a_free, a_stack, a_outStatus, a_outValue, a_outPrinted, a_outList, a_codeOp, a_codeTag, a_codeData, a_codeNext, a_codeOther, a_bindName, a_bindTag, a_bindData, a_bindEnv, a_bindOuter, a_frameStage, a_frameCode, a_frameEnv, a_frameTag, a_frameData, a_frameValEnv)) : wX_put_50 postX v1 v2 x3 f_tagAny f_tagInt f_tagClosure f_tagName f_nameF f_nameA f_nameB f_opReturn f_opTo f_opFn f_opPush f_opForce f_opPlus f_opIfzero f_opPrint f_stageFirst f_stageSecond f_stageTo f_stageArg f_maxSteps f_maxBindings (nI tc) (nI bu) (nI pk) (nI n) (nI hg) f_bindings f_depth f_current f_byName f_returning f_begun f_pc f_env f_valTag f_valData f_valEnv a_kinds a_args a_partA a_partB a_partC a_free a_stack a_outStatus a_outValue a_outPrinted a_outList a_codeOp a_codeTag a_codeData a_codeNext a_codeOther a_bindName a_bindTag a_bindData a_bindEnv a_bindOuter a_frameStage a_frameCode a_frameEnv a_frameTag a_frameData a_frameValEnv := br_f (nI_nlt h (by omega)) hp
theorem pt_Y4 {x3 : Int32} (h : tc ≤ n) (hn : n ≤ 32) (hp : postY (-2) (nI tc, nI bu, nI pk, nI n, f_rows, f_end, f_endValue, a_kinds, a_args, a_outStatus, a_outValue, a_outPrinted, a_outList, a_term, a_step, a_kid, a_done, a_fun, a_num, a_home, a_bind)) : wY_put_50 postY v1 v2 x3 (nI tc) (nI bu) (nI pk) (nI n) f_rows f_end f_endValue a_kinds a_args a_outStatus a_outValue a_outPrinted a_outList a_term a_step a_kid a_done a_fun a_num a_home a_bind := br_f (nI_nlt h (by omega)) hp
theorem pt_X5 {x3 : Int32} (h : n < tc) (ht : tc ≤ 32) (hl : hg < tr_p v1) (hp : postX (-3) (f_tagAny, f_tagInt, f_tagClosure, f_tagName, f_nameF, f_nameA, f_nameB, f_opReturn, f_opTo, f_opFn, f_opPush, f_opForce, f_opPlus, f_opIfzero, f_opPrint, f_stageFirst, f_stageSecond, f_stageTo, f_stageArg, f_maxSteps, f_maxBindings, nI tc, nI bu, nI pk, nI n, nI hg, f_bindings, f_depth, f_current, f_byName, f_returning, f_begun, f_pc, f_env, f_valTag, f_valData, f_valEnv, a_kinds, a_args, a_partA, a_partB, a_partC, a_free, a_stack, a_outStatus, a_outValue, a_outPrinted, a_outList, a_codeOp, a_codeTag, a_codeData, a_codeNext, a_codeOther, a_bindName, a_bindTag, a_bindData, a_bindEnv, a_bindOuter, a_frameStage, a_frameCode, a_frameEnv, a_frameTag, a_frameData, a_frameValEnv)) : wX_put_50 postX v1 v2 x3 f_tagAny f_tagInt f_tagClosure f_tagName f_nameF f_nameA f_nameB f_opReturn f_opTo f_opFn f_opPush f_opForce f_opPlus f_opIfzero f_opPrint f_stageFirst f_stageSecond f_stageTo f_stageArg f_maxSteps f_maxBindings (nI tc) (nI bu) (nI pk) (nI n) (nI hg) f_bindings f_depth f_current f_byName f_returning f_begun f_pc f_env f_valTag f_valData f_valEnv a_kinds a_args a_partA a_partB a_partC a_free a_stack a_outStatus a_outValue a_outPrinted a_outList a_codeOp a_codeTag a_codeData a_codeNext a_codeOther a_bindName a_bindTag a_bindData a_bindEnv a_bindOuter a_frameStage a_frameCode a_frameEnv a_frameTag a_frameData a_frameValEnv := by
  have p3 := tr_p3 v1
  exact br_t (nI_lt h (by omega)) (tr_wpX (br_f (nI_ge hl (by omega)) hp))
theorem pt_Y5 {x3 : Int32} (h : n < tc) (ht : tc ≤ 32) (hs : nI hg = tr_hs a_kinds n) (hl : hg < tr_p v1) (hp : postY (-3) (nI tc, nI bu, nI pk, nI n, f_rows, f_end, f_endValue, a_kinds, a_args, a_outStatus, a_outValue, a_outPrinted, a_outList, a_term, a_step, a_kid, a_done, a_fun, a_num, a_home, a_bind)) : wY_put_50 postY v1 v2 x3 (nI tc) (nI bu) (nI pk) (nI n) f_rows f_end f_endValue a_kinds a_args a_outStatus a_outValue a_outPrinted a_outList a_term a_step a_kid a_done a_fun a_num a_home a_bind := by
  have p3 := tr_p3 v1
  refine br_t (nI_lt h (by omega)) (yh_height (by omega) (tr_wpY ?_))
  rw [← hs]
  exact br_f (nI_ge hl (by omega)) hp
/-- what is stored -/
def pt_w (v1 v2 : Int32) : Int32 := if v1 = 1 ∨ v1 = 2 ∨ v1 = 7 ∨ v1 = 0 then v2 else 0
theorem pt_X6 {x3 : Int32} (h : n < tc) (ht : tc ≤ 32) (hh : hg ≤ 32) (hl : tr_p v1 ≤ hg) (hx : x3 = 0 ↔ ¬ (v1 = 1 ∨ v1 = 2 ∨ v1 = 7)) (hp : wX_put_114 postX (nI (tr_p v1)) (pt_w v1 v2) (nI n) f_tagAny f_tagInt f_tagClosure f_tagName f_nameF f_nameA f_nameB f_opReturn f_opTo f_opFn f_opPush f_opForce f_opPlus f_opIfzero f_opPrint f_stageFirst f_stageSecond f_stageTo f_stageArg f_maxSteps f_maxBindings (nI tc) (nI bu) (nI pk) (nI n) (nI hg) f_bindings f_depth f_current f_byName f_returning f_begun f_pc f_env f_valTag f_valData f_valEnv (upd a_kinds n v1) a_args a_partA a_partB a_partC a_free a_stack a_outStatus a_outValue a_outPrinted a_outList a_codeOp a_codeTag a_codeData a_codeNext a_codeOther a_bindName a_bindTag a_bindData a_bindEnv a_bindOuter a_frameStage a_frameCode a_frameEnv a_frameTag a_frameData a_frameValEnv) : wX_put_50 postX v1 v2 x3 f_tagAny f_tagInt f_tagClosure f_tagName f_nameF f_nameA f_nameB f_opReturn f_opTo f_opFn f_opPush f_opForce f_opPlus f_opIfzero f_opPrint f_stageFirst f_stageSecond f_stageTo f_stageArg f_maxSteps f_maxBindings (nI tc) (nI bu) (nI pk) (nI n) (nI hg) f_bindings f_depth f_current f_byName f_returning f_begun f_pc f_env f_valTag f_valData f_valEnv a_kinds a_args a_partA a_partB a_partC a_free a_stack a_outStatus a_outValue a_outPrinted a_outList a_codeOp a_codeTag a_codeData a_codeNext a_codeOther a_bindName a_bindTag a_bindData a_bindEnv a_bindOuter a_frameStage a_frameCode a_frameEnv a_frameTag a_frameData a_frameValEnv := by
  have i1 : vp_in (nI n) 32 := vp_in_nI (by omega) (by decide)
  have e1 : upd a_kinds (nI n).toNatClampNeg v1 = upd a_kinds n v1 := by rw [nI_clamp (by omega)]
  unfold pt_w at hp
  refine br_t (nI_lt h (by omega)) (tr_wpX (br_t (nI_le hl (by omega)) (And.intro i1 (nm_r e1 (br_c (fun z => br_c (fun y => ?_) (fun y => ?_)) (fun z => ?_))))))
  · rw [if_pos (Or.inr (Or.inr (Or.inr y)))] at hp; exact hp
  · rw [if_neg (fun q => q.elim (fun q => hx.mp z (Or.inl q)) (fun q => q.elim (fun q => hx.mp z (Or.inr (Or.inl q))) (fun q => q.elim (fun q => hx.mp z (Or.inr (Or.inr q))) y)))] at hp; exact hp
  · have nm : (v1 = 1 ∨ v1 = 2 ∨ v1 = 7) := Decidable.of_not_not (fun q => z (hx.mpr q))
    rw [if_pos (nm.elim Or.inl (fun q => Or.inr (q.elim Or.inl (fun q => Or.inr (Or.inl q)))))] at hp; exact hp
theorem pt_Y6 {x3 : Int32} (h : n < tc) (ht : tc ≤ 32) (hh : hg ≤ 32) (hs : nI hg = tr_hs a_kinds n) (hl : tr_p v1 ≤ hg) (hx : x3 = 0 ↔ ¬ (v1 = 1 ∨ v1 = 2 ∨ v1 = 7)) (hp : wY_put_114 postY (pt_w v1 v2) (nI n) (nI tc) (nI bu) (nI pk) (nI n) f_rows f_end f_endValue (upd a_kinds n v1) a_args a_outStatus a_outValue a_outPrinted a_outList a_term a_step a_kid a_done a_fun a_num a_home a_bind) : wY_put_50 postY v1 v2 x3 (nI tc) (nI bu) (nI pk) (nI n) f_rows f_end f_endValue a_kinds a_args a_outStatus a_outValue a_outPrinted a_outList a_term a_step a_kid a_done a_fun a_num a_home a_bind := by
  have i1 : vp_in (nI n) 32 := vp_in_nI (by omega) (by decide)
  have e1 : upd a_kinds (nI n).toNatClampNeg v1 = upd a_kinds n v1 := by rw [nI_clamp (by omega)]
  unfold pt_w at hp
  refine br_t (nI_lt h (by omega)) (yh_height (by omega) (tr_wpY ?_))
  rw [← hs]
  refine br_t (nI_le hl (by omega)) (And.intro i1 (nm_r e1 (br_c (fun z => br_c (fun y => ?_) (fun y => ?_)) (fun z => ?_))))
  · rw [if_pos (Or.inr (Or.inr (Or.inr y)))] at hp; exact hp
  · rw [if_neg (fun q => q.elim (fun q => hx.mp z (Or.inl q)) (fun q => q.elim (fun q => hx.mp z (Or.inr (Or.inl q))) (fun q => q.elim (fun q => hx.mp z (Or.inr (Or.inr q))) y)))] at hp; exact hp
  · have nm : (v1 = 1 ∨ v1 = 2 ∨ v1 = 7) := Decidable.of_not_not (fun q => z (hx.mpr q))
    rw [if_pos (nm.elim Or.inl (fun q => Or.inr (q.elim Or.inl (fun q => Or.inr (Or.inl q)))))] at hp; exact hp
end
/-- the token is placed -/
theorem pt_114 {j p : Nat} {w : Int32} (hj : j < 8) (ep : tr_p (nI j) = p) (hph : p ≤ hg) (hn : n < 32) (g : tr_G a_kinds a_args a_partA a_partB a_partC a_free a_stack T n hg) (KD : tr_KD (upd a_kinds n (nI j)) (upd a_args n w) n) : ∃ A B C G, tr_G (upd a_kinds n (nI j)) (upd a_args n w) (upd a_partA n A) (upd a_partB n B) (upd a_partC n C) (upd a_free n G) (upd a_stack (hg - p) (nI n)) (tr_T T n p) (n + 1) (hg - p + 1) ∧
    ∀ post : Int32 → SX → Prop, post 6 (f_tagAny, f_tagInt, f_tagClosure, f_tagName, f_nameF, f_nameA, f_nameB, f_opReturn, f_opTo, f_opFn, f_opPush, f_opForce, f_opPlus, f_opIfzero, f_opPrint, f_stageFirst, f_stageSecond, f_stageTo, f_stageArg, f_maxSteps, f_maxBindings, nI tc, nI bu, nI pk, nI (n + 1), nI (hg - p + 1), f_bindings, f_depth, f_current, f_byName, f_returning, f_begun, f_pc, f_env, f_valTag, f_valData, f_valEnv, upd a_kinds n (nI j), upd a_args n w, upd a_partA n A, upd a_partB n B, upd a_partC n C, upd a_free n G, upd a_stack (hg - p) (nI n), rl_z 4 a_outStatus, rl_z 4 a_outValue, rl_z 4 a_outPrinted, a_outList, a_codeOp, a_codeTag, a_codeData, a_codeNext, a_codeOther, a_bindName, a_bindTag, a_bindData, a_bindEnv, a_bindOuter, a_frameStage, a_frameCode, a_frameEnv, a_frameTag, a_frameData, a_frameValEnv) → wX_put_114 post (nI p) w (nI n) f_tagAny f_tagInt f_tagClosure f_tagName f_nameF f_nameA f_nameB f_opReturn f_opTo f_opFn f_opPush f_opForce f_opPlus f_opIfzero f_opPrint f_stageFirst f_stageSecond f_stageTo f_stageArg f_maxSteps f_maxBindings (nI tc) (nI bu) (nI pk) (nI n) (nI hg) f_bindings f_depth f_current f_byName f_returning f_begun f_pc f_env f_valTag f_valData f_valEnv (upd a_kinds n (nI j)) a_args a_partA a_partB a_partC a_free a_stack a_outStatus a_outValue a_outPrinted a_outList a_codeOp a_codeTag a_codeData a_codeNext a_codeOther a_bindName a_bindTag a_bindData a_bindEnv a_bindOuter a_frameStage a_frameCode a_frameEnv a_frameTag a_frameData a_frameValEnv := by
  have hle := tr_h_le g
  have p3 : p ≤ 3 := by rw [← ep]; exact tr_p3 _
  have i1 : vp_in (nI n) 32 := vp_in_nI hn (by decide)
  have cn : (nI n).toNatClampNeg = n := nI_clamp (by omega)
  have itl : ∀ l, tr_it T l n ≤ n := fun l => (tr_itc g.1 (T' := T) (fun _ _ => rfl) l n (Nat.le_refl _)).2
  have stk : ∀ l, l < p → a_stack (hg - 1 - l) = nI (tr_it T l n - 1) ∧ 1 ≤ tr_it T l n := fun l hl => ⟨(g.2.2.1 l (by omega)).2, (g.2.2.1 l (by omega)).1⟩
  have exA : ∃ A a, (p = 0 → A = 0) ∧ (1 ≤ p → A = a_stack (hg - p)) ∧ A = nI a ∧ a < 32 ∧ (1 ≤ p → a = tr_it T (p - 1) n - 1) := by
    by_cases h : 1 ≤ p
    · have s := (stk (p - 1) (by omega)).1
      rw [show hg - 1 - (p - 1) = hg - p by omega] at s
      have := itl (p - 1)
      exact ⟨_, _, fun z => absurd z (by omega), fun _ => rfl, s, by omega, fun _ => rfl⟩
    · exact ⟨0, 0, fun _ => rfl, fun z => absurd z h, rfl, by omega, fun z => absurd z h⟩
  have exB : ∃ B b, (p ≤ 1 → B = 0) ∧ (2 ≤ p → B = a_stack (hg - p + 1)) ∧ B = nI b ∧ b < 32 ∧ (2 ≤ p → b = tr_it T (p - 2) n - 1) := by
    by_cases h : 2 ≤ p
    · have s := (stk (p - 2) (by omega)).1
      rw [show hg - 1 - (p - 2) = hg - p + 1 by omega] at s
      have := itl (p - 2)
      exact ⟨_, _, fun z => absurd z (by omega), fun _ => rfl, s, by omega, fun _ => rfl⟩
    · exact ⟨0, 0, fun _ => rfl, fun z => absurd z h, rfl, by omega, fun z => absurd z h⟩
  have exC : ∃ C c, (p ≤ 2 → C = 0) ∧ (3 ≤ p → C = a_stack (hg - p + 2)) ∧ C = nI c ∧ c < 32 ∧ (3 ≤ p → c = tr_it T (p - 3) n - 1) := by
    by_cases h : 3 ≤ p
    · have s := (stk (p - 3) (by omega)).1
      rw [show hg - 1 - (p - 3) = hg - p + 2 by omega] at s
      have := itl (p - 3)
      exact ⟨_, _, fun z => absurd z (by omega), fun _ => rfl, s, by omega, fun _ => rfl⟩
    · exact ⟨0, 0, fun _ => rfl, fun z => absurd z h, rfl, by omega, fun z => absurd z h⟩
  obtain ⟨A, a, hA0, hA1, eA, ha, fa⟩ := exA
  obtain ⟨B, b, hB0, hB1, eB, hb, fb⟩ := exB
  obtain ⟨C, c, hC0, hC1, eC, hc, fc⟩ := exC
  have exG : ∃ G : Int32, (j = 0 → G = 0) ∧ (j = 1 → G = (1 : Int32) <<< (w &&& 31)) ∧ (j = 2 → G = a_free a &&& (((1 : Int32) <<< (w &&& 31)) ^^^ (-1))) ∧ (j = 3 ∨ j = 4 → G = a_free a ||| a_free b) ∧ (j = 5 → G = (a_free a ||| a_free b) ||| a_free c) ∧ (j = 6 → G = a_free a) ∧ (j = 7 → G = a_free a ||| (a_free b &&& (((1 : Int32) <<< (w &&& 31)) ^^^ (-1)))) := by
    have cs : j = 0 ∨ j = 1 ∨ j = 2 ∨ (j = 3 ∨ j = 4) ∨ j = 5 ∨ j = 6 ∨ j = 7 := by omega
    rcases cs with e | e | e | e | e | e | e
    · exact ⟨_, fun _ => rfl, fun z => absurd z (by omega), fun z => absurd z (by omega), fun z => absurd z (by omega), fun z => absurd z (by omega), fun z => absurd z (by omega), fun z => absurd z (by omega)⟩
    · exact ⟨_, fun z => absurd z (by omega), fun _ => rfl, fun z => absurd z (by omega), fun z => absurd z (by omega), fun z => absurd z (by omega), fun z => absurd z (by omega), fun z => absurd z (by omega)⟩
    · exact ⟨_, fun z => absurd z (by omega), fun z => absurd z (by omega), fun _ => rfl, fun z => absurd z (by omega), fun z => absurd z (by omega), fun z => absurd z (by omega), fun z => absurd z (by omega)⟩
    · exact ⟨_, fun z => absurd z (by omega), fun z => absurd z (by omega), fun z => absurd z (by omega), fun _ => rfl, fun z => absurd z (by omega), fun z => absurd z (by omega), fun z => absurd z (by omega)⟩
    · exact ⟨_, fun z => absurd z (by omega), fun z => absurd z (by omega), fun z => absurd z (by omega), fun z => absurd z (by omega), fun _ => rfl, fun z => absurd z (by omega), fun z => absurd z (by omega)⟩
    · exact ⟨_, fun z => absurd z (by omega), fun z => absurd z (by omega), fun z => absurd z (by omega), fun z => absurd z (by omega), fun z => absurd z (by omega), fun _ => rfl, fun z => absurd z (by omega)⟩
    · exact ⟨_, fun z => absurd z (by omega), fun z => absurd z (by omega), fun z => absurd z (by omega), fun z => absurd z (by omega), fun z => absurd z (by omega), fun z => absurd z (by omega), fun _ => rfl⟩
  obtain ⟨G, hG⟩ := exG
  refine ⟨A, B, C, G, ?_, fun post hp => ?_⟩
  · have kn : upd a_kinds n (nI j) n = nI j := pk_us
    have hpn : tr_p (upd a_kinds n (nI j) n) = p := by rw [kn]; exact ep
    have FC : tr_FC (upd a_kinds n (nI j)) (upd a_args n w) (upd a_free n G) T n := by
      have an : upd a_args n w n = w := pk_us
      have gn : upd a_free n G n = G := pk_us
      have lo : ∀ i, i < n → upd a_free n G i = a_free i := fun i hi => pk_un (by omega)
      have jj : ∀ q : Nat, q < 8 → nI j = nI q → j = q := fun q hq z => (nI_eq (by omega) (by omega)).mp z
      have l0 : 1 ≤ p → 1 ≤ n := fun z => by omega
      have l1 : 2 ≤ p → 1 ≤ T n := fun z => (stk 1 (by omega)).2
      have l2 : 3 ≤ p → 1 ≤ T (T n) := fun z => (stk 2 (by omega)).2
      have t1 : T n ≤ n := itl 1
      have t2 : T (T n) ≤ n := itl 2
      obtain ⟨g0, g1, g2, g3, g5, g6, g7⟩ := hG
      unfold tr_FC
      rw [kn, an, gn]
      refine ⟨fun z => g0 (jj 0 (by decide) z), fun z => g1 (jj 1 (by decide) z), fun z => ?_, fun z => ?_, fun z => ?_, fun z => ?_, fun z => ?_⟩
      · have e := jj 2 (by decide) z
        have pp : p = 1 := by rw [← ep, e]; decide
        have := l0 (by omega)
        rw [lo (n - 1) (by omega), g2 e, fa (by omega), pp]
        rfl
      · have e : j = 3 ∨ j = 4 := z.imp (jj 3 (by decide)) (jj 4 (by decide))
        have pp : p = 2 := by rw [← ep]; rcases e with e | e <;> rw [e] <;> decide
        have := l0 (by omega)
        have := l1 (by omega)
        rw [lo (n - 1) (by omega), lo (T n - 1) (by omega), g3 e, fa (by omega), fb (by omega), pp]
        rfl
      · have e := jj 5 (by decide) z
        have pp : p = 3 := by rw [← ep, e]; decide
        have := l0 (by omega)
        have := l1 (by omega)
        have := l2 (by omega)
        rw [lo (n - 1) (by omega), lo (T n - 1) (by omega), lo (T (T n) - 1) (by omega), g5 e, fa (by omega), fb (by omega), fc (by omega), pp]
        rfl
      · have e := jj 6 (by decide) z
        have pp : p = 1 := by rw [← ep, e]; decide
        have := l0 (by omega)
        rw [lo (n - 1) (by omega), g6 e, fa (by omega), pp]
        rfl
      · have e := jj 7 (by decide) z
        have pp : p = 2 := by rw [← ep, e]; decide
        have := l0 (by omega)
        have := l1 (by omega)
        rw [lo (n - 1) (by omega), lo (T n - 1) (by omega), g7 e, fa (by omega), fb (by omega), pp]
        rfl
    have R := tr_put (kd' := upd a_kinds n (nI j)) (ag' := upd a_args n w) (pa' := upd a_partA n A) (pb' := upd a_partB n B) (pc' := upd a_partC n C) (fr' := upd a_free n G) (st' := upd a_stack (hg - p) (nI n)) g (fun i hi => pk_un (by omega)) (fun i hi => pk_un (by omega)) (fun i hi => pk_un (by omega)) (fun i hi => pk_un (by omega)) (fun i hi => pk_un (by omega)) (fun i hi => pk_un (by omega)) KD (by rw [hpn]; exact hph) (fun z => by rw [hpn] at z ⊢; rw [pk_us]; exact hA1 z) (fun z => by rw [hpn] at z ⊢; rw [pk_us]; exact hB1 z) (fun z => by rw [hpn] at z ⊢; rw [pk_us]; exact hC1 z) FC (fun i hi => by rw [hpn] at hi; exact pk_un (by omega)) (by rw [hpn]; exact pk_us)
    rw [hpn] at R
    exact R
  · have e1 : upd a_args (nI n).toNatClampNeg w = upd a_args n w := by rw [cn]
    unfold wX_put_114
    refine And.intro i1 (nm_r e1 ?_)
    refine tp_X (A := A) (B := B) (C := C) p3 hph hle hn hA0 hA1 hB0 hB1 hC0 hC1 ?_
    refine fo_X (G := G) hn hj pk_us (pk_us.trans eA) ha (pk_us.trans eB) hb (pk_us.trans eC) hc ?_ ?_
    · rw [show upd a_args n w n = w from pk_us]
      exact hG
    · have e2 : upd a_free (nI n).toNatClampNeg G = upd a_free n G := by rw [cn]
      refine And.intro i1 (nm_r e2 (nm_r (nI_1 n) ?_))
      exact em_Xall hp
end
theorem i_vc_put {k : Nat} {u : SX} {v : SY} (I : i_Rel k u v) (hk : k + 4 ≤ 2051) (v1 : Int32) (v2 : Int32) : wpX_put (fun r u' => wpY_put (fun r' v' => r' = r ∧ i_Rel (k + 4) u' v') v v1 v2) u v1 v2 := by
  refine rl_el (P := fun u v => wpX_put (fun r u' => wpY_put (fun r' v' => r' = r ∧ i_Rel (k + 4) u' v') v v1 v2) u v1 v2) ?_ I
  intro tc bu pk n hg T f_tagAny f_tagInt f_tagClosure f_tagName f_nameF f_nameA f_nameB f_opReturn f_opTo f_opFn f_opPush f_opForce f_opPlus f_opIfzero f_opPrint f_stageFirst f_stageSecond f_stageTo f_stageArg f_maxSteps f_maxBindings f_bindings f_depth f_current f_byName f_returning f_begun f_pc f_env f_valTag f_valData f_valEnv a_kinds a_args a_partA a_partB a_partC a_free a_stack a_outStatus a_outValue a_outPrinted a_outList a_codeOp a_codeTag a_codeData a_codeNext a_codeOther a_bindName a_bindTag a_bindData a_bindEnv a_bindOuter a_frameStage a_frameCode a_frameEnv a_frameTag a_frameData a_frameValEnv f_rows f_end f_endValue a_term a_step a_kid a_done a_fun a_num a_home a_bind f
  obtain ⟨f1, f2, f3, f4, f5, f6, f7, f8⟩ := id f
  have hle := tr_h_le f8
  by_cases b1 : v1 < 0 ∨ ¬ v1 ≤ 7
  · exact pt_X1 b1 (pt_Y1 b1 (And.intro rfl (rl_mk f)))
  · have h0 : ¬ v1 < 0 := fun z => b1 (Or.inl z)
    have h7 : v1 ≤ 7 := Decidable.of_not_not (fun z => b1 (Or.inr z))
    by_cases b2 : (v1 = 1 ∨ v1 = 2 ∨ v1 = 7) ∧ (v2 < 0 ∨ ¬ v2 ≤ 7)
    · exact pt_X2 h0 h7 b2.1 b2.2 (pt_Y2 h0 h7 b2.1 b2.2 (And.intro rfl (rl_mk f)))
    · have ok : (v1 = 1 ∨ v1 = 2 ∨ v1 = 7) → ¬ v2 < 0 ∧ v2 ≤ 7 := fun nm => ⟨fun z => b2 ⟨nm, Or.inl z⟩, Decidable.of_not_not (fun z => b2 ⟨nm, Or.inr z⟩)⟩
      refine pt_X3 h0 h7 ok (fun x3 hx => ?_)
      rcases Nat.lt_or_ge n tc with hlt | hge
      · rcases Nat.lt_or_ge hg (tr_p v1) with hl | hl
        · exact pt_X5 hlt f1 hl (pt_Y3 h0 h7 ok (fun y3 hy => pt_Y5 hlt f1 f6 hl (And.intro rfl (rl_mk f))))
        · obtain ⟨j, hj, ej⟩ := nI_of2 (M := 7) (n := 7) (by decide) h0 h7
          have KD : tr_KD (upd a_kinds n (nI j)) (upd a_args n (pt_w v1 v2)) n := by
            unfold tr_KD
            rw [pk_us, pk_us, ← ej]
            refine ⟨⟨j, by omega, ej⟩, fun nm => ?_⟩
            obtain ⟨q0, q7⟩ := ok nm
            obtain ⟨i, hi, ei⟩ := nI_of2 (M := 7) (n := 7) (by decide) q0 q7
            refine ⟨i, by omega, ?_⟩
            unfold pt_w
            rw [if_pos (nm.elim Or.inl (fun q => Or.inr (q.elim Or.inl (fun q => Or.inr (Or.inl q)))))]
            exact ei
          subst ej
          obtain ⟨A, B, C, G, TG, K⟩ := pt_114 (tc := tc) (bu := bu) (pk := pk) (w := pt_w (nI j) v2) (f_tagAny := f_tagAny) (f_tagInt := f_tagInt) (f_tagClosure := f_tagClosure) (f_tagName := f_tagName) (f_nameF := f_nameF) (f_nameA := f_nameA) (f_nameB := f_nameB) (f_opReturn := f_opReturn) (f_opTo := f_opTo) (f_opFn := f_opFn) (f_opPush := f_opPush) (f_opForce := f_opForce) (f_opPlus := f_opPlus) (f_opIfzero := f_opIfzero) (f_opPrint := f_opPrint) (f_stageFirst := f_stageFirst) (f_stageSecond := f_stageSecond) (f_stageTo := f_stageTo) (f_stageArg := f_stageArg) (f_maxSteps := f_maxSteps) (f_maxBindings := f_maxBindings) (f_bindings := f_bindings) (f_depth := f_depth) (f_current := f_current) (f_byName := f_byName) (f_returning := f_returning) (f_begun := f_begun) (f_pc := f_pc) (f_env := f_env) (f_valTag := f_valTag) (f_valData := f_valData) (f_valEnv := f_valEnv) (a_outStatus := a_outStatus) (a_outValue := a_outValue) (a_outPrinted := a_outPrinted) (a_outList := a_outList) (a_codeOp := a_codeOp) (a_codeTag := a_codeTag) (a_codeData := a_codeData) (a_codeNext := a_codeNext) (a_codeOther := a_codeOther) (a_bindName := a_bindName) (a_bindTag := a_bindTag) (a_bindData := a_bindData) (a_bindEnv := a_bindEnv) (a_bindOuter := a_bindOuter) (a_frameStage := a_frameStage) (a_frameCode := a_frameCode) (a_frameEnv := a_frameEnv) (a_frameTag := a_frameTag) (a_frameData := a_frameData) (a_frameValEnv := a_frameValEnv) (show j < 8 by omega) rfl hl (by omega) f8 KD
          refine pt_X6 hlt f1 (by omega) hl hx (K _ ?_)
          refine pt_Y3 h0 h7 ok (fun y3 hy => pt_Y6 hlt f1 (by omega) f6 hl hy ?_)
          have i1 : vp_in (nI n) 32 := vp_in_nI (by omega) (by decide)
          have e1 : upd a_args (nI n).toNatClampNeg (pt_w (nI j) v2) = upd a_args n (pt_w (nI j) v2) := by rw [nI_clamp (by omega)]
          unfold wY_put_114
          refine And.intro i1 (nm_r e1 (nm_r (nI_1 n) ?_))
          refine em_Yall ?_
          refine And.intro rfl (rl_mk (n := n + 1) (hg := hg - tr_p (nI j) + 1) (T := tr_T T n (tr_p (nI j))) ⟨f1, f2, f3, f4, by omega, ?_, rl_zP, TG⟩)
          show nI (hg - tr_p (nI j) + 1) = tr_hs (upd a_kinds n (nI j)) n + (1 - nI (tr_p (upd a_kinds n (nI j) n)))
          rw [tr_hsc (kd := a_kinds) n (fun i hi => pk_un (by omega)), ← f6, pk_us, ← nI_1, ← pk_sub hl]
          generalize nI hg = x
          generalize nI (tr_p (nI j)) = y
          grind
      · exact pt_X4 hge (by omega) (pt_Y3 h0 h7 ok (fun y3 hy => pt_Y4 hge (by omega) (And.intro rfl (rl_mk f))))
end
section
/-! the runs, each side against the evaluator -/
def gs_NZ (o : Option (Int32 × Int32)) : Prop := ∀ e, o = some e → ¬ e.1 = 0
theorem nz_bind {m : gR} {k : gS → gR} (h : gs_NZ m.1) (hk : ∀ s, gs_NZ (k s).1) : gs_NZ (gs_bind m k).1 := by
  obtain ⟨o, s⟩ := m
  cases o with
  | none => exact hk s
  | some e => exact h
theorem nz_none {s : gS} : gs_NZ ((none, s) : gR).1 := fun _ z => nomatch z
theorem nz_some {s : gS} {a b : Int32} (h : ¬ a = 0) : gs_NZ ((some (a, b), s) : gR).1 := by
  intro e z
  injection z with z
  rw [← z]
  exact h
theorem nz_if {c : Prop} [Decidable c] {a b : gR} (ha : gs_NZ a.1) (hb : gs_NZ b.1) : gs_NZ (if c then a else b).1 := by
  by_cases h : c
  · rw [if_pos h]; exact ha
  · rw [if_neg h]; exact hb
theorem nz_stuck {t : Nat} {s : gS} : gs_NZ (gs_stuck t s).1 := nz_some (by decide)
theorem nz_body {P : gP} {G : Nat → Nat → Int32 → Int32 → gS → gR} (hG : ∀ t e x b s, gs_NZ (G t e x b s).1) (r t : Nat) (s : gS) : gs_NZ (gs_body P G r t s).1 := by
  unfold gs_body
  refine nz_if nz_none (nz_if nz_none (nz_if (nz_if (nz_bind (hG _ _ _ _ _) (fun _ => nz_none)) nz_none) (nz_if (nz_bind (hG _ _ _ _ _) (fun _ => nz_if nz_stuck (nz_if (nz_bind (hG _ _ _ _ _) (fun _ => nz_none)) (nz_bind (hG _ _ _ _ _) (fun _ => nz_bind (hG _ _ _ _ _) (fun _ => nz_none)))))) (nz_if (nz_bind (hG _ _ _ _ _) (fun _ => nz_if (nz_bind (hG _ _ _ _ _) (fun _ => nz_if nz_none nz_stuck)) nz_stuck)) (nz_if (nz_bind (hG _ _ _ _ _) (fun _ => nz_if (nz_bind (hG _ _ _ _ _) (fun _ => nz_none)) nz_stuck)) (nz_if (nz_bind (hG _ _ _ _ _) (fun _ => nz_if (nz_if nz_none (nz_some (by decide))) nz_stuck)) (nz_if (nz_bind (hG _ _ _ _ _) (fun _ => nz_none)) (nz_bind (hG _ _ _ _ _) (fun _ => nz_bind (hG _ _ _ _ _) (fun _ => nz_none))))))))))
theorem nz_go {P : gP} : ∀ f t e x b s, gs_NZ (gs_go P f t e x b s).1 := by
  intro f
  induction f with
  | zero => intro t e x b s; exact nz_some (by decide)
  | succ f ih => intro t e x b s; rw [gs_goS]; exact nz_if (nz_some (by decide)) (nz_body ih _ _ _)
/-- how a run ends -/
def rn_st (oo : Option (Int32 × Int32)) (s' : gS) : Int32 × Int32 := match oo with
  | none => (if gs_fn s' 0 = 0 then 1 else 2, gs_nm s' 0)
  | some e => e
theorem rn_nz {P : gP} {f t e : Nat} {x b : Int32} {s s' : gS} {oo : Option (Int32 × Int32)} (h : gs_go P f t e x b s = (oo, s')) : ¬ (rn_st oo s').1 = 0 := by
  have z := nz_go (P := P) f t e x b s
  rw [h] at z
  cases oo with
  | none =>
    show ¬ (if gs_fn s' 0 = 0 then (1 : Int32) else 2) = 0
    by_cases q : gs_fn s' 0 = 0
    · rw [if_pos q]; decide
    · rw [if_neg q]; decide
  | some e => exact z e rfl
/-- the start of a run -/
def rn_H (P : gP) (s0 : gS) : Prop := gs_PG P ∧ gs_n s0 = 0 ∧ gs_pk s0 (p_rc P) = 0 ∧ 1 ≤ p_cn P ∧ p_fr P (p_cn P - 1) = 0 ∧ 1 ≤ p_bu P
section
variable {P : gP} {s0 s' : gS} {oo : Option (Int32 × Int32)}
theorem rn_WF (H : rn_H P s0) : gs_WF P s0 ∧ gs_PK P s0 ∧ gs_EN P s0 (p_cn P - 1) 0 (-1) 0 := by
  obtain ⟨g, n0, k0, c1, fr0, b1⟩ := H
  refine ⟨⟨by omega, fun r hr => absurd hr (by omega), fun r hr => absurd hr (by omega), fun r hr => absurd hr (by omega)⟩, ⟨0, by omega, k0⟩, by omega, fun y hy h => ?_⟩
  rw [fr0, b_0] at h
  exact nomatch h
theorem rn_CL (H : rn_H P s0) (h : gs_go P (p_bu P) (p_cn P - 1) 0 (-1) 0 s0 = (oo, s')) : gs_CL P s0 oo s' := by
  obtain ⟨w, k, en⟩ := rn_WF H
  exact gs_ok H.1 _ _ _ _ _ _ w k en _ _ h
theorem rn_Y {C : yC} {ev : Int32} {sp kid : Nat → Int32} (H : rn_H P s0) (h : gs_go P (p_bu P) (p_cn P - 1) 0 (-1) 0 s0 = (oo, s')) :
    ∃ sp' kid', ∀ post : Int32 → SY → Prop, post (rn_st oo s').1 (yv_S P (C.1, upd C.2.1 (p_rc P) (rn_st oo s').1, upd C.2.2 (p_rc P) (rn_st oo s').2) (rn_st oo s').1 (rn_st oo s').2 sp' kid' s') → yv_L post (yv_p1 P) (nI (p_rc P)) 0 (yv_S P C 0 ev (upd sp 0 0) kid (gs_begin s0 (p_cn P - 1) 0 (-1) 0)) := by
  have nz := rn_nz h
  obtain ⟨w, k, en⟩ := rn_WF H
  have CL := rn_CL H h
  obtain ⟨g, n0, k0, c1, fr0, b1⟩ := H
  obtain ⟨f, hf⟩ : ∃ f, p_bu P = f + 1 := ⟨p_bu P - 1, by omega⟩
  have hb : ¬ p_bu P ≤ gs_n s0 := by omega
  have hrc := g.2.2.2.1
  have h2 := h
  rw [hf, gs_goS, if_neg hb] at h2
  have bp := gs_beginBP g w k en (by omega)
  rw [n0] at bp h2
  have nn : gs_n (gs_begin s0 (p_cn P - 1) 0 (-1) 0) = gs_n s0 + 1 := rfl
  obtain ⟨j', sp', kid', q1, q2, q3, q4, S⟩ := yv_main C g f 0 (p_cn P - 1) (gs_begin s0 (p_cn P - 1) 0 (-1) 0) (upd sp 0 0) kid 0 ev bp pk_us (by omega) (by omega) oo s' h2
  refine ⟨sp', kid', fun post hp => S post ?_⟩
  cases oo with
  | some e => exact yv_end q1 hrc nz hp
  | none =>
    obtain ⟨A, lt⟩ := CL.2.2 rfl
    have bu := A.2.2.1.1
    have bu2 := g.2.1
    have jb := q2 rfl
    refine yv_all (by omega) (by omega) (fun i hi => A.2.2.2 i (by omega) hi) ?_
    exact yv_end (by omega) hrc nz hp
theorem rn_D {Z : xZ} {os ov : Nat → Int32} {h : xH} {F : xF} {vt vd ve : Int32} (H : rn_H P s0) (HX : xx_H P Z os) (h1 : h_n h = 1) (hF : f_n F = 0) (hx : gs_go P (p_bu P) (p_cn P - 1) 0 (-1) 0 s0 = (oo, s')) :
    ∃ h' F' bg ret pc env wt wd we, ∀ post : Int32 → SX → Prop, post (rn_st oo s').1 (xr_S P Z h' F' (xo_s (upd os (p_rc P) (rn_st oo s').1) (upd ov (p_rc P) (rn_st oo s').2) s') bg ret pc env wt wd we) → xr_L post 0 (nI (p_rc P)) 0 (xr_S P Z h F (xo_s os ov s0) 0 0 (nI (p_cn P - 1)) 0 vt vd ve) := by
  have nz := rn_nz hx
  obtain ⟨w, k, en⟩ := rn_WF H
  have CL := rn_CL H hx
  obtain ⟨g, n0, k0, c1, fr0, b1⟩ := H
  have hrc := g.2.2.2.1
  have hcn := g.1
  have ok : xh_ok h := ⟨by omega, fun a x y => absurd y (by omega)⟩
  have X : xh_XI P id id s0 h (fun _ => 0) := ⟨ok, fun a x y => absurd y (by omega)⟩
  have E : xh_ER P (gs_begin s0 (p_cn P - 1) 0 (-1) 0) h (fun _ => 0) 0 (gs_n s0) := by
    refine ⟨by omega, fun y hy z => ?_⟩
    rw [gs_begint (by omega), fr0, b_0] at z
    exact nomatch z
  obtain ⟨R1, R2⟩ := xd_main (ov := ov) HX (p_bu P) (p_cn P - 1) 0 (-1) 0 s0 h (fun _ => 0) F 0 0 vt vd ve w k en (by omega) X E (by omega) (by omega) (by omega) oo s' hx
  have hx0 := HX.2.2.2.2.2
  cases oo with
  | some e =>
    obtain ⟨st, v⟩ := e
    obtain ⟨h', F', k', bg, ret, pc, env, wt, wd, we, hk, S⟩ := R2 st v rfl
    refine ⟨h', F', bg, ret, pc, env, wt, wd, we, fun post hp => ?_⟩
    have S' := S post (xr_stop hk hrc pk_us nz hp)
    rw [n0] at S'
    exact S'
  | none =>
    obtain ⟨A, lt⟩ := CL.2.2 rfl
    have bu := A.2.2.1.1
    have bu2 := g.2.1
    obtain ⟨h', b', F', k', pc, env, wt, wd, we, q1, q2, q3, q4, q5, q6, S⟩ := R1 rfl
    have nF : f_n F' = 0 := q3.1.trans hF
    rw [n0] at q6
    have key : wd = gs_nm s' 0 ∧ ((wt = 1 ∧ (if gs_fn s' 0 = 0 then (1 : Int32) else 2) = 1) ∨ (¬ wt = 1 ∧ (if gs_fn s' 0 = 0 then (1 : Int32) else 2) = 2)) := by
      rcases q6 with ⟨e1, e2, e3⟩ | ⟨e1, e2, hh, c, e3, e4, e5, e6, e7, e8, e9⟩
      · exact ⟨e3, Or.inl ⟨e2, if_pos e1⟩⟩
      · exact ⟨e7.trans e5.symm, Or.inr ⟨by rw [e2]; decide, if_neg e1⟩⟩
    obtain ⟨k1, k2⟩ := key
    refine ⟨h', F', gs_n s', 1, pc, env, wt, wd, we, fun post hp => ?_⟩
    have S' := S post (xr_stepR (by omega) hrc hx0 (by decide) (xd_done (st := (if gs_fn s' 0 = 0 then (1 : Int32) else 2)) hrc nF k2 (xr_stop (by omega) hrc pk_us nz (by
      rw [k1]
      rw [k1] at hp
      exact hp))))
    rw [n0] at S'
    exact S'
theorem rn_T {Z : xZ} {os ov : Nat → Int32} {h : xH} {F : xF} {vt vd ve : Int32} (H : rn_H P s0) (HX : xt_H P Z os) (h1 : h_n h = 1) (hF : f_n F = 0) (hx : gs_go P (p_bu P) (p_cn P - 1) 0 (-1) 0 s0 = (oo, s')) :
    ∃ h' F' bg ret pc env wt wd we, ∀ post : Int32 → SX → Prop, post (rn_st oo s').1 (xr_S P Z h' F' (xo_s (upd os (p_rc P) (rn_st oo s').1) (upd ov (p_rc P) (rn_st oo s').2) s') bg ret pc env wt wd we) → xr_L post 1 (nI (p_rc P)) 0 (xr_S P Z h F (xo_s os ov s0) 0 0 (nI (4 * (p_cn P - 1))) 0 vt vd ve) := by
  have nz := rn_nz hx
  obtain ⟨w, k, en⟩ := rn_WF H
  have CL := rn_CL H hx
  obtain ⟨g, n0, k0, c1, fr0, b1⟩ := H
  have hrc := g.2.2.2.1
  have hcn := g.1
  have ok : xh_ok h := ⟨by omega, fun a x y => absurd y (by omega)⟩
  have X : xh_XI P xt_cF xt_cT s0 h (fun _ => 0) := ⟨ok, fun a x y => absurd y (by omega)⟩
  have E : xh_ER P (gs_begin s0 (p_cn P - 1) 0 (-1) 0) h (fun _ => 0) 0 (gs_n s0) := by
    refine ⟨by omega, fun y hy z => ?_⟩
    rw [gs_begint (by omega), fr0, b_0] at z
    exact nomatch z
  obtain ⟨R1, R2⟩ := xt_main (ov := ov) HX (p_bu P) (p_cn P - 1) 0 (-1) 0 s0 h (fun _ => 0) F 0 0 0 vt vd ve w k en (by omega) X E (by omega) (by omega) (by omega) oo s' hx
  have hx0 := HX.1.2.2.2.2.2
  cases oo with
  | some e =>
    obtain ⟨st, v⟩ := e
    obtain ⟨h', F', k', bg, ret, pc, env, wt, wd, we, hk, S⟩ := R2 st v rfl
    refine ⟨h', F', bg, ret, pc, env, wt, wd, we, fun post hp => ?_⟩
    have S' := S post (xr_stop hk hrc pk_us nz hp)
    rw [n0] at S'
    exact S'
  | none =>
    obtain ⟨A, lt⟩ := CL.2.2 rfl
    have bu := A.2.2.1.1
    have bu2 := g.2.1
    obtain ⟨h', b', F', k', q1, q2, q3, q4, q5, q6⟩ := R1 rfl
    have nF : f_n F' = 0 := q3.1.trans hF
    rw [n0] at q6
    rcases q6 with ⟨e1, rt, pc, env, we, S⟩ | ⟨e1, hh, l, c, fu, E2, SV, SN⟩
    · have es : rn_st none s' = (1, gs_nm s' 0) := by show (if gs_fn s' 0 = 0 then (1 : Int32) else 2, gs_nm s' 0) = _; rw [if_pos e1]
      rw [es]
      refine ⟨h', F', gs_n s', rt, pc, env, 1, gs_nm s' 0, we, fun post hp => ?_⟩
      have S' := S post (xt_done1 hrc nF rfl (xr_stop (by omega) hrc pk_us (by decide) hp))
      exact S'
    · have es : rn_st none s' = (2, gs_nm s' 0) := by show (if gs_fn s' 0 = 0 then (1 : Int32) else 2, gs_nm s' 0) = _; rw [if_neg e1]
      rw [es, fu.2.2.2.1]
      have hl := fu.2.2.2.2.2.1
      by_cases hb : p_bn P = true
      · obtain ⟨rt, pc, wt, wd, we, S⟩ := SN hb
        refine ⟨h', F', gs_n s', rt, pc, nI c, wt, wd, we, fun post hp => ?_⟩
        have S' := S post (xt_take0 hrc (by omega) nF (xr_stop (by omega) hrc pk_us (by decide) hp))
        exact S'
      · obtain ⟨rt, pc, env, S⟩ := SV (Bool.eq_false_iff.mpr hb)
        refine ⟨h', F', gs_n s', rt, pc, env, 2, nI (4 * l + 1), nI c, fun post hp => ?_⟩
        have S' := S post (xt_done2 hrc nF (by decide) (show l < 32 by omega) rfl (xr_stop (by omega) hrc pk_us (by decide) hp))
        exact S'
end
end
section
/-! run -/
section
variable {f_tagAny f_tagInt f_tagClosure f_tagName f_nameF f_nameA f_nameB f_opReturn f_opTo f_opFn f_opPush f_opForce f_opPlus f_opIfzero f_opPrint f_stageFirst f_stageSecond f_stageTo f_stageArg f_maxSteps f_maxBindings f_tokenCap f_budget f_printCap f_count f_height f_bindings f_depth f_current f_byName f_returning f_begun f_pc f_env f_valTag f_valData f_valEnv : Int32} {a_kinds a_args a_partA a_partB a_partC a_free a_stack a_outStatus a_outValue a_outPrinted a_outList a_codeOp a_codeTag a_codeData a_codeNext a_codeOther a_bindName a_bindTag a_bindData a_bindEnv a_bindOuter a_frameStage a_frameCode a_frameEnv a_frameTag a_frameData a_frameValEnv : Nat → Int32}
theorem st_X {post : SX → Prop} {rc b : Nat} {z : Int32} (hr : rc < 4) (hb : b < 2) (hz : nI b = z) (hp : post (f_tagAny, f_tagInt, f_tagClosure, f_tagName, f_nameF, f_nameA, f_nameB, f_opReturn, f_opTo, f_opFn, f_opPush, f_opForce, f_opPlus, f_opIfzero, f_opPrint, f_stageFirst, f_stageSecond, f_stageTo, f_stageArg, f_maxSteps, f_maxBindings, f_tokenCap, f_budget, f_printCap, f_count, f_height, 1, 0, nI rc, z, 0, 0, f_pc, 0, 1, 0, 0, a_kinds, a_args, a_partA, a_partB, a_partC, a_free, a_stack, upd a_outStatus rc 0, upd a_outValue rc 0, upd a_outPrinted rc 0, a_outList, a_codeOp, a_codeTag, a_codeData, a_codeNext, a_codeOther, a_bindName, a_bindTag, a_bindData, a_bindEnv, a_bindOuter, a_frameStage, a_frameCode, a_frameEnv, a_frameTag, a_frameData, a_frameValEnv)) : wpX_start post (f_tagAny, f_tagInt, f_tagClosure, f_tagName, f_nameF, f_nameA, f_nameB, f_opReturn, f_opTo, f_opFn, f_opPush, f_opForce, f_opPlus, f_opIfzero, f_opPrint, f_stageFirst, f_stageSecond, f_stageTo, f_stageArg, f_maxSteps, f_maxBindings, f_tokenCap, f_budget, f_printCap, f_count, f_height, f_bindings, f_depth, f_current, f_byName, f_returning, f_begun, f_pc, f_env, f_valTag, f_valData, f_valEnv, a_kinds, a_args, a_partA, a_partB, a_partC, a_free, a_stack, a_outStatus, a_outValue, a_outPrinted, a_outList, a_codeOp, a_codeTag, a_codeData, a_codeNext, a_codeOther, a_bindName, a_bindTag, a_bindData, a_bindEnv, a_bindOuter, a_frameStage, a_frameCode, a_frameEnv, a_frameTag, a_frameData, a_frameValEnv) (nI rc) (nI b) := by
  have i : vp_in (nI rc) 4 := vp_in_nI hr (by decide)
  have e : ∀ a : Nat → Int32, upd a (nI rc).toNatClampNeg 0 = upd a rc 0 := fun a => by rw [nI_clamp (by omega)]
  subst hz
  unfold wpX_start
  refine And.intro i (nm_r (e a_outStatus) (And.intro i (nm_r (e a_outValue) (And.intro i (nm_r (e a_outPrinted) ?_)))))
  rcases sl_two hb with ⟨_, q⟩ | ⟨_, q⟩
  · rw [q] at hp ⊢
    exact br_f (by decide) (And.intro rfl (And.intro (by decide) hp))
  · rw [q] at hp ⊢
    exact br_t rfl (And.intro rfl (And.intro (by decide) hp))
end
theorem rn_uu {f : Nat → Int32} {k : Nat} {x y : Int32} : upd (upd f k x) k y = upd f k y := by
  funext j
  unfold upd
  by_cases e : j = k
  · rw [if_pos e, if_pos e]
  · rw [if_neg e, if_neg e, if_neg e]
theorem rn_p1 {kd ag fr : Nat → Int32} {T : Nat → Nat} {bu n pk rc b : Nat} {bb : Bool} (hb : b < 2) (hbb : bb = decide (b = 1)) : nI b = yv_p1 (kd, ag, fr, T, bb, bu, n, pk, rc) := by
  have : b = 0 ∨ b = 1 := by omega
  rcases this with rfl | rfl
  · subst hbb; rfl
  · subst hbb; rfl
section
variable {tc bu pk n hg : Nat} {T : Nat → Nat} {f_tagAny f_tagInt f_tagClosure f_tagName f_nameF f_nameA f_nameB f_opReturn f_opTo f_opFn f_opPush f_opForce f_opPlus f_opIfzero f_opPrint f_stageFirst f_stageSecond f_stageTo f_stageArg f_maxSteps f_maxBindings f_bindings f_depth f_current f_byName f_returning f_begun f_pc f_env f_valTag f_valData f_valEnv f_rows f_end f_endValue : Int32} {a_kinds a_args a_partA a_partB a_partC a_free a_stack a_outStatus a_outValue a_outPrinted a_outList a_codeOp a_codeTag a_codeData a_codeNext a_codeOther a_bindName a_bindTag a_bindData a_bindEnv a_bindOuter a_frameStage a_frameCode a_frameEnv a_frameTag a_frameData a_frameValEnv a_term a_step a_kid a_done a_fun a_num a_home a_bind : Nat → Int32} {a b : Nat} {bb : Bool} {oo : Option (Int32 × Int32)} {s' : gS}
theorem rn_start (f : rl_F tc bu pk n 1 T a_kinds a_args a_partA a_partB a_partC a_free a_stack a_outPrinted) (ha : a < 2) (hb : b < 2) (fz : a_free (n - 1) = 0) : rn_H (a_kinds, a_args, a_free, T, bb, bu, n, pk, 2 * a + b) (gs_zero 0 ((0, a_term, a_done, a_fun, a_num, a_home, a_bind, upd a_outPrinted (2 * a + b) 0, a_outList) : gS)) := by
  obtain ⟨f1, f2, f3, f4, f5, f6, f7, f8⟩ := f
  have n1 := (tr_top f8 (by omega)).1
  refine ⟨⟨show n ≤ 32 by omega, f3, f4, show 2 * a + b < 4 by omega, a_partA, a_partB, a_partC, a_stack, 1, f8⟩, rfl, pk_us, n1, fz, f2⟩
theorem ry_run (f : rl_F tc bu pk n 1 T a_kinds a_args a_partA a_partB a_partC a_free a_stack a_outPrinted) (ha : a < 2) (hb : b < 2) (hbb : bb = decide (b = 1)) (fz : a_free (n - 1) = 0) (go : gs_go (a_kinds, a_args, a_free, T, bb, bu, n, pk, 2 * a + b) bu (n - 1) 0 (-1) 0 (gs_zero 0 ((0, a_term, a_done, a_fun, a_num, a_home, a_bind, upd a_outPrinted (2 * a + b) 0, a_outList) : gS)) = (oo, s')) :
    ∃ sp' kid', ∀ postY : Int32 → SY → Prop, postY (rn_st oo s').1 (yv_S (a_kinds, a_args, a_free, T, bb, bu, n, pk, 2 * a + b) (nI tc, upd a_outStatus (2 * a + b) (rn_st oo s').1, upd a_outValue (2 * a + b) (rn_st oo s').2) (rn_st oo s').1 (rn_st oo s').2 sp' kid' s') → wpY_run postY (nI tc, nI bu, nI pk, nI n, f_rows, f_end, f_endValue, a_kinds, a_args, a_outStatus, a_outValue, a_outPrinted, a_outList, a_term, a_step, a_kid, a_done, a_fun, a_num, a_home, a_bind) (nI a) (nI b) := by
  have RH : rn_H (a_kinds, a_args, a_free, T, bb, bu, n, pk, 2 * a + b) (gs_zero 0 ((0, a_term, a_done, a_fun, a_num, a_home, a_bind, upd a_outPrinted (2 * a + b) 0, a_outList) : gS)) := rn_start f ha hb fz
  obtain ⟨sp', kid', K⟩ := rn_Y (C := (nI tc, a_outStatus, a_outValue)) (ev := f_endValue) (sp := a_step) (kid := a_kid) RH go
  obtain ⟨f1, f2, f3, f4, f5, f6, f7, f8⟩ := f
  have n1 := (tr_top f8 (by omega)).1
  have p1 : nI b = yv_p1 (a_kinds, a_args, a_free, T, bb, bu, n, pk, 2 * a + b) := rn_p1 hb hbb
  have i4 : vp_in (nI (2 * a + b)) 4 := vp_in_nI (by omega) (by decide)
  have e1 : upd a_outPrinted (nI (2 * a + b)).toNatClampNeg 0 = upd a_outPrinted (2 * a + b) 0 := by rw [nI_clamp (by omega)]
  have en : nI n - 1 = nI (n - 1) := (yv_sub1 n1).symm
  refine ⟨sp', kid', fun postY hp => ?_⟩
  unfold wpY_run
  refine sl_Y ha hb (br_t rfl ?_)
  refine yh_height (cn := n) (by omega) ?_
  rw [← f6]
  refine br_t rfl ?_
  refine yf_names f8 (by omega) ?_
  rw [if_neg (by omega), fz]
  refine br_t rfl (nm_r (sl_yix a b) (And.intro i4 (nm_r e1 ?_)))
  rw [en, p1]
  refine yv_root (P := (a_kinds, a_args, a_free, T, bb, bu, n, pk, 2 * a + b)) (C := (nI tc, a_outStatus, a_outValue)) (en := 0) (ev := f_endValue) (sp := a_step) (kid := a_kid) (s := ((0, a_term, a_done, a_fun, a_num, a_home, a_bind, upd a_outPrinted (2 * a + b) 0, a_outList) : gS)) (t := n - 1) rfl f2 f3 ?_
  exact ⟨1010, K postY hp⟩
theorem rx_run (f : rl_F tc bu pk n 1 T a_kinds a_args a_partA a_partB a_partC a_free a_stack a_outPrinted) (ha : a < 2) (hb : b < 2) (hbb : bb = decide (b = 1)) (fz : a_free (n - 1) = 0) (go : gs_go (a_kinds, a_args, a_free, T, bb, bu, n, pk, 2 * a + b) bu (n - 1) 0 (-1) 0 (gs_zero 0 ((0, a_term, a_done, a_fun, a_num, a_home, a_bind, upd a_outPrinted (2 * a + b) 0, a_outList) : gS)) = (oo, s')) (postX : Int32 → SX → Prop)
    (hp : ∀ cO cT cD cN cR h' F' bg ret pc env wt wd we, postX (rn_st oo s').1 (xr_S (a_kinds, a_args, a_free, T, bb, bu, n, pk, 2 * a + b) ((f_tagAny, f_tagInt, f_tagClosure, f_tagName, f_nameF, f_nameA, f_nameB, f_opReturn, f_opTo, f_opFn, f_opPush, f_opForce, f_opPlus, f_opIfzero, f_opPrint, f_stageFirst, f_stageSecond, f_stageTo, f_stageArg, f_maxSteps, f_maxBindings, nI tc, nI n, nI 1), a_partA, a_partB, a_partC, a_stack, cO, cT, cD, cN, cR) h' F' (xo_s (upd a_outStatus (2 * a + b) (rn_st oo s').1) (upd a_outValue (2 * a + b) (rn_st oo s').2) s') bg ret pc env wt wd we)) : wpX_run postX (f_tagAny, f_tagInt, f_tagClosure, f_tagName, f_nameF, f_nameA, f_nameB, f_opReturn, f_opTo, f_opFn, f_opPush, f_opForce, f_opPlus, f_opIfzero, f_opPrint, f_stageFirst, f_stageSecond, f_stageTo, f_stageArg, f_maxSteps, f_maxBindings, nI tc, nI bu, nI pk, nI n, nI 1, f_bindings, f_depth, f_current, f_byName, f_returning, f_begun, f_pc, f_env, f_valTag, f_valData, f_valEnv, a_kinds, a_args, a_partA, a_partB, a_partC, a_free, a_stack, a_outStatus, a_outValue, a_outPrinted, a_outList, a_codeOp, a_codeTag, a_codeData, a_codeNext, a_codeOther, a_bindName, a_bindTag, a_bindData, a_bindEnv, a_bindOuter, a_frameStage, a_frameCode, a_frameEnv, a_frameTag, a_frameData, a_frameValEnv) (nI a) (nI b) := by
  have RH : rn_H (a_kinds, a_args, a_free, T, bb, bu, n, pk, 2 * a + b) (gs_zero 0 ((0, a_term, a_done, a_fun, a_num, a_home, a_bind, upd a_outPrinted (2 * a + b) 0, a_outList) : gS)) := rn_start f ha hb fz
  obtain ⟨f1, f2, f3, f4, f5, f6, f7, f8⟩ := f
  obtain ⟨n1, es⟩ := tr_top f8 (by omega)
  have p1 : nI b = yv_p1 (a_kinds, a_args, a_free, T, bb, bu, n, pk, 2 * a + b) := rn_p1 hb hbb
  have rc4 : 2 * a + b < 4 := by omega
  have n32 : n ≤ 32 := by omega
  have it : vp_in (nI (n - 1)) 32 := vp_in_nI (by omega) (by decide)
  have ef : a_free (nI (n - 1)).toNatClampNeg = 0 := by rw [nI_clamp (by omega)]; exact fz
  have u1 : ∀ x, upd (upd a_outStatus (2 * a + b) 0) (p_rc (a_kinds, a_args, a_free, T, bb, bu, n, pk, 2 * a + b)) x = upd a_outStatus (2 * a + b) x := fun x => rn_uu
  have u2 : ∀ x, upd (upd a_outValue (2 * a + b) 0) (p_rc (a_kinds, a_args, a_free, T, bb, bu, n, pk, 2 * a + b)) x = upd a_outValue (2 * a + b) x := fun x => rn_uu
  unfold wpX_run
  refine sl_X ha hb (br_t (nI_pos' (by omega)) (br_t rfl (nm_r es (And.intro it (br_t ef ?_)))))
  refine st_X rc4 hb p1 ?_
  have a01 : a = 0 ∨ a = 1 := by omega
  rcases a01 with e | e
  · have HX : xx_H (a_kinds, a_args, a_free, T, bb, bu, n, pk, 2 * a + b) ((f_tagAny, f_tagInt, f_tagClosure, f_tagName, f_nameF, f_nameA, f_nameB, f_opReturn, f_opTo, f_opFn, f_opPush, f_opForce, f_opPlus, f_opIfzero, f_opPrint, f_stageFirst, f_stageSecond, f_stageTo, f_stageArg, f_maxSteps, f_maxBindings, nI tc, nI n, nI 1), a_partA, a_partB, a_partC, a_stack, a_codeOp, a_codeTag, a_codeData, a_codeNext, a_codeOther) (upd a_outStatus (2 * a + b) 0) := ⟨⟨1, f8⟩, n32, f3, f4, rc4, pk_us⟩
    obtain ⟨h', F', bg, ret, pc, env, wt, wd, we, K⟩ := rn_D (Z := ((f_tagAny, f_tagInt, f_tagClosure, f_tagName, f_nameF, f_nameA, f_nameB, f_opReturn, f_opTo, f_opFn, f_opPush, f_opForce, f_opPlus, f_opIfzero, f_opPrint, f_stageFirst, f_stageSecond, f_stageTo, f_stageArg, f_maxSteps, f_maxBindings, nI tc, nI n, nI 1), a_partA, a_partB, a_partC, a_stack, a_codeOp, a_codeTag, a_codeData, a_codeNext, a_codeOther)) (os := upd a_outStatus (2 * a + b) 0) (ov := upd a_outValue (2 * a + b) 0) (h := (1, a_bindName, a_bindTag, a_bindData, a_bindEnv, a_bindOuter)) (F := (0, a_frameStage, a_frameCode, a_frameEnv, a_frameTag, a_frameData, a_frameValEnv)) (vt := 1) (vd := 0) (ve := 0) RH HX rfl rfl go
    refine br_f (by rw [e]; decide) ⟨4100, ?_⟩
    have K2 := K postX (by rw [u1, u2]; exact hp _ _ _ _ _ h' F' bg ret pc env wt wd we)
    rw [show nI a = 0 by rw [e]; rfl]
    exact K2
  · refine br_t (by rw [e]; rfl) ?_
    refine xe_translate (P := (a_kinds, a_args, a_free, T, bb, bu, n, pk, 2 * a + b)) (Z := ((f_tagAny, f_tagInt, f_tagClosure, f_tagName, f_nameF, f_nameA, f_nameB, f_opReturn, f_opTo, f_opFn, f_opPush, f_opForce, f_opPlus, f_opIfzero, f_opPrint, f_stageFirst, f_stageSecond, f_stageTo, f_stageArg, f_maxSteps, f_maxBindings, nI tc, nI n, nI 1), a_partA, a_partB, a_partC, a_stack, a_codeOp, a_codeTag, a_codeData, a_codeNext, a_codeOther)) (h := (1, a_bindName, a_bindTag, a_bindData, a_bindEnv, a_bindOuter)) (F := (0, a_frameStage, a_frameCode, a_frameEnv, a_frameTag, a_frameData, a_frameValEnv)) (o := xo_s (upd a_outStatus (2 * a + b) 0) (upd a_outValue (2 * a + b) 0) (gs_zero 0 ((0, a_term, a_done, a_fun, a_num, a_home, a_bind, upd a_outPrinted (2 * a + b) 0, a_outList) : gS))) (bg := 0) (ret := 0) (pc := f_pc) (env := 0) (vt := 1) (vd := 0) (ve := 0) n32 f8 rfl (fun Z' dn => ?_)
    obtain ⟨K', pa', pb', pc', st', cO, cT, cD, cN, cR⟩ := Z'
    obtain ⟨d1, d2, d3, d4, d5, d6⟩ := dn
    have e1 : (f_tagAny, f_tagInt, f_tagClosure, f_tagName, f_nameF, f_nameA, f_nameB, f_opReturn, f_opTo, f_opFn, f_opPush, f_opForce, f_opPlus, f_opIfzero, f_opPrint, f_stageFirst, f_stageSecond, f_stageTo, f_stageArg, f_maxSteps, f_maxBindings, nI tc, nI n, nI 1) = K' := d1.symm
    have e2 : a_partA = pa' := d2.symm
    have e3 : a_partB = pb' := d3.symm
    have e4 : a_partC = pc' := d4.symm
    have e5 : a_stack = st' := d5.symm
    subst e1 e2 e3 e4 e5
    have HX : xt_H (a_kinds, a_args, a_free, T, bb, bu, n, pk, 2 * a + b) ((f_tagAny, f_tagInt, f_tagClosure, f_tagName, f_nameF, f_nameA, f_nameB, f_opReturn, f_opTo, f_opFn, f_opPush, f_opForce, f_opPlus, f_opIfzero, f_opPrint, f_stageFirst, f_stageSecond, f_stageTo, f_stageArg, f_maxSteps, f_maxBindings, nI tc, nI n, nI 1), a_partA, a_partB, a_partC, a_stack, cO, cT, cD, cN, cR) (upd a_outStatus (2 * a + b) 0) := ⟨⟨⟨1, f8⟩, n32, f3, f4, rc4, pk_us⟩, d6⟩
    obtain ⟨h', F', bg, ret, pc, env, wt, wd, we, K⟩ := rn_T (Z := ((f_tagAny, f_tagInt, f_tagClosure, f_tagName, f_nameF, f_nameA, f_nameB, f_opReturn, f_opTo, f_opFn, f_opPush, f_opForce, f_opPlus, f_opIfzero, f_opPrint, f_stageFirst, f_stageSecond, f_stageTo, f_stageArg, f_maxSteps, f_maxBindings, nI tc, nI n, nI 1), a_partA, a_partB, a_partC, a_stack, cO, cT, cD, cN, cR)) (os := upd a_outStatus (2 * a + b) 0) (ov := upd a_outValue (2 * a + b) 0) (h := (1, a_bindName, a_bindTag, a_bindData, a_bindEnv, a_bindOuter)) (F := (0, a_frameStage, a_frameCode, a_frameEnv, a_frameTag, a_frameData, a_frameValEnv)) (vt := 1) (vd := 0) (ve := 0) RH HX rfl rfl go
    refine nm_r (xe_4 (n - 1)) ⟨4100, ?_⟩
    have K2 := K postX (by rw [u1, u2]; exact hp _ _ _ _ _ h' F' bg ret pc env wt wd we)
    rw [show nI a = 1 by rw [e]; rfl]
    exact K2
end
theorem i_vc_run {k : Nat} {u : SX} {v : SY} (I : i_Rel k u v) (hk : k + 4 ≤ 2051) (v1 : Int32) (v2 : Int32) : wpX_run (fun r u' => wpY_run (fun r' v' => r' = r ∧ i_Rel (k + 4) u' v') v v1 v2) u v1 v2 := by
  refine rl_el (P := fun u v => wpX_run (fun r u' => wpY_run (fun r' v' => r' = r ∧ i_Rel (k + 4) u' v') v v1 v2) u v1 v2) ?_ I
  intro tc bu pk n hg T f_tagAny f_tagInt f_tagClosure f_tagName f_nameF f_nameA f_nameB f_opReturn f_opTo f_opFn f_opPush f_opForce f_opPlus f_opIfzero f_opPrint f_stageFirst f_stageSecond f_stageTo f_stageArg f_maxSteps f_maxBindings f_bindings f_depth f_current f_byName f_returning f_begun f_pc f_env f_valTag f_valData f_valEnv a_kinds a_args a_partA a_partB a_partC a_free a_stack a_outStatus a_outValue a_outPrinted a_outList a_codeOp a_codeTag a_codeData a_codeNext a_codeOther a_bindName a_bindTag a_bindData a_bindEnv a_bindOuter a_frameStage a_frameCode a_frameEnv a_frameTag a_frameData a_frameValEnv f_rows f_end f_endValue a_term a_step a_kid a_done a_fun a_num a_home a_bind f
  rcases sl_cases v1 v2 with ⟨a, b, ha, hb, rfl, rfl⟩ | h
  · by_cases e : hg = 1
    · subst e
      by_cases fz : a_free (n - 1) = 0
      · rcases go : gs_go (a_kinds, a_args, a_free, T, decide (b = 1), bu, n, pk, 2 * a + b) bu (n - 1) 0 (-1) 0 (gs_zero 0 ((0, a_term, a_done, a_fun, a_num, a_home, a_bind, upd a_outPrinted (2 * a + b) 0, a_outList) : gS)) with ⟨oo, s'⟩
        obtain ⟨sp', kid', KY⟩ := ry_run (tc := tc) (bu := bu) (pk := pk) (f_rows := f_rows) (f_end := f_end) (f_endValue := f_endValue) (a_step := a_step) (a_kid := a_kid) (a_outStatus := a_outStatus) (a_outValue := a_outValue) f ha hb rfl fz go
        have CL := rn_CL (rn_start f ha hb fz) go
        obtain ⟨f1, f2, f3, f4, f5, f6, f7, f8⟩ := f
        refine rx_run ⟨f1, f2, f3, f4, f5, f6, f7, f8⟩ ha hb rfl fz go _ (fun cO cT cD cN cR h' F' bg ret pc env wt wd we => ?_)
        refine KY _ ?_
        refine And.intro rfl (rl_mk (tc := tc) (bu := bu) (pk := pk) (n := n) (hg := 1) (T := T) ⟨f1, f2, f3, f4, f5, f6, fun i hi => ?_, f8⟩)
        by_cases ei : i = 2 * a + b
        · obtain ⟨c, hc, ec⟩ := CL.2.1
          refine ⟨c, ?_, by rw [ei]; exact ec⟩
          have hc' : c ≤ pk := hc
          omega
        · obtain ⟨c, hc, ec⟩ := f7 i hi
          refine ⟨c, hc, ?_⟩
          have q : gs_pk s' i = upd a_outPrinted (2 * a + b) 0 i := CL.1.2.2.2 i ei
          exact q.trans ((pk_un ei).trans ec)
      · obtain ⟨f1, f2, f3, f4, f5, f6, f7, f8⟩ := id f
        obtain ⟨n1, es⟩ := tr_top f8 (by omega)
        have it : vp_in (nI (n - 1)) 32 := vp_in_nI (by omega) (by decide)
        have ef : ¬ a_free (nI (n - 1)).toNatClampNeg = 0 := by rw [nI_clamp (by omega)]; exact fz
        unfold wpX_run
        refine sl_X ha hb (br_t (nI_pos' (by omega)) (br_t rfl (nm_r es (And.intro it (br_f ef ?_)))))
        unfold wpY_run
        refine sl_Y ha hb (br_t rfl ?_)
        refine yh_height (cn := n) (by omega) ?_
        rw [← f6]
        refine br_t rfl ?_
        refine yf_names f8 (by omega) ?_
        rw [if_neg (by omega)]
        exact br_f fz (And.intro rfl (rl_mk f))
    · obtain ⟨f1, f2, f3, f4, f5, f6, f7, f8⟩ := id f
      have hle := tr_h_le f8
      have ne : ¬ nI hg = 1 := fun z => e ((nI_eq (b := 1) (by omega) (by omega)).mp z)
      unfold wpX_run
      refine sl_X ha hb (br_t (nI_pos' (by omega)) (br_f ne ?_))
      unfold wpY_run
      refine sl_Y ha hb (br_t rfl ?_)
      refine yh_height (cn := n) (by omega) ?_
      rw [← f6]
      exact br_f ne (And.intro rfl (rl_mk f))
  · unfold wpX_run
    refine sl_Xb h (br_f (by decide) ?_)
    unfold wpY_run
    exact sl_Yb h (br_f (by decide) (And.intro rfl (rl_mk f)))
end
