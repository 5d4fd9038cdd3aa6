section
/-! pure rows to paste: stores, nI and lN arithmetic, masks, shifts, narrowing, branches by naturals (pk_le, pk_lt, pk_eq), loops (lp1 .. lp16: the measure of the state; rp1 ..: recursion), negatives. Take what you need -/
theorem pk_us {f : Nat → Int32} {k : Nat} {x : Int32} : upd f k x k = x := if_pos rfl
theorem pk_un {f : Nat → Int32} {k j : Nat} {x : Int32} (h : j ≠ k) : upd f k x j = f j := if_neg h
theorem pk_sub {a b : Nat} (h : b ≤ a) : nI a - nI b = nI (a - b) := by
  obtain ⟨c, rfl⟩ : ∃ c, a = c + b := ⟨a - b, by omega⟩
  rw [← nI_add, Int32.add_sub_cancel, Nat.add_sub_cancel]
theorem pk_m1 (n : Nat) : nI (n + 1) + (-1) = nI n := by
  rw [← nI_1, Int32.add_assoc, show (1 : Int32) + (-1) = 0 from rfl, Int32.add_zero]
theorem pk_mul (a b : Nat) : nI a * nI b = nI (a * b) := (Int32.ofNat_mul a b).symm
theorem pk_div {a d : Nat} (ha : a < 2 ^ 31) (h0 : 0 < d) (hd : d < 2 ^ 31) : nI a / nI d = nI (a / d) := by
  apply Int32.toInt_inj.mp
  rw [lg_idiv_nonneg (by rw [nI_toInt ha]; omega) (by rw [nI_toInt hd]; omega), nI_toInt ha, nI_toInt hd, nI_toInt (Nat.lt_of_le_of_lt (Nat.div_le_self a d) ha)]
  first | rfl | exact (Int.natCast_ediv _ _).symm
theorem pk_rem {a d : Nat} (ha : a < 2 ^ 31) (h0 : 0 < d) (hd : d < 2 ^ 31) : nI a - nI a / nI d * nI d = nI (a % d) := by
  rw [pk_div ha h0 hd, pk_mul, pk_sub (Nat.div_mul_le_self a d)]
  exact congrArg nI (by have := Nat.div_add_mod' a d; omega)
theorem pk_sub_toInt {a b : Nat} (ha : a < 2 ^ 30) (hb : b < 2 ^ 30) : (nI a - nI b).toInt = (a : Int) - b := by
  rw [Int32.toInt_sub, nI_toInt (by omega), nI_toInt (by omega)]
  exact Int.bmod_eq_of_le (by omega) (by omega)
theorem pk_sneg {a b : Nat} (hb : b < 2 ^ 30) (h : a < b) : nI a - nI b < 0 := by
  rw [Int32.lt_iff_toInt_lt, pk_sub_toInt (by omega) hb, show (0 : Int32).toInt = 0 from by decide]
  omega
theorem pk_ix (x : Int32) {n : Nat} (hn : n < 2 ^ 31) : x < 0 ∨ nI n ≤ x ∨ ∃ j : Nat, j < n ∧ x = nI j := by
  by_cases h : x < 0
  · exact Or.inl h
  · obtain ⟨j, hj, rfl⟩ := nI_of h
    by_cases h2 : j < n
    · exact Or.inr (Or.inr ⟨j, h2, rfl⟩)
    · exact Or.inr (Or.inl (nI_le (by omega) hj))
theorem pk_le {x y : Int32} {A B : Prop} (a b : Nat) (f : a ≤ b → A) (g : b < a → B) (hx : x = nI a := by rfl) (hy : y = nI b := by rfl) (ha : a < 2 ^ 31 := by omega) (hb : b < 2 ^ 31 := by omega) : (x ≤ y → A) ∧ (¬ x ≤ y → B) := by
  subst hx hy
  rw [nI_leI ha hb]
  exact ⟨f, fun z => g (by omega)⟩
theorem pk_lt {x y : Int32} {A B : Prop} (a b : Nat) (f : a < b → A) (g : b ≤ a → B) (hx : x = nI a := by rfl) (hy : y = nI b := by rfl) (ha : a < 2 ^ 31 := by omega) (hb : b < 2 ^ 31 := by omega) : (x < y → A) ∧ (¬ x < y → B) := by
  subst hx hy
  rw [nI_ltI ha hb]
  exact ⟨f, fun z => g (by omega)⟩
theorem pk_eq {x y : Int32} {A B : Prop} (a b : Nat) (f : a = b → A) (g : a ≠ b → B) (hx : x = nI a := by rfl) (hy : y = nI b := by rfl) (ha : a < 2 ^ 31 := by omega) (hb : b < 2 ^ 31 := by omega) : (x = y → A) ∧ (¬ x = y → B) := by
  subst hx hy
  rw [nI_eq ha hb]
  exact ⟨f, g⟩
theorem pk_in {x : Int32} (n N : Nat) (h : n < N) (hx : x = nI n := by rfl) (hN : N < 2 ^ 31 := by omega) : vp_in x N := by
  subst hx
  exact vp_in_nI h hN
theorem pk_cl {x : Int32} (n : Nat) (hx : x = nI n := by rfl) (h : n < 2 ^ 31 := by omega) : x.toNatClampNeg = n := by
  subst hx
  exact nI_clamp h
theorem pk_tn {n : Nat} (h : n < 2 ^ 32) : (nI n).toBitVec.toNat = n := Nat.mod_eq_of_lt h
theorem pk_and (x : Int32) {m : Int32} (k : Nat) (hm : m.toBitVec.toNat = 2 ^ k - 1) : x &&& m = nI (x.toBitVec.toNat % 2 ^ k) := by
  apply Int32.toBitVec_inj.mp
  apply BitVec.eq_of_toNat_eq
  rw [Int32.toBitVec_and, BitVec.toNat_and, hm, Nat.and_two_pow_sub_one_eq_mod]
  show _ = (BitVec.ofNat 32 _).toNat
  rw [BitVec.toNat_ofNat]
  exact (Nat.mod_eq_of_lt (Nat.lt_of_le_of_lt (Nat.mod_le _ _) x.toBitVec.isLt)).symm
theorem pk_andN {n : Nat} (h : n < 2 ^ 32) {m : Int32} (k : Nat) (hm : m.toBitVec.toNat = 2 ^ k - 1) : nI n &&& m = nI (n % 2 ^ k) := by
  rw [pk_and _ k hm, pk_tn h]
theorem pk_andE (x : Int32) {m : Int32} (k : Nat) (hm : m.toBitVec.toNat = 2 ^ k - 1) : ∃ j : Nat, j < 2 ^ k ∧ x &&& m = nI j := ⟨_, Nat.mod_lt _ (Nat.two_pow_pos k), pk_and x k hm⟩
theorem pk_andIn (x : Int32) {m : Int32} (k : Nat) (hm : m.toBitVec.toNat = 2 ^ k - 1) (hk : k ≤ 30) : vp_in (x &&& m) (2 ^ k) := by
  obtain ⟨j, hj, e⟩ := pk_andE x k hm
  rw [e]
  exact vp_in_nI hj (Nat.lt_of_le_of_lt (Nat.pow_le_pow_right (by decide) hk) (by decide))
theorem pk_shl (a s : Int32) (k : Nat) (hs : (s.toBitVec.smod 32).toNat = k) : (a <<< s).toBitVec.toNat = a.toBitVec.toNat * 2 ^ k % 2 ^ 32 := by
  show (a.toBitVec <<< (s.toBitVec.smod 32).toNat).toNat = _
  rw [hs, BitVec.toNat_shiftLeft, Nat.shiftLeft_eq]
theorem pk_shlN {n : Nat} (s : Int32) (k : Nat) (hs : (s.toBitVec.smod 32).toNat = k) (h : n * 2 ^ k < 2 ^ 32) : nI n <<< s = nI (n * 2 ^ k) := by
  apply Int32.toBitVec_inj.mp
  apply BitVec.eq_of_toNat_eq
  have hn : n < 2 ^ 32 := Nat.lt_of_le_of_lt (Nat.le_mul_of_pos_right n (Nat.two_pow_pos k)) h
  rw [pk_shl _ _ k hs, pk_tn hn, pk_tn h, Nat.mod_eq_of_lt h]
theorem pk_shr (a s : Int32) (k : Nat) (hs : (s.toBitVec.smod 32).toNat = k) : (a >>> s).toInt = a.toInt >>> k := by
  show (a.toBitVec.sshiftRight (s.toBitVec.smod 32).toNat).toInt = _
  rw [hs, BitVec.toInt_sshiftRight]
  rfl
theorem pk_shrN {n : Nat} (h : n < 2 ^ 31) (s : Int32) (k : Nat) (hs : (s.toBitVec.smod 32).toNat = k) : nI n >>> s = nI (n / 2 ^ k) := by
  apply Int32.toInt_inj.mp
  have h2 : n / 2 ^ k ≤ n := Nat.div_le_self _ _
  rw [pk_shr _ _ k hs, nI_toInt h, nI_toInt (by omega), Int.shiftRight_eq_div_pow]
  rfl
end
section
/-- how many parts a token has -/
def tk_ar (t : Nat) : Nat :=
  if t = 2 ∨ t = 39 ∨ (100 ≤ t ∧ t ≤ 127) ∨ 142 < t then 0
  else if (10 ≤ t ∧ t ≤ 33) ∨ (66 ≤ t ∧ t ≤ 68) ∨ t = 128 ∨ t = 139 then 1
  else if t = 56 then 4
  else if t = 35 ∨ (40 ≤ t ∧ t ≤ 55) ∨ (63 ≤ t ∧ t ≤ 65) ∨ t = 142 then 3
  else 2
/-- a statement -/
def tk_st (t : Nat) : Bool := decide ((1 ≤ t ∧ t ≤ 2) ∨ (10 ≤ t ∧ t ≤ 25) ∨ (30 ≤ t ∧ t ≤ 37) ∨ (39 ≤ t ∧ t ≤ 56) ∨ (60 ≤ t ∧ t ≤ 68))
/-- an expression -/
def tk_ex (t : Nat) : Bool := decide ((100 ≤ t ∧ t ≤ 115) ∨ (120 ≤ t ∧ t ≤ 128) ∨ (130 ≤ t ∧ t ≤ 157) ∨ (210 ≤ t ∧ t ≤ 290))
/-- whether part k is a statement -/
def tk_sp (t k : Nat) : Bool := decide (t = 1 ∨ ((t = 35 ∨ t = 36 ∨ t = 56) ∧ 0 < k) ∨ (t = 37 ∧ k = 0) ∨ (40 ≤ t ∧ t ≤ 55 ∧ k = 2))
def tk_pa (t : Nat) : List Bool := (List.range (tk_ar t)).map (tk_sp t)
def tk_ok (b : Bool) (t : Nat) : Bool := if b then tk_st t else tk_ex t
theorem tk_st_le {t : Nat} (h : tk_st t = true) : 1 ≤ t ∧ t ≤ 68 := by
  unfold tk_st at h
  have h := of_decide_eq_true h
  omega
theorem tk_ex_le {t : Nat} (h : tk_ex t = true) : 100 ≤ t ∧ t ≤ 290 := by
  unfold tk_ex at h
  have h := of_decide_eq_true h
  omega
theorem tk_ok_le {b : Bool} {t : Nat} (h : tk_ok b t = true) : 1 ≤ t ∧ t ≤ 290 := by
  cases b
  · have := tk_ex_le (t := t) h
    omega
  · have := tk_st_le (t := t) h
    omega
theorem tk_pa_len (t : Nat) : (tk_pa t).length = tk_ar t := by
  unfold tk_pa
  rw [List.length_map, List.length_range]
theorem tk_ar_le (t : Nat) : tk_ar t ≤ 4 := by
  unfold tk_ar
  repeat' split
  all_goals omega
/-- expressions have expressions as parts -/
theorem tk_pa_ex {t : Nat} (h : tk_ex t = true) : tk_pa t = List.replicate (tk_ar t) false := by
  have h1 := tk_ex_le h
  have hk : ∀ k, tk_sp t k = false := by
    intro k
    unfold tk_sp
    exact decide_eq_false (by omega)
  refine List.eq_replicate_iff.mpr ⟨tk_pa_len t, fun b hb => ?_⟩
  unfold tk_pa at hb
  obtain ⟨k, _, e⟩ := List.mem_map.mp hb
  rw [← e]
  exact hk k
section
variable (tk : Nat → Nat)
/-- exactly d tokens from i on are what bs wants -/
def tk_F : Nat → List Bool → Nat → Prop
  | 0, bs, _ => bs = []
  | d + 1, bs, i => ∃ b l, bs = b :: l ∧ tk_ok b (tk i) = true ∧ tk_F d (tk_pa (tk i) ++ l) (i + 1)
/-- where c trees from i on end -/
def tk_sk : Nat → Nat → Nat → Nat
  | 0, _, i => i
  | f + 1, c, i => if c = 0 then i else tk_sk f (tk_ar (tk i) + (c - 1)) (i + 1)
def tk_en (i : Nat) : Nat := tk_sk tk 60 1 i
end
section
variable {tk : Nat → Nat}
theorem tk_F_split : ∀ (d : Nat) (as bs : List Bool) (i : Nat), tk_F tk d (as ++ bs) i → ∃ d1 d2, d = d1 + d2 ∧ tk_F tk d1 as i ∧ tk_F tk d2 bs (i + d1) := by
  intro d
  induction d with
  | zero =>
    intro as bs i h
    have h : as ++ bs = [] := h
    rw [List.append_eq_nil_iff] at h
    exact ⟨0, 0, rfl, h.1, h.2⟩
  | succ d ih =>
    intro as bs i h
    cases as with
    | nil => exact ⟨0, d + 1, by omega, rfl, h⟩
    | cons a as =>
      obtain ⟨b, l, e, ho, hF⟩ := h
      rw [List.cons_append] at e
      obtain ⟨rfl, rfl⟩ := List.cons.inj e
      rw [← List.append_assoc] at hF
      obtain ⟨d1, d2, e2, f1, f2⟩ := ih _ _ _ hF
      refine ⟨d1 + 1, d2, by omega, ⟨a, as, rfl, ho, f1⟩, ?_⟩
      rw [show i + (d1 + 1) = i + 1 + d1 by omega]
      exact f2
theorem tk_F_len : ∀ (d : Nat) (bs : List Bool) (i : Nat), tk_F tk d bs i → bs.length ≤ d := by
  intro d
  induction d with
  | zero =>
    intro bs i h
    have h : bs = [] := h
    rw [h]
    exact Nat.le_refl _
  | succ d ih =>
    intro bs i h
    obtain ⟨b, l, rfl, _, hF⟩ := h
    have := ih _ _ hF
    rw [List.length_append] at this
    rw [List.length_cons]
    omega
theorem tk_sk_F : ∀ (d f : Nat) (bs : List Bool) (i : Nat), tk_F tk d bs i → d ≤ f → tk_sk tk f bs.length i = i + d := by
  intro d
  induction d with
  | zero =>
    intro f bs i h _
    have h : bs = [] := h
    rw [h]
    cases f with
    | zero => rfl
    | succ f => rfl
  | succ d ih =>
    intro f bs i h hf
    obtain ⟨b, l, rfl, _, hF⟩ := h
    cases f with
    | zero => omega
    | succ f =>
      have := ih f _ _ hF (by omega)
      rw [List.length_append, tk_pa_len] at this
      rw [List.length_cons]
      show (if l.length + 1 = 0 then i else tk_sk tk f (tk_ar (tk i) + (l.length + 1 - 1)) (i + 1)) = _
      rw [if_neg (by omega), Nat.add_sub_cancel, this]
      omega
theorem tk_en_F {d i : Nat} {b : Bool} (h : tk_F tk d [b] i) (hd : d ≤ 60) : tk_en tk i = i + d := tk_sk_F d 60 [b] i h hd
theorem tk_F_pos {d i : Nat} {b : Bool} {l : List Bool} (h : tk_F tk d (b :: l) i) : 1 ≤ d := by
  cases d with
  | zero => exact absurd h (List.cons_ne_nil _ _)
  | succ d => omega
/-- at each token a tree begins -/
theorem tk_F_node : ∀ (d : Nat) (bs : List Bool) (i j : Nat), tk_F tk d bs i → j < d → ∃ b e, tk_F tk e [b] (i + j) ∧ j + e ≤ d := by
  intro d
  induction d with
  | zero => intro bs i j _ h; omega
  | succ d ih =>
    intro bs i j h hj
    cases j with
    | zero =>
      have h2 := h
      obtain ⟨b, l, rfl, _, _⟩ := h2
      obtain ⟨d1, d2, e, f1, _⟩ := tk_F_split _ [b] l i h
      exact ⟨b, d1, f1, by omega⟩
    | succ j =>
      obtain ⟨b, l, rfl, _, hF⟩ := h
      obtain ⟨b', e, f1, f2⟩ := ih _ _ j hF (by omega)
      refine ⟨b', e, ?_, by omega⟩
      rw [show i + (j + 1) = i + 1 + j by omega]
      exact f1
end
/-- a tree of kind b stands at i, within the first L tokens -/
def tk_T (tk : Nat → Nat) (L : Nat) (b : Bool) (i : Nat) : Prop := ∃ d, tk_F tk d [b] i ∧ i + d ≤ L
/-- trees of kinds bs stand from i on, and end at e -/
def tk_Ts (tk : Nat → Nat) (L : Nat) : List Bool → Nat → Nat → Prop
  | [], i, e => i = e
  | b :: bs, i, e => tk_T tk L b i ∧ tk_Ts tk L bs (tk_en tk i) e
section
variable {tk : Nat → Nat} {L : Nat}
theorem tk_T_en {b : Bool} {i : Nat} (hL : L ≤ 60) (h : tk_T tk L b i) : i < tk_en tk i ∧ tk_en tk i ≤ L := by
  obtain ⟨d, f, h⟩ := h
  have := tk_F_pos f
  rw [tk_en_F f (by omega)]
  omega
theorem tk_T_ok {b : Bool} {i : Nat} (h : tk_T tk L b i) : tk_ok b (tk i) = true := by
  obtain ⟨d, f, h⟩ := h
  cases d with
  | zero => exact absurd f (List.cons_ne_nil _ _)
  | succ d =>
    obtain ⟨b', l, e, ho, _⟩ := f
    obtain ⟨rfl, rfl⟩ := List.cons.inj e
    exact ho
theorem tk_Ts_F (hL : L ≤ 60) : ∀ (bs : List Bool) (d i : Nat), tk_F tk d bs i → i + d ≤ L → tk_Ts tk L bs i (i + d) := by
  intro bs
  induction bs with
  | nil =>
    intro d i h _
    cases d with
    | zero => rfl
    | succ d =>
      obtain ⟨b, l, e, _⟩ := h
      exact absurd e.symm (List.cons_ne_nil _ _)
  | cons b bs ih =>
    intro d i h hd
    obtain ⟨d1, d2, e, f1, f2⟩ := tk_F_split d [b] bs i h
    refine ⟨⟨d1, f1, by omega⟩, ?_⟩
    rw [tk_en_F f1 (by omega)]
    have := ih d2 (i + d1) f2 (by omega)
    rw [show i + d = i + d1 + d2 by omega]
    exact this
theorem tk_T_parts {b : Bool} {i : Nat} (hL : L ≤ 60) (h : tk_T tk L b i) : tk_Ts tk L (tk_pa (tk i)) (i + 1) (tk_en tk i) := by
  obtain ⟨d, f, h⟩ := h
  rw [tk_en_F f (by omega)]
  cases d with
  | zero => exact absurd f (List.cons_ne_nil _ _)
  | succ d =>
    obtain ⟨b', l, e, ho, hF⟩ := f
    obtain ⟨rfl, rfl⟩ := List.cons.inj e
    rw [List.append_nil] at hF
    have := tk_Ts_F hL _ _ _ hF (by omega)
    rw [show i + (d + 1) = i + 1 + d by omega]
    exact this
theorem tk_T_node {n : Nat} (h : tk_F tk n [true] 0) (hn : n ≤ L) {i : Nat} (hi : i < n) : ∃ b, tk_T tk L b i := by
  obtain ⟨b, e, f, he⟩ := tk_F_node n [true] 0 i h hi
  rw [Nat.zero_add] at f
  exact ⟨b, e, f, by omega⟩
end
/-! parts by number -/
theorem tk_pa_of {t : Nat} {n : Nat} (h : tk_ar t = n) : tk_pa t = (List.range n).map (tk_sp t) := by
  unfold tk_pa
  rw [h]
theorem tk_pa0 {t : Nat} (h : tk_ar t = 0) : tk_pa t = [] := by rw [tk_pa_of h]; rfl
theorem tk_pa1 {t : Nat} (h : tk_ar t = 1) : tk_pa t = [tk_sp t 0] := by rw [tk_pa_of h]; rfl
theorem tk_pa2 {t : Nat} (h : tk_ar t = 2) : tk_pa t = [tk_sp t 0, tk_sp t 1] := by rw [tk_pa_of h]; rfl
theorem tk_pa3 {t : Nat} (h : tk_ar t = 3) : tk_pa t = [tk_sp t 0, tk_sp t 1, tk_sp t 2] := by rw [tk_pa_of h]; rfl
theorem tk_pa4 {t : Nat} (h : tk_ar t = 4) : tk_pa t = [tk_sp t 0, tk_sp t 1, tk_sp t 2, tk_sp t 3] := by rw [tk_pa_of h]; rfl
section
variable {tk : Nat → Nat} {L : Nat} {b : Bool} {i : Nat}
theorem tk_n0 (hL : L ≤ 60) (h : tk_T tk L b i) (a : tk_ar (tk i) = 0) : tk_en tk i = i + 1 := by
  have := tk_T_parts hL h
  rw [tk_pa0 a] at this
  exact this.symm
theorem tk_n1 (hL : L ≤ 60) (h : tk_T tk L b i) (a : tk_ar (tk i) = 1) : tk_T tk L (tk_sp (tk i) 0) (i + 1) ∧ tk_en tk i = tk_en tk (i + 1) := by
  have := tk_T_parts hL h
  rw [tk_pa1 a] at this
  exact ⟨this.1, this.2.symm⟩
theorem tk_n2 (hL : L ≤ 60) (h : tk_T tk L b i) (a : tk_ar (tk i) = 2) : tk_T tk L (tk_sp (tk i) 0) (i + 1) ∧ tk_T tk L (tk_sp (tk i) 1) (tk_en tk (i + 1)) ∧ tk_en tk i = tk_en tk (tk_en tk (i + 1)) := by
  have := tk_T_parts hL h
  rw [tk_pa2 a] at this
  exact ⟨this.1, this.2.1, this.2.2.symm⟩
theorem tk_n3 (hL : L ≤ 60) (h : tk_T tk L b i) (a : tk_ar (tk i) = 3) : tk_T tk L (tk_sp (tk i) 0) (i + 1) ∧ tk_T tk L (tk_sp (tk i) 1) (tk_en tk (i + 1)) ∧ tk_T tk L (tk_sp (tk i) 2) (tk_en tk (tk_en tk (i + 1))) ∧ tk_en tk i = tk_en tk (tk_en tk (tk_en tk (i + 1))) := by
  have := tk_T_parts hL h
  rw [tk_pa3 a] at this
  exact ⟨this.1, this.2.1, this.2.2.1, this.2.2.2.symm⟩
theorem tk_n4 (hL : L ≤ 60) (h : tk_T tk L b i) (a : tk_ar (tk i) = 4) : tk_T tk L (tk_sp (tk i) 0) (i + 1) ∧ tk_T tk L (tk_sp (tk i) 1) (tk_en tk (i + 1)) ∧ tk_T tk L (tk_sp (tk i) 2) (tk_en tk (tk_en tk (i + 1))) ∧ tk_T tk L (tk_sp (tk i) 3) (tk_en tk (tk_en tk (tk_en tk (i + 1)))) ∧ tk_en tk i = tk_en tk (tk_en tk (tk_en tk (tk_en tk (i + 1)))) := by
  have := tk_T_parts hL h
  rw [tk_pa4 a] at this
  exact ⟨this.1, this.2.1, this.2.2.1, this.2.2.2.1, this.2.2.2.2.symm⟩
end
/-! what a program still wants, the next one first -/
def tk_ws (tk : Nat → Nat) : Nat → List Bool
  | 0 => [true]
  | i + 1 => tk_pa (tk i) ++ (tk_ws tk i).tail
/-- the first n tokens fit -/
def tk_V (tk : Nat → Nat) (n : Nat) : Prop := ∀ i, i < n → ∃ b l, tk_ws tk i = b :: l ∧ tk_ok b (tk i) = true
theorem tk_V_F {tk : Nat → Nat} {n : Nat} (h : tk_V tk n) (he : tk_ws tk n = []) : ∀ d i, i + d = n → tk_F tk d (tk_ws tk i) i := by
  intro d
  induction d with
  | zero =>
    intro i hi
    have : i = n := by omega
    rw [this]
    exact he
  | succ d ih =>
    intro i hi
    obtain ⟨b, l, e, ho⟩ := h i (by omega)
    refine ⟨b, l, e, ho, ?_⟩
    have := ih (i + 1) (by omega)
    have e2 : tk_ws tk (i + 1) = tk_pa (tk i) ++ l := by
      show tk_pa (tk i) ++ (tk_ws tk i).tail = _
      rw [e]
      rfl
    rw [e2] at this
    exact this
theorem tk_V_prog {tk : Nat → Nat} {n : Nat} (h : tk_V tk n) (he : tk_ws tk n = []) : tk_F tk n [true] 0 := tk_V_F h he n 0 (by omega)
/-- how much is wanted -/
theorem tk_V_len {tk : Nat → Nat} {n : Nat} (h : tk_V tk n) : ∀ i, i ≤ n → (tk_ws tk i).length ≤ 2 * i + 2 ∧ (∀ l, tk_ws tk i = true :: l → (tk_ws tk i).length ≤ 2 * i + 1) := by
  intro i
  induction i with
  | zero =>
    intro _
    exact ⟨by show 1 ≤ 2; omega, fun _ _ => by show 1 ≤ 1; omega⟩
  | succ i ih =>
    intro hi
    obtain ⟨h1, h2⟩ := ih (by omega)
    obtain ⟨b, l, e, ho⟩ := h i (by omega)
    have e2 : tk_ws tk (i + 1) = tk_pa (tk i) ++ l := by
      show tk_pa (tk i) ++ (tk_ws tk i).tail = _
      rw [e]
      rfl
    have hl : (tk_ws tk (i + 1)).length = tk_ar (tk i) + l.length := by
      rw [e2, List.length_append, tk_pa_len]
    have hb : (tk_ws tk i).length = l.length + 1 := by rw [e, List.length_cons]
    cases b with
    | false =>
      have ht := tk_ex_le ho
      have ha : tk_ar (tk i) ≤ 3 := by
        unfold tk_ar
        repeat' split
        all_goals omega
      refine ⟨by omega, fun l2 e3 => ?_⟩
      by_cases hz : tk_ar (tk i) = 0
      · omega
      · exfalso
        rw [e2, tk_pa_ex ho] at e3
        obtain ⟨m, hm⟩ : ∃ m, tk_ar (tk i) = m + 1 := ⟨tk_ar (tk i) - 1, by omega⟩
        rw [hm, List.replicate_succ, List.cons_append] at e3
        exact absurd (List.cons.inj e3).1 (by decide)
    | true =>
      have h3 := h2 l e
      have ht := tk_st_le ho
      by_cases h4 : tk_ar (tk i) = 4
      · refine ⟨by omega, fun l2 e3 => ?_⟩
        exfalso
        have h56 : tk i = 56 := by
          unfold tk_ar at h4
          repeat' split at h4
          all_goals omega
        rw [e2, tk_pa4 h4, h56] at e3
        exact absurd (List.cons.inj e3).1 (by decide)
      · have := tk_ar_le (tk i)
        exact ⟨by omega, fun _ _ => by omega⟩
end
section
/-! values: variables, row, outputs, timerOn, timerBegin, counterLast, edgeLast, blocks -/
abbrev ds_T : Type := (Nat → Int32) × (Nat → Int32) × (Nat → Int32) × (Nat → Int32) × (Nat → Int32) × (Nat → Int32) × (Nat → Int32) × (Nat → Int32)
/-- what a cycle doesn't change: inputs, time -/
abbrev ds_E : Type := (Nat → Int32) × Int32
def ds_va (D : ds_T) : Nat → Int32 := D.1
def ds_ro (D : ds_T) : Nat → Int32 := D.2.1
def ds_ou (D : ds_T) : Nat → Int32 := D.2.2.1
def ds_tO (D : ds_T) : Nat → Int32 := D.2.2.2.1
def ds_tB (D : ds_T) : Nat → Int32 := D.2.2.2.2.1
def ds_cL (D : ds_T) : Nat → Int32 := D.2.2.2.2.2.1
def ds_eL (D : ds_T) : Nat → Int32 := D.2.2.2.2.2.2.1
def ds_bl (D : ds_T) : Nat → Int32 := D.2.2.2.2.2.2.2
def ds_sva (D : ds_T) (f : Nat → Int32) : ds_T := (f, D.2)
def ds_sro (D : ds_T) (f : Nat → Int32) : ds_T := (D.1, f, D.2.2)
def ds_sou (D : ds_T) (f : Nat → Int32) : ds_T := (D.1, D.2.1, f, D.2.2.2)
/-! numbers -/
def ev_two (t : Nat) (x y : Int32) : Int32 :=
  if t = 130 then x + y
  else if t = 131 then x - y
  else if t = 132 then x * y
  else if t = 133 then (if y = 0 then 0 else x / y)
  else if t = 134 then (if y = 0 then 0 else x - x / y * y)
  else if t = 135 then (if y ≤ x then 0 else 1)
  else if t = 136 then (if x = y then 1 else 0)
  else if t = 137 then (if x = 0 then 0 else if y = 0 then 0 else 1)
  else if t = 138 then (if x = 0 then (if y = 0 then 0 else 1) else 1)
  else if t = 140 then (if x ≤ y then y else x)
  else (if x ≤ y then x else y)
def ev_one (x : Int32) : Int32 := if x = 0 then 1 else 0
def ev_leaf (E : ds_E) (D : ds_T) (t : Nat) : Int32 :=
  if t < 120 then ds_va D (t - 100)
  else if t < 124 then E.1 (t - 120)
  else if t < 128 then ds_ou D (t - 124)
  else if t < 158 then ds_bl D (t - 143)
  else nI t - 250
/-- one token, from the last to the first -/
def ev_op (E : ds_E) (D : ds_T) (t : Nat) (l : List Int32) : List Int32 :=
  if tk_ar t = 0 then ev_leaf E D t :: l
  else if t = 128 then ds_ro D (l.headD 0 &&& 7).toNatClampNeg :: l.tail
  else if t = 139 then ev_one (l.headD 0) :: l.tail
  else if t = 142 then (if l.headD 0 = 0 then l.tail.tail.headD 0 else l.tail.headD 0) :: l.tail.tail.tail
  else ev_two t (l.headD 0) (l.tail.headD 0) :: l.tail.tail
def ev_s (E : ds_E) (D : ds_T) (tk : Nat → Nat) : Nat → Nat → List Int32
  | 0, _ => []
  | d + 1, i => ev_op E D (tk i) (ev_s E D tk d (i + 1))
def ev_v (E : ds_E) (D : ds_T) (tk : Nat → Nat) (i : Nat) : Int32 := (ev_s E D tk (tk_en tk i - i) i).headD 0
theorem tk_ar_ex {t : Nat} (h : tk_ex t = true) : tk_ar t = if (100 ≤ t ∧ t ≤ 127) ∨ 142 < t then 0 else if t = 128 ∨ t = 139 then 1 else if t = 142 then 3 else 2 := by
  have := tk_ex_le h
  unfold tk_ar
  repeat' split
  all_goals omega
theorem tk_ar_nz {t : Nat} (h : tk_ex t = true) (h0 : tk_ar t ≠ 0) : ¬ ((100 ≤ t ∧ t ≤ 127) ∨ 142 < t) := by
  intro z
  rw [tk_ar_ex h, if_pos z] at h0
  exact h0 rfl
theorem ev_op_app {E : ds_E} {D : ds_T} {t : Nat} (h : tk_ex t = true) (l m : List Int32) (hl : tk_ar t ≤ l.length) : ev_op E D t (l ++ m) = ev_op E D t l ++ m := by
  have ha := tk_ar_ex h
  unfold ev_op
  by_cases h0 : tk_ar t = 0
  · rw [if_pos h0, if_pos h0]
    rfl
  · rw [if_neg h0, if_neg h0]
    cases l with
    | nil =>
      exfalso
      have : tk_ar t ≤ 0 := hl
      omega
    | cons x l =>
      by_cases h1 : t = 128
      · rw [if_pos h1, if_pos h1]
        rfl
      · rw [if_neg h1, if_neg h1]
        by_cases h2 : t = 139
        · rw [if_pos h2, if_pos h2]
          rfl
        · rw [if_neg h2, if_neg h2]
          rw [if_neg (tk_ar_nz h h0), if_neg (by omega)] at ha
          cases l with
          | nil =>
            exfalso
            have : tk_ar t ≤ 1 := hl
            split at ha <;> omega
          | cons y l =>
            by_cases h3 : t = 142
            · rw [if_pos h3, if_pos h3]
              rw [if_pos h3] at ha
              cases l with
              | nil =>
                exfalso
                have : tk_ar t ≤ 2 := hl
                omega
              | cons z l => rfl
            · rw [if_neg h3, if_neg h3]
              rfl
theorem ev_op_len {E : ds_E} {D : ds_T} {t : Nat} (h : tk_ex t = true) (l : List Int32) (hl : tk_ar t ≤ l.length) : (ev_op E D t l).length + tk_ar t = l.length + 1 := by
  have ha := tk_ar_ex h
  unfold ev_op
  by_cases h0 : tk_ar t = 0
  · rw [if_pos h0, h0]
    rfl
  · rw [if_neg h0]
    by_cases h1 : t = 128
    · rw [if_pos h1, List.length_cons, List.length_tail]
      rw [if_neg (by omega), if_pos (by omega)] at ha
      omega
    · rw [if_neg h1]
      by_cases h2 : t = 139
      · rw [if_pos h2, List.length_cons, List.length_tail]
        rw [if_neg (by omega), if_pos (by omega)] at ha
        omega
      · rw [if_neg h2]
        by_cases h3 : t = 142
        · rw [if_pos h3, List.length_cons, List.length_tail, List.length_tail, List.length_tail]
          rw [if_neg (by omega), if_neg (by omega), if_pos h3] at ha
          omega
        · rw [if_neg h3, List.length_cons, List.length_tail, List.length_tail]
          have : tk_ar t = 2 := by
            rw [ha]
            rw [if_neg (tk_ar_nz h h0), if_neg (by omega), if_neg h3]
          omega
theorem ev_F_rep {t m : Nat} (h : tk_ex t = true) : tk_pa t ++ List.replicate m false = List.replicate (tk_ar t + m) false := by
  rw [tk_pa_ex h, List.replicate_append_replicate]
theorem ev_F_succ {tk : Nat → Nat} {d m i : Nat} (h : tk_F tk (d + 1) (List.replicate m false) i) : ∃ m', m = m' + 1 ∧ tk_ex (tk i) = true ∧ tk_F tk d (List.replicate (tk_ar (tk i) + m') false) (i + 1) := by
  obtain ⟨b, l, e, ho, hF⟩ := h
  cases m with
  | zero => exact absurd e.symm (List.cons_ne_nil _ _)
  | succ m =>
    rw [List.replicate_succ] at e
    obtain ⟨rfl, rfl⟩ := List.cons.inj e
    refine ⟨m, rfl, ho, ?_⟩
    rw [ev_F_rep ho] at hF
    exact hF
theorem ev_s_len {E : ds_E} {D : ds_T} {tk : Nat → Nat} : ∀ (d m i : Nat), tk_F tk d (List.replicate m false) i → (ev_s E D tk d i).length = m := by
  intro d
  induction d with
  | zero =>
    intro m i h
    have h : List.replicate m false = [] := h
    cases m with
    | zero => rfl
    | succ m => exact absurd h (List.cons_ne_nil _ _)
  | succ d ih =>
    intro m i h
    obtain ⟨m', rfl, ho, hF⟩ := ev_F_succ h
    have hl := ih _ _ hF
    have := ev_op_len (E := E) (D := D) ho (ev_s E D tk d (i + 1)) (by omega)
    show (ev_op E D (tk i) (ev_s E D tk d (i + 1))).length = _
    omega
theorem ev_s_app {E : ds_E} {D : ds_T} {tk : Nat → Nat} : ∀ (d1 d2 m i : Nat), tk_F tk d1 (List.replicate m false) i → ev_s E D tk (d1 + d2) i = ev_s E D tk d1 i ++ ev_s E D tk d2 (i + d1) := by
  intro d1
  induction d1 with
  | zero =>
    intro d2 m i h
    rw [Nat.zero_add]
    rfl
  | succ d ih =>
    intro d2 m i h
    obtain ⟨m', rfl, ho, hF⟩ := ev_F_succ h
    have hl := ev_s_len (E := E) (D := D) _ _ _ hF
    have e := ih d2 _ _ hF
    rw [show d + 1 + d2 = d + d2 + 1 by omega]
    show ev_op E D (tk i) (ev_s E D tk (d + d2) (i + 1)) = ev_op E D (tk i) (ev_s E D tk d (i + 1)) ++ _
    rw [e, ev_op_app ho _ _ (by omega), show i + (d + 1) = i + 1 + d by omega]
section
variable {E : ds_E} {D : ds_T} {tk : Nat → Nat} {L : Nat} {i : Nat}
theorem ev_T (hL : L ≤ 60) (h : tk_T tk L false i) : tk_F tk (tk_en tk i - i) [false] i := by
  obtain ⟨d, f, h⟩ := h
  rw [tk_en_F f (by omega), Nat.add_sub_cancel_left]
  exact f
theorem ev_one_l (hL : L ≤ 60) (h : tk_T tk L false i) : ev_s E D tk (tk_en tk i - i) i = [ev_v E D tk i] := by
  have hl := ev_s_len (E := E) (D := D) _ 1 _ (ev_T hL h)
  unfold ev_v
  match he : ev_s E D tk (tk_en tk i - i) i with
  | [] => rw [he] at hl; exact absurd hl (by decide)
  | [x] => rfl
  | x :: y :: l => rw [he, List.length_cons, List.length_cons] at hl; omega
theorem ev_eq (hL : L ≤ 60) (h : tk_T tk L false i) : ev_v E D tk i = (ev_op E D (tk i) (ev_s E D tk (tk_en tk i - (i + 1)) (i + 1))).headD 0 := by
  have := tk_T_en hL h
  unfold ev_v
  rw [show tk_en tk i - i = tk_en tk i - (i + 1) + 1 by omega]
  rfl
theorem tk_sp_ex {t k : Nat} (h : tk_ex t = true) : tk_sp t k = false := by
  have h1 := tk_ex_le h
  unfold tk_sp
  exact decide_eq_false (by omega)
theorem ev_v0 (hL : L ≤ 60) (h : tk_T tk L false i) (ha : tk_ar (tk i) = 0) : ev_v E D tk i = ev_leaf E D (tk i) := by
  rw [ev_eq hL h]
  unfold ev_op
  rw [if_pos ha]
  rfl
theorem ev_l1 (hL : L ≤ 60) (h : tk_T tk L false i) (ha : tk_ar (tk i) = 1) : ev_s E D tk (tk_en tk i - (i + 1)) (i + 1) = [ev_v E D tk (i + 1)] := by
  have h1 := tk_n1 hL h ha
  rw [tk_sp_ex (tk_T_ok h)] at h1
  rw [h1.2]
  exact ev_one_l hL h1.1
theorem ev_l2 (hL : L ≤ 60) (h : tk_T tk L false i) (ha : tk_ar (tk i) = 2) : ev_s E D tk (tk_en tk i - (i + 1)) (i + 1) = [ev_v E D tk (i + 1), ev_v E D tk (tk_en tk (i + 1))] := by
  have h1 := tk_n2 hL h ha
  rw [tk_sp_ex (tk_T_ok h), tk_sp_ex (tk_T_ok h)] at h1
  obtain ⟨a, b, e⟩ := h1
  have h2 := tk_T_en hL a
  have h3 := tk_T_en hL b
  rw [e, show tk_en tk (tk_en tk (i + 1)) - (i + 1) = (tk_en tk (i + 1) - (i + 1)) + (tk_en tk (tk_en tk (i + 1)) - tk_en tk (i + 1)) by omega]
  rw [ev_s_app _ _ 1 _ (ev_T hL a), show i + 1 + (tk_en tk (i + 1) - (i + 1)) = tk_en tk (i + 1) by omega, ev_one_l hL a, ev_one_l hL b]
  rfl
theorem ev_l3 (hL : L ≤ 60) (h : tk_T tk L false i) (ha : tk_ar (tk i) = 3) : ev_s E D tk (tk_en tk i - (i + 1)) (i + 1) = [ev_v E D tk (i + 1), ev_v E D tk (tk_en tk (i + 1)), ev_v E D tk (tk_en tk (tk_en tk (i + 1)))] := by
  have h1 := tk_n3 hL h ha
  rw [tk_sp_ex (tk_T_ok h), tk_sp_ex (tk_T_ok h), tk_sp_ex (tk_T_ok h)] at h1
  obtain ⟨a, b, c, e⟩ := h1
  have h2 := tk_T_en hL a
  have h3 := tk_T_en hL b
  have h4 := tk_T_en hL c
  generalize hp : tk_en tk (i + 1) = p at *
  generalize hq : tk_en tk p = q at *
  generalize hr : tk_en tk q = r at *
  rw [e, show r - (i + 1) = (p - (i + 1)) + ((q - p) + (r - q)) by omega]
  have f1 := ev_T hL a
  have f2 := ev_T hL b
  have g1 := ev_one_l (E := E) (D := D) hL a
  have g2 := ev_one_l (E := E) (D := D) hL b
  have g3 := ev_one_l (E := E) (D := D) hL c
  rw [hp] at f1 g1
  rw [hq] at f2 g2
  rw [hr] at g3
  rw [ev_s_app _ _ 1 _ f1, show i + 1 + (p - (i + 1)) = p by omega, ev_s_app _ _ 1 _ f2, show p + (q - p) = q by omega, g1, g2, g3]
  rfl
theorem ev_v128 (hL : L ≤ 60) (h : tk_T tk L false i) (ht : tk i = 128) : ev_v E D tk i = ds_ro D (ev_v E D tk (i + 1) &&& 7).toNatClampNeg := by
  rw [ev_eq hL h, ev_l1 hL h (by rw [ht]; decide), ht]
  rfl
theorem ev_v139 (hL : L ≤ 60) (h : tk_T tk L false i) (ht : tk i = 139) : ev_v E D tk i = ev_one (ev_v E D tk (i + 1)) := by
  rw [ev_eq hL h, ev_l1 hL h (by rw [ht]; decide), ht]
  rfl
theorem ev_v142 (hL : L ≤ 60) (h : tk_T tk L false i) (ht : tk i = 142) : ev_v E D tk i = if ev_v E D tk (i + 1) = 0 then ev_v E D tk (tk_en tk (tk_en tk (i + 1))) else ev_v E D tk (tk_en tk (i + 1)) := by
  rw [ev_eq hL h, ev_l3 hL h (by rw [ht]; decide), ht]
  rfl
theorem ev_v2 (hL : L ≤ 60) (h : tk_T tk L false i) (ha : tk_ar (tk i) = 2) : ev_v E D tk i = ev_two (tk i) (ev_v E D tk (i + 1)) (ev_v E D tk (tk_en tk (i + 1))) := by
  have h1 := tk_ar_ex (tk_T_ok h)
  rw [ev_eq hL h, ev_l2 hL h ha]
  rw [ha] at h1
  unfold ev_op
  rw [if_neg (by omega), if_neg (by intro z; rw [z] at ha; exact absurd ha (by decide)), if_neg (by intro z; rw [z] at ha; exact absurd ha (by decide)), if_neg (by intro z; rw [z] at ha; exact absurd ha (by decide))]
  rfl
end
/-! statements -/
def ex_tmr (E : ds_E) (k : Nat) (on : Bool) (pr : Int32) (D : ds_T) : ds_T :=
  if on then
    (fun tB : Nat → Int32 => (fun g : Int32 =>
      (D.1, D.2.1, D.2.2.1, upd (ds_tO D) k 1, tB, D.2.2.2.2.2.1, D.2.2.2.2.2.2.1,
        upd (upd (ds_bl D) (3 + k) (if pr ≤ g then (if 0 ≤ pr then pr else 0) else g)) k (if g < pr then 0 else 1))) (E.2 - tB k))
      (if ds_tO D k = 0 then upd (ds_tB D) k E.2 else ds_tB D)
  else (D.1, D.2.1, D.2.2.1, upd (ds_tO D) k 0, D.2.2.2.2.1, D.2.2.2.2.2.1, D.2.2.2.2.2.2.1, upd (upd (ds_bl D) (3 + k) 0) k 0)
def ex_cnt (k : Nat) (up rs : Bool) (pr : Int32) (D : ds_T) : ds_T :=
  (fun b : Nat → Int32 =>
    (D.1, D.2.1, D.2.2.1, D.2.2.2.1, D.2.2.2.2.1, upd (ds_cL D) k (if up then 1 else 0), D.2.2.2.2.2.2.1, upd b (9 + k) (if b (6 + k) < pr then 0 else 1)))
    (if rs then upd (ds_bl D) (6 + k) 0 else if up && decide (ds_cL D k = 0) then upd (ds_bl D) (6 + k) (ds_bl D (6 + k) + 1) else ds_bl D)
def ex_edg (k : Nat) (up : Bool) (D : ds_T) : ds_T :=
  (D.1, D.2.1, D.2.2.1, D.2.2.2.1, D.2.2.2.2.1, D.2.2.2.2.2.1, upd (ds_eL D) k (if up then 1 else 0), upd (ds_bl D) (12 + k) (if up && decide (ds_eL D k = 0) then 1 else 0))
/-- a statement without statements in it, from the numbers of its parts -/
def ex_pr (E : ds_E) (t : Nat) (a b c : Int32) (D : ds_T) : ds_T :=
  if t < 30 then ds_sva D (upd (ds_va D) (t - 10) a)
  else if t < 34 then ds_sou D (upd (ds_ou D) (t - 30) a)
  else if t = 34 then ds_sro D (upd (ds_ro D) (a &&& 7).toNatClampNeg b)
  else if t < 63 then ex_tmr E (t - 60) (decide (a ≠ 0)) b D
  else if t < 66 then ex_cnt (t - 63) (decide (a ≠ 0)) (decide (b ≠ 0)) c D
  else ex_edg (t - 66) (decide (a ≠ 0)) D
/-- rounds of a loop: pre whether it goes on, sp whether it stops behind its s, po what is done behind its s -/
def ex_gl (pre sp : ds_T → Bool) (po : ds_T → ds_T) (body : Nat × ds_T → Nat × Nat × ds_T) : Nat → Nat × ds_T → Nat × Nat × ds_T
  | 0, s => (0, s)
  | k + 1, s =>
    if s.1 = 300 then (2, s)
    else if pre s.2 = true then
      (if (body (s.1 + 1, s.2)).1 = 0 then
        (if sp (body (s.1 + 1, s.2)).2.2 = true then (0, ((body (s.1 + 1, s.2)).2.1, po (body (s.1 + 1, s.2)).2.2))
         else ex_gl pre sp po body k ((body (s.1 + 1, s.2)).2.1, po (body (s.1 + 1, s.2)).2.2))
       else if (body (s.1 + 1, s.2)).1 = 1 then (0, (body (s.1 + 1, s.2)).2) else (2, (body (s.1 + 1, s.2)).2))
    else (0, (s.1 + 1, s.2))
/-- what a statement does: 0 it ends, 1 it leaves its loop, 2 the program is over; the rounds begun; the values -/
def ex_x (E : ds_E) (tk : Nat → Nat) : Nat → Nat → Nat × ds_T → Nat × Nat × ds_T
  | 0, _, s => (0, s)
  | f + 1, i, s =>
    if tk i = 1 then (if (ex_x E tk f (i + 1) s).1 = 0 then ex_x E tk f (tk_en tk (i + 1)) (ex_x E tk f (i + 1) s).2 else ex_x E tk f (i + 1) s)
    else if tk i = 2 then (0, s)
    else if tk i = 39 then (1, s)
    else if tk i = 35 then (if ev_v E s.2 tk (i + 1) = 0 then ex_x E tk f (tk_en tk (tk_en tk (i + 1))) s else ex_x E tk f (tk_en tk (i + 1)) s)
    else if tk i = 56 then (if ev_v E s.2 tk (i + 1) = 0 then ex_x E tk f (tk_en tk (i + 1)) s else if ev_v E s.2 tk (i + 1) = 1 then ex_x E tk f (tk_en tk (tk_en tk (i + 1))) s else ex_x E tk f (tk_en tk (tk_en tk (tk_en tk (i + 1)))) s)
    else if tk i = 36 then ex_gl (fun D => decide (ev_v E D tk (i + 1) ≠ 0)) (fun _ => false) (fun D => D) (ex_x E tk f (tk_en tk (i + 1))) 20 s
    else if tk i = 37 then ex_gl (fun _ => true) (fun D => decide (ev_v E D tk (tk_en tk (i + 1)) ≠ 0)) (fun D => D) (ex_x E tk f (i + 1)) 20 s
    else if 40 ≤ tk i ∧ tk i ≤ 55 then
      ex_gl (fun D => decide (¬ ev_v E s.2 tk (tk_en tk (i + 1)) < ds_va D (tk i - 40))) (fun _ => false) (fun D => ds_sva D (upd (ds_va D) (tk i - 40) (ds_va D (tk i - 40) + 1)))
        (ex_x E tk f (tk_en tk (tk_en tk (i + 1)))) 20 (s.1, ds_sva s.2 (upd (ds_va s.2) (tk i - 40) (ev_v E s.2 tk (i + 1))))
    else (0, (s.1, ex_pr E (tk i) (ev_v E s.2 tk (i + 1)) (ev_v E s.2 tk (tk_en tk (i + 1))) (ev_v E s.2 tk (tk_en tk (tk_en tk (i + 1)))) s.2))
/-- rounds only grow, and stay within 300 -/
theorem ex_gl_r {pre sp : ds_T → Bool} {po : ds_T → ds_T} {body : Nat × ds_T → Nat × Nat × ds_T} (hb : ∀ s, s.1 ≤ 300 → s.1 ≤ (body s).2.1 ∧ (body s).2.1 ≤ 300 ∧ (body s).1 ≤ 2) : ∀ (k : Nat) (s : Nat × ds_T), s.1 ≤ 300 → s.1 ≤ (ex_gl pre sp po body k s).2.1 ∧ (ex_gl pre sp po body k s).2.1 ≤ 300 ∧ ((ex_gl pre sp po body k s).1 = 0 ∨ (ex_gl pre sp po body k s).1 = 2) := by
  intro k
  induction k with
  | zero => intro s h; exact ⟨Nat.le_refl _, h, Or.inl rfl⟩
  | succ k ih =>
    intro s h
    rw [ex_gl]
    by_cases h3 : s.1 = 300
    · rw [if_pos h3]
      exact ⟨Nat.le_refl _, h, Or.inr rfl⟩
    · rw [if_neg h3]
      by_cases hp : pre s.2 = true
      · rw [if_pos hp]
        have h1 := hb (s.1 + 1, s.2) (by show s.1 + 1 ≤ 300; omega)
        have h1a : s.1 + 1 ≤ (body (s.1 + 1, s.2)).2.1 := h1.1
        by_cases h0 : (body (s.1 + 1, s.2)).1 = 0
        · rw [if_pos h0]
          by_cases hs : sp (body (s.1 + 1, s.2)).2.2 = true
          · rw [if_pos hs]
            exact ⟨by show s.1 ≤ (body (s.1 + 1, s.2)).2.1; omega, h1.2.1, Or.inl rfl⟩
          · rw [if_neg hs]
            have h2 := ih ((body (s.1 + 1, s.2)).2.1, po (body (s.1 + 1, s.2)).2.2) h1.2.1
            have h2a : (body (s.1 + 1, s.2)).2.1 ≤ _ := h2.1
            exact ⟨by omega, h2.2⟩
        · rw [if_neg h0]
          by_cases h1' : (body (s.1 + 1, s.2)).1 = 1
          · rw [if_pos h1']
            exact ⟨by show s.1 ≤ (body (s.1 + 1, s.2)).2.1; omega, h1.2.1, Or.inl rfl⟩
          · rw [if_neg h1']
            exact ⟨by show s.1 ≤ (body (s.1 + 1, s.2)).2.1; omega, h1.2.1, Or.inr rfl⟩
      · rw [if_neg hp]
        exact ⟨by show s.1 ≤ s.1 + 1; omega, by show s.1 + 1 ≤ 300; omega, Or.inl rfl⟩
theorem ex_x_r {E : ds_E} {tk : Nat → Nat} : ∀ (f i : Nat) (s : Nat × ds_T), s.1 ≤ 300 → s.1 ≤ (ex_x E tk f i s).2.1 ∧ (ex_x E tk f i s).2.1 ≤ 300 ∧ (ex_x E tk f i s).1 ≤ 2 := by
  intro f
  induction f with
  | zero => intro i s h; exact ⟨Nat.le_refl _, h, by show 0 ≤ 2; omega⟩
  | succ f ih =>
    intro i s h
    have hg : ∀ (pre sp : ds_T → Bool) (po : ds_T → ds_T) (j : Nat) (s : Nat × ds_T), s.1 ≤ 300 → s.1 ≤ (ex_gl pre sp po (ex_x E tk f j) 20 s).2.1 ∧ (ex_gl pre sp po (ex_x E tk f j) 20 s).2.1 ≤ 300 ∧ (ex_gl pre sp po (ex_x E tk f j) 20 s).1 ≤ 2 := by
      intro pre sp po j s h
      obtain ⟨a, b, c⟩ := ex_gl_r (pre := pre) (sp := sp) (po := po) (ih j) 20 s h
      exact ⟨a, b, by omega⟩
    rw [ex_x]
    by_cases c1 : tk i = 1
    · rw [if_pos c1]
      have h1 := ih (i + 1) s h
      by_cases h0 : (ex_x E tk f (i + 1) s).1 = 0
      · rw [if_pos h0]
        have h2 := ih (tk_en tk (i + 1)) (ex_x E tk f (i + 1) s).2 h1.2.1
        exact ⟨Nat.le_trans h1.1 h2.1, h2.2⟩
      · rw [if_neg h0]
        exact h1
    rw [if_neg c1]
    by_cases c2 : tk i = 2
    · rw [if_pos c2]; exact ⟨Nat.le_refl _, h, by show 0 ≤ 2; omega⟩
    rw [if_neg c2]
    by_cases c3 : tk i = 39
    · rw [if_pos c3]; exact ⟨Nat.le_refl _, h, by show 1 ≤ 2; decide⟩
    rw [if_neg c3]
    by_cases c4 : tk i = 35
    · rw [if_pos c4]
      split
      · exact ih _ _ h
      · exact ih _ _ h
    rw [if_neg c4]
    by_cases c5 : tk i = 56
    · rw [if_pos c5]
      split
      · exact ih _ _ h
      · split
        · exact ih _ _ h
        · exact ih _ _ h
    rw [if_neg c5]
    by_cases c6 : tk i = 36
    · rw [if_pos c6]; exact hg _ _ _ _ _ h
    rw [if_neg c6]
    by_cases c7 : tk i = 37
    · rw [if_pos c7]; exact hg _ _ _ _ _ h
    rw [if_neg c7]
    by_cases c8 : 40 ≤ tk i ∧ tk i ≤ 55
    · rw [if_pos c8]; exact hg _ _ _ _ (s.1, ds_sva s.2 (upd (ds_va s.2) (tk i - 40) (ev_v E s.2 tk (i + 1)))) h
    rw [if_neg c8]
    exact ⟨Nat.le_refl _, h, by show 0 ≤ 2; omega⟩
section
variable {E : ds_E} {tk : Nat → Nat} {f i : Nat} {s : Nat × ds_T}
theorem xx_1 (h : tk i = 1) : ex_x E tk (f + 1) i s = if (ex_x E tk f (i + 1) s).1 = 0 then ex_x E tk f (tk_en tk (i + 1)) (ex_x E tk f (i + 1) s).2 else ex_x E tk f (i + 1) s := by
  rw [ex_x, if_pos h]
theorem xx_2 (h : tk i = 2) : ex_x E tk (f + 1) i s = (0, s) := by
  rw [ex_x, if_neg (by omega), if_pos h]
theorem xx_39 (h : tk i = 39) : ex_x E tk (f + 1) i s = (1, s) := by
  rw [ex_x, if_neg (by omega), if_neg (by omega), if_pos h]
theorem xx_35 (h : tk i = 35) : ex_x E tk (f + 1) i s = if ev_v E s.2 tk (i + 1) = 0 then ex_x E tk f (tk_en tk (tk_en tk (i + 1))) s else ex_x E tk f (tk_en tk (i + 1)) s := by
  rw [ex_x, if_neg (by omega), if_neg (by omega), if_neg (by omega), if_pos h]
theorem xx_56 (h : tk i = 56) : ex_x E tk (f + 1) i s = if ev_v E s.2 tk (i + 1) = 0 then ex_x E tk f (tk_en tk (i + 1)) s else if ev_v E s.2 tk (i + 1) = 1 then ex_x E tk f (tk_en tk (tk_en tk (i + 1))) s else ex_x E tk f (tk_en tk (tk_en tk (tk_en tk (i + 1)))) s := by
  rw [ex_x, if_neg (by omega), if_neg (by omega), if_neg (by omega), if_neg (by omega), if_pos h]
theorem xx_36 (h : tk i = 36) : ex_x E tk (f + 1) i s = ex_gl (fun D => decide (ev_v E D tk (i + 1) ≠ 0)) (fun _ => false) (fun D => D) (ex_x E tk f (tk_en tk (i + 1))) 20 s := by
  rw [ex_x, if_neg (by omega), if_neg (by omega), if_neg (by omega), if_neg (by omega), if_neg (by omega), if_pos h]
theorem xx_37 (h : tk i = 37) : ex_x E tk (f + 1) i s = ex_gl (fun _ => true) (fun D => decide (ev_v E D tk (tk_en tk (i + 1)) ≠ 0)) (fun D => D) (ex_x E tk f (i + 1)) 20 s := by
  rw [ex_x, if_neg (by omega), if_neg (by omega), if_neg (by omega), if_neg (by omega), if_neg (by omega), if_neg (by omega), if_pos h]
theorem xx_40 (h : 40 ≤ tk i ∧ tk i ≤ 55) : ex_x E tk (f + 1) i s = ex_gl (fun D => decide (¬ ev_v E s.2 tk (tk_en tk (i + 1)) < ds_va D (tk i - 40))) (fun _ => false) (fun D => ds_sva D (upd (ds_va D) (tk i - 40) (ds_va D (tk i - 40) + 1)))
        (ex_x E tk f (tk_en tk (tk_en tk (i + 1)))) 20 (s.1, ds_sva s.2 (upd (ds_va s.2) (tk i - 40) (ev_v E s.2 tk (i + 1)))) := by
  rw [ex_x, if_neg (by omega), if_neg (by omega), if_neg (by omega), if_neg (by omega), if_neg (by omega), if_neg (by omega), if_neg (by omega), if_pos h]
def ex_prim (t : Nat) : Prop := (10 ≤ t ∧ t ≤ 25) ∨ (30 ≤ t ∧ t ≤ 34) ∨ (60 ≤ t ∧ t ≤ 68)
theorem xx_pr (h : ex_prim (tk i)) : ex_x E tk (f + 1) i s = (0, (s.1, ex_pr E (tk i) (ev_v E s.2 tk (i + 1)) (ev_v E s.2 tk (tk_en tk (i + 1))) (ev_v E s.2 tk (tk_en tk (tk_en tk (i + 1)))) s.2)) := by
  unfold ex_prim at h
  rw [ex_x, if_neg (by omega), if_neg (by omega), if_neg (by omega), if_neg (by omega), if_neg (by omega), if_neg (by omega), if_neg (by omega), if_neg (by omega)]
/-- the kinds of statements -/
theorem tk_st_kinds {t : Nat} (h : tk_st t = true) : t = 1 ∨ t = 2 ∨ t = 39 ∨ t = 35 ∨ t = 56 ∨ t = 36 ∨ t = 37 ∨ (40 ≤ t ∧ t ≤ 55) ∨ ex_prim t := by
  unfold tk_st at h
  have h := of_decide_eq_true h
  unfold ex_prim
  omega
end
end
section
/-! the machine: stack, rounds begun, over, values, rounds and last number of each loop -/
abbrev vm_M : Type := List Int32 × Nat × Nat × ds_T × (Nat → Int32) × (Nat → Int32)
/-- whether a round may begin -/
def vm_may (l : Nat) (m : vm_M) : Bool × vm_M :=
  if m.2.2.2.2.1 l = 20 then (false, m)
  else if m.2.1 = 300 then (false, (m.1, m.2.1, 1, m.2.2.2))
  else (true, (m.1, m.2.1 + 1, m.2.2.1, m.2.2.2.1, upd m.2.2.2.2.1 l (m.2.2.2.2.1 l + 1), m.2.2.2.2.2))
/-- instructions on values -/
def vm_dat (E : ds_E) (t : Nat) (m : vm_M) : Option (vm_M) :=
  if (10 ≤ t ∧ t ≤ 25) ∨ (30 ≤ t ∧ t ≤ 33) ∨ (66 ≤ t ∧ t ≤ 68) then
    (if m.1.length < 1 then none else some (m.1.tail, m.2.1, m.2.2.1, ex_pr E t (m.1.headD 0) 0 0 m.2.2.2.1, m.2.2.2.2))
  else if t = 34 ∨ (60 ≤ t ∧ t ≤ 62) then
    (if m.1.length < 2 then none else some (m.1.tail.tail, m.2.1, m.2.2.1, ex_pr E t (m.1.tail.headD 0) (m.1.headD 0) 0 m.2.2.2.1, m.2.2.2.2))
  else if 63 ≤ t ∧ t ≤ 65 then
    (if m.1.length < 3 then none else some (m.1.tail.tail.tail, m.2.1, m.2.2.1, ex_pr E t (m.1.tail.tail.headD 0) (m.1.tail.headD 0) (m.1.headD 0) m.2.2.2.1, m.2.2.2.2))
  else if (100 ≤ t ∧ t ≤ 115) ∨ (120 ≤ t ∧ t ≤ 127) ∨ (143 ≤ t ∧ t ≤ 157) then
    (if m.1.length < 80 then some (ev_leaf E m.2.2.2.1 t :: m.1, m.2) else none)
  else if t = 128 then
    (if m.1.length < 1 then none else some (ds_ro m.2.2.2.1 (m.1.headD 0 &&& 7).toNatClampNeg :: m.1.tail, m.2))
  else if t = 139 then
    (if m.1.length < 1 then none else some (ev_one (m.1.headD 0) :: m.1.tail, m.2))
  else if t = 142 then
    (if m.1.length < 3 then none else some ((if m.1.tail.tail.headD 0 = 0 then m.1.headD 0 else m.1.tail.headD 0) :: m.1.tail.tail.tail, m.2))
  else if 130 ≤ t ∧ t ≤ 141 then
    (if m.1.length < 2 then none else some (ev_two t (m.1.tail.headD 0) (m.1.headD 0) :: m.1.tail.tail, m.2))
  else none
/-- an instruction: whether it jumps, and the machine behind it -/
def vm_ins (E : ds_E) (t : Nat) (a : Int32) (m : vm_M) : Option (Bool × vm_M) :=
  if t < 300 then (vm_dat E t m).map (fun y => (false, y))
  else if t = 300 then (if m.1.length < 80 then some (false, (a :: m.1, m.2)) else none)
  else if t = 301 then some (true, m)
  else if t = 302 ∨ t = 307 then (if m.1.length < 1 then none else some (decide (m.1.headD 0 = 0), (m.1.tail, m.2)))
  else if t = 303 then (if m.1.length < 1 then none else if m.1.headD 0 = a then some (false, (m.1.tail, m.2)) else some (true, m))
  else if t = 304 then (if m.1.length < 1 then none else some (false, (m.1.tail, m.2)))
  else if t = 311 then some (false, (m.1, m.2.1, 1, m.2.2.2))
  else if a = nI a.toNatClampNeg ∧ a.toNatClampNeg < 512 then
    (if t = 305 then (if a.toNatClampNeg < 32 then some (false, (m.1, m.2.1, m.2.2.1, m.2.2.2.1, upd m.2.2.2.2.1 a.toNatClampNeg 0, m.2.2.2.2.2)) else none)
     else if t = 306 then (if a.toNatClampNeg < 32 then some (! (vm_may a.toNatClampNeg m).1, (vm_may a.toNatClampNeg m).2) else none)
     else if t = 308 then (if a.toNatClampNeg < 32 ∧ 1 ≤ m.1.length then some (false, (m.1.tail, m.2.1, m.2.2.1, m.2.2.2.1, upd m.2.2.2.2.1 a.toNatClampNeg 0, upd m.2.2.2.2.2 a.toNatClampNeg (m.1.headD 0))) else none)
     else if t = 309 then some (! (vm_may (a.toNatClampNeg % 32) m).1 || decide (m.2.2.2.2.2 (a.toNatClampNeg % 32) < ds_va m.2.2.2.1 (a.toNatClampNeg / 32)), (vm_may (a.toNatClampNeg % 32) m).2)
     else if t = 310 then (if a.toNatClampNeg < 16 then some (false, (m.1, m.2.1, m.2.2.1, ds_sva m.2.2.2.1 (upd (ds_va m.2.2.2.1) a.toNatClampNeg (ds_va m.2.2.2.1 a.toNatClampNeg + 1)), m.2.2.2.2)) else none)
     else none)
  else none
def vm_jmp (t : Nat) : Prop := t = 301 ∨ t = 302 ∨ t = 303 ∨ t = 306 ∨ t = 309 ∨ t = 307
/-- one step -/
def vm_stp (E : ds_E) (op ag tg : Nat → Int32) (sz : Nat) (x : Nat × vm_M) : Option (Nat × vm_M) :=
  if x.2.2.2.1 = 0 ∧ x.1 < sz ∧ op x.1 = nI (op x.1).toNatClampNeg ∧ tg x.1 = nI (tg x.1).toNatClampNeg then
    (vm_ins E (op x.1).toNatClampNeg (ag x.1) x.2).map (fun y => (if y.1 = true then (tg x.1).toNatClampNeg else x.1 + 1, y.2))
  else none
def vm_R (c : Nat × vm_M → Option (Nat × vm_M)) : Nat → Nat × vm_M → Nat × vm_M → Prop
  | 0, x, y => x = y
  | n + 1, x, y => ∃ z, c x = some z ∧ vm_R c n z y
def vm_B (c : Nat × vm_M → Option (Nat × vm_M)) (b : Nat) (x y : Nat × vm_M) : Prop := ∃ n, n ≤ b ∧ vm_R c n x y
section
variable {c : Nat × vm_M → Option (Nat × vm_M)}
theorem vm_R_tr : ∀ (a b : Nat) (x y z : Nat × vm_M), vm_R c a x y → vm_R c b y z → vm_R c (a + b) x z := by
  intro a
  induction a with
  | zero =>
    intro b x y z h1 h2
    have h1 : x = y := h1
    rw [Nat.zero_add, h1]
    exact h2
  | succ a ih =>
    intro b x y z h1 h2
    obtain ⟨w, e, h1⟩ := h1
    rw [show a + 1 + b = a + b + 1 by omega]
    exact ⟨w, e, ih b w y z h1 h2⟩
theorem vm_B_rf (b : Nat) (x : Nat × vm_M) : vm_B c b x x := ⟨0, Nat.zero_le _, rfl⟩
theorem vm_B_tr {a b : Nat} {x y z : Nat × vm_M} (h1 : vm_B c a x y) (h2 : vm_B c b y z) : vm_B c (a + b) x z := by
  obtain ⟨n, hn, h1⟩ := h1
  obtain ⟨k, hk, h2⟩ := h2
  exact ⟨n + k, by omega, vm_R_tr n k x y z h1 h2⟩
theorem vm_B_mo {a b : Nat} {x y : Nat × vm_M} (h : vm_B c a x y) (hab : a ≤ b) : vm_B c b x y := by
  obtain ⟨n, hn, h⟩ := h
  exact ⟨n, by omega, h⟩
theorem vm_B_1 {x y : Nat × vm_M} (h : c x = some y) : vm_B c 1 x y := ⟨1, Nat.le_refl _, y, h, rfl⟩
end
theorem vm_one {E : ds_E} {op ag tg : Nat → Int32} {sz pc t q : Nat} {m m' : vm_M} {b : Bool} (hov : m.2.2.1 = 0) (hpc : pc < sz) (ho : op pc = nI t) (ht : t < 2 ^ 31) (hg : tg pc = nI q) (hq : q < 2 ^ 31) (hi : vm_ins E t (ag pc) m = some (b, m')) : vm_stp E op ag tg sz (pc, m) = some (if b = true then q else pc + 1, m') := by
  have h1 : (op pc).toNatClampNeg = t := by rw [ho, nI_clamp ht]
  have h2 : (tg pc).toNatClampNeg = q := by rw [hg, nI_clamp hq]
  unfold vm_stp
  show (if m.2.2.1 = 0 ∧ pc < sz ∧ op pc = nI (op pc).toNatClampNeg ∧ tg pc = nI (tg pc).toNatClampNeg then (vm_ins E (op pc).toNatClampNeg (ag pc) m).map (fun y => (if y.1 = true then (tg pc).toNatClampNeg else pc + 1, y.2)) else none) = _
  rw [h1, h2, if_pos ⟨hov, hpc, ho, hg⟩, hi]
  rfl
/-! jumps that are led on -/
/-- from a to b by n jumps -/
def vm_J (op tg : Nat → Int32) (sz : Nat) : Nat → Nat → Nat → Prop
  | 0, a, b => a = b
  | n + 1, a, b => a < sz ∧ op a = 301 ∧ tg a = nI (tg a).toNatClampNeg ∧ vm_J op tg sz n (tg a).toNatClampNeg b
def vm_Js (op tg : Nat → Int32) (sz : Nat) (a b : Nat) : Prop := ∃ n, vm_J op tg sz n a b
theorem vm_J_tr {op tg : Nat → Int32} {sz : Nat} : ∀ (n k a b c : Nat), vm_J op tg sz n a b → vm_J op tg sz k b c → vm_J op tg sz (n + k) a c := by
  intro n
  induction n with
  | zero =>
    intro k a b c h1 h2
    have h1 : a = b := h1
    rw [Nat.zero_add, h1]
    exact h2
  | succ n ih =>
    intro k a b c h1 h2
    obtain ⟨x, y, w, z⟩ := h1
    rw [show n + 1 + k = n + k + 1 by omega]
    exact ⟨x, y, w, ih k _ b c z h2⟩
theorem vm_Js_tr {op tg : Nat → Int32} {sz a b c : Nat} (h1 : vm_Js op tg sz a b) (h2 : vm_Js op tg sz b c) : vm_Js op tg sz a c := by
  obtain ⟨n, h1⟩ := h1
  obtain ⟨k, h2⟩ := h2
  exact ⟨n + k, vm_J_tr n k a b c h1 h2⟩
theorem vm_Js_rf {op tg : Nat → Int32} {sz a : Nat} : vm_Js op tg sz a a := ⟨0, rfl⟩
theorem vm_Js_1 {op tg : Nat → Int32} {sz a b : Nat} (h1 : a < sz) (h2 : op a = 301) (h3 : tg a = nI b) (hb : b < 2 ^ 31) : vm_Js op tg sz a b := by
  refine ⟨1, h1, h2, ?_, ?_⟩
  · rw [h3, nI_clamp hb]
  · show (tg a).toNatClampNeg = b
    rw [h3, nI_clamp hb]
theorem vm_ff {x y : vm_M} (h : some (false, x) = some (true, y)) : False := by
  injection h with h
  injection h with h _
  exact absurd h (by decide)
theorem vm_nn {y : Bool × vm_M} (h : (none : Option (Bool × vm_M)) = some y) : False := by cases h
/-- only instructions that jump do -/
theorem vm_ins_jmp {E : ds_E} {t : Nat} {a : Int32} {m m' : vm_M} (h : vm_ins E t a m = some (true, m')) : vm_jmp t := by
  refine Classical.byContradiction fun hn => ?_
  unfold vm_jmp at hn
  unfold vm_ins at h
  by_cases h0 : t < 300
  · rw [if_pos h0] at h
    cases hd : vm_dat E t m with
    | none => rw [hd] at h; exact vm_nn h
    | some y =>
      rw [hd] at h
      exact vm_ff h
  rw [if_neg h0] at h
  by_cases h1 : t = 300
  · rw [if_pos h1] at h
    by_cases c : m.1.length < 80
    · rw [if_pos c] at h; exact vm_ff h
    · rw [if_neg c] at h; exact vm_nn h
  rw [if_neg h1, if_neg (by omega), if_neg (by omega), if_neg (by omega)] at h
  by_cases h2 : t = 304
  · rw [if_pos h2] at h
    by_cases c : m.1.length < 1
    · rw [if_pos c] at h; exact vm_nn h
    · rw [if_neg c] at h; exact vm_ff h
  rw [if_neg h2] at h
  by_cases h3 : t = 311
  · rw [if_pos h3] at h; exact vm_ff h
  rw [if_neg h3] at h
  by_cases c : a = nI a.toNatClampNeg ∧ a.toNatClampNeg < 512
  · rw [if_pos c] at h
    by_cases h4 : t = 305
    · rw [if_pos h4] at h
      by_cases c : a.toNatClampNeg < 32
      · rw [if_pos c] at h; exact vm_ff h
      · rw [if_neg c] at h; exact vm_nn h
    rw [if_neg h4, if_neg (by omega)] at h
    by_cases h5 : t = 308
    · rw [if_pos h5] at h
      by_cases c : a.toNatClampNeg < 32 ∧ 1 ≤ m.1.length
      · rw [if_pos c] at h; exact vm_ff h
      · rw [if_neg c] at h; exact vm_nn h
    rw [if_neg h5, if_neg (by omega)] at h
    by_cases h6 : t = 310
    · rw [if_pos h6] at h
      by_cases c : a.toNatClampNeg < 16
      · rw [if_pos c] at h; exact vm_ff h
      · rw [if_neg c] at h; exact vm_nn h
    rw [if_neg h6] at h
    exact vm_nn h
  · rw [if_neg c] at h
    exact vm_nn h
theorem vm_lead {E : ds_E} {op ag tg tg' : Nat → Int32} {sz : Nat} (hJ : ∀ k, k < sz → ∃ a b, a < 2 ^ 31 ∧ b < 2 ^ 31 ∧ tg k = nI a ∧ tg' k = nI b ∧ (∀ t, t < 2 ^ 31 → op k = nI t → vm_jmp t → vm_Js op tg sz a b)) :
    ∀ (n : Nat) (a b : Nat) (m mf : vm_M) (y : Nat), vm_R (vm_stp E op ag tg sz) n (a, m) (y, mf) → mf.2.2.1 ≠ 0 → vm_Js op tg sz a b → ∃ n' y', n' ≤ n ∧ vm_R (vm_stp E op ag tg' sz) n' (b, m) (y', mf) := by
  intro n
  induction n with
  | zero =>
    intro a b m mf y h _ _
    have h : (a, m) = (y, mf) := h
    injection h with h1 h2
    exact ⟨0, b, Nat.le_refl _, by rw [h2]; rfl⟩
  | succ n ih =>
    intro a b m mf y h hf hj
    obtain ⟨k, hk⟩ := hj
    have h0 := h
    obtain ⟨z, e, h⟩ := h
    have hg : m.2.2.1 = 0 ∧ a < sz ∧ op a = nI (op a).toNatClampNeg ∧ tg a = nI (tg a).toNatClampNeg := by
      unfold vm_stp at e
      by_cases hg : (a, m).2.2.2.1 = 0 ∧ (a, m).1 < sz ∧ op (a, m).1 = nI (op (a, m).1).toNatClampNeg ∧ tg (a, m).1 = nI (tg (a, m).1).toNatClampNeg
      · exact hg
      · rw [if_neg hg] at e
        exact absurd e (by intro z; cases z)
    obtain ⟨g1, g2, g3, g4⟩ := hg
    have eq1 : (vm_ins E (op a).toNatClampNeg (ag a) m).map (fun y => (if y.1 = true then (tg a).toNatClampNeg else a + 1, y.2)) = some z := by
      unfold vm_stp at e
      rw [if_pos ⟨g1, g2, g3, g4⟩] at e
      exact e
    cases k with
    | succ k =>
      obtain ⟨_, x2, x3, x4⟩ := hk
      have e3 : (op a).toNatClampNeg = 301 := by rw [x2]; decide
      rw [e3] at eq1
      have e5 : z = ((tg a).toNatClampNeg, m) := by
        have eq1 : some ((tg a).toNatClampNeg, m) = some z := eq1
        injection eq1 with eq1
        exact eq1.symm
      rw [e5] at h
      obtain ⟨n', y', h1, h2⟩ := ih _ b m mf y h hf ⟨k, x4⟩
      exact ⟨n', y', by omega, h2⟩
    | zero =>
      have hk : a = b := hk
      subst hk
      obtain ⟨p, q, hp, hq, ep, eq, hjj⟩ := hJ a g2
      cases hi : vm_ins E (op a).toNatClampNeg (ag a) m with
      | none => rw [hi] at eq1; exact absurd eq1 (by intro z; cases z)
      | some w =>
        obtain ⟨bb, m1⟩ := w
        rw [hi] at eq1
        have eq1 : some (if bb = true then (tg a).toNatClampNeg else a + 1, m1) = some z := eq1
        injection eq1 with eq1
        have hop : (op a).toNatClampNeg < 2 ^ 31 := by
          have := (op a).toInt_lt
          unfold Int32.toNatClampNeg
          omega
        have hs : vm_stp E op ag tg' sz (a, m) = some (if bb = true then q else a + 1, m1) := vm_one g1 g2 g3 hop eq hq hi
        rw [← eq1] at h
        have hjs : vm_Js op tg sz (if bb = true then (tg a).toNatClampNeg else a + 1) (if bb = true then q else a + 1) := by
          cases bb with
          | false => exact vm_Js_rf
          | true =>
            rw [if_pos rfl, if_pos rfl, ep, nI_clamp hp]
            exact hjj _ hop g3 (vm_ins_jmp hi)
        obtain ⟨n', y', h1, h2⟩ := ih _ _ m1 mf y h hf hjs
        exact ⟨n' + 1, y', by omega, _, hs, h2⟩
end
section
/-! single steps -/
section
variable {E : ds_E} {op ag tg : Nat → Int32} {sz pc q l v r : Nat} {s : List Int32} {x : Int32} {D : ds_T} {lr ll : Nat → Int32}
theorem st_dat {t g : Nat} {m m' : vm_M} (hov : m.2.2.1 = 0) (hpc : pc < sz) (ho : op pc = nI t) (ht : t < 300) (hg : tg pc = nI g) (hg4 : g < 400) (h : vm_dat E t m = some m') : vm_B (vm_stp E op ag tg sz) 1 (pc, m) (pc + 1, m') := by
  refine vm_B_1 (vm_one (b := false) hov hpc ho (by omega) hg (by omega) ?_)
  unfold vm_ins
  rw [if_pos ht, h]
  rfl
theorem st_300 {g : Nat} (hpc : pc < sz) (ho : op pc = 300) (hg : tg pc = nI g) (hg4 : g < 400) (hs : s.length < 80) : vm_B (vm_stp E op ag tg sz) 1 (pc, (s, r, 0, D, lr, ll)) (pc + 1, (ag pc :: s, r, 0, D, lr, ll)) := by
  refine vm_B_1 (vm_one (t := 300) (b := false) rfl hpc ho (by decide) hg (by omega) ?_)
  show (if s.length < 80 then some (false, (ag pc :: s, r, 0, D, lr, ll)) else none) = _
  rw [if_pos hs]
theorem st_301 (hpc : pc < sz) (ho : op pc = 301) (hg : tg pc = nI q) (hq : q < 400) : vm_B (vm_stp E op ag tg sz) 1 (pc, (s, r, 0, D, lr, ll)) (q, (s, r, 0, D, lr, ll)) :=
  vm_B_1 (vm_one (t := 301) (b := true) rfl hpc ho (by decide) hg (by omega) rfl)
theorem st_302 (hpc : pc < sz) (ho : op pc = 302) (hg : tg pc = nI q) (hq : q < 400) : vm_B (vm_stp E op ag tg sz) 1 (pc, (x :: s, r, 0, D, lr, ll)) (if x = 0 then q else pc + 1, (s, r, 0, D, lr, ll)) := by
  have h := vm_one (E := E) (ag := ag) (m := (x :: s, r, 0, D, lr, ll)) (m' := (s, r, 0, D, lr, ll)) (t := 302) (b := decide (x = 0)) rfl hpc ho (by decide) hg (by omega) rfl
  have h := vm_B_1 h
  by_cases hx : x = 0
  · rw [decide_eq_true hx, if_pos rfl] at h
    rw [if_pos hx]
    exact h
  · rw [decide_eq_false hx, if_neg (by decide)] at h
    rw [if_neg hx]
    exact h
theorem st_307 (hpc : pc < sz) (ho : op pc = 307) (hg : tg pc = nI q) (hq : q < 400) : vm_B (vm_stp E op ag tg sz) 1 (pc, (x :: s, r, 0, D, lr, ll)) (if x = 0 then q else pc + 1, (s, r, 0, D, lr, ll)) := by
  have h := vm_one (E := E) (ag := ag) (m := (x :: s, r, 0, D, lr, ll)) (m' := (s, r, 0, D, lr, ll)) (t := 307) (b := decide (x = 0)) rfl hpc ho (by decide) hg (by omega) rfl
  have h := vm_B_1 h
  by_cases hx : x = 0
  · rw [decide_eq_true hx, if_pos rfl] at h
    rw [if_pos hx]
    exact h
  · rw [decide_eq_false hx, if_neg (by decide)] at h
    rw [if_neg hx]
    exact h
theorem st_303t (hpc : pc < sz) (ho : op pc = 303) (hg : tg pc = nI q) (hq : q < 400) (hx : x = ag pc) : vm_B (vm_stp E op ag tg sz) 1 (pc, (x :: s, r, 0, D, lr, ll)) (pc + 1, (s, r, 0, D, lr, ll)) := by
  refine vm_B_1 (vm_one (t := 303) (b := false) rfl hpc ho (by decide) hg (by omega) ?_)
  show (if x = ag pc then some (false, (s, r, 0, D, lr, ll)) else some (true, (x :: s, r, 0, D, lr, ll))) = _
  rw [if_pos hx]
theorem st_303f (hpc : pc < sz) (ho : op pc = 303) (hg : tg pc = nI q) (hq : q < 400) (hx : x ≠ ag pc) : vm_B (vm_stp E op ag tg sz) 1 (pc, (x :: s, r, 0, D, lr, ll)) (q, (x :: s, r, 0, D, lr, ll)) := by
  refine vm_B_1 (vm_one (t := 303) (b := true) rfl hpc ho (by decide) hg (by omega) ?_)
  show (if x = ag pc then some (false, (s, r, 0, D, lr, ll)) else some (true, (x :: s, r, 0, D, lr, ll))) = _
  rw [if_neg hx]
theorem st_304 (hpc : pc < sz) (ho : op pc = 304) (hg : tg pc = nI q) (hq : q < 400) : vm_B (vm_stp E op ag tg sz) 1 (pc, (x :: s, r, 0, D, lr, ll)) (pc + 1, (s, r, 0, D, lr, ll)) :=
  vm_B_1 (vm_one (t := 304) (b := false) rfl hpc ho (by decide) hg (by omega) rfl)
theorem st_311 (hpc : pc < sz) (ho : op pc = 311) (hg : tg pc = nI q) (hq : q < 400) : vm_B (vm_stp E op ag tg sz) 1 (pc, (s, r, 0, D, lr, ll)) (pc + 1, (s, r, 1, D, lr, ll)) :=
  vm_B_1 (vm_one (t := 311) (b := false) rfl hpc ho (by decide) hg (by omega) rfl)
theorem st_305 (hpc : pc < sz) (ho : op pc = 305) (ha : ag pc = nI l) (hl : l < 32) (hg : tg pc = nI q) (hq : q < 400) : vm_B (vm_stp E op ag tg sz) 1 (pc, (s, r, 0, D, lr, ll)) (pc + 1, (s, r, 0, D, upd lr l 0, ll)) := by
  refine vm_B_1 (vm_one (t := 305) (b := false) rfl hpc ho (by decide) hg (by omega) ?_)
  rw [ha]
  have hc : (nI l).toNatClampNeg = l := nI_clamp (by omega)
  show (if nI l = nI (nI l).toNatClampNeg ∧ (nI l).toNatClampNeg < 512 then (if (nI l).toNatClampNeg < 32 then some (false, (s, r, 0, D, upd lr (nI l).toNatClampNeg 0, ll)) else none) else none) = _
  rw [hc, if_pos ⟨rfl, by omega⟩, if_pos hl]
theorem st_308 (hpc : pc < sz) (ho : op pc = 308) (ha : ag pc = nI l) (hl : l < 32) (hg : tg pc = nI q) (hq : q < 400) : vm_B (vm_stp E op ag tg sz) 1 (pc, (x :: s, r, 0, D, lr, ll)) (pc + 1, (s, r, 0, D, upd lr l 0, upd ll l x)) := by
  refine vm_B_1 (vm_one (t := 308) (b := false) rfl hpc ho (by decide) hg (by omega) ?_)
  rw [ha]
  have hc : (nI l).toNatClampNeg = l := nI_clamp (by omega)
  show (if nI l = nI (nI l).toNatClampNeg ∧ (nI l).toNatClampNeg < 512 then (if (nI l).toNatClampNeg < 32 ∧ 1 ≤ (x :: s).length then some (false, (s, r, 0, D, upd lr (nI l).toNatClampNeg 0, upd ll (nI l).toNatClampNeg x)) else none) else none) = _
  rw [hc, if_pos ⟨rfl, by omega⟩, if_pos ⟨hl, by rw [List.length_cons]; omega⟩]
theorem st_310 (hpc : pc < sz) (ho : op pc = 310) (ha : ag pc = nI v) (hv : v < 16) (hg : tg pc = nI q) (hq : q < 400) : vm_B (vm_stp E op ag tg sz) 1 (pc, (s, r, 0, D, lr, ll)) (pc + 1, (s, r, 0, ds_sva D (upd (ds_va D) v (ds_va D v + 1)), lr, ll)) := by
  refine vm_B_1 (vm_one (t := 310) (b := false) rfl hpc ho (by decide) hg (by omega) ?_)
  rw [ha]
  have hc : (nI v).toNatClampNeg = v := nI_clamp (by omega)
  show (if nI v = nI (nI v).toNatClampNeg ∧ (nI v).toNatClampNeg < 512 then (if (nI v).toNatClampNeg < 16 then some (false, (s, r, 0, ds_sva D (upd (ds_va D) (nI v).toNatClampNeg (ds_va D (nI v).toNatClampNeg + 1)), lr, ll)) else none) else none) = _
  rw [hc, if_pos ⟨rfl, by omega⟩, if_pos hv]
theorem vi_306 (hl : l < 32) (m : vm_M) : vm_ins E 306 (nI l) m = some (! (vm_may l m).1, (vm_may l m).2) := by
  have hc : (nI l).toNatClampNeg = l := nI_clamp (by omega)
  show (if nI l = nI (nI l).toNatClampNeg ∧ (nI l).toNatClampNeg < 512 then (if (nI l).toNatClampNeg < 32 then some (! (vm_may (nI l).toNatClampNeg m).1, (vm_may (nI l).toNatClampNeg m).2) else none) else none) = _
  rw [hc, if_pos ⟨rfl, by omega⟩, if_pos hl]
theorem vi_309 (hl : l < 32) (hv : v < 16) (m : vm_M) : vm_ins E 309 (nI (32 * v + l)) m = some (! (vm_may l m).1 || decide (m.2.2.2.2.2 l < ds_va m.2.2.2.1 v), (vm_may l m).2) := by
  have hc : (nI (32 * v + l)).toNatClampNeg = 32 * v + l := nI_clamp (by omega)
  have h1 : (32 * v + l) % 32 = l := by omega
  have h2 : (32 * v + l) / 32 = v := by omega
  show (if nI (32 * v + l) = nI (nI (32 * v + l)).toNatClampNeg ∧ (nI (32 * v + l)).toNatClampNeg < 512 then some (! (vm_may ((nI (32 * v + l)).toNatClampNeg % 32) m).1 || decide (m.2.2.2.2.2 ((nI (32 * v + l)).toNatClampNeg % 32) < ds_va m.2.2.2.1 ((nI (32 * v + l)).toNatClampNeg / 32)), (vm_may ((nI (32 * v + l)).toNatClampNeg % 32) m).2) else none) = _
  rw [hc, if_pos ⟨rfl, by omega⟩, h1, h2]
theorem vm_may_a (h : lr l = 20) : vm_may l (s, r, 0, D, lr, ll) = (false, (s, r, 0, D, lr, ll)) := if_pos h
theorem vm_may_b (h : lr l ≠ 20) : vm_may l (s, 300, 0, D, lr, ll) = (false, (s, 300, 1, D, lr, ll)) := by
  unfold vm_may
  rw [if_neg h]
  rfl
theorem vm_may_c (h : lr l ≠ 20) (hr : r < 300) : vm_may l (s, r, 0, D, lr, ll) = (true, (s, r + 1, 0, D, upd lr l (lr l + 1), ll)) := by
  unfold vm_may
  rw [if_neg h]
  show (if r = 300 then _ else _) = _
  rw [if_neg (by omega)]
theorem st_306a (hpc : pc < sz) (ho : op pc = 306) (ha : ag pc = nI l) (hl : l < 32) (hg : tg pc = nI q) (hq : q < 400) (h : lr l = 20) : vm_B (vm_stp E op ag tg sz) 1 (pc, (s, r, 0, D, lr, ll)) (q, (s, r, 0, D, lr, ll)) := by
  refine vm_B_1 (vm_one (t := 306) (b := true) rfl hpc ho (by decide) hg (by omega) ?_)
  rw [ha, vi_306 hl, vm_may_a h]
  rfl
theorem st_306b (hpc : pc < sz) (ho : op pc = 306) (ha : ag pc = nI l) (hl : l < 32) (hg : tg pc = nI q) (hq : q < 400) (h : lr l ≠ 20) : vm_B (vm_stp E op ag tg sz) 1 (pc, (s, 300, 0, D, lr, ll)) (q, (s, 300, 1, D, lr, ll)) := by
  refine vm_B_1 (vm_one (t := 306) (b := true) rfl hpc ho (by decide) hg (by omega) ?_)
  rw [ha, vi_306 hl, vm_may_b h]
  rfl
theorem st_306c (hpc : pc < sz) (ho : op pc = 306) (ha : ag pc = nI l) (hl : l < 32) (hg : tg pc = nI q) (hq : q < 400) (h : lr l ≠ 20) (hr : r < 300) : vm_B (vm_stp E op ag tg sz) 1 (pc, (s, r, 0, D, lr, ll)) (pc + 1, (s, r + 1, 0, D, upd lr l (lr l + 1), ll)) := by
  refine vm_B_1 (vm_one (t := 306) (b := false) rfl hpc ho (by decide) hg (by omega) ?_)
  rw [ha, vi_306 hl, vm_may_c h hr]
  rfl
theorem st_309a (hpc : pc < sz) (ho : op pc = 309) (ha : ag pc = nI (32 * v + l)) (hl : l < 32) (hv : v < 16) (hg : tg pc = nI q) (hq : q < 400) (h : lr l = 20) : vm_B (vm_stp E op ag tg sz) 1 (pc, (s, r, 0, D, lr, ll)) (q, (s, r, 0, D, lr, ll)) := by
  refine vm_B_1 (vm_one (t := 309) (b := true) rfl hpc ho (by decide) hg (by omega) ?_)
  rw [ha, vi_309 hl hv, vm_may_a h]
  rfl
theorem st_309b (hpc : pc < sz) (ho : op pc = 309) (ha : ag pc = nI (32 * v + l)) (hl : l < 32) (hv : v < 16) (hg : tg pc = nI q) (hq : q < 400) (h : lr l ≠ 20) : vm_B (vm_stp E op ag tg sz) 1 (pc, (s, 300, 0, D, lr, ll)) (q, (s, 300, 1, D, lr, ll)) := by
  refine vm_B_1 (vm_one (t := 309) (b := true) rfl hpc ho (by decide) hg (by omega) ?_)
  rw [ha, vi_309 hl hv, vm_may_b h]
  rfl
theorem st_309c (hpc : pc < sz) (ho : op pc = 309) (ha : ag pc = nI (32 * v + l)) (hl : l < 32) (hv : v < 16) (hg : tg pc = nI q) (hq : q < 400) (h : lr l ≠ 20) (hr : r < 300) : vm_B (vm_stp E op ag tg sz) 1 (pc, (s, r, 0, D, lr, ll)) (if ll l < ds_va D v then q else pc + 1, (s, r + 1, 0, D, upd lr l (lr l + 1), ll)) := by
  have e : vm_ins E 309 (ag pc) (s, r, 0, D, lr, ll) = some (decide (ll l < ds_va D v), (s, r + 1, 0, D, upd lr l (lr l + 1), ll)) := by
    rw [ha, vi_309 hl hv, vm_may_c h hr]
    rfl
  have h := vm_B_1 (vm_one (t := 309) rfl hpc ho (by decide) hg (by omega) e)
  by_cases hx : ll l < ds_va D v
  · rw [decide_eq_true hx, if_pos rfl] at h
    rw [if_pos hx]
    exact h
  · rw [decide_eq_false hx, if_neg (by decide)] at h
    rw [if_neg hx]
    exact h
end
/-! what code of an expression does -/
def sm_E (tk : Nat → Nat) (op ag tg : Nat → Int32) (i p q : Nat) : Prop :=
  p < q ∧ (op (q - 1) = 300 → q = p + 1 ∧ ∀ (E : ds_E) (D : ds_T), ev_v E D tk i = ag p) ∧
  ∀ (E : ds_E) (op1 ag1 tg1 : Nat → Int32) (sz1 : Nat), (∀ j, p ≤ j → j < q → op1 j = op j ∧ ag1 j = ag j ∧ tg1 j = tg j) → q < sz1 →
    ∀ (s : List Int32) (r : Nat) (D : ds_T) (lr ll : Nat → Int32), s.length + (tk_en tk i - i) ≤ 80 →
      vm_B (vm_stp E op1 ag1 tg1 sz1) (q - p) (p, (s, r, 0, D, lr, ll)) (q, (ev_v E D tk i :: s, r, 0, D, lr, ll))
/-- how a run of a statement's code ends -/
def sm_O (c : Nat × vm_M → Option (Nat × vm_M)) (W : Nat) (x : Nat × vm_M) (q lp xt r : Nat) (lr ll : Nat → Int32) (o : Nat × Nat × ds_T) : Prop :=
  ∃ (pc' ov' : Nat) (lr' ll' : Nat → Int32), vm_B c (W + 400 * (o.2.1 - r)) x (pc', ([], o.2.1, ov', o.2.2, lr', ll')) ∧ (∀ l, l < lp → lr' l = lr l ∧ ll' l = ll l) ∧ (o.1 = 0 → pc' = q ∧ ov' = 0) ∧ (o.1 = 1 → (lp = 0 → ov' = 1) ∧ (0 < lp → pc' = xt ∧ ov' = 0)) ∧ (o.1 = 2 → ov' = 1)
/-- what code of a statement does; X: jumps out of the loop around it, whose target isn't known yet -/
def sm_S (tk : Nat → Nat) (f : Nat) (op ag tg : Nat → Int32) (i p q lp : Nat) (X : Nat → Prop) : Prop :=
  p ≤ q ∧ ∀ (E : ds_E) (op1 ag1 tg1 : Nat → Int32) (sz1 xt : Nat), (∀ j, p ≤ j → j < q → op1 j = op j ∧ ag1 j = ag j ∧ (¬ X j → tg1 j = tg j) ∧ (X j → tg1 j = nI xt)) → q < sz1 → sz1 ≤ 400 → xt < 400 →
    ∀ (r : Nat) (D : ds_T) (lr ll : Nat → Int32), r ≤ 300 → sm_O (vm_stp E op1 ag1 tg1 sz1) (q - p) (p, ([], r, 0, D, lr, ll)) q lp xt r lr ll (ex_x E tk f i (r, D))
theorem sm_E_tr {tk : Nat → Nat} {op ag tg op' ag' tg' : Nat → Int32} {i p q : Nat} (h : sm_E tk op ag tg i p q) (ha : ∀ j, p ≤ j → j < q → op' j = op j ∧ ag' j = ag j ∧ tg' j = tg j) : sm_E tk op' ag' tg' i p q := by
  obtain ⟨h1, h2, h3⟩ := h
  refine ⟨h1, fun hz => ?_, fun E op1 ag1 tg1 sz1 hj hq => ?_⟩
  · rw [(ha (q - 1) (by omega) (by omega)).1] at hz
    obtain ⟨e, hz⟩ := h2 hz
    refine ⟨e, fun E D => ?_⟩
    rw [(ha p (by omega) (by omega)).2.1]
    exact hz E D
  · refine h3 E op1 ag1 tg1 sz1 (fun j a b => ?_) hq
    have x1 := hj j a b
    have x2 := ha j a b
    exact ⟨x1.1.trans x2.1, x1.2.1.trans x2.2.1, x1.2.2.trans x2.2.2⟩
theorem sm_S_tr {tk : Nat → Nat} {f : Nat} {op ag tg op' ag' tg' : Nat → Int32} {i p q lp : Nat} {X X' : Nat → Prop} (h : sm_S tk f op ag tg i p q lp X) (ha : ∀ j, p ≤ j → j < q → op' j = op j ∧ ag' j = ag j ∧ (¬ X j → tg' j = tg j)) (hX : ∀ j, p ≤ j → j < q → (X' j ↔ X j)) : sm_S tk f op' ag' tg' i p q lp X' := by
  obtain ⟨h1, h2⟩ := h
  refine ⟨h1, fun E op1 ag1 tg1 sz1 xt hj => h2 E op1 ag1 tg1 sz1 xt (fun j a b => ?_)⟩
  have x1 := hj j a b
  have x2 := ha j a b
  refine ⟨x1.1.trans x2.1, x1.2.1.trans x2.2.1, fun hn => ?_, fun hx => x1.2.2.2 ((hX j a b).mpr hx)⟩
  exact (x1.2.2.1 (fun z => hn ((hX j a b).mp z))).trans (x2.2.2 hn)
section
variable {c : Nat × vm_M → Option (Nat × vm_M)} {W W' w q q1 lp xt r : Nat} {x x0 : Nat × vm_M} {lr ll lr0 ll0 : Nat → Int32} {o o1 : Nat × Nat × ds_T}
theorem sm_mo (h : sm_O c W x q lp xt r lr ll o) (hw : W ≤ W') : sm_O c W' x q lp xt r lr ll o := by
  obtain ⟨pc, ov, a, b, h1, h2⟩ := h
  exact ⟨pc, ov, a, b, vm_B_mo h1 (by omega), h2⟩
theorem sm_pre (h0 : vm_B c w x0 x) (h : sm_O c W x q lp xt r lr ll o) : sm_O c (w + W) x0 q lp xt r lr ll o := by
  obtain ⟨pc, ov, a, b, h1, h2⟩ := h
  exact ⟨pc, ov, a, b, vm_B_mo (vm_B_tr h0 h1) (by omega), h2⟩
theorem sm_fr (hf : ∀ l, l < lp → lr l = lr0 l ∧ ll l = ll0 l) (h : sm_O c W x q lp xt r lr ll o) : sm_O c W x q lp xt r lr0 ll0 o := by
  obtain ⟨pc, ov, a, b, h1, h2, h3⟩ := h
  exact ⟨pc, ov, a, b, h1, fun l hl => ⟨(h2 l hl).1.trans (hf l hl).1, (h2 l hl).2.trans (hf l hl).2⟩, h3⟩
theorem sm_app (h : sm_O c W x q1 lp xt r lr ll o) (hw : o.1 = 0 → ∀ lr' ll', vm_B c w (q1, ([], o.2.1, 0, o.2.2, lr', ll')) (q, ([], o.2.1, 0, o.2.2, lr', ll'))) : sm_O c (W + w) x q lp xt r lr ll o := by
  obtain ⟨pc, ov, a, b, h1, h2, h3, h4⟩ := h
  by_cases h0 : o.1 = 0
  · obtain ⟨e1, e2⟩ := h3 h0
    rw [e1, e2] at h1
    refine ⟨q, 0, a, b, vm_B_mo (vm_B_tr h1 (hw h0 a b)) (by omega), h2, fun _ => ⟨rfl, rfl⟩, fun z => ?_, fun z => ?_⟩
    · rw [h0] at z; exact absurd z (by decide)
    · rw [h0] at z; exact absurd z (by decide)
  · exact ⟨pc, ov, a, b, vm_B_mo h1 (by omega), h2, fun z => absurd z h0, h4⟩
theorem sm_seq (h : sm_O c W x q1 lp xt r lr ll o1) (h0 : o1.1 = 0) (hr : r ≤ o1.2.1) (hr2 : o1.2.1 ≤ o.2.1) (hw : ∀ lr' ll', sm_O c W' (q1, ([], o1.2.1, 0, o1.2.2, lr', ll')) q lp xt o1.2.1 lr' ll' o) : sm_O c (W + W') x q lp xt r lr ll o := by
  obtain ⟨pc, ov, a, b, h1, h2, h3, h4⟩ := h
  obtain ⟨e1, e2⟩ := h3 h0
  rw [e1, e2] at h1
  have h5 := sm_fr h2 (hw a b)
  obtain ⟨pc', ov', a', b', k1, k2⟩ := h5
  exact ⟨pc', ov', a', b', vm_B_mo (vm_B_tr h1 k1) (by omega), k2⟩
/-- a run that didn't end in order doesn't care what stands behind -/
theorem sm_ne (h : sm_O c W x q1 lp xt r lr ll o) (h0 : o.1 ≠ 0) : sm_O c W x q lp xt r lr ll o := by
  obtain ⟨pc, ov, a, b, h1, h2, h3, h4⟩ := h
  exact ⟨pc, ov, a, b, h1, h2, fun z => absurd z h0, h4⟩
theorem sm_0 {D : ds_T} (h : vm_B c W x (q, ([], r, 0, D, lr, ll))) : sm_O c W x q lp xt r lr ll (0, (r, D)) :=
  ⟨q, 0, lr, ll, vm_B_mo h (by omega), fun _ _ => ⟨rfl, rfl⟩, fun _ => ⟨rfl, rfl⟩, fun z => by simp at z, fun z => by simp at z⟩
end
end
section
section
variable {E : ds_E} {s : List Int32} {r ov : Nat} {D : ds_T} {lr ll : Nat → Int32} {t : Nat} {a b c : Int32}
theorem vd_leaf (h : (100 ≤ t ∧ t ≤ 115) ∨ (120 ≤ t ∧ t ≤ 127) ∨ (143 ≤ t ∧ t ≤ 157)) (hs : s.length < 80) : vm_dat E t (s, r, ov, D, lr, ll) = some (ev_leaf E D t :: s, r, ov, D, lr, ll) := by
  unfold vm_dat
  rw [if_neg (by omega), if_neg (by omega), if_neg (by omega), if_pos h]
  exact if_pos hs
theorem vd_128 : vm_dat E 128 (a :: s, r, ov, D, lr, ll) = some (ds_ro D (a &&& 7).toNatClampNeg :: s, r, ov, D, lr, ll) := rfl
theorem vd_139 : vm_dat E 139 (a :: s, r, ov, D, lr, ll) = some (ev_one a :: s, r, ov, D, lr, ll) := rfl
theorem vd_142 : vm_dat E 142 (c :: b :: a :: s, r, ov, D, lr, ll) = some ((if a = 0 then c else b) :: s, r, ov, D, lr, ll) := rfl
theorem vd_2 (h : 130 ≤ t ∧ t ≤ 141) (h9 : t ≠ 139) : vm_dat E t (b :: a :: s, r, ov, D, lr, ll) = some (ev_two t a b :: s, r, ov, D, lr, ll) := by
  unfold vm_dat
  rw [if_neg (by omega), if_neg (by omega), if_neg (by omega), if_neg (by omega), if_neg (by omega), if_neg h9, if_neg (by omega), if_pos h]
  rfl
theorem vd_p1 (h : (10 ≤ t ∧ t ≤ 25) ∨ (30 ≤ t ∧ t ≤ 33) ∨ (66 ≤ t ∧ t ≤ 68)) : vm_dat E t (a :: s, r, ov, D, lr, ll) = some (s, r, ov, ex_pr E t a 0 0 D, lr, ll) := by
  unfold vm_dat
  rw [if_pos h]
  rfl
theorem vd_p2 (h : t = 34 ∨ (60 ≤ t ∧ t ≤ 62)) : vm_dat E t (b :: a :: s, r, ov, D, lr, ll) = some (s, r, ov, ex_pr E t a b 0 D, lr, ll) := by
  unfold vm_dat
  rw [if_neg (by omega), if_pos h]
  rfl
theorem vd_p3 (h : 63 ≤ t ∧ t ≤ 65) : vm_dat E t (c :: b :: a :: s, r, ov, D, lr, ll) = some (s, r, ov, ex_pr E t a b c D, lr, ll) := by
  unfold vm_dat
  rw [if_neg (by omega), if_neg (by omega), if_pos h]
  rfl
theorem ex_pr1 (h : (10 ≤ t ∧ t ≤ 25) ∨ (30 ≤ t ∧ t ≤ 33) ∨ (66 ≤ t ∧ t ≤ 68)) : ex_pr E t a b c D = ex_pr E t a 0 0 D := by
  unfold ex_pr
  by_cases h1 : t < 30
  · rw [if_pos h1, if_pos h1]
  rw [if_neg h1, if_neg h1]
  by_cases h2 : t < 34
  · rw [if_pos h2, if_pos h2]
  rw [if_neg h2, if_neg h2, if_neg (by omega), if_neg (by omega), if_neg (by omega), if_neg (by omega), if_neg (by omega), if_neg (by omega)]
theorem ex_pr2 (h : t = 34 ∨ (60 ≤ t ∧ t ≤ 62)) : ex_pr E t a b c D = ex_pr E t a b 0 D := by
  have n1 : ¬ t < 30 := by omega
  have n2 : ¬ t < 34 := by omega
  unfold ex_pr
  rw [if_neg n1, if_neg n1, if_neg n2, if_neg n2]
  by_cases h1 : t = 34
  · rw [if_pos h1, if_pos h1]
  have n3 : t < 63 := by omega
  rw [if_neg h1, if_neg h1, if_pos n3, if_pos n3]
theorem ni_300 {t : Nat} (h : t < 300) : nI t ≠ 300 := by
  intro z
  have : t = 300 := (nI_eq (a := t) (b := 300) (by omega) (by decide)).mp z
  omega
end
/-! expressions -/
section
variable {tk : Nat → Nat} {op ag tg : Nat → Int32} {L i p q q1 q2 q3 g : Nat}
theorem se_push (hL : L ≤ 60) (hT : tk_T tk L false i) (ho : op p = 300) (hg : tg p = nI g) (hg4 : g < 400) (hv : ∀ (E : ds_E) (D : ds_T), ev_v E D tk i = ag p) : sm_E tk op ag tg i p (p + 1) := by
  have hT := tk_T_en hL hT
  refine ⟨by omega, fun _ => ⟨rfl, hv⟩, fun E op1 ag1 tg1 sz1 hj hq s r D lr ll hs => ?_⟩
  obtain ⟨x1, x2, x3⟩ := hj p (Nat.le_refl _) (by omega)
  have h := st_300 (E := E) (op := op1) (ag := ag1) (tg := tg1) (sz := sz1) (pc := p) (r := r) (D := D) (lr := lr) (ll := ll) (by omega) (x1.trans ho) (x3.trans hg) hg4 (s := s) (by omega)
  rw [x2, ← hv E D] at h
  exact vm_B_mo h (by omega)
theorem se_0 (hL : L ≤ 60) (hT : tk_T tk L false i) (ht : (100 ≤ tk i ∧ tk i ≤ 115) ∨ (120 ≤ tk i ∧ tk i ≤ 127) ∨ (143 ≤ tk i ∧ tk i ≤ 157)) (ho : op p = nI (tk i)) (hg : tg p = nI g) (hg4 : g < 400) : sm_E tk op ag tg i p (p + 1) := by
  have ha : tk_ar (tk i) = 0 := by rw [tk_ar_ex (tk_T_ok hT)]; exact if_pos (by omega)
  have hT' := tk_T_en hL hT
  refine ⟨by omega, fun z => absurd (ho.symm.trans z) (ni_300 (by omega)), fun E op1 ag1 tg1 sz1 hj hq s r D lr ll hs => ?_⟩
  obtain ⟨x1, x2, x3⟩ := hj p (Nat.le_refl _) (by omega)
  have h := st_dat (E := E) (op := op1) (ag := ag1) (tg := tg1) (sz := sz1) (pc := p) (m := (s, r, 0, D, lr, ll)) rfl (by omega) (x1.trans ho) (by omega) (x3.trans hg) hg4 (vd_leaf ht (by omega))
  rw [ev_v0 hL hT ha]
  exact vm_B_mo h (by omega)
theorem se_1 (hL : L ≤ 60) (hT : tk_T tk L false i) (ha : tk_ar (tk i) = 1) (h1 : sm_E tk op ag tg (i + 1) p q) (ho : op q = nI (tk i)) (hg : tg q = nI g) (hg4 : g < 400) : sm_E tk op ag tg i p (q + 1) := by
  have hp := h1.1
  have hx : tk_ex (tk i) = true := tk_T_ok hT
  have hx2 := tk_ex_le hx
  have hn := tk_n1 hL hT ha
  have hn1 := tk_T_en hL hn.1
  have hT' := tk_T_en hL hT
  have ht : tk i = 128 ∨ tk i = 139 := by
    have := tk_ar_ex hx
    rw [ha] at this
    split at this
    · omega
    · split at this
      · assumption
      · split at this <;> omega
  refine ⟨by omega, fun z => absurd (ho.symm.trans z) (ni_300 (by omega)), fun E op1 ag1 tg1 sz1 hj hq s r D lr ll hs => ?_⟩
  obtain ⟨x1, x2, x3⟩ := hj q (by omega) (by omega)
  have B1 := h1.2.2 E op1 ag1 tg1 sz1 (fun j a b => hj j a (by omega)) (by omega) s r D lr ll (by omega)
  have hd : vm_dat E (tk i) (ev_v E D tk (i + 1) :: s, r, 0, D, lr, ll) = some (ev_v E D tk i :: s, r, 0, D, lr, ll) := by
    cases ht with
    | inl ht => rw [ev_v128 hL hT ht, ht]; exact vd_128
    | inr ht => rw [ev_v139 hL hT ht, ht]; exact vd_139
  have B2 := st_dat (E := E) (op := op1) (ag := ag1) (tg := tg1) (sz := sz1) (pc := q) (m := (ev_v E D tk (i + 1) :: s, r, 0, D, lr, ll)) rfl (by omega) (x1.trans ho) (by omega) (x3.trans hg) hg4 hd
  exact vm_B_mo (vm_B_tr B1 B2) (by omega)
theorem se_2 (hL : L ≤ 60) (hT : tk_T tk L false i) (ha : tk_ar (tk i) = 2) (h1 : sm_E tk op ag tg (i + 1) p q1) (h2 : sm_E tk op ag tg (tk_en tk (i + 1)) q1 q) (ho : op q = nI (tk i)) (hg : tg q = nI g) (hg4 : g < 400) : sm_E tk op ag tg i p (q + 1) := by
  have hp := h1.1
  have hp2 := h2.1
  have hx : tk_ex (tk i) = true := tk_T_ok hT
  have hx2 := tk_ex_le hx
  have hn := tk_n2 hL hT ha
  have hn1 := tk_T_en hL hn.1
  have hn2 := tk_T_en hL hn.2.1
  have hn3 := hn.2.2
  have hT' := tk_T_en hL hT
  have ht : (130 ≤ tk i ∧ tk i ≤ 141) ∧ tk i ≠ 139 := by
    have := tk_ar_ex hx
    rw [ha] at this
    have h5 := of_decide_eq_true hx
    split at this
    · omega
    · split at this
      · omega
      · split at this <;> omega
  refine ⟨by omega, fun z => absurd (ho.symm.trans z) (ni_300 (by omega)), fun E op1 ag1 tg1 sz1 hj hq s r D lr ll hs => ?_⟩
  obtain ⟨x1, x2, x3⟩ := hj q (by omega) (by omega)
  have B1 := h1.2.2 E op1 ag1 tg1 sz1 (fun j a b => hj j a (by omega)) (by omega) s r D lr ll (by omega)
  have B2 := h2.2.2 E op1 ag1 tg1 sz1 (fun j a b => hj j (by omega) (by omega)) (by omega) (ev_v E D tk (i + 1) :: s) r D lr ll (by rw [List.length_cons]; omega)
  have B3 := st_dat (E := E) (op := op1) (ag := ag1) (tg := tg1) (sz := sz1) (pc := q) (m := (ev_v E D tk (tk_en tk (i + 1)) :: ev_v E D tk (i + 1) :: s, r, 0, D, lr, ll)) rfl (by omega) (x1.trans ho) (by omega) (x3.trans hg) hg4 (vd_2 ht.1 ht.2)
  rw [ev_v2 hL hT ha]
  exact vm_B_mo (vm_B_tr B1 (vm_B_tr B2 B3)) (by omega)
theorem se_3 (hL : L ≤ 60) (hT : tk_T tk L false i) (ha : tk_ar (tk i) = 3) (h1 : sm_E tk op ag tg (i + 1) p q1) (h2 : sm_E tk op ag tg (tk_en tk (i + 1)) q1 q2) (h3 : sm_E tk op ag tg (tk_en tk (tk_en tk (i + 1))) q2 q) (ho : op q = nI (tk i)) (hg : tg q = nI g) (hg4 : g < 400) : sm_E tk op ag tg i p (q + 1) := by
  have hp := h1.1
  have hp2 := h2.1
  have hp3 := h3.1
  have hx : tk_ex (tk i) = true := tk_T_ok hT
  have hx2 := tk_ex_le hx
  have hn := tk_n3 hL hT ha
  have hn1 := tk_T_en hL hn.1
  have hn2 := tk_T_en hL hn.2.1
  have hn3 := tk_T_en hL hn.2.2.1
  have hn4 := hn.2.2.2
  have hT' := tk_T_en hL hT
  have ht : tk i = 142 := by
    have := tk_ar_ex hx
    rw [ha] at this
    split at this
    · omega
    · split at this
      · omega
      · split at this <;> omega
  refine ⟨by omega, fun z => absurd (ho.symm.trans z) (ni_300 (by omega)), fun E op1 ag1 tg1 sz1 hj hq s r D lr ll hs => ?_⟩
  obtain ⟨x1, x2, x3⟩ := hj q (by omega) (by omega)
  have B1 := h1.2.2 E op1 ag1 tg1 sz1 (fun j a b => hj j a (by omega)) (by omega) s r D lr ll (by omega)
  have B2 := h2.2.2 E op1 ag1 tg1 sz1 (fun j a b => hj j (by omega) (by omega)) (by omega) (ev_v E D tk (i + 1) :: s) r D lr ll (by rw [List.length_cons]; omega)
  have B3 := h3.2.2 E op1 ag1 tg1 sz1 (fun j a b => hj j (by omega) (by omega)) (by omega) (ev_v E D tk (tk_en tk (i + 1)) :: ev_v E D tk (i + 1) :: s) r D lr ll (by rw [List.length_cons, List.length_cons]; omega)
  rw [ht] at ho
  have B4 := st_dat (E := E) (op := op1) (ag := ag1) (tg := tg1) (sz := sz1) (pc := q) (m := (ev_v E D tk (tk_en tk (tk_en tk (i + 1))) :: ev_v E D tk (tk_en tk (i + 1)) :: ev_v E D tk (i + 1) :: s, r, 0, D, lr, ll)) rfl (by omega) (x1.trans ho) (by decide) (x3.trans hg) hg4 vd_142
  rw [ev_v142 hL hT ht]
  exact vm_B_mo (vm_B_tr B1 (vm_B_tr B2 (vm_B_tr B3 B4))) (by omega)
end
end
section
/-! statements -/
section
variable {tk : Nat → Nat} {op ag tg : Nat → Int32} {X : Nat → Prop} {L f i p q q1 q2 q3 q4 g g2 g3 g4 lp : Nat}
theorem ss_nop (ht : tk i = 2) : sm_S tk (f + 1) op ag tg i p p lp X := by
  refine ⟨Nat.le_refl _, fun E op1 ag1 tg1 sz1 xt hj hq h4 hx r D lr ll hr => ?_⟩
  rw [xx_2 ht]
  exact sm_0 (vm_B_rf _ _)
theorem ss_over (ht : tk i = 39) (ho : op p = 311) (hg : tg p = nI g) (hg4 : g < 400) (hX : ¬ X p) : sm_S tk (f + 1) op ag tg i p (p + 1) 0 X := by
  refine ⟨by omega, fun E op1 ag1 tg1 sz1 xt hj hq h4 hx r D lr ll hr => ?_⟩
  obtain ⟨x1, x2, x3, x4⟩ := hj p (Nat.le_refl _) (by omega)
  rw [xx_39 ht]
  have h := st_311 (E := E) (op := op1) (ag := ag1) (tg := tg1) (sz := sz1) (pc := p) (s := []) (r := r) (D := D) (lr := lr) (ll := ll) (by omega) (x1.trans ho) ((x3 hX).trans hg) hg4
  exact ⟨p + 1, 1, lr, ll, vm_B_mo h (by omega), fun _ _ => ⟨rfl, rfl⟩, fun z => by simp at z, fun _ => ⟨fun _ => rfl, fun z => by simp at z⟩, fun z => by simp at z⟩
theorem ss_exit (ht : tk i = 39) (ho : op p = 301) (hX : X p) (hlp : 0 < lp) : sm_S tk (f + 1) op ag tg i p (p + 1) lp X := by
  refine ⟨by omega, fun E op1 ag1 tg1 sz1 xt hj hq h4 hx r D lr ll hr => ?_⟩
  obtain ⟨x1, x2, x3, x4⟩ := hj p (Nat.le_refl _) (by omega)
  rw [xx_39 ht]
  have h := st_301 (E := E) (op := op1) (ag := ag1) (tg := tg1) (sz := sz1) (pc := p) (s := []) (r := r) (D := D) (lr := lr) (ll := ll) (by omega) (x1.trans ho) (x4 hX) hx
  exact ⟨xt, 0, lr, ll, vm_B_mo h (by omega), fun _ _ => ⟨rfl, rfl⟩, fun z => by simp at z, fun _ => ⟨fun z => absurd hlp (by omega), fun _ => ⟨rfl, rfl⟩⟩, fun z => by simp at z⟩
theorem ss_seq (ht : tk i = 1) (h1 : sm_S tk f op ag tg (i + 1) p q1 lp X) (h2 : sm_S tk f op ag tg (tk_en tk (i + 1)) q1 q lp X) : sm_S tk (f + 1) op ag tg i p q lp X := by
  have hp1 := h1.1
  have hp2 := h2.1
  refine ⟨by omega, fun E op1 ag1 tg1 sz1 xt hj hq h4 hx r D lr ll hr => ?_⟩
  have S1 := h1.2 E op1 ag1 tg1 sz1 xt (fun j a b => hj j a (by omega)) (by omega) h4 hx r D lr ll hr
  have hr1 := ex_x_r (E := E) (tk := tk) f (i + 1) (r, D) hr
  rw [xx_1 ht]
  by_cases h0 : (ex_x E tk f (i + 1) (r, D)).1 = 0
  · rw [if_pos h0]
    have hr2 := ex_x_r (E := E) (tk := tk) f (tk_en tk (i + 1)) (ex_x E tk f (i + 1) (r, D)).2 hr1.2.1
    refine sm_mo (sm_seq S1 h0 hr1.1 hr2.1 (W' := q - q1) fun lr' ll' => ?_) (by omega)
    exact h2.2 E op1 ag1 tg1 sz1 xt (fun j a b => hj j (by omega) b) hq h4 hx _ _ lr' ll' hr1.2.1
  · rw [if_neg h0]
    exact sm_mo (sm_ne S1 h0) (by omega)
/-- a choice whose condition is known -/
theorem ss_ifk {v : Int32} (ht : tk i = 35) (hv : ∀ (E : ds_E) (D : ds_T), ev_v E D tk (i + 1) = v) (h1 : sm_S tk f op ag tg (if v = 0 then tk_en tk (tk_en tk (i + 1)) else tk_en tk (i + 1)) p q lp X) : sm_S tk (f + 1) op ag tg i p q lp X := by
  refine ⟨h1.1, fun E op1 ag1 tg1 sz1 xt hj hq h4 hx r D lr ll hr => ?_⟩
  have S1 := h1.2 E op1 ag1 tg1 sz1 xt hj hq h4 hx r D lr ll hr
  rw [xx_35 ht]
  show sm_O _ _ _ _ _ _ _ _ _ (if ev_v E D tk (i + 1) = 0 then _ else _)
  rw [hv E D]
  by_cases h0 : v = 0
  · rw [if_pos h0]
    rw [if_pos h0] at S1
    exact S1
  · rw [if_neg h0]
    rw [if_neg h0] at S1
    exact S1
theorem ss_if (hL : L ≤ 60) (hT : tk_T tk L true i) (ht : tk i = 35) (hE : sm_E tk op ag tg (i + 1) p q1) (o1 : op q1 = 302) (t1 : tg q1 = nI (q2 + 1)) (hS1 : sm_S tk f op ag tg (tk_en tk (i + 1)) (q1 + 1) q2 lp X) (o2 : op q2 = 301) (t2 : tg q2 = nI q) (hS2 : sm_S tk f op ag tg (tk_en tk (tk_en tk (i + 1))) (q2 + 1) q lp X) (hq : q < 400)
    (hX : ∀ j, p ≤ j → j < q1 → ¬ X j) (hX1 : ¬ X q1) (hX2 : ¬ X q2) : sm_S tk (f + 1) op ag tg i p q lp X := by
  have hp1 := hE.1
  have hp2 := hS1.1
  have hp3 := hS2.1
  have hn := tk_n3 hL hT (by rw [ht]; decide)
  have hn1 := tk_T_en hL hn.1
  refine ⟨by omega, fun E op1 ag1 tg1 sz1 xt hj hq h4 hx r D lr ll hr => ?_⟩
  have B1 := hE.2.2 E op1 ag1 tg1 sz1 (fun j a b => ⟨(hj j a (by omega)).1, (hj j a (by omega)).2.1, (hj j a (by omega)).2.2.1 (hX j a b)⟩) (by omega) [] r D lr ll (by show 0 + _ ≤ 80; omega)
  have x := hj q1 (by omega) (by omega)
  have B2 := st_302 (E := E) (op := op1) (ag := ag1) (tg := tg1) (sz := sz1) (pc := q1) (s := []) (r := r) (x := ev_v E D tk (i + 1)) (D := D) (lr := lr) (ll := ll) (by omega) (x.1.trans o1) ((x.2.2.1 hX1).trans t1) (by omega)
  rw [xx_35 ht]
  show sm_O _ _ _ _ _ _ _ _ _ (if ev_v E D tk (i + 1) = 0 then _ else _)
  by_cases h0 : ev_v E D tk (i + 1) = 0
  · rw [if_pos h0]
    rw [if_pos h0] at B2
    have S2 := hS2.2 E op1 ag1 tg1 sz1 xt (fun j a b => hj j (by omega) b) hq h4 hx r D lr ll hr
    exact sm_mo (sm_pre B1 (sm_pre B2 S2)) (by omega)
  · rw [if_neg h0]
    rw [if_neg h0] at B2
    have S1 := hS1.2 E op1 ag1 tg1 sz1 xt (fun j a b => hj j (by omega) (by omega)) (by omega) h4 hx r D lr ll hr
    have y := hj q2 (by omega) (by omega)
    refine sm_mo (sm_pre B1 (sm_pre B2 (sm_app (w := 1) S1 fun _ lr' ll' => ?_))) (by omega)
    exact st_301 (by omega) (y.1.trans o2) ((y.2.2.1 hX2).trans t2) (by omega)
theorem ss_case (hL : L ≤ 60) (hT : tk_T tk L true i) (ht : tk i = 56) (hE : sm_E tk op ag tg (i + 1) p q1)
    (o1 : op q1 = 303) (a1 : ag q1 = 0) (t1 : tg q1 = nI (q2 + 1)) (hS1 : sm_S tk f op ag tg (tk_en tk (i + 1)) (q1 + 1) q2 lp X) (o2 : op q2 = 301) (t2 : tg q2 = nI q)
    (o3 : op (q2 + 1) = 303) (a3 : ag (q2 + 1) = 1) (t3 : tg (q2 + 1) = nI (q3 + 1)) (hS2 : sm_S tk f op ag tg (tk_en tk (tk_en tk (i + 1))) (q2 + 2) q3 lp X) (o4 : op q3 = 301) (t4 : tg q3 = nI q)
    (o5 : op (q3 + 1) = 304) (t5 : tg (q3 + 1) = nI g) (hg : g < 400) (hS3 : sm_S tk f op ag tg (tk_en tk (tk_en tk (tk_en tk (i + 1)))) (q3 + 2) q lp X) (hq : q < 400)
    (hX : ∀ j, p ≤ j → j < q1 → ¬ X j) (hX1 : ¬ X q1) (hX2 : ¬ X q2) (hX3 : ¬ X (q2 + 1)) (hX4 : ¬ X q3) (hX5 : ¬ X (q3 + 1)) : sm_S tk (f + 1) op ag tg i p q lp X := by
  have hp1 := hE.1
  have hp2 := hS1.1
  have hp3 := hS2.1
  have hp4 := hS3.1
  have hn := tk_n4 hL hT (by rw [ht]; decide)
  have hn1 := tk_T_en hL hn.1
  refine ⟨by omega, fun E op1 ag1 tg1 sz1 xt hj hq h4 hx r D lr ll hr => ?_⟩
  have B1 := hE.2.2 E op1 ag1 tg1 sz1 (fun j a b => ⟨(hj j a (by omega)).1, (hj j a (by omega)).2.1, (hj j a (by omega)).2.2.1 (hX j a b)⟩) (by omega) [] r D lr ll (by show 0 + _ ≤ 80; omega)
  have x := hj q1 (by omega) (by omega)
  rw [xx_56 ht]
  show sm_O _ _ _ _ _ _ _ _ _ (if ev_v E D tk (i + 1) = 0 then _ else if ev_v E D tk (i + 1) = 1 then _ else _)
  by_cases h0 : ev_v E D tk (i + 1) = 0
  · rw [if_pos h0]
    have B2 := st_303t (E := E) (op := op1) (ag := ag1) (tg := tg1) (sz := sz1) (pc := q1) (s := []) (r := r) (x := ev_v E D tk (i + 1)) (D := D) (lr := lr) (ll := ll) (by omega) (x.1.trans o1) ((x.2.2.1 hX1).trans t1) (by omega) (by rw [h0, x.2.1, a1])
    have S1 := hS1.2 E op1 ag1 tg1 sz1 xt (fun j a b => hj j (by omega) (by omega)) (by omega) h4 hx r D lr ll hr
    have y := hj q2 (by omega) (by omega)
    refine sm_mo (sm_pre B1 (sm_pre B2 (sm_app (w := 1) S1 fun _ lr' ll' => ?_))) (by omega)
    exact st_301 (by omega) (y.1.trans o2) ((y.2.2.1 hX2).trans t2) (by omega)
  · rw [if_neg h0]
    have B2 := st_303f (E := E) (op := op1) (ag := ag1) (tg := tg1) (sz := sz1) (pc := q1) (s := []) (r := r) (x := ev_v E D tk (i + 1)) (D := D) (lr := lr) (ll := ll) (by omega) (x.1.trans o1) ((x.2.2.1 hX1).trans t1) (by omega) (by rw [x.2.1, a1]; exact h0)
    have z := hj (q2 + 1) (by omega) (by omega)
    by_cases h1 : ev_v E D tk (i + 1) = 1
    · rw [if_pos h1]
      have B3 := st_303t (E := E) (op := op1) (ag := ag1) (tg := tg1) (sz := sz1) (pc := q2 + 1) (s := []) (r := r) (x := ev_v E D tk (i + 1)) (D := D) (lr := lr) (ll := ll) (by omega) (z.1.trans o3) ((z.2.2.1 hX3).trans t3) (by omega) (by rw [h1, z.2.1, a3])
      have S2 := hS2.2 E op1 ag1 tg1 sz1 xt (fun j a b => hj j (by omega) (by omega)) (by omega) h4 hx r D lr ll hr
      have y := hj q3 (by omega) (by omega)
      refine sm_mo (sm_pre B1 (sm_pre B2 (sm_pre B3 (sm_app (w := 1) S2 fun _ lr' ll' => ?_)))) (by omega)
      exact st_301 (by omega) (y.1.trans o4) ((y.2.2.1 hX4).trans t4) (by omega)
    · rw [if_neg h1]
      have B3 := st_303f (E := E) (op := op1) (ag := ag1) (tg := tg1) (sz := sz1) (pc := q2 + 1) (s := []) (r := r) (x := ev_v E D tk (i + 1)) (D := D) (lr := lr) (ll := ll) (by omega) (z.1.trans o3) ((z.2.2.1 hX3).trans t3) (by omega) (by rw [z.2.1, a3]; exact h1)
      have w := hj (q3 + 1) (by omega) (by omega)
      have B4 := st_304 (E := E) (op := op1) (ag := ag1) (tg := tg1) (sz := sz1) (pc := q3 + 1) (s := []) (r := r) (x := ev_v E D tk (i + 1)) (D := D) (lr := lr) (ll := ll) (by omega) (w.1.trans o5) ((w.2.2.1 hX5).trans t5) hg
      have S3 := hS3.2 E op1 ag1 tg1 sz1 xt (fun j a b => hj j (by omega) b) hq h4 hx r D lr ll hr
      exact sm_mo (sm_pre B1 (sm_pre B2 (sm_pre B3 (sm_pre B4 S3)))) (by omega)
theorem ss_p1 (hL : L ≤ 60) (hT : tk_T tk L true i) (ht : (10 ≤ tk i ∧ tk i ≤ 25) ∨ (30 ≤ tk i ∧ tk i ≤ 33) ∨ (66 ≤ tk i ∧ tk i ≤ 68)) (hE : sm_E tk op ag tg (i + 1) p q) (ho : op q = nI (tk i)) (hg : tg q = nI g) (hg4 : g < 400) (hX : ∀ j, p ≤ j → j < q + 1 → ¬ X j) : sm_S tk (f + 1) op ag tg i p (q + 1) lp X := by
  have hp1 := hE.1
  have ha : tk_ar (tk i) = 1 := by
    unfold tk_ar
    rw [if_neg (by omega), if_pos (by omega)]
  have hn := tk_n1 hL hT ha
  have hn1 := tk_T_en hL hn.1
  refine ⟨by omega, fun E op1 ag1 tg1 sz1 xt hj hq h4 hx r D lr ll hr => ?_⟩
  have B1 := hE.2.2 E op1 ag1 tg1 sz1 (fun j a b => ⟨(hj j a (by omega)).1, (hj j a (by omega)).2.1, (hj j a (by omega)).2.2.1 (hX j a (by omega))⟩) (by omega) [] r D lr ll (by show 0 + _ ≤ 80; omega)
  have x := hj q (by omega) (by omega)
  have B2 := st_dat (E := E) (op := op1) (ag := ag1) (tg := tg1) (sz := sz1) (pc := q) (m := ([ev_v E D tk (i + 1)], r, 0, D, lr, ll)) rfl (by omega) (x.1.trans ho) (by omega) ((x.2.2.1 (hX q (by omega) (by omega))).trans hg) hg4 (vd_p1 ht)
  rw [xx_pr (by unfold ex_prim; omega), ex_pr1 ht]
  exact sm_0 (vm_B_mo (vm_B_tr B1 B2) (by omega))
theorem ss_p2 (hL : L ≤ 60) (hT : tk_T tk L true i) (ht : tk i = 34 ∨ (60 ≤ tk i ∧ tk i ≤ 62)) (hE : sm_E tk op ag tg (i + 1) p q1) (hE2 : sm_E tk op ag tg (tk_en tk (i + 1)) q1 q) (ho : op q = nI (tk i)) (hg : tg q = nI g) (hg4 : g < 400) (hX : ∀ j, p ≤ j → j < q + 1 → ¬ X j) : sm_S tk (f + 1) op ag tg i p (q + 1) lp X := by
  have hp1 := hE.1
  have hp2 := hE2.1
  have ha : tk_ar (tk i) = 2 := by
    unfold tk_ar
    rw [if_neg (by omega), if_neg (by omega), if_neg (by omega), if_neg (by omega)]
  have hn := tk_n2 hL hT ha
  have hn1 := tk_T_en hL hn.1
  have hn2 := tk_T_en hL hn.2.1
  refine ⟨by omega, fun E op1 ag1 tg1 sz1 xt hj hq h4 hx r D lr ll hr => ?_⟩
  have hj' : ∀ j, p ≤ j → j < q → op1 j = op j ∧ ag1 j = ag j ∧ tg1 j = tg j := fun j a b => ⟨(hj j a (by omega)).1, (hj j a (by omega)).2.1, (hj j a (by omega)).2.2.1 (hX j a (by omega))⟩
  have B1 := hE.2.2 E op1 ag1 tg1 sz1 (fun j a b => hj' j a (by omega)) (by omega) [] r D lr ll (by show 0 + _ ≤ 80; omega)
  have B2 := hE2.2.2 E op1 ag1 tg1 sz1 (fun j a b => hj' j (by omega) b) (by omega) [ev_v E D tk (i + 1)] r D lr ll (by show 1 + _ ≤ 80; omega)
  have x := hj q (by omega) (by omega)
  have B3 := st_dat (E := E) (op := op1) (ag := ag1) (tg := tg1) (sz := sz1) (pc := q) (m := ([ev_v E D tk (tk_en tk (i + 1)), ev_v E D tk (i + 1)], r, 0, D, lr, ll)) rfl (by omega) (x.1.trans ho) (by omega) ((x.2.2.1 (hX q (by omega) (by omega))).trans hg) hg4 (vd_p2 ht)
  rw [xx_pr (by unfold ex_prim; omega), ex_pr2 ht]
  exact sm_0 (vm_B_mo (vm_B_tr B1 (vm_B_tr B2 B3)) (by omega))
theorem ss_p3 (hL : L ≤ 60) (hT : tk_T tk L true i) (ht : 63 ≤ tk i ∧ tk i ≤ 65) (hE : sm_E tk op ag tg (i + 1) p q1) (hE2 : sm_E tk op ag tg (tk_en tk (i + 1)) q1 q2) (hE3 : sm_E tk op ag tg (tk_en tk (tk_en tk (i + 1))) q2 q) (ho : op q = nI (tk i)) (hg : tg q = nI g) (hg4 : g < 400) (hX : ∀ j, p ≤ j → j < q + 1 → ¬ X j) : sm_S tk (f + 1) op ag tg i p (q + 1) lp X := by
  have hp1 := hE.1
  have hp2 := hE2.1
  have hp3 := hE3.1
  have ha : tk_ar (tk i) = 3 := by
    unfold tk_ar
    rw [if_neg (by omega), if_neg (by omega), if_neg (by omega), if_pos (by omega)]
  have hn := tk_n3 hL hT ha
  have hn1 := tk_T_en hL hn.1
  have hn2 := tk_T_en hL hn.2.1
  have hn3 := tk_T_en hL hn.2.2.1
  refine ⟨by omega, fun E op1 ag1 tg1 sz1 xt hj hq h4 hx r D lr ll hr => ?_⟩
  have hj' : ∀ j, p ≤ j → j < q → op1 j = op j ∧ ag1 j = ag j ∧ tg1 j = tg j := fun j a b => ⟨(hj j a (by omega)).1, (hj j a (by omega)).2.1, (hj j a (by omega)).2.2.1 (hX j a (by omega))⟩
  have B1 := hE.2.2 E op1 ag1 tg1 sz1 (fun j a b => hj' j a (by omega)) (by omega) [] r D lr ll (by show 0 + _ ≤ 80; omega)
  have B2 := hE2.2.2 E op1 ag1 tg1 sz1 (fun j a b => hj' j (by omega) (by omega)) (by omega) [ev_v E D tk (i + 1)] r D lr ll (by show 1 + _ ≤ 80; omega)
  have B3 := hE3.2.2 E op1 ag1 tg1 sz1 (fun j a b => hj' j (by omega) b) (by omega) [ev_v E D tk (tk_en tk (i + 1)), ev_v E D tk (i + 1)] r D lr ll (by show 2 + _ ≤ 80; omega)
  have x := hj q (by omega) (by omega)
  have B4 := st_dat (E := E) (op := op1) (ag := ag1) (tg := tg1) (sz := sz1) (pc := q) (m := ([ev_v E D tk (tk_en tk (tk_en tk (i + 1))), ev_v E D tk (tk_en tk (i + 1)), ev_v E D tk (i + 1)], r, 0, D, lr, ll)) rfl (by omega) (x.1.trans ho) (by omega) ((x.2.2.1 (hX q (by omega) (by omega))).trans hg) hg4 (vd_p3 ht)
  rw [xx_pr (by unfold ex_prim; omega)]
  exact sm_0 (vm_B_mo (vm_B_tr B1 (vm_B_tr B2 (vm_B_tr B3 B4))) (by omega))
end
/-! rounds -/
theorem sm_gl {c : Nat × vm_M → Option (Nat × vm_M)} {h q lp W wb a t b e : Nat} {lim : Int32} {pre sp : ds_T → Bool} {po : ds_T → ds_T} {body : Nat × ds_T → Nat × Nat × ds_T}
    (hW : a + wb + t ≤ 400) (hWa : a ≤ W) (h1W : 1 ≤ W)
    (H0 : ∀ r D lr ll, lr lp = 20 → vm_B c 1 (h, ([], r, 0, D, lr, ll)) (q, ([], r, 0, D, lr, ll)))
    (H1 : ∀ D lr ll, lr lp ≠ 20 → vm_B c 1 (h, ([], 300, 0, D, lr, ll)) (q, ([], 300, 1, D, lr, ll)))
    (H2 : ∀ r D lr ll, r < 300 → lr lp ≠ 20 → ll lp = lim → pre D = false → vm_B c a (h, ([], r, 0, D, lr, ll)) (q, ([], r + 1, 0, D, upd lr lp (lr lp + 1), ll)))
    (H3 : ∀ r D lr ll, r < 300 → lr lp ≠ 20 → ll lp = lim → pre D = true → vm_B c a (h, ([], r, 0, D, lr, ll)) (b, ([], r + 1, 0, D, upd lr lp (lr lp + 1), ll)))
    (H4 : ∀ r D lr ll, r ≤ 300 → sm_O c wb (b, ([], r, 0, D, lr, ll)) e (lp + 1) q r lr ll (body (r, D)))
    (H5 : ∀ r D lr ll, sp D = true → vm_B c t (e, ([], r, 0, D, lr, ll)) (q, ([], r, 0, po D, lr, ll)))
    (H6 : ∀ r D lr ll, sp D = false → vm_B c t (e, ([], r, 0, D, lr, ll)) (h, ([], r, 0, po D, lr, ll)))
    (hb : ∀ s, s.1 ≤ 300 → s.1 ≤ (body s).2.1 ∧ (body s).2.1 ≤ 300 ∧ (body s).1 ≤ 2) :
    ∀ (k r : Nat) (D : ds_T) (lr ll : Nat → Int32) (xt : Nat), k ≤ 20 → r ≤ 300 → lr lp = nI (20 - k) → ll lp = lim → sm_O c W (h, ([], r, 0, D, lr, ll)) q lp xt r lr ll (ex_gl pre sp po body k (r, D)) := by
  intro k
  induction k with
  | zero =>
    intro r D lr ll xt _ _ h1 _
    exact sm_0 (vm_B_mo (H0 r D lr ll h1) h1W)
  | succ k ih =>
    intro r D lr ll xt hk hr h1 h2
    have hne : lr lp ≠ 20 := by
      rw [h1]
      intro z
      have := (nI_eq (a := 20 - (k + 1)) (b := 20) (by omega) (by decide)).mp z
      omega
    rw [ex_gl]
    by_cases c3 : r = 300
    · subst c3
      rw [if_pos rfl]
      exact ⟨q, 1, lr, ll, vm_B_mo (H1 D lr ll hne) (by omega), fun _ _ => ⟨rfl, rfl⟩, fun z => by simp at z, fun z => by simp at z, fun _ => rfl⟩
    · rw [if_neg c3]
      have hr1 : r < 300 := by omega
      by_cases hp : pre D = true
      · rw [if_pos hp]
        have B1 := H3 r D lr ll hr1 hne h2 hp
        have hbb := hb (r + 1, D) (by show r + 1 ≤ 300; omega)
        have hb1 : r + 1 ≤ (body (r + 1, D)).2.1 := hbb.1
        have S1 := H4 (r + 1) D (upd lr lp (lr lp + 1)) ll (by omega)
        show sm_O c W _ q lp xt r lr ll (if (body (r + 1, D)).1 = 0 then (if sp (body (r + 1, D)).2.2 = true then (0, ((body (r + 1, D)).2.1, po (body (r + 1, D)).2.2)) else ex_gl pre sp po body k ((body (r + 1, D)).2.1, po (body (r + 1, D)).2.2)) else if (body (r + 1, D)).1 = 1 then (0, (body (r + 1, D)).2) else (2, (body (r + 1, D)).2))
        generalize body (r + 1, D) = o at *
        obtain ⟨pc', ov', lr', ll', k1, k2, k3, k4, k5⟩ := S1
        have hfr : ∀ l, l < lp → lr' l = lr l ∧ ll' l = ll l := by
          intro l hl
          have := k2 l (by omega)
          rw [pk_un (by omega)] at this
          exact this
        by_cases h0 : o.1 = 0
        · rw [if_pos h0]
          obtain ⟨e1, e2⟩ := k3 h0
          rw [e1, e2] at k1
          by_cases hs : sp o.2.2 = true
          · rw [if_pos hs]
            have B3 := H5 o.2.1 o.2.2 lr' ll' hs
            exact ⟨q, 0, lr', ll', vm_B_mo (vm_B_tr B1 (vm_B_tr k1 B3)) (by show _ ≤ W + 400 * (o.2.1 - r); omega), hfr, fun _ => ⟨rfl, rfl⟩, fun z => by simp at z, fun z => by simp at z⟩
          · rw [if_neg hs]
            have B3 := H6 o.2.1 o.2.2 lr' ll' (by cases hh : sp o.2.2 with | true => exact absurd hh hs | false => rfl)
            have hlp : lr' lp = nI (20 - k) := by
              rw [(k2 lp (by omega)).1, pk_us, h1, nI_1, show 20 - (k + 1) + 1 = 20 - k by omega]
            have hll : ll' lp = lim := (k2 lp (by omega)).2.trans h2
            have hS := sm_fr hfr (ih o.2.1 (po o.2.2) lr' ll' xt (by omega) hbb.2.1 hlp hll)
            have hg := (ex_gl_r (pre := pre) (sp := sp) (po := po) hb k (o.2.1, po o.2.2) hbb.2.1).1
            have hg : o.2.1 ≤ _ := hg
            obtain ⟨pc2, ov2, lr2, ll2, m1, m2⟩ := hS
            exact ⟨pc2, ov2, lr2, ll2, vm_B_mo (vm_B_tr B1 (vm_B_tr k1 (vm_B_tr B3 m1))) (by omega), m2⟩
        · rw [if_neg h0]
          by_cases h1' : o.1 = 1
          · rw [if_pos h1']
            obtain ⟨e1, e2⟩ := (k4 h1').2 (by omega)
            rw [e1, e2] at k1
            exact ⟨q, 0, lr', ll', vm_B_mo (vm_B_tr B1 k1) (by show _ ≤ W + 400 * (o.2.1 - r); omega), hfr, fun _ => ⟨rfl, rfl⟩, fun z => by simp at z, fun z => by simp at z⟩
          · rw [if_neg h1']
            have e2 := k5 (by omega)
            rw [e2] at k1
            exact ⟨pc', 1, lr', ll', vm_B_mo (vm_B_tr B1 k1) (by show _ ≤ W + 400 * (o.2.1 - r); omega), hfr, fun z => by simp at z, fun z => by simp at z, fun _ => rfl⟩
      · rw [if_neg hp]
        have hp' : pre D = false := by cases hh : pre D with | true => exact absurd hh hp | false => rfl
        have B1 := H2 r D lr ll hr1 hne h2 hp'
        refine ⟨q, 0, upd lr lp (lr lp + 1), ll, vm_B_mo B1 (by omega), fun l hl => ⟨pk_un (by omega), rfl⟩, fun _ => ⟨rfl, rfl⟩, fun z => by simp at z, fun z => by simp at z⟩
section
variable {tk : Nat → Nat} {op ag tg : Nat → Int32} {X Xb : Nat → Prop} {L f i p q q1 q2 q3 g g2 g3 g4 lp : Nat}
theorem ss_while (hL : L ≤ 60) (hT : tk_T tk L true i) (ht : tk i = 36) (hl : lp < 32) (o1 : op p = 305) (a1 : ag p = nI lp) (t1 : tg p = nI g) (hg : g < 400) (o2 : op (p + 1) = 306) (a2 : ag (p + 1) = nI lp) (t2 : tg (p + 1) = nI (q2 + 1))
    (hE : sm_E tk op ag tg (i + 1) (p + 2) q1) (o3 : op q1 = 302) (t3 : tg q1 = nI (q2 + 1)) (hS : sm_S tk f op ag tg (tk_en tk (i + 1)) (q1 + 1) q2 (lp + 1) Xb) (o4 : op q2 = 301) (t4 : tg q2 = nI (p + 1))
    (hq : q2 + 1 < 400) (hXb : ∀ j, q1 + 1 ≤ j → j < q2 → Xb j → tg j = nI (q2 + 1)) (hX : ∀ j, p ≤ j → j < q2 + 1 → ¬ X j) : sm_S tk (f + 1) op ag tg i p (q2 + 1) lp X := by
  have hp1 := hE.1
  have hp2 := hS.1
  have hn := tk_n2 hL hT (by rw [ht]; decide)
  have hn1 := tk_T_en hL hn.1
  refine ⟨by omega, fun E op1 ag1 tg1 sz1 xt hj hq' h4 hx r D lr ll hr => ?_⟩
  have hj' : ∀ j, p ≤ j → j < q2 + 1 → op1 j = op j ∧ ag1 j = ag j ∧ tg1 j = tg j := fun j a b => ⟨(hj j a b).1, (hj j a b).2.1, (hj j a b).2.2.1 (hX j a b)⟩
  rw [xx_36 ht]
  have x1 := hj' p (by omega) (by omega)
  have x2 := hj' (p + 1) (by omega) (by omega)
  have x3 := hj' q1 (by omega) (by omega)
  have x4 := hj' q2 (by omega) (by omega)
  have B0 := st_305 (E := E) (op := op1) (ag := ag1) (tg := tg1) (sz := sz1) (pc := p) (s := []) (r := r) (D := D) (lr := lr) (ll := ll) (by omega) (x1.1.trans o1) (x1.2.1.trans a1) hl (x1.2.2.trans t1) hg
  have BE : ∀ r D lr ll, vm_B (vm_stp E op1 ag1 tg1 sz1) (q1 - (p + 2) + 1) (p + 2, ([], r, 0, D, lr, ll)) (if ev_v E D tk (i + 1) = 0 then q2 + 1 else q1 + 1, ([], r, 0, D, lr, ll)) := by
    intro r D lr ll
    have B1 := hE.2.2 E op1 ag1 tg1 sz1 (fun j a b => hj' j (by omega) (by omega)) (by omega) [] r D lr ll (by show 0 + _ ≤ 80; omega)
    exact vm_B_tr B1 (st_302 (by omega) (x3.1.trans o3) (x3.2.2.trans t3) hq)
  have G := sm_gl (c := vm_stp E op1 ag1 tg1 sz1) (h := p + 1) (q := q2 + 1) (lp := lp) (W := q2 - p) (wb := q2 - (q1 + 1)) (a := 1 + (q1 - (p + 2) + 1)) (t := 1) (b := q1 + 1) (e := q2) (lim := ll lp)
    (pre := fun D => decide (ev_v E D tk (i + 1) ≠ 0)) (sp := fun _ => false) (po := fun D => D) (body := ex_x E tk f (tk_en tk (i + 1))) (by omega) (by omega) (by omega)
    (fun r D lr ll h => st_306a (by omega) (x2.1.trans o2) (x2.2.1.trans a2) hl (x2.2.2.trans t2) hq h)
    (fun D lr ll h => st_306b (by omega) (x2.1.trans o2) (x2.2.1.trans a2) hl (x2.2.2.trans t2) hq h)
    (fun r D lr ll h3 h _ hp => by
      have h0 : ev_v E D tk (i + 1) = 0 := Classical.byContradiction fun z => absurd ((of_decide_eq_false hp) z) (by exact fun q => q)
      have B := BE (r + 1) D (upd lr lp (lr lp + 1)) ll
      rw [if_pos h0] at B
      exact vm_B_tr (st_306c (by omega) (x2.1.trans o2) (x2.2.1.trans a2) hl (x2.2.2.trans t2) hq h h3) B)
    (fun r D lr ll h3 h _ hp => by
      have h0 : ev_v E D tk (i + 1) ≠ 0 := of_decide_eq_true hp
      have B := BE (r + 1) D (upd lr lp (lr lp + 1)) ll
      rw [if_neg h0] at B
      exact vm_B_tr (st_306c (by omega) (x2.1.trans o2) (x2.2.1.trans a2) hl (x2.2.2.trans t2) hq h h3) B)
    (fun r D lr ll h => hS.2 E op1 ag1 tg1 sz1 (q2 + 1) (fun j a b => ⟨(hj' j (by omega) (by omega)).1, (hj' j (by omega) (by omega)).2.1, fun _ => (hj' j (by omega) (by omega)).2.2, fun z => (hj' j (by omega) (by omega)).2.2.trans (hXb j a b z)⟩) (by omega) h4 hq r D lr ll h)
    (fun r D lr ll z => by simp at z)
    (fun r D lr ll _ => st_301 (by omega) (x4.1.trans o4) (x4.2.2.trans t4) (by omega))
    (ex_x_r f _) 20 r D (upd lr lp 0) ll xt (Nat.le_refl _) hr pk_us rfl
  exact sm_mo (sm_pre B0 (sm_fr (fun l hl' => ⟨pk_un (by omega), rfl⟩) G)) (by omega)
theorem ss_repeat (hL : L ≤ 60) (hT : tk_T tk L true i) (ht : tk i = 37) (hl : lp < 32) (o1 : op p = 305) (a1 : ag p = nI lp) (t1 : tg p = nI g) (hg : g < 400) (o2 : op (p + 1) = 306) (a2 : ag (p + 1) = nI lp) (t2 : tg (p + 1) = nI (q2 + 1))
    (hS : sm_S tk f op ag tg (i + 1) (p + 2) q1 (lp + 1) Xb) (hE : sm_E tk op ag tg (tk_en tk (i + 1)) q1 q2) (o4 : op q2 = 307) (t4 : tg q2 = nI (p + 1))
    (hq : q2 + 1 < 400) (hXb : ∀ j, p + 2 ≤ j → j < q1 → Xb j → tg j = nI (q2 + 1)) (hX : ∀ j, p ≤ j → j < q2 + 1 → ¬ X j) : sm_S tk (f + 1) op ag tg i p (q2 + 1) lp X := by
  have hp1 := hE.1
  have hp2 := hS.1
  have hn := tk_n2 hL hT (by rw [ht]; decide)
  have hn1 := tk_T_en hL hn.1
  have hn2 := tk_T_en hL hn.2.1
  refine ⟨by omega, fun E op1 ag1 tg1 sz1 xt hj hq' h4 hx r D lr ll hr => ?_⟩
  have hj' : ∀ j, p ≤ j → j < q2 + 1 → op1 j = op j ∧ ag1 j = ag j ∧ tg1 j = tg j := fun j a b => ⟨(hj j a b).1, (hj j a b).2.1, (hj j a b).2.2.1 (hX j a b)⟩
  rw [xx_37 ht]
  have x1 := hj' p (by omega) (by omega)
  have x2 := hj' (p + 1) (by omega) (by omega)
  have x4 := hj' q2 (by omega) (by omega)
  have B0 := st_305 (E := E) (op := op1) (ag := ag1) (tg := tg1) (sz := sz1) (pc := p) (s := []) (r := r) (D := D) (lr := lr) (ll := ll) (by omega) (x1.1.trans o1) (x1.2.1.trans a1) hl (x1.2.2.trans t1) hg
  have BE : ∀ r D lr ll, vm_B (vm_stp E op1 ag1 tg1 sz1) (q2 - q1 + 1) (q1, ([], r, 0, D, lr, ll)) (if ev_v E D tk (tk_en tk (i + 1)) = 0 then p + 1 else q2 + 1, ([], r, 0, D, lr, ll)) := by
    intro r D lr ll
    have B1 := hE.2.2 E op1 ag1 tg1 sz1 (fun j a b => hj' j (by omega) (by omega)) (by omega) [] r D lr ll (by show 0 + _ ≤ 80; omega)
    exact vm_B_tr B1 (st_307 (by omega) (x4.1.trans o4) (x4.2.2.trans t4) (by omega))
  have G := sm_gl (c := vm_stp E op1 ag1 tg1 sz1) (h := p + 1) (q := q2 + 1) (lp := lp) (W := q2 - p) (wb := q1 - (p + 2)) (a := 1) (t := q2 - q1 + 1) (b := p + 2) (e := q1) (lim := ll lp)
    (pre := fun _ => true) (sp := fun D => decide (ev_v E D tk (tk_en tk (i + 1)) ≠ 0)) (po := fun D => D) (body := ex_x E tk f (i + 1)) (by omega) (by omega) (by omega)
    (fun r D lr ll h => st_306a (by omega) (x2.1.trans o2) (x2.2.1.trans a2) hl (x2.2.2.trans t2) hq h)
    (fun D lr ll h => st_306b (by omega) (x2.1.trans o2) (x2.2.1.trans a2) hl (x2.2.2.trans t2) hq h)
    (fun r D lr ll h3 h _ hp => by simp at hp)
    (fun r D lr ll h3 h _ hp => st_306c (by omega) (x2.1.trans o2) (x2.2.1.trans a2) hl (x2.2.2.trans t2) hq h h3)
    (fun r D lr ll h => hS.2 E op1 ag1 tg1 sz1 (q2 + 1) (fun j a b => ⟨(hj' j (by omega) (by omega)).1, (hj' j (by omega) (by omega)).2.1, fun _ => (hj' j (by omega) (by omega)).2.2, fun z => (hj' j (by omega) (by omega)).2.2.trans (hXb j a b z)⟩) (by omega) h4 hq r D lr ll h)
    (fun r D lr ll z => by
      have h0 : ev_v E D tk (tk_en tk (i + 1)) ≠ 0 := of_decide_eq_true z
      have B := BE r D lr ll
      rw [if_neg h0] at B
      exact B)
    (fun r D lr ll z => by
      have h0 : ev_v E D tk (tk_en tk (i + 1)) = 0 := Classical.byContradiction fun y => absurd ((of_decide_eq_false z) y) (by exact fun q => q)
      have B := BE r D lr ll
      rw [if_pos h0] at B
      exact B)
    (ex_x_r f _) 20 r D (upd lr lp 0) ll xt (Nat.le_refl _) hr pk_us rfl
  exact sm_mo (sm_pre B0 (sm_fr (fun l hl' => ⟨pk_un (by omega), rfl⟩) G)) (by omega)
theorem ss_for (hL : L ≤ 60) (hT : tk_T tk L true i) (ht : 40 ≤ tk i ∧ tk i ≤ 55) (hl : lp < 32) (hE : sm_E tk op ag tg (i + 1) p q1) (hE2 : sm_E tk op ag tg (tk_en tk (i + 1)) q1 q2)
    (o1 : op q2 = 308) (a1 : ag q2 = nI lp) (t1 : tg q2 = nI g) (hg : g < 400) (o2 : op (q2 + 1) = nI (10 + (tk i - 40))) (t2 : tg (q2 + 1) = nI g2) (hg2 : g2 < 400) (o3 : op (q2 + 2) = 309) (a3 : ag (q2 + 2) = nI (32 * (tk i - 40) + lp)) (t3 : tg (q2 + 2) = nI (q3 + 2))
    (hS : sm_S tk f op ag tg (tk_en tk (tk_en tk (i + 1))) (q2 + 3) q3 (lp + 1) Xb) (o4 : op q3 = 310) (a4 : ag q3 = nI (tk i - 40)) (t4 : tg q3 = nI g4) (hg4 : g4 < 400) (o5 : op (q3 + 1) = 301) (t5 : tg (q3 + 1) = nI (q2 + 2))
    (hq : q3 + 2 < 400) (hXb : ∀ j, q2 + 3 ≤ j → j < q3 → Xb j → tg j = nI (q3 + 2)) (hX : ∀ j, p ≤ j → j < q3 + 2 → ¬ X j) : sm_S tk (f + 1) op ag tg i p (q3 + 2) lp X := by
  have hp1 := hE.1
  have hp2 := hS.1
  have hp3 := hE2.1
  have ha : tk_ar (tk i) = 3 := by
    unfold tk_ar
    rw [if_neg (by omega), if_neg (by omega), if_neg (by omega), if_pos (by omega)]
  have hn := tk_n3 hL hT ha
  have hn1 := tk_T_en hL hn.1
  have hn2 := tk_T_en hL hn.2.1
  have hn3 := tk_T_en hL hn.2.2.1
  refine ⟨by omega, fun E op1 ag1 tg1 sz1 xt hj hq' h4 hx r D lr ll hr => ?_⟩
  have hj' : ∀ j, p ≤ j → j < q3 + 2 → op1 j = op j ∧ ag1 j = ag j ∧ tg1 j = tg j := fun j a b => ⟨(hj j a b).1, (hj j a b).2.1, (hj j a b).2.2.1 (hX j a b)⟩
  rw [xx_40 ht]
  have hv : tk i - 40 < 16 := by omega
  have x1 := hj' q2 (by omega) (by omega)
  have x2 := hj' (q2 + 1) (by omega) (by omega)
  have x3 := hj' (q2 + 2) (by omega) (by omega)
  have x4 := hj' q3 (by omega) (by omega)
  have x5 := hj' (q3 + 1) (by omega) (by omega)
  have B1 := hE.2.2 E op1 ag1 tg1 sz1 (fun j a b => hj' j (by omega) (by omega)) (by omega) [] r D lr ll (by show 0 + _ ≤ 80; omega)
  have B2 := hE2.2.2 E op1 ag1 tg1 sz1 (fun j a b => hj' j (by omega) (by omega)) (by omega) [ev_v E D tk (i + 1)] r D lr ll (by show 1 + _ ≤ 80; omega)
  have B3 := st_308 (E := E) (op := op1) (ag := ag1) (tg := tg1) (sz := sz1) (pc := q2) (x := ev_v E D tk (tk_en tk (i + 1))) (s := [ev_v E D tk (i + 1)]) (r := r) (D := D) (lr := lr) (ll := ll) (by omega) (x1.1.trans o1) (x1.2.1.trans a1) hl (x1.2.2.trans t1) hg
  have B4 := st_dat (E := E) (op := op1) (ag := ag1) (tg := tg1) (sz := sz1) (pc := q2 + 1) (m := ([ev_v E D tk (i + 1)], r, 0, D, upd lr lp 0, upd ll lp (ev_v E D tk (tk_en tk (i + 1))))) rfl (by omega) (x2.1.trans o2) (by omega) (x2.2.2.trans t2) hg2 (vd_p1 (by omega))
  have e4 : ex_pr E (10 + (tk i - 40)) (ev_v E D tk (i + 1)) 0 0 D = ds_sva D (upd (ds_va D) (tk i - 40) (ev_v E D tk (i + 1))) := by
    unfold ex_pr
    rw [if_pos (by omega), Nat.add_sub_cancel_left]
  rw [e4] at B4
  have G := sm_gl (c := vm_stp E op1 ag1 tg1 sz1) (h := q2 + 2) (q := q3 + 2) (lp := lp) (W := q3 - q2) (wb := q3 - (q2 + 3)) (a := 1) (t := 2) (b := q2 + 3) (e := q3) (lim := ev_v E D tk (tk_en tk (i + 1)))
    (pre := fun D' => decide (¬ ev_v E D tk (tk_en tk (i + 1)) < ds_va D' (tk i - 40))) (sp := fun _ => false) (po := fun D => ds_sva D (upd (ds_va D) (tk i - 40) (ds_va D (tk i - 40) + 1))) (body := ex_x E tk f (tk_en tk (tk_en tk (i + 1)))) (by omega) (by omega) (by omega)
    (fun r D lr ll h => st_309a (by omega) (x3.1.trans o3) (x3.2.1.trans a3) hl hv (x3.2.2.trans t3) hq h)
    (fun D lr ll h => st_309b (by omega) (x3.1.trans o3) (x3.2.1.trans a3) hl hv (x3.2.2.trans t3) hq h)
    (fun r D' lr ll h3 h hlim hp => by
      have h0 : ll lp < ds_va D' (tk i - 40) := by
        rw [hlim]
        exact Classical.byContradiction fun y => absurd ((of_decide_eq_false hp) y) (by exact fun q => q)
      have B := st_309c (E := E) (op := op1) (ag := ag1) (tg := tg1) (sz := sz1) (pc := q2 + 2) (s := []) (r := r) (D := D') (lr := lr) (ll := ll) (by omega) (x3.1.trans o3) (x3.2.1.trans a3) hl hv (x3.2.2.trans t3) hq h h3
      rw [if_pos h0] at B
      exact B)
    (fun r D' lr ll h3 h hlim hp => by
      have h0 : ¬ ll lp < ds_va D' (tk i - 40) := by
        rw [hlim]
        exact of_decide_eq_true hp
      have B := st_309c (E := E) (op := op1) (ag := ag1) (tg := tg1) (sz := sz1) (pc := q2 + 2) (s := []) (r := r) (D := D') (lr := lr) (ll := ll) (by omega) (x3.1.trans o3) (x3.2.1.trans a3) hl hv (x3.2.2.trans t3) hq h h3
      rw [if_neg h0] at B
      exact B)
    (fun r D lr ll h => hS.2 E op1 ag1 tg1 sz1 (q3 + 2) (fun j a b => ⟨(hj' j (by omega) (by omega)).1, (hj' j (by omega) (by omega)).2.1, fun _ => (hj' j (by omega) (by omega)).2.2, fun z => (hj' j (by omega) (by omega)).2.2.trans (hXb j a b z)⟩) (by omega) h4 hq r D lr ll h)
    (fun r D lr ll z => by simp at z)
    (fun r D lr ll _ => vm_B_tr (a := 1) (b := 1) (st_310 (by omega) (x4.1.trans o4) (x4.2.1.trans a4) hv (x4.2.2.trans t4) hg4) (st_301 (by omega) (x5.1.trans o5) (x5.2.2.trans t5) (by omega)))
    (ex_x_r f _) 20 r (ds_sva D (upd (ds_va D) (tk i - 40) (ev_v E D tk (i + 1)))) (upd lr lp 0) (upd ll lp (ev_v E D tk (tk_en tk (i + 1)))) xt (Nat.le_refl _) hr pk_us pk_us
  exact sm_mo (sm_pre B1 (sm_pre B2 (sm_pre B3 (sm_pre B4 (sm_fr (fun l hl' => ⟨pk_un (by omega), pk_un (by omega)⟩) G))))) (by omega)
end
end
section
abbrev gx_time (u : SX) : Int32 := u.1
abbrev gx_active (u : SX) : Int32 := u.2.1
abbrev gx_isRunning (u : SX) : Int32 := u.2.2.1
abbrev gx_wantedCount (u : SX) : Int32 := u.2.2.2.1
abbrev gx_size (u : SX) : Int32 := u.2.2.2.2.1
abbrev gx_depth (u : SX) : Int32 := u.2.2.2.2.2.1
abbrev gx_loops (u : SX) : Int32 := u.2.2.2.2.2.2.1
abbrev gx_exits (u : SX) : Int32 := u.2.2.2.2.2.2.2.1
abbrev gx_height (u : SX) : Int32 := u.2.2.2.2.2.2.2.2.1
abbrev gx_allRounds (u : SX) : Int32 := u.2.2.2.2.2.2.2.2.2.1
abbrev gx_isOver (u : SX) : Int32 := u.2.2.2.2.2.2.2.2.2.2.1
abbrev gx_variables (u : SX) : Nat → Int32 := u.2.2.2.2.2.2.2.2.2.2.2.1
abbrev gx_row (u : SX) : Nat → Int32 := u.2.2.2.2.2.2.2.2.2.2.2.2.1
abbrev gx_inputs (u : SX) : Nat → Int32 := u.2.2.2.2.2.2.2.2.2.2.2.2.2.1
abbrev gx_taken (u : SX) : Nat → Int32 := u.2.2.2.2.2.2.2.2.2.2.2.2.2.2.1
abbrev gx_outputs (u : SX) : Nat → Int32 := u.2.2.2.2.2.2.2.2.2.2.2.2.2.2.2.1
abbrev gx_timerOn (u : SX) : Nat → Int32 := u.2.2.2.2.2.2.2.2.2.2.2.2.2.2.2.2.1
abbrev gx_timerBegin (u : SX) : Nat → Int32 := u.2.2.2.2.2.2.2.2.2.2.2.2.2.2.2.2.2.1
abbrev gx_counterLast (u : SX) : Nat → Int32 := u.2.2.2.2.2.2.2.2.2.2.2.2.2.2.2.2.2.2.1
abbrev gx_edgeLast (u : SX) : Nat → Int32 := u.2.2.2.2.2.2.2.2.2.2.2.2.2.2.2.2.2.2.2.1
abbrev gx_blocks (u : SX) : Nat → Int32 := u.2.2.2.2.2.2.2.2.2.2.2.2.2.2.2.2.2.2.2.2.1
abbrev gx_tokens (u : SX) : Nat → Int32 := u.2.2.2.2.2.2.2.2.2.2.2.2.2.2.2.2.2.2.2.2.2.1
abbrev gx_tokenCount (u : SX) : Nat → Int32 := u.2.2.2.2.2.2.2.2.2.2.2.2.2.2.2.2.2.2.2.2.2.2.1
abbrev gx_wanted (u : SX) : Nat → Int32 := u.2.2.2.2.2.2.2.2.2.2.2.2.2.2.2.2.2.2.2.2.2.2.2.1
abbrev gx_spans (u : SX) : Nat → Int32 := u.2.2.2.2.2.2.2.2.2.2.2.2.2.2.2.2.2.2.2.2.2.2.2.2.1
abbrev gx_operation (u : SX) : Nat → Int32 := u.2.2.2.2.2.2.2.2.2.2.2.2.2.2.2.2.2.2.2.2.2.2.2.2.2.1
abbrev gx_argument (u : SX) : Nat → Int32 := u.2.2.2.2.2.2.2.2.2.2.2.2.2.2.2.2.2.2.2.2.2.2.2.2.2.2.1
abbrev gx_target (u : SX) : Nat → Int32 := u.2.2.2.2.2.2.2.2.2.2.2.2.2.2.2.2.2.2.2.2.2.2.2.2.2.2.2.1
abbrev gx_openAt (u : SX) : Nat → Int32 := u.2.2.2.2.2.2.2.2.2.2.2.2.2.2.2.2.2.2.2.2.2.2.2.2.2.2.2.2.1
abbrev gx_openPhase (u : SX) : Nat → Int32 := u.2.2.2.2.2.2.2.2.2.2.2.2.2.2.2.2.2.2.2.2.2.2.2.2.2.2.2.2.2.1
abbrev gx_openPatch (u : SX) : Nat → Int32 := u.2.2.2.2.2.2.2.2.2.2.2.2.2.2.2.2.2.2.2.2.2.2.2.2.2.2.2.2.2.2.1
abbrev gx_openPatch2 (u : SX) : Nat → Int32 := u.2.2.2.2.2.2.2.2.2.2.2.2.2.2.2.2.2.2.2.2.2.2.2.2.2.2.2.2.2.2.2.1
abbrev gx_loopToken (u : SX) : Nat → Int32 := u.2.2.2.2.2.2.2.2.2.2.2.2.2.2.2.2.2.2.2.2.2.2.2.2.2.2.2.2.2.2.2.2.1
abbrev gx_exitAt (u : SX) : Nat → Int32 := u.2.2.2.2.2.2.2.2.2.2.2.2.2.2.2.2.2.2.2.2.2.2.2.2.2.2.2.2.2.2.2.2.2.1
abbrev gx_exitLoop (u : SX) : Nat → Int32 := u.2.2.2.2.2.2.2.2.2.2.2.2.2.2.2.2.2.2.2.2.2.2.2.2.2.2.2.2.2.2.2.2.2.2.1
abbrev gx_stack (u : SX) : Nat → Int32 := u.2.2.2.2.2.2.2.2.2.2.2.2.2.2.2.2.2.2.2.2.2.2.2.2.2.2.2.2.2.2.2.2.2.2.2.1
abbrev gx_loopRounds (u : SX) : Nat → Int32 := u.2.2.2.2.2.2.2.2.2.2.2.2.2.2.2.2.2.2.2.2.2.2.2.2.2.2.2.2.2.2.2.2.2.2.2.2.1
abbrev gx_loopLast (u : SX) : Nat → Int32 := u.2.2.2.2.2.2.2.2.2.2.2.2.2.2.2.2.2.2.2.2.2.2.2.2.2.2.2.2.2.2.2.2.2.2.2.2.2
abbrev gy_time (u : SY) : Int32 := u.1
abbrev gy_active (u : SY) : Int32 := u.2.1
abbrev gy_running (u : SY) : Int32 := u.2.2.1
abbrev gy_open (u : SY) : Int32 := u.2.2.2.1
abbrev gy_depth (u : SY) : Int32 := u.2.2.2.2.1
abbrev gy_tasks (u : SY) : Int32 := u.2.2.2.2.2.1
abbrev gy_begun (u : SY) : Int32 := u.2.2.2.2.2.2.1
abbrev gy_variables (u : SY) : Nat → Int32 := u.2.2.2.2.2.2.2.1
abbrev gy_cells (u : SY) : Nat → Int32 := u.2.2.2.2.2.2.2.2.1
abbrev gy_inputs (u : SY) : Nat → Int32 := u.2.2.2.2.2.2.2.2.2.1
abbrev gy_outputs (u : SY) : Nat → Int32 := u.2.2.2.2.2.2.2.2.2.2.1
abbrev gy_timerOn (u : SY) : Nat → Int32 := u.2.2.2.2.2.2.2.2.2.2.2.1
abbrev gy_timerBegin (u : SY) : Nat → Int32 := u.2.2.2.2.2.2.2.2.2.2.2.2.1
abbrev gy_timerElapsed (u : SY) : Nat → Int32 := u.2.2.2.2.2.2.2.2.2.2.2.2.2.1
abbrev gy_timerDone (u : SY) : Nat → Int32 := u.2.2.2.2.2.2.2.2.2.2.2.2.2.2.1
abbrev gy_counterLast (u : SY) : Nat → Int32 := u.2.2.2.2.2.2.2.2.2.2.2.2.2.2.2.1
abbrev gy_counterValue (u : SY) : Nat → Int32 := u.2.2.2.2.2.2.2.2.2.2.2.2.2.2.2.2.1
abbrev gy_counterDone (u : SY) : Nat → Int32 := u.2.2.2.2.2.2.2.2.2.2.2.2.2.2.2.2.2.1
abbrev gy_edgeLast (u : SY) : Nat → Int32 := u.2.2.2.2.2.2.2.2.2.2.2.2.2.2.2.2.2.2.1
abbrev gy_edgeDone (u : SY) : Nat → Int32 := u.2.2.2.2.2.2.2.2.2.2.2.2.2.2.2.2.2.2.2.1
abbrev gy_sizes (u : SY) : Nat → Int32 := u.2.2.2.2.2.2.2.2.2.2.2.2.2.2.2.2.2.2.2.2.1
abbrev gy_tokens (u : SY) : Nat → Int32 := u.2.2.2.2.2.2.2.2.2.2.2.2.2.2.2.2.2.2.2.2.2.1
abbrev gy_ends (u : SY) : Nat → Int32 := u.2.2.2.2.2.2.2.2.2.2.2.2.2.2.2.2.2.2.2.2.2.2.1
abbrev gy_wants (u : SY) : Nat → Int32 := u.2.2.2.2.2.2.2.2.2.2.2.2.2.2.2.2.2.2.2.2.2.2.2.1
abbrev gy_numbers (u : SY) : Nat → Int32 := u.2.2.2.2.2.2.2.2.2.2.2.2.2.2.2.2.2.2.2.2.2.2.2.2.1
abbrev gy_taskKind (u : SY) : Nat → Int32 := u.2.2.2.2.2.2.2.2.2.2.2.2.2.2.2.2.2.2.2.2.2.2.2.2.2.1
abbrev gy_taskAt (u : SY) : Nat → Int32 := u.2.2.2.2.2.2.2.2.2.2.2.2.2.2.2.2.2.2.2.2.2.2.2.2.2.2.1
abbrev gy_taskRounds (u : SY) : Nat → Int32 := u.2.2.2.2.2.2.2.2.2.2.2.2.2.2.2.2.2.2.2.2.2.2.2.2.2.2.2.1
abbrev gy_taskLimit (u : SY) : Nat → Int32 := u.2.2.2.2.2.2.2.2.2.2.2.2.2.2.2.2.2.2.2.2.2.2.2.2.2.2.2.2
abbrev xs_mu (u0 : SX) (h : Int32) (r : Int32) (ov : Int32) (va : Nat → Int32) (ro : Nat → Int32) (ou : Nat → Int32) (tO : Nat → Int32) (tB : Nat → Int32) (cL : Nat → Int32) (eL : Nat → Int32) (bl : Nat → Int32) (st : Nat → Int32) (lr : Nat → Int32) (ll : Nat → Int32) : SX := (u0.1, u0.2.1, u0.2.2.1, u0.2.2.2.1, u0.2.2.2.2.1, u0.2.2.2.2.2.1, u0.2.2.2.2.2.2.1, u0.2.2.2.2.2.2.2.1, h, r, ov, va, ro, u0.2.2.2.2.2.2.2.2.2.2.2.2.2.1, u0.2.2.2.2.2.2.2.2.2.2.2.2.2.2.1, ou, tO, tB, cL, eL, bl, u0.2.2.2.2.2.2.2.2.2.2.2.2.2.2.2.2.2.2.2.2.2.1, u0.2.2.2.2.2.2.2.2.2.2.2.2.2.2.2.2.2.2.2.2.2.2.1, u0.2.2.2.2.2.2.2.2.2.2.2.2.2.2.2.2.2.2.2.2.2.2.2.1, u0.2.2.2.2.2.2.2.2.2.2.2.2.2.2.2.2.2.2.2.2.2.2.2.2.1, u0.2.2.2.2.2.2.2.2.2.2.2.2.2.2.2.2.2.2.2.2.2.2.2.2.2.1, u0.2.2.2.2.2.2.2.2.2.2.2.2.2.2.2.2.2.2.2.2.2.2.2.2.2.2.1, u0.2.2.2.2.2.2.2.2.2.2.2.2.2.2.2.2.2.2.2.2.2.2.2.2.2.2.2.1, u0.2.2.2.2.2.2.2.2.2.2.2.2.2.2.2.2.2.2.2.2.2.2.2.2.2.2.2.2.1, u0.2.2.2.2.2.2.2.2.2.2.2.2.2.2.2.2.2.2.2.2.2.2.2.2.2.2.2.2.2.1, u0.2.2.2.2.2.2.2.2.2.2.2.2.2.2.2.2.2.2.2.2.2.2.2.2.2.2.2.2.2.2.1, u0.2.2.2.2.2.2.2.2.2.2.2.2.2.2.2.2.2.2.2.2.2.2.2.2.2.2.2.2.2.2.2.1, u0.2.2.2.2.2.2.2.2.2.2.2.2.2.2.2.2.2.2.2.2.2.2.2.2.2.2.2.2.2.2.2.2.1, u0.2.2.2.2.2.2.2.2.2.2.2.2.2.2.2.2.2.2.2.2.2.2.2.2.2.2.2.2.2.2.2.2.2.1, u0.2.2.2.2.2.2.2.2.2.2.2.2.2.2.2.2.2.2.2.2.2.2.2.2.2.2.2.2.2.2.2.2.2.2.1, st, lr, ll)
abbrev xs_cu (u0 : SX) (sz : Int32) (dp : Int32) (lo : Int32) (es : Int32) (op : Nat → Int32) (ag : Nat → Int32) (tg : Nat → Int32) (oA : Nat → Int32) (oP : Nat → Int32) (oQ : Nat → Int32) (oR : Nat → Int32) (lT : Nat → Int32) (eA : Nat → Int32) (eL : Nat → Int32) : SX := (u0.1, u0.2.1, u0.2.2.1, u0.2.2.2.1, sz, dp, lo, es, u0.2.2.2.2.2.2.2.2.1, u0.2.2.2.2.2.2.2.2.2.1, u0.2.2.2.2.2.2.2.2.2.2.1, u0.2.2.2.2.2.2.2.2.2.2.2.1, u0.2.2.2.2.2.2.2.2.2.2.2.2.1, u0.2.2.2.2.2.2.2.2.2.2.2.2.2.1, u0.2.2.2.2.2.2.2.2.2.2.2.2.2.2.1, u0.2.2.2.2.2.2.2.2.2.2.2.2.2.2.2.1, u0.2.2.2.2.2.2.2.2.2.2.2.2.2.2.2.2.1, u0.2.2.2.2.2.2.2.2.2.2.2.2.2.2.2.2.2.1, u0.2.2.2.2.2.2.2.2.2.2.2.2.2.2.2.2.2.2.1, u0.2.2.2.2.2.2.2.2.2.2.2.2.2.2.2.2.2.2.2.1, u0.2.2.2.2.2.2.2.2.2.2.2.2.2.2.2.2.2.2.2.2.1, u0.2.2.2.2.2.2.2.2.2.2.2.2.2.2.2.2.2.2.2.2.2.1, u0.2.2.2.2.2.2.2.2.2.2.2.2.2.2.2.2.2.2.2.2.2.2.1, u0.2.2.2.2.2.2.2.2.2.2.2.2.2.2.2.2.2.2.2.2.2.2.2.1, u0.2.2.2.2.2.2.2.2.2.2.2.2.2.2.2.2.2.2.2.2.2.2.2.2.1, op, ag, tg, oA, oP, oQ, oR, lT, eA, eL, u0.2.2.2.2.2.2.2.2.2.2.2.2.2.2.2.2.2.2.2.2.2.2.2.2.2.2.2.2.2.2.2.2.2.2.2.1, u0.2.2.2.2.2.2.2.2.2.2.2.2.2.2.2.2.2.2.2.2.2.2.2.2.2.2.2.2.2.2.2.2.2.2.2.2.1, u0.2.2.2.2.2.2.2.2.2.2.2.2.2.2.2.2.2.2.2.2.2.2.2.2.2.2.2.2.2.2.2.2.2.2.2.2.2)
abbrev ys_yu (v0 : SY) (dp : Int32) (ts : Int32) (bg : Int32) (va : Nat → Int32) (ro : Nat → Int32) (ou : Nat → Int32) (tO : Nat → Int32) (tB : Nat → Int32) (tE : Nat → Int32) (tD : Nat → Int32) (cL : Nat → Int32) (cV : Nat → Int32) (cD : Nat → Int32) (eL : Nat → Int32) (eD : Nat → Int32) (nu : Nat → Int32) (tK : Nat → Int32) (tA : Nat → Int32) (tR : Nat → Int32) (tM : Nat → Int32) : SY := (v0.1, v0.2.1, v0.2.2.1, v0.2.2.2.1, dp, ts, bg, va, ro, v0.2.2.2.2.2.2.2.2.2.1, ou, tO, tB, tE, tD, cL, cV, cD, eL, eD, v0.2.2.2.2.2.2.2.2.2.2.2.2.2.2.2.2.2.2.2.2.1, v0.2.2.2.2.2.2.2.2.2.2.2.2.2.2.2.2.2.2.2.2.2.1, v0.2.2.2.2.2.2.2.2.2.2.2.2.2.2.2.2.2.2.2.2.2.2.1, v0.2.2.2.2.2.2.2.2.2.2.2.2.2.2.2.2.2.2.2.2.2.2.2.1, nu, tK, tA, tR, tM)
abbrev xs_sp (u : SX) (sp : Nat → Int32) : SX := (u.1, u.2.1, u.2.2.1, u.2.2.2.1, u.2.2.2.2.1, u.2.2.2.2.2.1, u.2.2.2.2.2.2.1, u.2.2.2.2.2.2.2.1, u.2.2.2.2.2.2.2.2.1, u.2.2.2.2.2.2.2.2.2.1, u.2.2.2.2.2.2.2.2.2.2.1, u.2.2.2.2.2.2.2.2.2.2.2.1, u.2.2.2.2.2.2.2.2.2.2.2.2.1, u.2.2.2.2.2.2.2.2.2.2.2.2.2.1, u.2.2.2.2.2.2.2.2.2.2.2.2.2.2.1, u.2.2.2.2.2.2.2.2.2.2.2.2.2.2.2.1, u.2.2.2.2.2.2.2.2.2.2.2.2.2.2.2.2.1, u.2.2.2.2.2.2.2.2.2.2.2.2.2.2.2.2.2.1, u.2.2.2.2.2.2.2.2.2.2.2.2.2.2.2.2.2.2.1, u.2.2.2.2.2.2.2.2.2.2.2.2.2.2.2.2.2.2.2.1, u.2.2.2.2.2.2.2.2.2.2.2.2.2.2.2.2.2.2.2.2.1, u.2.2.2.2.2.2.2.2.2.2.2.2.2.2.2.2.2.2.2.2.2.1, u.2.2.2.2.2.2.2.2.2.2.2.2.2.2.2.2.2.2.2.2.2.2.1, u.2.2.2.2.2.2.2.2.2.2.2.2.2.2.2.2.2.2.2.2.2.2.2.1, sp, u.2.2.2.2.2.2.2.2.2.2.2.2.2.2.2.2.2.2.2.2.2.2.2.2.2.1, u.2.2.2.2.2.2.2.2.2.2.2.2.2.2.2.2.2.2.2.2.2.2.2.2.2.2.1, u.2.2.2.2.2.2.2.2.2.2.2.2.2.2.2.2.2.2.2.2.2.2.2.2.2.2.2.1, u.2.2.2.2.2.2.2.2.2.2.2.2.2.2.2.2.2.2.2.2.2.2.2.2.2.2.2.2.1, u.2.2.2.2.2.2.2.2.2.2.2.2.2.2.2.2.2.2.2.2.2.2.2.2.2.2.2.2.2.1, u.2.2.2.2.2.2.2.2.2.2.2.2.2.2.2.2.2.2.2.2.2.2.2.2.2.2.2.2.2.2.1, u.2.2.2.2.2.2.2.2.2.2.2.2.2.2.2.2.2.2.2.2.2.2.2.2.2.2.2.2.2.2.2.1, u.2.2.2.2.2.2.2.2.2.2.2.2.2.2.2.2.2.2.2.2.2.2.2.2.2.2.2.2.2.2.2.2.1, u.2.2.2.2.2.2.2.2.2.2.2.2.2.2.2.2.2.2.2.2.2.2.2.2.2.2.2.2.2.2.2.2.2.1, u.2.2.2.2.2.2.2.2.2.2.2.2.2.2.2.2.2.2.2.2.2.2.2.2.2.2.2.2.2.2.2.2.2.2.1, u.2.2.2.2.2.2.2.2.2.2.2.2.2.2.2.2.2.2.2.2.2.2.2.2.2.2.2.2.2.2.2.2.2.2.2.1, u.2.2.2.2.2.2.2.2.2.2.2.2.2.2.2.2.2.2.2.2.2.2.2.2.2.2.2.2.2.2.2.2.2.2.2.2.1, u.2.2.2.2.2.2.2.2.2.2.2.2.2.2.2.2.2.2.2.2.2.2.2.2.2.2.2.2.2.2.2.2.2.2.2.2.2)
abbrev ys_en (v : SY) (en : Nat → Int32) : SY := (v.1, v.2.1, v.2.2.1, v.2.2.2.1, v.2.2.2.2.1, v.2.2.2.2.2.1, v.2.2.2.2.2.2.1, v.2.2.2.2.2.2.2.1, v.2.2.2.2.2.2.2.2.1, v.2.2.2.2.2.2.2.2.2.1, v.2.2.2.2.2.2.2.2.2.2.1, v.2.2.2.2.2.2.2.2.2.2.2.1, v.2.2.2.2.2.2.2.2.2.2.2.2.1, v.2.2.2.2.2.2.2.2.2.2.2.2.2.1, v.2.2.2.2.2.2.2.2.2.2.2.2.2.2.1, v.2.2.2.2.2.2.2.2.2.2.2.2.2.2.2.1, v.2.2.2.2.2.2.2.2.2.2.2.2.2.2.2.2.1, v.2.2.2.2.2.2.2.2.2.2.2.2.2.2.2.2.2.1, v.2.2.2.2.2.2.2.2.2.2.2.2.2.2.2.2.2.2.1, v.2.2.2.2.2.2.2.2.2.2.2.2.2.2.2.2.2.2.2.1, v.2.2.2.2.2.2.2.2.2.2.2.2.2.2.2.2.2.2.2.2.1, v.2.2.2.2.2.2.2.2.2.2.2.2.2.2.2.2.2.2.2.2.2.1, en, v.2.2.2.2.2.2.2.2.2.2.2.2.2.2.2.2.2.2.2.2.2.2.2.1, v.2.2.2.2.2.2.2.2.2.2.2.2.2.2.2.2.2.2.2.2.2.2.2.2.1, v.2.2.2.2.2.2.2.2.2.2.2.2.2.2.2.2.2.2.2.2.2.2.2.2.2.1, v.2.2.2.2.2.2.2.2.2.2.2.2.2.2.2.2.2.2.2.2.2.2.2.2.2.2.1, v.2.2.2.2.2.2.2.2.2.2.2.2.2.2.2.2.2.2.2.2.2.2.2.2.2.2.2.1, v.2.2.2.2.2.2.2.2.2.2.2.2.2.2.2.2.2.2.2.2.2.2.2.2.2.2.2.2)
abbrev xs_wa (u : SX) (wc : Int32) (wa : Nat → Int32) : SX := (u.1, u.2.1, u.2.2.1, wc, u.2.2.2.2.1, u.2.2.2.2.2.1, u.2.2.2.2.2.2.1, u.2.2.2.2.2.2.2.1, u.2.2.2.2.2.2.2.2.1, u.2.2.2.2.2.2.2.2.2.1, u.2.2.2.2.2.2.2.2.2.2.1, u.2.2.2.2.2.2.2.2.2.2.2.1, u.2.2.2.2.2.2.2.2.2.2.2.2.1, u.2.2.2.2.2.2.2.2.2.2.2.2.2.1, u.2.2.2.2.2.2.2.2.2.2.2.2.2.2.1, u.2.2.2.2.2.2.2.2.2.2.2.2.2.2.2.1, u.2.2.2.2.2.2.2.2.2.2.2.2.2.2.2.2.1, u.2.2.2.2.2.2.2.2.2.2.2.2.2.2.2.2.2.1, u.2.2.2.2.2.2.2.2.2.2.2.2.2.2.2.2.2.2.1, u.2.2.2.2.2.2.2.2.2.2.2.2.2.2.2.2.2.2.2.1, u.2.2.2.2.2.2.2.2.2.2.2.2.2.2.2.2.2.2.2.2.1, u.2.2.2.2.2.2.2.2.2.2.2.2.2.2.2.2.2.2.2.2.2.1, u.2.2.2.2.2.2.2.2.2.2.2.2.2.2.2.2.2.2.2.2.2.2.1, wa, u.2.2.2.2.2.2.2.2.2.2.2.2.2.2.2.2.2.2.2.2.2.2.2.2.1, u.2.2.2.2.2.2.2.2.2.2.2.2.2.2.2.2.2.2.2.2.2.2.2.2.2.1, u.2.2.2.2.2.2.2.2.2.2.2.2.2.2.2.2.2.2.2.2.2.2.2.2.2.2.1, u.2.2.2.2.2.2.2.2.2.2.2.2.2.2.2.2.2.2.2.2.2.2.2.2.2.2.2.1, u.2.2.2.2.2.2.2.2.2.2.2.2.2.2.2.2.2.2.2.2.2.2.2.2.2.2.2.2.1, u.2.2.2.2.2.2.2.2.2.2.2.2.2.2.2.2.2.2.2.2.2.2.2.2.2.2.2.2.2.1, u.2.2.2.2.2.2.2.2.2.2.2.2.2.2.2.2.2.2.2.2.2.2.2.2.2.2.2.2.2.2.1, u.2.2.2.2.2.2.2.2.2.2.2.2.2.2.2.2.2.2.2.2.2.2.2.2.2.2.2.2.2.2.2.1, u.2.2.2.2.2.2.2.2.2.2.2.2.2.2.2.2.2.2.2.2.2.2.2.2.2.2.2.2.2.2.2.2.1, u.2.2.2.2.2.2.2.2.2.2.2.2.2.2.2.2.2.2.2.2.2.2.2.2.2.2.2.2.2.2.2.2.2.1, u.2.2.2.2.2.2.2.2.2.2.2.2.2.2.2.2.2.2.2.2.2.2.2.2.2.2.2.2.2.2.2.2.2.2.1, u.2.2.2.2.2.2.2.2.2.2.2.2.2.2.2.2.2.2.2.2.2.2.2.2.2.2.2.2.2.2.2.2.2.2.2.1, u.2.2.2.2.2.2.2.2.2.2.2.2.2.2.2.2.2.2.2.2.2.2.2.2.2.2.2.2.2.2.2.2.2.2.2.2.1, u.2.2.2.2.2.2.2.2.2.2.2.2.2.2.2.2.2.2.2.2.2.2.2.2.2.2.2.2.2.2.2.2.2.2.2.2.2)
abbrev ys_wa (v : SY) (wc : Int32) (wa : Nat → Int32) : SY := (v.1, v.2.1, v.2.2.1, wc, v.2.2.2.2.1, v.2.2.2.2.2.1, v.2.2.2.2.2.2.1, v.2.2.2.2.2.2.2.1, v.2.2.2.2.2.2.2.2.1, v.2.2.2.2.2.2.2.2.2.1, v.2.2.2.2.2.2.2.2.2.2.1, v.2.2.2.2.2.2.2.2.2.2.2.1, v.2.2.2.2.2.2.2.2.2.2.2.2.1, v.2.2.2.2.2.2.2.2.2.2.2.2.2.1, v.2.2.2.2.2.2.2.2.2.2.2.2.2.2.1, v.2.2.2.2.2.2.2.2.2.2.2.2.2.2.2.1, v.2.2.2.2.2.2.2.2.2.2.2.2.2.2.2.2.1, v.2.2.2.2.2.2.2.2.2.2.2.2.2.2.2.2.2.1, v.2.2.2.2.2.2.2.2.2.2.2.2.2.2.2.2.2.2.1, v.2.2.2.2.2.2.2.2.2.2.2.2.2.2.2.2.2.2.2.1, v.2.2.2.2.2.2.2.2.2.2.2.2.2.2.2.2.2.2.2.2.1, v.2.2.2.2.2.2.2.2.2.2.2.2.2.2.2.2.2.2.2.2.2.1, v.2.2.2.2.2.2.2.2.2.2.2.2.2.2.2.2.2.2.2.2.2.2.1, wa, v.2.2.2.2.2.2.2.2.2.2.2.2.2.2.2.2.2.2.2.2.2.2.2.2.1, v.2.2.2.2.2.2.2.2.2.2.2.2.2.2.2.2.2.2.2.2.2.2.2.2.2.1, v.2.2.2.2.2.2.2.2.2.2.2.2.2.2.2.2.2.2.2.2.2.2.2.2.2.2.1, v.2.2.2.2.2.2.2.2.2.2.2.2.2.2.2.2.2.2.2.2.2.2.2.2.2.2.2.1, v.2.2.2.2.2.2.2.2.2.2.2.2.2.2.2.2.2.2.2.2.2.2.2.2.2.2.2.2)
abbrev xs_w76 (post : Int32 → SX → Prop) (n : Nat) (x2 x3 : Int32) (u : SX) : Prop := wX_cycle_76 post n x2 x3 u.1 u.2.1 u.2.2.1 u.2.2.2.1 u.2.2.2.2.1 u.2.2.2.2.2.1 u.2.2.2.2.2.2.1 u.2.2.2.2.2.2.2.1 u.2.2.2.2.2.2.2.2.1 u.2.2.2.2.2.2.2.2.2.1 u.2.2.2.2.2.2.2.2.2.2.1 u.2.2.2.2.2.2.2.2.2.2.2.1 u.2.2.2.2.2.2.2.2.2.2.2.2.1 u.2.2.2.2.2.2.2.2.2.2.2.2.2.1 u.2.2.2.2.2.2.2.2.2.2.2.2.2.2.1 u.2.2.2.2.2.2.2.2.2.2.2.2.2.2.2.1 u.2.2.2.2.2.2.2.2.2.2.2.2.2.2.2.2.1 u.2.2.2.2.2.2.2.2.2.2.2.2.2.2.2.2.2.1 u.2.2.2.2.2.2.2.2.2.2.2.2.2.2.2.2.2.2.1 u.2.2.2.2.2.2.2.2.2.2.2.2.2.2.2.2.2.2.2.1 u.2.2.2.2.2.2.2.2.2.2.2.2.2.2.2.2.2.2.2.2.1 u.2.2.2.2.2.2.2.2.2.2.2.2.2.2.2.2.2.2.2.2.2.1 u.2.2.2.2.2.2.2.2.2.2.2.2.2.2.2.2.2.2.2.2.2.2.1 u.2.2.2.2.2.2.2.2.2.2.2.2.2.2.2.2.2.2.2.2.2.2.2.1 u.2.2.2.2.2.2.2.2.2.2.2.2.2.2.2.2.2.2.2.2.2.2.2.2.1 u.2.2.2.2.2.2.2.2.2.2.2.2.2.2.2.2.2.2.2.2.2.2.2.2.2.1 u.2.2.2.2.2.2.2.2.2.2.2.2.2.2.2.2.2.2.2.2.2.2.2.2.2.2.1 u.2.2.2.2.2.2.2.2.2.2.2.2.2.2.2.2.2.2.2.2.2.2.2.2.2.2.2.1 u.2.2.2.2.2.2.2.2.2.2.2.2.2.2.2.2.2.2.2.2.2.2.2.2.2.2.2.2.1 u.2.2.2.2.2.2.2.2.2.2.2.2.2.2.2.2.2.2.2.2.2.2.2.2.2.2.2.2.2.1 u.2.2.2.2.2.2.2.2.2.2.2.2.2.2.2.2.2.2.2.2.2.2.2.2.2.2.2.2.2.2.1 u.2.2.2.2.2.2.2.2.2.2.2.2.2.2.2.2.2.2.2.2.2.2.2.2.2.2.2.2.2.2.2.1 u.2.2.2.2.2.2.2.2.2.2.2.2.2.2.2.2.2.2.2.2.2.2.2.2.2.2.2.2.2.2.2.2.1 u.2.2.2.2.2.2.2.2.2.2.2.2.2.2.2.2.2.2.2.2.2.2.2.2.2.2.2.2.2.2.2.2.2.1 u.2.2.2.2.2.2.2.2.2.2.2.2.2.2.2.2.2.2.2.2.2.2.2.2.2.2.2.2.2.2.2.2.2.2.1 u.2.2.2.2.2.2.2.2.2.2.2.2.2.2.2.2.2.2.2.2.2.2.2.2.2.2.2.2.2.2.2.2.2.2.2.1 u.2.2.2.2.2.2.2.2.2.2.2.2.2.2.2.2.2.2.2.2.2.2.2.2.2.2.2.2.2.2.2.2.2.2.2.2.1 u.2.2.2.2.2.2.2.2.2.2.2.2.2.2.2.2.2.2.2.2.2.2.2.2.2.2.2.2.2.2.2.2.2.2.2.2.2
abbrev xs_w29 (post : SX → Prop) (n : Nat) (u : SX) : Prop := wX_compile_29 post n u.1 u.2.1 u.2.2.1 u.2.2.2.1 u.2.2.2.2.1 u.2.2.2.2.2.1 u.2.2.2.2.2.2.1 u.2.2.2.2.2.2.2.1 u.2.2.2.2.2.2.2.2.1 u.2.2.2.2.2.2.2.2.2.1 u.2.2.2.2.2.2.2.2.2.2.1 u.2.2.2.2.2.2.2.2.2.2.2.1 u.2.2.2.2.2.2.2.2.2.2.2.2.1 u.2.2.2.2.2.2.2.2.2.2.2.2.2.1 u.2.2.2.2.2.2.2.2.2.2.2.2.2.2.1 u.2.2.2.2.2.2.2.2.2.2.2.2.2.2.2.1 u.2.2.2.2.2.2.2.2.2.2.2.2.2.2.2.2.1 u.2.2.2.2.2.2.2.2.2.2.2.2.2.2.2.2.2.1 u.2.2.2.2.2.2.2.2.2.2.2.2.2.2.2.2.2.2.1 u.2.2.2.2.2.2.2.2.2.2.2.2.2.2.2.2.2.2.2.1 u.2.2.2.2.2.2.2.2.2.2.2.2.2.2.2.2.2.2.2.2.1 u.2.2.2.2.2.2.2.2.2.2.2.2.2.2.2.2.2.2.2.2.2.1 u.2.2.2.2.2.2.2.2.2.2.2.2.2.2.2.2.2.2.2.2.2.2.1 u.2.2.2.2.2.2.2.2.2.2.2.2.2.2.2.2.2.2.2.2.2.2.2.1 u.2.2.2.2.2.2.2.2.2.2.2.2.2.2.2.2.2.2.2.2.2.2.2.2.1 u.2.2.2.2.2.2.2.2.2.2.2.2.2.2.2.2.2.2.2.2.2.2.2.2.2.1 u.2.2.2.2.2.2.2.2.2.2.2.2.2.2.2.2.2.2.2.2.2.2.2.2.2.2.1 u.2.2.2.2.2.2.2.2.2.2.2.2.2.2.2.2.2.2.2.2.2.2.2.2.2.2.2.1 u.2.2.2.2.2.2.2.2.2.2.2.2.2.2.2.2.2.2.2.2.2.2.2.2.2.2.2.2.1 u.2.2.2.2.2.2.2.2.2.2.2.2.2.2.2.2.2.2.2.2.2.2.2.2.2.2.2.2.2.1 u.2.2.2.2.2.2.2.2.2.2.2.2.2.2.2.2.2.2.2.2.2.2.2.2.2.2.2.2.2.2.1 u.2.2.2.2.2.2.2.2.2.2.2.2.2.2.2.2.2.2.2.2.2.2.2.2.2.2.2.2.2.2.2.1 u.2.2.2.2.2.2.2.2.2.2.2.2.2.2.2.2.2.2.2.2.2.2.2.2.2.2.2.2.2.2.2.2.1 u.2.2.2.2.2.2.2.2.2.2.2.2.2.2.2.2.2.2.2.2.2.2.2.2.2.2.2.2.2.2.2.2.2.1 u.2.2.2.2.2.2.2.2.2.2.2.2.2.2.2.2.2.2.2.2.2.2.2.2.2.2.2.2.2.2.2.2.2.2.1 u.2.2.2.2.2.2.2.2.2.2.2.2.2.2.2.2.2.2.2.2.2.2.2.2.2.2.2.2.2.2.2.2.2.2.2.1 u.2.2.2.2.2.2.2.2.2.2.2.2.2.2.2.2.2.2.2.2.2.2.2.2.2.2.2.2.2.2.2.2.2.2.2.2.1 u.2.2.2.2.2.2.2.2.2.2.2.2.2.2.2.2.2.2.2.2.2.2.2.2.2.2.2.2.2.2.2.2.2.2.2.2.2
abbrev ys_w31 (post : SY → Prop) (n : Nat) (u : SY) : Prop := wY_carryOut_31 post n u.1 u.2.1 u.2.2.1 u.2.2.2.1 u.2.2.2.2.1 u.2.2.2.2.2.1 u.2.2.2.2.2.2.1 u.2.2.2.2.2.2.2.1 u.2.2.2.2.2.2.2.2.1 u.2.2.2.2.2.2.2.2.2.1 u.2.2.2.2.2.2.2.2.2.2.1 u.2.2.2.2.2.2.2.2.2.2.2.1 u.2.2.2.2.2.2.2.2.2.2.2.2.1 u.2.2.2.2.2.2.2.2.2.2.2.2.2.1 u.2.2.2.2.2.2.2.2.2.2.2.2.2.2.1 u.2.2.2.2.2.2.2.2.2.2.2.2.2.2.2.1 u.2.2.2.2.2.2.2.2.2.2.2.2.2.2.2.2.1 u.2.2.2.2.2.2.2.2.2.2.2.2.2.2.2.2.2.1 u.2.2.2.2.2.2.2.2.2.2.2.2.2.2.2.2.2.2.1 u.2.2.2.2.2.2.2.2.2.2.2.2.2.2.2.2.2.2.2.1 u.2.2.2.2.2.2.2.2.2.2.2.2.2.2.2.2.2.2.2.2.1 u.2.2.2.2.2.2.2.2.2.2.2.2.2.2.2.2.2.2.2.2.2.1 u.2.2.2.2.2.2.2.2.2.2.2.2.2.2.2.2.2.2.2.2.2.2.1 u.2.2.2.2.2.2.2.2.2.2.2.2.2.2.2.2.2.2.2.2.2.2.2.1 u.2.2.2.2.2.2.2.2.2.2.2.2.2.2.2.2.2.2.2.2.2.2.2.2.1 u.2.2.2.2.2.2.2.2.2.2.2.2.2.2.2.2.2.2.2.2.2.2.2.2.2.1 u.2.2.2.2.2.2.2.2.2.2.2.2.2.2.2.2.2.2.2.2.2.2.2.2.2.2.1 u.2.2.2.2.2.2.2.2.2.2.2.2.2.2.2.2.2.2.2.2.2.2.2.2.2.2.2.1 u.2.2.2.2.2.2.2.2.2.2.2.2.2.2.2.2.2.2.2.2.2.2.2.2.2.2.2.2
abbrev ys_w9 (post : Int32 → SY → Prop) (x1 : Int32) (n : Nat) (x2 : Int32) (u : SY) : Prop := wY_work_9 post x1 n x2 u.1 u.2.1 u.2.2.1 u.2.2.2.1 u.2.2.2.2.1 u.2.2.2.2.2.1 u.2.2.2.2.2.2.1 u.2.2.2.2.2.2.2.1 u.2.2.2.2.2.2.2.2.1 u.2.2.2.2.2.2.2.2.2.1 u.2.2.2.2.2.2.2.2.2.2.1 u.2.2.2.2.2.2.2.2.2.2.2.1 u.2.2.2.2.2.2.2.2.2.2.2.2.1 u.2.2.2.2.2.2.2.2.2.2.2.2.2.1 u.2.2.2.2.2.2.2.2.2.2.2.2.2.2.1 u.2.2.2.2.2.2.2.2.2.2.2.2.2.2.2.1 u.2.2.2.2.2.2.2.2.2.2.2.2.2.2.2.2.1 u.2.2.2.2.2.2.2.2.2.2.2.2.2.2.2.2.2.1 u.2.2.2.2.2.2.2.2.2.2.2.2.2.2.2.2.2.2.1 u.2.2.2.2.2.2.2.2.2.2.2.2.2.2.2.2.2.2.2.1 u.2.2.2.2.2.2.2.2.2.2.2.2.2.2.2.2.2.2.2.2.1 u.2.2.2.2.2.2.2.2.2.2.2.2.2.2.2.2.2.2.2.2.2.1 u.2.2.2.2.2.2.2.2.2.2.2.2.2.2.2.2.2.2.2.2.2.2.1 u.2.2.2.2.2.2.2.2.2.2.2.2.2.2.2.2.2.2.2.2.2.2.2.1 u.2.2.2.2.2.2.2.2.2.2.2.2.2.2.2.2.2.2.2.2.2.2.2.2.1 u.2.2.2.2.2.2.2.2.2.2.2.2.2.2.2.2.2.2.2.2.2.2.2.2.2.1 u.2.2.2.2.2.2.2.2.2.2.2.2.2.2.2.2.2.2.2.2.2.2.2.2.2.2.1 u.2.2.2.2.2.2.2.2.2.2.2.2.2.2.2.2.2.2.2.2.2.2.2.2.2.2.2.1 u.2.2.2.2.2.2.2.2.2.2.2.2.2.2.2.2.2.2.2.2.2.2.2.2.2.2.2.2
end
section
theorem ni_ne {a b : Nat} (h : a ≠ b) (ha : a < 2 ^ 31) (hb : b < 2 ^ 31) : ¬ nI a = nI b := fun z => h ((nI_eq ha hb).mp z)
theorem ni_sub {a b : Nat} (h : b ≤ a) : nI a - nI b = nI (a - b) := pk_sub h
section
variable {u0 : SX} {h t l v pc : Nat} {r ov : Int32} {va ro ou tO tB cL eL bl st lr ll : Nat → Int32}
theorem xv_push {post : SX → Prop} {x : Int32} (hh : h < 80) (H : post (xs_mu u0 (nI (h + 1)) r ov va ro ou tO tB cL eL bl (upd st h x) lr ll)) : wpX_push post (xs_mu u0 (nI h) r ov va ro ou tO tB cL eL bl st lr ll) x :=
  And.intro (vp_in_nI hh (by decide)) (nm_r (e' := upd st h x) (by rw [nI_clamp (by omega)]) (nm_r (nI_1 h) H))
theorem xv_pop {post : Int32 → SX → Prop} (hh : h < 80) (H : post (st h) (xs_mu u0 (nI h) r ov va ro ou tO tB cL eL bl st lr ll)) : wpX_pop post (xs_mu u0 (nI (h + 1)) r ov va ro ou tO tB cL eL bl st lr ll) :=
  nm_r (nI_pred h) (And.intro (vp_in_nI hh (by decide)) (by rw [nI_clamp (by omega)]; exact H))
/-! numbers -/
theorem xv_one {post : Int32 → Prop} {x : Int32} (H : post (ev_one x)) : wpX_one post x := by
  unfold ev_one at H
  by_cases c : x = 0
  · rw [if_pos c] at H; exact br_t c H
  · rw [if_neg c] at H; exact br_f c H
theorem xv_truth0 {post : Int32 → Prop} (H : post 0) : wpX_truth post 0 := br_t rfl H
theorem xv_truth1 {post : Int32 → Prop} (H : post 1) : wpX_truth post 1 := br_f (by decide) H
theorem xv_compared {post : Int32 → Prop} {x y : Int32} (ht : t < 1000) (h0 : t ≠ 130 ∧ t ≠ 131 ∧ t ≠ 132 ∧ t ≠ 133 ∧ t ≠ 134) (H : post (ev_two t x y)) : wpX_compared post (nI t) x y := by
  unfold ev_two at H
  rw [if_neg h0.1, if_neg h0.2.1, if_neg h0.2.2.1, if_neg h0.2.2.2.1, if_neg h0.2.2.2.2] at H
  by_cases c5 : t = 135
  · rw [if_pos c5] at H
    refine br_t (by rw [c5]; rfl) ?_
    by_cases c : y ≤ x
    · rw [if_pos c] at H; exact br_t c (xv_truth0 H)
    · rw [if_neg c] at H; exact br_f c (xv_truth1 H)
  rw [if_neg c5] at H
  refine br_f (ni_ne (b := 135) c5 (by omega) (by decide)) ?_
  by_cases c6 : t = 136
  · rw [if_pos c6] at H
    refine br_t (by rw [c6]; rfl) ?_
    by_cases c : x = y
    · rw [if_pos c] at H; exact br_t c (xv_truth1 H)
    · rw [if_neg c] at H; exact br_f c (xv_truth0 H)
  rw [if_neg c6] at H
  refine br_f (ni_ne (b := 136) c6 (by omega) (by decide)) ?_
  by_cases c7 : t = 137
  · rw [if_pos c7] at H
    refine br_t (by rw [c7]; rfl) ?_
    by_cases c : x = 0
    · rw [if_pos c] at H; exact br_t c (xv_truth0 H)
    · rw [if_neg c] at H
      refine br_f c ?_
      by_cases d : y = 0
      · rw [if_pos d] at H; exact br_t d (xv_truth0 H)
      · rw [if_neg d] at H; exact br_f d (xv_truth1 H)
  rw [if_neg c7] at H
  refine br_f (ni_ne (b := 137) c7 (by omega) (by decide)) ?_
  by_cases c8 : t = 138
  · rw [if_pos c8] at H
    refine br_t (by rw [c8]; rfl) ?_
    by_cases c : x = 0
    · rw [if_pos c] at H
      refine br_t c ?_
      by_cases d : y = 0
      · rw [if_pos d] at H; exact br_t d (xv_truth0 H)
      · rw [if_neg d] at H; exact br_f d (xv_truth1 H)
    · rw [if_neg c] at H; exact br_f c (xv_truth1 H)
  rw [if_neg c8] at H
  refine br_f (ni_ne (b := 138) c8 (by omega) (by decide)) ?_
  by_cases c9 : t = 140
  · rw [if_pos c9] at H
    refine br_t (by rw [c9]; rfl) ?_
    by_cases c : x ≤ y
    · rw [if_pos c] at H; exact br_t c (br_f (by decide) H)
    · rw [if_neg c] at H; exact br_f c (br_t rfl H)
  · rw [if_neg c9] at H
    refine br_f (ni_ne (b := 140) c9 (by omega) (by decide)) ?_
    by_cases c : x ≤ y
    · rw [if_pos c] at H; exact br_t c (br_t rfl H)
    · rw [if_neg c] at H; exact br_f c (br_f (by decide) H)
theorem xv_two {post : Int32 → Prop} {x y : Int32} (ht : t < 1000) (H : post (ev_two t x y)) : wpX_two post (nI t) x y := by
  by_cases c0 : t = 130
  · subst c0; exact br_t rfl H
  refine br_f (ni_ne (b := 130) c0 (by omega) (by decide)) ?_
  by_cases c1 : t = 131
  · subst c1; exact br_t rfl H
  refine br_f (ni_ne (b := 131) c1 (by omega) (by decide)) ?_
  by_cases c2 : t = 132
  · subst c2; exact br_t rfl H
  refine br_f (ni_ne (b := 132) c2 (by omega) (by decide)) ?_
  by_cases c3 : t = 133
  · subst c3
    have H : post (if y = 0 then 0 else x / y) := H
    refine br_t rfl ?_
    by_cases d : y = 0
    · rw [if_pos d] at H; exact br_t d H
    · rw [if_neg d] at H; exact br_f d (And.intro d H)
  refine br_f (ni_ne (b := 133) c3 (by omega) (by decide)) ?_
  by_cases c4 : t = 134
  · subst c4
    have H : post (if y = 0 then 0 else x - x / y * y) := H
    refine br_t rfl ?_
    by_cases d : y = 0
    · rw [if_pos d] at H; exact br_t d H
    · rw [if_neg d] at H; exact br_f d (And.intro d H)
  refine br_f (ni_ne (b := 134) c4 (by omega) (by decide)) ?_
  exact xv_compared ht ⟨c0, c1, c2, c3, c4⟩ H
/-! loads, computations, changes -/
theorem xv_load_a {post : SX → Prop} (ht : 100 ≤ t ∧ t ≤ 115) (hh : h < 80) (H : post (xs_mu u0 (nI (h + 1)) r ov va ro ou tO tB cL eL bl (upd st h (va (t - 100))) lr ll)) : wpX_load post (xs_mu u0 (nI h) r ov va ro ou tO tB cL eL bl st lr ll) (nI t) := by
  have e : nI t - 100 = nI (t - 100) := pk_sub (b := 100) ht.1
  refine br_f (nI_ge (b := 120) (by omega) (by decide)) (And.intro (by rw [e]; exact vp_in_nI (by omega) (by decide)) ?_)
  rw [e, nI_clamp (by omega)]
  exact xv_push hh H
theorem xv_load_b {post : SX → Prop} (ht : 120 ≤ t ∧ t ≤ 123) (hh : h < 80) (H : post (xs_mu u0 (nI (h + 1)) r ov va ro ou tO tB cL eL bl (upd st h (gx_taken u0 (t - 120))) lr ll)) : wpX_load post (xs_mu u0 (nI h) r ov va ro ou tO tB cL eL bl st lr ll) (nI t) := by
  have e : nI t - 120 = nI (t - 120) := pk_sub (b := 120) ht.1
  refine br_t (nI_le (a := 120) (by omega) (by omega)) (br_f (nI_ge (b := 124) (by omega) (by decide)) (And.intro (by rw [e]; exact vp_in_nI (by omega) (by decide)) ?_))
  rw [e, nI_clamp (by omega)]
  exact xv_push hh H
theorem xv_load_c {post : SX → Prop} (ht : 124 ≤ t ∧ t ≤ 127) (hh : h < 80) (H : post (xs_mu u0 (nI (h + 1)) r ov va ro ou tO tB cL eL bl (upd st h (ou (t - 124))) lr ll)) : wpX_load post (xs_mu u0 (nI h) r ov va ro ou tO tB cL eL bl st lr ll) (nI t) := by
  have e : nI t - 124 = nI (t - 124) := pk_sub (b := 124) ht.1
  refine br_t (nI_le (a := 120) (by omega) (by omega)) (br_t (nI_le (a := 124) (by omega) (by omega)) (br_f (nI_ge (b := 128) (by omega) (by decide)) (And.intro (by rw [e]; exact vp_in_nI (by omega) (by decide)) ?_)))
  rw [e, nI_clamp (by omega)]
  exact xv_push hh H
theorem xv_load_d {post : SX → Prop} (hh : h < 80) (H : post (xs_mu u0 (nI (h + 1)) r ov va ro ou tO tB cL eL bl (upd st h (ro (st h &&& 7).toNatClampNeg)) lr ll)) : wpX_load post (xs_mu u0 (nI (h + 1)) r ov va ro ou tO tB cL eL bl st lr ll) (nI 128) := by
  refine br_t (nI_le (a := 120) (by omega) (by omega)) (br_t (nI_le (a := 124) (by omega) (by omega)) (br_t (nI_le (a := 128) (by omega) (by omega)) (xv_pop hh ?_)))
  exact nm_e (And.intro (pk_andIn (st h) 3 (by decide) (by decide)) (xv_push hh H))
theorem xv_compute_1 {post : SX → Prop} (hh : h < 80) (H : post (xs_mu u0 (nI (h + 1)) r ov va ro ou tO tB cL eL bl (upd st h (ev_one (st h))) lr ll)) : wpX_compute post (xs_mu u0 (nI (h + 1)) r ov va ro ou tO tB cL eL bl st lr ll) (nI 139) := by
  unfold wpX_compute
  refine xv_pop hh ?_
  exact br_t rfl (xv_one (xv_push hh H))
theorem xv_compute_2 {post : SX → Prop} (ht : t < 1000) (h9 : t ≠ 139) (h2 : t ≠ 142) (hh : h + 1 < 80) (H : post (xs_mu u0 (nI (h + 1)) r ov va ro ou tO tB cL eL bl (upd st h (ev_two t (st h) (st (h + 1)))) lr ll)) : wpX_compute post (xs_mu u0 (nI (h + 2)) r ov va ro ou tO tB cL eL bl st lr ll) (nI t) := by
  unfold wpX_compute
  refine xv_pop (h := h + 1) hh ?_
  refine br_f (ni_ne (b := 139) h9 (by omega) (by decide)) ?_
  refine xv_pop (h := h) (by omega) ?_
  refine br_f (ni_ne (b := 142) h2 (by omega) (by decide)) ?_
  exact xv_two ht (xv_push (h := h) (by omega) H)
theorem xv_compute_3 {post : SX → Prop} (hh : h + 2 < 80) (H : post (xs_mu u0 (nI (h + 1)) r ov va ro ou tO tB cL eL bl (upd st h (if st h = 0 then st (h + 2) else st (h + 1))) lr ll)) : wpX_compute post (xs_mu u0 (nI (h + 3)) r ov va ro ou tO tB cL eL bl st lr ll) (nI 142) := by
  unfold wpX_compute
  refine xv_pop (h := h + 2) hh ?_
  refine br_f (by decide) ?_
  refine xv_pop (h := h + 1) (by omega) ?_
  refine br_t rfl ?_
  refine xv_pop (h := h) (by omega) ?_
  by_cases c : st h = 0
  · rw [if_pos c] at H
    exact br_t c (xv_push (h := h) (by omega) H)
  · rw [if_neg c] at H
    exact br_f c (xv_push (h := h) (by omega) H)
theorem xv_change_a {post : SX → Prop} (ht : 10 ≤ t ∧ t ≤ 25) (hh : h < 80) (H : post (xs_mu u0 (nI h) r ov (upd va (t - 10) (st h)) ro ou tO tB cL eL bl st lr ll)) : wpX_change post (xs_mu u0 (nI (h + 1)) r ov va ro ou tO tB cL eL bl st lr ll) (nI t) := by
  have e : nI t - 10 = nI (t - 10) := pk_sub (b := 10) ht.1
  unfold wpX_change
  refine xv_pop hh ?_
  refine (br_f (nI_ge (b := 30) (by omega) (by decide)) (And.intro (by rw [e]; exact vp_in_nI (by omega) (by decide)) (nm_r (e' := upd va (t - 10) (st h)) (by rw [e, nI_clamp (by omega)]) H)))
theorem xv_change_b {post : SX → Prop} (ht : 30 ≤ t ∧ t ≤ 33) (hh : h < 80) (H : post (xs_mu u0 (nI h) r ov va ro (upd ou (t - 30) (st h)) tO tB cL eL bl st lr ll)) : wpX_change post (xs_mu u0 (nI (h + 1)) r ov va ro ou tO tB cL eL bl st lr ll) (nI t) := by
  have e : nI t - 30 = nI (t - 30) := pk_sub (b := 30) ht.1
  unfold wpX_change
  refine xv_pop hh ?_
  refine (br_t (nI_le (a := 30) (by omega) (by omega)) (br_f (nI_ge (b := 34) (by omega) (by decide)) (And.intro (by rw [e]; exact vp_in_nI (by omega) (by decide)) (nm_r (e' := upd ou (t - 30) (st h)) (by rw [e, nI_clamp (by omega)]) H))))
theorem xv_change_c {post : SX → Prop} (hh : h + 1 < 80) (H : post (xs_mu u0 (nI h) r ov va (upd ro (st h &&& 7).toNatClampNeg (st (h + 1))) ou tO tB cL eL bl st lr ll)) : wpX_change post (xs_mu u0 (nI (h + 2)) r ov va ro ou tO tB cL eL bl st lr ll) (nI 34) := by
  unfold wpX_change
  refine xv_pop (h := h + 1) hh ?_
  refine br_t (nI_le (a := 30) (by omega) (by omega)) (br_t (nI_le (a := 34) (by omega) (by omega)) ?_)
  refine xv_pop (h := h) (by omega) ?_
  exact nm_e (And.intro (pk_andIn (st h) 3 (by decide) (by decide)) (nm_e H))
end
end
section
theorem na_b0 : vp_nar .boolean 0 = 0 := rfl
theorem na_b1 : vp_nar .boolean 1 = 1 := rfl
section
variable {u0 : SX} {h k : Nat} {r ov : Int32} {va ro ou tO tB cL eL bl st lr ll : Nat → Int32} {post : SX → Prop}
theorem xv_t100 {pr g z : Int32} (hk : k < 3) (H : post (xs_mu u0 (nI h) r ov va ro ou tO tB cL eL (upd (upd bl (3 + k) z) k (if g < pr then 0 else 1)) st lr ll)) : wX_runTimer_100 post (nI k) pr 1 g z (nI (3 + k)) (gx_time u0) (gx_active u0) (gx_isRunning u0) (gx_wantedCount u0) (gx_size u0) (gx_depth u0) (gx_loops u0) (gx_exits u0) (nI h) r ov va ro (gx_inputs u0) (gx_taken u0) ou tO tB cL eL bl (gx_tokens u0) (gx_tokenCount u0) (gx_wanted u0) (gx_spans u0) (gx_operation u0) (gx_argument u0) (gx_target u0) (gx_openAt u0) (gx_openPhase u0) (gx_openPatch u0) (gx_openPatch2 u0) (gx_loopToken u0) (gx_exitAt u0) (gx_exitLoop u0) st lr ll := by
  refine And.intro (vp_in_nI (by omega) (by decide)) (nm_r (e' := upd bl (3 + k) z) (by rw [nI_clamp (by omega)]) (br_f (by decide) ?_))
  by_cases c : g < pr
  · rw [if_pos c] at H
    exact br_t c (And.intro (vp_in_nI (by omega) (by decide)) (nm_r (e' := upd (upd bl (3 + k) z) k 0) (by rw [nI_clamp (by omega)]) H))
  · rw [if_neg c] at H
    exact br_f c (And.intro (vp_in_nI (by omega) (by decide)) (nm_r (e' := upd (upd bl (3 + k) z) k 1) (by rw [nI_clamp (by omega)]) H))
theorem xv_t100z {pr g z : Int32} (hk : k < 3) (H : post (xs_mu u0 (nI h) r ov va ro ou tO tB cL eL (upd (upd bl (3 + k) 0) k 0) st lr ll)) : wX_runTimer_81 post (nI k) pr 0 g z (gx_time u0) (gx_active u0) (gx_isRunning u0) (gx_wantedCount u0) (gx_size u0) (gx_depth u0) (gx_loops u0) (gx_exits u0) (nI h) r ov va ro (gx_inputs u0) (gx_taken u0) ou tO tB cL eL bl (gx_tokens u0) (gx_tokenCount u0) (gx_wanted u0) (gx_spans u0) (gx_operation u0) (gx_argument u0) (gx_target u0) (gx_openAt u0) (gx_openPhase u0) (gx_openPatch u0) (gx_openPatch2 u0) (gx_loopToken u0) (gx_exitAt u0) (gx_exitLoop u0) st lr ll := by
  have e : 3 + nI k = nI (3 + k) := nI_add 3 k
  refine br_t rfl ?_
  rw [e]
  exact And.intro (vp_in_nI (by omega) (by decide)) (nm_r (e' := upd bl (3 + k) 0) (by rw [nI_clamp (by omega)]) (br_t rfl (And.intro (vp_in_nI (by omega) (by decide)) (nm_r (e' := upd (upd bl (3 + k) 0) k 0) (by rw [nI_clamp (by omega)]) H))))
theorem xv_t81 {pr g z : Int32} (hk : k < 3) (H : post (xs_mu u0 (nI h) r ov va ro ou tO tB cL eL (upd (upd bl (3 + k) z) k (if g < pr then 0 else 1)) st lr ll)) : wX_runTimer_81 post (nI k) pr 1 g z (gx_time u0) (gx_active u0) (gx_isRunning u0) (gx_wantedCount u0) (gx_size u0) (gx_depth u0) (gx_loops u0) (gx_exits u0) (nI h) r ov va ro (gx_inputs u0) (gx_taken u0) ou tO tB cL eL bl (gx_tokens u0) (gx_tokenCount u0) (gx_wanted u0) (gx_spans u0) (gx_operation u0) (gx_argument u0) (gx_target u0) (gx_openAt u0) (gx_openPhase u0) (gx_openPatch u0) (gx_openPatch2 u0) (gx_loopToken u0) (gx_exitAt u0) (gx_exitLoop u0) st lr ll := by
  have e : 3 + nI k = nI (3 + k) := nI_add 3 k
  refine br_f (by decide) ?_
  rw [e]
  exact xv_t100 hk H
theorem xv_t41 {pr : Int32} (hk : k < 3) (H : post (xs_mu u0 (nI h) r ov va ro ou (upd tO k 1) tB cL eL (upd (upd bl (3 + k) (if pr ≤ gx_time u0 - tB k then (if 0 ≤ pr then pr else 0) else gx_time u0 - tB k)) k (if gx_time u0 - tB k < pr then 0 else 1)) st lr ll)) : wX_runTimer_41 post (nI k) pr 1 (gx_time u0) (gx_active u0) (gx_isRunning u0) (gx_wantedCount u0) (gx_size u0) (gx_depth u0) (gx_loops u0) (gx_exits u0) (nI h) r ov va ro (gx_inputs u0) (gx_taken u0) ou tO tB cL eL bl (gx_tokens u0) (gx_tokenCount u0) (gx_wanted u0) (gx_spans u0) (gx_operation u0) (gx_argument u0) (gx_target u0) (gx_openAt u0) (gx_openPhase u0) (gx_openPatch u0) (gx_openPatch2 u0) (gx_loopToken u0) (gx_exitAt u0) (gx_exitLoop u0) st lr ll := by
  refine And.intro (vp_in_nI hk (by decide)) (nm_r (e' := upd tO k 1) (by rw [nI_clamp (by omega), na_b1]) (And.intro (vp_in_nI hk (by decide)) (nm_r (e' := gx_time u0 - tB k) (by rw [nI_clamp (by omega)]) ?_)))
  by_cases c : pr ≤ gx_time u0 - tB k
  · rw [if_pos c] at H
    refine br_t c ?_
    by_cases d : 0 ≤ pr
    · rw [if_pos d] at H
      exact br_t d (xv_t81 hk H)
    · rw [if_neg d] at H
      exact br_f d (xv_t81 hk H)
  · rw [if_neg c] at H
    exact br_f c (xv_t81 hk H)
theorem xv_t41z {pr : Int32} (hk : k < 3) (H : post (xs_mu u0 (nI h) r ov va ro ou (upd tO k 0) tB cL eL (upd (upd bl (3 + k) 0) k 0) st lr ll)) : wX_runTimer_41 post (nI k) pr 0 (gx_time u0) (gx_active u0) (gx_isRunning u0) (gx_wantedCount u0) (gx_size u0) (gx_depth u0) (gx_loops u0) (gx_exits u0) (nI h) r ov va ro (gx_inputs u0) (gx_taken u0) ou tO tB cL eL bl (gx_tokens u0) (gx_tokenCount u0) (gx_wanted u0) (gx_spans u0) (gx_operation u0) (gx_argument u0) (gx_target u0) (gx_openAt u0) (gx_openPhase u0) (gx_openPatch u0) (gx_openPatch2 u0) (gx_loopToken u0) (gx_exitAt u0) (gx_exitLoop u0) st lr ll := by
  refine And.intro (vp_in_nI hk (by decide)) (nm_r (e' := upd tO k 0) (by rw [nI_clamp (by omega), na_b0]) (And.intro (vp_in_nI hk (by decide)) (nm_r (e' := gx_time u0 - tB k) (by rw [nI_clamp (by omega)]) ?_)))
  exact br_c (fun _ => br_c (fun _ => xv_t100z hk H) (fun _ => xv_t100z hk H)) (fun _ => xv_t100z hk H)
theorem xv_timer {E : ds_E} (hE : gx_time u0 = E.2) (hk : k < 3) (hh : h + 1 < 80) (H : ∀ D' : ds_T, D' = ex_tmr E k (decide (st h ≠ 0)) (st (h + 1)) (va, ro, ou, tO, tB, cL, eL, bl) → post (xs_mu u0 (nI h) r ov D'.1 D'.2.1 D'.2.2.1 D'.2.2.2.1 D'.2.2.2.2.1 D'.2.2.2.2.2.1 D'.2.2.2.2.2.2.1 D'.2.2.2.2.2.2.2 st lr ll)) : wpX_runTimer post (xs_mu u0 (nI (h + 2)) r ov va ro ou tO tB cL eL bl st lr ll) (nI k) := by
  have H := H _ rfl
  unfold ex_tmr at H
  unfold wpX_runTimer
  refine xv_pop (h := h + 1) hh ?_
  refine xv_pop (h := h) (by omega) ?_
  by_cases c : st h = 0
  · rw [if_neg (by rw [decide_eq_true_eq]; exact fun z => z c)] at H
    exact br_t c (br_t rfl (xv_t41z hk H))
  · rw [if_pos (by rw [decide_eq_true_eq]; exact c), ← hE] at H
    refine br_f c (br_f (by decide) (And.intro (vp_in_nI hk (by decide)) ?_))
    rw [nI_clamp (by omega)]
    by_cases d : tO k = 0
    · refine br_t d (And.intro (vp_in_nI hk (by decide)) (nm_e ?_))
      have e : ds_tO (va, ro, ou, tO, tB, cL, eL, bl) k = 0 := d
      rw [if_pos e] at H
      exact xv_t41 hk H
    · have e : ¬ ds_tO (va, ro, ou, tO, tB, cL, eL, bl) k = 0 := d
      rw [if_neg e] at H
      exact br_f d (xv_t41 hk H)
theorem xv_c76 {pr x : Int32} (hx : vp_nar .boolean x = x) (hk : k < 3) (H : post (xs_mu u0 (nI h) r ov va ro ou tO tB (upd cL k x) eL (upd bl (9 + k) (if bl (6 + k) < pr then 0 else 1)) st lr ll)) : wX_runCounter_76 post (nI k) pr x (gx_time u0) (gx_active u0) (gx_isRunning u0) (gx_wantedCount u0) (gx_size u0) (gx_depth u0) (gx_loops u0) (gx_exits u0) (nI h) r ov va ro (gx_inputs u0) (gx_taken u0) ou tO tB cL eL bl (gx_tokens u0) (gx_tokenCount u0) (gx_wanted u0) (gx_spans u0) (gx_operation u0) (gx_argument u0) (gx_target u0) (gx_openAt u0) (gx_openPhase u0) (gx_openPatch u0) (gx_openPatch2 u0) (gx_loopToken u0) (gx_exitAt u0) (gx_exitLoop u0) st lr ll := by
  have e6 : 6 + nI k = nI (6 + k) := nI_add 6 k
  have e9 : 9 + nI k = nI (9 + k) := nI_add 9 k
  refine And.intro (vp_in_nI hk (by decide)) (nm_r (e' := upd cL k x) (by rw [nI_clamp (by omega), hx]) ?_)
  rw [e6, e9, nI_clamp (by omega), nI_clamp (by omega)]
  refine And.intro (vp_in_nI (by omega) (by decide)) ?_
  by_cases c : bl (6 + k) < pr
  · rw [if_pos c] at H
    exact br_t c (And.intro (vp_in_nI (by omega) (by decide)) (nm_e H))
  · rw [if_neg c] at H
    exact br_f c (And.intro (vp_in_nI (by omega) (by decide)) (nm_e H))
theorem xv_counter (hk : k < 3) (hh : h + 2 < 80) (H : ∀ D' : ds_T, D' = ex_cnt k (decide (st h ≠ 0)) (decide (st (h + 1) ≠ 0)) (st (h + 2)) (va, ro, ou, tO, tB, cL, eL, bl) → post (xs_mu u0 (nI h) r ov D'.1 D'.2.1 D'.2.2.1 D'.2.2.2.1 D'.2.2.2.2.1 D'.2.2.2.2.2.1 D'.2.2.2.2.2.2.1 D'.2.2.2.2.2.2.2 st lr ll)) : wpX_runCounter post (xs_mu u0 (nI (h + 3)) r ov va ro ou tO tB cL eL bl st lr ll) (nI k) := by
  have e6 : 6 + nI k = nI (6 + k) := nI_add 6 k
  unfold wpX_runCounter
  refine xv_pop (h := h + 2) hh ?_
  refine xv_pop (h := h + 1) (by omega) ?_
  by_cases cr : st (h + 1) = 0
  · rw [decide_eq_false (p := st (h + 1) ≠ 0) (fun z => z cr)] at H
    refine br_t cr ?_
    unfold wX_runCounter_17
    refine xv_pop (h := h) (by omega) ?_
    by_cases cu : st h = 0
    · rw [decide_eq_false (p := st h ≠ 0) (fun z => z cu)] at H
      exact br_t cu (br_t rfl (br_t rfl (xv_c76 na_b0 hk (H _ rfl))))
    · rw [decide_eq_true (p := st h ≠ 0) cu] at H
      refine br_f cu (br_t rfl (br_f (by decide) (And.intro (vp_in_nI hk (by decide)) ?_)))
      rw [nI_clamp (by omega)]
      by_cases d : cL k = 0
      · have e : decide (ds_cL (va, ro, ou, tO, tB, cL, eL, bl) k = 0) = true := decide_eq_true d
        refine br_t d ?_
        rw [e6, nI_clamp (by omega)]
        refine And.intro (vp_in_nI (by omega) (by decide)) (And.intro (vp_in_nI (by omega) (by decide)) (nm_e (xv_c76 na_b1 hk (H (va, ro, ou, tO, tB, upd cL k 1, eL, upd (upd bl (6 + k) (bl (6 + k) + 1)) (9 + k) (if upd bl (6 + k) (bl (6 + k) + 1) (6 + k) < st (h + 2) then 0 else 1)) ?_))))
        unfold ex_cnt
        rw [e]
        rfl
      · have e : decide (ds_cL (va, ro, ou, tO, tB, cL, eL, bl) k = 0) = false := decide_eq_false d
        refine br_f d (xv_c76 na_b1 hk (H (va, ro, ou, tO, tB, upd cL k 1, eL, upd bl (9 + k) (if bl (6 + k) < st (h + 2) then 0 else 1)) ?_))
        unfold ex_cnt
        rw [e]
        rfl
  · rw [decide_eq_true (p := st (h + 1) ≠ 0) cr] at H
    refine br_f cr ?_
    unfold wX_runCounter_17
    refine xv_pop (h := h) (by omega) ?_
    by_cases cu : st h = 0
    · rw [decide_eq_false (p := st h ≠ 0) (fun z => z cu)] at H
      refine br_t cu (br_f (by decide) ?_)
      rw [e6, nI_clamp (by omega)]
      exact And.intro (vp_in_nI (by omega) (by decide)) (nm_e (xv_c76 na_b0 hk (H _ rfl)))
    · rw [decide_eq_true (p := st h ≠ 0) cu] at H
      refine br_f cu (br_f (by decide) ?_)
      rw [e6, nI_clamp (by omega)]
      exact And.intro (vp_in_nI (by omega) (by decide)) (nm_e (xv_c76 na_b1 hk (H _ rfl)))
theorem xv_e38 {x : Int32} (hx : vp_nar .boolean x = x) (hk : k < 3) (H : post (xs_mu u0 (nI h) r ov va ro ou tO tB cL (upd eL k x) (upd bl (12 + k) 0) st lr ll)) : wX_runEdge_38 post (nI k) x (nI (12 + k)) (gx_time u0) (gx_active u0) (gx_isRunning u0) (gx_wantedCount u0) (gx_size u0) (gx_depth u0) (gx_loops u0) (gx_exits u0) (nI h) r ov va ro (gx_inputs u0) (gx_taken u0) ou tO tB cL eL bl (gx_tokens u0) (gx_tokenCount u0) (gx_wanted u0) (gx_spans u0) (gx_operation u0) (gx_argument u0) (gx_target u0) (gx_openAt u0) (gx_openPhase u0) (gx_openPatch u0) (gx_openPatch2 u0) (gx_loopToken u0) (gx_exitAt u0) (gx_exitLoop u0) st lr ll :=
  And.intro (vp_in_nI (by omega) (by decide)) (nm_r (e' := upd bl (12 + k) 0) (by rw [nI_clamp (by omega)]) (And.intro (vp_in_nI hk (by decide)) (nm_r (e' := upd eL k x) (by rw [nI_clamp (by omega), hx]) H)))
theorem xv_edge (hk : k < 3) (hh : h < 80) (H : ∀ D' : ds_T, D' = ex_edg k (decide (st h ≠ 0)) (va, ro, ou, tO, tB, cL, eL, bl) → post (xs_mu u0 (nI h) r ov D'.1 D'.2.1 D'.2.2.1 D'.2.2.2.1 D'.2.2.2.2.1 D'.2.2.2.2.2.1 D'.2.2.2.2.2.2.1 D'.2.2.2.2.2.2.2 st lr ll)) : wpX_runEdge post (xs_mu u0 (nI (h + 1)) r ov va ro ou tO tB cL eL bl st lr ll) (nI k) := by
  have e12 : 12 + nI k = nI (12 + k) := nI_add 12 k
  unfold wpX_runEdge
  refine xv_pop hh ?_
  by_cases cu : st h = 0
  · rw [decide_eq_false (p := st h ≠ 0) (fun z => z cu)] at H
    refine br_t cu (br_t rfl ?_)
    rw [e12]
    exact xv_e38 na_b0 hk (H _ rfl)
  · rw [decide_eq_true (p := st h ≠ 0) cu] at H
    refine br_f cu (br_f (by decide) (And.intro (vp_in_nI hk (by decide)) ?_))
    rw [nI_clamp (by omega), e12]
    by_cases d : eL k = 0
    · have e : decide (ds_eL (va, ro, ou, tO, tB, cL, eL, bl) k = 0) = true := decide_eq_true d
      refine br_t d (And.intro (vp_in_nI (by omega) (by decide)) (nm_r (e' := upd bl (12 + k) 1) (by rw [nI_clamp (by omega)]) (And.intro (vp_in_nI hk (by decide)) (nm_r (e' := upd eL k 1) (by rw [na_b1]) (H (va, ro, ou, tO, tB, cL, upd eL k 1, upd bl (12 + k) 1) ?_)))))
      unfold ex_edg
      rw [e]
      rfl
    · have e : decide (ds_eL (va, ro, ou, tO, tB, cL, eL, bl) k = 0) = false := decide_eq_false d
      refine br_f d (xv_e38 na_b1 hk (H (va, ro, ou, tO, tB, cL, upd eL k 1, upd bl (12 + k) 0) ?_))
      unfold ex_edg
      rw [e]
      rfl
end
end
section
section
variable {u0 : SX} {h t l v pc q rr : Nat} {r ov a x : Int32} {va ro ou tO tB cL eL bl st lr ll : Nat → Int32}
/-! instructions on values -/
theorem co_change {post : Int32 → SX → Prop} (hpc : pc < 400) (ho : gx_operation u0 pc = nI t) (ht : t ≤ 34) (H : wpX_change (fun u => post (nI pc + 1) u) (xs_mu u0 (nI h) r ov va ro ou tO tB cL eL bl st lr ll) (nI t)) : wpX_carryOut post (xs_mu u0 (nI h) r ov va ro ou tO tB cL eL bl st lr ll) (nI pc) :=
  And.intro (vp_in_nI hpc (by decide)) (nm_r (e' := nI t) (by rw [nI_clamp (by omega)]; exact ho) (br_t (nI_le (b := 300) (by omega) (by decide)) (br_f (ni_ne (b := 300) (by omega) (by omega) (by decide)) (br_f (nI_nlt (a := 34) (by omega) (by decide)) H))))
theorem co_block {post : Int32 → SX → Prop} (hpc : pc < 400) (ho : gx_operation u0 pc = nI t) (ht : 34 < t) (ht2 : t < 100) (H : wpX_runBlock (fun u => post (nI pc + 1) u) (xs_mu u0 (nI h) r ov va ro ou tO tB cL eL bl st lr ll) (nI t)) : wpX_carryOut post (xs_mu u0 (nI h) r ov va ro ou tO tB cL eL bl st lr ll) (nI pc) :=
  And.intro (vp_in_nI hpc (by decide)) (nm_r (e' := nI t) (by rw [nI_clamp (by omega)]; exact ho) (br_t (nI_le (b := 300) (by omega) (by decide)) (br_f (ni_ne (b := 300) (by omega) (by omega) (by decide)) (br_t (nI_lt (a := 34) (by omega) (by omega)) (br_f (nI_ge (b := 100) (by omega) (by decide)) H)))))
theorem co_load {post : Int32 → SX → Prop} (hpc : pc < 400) (ho : gx_operation u0 pc = nI t) (ht : 100 ≤ t) (ht2 : t ≤ 128) (H : wpX_load (fun u => post (nI pc + 1) u) (xs_mu u0 (nI h) r ov va ro ou tO tB cL eL bl st lr ll) (nI t)) : wpX_carryOut post (xs_mu u0 (nI h) r ov va ro ou tO tB cL eL bl st lr ll) (nI pc) :=
  And.intro (vp_in_nI hpc (by decide)) (nm_r (e' := nI t) (by rw [nI_clamp (by omega)]; exact ho) (br_t (nI_le (b := 300) (by omega) (by decide)) (br_f (ni_ne (b := 300) (by omega) (by omega) (by decide)) (br_t (nI_lt (a := 34) (by omega) (by omega)) (br_t (nI_le (a := 100) (by omega) (by omega)) (br_f (nI_nlt (a := 128) (by omega) (by decide)) H))))))
theorem co_compute {post : Int32 → SX → Prop} (hpc : pc < 400) (ho : gx_operation u0 pc = nI t) (ht : 128 < t) (ht2 : t ≤ 142) (H : wpX_compute (fun u => post (nI pc + 1) u) (xs_mu u0 (nI h) r ov va ro ou tO tB cL eL bl st lr ll) (nI t)) : wpX_carryOut post (xs_mu u0 (nI h) r ov va ro ou tO tB cL eL bl st lr ll) (nI pc) :=
  And.intro (vp_in_nI hpc (by decide)) (nm_r (e' := nI t) (by rw [nI_clamp (by omega)]; exact ho) (br_t (nI_le (b := 300) (by omega) (by decide)) (br_f (ni_ne (b := 300) (by omega) (by omega) (by decide)) (br_t (nI_lt (a := 34) (by omega) (by omega)) (br_t (nI_le (a := 100) (by omega) (by omega)) (br_t (nI_lt (a := 128) (by omega) (by omega)) (br_f (nI_nlt (a := 142) (by omega) (by decide)) H)))))))
theorem co_blk {post : Int32 → SX → Prop} (hpc : pc < 400) (ho : gx_operation u0 pc = nI t) (ht : 143 ≤ t) (ht2 : t ≤ 157) (hh : h < 80) (H : post (nI pc + 1) (xs_mu u0 (nI (h + 1)) r ov va ro ou tO tB cL eL bl (upd st h (bl (t - 143))) lr ll)) : wpX_carryOut post (xs_mu u0 (nI h) r ov va ro ou tO tB cL eL bl st lr ll) (nI pc) := by
  have e : nI t - 143 = nI (t - 143) := pk_sub (b := 143) ht
  refine And.intro (vp_in_nI hpc (by decide)) (nm_r (e' := nI t) (by rw [nI_clamp (by omega)]; exact ho) (br_t (nI_le (b := 300) (by omega) (by decide)) (br_f (ni_ne (b := 300) (by omega) (by omega) (by decide)) (br_t (nI_lt (a := 34) (by omega) (by omega)) (br_t (nI_le (a := 100) (by omega) (by omega)) (br_t (nI_lt (a := 128) (by omega) (by omega)) (br_t (nI_lt (a := 142) (by omega) (by omega)) ?_)))))))
  rw [e, nI_clamp (by omega : t - 143 < 2 ^ 31)]
  exact And.intro (vp_in_nI (by omega) (by decide)) (xv_push hh H)
theorem co_push {post : Int32 → SX → Prop} (hpc : pc < 400) (ho : gx_operation u0 pc = nI 300) (hh : h < 80) (H : post (nI pc + 1) (xs_mu u0 (nI (h + 1)) r ov va ro ou tO tB cL eL bl (upd st h (gx_argument u0 pc)) lr ll)) : wpX_carryOut post (xs_mu u0 (nI h) r ov va ro ou tO tB cL eL bl st lr ll) (nI pc) := by
  refine And.intro (vp_in_nI hpc (by decide)) (nm_r (e' := nI 300) (by rw [nI_clamp (by omega)]; exact ho) (br_t (nI_le (b := 300) (by omega) (by decide)) (br_t rfl (And.intro (vp_in_nI hpc (by decide)) ?_))))
  rw [nI_clamp (by omega)]
  exact xv_push hh H
theorem co_steer {post : Int32 → SX → Prop} (hpc : pc < 400) (ho : gx_operation u0 pc = nI t) (ht : 300 < t) (ht2 : t < 1000) (H : wpX_steer (fun r u => post r u) (xs_mu u0 (nI h) r ov va ro ou tO tB cL eL bl st lr ll) (nI pc)) : wpX_carryOut post (xs_mu u0 (nI h) r ov va ro ou tO tB cL eL bl st lr ll) (nI pc) :=
  And.intro (vp_in_nI hpc (by decide)) (nm_r (e' := nI t) (by rw [nI_clamp (by omega)]; exact ho) (br_f (nI_ge (a := 300) (by omega) (by omega)) H))
/-! instructions that steer -/
theorem sr_301 {post : Int32 → SX → Prop} (hpc : pc < 400) (ho : gx_operation u0 pc = nI 301) (hg : gx_target u0 pc = nI q) (H : post (nI q) (xs_mu u0 (nI h) r ov va ro ou tO tB cL eL bl st lr ll)) : wpX_steer post (xs_mu u0 (nI h) r ov va ro ou tO tB cL eL bl st lr ll) (nI pc) :=
  And.intro (vp_in_nI hpc (by decide)) (nm_r (e' := nI 301) (by rw [nI_clamp (by omega)]; exact ho) (And.intro (vp_in_nI hpc (by decide)) (nm_e (br_t rfl (And.intro (vp_in_nI hpc (by decide)) (by rw [nI_clamp (by omega)]; rw [← hg] at H; exact H))))))
theorem sr_302 {post : Int32 → SX → Prop} (hpc : pc < 400) (ho : gx_operation u0 pc = nI 302) (hg : gx_target u0 pc = nI q) (hh : h < 80) (H : post (nI (if decide (st h = 0) = true then q else pc + 1)) (xs_mu u0 (nI h) r ov va ro ou tO tB cL eL bl st lr ll)) : wpX_steer post (xs_mu u0 (nI (h + 1)) r ov va ro ou tO tB cL eL bl st lr ll) (nI pc) := by
  refine And.intro (vp_in_nI hpc (by decide)) (nm_r (e' := nI 302) (by rw [nI_clamp (by omega)]; exact ho) (And.intro (vp_in_nI hpc (by decide)) (nm_e (br_f (by decide) (br_t rfl (xv_pop hh ?_))))))
  by_cases c : st h = 0
  · rw [decide_eq_true c, if_pos rfl, ← hg] at H
    refine br_t c (And.intro (vp_in_nI hpc (by decide)) ?_)
    rw [nI_clamp (by omega)]
    exact H
  · rw [decide_eq_false c, if_neg (by decide), ← nI_1] at H
    exact br_f c H
theorem sr_307 {post : Int32 → SX → Prop} (hpc : pc < 400) (ho : gx_operation u0 pc = nI 307) (hg : gx_target u0 pc = nI q) (hh : h < 80) (H : post (nI (if decide (st h = 0) = true then q else pc + 1)) (xs_mu u0 (nI h) r ov va ro ou tO tB cL eL bl st lr ll)) : wpX_steer post (xs_mu u0 (nI (h + 1)) r ov va ro ou tO tB cL eL bl st lr ll) (nI pc) := by
  refine And.intro (vp_in_nI hpc (by decide)) (nm_r (e' := nI 307) (by rw [nI_clamp (by omega)]; exact ho) (And.intro (vp_in_nI hpc (by decide)) (nm_e (br_f (by decide) (br_f (by decide) (br_f (by decide) (br_f (by decide) (br_t rfl (xv_pop hh ?_)))))))))
  by_cases c : st h = 0
  · rw [decide_eq_true c, if_pos rfl, ← hg] at H
    refine br_t c (And.intro (vp_in_nI hpc (by decide)) ?_)
    rw [nI_clamp (by omega)]
    exact H
  · rw [decide_eq_false c, if_neg (by decide), ← nI_1] at H
    exact br_f c H
theorem sr_303t {post : Int32 → SX → Prop} (hpc : pc < 400) (ho : gx_operation u0 pc = nI 303) (hh : h < 80) (hx : st h = gx_argument u0 pc) (H : post (nI (pc + 1)) (xs_mu u0 (nI h) r ov va ro ou tO tB cL eL bl st lr ll)) : wpX_steer post (xs_mu u0 (nI (h + 1)) r ov va ro ou tO tB cL eL bl st lr ll) (nI pc) := by
  rw [← nI_1] at H
  refine And.intro (vp_in_nI hpc (by decide)) (nm_r (e' := nI 303) (by rw [nI_clamp (by omega)]; exact ho) (And.intro (vp_in_nI hpc (by decide)) (nm_e (br_f (by decide) (br_f (by decide) (br_t rfl ?_))))))
  rw [nI_pred, nI_clamp (by omega : h < 2 ^ 31), nI_clamp (by omega : pc < 2 ^ 31)]
  exact And.intro (vp_in_nI hh (by decide)) (br_t hx (br_f (by decide) (nm_r (nI_pred h) (br_f (by decide) H))))
theorem sr_303f {post : Int32 → SX → Prop} (hpc : pc < 400) (ho : gx_operation u0 pc = nI 303) (hg : gx_target u0 pc = nI q) (hh : h < 80) (hx : ¬ st h = gx_argument u0 pc) (H : post (nI q) (xs_mu u0 (nI (h + 1)) r ov va ro ou tO tB cL eL bl st lr ll)) : wpX_steer post (xs_mu u0 (nI (h + 1)) r ov va ro ou tO tB cL eL bl st lr ll) (nI pc) := by
  rw [← hg] at H
  refine And.intro (vp_in_nI hpc (by decide)) (nm_r (e' := nI 303) (by rw [nI_clamp (by omega)]; exact ho) (And.intro (vp_in_nI hpc (by decide)) (nm_e (br_f (by decide) (br_f (by decide) (br_t rfl ?_))))))
  rw [nI_pred, nI_clamp (by omega : h < 2 ^ 31), nI_clamp (by omega : pc < 2 ^ 31)]
  refine And.intro (vp_in_nI hh (by decide)) (br_f hx (br_t rfl (nm_r (e' := nI (h + 1)) (Int32.sub_zero _) (br_t rfl (And.intro (vp_in_nI hpc (by decide)) ?_)))))
  rw [nI_clamp (by omega : pc < 2 ^ 31)]
  exact H
theorem sr_begin {post : Int32 → SX → Prop} (hpc : pc < 400) (ho : gx_operation u0 pc = nI t) (ht : t = 304 ∨ t = 305 ∨ t = 308 ∨ t = 310 ∨ t = 311) (H : wpX_begin (fun u => post (nI pc + 1) u) (xs_mu u0 (nI h) r ov va ro ou tO tB cL eL bl st lr ll) (nI t) (gx_argument u0 pc)) : wpX_steer post (xs_mu u0 (nI h) r ov va ro ou tO tB cL eL bl st lr ll) (nI pc) := by
  refine And.intro (vp_in_nI hpc (by decide)) (nm_r (e' := nI t) (by rw [nI_clamp (by omega)]; exact ho) (And.intro (vp_in_nI hpc (by decide)) (nm_r (e' := gx_argument u0 pc) (by rw [nI_clamp (by omega)]) (br_f (ni_ne (b := 301) (by omega) (by omega) (by decide)) (br_f (ni_ne (b := 302) (by omega) (by omega) (by decide)) (br_f (ni_ne (b := 303) (by omega) (by omega) (by decide)) (br_f (ni_ne (b := 306) (by omega) (by omega) (by decide)) (br_f (ni_ne (b := 307) (by omega) (by omega) (by decide)) (br_f (ni_ne (b := 309) (by omega) (by omega) (by decide)) H)))))))))
theorem bg_304 {post : SX → Prop} (H : post (xs_mu u0 (nI h) r ov va ro ou tO tB cL eL bl st lr ll)) : wpX_begin post (xs_mu u0 (nI (h + 1)) r ov va ro ou tO tB cL eL bl st lr ll) (nI 304) a :=
  br_f (by decide) (br_f (by decide) (br_f (by decide) (br_t rfl (nm_r (nI_pred h) H))))
theorem bg_305 {post : SX → Prop} (hl : l < 32) (H : post (xs_mu u0 (nI h) r ov va ro ou tO tB cL eL bl st (upd lr l 0) ll)) : wpX_begin post (xs_mu u0 (nI h) r ov va ro ou tO tB cL eL bl st lr ll) (nI 305) (nI l) :=
  br_t rfl (And.intro (vp_in_nI hl (by decide)) (nm_r (e' := upd lr l 0) (by rw [nI_clamp (by omega)]) H))
theorem bg_308 {post : SX → Prop} (hl : l < 32) (hh : h < 80) (H : post (xs_mu u0 (nI h) r ov va ro ou tO tB cL eL bl st (upd lr l 0) (upd ll l (st h)))) : wpX_begin post (xs_mu u0 (nI (h + 1)) r ov va ro ou tO tB cL eL bl st lr ll) (nI 308) (nI l) :=
  br_f (by decide) (br_t rfl (xv_pop hh (And.intro (vp_in_nI hl (by decide)) (nm_r (e' := upd ll l (st h)) (by rw [nI_clamp (by omega)]) (And.intro (vp_in_nI hl (by decide)) (nm_r (e' := upd lr l 0) (by rw [nI_clamp (by omega)]) H))))))
theorem bg_310 {post : SX → Prop} (hv : v < 16) (H : post (xs_mu u0 (nI h) r ov (upd va v (va v + 1)) ro ou tO tB cL eL bl st lr ll)) : wpX_begin post (xs_mu u0 (nI h) r ov va ro ou tO tB cL eL bl st lr ll) (nI 310) (nI v) :=
  br_f (by decide) (br_f (by decide) (br_t rfl (And.intro (vp_in_nI hv (by decide)) (And.intro (vp_in_nI hv (by decide)) (nm_r (e' := upd va v (va v + 1)) (by rw [nI_clamp (by omega)]) H)))))
theorem bg_311 {post : SX → Prop} (H : post (xs_mu u0 (nI h) r 1 va ro ou tO tB cL eL bl st lr ll)) : wpX_begin post (xs_mu u0 (nI h) r ov va ro ou tO tB cL eL bl st lr ll) (nI 311) a :=
  br_f (by decide) (br_f (by decide) (br_f (by decide) (br_f (by decide) H)))
theorem xv_may_a {post : Int32 → SX → Prop} (hl : l < 32) (c : lr l = 20) (H : post 0 (xs_mu u0 (nI h) r ov va ro ou tO tB cL eL bl st lr ll)) : wpX_mayBegin post (xs_mu u0 (nI h) r ov va ro ou tO tB cL eL bl st lr ll) (nI l) :=
  And.intro (vp_in_nI hl (by decide)) (by rw [nI_clamp (by omega)]; exact br_t c H)
theorem xv_may_b {post : Int32 → SX → Prop} (hl : l < 32) (c : ¬ lr l = 20) (H : post 0 (xs_mu u0 (nI h) (nI 300) 1 va ro ou tO tB cL eL bl st lr ll)) : wpX_mayBegin post (xs_mu u0 (nI h) (nI 300) ov va ro ou tO tB cL eL bl st lr ll) (nI l) :=
  And.intro (vp_in_nI hl (by decide)) (by rw [nI_clamp (by omega)]; exact br_f c (br_t rfl H))
theorem xv_may_c {post : Int32 → SX → Prop} (hl : l < 32) (c : ¬ lr l = 20) (hr : rr < 300) (H : post 1 (xs_mu u0 (nI h) (nI (rr + 1)) ov va ro ou tO tB cL eL bl st (upd lr l (lr l + 1)) ll)) : wpX_mayBegin post (xs_mu u0 (nI h) (nI rr) ov va ro ou tO tB cL eL bl st lr ll) (nI l) :=
  And.intro (vp_in_nI hl (by decide)) (by rw [nI_clamp (by omega)]; exact br_f c (br_f (ni_ne (b := 300) (by omega) (by omega) (by decide)) (nm_r (nI_1 rr) (And.intro (vp_in_nI hl (by decide)) (And.intro (vp_in_nI hl (by decide)) (nm_e H))))))
theorem sr_306a {post : Int32 → SX → Prop} (hpc : pc < 400) (ho : gx_operation u0 pc = nI 306) (ha : gx_argument u0 pc = nI l) (hg : gx_target u0 pc = nI q) (hl : l < 32) (c : lr l = 20) (H : post (nI q) (xs_mu u0 (nI h) r ov va ro ou tO tB cL eL bl st lr ll)) : wpX_steer post (xs_mu u0 (nI h) r ov va ro ou tO tB cL eL bl st lr ll) (nI pc) := by
  rw [← hg] at H
  refine And.intro (vp_in_nI hpc (by decide)) (nm_r (e' := nI 306) (by rw [nI_clamp (by omega)]; exact ho) (And.intro (vp_in_nI hpc (by decide)) (nm_r (e' := nI l) (by rw [nI_clamp (by omega)]; exact ha) (br_f (by decide) (br_f (by decide) (br_f (by decide) (br_t rfl (xv_may_a hl c (br_t rfl (And.intro (vp_in_nI hpc (by decide)) ?_))))))))))
  rw [nI_clamp (by omega)]
  exact H
theorem sr_306b {post : Int32 → SX → Prop} (hpc : pc < 400) (ho : gx_operation u0 pc = nI 306) (ha : gx_argument u0 pc = nI l) (hg : gx_target u0 pc = nI q) (hl : l < 32) (c : ¬ lr l = 20) (H : post (nI q) (xs_mu u0 (nI h) (nI 300) 1 va ro ou tO tB cL eL bl st lr ll)) : wpX_steer post (xs_mu u0 (nI h) (nI 300) ov va ro ou tO tB cL eL bl st lr ll) (nI pc) := by
  rw [← hg] at H
  refine And.intro (vp_in_nI hpc (by decide)) (nm_r (e' := nI 306) (by rw [nI_clamp (by omega)]; exact ho) (And.intro (vp_in_nI hpc (by decide)) (nm_r (e' := nI l) (by rw [nI_clamp (by omega)]; exact ha) (br_f (by decide) (br_f (by decide) (br_f (by decide) (br_t rfl (xv_may_b hl c (br_t rfl (And.intro (vp_in_nI hpc (by decide)) ?_))))))))))
  rw [nI_clamp (by omega)]
  exact H
theorem sr_306c {post : Int32 → SX → Prop} (hpc : pc < 400) (ho : gx_operation u0 pc = nI 306) (ha : gx_argument u0 pc = nI l) (hl : l < 32) (c : ¬ lr l = 20) (hr : rr < 300) (H : post (nI (pc + 1)) (xs_mu u0 (nI h) (nI (rr + 1)) ov va ro ou tO tB cL eL bl st (upd lr l (lr l + 1)) ll)) : wpX_steer post (xs_mu u0 (nI h) (nI rr) ov va ro ou tO tB cL eL bl st lr ll) (nI pc) := by
  rw [← nI_1] at H
  exact And.intro (vp_in_nI hpc (by decide)) (nm_r (e' := nI 306) (by rw [nI_clamp (by omega)]; exact ho) (And.intro (vp_in_nI hpc (by decide)) (nm_r (e' := nI l) (by rw [nI_clamp (by omega)]; exact ha) (br_f (by decide) (br_f (by decide) (br_f (by decide) (br_t rfl (xv_may_c hl c hr (br_f (by decide) H)))))))))
theorem vl_and (hl : l < 32) (hv : v < 16) : nI (32 * v + l) &&& 31 = nI l := by
  rw [pk_andN (by omega) 5 (by decide)]
  exact congrArg nI (by omega)
theorem vl_shr (hl : l < 32) (hv : v < 16) : nI (32 * v + l) >>> ((5 : Int32) &&& 31) = nI v := by
  rw [pk_shrN (by omega) _ 5 (by decide)]
  exact congrArg nI (by omega)
theorem sr_309a {post : Int32 → SX → Prop} (hpc : pc < 400) (ho : gx_operation u0 pc = nI 309) (ha : gx_argument u0 pc = nI (32 * v + l)) (hg : gx_target u0 pc = nI q) (hl : l < 32) (hv : v < 16) (c : lr l = 20) (H : post (nI q) (xs_mu u0 (nI h) r ov va ro ou tO tB cL eL bl st lr ll)) : wpX_steer post (xs_mu u0 (nI h) r ov va ro ou tO tB cL eL bl st lr ll) (nI pc) := by
  rw [← hg] at H
  refine And.intro (vp_in_nI hpc (by decide)) (nm_r (e' := nI 309) (by rw [nI_clamp (by omega)]; exact ho) (And.intro (vp_in_nI hpc (by decide)) (nm_r (e' := nI (32 * v + l)) (by rw [nI_clamp (by omega)]; exact ha) (br_f (by decide) (br_f (by decide) (br_f (by decide) (br_f (by decide) (br_f (by decide) (br_t rfl ?_)))))))))
  rw [vl_and hl hv, vl_shr hl hv]
  refine xv_may_a hl c (br_t rfl (br_t rfl (And.intro (vp_in_nI hpc (by decide)) ?_)))
  rw [nI_clamp (by omega)]
  exact H
theorem sr_309b {post : Int32 → SX → Prop} (hpc : pc < 400) (ho : gx_operation u0 pc = nI 309) (ha : gx_argument u0 pc = nI (32 * v + l)) (hg : gx_target u0 pc = nI q) (hl : l < 32) (hv : v < 16) (c : ¬ lr l = 20) (H : post (nI q) (xs_mu u0 (nI h) (nI 300) 1 va ro ou tO tB cL eL bl st lr ll)) : wpX_steer post (xs_mu u0 (nI h) (nI 300) ov va ro ou tO tB cL eL bl st lr ll) (nI pc) := by
  rw [← hg] at H
  refine And.intro (vp_in_nI hpc (by decide)) (nm_r (e' := nI 309) (by rw [nI_clamp (by omega)]; exact ho) (And.intro (vp_in_nI hpc (by decide)) (nm_r (e' := nI (32 * v + l)) (by rw [nI_clamp (by omega)]; exact ha) (br_f (by decide) (br_f (by decide) (br_f (by decide) (br_f (by decide) (br_f (by decide) (br_t rfl ?_)))))))))
  rw [vl_and hl hv, vl_shr hl hv]
  refine xv_may_b hl c (br_t rfl (br_t rfl (And.intro (vp_in_nI hpc (by decide)) ?_)))
  rw [nI_clamp (by omega)]
  exact H
theorem sr_309c {post : Int32 → SX → Prop} (hpc : pc < 400) (ho : gx_operation u0 pc = nI 309) (ha : gx_argument u0 pc = nI (32 * v + l)) (hg : gx_target u0 pc = nI q) (hl : l < 32) (hv : v < 16) (c : ¬ lr l = 20) (hr : rr < 300) (H : post (nI (if decide (ll l < va v) = true then q else pc + 1)) (xs_mu u0 (nI h) (nI (rr + 1)) ov va ro ou tO tB cL eL bl st (upd lr l (lr l + 1)) ll)) : wpX_steer post (xs_mu u0 (nI h) (nI rr) ov va ro ou tO tB cL eL bl st lr ll) (nI pc) := by
  refine And.intro (vp_in_nI hpc (by decide)) (nm_r (e' := nI 309) (by rw [nI_clamp (by omega)]; exact ho) (And.intro (vp_in_nI hpc (by decide)) (nm_r (e' := nI (32 * v + l)) (by rw [nI_clamp (by omega)]; exact ha) (br_f (by decide) (br_f (by decide) (br_f (by decide) (br_f (by decide) (br_f (by decide) (br_t rfl ?_)))))))))
  rw [vl_and hl hv, vl_shr hl hv]
  refine xv_may_c hl c hr (br_f (by decide) (And.intro (vp_in_nI hv (by decide)) (And.intro (vp_in_nI hl (by decide)) ?_)))
  rw [nI_clamp (by omega : l < 2 ^ 31), nI_clamp (by omega : v < 2 ^ 31)]
  by_cases d : ll l < va v
  · rw [decide_eq_true d, if_pos rfl, ← hg] at H
    refine br_t d (br_t rfl (And.intro (vp_in_nI hpc (by decide)) ?_))
    rw [nI_clamp (by omega)]
    exact H
  · rw [decide_eq_false d, if_neg (by decide), ← nI_1] at H
    exact br_f d (br_f (by decide) H)
end
end
section
/-- the stack in the array -/
def xm_K (st : Nat → Int32) : List Int32 → Prop
  | [] => True
  | x :: s => st s.length = x ∧ xm_K st s
theorem xm_K_upd {st : Nat → Int32} {k : Nat} {v : Int32} : ∀ (s : List Int32), s.length ≤ k → xm_K st s → xm_K (upd st k v) s := by
  intro s
  induction s with
  | nil => intro _ _; trivial
  | cons x s ih =>
    intro hk h
    rw [List.length_cons] at hk
    exact ⟨(pk_un (by omega)).trans h.1, ih (by omega) h.2⟩
theorem xm_K_push {st : Nat → Int32} {v : Int32} {s : List Int32} (h : xm_K st s) : xm_K (upd st s.length v) (v :: s) := ⟨pk_us, xm_K_upd s (Nat.le_refl _) h⟩
/-- the machine in the state -/
def xm_R (u0 : SX) (m : vm_M) (u : SX) : Prop :=
  ∃ st, u = xs_mu u0 (nI m.1.length) (nI m.2.1) (nI m.2.2.1) m.2.2.2.1.1 m.2.2.2.1.2.1 m.2.2.2.1.2.2.1 m.2.2.2.1.2.2.2.1 m.2.2.2.1.2.2.2.2.1 m.2.2.2.1.2.2.2.2.2.1 m.2.2.2.1.2.2.2.2.2.2.1 m.2.2.2.1.2.2.2.2.2.2.2 st m.2.2.2.2.1 m.2.2.2.2.2 ∧ xm_K st m.1 ∧ m.1.length ≤ 80 ∧ m.2.1 ≤ 300
section
variable {u0 : SX} {E : ds_E} {t pc q : Nat} {u : SX}
theorem xm_dat {m m' : vm_M} (hpc : pc < 400) (ho : gx_operation u0 pc = nI t) (ht3 : t < 300) (hE1 : ∀ j, j < 4 → gx_taken u0 j = E.1 j) (hE2 : gx_time u0 = E.2) (hd : vm_dat E t m = some m') (hR : xm_R u0 m u) : ∃ u', xm_R u0 m' u' ∧ ∀ post : Int32 → SX → Prop, post (nI (pc + 1)) u' → wpX_carryOut post u (nI pc) := by
  obtain ⟨s, r, ov, D, lr, ll⟩ := m
  obtain ⟨va, ro, ou, tO, tB, cL, eL, bl⟩ := D
  obtain ⟨st, rfl, hK, hl, hr⟩ := hR
  have hl : s.length ≤ 80 := hl
  unfold vm_dat at hd
  by_cases c1 : (10 ≤ t ∧ t ≤ 25) ∨ (30 ≤ t ∧ t ≤ 33) ∨ (66 ≤ t ∧ t ≤ 68)
  · rw [if_pos c1] at hd
    cases s with
    | nil => exact absurd hd (by intro z; cases z)
    | cons x s =>
      obtain ⟨rfl, hK⟩ := hK
      rw [List.length_cons] at hl
      have hd : some (s, r, ov, ex_pr E t (st s.length) 0 0 (va, ro, ou, tO, tB, cL, eL, bl), lr, ll) = some m' := hd
      injection hd with hd
      subst hd
      by_cases d1 : t ≤ 25
      · have e : ex_pr E t (st s.length) 0 0 (va, ro, ou, tO, tB, cL, eL, bl) = (upd va (t - 10) (st s.length), ro, ou, tO, tB, cL, eL, bl) := by
          unfold ex_pr
          rw [if_pos (by omega)]
          rfl
        rw [e]
        refine ⟨_, ⟨st, rfl, hK, by show s.length ≤ 80; omega, hr⟩, fun post H => co_change (h := s.length + 1) hpc ho (by omega) (xv_change_a (by omega) (by omega) ?_)⟩
        rw [nI_1]
        exact H
      · by_cases d2 : t ≤ 33
        · have e : ex_pr E t (st s.length) 0 0 (va, ro, ou, tO, tB, cL, eL, bl) = (va, ro, upd ou (t - 30) (st s.length), tO, tB, cL, eL, bl) := by
            unfold ex_pr
            rw [if_neg (by omega), if_pos (by omega)]
            rfl
          rw [e]
          refine ⟨_, ⟨st, rfl, hK, by show s.length ≤ 80; omega, hr⟩, fun post H => co_change (h := s.length + 1) hpc ho (by omega) (xv_change_b (by omega) (by omega) ?_)⟩
          rw [nI_1]
          exact H
        · have e : ex_pr E t (st s.length) 0 0 (va, ro, ou, tO, tB, cL, eL, bl) = ex_edg (t - 66) (decide (st s.length ≠ 0)) (va, ro, ou, tO, tB, cL, eL, bl) := by
            unfold ex_pr
            rw [if_neg (by omega), if_neg (by omega), if_neg (by omega), if_neg (by omega), if_neg (by omega)]
          rw [e]
          refine ⟨_, ⟨st, rfl, hK, by show s.length ≤ 80; omega, hr⟩, fun post H => co_block (h := s.length + 1) hpc ho (by omega) (by omega) (br_t (nI_le (a := 63) (by omega) (by omega)) (br_t (nI_le (a := 66) (by omega) (by omega)) ?_))⟩
          have es : nI t - 66 = nI (t - 66) := pk_sub (b := 66) (by omega)
          rw [es]
          refine xv_edge (by omega) (by omega) fun D' eD => ?_
          rw [eD, nI_1]
          exact H
  rw [if_neg c1] at hd
  by_cases c2 : t = 34 ∨ (60 ≤ t ∧ t ≤ 62)
  · rw [if_pos c2] at hd
    cases s with
    | nil => exact absurd hd (by intro z; cases z)
    | cons y s =>
      cases s with
      | nil => exact absurd hd (by intro z; cases z)
      | cons x s =>
        obtain ⟨rfl, rfl, hK⟩ := hK
        rw [List.length_cons, List.length_cons] at hl
        have hd : some (s, r, ov, ex_pr E t (st s.length) (st (s.length + 1)) 0 (va, ro, ou, tO, tB, cL, eL, bl), lr, ll) = some m' := hd
        injection hd with hd
        subst hd
        by_cases d1 : t = 34
        · subst d1
          refine ⟨_, ⟨st, rfl, hK, by show s.length ≤ 80; omega, hr⟩, fun post H => co_change (h := s.length + 2) hpc ho (by omega) (xv_change_c (by omega) ?_)⟩
          rw [nI_1]
          exact H
        · have e : ex_pr E t (st s.length) (st (s.length + 1)) 0 (va, ro, ou, tO, tB, cL, eL, bl) = ex_tmr E (t - 60) (decide (st s.length ≠ 0)) (st (s.length + 1)) (va, ro, ou, tO, tB, cL, eL, bl) := by
            unfold ex_pr
            rw [if_neg (by omega), if_neg (by omega), if_neg (by omega), if_pos (by omega)]
          rw [e]
          refine ⟨_, ⟨st, rfl, hK, by show s.length ≤ 80; omega, hr⟩, fun post H => co_block (h := s.length + 2) hpc ho (by omega) (by omega) (br_f (nI_ge (b := 63) (by omega) (by decide)) ?_)⟩
          have es : nI t - 60 = nI (t - 60) := pk_sub (b := 60) (by omega)
          rw [es]
          refine xv_timer hE2 (by omega) (by omega) fun D' eD => ?_
          rw [eD, nI_1]
          exact H
  rw [if_neg c2] at hd
  by_cases c3 : 63 ≤ t ∧ t ≤ 65
  · rw [if_pos c3] at hd
    cases s with
    | nil => exact absurd hd (by intro z; cases z)
    | cons z s =>
      cases s with
      | nil => exact absurd hd (by intro z; cases z)
      | cons y s =>
        cases s with
        | nil => exact absurd hd (by intro z; cases z)
        | cons x s =>
          obtain ⟨rfl, rfl, rfl, hK⟩ := hK
          rw [List.length_cons, List.length_cons, List.length_cons] at hl
          have hd : some (s, r, ov, ex_pr E t (st s.length) (st (s.length + 1)) (st (s.length + 2)) (va, ro, ou, tO, tB, cL, eL, bl), lr, ll) = some m' := hd
          injection hd with hd
          subst hd
          have e : ex_pr E t (st s.length) (st (s.length + 1)) (st (s.length + 2)) (va, ro, ou, tO, tB, cL, eL, bl) = ex_cnt (t - 63) (decide (st s.length ≠ 0)) (decide (st (s.length + 1) ≠ 0)) (st (s.length + 2)) (va, ro, ou, tO, tB, cL, eL, bl) := by
            unfold ex_pr
            rw [if_neg (by omega), if_neg (by omega), if_neg (by omega), if_neg (by omega), if_pos (by omega)]
          rw [e]
          refine ⟨_, ⟨st, rfl, hK, by show s.length ≤ 80; omega, hr⟩, fun post H => co_block (h := s.length + 3) hpc ho (by omega) (by omega) (br_t (nI_le (a := 63) (by omega) (by omega)) (br_f (nI_ge (b := 66) (by omega) (by decide)) ?_))⟩
          have es : nI t - 63 = nI (t - 63) := pk_sub (b := 63) (by omega)
          rw [es]
          refine xv_counter (by omega) (by omega) fun D' eD => ?_
          rw [eD, nI_1]
          exact H
  rw [if_neg c3] at hd
  by_cases c4 : (100 ≤ t ∧ t ≤ 115) ∨ (120 ≤ t ∧ t ≤ 127) ∨ (143 ≤ t ∧ t ≤ 157)
  · rw [if_pos c4] at hd
    by_cases hl8 : s.length < 80
    · have hd : (if s.length < 80 then some (ev_leaf E (va, ro, ou, tO, tB, cL, eL, bl) t :: s, r, ov, (va, ro, ou, tO, tB, cL, eL, bl), lr, ll) else none) = some m' := hd
      rw [if_pos hl8] at hd
      injection hd with hd
      subst hd
      have hK2 := xm_K_push (v := ev_leaf E (va, ro, ou, tO, tB, cL, eL, bl) t) hK
      refine ⟨_, ⟨_, rfl, hK2, by show s.length + 1 ≤ 80; omega, hr⟩, fun post H => ?_⟩
      by_cases d1 : t < 120
      · have e : ev_leaf E (va, ro, ou, tO, tB, cL, eL, bl) t = va (t - 100) := by
          unfold ev_leaf
          rw [if_pos d1]
          rfl
        rw [e] at H
        refine co_load hpc ho (by omega) (by omega) (xv_load_a (by omega) hl8 ?_)
        rw [nI_1]
        exact H
      · by_cases d2 : t < 124
        · have e : ev_leaf E (va, ro, ou, tO, tB, cL, eL, bl) t = gx_taken u0 (t - 120) := by
            unfold ev_leaf
            rw [if_neg d1, if_pos d2, hE1 _ (by omega)]
          rw [e] at H
          refine co_load hpc ho (by omega) (by omega) (xv_load_b (by omega) hl8 ?_)
          rw [nI_1]
          exact H
        · by_cases d3 : t < 128
          · have e : ev_leaf E (va, ro, ou, tO, tB, cL, eL, bl) t = ou (t - 124) := by
              unfold ev_leaf
              rw [if_neg d1, if_neg d2, if_pos d3]
              rfl
            rw [e] at H
            refine co_load hpc ho (by omega) (by omega) (xv_load_c (by omega) hl8 ?_)
            rw [nI_1]
            exact H
          · have e : ev_leaf E (va, ro, ou, tO, tB, cL, eL, bl) t = bl (t - 143) := by
              unfold ev_leaf
              rw [if_neg d1, if_neg d2, if_neg d3, if_pos (by omega)]
              rfl
            rw [e] at H
            refine co_blk hpc ho (by omega) (by omega) hl8 ?_
            rw [nI_1]
            exact H
    · have hd : (if s.length < 80 then some (ev_leaf E (va, ro, ou, tO, tB, cL, eL, bl) t :: s, r, ov, (va, ro, ou, tO, tB, cL, eL, bl), lr, ll) else none) = some m' := hd
      rw [if_neg hl8] at hd
      exact absurd hd (by intro z; cases z)
  rw [if_neg c4] at hd
  by_cases c5 : t = 128
  · rw [if_pos c5] at hd
    cases s with
    | nil => exact absurd hd (by intro z; cases z)
    | cons x s =>
      obtain ⟨rfl, hK⟩ := hK
      rw [List.length_cons] at hl
      have hd : some (ro (st s.length &&& 7).toNatClampNeg :: s, r, ov, (va, ro, ou, tO, tB, cL, eL, bl), lr, ll) = some m' := hd
      injection hd with hd
      subst hd
      subst c5
      refine ⟨_, ⟨_, rfl, xm_K_push hK, by show s.length + 1 ≤ 80; omega, hr⟩, fun post H => co_load (h := s.length + 1) hpc ho (by omega) (by omega) (xv_load_d (by omega) ?_)⟩
      rw [nI_1]
      exact H
  rw [if_neg c5] at hd
  by_cases c6 : t = 139
  · rw [if_pos c6] at hd
    cases s with
    | nil => exact absurd hd (by intro z; cases z)
    | cons x s =>
      obtain ⟨rfl, hK⟩ := hK
      rw [List.length_cons] at hl
      have hd : some (ev_one (st s.length) :: s, r, ov, (va, ro, ou, tO, tB, cL, eL, bl), lr, ll) = some m' := hd
      injection hd with hd
      subst hd
      subst c6
      refine ⟨_, ⟨_, rfl, xm_K_push hK, by show s.length + 1 ≤ 80; omega, hr⟩, fun post H => co_compute (h := s.length + 1) hpc ho (by omega) (by omega) (xv_compute_1 (by omega) ?_)⟩
      rw [nI_1]
      exact H
  rw [if_neg c6] at hd
  by_cases c7 : t = 142
  · rw [if_pos c7] at hd
    cases s with
    | nil => exact absurd hd (by intro z; cases z)
    | cons z s =>
      cases s with
      | nil => exact absurd hd (by intro z; cases z)
      | cons y s =>
        cases s with
        | nil => exact absurd hd (by intro z; cases z)
        | cons x s =>
          obtain ⟨rfl, rfl, rfl, hK⟩ := hK
          rw [List.length_cons, List.length_cons, List.length_cons] at hl
          have hd : some ((if st s.length = 0 then st (s.length + 2) else st (s.length + 1)) :: s, r, ov, (va, ro, ou, tO, tB, cL, eL, bl), lr, ll) = some m' := hd
          injection hd with hd
          subst hd
          subst c7
          refine ⟨_, ⟨_, rfl, xm_K_push hK, by show s.length + 1 ≤ 80; omega, hr⟩, fun post H => co_compute (h := s.length + 3) hpc ho (by omega) (by omega) (xv_compute_3 (by omega) ?_)⟩
          rw [nI_1]
          exact H
  rw [if_neg c7] at hd
  by_cases c8 : 130 ≤ t ∧ t ≤ 141
  · rw [if_pos c8] at hd
    cases s with
    | nil => exact absurd hd (by intro z; cases z)
    | cons y s =>
      cases s with
      | nil => exact absurd hd (by intro z; cases z)
      | cons x s =>
        obtain ⟨rfl, rfl, hK⟩ := hK
        rw [List.length_cons, List.length_cons] at hl
        have hd : some (ev_two t (st s.length) (st (s.length + 1)) :: s, r, ov, (va, ro, ou, tO, tB, cL, eL, bl), lr, ll) = some m' := hd
        injection hd with hd
        subst hd
        refine ⟨_, ⟨_, rfl, xm_K_push hK, by show s.length + 1 ≤ 80; omega, hr⟩, fun post H => co_compute (h := s.length + 2) hpc ho (by omega) (by omega) (xv_compute_2 (by omega) c6 (by omega) (by omega) ?_)⟩
        rw [nI_1]
        exact H
  · rw [if_neg c8] at hd
    exact absurd hd (by intro z; cases z)
theorem xm_ins {m m' : vm_M} {b : Bool} (hpc : pc < 400) (ho : gx_operation u0 pc = nI t) (hg : gx_target u0 pc = nI q) (hE1 : ∀ j, j < 4 → gx_taken u0 j = E.1 j) (hE2 : gx_time u0 = E.2) (hd : vm_ins E t (gx_argument u0 pc) m = some (b, m')) (hR : xm_R u0 m u) : ∃ u', xm_R u0 m' u' ∧ ∀ post : Int32 → SX → Prop, post (nI (if b = true then q else pc + 1)) u' → wpX_carryOut post u (nI pc) := by
  unfold vm_ins at hd
  by_cases c0 : t < 300
  · rw [if_pos c0] at hd
    cases hv : vm_dat E t m with
    | none => rw [hv] at hd; exact absurd hd (by intro z; cases z)
    | some y =>
      rw [hv] at hd
      have hd : some (false, y) = some (b, m') := hd
      injection hd with hd
      injection hd with e1 e2
      subst e1
      subst e2
      rw [if_neg (by decide)]
      exact xm_dat hpc ho c0 hE1 hE2 hv hR
  rw [if_neg c0] at hd
  obtain ⟨s, r, ov, D, lr, ll⟩ := m
  obtain ⟨va, ro, ou, tO, tB, cL, eL, bl⟩ := D
  obtain ⟨st, rfl, hK, hl, hr⟩ := hR
  have hl : s.length ≤ 80 := hl
  have hr : r ≤ 300 := hr
  by_cases c1 : t = 300
  · rw [if_pos c1] at hd
    by_cases hl8 : s.length < 80
    · have hd : (if s.length < 80 then some (false, (gx_argument u0 pc :: s, r, ov, (va, ro, ou, tO, tB, cL, eL, bl), lr, ll)) else none) = some (b, m') := hd
      rw [if_pos hl8] at hd
      injection hd with hd
      injection hd with e1 e2
      subst e1 e2 c1
      refine ⟨_, ⟨_, rfl, xm_K_push hK, by show s.length + 1 ≤ 80; omega, hr⟩, fun post H => co_push hpc ho hl8 ?_⟩
      rw [nI_1]
      exact H
    · have hd : (if s.length < 80 then some (false, (gx_argument u0 pc :: s, r, ov, (va, ro, ou, tO, tB, cL, eL, bl), lr, ll)) else none) = some (b, m') := hd
      rw [if_neg hl8] at hd
      exact absurd hd (by intro z; cases z)
  rw [if_neg c1] at hd
  by_cases c2 : t = 301
  · rw [if_pos c2] at hd
    injection hd with hd
    injection hd with e1 e2
    subst e1 e2 c2
    exact ⟨_, ⟨st, rfl, hK, hl, hr⟩, fun post H => co_steer hpc ho (by decide) (by decide) (sr_301 hpc ho hg H)⟩
  rw [if_neg c2] at hd
  by_cases c3 : t = 302 ∨ t = 307
  · rw [if_pos c3] at hd
    cases s with
    | nil => exact absurd hd (by intro z; cases z)
    | cons x s =>
      obtain ⟨rfl, hK⟩ := hK
      rw [List.length_cons] at hl
      have hd : some (decide (st s.length = 0), (s, r, ov, (va, ro, ou, tO, tB, cL, eL, bl), lr, ll)) = some (b, m') := hd
      injection hd with hd
      injection hd with e1 e2
      subst e1 e2
      cases c3 with
      | inl c3 =>
        subst c3
        exact ⟨_, ⟨st, rfl, hK, by show s.length ≤ 80; omega, hr⟩, fun post H => co_steer (h := s.length + 1) hpc ho (by decide) (by decide) (sr_302 hpc ho hg (by omega) H)⟩
      | inr c3 =>
        subst c3
        exact ⟨_, ⟨st, rfl, hK, by show s.length ≤ 80; omega, hr⟩, fun post H => co_steer (h := s.length + 1) hpc ho (by decide) (by decide) (sr_307 hpc ho hg (by omega) H)⟩
  rw [if_neg c3] at hd
  by_cases c4 : t = 303
  · rw [if_pos c4] at hd
    cases s with
    | nil => exact absurd hd (by intro z; cases z)
    | cons x s =>
      obtain ⟨rfl, hK⟩ := hK
      rw [List.length_cons] at hl
      subst c4
      have hd : (if st s.length = gx_argument u0 pc then some (false, (s, r, ov, (va, ro, ou, tO, tB, cL, eL, bl), lr, ll)) else some (true, (st s.length :: s, r, ov, (va, ro, ou, tO, tB, cL, eL, bl), lr, ll))) = some (b, m') := hd
      by_cases hx : st s.length = gx_argument u0 pc
      · rw [if_pos hx] at hd
        injection hd with hd
        injection hd with e1 e2
        subst e1 e2
        exact ⟨_, ⟨st, rfl, hK, by show s.length ≤ 80; omega, hr⟩, fun post H => co_steer (h := s.length + 1) hpc ho (by decide) (by decide) (sr_303t hpc ho (by omega) hx H)⟩
      · rw [if_neg hx] at hd
        injection hd with hd
        injection hd with e1 e2
        subst e1 e2
        exact ⟨_, ⟨st, rfl, ⟨rfl, hK⟩, hl, hr⟩, fun post H => co_steer (h := s.length + 1) hpc ho (by decide) (by decide) (sr_303f hpc ho hg (by omega) hx H)⟩
  rw [if_neg c4] at hd
  by_cases c5 : t = 304
  · rw [if_pos c5] at hd
    cases s with
    | nil => exact absurd hd (by intro z; cases z)
    | cons x s =>
      obtain ⟨rfl, hK⟩ := hK
      rw [List.length_cons] at hl
      subst c5
      have hd : some (false, (s, r, ov, (va, ro, ou, tO, tB, cL, eL, bl), lr, ll)) = some (b, m') := hd
      injection hd with hd
      injection hd with e1 e2
      subst e1 e2
      refine ⟨_, ⟨st, rfl, hK, by show s.length ≤ 80; omega, hr⟩, fun post H => co_steer (h := s.length + 1) hpc ho (by decide) (by decide) (sr_begin hpc ho (by decide) (bg_304 ?_))⟩
      rw [nI_1]
      exact H
  rw [if_neg c5] at hd
  by_cases c6 : t = 311
  · rw [if_pos c6] at hd
    injection hd with hd
    injection hd with e1 e2
    subst e1 e2 c6
    refine ⟨_, ⟨st, rfl, hK, hl, hr⟩, fun post H => co_steer hpc ho (by decide) (by decide) (sr_begin hpc ho (by decide) (bg_311 ?_))⟩
    rw [nI_1]
    exact H
  rw [if_neg c6] at hd
  by_cases c7 : gx_argument u0 pc = nI (gx_argument u0 pc).toNatClampNeg ∧ (gx_argument u0 pc).toNatClampNeg < 512
  · rw [if_pos c7] at hd
    obtain ⟨ha, ha5⟩ := c7
    generalize (gx_argument u0 pc).toNatClampNeg = a at ha ha5 hd
    by_cases d1 : t = 305
    · rw [if_pos d1] at hd
      by_cases hl3 : a < 32
      · rw [if_pos hl3] at hd
        injection hd with hd
        injection hd with e1 e2
        subst e1 e2 d1
        refine ⟨_, ⟨st, rfl, hK, hl, hr⟩, fun post H => co_steer hpc ho (by decide) (by decide) (sr_begin hpc ho (by decide) ?_)⟩
        rw [ha]
        refine bg_305 hl3 ?_
        rw [nI_1]
        exact H
      · rw [if_neg hl3] at hd
        exact absurd hd (by intro z; cases z)
    rw [if_neg d1] at hd
    by_cases d2 : t = 306
    · rw [if_pos d2] at hd
      by_cases hl3 : a < 32
      · rw [if_pos hl3] at hd
        subst d2
        by_cases e20 : lr a = 20
        · rw [show vm_may a (s, r, ov, (va, ro, ou, tO, tB, cL, eL, bl), lr, ll) = (false, (s, r, ov, (va, ro, ou, tO, tB, cL, eL, bl), lr, ll)) from if_pos e20] at hd
          injection hd with hd
          injection hd with e1 e2
          subst e1 e2
          exact ⟨_, ⟨st, rfl, hK, hl, hr⟩, fun post H => co_steer hpc ho (by decide) (by decide) (sr_306a hpc ho ha hg hl3 e20 H)⟩
        · by_cases e3 : r = 300
          · subst e3
            rw [show vm_may a (s, 300, ov, (va, ro, ou, tO, tB, cL, eL, bl), lr, ll) = (false, (s, 300, 1, (va, ro, ou, tO, tB, cL, eL, bl), lr, ll)) from by unfold vm_may; rw [if_neg e20]; rfl] at hd
            injection hd with hd
            injection hd with e1 e2
            subst e1 e2
            exact ⟨_, ⟨st, rfl, hK, hl, hr⟩, fun post H => co_steer hpc ho (by decide) (by decide) (sr_306b hpc ho ha hg hl3 e20 H)⟩
          · rw [show vm_may a (s, r, ov, (va, ro, ou, tO, tB, cL, eL, bl), lr, ll) = (true, (s, r + 1, ov, (va, ro, ou, tO, tB, cL, eL, bl), upd lr a (lr a + 1), ll)) from by unfold vm_may; rw [if_neg e20, if_neg e3]] at hd
            injection hd with hd
            injection hd with e1 e2
            subst e1 e2
            exact ⟨_, ⟨st, rfl, hK, hl, by show r + 1 ≤ 300; omega⟩, fun post H => co_steer hpc ho (by decide) (by decide) (sr_306c (rr := r) hpc ho ha hl3 e20 (by omega) H)⟩
      · rw [if_neg hl3] at hd
        exact absurd hd (by intro z; cases z)
    rw [if_neg d2] at hd
    by_cases d3 : t = 308
    · rw [if_pos d3] at hd
      by_cases hl3 : a < 32 ∧ 1 ≤ s.length
      · have hd : (if a < 32 ∧ 1 ≤ s.length then some (false, (s.tail, r, ov, (va, ro, ou, tO, tB, cL, eL, bl), upd lr a 0, upd ll a (s.headD 0))) else none) = some (b, m') := hd
        rw [if_pos hl3] at hd
        cases s with
        | nil => exact absurd hl3.2 (by decide)
        | cons x s =>
          obtain ⟨rfl, hK⟩ := hK
          rw [List.length_cons] at hl
          have hd : some (false, (s, r, ov, (va, ro, ou, tO, tB, cL, eL, bl), upd lr a 0, upd ll a (st s.length))) = some (b, m') := hd
          injection hd with hd
          injection hd with e1 e2
          subst e1 e2 d3
          refine ⟨_, ⟨st, rfl, hK, by show s.length ≤ 80; omega, hr⟩, fun post H => co_steer (h := s.length + 1) hpc ho (by decide) (by decide) (sr_begin hpc ho (by decide) ?_)⟩
          rw [ha]
          refine bg_308 hl3.1 (by omega) ?_
          rw [nI_1]
          exact H
      · have hd : (if a < 32 ∧ 1 ≤ s.length then some (false, (s.tail, r, ov, (va, ro, ou, tO, tB, cL, eL, bl), upd lr a 0, upd ll a (s.headD 0))) else none) = some (b, m') := hd
        rw [if_neg hl3] at hd
        exact absurd hd (by intro z; cases z)
    rw [if_neg d3] at hd
    by_cases d4 : t = 309
    · rw [if_pos d4] at hd
      subst d4
      have ha' : gx_argument u0 pc = nI (32 * (a / 32) + a % 32) := by
        rw [ha]
        exact congrArg nI (by omega)
      have hl3 : a % 32 < 32 := by omega
      have hv3 : a / 32 < 16 := by omega
      by_cases e20 : lr (a % 32) = 20
      · rw [show vm_may (a % 32) (s, r, ov, (va, ro, ou, tO, tB, cL, eL, bl), lr, ll) = (false, (s, r, ov, (va, ro, ou, tO, tB, cL, eL, bl), lr, ll)) from if_pos e20] at hd
        injection hd with hd
        injection hd with e1 e2
        have e1 : true = b := e1
        subst e1 e2
        exact ⟨_, ⟨st, rfl, hK, hl, hr⟩, fun post H => co_steer hpc ho (by decide) (by decide) (sr_309a hpc ho ha' hg hl3 hv3 e20 H)⟩
      · by_cases e3 : r = 300
        · subst e3
          rw [show vm_may (a % 32) (s, 300, ov, (va, ro, ou, tO, tB, cL, eL, bl), lr, ll) = (false, (s, 300, 1, (va, ro, ou, tO, tB, cL, eL, bl), lr, ll)) from by unfold vm_may; rw [if_neg e20]; rfl] at hd
          injection hd with hd
          injection hd with e1 e2
          have e1 : true = b := e1
          subst e1 e2
          exact ⟨_, ⟨st, rfl, hK, hl, hr⟩, fun post H => co_steer hpc ho (by decide) (by decide) (sr_309b hpc ho ha' hg hl3 hv3 e20 H)⟩
        · rw [show vm_may (a % 32) (s, r, ov, (va, ro, ou, tO, tB, cL, eL, bl), lr, ll) = (true, (s, r + 1, ov, (va, ro, ou, tO, tB, cL, eL, bl), upd lr (a % 32) (lr (a % 32) + 1), ll)) from by unfold vm_may; rw [if_neg e20, if_neg e3]] at hd
          injection hd with hd
          injection hd with e1 e2
          have e1 : decide (ll (a % 32) < va (a / 32)) = b := e1
          subst e1 e2
          exact ⟨_, ⟨st, rfl, hK, hl, by show r + 1 ≤ 300; omega⟩, fun post H => co_steer hpc ho (by decide) (by decide) (sr_309c (rr := r) hpc ho ha' hg hl3 hv3 e20 (by omega) H)⟩
    rw [if_neg d4] at hd
    by_cases d5 : t = 310
    · rw [if_pos d5] at hd
      by_cases hl3 : a < 16
      · rw [if_pos hl3] at hd
        injection hd with hd
        injection hd with e1 e2
        subst e1 e2 d5
        refine ⟨_, ⟨st, rfl, hK, hl, hr⟩, fun post H => co_steer hpc ho (by decide) (by decide) (sr_begin hpc ho (by decide) ?_)⟩
        rw [ha]
        refine bg_310 hl3 ?_
        rw [nI_1]
        exact H
      · rw [if_neg hl3] at hd
        exact absurd hd (by intro z; cases z)
    · rw [if_neg d5] at hd
      exact absurd hd (by intro z; cases z)
  · rw [if_neg c7] at hd
    exact absurd hd (by intro z; cases z)
end
/-- runs of the machine and of the printed loop -/
theorem xm_run {u0 : SX} {E : ds_E} {sz : Nat} (hsz : gx_size u0 = nI sz) (hs4 : sz ≤ 400) (hE1 : ∀ j, j < 4 → gx_taken u0 j = E.1 j) (hE2 : gx_time u0 = E.2) :
    ∀ (n pc pc' k : Nat) (m m' : vm_M) (u : SX), vm_R (vm_stp E (gx_operation u0) (gx_argument u0) (gx_target u0) sz) n (pc, m) (pc', m') → k + n ≤ 200000 → xm_R u0 m u →
      ∃ u', xm_R u0 m' u' ∧ ∀ (post : Int32 → SX → Prop) (N : Nat), xs_w76 post N (nI pc') (nI (k + n)) u' → xs_w76 post (N + n) (nI pc) (nI k) u := by
  intro n
  induction n with
  | zero =>
    intro pc pc' k m m' u h _ hR
    have h : (pc, m) = (pc', m') := h
    injection h with h1 h2
    subst h1 h2
    exact ⟨u, hR, fun post N H => H⟩
  | succ n ih =>
    intro pc pc' k m m' u h hk hR
    obtain ⟨z, e, h⟩ := h
    unfold vm_stp at e
    by_cases hg : (pc, m).2.2.2.1 = 0 ∧ (pc, m).1 < sz ∧ gx_operation u0 (pc, m).1 = nI (gx_operation u0 (pc, m).1).toNatClampNeg ∧ gx_target u0 (pc, m).1 = nI (gx_target u0 (pc, m).1).toNatClampNeg
    · rw [if_pos hg] at e
      have hg : m.2.2.1 = 0 ∧ pc < sz ∧ gx_operation u0 pc = nI (gx_operation u0 pc).toNatClampNeg ∧ gx_target u0 pc = nI (gx_target u0 pc).toNatClampNeg := hg
      have e : (vm_ins E (gx_operation u0 pc).toNatClampNeg (gx_argument u0 pc) m).map (fun y => (if y.1 = true then (gx_target u0 pc).toNatClampNeg else pc + 1, y.2)) = some z := e
      obtain ⟨g1, g2, g3, g4⟩ := hg
      cases hi : vm_ins E (gx_operation u0 pc).toNatClampNeg (gx_argument u0 pc) m with
      | none => rw [hi] at e; exact absurd e (by intro z; cases z)
      | some w =>
        obtain ⟨b, m1⟩ := w
        rw [hi] at e
        have e : some (if b = true then (gx_target u0 pc).toNatClampNeg else pc + 1, m1) = some z := e
        injection e with e
        subst e
        obtain ⟨u1, hR1, hw⟩ := xm_ins (by omega) g3 g4 hE1 hE2 hi hR
        obtain ⟨u', hR', hw'⟩ := ih _ pc' (k + 1) m1 m' u1 h (by omega) hR1
        refine ⟨u', hR', fun post N H => ?_⟩
        have H := hw' post N (by rw [show k + 1 + n = k + (n + 1) by omega]; exact H)
        obtain ⟨st, rfl, hK, hl, hr⟩ := hR
        rw [show N + (n + 1) = N + n + 1 by omega]
        refine br_f (nI_ge (b := 200000) (by omega) (by decide)) ?_
        rw [g1]
        refine br_t rfl (br_f ?_ ?_)
        · show ¬ gx_size u0 ≤ nI pc
          rw [hsz]
          exact nI_ge g2 (by omega)
        · rw [g1] at hw
          refine hw _ (nm_r (nI_1 k) H)
    · rw [if_neg hg] at e
      exact absurd e (by intro z; cases z)
end
section
section
variable {u : SY} {t a b : Nat} {post : Int32 → Prop}
theorem yi_t (h : a ≤ t ∧ t ≤ b) (ht : t < 2 ^ 31) (hb : b < 2 ^ 31) (H : post 1) : wpY_in post u (nI t) (nI a) (nI b) :=
  br_f (nI_nlt h.1 ht) (br_f (nI_nlt h.2 hb) H)
theorem yi_f (h : ¬ (a ≤ t ∧ t ≤ b)) (ht : t < 2 ^ 31) (ha : a < 2 ^ 31) (H : post 0) : wpY_in post u (nI t) (nI a) (nI b) := by
  by_cases c : t < a
  · exact br_t (nI_lt c ha) H
  · exact br_f (nI_nlt (by omega) ht) (br_t (nI_lt (by omega) ht) H)
theorem yp_parts (ht : t < 1000) (H : post (nI (tk_ar t))) : wpY_partsOf post u (nI t) := by
  unfold tk_ar at H
  by_cases c2 : t = 2
  · rw [if_pos (by omega)] at H
    exact br_t (by rw [c2]; rfl) H
  refine br_f (ni_ne (b := 2) c2 (by omega) (by decide)) ?_
  by_cases c39 : t = 39
  · rw [if_pos (by omega)] at H
    exact br_t (by rw [c39]; rfl) H
  refine br_f (ni_ne (b := 39) c39 (by omega) (by decide)) ?_
  by_cases c1 : 100 ≤ t ∧ t ≤ 127
  · rw [if_pos (by omega)] at H
    exact yi_t (a := 100) (b := 127) c1 (by omega) (by decide) (br_f (by decide) H)
  refine yi_f (a := 100) (b := 127) c1 (by omega) (by decide) (br_t rfl ?_)
  by_cases c142 : 142 < t
  · rw [if_pos (by omega)] at H
    exact br_f (nI_ge (a := 142) c142 (by omega)) H
  refine br_t (nI_le (b := 142) (by omega) (by decide)) ?_
  rw [if_neg (by omega)] at H
  by_cases d1 : 10 ≤ t ∧ t ≤ 33
  · rw [if_pos (by omega)] at H
    exact yi_t (a := 10) (b := 33) d1 (by omega) (by decide) (br_f (by decide) H)
  refine yi_f (a := 10) (b := 33) d1 (by omega) (by decide) (br_t rfl ?_)
  by_cases d2 : 66 ≤ t ∧ t ≤ 68
  · rw [if_pos (by omega)] at H
    exact yi_t (a := 66) (b := 68) d2 (by omega) (by decide) (br_f (by decide) H)
  refine yi_f (a := 66) (b := 68) d2 (by omega) (by decide) (br_t rfl ?_)
  by_cases d3 : t = 128
  · rw [if_pos (by omega)] at H
    exact br_t (by rw [d3]; rfl) H
  refine br_f (ni_ne (b := 128) d3 (by omega) (by decide)) ?_
  by_cases d4 : t = 139
  · rw [if_pos (by omega)] at H
    exact br_t (by rw [d4]; rfl) H
  refine br_f (ni_ne (b := 139) d4 (by omega) (by decide)) ?_
  rw [if_neg (by omega)] at H
  by_cases d5 : t = 56
  · rw [if_pos d5] at H
    exact br_t (by rw [d5]; rfl) H
  refine br_f (ni_ne (b := 56) d5 (by omega) (by decide)) ?_
  rw [if_neg d5] at H
  by_cases d6 : t = 35
  · rw [if_pos (by omega)] at H
    exact br_t (by rw [d6]; rfl) H
  refine br_f (ni_ne (b := 35) d6 (by omega) (by decide)) ?_
  by_cases d7 : 40 ≤ t ∧ t ≤ 55
  · rw [if_pos (by omega)] at H
    exact yi_t (a := 40) (b := 55) d7 (by omega) (by decide) (br_f (by decide) H)
  refine yi_f (a := 40) (b := 55) d7 (by omega) (by decide) (br_t rfl ?_)
  by_cases d8 : 63 ≤ t ∧ t ≤ 65
  · rw [if_pos (by omega)] at H
    exact yi_t (a := 63) (b := 65) d8 (by omega) (by decide) (br_f (by decide) H)
  refine yi_f (a := 63) (b := 65) d8 (by omega) (by decide) (br_t rfl ?_)
  by_cases d9 : t = 142
  · rw [if_pos (by omega)] at H
    exact br_t (by rw [d9]; rfl) H
  · rw [if_neg (by omega)] at H
    exact br_f (ni_ne (b := 142) d9 (by omega) (by decide)) H
theorem yo_0 (H : post 0) : wpY_one post u 0 := br_t rfl H
theorem yo_1 (H : post 1) : wpY_one post u 1 := br_f (by decide) H
theorem yd_m1 (x : Int32) : x / (-1) = 0 - x := by
  apply Int32.toInt_inj.mp
  rw [Int32.toInt_div, Int32.toInt_sub, show (-1 : Int32).toInt = -1 from by decide, show (0 : Int32).toInt = 0 from by decide, Int.tdiv_neg, Int.tdiv_one, Int.zero_sub]
theorem yd_m2 (x : Int32) : x - (0 - x) * (-1) = 0 := by grind
theorem yj_div {x y z : Int32} (hz : z = 0 ∨ z = 1) (H : post (if z = 0 then (if y = 0 then 0 else x / y) else (if y = 0 then 0 else x - x / y * y))) : wpY_divided post u x y z := by
  by_cases c : y = 0
  · refine br_t c ?_
    cases hz with
    | inl hz => rw [if_pos hz, if_pos c] at H; exact H
    | inr hz => rw [if_neg (by rw [hz]; decide), if_pos c] at H; exact H
  refine br_f c ?_
  rw [if_neg c, if_neg c] at H
  by_cases d : y = -1
  · refine br_t d ?_
    rw [d, yd_m1, yd_m2] at H
    cases hz with
    | inl hz => rw [if_pos hz] at H; exact br_t hz H
    | inr hz =>
      have hz' : ¬ z = 0 := by rw [hz]; decide
      rw [if_neg hz'] at H; exact br_f hz' H
  · refine br_f d ?_
    cases hz with
    | inl hz => rw [if_pos hz] at H; exact br_t hz (And.intro c H)
    | inr hz =>
      have hz' : ¬ z = 0 := by rw [hz]; decide
      rw [if_neg hz'] at H; exact br_f hz' (And.intro c H)
theorem yj_two {x y : Int32} (ht : t < 1000) (H : post (ev_two t x y)) : wpY_joined post u (nI t) x y := by
  by_cases c0 : t = 130
  · subst c0; exact br_t rfl H
  refine br_f (ni_ne (b := 130) c0 (by omega) (by decide)) ?_
  by_cases c1 : t = 131
  · subst c1; exact br_t rfl H
  refine br_f (ni_ne (b := 131) c1 (by omega) (by decide)) ?_
  by_cases c2 : t = 132
  · subst c2; exact br_t rfl H
  refine br_f (ni_ne (b := 132) c2 (by omega) (by decide)) ?_
  by_cases c3 : t = 133
  · subst c3
    have H : post (if y = 0 then 0 else x / y) := H
    exact br_t rfl (br_f (by decide) (yj_div (Or.inl rfl) (by rw [if_pos rfl]; exact H)))
  refine br_f (ni_ne (b := 133) c3 (by omega) (by decide)) ?_
  by_cases c4 : t = 134
  · subst c4
    have H : post (if y = 0 then 0 else x - x / y * y) := H
    exact br_t rfl (br_t rfl (yj_div (Or.inr rfl) (by rw [if_neg (by decide)]; exact H)))
  refine br_f (ni_ne (b := 134) c4 (by omega) (by decide)) ?_
  unfold ev_two at H
  rw [if_neg c0, if_neg c1, if_neg c2, if_neg c3, if_neg c4] at H
  by_cases c5 : t = 135
  · rw [if_pos c5] at H
    refine br_t (by rw [c5]; rfl) ?_
    by_cases c : y ≤ x
    · rw [if_pos c] at H; exact br_t c (yo_0 (u := u) H)
    · rw [if_neg c] at H; exact br_f c (yo_1 (u := u) H)
  rw [if_neg c5] at H
  refine br_f (ni_ne (b := 135) c5 (by omega) (by decide)) ?_
  by_cases c6 : t = 136
  · rw [if_pos c6] at H
    refine br_t (by rw [c6]; rfl) ?_
    by_cases c : x = y
    · rw [if_pos c] at H; exact br_t c (yo_1 (u := u) H)
    · rw [if_neg c] at H; exact br_f c (yo_0 (u := u) H)
  rw [if_neg c6] at H
  refine br_f (ni_ne (b := 136) c6 (by omega) (by decide)) ?_
  by_cases c7 : t = 137
  · rw [if_pos c7] at H
    refine br_t (by rw [c7]; rfl) ?_
    by_cases c : x = 0
    · rw [if_pos c] at H; exact br_t c (yo_0 (u := u) H)
    · rw [if_neg c] at H
      refine br_f c ?_
      by_cases d : y = 0
      · rw [if_pos d] at H; exact br_t d (yo_0 (u := u) H)
      · rw [if_neg d] at H; exact br_f d (yo_1 (u := u) H)
  rw [if_neg c7] at H
  refine br_f (ni_ne (b := 137) c7 (by omega) (by decide)) ?_
  by_cases c8 : t = 138
  · rw [if_pos c8] at H
    refine br_t (by rw [c8]; rfl) ?_
    by_cases c : x = 0
    · rw [if_pos c] at H
      refine br_t c ?_
      by_cases d : y = 0
      · rw [if_pos d] at H; exact br_t d (yo_0 (u := u) H)
      · rw [if_neg d] at H; exact br_f d (yo_1 (u := u) H)
    · rw [if_neg c] at H; exact br_f c (yo_1 (u := u) H)
  rw [if_neg c8] at H
  refine br_f (ni_ne (b := 138) c8 (by omega) (by decide)) ?_
  by_cases c9 : t = 140
  · rw [if_pos c9] at H
    refine br_t (by rw [c9]; rfl) ?_
    by_cases c : x ≤ y
    · rw [if_pos c] at H; exact br_t c (br_f (by decide) H)
    · rw [if_neg c] at H; exact br_f c (br_t rfl H)
  · rw [if_neg c9] at H
    refine br_f (ni_ne (b := 140) c9 (by omega) (by decide)) ?_
    by_cases c : x ≤ y
    · rw [if_pos c] at H; exact br_t c (br_t rfl H)
    · rw [if_neg c] at H; exact br_f c (br_f (by decide) H)
end
end
section
/-- the blocks of the reference -/
def ys_b (bl tE tD cV cD eD : Nat → Int32) : Prop := ∀ j, j < 3 → tD j = bl j ∧ tE j = bl (3 + j) ∧ cV j = bl (6 + j) ∧ cD j = bl (9 + j) ∧ eD j = bl (12 + j)
/-- what the reference's state holds fixed while it carries a program out -/
def ys_H (v0 : SY) (E : ds_E) (tk : Nat → Nat) (B L : Nat) : Prop :=
  (∀ i, i < L → gy_tokens v0 (B + i) = nI (tk i)) ∧ (∀ i, i < L → gy_ends v0 (B + i) = nI (B + tk_en tk i)) ∧ gy_inputs v0 = E.1 ∧ gy_time v0 = E.2 ∧ B ≤ 60 ∧ L ≤ 60
theorem ev_suf {tk : Nat → Nat} : ∀ (c d m i : Nat), tk_F tk d (List.replicate m false) i → c ≤ d → ∃ m', tk_F tk (d - c) (List.replicate m' false) (i + c) := by
  intro c
  induction c with
  | zero => intro d m i h _; exact ⟨m, h⟩
  | succ c ih =>
    intro d m i h hc
    obtain ⟨d, rfl⟩ : ∃ d', d = d' + 1 := ⟨d - 1, by omega⟩
    obtain ⟨m', _, _, hF⟩ := ev_F_succ h
    obtain ⟨m2, h2⟩ := ih d _ _ hF (by omega)
    refine ⟨m2, ?_⟩
    rw [show d + 1 - (c + 1) = d - c by omega, show i + (c + 1) = i + 1 + c by omega]
    exact h2
section
variable {v0 : SY} {h t i L B : Nat} {E : ds_E} {tk : Nat → Nat} {ts bg : Int32} {va ro ou tO tB tE tD cL cV cD eL eD nu tK tA tR tM bl : Nat → Int32}
theorem yw_pop {post : Int32 → SY → Prop} (hh : h < 64) (H : post (nu h) (ys_yu v0 (nI h) ts bg va ro ou tO tB tE tD cL cV cD eL eD nu tK tA tR tM)) : wpY_pop post (ys_yu v0 (nI (h + 1)) ts bg va ro ou tO tB tE tD cL cV cD eL eD nu tK tA tR tM) :=
  nm_r (nI_pred h) (And.intro (vp_in_nI hh (by decide)) (by rw [nI_clamp (by omega)]; exact H))
theorem yw_plain {post : Int32 → Prop} (hI : gy_inputs v0 = E.1) (hb : ys_b bl tE tD cV cD eD) (ht : (100 ≤ t ∧ t ≤ 115) ∨ (120 ≤ t ∧ t ≤ 127) ∨ (143 ≤ t ∧ t ≤ 157) ∨ (210 ≤ t ∧ t ≤ 290)) (H : post (ev_leaf E (va, ro, ou, tO, tB, cL, eL, bl) t)) : wpY_plain post (ys_yu v0 (nI h) ts bg va ro ou tO tB tE tD cL cV cD eL eD nu tK tA tR tM) (nI t) := by
  unfold ev_leaf at H
  by_cases c1 : t < 120
  · have e : nI t - 100 = nI (t - 100) := pk_sub (b := 100) (by omega)
    rw [if_pos c1] at H
    refine br_f (nI_ge (b := 120) c1 (by decide)) ?_
    rw [e, nI_clamp (by omega)]
    exact And.intro (vp_in_nI (by omega) (by decide)) H
  rw [if_neg c1] at H
  refine br_t (nI_le (a := 120) (by omega) (by omega)) ?_
  by_cases c2 : t < 124
  · have e : nI t - 120 = nI (t - 120) := pk_sub (b := 120) (by omega)
    rw [if_pos c2, ← hI] at H
    refine br_f (nI_ge (b := 124) c2 (by decide)) ?_
    rw [e, nI_clamp (by omega)]
    exact And.intro (vp_in_nI (by omega) (by decide)) H
  rw [if_neg c2] at H
  refine br_t (nI_le (a := 124) (by omega) (by omega)) ?_
  by_cases c3 : t < 128
  · have e : nI t - 124 = nI (t - 124) := pk_sub (b := 124) (by omega)
    rw [if_pos c3] at H
    refine br_f (nI_ge (b := 128) c3 (by decide)) ?_
    rw [e, nI_clamp (by omega)]
    exact And.intro (vp_in_nI (by omega) (by decide)) H
  rw [if_neg c3] at H
  refine br_t (nI_le (a := 128) (by omega) (by omega)) ?_
  by_cases c4 : t < 158
  · rw [if_pos c4] at H
    have H : post (bl (t - 143)) := H
    by_cases d1 : t < 146
    · have e : nI t - 143 = nI (t - 143) := pk_sub (b := 143) (by omega)
      rw [← (hb (t - 143) (by omega)).1] at H
      refine br_f (nI_ge (b := 146) d1 (by decide)) ?_
      rw [e, nI_clamp (by omega)]
      exact And.intro (vp_in_nI (by omega) (by decide)) H
    refine br_t (nI_le (a := 146) (by omega) (by omega)) ?_
    by_cases d2 : t < 149
    · have e : nI t - 146 = nI (t - 146) := pk_sub (b := 146) (by omega)
      rw [show t - 143 = 3 + (t - 146) by omega, ← (hb (t - 146) (by omega)).2.1] at H
      refine br_f (nI_ge (b := 149) d2 (by decide)) ?_
      rw [e, nI_clamp (by omega)]
      exact And.intro (vp_in_nI (by omega) (by decide)) H
    refine br_t (nI_le (a := 149) (by omega) (by omega)) ?_
    by_cases d3 : t < 152
    · have e : nI t - 149 = nI (t - 149) := pk_sub (b := 149) (by omega)
      rw [show t - 143 = 6 + (t - 149) by omega, ← (hb (t - 149) (by omega)).2.2.1] at H
      refine br_f (nI_ge (b := 152) d3 (by decide)) ?_
      rw [e, nI_clamp (by omega)]
      exact And.intro (vp_in_nI (by omega) (by decide)) H
    refine br_t (nI_le (a := 152) (by omega) (by omega)) ?_
    by_cases d4 : t < 155
    · have e : nI t - 152 = nI (t - 152) := pk_sub (b := 152) (by omega)
      rw [show t - 143 = 9 + (t - 152) by omega, ← (hb (t - 152) (by omega)).2.2.2.1] at H
      refine br_f (nI_ge (b := 155) d4 (by decide)) ?_
      rw [e, nI_clamp (by omega)]
      exact And.intro (vp_in_nI (by omega) (by decide)) H
    · have e : nI t - 155 = nI (t - 155) := pk_sub (b := 155) (by omega)
      rw [show t - 143 = 12 + (t - 155) by omega, ← (hb (t - 155) (by omega)).2.2.2.2] at H
      refine br_t (nI_le (a := 155) (by omega) (by omega)) (br_f (nI_ge (b := 158) c4 (by decide)) ?_)
      rw [e, nI_clamp (by omega)]
      exact And.intro (vp_in_nI (by omega) (by decide)) H
  · rw [if_neg c4] at H
    exact br_t (nI_le (a := 146) (by omega) (by omega)) (br_t (nI_le (a := 149) (by omega) (by omega)) (br_t (nI_le (a := 152) (by omega) (by omega)) (br_t (nI_le (a := 155) (by omega) (by omega)) (br_t (nI_le (a := 158) (by omega) (by omega)) H))))
theorem yw_143 {post : Int32 → SY → Prop} {n : Nat} {x1 x2 x2' x : Int32} (hh : h < 64) (e : x2 + (-1) = x2') (H : wY_work_9 post x1 n x2' (gy_time v0) (gy_active v0) (gy_running v0) (gy_open v0) (nI (h + 1)) ts bg va ro (gy_inputs v0) ou tO tB tE tD cL cV cD eL eD (gy_sizes v0) (gy_tokens v0) (gy_ends v0) (gy_wants v0) (upd nu h x) tK tA tR tM) : wY_work_143 post (wY_work_9 post x1 n) x1 x2 x (gy_time v0) (gy_active v0) (gy_running v0) (gy_open v0) (nI h) ts bg va ro (gy_inputs v0) ou tO tB tE tD cL cV cD eL eD (gy_sizes v0) (gy_tokens v0) (gy_ends v0) (gy_wants v0) nu tK tA tR tM :=
  And.intro (vp_in_nI hh (by decide)) (nm_r (e' := upd nu h x) (by rw [nI_clamp (by omega)]) (nm_r (nI_1 h) (nm_r e H)))
theorem yw_loop {d : Nat} (hH : ys_H v0 E tk B L) (hF : tk_F tk d [false] i) (hi : 1 ≤ i) (hd : i + d ≤ L) (hb : ys_b bl tE tD cV cD eD) :
    ∀ (c : Nat) (nu : Nat → Int32), c ≤ d → xm_K nu (ev_s E (va, ro, ou, tO, tB, cL, eL, bl) tk (d - c) (i + c)) → ∃ nu', ∀ post : Int32 → SY → Prop, post (ev_v E (va, ro, ou, tO, tB, cL, eL, bl) tk i) (ys_yu v0 (nI 0) ts bg va ro ou tO tB tE tD cL cV cD eL eD nu' tK tA tR tM) → wY_work_9 post (nI (B + i)) (c + 1) (nI (B + i + c - 1)) (gy_time v0) (gy_active v0) (gy_running v0) (gy_open v0) (nI (ev_s E (va, ro, ou, tO, tB, cL, eL, bl) tk (d - c) (i + c)).length) ts bg va ro (gy_inputs v0) ou tO tB tE tD cL cV cD eL eD (gy_sizes v0) (gy_tokens v0) (gy_ends v0) (gy_wants v0) nu tK tA tR tM := by
  obtain ⟨hk, _, hI, _, hB, hL⟩ := hH
  intro c
  induction c with
  | zero =>
    intro nu _ hK
    have e1 : ev_s E (va, ro, ou, tO, tB, cL, eL, bl) tk d i = [ev_v E (va, ro, ou, tO, tB, cL, eL, bl) tk i] := by
      have := ev_one_l (E := E) (D := (va, ro, ou, tO, tB, cL, eL, bl)) hL ⟨d, hF, hd⟩
      rw [tk_en_F hF (by omega), Nat.add_sub_cancel_left] at this
      exact this
    have hK : xm_K nu (ev_s E (va, ro, ou, tO, tB, cL, eL, bl) tk d i) := hK
    rw [e1] at hK
    refine ⟨nu, fun post H => ?_⟩
    show wY_work_9 post (nI (B + i)) 1 (nI (B + i - 1)) (gy_time v0) (gy_active v0) (gy_running v0) (gy_open v0) (nI (ev_s E (va, ro, ou, tO, tB, cL, eL, bl) tk d i).length) ts bg va ro (gy_inputs v0) ou tO tB tE tD cL cV cD eL eD (gy_sizes v0) (gy_tokens v0) (gy_ends v0) (gy_wants v0) nu tK tA tR tM
    rw [e1]
    refine br_t (nI_lt (by omega) (by omega)) (yw_pop (h := 0) (by omega) ?_)
    rw [show nu 0 = ev_v E (va, ro, ou, tO, tB, cL, eL, bl) tk i from hK.1]
    exact H
  | succ c ih =>
    intro nu hc hK
    obtain ⟨m, hF2⟩ := ev_suf c d 1 i hF (by omega)
    rw [show d - c = d - (c + 1) + 1 by omega] at hF2
    obtain ⟨m', rfl, ho, hF3⟩ := ev_F_succ hF2
    have hll := ev_s_len (E := E) (D := (va, ro, ou, tO, tB, cL, eL, bl)) _ _ _ hF3
    have hlm := tk_F_len _ _ _ hF3
    rw [List.length_replicate] at hlm
    have eo : ev_s E (va, ro, ou, tO, tB, cL, eL, bl) tk (d - c) (i + c) = ev_op E (va, ro, ou, tO, tB, cL, eL, bl) (tk (i + c)) (ev_s E (va, ro, ou, tO, tB, cL, eL, bl) tk (d - (c + 1)) (i + c + 1)) := by
      rw [show d - c = d - (c + 1) + 1 by omega]
      rfl
    have ih := fun nu => ih nu (by omega)
    rw [eo] at ih
    rw [show i + (c + 1) = i + c + 1 by omega] at hK ⊢
    generalize ev_s E (va, ro, ou, tO, tB, cL, eL, bl) tk (d - (c + 1)) (i + c + 1) = l at *
    have htk := hk (i + c) (by omega)
    have htl := tk_ex_le ho
    have har := tk_ar_ex ho
    have hop := of_decide_eq_true ho
    have e2 : nI (B + i + c) + (-1) = nI (B + i + c - 1) := by
      have := pk_m1 (B + i + c - 1)
      rw [show B + i + c - 1 + 1 = B + i + c by omega] at this
      exact this
    rw [show B + i + (c + 1) - 1 = B + i + c by omega]
    rw [show B + (i + c) = B + i + c by omega] at htk
    generalize tk (i + c) = t at *
    have hin : ¬ nI (B + i + c) < nI (B + i) := nI_nlt (by omega) (by omega)
    have hvi : vp_in (nI (B + i + c)) 120 := vp_in_nI (by omega) (by decide)
    have het : gy_tokens v0 (nI (B + i + c)).toNatClampNeg = nI t := by rw [nI_clamp (by omega)]; exact htk
    by_cases c0 : tk_ar t = 0
    · have e3 : ev_op E (va, ro, ou, tO, tB, cL, eL, bl) t l = ev_leaf E (va, ro, ou, tO, tB, cL, eL, bl) t :: l := by
        unfold ev_op
        rw [if_pos c0]
      rw [e3] at ih
      obtain ⟨nu', H1⟩ := ih _ (xm_K_push hK)
      refine ⟨nu', fun post H => br_f hin (And.intro hvi (nm_r (e' := nI t) het (yp_parts (by omega) ?_)))⟩
      rw [c0]
      refine br_t rfl (yw_plain hI hb ?_ (yw_143 (by omega) e2 (H1 post H)))
      rw [c0] at har
      split at har
      · omega
      · split at har
        · omega
        · split at har <;> omega
    · have hn : ¬ nI (tk_ar t) = 0 := ni_ne (b := 0) c0 (by have := tk_ar_le t; omega) (by decide)
      cases l with
      | nil =>
        exfalso
        have hll : 0 = tk_ar t + m' := hll
        omega
      | cons x l =>
        obtain ⟨rfl, hK⟩ := hK
        rw [List.length_cons] at hll
        by_cases c1 : t = 128
        · have e3 : ev_op E (va, ro, ou, tO, tB, cL, eL, bl) t (nu l.length :: l) = ro (nu l.length &&& 7).toNatClampNeg :: l := by
            rw [c1]
            rfl
          rw [e3] at ih
          obtain ⟨nu', H1⟩ := ih _ (xm_K_push hK)
          refine ⟨nu', fun post H => br_f hin (And.intro hvi (nm_r (e' := nI t) het (yp_parts (by omega) (br_f hn (yw_pop (h := l.length) (by omega) (br_t (by rw [c1]; rfl) (And.intro (pk_andIn _ 3 (by decide) (by decide)) (nm_e (yw_143 (by omega) e2 (H1 post H))))))))))⟩
        by_cases c2 : t = 139
        · have e3 : ev_op E (va, ro, ou, tO, tB, cL, eL, bl) t (nu l.length :: l) = ev_one (nu l.length) :: l := by
            rw [c2]
            rfl
          rw [e3] at ih
          obtain ⟨nu', H1⟩ := ih _ (xm_K_push hK)
          refine ⟨nu', fun post H => br_f hin (And.intro hvi (nm_r (e' := nI t) het (yp_parts (by omega) (br_f hn (yw_pop (h := l.length) (by omega) (br_f (ni_ne (b := 128) c1 (by omega) (by decide)) (br_t (by rw [c2]; rfl) ?_)))))))⟩
          have H1 := H1 post H
          unfold ev_one at H1
          by_cases z : nu l.length = 0
          · rw [if_pos z] at H1
            exact br_t z (yo_1 (yw_143 (by omega) e2 H1))
          · rw [if_neg z] at H1
            exact br_f z (yo_0 (yw_143 (by omega) e2 H1))
        have hge : 2 ≤ tk_ar t := by
          rw [har]
          split
          · rename_i z
            rw [if_pos z] at har
            omega
          · split
            · omega
            · split <;> omega
        cases l with
        | nil =>
          exfalso
          have hll : 0 + 1 = tk_ar t + m' := hll
          omega
        | cons y l =>
          obtain ⟨rfl, hK⟩ := hK
          rw [List.length_cons] at hll
          by_cases c3 : t = 142
          · have ha3 : tk_ar t = 3 := by rw [c3]; decide
            cases l with
            | nil =>
              exfalso
              have hll : 0 + 1 + 1 = tk_ar t + m' := hll
              omega
            | cons z l =>
              obtain ⟨rfl, hK⟩ := hK
              rw [List.length_cons] at hll
              have e3 : ev_op E (va, ro, ou, tO, tB, cL, eL, bl) t (nu (nu (nu l.length :: l).length :: nu l.length :: l).length :: nu (nu l.length :: l).length :: nu l.length :: l) = (if nu (l.length + 2) = 0 then nu l.length else nu (l.length + 1)) :: l := by
                rw [c3]
                rfl
              rw [e3] at ih
              obtain ⟨nu', H1⟩ := ih _ (xm_K_push hK)
              refine ⟨nu', fun post H => br_f hin (And.intro hvi (nm_r (e' := nI t) het (yp_parts (by omega) (br_f hn (yw_pop (h := l.length + 2) (by omega) (br_f (ni_ne (b := 128) c1 (by omega) (by decide)) (br_f (ni_ne (b := 139) c2 (by omega) (by decide)) (yw_pop (h := l.length + 1) (by omega) (br_t (by rw [c3]; rfl) (yw_pop (h := l.length) (by omega) ?_))))))))))⟩
              have H1 := H1 post H
              by_cases z : nu (l.length + 2) = 0
              · rw [if_pos z] at H1
                exact br_t z (yw_143 (by omega) e2 H1)
              · rw [if_neg z] at H1
                exact br_f z (yw_143 (by omega) e2 H1)
          · have e3 : ev_op E (va, ro, ou, tO, tB, cL, eL, bl) t (nu (nu l.length :: l).length :: nu l.length :: l) = ev_two t (nu (l.length + 1)) (nu l.length) :: l := by
              unfold ev_op
              rw [if_neg c0, if_neg c1, if_neg c2, if_neg c3]
              rfl
            rw [e3] at ih
            obtain ⟨nu', H1⟩ := ih _ (xm_K_push hK)
            refine ⟨nu', fun post H => br_f hin (And.intro hvi (nm_r (e' := nI t) het (yp_parts (by omega) (br_f hn (yw_pop (h := l.length + 1) (by omega) (br_f (ni_ne (b := 128) c1 (by omega) (by decide)) (br_f (ni_ne (b := 139) c2 (by omega) (by decide)) (yw_pop (h := l.length) (by omega) (br_f (ni_ne (b := 142) c3 (by omega) (by decide)) (yj_two (by omega) (yw_143 (by omega) e2 (H1 post H)))))))))))) ⟩
theorem yw_work (hH : ys_H v0 E tk B L) (hT : tk_T tk L false i) (hi : 1 ≤ i) (hb : ys_b bl tE tD cV cD eD) : ∃ nu', ∀ post : Int32 → SY → Prop, post (ev_v E (va, ro, ou, tO, tB, cL, eL, bl) tk i) (ys_yu v0 (nI 0) ts bg va ro ou tO tB tE tD cL cV cD eL eD nu' tK tA tR tM) → wpY_work post (ys_yu v0 (nI 0) ts bg va ro ou tO tB tE tD cL cV cD eL eD nu tK tA tR tM) (nI (B + i)) := by
  have hT' := hT
  obtain ⟨d, hF, hd⟩ := hT
  have hL : L ≤ 60 := hH.2.2.2.2.2
  have hB : B ≤ 60 := hH.2.2.2.2.1
  have he := hH.2.1 i (by have := tk_T_en hL hT'; omega)
  rw [tk_en_F hF (by omega)] at he
  have hdp := tk_F_pos hF
  have h0 : ev_s E (va, ro, ou, tO, tB, cL, eL, bl) tk (d - d) (i + d) = [] := by
    rw [Nat.sub_self]
    rfl
  obtain ⟨nu', H⟩ := yw_loop (ts := ts) (bg := bg) (tK := tK) (tA := tA) (tR := tR) (tM := tM) (va := va) (ro := ro) (ou := ou) (tO := tO) (tB := tB) (cL := cL) (eL := eL) hH hF hi hd hb d nu (Nat.le_refl _) (by rw [h0]; trivial)
  rw [h0] at H
  refine ⟨nu', fun post Hp => And.intro (vp_in_nI (by omega) (by decide)) (nm_r (e' := nI (B + i + d - 1)) ?_ ⟨d + 1, H post Hp⟩)⟩
  rw [nI_clamp (by omega)]
  show gy_ends v0 (B + i) - 1 = _
  rw [he, show B + (i + d) = B + i + d - 1 + 1 by omega]
  exact nI_pred _
end
end
section
section
variable {bl tE tD cV cD eD : Nat → Int32} {k : Nat} {x y : Int32}
theorem ys_b_t (h : ys_b bl tE tD cV cD eD) (hk : k < 3) : ys_b (upd (upd bl (3 + k) x) k y) (upd tE k x) (upd tD k y) cV cD eD := by
  intro j hj
  obtain ⟨h1, h2, h3, h4, h5⟩ := h j hj
  unfold upd
  refine ⟨?_, ?_, ?_, ?_, ?_⟩ <;> (repeat' split) <;> first | rfl | assumption | omega
theorem ys_b_v (h : ys_b bl tE tD cV cD eD) (hk : k < 3) : ys_b (upd bl (6 + k) x) tE tD (upd cV k x) cD eD := by
  intro j hj
  obtain ⟨h1, h2, h3, h4, h5⟩ := h j hj
  unfold upd
  refine ⟨?_, ?_, ?_, ?_, ?_⟩ <;> (repeat' split) <;> first | rfl | assumption | omega
theorem ys_b_c (h : ys_b bl tE tD cV cD eD) (hk : k < 3) : ys_b (upd bl (9 + k) x) tE tD cV (upd cD k x) eD := by
  intro j hj
  obtain ⟨h1, h2, h3, h4, h5⟩ := h j hj
  unfold upd
  refine ⟨?_, ?_, ?_, ?_, ?_⟩ <;> (repeat' split) <;> first | rfl | assumption | omega
theorem ys_b_e (h : ys_b bl tE tD cV cD eD) (hk : k < 3) : ys_b (upd bl (12 + k) x) tE tD cV cD (upd eD k x) := by
  intro j hj
  obtain ⟨h1, h2, h3, h4, h5⟩ := h j hj
  unfold upd
  refine ⟨?_, ?_, ?_, ?_, ?_⟩ <;> (repeat' split) <;> first | rfl | assumption | omega
end
/-- timers never began later than now -/
def ys_D (E : ds_E) (tO tB : Nat → Int32) : Prop := 0 ≤ E.2.toInt ∧ ∀ j, j < 3 → (tO j = 0 ∨ tO j = 1) ∧ 0 ≤ (tB j).toInt ∧ (tB j).toInt ≤ E.2.toInt
theorem ys_D_on {E : ds_E} {tO tB : Nat → Int32} {k : Nat} {x : Int32} (h : ys_D E tO tB) (hx : x = 0 ∨ x = 1) : ys_D E (upd tO k x) tB := by
  refine ⟨h.1, fun j hj => ⟨?_, (h.2 j hj).2⟩⟩
  unfold upd
  split
  · exact hx
  · exact (h.2 j hj).1
theorem ys_D_be {E : ds_E} {tO tB : Nat → Int32} {k : Nat} (h : ys_D E tO tB) : ys_D E tO (upd tB k E.2) := by
  refine ⟨h.1, fun j hj => ⟨(h.2 j hj).1, ?_⟩⟩
  unfold upd
  split
  · exact ⟨h.1, Int.le_refl _⟩
  · exact (h.2 j hj).2
theorem ys_D_g {E : ds_E} {tO tB : Nat → Int32} {k : Nat} (h : ys_D E tO tB) (hk : k < 3) : 0 ≤ E.2 - tB k := by
  obtain ⟨_, h1, h2⟩ := h.2 k hk
  have h3 := E.2.toInt_lt
  rw [Int32.le_iff_toInt_le, Int32.toInt_sub, Int.bmod_eq_of_le (by omega) (by omega)]
  show (0 : Int) ≤ _
  omega
theorem ys_upd {f : Nat → Int32} {k : Nat} {x : Int32} (h : f k = x) : upd f k x = f := by
  funext j
  unfold upd
  split
  · rename_i e
    rw [e, h]
  · rfl
section
variable {v0 : SY} {k : Nat} {E : ds_E} {dp ts bg : Int32} {va ro ou tO tB tE tD cL cV cD eL eD nu tK tA tR tM bl : Nat → Int32}
theorem yb_t95 {post : SY → Prop} {pr g z : Int32} (hk : k < 3) (H : post (ys_yu v0 dp ts bg va ro ou tO tB (upd tE k z) (upd tD k (if g < pr then 0 else 1)) cL cV cD eL eD nu tK tA tR tM)) : wY_timer_95 post (nI k) pr g z (nI k) (gy_time v0) (gy_active v0) (gy_running v0) (gy_open v0) dp ts bg va ro (gy_inputs v0) ou tO tB tE tD cL cV cD eL eD (gy_sizes v0) (gy_tokens v0) (gy_ends v0) (gy_wants v0) nu tK tA tR tM := by
  refine And.intro (vp_in_nI hk (by decide)) (nm_r (e' := upd tE k z) (by rw [nI_clamp (by omega)]) ?_)
  by_cases c : g < pr
  · rw [if_pos c] at H
    exact br_t c (yo_0 (And.intro (vp_in_nI hk (by decide)) (nm_r (e' := upd tD k 0) (by rw [nI_clamp (by omega)]) H)))
  · rw [if_neg c] at H
    exact br_f c (yo_1 (And.intro (vp_in_nI hk (by decide)) (nm_r (e' := upd tD k 1) (by rw [nI_clamp (by omega)]) H)))
theorem yb_t52 {post : SY → Prop} {pr : Int32} (hk : k < 3) (h0 : 0 ≤ gy_time v0 - tB k) (H : post (ys_yu v0 dp ts bg va ro ou tO tB (upd tE k (if pr ≤ gy_time v0 - tB k then (if 0 ≤ pr then pr else 0) else gy_time v0 - tB k)) (upd tD k (if gy_time v0 - tB k < pr then 0 else 1)) cL cV cD eL eD nu tK tA tR tM)) : wY_timer_52 post (nI k) pr (gy_time v0) (gy_active v0) (gy_running v0) (gy_open v0) dp ts bg va ro (gy_inputs v0) ou tO tB tE tD cL cV cD eL eD (gy_sizes v0) (gy_tokens v0) (gy_ends v0) (gy_wants v0) nu tK tA tR tM := by
  refine And.intro (vp_in_nI hk (by decide)) (nm_r (e' := gy_time v0 - tB k) (by rw [nI_clamp (by omega)]) ?_)
  by_cases c : gy_time v0 - tB k ≤ pr
  · refine br_t c (br_t h0 (yb_t95 hk ?_))
    by_cases d : pr ≤ gy_time v0 - tB k
    · rw [if_pos d] at H
      have e : pr = gy_time v0 - tB k := Int32.le_antisymm d c
      rw [← e] at h0
      rw [if_pos h0] at H
      rw [← e]
      rw [← e] at H
      exact H
    · rw [if_neg d] at H
      exact H
  · refine br_f c ?_
    rw [if_pos (Int32.le_of_lt (Int32.not_le.mp c))] at H
    by_cases d : 0 ≤ pr
    · rw [if_pos d] at H
      exact br_t d (yb_t95 hk H)
    · rw [if_neg d] at H
      exact br_f d (yb_t95 hk H)
theorem yb_timer {p1 pr : Int32} {on : Bool} (hE : gy_time v0 = E.2) (hb : ys_b bl tE tD cV cD eD) (hD : ys_D E tO tB) (hk : k < 3) (h1 : p1 = if on = true then 1 else 0) : ∃ tE' tD' D', D' = ex_tmr E k on pr (va, ro, ou, tO, tB, cL, eL, bl) ∧ ys_b D'.2.2.2.2.2.2.2 tE' tD' cV cD eD ∧ ys_D E D'.2.2.2.1 D'.2.2.2.2.1 ∧ ∀ post : SY → Prop, post (ys_yu v0 dp ts bg D'.1 D'.2.1 D'.2.2.1 D'.2.2.2.1 D'.2.2.2.2.1 tE' tD' D'.2.2.2.2.2.1 cV cD D'.2.2.2.2.2.2.1 eD nu tK tA tR tM) → wpY_timer post (ys_yu v0 dp ts bg va ro ou tO tB tE tD cL cV cD eL eD nu tK tA tR tM) (nI k) p1 pr := by
  cases on with
  | false =>
    rw [if_neg (by decide)] at h1
    subst h1
    refine ⟨upd tE k 0, upd tD k 0, _, rfl, ys_b_t hb hk, ys_D_on hD (Or.inl rfl), fun post H => ?_⟩
    exact br_t rfl (And.intro (vp_in_nI hk (by decide)) (nm_r (e' := upd tO k 0) (by rw [nI_clamp (by omega), na_b0]) (And.intro (vp_in_nI hk (by decide)) (nm_r (e' := upd tE k 0) (by rw [nI_clamp (by omega)]) (And.intro (vp_in_nI hk (by decide)) (nm_r (e' := upd tD k 0) (by rw [nI_clamp (by omega)]) H))))))
  | true =>
    rw [if_pos rfl] at h1
    subst h1
    by_cases d : tO k = 0
    · have e : ex_tmr E k true pr (va, ro, ou, tO, tB, cL, eL, bl) = (va, ro, ou, upd tO k 1, upd tB k E.2, cL, eL, upd (upd bl (3 + k) (if pr ≤ E.2 - upd tB k E.2 k then (if 0 ≤ pr then pr else 0) else E.2 - upd tB k E.2 k)) k (if E.2 - upd tB k E.2 k < pr then 0 else 1)) := by
        have e : ds_tO (va, ro, ou, tO, tB, cL, eL, bl) k = 0 := d
        unfold ex_tmr
        rw [if_pos rfl, if_pos e]
        rfl
      rw [← hE] at e
      have hB := ys_b_t (x := if pr ≤ gy_time v0 - upd tB k (gy_time v0) k then (if 0 ≤ pr then pr else 0) else gy_time v0 - upd tB k (gy_time v0) k) (y := if gy_time v0 - upd tB k (gy_time v0) k < pr then 0 else 1) hb hk
      refine ⟨_, _, _, e.symm, hB, ?_, fun post H => br_f (by decide) (And.intro (vp_in_nI hk (by decide)) ?_)⟩
      · rw [hE]
        exact ys_D_on (ys_D_be hD) (Or.inr rfl)
      · rw [nI_clamp (by omega)]
        refine br_t d (And.intro (vp_in_nI hk (by decide)) (nm_r (e' := upd tO k 1) (by rw [na_b1]) (And.intro (vp_in_nI hk (by decide)) (nm_e (yb_t52 hk ?_ H)))))
        have := ys_D_g (ys_D_be (k := k) hD) hk
        rw [← hE] at this
        exact this
    · have hd1 : tO k = 1 := by
        cases (hD.2 k hk).1 with
        | inl z => exact absurd z d
        | inr z => exact z
      have e : ex_tmr E k true pr (va, ro, ou, tO, tB, cL, eL, bl) = (va, ro, ou, tO, tB, cL, eL, upd (upd bl (3 + k) (if pr ≤ E.2 - tB k then (if 0 ≤ pr then pr else 0) else E.2 - tB k)) k (if E.2 - tB k < pr then 0 else 1)) := by
        have e : ¬ ds_tO (va, ro, ou, tO, tB, cL, eL, bl) k = 0 := d
        unfold ex_tmr
        rw [if_pos rfl, if_neg e]
        show (va, ro, ou, upd tO k 1, _) = _
        rw [ys_upd hd1]
        rfl
      rw [← hE] at e
      have hB := ys_b_t (x := if pr ≤ gy_time v0 - tB k then (if 0 ≤ pr then pr else 0) else gy_time v0 - tB k) (y := if gy_time v0 - tB k < pr then 0 else 1) hb hk
      refine ⟨_, _, _, e.symm, hB, hD, fun post H => br_f (by decide) (And.intro (vp_in_nI hk (by decide)) ?_)⟩
      · rw [nI_clamp (by omega)]
        refine br_f d (yb_t52 hk ?_ H)
        have := ys_D_g hD hk
        rw [← hE] at this
        exact this
theorem yb_c37 {post : SY → Prop} {p1 pr : Int32} (hn : vp_nar .boolean p1 = p1) (hk : k < 3) (H : post (ys_yu v0 dp ts bg va ro ou tO tB tE tD (upd cL k p1) cV (upd cD k (if cV k < pr then 0 else 1)) eL eD nu tK tA tR tM)) : wY_counter_37 post (nI k) p1 pr (gy_time v0) (gy_active v0) (gy_running v0) (gy_open v0) dp ts bg va ro (gy_inputs v0) ou tO tB tE tD cL cV cD eL eD (gy_sizes v0) (gy_tokens v0) (gy_ends v0) (gy_wants v0) nu tK tA tR tM := by
  refine And.intro (vp_in_nI hk (by decide)) (nm_r (e' := upd cL k p1) (by rw [nI_clamp (by omega), hn]) (And.intro (vp_in_nI hk (by decide)) ?_))
  rw [nI_clamp (by omega)]
  by_cases c : cV k < pr
  · rw [if_pos c] at H
    exact br_t c (yo_0 (And.intro (vp_in_nI hk (by decide)) (nm_r (e' := upd cD k 0) (by rw [nI_clamp (by omega)]) H)))
  · rw [if_neg c] at H
    exact br_f c (yo_1 (And.intro (vp_in_nI hk (by decide)) (nm_r (e' := upd cD k 1) (by rw [nI_clamp (by omega)]) H)))
theorem yb_counter {p1 p2 pr : Int32} {up rs : Bool} (hb : ys_b bl tE tD cV cD eD) (hk : k < 3) (h1 : p1 = if up = true then 1 else 0) (h2 : p2 = if rs = true then 1 else 0) : ∃ cV' cD' D', D' = ex_cnt k up rs pr (va, ro, ou, tO, tB, cL, eL, bl) ∧ ys_b D'.2.2.2.2.2.2.2 tE tD cV' cD' eD ∧ D'.2.2.2.1 = tO ∧ D'.2.2.2.2.1 = tB ∧ ∀ post : SY → Prop, post (ys_yu v0 dp ts bg D'.1 D'.2.1 D'.2.2.1 D'.2.2.2.1 D'.2.2.2.2.1 tE tD D'.2.2.2.2.2.1 cV' cD' D'.2.2.2.2.2.2.1 eD nu tK tA tR tM) → wpY_counter post (ys_yu v0 dp ts bg va ro ou tO tB tE tD cL cV cD eL eD nu tK tA tR tM) (nI k) p1 p2 pr := by
  have key : ∀ (b cV' : Nat → Int32), ys_b b tE tD cV' cD eD → ∃ cD', ys_b (upd b (9 + k) (if b (6 + k) < pr then 0 else 1)) tE tD cV' cD' eD ∧ ∀ post : SY → Prop, post (ys_yu v0 dp ts bg va ro ou tO tB tE tD (upd cL k p1) cV' cD' eL eD nu tK tA tR tM) → wY_counter_37 post (nI k) p1 pr (gy_time v0) (gy_active v0) (gy_running v0) (gy_open v0) dp ts bg va ro (gy_inputs v0) ou tO tB tE tD cL cV' cD eL eD (gy_sizes v0) (gy_tokens v0) (gy_ends v0) (gy_wants v0) nu tK tA tR tM := by
    intro b cV' hb'
    refine ⟨upd cD k (if cV' k < pr then 0 else 1), ?_, fun post H => yb_c37 ?_ hk H⟩
    · rw [(hb' k hk).2.2.1]
      exact ys_b_c hb' hk
    · rw [h1]
      cases up with
      | true => exact na_b1
      | false => exact na_b0
  cases rs with
  | true =>
    obtain ⟨cD', k1, k2⟩ := key _ _ (ys_b_v (x := 0) hb hk)
    refine ⟨upd cV k 0, cD', _, rfl, k1, rfl, rfl, fun post H => ?_⟩
    rw [if_pos rfl] at h2
    rw [h2]
    refine br_f (by decide) (And.intro (vp_in_nI hk (by decide)) (nm_r (e' := upd cV k 0) (by rw [nI_clamp (by omega)]) (k2 post ?_)))
    rw [h1]
    exact H
  | false =>
    rw [if_neg (by decide)] at h2
    rw [h2]
    cases up with
    | false =>
      obtain ⟨cD', k1, k2⟩ := key _ _ hb
      rw [if_neg (by decide)] at h1
      refine ⟨cV, cD', _, rfl, k1, rfl, rfl, fun post H => br_t rfl (br_t h1 (k2 post ?_))⟩
      rw [h1]
      exact H
    | true =>
      rw [if_pos rfl] at h1
      by_cases d : cL k = 0
      · obtain ⟨cD', k1, k2⟩ := key _ _ (ys_b_v (x := bl (6 + k) + 1) hb hk)
        have e : ex_cnt k true false pr (va, ro, ou, tO, tB, cL, eL, bl) = (va, ro, ou, tO, tB, upd cL k 1, eL, upd (upd bl (6 + k) (bl (6 + k) + 1)) (9 + k) (if upd bl (6 + k) (bl (6 + k) + 1) (6 + k) < pr then 0 else 1)) := by
          have e : decide (ds_cL (va, ro, ou, tO, tB, cL, eL, bl) k = 0) = true := decide_eq_true d
          unfold ex_cnt
          rw [e]
          rfl
        refine ⟨_, cD', _, e.symm, k1, rfl, rfl, fun post H => br_t rfl (br_f (by rw [h1]; decide) (And.intro (vp_in_nI hk (by decide)) ?_))⟩
        · rw [nI_clamp (by omega), (hb k hk).2.2.1]
          refine br_t d (And.intro (vp_in_nI hk (by decide)) (And.intro (vp_in_nI hk (by decide)) (nm_e (k2 post ?_))))
          rw [h1]
          exact H
      · obtain ⟨cD', k1, k2⟩ := key _ _ hb
        have e : ex_cnt k true false pr (va, ro, ou, tO, tB, cL, eL, bl) = (va, ro, ou, tO, tB, upd cL k 1, eL, upd bl (9 + k) (if bl (6 + k) < pr then 0 else 1)) := by
          have e : decide (ds_cL (va, ro, ou, tO, tB, cL, eL, bl) k = 0) = false := decide_eq_false d
          unfold ex_cnt
          rw [e]
          rfl
        refine ⟨cV, cD', _, e.symm, k1, rfl, rfl, fun post H => br_t rfl (br_f (by rw [h1]; decide) (And.intro (vp_in_nI hk (by decide)) ?_))⟩
        · rw [nI_clamp (by omega)]
          refine br_f d (k2 post ?_)
          rw [h1]
          exact H
theorem yb_e24 {post : SY → Prop} {p1 z : Int32} (hn : vp_nar .boolean p1 = p1) (hk : k < 3) (hz : z = 0 ∨ z = 1) (H : post (ys_yu v0 dp ts bg va ro ou tO tB tE tD cL cV cD (upd eL k p1) (upd eD k z) nu tK tA tR tM)) : wY_edge_24 post (nI k) p1 z (nI k) (gy_time v0) (gy_active v0) (gy_running v0) (gy_open v0) dp ts bg va ro (gy_inputs v0) ou tO tB tE tD cL cV cD eL eD (gy_sizes v0) (gy_tokens v0) (gy_ends v0) (gy_wants v0) nu tK tA tR tM := by
  cases hz with
  | inl hz =>
    subst hz
    exact yo_0 (And.intro (vp_in_nI hk (by decide)) (nm_r (e' := upd eD k 0) (by rw [nI_clamp (by omega)]) (And.intro (vp_in_nI hk (by decide)) (nm_r (e' := upd eL k p1) (by rw [nI_clamp (by omega), hn]) H))))
  | inr hz =>
    subst hz
    exact yo_1 (And.intro (vp_in_nI hk (by decide)) (nm_r (e' := upd eD k 1) (by rw [nI_clamp (by omega)]) (And.intro (vp_in_nI hk (by decide)) (nm_r (e' := upd eL k p1) (by rw [nI_clamp (by omega), hn]) H))))
theorem yb_edge {p1 : Int32} {up : Bool} (hb : ys_b bl tE tD cV cD eD) (hk : k < 3) (h1 : p1 = if up = true then 1 else 0) : ∃ eD' D', D' = ex_edg k up (va, ro, ou, tO, tB, cL, eL, bl) ∧ ys_b D'.2.2.2.2.2.2.2 tE tD cV cD eD' ∧ D'.2.2.2.1 = tO ∧ D'.2.2.2.2.1 = tB ∧ ∀ post : SY → Prop, post (ys_yu v0 dp ts bg D'.1 D'.2.1 D'.2.2.1 D'.2.2.2.1 D'.2.2.2.2.1 tE tD D'.2.2.2.2.2.1 cV cD D'.2.2.2.2.2.2.1 eD' nu tK tA tR tM) → wpY_edge post (ys_yu v0 dp ts bg va ro ou tO tB tE tD cL cV cD eL eD nu tK tA tR tM) (nI k) p1 := by
  refine ⟨upd eD k (if up && decide (ds_eL (va, ro, ou, tO, tB, cL, eL, bl) k = 0) then 1 else 0), _, rfl, ys_b_e hb hk, rfl, rfl, fun post H => ?_⟩
  cases up with
  | false =>
    rw [if_neg (by decide)] at h1
    subst h1
    exact br_t rfl (yb_e24 na_b0 hk (Or.inl rfl) H)
  | true =>
    rw [if_pos rfl] at h1
    subst h1
    refine br_f (by decide) (And.intro (vp_in_nI hk (by decide)) ?_)
    rw [nI_clamp (by omega)]
    by_cases d : eL k = 0
    · have e : decide (ds_eL (va, ro, ou, tO, tB, cL, eL, bl) k = 0) = true := decide_eq_true d
      unfold ex_edg at H
      rw [e] at H
      exact br_t d (yb_e24 na_b1 hk (Or.inr rfl) H)
    · have e : decide (ds_eL (va, ro, ou, tO, tB, cL, eL, bl) k = 0) = false := decide_eq_false d
      unfold ex_edg at H
      rw [e] at H
      exact br_f d (yb_e24 na_b1 hk (Or.inl rfl) H)
end
end
section
abbrev ys_Tk : Type := Nat × Nat × Nat × Int32
/-- the tasks in the arrays, the next one first -/
def ys_K (B : Nat) (tK tA tR tM : Nat → Int32) : List ys_Tk → Prop
  | [] => True
  | x :: l => (tK l.length = nI x.1 ∧ tA l.length = nI (B + x.2.1) ∧ tR l.length = nI x.2.2.1 ∧ tM l.length = x.2.2.2) ∧ ys_K B tK tA tR tM l
theorem ys_K_upd {B : Nat} {tK tA tR tM : Nat → Int32} {k : Nat} {a b c d : Int32} : ∀ l : List ys_Tk, l.length ≤ k → ys_K B tK tA tR tM l → ys_K B (upd tK k a) (upd tA k b) (upd tR k c) (upd tM k d) l := by
  intro l
  induction l with
  | nil => intro _ _; trivial
  | cons x l ih =>
    intro hk h
    rw [List.length_cons] at hk
    obtain ⟨⟨h1, h2, h3, h4⟩, h5⟩ := h
    exact ⟨⟨(pk_un (by omega)).trans h1, (pk_un (by omega)).trans h2, (pk_un (by omega)).trans h3, (pk_un (by omega)).trans h4⟩, ih (by omega) h5⟩
theorem ys_K_push {B : Nat} {tK tA tR tM : Nat → Int32} {l : List ys_Tk} {x : ys_Tk} (h : ys_K B tK tA tR tM l) : ys_K B (upd tK l.length (nI x.1)) (upd tA l.length (nI (B + x.2.1))) (upd tR l.length (nI x.2.2.1)) (upd tM l.length x.2.2.2) (x :: l) :=
  ⟨⟨pk_us, pk_us, pk_us, pk_us⟩, ys_K_upd l (Nat.le_refl _) h⟩
/-- rounds, values and tasks in the reference's state -/
def ys_R (v0 : SY) (E : ds_E) (B : Nat) (s : Nat × ds_T) (l : List ys_Tk) (v : SY) : Prop :=
  ∃ tE tD cV cD eD nu tK tA tR tM, v = ys_yu v0 (nI 0) (nI l.length) (nI s.1) s.2.1 s.2.2.1 s.2.2.2.1 s.2.2.2.2.1 s.2.2.2.2.2.1 tE tD s.2.2.2.2.2.2.1 cV cD s.2.2.2.2.2.2.2.1 eD nu tK tA tR tM ∧ ys_b s.2.2.2.2.2.2.2.2 tE tD cV cD eD ∧ ys_D E s.2.2.2.2.1 s.2.2.2.2.2.1 ∧ ys_K B tK tA tR tM l ∧ s.1 ≤ 300
section
variable {v0 : SY} {h t i L B : Nat} {E : ds_E} {tk : Nat → Nat} {dp ts bg : Int32} {va ro ou tO tB tE tD cL cV cD eL eD nu tK tA tR tM bl : Nat → Int32}
theorem yt_todo {post : SY → Prop} {a b c d : Int32} (hh : h < 256) (H : post (ys_yu v0 dp (nI (h + 1)) bg va ro ou tO tB tE tD cL cV cD eL eD nu (upd tK h a) (upd tA h b) (upd tR h c) (upd tM h d))) : wpY_toDo post (ys_yu v0 dp (nI h) bg va ro ou tO tB tE tD cL cV cD eL eD nu tK tA tR tM) a b c d :=
  And.intro (vp_in_nI hh (by decide)) (nm_r (e' := upd tK h a) (by rw [nI_clamp (by omega)]) (And.intro (vp_in_nI hh (by decide)) (nm_r (e' := upd tA h b) (by rw [nI_clamp (by omega)]) (And.intro (vp_in_nI hh (by decide)) (nm_r (e' := upd tR h c) (by rw [nI_clamp (by omega)]) (And.intro (vp_in_nI hh (by decide)) (nm_r (e' := upd tM h d) (by rw [nI_clamp (by omega)]) (nm_r (nI_1 h) H))))))))
theorem yo_open {post : SY → Prop} (hH : ys_H v0 E tk B L) (hi : i + 1 < L) (h2 : tk i ≠ 2) (h3 : tk i ≠ 39) (ht : tk i < 1000) (H : wY_statement_30 post (nI (B + i)) (nI (tk i)) (nI (B + tk_en tk (i + 1))) (gy_time v0) (gy_active v0) (gy_running v0) (gy_open v0) dp ts bg va ro (gy_inputs v0) ou tO tB tE tD cL cV cD eL eD (gy_sizes v0) (gy_tokens v0) (gy_ends v0) (gy_wants v0) nu tK tA tR tM) : wpY_statement post (ys_yu v0 dp ts bg va ro ou tO tB tE tD cL cV cD eL eD nu tK tA tR tM) (nI (B + i)) := by
  obtain ⟨hk, he, _, _, hB, hL⟩ := hH
  refine And.intro (vp_in_nI (by omega) (by decide)) (nm_r (e' := nI (tk i)) (by rw [nI_clamp (by omega)]; exact hk i (by omega)) (br_f (ni_ne (b := 2) h2 (by omega) (by decide)) (br_f (ni_ne (b := 39) h3 (by omega) (by decide)) ?_)))
  rw [nI_1, nI_clamp (by omega)]
  refine And.intro (vp_in_nI (by omega) (by decide)) ?_
  have e := he (i + 1) hi
  have e : gy_ends v0 (B + i + 1) = nI (B + tk_en tk (i + 1)) := e
  rw [← e] at H
  exact H
theorem yo_open2 {post : SY → Prop} (hH : ys_H v0 E tk B L) (hi : i < L) (h2 : tk i = 2 ∨ tk i = 39) (H : wY_statement_30 post (nI (B + i)) (nI (tk i)) (nI (B + i)) (gy_time v0) (gy_active v0) (gy_running v0) (gy_open v0) dp ts bg va ro (gy_inputs v0) ou tO tB tE tD cL cV cD eL eD (gy_sizes v0) (gy_tokens v0) (gy_ends v0) (gy_wants v0) nu tK tA tR tM) : wpY_statement post (ys_yu v0 dp ts bg va ro ou tO tB tE tD cL cV cD eL eD nu tK tA tR tM) (nI (B + i)) := by
  obtain ⟨hk, he, _, _, hB, hL⟩ := hH
  refine And.intro (vp_in_nI (by omega) (by decide)) (nm_r (e' := nI (tk i)) (by rw [nI_clamp (by omega)]; exact hk i (by omega)) ?_)
  cases h2 with
  | inl h2 => exact br_t (by rw [h2]; rfl) H
  | inr h2 => exact br_f (ni_ne (b := 2) (by omega) (by omega) (by decide)) (br_t (by rw [h2]; rfl) H)

variable {r : Nat} {l : List ys_Tk}
/-- a statement without statements in it -/
theorem ym_pr {v : SY} {s : Nat × ds_T} (hH : ys_H v0 E tk B L) (hT : tk_T tk L true i) (hp : ex_prim (tk i)) (hR : ys_R v0 E B s l v) : ∃ v', ys_R v0 E B (s.1, ex_pr E (tk i) (ev_v E s.2 tk (i + 1)) (ev_v E s.2 tk (tk_en tk (i + 1))) (ev_v E s.2 tk (tk_en tk (tk_en tk (i + 1)))) s.2) l v' ∧ ∀ post : SY → Prop, post v' → wpY_statement post v (nI (B + i)) := by
  obtain ⟨r, va, ro, ou, tO, tB, cL, eL, bl⟩ := s
  obtain ⟨tE, tD, cV, cD, eD, nu, tK, tA, tR, tM, rfl, hb, hD, hK, hr⟩ := hR
  unfold ex_prim at hp
  have hL : L ≤ 60 := hH.2.2.2.2.2
  have e1 : nI (B + i) + 1 = nI (B + (i + 1)) := nI_1 _
  have hb : ys_b bl tE tD cV cD eD := hb
  have hen := tk_T_en hL hT
  by_cases c1 : (10 ≤ tk i ∧ tk i ≤ 25) ∨ (30 ≤ tk i ∧ tk i ≤ 33) ∨ (66 ≤ tk i ∧ tk i ≤ 68)
  · have ha : tk_ar (tk i) = 1 := by
      unfold tk_ar
      rw [if_neg (by omega), if_pos (by omega)]
    have hn := tk_n1 hL hT ha
    have hs : tk_sp (tk i) 0 = false := by unfold tk_sp; exact decide_eq_false (by omega)
    rw [hs] at hn
    have hn1 := tk_T_en hL hn.1
    rw [ex_pr1 c1]
    obtain ⟨nu', W⟩ := yw_work (ts := nI l.length) (bg := nI r) (nu := nu) (tK := tK) (tA := tA) (tR := tR) (tM := tM) (va := va) (ro := ro) (ou := ou) (tO := tO) (tB := tB) (cL := cL) (eL := eL) hH hn.1 (by omega) hb
    show ∃ v', ys_R v0 E B (r, ex_pr E (tk i) (ev_v E (va, ro, ou, tO, tB, cL, eL, bl) tk (i + 1)) 0 0 (va, ro, ou, tO, tB, cL, eL, bl)) l v' ∧ _
    generalize ev_v E (va, ro, ou, tO, tB, cL, eL, bl) tk (i + 1) = x at W
    by_cases d1 : tk i ≤ 25
    · have e : ex_pr E (tk i) x 0 0 (va, ro, ou, tO, tB, cL, eL, bl) = (upd va (tk i - 10) x, ro, ou, tO, tB, cL, eL, bl) := by
        unfold ex_pr
        rw [if_pos (by omega)]
        rfl
      have es : nI (tk i) - 10 = nI (tk i - 10) := pk_sub (b := 10) (by omega)
      rw [e]
      refine ⟨_, ⟨tE, tD, cV, cD, eD, nu', tK, tA, tR, tM, rfl, hb, hD, hK, hr⟩, fun post H => yo_open hH (by omega) (by omega) (by omega) (by omega) (br_f (ni_ne (b := 1) (by omega) (by omega) (by decide)) (yi_t (a := 10) (b := 25) (by omega) (by omega) (by decide) (br_f (by decide) ?_)))⟩
      rw [e1, es]
      exact W _ (And.intro (vp_in_nI (by omega) (by decide)) (nm_r (e' := upd va (tk i - 10) x) (by rw [nI_clamp (by omega)]) H))
    by_cases d2 : tk i ≤ 33
    · have e : ex_pr E (tk i) x 0 0 (va, ro, ou, tO, tB, cL, eL, bl) = (va, ro, upd ou (tk i - 30) x, tO, tB, cL, eL, bl) := by
        unfold ex_pr
        rw [if_neg (by omega), if_pos (by omega)]
        rfl
      have es : nI (tk i) - 30 = nI (tk i - 30) := pk_sub (b := 30) (by omega)
      rw [e]
      refine ⟨_, ⟨tE, tD, cV, cD, eD, nu', tK, tA, tR, tM, rfl, hb, hD, hK, hr⟩, fun post H => yo_open hH (by omega) (by omega) (by omega) (by omega) (br_f (ni_ne (b := 1) (by omega) (by omega) (by decide)) (yi_f (a := 10) (b := 25) (by omega) (by omega) (by decide) (br_t rfl (yi_t (a := 30) (b := 33) (by omega) (by omega) (by decide) (br_f (by decide) ?_)))))⟩
      rw [e1, es]
      exact W _ (And.intro (vp_in_nI (by omega) (by decide)) (nm_r (e' := upd ou (tk i - 30) x) (by rw [nI_clamp (by omega)]) H))
    · have e : ex_pr E (tk i) x 0 0 (va, ro, ou, tO, tB, cL, eL, bl) = ex_edg (tk i - 66) (decide (x ≠ 0)) (va, ro, ou, tO, tB, cL, eL, bl) := by
        unfold ex_pr
        rw [if_neg (by omega), if_neg (by omega), if_neg (by omega), if_neg (by omega), if_neg (by omega)]
      have es : nI (tk i) - 66 = nI (tk i - 66) := pk_sub (b := 66) (by omega)
      obtain ⟨eD', D', eD1, hb', f1, f2, Wb⟩ := yb_edge (v0 := v0) (k := tk i - 66) (dp := nI 0) (ts := nI l.length) (bg := nI r) (va := va) (ro := ro) (ou := ou) (tO := tO) (tB := tB) (cL := cL) (eL := eL) (nu := nu') (tK := tK) (tA := tA) (tR := tR) (tM := tM) (p1 := if decide (x ≠ 0) = true then 1 else 0) (up := decide (x ≠ 0)) hb (by omega) rfl
      rw [e, ← eD1]
      refine ⟨_, ⟨tE, tD, cV, cD, eD', nu', tK, tA, tR, tM, rfl, hb', ?_, hK, hr⟩, fun post H => yo_open hH (by omega) (by omega) (by omega) (by omega) (br_f (ni_ne (b := 1) (by omega) (by omega) (by decide)) (yi_f (a := 10) (b := 25) (by omega) (by omega) (by decide) (br_t rfl (yi_f (a := 30) (b := 33) (by omega) (by omega) (by decide) (br_t rfl (br_f (ni_ne (b := 34) (by omega) (by omega) (by decide)) (br_f (ni_ne (b := 35) (by omega) (by omega) (by decide)) (br_f (ni_ne (b := 36) (by omega) (by omega) (by decide)) (br_f (ni_ne (b := 37) (by omega) (by omega) (by decide)) (br_f (ni_ne (b := 39) (by omega) (by omega) (by decide)) (yi_f (a := 40) (b := 55) (by omega) (by omega) (by decide) (br_t rfl (br_f (ni_ne (b := 56) (by omega) (by omega) (by decide)) (yi_f (a := 60) (b := 62) (by omega) (by omega) (by decide) (br_t rfl (yi_f (a := 63) (b := 65) (by omega) (by omega) (by decide) (br_t rfl (yi_t (a := 66) (b := 68) (by omega) (by omega) (by decide) (br_f (by decide) ?_)))))))))))))))))))⟩
      · show ys_D E D'.2.2.2.1 D'.2.2.2.2.1
        rw [f1, f2]
        exact hD
      rw [e1, es]
      refine W _ ?_
      have Wb := Wb post H
      by_cases z : x = 0
      · rw [decide_eq_false (p := x ≠ 0) (fun q => q z), if_neg (by decide)] at Wb
        exact br_t z Wb
      · rw [decide_eq_true (p := x ≠ 0) z, if_pos rfl] at Wb
        exact br_f z Wb
  by_cases c2 : tk i = 34 ∨ (60 ≤ tk i ∧ tk i ≤ 62)
  · have ha : tk_ar (tk i) = 2 := by
      unfold tk_ar
      rw [if_neg (by omega), if_neg (by omega), if_neg (by omega), if_neg (by omega)]
    have hn := tk_n2 hL hT ha
    have hs : tk_sp (tk i) 0 = false := by unfold tk_sp; exact decide_eq_false (by omega)
    have hs2 : tk_sp (tk i) 1 = false := by unfold tk_sp; exact decide_eq_false (by omega)
    rw [hs, hs2] at hn
    have hn1 := tk_T_en hL hn.1
    rw [ex_pr2 c2]
    obtain ⟨nu1, W1⟩ := yw_work (ts := nI l.length) (bg := nI r) (nu := nu) (tK := tK) (tA := tA) (tR := tR) (tM := tM) (va := va) (ro := ro) (ou := ou) (tO := tO) (tB := tB) (cL := cL) (eL := eL) hH hn.1 (by omega) hb
    obtain ⟨nu2, W2⟩ := yw_work (ts := nI l.length) (bg := nI r) (nu := nu1) (tK := tK) (tA := tA) (tR := tR) (tM := tM) (va := va) (ro := ro) (ou := ou) (tO := tO) (tB := tB) (cL := cL) (eL := eL) hH hn.2.1 (by omega) hb
    show ∃ v', ys_R v0 E B (r, ex_pr E (tk i) (ev_v E (va, ro, ou, tO, tB, cL, eL, bl) tk (i + 1)) (ev_v E (va, ro, ou, tO, tB, cL, eL, bl) tk (tk_en tk (i + 1))) 0 (va, ro, ou, tO, tB, cL, eL, bl)) l v' ∧ _
    generalize ev_v E (va, ro, ou, tO, tB, cL, eL, bl) tk (i + 1) = x at W1
    generalize ev_v E (va, ro, ou, tO, tB, cL, eL, bl) tk (tk_en tk (i + 1)) = y at W2
    by_cases d1 : tk i = 34
    · have e : ex_pr E (tk i) x y 0 (va, ro, ou, tO, tB, cL, eL, bl) = (va, upd ro (x &&& 7).toNatClampNeg y, ou, tO, tB, cL, eL, bl) := by
        rw [d1]
        rfl
      rw [e]
      refine ⟨_, ⟨tE, tD, cV, cD, eD, nu2, tK, tA, tR, tM, rfl, hb, hD, hK, hr⟩, fun post H => yo_open hH (by omega) (by omega) (by omega) (by omega) (br_f (ni_ne (b := 1) (by omega) (by omega) (by decide)) (yi_f (a := 10) (b := 25) (by omega) (by omega) (by decide) (br_t rfl (yi_f (a := 30) (b := 33) (by omega) (by omega) (by decide) (br_t rfl (br_t (by rw [d1]; rfl) ?_))))))⟩
      rw [e1]
      exact W1 _ (nm_e (W2 _ (And.intro (pk_andIn _ 3 (by decide) (by decide)) (nm_e H))))
    · have e : ex_pr E (tk i) x y 0 (va, ro, ou, tO, tB, cL, eL, bl) = ex_tmr E (tk i - 60) (decide (x ≠ 0)) y (va, ro, ou, tO, tB, cL, eL, bl) := by
        unfold ex_pr
        rw [if_neg (by omega), if_neg (by omega), if_neg (by omega), if_pos (by omega)]
      have es : nI (tk i) - 60 = nI (tk i - 60) := pk_sub (b := 60) (by omega)
      obtain ⟨tE', tD', D', eD1, hb', hD', Wb⟩ := yb_timer (v0 := v0) (k := tk i - 60) (dp := nI 0) (ts := nI l.length) (bg := nI r) (va := va) (ro := ro) (ou := ou) (tO := tO) (tB := tB) (cL := cL) (eL := eL) (nu := nu2) (tK := tK) (tA := tA) (tR := tR) (tM := tM) (p1 := if decide (x ≠ 0) = true then 1 else 0) (on := decide (x ≠ 0)) (pr := y) hH.2.2.2.1 hb hD (by omega) rfl
      rw [e, ← eD1]
      refine ⟨_, ⟨tE', tD', cV, cD, eD, nu2, tK, tA, tR, tM, rfl, hb', hD', hK, hr⟩, fun post H => yo_open hH (by omega) (by omega) (by omega) (by omega) (br_f (ni_ne (b := 1) (by omega) (by omega) (by decide)) (yi_f (a := 10) (b := 25) (by omega) (by omega) (by decide) (br_t rfl (yi_f (a := 30) (b := 33) (by omega) (by omega) (by decide) (br_t rfl (br_f (ni_ne (b := 34) (by omega) (by omega) (by decide)) (br_f (ni_ne (b := 35) (by omega) (by omega) (by decide)) (br_f (ni_ne (b := 36) (by omega) (by omega) (by decide)) (br_f (ni_ne (b := 37) (by omega) (by omega) (by decide)) (br_f (ni_ne (b := 39) (by omega) (by omega) (by decide)) (yi_f (a := 40) (b := 55) (by omega) (by omega) (by decide) (br_t rfl (br_f (ni_ne (b := 56) (by omega) (by omega) (by decide)) (yi_t (a := 60) (b := 62) (by omega) (by omega) (by decide) (br_f (by decide) ?_)))))))))))))))⟩
      rw [e1, es]
      refine W1 _ ?_
      have Wb := Wb post H
      by_cases z : x = 0
      · rw [decide_eq_false (p := x ≠ 0) (fun q => q z), if_neg (by decide)] at Wb
        refine br_t z ?_
        unfold wY_statement_363
        exact W2 _ Wb
      · rw [decide_eq_true (p := x ≠ 0) z, if_pos rfl] at Wb
        refine br_f z ?_
        unfold wY_statement_363
        exact W2 _ Wb
  · have c3 : 63 ≤ tk i ∧ tk i ≤ 65 := by omega
    have ha : tk_ar (tk i) = 3 := by
      unfold tk_ar
      rw [if_neg (by omega), if_neg (by omega), if_neg (by omega), if_pos (by omega)]
    have hn := tk_n3 hL hT ha
    have hs : tk_sp (tk i) 0 = false := by unfold tk_sp; exact decide_eq_false (by omega)
    have hs2 : tk_sp (tk i) 1 = false := by unfold tk_sp; exact decide_eq_false (by omega)
    have hs3 : tk_sp (tk i) 2 = false := by unfold tk_sp; exact decide_eq_false (by omega)
    rw [hs, hs2, hs3] at hn
    have hn1 := tk_T_en hL hn.1
    have hn2 := tk_T_en hL hn.2.1
    have he2 := hH.2.1 (tk_en tk (i + 1)) (by omega)
    have hB := hH.2.2.2.2.1
    obtain ⟨nu1, W1⟩ := yw_work (ts := nI l.length) (bg := nI r) (nu := nu) (tK := tK) (tA := tA) (tR := tR) (tM := tM) (va := va) (ro := ro) (ou := ou) (tO := tO) (tB := tB) (cL := cL) (eL := eL) hH hn.1 (by omega) hb
    obtain ⟨nu2, W2⟩ := yw_work (ts := nI l.length) (bg := nI r) (nu := nu1) (tK := tK) (tA := tA) (tR := tR) (tM := tM) (va := va) (ro := ro) (ou := ou) (tO := tO) (tB := tB) (cL := cL) (eL := eL) hH hn.2.1 (by omega) hb
    obtain ⟨nu3, W3⟩ := yw_work (ts := nI l.length) (bg := nI r) (nu := nu2) (tK := tK) (tA := tA) (tR := tR) (tM := tM) (va := va) (ro := ro) (ou := ou) (tO := tO) (tB := tB) (cL := cL) (eL := eL) hH hn.2.2.1 (by omega) hb
    show ∃ v', ys_R v0 E B (r, ex_pr E (tk i) (ev_v E (va, ro, ou, tO, tB, cL, eL, bl) tk (i + 1)) (ev_v E (va, ro, ou, tO, tB, cL, eL, bl) tk (tk_en tk (i + 1))) (ev_v E (va, ro, ou, tO, tB, cL, eL, bl) tk (tk_en tk (tk_en tk (i + 1)))) (va, ro, ou, tO, tB, cL, eL, bl)) l v' ∧ _
    generalize ev_v E (va, ro, ou, tO, tB, cL, eL, bl) tk (i + 1) = x at W1
    generalize ev_v E (va, ro, ou, tO, tB, cL, eL, bl) tk (tk_en tk (i + 1)) = y at W2
    generalize ev_v E (va, ro, ou, tO, tB, cL, eL, bl) tk (tk_en tk (tk_en tk (i + 1))) = w at W3
    have e : ex_pr E (tk i) x y w (va, ro, ou, tO, tB, cL, eL, bl) = ex_cnt (tk i - 63) (decide (x ≠ 0)) (decide (y ≠ 0)) w (va, ro, ou, tO, tB, cL, eL, bl) := by
      unfold ex_pr
      rw [if_neg (by omega), if_neg (by omega), if_neg (by omega), if_neg (by omega), if_pos (by omega)]
    have es : nI (tk i) - 63 = nI (tk i - 63) := pk_sub (b := 63) (by omega)
    obtain ⟨cV', cD', D', eD1, hb', f1, f2, Wb⟩ := yb_counter (v0 := v0) (k := tk i - 63) (dp := nI 0) (ts := nI l.length) (bg := nI r) (va := va) (ro := ro) (ou := ou) (tO := tO) (tB := tB) (cL := cL) (eL := eL) (nu := nu3) (tK := tK) (tA := tA) (tR := tR) (tM := tM) (p1 := if decide (x ≠ 0) = true then 1 else 0) (up := decide (x ≠ 0)) (p2 := if decide (y ≠ 0) = true then 1 else 0) (rs := decide (y ≠ 0)) (pr := w) hb (by omega) rfl rfl
    rw [e, ← eD1]
    refine ⟨_, ⟨tE, tD, cV', cD', eD, nu3, tK, tA, tR, tM, rfl, hb', ?_, hK, hr⟩, fun post H => yo_open hH (by omega) (by omega) (by omega) (by omega) (br_f (ni_ne (b := 1) (by omega) (by omega) (by decide)) (yi_f (a := 10) (b := 25) (by omega) (by omega) (by decide) (br_t rfl (yi_f (a := 30) (b := 33) (by omega) (by omega) (by decide) (br_t rfl (br_f (ni_ne (b := 34) (by omega) (by omega) (by decide)) (br_f (ni_ne (b := 35) (by omega) (by omega) (by decide)) (br_f (ni_ne (b := 36) (by omega) (by omega) (by decide)) (br_f (ni_ne (b := 37) (by omega) (by omega) (by decide)) (br_f (ni_ne (b := 39) (by omega) (by omega) (by decide)) (yi_f (a := 40) (b := 55) (by omega) (by omega) (by decide) (br_t rfl (br_f (ni_ne (b := 56) (by omega) (by omega) (by decide)) (yi_f (a := 60) (b := 62) (by omega) (by omega) (by decide) (br_t rfl (yi_t (a := 63) (b := 65) (by omega) (by omega) (by decide) (br_f (by decide) ?_)))))))))))))))))⟩
    · show ys_D E D'.2.2.2.1 D'.2.2.2.2.1
      rw [f1, f2]
      exact hD
    rw [e1, es]
    refine W1 _ ?_
    have Wb := Wb post H
    have key : ∀ (a b : Int32), wpY_counter post (ys_yu v0 (nI 0) (nI l.length) (nI r) va ro ou tO tB tE tD cL cV cD eL eD nu3 tK tA tR tM) (nI (tk i - 63)) a b w → wY_statement_419 post (nI (B + tk_en tk (i + 1))) b a (nI (tk i - 63)) (gy_time v0) (gy_active v0) (gy_running v0) (gy_open v0) (nI 0) (nI l.length) (nI r) va ro (gy_inputs v0) ou tO tB tE tD cL cV cD eL eD (gy_sizes v0) (gy_tokens v0) (gy_ends v0) (gy_wants v0) nu2 tK tA tR tM := by
      intro a b hc
      refine And.intro (vp_in_nI (by omega) (by decide)) ?_
      rw [nI_clamp (by omega)]
      show wpY_work _ _ (gy_ends v0 (B + tk_en tk (i + 1)))
      rw [he2]
      exact W3 _ hc
    by_cases z : x = 0
    · rw [decide_eq_false (p := x ≠ 0) (fun q => q z), if_neg (by decide)] at Wb
      refine br_t z ?_
      unfold wY_statement_406
      refine W2 _ ?_
      by_cases z2 : y = 0
      · rw [decide_eq_false (p := y ≠ 0) (fun q => q z2), if_neg (by decide)] at Wb
        exact br_t z2 (key _ _ Wb)
      · rw [decide_eq_true (p := y ≠ 0) z2, if_pos rfl] at Wb
        exact br_f z2 (key _ _ Wb)
    · rw [decide_eq_true (p := x ≠ 0) z, if_pos rfl] at Wb
      refine br_f z ?_
      unfold wY_statement_406
      refine W2 _ ?_
      by_cases z2 : y = 0
      · rw [decide_eq_false (p := y ≠ 0) (fun q => q z2), if_neg (by decide)] at Wb
        exact br_t z2 (key _ _ Wb)
      · rw [decide_eq_true (p := y ≠ 0) z2, if_pos rfl] at Wb
        exact br_f z2 (key _ _ Wb)
end
end
section
def ys_lv : List ys_Tk → List ys_Tk
  | [] => []
  | x :: l => if x.1 = 2 then l else ys_lv l
theorem ys_K_lv {B : Nat} {tK tA tR tM : Nat → Int32} : ∀ l : List ys_Tk, ys_K B tK tA tR tM l → ys_K B tK tA tR tM (ys_lv l) ∧ (ys_lv l).length ≤ l.length := by
  intro l
  induction l with
  | nil => intro _; exact ⟨trivial, Nat.le_refl _⟩
  | cons x l ih =>
    intro h
    unfold ys_lv
    rw [List.length_cons]
    by_cases c : x.1 = 2
    · rw [if_pos c]
      exact ⟨h.2, by omega⟩
    · rw [if_neg c]
      have := ih h.2
      exact ⟨this.1, by omega⟩
section
variable {v0 : SY} {h t i L B : Nat} {E : ds_E} {tk : Nat → Nat} {dp ts bg : Int32} {va ro ou tO tB tE tD cL cV cD eL eD nu tK tA tR tM bl : Nat → Int32} {r : Nat} {l : List ys_Tk} {v : SY} {s : Nat × ds_T}
theorem yl_loop {post : SY → Prop} : ∀ l : List ys_Tk, l.length < 256 → (∀ x, x ∈ l → x.1 ≤ 2) → ys_K B tK tA tR tM l → post (ys_yu v0 dp (nI (ys_lv l).length) bg va ro ou tO tB tE tD cL cV cD eL eD nu tK tA tR tM) → wY_leave_2 post (gy_time v0) (gy_active v0) (gy_running v0) (gy_open v0) dp bg va ro (gy_inputs v0) ou tO tB tE tD cL cV cD eL eD (gy_sizes v0) (gy_tokens v0) (gy_ends v0) (gy_wants v0) nu tK tA tR tM (l.length + 2) 0 (nI l.length) := by
  intro l
  induction l with
  | nil => intro _ _ _ H; exact br_t (nI_le (a := 0) (b := 0) (by omega) (by decide)) H
  | cons x l ih =>
    intro hl hx hK H
    rw [List.length_cons] at hl
    have hx1 := hx x (List.mem_cons_self ..)
    unfold ys_lv at H
    refine br_f (nI_ge (a := 0) (b := l.length + 1) (by omega) (by omega)) (br_t rfl (nm_r (nI_pred l.length) (And.intro (vp_in_nI (by omega) (by decide)) ?_)))
    rw [nI_clamp (by omega)]
    by_cases c : x.1 = 2
    · rw [if_pos c] at H
      refine br_t (by rw [hK.1.1, c]; rfl) ?_
      exact br_c (fun _ => H) (fun _ => br_f (by decide) H)
    · rw [if_neg c] at H
      refine br_f (by rw [hK.1.1]; exact ni_ne (b := 2) c (by omega) (by decide)) ?_
      exact ih (by omega) (fun y hy => hx y (List.mem_cons_of_mem _ hy)) hK.2 H
/-- EXIT -/
theorem ym_39 (hH : ys_H v0 E tk B L) (hi : i < L) (ht : tk i = 39) (hl : l.length < 256) (hx : ∀ x, x ∈ l → x.1 ≤ 2) (hR : ys_R v0 E B s l v) : ∃ v', ys_R v0 E B s (ys_lv l) v' ∧ ∀ post : SY → Prop, post v' → wpY_statement post v (nI (B + i)) := by
  obtain ⟨r, va, ro, ou, tO, tB, cL, eL, bl⟩ := s
  obtain ⟨tE, tD, cV, cD, eD, nu, tK, tA, tR, tM, rfl, hb, hD, hK, hr⟩ := hR
  refine ⟨_, ⟨tE, tD, cV, cD, eD, nu, tK, tA, tR, tM, rfl, hb, hD, (ys_K_lv l hK).1, hr⟩, fun post H => yo_open2 hH hi (Or.inr ht) ?_⟩
  rw [ht]
  exact br_f (by decide) (yi_f (a := 10) (b := 25) (by decide) (by decide) (by decide) (br_t rfl (yi_f (a := 30) (b := 33) (by decide) (by decide) (by decide) (br_t rfl (br_f (by decide) (br_f (by decide) (br_f (by decide) (br_f (by decide) (br_t rfl ⟨_, yl_loop l hl hx hK H⟩)))))))))
theorem ym_2 (hH : ys_H v0 E tk B L) (hi : i < L) (ht : tk i = 2) (hR : ys_R v0 E B s l v) : ∃ v', ys_R v0 E B s l v' ∧ ∀ post : SY → Prop, post v' → wpY_statement post v (nI (B + i)) := by
  obtain ⟨r, va, ro, ou, tO, tB, cL, eL, bl⟩ := s
  obtain ⟨tE, tD, cV, cD, eD, nu, tK, tA, tR, tM, rfl, hb, hD, hK, hr⟩ := hR
  refine ⟨_, ⟨tE, tD, cV, cD, eD, nu, tK, tA, tR, tM, rfl, hb, hD, hK, hr⟩, fun post H => yo_open2 hH hi (Or.inl ht) ?_⟩
  rw [ht]
  exact br_f (by decide) (yi_f (a := 10) (b := 25) (by decide) (by decide) (by decide) (br_t rfl (yi_f (a := 30) (b := 33) (by decide) (by decide) (by decide) (br_t rfl (br_f (by decide) (br_f (by decide) (br_f (by decide) (br_f (by decide) (br_f (by decide) (yi_f (a := 40) (b := 55) (by decide) (by decide) (by decide) (br_t rfl (br_f (by decide) (yi_f (a := 60) (b := 62) (by decide) (by decide) (by decide) (br_t rfl (yi_f (a := 63) (b := 65) (by decide) (by decide) (by decide) (br_t rfl (yi_f (a := 66) (b := 68) (by decide) (by decide) (by decide) (br_t rfl H))))))))))))))))))
theorem ym_1 (hH : ys_H v0 E tk B L) (hi : i + 1 < L) (ht : tk i = 1) (hl : l.length + 2 < 256) (hR : ys_R v0 E B s l v) : ∃ v', ys_R v0 E B s ((0, i + 1, 0, 0) :: (0, tk_en tk (i + 1), 0, 0) :: l) v' ∧ ∀ post : SY → Prop, post v' → wpY_statement post v (nI (B + i)) := by
  obtain ⟨r, va, ro, ou, tO, tB, cL, eL, bl⟩ := s
  obtain ⟨tE, tD, cV, cD, eD, nu, tK, tA, tR, tM, rfl, hb, hD, hK, hr⟩ := hR
  have e1 : nI (B + i) + 1 = nI (B + (i + 1)) := nI_1 _
  have hK1 := ys_K_push (x := (0, tk_en tk (i + 1), 0, 0)) hK
  have hK2 := ys_K_push (x := (0, i + 1, 0, 0)) hK1
  refine ⟨_, ⟨tE, tD, cV, cD, eD, nu, _, _, _, _, rfl, hb, hD, hK2, hr⟩, fun post H => yo_open hH hi (by omega) (by omega) (by omega) ?_⟩
  rw [ht]
  refine br_t rfl ?_
  refine yt_todo (h := l.length) (by omega) ?_
  rw [e1]
  exact yt_todo (h := l.length + 1) (by omega) H
theorem ym_35 (hH : ys_H v0 E tk B L) (hT : tk_T tk L true i) (ht : tk i = 35) (hl : l.length + 2 < 256) (hR : ys_R v0 E B s l v) : ∃ v', ys_R v0 E B s ((0, if ev_v E s.2 tk (i + 1) = 0 then tk_en tk (tk_en tk (i + 1)) else tk_en tk (i + 1), 0, 0) :: l) v' ∧ ∀ post : SY → Prop, post v' → wpY_statement post v (nI (B + i)) := by
  obtain ⟨r, va, ro, ou, tO, tB, cL, eL, bl⟩ := s
  obtain ⟨tE, tD, cV, cD, eD, nu, tK, tA, tR, tM, rfl, hb, hD, hK, hr⟩ := hR
  have hL : L ≤ 60 := hH.2.2.2.2.2
  have hB := hH.2.2.2.2.1
  have e1 : nI (B + i) + 1 = nI (B + (i + 1)) := nI_1 _
  have hb : ys_b bl tE tD cV cD eD := hb
  have hen := tk_T_en hL hT
  have hn := tk_n3 hL hT (by rw [ht]; decide)
  have hs : tk_sp (tk i) 0 = false := by rw [ht]; decide
  rw [hs] at hn
  have hn1 := tk_T_en hL hn.1
  have hn2 := tk_T_en hL hn.2.1
  have he2 := hH.2.1 (tk_en tk (i + 1)) (by omega)
  obtain ⟨nu', W⟩ := yw_work (ts := nI l.length) (bg := nI r) (nu := nu) (tK := tK) (tA := tA) (tR := tR) (tM := tM) (va := va) (ro := ro) (ou := ou) (tO := tO) (tB := tB) (cL := cL) (eL := eL) hH hn.1 (by omega) hb
  show ∃ v', ys_R v0 E B (r, va, ro, ou, tO, tB, cL, eL, bl) ((0, if ev_v E (va, ro, ou, tO, tB, cL, eL, bl) tk (i + 1) = 0 then tk_en tk (tk_en tk (i + 1)) else tk_en tk (i + 1), 0, 0) :: l) v' ∧ _
  generalize ev_v E (va, ro, ou, tO, tB, cL, eL, bl) tk (i + 1) = x at W
  have hK1 := ys_K_push (x := (0, if x = 0 then tk_en tk (tk_en tk (i + 1)) else tk_en tk (i + 1), 0, 0)) hK
  refine ⟨_, ⟨tE, tD, cV, cD, eD, nu', _, _, _, _, rfl, hb, hD, hK1, hr⟩, fun post H => yo_open hH (by omega) (by omega) (by omega) (by omega) ?_⟩
  rw [ht]
  refine br_f (by decide) (yi_f (a := 10) (b := 25) (by decide) (by decide) (by decide) (br_t rfl (yi_f (a := 30) (b := 33) (by decide) (by decide) (by decide) (br_t rfl (br_f (by decide) (br_t rfl ?_))))))
  rw [e1]
  refine W _ ?_
  by_cases z : x = 0
  · simp only [if_pos z] at H
    refine br_t z (And.intro (vp_in_nI (by omega) (by decide)) ?_)
    rw [nI_clamp (by omega)]
    show wY_statement_180 post (gy_ends v0 (B + tk_en tk (i + 1))) 0 (gy_time v0) (gy_active v0) (gy_running v0) (gy_open v0) (nI 0) (nI l.length) (nI r) va ro (gy_inputs v0) ou tO tB tE tD cL cV cD eL eD (gy_sizes v0) (gy_tokens v0) (gy_ends v0) (gy_wants v0) nu' tK tA tR tM
    rw [he2]
    exact yt_todo (h := l.length) (by omega) H
  · simp only [if_neg z] at H
    exact br_f z (yt_todo (h := l.length) (by omega) H)
theorem ym_56 (hH : ys_H v0 E tk B L) (hT : tk_T tk L true i) (ht : tk i = 56) (hl : l.length + 2 < 256) (hR : ys_R v0 E B s l v) : ∃ v', ys_R v0 E B s ((0, if ev_v E s.2 tk (i + 1) = 0 then tk_en tk (i + 1) else if ev_v E s.2 tk (i + 1) = 1 then tk_en tk (tk_en tk (i + 1)) else tk_en tk (tk_en tk (tk_en tk (i + 1))), 0, 0) :: l) v' ∧ ∀ post : SY → Prop, post v' → wpY_statement post v (nI (B + i)) := by
  obtain ⟨r, va, ro, ou, tO, tB, cL, eL, bl⟩ := s
  obtain ⟨tE, tD, cV, cD, eD, nu, tK, tA, tR, tM, rfl, hb, hD, hK, hr⟩ := hR
  have hL : L ≤ 60 := hH.2.2.2.2.2
  have hB := hH.2.2.2.2.1
  have e1 : nI (B + i) + 1 = nI (B + (i + 1)) := nI_1 _
  have hb : ys_b bl tE tD cV cD eD := hb
  have hen := tk_T_en hL hT
  have hn := tk_n4 hL hT (by rw [ht]; decide)
  have hs : tk_sp (tk i) 0 = false := by rw [ht]; decide
  rw [hs] at hn
  have hn1 := tk_T_en hL hn.1
  have hn2 := tk_T_en hL hn.2.1
  have hn3 := tk_T_en hL hn.2.2.1
  have he2 := hH.2.1 (tk_en tk (i + 1)) (by omega)
  have he3 := hH.2.1 (tk_en tk (tk_en tk (i + 1))) (by omega)
  obtain ⟨nu', W⟩ := yw_work (ts := nI l.length) (bg := nI r) (nu := nu) (tK := tK) (tA := tA) (tR := tR) (tM := tM) (va := va) (ro := ro) (ou := ou) (tO := tO) (tB := tB) (cL := cL) (eL := eL) hH hn.1 (by omega) hb
  show ∃ v', ys_R v0 E B (r, va, ro, ou, tO, tB, cL, eL, bl) ((0, if ev_v E (va, ro, ou, tO, tB, cL, eL, bl) tk (i + 1) = 0 then tk_en tk (i + 1) else if ev_v E (va, ro, ou, tO, tB, cL, eL, bl) tk (i + 1) = 1 then tk_en tk (tk_en tk (i + 1)) else tk_en tk (tk_en tk (tk_en tk (i + 1))), 0, 0) :: l) v' ∧ _
  generalize ev_v E (va, ro, ou, tO, tB, cL, eL, bl) tk (i + 1) = x at W
  have hK1 := ys_K_push (x := (0, if x = 0 then tk_en tk (i + 1) else if x = 1 then tk_en tk (tk_en tk (i + 1)) else tk_en tk (tk_en tk (tk_en tk (i + 1))), 0, 0)) hK
  refine ⟨_, ⟨tE, tD, cV, cD, eD, nu', _, _, _, _, rfl, hb, hD, hK1, hr⟩, fun post H => yo_open hH (by omega) (by omega) (by omega) (by omega) ?_⟩
  rw [ht]
  refine br_f (by decide) (yi_f (a := 10) (b := 25) (by decide) (by decide) (by decide) (br_t rfl (yi_f (a := 30) (b := 33) (by decide) (by decide) (by decide) (br_t rfl (br_f (by decide) (br_f (by decide) (br_f (by decide) (br_f (by decide) (br_f (by decide) (yi_f (a := 40) (b := 55) (by decide) (by decide) (by decide) (br_t rfl (br_t rfl ?_))))))))))))
  rw [e1]
  refine W _ ?_
  by_cases z : x = 0
  · simp only [if_pos z] at H
    exact br_t z (yt_todo (h := l.length) (by omega) H)
  · simp only [if_neg z] at H
    refine br_f z ?_
    have e2 : gy_ends v0 (nI (B + tk_en tk (i + 1))).toNatClampNeg = nI (B + tk_en tk (tk_en tk (i + 1))) := by rw [nI_clamp (by omega)]; exact he2
    by_cases z1 : x = 1
    · simp only [if_pos z1] at H
      refine br_t z1 (And.intro (vp_in_nI (by omega) (by decide)) ?_)
      show wY_statement_323 post (gy_ends v0 (nI (B + tk_en tk (i + 1))).toNatClampNeg) 0 (gy_time v0) (gy_active v0) (gy_running v0) (gy_open v0) (nI 0) (nI l.length) (nI r) va ro (gy_inputs v0) ou tO tB tE tD cL cV cD eL eD (gy_sizes v0) (gy_tokens v0) (gy_ends v0) (gy_wants v0) nu' tK tA tR tM
      rw [e2]
      exact yt_todo (h := l.length) (by omega) H
    · simp only [if_neg z1] at H
      refine br_f z1 (And.intro (vp_in_nI (by omega) (by decide)) ?_)
      show vp_in (gy_ends v0 (nI (B + tk_en tk (i + 1))).toNatClampNeg) 120 ∧ wY_statement_323 post (gy_ends v0 (gy_ends v0 (nI (B + tk_en tk (i + 1))).toNatClampNeg).toNatClampNeg) 0 (gy_time v0) (gy_active v0) (gy_running v0) (gy_open v0) (nI 0) (nI l.length) (nI r) va ro (gy_inputs v0) ou tO tB tE tD cL cV cD eL eD (gy_sizes v0) (gy_tokens v0) (gy_ends v0) (gy_wants v0) nu' tK tA tR tM
      rw [e2, nI_clamp (by omega), he3]
      exact And.intro (vp_in_nI (by omega) (by decide)) (yt_todo (h := l.length) (by omega) H)
theorem ym_36 (hH : ys_H v0 E tk B L) (hi : i + 1 < L) (ht : tk i = 36 ∨ tk i = 37) (hl : l.length + 2 < 256) (hR : ys_R v0 E B s l v) : ∃ v', ys_R v0 E B s ((1, i, 0, 0) :: l) v' ∧ ∀ post : SY → Prop, post v' → wpY_statement post v (nI (B + i)) := by
  obtain ⟨r, va, ro, ou, tO, tB, cL, eL, bl⟩ := s
  obtain ⟨tE, tD, cV, cD, eD, nu, tK, tA, tR, tM, rfl, hb, hD, hK, hr⟩ := hR
  have hK1 := ys_K_push (x := (1, i, 0, 0)) hK
  refine ⟨_, ⟨tE, tD, cV, cD, eD, nu, _, _, _, _, rfl, hb, hD, hK1, hr⟩, fun post H => yo_open hH hi (by omega) (by omega) (by omega) ?_⟩
  cases ht with
  | inl ht =>
    rw [ht]
    exact br_f (by decide) (yi_f (a := 10) (b := 25) (by decide) (by decide) (by decide) (br_t rfl (yi_f (a := 30) (b := 33) (by decide) (by decide) (by decide) (br_t rfl (br_f (by decide) (br_f (by decide) (br_t rfl (yt_todo (h := l.length) (by omega) H))))))))
  | inr ht =>
    rw [ht]
    exact br_f (by decide) (yi_f (a := 10) (b := 25) (by decide) (by decide) (by decide) (br_t rfl (yi_f (a := 30) (b := 33) (by decide) (by decide) (by decide) (br_t rfl (br_f (by decide) (br_f (by decide) (br_f (by decide) (br_t rfl (yt_todo (h := l.length) (by omega) H)))))))))
theorem ym_40 (hH : ys_H v0 E tk B L) (hT : tk_T tk L true i) (ht : 40 ≤ tk i ∧ tk i ≤ 55) (hl : l.length + 2 < 256) (hR : ys_R v0 E B s l v) : ∃ v', ys_R v0 E B (s.1, ds_sva s.2 (upd (ds_va s.2) (tk i - 40) (ev_v E s.2 tk (i + 1)))) ((1, i, 0, ev_v E s.2 tk (tk_en tk (i + 1))) :: l) v' ∧ ∀ post : SY → Prop, post v' → wpY_statement post v (nI (B + i)) := by
  obtain ⟨r, va, ro, ou, tO, tB, cL, eL, bl⟩ := s
  obtain ⟨tE, tD, cV, cD, eD, nu, tK, tA, tR, tM, rfl, hb, hD, hK, hr⟩ := hR
  have hL : L ≤ 60 := hH.2.2.2.2.2
  have e1 : nI (B + i) + 1 = nI (B + (i + 1)) := nI_1 _
  have es : nI (tk i) - 40 = nI (tk i - 40) := pk_sub (b := 40) (by omega)
  have hb : ys_b bl tE tD cV cD eD := hb
  have hen := tk_T_en hL hT
  have ha : tk_ar (tk i) = 3 := by
    unfold tk_ar
    rw [if_neg (by omega), if_neg (by omega), if_neg (by omega), if_pos (by omega)]
  have hn := tk_n3 hL hT ha
  have hs : tk_sp (tk i) 0 = false := by unfold tk_sp; exact decide_eq_false (by omega)
  have hs2 : tk_sp (tk i) 1 = false := by unfold tk_sp; exact decide_eq_false (by omega)
  rw [hs, hs2] at hn
  have hn1 := tk_T_en hL hn.1
  obtain ⟨nu1, W1⟩ := yw_work (ts := nI l.length) (bg := nI r) (nu := nu) (tK := tK) (tA := tA) (tR := tR) (tM := tM) (va := va) (ro := ro) (ou := ou) (tO := tO) (tB := tB) (cL := cL) (eL := eL) hH hn.2.1 (by omega) hb
  obtain ⟨nu2, W2⟩ := yw_work (ts := nI l.length) (bg := nI r) (nu := nu1) (tK := tK) (tA := tA) (tR := tR) (tM := tM) (va := va) (ro := ro) (ou := ou) (tO := tO) (tB := tB) (cL := cL) (eL := eL) hH hn.1 (by omega) hb
  have hK1 := ys_K_push (x := (1, i, 0, ev_v E (va, ro, ou, tO, tB, cL, eL, bl) tk (tk_en tk (i + 1)))) hK
  refine ⟨_, ⟨tE, tD, cV, cD, eD, nu2, _, _, _, _, rfl, hb, hD, hK1, hr⟩, fun post H => yo_open hH (by omega) (by omega) (by omega) (by omega) (br_f (ni_ne (b := 1) (by omega) (by omega) (by decide)) (yi_f (a := 10) (b := 25) (by omega) (by omega) (by decide) (br_t rfl (yi_f (a := 30) (b := 33) (by omega) (by omega) (by decide) (br_t rfl (br_f (ni_ne (b := 34) (by omega) (by omega) (by decide)) (br_f (ni_ne (b := 35) (by omega) (by omega) (by decide)) (br_f (ni_ne (b := 36) (by omega) (by omega) (by decide)) (br_f (ni_ne (b := 37) (by omega) (by omega) (by decide)) (br_f (ni_ne (b := 39) (by omega) (by omega) (by decide)) (yi_t (a := 40) (b := 55) (by omega) (by omega) (by decide) (br_f (by decide) ?_))))))))))))⟩
  rw [e1, es]
  refine W1 _ ?_
  refine W2 _ ?_
  exact And.intro (vp_in_nI (by omega) (by decide)) (nm_r (e' := upd va (tk i - 40) (ev_v E (va, ro, ou, tO, tB, cL, eL, bl) tk (i + 1))) (by rw [nI_clamp (by omega)]) (yt_todo (h := l.length) (by omega) H))
/-! rounds -/
theorem yr_152 {post : SY → Prop} {x2 x3 x5 : Int32} (hh : h + 2 < 256) (H : post (ys_yu v0 dp (nI (h + 2)) bg va ro ou tO tB tE tD cL cV cD eL eD nu (upd (upd tK h 2) (h + 1) 0) (upd (upd tA h (nI (B + i))) (h + 1) x5) (upd (upd tR h x2) (h + 1) 0) (upd (upd tM h x3) (h + 1) 0))) : wY_beginRound_152 post (nI (B + i)) x2 x3 x5 1 (gy_time v0) (gy_active v0) (gy_running v0) (gy_open v0) dp (nI h) bg va ro (gy_inputs v0) ou tO tB tE tD cL cV cD eL eD (gy_sizes v0) (gy_tokens v0) (gy_ends v0) (gy_wants v0) nu tK tA tR tM := by
  refine br_f (by decide) ?_
  refine yt_todo (h := h) (by omega) ?_
  exact yt_todo (h := h + 1) (by omega) H
theorem yr_118 {post : SY → Prop} {x2 x3 x5 : Int32} {z : Bool} (ht : tk i = 36 ∨ tk i = 37) (hh : h + 2 < 256) (H : post (if z = true then ys_yu v0 dp (nI (h + 2)) bg va ro ou tO tB tE tD cL cV cD eL eD nu (upd (upd tK h 2) (h + 1) 0) (upd (upd tA h (nI (B + i))) (h + 1) x5) (upd (upd tR h x2) (h + 1) 0) (upd (upd tM h x3) (h + 1) 0) else ys_yu v0 dp (nI h) bg va ro ou tO tB tE tD cL cV cD eL eD nu tK tA tR tM)) : wY_beginRound_118 post (nI (B + i)) x2 x3 (nI (tk i)) x5 (if z = true then 1 else 0) (gy_time v0) (gy_active v0) (gy_running v0) (gy_open v0) dp (nI h) bg va ro (gy_inputs v0) ou tO tB tE tD cL cV cD eL eD (gy_sizes v0) (gy_tokens v0) (gy_ends v0) (gy_wants v0) nu tK tA tR tM := by
  unfold wY_beginRound_118
  refine yi_f (a := 40) (b := 55) (by omega) (by omega) (by decide) (br_t rfl ?_)
  cases z with
  | true =>
    rw [if_pos rfl] at H ⊢
    exact yr_152 hh H
  | false =>
    rw [if_neg (by decide)] at H ⊢
    exact br_t rfl H
end
end
section
section
variable {v0 : SY} {h t i L B rr : Nat} {E : ds_E} {tk : Nat → Nat} {dp ts bg li : Int32} {va ro ou tO tB tE tD cL cV cD eL eD nu tK tA tR tM bl : Nat → Int32} {r : Nat} {l : List ys_Tk} {v : SY} {s : Nat × ds_T}
theorem yr_300 {p0 p1 p2 : Int32} (h3 : s.1 = 300) (hR : ys_R v0 E B s l v) : ∃ v', ys_R v0 E B s [] v' ∧ ∀ post : SY → Prop, post v' → wpY_beginRound post v p0 p1 p2 := by
  obtain ⟨r, va, ro, ou, tO, tB, cL, eL, bl⟩ := s
  obtain ⟨tE, tD, cV, cD, eD, nu, tK, tA, tR, tM, rfl, hb, hD, hK, hr⟩ := hR
  have h3 : r = 300 := h3
  subst h3
  exact ⟨_, ⟨tE, tD, cV, cD, eD, nu, tK, tA, tR, tM, rfl, hb, hD, trivial, hr⟩, fun post H => br_t rfl H⟩
theorem yr_b36 (hH : ys_H v0 E tk B L) (hT : tk_T tk L true i) (ht : tk i = 36) (h3 : s.1 < 300) (hl : l.length + 2 < 256) (hR : ys_R v0 E B s l v) : ∃ v', ys_R v0 E B (s.1 + 1, s.2) (if decide (ev_v E s.2 tk (i + 1) ≠ 0) = true then (0, tk_en tk (i + 1), 0, 0) :: (2, i, rr, li) :: l else l) v' ∧ ∀ post : SY → Prop, post v' → wpY_beginRound post v (nI (B + i)) (nI rr) li := by
  obtain ⟨r, va, ro, ou, tO, tB, cL, eL, bl⟩ := s
  obtain ⟨tE, tD, cV, cD, eD, nu, tK, tA, tR, tM, rfl, hb, hD, hK, hr⟩ := hR
  have h3 : r < 300 := h3
  have hL : L ≤ 60 := hH.2.2.2.2.2
  have hB := hH.2.2.2.2.1
  have e1 : nI (B + i) + 1 = nI (B + (i + 1)) := nI_1 _
  have hb : ys_b bl tE tD cV cD eD := hb
  have hen := tk_T_en hL hT
  have hn := tk_n2 hL hT (by rw [ht]; decide)
  have hs : tk_sp (tk i) 0 = false := by rw [ht]; decide
  rw [hs] at hn
  have hn1 := tk_T_en hL hn.1
  have hk := hH.1 i (by omega)
  have he1 := hH.2.1 (i + 1) (by omega)
  rw [ht] at hk
  obtain ⟨nu', W⟩ := yw_work (ts := nI l.length) (bg := nI (r + 1)) (nu := nu) (tK := tK) (tA := tA) (tR := tR) (tM := tM) (va := va) (ro := ro) (ou := ou) (tO := tO) (tB := tB) (cL := cL) (eL := eL) hH hn.1 (by omega) hb
  show ∃ v', ys_R v0 E B (r + 1, va, ro, ou, tO, tB, cL, eL, bl) (if decide (ev_v E (va, ro, ou, tO, tB, cL, eL, bl) tk (i + 1) ≠ 0) = true then (0, tk_en tk (i + 1), 0, 0) :: (2, i, rr, li) :: l else l) v' ∧ _
  generalize ev_v E (va, ro, ou, tO, tB, cL, eL, bl) tk (i + 1) = x at W
  have path : ∀ (post : SY → Prop), ((x = 0 → wY_beginRound_118 post (nI (B + i)) (nI rr) li (nI 36) (nI (B + tk_en tk (i + 1))) 0 (gy_time v0) (gy_active v0) (gy_running v0) (gy_open v0) (nI 0) (nI l.length) (nI (r + 1)) va ro (gy_inputs v0) ou tO tB tE tD cL cV cD eL eD (gy_sizes v0) (gy_tokens v0) (gy_ends v0) (gy_wants v0) nu' tK tA tR tM) ∧ (¬ x = 0 → wY_beginRound_118 post (nI (B + i)) (nI rr) li (nI 36) (nI (B + tk_en tk (i + 1))) 1 (gy_time v0) (gy_active v0) (gy_running v0) (gy_open v0) (nI 0) (nI l.length) (nI (r + 1)) va ro (gy_inputs v0) ou tO tB tE tD cL cV cD eL eD (gy_sizes v0) (gy_tokens v0) (gy_ends v0) (gy_wants v0) nu' tK tA tR tM)) → wpY_beginRound post (ys_yu v0 (nI 0) (nI l.length) (nI r) va ro ou tO tB tE tD cL cV cD eL eD nu tK tA tR tM) (nI (B + i)) (nI rr) li := by
    intro post H
    refine br_f (ni_ne (b := 300) (by omega) (by omega) (by decide)) (nm_r (nI_1 r) (And.intro (vp_in_nI (by omega) (by decide)) (nm_r (e' := nI 36) (by rw [nI_clamp (by omega)]; exact hk) (br_f (by decide) (br_t rfl ?_)))))
    rw [e1]
    refine And.intro (vp_in_nI (by omega) (by decide)) ?_
    rw [nI_clamp (by omega)]
    show wY_beginRound_78 post (nI (B + i)) (nI rr) li (nI 36) (gy_ends v0 (B + (i + 1))) (gy_time v0) (gy_active v0) (gy_running v0) (gy_open v0) (nI 0) (nI l.length) (nI (r + 1)) va ro (gy_inputs v0) ou tO tB tE tD cL cV cD eL eD (gy_sizes v0) (gy_tokens v0) (gy_ends v0) (gy_wants v0) nu tK tA tR tM
    rw [he1]
    refine br_f (by decide) (br_t rfl ?_)
    rw [e1]
    exact W _ H
  by_cases z : x = 0
  · rw [decide_eq_false (p := x ≠ 0) (fun q => q z), if_neg (by decide)]
    refine ⟨_, ⟨tE, tD, cV, cD, eD, nu', tK, tA, tR, tM, rfl, hb, hD, hK, by show r + 1 ≤ 300; omega⟩, fun post H => path post (br_t z ?_)⟩
    unfold wY_beginRound_118
    exact yi_f (a := 40) (b := 55) (by decide) (by decide) (by decide) (br_t rfl (br_t rfl H))
  · rw [decide_eq_true (p := x ≠ 0) z, if_pos rfl]
    have hK1 := ys_K_push (x := (2, i, rr, li)) hK
    have hK2 := ys_K_push (x := (0, tk_en tk (i + 1), 0, 0)) hK1
    refine ⟨_, ⟨tE, tD, cV, cD, eD, nu', _, _, _, _, rfl, hb, hD, hK2, by show r + 1 ≤ 300; omega⟩, fun post H => path post (br_f z ?_)⟩
    unfold wY_beginRound_118
    exact yi_f (a := 40) (b := 55) (by decide) (by decide) (by decide) (br_t rfl (yr_152 (h := l.length) (by omega) H))
theorem yr_b37 (hH : ys_H v0 E tk B L) (hi : i + 1 < L) (ht : tk i = 37) (h3 : s.1 < 300) (hl : l.length + 2 < 256) (hR : ys_R v0 E B s l v) : ∃ v', ys_R v0 E B (s.1 + 1, s.2) ((0, i + 1, 0, 0) :: (2, i, rr, li) :: l) v' ∧ ∀ post : SY → Prop, post v' → wpY_beginRound post v (nI (B + i)) (nI rr) li := by
  obtain ⟨r, va, ro, ou, tO, tB, cL, eL, bl⟩ := s
  obtain ⟨tE, tD, cV, cD, eD, nu, tK, tA, tR, tM, rfl, hb, hD, hK, hr⟩ := hR
  have h3 : r < 300 := h3
  have hL : L ≤ 60 := hH.2.2.2.2.2
  have hB := hH.2.2.2.2.1
  have e1 : nI (B + i) + 1 = nI (B + (i + 1)) := nI_1 _
  have hk := hH.1 i (by omega)
  rw [ht] at hk
  have hK1 := ys_K_push (x := (2, i, rr, li)) hK
  have hK2 := ys_K_push (x := (0, i + 1, 0, 0)) hK1
  refine ⟨_, ⟨tE, tD, cV, cD, eD, nu, _, _, _, _, rfl, hb, hD, hK2, by show r + 1 ≤ 300; omega⟩, fun post H => br_f (ni_ne (b := 300) (by omega) (by omega) (by decide)) (nm_r (nI_1 r) (And.intro (vp_in_nI (by omega) (by decide)) (nm_r (e' := nI 37) (by rw [nI_clamp (by omega)]; exact hk) (br_t rfl ?_))))⟩
  rw [e1]
  refine br_t rfl (br_f (by decide) ?_)
  unfold wY_beginRound_118
  exact yi_f (a := 40) (b := 55) (by decide) (by decide) (by decide) (br_t rfl (yr_152 (h := l.length) (by omega) H))
theorem yr_b40 (hH : ys_H v0 E tk B L) (hT : tk_T tk L true i) (ht : 40 ≤ tk i ∧ tk i ≤ 55) (h3 : s.1 < 300) (hl : l.length + 2 < 256) (hR : ys_R v0 E B s l v) : ∃ v', ys_R v0 E B (s.1 + 1, s.2) (if decide (¬ li < ds_va s.2 (tk i - 40)) = true then (0, tk_en tk (tk_en tk (i + 1)), 0, 0) :: (2, i, rr, li) :: l else l) v' ∧ ∀ post : SY → Prop, post v' → wpY_beginRound post v (nI (B + i)) (nI rr) li := by
  obtain ⟨r, va, ro, ou, tO, tB, cL, eL, bl⟩ := s
  obtain ⟨tE, tD, cV, cD, eD, nu, tK, tA, tR, tM, rfl, hb, hD, hK, hr⟩ := hR
  have h3 : r < 300 := h3
  have hL : L ≤ 60 := hH.2.2.2.2.2
  have hB := hH.2.2.2.2.1
  have e1 : nI (B + i) + 1 = nI (B + (i + 1)) := nI_1 _
  have es : nI (tk i) - 40 = nI (tk i - 40) := pk_sub (b := 40) (by omega)
  have hen := tk_T_en hL hT
  have ha : tk_ar (tk i) = 3 := by
    unfold tk_ar
    rw [if_neg (by omega), if_neg (by omega), if_neg (by omega), if_pos (by omega)]
  have hn := tk_n3 hL hT ha
  have hn1 := tk_T_en hL hn.1
  have hn2 := tk_T_en hL hn.2.1
  have hk := hH.1 i (by omega)
  have he1 := hH.2.1 (i + 1) (by omega)
  have he2 := hH.2.1 (tk_en tk (i + 1)) (by omega)
  have path : ∀ (post : SY → Prop), ((li < va (tk i - 40) → wY_beginRound_150 post (nI (B + i)) (nI rr) li (nI (B + tk_en tk (tk_en tk (i + 1)))) 0 (gy_time v0) (gy_active v0) (gy_running v0) (gy_open v0) (nI 0) (nI l.length) (nI (r + 1)) va ro (gy_inputs v0) ou tO tB tE tD cL cV cD eL eD (gy_sizes v0) (gy_tokens v0) (gy_ends v0) (gy_wants v0) nu tK tA tR tM) ∧ (¬ li < va (tk i - 40) → wY_beginRound_150 post (nI (B + i)) (nI rr) li (nI (B + tk_en tk (tk_en tk (i + 1)))) 1 (gy_time v0) (gy_active v0) (gy_running v0) (gy_open v0) (nI 0) (nI l.length) (nI (r + 1)) va ro (gy_inputs v0) ou tO tB tE tD cL cV cD eL eD (gy_sizes v0) (gy_tokens v0) (gy_ends v0) (gy_wants v0) nu tK tA tR tM)) → wpY_beginRound post (ys_yu v0 (nI 0) (nI l.length) (nI r) va ro ou tO tB tE tD cL cV cD eL eD nu tK tA tR tM) (nI (B + i)) (nI rr) li := by
    intro post H
    refine br_f (ni_ne (b := 300) (by omega) (by omega) (by decide)) (nm_r (nI_1 r) (And.intro (vp_in_nI (by omega) (by decide)) (nm_r (e' := nI (tk i)) (by rw [nI_clamp (by omega)]; exact hk) (br_f (ni_ne (b := 37) (by omega) (by omega) (by decide)) (br_f (ni_ne (b := 36) (by omega) (by omega) (by decide)) ?_)))))
    rw [e1]
    refine And.intro (vp_in_nI (by omega) (by decide)) ?_
    rw [nI_clamp (by omega)]
    show vp_in (gy_ends v0 (B + (i + 1))) 120 ∧ wY_beginRound_78 post (nI (B + i)) (nI rr) li (nI (tk i)) (gy_ends v0 (gy_ends v0 (B + (i + 1))).toNatClampNeg) (gy_time v0) (gy_active v0) (gy_running v0) (gy_open v0) (nI 0) (nI l.length) (nI (r + 1)) va ro (gy_inputs v0) ou tO tB tE tD cL cV cD eL eD (gy_sizes v0) (gy_tokens v0) (gy_ends v0) (gy_wants v0) nu tK tA tR tM
    rw [he1, nI_clamp (by omega), he2]
    refine And.intro (vp_in_nI (by omega) (by decide)) (br_f (ni_ne (b := 37) (by omega) (by omega) (by decide)) (br_f (ni_ne (b := 36) (by omega) (by omega) (by decide)) ?_))
    unfold wY_beginRound_118
    refine yi_t (a := 40) (b := 55) ht (by omega) (by decide) (br_f (by decide) ?_)
    rw [es, nI_clamp (by omega)]
    exact And.intro (vp_in_nI (by omega) (by decide)) H
  show ∃ v', ys_R v0 E B (r + 1, va, ro, ou, tO, tB, cL, eL, bl) (if decide (¬ li < va (tk i - 40)) = true then (0, tk_en tk (tk_en tk (i + 1)), 0, 0) :: (2, i, rr, li) :: l else l) v' ∧ _
  by_cases z : li < va (tk i - 40)
  · rw [decide_eq_false (p := ¬ li < va (tk i - 40)) (fun q => q z), if_neg (by decide)]
    exact ⟨_, ⟨tE, tD, cV, cD, eD, nu, tK, tA, tR, tM, rfl, hb, hD, hK, by show r + 1 ≤ 300; omega⟩, fun post H => path post (br_t z (br_t rfl H))⟩
  · rw [decide_eq_true (p := ¬ li < va (tk i - 40)) z, if_pos rfl]
    have hK1 := ys_K_push (x := (2, i, rr, li)) hK
    have hK2 := ys_K_push (x := (0, tk_en tk (tk_en tk (i + 1)), 0, 0)) hK1
    exact ⟨_, ⟨tE, tD, cV, cD, eD, nu, _, _, _, _, rfl, hb, hD, hK2, by show r + 1 ≤ 300; omega⟩, fun post H => path post (br_f z (yr_152 (h := l.length) (by omega) H))⟩
/-! the end of a round -/
theorem ye_e36 (hH : ys_H v0 E tk B L) (hi : i < L) (ht : tk i = 36) (hl : l.length + 2 < 256) (hrr : rr < 20) (hR : ys_R v0 E B s l v) : ∃ v', ys_R v0 E B s (if rr = 19 then l else (1, i, rr + 1, li) :: l) v' ∧ ∀ post : SY → Prop, post v' → wpY_endRound post v (nI (B + i)) (nI rr) li := by
  obtain ⟨r, va, ro, ou, tO, tB, cL, eL, bl⟩ := s
  obtain ⟨tE, tD, cV, cD, eD, nu, tK, tA, tR, tM, rfl, hb, hD, hK, hr⟩ := hR
  have hL : L ≤ 60 := hH.2.2.2.2.2
  have hB := hH.2.2.2.2.1
  have hk := hH.1 i hi
  rw [ht] at hk
  by_cases z : rr = 19
  · rw [if_pos z]
    refine ⟨_, ⟨tE, tD, cV, cD, eD, nu, tK, tA, tR, tM, rfl, hb, hD, hK, hr⟩, fun post H => And.intro (vp_in_nI (by omega) (by decide)) (nm_r (e' := nI 36) (by rw [nI_clamp (by omega)]; exact hk) (br_t (by rw [z]; rfl) (br_f (by decide) ?_)))⟩
    unfold wY_endRound_55
    exact yi_f (a := 40) (b := 55) (by decide) (by decide) (by decide) (br_t rfl (br_f (by decide) H))
  · rw [if_neg z]
    have hK1 := ys_K_push (x := (1, i, rr + 1, li)) hK
    refine ⟨_, ⟨tE, tD, cV, cD, eD, nu, _, _, _, _, rfl, hb, hD, hK1, hr⟩, fun post H => And.intro (vp_in_nI (by omega) (by decide)) (nm_r (e' := nI 36) (by rw [nI_clamp (by omega)]; exact hk) (br_f (ni_ne (b := 19) z (by omega) (by decide)) (br_f (by decide) ?_)))⟩
    unfold wY_endRound_55
    refine yi_f (a := 40) (b := 55) (by decide) (by decide) (by decide) (br_t rfl (br_t rfl ?_))
    rw [nI_1]
    exact yt_todo (h := l.length) (by omega) H
theorem ye_e37 (hH : ys_H v0 E tk B L) (hT : tk_T tk L true i) (ht : tk i = 37) (hl : l.length + 2 < 256) (hrr : rr < 20) (hR : ys_R v0 E B s l v) : ∃ v', ys_R v0 E B s (if decide (ev_v E s.2 tk (tk_en tk (i + 1)) ≠ 0) = true ∨ rr = 19 then l else (1, i, rr + 1, li) :: l) v' ∧ ∀ post : SY → Prop, post v' → wpY_endRound post v (nI (B + i)) (nI rr) li := by
  obtain ⟨r, va, ro, ou, tO, tB, cL, eL, bl⟩ := s
  obtain ⟨tE, tD, cV, cD, eD, nu, tK, tA, tR, tM, rfl, hb, hD, hK, hr⟩ := hR
  have hL : L ≤ 60 := hH.2.2.2.2.2
  have hB := hH.2.2.2.2.1
  have e1 : nI (B + i) + 1 = nI (B + (i + 1)) := nI_1 _
  have hb : ys_b bl tE tD cV cD eD := hb
  have hen := tk_T_en hL hT
  have hn := tk_n2 hL hT (by rw [ht]; decide)
  have hs : tk_sp (tk i) 1 = false := by rw [ht]; decide
  rw [hs] at hn
  have hn1 := tk_T_en hL hn.1
  have hn2 := tk_T_en hL hn.2.1
  have hk := hH.1 i (by omega)
  have he1 := hH.2.1 (i + 1) (by omega)
  rw [ht] at hk
  obtain ⟨nu', W⟩ := yw_work (ts := nI l.length) (bg := nI r) (nu := nu) (tK := tK) (tA := tA) (tR := tR) (tM := tM) (va := va) (ro := ro) (ou := ou) (tO := tO) (tB := tB) (cL := cL) (eL := eL) hH hn.2.1 (by omega) hb
  show ∃ v', ys_R v0 E B (r, va, ro, ou, tO, tB, cL, eL, bl) (if decide (ev_v E (va, ro, ou, tO, tB, cL, eL, bl) tk (tk_en tk (i + 1)) ≠ 0) = true ∨ rr = 19 then l else (1, i, rr + 1, li) :: l) v' ∧ _
  generalize ev_v E (va, ro, ou, tO, tB, cL, eL, bl) tk (tk_en tk (i + 1)) = x at W
  have path : ∀ (post : SY → Prop) (z0 : Int32), ((x = 0 → ((z0 = 0 → wY_endRound_53 post (nI (B + i)) (nI rr) li (nI 37) 0 (gy_time v0) (gy_active v0) (gy_running v0) (gy_open v0) (nI 0) (nI l.length) (nI r) va ro (gy_inputs v0) ou tO tB tE tD cL cV cD eL eD (gy_sizes v0) (gy_tokens v0) (gy_ends v0) (gy_wants v0) nu' tK tA tR tM) ∧ (¬ z0 = 0 → wY_endRound_48 post (nI (B + i)) (nI rr) li (nI 37) (gy_time v0) (gy_active v0) (gy_running v0) (gy_open v0) (nI 0) (nI l.length) (nI r) va ro (gy_inputs v0) ou tO tB tE tD cL cV cD eL eD (gy_sizes v0) (gy_tokens v0) (gy_ends v0) (gy_wants v0) nu' tK tA tR tM))) ∧ (¬ x = 0 → wY_endRound_48 post (nI (B + i)) (nI rr) li (nI 37) (gy_time v0) (gy_active v0) (gy_running v0) (gy_open v0) (nI 0) (nI l.length) (nI r) va ro (gy_inputs v0) ou tO tB tE tD cL cV cD eL eD (gy_sizes v0) (gy_tokens v0) (gy_ends v0) (gy_wants v0) nu' tK tA tR tM)) → wY_endRound_19 post (nI (B + i)) (nI rr) li (nI 37) z0 (gy_time v0) (gy_active v0) (gy_running v0) (gy_open v0) (nI 0) (nI l.length) (nI r) va ro (gy_inputs v0) ou tO tB tE tD cL cV cD eL eD (gy_sizes v0) (gy_tokens v0) (gy_ends v0) (gy_wants v0) nu tK tA tR tM := by
    intro post z0 H
    refine br_t rfl ?_
    rw [e1]
    refine And.intro (vp_in_nI (by omega) (by decide)) ?_
    rw [nI_clamp (by omega)]
    show wpY_work _ _ (gy_ends v0 (B + (i + 1)))
    rw [he1]
    exact W _ H
  have over : ∀ post : SY → Prop, post (ys_yu v0 (nI 0) (nI l.length) (nI r) va ro ou tO tB tE tD cL cV cD eL eD nu' tK tA tR tM) → wY_endRound_48 post (nI (B + i)) (nI rr) li (nI 37) (gy_time v0) (gy_active v0) (gy_running v0) (gy_open v0) (nI 0) (nI l.length) (nI r) va ro (gy_inputs v0) ou tO tB tE tD cL cV cD eL eD (gy_sizes v0) (gy_tokens v0) (gy_ends v0) (gy_wants v0) nu' tK tA tR tM := by
    intro post H
    unfold wY_endRound_48 wY_endRound_53 wY_endRound_55
    exact yi_f (a := 40) (b := 55) (by decide) (by decide) (by decide) (br_t rfl (br_f (by decide) H))
  by_cases z : rr = 19
  · rw [if_pos (Or.inr z)]
    refine ⟨_, ⟨tE, tD, cV, cD, eD, nu', tK, tA, tR, tM, rfl, hb, hD, hK, hr⟩, fun post H => And.intro (vp_in_nI (by omega) (by decide)) (nm_r (e' := nI 37) (by rw [nI_clamp (by omega)]; exact hk) (br_t (by rw [z]; rfl) (path post 1 ?_)))⟩
    exact br_c (fun _ => br_f (by decide) (over post H)) (fun _ => over post H)
  · by_cases w : x = 0
    · rw [if_neg (by intro q; cases q with | inl q => exact (of_decide_eq_true q) w | inr q => exact z q)]
      have hK1 := ys_K_push (x := (1, i, rr + 1, li)) hK
      refine ⟨_, ⟨tE, tD, cV, cD, eD, nu', _, _, _, _, rfl, hb, hD, hK1, hr⟩, fun post H => And.intro (vp_in_nI (by omega) (by decide)) (nm_r (e' := nI 37) (by rw [nI_clamp (by omega)]; exact hk) (br_f (ni_ne (b := 19) z (by omega) (by decide)) (path post 0 (br_t w (br_t rfl ?_)))))⟩
      unfold wY_endRound_53 wY_endRound_55
      refine yi_f (a := 40) (b := 55) (by decide) (by decide) (by decide) (br_t rfl (br_t rfl ?_))
      rw [nI_1]
      exact yt_todo (h := l.length) (by omega) H
    · rw [if_pos (Or.inl (decide_eq_true w))]
      exact ⟨_, ⟨tE, tD, cV, cD, eD, nu', tK, tA, tR, tM, rfl, hb, hD, hK, hr⟩, fun post H => And.intro (vp_in_nI (by omega) (by decide)) (nm_r (e' := nI 37) (by rw [nI_clamp (by omega)]; exact hk) (br_f (ni_ne (b := 19) z (by omega) (by decide)) (path post 0 (br_f w (over post H)))))⟩
theorem ye_e40 (hH : ys_H v0 E tk B L) (hi : i < L) (ht : 40 ≤ tk i ∧ tk i ≤ 55) (hl : l.length + 2 < 256) (hrr : rr < 20) (hR : ys_R v0 E B s l v) : ∃ v', ys_R v0 E B (s.1, ds_sva s.2 (upd (ds_va s.2) (tk i - 40) (ds_va s.2 (tk i - 40) + 1))) (if rr = 19 then l else (1, i, rr + 1, li) :: l) v' ∧ ∀ post : SY → Prop, post v' → wpY_endRound post v (nI (B + i)) (nI rr) li := by
  obtain ⟨r, va, ro, ou, tO, tB, cL, eL, bl⟩ := s
  obtain ⟨tE, tD, cV, cD, eD, nu, tK, tA, tR, tM, rfl, hb, hD, hK, hr⟩ := hR
  have hL : L ≤ 60 := hH.2.2.2.2.2
  have hB := hH.2.2.2.2.1
  have es : nI (tk i) - 40 = nI (tk i - 40) := pk_sub (b := 40) (by omega)
  have hk := hH.1 i hi
  by_cases z : rr = 19
  · rw [if_pos z]
    refine ⟨_, ⟨tE, tD, cV, cD, eD, nu, tK, tA, tR, tM, rfl, hb, hD, hK, hr⟩, fun post H => And.intro (vp_in_nI (by omega) (by decide)) (nm_r (e' := nI (tk i)) (by rw [nI_clamp (by omega)]; exact hk) (br_t (by rw [z]; rfl) (br_f (ni_ne (b := 37) (by omega) (by omega) (by decide)) ?_)))⟩
    unfold wY_endRound_55
    refine yi_t (a := 40) (b := 55) ht (by omega) (by decide) (br_f (by decide) ?_)
    rw [es, nI_clamp (by omega)]
    exact And.intro (vp_in_nI (by omega) (by decide)) (And.intro (vp_in_nI (by omega) (by decide)) (nm_e (br_f (by decide) H)))
  · rw [if_neg z]
    have hK1 := ys_K_push (x := (1, i, rr + 1, li)) hK
    refine ⟨_, ⟨tE, tD, cV, cD, eD, nu, _, _, _, _, rfl, hb, hD, hK1, hr⟩, fun post H => And.intro (vp_in_nI (by omega) (by decide)) (nm_r (e' := nI (tk i)) (by rw [nI_clamp (by omega)]; exact hk) (br_f (ni_ne (b := 19) z (by omega) (by decide)) (br_f (ni_ne (b := 37) (by omega) (by omega) (by decide)) ?_)))⟩
    unfold wY_endRound_55
    refine yi_t (a := 40) (b := 55) ht (by omega) (by decide) (br_f (by decide) ?_)
    rw [es, nI_clamp (by omega)]
    refine And.intro (vp_in_nI (by omega) (by decide)) (And.intro (vp_in_nI (by omega) (by decide)) (nm_e (br_t rfl ?_)))
    rw [nI_1]
    exact yt_todo (h := l.length) (by omega) H
/-! the loop over the tasks -/
def ys_Rc (v v' : SY) : Prop := ∃ c, ∀ (post : SY → Prop) (n : Nat), ys_w31 post n v' → ys_w31 post (n + c) v
theorem ys_Rc_rf (v : SY) : ys_Rc v v := ⟨0, fun _ _ H => H⟩
theorem ys_Rc_tr {a b c : SY} (h1 : ys_Rc a b) (h2 : ys_Rc b c) : ys_Rc a c := by
  obtain ⟨x, h1⟩ := h1
  obtain ⟨y, h2⟩ := h2
  refine ⟨y + x, fun post n H => ?_⟩
  rw [← Nat.add_assoc]
  exact h1 post (n + y) (h2 post n H)
theorem yc_0 {a : Nat} {b : Int32} {Q : SY → Prop} (hl : l.length < 255) (hR : ys_R v0 E B s ((0, i, a, b) :: l) v) (hs : ∀ v1, ys_R v0 E B s l v1 → ∃ v', Q v' ∧ ∀ post : SY → Prop, post v' → wpY_statement post v1 (nI (B + i))) : ∃ v', Q v' ∧ ys_Rc v v' := by
  obtain ⟨r, va, ro, ou, tO, tB, cL, eL, bl⟩ := s
  obtain ⟨tE, tD, cV, cD, eD, nu, tK, tA, tR, tM, rfl, hb, hD, hK, hr⟩ := hR
  obtain ⟨⟨k1, k2, k3, k4⟩, hK⟩ := hK
  obtain ⟨v', hQ, hw⟩ := hs _ ⟨tE, tD, cV, cD, eD, nu, tK, tA, tR, tM, rfl, hb, hD, hK, hr⟩
  refine ⟨v', hQ, 1, fun post n H => br_f (nI_ge (a := 0) (b := l.length + 1) (by omega) (by omega)) (nm_r (nI_pred l.length) (And.intro (vp_in_nI (by omega) (by decide)) (nm_r (e' := nI 0) (by rw [nI_clamp (by omega)]; exact k1) (And.intro (vp_in_nI (by omega) (by decide)) (nm_r (e' := nI (B + i)) (by rw [nI_clamp (by omega)]; exact k2) (And.intro (vp_in_nI (by omega) (by decide)) (nm_r (e' := nI a) (by rw [nI_clamp (by omega)]; exact k3) (And.intro (vp_in_nI (by omega) (by decide)) (nm_r (e' := b) (by rw [nI_clamp (by omega)]; exact k4) (br_t rfl (hw _ H)))))))))))⟩
theorem yc_1 {a : Nat} {b : Int32} {Q : SY → Prop} (hl : l.length < 255) (hR : ys_R v0 E B s ((1, i, a, b) :: l) v) (hs : ∀ v1, ys_R v0 E B s l v1 → ∃ v', Q v' ∧ ∀ post : SY → Prop, post v' → wpY_beginRound post v1 (nI (B + i)) (nI a) b) : ∃ v', Q v' ∧ ys_Rc v v' := by
  obtain ⟨r, va, ro, ou, tO, tB, cL, eL, bl⟩ := s
  obtain ⟨tE, tD, cV, cD, eD, nu, tK, tA, tR, tM, rfl, hb, hD, hK, hr⟩ := hR
  obtain ⟨⟨k1, k2, k3, k4⟩, hK⟩ := hK
  obtain ⟨v', hQ, hw⟩ := hs _ ⟨tE, tD, cV, cD, eD, nu, tK, tA, tR, tM, rfl, hb, hD, hK, hr⟩
  refine ⟨v', hQ, 1, fun post n H => br_f (nI_ge (a := 0) (b := l.length + 1) (by omega) (by omega)) (nm_r (nI_pred l.length) (And.intro (vp_in_nI (by omega) (by decide)) (nm_r (e' := nI 1) (by rw [nI_clamp (by omega)]; exact k1) (And.intro (vp_in_nI (by omega) (by decide)) (nm_r (e' := nI (B + i)) (by rw [nI_clamp (by omega)]; exact k2) (And.intro (vp_in_nI (by omega) (by decide)) (nm_r (e' := nI a) (by rw [nI_clamp (by omega)]; exact k3) (And.intro (vp_in_nI (by omega) (by decide)) (nm_r (e' := b) (by rw [nI_clamp (by omega)]; exact k4) (br_f (by decide) (br_t rfl (hw _ H))))))))))))⟩
theorem yc_2 {a : Nat} {b : Int32} {Q : SY → Prop} (hl : l.length < 255) (hR : ys_R v0 E B s ((2, i, a, b) :: l) v) (hs : ∀ v1, ys_R v0 E B s l v1 → ∃ v', Q v' ∧ ∀ post : SY → Prop, post v' → wpY_endRound post v1 (nI (B + i)) (nI a) b) : ∃ v', Q v' ∧ ys_Rc v v' := by
  obtain ⟨r, va, ro, ou, tO, tB, cL, eL, bl⟩ := s
  obtain ⟨tE, tD, cV, cD, eD, nu, tK, tA, tR, tM, rfl, hb, hD, hK, hr⟩ := hR
  obtain ⟨⟨k1, k2, k3, k4⟩, hK⟩ := hK
  obtain ⟨v', hQ, hw⟩ := hs _ ⟨tE, tD, cV, cD, eD, nu, tK, tA, tR, tM, rfl, hb, hD, hK, hr⟩
  refine ⟨v', hQ, 1, fun post n H => br_f (nI_ge (a := 0) (b := l.length + 1) (by omega) (by omega)) (nm_r (nI_pred l.length) (And.intro (vp_in_nI (by omega) (by decide)) (nm_r (e' := nI 2) (by rw [nI_clamp (by omega)]; exact k1) (And.intro (vp_in_nI (by omega) (by decide)) (nm_r (e' := nI (B + i)) (by rw [nI_clamp (by omega)]; exact k2) (And.intro (vp_in_nI (by omega) (by decide)) (nm_r (e' := nI a) (by rw [nI_clamp (by omega)]; exact k3) (And.intro (vp_in_nI (by omega) (by decide)) (nm_r (e' := b) (by rw [nI_clamp (by omega)]; exact k4) (br_f (by decide) (br_f (by decide) (hw _ H))))))))))))⟩
end
end
section
/-- what is still to be done behind a statement -/
def ys_aft (fl : Nat) (l : List ys_Tk) : List ys_Tk := if fl = 0 then l else if fl = 1 then ys_lv l else []
section
variable {v0 : SY} {i L B : Nat} {E : ds_E} {tk : Nat → Nat} {l : List ys_Tk}
theorem yx_gl {bd : Nat} {li : Int32} {pre sp : ds_T → Bool} {po : ds_T → ds_T} {body : Nat × ds_T → Nat × Nat × ds_T}
    (H1 : ∀ rr s v, rr < 20 → s.1 = 300 → ys_R v0 E B s ((1, i, rr, li) :: l) v → ∃ v', ys_R v0 E B s [] v' ∧ ys_Rc v v')
    (H2 : ∀ rr s v, rr < 20 → s.1 < 300 → ys_R v0 E B s ((1, i, rr, li) :: l) v → ∃ v', ys_R v0 E B (s.1 + 1, s.2) (if pre s.2 = true then (0, bd, 0, 0) :: (2, i, rr, li) :: l else l) v' ∧ ys_Rc v v')
    (H3 : ∀ rr s v, rr < 20 → ys_R v0 E B s ((0, bd, 0, 0) :: (2, i, rr, li) :: l) v → ∃ v', ys_R v0 E B (body s).2 (ys_aft (body s).1 ((2, i, rr, li) :: l)) v' ∧ ys_Rc v v')
    (H4 : ∀ rr s v, rr < 20 → ys_R v0 E B s ((2, i, rr, li) :: l) v → ∃ v', ys_R v0 E B (s.1, po s.2) (if sp s.2 = true ∨ rr = 19 then l else (1, i, rr + 1, li) :: l) v' ∧ ys_Rc v v') :
    ∀ (k : Nat) (s : Nat × ds_T) (v : SY), k < 20 → ys_R v0 E B s ((1, i, 19 - k, li) :: l) v → ∃ v', ys_R v0 E B (ex_gl pre sp po body (k + 1) s).2 (ys_aft (ex_gl pre sp po body (k + 1) s).1 l) v' ∧ ys_Rc v v' := by
  intro k
  induction k with
  | zero =>
    intro s v hk hR
    have hs3 : s.1 ≤ 300 := by obtain ⟨_, _, _, _, _, _, _, _, _, _, _, _, _, _, h⟩ := hR; exact h
    rw [ex_gl]
    by_cases c3 : s.1 = 300
    · rw [if_pos c3]
      exact H1 _ s v (by omega) c3 hR
    rw [if_neg c3]
    obtain ⟨v1, R1, C1⟩ := H2 _ s v (by omega) (by omega) hR
    by_cases hp : pre s.2 = true
    · rw [if_pos hp] at R1 ⊢
      obtain ⟨v2, R2, C2⟩ := H3 _ _ v1 (by omega) R1
      generalize body (s.1 + 1, s.2) = o at *
      by_cases h0 : o.1 = 0
      · rw [if_pos h0]
        have R2 : ys_R v0 E B o.2 ((2, i, 19 - 0, li) :: l) v2 := by
          unfold ys_aft at R2
          rw [if_pos h0] at R2
          exact R2
        obtain ⟨v3, R3, C3⟩ := H4 _ _ v2 (by omega) R2
        rw [if_pos (Or.inr rfl)] at R3
        refine ⟨v3, ?_, ys_Rc_tr C1 (ys_Rc_tr C2 C3)⟩
        by_cases hs : sp o.2.2 = true
        · rw [if_pos hs]
          exact R3
        · rw [if_neg hs]
          exact R3
      · rw [if_neg h0]
        refine ⟨v2, ?_, ys_Rc_tr C1 C2⟩
        unfold ys_aft at R2
        rw [if_neg h0] at R2
        by_cases h1 : o.1 = 1
        · rw [if_pos h1] at R2 ⊢
          exact R2
        · rw [if_neg h1] at R2 ⊢
          exact R2
    · rw [if_neg hp] at R1 ⊢
      exact ⟨v1, R1, C1⟩
  | succ k ih =>
    intro s v hk hR
    have hs3 : s.1 ≤ 300 := by obtain ⟨_, _, _, _, _, _, _, _, _, _, _, _, _, _, h⟩ := hR; exact h
    rw [ex_gl]
    by_cases c3 : s.1 = 300
    · rw [if_pos c3]
      exact H1 _ s v (by omega) c3 hR
    rw [if_neg c3]
    obtain ⟨v1, R1, C1⟩ := H2 _ s v (by omega) (by omega) hR
    by_cases hp : pre s.2 = true
    · rw [if_pos hp] at R1 ⊢
      obtain ⟨v2, R2, C2⟩ := H3 _ _ v1 (by omega) R1
      generalize body (s.1 + 1, s.2) = o at *
      by_cases h0 : o.1 = 0
      · rw [if_pos h0]
        have R2 : ys_R v0 E B o.2 ((2, i, 19 - (k + 1), li) :: l) v2 := by
          unfold ys_aft at R2
          rw [if_pos h0] at R2
          exact R2
        obtain ⟨v3, R3, C3⟩ := H4 _ _ v2 (by omega) R2
        by_cases hs : sp o.2.2 = true
        · rw [if_pos (Or.inl hs)] at R3
          rw [if_pos hs]
          exact ⟨v3, R3, ys_Rc_tr C1 (ys_Rc_tr C2 C3)⟩
        · rw [if_neg (by intro q; cases q with | inl q => exact hs q | inr q => omega)] at R3
          rw [if_neg hs]
          rw [show 19 - (k + 1) + 1 = 19 - k by omega] at R3
          obtain ⟨v4, R4, C4⟩ := ih _ v3 (by omega) R3
          exact ⟨v4, R4, ys_Rc_tr C1 (ys_Rc_tr C2 (ys_Rc_tr C3 C4))⟩
      · rw [if_neg h0]
        refine ⟨v2, ?_, ys_Rc_tr C1 C2⟩
        unfold ys_aft at R2
        rw [if_neg h0] at R2
        by_cases h1 : o.1 = 1
        · rw [if_pos h1] at R2 ⊢
          exact R2
        · rw [if_neg h1] at R2 ⊢
          exact R2
    · rw [if_neg hp] at R1 ⊢
      exact ⟨v1, R1, C1⟩
theorem yx_all (hH : ys_H v0 E tk B L) : ∀ (f i : Nat) (s : Nat × ds_T) (l : List ys_Tk) (v : SY), tk_T tk L true i → tk_en tk i - i ≤ f → l.length + (tk_en tk i - i) ≤ 120 → (∀ x, x ∈ l → x.1 ≤ 2) → ys_R v0 E B s ((0, i, 0, 0) :: l) v →
    ∃ v', ys_R v0 E B (ex_x E tk f i s).2 (ys_aft (ex_x E tk f i s).1 l) v' ∧ ys_Rc v v' := by
  have hL : L ≤ 60 := hH.2.2.2.2.2
  intro f
  induction f with
  | zero =>
    intro i s l v hT hf
    have := tk_T_en hL hT
    omega
  | succ f ih =>
    intro i s l v hT hf hl hx hR
    have hen := tk_T_en hL hT
    have hok : tk_st (tk i) = true := tk_T_ok hT
    rcases tk_st_kinds hok with c | c | c | c | c | c | c | c | c
    · -- sequence
      have hn := tk_n2 hL hT (by rw [c]; decide)
      have hs0 : tk_sp (tk i) 0 = true := by rw [c]; decide
      have hs1 : tk_sp (tk i) 1 = true := by rw [c]; decide
      rw [hs0, hs1] at hn
      have hn1 := tk_T_en hL hn.1
      have hn2 := tk_T_en hL hn.2.1
      have hn3 := hn.2.2
      obtain ⟨v1, R1, C1⟩ := yc_0 (by omega) hR (fun v1 R => ym_1 hH (by omega) c (by omega) R)
      obtain ⟨v2, R2, C2⟩ := ih (i + 1) s ((0, tk_en tk (i + 1), 0, 0) :: l) v1 hn.1 (by omega) (by rw [List.length_cons]; omega) (fun x hx' => by
        cases List.mem_cons.mp hx' with
        | inl e => rw [e]; show 0 ≤ 2; omega
        | inr e => exact hx x e) R1
      rw [xx_1 c]
      by_cases h0 : (ex_x E tk f (i + 1) s).1 = 0
      · rw [if_pos h0]
        unfold ys_aft at R2
        rw [if_pos h0] at R2
        obtain ⟨v3, R3, C3⟩ := ih (tk_en tk (i + 1)) _ l v2 hn.2.1 (by omega) (by omega) hx R2
        exact ⟨v3, R3, ys_Rc_tr C1 (ys_Rc_tr C2 C3)⟩
      · rw [if_neg h0]
        refine ⟨v2, ?_, ys_Rc_tr C1 C2⟩
        unfold ys_aft at R2 ⊢
        rw [if_neg h0] at R2 ⊢
        by_cases h1 : (ex_x E tk f (i + 1) s).1 = 1
        · rw [if_pos h1] at R2 ⊢
          exact R2
        · rw [if_neg h1] at R2 ⊢
          exact R2
    · rw [xx_2 c]
      exact yc_0 (by omega) hR (fun v1 R => ym_2 hH (by omega) c R)
    · rw [xx_39 c]
      exact yc_0 (by omega) hR (fun v1 R => ym_39 hH (by omega) c (by omega) hx R)
    · -- IF
      have hn := tk_n3 hL hT (by rw [c]; decide)
      have hs1 : tk_sp (tk i) 1 = true := by rw [c]; decide
      have hs2 : tk_sp (tk i) 2 = true := by rw [c]; decide
      rw [hs1, hs2] at hn
      have hn1 := tk_T_en hL hn.1
      have hn2 := tk_T_en hL hn.2.1
      have hn3 := tk_T_en hL hn.2.2.1
      have hn4 := hn.2.2.2
      obtain ⟨v1, R1, C1⟩ := yc_0 (by omega) hR (fun v1 R => ym_35 hH hT c (by omega) R)
      rw [xx_35 c]
      by_cases z : ev_v E s.2 tk (i + 1) = 0
      · rw [if_pos z] at R1 ⊢
        obtain ⟨v2, R2, C2⟩ := ih _ s l v1 hn.2.2.1 (by omega) (by omega) hx R1
        exact ⟨v2, R2, ys_Rc_tr C1 C2⟩
      · rw [if_neg z] at R1 ⊢
        obtain ⟨v2, R2, C2⟩ := ih _ s l v1 hn.2.1 (by omega) (by omega) hx R1
        exact ⟨v2, R2, ys_Rc_tr C1 C2⟩
    · -- CASE
      have hn := tk_n4 hL hT (by rw [c]; decide)
      have hs1 : tk_sp (tk i) 1 = true := by rw [c]; decide
      have hs2 : tk_sp (tk i) 2 = true := by rw [c]; decide
      have hs3 : tk_sp (tk i) 3 = true := by rw [c]; decide
      rw [hs1, hs2, hs3] at hn
      have hn1 := tk_T_en hL hn.1
      have hn2 := tk_T_en hL hn.2.1
      have hn3 := tk_T_en hL hn.2.2.1
      have hn4 := tk_T_en hL hn.2.2.2.1
      have hn5 := hn.2.2.2.2
      obtain ⟨v1, R1, C1⟩ := yc_0 (by omega) hR (fun v1 R => ym_56 hH hT c (by omega) R)
      rw [xx_56 c]
      by_cases z : ev_v E s.2 tk (i + 1) = 0
      · rw [if_pos z] at R1 ⊢
        obtain ⟨v2, R2, C2⟩ := ih _ s l v1 hn.2.1 (by omega) (by omega) hx R1
        exact ⟨v2, R2, ys_Rc_tr C1 C2⟩
      · rw [if_neg z] at R1 ⊢
        by_cases z1 : ev_v E s.2 tk (i + 1) = 1
        · rw [if_pos z1] at R1 ⊢
          obtain ⟨v2, R2, C2⟩ := ih _ s l v1 hn.2.2.1 (by omega) (by omega) hx R1
          exact ⟨v2, R2, ys_Rc_tr C1 C2⟩
        · rw [if_neg z1] at R1 ⊢
          obtain ⟨v2, R2, C2⟩ := ih _ s l v1 hn.2.2.2.1 (by omega) (by omega) hx R1
          exact ⟨v2, R2, ys_Rc_tr C1 C2⟩
    · -- WHILE
      have hn := tk_n2 hL hT (by rw [c]; decide)
      have hs1 : tk_sp (tk i) 1 = true := by rw [c]; decide
      rw [hs1] at hn
      have hn1 := tk_T_en hL hn.1
      have hn2 := tk_T_en hL hn.2.1
      have hn3 := hn.2.2
      obtain ⟨v1, R1, C1⟩ := yc_0 (by omega) hR (fun v1 R => ym_36 hH (by omega) (Or.inl c) (by omega) R)
      rw [xx_36 c]
      obtain ⟨v2, R2, C2⟩ := yx_gl (i := i) (l := l) (bd := tk_en tk (i + 1)) (li := 0) (pre := fun D => decide (ev_v E D tk (i + 1) ≠ 0)) (sp := fun _ => false) (po := fun D => D) (body := ex_x E tk f (tk_en tk (i + 1)))
        (fun rr s v _ h3 R => yc_1 (by omega) R (fun v1 R => yr_300 h3 R))
        (fun rr s v _ h3 R => yc_1 (by omega) R (fun v1 R => yr_b36 hH hT c h3 (by omega) R))
        (fun rr s v _ R => ih _ s _ v hn.2.1 (by omega) (by rw [List.length_cons]; omega) (fun x hx' => by
          cases List.mem_cons.mp hx' with
          | inl e => rw [e]; show 2 ≤ 2; omega
          | inr e => exact hx x e) R)
        (fun rr s v hrr R => by
          obtain ⟨v', R', C'⟩ := yc_2 (by omega) R (fun v1 R => ye_e36 (li := 0) hH (by omega) c (by omega) hrr R)
          refine ⟨v', ?_, C'⟩
          by_cases z : rr = 19
          · rw [if_pos z] at R'
            rw [if_pos (Or.inr z)]
            exact R'
          · rw [if_neg z] at R'
            rw [if_neg (by intro q; cases q with | inl q => exact absurd q (by decide) | inr q => exact z q)]
            exact R')
        19 s v1 (by omega) R1
      exact ⟨v2, R2, ys_Rc_tr C1 C2⟩
    · -- REPEAT
      have hn := tk_n2 hL hT (by rw [c]; decide)
      have hs1 : tk_sp (tk i) 0 = true := by rw [c]; decide
      rw [hs1] at hn
      have hn1 := tk_T_en hL hn.1
      have hn2 := tk_T_en hL hn.2.1
      have hn3 := hn.2.2
      obtain ⟨v1, R1, C1⟩ := yc_0 (by omega) hR (fun v1 R => ym_36 hH (by omega) (Or.inr c) (by omega) R)
      rw [xx_37 c]
      obtain ⟨v2, R2, C2⟩ := yx_gl (i := i) (l := l) (bd := i + 1) (li := 0) (pre := fun _ => true) (sp := fun D => decide (ev_v E D tk (tk_en tk (i + 1)) ≠ 0)) (po := fun D => D) (body := ex_x E tk f (i + 1))
        (fun rr s v _ h3 R => yc_1 (by omega) R (fun v1 R => yr_300 h3 R))
        (fun rr s v _ h3 R => yc_1 (by omega) R (fun v1 R => yr_b37 hH (by omega) c h3 (by omega) R))
        (fun rr s v _ R => ih _ s _ v hn.1 (by omega) (by rw [List.length_cons]; omega) (fun x hx' => by
          cases List.mem_cons.mp hx' with
          | inl e => rw [e]; show 2 ≤ 2; omega
          | inr e => exact hx x e) R)
        (fun rr s v hrr R => yc_2 (by omega) R (fun v1 R => ye_e37 (li := 0) hH hT c (by omega) hrr R))
        19 s v1 (by omega) R1
      exact ⟨v2, R2, ys_Rc_tr C1 C2⟩
    · -- FOR
      have ha : tk_ar (tk i) = 3 := by
        unfold tk_ar
        rw [if_neg (by omega), if_neg (by omega), if_neg (by omega), if_pos (by omega)]
      have hn := tk_n3 hL hT ha
      have hs1 : tk_sp (tk i) 2 = true := by unfold tk_sp; exact decide_eq_true (by omega)
      rw [hs1] at hn
      have hn1 := tk_T_en hL hn.1
      have hn2 := tk_T_en hL hn.2.1
      have hn3 := tk_T_en hL hn.2.2.1
      have hn4 := hn.2.2.2
      obtain ⟨v1, R1, C1⟩ := yc_0 (by omega) hR (fun v1 R => ym_40 hH hT c (by omega) R)
      rw [xx_40 c]
      obtain ⟨v2, R2, C2⟩ := yx_gl (i := i) (l := l) (bd := tk_en tk (tk_en tk (i + 1))) (li := ev_v E s.2 tk (tk_en tk (i + 1))) (pre := fun D => decide (¬ ev_v E s.2 tk (tk_en tk (i + 1)) < ds_va D (tk i - 40))) (sp := fun _ => false) (po := fun D => ds_sva D (upd (ds_va D) (tk i - 40) (ds_va D (tk i - 40) + 1))) (body := ex_x E tk f (tk_en tk (tk_en tk (i + 1))))
        (fun rr s v _ h3 R => yc_1 (by omega) R (fun v1 R => yr_300 h3 R))
        (fun rr s v _ h3 R => yc_1 (by omega) R (fun v1 R => yr_b40 hH hT c h3 (by omega) R))
        (fun rr s v _ R => ih _ s _ v hn.2.2.1 (by omega) (by rw [List.length_cons]; omega) (fun x hx' => by
          cases List.mem_cons.mp hx' with
          | inl e => rw [e]; show 2 ≤ 2; omega
          | inr e => exact hx x e) R)
        (fun rr s v hrr R => by
          obtain ⟨v', R', C'⟩ := yc_2 (by omega) R (fun v1 R => ye_e40 (li := _) hH (by omega) c (by omega) hrr R)
          refine ⟨v', ?_, C'⟩
          by_cases z : rr = 19
          · rw [if_pos z] at R'
            rw [if_pos (Or.inr z)]
            exact R'
          · rw [if_neg z] at R'
            rw [if_neg (by intro q; cases q with | inl q => exact absurd q (by decide) | inr q => exact z q)]
            exact R')
        19 _ v1 (by omega) R1
      exact ⟨v2, R2, ys_Rc_tr C1 C2⟩
    · rw [xx_pr c]
      exact yc_0 (by omega) hR (fun v1 R => ym_pr hH hT c R)
end
end
section
theorem ni_m1 {c : Nat} (h : 0 < c) : nI c + (-1) = nI (c - 1) := by
  have := pk_m1 (c - 1)
  rw [show c - 1 + 1 = c by omega] at this
  exact this
theorem ni_m1lt (c : Nat) (h : c < 2 ^ 31) : nI c + (-1) < nI c := by
  by_cases c0 : c = 0
  · rw [c0]
    decide
  · rw [ni_m1 (by omega)]
    exact nI_lt (by omega) h
theorem ni_sm1 (x : Int32) : x - 1 = x + (-1) := Int32.sub_eq_add_neg ..
section
variable {v : SY} {tk : Nat → Nat} {B L p i : Nat}
theorem yk_29 {post : SY → Prop} {J : Int32 → (Nat → Int32) → (Nat → Int32) → (Nat → Int32) → (Nat → Int32) → (Nat → Int32) → (Nat → Int32) → (Nat → Int32) → (Nat → Int32) → (Nat → Int32) → (Nat → Int32) → (Nat → Int32) → (Nat → Int32) → (Nat → Int32) → (Nat → Int32) → (Nat → Int32) → (Nat → Int32) → (Nat → Int32) → (Nat → Int32) → (Nat → Int32) → (Nat → Int32) → (Nat → Int32) → (Nat → Int32) → Prop} {en : Nat → Int32} {e : Nat} {x2' : Int32}
    (hB : B ≤ 60) (hL : L ≤ 60) (hi : i < L) (hk : gy_tokens v (B + i) = nI (tk i)) (ht : tk i < 1000) (hx : nI (B + i) + (-1) = x2') (he : e ≤ 60) (hen : ∀ j, i < j → j < L → en (B + j) = nI (B + tk_en tk j)) (H : J x2' (gy_variables v) (gy_cells v) (gy_inputs v) (gy_outputs v) (gy_timerOn v) (gy_timerBegin v) (gy_timerElapsed v) (gy_timerDone v) (gy_counterLast v) (gy_counterValue v) (gy_counterDone v) (gy_edgeLast v) (gy_edgeDone v) (gy_sizes v) (gy_tokens v) (upd en (B + i) (nI (B + e))) (gy_wants v) (gy_numbers v) (gy_taskKind v) (gy_taskAt v) (gy_taskRounds v) (gy_taskLimit v)) :
    ∀ (bs : List Bool) (j c : Nat), i < j → c + bs.length = tk_ar (tk i) → tk_Ts tk L bs j e → wY_mark_29 post J (nI p) (nI (B + i)) (gy_time v) (gy_active v) (gy_running v) (gy_open v) (gy_depth v) (gy_tasks v) (gy_begun v) (gy_variables v) (gy_cells v) (gy_inputs v) (gy_outputs v) (gy_timerOn v) (gy_timerBegin v) (gy_timerElapsed v) (gy_timerDone v) (gy_counterLast v) (gy_counterValue v) (gy_counterDone v) (gy_edgeLast v) (gy_edgeDone v) (gy_sizes v) (gy_tokens v) en (gy_wants v) (gy_numbers v) (gy_taskKind v) (gy_taskAt v) (gy_taskRounds v) (gy_taskLimit v) (bs.length + 1) (nI (B + j)) (nI c) := by
  intro bs
  have har := tk_ar_le (tk i)
  induction bs with
  | nil =>
    intro j c hj hc hTs
    have hTs : j = e := hTs
    have hc : c + 0 = tk_ar (tk i) := hc
    subst hTs
    refine And.intro (vp_in_nI (by omega) (by decide)) ?_
    rw [nI_clamp (by omega)]
    show wpY_partsOf _ _ (gy_tokens v (B + i))
    rw [hk]
    exact yp_parts ht (br_t (nI_le (by omega) (by omega)) (And.intro (vp_in_nI (by omega) (by decide)) (nm_e (nm_r hx H))))
  | cons b bs ih =>
    intro j c hj hc hTs
    obtain ⟨hT, hTs⟩ := hTs
    have h1 := tk_T_en hL hT
    rw [List.length_cons] at hc
    refine And.intro (vp_in_nI (by omega) (by decide)) ?_
    rw [nI_clamp (by omega)]
    show wpY_partsOf _ _ (gy_tokens v (B + i))
    rw [hk]
    refine yp_parts ht (br_f (nI_ge (by omega) (by omega)) (And.intro (vp_in_nI (by omega) (by decide)) (nm_r (e' := nI (B + tk_en tk j)) ?_ (nm_r (nI_1 c) ?_))))
    · rw [nI_clamp (by omega)]
      exact hen j hj (by omega)
    · exact ih (tk_en tk j) (c + 1) (by omega) (by omega) hTs
theorem yk_14 (hp : p ≤ 1) (hBp : B = 60 * p) (hL : L ≤ 60) (hF : tk_F tk L [true] 0) (hk : ∀ i, i < L → gy_tokens v (B + i) = nI (tk i)) :
    ∀ (c : Nat) (en : Nat → Int32), c ≤ L → (∀ j, c ≤ j → j < L → en (B + j) = nI (B + tk_en tk j)) → ∃ en', (∀ j, j < L → en' (B + j) = nI (B + tk_en tk j)) ∧ ∀ post : SY → Prop, post (ys_en v en') → wY_mark_14 post (nI p) (gy_time v) (gy_active v) (gy_running v) (gy_open v) (gy_depth v) (gy_tasks v) (gy_begun v) (c + 1) (nI (B + c) + (-1)) (gy_variables v) (gy_cells v) (gy_inputs v) (gy_outputs v) (gy_timerOn v) (gy_timerBegin v) (gy_timerElapsed v) (gy_timerDone v) (gy_counterLast v) (gy_counterValue v) (gy_counterDone v) (gy_edgeLast v) (gy_edgeDone v) (gy_sizes v) (gy_tokens v) en (gy_wants v) (gy_numbers v) (gy_taskKind v) (gy_taskAt v) (gy_taskRounds v) (gy_taskLimit v) := by
  have e60 : 60 * nI p = nI B := by rw [hBp]; exact pk_mul 60 p
  intro c
  induction c with
  | zero =>
    intro en _ he
    refine ⟨en, fun j hj => he j (by omega) hj, fun post H => br_t ?_ H⟩
    rw [e60]
    exact ni_m1lt B (by omega)
  | succ c ih =>
    intro en hc he
    obtain ⟨b, hT⟩ := tk_T_node hF (Nat.le_refl _) (i := c) (by omega)
    have hen := tk_T_en hL hT
    have hok := tk_ok_le (tk_T_ok hT)
    obtain ⟨en', h1, h2⟩ := ih (upd en (B + c) (nI (B + tk_en tk c))) (by omega) (fun j hj hl => by
      by_cases z : j = c
      · rw [z]; exact pk_us
      · rw [pk_un (by omega)]; exact he j (by omega) hl)
    refine ⟨en', h1, fun post H => ?_⟩
    have hx : nI (B + (c + 1)) + (-1) = nI (B + c) := pk_m1 (B + c)
    rw [hx]
    refine br_f ?_ (nm_r (nI_1 (B + c)) ⟨(tk_pa (tk c)).length + 1, ?_⟩)
    · rw [e60]
      exact nI_nlt (by omega) (by omega)
    · exact yk_29 (p := p) (by omega) hL (by omega) (hk c (by omega)) (by omega) rfl (by omega) (fun j hj hl => he j (by omega) hl) (h2 post H) _ (c + 1) 0 (by omega) (by rw [tk_pa_len]; omega) (tk_T_parts hL hT)
theorem yk_mark (hp : p ≤ 1) (hBp : B = 60 * p) (hL : L ≤ 60) (hF : tk_F tk L [true] 0) (hk : ∀ i, i < L → gy_tokens v (B + i) = nI (tk i)) (hs : gy_sizes v p = nI L) : ∃ en', (∀ j, j < L → en' (B + j) = nI (B + tk_en tk j)) ∧ ∀ post : SY → Prop, post (ys_en v en') → wpY_mark post v (nI p) := by
  have e60 : 60 * nI p = nI B := by rw [hBp]; exact pk_mul 60 p
  obtain ⟨en', h1, h2⟩ := yk_14 hp hBp hL hF hk L (gy_ends v) (Nat.le_refl _) (fun j a b => by omega)
  refine ⟨en', h1, fun post H => And.intro (vp_in_nI (by omega) (by decide)) (nm_r (e' := nI (B + L) + (-1)) ?_ ⟨L + 1, h2 post H⟩)⟩
  rw [nI_clamp (by omega), e60]
  show nI B + gy_sizes v p - 1 = _
  rw [hs, nI_add, ni_sm1]
/-- the reference carries a whole program out -/
theorem yk_carry {E : ds_E} {D : ds_T} (hp : p ≤ 1) (hBp : B = 60 * p) (hL : L ≤ 60) (hF : tk_F tk L [true] 0) (hk : ∀ i, i < L → gy_tokens v (B + i) = nI (tk i)) (hs : gy_sizes v p = nI L) (hE : E = (gy_inputs v, gy_time v))
    (hva : gy_variables v = D.1) (hro : gy_cells v = D.2.1) (hou : gy_outputs v = D.2.2.1) (htO : gy_timerOn v = D.2.2.2.1) (htB : gy_timerBegin v = D.2.2.2.2.1) (hcL : gy_counterLast v = D.2.2.2.2.2.1) (heL : gy_edgeLast v = D.2.2.2.2.2.2.1)
    (hb : ys_b D.2.2.2.2.2.2.2 (gy_timerElapsed v) (gy_timerDone v) (gy_counterValue v) (gy_counterDone v) (gy_edgeDone v)) (hD : ys_D E D.2.2.2.1 D.2.2.2.2.1) :
    ∃ en v' s', ys_R (ys_en v en) E B (s', (ex_x E tk 60 0 (0, D)).2.2) [] v' ∧ ∀ post : SY → Prop, post v' → wpY_carryOut post v (nI p) := by
  obtain ⟨va, ro, ou, tO, tB, cL, eL, bl⟩ := D
  have hva : gy_variables v = va := hva
  have hro : gy_cells v = ro := hro
  have hou : gy_outputs v = ou := hou
  have htO : gy_timerOn v = tO := htO
  have htB : gy_timerBegin v = tB := htB
  have hcL : gy_counterLast v = cL := hcL
  have heL : gy_edgeLast v = eL := heL
  subst hva hro hou htO htB hcL heL
  obtain ⟨en, he, hm⟩ := yk_mark hp hBp hL hF hk hs
  have e60 : 60 * nI p = nI (B + 0) := by rw [hBp]; exact pk_mul 60 p
  have hH : ys_H (ys_en v en) E tk B L := ⟨hk, he, by rw [hE], by rw [hE], by omega, hL⟩
  have hT : tk_T tk L true 0 := ⟨L, hF, by omega⟩
  have hen := tk_T_en hL hT
  have hK := ys_K_push (B := B) (tK := gy_taskKind v) (tA := gy_taskAt v) (tR := gy_taskRounds v) (tM := gy_taskLimit v) (l := []) (x := (0, 0, 0, 0)) trivial
  obtain ⟨v', R', c, C'⟩ := yx_all hH 60 0 (0, (gy_variables v, gy_cells v, gy_outputs v, gy_timerOn v, gy_timerBegin v, gy_counterLast v, gy_edgeLast v, bl)) [] (ys_yu (ys_en v en) (nI 0) (nI 1) (nI 0) (gy_variables v) (gy_cells v) (gy_outputs v) (gy_timerOn v) (gy_timerBegin v) (gy_timerElapsed v) (gy_timerDone v) (gy_counterLast v) (gy_counterValue v) (gy_counterDone v) (gy_edgeLast v) (gy_edgeDone v) (gy_numbers v) (upd (gy_taskKind v) 0 0) (upd (gy_taskAt v) 0 (nI (B + 0))) (upd (gy_taskRounds v) 0 0) (upd (gy_taskLimit v) 0 0)) hT (by omega) (by show 0 + _ ≤ 120; omega) (fun x hx => by cases hx) ⟨_, _, _, _, _, _, _, _, _, _, rfl, hb, hD, hK, by show 0 ≤ 300; omega⟩
  have ea : ys_aft (ex_x E tk 60 0 (0, (gy_variables v, gy_cells v, gy_outputs v, gy_timerOn v, gy_timerBegin v, gy_counterLast v, gy_edgeLast v, bl))).1 [] = [] := by
    unfold ys_aft
    repeat' split
    all_goals rfl
  rw [ea] at R'
  refine ⟨en, v', _, R', fun post H => ?_⟩
  unfold wpY_carryOut
  refine hm _ ?_
  rw [e60]
  refine yt_todo (v0 := ys_en v en) (h := 0) (by omega) ?_
  refine ⟨1 + c, ?_⟩
  have hC := C' post 1 (by
    obtain ⟨tE, tD, cV, cD, eD, nu, tK, tA, tR, tM, rfl, _⟩ := R'
    exact br_t (nI_le (a := 0) (b := 0) (by omega) (by decide)) H)
  exact hC
end
end
section
/-! tokens of any sign: a negative one counts as 0, which is none -/
theorem tv_neg {x : Int32} (h : x < 0) : x.toNatClampNeg = 0 := by
  rw [Int32.lt_iff_toInt_lt] at h
  have h : x.toInt < 0 := h
  unfold Int32.toNatClampNeg
  omega
theorem tv_cases (x : Int32) : (x < 0 ∧ x.toNatClampNeg = 0) ∨ ∃ j : Nat, j < 2 ^ 31 ∧ x = nI j ∧ x.toNatClampNeg = j := by
  by_cases h : x < 0
  · exact Or.inl ⟨h, tv_neg h⟩
  · obtain ⟨j, hj, e⟩ := nI_of h
    exact Or.inr ⟨j, hj, e, by rw [e, nI_clamp hj]⟩
theorem tv_eq {x : Int32} {a : Nat} (ha : 1 ≤ a) (hb : a < 2 ^ 31) : x = nI a ↔ x.toNatClampNeg = a := by
  rcases tv_cases x with ⟨h, e⟩ | ⟨j, hj, e, e2⟩
  · rw [e]
    constructor
    · intro z
      rw [z] at h
      exact absurd h (nI_pos hb)
    · intro z; omega
  · rw [e2, e]
    exact nI_eq hj hb
theorem tv_lt {x : Int32} {a : Nat} (ha : 1 ≤ a) (hb : a < 2 ^ 31) : x < nI a ↔ x.toNatClampNeg < a := by
  rcases tv_cases x with ⟨h, e⟩ | ⟨j, hj, e, e2⟩
  · rw [e]
    constructor
    · intro _; omega
    · intro _
      rw [Int32.lt_iff_toInt_lt, nI_toInt hb]
      rw [Int32.lt_iff_toInt_lt] at h
      have h : x.toInt < 0 := h
      omega
  · rw [e2, e]
    exact nI_ltI hj hb
theorem tv_le {x : Int32} {a : Nat} (ha : 1 ≤ a) (hb : a < 2 ^ 31) : nI a ≤ x ↔ a ≤ x.toNatClampNeg := by
  have := tv_lt (x := x) ha hb
  constructor
  · intro h
    refine Classical.byContradiction fun z => ?_
    exact (Int32.not_lt.mpr h) (this.mpr (by omega))
  · intro h
    refine Int32.not_lt.mp fun z => ?_
    have := this.mp z
    omega
section
variable {x : Int32} {a b : Nat} {post : Int32 → Prop}
theorem xi_t (ha : 1 ≤ a) (hb : a + b < 2 ^ 31) (h : a ≤ x.toNatClampNeg ∧ x.toNatClampNeg < a + b) (H : post 1) : wpX_isIn post x (nI a) (nI b) := by
  refine br_f (fun z => ?_) (br_f (fun z => ?_) H)
  · have := (tv_lt ha (by omega)).mp z
    omega
  · rw [nI_add, tv_le (by omega) hb] at z
    omega
theorem xi_f (ha : 1 ≤ a) (hb : a + b < 2 ^ 31) (h : ¬ (a ≤ x.toNatClampNeg ∧ x.toNatClampNeg < a + b)) (H : post 0) : wpX_isIn post x (nI a) (nI b) := by
  by_cases c : x.toNatClampNeg < a
  · exact br_t ((tv_lt ha (by omega)).mpr c) H
  · refine br_f (fun z => c ((tv_lt ha (by omega)).mp z)) (br_t ?_ H)
    rw [nI_add, tv_le (by omega) hb]
    omega
theorem tv_ne (ha : 1 ≤ a) (hb : a < 2 ^ 31) (h : x.toNatClampNeg ≠ a) : ¬ x = nI a := fun z => h ((tv_eq ha hb).mp z)
theorem tv_is (ha : 1 ≤ a) (hb : a < 2 ^ 31) (h : x.toNatClampNeg = a) : x = nI a := (tv_eq ha hb).mpr h
def tk_lf (t : Nat) : Prop := (100 ≤ t ∧ t ≤ 115) ∨ (120 ≤ t ∧ t ≤ 127) ∨ (143 ≤ t ∧ t ≤ 157) ∨ (210 ≤ t ∧ t ≤ 290)
theorem xk_leaf1 (h : tk_lf x.toNatClampNeg) (H : post 1) : wpX_isLeaf post x := by
  unfold tk_lf at h
  unfold wpX_isLeaf
  by_cases c1 : 100 ≤ x.toNatClampNeg ∧ x.toNatClampNeg < 100 + 16
  · exact xi_t (a := 100) (b := 16) (by decide) (by decide) c1 (br_f (by decide) H)
  refine xi_f (a := 100) (b := 16) (by decide) (by decide) c1 (br_t rfl ?_)
  by_cases c2 : 120 ≤ x.toNatClampNeg ∧ x.toNatClampNeg < 120 + 4
  · exact xi_t (a := 120) (b := 4) (by decide) (by decide) c2 (br_f (by decide) H)
  refine xi_f (a := 120) (b := 4) (by decide) (by decide) c2 (br_t rfl ?_)
  by_cases c3 : 124 ≤ x.toNatClampNeg ∧ x.toNatClampNeg < 124 + 4
  · exact xi_t (a := 124) (b := 4) (by decide) (by decide) c3 (br_f (by decide) H)
  refine xi_f (a := 124) (b := 4) (by decide) (by decide) c3 (br_t rfl ?_)
  by_cases c4 : 143 ≤ x.toNatClampNeg ∧ x.toNatClampNeg < 143 + 15
  · exact xi_t (a := 143) (b := 15) (by decide) (by decide) c4 (br_f (by decide) H)
  refine xi_f (a := 143) (b := 15) (by decide) (by decide) c4 (br_t rfl ?_)
  exact xi_t (a := 210) (b := 81) (by decide) (by decide) (by omega) (br_f (by decide) H)
theorem xk_leaf0 (h : ¬ tk_lf x.toNatClampNeg) (H : post 0) : wpX_isLeaf post x := by
  unfold tk_lf at h
  unfold wpX_isLeaf
  refine xi_f (a := 100) (b := 16) (by decide) (by decide) (by omega) (br_t rfl ?_)
  refine xi_f (a := 120) (b := 4) (by decide) (by decide) (by omega) (br_t rfl ?_)
  refine xi_f (a := 124) (b := 4) (by decide) (by decide) (by omega) (br_t rfl ?_)
  refine xi_f (a := 143) (b := 15) (by decide) (by decide) (by omega) (br_t rfl ?_)
  exact xi_f (a := 210) (b := 81) (by decide) (by decide) (by omega) (br_t rfl H)
theorem xk_ex (H : post (if tk_ex x.toNatClampNeg = true then 1 else 0)) : wpX_isExpression post x := by
  unfold tk_ex at H
  simp only [decide_eq_true_eq] at H
  unfold wpX_isExpression
  by_cases c : tk_lf x.toNatClampNeg
  · unfold tk_lf at c
    rw [if_pos (by omega)] at H
    exact xk_leaf1 c (br_f (by decide) H)
  · refine xk_leaf0 c (br_t rfl ?_)
    unfold tk_lf at c
    by_cases c1 : x.toNatClampNeg = 128
    · rw [if_pos (by omega)] at H
      exact br_t (tv_is (a := 128) (by decide) (by decide) c1) H
    refine br_f (tv_ne (a := 128) (by decide) (by decide) c1) ?_
    by_cases c2 : 130 ≤ x.toNatClampNeg ∧ x.toNatClampNeg < 130 + 13
    · rw [if_pos (by omega)] at H
      exact xi_t (a := 130) (b := 13) (by decide) (by decide) c2 (br_f (by decide) H)
    · rw [if_neg (by omega)] at H
      exact xi_f (a := 130) (b := 13) (by decide) (by decide) c2 (br_t rfl H)
theorem xk_st (H : post (if tk_st x.toNatClampNeg = true then 1 else 0)) : wpX_isStatement post x := by
  unfold tk_st at H
  simp only [decide_eq_true_eq] at H
  by_cases c1 : x.toNatClampNeg = 1
  · rw [if_pos (by omega)] at H
    exact br_t (tv_is (a := 1) (by decide) (by decide) c1) H
  refine br_f (tv_ne (a := 1) (by decide) (by decide) c1) ?_
  by_cases c2 : x.toNatClampNeg = 2
  · rw [if_pos (by omega)] at H
    exact br_t (tv_is (a := 2) (by decide) (by decide) c2) H
  refine br_f (tv_ne (a := 2) (by decide) (by decide) c2) ?_
  by_cases c3 : 10 ≤ x.toNatClampNeg ∧ x.toNatClampNeg < 10 + 16
  · rw [if_pos (by omega)] at H
    exact xi_t (a := 10) (b := 16) (by decide) (by decide) c3 (br_f (by decide) H)
  refine xi_f (a := 10) (b := 16) (by decide) (by decide) c3 (br_t rfl ?_)
  by_cases c4 : 30 ≤ x.toNatClampNeg ∧ x.toNatClampNeg < 30 + 8
  · rw [if_pos (by omega)] at H
    exact xi_t (a := 30) (b := 8) (by decide) (by decide) c4 (br_f (by decide) H)
  refine xi_f (a := 30) (b := 8) (by decide) (by decide) c4 (br_t rfl ?_)
  by_cases c5 : x.toNatClampNeg = 39
  · rw [if_pos (by omega)] at H
    exact br_t (tv_is (a := 39) (by decide) (by decide) c5) H
  refine br_f (tv_ne (a := 39) (by decide) (by decide) c5) ?_
  by_cases c6 : 40 ≤ x.toNatClampNeg ∧ x.toNatClampNeg < 40 + 17
  · rw [if_pos (by omega)] at H
    exact xi_t (a := 40) (b := 17) (by decide) (by decide) c6 (br_f (by decide) H)
  refine xi_f (a := 40) (b := 17) (by decide) (by decide) c6 (br_t rfl ?_)
  by_cases c7 : 60 ≤ x.toNatClampNeg ∧ x.toNatClampNeg < 60 + 9
  · rw [if_pos (by omega)] at H
    exact xi_t (a := 60) (b := 9) (by decide) (by decide) c7 (br_f (by decide) H)
  · rw [if_neg (by omega)] at H
    exact xi_f (a := 60) (b := 9) (by decide) (by decide) c7 (br_t rfl H)
theorem xk_parts {t : Nat} {bb : Bool} (hok : tk_ok bb t = true) (H : post (nI (tk_ar t))) : wpX_partsOf post (nI t) := by
  have hle := tk_ok_le hok
  have ht : (nI t).toNatClampNeg = t := nI_clamp (by omega)
  have hv : ((1 ≤ t ∧ t ≤ 2) ∨ (10 ≤ t ∧ t ≤ 25) ∨ (30 ≤ t ∧ t ≤ 37) ∨ (39 ≤ t ∧ t ≤ 56) ∨ (60 ≤ t ∧ t ≤ 68)) ∨ ((100 ≤ t ∧ t ≤ 115) ∨ (120 ≤ t ∧ t ≤ 128) ∨ (130 ≤ t ∧ t ≤ 157) ∨ (210 ≤ t ∧ t ≤ 290)) := by
    cases bb with
    | true => exact Or.inl (of_decide_eq_true hok)
    | false => exact Or.inr (of_decide_eq_true hok)
  unfold tk_ar at H
  unfold wpX_partsOf
  by_cases c : tk_lf t
  · have c' := c
    unfold tk_lf at c'
    rw [if_pos (by omega)] at H
    exact xk_leaf1 (by rw [ht]; exact c) (br_f (by decide) H)
  refine xk_leaf0 (by rw [ht]; exact c) (br_t rfl ?_)
  unfold tk_lf at c
  by_cases c2 : t = 2
  · rw [if_pos (by omega)] at H
    exact br_t (by rw [c2]; rfl) H
  refine br_f (ni_ne (b := 2) c2 (by omega) (by decide)) ?_
  by_cases c3 : t = 39
  · rw [if_pos (by omega)] at H
    exact br_t (by rw [c3]; rfl) H
  refine br_f (ni_ne (b := 39) c3 (by omega) (by decide)) ?_
  rw [if_neg (by omega)] at H
  by_cases c4 : t = 128
  · rw [if_pos (by omega)] at H
    exact br_t (by rw [c4]; rfl) H
  refine br_f (ni_ne (b := 128) c4 (by omega) (by decide)) ?_
  by_cases c5 : t = 139
  · rw [if_pos (by omega)] at H
    exact br_t (by rw [c5]; rfl) H
  refine br_f (ni_ne (b := 139) c5 (by omega) (by decide)) ?_
  by_cases c6 : 10 ≤ t ∧ t < 10 + 16
  · rw [if_pos (by omega)] at H
    exact xi_t (a := 10) (b := 16) (by decide) (by decide) (by rw [ht]; exact c6) (br_f (by decide) H)
  refine xi_f (a := 10) (b := 16) (by decide) (by decide) (by rw [ht]; exact c6) (br_t rfl ?_)
  by_cases c7 : 30 ≤ t ∧ t < 30 + 4
  · rw [if_pos (by omega)] at H
    exact xi_t (a := 30) (b := 4) (by decide) (by decide) (by rw [ht]; exact c7) (br_f (by decide) H)
  refine xi_f (a := 30) (b := 4) (by decide) (by decide) (by rw [ht]; exact c7) (br_t rfl ?_)
  by_cases c8 : 66 ≤ t ∧ t < 66 + 3
  · rw [if_pos (by omega)] at H
    exact xi_t (a := 66) (b := 3) (by decide) (by decide) (by rw [ht]; exact c8) (br_f (by decide) H)
  refine xi_f (a := 66) (b := 3) (by decide) (by decide) (by rw [ht]; exact c8) (br_t rfl ?_)
  rw [if_neg (by omega)] at H
  by_cases c9 : t = 56
  · rw [if_pos c9] at H
    exact br_t (by rw [c9]; rfl) H
  refine br_f (ni_ne (b := 56) c9 (by omega) (by decide)) ?_
  rw [if_neg c9] at H
  by_cases d1 : t = 35
  · rw [if_pos (by omega)] at H
    exact br_t (by rw [d1]; rfl) H
  refine br_f (ni_ne (b := 35) d1 (by omega) (by decide)) ?_
  by_cases d2 : t = 142
  · rw [if_pos (by omega)] at H
    exact br_t (by rw [d2]; rfl) H
  refine br_f (ni_ne (b := 142) d2 (by omega) (by decide)) ?_
  by_cases d3 : 40 ≤ t ∧ t < 40 + 16
  · rw [if_pos (by omega)] at H
    exact xi_t (a := 40) (b := 16) (by decide) (by decide) (by rw [ht]; exact d3) (br_f (by decide) H)
  refine xi_f (a := 40) (b := 16) (by decide) (by decide) (by rw [ht]; exact d3) (br_t rfl ?_)
  by_cases d4 : 63 ≤ t ∧ t < 63 + 3
  · rw [if_pos (by omega)] at H
    exact xi_t (a := 63) (b := 3) (by decide) (by decide) (by rw [ht]; exact d4) (br_f (by decide) H)
  · rw [if_neg (by omega)] at H
    exact xi_f (a := 63) (b := 3) (by decide) (by decide) (by rw [ht]; exact d4) (br_t rfl H)
theorem xk_part {t k : Nat} (ht : t < 1000) (hk : k < 1000) (H : post (if tk_sp t k = true then 1 else 0)) : wpX_isStatementPart post (nI t) (nI k) := by
  unfold tk_sp at H
  simp only [decide_eq_true_eq] at H
  have htt : (nI t).toNatClampNeg = t := nI_clamp (by omega)
  have key : (t = 35 ∨ t = 36 ∨ t = 56) → wX_isStatementPart_25 post (nI k) := by
    intro h
    by_cases c : k = 0
    · rw [if_neg (by omega)] at H
      exact br_t (by rw [c]; decide) H
    · rw [if_pos (by omega)] at H
      exact br_f (nI_nle (by omega) (by omega)) H
  by_cases c1 : t = 1
  · rw [if_pos (by omega)] at H
    exact br_t (by rw [c1]; rfl) H
  refine br_f (ni_ne (b := 1) c1 (by omega) (by decide)) ?_
  by_cases c2 : t = 35
  · exact br_t (by rw [c2]; rfl) (key (by omega))
  refine br_f (ni_ne (b := 35) c2 (by omega) (by decide)) ?_
  by_cases c3 : t = 36
  · exact br_t (by rw [c3]; rfl) (key (by omega))
  refine br_f (ni_ne (b := 36) c3 (by omega) (by decide)) ?_
  by_cases c4 : t = 56
  · exact br_t (by rw [c4]; rfl) (key (by omega))
  refine br_f (ni_ne (b := 56) c4 (by omega) (by decide)) ?_
  by_cases c5 : t = 37
  · refine br_t (by rw [c5]; rfl) ?_
    by_cases c : k = 0
    · rw [if_pos (by omega)] at H
      exact br_t (by rw [c]; rfl) H
    · rw [if_neg (by omega)] at H
      exact br_f (ni_ne (b := 0) c (by omega) (by decide)) H
  refine br_f (ni_ne (b := 37) c5 (by omega) (by decide)) ?_
  by_cases c6 : 40 ≤ t ∧ t < 40 + 16
  · refine xi_t (a := 40) (b := 16) (by decide) (by decide) (by rw [htt]; exact c6) (br_f (by decide) ?_)
    by_cases c : k = 2
    · rw [if_pos (by omega)] at H
      exact br_t (by rw [c]; rfl) H
    · rw [if_neg (by omega)] at H
      exact br_f (ni_ne (b := 2) c (by omega) (by decide)) H
  · rw [if_neg (by omega)] at H
    exact xi_f (a := 40) (b := 16) (by decide) (by decide) (by rw [htt]; exact c6) (br_t rfl H)
/-! the same of the reference -/
variable {u : SY}
theorem yn_t (ha : 1 ≤ a) (hb : b < 2 ^ 31) (hab : a ≤ b) (h : a ≤ x.toNatClampNeg ∧ x.toNatClampNeg ≤ b) (H : post 1) : wpY_in post u x (nI a) (nI b) := by
  refine br_f (fun z => ?_) (br_f (fun z => ?_) H)
  · have := (tv_lt ha (by omega)).mp z
    omega
  · have := (tv_le (x := x) (a := b) (by omega) hb)
    by_cases e : x.toNatClampNeg = b
    · have := (tv_eq (by omega) hb).mpr e
      rw [this] at z
      exact (Int32.lt_irrefl z).elim
    · exact absurd (this.mp (Int32.le_of_lt z)) (by omega)
theorem yn_f (ha : 1 ≤ a) (hb : b < 2 ^ 31) (hab : a ≤ b) (h : ¬ (a ≤ x.toNatClampNeg ∧ x.toNatClampNeg ≤ b)) (H : post 0) : wpY_in post u x (nI a) (nI b) := by
  by_cases c : x.toNatClampNeg < a
  · exact br_t ((tv_lt ha (by omega)).mpr c) H
  · refine br_f (fun z => c ((tv_lt ha (by omega)).mp z)) (br_t ?_ H)
    rcases tv_cases x with ⟨_, e⟩ | ⟨j, hj, e, e2⟩
    · omega
    · rw [e]
      exact nI_lt (by omega) hj
theorem yk_ex (H : post (if tk_ex x.toNatClampNeg = true then 1 else 0)) : wpY_isExpression post u x := by
  unfold tk_ex at H
  simp only [decide_eq_true_eq] at H
  unfold wpY_isExpression
  by_cases c1 : 100 ≤ x.toNatClampNeg ∧ x.toNatClampNeg ≤ 115
  · rw [if_pos (by omega)] at H
    exact yn_t (a := 100) (b := 115) (by decide) (by decide) (by decide) c1 (br_f (by decide) H)
  refine yn_f (a := 100) (b := 115) (by decide) (by decide) (by decide) c1 (br_t rfl ?_)
  by_cases c2 : 120 ≤ x.toNatClampNeg ∧ x.toNatClampNeg ≤ 128
  · rw [if_pos (by omega)] at H
    exact yn_t (a := 120) (b := 128) (by decide) (by decide) (by decide) c2 (br_f (by decide) H)
  refine yn_f (a := 120) (b := 128) (by decide) (by decide) (by decide) c2 (br_t rfl ?_)
  by_cases c3 : 130 ≤ x.toNatClampNeg ∧ x.toNatClampNeg ≤ 157
  · rw [if_pos (by omega)] at H
    exact yn_t (a := 130) (b := 157) (by decide) (by decide) (by decide) c3 (br_f (by decide) H)
  refine yn_f (a := 130) (b := 157) (by decide) (by decide) (by decide) c3 (br_t rfl ?_)
  by_cases c4 : 210 ≤ x.toNatClampNeg ∧ x.toNatClampNeg ≤ 290
  · rw [if_pos (by omega)] at H
    exact yn_t (a := 210) (b := 290) (by decide) (by decide) (by decide) c4 (br_f (by decide) H)
  · rw [if_neg (by omega)] at H
    exact yn_f (a := 210) (b := 290) (by decide) (by decide) (by decide) c4 (br_t rfl H)
theorem yk_st (H : post (if tk_st x.toNatClampNeg = true then 1 else 0)) : wpY_isStatement post u x := by
  unfold tk_st at H
  simp only [decide_eq_true_eq] at H
  unfold wpY_isStatement
  by_cases c1 : 1 ≤ x.toNatClampNeg ∧ x.toNatClampNeg ≤ 2
  · rw [if_pos (by omega)] at H
    exact yn_t (a := 1) (b := 2) (by decide) (by decide) (by decide) c1 (br_f (by decide) H)
  refine yn_f (a := 1) (b := 2) (by decide) (by decide) (by decide) c1 (br_t rfl ?_)
  by_cases c2 : 10 ≤ x.toNatClampNeg ∧ x.toNatClampNeg ≤ 25
  · rw [if_pos (by omega)] at H
    exact yn_t (a := 10) (b := 25) (by decide) (by decide) (by decide) c2 (br_f (by decide) H)
  refine yn_f (a := 10) (b := 25) (by decide) (by decide) (by decide) c2 (br_t rfl ?_)
  by_cases c3 : 30 ≤ x.toNatClampNeg ∧ x.toNatClampNeg ≤ 37
  · rw [if_pos (by omega)] at H
    exact yn_t (a := 30) (b := 37) (by decide) (by decide) (by decide) c3 (br_f (by decide) H)
  refine yn_f (a := 30) (b := 37) (by decide) (by decide) (by decide) c3 (br_t rfl ?_)
  by_cases c4 : 39 ≤ x.toNatClampNeg ∧ x.toNatClampNeg ≤ 56
  · rw [if_pos (by omega)] at H
    exact yn_t (a := 39) (b := 56) (by decide) (by decide) (by decide) c4 (br_f (by decide) H)
  refine yn_f (a := 39) (b := 56) (by decide) (by decide) (by decide) c4 (br_t rfl ?_)
  by_cases c5 : 60 ≤ x.toNatClampNeg ∧ x.toNatClampNeg ≤ 68
  · rw [if_pos (by omega)] at H
    exact yn_t (a := 60) (b := 68) (by decide) (by decide) (by decide) c5 (br_f (by decide) H)
  · rw [if_neg (by omega)] at H
    exact yn_f (a := 60) (b := 68) (by decide) (by decide) (by decide) c5 (br_t rfl H)
theorem yk_part {t k : Nat} (ht : t < 1000) (hk : k < 1000) (H : post (if tk_sp t k = true then 1 else 0)) : wpY_takesStatement post u (nI t) (nI k) := by
  unfold tk_sp at H
  simp only [decide_eq_true_eq] at H
  have htt : (nI t).toNatClampNeg = t := nI_clamp (by omega)
  have key : ∀ p : Prop, (t = 35 ∨ t = 36 ∨ t = 56) → (nI k ≤ 0 → post 0) ∧ (¬ nI k ≤ 0 → post 1) := by
    intro p h
    by_cases c : k = 0
    · rw [if_neg (by omega)] at H
      exact br_t (by rw [c]; decide) H
    · rw [if_pos (by omega)] at H
      exact br_f (nI_nle (by omega) (by omega)) H
  have key := key True
  by_cases c1 : t = 1
  · rw [if_pos (by omega)] at H
    exact br_t (by rw [c1]; rfl) H
  refine br_f (ni_ne (b := 1) c1 (by omega) (by decide)) ?_
  by_cases c2 : t = 35
  · exact br_t (by rw [c2]; rfl) (key (by omega))
  refine br_f (ni_ne (b := 35) c2 (by omega) (by decide)) ?_
  by_cases c3 : t = 36
  · exact br_t (by rw [c3]; rfl) (key (by omega))
  refine br_f (ni_ne (b := 36) c3 (by omega) (by decide)) ?_
  by_cases c4 : t = 56
  · exact br_t (by rw [c4]; rfl) (key (by omega))
  refine br_f (ni_ne (b := 56) c4 (by omega) (by decide)) ?_
  by_cases c5 : t = 37
  · refine br_t (by rw [c5]; rfl) ?_
    by_cases c : k = 0
    · rw [if_pos (by omega)] at H
      exact br_t (by rw [c]; rfl) H
    · rw [if_neg (by omega)] at H
      exact br_f (ni_ne (b := 0) c (by omega) (by decide)) H
  refine br_f (ni_ne (b := 37) c5 (by omega) (by decide)) ?_
  by_cases c6 : 40 ≤ t ∧ t ≤ 55
  · refine yi_t (a := 40) (b := 55) c6 (by omega) (by decide) (br_f (by decide) ?_)
    by_cases c : k = 2
    · rw [if_pos (by omega)] at H
      exact br_t (by rw [c]; rfl) H
    · rw [if_neg (by omega)] at H
      exact br_f (ni_ne (b := 2) c (by omega) (by decide)) H
  · rw [if_neg (by omega)] at H
    exact yi_f (a := 40) (b := 55) c6 (by omega) (by decide) (br_t rfl H)
end
end
section
section
variable {u : SX} {tk : Nat → Nat} {L p i : Nat}
theorem xa_30 {post : SX → Prop} {J : Int32 → (Nat → Int32) → (Nat → Int32) → (Nat → Int32) → (Nat → Int32) → (Nat → Int32) → (Nat → Int32) → (Nat → Int32) → (Nat → Int32) → (Nat → Int32) → (Nat → Int32) → (Nat → Int32) → (Nat → Int32) → (Nat → Int32) → (Nat → Int32) → (Nat → Int32) → (Nat → Int32) → (Nat → Int32) → (Nat → Int32) → (Nat → Int32) → (Nat → Int32) → (Nat → Int32) → (Nat → Int32) → (Nat → Int32) → (Nat → Int32) → (Nat → Int32) → (Nat → Int32) → (Nat → Int32) → Prop} {sp : Nat → Int32} {e a : Nat} {x1' : Int32}
    (hL : L ≤ 60) (hi : i < L) (ha : a ≤ 4) (hx : nI i + (-1) = x1') (he : e ≤ 60) (hie : i ≤ e) (hsp : ∀ j, i < j → j < L → sp j = nI (tk_en tk j - j)) (H : J x1' (gx_variables u) (gx_row u) (gx_inputs u) (gx_taken u) (gx_outputs u) (gx_timerOn u) (gx_timerBegin u) (gx_counterLast u) (gx_edgeLast u) (gx_blocks u) (gx_tokens u) (gx_tokenCount u) (gx_wanted u) (upd sp i (nI (e - i))) (gx_operation u) (gx_argument u) (gx_target u) (gx_openAt u) (gx_openPhase u) (gx_openPatch u) (gx_openPatch2 u) (gx_loopToken u) (gx_exitAt u) (gx_exitLoop u) (gx_stack u) (gx_loopRounds u) (gx_loopLast u)) :
    ∀ (bs : List Bool) (j c : Nat), i < j → c + bs.length = a → tk_Ts tk L bs j e → wX_measure_30 post J (nI i) (nI a) (gx_time u) (gx_active u) (gx_isRunning u) (gx_wantedCount u) (gx_size u) (gx_depth u) (gx_loops u) (gx_exits u) (gx_height u) (gx_allRounds u) (gx_isOver u) (gx_variables u) (gx_row u) (gx_inputs u) (gx_taken u) (gx_outputs u) (gx_timerOn u) (gx_timerBegin u) (gx_counterLast u) (gx_edgeLast u) (gx_blocks u) (gx_tokens u) (gx_tokenCount u) (gx_wanted u) sp (gx_operation u) (gx_argument u) (gx_target u) (gx_openAt u) (gx_openPhase u) (gx_openPatch u) (gx_openPatch2 u) (gx_loopToken u) (gx_exitAt u) (gx_exitLoop u) (gx_stack u) (gx_loopRounds u) (gx_loopLast u) (bs.length + 1) (nI (j - i)) (nI c) := by
  intro bs
  induction bs with
  | nil =>
    intro j c hj hc hTs
    have hTs : j = e := hTs
    have hc : c + 0 = a := hc
    subst hTs
    exact br_t (nI_le (by omega) (by omega)) (And.intro (vp_in_nI (by omega) (by decide)) (nm_r (e' := upd sp i (nI (j - i))) (by rw [nI_clamp (by omega)]) (nm_r hx H)))
  | cons b bs ih =>
    intro j c hj hc hTs
    obtain ⟨hT, hTs⟩ := hTs
    have h1 := tk_T_en hL hT
    rw [List.length_cons] at hc
    have e1 : nI i + nI (j - i) = nI j := by
      rw [nI_add]
      exact congrArg nI (by omega)
    refine br_f (nI_ge (by omega) (by omega)) ?_
    rw [e1]
    refine And.intro (vp_in_nI (by omega) (by decide)) (nm_r (e' := nI (tk_en tk j - i)) ?_ (nm_r (nI_1 c) (ih (tk_en tk j) (c + 1) (by omega) (by omega) hTs)))
    rw [nI_clamp (by omega)]
    show nI (j - i) + sp j = _
    rw [hsp j hj (by omega), nI_add]
    exact congrArg nI (by omega)
theorem xa_12 (hp : p ≤ 1) (hac : gx_active u = nI p) (hL : L ≤ 60) (hF : tk_F tk L [true] 0) (hk : ∀ i, i < L → gx_tokens u (60 * p + i) = nI (tk i)) :
    ∀ (c : Nat) (sp : Nat → Int32), c ≤ L → (∀ j, c ≤ j → j < L → sp j = nI (tk_en tk j - j)) → ∃ sp', (∀ j, j < L → sp' j = nI (tk_en tk j - j)) ∧ ∀ post : SX → Prop, post (xs_sp u sp') → wX_measure_12 post (gx_time u) (gx_active u) (gx_isRunning u) (gx_wantedCount u) (gx_size u) (gx_depth u) (gx_loops u) (gx_exits u) (gx_height u) (gx_allRounds u) (gx_isOver u) (c + 1) (nI c + (-1)) (gx_variables u) (gx_row u) (gx_inputs u) (gx_taken u) (gx_outputs u) (gx_timerOn u) (gx_timerBegin u) (gx_counterLast u) (gx_edgeLast u) (gx_blocks u) (gx_tokens u) (gx_tokenCount u) (gx_wanted u) sp (gx_operation u) (gx_argument u) (gx_target u) (gx_openAt u) (gx_openPhase u) (gx_openPatch u) (gx_openPatch2 u) (gx_loopToken u) (gx_exitAt u) (gx_exitLoop u) (gx_stack u) (gx_loopRounds u) (gx_loopLast u) := by
  intro c
  induction c with
  | zero =>
    intro sp _ he
    exact ⟨sp, fun j hj => he j (by omega) hj, fun post H => br_t (by decide) H⟩
  | succ c ih =>
    intro sp hc he
    obtain ⟨b, hT⟩ := tk_T_node hF (Nat.le_refl _) (i := c) (by omega)
    have hen := tk_T_en hL hT
    have hok := tk_T_ok hT
    have har := tk_ar_le (tk c)
    obtain ⟨sp', h1, h2⟩ := ih (upd sp c (nI (tk_en tk c - c))) (by omega) (fun j hj hl => by
      by_cases z : j = c
      · rw [z]; exact pk_us
      · rw [pk_un (by omega)]; exact he j (by omega) hl)
    refine ⟨sp', h1, fun post H => ?_⟩
    have hx : nI (c + 1) + (-1) = nI c := pk_m1 c
    rw [hx]
    refine br_f (nI_pos (by omega)) ?_
    have e60 : 60 * nI p + nI c = nI (60 * p + c) := by
      rw [← nI_add]
      exact congrArg (· + nI c) (pk_mul 60 p)
    unfold wpX_tokenAt
    show vp_in (60 * gx_active u + nI c) 120 ∧ wpX_partsOf _ (gx_tokens u (60 * gx_active u + nI c).toNatClampNeg)
    rw [hac, e60, nI_clamp (by omega), hk c (by omega)]
    refine And.intro (vp_in_nI (by omega) (by decide)) (xk_parts hok ⟨(tk_pa (tk c)).length + 1, ?_⟩)
    have := xa_30 (u := u) (post := post) (J := wX_measure_12 post (gx_time u) (gx_active u) (gx_isRunning u) (gx_wantedCount u) (gx_size u) (gx_depth u) (gx_loops u) (gx_exits u) (gx_height u) (gx_allRounds u) (gx_isOver u) (c + 1)) (sp := sp) (i := c) (e := tk_en tk c) (a := tk_ar (tk c)) hL (by omega) har rfl (by omega) (by omega) (fun j hj hl => he j (by omega) hl) (h2 post H) (tk_pa (tk c)) (c + 1) 0 (by omega) (by rw [tk_pa_len]; omega) (tk_T_parts hL hT)
    rw [show c + 1 - c = 1 by omega, hac] at this
    exact this
theorem xa_measure (hp : p ≤ 1) (hac : gx_active u = nI p) (hL : L ≤ 60) (hF : tk_F tk L [true] 0) (hk : ∀ i, i < L → gx_tokens u (60 * p + i) = nI (tk i)) (hs : gx_tokenCount u p = nI L) : ∃ sp', (∀ j, j < L → sp' j = nI (tk_en tk j - j)) ∧ ∀ post : SX → Prop, post (xs_sp u sp') → wpX_measure post u := by
  obtain ⟨sp', h1, h2⟩ := xa_12 hp hac hL hF hk L (gx_spans u) (Nat.le_refl _) (fun j a b => by omega)
  refine ⟨sp', h1, fun post H => ?_⟩
  unfold wpX_measure
  show vp_in (gx_active u) 2 ∧ ∀ x1_2 : Int32, x1_2 = gx_tokenCount u (gx_active u).toNatClampNeg - 1 → ∃ n12, wX_measure_12 post (gx_time u) (gx_active u) (gx_isRunning u) (gx_wantedCount u) (gx_size u) (gx_depth u) (gx_loops u) (gx_exits u) (gx_height u) (gx_allRounds u) (gx_isOver u) n12 x1_2 (gx_variables u) (gx_row u) (gx_inputs u) (gx_taken u) (gx_outputs u) (gx_timerOn u) (gx_timerBegin u) (gx_counterLast u) (gx_edgeLast u) (gx_blocks u) (gx_tokens u) (gx_tokenCount u) (gx_wanted u) (gx_spans u) (gx_operation u) (gx_argument u) (gx_target u) (gx_openAt u) (gx_openPhase u) (gx_openPatch u) (gx_openPatch2 u) (gx_loopToken u) (gx_exitAt u) (gx_exitLoop u) (gx_stack u) (gx_loopRounds u) (gx_loopLast u)
  rw [hac, nI_clamp (by omega), hs]
  exact And.intro (vp_in_nI (by omega) (by decide)) (nm_r (ni_sm1 _) ⟨L + 1, by have := h2 post H; rw [hac] at this; exact this⟩)
end
end
section
/-- where part number k of what stands before j begins -/
def tk_it (tk : Nat → Nat) : Nat → Nat → Nat
  | 0, j => j
  | k + 1, j => tk_it tk k (tk_en tk j)
/-- what the compiler's state holds fixed -/
def xs_H (u0 : SX) (tk : Nat → Nat) (p L : Nat) : Prop :=
  gx_active u0 = nI p ∧ p ≤ 1 ∧ L ≤ 60 ∧ (∀ i, i < L → gx_tokens u0 (60 * p + i) = nI (tk i)) ∧ (∀ i, i < L → gx_spans u0 i = nI (tk_en tk i - i))
/-- targets stay within the code -/
def cg_G (tg : Nat → Int32) (sz : Nat) : Prop := ∀ j, j < sz → ∃ b, b ≤ sz ∧ tg j = nI b
def cg_Rc (u u' : SX) : Prop := ∃ c, ∀ (post : SX → Prop) (n : Nat), xs_w29 post n u' → xs_w29 post (n + c) u
theorem cg_Rc_rf (u : SX) : cg_Rc u u := ⟨0, fun _ _ H => H⟩
theorem cg_Rc_tr {a b c : SX} (h1 : cg_Rc a b) (h2 : cg_Rc b c) : cg_Rc a c := by
  obtain ⟨x, h1⟩ := h1
  obtain ⟨y, h2⟩ := h2
  refine ⟨y + x, fun post n H => ?_⟩
  rw [← Nat.add_assoc]
  exact h1 post (n + y) (h2 post n H)
section
variable {u0 : SX} {tk : Nat → Nat} {p L i D sz ph k a : Nat} {o x dp lo es : Int32} {op ag tg oA oP oQ oR lT eA eL : Nat → Int32}
theorem xc_emit {post : Int32 → SX → Prop} (hs : sz < 400) (H : post (nI sz) (xs_cu u0 (nI (sz + 1)) dp lo es (upd op sz o) (upd ag sz x) (upd tg sz (nI sz)) oA oP oQ oR lT eA eL)) : wpX_emit post (xs_cu u0 (nI sz) dp lo es op ag tg oA oP oQ oR lT eA eL) o x :=
  br_f (nI_ge (b := 400) hs (by decide)) (And.intro (vp_in_nI hs (by decide)) (nm_r (e' := upd op sz o) (by rw [nI_clamp (by omega)]) (And.intro (vp_in_nI hs (by decide)) (nm_r (e' := upd ag sz x) (by rw [nI_clamp (by omega)]) (And.intro (vp_in_nI hs (by decide)) (nm_r (e' := upd tg sz (nI sz)) (by rw [nI_clamp (by omega)]) (nm_r (nI_1 sz) (by rw [nI_pred]; exact H))))))))
theorem xc_patch {post : SX → Prop} (ha : a < 400) (H : post (xs_cu u0 (nI sz) dp lo es op ag (upd tg a (nI sz)) oA oP oQ oR lT eA eL)) : wpX_patch post (xs_cu u0 (nI sz) dp lo es op ag tg oA oP oQ oR lT eA eL) (nI a) :=
  And.intro (vp_in_nI ha (by decide)) (nm_r (e' := upd tg a (nI sz)) (by rw [nI_clamp (by omega)]) H)
theorem xc_enter {post : SX → Prop} (hD : D < 64) (H : post (xs_cu u0 (nI sz) (nI (D + 1)) lo es op ag tg (upd oA D (nI i)) (upd oP D 0) oQ oR lT eA eL)) : wpX_enter post (xs_cu u0 (nI sz) (nI D) lo es op ag tg oA oP oQ oR lT eA eL) (nI i) :=
  And.intro (vp_in_nI hD (by decide)) (nm_r (e' := upd oA D (nI i)) (by rw [nI_clamp (by omega)]) (And.intro (vp_in_nI hD (by decide)) (nm_r (e' := upd oP D 0) (by rw [nI_clamp (by omega)]) (nm_r (nI_1 D) H))))
theorem xc_tok {post : Int32 → Prop} (hH : xs_H u0 tk p L) (hi : i < L) (H : post (nI (tk i))) : wpX_tokenAt post (xs_cu u0 (nI sz) dp lo es op ag tg oA oP oQ oR lT eA eL) (nI i) := by
  obtain ⟨h1, h2, h3, h4, _⟩ := hH
  have e60 : 60 * nI p + nI i = nI (60 * p + i) := by
    rw [← nI_add]
    exact congrArg (· + nI i) (pk_mul 60 p)
  unfold wpX_tokenAt
  show vp_in (60 * gx_active u0 + nI i) 120 ∧ post (gx_tokens u0 (60 * gx_active u0 + nI i).toNatClampNeg)
  rw [h1, e60, nI_clamp (by omega), h4 i hi]
  exact And.intro (vp_in_nI (by omega) (by decide)) H
theorem xc_pa7 {post : Int32 → Prop} (hH : xs_H u0 tk p L) : ∀ (m c j : Nat), c + m = k → k ≤ 4 → (∀ m', m' < m → ∃ b, tk_T tk L b (tk_it tk m' j)) → post (nI (tk_it tk m j)) → wX_partAt_7 post (nI k) (gx_time u0) (gx_active u0) (gx_isRunning u0) (gx_wantedCount u0) (nI sz) dp lo es (gx_height u0) (gx_allRounds u0) (gx_isOver u0) (gx_variables u0) (gx_row u0) (gx_inputs u0) (gx_taken u0) (gx_outputs u0) (gx_timerOn u0) (gx_timerBegin u0) (gx_counterLast u0) (gx_edgeLast u0) (gx_blocks u0) (gx_tokens u0) (gx_tokenCount u0) (gx_wanted u0) (gx_spans u0) op ag tg oA oP oQ oR lT eA eL (gx_stack u0) (gx_loopRounds u0) (gx_loopLast u0) (m + 1) (nI j) (nI c) := by
  obtain ⟨_, _, hL, _, h5⟩ := hH
  intro m
  induction m with
  | zero =>
    intro c j hc hk _ H
    exact br_t (nI_le (by omega) (by omega)) H
  | succ m ih =>
    intro c j hc hk hv H
    obtain ⟨b, hT⟩ := hv 0 (by omega)
    have hT : tk_T tk L b j := hT
    have h1 := tk_T_en hL hT
    refine br_f (nI_ge (by omega) (by omega)) (And.intro (vp_in_nI (by omega) (by decide)) (nm_r (e' := nI (tk_en tk j)) ?_ (nm_r (nI_1 c) (ih (c + 1) (tk_en tk j) (by omega) hk (fun m' hm => hv (m' + 1) (by omega)) H))))
    rw [nI_clamp (by omega)]
    show nI j + gx_spans u0 j = _
    rw [h5 j (by omega), nI_add]
    exact congrArg nI (by omega)
theorem xc_part {post : Int32 → Prop} (hH : xs_H u0 tk p L) (hk : k ≤ 4) (hv : ∀ m', m' < k → ∃ b, tk_T tk L b (tk_it tk m' (i + 1))) (H : post (nI (tk_it tk k (i + 1)))) : wpX_partAt post (xs_cu u0 (nI sz) dp lo es op ag tg oA oP oQ oR lT eA eL) (nI i) (nI k) :=
  nm_r (nI_1 i) ⟨k + 1, xc_pa7 hH k 0 (i + 1) (by omega) hk hv H⟩
/-! one round of the loop: behind the statement or the expression -/
theorem cg_enter {post : SX → Prop} {n : Nat} (hH : xs_H u0 tk p L) (hD : D + 1 < 64) (ht : tk_ar (tk i) ≤ 4) (hp : ph < tk_ar (tk i)) (hv : ∀ m', m' < ph → ∃ b, tk_T tk L b (tk_it tk m' (i + 1))) (H : xs_w29 post n (xs_cu u0 (nI sz) (nI (D + 2)) lo es op ag tg (upd oA (D + 1) (nI (tk_it tk ph (i + 1)))) (upd oP (D + 1) 0) oQ oR lT eA eL)) : wX_compile_110 post (wX_compile_29 post n) (nI D) (nI i) (nI ph) (nI (tk_ar (tk i))) (gx_time u0) (gx_active u0) (gx_isRunning u0) (gx_wantedCount u0) (nI sz) (nI (D + 1)) lo es (gx_height u0) (gx_allRounds u0) (gx_isOver u0) (gx_variables u0) (gx_row u0) (gx_inputs u0) (gx_taken u0) (gx_outputs u0) (gx_timerOn u0) (gx_timerBegin u0) (gx_counterLast u0) (gx_edgeLast u0) (gx_blocks u0) (gx_tokens u0) (gx_tokenCount u0) (gx_wanted u0) (gx_spans u0) op ag tg oA oP oQ oR lT eA eL (gx_stack u0) (gx_loopRounds u0) (gx_loopLast u0) :=
  br_f (nI_ge hp (by omega)) (br_t (nI_1 D).symm (xc_part hH (by omega) hv (xc_enter (D := D + 1) hD H)))
theorem cg_leave {post : SX → Prop} {n : Nat} (ht : tk_ar (tk i) ≤ 4) (hp : tk_ar (tk i) ≤ ph) (hp2 : ph < 1000) (H : xs_w29 post n (xs_cu u0 (nI sz) (nI D) lo es op ag tg oA oP oQ oR lT eA eL)) : wX_compile_110 post (wX_compile_29 post n) (nI D) (nI i) (nI ph) (nI (tk_ar (tk i))) (gx_time u0) (gx_active u0) (gx_isRunning u0) (gx_wantedCount u0) (nI sz) (nI (D + 1)) lo es (gx_height u0) (gx_allRounds u0) (gx_isOver u0) (gx_variables u0) (gx_row u0) (gx_inputs u0) (gx_taken u0) (gx_outputs u0) (gx_timerOn u0) (gx_timerBegin u0) (gx_counterLast u0) (gx_edgeLast u0) (gx_blocks u0) (gx_tokens u0) (gx_tokenCount u0) (gx_wanted u0) (gx_spans u0) op ag tg oA oP oQ oR lT eA eL (gx_stack u0) (gx_loopRounds u0) (gx_loopLast u0) :=
  br_t (nI_le hp (by omega)) (br_t (nI_1 D).symm (nm_r (nI_pred D) H))
theorem cg_stay {post : SX → Prop} {n : Nat} (hD : D < 1000) (H : xs_w29 post n (xs_cu u0 (nI sz) (nI (D + 2)) lo es op ag tg oA oP oQ oR lT eA eL)) : wX_compile_110 post (wX_compile_29 post n) (nI D) (nI i) (nI ph) (nI (tk_ar (tk i))) (gx_time u0) (gx_active u0) (gx_isRunning u0) (gx_wantedCount u0) (nI sz) (nI (D + 2)) lo es (gx_height u0) (gx_allRounds u0) (gx_isOver u0) (gx_variables u0) (gx_row u0) (gx_inputs u0) (gx_taken u0) (gx_outputs u0) (gx_timerOn u0) (gx_timerBegin u0) (gx_counterLast u0) (gx_edgeLast u0) (gx_blocks u0) (gx_tokens u0) (gx_tokenCount u0) (gx_wanted u0) (gx_spans u0) op ag tg oA oP oQ oR lT eA eL (gx_stack u0) (gx_loopRounds u0) (gx_loopLast u0) := by
  have hne : ¬ nI (D + 2) = nI D + 1 := by
    rw [nI_1]
    exact ni_ne (by omega) (by omega) (by omega)
  exact br_c (fun _ => br_f hne H) (fun _ => br_f hne (br_f hne H))
/-- a round at an expression -/
theorem cg_itE {post : SX → Prop} {n : Nat} {lo es : Int32} (hH : xs_H u0 tk p L) (hT : tk_T tk L false i) (hD : D < 64) (hA : oA D = nI i) (hP : oP D = nI ph) (hw : wpX_expression (fun u => wX_compile_110 post (wX_compile_29 post n) (nI D) (nI i) (nI ph) (nI (tk_ar (tk i))) (gx_time u) (gx_active u) (gx_isRunning u) (gx_wantedCount u) (gx_size u) (gx_depth u) (gx_loops u) (gx_exits u) (gx_height u) (gx_allRounds u) (gx_isOver u) (gx_variables u) (gx_row u) (gx_inputs u) (gx_taken u) (gx_outputs u) (gx_timerOn u) (gx_timerBegin u) (gx_counterLast u) (gx_edgeLast u) (gx_blocks u) (gx_tokens u) (gx_tokenCount u) (gx_wanted u) (gx_spans u) (gx_operation u) (gx_argument u) (gx_target u) (gx_openAt u) (gx_openPhase u) (gx_openPatch u) (gx_openPatch2 u) (gx_loopToken u) (gx_exitAt u) (gx_exitLoop u) (gx_stack u) (gx_loopRounds u) (gx_loopLast u)) (xs_cu u0 (nI sz) (nI (D + 1)) lo es op ag tg oA (upd oP D (nI (ph + 1))) oQ oR lT eA eL) (nI (tk i)) (nI ph) (nI (tk_ar (tk i)))) : xs_w29 post (n + 1) (xs_cu u0 (nI sz) (nI (D + 1)) lo es op ag tg oA oP oQ oR lT eA eL) := by
  have hL : L ≤ 60 := hH.2.2.1
  have hen := tk_T_en hL hT
  have hok := tk_T_ok hT
  have hle := tk_ex_le hok
  have hst : tk_st (tk i) = false := by unfold tk_st; exact decide_eq_false (by omega)
  refine br_f (nI_nle (by omega) (by omega)) (nm_r (nI_pred D) (And.intro (vp_in_nI hD (by decide)) (nm_r (e' := nI i) (by rw [nI_clamp (by omega)]; exact hA) (And.intro (vp_in_nI hD (by decide)) (nm_r (e' := nI ph) (by rw [nI_clamp (by omega)]; exact hP) (And.intro (vp_in_nI hD (by decide)) (And.intro (vp_in_nI hD (by decide)) (nm_r (e' := upd oP D (nI (ph + 1))) (by rw [nI_clamp (by omega)]; show upd oP D (oP D + 1) = _; rw [hP, nI_1]) ?_))))))))
  refine xc_tok hH (by omega) (xk_parts hok (xk_st ?_))
  rw [nI_clamp (by omega), hst]
  exact br_t rfl hw
/-- a round at a statement -/
theorem cg_itS {post : SX → Prop} {n : Nat} {lo es : Int32} (hH : xs_H u0 tk p L) (hT : tk_T tk L true i) (hD : D < 64) (hA : oA D = nI i) (hP : oP D = nI ph) (hw : wpX_statement (fun u => wX_compile_110 post (wX_compile_29 post n) (nI D) (nI i) (nI ph) (nI (tk_ar (tk i))) (gx_time u) (gx_active u) (gx_isRunning u) (gx_wantedCount u) (gx_size u) (gx_depth u) (gx_loops u) (gx_exits u) (gx_height u) (gx_allRounds u) (gx_isOver u) (gx_variables u) (gx_row u) (gx_inputs u) (gx_taken u) (gx_outputs u) (gx_timerOn u) (gx_timerBegin u) (gx_counterLast u) (gx_edgeLast u) (gx_blocks u) (gx_tokens u) (gx_tokenCount u) (gx_wanted u) (gx_spans u) (gx_operation u) (gx_argument u) (gx_target u) (gx_openAt u) (gx_openPhase u) (gx_openPatch u) (gx_openPatch2 u) (gx_loopToken u) (gx_exitAt u) (gx_exitLoop u) (gx_stack u) (gx_loopRounds u) (gx_loopLast u)) (xs_cu u0 (nI sz) (nI (D + 1)) lo es op ag tg oA (upd oP D (nI (ph + 1))) oQ oR lT eA eL) (nI i) (nI (tk i)) (nI ph) (nI D)) : xs_w29 post (n + 1) (xs_cu u0 (nI sz) (nI (D + 1)) lo es op ag tg oA oP oQ oR lT eA eL) := by
  have hL : L ≤ 60 := hH.2.2.1
  have hen := tk_T_en hL hT
  have hok := tk_T_ok hT
  have hle := tk_st_le hok
  have hst : tk_st (tk i) = true := hok
  refine br_f (nI_nle (by omega) (by omega)) (nm_r (nI_pred D) (And.intro (vp_in_nI hD (by decide)) (nm_r (e' := nI i) (by rw [nI_clamp (by omega)]; exact hA) (And.intro (vp_in_nI hD (by decide)) (nm_r (e' := nI ph) (by rw [nI_clamp (by omega)]; exact hP) (And.intro (vp_in_nI hD (by decide)) (And.intro (vp_in_nI hD (by decide)) (nm_r (e' := upd oP D (nI (ph + 1))) (by rw [nI_clamp (by omega)]; show upd oP D (oP D + 1) = _; rw [hP, nI_1]) ?_))))))))
  refine xc_tok hH (by omega) (xk_parts hok (xk_st ?_))
  rw [nI_clamp (by omega), hst]
  exact br_f (by decide) hw
end
end
section
section
variable {u0 : SX} {tk : Nat → Nat} {p L i D sz ph k a t nn : Nat} {o x dp lo es : Int32} {op ag tg oA oP oQ oR lT eA eL : Nat → Int32}
theorem xe_none {post : SX → Prop} (h : ph < nn) (hn : nn < 1000) (H : post (xs_cu u0 (nI sz) dp lo es op ag tg oA oP oQ oR lT eA eL)) : wpX_expression post (xs_cu u0 (nI sz) dp lo es op ag tg oA oP oQ oR lT eA eL) (nI t) (nI ph) (nI nn) := br_f (nI_ge h (by omega)) H
theorem xk_1 {post : Int32 → Prop} (h1 : 1 ≤ nn) (h3 : nn ≤ 3) (hs : nn ≤ sz) (hs4 : sz < 400) : ∀ (m c : Nat), c + m = nn + 1 → 1 ≤ c → (∀ k, c ≤ k → k ≤ nn → op (sz - k) = 300) → post 1 → wX_isKnown_2 post (nI nn) (gx_time u0) (gx_active u0) (gx_isRunning u0) (gx_wantedCount u0) (nI sz) dp lo es (gx_height u0) (gx_allRounds u0) (gx_isOver u0) (gx_variables u0) (gx_row u0) (gx_inputs u0) (gx_taken u0) (gx_outputs u0) (gx_timerOn u0) (gx_timerBegin u0) (gx_counterLast u0) (gx_edgeLast u0) (gx_blocks u0) (gx_tokens u0) (gx_tokenCount u0) (gx_wanted u0) (gx_spans u0) op ag tg oA oP oQ oR lT eA eL (gx_stack u0) (gx_loopRounds u0) (gx_loopLast u0) (m + 1) (nI c) := by
  intro m
  induction m with
  | zero =>
    intro c hc _ _ H
    exact br_t (nI_lt (by omega) (by omega)) (br_f (nI_nle (by omega) (by omega)) H)
  | succ m ih =>
    intro c hc hc1 hk H
    refine br_f (nI_nlt (by omega) (by omega)) ?_
    rw [pk_sub (by omega : c ≤ sz), nI_clamp (by omega)]
    exact br_f (nI_pos (by omega)) (And.intro (vp_in_nI (by omega) (by decide)) (br_t (hk c (Nat.le_refl _) (by omega)) (nm_r (nI_1 c) (ih (c + 1) (by omega) (by omega) (fun k a b => hk k (by omega) b) H))))
theorem xk_0 {post : Int32 → Prop} (h3 : nn ≤ 3) (hs : nn ≤ sz) (hs4 : sz < 400) : ∀ (m c : Nat), c + m = nn + 1 → 1 ≤ c → (nn = 0 ∨ ∃ k, c ≤ k ∧ k ≤ nn ∧ op (sz - k) ≠ 300) → post 0 → wX_isKnown_2 post (nI nn) (gx_time u0) (gx_active u0) (gx_isRunning u0) (gx_wantedCount u0) (nI sz) dp lo es (gx_height u0) (gx_allRounds u0) (gx_isOver u0) (gx_variables u0) (gx_row u0) (gx_inputs u0) (gx_taken u0) (gx_outputs u0) (gx_timerOn u0) (gx_timerBegin u0) (gx_counterLast u0) (gx_edgeLast u0) (gx_blocks u0) (gx_tokens u0) (gx_tokenCount u0) (gx_wanted u0) (gx_spans u0) op ag tg oA oP oQ oR lT eA eL (gx_stack u0) (gx_loopRounds u0) (gx_loopLast u0) (m + 1) (nI c) := by
  intro m
  induction m with
  | zero =>
    intro c hc _ hk H
    refine br_t (nI_lt (by omega) (by omega)) (br_t ?_ H)
    cases hk with
    | inl h => rw [h]; decide
    | inr h => obtain ⟨k, a, b, _⟩ := h; omega
  | succ m ih =>
    intro c hc hc1 hk H
    refine br_f (nI_nlt (by omega) (by omega)) ?_
    rw [pk_sub (by omega : c ≤ sz), nI_clamp (by omega)]
    refine br_f (nI_pos (by omega)) (And.intro (vp_in_nI (by omega) (by decide)) ?_)
    by_cases z : op (sz - c) = 300
    · refine br_t z (nm_r (nI_1 c) (ih (c + 1) (by omega) (by omega) ?_ H))
      cases hk with
      | inl h => exact Or.inl h
      | inr h =>
        obtain ⟨k, a, b, e⟩ := h
        refine Or.inr ⟨k, ?_, b, e⟩
        by_cases q : k = c
        · rw [q] at e; exact absurd z e
        · omega
    · exact br_f z H
theorem xe_num {post : SX → Prop} (ht : 210 ≤ t ∧ t ≤ 290) (hp : nn ≤ ph) (hp2 : ph < 1000) (hs : sz < 400) (H : post (xs_cu u0 (nI (sz + 1)) dp lo es (upd op sz 300) (upd ag sz (nI t - 250)) (upd tg sz (nI sz)) oA oP oQ oR lT eA eL)) : wpX_expression post (xs_cu u0 (nI sz) dp lo es op ag tg oA oP oQ oR lT eA eL) (nI t) (nI ph) (nI nn) := by
  have ht2 : (nI t).toNatClampNeg = t := nI_clamp (by omega)
  exact br_t (nI_le hp (by omega)) (xi_t (a := 210) (b := 81) (by decide) (by decide) (by rw [ht2]; omega) (br_f (by decide) (xc_emit hs H)))
theorem xe_emit {post : SX → Prop} (ht : ¬ (210 ≤ t ∧ t ≤ 290)) (ht2 : t < 1000) (hp : nn ≤ ph) (hp2 : ph < 1000) (h3 : nn ≤ 3) (hsn : nn ≤ sz) (hs : sz < 400) (hk : nn = 0 ∨ (∃ k, 1 ≤ k ∧ k ≤ nn ∧ op (sz - k) ≠ 300) ∨ t < 130) (H : post (xs_cu u0 (nI (sz + 1)) dp lo es (upd op sz (nI t)) (upd ag sz 0) (upd tg sz (nI sz)) oA oP oQ oR lT eA eL)) : wpX_expression post (xs_cu u0 (nI sz) dp lo es op ag tg oA oP oQ oR lT eA eL) (nI t) (nI ph) (nI nn) := by
  have htc : (nI t).toNatClampNeg = t := nI_clamp (by omega)
  refine br_t (nI_le hp (by omega)) (xi_f (a := 210) (b := 81) (by decide) (by decide) (by rw [htc]; omega) (br_t rfl ?_))
  by_cases c : nn = 0 ∨ ∃ k, 1 ≤ k ∧ k ≤ nn ∧ op (sz - k) ≠ 300
  · exact ⟨nn + 1, xk_0 h3 hsn hs nn 1 (by omega) (by omega) c (br_t rfl (xc_emit hs H))⟩
  · have h0 : nn ≠ 0 := fun z => c (Or.inl z)
    have hall : ∀ k, 1 ≤ k → k ≤ nn → op (sz - k) = 300 := fun k a b => Classical.byContradiction fun z => c (Or.inr ⟨k, a, b, z⟩)
    have h130 : t < 130 := by
      rcases hk with z | z | z
      · exact absurd z h0
      · exact absurd (Or.inr z) c
      · exact z
    exact ⟨nn + 1, xk_1 (by omega) h3 hsn hs nn 1 (by omega) (by omega) hall (br_f (by decide) (br_t (nI_lt (b := 130) h130 (by decide)) (xc_emit hs H)))⟩
/-- a known number is worked out -/
theorem xe_fold {post : SX → Prop} {v : Int32} (ht : 130 ≤ t ∧ t ≤ 142) (hp : nn ≤ ph) (hp2 : ph < 1000) (h1 : 1 ≤ nn) (h3 : nn ≤ 3) (hsn : nn ≤ sz) (hs : sz < 400) (hk : ∀ k, 1 ≤ k → k ≤ nn → op (sz - k) = 300)
    (hv : v = if nn = 1 then ev_one (ag (sz - 1)) else if nn = 3 then (if ag (sz - 3) = 0 then ag (sz - 1) else ag (sz - 2)) else ev_two t (ag (sz - 2)) (ag (sz - 1)))
    (H : post (xs_cu u0 (nI (sz - nn + 1)) dp lo es (upd op (sz - nn) 300) (upd ag (sz - nn) v) (upd tg (sz - nn) (nI (sz - nn))) oA oP oQ oR lT eA eL)) : wpX_expression post (xs_cu u0 (nI sz) dp lo es op ag tg oA oP oQ oR lT eA eL) (nI t) (nI ph) (nI nn) := by
  have htc : (nI t).toNatClampNeg = t := nI_clamp (by omega)
  have s1 : nI sz - 1 = nI (sz - 1) := pk_sub (b := 1) (by omega)
  refine br_t (nI_le hp (by omega)) (xi_f (a := 210) (b := 81) (by decide) (by decide) (by rw [htc]; omega) (br_t rfl ?_))
  refine ⟨nn + 1, xk_1 h1 h3 hsn hs nn 1 (by omega) (by omega) hk (br_f (by decide) (br_f (nI_nlt (b := 130) (by omega) (by omega)) (br_f (nI_nlt (a := 142) (by omega) (by decide)) ?_)))⟩
  have hend : ∀ w : Int32, w = v → (∀ f_size_124 : Int32, f_size_124 = nI sz - nI nn → wpX_emit (fun r u => post u) (xs_cu u0 f_size_124 dp lo es op ag tg oA oP oQ oR lT eA eL) 300 w) := by
    intro w hw
    subst hw
    exact nm_r (pk_sub hsn) (xc_emit (by omega) H)
  by_cases c1 : nn = 1
  · subst c1
    rw [if_pos rfl] at hv
    refine br_t rfl ?_
    rw [s1, nI_clamp (by omega)]
    exact And.intro (vp_in_nI (by omega) (by decide)) (xv_one (hend _ hv.symm))
  rw [if_neg c1] at hv
  refine br_f (ni_ne (b := 1) c1 (by omega) (by decide)) ?_
  by_cases c3 : nn = 3
  · subst c3
    have s2 : nI sz - 2 = nI (sz - 2) := pk_sub (b := 2) (by omega)
    have s3 : nI sz - 3 = nI (sz - 3) := pk_sub (b := 3) (by omega)
    rw [if_pos rfl] at hv
    refine br_t rfl ?_
    rw [s1, s2, s3, nI_clamp (by omega), nI_clamp (by omega), nI_clamp (by omega)]
    refine And.intro (vp_in_nI (by omega) (by decide)) ?_
    by_cases z : ag (sz - 3) = 0
    · rw [if_pos z] at hv
      exact br_t z (And.intro (vp_in_nI (by omega) (by decide)) (hend _ hv.symm))
    · rw [if_neg z] at hv
      exact br_f z (And.intro (vp_in_nI (by omega) (by decide)) (hend _ hv.symm))
  · rw [if_neg c3] at hv
    have s2 : nI sz - 2 = nI (sz - 2) := pk_sub (b := 2) (by omega)
    refine br_f (ni_ne (b := 3) c3 (by omega) (by decide)) ?_
    rw [s1, s2, nI_clamp (by omega), nI_clamp (by omega)]
    exact And.intro (vp_in_nI (by omega) (by decide)) (And.intro (vp_in_nI (by omega) (by decide)) (xv_two (by omega) (hend _ hv.symm)))
end
/-- the same below n -/
def cg_f (n : Nat) (f f' : Nat → Int32) : Prop := ∀ j, j < n → f' j = f j
theorem cg_f_rf (n : Nat) (f : Nat → Int32) : cg_f n f f := fun _ _ => rfl
theorem cg_f_tr {n m : Nat} {f g h : Nat → Int32} (h1 : cg_f n f g) (h2 : cg_f m g h) (hn : n ≤ m) : cg_f n f h := fun j hj => (h2 j (by omega)).trans (h1 j hj)
theorem cg_f_u {n k : Nat} {f g : Nat → Int32} {x : Int32} (h : cg_f n f g) (hk : n ≤ k) : cg_f n f (upd g k x) := fun j hj => (pk_un (by omega)).trans (h j hj)
theorem cg_G_f {n : Nat} {f g : Nat → Int32} (h : cg_G f n) (hf : cg_f n f g) : cg_G g n := fun j hj => by
  obtain ⟨b, h1, h2⟩ := h j hj
  exact ⟨b, h1, (hf j hj).trans h2⟩
theorem cg_G_e {n : Nat} {f : Nat → Int32} (h : cg_G f n) : cg_G (upd f n (nI n)) (n + 1) := fun j hj => by
  by_cases z : j = n
  · rw [z]; exact ⟨n, by omega, pk_us⟩
  · obtain ⟨b, h1, h2⟩ := h j (by omega)
    exact ⟨b, by omega, (pk_un z).trans h2⟩
/-- what the making of an expression's code comes to -/
def cg_PE (u0 : SX) (tk : Nat → Nat) (L f : Nat) : Prop :=
  ∀ (i D sz : Nat) (lo es : Int32) (op ag tg oA oP oQ oR lT eA eL : Nat → Int32), tk_T tk L false i → tk_en tk i - i ≤ f → D ≤ i → sz ≤ 5 * i → oA D = nI i → oP D = nI 0 → cg_G tg sz →
    ∃ (sz' : Nat) (op' ag' tg' oA' oP' : Nat → Int32), cg_Rc (xs_cu u0 (nI sz) (nI (D + 1)) lo es op ag tg oA oP oQ oR lT eA eL) (xs_cu u0 (nI sz') (nI D) lo es op' ag' tg' oA' oP' oQ oR lT eA eL) ∧
      sz < sz' ∧ sz' ≤ sz + 5 * (tk_en tk i - i) ∧ cg_f sz op op' ∧ cg_f sz ag ag' ∧ cg_f sz tg tg' ∧ cg_f D oA oA' ∧ cg_f D oP oP' ∧ sm_E tk op' ag' tg' i sz sz' ∧ cg_G tg' sz'
section
variable {u0 : SX} {tk : Nat → Nat} {p L f i D sz k : Nat} {lo es : Int32} {op ag tg oA oP oQ oR lT eA eL : Nat → Int32}
/-- a part of an expression -/
theorem cg_Epart (ih : cg_PE u0 tk L f) (hH : xs_H u0 tk p L) (hT : tk_T tk L false i) (hk : k < tk_ar (tk i)) (hv : ∀ m', m' < k → ∃ b, tk_T tk L b (tk_it tk m' (i + 1))) {j : Nat} (hj : tk_it tk k (i + 1) = j) (hTj : tk_T tk L false j) (hf : tk_en tk j - j ≤ f) (hij : i < j) (hD : D ≤ i) (hsz : sz ≤ 5 * j) (hA : oA D = nI i) (hP : oP D = nI k) (hG : cg_G tg sz) :
    ∃ (sz' : Nat) (op' ag' tg' oA' oP' : Nat → Int32), cg_Rc (xs_cu u0 (nI sz) (nI (D + 1)) lo es op ag tg oA oP oQ oR lT eA eL) (xs_cu u0 (nI sz') (nI (D + 1)) lo es op' ag' tg' oA' oP' oQ oR lT eA eL) ∧
      sz < sz' ∧ sz' ≤ sz + 5 * (tk_en tk j - j) ∧ cg_f sz op op' ∧ cg_f sz ag ag' ∧ cg_f sz tg tg' ∧ cg_f D oA oA' ∧ cg_f D oP oP' ∧ oA' D = nI i ∧ oP' D = nI (k + 1) ∧ sm_E tk op' ag' tg' j sz sz' ∧ cg_G tg' sz' := by
  have hL : L ≤ 60 := hH.2.2.1
  have hen := tk_T_en hL hT
  have henj := tk_T_en hL hTj
  have har := tk_ar_le (tk i)
  obtain ⟨sz', op', ag', tg', oA', oP', R, h1, h2, f1, f2, f3, f4, f5, hE, hG'⟩ := ih j (D + 1) sz lo es op ag tg (upd oA (D + 1) (nI j)) (upd (upd oP D (nI (k + 1))) (D + 1) 0) oQ oR lT eA eL hTj hf (by omega) hsz pk_us pk_us hG
  refine ⟨sz', op', ag', tg', oA', oP', cg_Rc_tr ⟨1, fun post n H => ?_⟩ R, h1, h2, f1, f2, f3, ?_, ?_, ?_, ?_, hE, hG'⟩
  · refine cg_itE hH hT (by omega) hA hP (xe_none hk (by omega) ?_)
    rw [← hj] at H
    exact cg_enter hH (by omega) har hk hv H
  · exact fun q hq => (f4 q (by omega)).trans (pk_un (by omega))
  · exact fun q hq => (f5 q (by omega)).trans ((pk_un (by omega)).trans (pk_un (by omega)))
  · exact (f4 D (by omega)).trans ((pk_un (by omega)).trans hA)
  · exact (f5 D (by omega)).trans ((pk_un (by omega)).trans pk_us)
/-- the last round at an expression -/
theorem cg_Elast (hH : xs_H u0 tk p L) (hT : tk_T tk L false i) (hD : D ≤ i) (hA : oA D = nI i) (hP : oP D = nI (tk_ar (tk i))) {sz' : Nat} {op' ag' tg' : Nat → Int32}
    (hw : ∀ post : SX → Prop, post (xs_cu u0 (nI sz') (nI (D + 1)) lo es op' ag' tg' oA (upd oP D (nI (tk_ar (tk i) + 1))) oQ oR lT eA eL) → wpX_expression post (xs_cu u0 (nI sz) (nI (D + 1)) lo es op ag tg oA (upd oP D (nI (tk_ar (tk i) + 1))) oQ oR lT eA eL) (nI (tk i)) (nI (tk_ar (tk i))) (nI (tk_ar (tk i)))) :
    cg_Rc (xs_cu u0 (nI sz) (nI (D + 1)) lo es op ag tg oA oP oQ oR lT eA eL) (xs_cu u0 (nI sz') (nI D) lo es op' ag' tg' oA (upd oP D (nI (tk_ar (tk i) + 1))) oQ oR lT eA eL) := by
  have hL : L ≤ 60 := hH.2.2.1
  have hen := tk_T_en hL hT
  have har := tk_ar_le (tk i)
  exact ⟨1, fun post n H => cg_itE hH hT (by omega) hA hP (hw _ (cg_leave har (Nat.le_refl _) (by omega) H))⟩
end
end
section
section
variable {tk : Nat → Nat} {op ag tg : Nat → Int32} {L i s0 s1 s2 s3 : Nat}
/-- code of an expression stays when something is put behind it -/
theorem cg_Eu {o x g : Int32} {k : Nat} (h : sm_E tk op ag tg i s0 s1) (hk : s1 ≤ k) : sm_E tk (upd op k o) (upd ag k x) (upd tg k g) i s0 s1 :=
  sm_E_tr h (fun j _ b => ⟨pk_un (by omega), pk_un (by omega), pk_un (by omega)⟩)
end
theorem cg_E {u0 : SX} {tk : Nat → Nat} {p L : Nat} (hH : xs_H u0 tk p L) : ∀ f, cg_PE u0 tk L f := by
  have hL : L ≤ 60 := hH.2.2.1
  intro f
  induction f with
  | zero =>
    intro i D sz lo es op ag tg oA oP oQ oR lT eA eL hT hf
    have := tk_T_en hL hT
    omega
  | succ f ih =>
    intro i D sz lo es op ag tg oA oP oQ oR lT eA eL hT hf hD hsz hA hP hG
    have hen := tk_T_en hL hT
    have hok : tk_ex (tk i) = true := tk_T_ok hT
    have hle := tk_ex_le hok
    have hvd := of_decide_eq_true hok
    have har := tk_ar_ex hok
    by_cases c0 : tk_ar (tk i) = 0
    · have he1 := tk_n0 hL hT c0
      rw [c0] at har
      have hlf : (100 ≤ tk i ∧ tk i ≤ 127) ∨ 142 < tk i := by
        refine Classical.byContradiction fun z => ?_
        rw [if_neg z] at har
        split at har
        · omega
        · split at har <;> omega
      by_cases cn : 210 ≤ tk i ∧ tk i ≤ 290
      · refine ⟨sz + 1, upd op sz 300, upd ag sz (nI (tk i) - 250), upd tg sz (nI sz), oA, upd oP D (nI (tk_ar (tk i) + 1)), cg_Elast hH hT hD hA (by rw [c0]; exact hP) (fun post H => xe_num cn (Nat.le_refl _) (by omega) (by omega) H), by omega, by omega, cg_f_u (cg_f_rf _ _) (Nat.le_refl _), cg_f_u (cg_f_rf _ _) (Nat.le_refl _), cg_f_u (cg_f_rf _ _) (Nat.le_refl _), cg_f_rf _ _, cg_f_u (cg_f_rf _ _) (Nat.le_refl _), ?_, cg_G_e hG⟩
        refine se_push hL hT pk_us pk_us (by omega) (fun E D => ?_)
        rw [ev_v0 hL hT c0, pk_us]
        unfold ev_leaf
        rw [if_neg (by omega), if_neg (by omega), if_neg (by omega), if_neg (by omega)]
      · refine ⟨sz + 1, upd op sz (nI (tk i)), upd ag sz 0, upd tg sz (nI sz), oA, upd oP D (nI (tk_ar (tk i) + 1)), cg_Elast hH hT hD hA (by rw [c0]; exact hP) (fun post H => xe_emit cn (by omega) (Nat.le_refl _) (by omega) (by omega) (by omega) (by omega) (Or.inl c0) H), by omega, by omega, cg_f_u (cg_f_rf _ _) (Nat.le_refl _), cg_f_u (cg_f_rf _ _) (Nat.le_refl _), cg_f_u (cg_f_rf _ _) (Nat.le_refl _), cg_f_rf _ _, cg_f_u (cg_f_rf _ _) (Nat.le_refl _), ?_, cg_G_e hG⟩
        exact se_0 hL hT (by omega) pk_us pk_us (by omega)
    by_cases c1 : tk_ar (tk i) = 1
    · have hn := tk_n1 hL hT c1
      rw [tk_sp_ex hok] at hn
      have hn1 := tk_T_en hL hn.1
      obtain ⟨s1, op1, ag1, tg1, oA1, oP1, R1, b1, b2, f1, f2, f3, f4, f5, gA, gP, E1, G1⟩ := cg_Epart (lo := lo) (es := es) (oQ := oQ) (oR := oR) (lT := lT) (eA := eA) (eL := eL) (op := op) (ag := ag) ih hH hT (k := 0) (by omega) (fun m' h => by omega) (j := i + 1) rfl hn.1 (by omega) (by omega) hD (by omega) hA hP hG
      have ht : tk i = 128 ∨ tk i = 139 := by
        rw [c1] at har
        split at har
        · omega
        · split at har
          · assumption
          · split at har <;> omega
      by_cases ck : op1 (s1 - 1) = 300 ∧ tk i = 139
      · obtain ⟨e1, hv1⟩ := E1.2.1 ck.1
        refine ⟨s1 - 1 + 1, upd op1 (s1 - 1) 300, upd ag1 (s1 - 1) (ev_one (ag1 (s1 - 1))), upd tg1 (s1 - 1) (nI (s1 - 1)), oA1, upd oP1 D (nI (tk_ar (tk i) + 1)), cg_Rc_tr R1 (cg_Elast hH hT hD gA (by rw [c1]; exact gP) (fun post H => ?_)), by omega, by omega, cg_f_u f1 (by omega), cg_f_u f2 (by omega), cg_f_u f3 (by omega), f4, cg_f_u f5 (Nat.le_refl _), ?_, ?_⟩
        · rw [c1] at H ⊢
          refine xe_fold (nn := 1) (by omega) (Nat.le_refl _) (by omega) (by omega) (by omega) (by omega) (by omega) (fun k a b => by rw [show k = 1 by omega]; exact ck.1) rfl H
        · rw [e1, Nat.add_sub_cancel]
          refine se_push hL hT pk_us pk_us (by omega) (fun E D => ?_)
          rw [ev_v139 hL hT ck.2, pk_us, hv1 E D]
        · rw [e1, Nat.add_sub_cancel]
          exact cg_G_e (cg_G_f hG f3)
      · refine ⟨s1 + 1, upd op1 s1 (nI (tk i)), upd ag1 s1 0, upd tg1 s1 (nI s1), oA1, upd oP1 D (nI (tk_ar (tk i) + 1)), cg_Rc_tr R1 (cg_Elast hH hT hD gA (by rw [c1]; exact gP) (fun post H => ?_)), by omega, by omega, cg_f_u f1 (by omega), cg_f_u f2 (by omega), cg_f_u f3 (by omega), f4, cg_f_u f5 (Nat.le_refl _), ?_, cg_G_e G1⟩
        · refine xe_emit (by omega) (by omega) (Nat.le_refl _) (by omega) (by omega) (by omega) (by omega) (Or.inr ?_) H
          cases ht with
          | inl ht => exact Or.inr (by omega)
          | inr ht => exact Or.inl ⟨1, by omega, by omega, fun z => ck ⟨z, ht⟩⟩
        · exact se_1 hL hT c1 (cg_Eu E1 (Nat.le_refl _)) pk_us pk_us (by omega)
    by_cases c3 : tk_ar (tk i) = 3
    · have ht : tk i = 142 := by
        rw [c3] at har
        split at har
        · omega
        · split at har
          · omega
          · split at har <;> omega
      have hn := tk_n3 hL hT c3
      rw [tk_sp_ex hok, tk_sp_ex hok, tk_sp_ex hok] at hn
      have hn1 := tk_T_en hL hn.1
      have hn2 := tk_T_en hL hn.2.1
      have hn3 := tk_T_en hL hn.2.2.1
      have hn4 := hn.2.2.2
      obtain ⟨s1, op1, ag1, tg1, oA1, oP1, R1, b1, b2, f1, f2, f3, f4, f5, gA, gP, E1, G1⟩ := cg_Epart (lo := lo) (es := es) (oQ := oQ) (oR := oR) (lT := lT) (eA := eA) (eL := eL) (op := op) (ag := ag) ih hH hT (k := 0) (by omega) (fun m' h => by omega) (j := i + 1) rfl hn.1 (by omega) (by omega) hD (by omega) hA hP hG
      obtain ⟨s2, op2, ag2, tg2, oA2, oP2, R2, b3, b4, h1, h2, h3, h4, h5, gA2, gP2, E2, G2⟩ := cg_Epart (lo := lo) (es := es) (oQ := oQ) (oR := oR) (lT := lT) (eA := eA) (eL := eL) (op := op1) (ag := ag1) ih hH hT (k := 1) (by omega) (fun m' h => by rw [show m' = 0 by omega]; exact ⟨_, hn.1⟩) (j := tk_en tk (i + 1)) rfl hn.2.1 (by omega) (by omega) hD (by omega) gA gP G1
      obtain ⟨s3, op3, ag3, tg3, oA3, oP3, R3, b5, b6, k1, k2, k3, k4, k5, gA3, gP3, E3, G3⟩ := cg_Epart (lo := lo) (es := es) (oQ := oQ) (oR := oR) (lT := lT) (eA := eA) (eL := eL) (op := op2) (ag := ag2) ih hH hT (k := 2) (by omega) (fun m' h => by
        by_cases z : m' = 0
        · rw [z]; exact ⟨_, hn.1⟩
        · rw [show m' = 1 by omega]; exact ⟨_, hn.2.1⟩) (j := tk_en tk (tk_en tk (i + 1))) rfl hn.2.2.1 (by omega) (by omega) hD (by omega) gA2 gP2 G2
      have E1' : sm_E tk op3 ag3 tg3 (i + 1) sz s1 := sm_E_tr E1 (fun j a b => ⟨(k1 j (by omega)).trans (h1 j (by omega)), (k2 j (by omega)).trans (h2 j (by omega)), (k3 j (by omega)).trans (h3 j (by omega))⟩)
      have E2' : sm_E tk op3 ag3 tg3 (tk_en tk (i + 1)) s1 s2 := sm_E_tr E2 (fun j a b => ⟨k1 j (by omega), k2 j (by omega), k3 j (by omega)⟩)
      have F1 : cg_f sz op op3 := cg_f_tr f1 (cg_f_tr h1 k1 (by omega)) (by omega)
      have F2 : cg_f sz ag ag3 := cg_f_tr f2 (cg_f_tr h2 k2 (by omega)) (by omega)
      have F3 : cg_f sz tg tg3 := cg_f_tr f3 (cg_f_tr h3 k3 (by omega)) (by omega)
      have F4 : cg_f D oA oA3 := cg_f_tr f4 (cg_f_tr h4 k4 (Nat.le_refl _)) (Nat.le_refl _)
      have F5 : cg_f D oP oP3 := cg_f_tr f5 (cg_f_tr h5 k5 (Nat.le_refl _)) (Nat.le_refl _)
      have R : cg_Rc _ _ := cg_Rc_tr R1 (cg_Rc_tr R2 R3)
      by_cases ck : op3 (s3 - 1) = 300 ∧ op3 (s3 - 2) = 300 ∧ op3 (s3 - 3) = 300
      · obtain ⟨e3, hv3⟩ := E3.2.1 ck.1
        have ck2 : op3 (s2 - 1) = 300 := by rw [show s2 - 1 = s3 - 2 by omega]; exact ck.2.1
        obtain ⟨e2, hv2⟩ := E2'.2.1 ck2
        have ck1 : op3 (s1 - 1) = 300 := by rw [show s1 - 1 = s3 - 3 by omega]; exact ck.2.2
        obtain ⟨e1, hv1⟩ := E1'.2.1 ck1
        have es : s3 = sz + 3 := by omega
        refine ⟨s3 - 3 + 1, upd op3 (s3 - 3) 300, upd ag3 (s3 - 3) (if ag3 (s3 - 3) = 0 then ag3 (s3 - 1) else ag3 (s3 - 2)), upd tg3 (s3 - 3) (nI (s3 - 3)), oA3, upd oP3 D (nI (tk_ar (tk i) + 1)), cg_Rc_tr R (cg_Elast hH hT hD gA3 (by rw [c3]; exact gP3) (fun post H => ?_)), by omega, by omega, cg_f_u F1 (by omega), cg_f_u F2 (by omega), cg_f_u F3 (by omega), F4, cg_f_u F5 (Nat.le_refl _), ?_, ?_⟩
        · rw [c3] at H ⊢
          refine xe_fold (nn := 3) (by omega) (Nat.le_refl _) (by omega) (by omega) (by omega) (by omega) (by omega) (fun k a b => ?_) rfl H
          by_cases z1 : k = 1
          · rw [z1]; exact ck.1
          by_cases z2 : k = 2
          · rw [z2]; exact ck.2.1
          · rw [show k = 3 by omega]; exact ck.2.2
        · have q1 : sz + 3 - 3 = sz := by omega
          have q2 : sz + 3 - 1 = s2 := by omega
          have q3 : sz + 3 - 2 = s1 := by omega
          rw [es, q1, q2, q3]
          refine se_push hL hT pk_us pk_us (by omega) (fun E D => ?_)
          rw [ev_v142 hL hT ht, pk_us, hv1 E D, hv2 E D, hv3 E D]
        · rw [es, show sz + 3 - 3 = sz by omega]
          exact cg_G_e (cg_G_f hG F3)
      · refine ⟨s3 + 1, upd op3 s3 (nI (tk i)), upd ag3 s3 0, upd tg3 s3 (nI s3), oA3, upd oP3 D (nI (tk_ar (tk i) + 1)), cg_Rc_tr R (cg_Elast hH hT hD gA3 (by rw [c3]; exact gP3) (fun post H => ?_)), by omega, by omega, cg_f_u F1 (by omega), cg_f_u F2 (by omega), cg_f_u F3 (by omega), F4, cg_f_u F5 (Nat.le_refl _), ?_, cg_G_e G3⟩
        · refine xe_emit (by omega) (by omega) (Nat.le_refl _) (by omega) (by omega) (by omega) (by omega) (Or.inr (Or.inl ?_)) H
          by_cases z1 : op3 (s3 - 1) = 300
          · by_cases z2 : op3 (s3 - 2) = 300
            · exact ⟨3, by omega, by omega, fun z3 => ck ⟨z1, z2, z3⟩⟩
            · exact ⟨2, by omega, by omega, z2⟩
          · exact ⟨1, by omega, by omega, z1⟩
        · exact se_3 hL hT c3 (cg_Eu E1' (by omega)) (cg_Eu E2' (by omega)) (cg_Eu E3 (Nat.le_refl _)) pk_us pk_us (by omega)
    · have c2 : tk_ar (tk i) = 2 := by
        split at har
        · omega
        · split at har
          · omega
          · split at har <;> omega
      have ht : 130 ≤ tk i ∧ tk i ≤ 141 := by
        rw [c2] at har
        split at har
        · omega
        · split at har
          · omega
          · split at har <;> omega
      have hn := tk_n2 hL hT c2
      rw [tk_sp_ex hok, tk_sp_ex hok] at hn
      have hn1 := tk_T_en hL hn.1
      have hn2 := tk_T_en hL hn.2.1
      have hn4 := hn.2.2
      obtain ⟨s1, op1, ag1, tg1, oA1, oP1, R1, b1, b2, f1, f2, f3, f4, f5, gA, gP, E1, G1⟩ := cg_Epart (lo := lo) (es := es) (oQ := oQ) (oR := oR) (lT := lT) (eA := eA) (eL := eL) (op := op) (ag := ag) ih hH hT (k := 0) (by omega) (fun m' h => by omega) (j := i + 1) rfl hn.1 (by omega) (by omega) hD (by omega) hA hP hG
      obtain ⟨s2, op2, ag2, tg2, oA2, oP2, R2, b3, b4, h1, h2, h3, h4, h5, gA2, gP2, E2, G2⟩ := cg_Epart (lo := lo) (es := es) (oQ := oQ) (oR := oR) (lT := lT) (eA := eA) (eL := eL) (op := op1) (ag := ag1) ih hH hT (k := 1) (by omega) (fun m' h => by rw [show m' = 0 by omega]; exact ⟨_, hn.1⟩) (j := tk_en tk (i + 1)) rfl hn.2.1 (by omega) (by omega) hD (by omega) gA gP G1
      have E1' : sm_E tk op2 ag2 tg2 (i + 1) sz s1 := sm_E_tr E1 (fun j a b => ⟨h1 j (by omega), h2 j (by omega), h3 j (by omega)⟩)
      have F1 : cg_f sz op op2 := cg_f_tr f1 h1 (by omega)
      have F2 : cg_f sz ag ag2 := cg_f_tr f2 h2 (by omega)
      have F3 : cg_f sz tg tg2 := cg_f_tr f3 h3 (by omega)
      have F4 : cg_f D oA oA2 := cg_f_tr f4 h4 (Nat.le_refl _)
      have F5 : cg_f D oP oP2 := cg_f_tr f5 h5 (Nat.le_refl _)
      have R : cg_Rc _ _ := cg_Rc_tr R1 R2
      by_cases ck : op2 (s2 - 1) = 300 ∧ op2 (s2 - 2) = 300
      · obtain ⟨e2, hv2⟩ := E2.2.1 ck.1
        have ck1 : op2 (s1 - 1) = 300 := by rw [show s1 - 1 = s2 - 2 by omega]; exact ck.2
        obtain ⟨e1, hv1⟩ := E1'.2.1 ck1
        have es : s2 = sz + 2 := by omega
        refine ⟨s2 - 2 + 1, upd op2 (s2 - 2) 300, upd ag2 (s2 - 2) (ev_two (tk i) (ag2 (s2 - 2)) (ag2 (s2 - 1))), upd tg2 (s2 - 2) (nI (s2 - 2)), oA2, upd oP2 D (nI (tk_ar (tk i) + 1)), cg_Rc_tr R (cg_Elast hH hT hD gA2 (by rw [c2]; exact gP2) (fun post H => ?_)), by omega, by omega, cg_f_u F1 (by omega), cg_f_u F2 (by omega), cg_f_u F3 (by omega), F4, cg_f_u F5 (Nat.le_refl _), ?_, ?_⟩
        · rw [c2] at H ⊢
          refine xe_fold (nn := 2) (by omega) (Nat.le_refl _) (by omega) (by omega) (by omega) (by omega) (by omega) (fun k a b => ?_) rfl H
          by_cases z1 : k = 1
          · rw [z1]; exact ck.1
          · rw [show k = 2 by omega]; exact ck.2
        · have q1 : sz + 2 - 2 = sz := by omega
          have q2 : sz + 2 - 1 = s1 := by omega
          rw [es, q1, q2]
          refine se_push hL hT pk_us pk_us (by omega) (fun E D => ?_)
          rw [ev_v2 hL hT c2, pk_us, hv1 E D, hv2 E D]
        · rw [es, show sz + 2 - 2 = sz by omega]
          exact cg_G_e (cg_G_f hG F3)
      · refine ⟨s2 + 1, upd op2 s2 (nI (tk i)), upd ag2 s2 0, upd tg2 s2 (nI s2), oA2, upd oP2 D (nI (tk_ar (tk i) + 1)), cg_Rc_tr R (cg_Elast hH hT hD gA2 (by rw [c2]; exact gP2) (fun post H => ?_)), by omega, by omega, cg_f_u F1 (by omega), cg_f_u F2 (by omega), cg_f_u F3 (by omega), F4, cg_f_u F5 (Nat.le_refl _), ?_, cg_G_e G2⟩
        · refine xe_emit (by omega) (by omega) (Nat.le_refl _) (by omega) (by omega) (by omega) (by omega) (Or.inr (Or.inl ?_)) H
          by_cases z1 : op2 (s2 - 1) = 300
          · exact ⟨2, by omega, by omega, fun z2 => ck ⟨z1, z2⟩⟩
          · exact ⟨1, by omega, by omega, z1⟩
        · exact se_2 hL hT c2 (cg_Eu E1' (by omega)) (cg_Eu E2 (Nat.le_refl _)) pk_us pk_us (by omega)
end
section
section
variable {u0 : SX} {tk : Nat → Nat} {p L i D sz ph k a b t lo es v : Nat} {o x dp : Int32} {op ag tg oA oP oQ oR lT eA eL : Nat → Int32} {post : SX → Prop}
/-! the way to a kind of statement -/
theorem sd_35 (H : wpX_choice (fun u => post u) (xs_cu u0 (nI sz) dp (nI lo) (nI es) op ag tg oA oP oQ oR lT eA eL) (nI i) (nI ph) (nI D)) : wpX_statement post (xs_cu u0 (nI sz) dp (nI lo) (nI es) op ag tg oA oP oQ oR lT eA eL) (nI i) (nI 35) (nI ph) (nI D) := by
  unfold wpX_statement
  exact xk_parts (t := 35) (bb := true) (by decide) (br_t rfl H)
theorem sd_56 (H : wpX_cases (fun u => post u) (xs_cu u0 (nI sz) dp (nI lo) (nI es) op ag tg oA oP oQ oR lT eA eL) (nI ph) (nI D)) : wpX_statement post (xs_cu u0 (nI sz) dp (nI lo) (nI es) op ag tg oA oP oQ oR lT eA eL) (nI i) (nI 56) (nI ph) (nI D) := by
  unfold wpX_statement
  exact xk_parts (t := 56) (bb := true) (by decide) (br_f (by decide) (br_t rfl H))
theorem sd_36 (H : wpX_whileLoop (fun u => post u) (xs_cu u0 (nI sz) dp (nI lo) (nI es) op ag tg oA oP oQ oR lT eA eL) (nI i) (nI ph) (nI D)) : wpX_statement post (xs_cu u0 (nI sz) dp (nI lo) (nI es) op ag tg oA oP oQ oR lT eA eL) (nI i) (nI 36) (nI ph) (nI D) := by
  unfold wpX_statement
  exact xk_parts (t := 36) (bb := true) (by decide) (br_f (by decide) (br_f (by decide) (br_t rfl H)))
theorem sd_37 (H : wpX_repeatLoop (fun u => post u) (xs_cu u0 (nI sz) dp (nI lo) (nI es) op ag tg oA oP oQ oR lT eA eL) (nI i) (nI ph) (nI D)) : wpX_statement post (xs_cu u0 (nI sz) dp (nI lo) (nI es) op ag tg oA oP oQ oR lT eA eL) (nI i) (nI 37) (nI ph) (nI D) := by
  unfold wpX_statement
  exact xk_parts (t := 37) (bb := true) (by decide) (br_f (by decide) (br_f (by decide) (br_f (by decide) (br_t rfl H))))
theorem sd_40 (ht : 40 ≤ t ∧ t ≤ 55) (H : wpX_forLoop (fun u => post u) (xs_cu u0 (nI sz) dp (nI lo) (nI es) op ag tg oA oP oQ oR lT eA eL) (nI i) (nI t) (nI ph) (nI D)) : wpX_statement post (xs_cu u0 (nI sz) dp (nI lo) (nI es) op ag tg oA oP oQ oR lT eA eL) (nI i) (nI t) (nI ph) (nI D) := by
  unfold wpX_statement
  have htc : (nI t).toNatClampNeg = t := nI_clamp (by omega)
  exact xk_parts (t := t) (bb := true) (by show tk_st t = true; unfold tk_st; exact decide_eq_true (by omega)) (br_f (ni_ne (b := 35) (by omega) (by omega) (by decide)) (br_f (ni_ne (b := 56) (by omega) (by omega) (by decide)) (br_f (ni_ne (b := 36) (by omega) (by omega) (by decide)) (br_f (ni_ne (b := 37) (by omega) (by omega) (by decide)) (xi_t (a := 40) (b := 16) (by decide) (by decide) (by rw [htc]; omega) (br_f (by decide) H))))))
theorem sd_39 (H : wpX_leave (fun u => post u) (xs_cu u0 (nI sz) dp (nI lo) (nI es) op ag tg oA oP oQ oR lT eA eL)) : wpX_statement post (xs_cu u0 (nI sz) dp (nI lo) (nI es) op ag tg oA oP oQ oR lT eA eL) (nI i) (nI 39) (nI ph) (nI D) := by
  unfold wpX_statement
  exact xk_parts (t := 39) (bb := true) (by decide) (br_f (by decide) (br_f (by decide) (br_f (by decide) (br_f (by decide) (xi_f (a := 40) (b := 16) (by decide) (by decide) (by decide) (br_t rfl (br_t rfl H)))))))
theorem sd_12 (ht : t = 1 ∨ t = 2) (H : post (xs_cu u0 (nI sz) dp (nI lo) (nI es) op ag tg oA oP oQ oR lT eA eL)) : wpX_statement post (xs_cu u0 (nI sz) dp (nI lo) (nI es) op ag tg oA oP oQ oR lT eA eL) (nI i) (nI t) (nI ph) (nI D) := by
  unfold wpX_statement
  cases ht with
  | inl ht =>
    subst ht
    exact xk_parts (t := 1) (bb := true) (by decide) (br_f (by decide) (br_f (by decide) (br_f (by decide) (br_f (by decide) (xi_f (a := 40) (b := 16) (by decide) (by decide) (by decide) (br_t rfl (br_f (by decide) (br_t rfl H))))))))
  | inr ht =>
    subst ht
    exact xk_parts (t := 2) (bb := true) (by decide) (br_f (by decide) (br_f (by decide) (br_f (by decide) (br_f (by decide) (xi_f (a := 40) (b := 16) (by decide) (by decide) (by decide) (br_t rfl (br_f (by decide) (br_f (by decide) (br_t rfl H)))))))))
theorem sd_pr (ht : ex_prim t) (H : ((nI ph = nI (tk_ar t) → wpX_emit (fun _ u => post u) (xs_cu u0 (nI sz) dp (nI lo) (nI es) op ag tg oA oP oQ oR lT eA eL) (nI t) 0) ∧ (¬ nI ph = nI (tk_ar t) → post (xs_cu u0 (nI sz) dp (nI lo) (nI es) op ag tg oA oP oQ oR lT eA eL)))) : wpX_statement post (xs_cu u0 (nI sz) dp (nI lo) (nI es) op ag tg oA oP oQ oR lT eA eL) (nI i) (nI t) (nI ph) (nI D) := by
  unfold wpX_statement
  unfold ex_prim at ht
  have htc : (nI t).toNatClampNeg = t := nI_clamp (by omega)
  exact xk_parts (t := t) (bb := true) (by show tk_st t = true; unfold tk_st; exact decide_eq_true (by omega)) (br_f (ni_ne (b := 35) (by omega) (by omega) (by decide)) (br_f (ni_ne (b := 56) (by omega) (by omega) (by decide)) (br_f (ni_ne (b := 36) (by omega) (by omega) (by decide)) (br_f (ni_ne (b := 37) (by omega) (by omega) (by decide)) (xi_f (a := 40) (b := 16) (by decide) (by decide) (by rw [htc]; omega) (br_t rfl (br_f (ni_ne (b := 39) (by omega) (by omega) (by decide)) (br_f (ni_ne (b := 1) (by omega) (by omega) (by decide)) (br_f (ni_ne (b := 2) (by omega) (by omega) (by decide)) H)))))))))
/-! EXIT -/
theorem sl_over (hs : sz < 400) (H : post (xs_cu u0 (nI (sz + 1)) dp (nI 0) (nI es) (upd op sz 311) (upd ag sz 0) (upd tg sz (nI sz)) oA oP oQ oR lT eA eL)) : wpX_leave post (xs_cu u0 (nI sz) dp (nI 0) (nI es) op ag tg oA oP oQ oR lT eA eL) := by
  refine br_t (by decide) ?_
  unfold wX_leave_17
  exact xc_emit hs (br_t (by decide) H)
theorem sl_exit (hs : sz < 400) (hlo : lo + 1 < 32) (hes : es < 64) (H : post (xs_cu u0 (nI (sz + 1)) dp (nI (lo + 1)) (nI (es + 1)) (upd op sz 301) (upd ag sz 0) (upd tg sz (nI sz)) oA oP oQ oR lT (upd eA es (nI sz)) (upd eL es (lT lo)))) : wpX_leave post (xs_cu u0 (nI sz) dp (nI (lo + 1)) (nI es) op ag tg oA oP oQ oR lT eA eL) := by
  refine br_f (nI_nle (by omega) (by omega)) ?_
  unfold wX_leave_17
  refine xc_emit hs (br_f (nI_nle (by omega) (by omega)) (And.intro (vp_in_nI hes (by decide)) (nm_r (e' := upd eA es (nI sz)) (by rw [nI_clamp (by omega)]) ?_)))
  rw [nI_pred, nI_clamp (by omega)]
  exact And.intro (vp_in_nI (by omega) (by decide)) (And.intro (vp_in_nI hes (by decide)) (nm_r (e' := upd eL es (lT lo)) (by rw [nI_clamp (by omega)]) (nm_r (nI_1 es) H)))
/-! IF -/
theorem sc_0 (hD : D < 64) (H : post (xs_cu u0 (nI sz) dp (nI lo) (nI es) op ag tg oA oP (upd oQ D (-1)) oR lT eA eL)) : wpX_choice post (xs_cu u0 (nI sz) dp (nI lo) (nI es) op ag tg oA oP oQ oR lT eA eL) (nI i) (nI 0) (nI D) :=
  br_f (by decide) (br_t rfl (And.intro (vp_in_nI hD (by decide)) (nm_r (e' := upd oQ D (-1)) (by rw [nI_clamp (by omega)]) H)))
theorem sc_1 (hD : D < 64) (hs1 : 1 ≤ sz) (hs : sz < 400) (hk : op (sz - 1) ≠ 300) (H : post (xs_cu u0 (nI (sz + 1)) dp (nI lo) (nI es) (upd op sz 302) (upd ag sz 0) (upd tg sz (nI sz)) oA oP (upd oQ D (nI sz)) oR lT eA eL)) : wpX_choice post (xs_cu u0 (nI sz) dp (nI lo) (nI es) op ag tg oA oP oQ oR lT eA eL) (nI i) (nI 1) (nI D) := by
  have e : nI sz - 1 = nI (sz - 1) := pk_sub (b := 1) hs1
  refine br_t rfl ?_
  rw [e, nI_clamp (by omega)]
  refine And.intro (vp_in_nI (by omega) (by decide)) (br_f hk (br_f (by decide) (br_t rfl ?_)))
  exact xc_emit hs (And.intro (vp_in_nI hD (by decide)) (nm_r (e' := upd oQ D (nI sz)) (by rw [nI_clamp (by omega)]) H))
theorem sc_1k (hH : xs_H u0 tk p L) (hD : D < 63) (hs : sz < 400) (hk : op sz = 300) (hq : oQ D = -1) (hv : ∀ m', m' < 2 → ∃ b, tk_T tk L b (tk_it tk m' (i + 1))) (H : post (xs_cu u0 (nI sz) (nI (D + 2)) (nI lo) (nI es) op ag tg (upd oA (D + 1) (nI (tk_it tk (if ag sz = 0 then 2 else 1) (i + 1)))) (upd (upd oP D 4) (D + 1) 0) (upd oQ D (-2)) oR lT eA eL)) : wpX_choice post (xs_cu u0 (nI (sz + 1)) (nI (D + 1)) (nI lo) (nI es) op ag tg oA oP oQ oR lT eA eL) (nI i) (nI 1) (nI D) := by
  refine br_t rfl ?_
  rw [nI_pred, nI_clamp (by omega : sz < 2 ^ 31), nI_clamp (by omega : D < 2 ^ 31)]
  refine And.intro (vp_in_nI (by omega) (by decide)) (br_t hk (And.intro (vp_in_nI (by omega) (by decide)) (br_f (by rw [hq]; decide) (And.intro (vp_in_nI (by omega) (by decide)) ?_))))
  by_cases z : ag sz = 0
  · rw [if_pos z] at H
    refine br_t z (nm_r (nI_pred sz) (And.intro (vp_in_nI (by omega) (by decide)) (nm_r (e' := upd oP D 4) (by rw [nI_clamp (by omega)]) (And.intro (vp_in_nI (by omega) (by decide)) (nm_r (e' := upd oQ D (-2)) (by rw [nI_clamp (by omega)]) (br_t rfl ?_))))))
    unfold wX_choice_91
    exact xc_part (k := 2) hH (by omega) hv (xc_enter (D := D + 1) (by omega) H)
  · rw [if_neg z] at H
    refine br_f z (nm_r (nI_pred sz) (And.intro (vp_in_nI (by omega) (by decide)) (nm_r (e' := upd oP D 4) (by rw [nI_clamp (by omega)]) (And.intro (vp_in_nI (by omega) (by decide)) (nm_r (e' := upd oQ D (-2)) (by rw [nI_clamp (by omega)]) (br_f (by decide) ?_))))))
    unfold wX_choice_91
    exact xc_part (k := 1) hH (by omega) (fun m' h => hv m' (by omega)) (xc_enter (D := D + 1) (by omega) H)
theorem sc_2 (hD : D < 64) (hs : sz < 400) (ha : a < 400) (hq : oQ D = nI a) (H : post (xs_cu u0 (nI (sz + 1)) dp (nI lo) (nI es) (upd op sz 301) (upd ag sz 0) (upd (upd tg sz (nI sz)) a (nI (sz + 1))) oA oP (upd oQ D (nI sz)) oR lT eA eL)) : wpX_choice post (xs_cu u0 (nI sz) dp (nI lo) (nI es) op ag tg oA oP oQ oR lT eA eL) (nI i) (nI 2) (nI D) := by
  refine br_f (by decide) (br_f (by decide) (br_f (by decide) (br_t rfl ?_)))
  refine xc_emit hs (And.intro (vp_in_nI hD (by decide)) ?_)
  rw [nI_clamp (by omega), hq]
  exact xc_patch ha (And.intro (vp_in_nI hD (by decide)) (nm_e H))
theorem sc_3 (hD : D < 64) (ha : a < 400) (hq : oQ D = nI a) (H : post (xs_cu u0 (nI sz) dp (nI lo) (nI es) op ag (upd tg a (nI sz)) oA oP oQ oR lT eA eL)) : wpX_choice post (xs_cu u0 (nI sz) dp (nI lo) (nI es) op ag tg oA oP oQ oR lT eA eL) (nI i) (nI 3) (nI D) := by
  refine br_f (by decide) (br_f (by decide) (br_f (by decide) (br_f (by decide) (br_t rfl (And.intro (vp_in_nI hD (by decide)) ?_)))))
  rw [nI_clamp (by omega), hq]
  exact xc_patch ha H
theorem sc_4 (H : post (xs_cu u0 (nI sz) dp (nI lo) (nI es) op ag tg oA oP oQ oR lT eA eL)) : wpX_choice post (xs_cu u0 (nI sz) dp (nI lo) (nI es) op ag tg oA oP oQ oR lT eA eL) (nI i) (nI 4) (nI D) :=
  br_f (by decide) (br_f (by decide) (br_f (by decide) (br_f (by decide) (br_f (by decide) H))))
/-! CASE -/
theorem sk_0 (H : post (xs_cu u0 (nI sz) dp (nI lo) (nI es) op ag tg oA oP oQ oR lT eA eL)) : wpX_cases post (xs_cu u0 (nI sz) dp (nI lo) (nI es) op ag tg oA oP oQ oR lT eA eL) (nI 0) (nI D) :=
  br_f (by decide) (br_f (by decide) (br_f (by decide) (br_f (by decide) H)))
theorem sk_1 (hD : D < 64) (hs : sz < 400) (H : post (xs_cu u0 (nI (sz + 1)) dp (nI lo) (nI es) (upd op sz 303) (upd ag sz 0) (upd tg sz (nI sz)) oA oP (upd oQ D (nI sz)) (upd oR D (-1)) lT eA eL)) : wpX_cases post (xs_cu u0 (nI sz) dp (nI lo) (nI es) op ag tg oA oP oQ oR lT eA eL) (nI 1) (nI D) :=
  br_t rfl (xc_emit hs (And.intro (vp_in_nI hD (by decide)) (nm_r (e' := upd oQ D (nI sz)) (by rw [nI_clamp (by omega)]) (And.intro (vp_in_nI hD (by decide)) (nm_r (e' := upd oR D (-1)) (by rw [nI_clamp (by omega)]) H)))))
theorem sk_2 (hD : D < 64) (hs : sz + 1 < 400) (ha : a < 400) (hq : oQ D = nI a) (H : post (xs_cu u0 (nI (sz + 2)) dp (nI lo) (nI es) (upd (upd op sz 301) (sz + 1) 303) (upd (upd ag sz 0) (sz + 1) 1) (upd (upd (upd tg sz (nI sz)) a (nI (sz + 1))) (sz + 1) (nI (sz + 1))) oA oP (upd oQ D (nI (sz + 1))) (upd oR D (nI sz)) lT eA eL)) : wpX_cases post (xs_cu u0 (nI sz) dp (nI lo) (nI es) op ag tg oA oP oQ oR lT eA eL) (nI 2) (nI D) := by
  refine br_f (by decide) (br_t rfl ?_)
  refine xc_emit (by omega) (And.intro (vp_in_nI hD (by decide)) (nm_r (e' := upd oR D (nI sz)) (by rw [nI_clamp (by omega)]) (And.intro (vp_in_nI hD (by decide)) ?_)))
  rw [nI_clamp (by omega), hq]
  refine xc_patch ha ?_
  exact xc_emit (sz := sz + 1) hs (And.intro (vp_in_nI hD (by decide)) (nm_e H))
theorem sk_3 (hD : D < 64) (hs : sz + 1 < 400) (ha : a < 400) (hq : oQ D = nI a) (H : post (xs_cu u0 (nI (sz + 2)) dp (nI lo) (nI es) (upd (upd op sz 301) (sz + 1) 304) (upd (upd ag sz 0) (sz + 1) 0) (upd (upd (upd tg sz (nI sz)) a (nI (sz + 1))) (sz + 1) (nI (sz + 1))) oA oP (upd oQ D (nI sz)) oR lT eA eL)) : wpX_cases post (xs_cu u0 (nI sz) dp (nI lo) (nI es) op ag tg oA oP oQ oR lT eA eL) (nI 3) (nI D) := by
  refine br_f (by decide) (br_f (by decide) (br_t rfl ?_))
  refine xc_emit (by omega) (And.intro (vp_in_nI hD (by decide)) ?_)
  rw [nI_clamp (by omega), hq]
  refine xc_patch ha ?_
  exact xc_emit (sz := sz + 1) hs (And.intro (vp_in_nI hD (by decide)) (nm_e H))
theorem sk_4 (hD : D < 64) (ha : a < 400) (hb : b < 400) (hq : oQ D = nI a) (hr : oR D = nI b) (H : post (xs_cu u0 (nI sz) dp (nI lo) (nI es) op ag (upd (upd tg a (nI sz)) b (nI sz)) oA oP oQ oR lT eA eL)) : wpX_cases post (xs_cu u0 (nI sz) dp (nI lo) (nI es) op ag tg oA oP oQ oR lT eA eL) (nI 4) (nI D) := by
  refine br_f (by decide) (br_f (by decide) (br_f (by decide) (br_t rfl (And.intro (vp_in_nI hD (by decide)) ?_))))
  rw [nI_clamp (by omega), hq]
  refine xc_patch ha (And.intro (vp_in_nI hD (by decide)) ?_)
  rw [hr]
  exact xc_patch hb H
/-! loops -/
theorem sw_0 (hD : D < 64) (hs : sz + 1 < 400) (hlo : lo < 32) (H : post (xs_cu u0 (nI (sz + 2)) dp (nI (lo + 1)) (nI es) (upd (upd op sz 305) (sz + 1) 306) (upd (upd ag sz (nI lo)) (sz + 1) (nI lo)) (upd (upd tg sz (nI sz)) (sz + 1) (nI (sz + 1))) oA oP (upd oQ D (nI (sz + 1))) oR (upd lT lo (nI i)) eA eL)) : wpX_whileLoop post (xs_cu u0 (nI sz) dp (nI lo) (nI es) op ag tg oA oP oQ oR lT eA eL) (nI i) (nI 0) (nI D) := by
  refine br_t rfl ?_
  refine xc_emit (by omega) (And.intro (vp_in_nI hlo (by decide)) (nm_r (e' := upd lT lo (nI i)) (by rw [nI_clamp (by omega)]) ?_))
  exact xc_emit (sz := sz + 1) hs (And.intro (vp_in_nI hD (by decide)) (nm_r (e' := upd oQ D (nI (sz + 1))) (by rw [nI_clamp (by omega)]) (nm_r (nI_1 lo) H)))
theorem sw_1 (hD : D < 64) (hs : sz < 400) (H : post (xs_cu u0 (nI (sz + 1)) dp (nI lo) (nI es) (upd op sz 302) (upd ag sz 0) (upd tg sz (nI sz)) oA oP oQ (upd oR D (nI sz)) lT eA eL)) : wpX_whileLoop post (xs_cu u0 (nI sz) dp (nI lo) (nI es) op ag tg oA oP oQ oR lT eA eL) (nI i) (nI 1) (nI D) :=
  br_f (by decide) (br_t rfl (xc_emit hs (And.intro (vp_in_nI hD (by decide)) (nm_r (e' := upd oR D (nI sz)) (by rw [nI_clamp (by omega)]) H))))
theorem sr_0 (hD : D < 64) (hs : sz + 1 < 400) (hlo : lo < 32) (H : post (xs_cu u0 (nI (sz + 2)) dp (nI (lo + 1)) (nI es) (upd (upd op sz 305) (sz + 1) 306) (upd (upd ag sz (nI lo)) (sz + 1) (nI lo)) (upd (upd tg sz (nI sz)) (sz + 1) (nI (sz + 1))) oA oP (upd oQ D (nI (sz + 1))) oR (upd lT lo (nI i)) eA eL)) : wpX_repeatLoop post (xs_cu u0 (nI sz) dp (nI lo) (nI es) op ag tg oA oP oQ oR lT eA eL) (nI i) (nI 0) (nI D) := by
  refine br_t rfl ?_
  refine xc_emit (by omega) (And.intro (vp_in_nI hlo (by decide)) (nm_r (e' := upd lT lo (nI i)) (by rw [nI_clamp (by omega)]) ?_))
  exact xc_emit (sz := sz + 1) hs (And.intro (vp_in_nI hD (by decide)) (nm_r (e' := upd oQ D (nI (sz + 1))) (by rw [nI_clamp (by omega)]) (nm_r (nI_1 lo) H)))
theorem sr_1 (H : post (xs_cu u0 (nI sz) dp (nI lo) (nI es) op ag tg oA oP oQ oR lT eA eL)) : wpX_repeatLoop post (xs_cu u0 (nI sz) dp (nI (lo + 1)) (nI es) op ag tg oA oP oQ oR lT eA eL) (nI i) (nI 1) (nI D) :=
  br_f (by decide) (br_t rfl (nm_r (nI_pred lo) H))
theorem sf_n (ht : t < 1000) (hp : ph = 0 ∨ ph = 1) (H : post (xs_cu u0 (nI sz) dp (nI lo) (nI es) op ag tg oA oP oQ oR lT eA eL)) : wpX_forLoop post (xs_cu u0 (nI sz) dp (nI lo) (nI es) op ag tg oA oP oQ oR lT eA eL) (nI i) (nI t) (nI ph) (nI D) :=
  nm_e (br_f (ni_ne (b := 2) (by omega) (by omega) (by decide)) (br_f (ni_ne (b := 3) (by omega) (by omega) (by decide)) H))
theorem sf_2 (ht : 40 ≤ t ∧ t ≤ 55) (hD : D < 64) (hs : sz + 2 < 400) (hlo : lo < 32) (H : post (xs_cu u0 (nI (sz + 3)) dp (nI (lo + 1)) (nI es) (upd (upd (upd op sz 308) (sz + 1) (nI (10 + (t - 40)))) (sz + 2) 309) (upd (upd (upd ag sz (nI lo)) (sz + 1) 0) (sz + 2) (nI (32 * (t - 40) + lo))) (upd (upd (upd tg sz (nI sz)) (sz + 1) (nI (sz + 1))) (sz + 2) (nI (sz + 2))) oA oP (upd oQ D (nI (sz + 2))) oR (upd lT lo (nI i)) eA eL)) : wpX_forLoop post (xs_cu u0 (nI sz) dp (nI lo) (nI es) op ag tg oA oP oQ oR lT eA eL) (nI i) (nI t) (nI 2) (nI D) := by
  have e40 : nI t - 40 = nI (t - 40) := pk_sub (b := 40) ht.1
  have e10 : 10 + nI (t - 40) = nI (10 + (t - 40)) := nI_add 10 _
  have e32 : 32 * nI (t - 40) + nI lo = nI (32 * (t - 40) + lo) := by
    rw [← nI_add]
    exact congrArg (· + nI lo) (pk_mul 32 _)
  refine nm_r e40 (br_t rfl ?_)
  rw [e10]
  refine xc_emit (by omega) ?_
  refine xc_emit (sz := sz + 1) (by omega) (And.intro (vp_in_nI hlo (by decide)) (nm_r (e' := upd lT lo (nI i)) (by rw [nI_clamp (by omega)]) ?_))
  rw [e32]
  exact xc_emit (sz := sz + 2) hs (And.intro (vp_in_nI hD (by decide)) (nm_r (e' := upd oQ D (nI (sz + 2))) (by rw [nI_clamp (by omega)]) (nm_r (nI_1 lo) H)))
/-- jumps out of a loop get their target -/
theorem sx_close : ∀ (m k : Nat) (tg : Nat → Int32), k + m = es → es ≤ 64 → (∀ q, k ≤ q → q < es → eL q = nI i → ∃ a, a < 400 ∧ eA q = nI a) → ∃ tg', (∀ post : SX → Prop, post (xs_cu u0 (nI sz) dp (nI lo) (nI es) op ag tg' oA oP oQ oR lT eA eL) → wX_closeLoop_2 post (nI i) (m + 1) (nI k) (gx_time u0) (gx_active u0) (gx_isRunning u0) (gx_wantedCount u0) (nI sz) dp (nI lo) (nI es) (gx_height u0) (gx_allRounds u0) (gx_isOver u0) (gx_variables u0) (gx_row u0) (gx_inputs u0) (gx_taken u0) (gx_outputs u0) (gx_timerOn u0) (gx_timerBegin u0) (gx_counterLast u0) (gx_edgeLast u0) (gx_blocks u0) (gx_tokens u0) (gx_tokenCount u0) (gx_wanted u0) (gx_spans u0) op ag tg oA oP oQ oR lT eA eL (gx_stack u0) (gx_loopRounds u0) (gx_loopLast u0)) ∧ (∀ j, (∃ q, k ≤ q ∧ q < es ∧ eL q = nI i ∧ eA q = nI j) → j < 400 → tg' j = nI sz) ∧ (∀ j, ¬ (∃ q, k ≤ q ∧ q < es ∧ eL q = nI i ∧ eA q = nI j) → tg' j = tg j) := by
  intro m
  induction m with
  | zero =>
    intro k tg hk he _
    refine ⟨tg, fun post H => br_t (nI_le (by omega) (by omega)) H, fun j hj _ => ?_, fun _ _ => rfl⟩
    obtain ⟨q, a, b, _⟩ := hj
    omega
  | succ m ih =>
    intro k tg hk he ha
    by_cases z : eL k = nI i
    · obtain ⟨a, ha4, ea⟩ := ha k (Nat.le_refl _) (by omega) z
      obtain ⟨tg', h1, h2, h3⟩ := ih (k + 1) (upd tg a (nI sz)) (by omega) he (fun q x y => ha q (by omega) y)
      refine ⟨tg', fun post H => br_f (nI_ge (by omega) (by omega)) (And.intro (vp_in_nI (by omega) (by decide)) ?_), fun j hj hj4 => ?_, fun j hj => ?_⟩
      · rw [nI_clamp (by omega)]
        refine br_t z (And.intro (vp_in_nI (by omega) (by decide)) ?_)
        rw [ea]
        exact xc_patch ha4 (nm_r (nI_1 k) (h1 post H))
      · by_cases w : ∃ q, k + 1 ≤ q ∧ q < es ∧ eL q = nI i ∧ eA q = nI j
        · exact h2 j w hj4
        · rw [h3 j w]
          obtain ⟨q, a1, a2, a3, a4⟩ := hj
          by_cases e : q = k
          · rw [e, ea] at a4
            have := (nI_eq (by omega) (by omega)).mp a4
            rw [← this]
            exact pk_us
          · exact absurd ⟨q, by omega, a2, a3, a4⟩ w
      · rw [h3 j (fun ⟨q, a1, a2, a3, a4⟩ => hj ⟨q, by omega, a2, a3, a4⟩)]
        refine pk_un (fun e => hj ⟨k, Nat.le_refl _, by omega, z, ?_⟩)
        rw [e, ea]
    · obtain ⟨tg', h1, h2, h3⟩ := ih (k + 1) tg (by omega) he (fun q x y => ha q (by omega) y)
      refine ⟨tg', fun post H => br_f (nI_ge (by omega) (by omega)) (And.intro (vp_in_nI (by omega) (by decide)) ?_), fun j hj hj4 => ?_, fun j hj => ?_⟩
      · rw [nI_clamp (by omega)]
        exact br_f z (nm_r (nI_1 k) (h1 post H))
      · obtain ⟨q, a1, a2, a3, a4⟩ := hj
        by_cases e : q = k
        · rw [e] at a3
          exact absurd a3 z
        · exact h2 j ⟨q, by omega, a2, a3, a4⟩ hj4
      · exact h3 j (fun ⟨q, a1, a2, a3, a4⟩ => hj ⟨q, by omega, a2, a3, a4⟩)
theorem sx_closeL (hes : es ≤ 64) (ha : ∀ q, q < es → eL q = nI i → ∃ a, a < 400 ∧ eA q = nI a) : ∃ tg', (∀ post : SX → Prop, post (xs_cu u0 (nI sz) dp (nI lo) (nI es) op ag tg' oA oP oQ oR lT eA eL) → wpX_closeLoop post (xs_cu u0 (nI sz) dp (nI lo) (nI es) op ag tg oA oP oQ oR lT eA eL) (nI i)) ∧ (∀ j, (∃ q, q < es ∧ eL q = nI i ∧ eA q = nI j) → j < 400 → tg' j = nI sz) ∧ (∀ j, ¬ (∃ q, q < es ∧ eL q = nI i ∧ eA q = nI j) → tg' j = tg j) := by
  obtain ⟨tg', h1, h2, h3⟩ := sx_close (u0 := u0) (dp := dp) (op := op) (ag := ag) (oA := oA) (oP := oP) (oQ := oQ) (oR := oR) (lT := lT) (sz := sz) (lo := lo) es 0 tg (by omega) hes (fun q _ y z => ha q y z)
  refine ⟨tg', fun post H => ⟨es + 1, h1 post H⟩, fun j ⟨q, a, b, c⟩ => h2 j ⟨q, by omega, a, b, c⟩, fun j hj => h3 j (fun ⟨q, _, a, b, c⟩ => hj ⟨q, a, b, c⟩)⟩
/-- the end of WHILE, REPEAT and FOR, up to the patches -/
theorem sw_2 (hD : D < 64) (hs : sz < 400) (ha : a < 400) (hb : b < 400) (hq : oQ D = nI a) (hr : oR D = nI b) (H : wpX_closeLoop (fun u => post u) (xs_cu u0 (nI (sz + 1)) dp (nI lo) (nI es) (upd op sz 301) (upd ag sz 0) (upd (upd (upd (upd tg sz (nI sz)) sz (nI a)) b (nI (sz + 1))) a (nI (sz + 1))) oA oP oQ oR lT eA eL) (nI i)) : wpX_whileLoop post (xs_cu u0 (nI sz) dp (nI (lo + 1)) (nI es) op ag tg oA oP oQ oR lT eA eL) (nI i) (nI 2) (nI D) := by
  refine br_f (by decide) (br_f (by decide) (br_t rfl (nm_r (nI_pred lo) ?_)))
  refine xc_emit hs (And.intro (vp_in_nI hD (by decide)) (And.intro (vp_in_nI hs (by decide)) (nm_r (e' := upd (upd tg sz (nI sz)) sz (nI a)) (by rw [nI_clamp (by omega), nI_clamp (by omega)]; show upd _ _ (oQ D) = _; rw [hq]) (And.intro (vp_in_nI hD (by decide)) ?_))))
  rw [nI_clamp (by omega), hr]
  refine xc_patch hb (And.intro (vp_in_nI hD (by decide)) ?_)
  rw [hq]
  exact xc_patch ha H
theorem sr_2 (hD : D < 64) (hs : sz < 400) (ha : a < 400) (hq : oQ D = nI a) (H : wpX_closeLoop (fun u => post u) (xs_cu u0 (nI (sz + 1)) dp (nI lo) (nI es) (upd op sz 307) (upd ag sz 0) (upd (upd (upd tg sz (nI sz)) sz (nI a)) a (nI (sz + 1))) oA oP oQ oR lT eA eL) (nI i)) : wpX_repeatLoop post (xs_cu u0 (nI sz) dp (nI lo) (nI es) op ag tg oA oP oQ oR lT eA eL) (nI i) (nI 2) (nI D) := by
  refine br_f (by decide) (br_f (by decide) (br_t rfl ?_))
  refine xc_emit hs (And.intro (vp_in_nI hD (by decide)) (And.intro (vp_in_nI hs (by decide)) (nm_r (e' := upd (upd tg sz (nI sz)) sz (nI a)) (by rw [nI_clamp (by omega), nI_clamp (by omega)]; show upd _ _ (oQ D) = _; rw [hq]) (And.intro (vp_in_nI hD (by decide)) ?_))))
  rw [nI_clamp (by omega), hq]
  exact xc_patch ha H
theorem sf_3 (ht : 40 ≤ t ∧ t ≤ 55) (hD : D < 64) (hs : sz + 1 < 400) (ha : a < 400) (hq : oQ D = nI a) (H : wpX_closeLoop (fun u => post u) (xs_cu u0 (nI (sz + 2)) dp (nI lo) (nI es) (upd (upd op sz 310) (sz + 1) 301) (upd (upd ag sz (nI (t - 40))) (sz + 1) 0) (upd (upd (upd (upd tg sz (nI sz)) (sz + 1) (nI (sz + 1))) (sz + 1) (nI a)) a (nI (sz + 2))) oA oP oQ oR lT eA eL) (nI i)) : wpX_forLoop post (xs_cu u0 (nI sz) dp (nI (lo + 1)) (nI es) op ag tg oA oP oQ oR lT eA eL) (nI i) (nI t) (nI 3) (nI D) := by
  have e40 : nI t - 40 = nI (t - 40) := pk_sub (b := 40) ht.1
  refine nm_r e40 (br_f (by decide) (br_t rfl (nm_r (nI_pred lo) ?_)))
  refine xc_emit (by omega) ?_
  refine xc_emit (sz := sz + 1) hs (And.intro (vp_in_nI hD (by decide)) (And.intro (vp_in_nI hs (by decide)) (nm_r (e' := upd (upd (upd tg sz (nI sz)) (sz + 1) (nI (sz + 1))) (sz + 1) (nI a)) (by rw [nI_clamp (by omega), nI_clamp (by omega)]; show upd _ _ (oQ D) = _; rw [hq]) (And.intro (vp_in_nI hD (by decide)) ?_))))
  rw [nI_clamp (by omega), hq]
  exact xc_patch ha H
end
end
section
/-- jumps out of the loop around, kept at k0 .. k1 -/
def cg_X (lT eA eL : Nat → Int32) (lo k0 k1 : Nat) (a : Nat) : Prop := 0 < lo ∧ ∃ k, k0 ≤ k ∧ k < k1 ∧ eL k = lT (lo - 1) ∧ eA k = nI a
/-- what is kept at k0 .. k1: jumps out of the loop around, which stand in a0 .. a1, or out of loops that begin in i0 .. i1 -/
def cg_Z (lT eA eL : Nat → Int32) (lo k0 k1 a0 a1 i0 i1 : Nat) : Prop := ∀ k, k0 ≤ k → k < k1 → (0 < lo ∧ eL k = lT (lo - 1) ∧ ∃ a, a0 ≤ a ∧ a < a1 ∧ eA k = nI a) ∨ (∃ j, i0 ≤ j ∧ j < i1 ∧ eL k = nI j)
/-- the first n loops begin before i -/
def cg_L (lT : Nat → Int32) (n i : Nat) : Prop := ∀ l, l < n → ∃ j, j < i ∧ lT l = nI j
section
variable {lT lT1 eA eL eA1 eL1 eA2 eL2 : Nat → Int32} {lo es es1 es2 k0 k1 a0 a1 b0 b1 c0 c1 i0 i1 j0 j1 m0 m1 j i n : Nat}
theorem cg_L_f (h : cg_L lT n i) (hf : cg_f n lT lT1) (hi : i ≤ j) : cg_L lT1 n j := fun l hl => by
  obtain ⟨x, a, b⟩ := h l hl
  exact ⟨x, by omega, (hf l hl).trans b⟩
theorem cg_Xn (hZ : cg_Z lT eA eL lo k0 k1 a0 a1 i0 i1) (hL : cg_L lT lo i0) (ha : a1 ≤ 1000) (hi : i1 ≤ 1000) (hj : j < 1000) (hn : ¬ (a0 ≤ j ∧ j < a1)) : ¬ cg_X lT eA eL lo k0 k1 j := by
  intro ⟨hlo, k, h1, h2, h3, h4⟩
  rcases hZ k h1 h2 with ⟨_, _, a, x1, x2, x3⟩ | ⟨q, x1, x2, x3⟩
  · rw [x3] at h4
    have := (nI_eq (by omega) (by omega)).mp h4
    omega
  · obtain ⟨y, y1, y2⟩ := hL (lo - 1) (by omega)
    rw [x3, y2] at h3
    have := (nI_eq (by omega) (by omega)).mp h3
    omega
theorem cg_X_e : ¬ cg_X lT eA eL lo es es j := by
  intro ⟨_, k, h1, h2, _⟩
  omega
theorem cg_X_join (h1 : es ≤ es1) (h2 : es1 ≤ es2) (fA : cg_f es1 eA1 eA2) (fL : cg_f es1 eL1 eL2) (fT : cg_f lo lT lT1) : cg_X lT eA2 eL2 lo es es2 j ↔ cg_X lT eA1 eL1 lo es es1 j ∨ cg_X lT1 eA2 eL2 lo es1 es2 j := by
  constructor
  · intro ⟨hlo, k, a, b, c, d⟩
    by_cases z : k < es1
    · exact Or.inl ⟨hlo, k, a, z, (fL k z).symm.trans c, (fA k z).symm.trans d⟩
    · exact Or.inr ⟨hlo, k, by omega, b, c.trans (fT (lo - 1) (by omega)).symm, d⟩
  · intro h
    rcases h with ⟨hlo, k, a, b, c, d⟩ | ⟨hlo, k, a, b, c, d⟩
    · exact ⟨hlo, k, a, by omega, (fL k b).trans c, (fA k b).trans d⟩
    · exact ⟨hlo, k, by omega, b, c.trans (fT (lo - 1) (by omega)), d⟩
theorem cg_Z_join (Z1 : cg_Z lT eA1 eL1 lo es es1 a0 a1 i0 i1) (Z2 : cg_Z lT1 eA2 eL2 lo es1 es2 b0 b1 j0 j1) (fA : cg_f es1 eA1 eA2) (fL : cg_f es1 eL1 eL2) (fT : cg_f lo lT lT1)
    (q1 : c0 ≤ a0) (q2 : c0 ≤ b0) (q3 : a1 ≤ c1) (q4 : b1 ≤ c1) (q5 : m0 ≤ i0) (q6 : m0 ≤ j0) (q7 : i1 ≤ m1) (q8 : j1 ≤ m1) : cg_Z lT eA2 eL2 lo es es2 c0 c1 m0 m1 := by
  intro k h1 h2
  by_cases z : k < es1
  · rcases Z1 k h1 z with ⟨hlo, x, a, y1, y2, y3⟩ | ⟨q, x1, x2, x3⟩
    · exact Or.inl ⟨hlo, (fL k z).trans x, a, by omega, by omega, (fA k z).trans y3⟩
    · exact Or.inr ⟨q, by omega, by omega, (fL k z).trans x3⟩
  · rcases Z2 k (by omega) h2 with ⟨hlo, x, a, y1, y2, y3⟩ | ⟨q, x1, x2, x3⟩
    · exact Or.inl ⟨hlo, x.trans (fT (lo - 1) (by omega)), a, by omega, by omega, y3⟩
    · exact Or.inr ⟨q, by omega, by omega, x3⟩
theorem cg_Z_w (Z1 : cg_Z lT eA1 eL1 lo es es1 a0 a1 i0 i1) (q1 : c0 ≤ a0) (q3 : a1 ≤ c1) (q5 : m0 ≤ i0) (q7 : i1 ≤ m1) : cg_Z lT eA1 eL1 lo es es1 c0 c1 m0 m1 := by
  intro k h1 h2
  rcases Z1 k h1 h2 with ⟨hlo, x, a, y1, y2, y3⟩ | ⟨q, x1, x2, x3⟩
  · exact Or.inl ⟨hlo, x, a, by omega, by omega, y3⟩
  · exact Or.inr ⟨q, by omega, by omega, x3⟩
theorem cg_Z_e : cg_Z lT eA eL lo es es a0 a1 i0 i1 := fun k h1 h2 => by omega
/-- what is kept belongs to loops that begin before i1 -/
theorem cg_eL (hL : cg_L lT lo i0) (ho : ∀ k, k < es → ∃ j, j < i0 ∧ eL k = nI j) (fL : cg_f es eL eL1) (Z : cg_Z lT eA1 eL1 lo es es1 a0 a1 j0 i1) (hi : i0 ≤ i1) : ∀ k, k < es1 → ∃ j, j < i1 ∧ eL1 k = nI j := by
  intro k hk
  by_cases z : k < es
  · obtain ⟨j, a, b⟩ := ho k z
    exact ⟨j, by omega, (fL k z).trans b⟩
  · rcases Z k (by omega) hk with ⟨hlo, x, _⟩ | ⟨q, x1, x2, x3⟩
    · obtain ⟨j, a, b⟩ := hL (lo - 1) (by omega)
      exact ⟨j, by omega, x.trans b⟩
    · exact ⟨q, x2, x3⟩
end
/-- what the making of a statement's code comes to -/
def cg_PS (u0 : SX) (tk : Nat → Nat) (L f : Nat) : Prop :=
  ∀ (i D sz lo es : Nat) (op ag tg oA oP oQ oR lT eA eL : Nat → Int32), tk_T tk L true i → tk_en tk i - i ≤ f → D ≤ i → sz ≤ 5 * i → 2 * lo + tk_en tk i ≤ i + L → es ≤ i → oA D = nI i → oP D = nI 0 → cg_G tg sz → cg_L lT lo i → (∀ k, k < es → ∃ j, j < i ∧ eL k = nI j) →
    ∃ (sz' es' : Nat) (op' ag' tg' oA' oP' oQ' oR' lT' eA' eL' : Nat → Int32), cg_Rc (xs_cu u0 (nI sz) (nI (D + 1)) (nI lo) (nI es) op ag tg oA oP oQ oR lT eA eL) (xs_cu u0 (nI sz') (nI D) (nI lo) (nI es') op' ag' tg' oA' oP' oQ' oR' lT' eA' eL') ∧
      (sz ≤ sz' ∧ sz' ≤ sz + 5 * (tk_en tk i - i)) ∧ (es ≤ es' ∧ es' ≤ es + (tk_en tk i - i)) ∧ (cg_f sz op op' ∧ cg_f sz ag ag' ∧ cg_f sz tg tg') ∧ (cg_f D oA oA' ∧ cg_f D oP oP' ∧ cg_f D oQ oQ' ∧ cg_f D oR oR') ∧ (cg_f lo lT lT' ∧ cg_f es eA eA' ∧ cg_f es eL eL') ∧ cg_G tg' sz' ∧
      cg_Z lT eA' eL' lo es es' sz sz' i (tk_en tk i) ∧ sm_S tk f op' ag' tg' i sz sz' lo (cg_X lT eA' eL' lo es es')
section
variable {u0 : SX} {tk : Nat → Nat} {p L f i j D sz sz1 k lo lo1 es es1 : Nat} {op ag tg oA oP oQ oR lT eA eL op1 ag1 tg1 oQ1 oR1 lT1 eA1 eL1 : Nat → Int32}
/-- an expression in a statement -/
theorem cg_SpE (hH : xs_H u0 tk p L) (hT : tk_T tk L true i) (hk : k < tk_ar (tk i)) (hv : ∀ m', m' < k → ∃ b, tk_T tk L b (tk_it tk m' (i + 1))) (hj : tk_it tk k (i + 1) = j) (hTj : tk_T tk L false j) (hij : i < j) (hD : D ≤ i) (hA : oA D = nI i) (hP : oP D = nI k)
    (hw : ∀ post : SX → Prop, post (xs_cu u0 (nI sz1) (nI (D + 1)) (nI lo1) (nI es1) op1 ag1 tg1 oA (upd oP D (nI (k + 1))) oQ1 oR1 lT1 eA1 eL1) → wpX_statement post (xs_cu u0 (nI sz) (nI (D + 1)) (nI lo) (nI es) op ag tg oA (upd oP D (nI (k + 1))) oQ oR lT eA eL) (nI i) (nI (tk i)) (nI k) (nI D)) (hsz : sz1 ≤ 5 * j) (hG : cg_G tg1 sz1) :
    ∃ (sz' : Nat) (op' ag' tg' oA' oP' : Nat → Int32), cg_Rc (xs_cu u0 (nI sz) (nI (D + 1)) (nI lo) (nI es) op ag tg oA oP oQ oR lT eA eL) (xs_cu u0 (nI sz') (nI (D + 1)) (nI lo1) (nI es1) op' ag' tg' oA' oP' oQ1 oR1 lT1 eA1 eL1) ∧
      (sz1 < sz' ∧ sz' ≤ sz1 + 5 * (tk_en tk j - j)) ∧ (cg_f sz1 op1 op' ∧ cg_f sz1 ag1 ag' ∧ cg_f sz1 tg1 tg') ∧ (cg_f D oA oA' ∧ cg_f D oP oP') ∧ (oA' D = nI i ∧ oP' D = nI (k + 1)) ∧ sm_E tk op' ag' tg' j sz1 sz' ∧ cg_G tg' sz' := by
  have hL : L ≤ 60 := hH.2.2.1
  have hen := tk_T_en hL hT
  have henj := tk_T_en hL hTj
  have har := tk_ar_le (tk i)
  obtain ⟨sz', op', ag', tg', oA', oP', R, h1, h2, f1, f2, f3, f4, f5, hE, hG'⟩ := cg_E hH 60 j (D + 1) sz1 (nI lo1) (nI es1) op1 ag1 tg1 (upd oA (D + 1) (nI j)) (upd (upd oP D (nI (k + 1))) (D + 1) 0) oQ1 oR1 lT1 eA1 eL1 hTj (by omega) (by omega) hsz pk_us pk_us hG
  refine ⟨sz', op', ag', tg', oA', oP', cg_Rc_tr ⟨1, fun post n H => ?_⟩ R, ⟨h1, h2⟩, ⟨f1, f2, f3⟩, ⟨?_, ?_⟩, ⟨?_, ?_⟩, hE, hG'⟩
  · refine cg_itS hH hT (by omega) hA hP (hw _ ?_)
    rw [← hj] at H
    exact cg_enter hH (by omega) har hk hv H
  · exact fun q hq => (f4 q (by omega)).trans (pk_un (by omega))
  · exact fun q hq => (f5 q (by omega)).trans ((pk_un (by omega)).trans (pk_un (by omega)))
  · exact (f4 D (by omega)).trans ((pk_un (by omega)).trans hA)
  · exact (f5 D (by omega)).trans ((pk_un (by omega)).trans pk_us)
/-- a statement in a statement -/
theorem cg_SpS (ih : cg_PS u0 tk L f) (hH : xs_H u0 tk p L) (hT : tk_T tk L true i) (hk : k < tk_ar (tk i)) (hv : ∀ m', m' < k → ∃ b, tk_T tk L b (tk_it tk m' (i + 1))) (hj : tk_it tk k (i + 1) = j) (hTj : tk_T tk L true j) (hf : tk_en tk j - j ≤ f) (hij : i < j) (hD : D ≤ i) (hA : oA D = nI i) (hP : oP D = nI k)
    (hw : ∀ post : SX → Prop, post (xs_cu u0 (nI sz1) (nI (D + 1)) (nI lo1) (nI es1) op1 ag1 tg1 oA (upd oP D (nI (k + 1))) oQ1 oR1 lT1 eA1 eL1) → wpX_statement post (xs_cu u0 (nI sz) (nI (D + 1)) (nI lo) (nI es) op ag tg oA (upd oP D (nI (k + 1))) oQ oR lT eA eL) (nI i) (nI (tk i)) (nI k) (nI D)) (hsz : sz1 ≤ 5 * j) (hlo : 2 * lo1 + tk_en tk j ≤ j + L) (hes : es1 ≤ j) (hG : cg_G tg1 sz1) (hLt : cg_L lT1 lo1 j) (heL : ∀ k, k < es1 → ∃ q, q < j ∧ eL1 k = nI q) :
    ∃ (sz' es' : Nat) (op' ag' tg' oA' oP' oQ' oR' lT' eA' eL' : Nat → Int32), cg_Rc (xs_cu u0 (nI sz) (nI (D + 1)) (nI lo) (nI es) op ag tg oA oP oQ oR lT eA eL) (xs_cu u0 (nI sz') (nI (D + 1)) (nI lo1) (nI es') op' ag' tg' oA' oP' oQ' oR' lT' eA' eL') ∧
      (sz1 ≤ sz' ∧ sz' ≤ sz1 + 5 * (tk_en tk j - j)) ∧ (es1 ≤ es' ∧ es' ≤ es1 + (tk_en tk j - j)) ∧ (cg_f sz1 op1 op' ∧ cg_f sz1 ag1 ag' ∧ cg_f sz1 tg1 tg') ∧ (cg_f D oA oA' ∧ cg_f D oP oP' ∧ cg_f D oQ1 oQ' ∧ cg_f D oR1 oR') ∧ (oA' D = nI i ∧ oP' D = nI (k + 1) ∧ oQ' D = oQ1 D ∧ oR' D = oR1 D) ∧ (cg_f lo1 lT1 lT' ∧ cg_f es1 eA1 eA' ∧ cg_f es1 eL1 eL') ∧ cg_G tg' sz' ∧
      cg_Z lT1 eA' eL' lo1 es1 es' sz1 sz' j (tk_en tk j) ∧ sm_S tk f op' ag' tg' j sz1 sz' lo1 (cg_X lT1 eA' eL' lo1 es1 es') := by
  have hL : L ≤ 60 := hH.2.2.1
  have hen := tk_T_en hL hT
  have henj := tk_T_en hL hTj
  have har := tk_ar_le (tk i)
  obtain ⟨sz', es', op', ag', tg', oA', oP', oQ', oR', lT', eA', eL', R, h1, h2, f1, ⟨f4, f5, f6, f7⟩, f8, hG', hZ, hS⟩ := ih j (D + 1) sz1 lo1 es1 op1 ag1 tg1 (upd oA (D + 1) (nI j)) (upd (upd oP D (nI (k + 1))) (D + 1) 0) oQ1 oR1 lT1 eA1 eL1 hTj hf (by omega) hsz hlo hes pk_us pk_us hG hLt heL
  refine ⟨sz', es', op', ag', tg', oA', oP', oQ', oR', lT', eA', eL', cg_Rc_tr ⟨1, fun post n H => ?_⟩ R, h1, h2, f1, ⟨?_, ?_, ?_, ?_⟩, ⟨?_, ?_, ?_, ?_⟩, f8, hG', hZ, hS⟩
  · refine cg_itS hH hT (by omega) hA hP (hw _ ?_)
    rw [← hj] at H
    exact cg_enter hH (by omega) har hk hv H
  · exact fun q hq => (f4 q (by omega)).trans (pk_un (by omega))
  · exact fun q hq => (f5 q (by omega)).trans ((pk_un (by omega)).trans (pk_un (by omega)))
  · exact fun q hq => f6 q (by omega)
  · exact fun q hq => f7 q (by omega)
  · exact (f4 D (by omega)).trans ((pk_un (by omega)).trans hA)
  · exact (f5 D (by omega)).trans ((pk_un (by omega)).trans pk_us)
  · exact f6 D (by omega)
  · exact f7 D (by omega)
/-- the last round at a statement -/
theorem cg_SL (hH : xs_H u0 tk p L) (hT : tk_T tk L true i) (hD : D ≤ i) (hk : tk_ar (tk i) ≤ k) (hk2 : k < 100) (hA : oA D = nI i) (hP : oP D = nI k)
    (hw : ∀ post : SX → Prop, post (xs_cu u0 (nI sz1) (nI (D + 1)) (nI lo1) (nI es1) op1 ag1 tg1 oA (upd oP D (nI (k + 1))) oQ1 oR1 lT1 eA1 eL1) → wpX_statement post (xs_cu u0 (nI sz) (nI (D + 1)) (nI lo) (nI es) op ag tg oA (upd oP D (nI (k + 1))) oQ oR lT eA eL) (nI i) (nI (tk i)) (nI k) (nI D)) :
    cg_Rc (xs_cu u0 (nI sz) (nI (D + 1)) (nI lo) (nI es) op ag tg oA oP oQ oR lT eA eL) (xs_cu u0 (nI sz1) (nI D) (nI lo1) (nI es1) op1 ag1 tg1 oA (upd oP D (nI (k + 1))) oQ1 oR1 lT1 eA1 eL1) := by
  have hL : L ≤ 60 := hH.2.2.1
  have hen := tk_T_en hL hT
  have har := tk_ar_le (tk i)
  exact ⟨1, fun post n H => cg_itS hH hT (by omega) hA hP (hw _ (cg_leave har hk (by omega) H))⟩
end
end
section
/-- the outcome for one statement -/
def cg_C (u0 : SX) (tk : Nat → Nat) (f i D sz lo es : Nat) (op ag tg oA oP oQ oR lT eA eL : Nat → Int32) : Prop :=
    ∃ (sz' es' : Nat) (op' ag' tg' oA' oP' oQ' oR' lT' eA' eL' : Nat → Int32), cg_Rc (xs_cu u0 (nI sz) (nI (D + 1)) (nI lo) (nI es) op ag tg oA oP oQ oR lT eA eL) (xs_cu u0 (nI sz') (nI D) (nI lo) (nI es') op' ag' tg' oA' oP' oQ' oR' lT' eA' eL') ∧
      (sz ≤ sz' ∧ sz' ≤ sz + 5 * (tk_en tk i - i)) ∧ (es ≤ es' ∧ es' ≤ es + (tk_en tk i - i)) ∧ (cg_f sz op op' ∧ cg_f sz ag ag' ∧ cg_f sz tg tg') ∧ (cg_f D oA oA' ∧ cg_f D oP oP' ∧ cg_f D oQ oQ' ∧ cg_f D oR oR') ∧ (cg_f lo lT lT' ∧ cg_f es eA eA' ∧ cg_f es eL eL') ∧ cg_G tg' sz' ∧
      cg_Z lT eA' eL' lo es es' sz sz' i (tk_en tk i) ∧ sm_S tk f op' ag' tg' i sz sz' lo (cg_X lT eA' eL' lo es es')
section
variable {u0 : SX} {tk : Nat → Nat} {p L f i D sz lo es : Nat} {op ag tg oA oP oQ oR lT eA eL : Nat → Int32}
theorem cc_2 (hH : xs_H u0 tk p L) (hT : tk_T tk L true i) (hD : D ≤ i) (hA : oA D = nI i) (hP : oP D = nI 0) (hG : cg_G tg sz) (ht : tk i = 2) : cg_C u0 tk (f + 1) i D sz lo es op ag tg oA oP oQ oR lT eA eL := by
  refine ⟨sz, es, op, ag, tg, oA, upd oP D (nI 1), oQ, oR, lT, eA, eL, cg_SL (k := 0) hH hT hD (by rw [ht]; decide) (by decide) hA hP (fun post H => ?_), ⟨Nat.le_refl _, by omega⟩, ⟨Nat.le_refl _, by omega⟩, ⟨cg_f_rf _ _, cg_f_rf _ _, cg_f_rf _ _⟩, ⟨cg_f_rf _ _, cg_f_u (cg_f_rf _ _) (Nat.le_refl _), cg_f_rf _ _, cg_f_rf _ _⟩, ⟨cg_f_rf _ _, cg_f_rf _ _, cg_f_rf _ _⟩, hG, cg_Z_e, ss_nop ht⟩
  rw [ht]
  exact sd_12 (Or.inr rfl) H
theorem cc_39 (hH : xs_H u0 tk p L) (hT : tk_T tk L true i) (hD : D ≤ i) (hsz : sz ≤ 5 * i) (hlo : 2 * lo + tk_en tk i ≤ i + L) (hes : es ≤ i) (hA : oA D = nI i) (hP : oP D = nI 0) (hG : cg_G tg sz) (ht : tk i = 39) : cg_C u0 tk (f + 1) i D sz lo es op ag tg oA oP oQ oR lT eA eL := by
  have hL : L ≤ 60 := hH.2.2.1
  have hen := tk_T_en hL hT
  cases lo with
  | zero =>
    refine ⟨sz + 1, es, upd op sz 311, upd ag sz 0, upd tg sz (nI sz), oA, upd oP D (nI 1), oQ, oR, lT, eA, eL, cg_SL (k := 0) hH hT hD (by rw [ht]; decide) (by decide) hA hP (fun post H => ?_), ⟨by omega, by omega⟩, ⟨Nat.le_refl _, by omega⟩, ⟨cg_f_u (cg_f_rf _ _) (Nat.le_refl _), cg_f_u (cg_f_rf _ _) (Nat.le_refl _), cg_f_u (cg_f_rf _ _) (Nat.le_refl _)⟩, ⟨cg_f_rf _ _, cg_f_u (cg_f_rf _ _) (Nat.le_refl _), cg_f_rf _ _, cg_f_rf _ _⟩, ⟨cg_f_rf _ _, cg_f_rf _ _, cg_f_rf _ _⟩, cg_G_e hG, cg_Z_e, ss_over ht pk_us pk_us (by omega) cg_X_e⟩
    rw [ht]
    exact sd_39 (sl_over (by omega) H)
  | succ l =>
    refine ⟨sz + 1, es + 1, upd op sz 301, upd ag sz 0, upd tg sz (nI sz), oA, upd oP D (nI 1), oQ, oR, lT, upd eA es (nI sz), upd eL es (lT l), cg_SL (k := 0) hH hT hD (by rw [ht]; decide) (by decide) hA hP (fun post H => ?_), ⟨by omega, by omega⟩, ⟨by omega, by omega⟩, ⟨cg_f_u (cg_f_rf _ _) (Nat.le_refl _), cg_f_u (cg_f_rf _ _) (Nat.le_refl _), cg_f_u (cg_f_rf _ _) (Nat.le_refl _)⟩, ⟨cg_f_rf _ _, cg_f_u (cg_f_rf _ _) (Nat.le_refl _), cg_f_rf _ _, cg_f_rf _ _⟩, ⟨cg_f_rf _ _, cg_f_u (cg_f_rf _ _) (Nat.le_refl _), cg_f_u (cg_f_rf _ _) (Nat.le_refl _)⟩, cg_G_e hG, ?_, ss_exit ht pk_us ⟨by omega, es, Nat.le_refl _, by omega, pk_us, pk_us⟩ (by omega)⟩
    · rw [ht]
      exact sd_39 (sl_exit (by omega) (by omega) (by omega) H)
    · intro k h1 h2
      have e : k = es := by omega
      rw [e]
      exact Or.inl ⟨by omega, pk_us, sz, Nat.le_refl _, by omega, pk_us⟩
theorem cc_pr (hH : xs_H u0 tk p L) (hT : tk_T tk L true i) (hD : D ≤ i) (hsz : sz ≤ 5 * i) (hA : oA D = nI i) (hP : oP D = nI 0) (hG : cg_G tg sz) (ht : ex_prim (tk i)) : cg_C u0 tk (f + 1) i D sz lo es op ag tg oA oP oQ oR lT eA eL := by
  have hL : L ≤ 60 := hH.2.2.1
  have hen := tk_T_en hL hT
  have ht' := ht
  unfold ex_prim at ht'
  have hsp : ∀ k, tk_sp (tk i) k = false := fun k => by unfold tk_sp; exact decide_eq_false (by omega)
  have hnone : ∀ (k s : Nat) (oA oP op ag tg : Nat → Int32), k < 4 → k ≠ tk_ar (tk i) → ∀ post : SX → Prop, post (xs_cu u0 (nI s) (nI (D + 1)) (nI lo) (nI es) op ag tg oA oP oQ oR lT eA eL) → wpX_statement post (xs_cu u0 (nI s) (nI (D + 1)) (nI lo) (nI es) op ag tg oA oP oQ oR lT eA eL) (nI i) (nI (tk i)) (nI k) (nI D) := by
    intro k s oA oP op ag tg hk hne post H
    have := tk_ar_le (tk i)
    exact sd_pr ht (br_f (ni_ne hne (by omega) (by omega)) H)
  have hlast : ∀ (s : Nat) (oA oP op ag tg : Nat → Int32), s < 400 → ∀ post : SX → Prop, post (xs_cu u0 (nI (s + 1)) (nI (D + 1)) (nI lo) (nI es) (upd op s (nI (tk i))) (upd ag s 0) (upd tg s (nI s)) oA oP oQ oR lT eA eL) → wpX_statement post (xs_cu u0 (nI s) (nI (D + 1)) (nI lo) (nI es) op ag tg oA oP oQ oR lT eA eL) (nI i) (nI (tk i)) (nI (tk_ar (tk i))) (nI D) := by
    intro s oA oP op ag tg hs post H
    exact sd_pr ht (br_t rfl (xc_emit hs H))
  by_cases c1 : (10 ≤ tk i ∧ tk i ≤ 25) ∨ (30 ≤ tk i ∧ tk i ≤ 33) ∨ (66 ≤ tk i ∧ tk i ≤ 68)
  · have ha : tk_ar (tk i) = 1 := by
      unfold tk_ar
      rw [if_neg (by omega), if_pos (by omega)]
    have hn := tk_n1 hL hT ha
    rw [hsp] at hn
    have hn1 := tk_T_en hL hn.1
    obtain ⟨s1, op1, ag1, tg1, oA1, oP1, R1, ⟨b1, b2⟩, ⟨f1, f2, f3⟩, ⟨f4, f5⟩, ⟨gA, gP⟩, E1, G1⟩ := cg_SpE (k := 0) (j := i + 1) hH hT (by omega) (fun m' h => by omega) rfl hn.1 (by omega) hD hA hP (hnone 0 sz _ _ op ag tg (by omega) (by omega)) (by omega) hG
    refine ⟨s1 + 1, es, upd op1 s1 (nI (tk i)), upd ag1 s1 0, upd tg1 s1 (nI s1), oA1, upd oP1 D (nI (1 + 1)), oQ, oR, lT, eA, eL, cg_Rc_tr R1 (cg_SL (k := 1) hH hT hD (by omega) (by omega) gA gP ?_), ⟨by omega, by omega⟩, ⟨Nat.le_refl _, by omega⟩, ⟨cg_f_u f1 (by omega), cg_f_u f2 (by omega), cg_f_u f3 (by omega)⟩, ⟨f4, cg_f_u f5 (Nat.le_refl _), cg_f_rf _ _, cg_f_rf _ _⟩, ⟨cg_f_rf _ _, cg_f_rf _ _, cg_f_rf _ _⟩, cg_G_e G1, cg_Z_e, ?_⟩
    · have := hlast s1 oA1 (upd oP1 D (nI (1 + 1))) op1 ag1 tg1 (by omega)
      rw [ha] at this
      exact this
    · exact ss_p1 hL hT c1 (cg_Eu E1 (Nat.le_refl _)) pk_us pk_us (by omega) (fun j _ _ => cg_X_e)
  by_cases c2 : tk i = 34 ∨ (60 ≤ tk i ∧ tk i ≤ 62)
  · have ha : tk_ar (tk i) = 2 := by
      unfold tk_ar
      rw [if_neg (by omega), if_neg (by omega), if_neg (by omega), if_neg (by omega)]
    have hn := tk_n2 hL hT ha
    rw [hsp, hsp] at hn
    have hn1 := tk_T_en hL hn.1
    have hn2 := tk_T_en hL hn.2.1
    have hn3 := hn.2.2
    obtain ⟨s1, op1, ag1, tg1, oA1, oP1, R1, ⟨b1, b2⟩, ⟨f1, f2, f3⟩, ⟨f4, f5⟩, ⟨gA, gP⟩, E1, G1⟩ := cg_SpE (k := 0) (j := i + 1) hH hT (by omega) (fun m' h => by omega) rfl hn.1 (by omega) hD hA hP (hnone 0 sz _ _ op ag tg (by omega) (by omega)) (by omega) hG
    obtain ⟨s2, op2, ag2, tg2, oA2, oP2, R2, ⟨b3, b4⟩, ⟨h1, h2, h3⟩, ⟨h4, h5⟩, ⟨gA2, gP2⟩, E2, G2⟩ := cg_SpE (k := 1) (j := tk_en tk (i + 1)) hH hT (by omega) (fun m' h => by rw [show m' = 0 by omega]; exact ⟨_, hn.1⟩) rfl hn.2.1 (by omega) hD gA gP (hnone 1 s1 _ _ op1 ag1 tg1 (by omega) (by omega)) (by omega) G1
    have E1' : sm_E tk op2 ag2 tg2 (i + 1) sz s1 := sm_E_tr E1 (fun j a b => ⟨h1 j (by omega), h2 j (by omega), h3 j (by omega)⟩)
    refine ⟨s2 + 1, es, upd op2 s2 (nI (tk i)), upd ag2 s2 0, upd tg2 s2 (nI s2), oA2, upd oP2 D (nI (2 + 1)), oQ, oR, lT, eA, eL, cg_Rc_tr R1 (cg_Rc_tr R2 (cg_SL (k := 2) hH hT hD (by omega) (by omega) gA2 gP2 ?_)), ⟨by omega, by omega⟩, ⟨Nat.le_refl _, by omega⟩, ⟨cg_f_u (cg_f_tr f1 h1 (by omega)) (by omega), cg_f_u (cg_f_tr f2 h2 (by omega)) (by omega), cg_f_u (cg_f_tr f3 h3 (by omega)) (by omega)⟩, ⟨cg_f_tr f4 h4 (Nat.le_refl _), cg_f_u (cg_f_tr f5 h5 (Nat.le_refl _)) (Nat.le_refl _), cg_f_rf _ _, cg_f_rf _ _⟩, ⟨cg_f_rf _ _, cg_f_rf _ _, cg_f_rf _ _⟩, cg_G_e G2, cg_Z_e, ?_⟩
    · have := hlast s2 oA2 (upd oP2 D (nI (2 + 1))) op2 ag2 tg2 (by omega)
      rw [ha] at this
      exact this
    · exact ss_p2 hL hT c2 (cg_Eu E1' (by omega)) (cg_Eu E2 (Nat.le_refl _)) pk_us pk_us (by omega) (fun j _ _ => cg_X_e)
  · have c3 : 63 ≤ tk i ∧ tk i ≤ 65 := by omega
    have ha : tk_ar (tk i) = 3 := by
      unfold tk_ar
      rw [if_neg (by omega), if_neg (by omega), if_neg (by omega), if_pos (by omega)]
    have hn := tk_n3 hL hT ha
    rw [hsp, hsp, hsp] at hn
    have hn1 := tk_T_en hL hn.1
    have hn2 := tk_T_en hL hn.2.1
    have hn3 := tk_T_en hL hn.2.2.1
    have hn4 := hn.2.2.2
    obtain ⟨s1, op1, ag1, tg1, oA1, oP1, R1, ⟨b1, b2⟩, ⟨f1, f2, f3⟩, ⟨f4, f5⟩, ⟨gA, gP⟩, E1, G1⟩ := cg_SpE (k := 0) (j := i + 1) hH hT (by omega) (fun m' h => by omega) rfl hn.1 (by omega) hD hA hP (hnone 0 sz _ _ op ag tg (by omega) (by omega)) (by omega) hG
    obtain ⟨s2, op2, ag2, tg2, oA2, oP2, R2, ⟨b3, b4⟩, ⟨h1, h2, h3⟩, ⟨h4, h5⟩, ⟨gA2, gP2⟩, E2, G2⟩ := cg_SpE (k := 1) (j := tk_en tk (i + 1)) hH hT (by omega) (fun m' h => by rw [show m' = 0 by omega]; exact ⟨_, hn.1⟩) rfl hn.2.1 (by omega) hD gA gP (hnone 1 s1 _ _ op1 ag1 tg1 (by omega) (by omega)) (by omega) G1
    obtain ⟨s3, op3, ag3, tg3, oA3, oP3, R3, ⟨b5, b6⟩, ⟨k1, k2, k3⟩, ⟨k4, k5⟩, ⟨gA3, gP3⟩, E3, G3⟩ := cg_SpE (k := 2) (j := tk_en tk (tk_en tk (i + 1))) hH hT (by omega) (fun m' h => by
      by_cases z : m' = 0
      · rw [z]; exact ⟨_, hn.1⟩
      · rw [show m' = 1 by omega]; exact ⟨_, hn.2.1⟩) rfl hn.2.2.1 (by omega) hD gA2 gP2 (hnone 2 s2 _ _ op2 ag2 tg2 (by omega) (by omega)) (by omega) G2
    have E1' : sm_E tk op3 ag3 tg3 (i + 1) sz s1 := sm_E_tr E1 (fun j a b => ⟨(k1 j (by omega)).trans (h1 j (by omega)), (k2 j (by omega)).trans (h2 j (by omega)), (k3 j (by omega)).trans (h3 j (by omega))⟩)
    have E2' : sm_E tk op3 ag3 tg3 (tk_en tk (i + 1)) s1 s2 := sm_E_tr E2 (fun j a b => ⟨k1 j (by omega), k2 j (by omega), k3 j (by omega)⟩)
    refine ⟨s3 + 1, es, upd op3 s3 (nI (tk i)), upd ag3 s3 0, upd tg3 s3 (nI s3), oA3, upd oP3 D (nI (3 + 1)), oQ, oR, lT, eA, eL, cg_Rc_tr R1 (cg_Rc_tr R2 (cg_Rc_tr R3 (cg_SL (k := 3) hH hT hD (by omega) (by omega) gA3 gP3 ?_))), ⟨by omega, by omega⟩, ⟨Nat.le_refl _, by omega⟩, ⟨cg_f_u (cg_f_tr f1 (cg_f_tr h1 k1 (by omega)) (by omega)) (by omega), cg_f_u (cg_f_tr f2 (cg_f_tr h2 k2 (by omega)) (by omega)) (by omega), cg_f_u (cg_f_tr f3 (cg_f_tr h3 k3 (by omega)) (by omega)) (by omega)⟩, ⟨cg_f_tr f4 (cg_f_tr h4 k4 (Nat.le_refl _)) (Nat.le_refl _), cg_f_u (cg_f_tr f5 (cg_f_tr h5 k5 (Nat.le_refl _)) (Nat.le_refl _)) (Nat.le_refl _), cg_f_rf _ _, cg_f_rf _ _⟩, ⟨cg_f_rf _ _, cg_f_rf _ _, cg_f_rf _ _⟩, cg_G_e G3, cg_Z_e, ?_⟩
    · have := hlast s3 oA3 (upd oP3 D (nI (3 + 1))) op3 ag3 tg3 (by omega)
      rw [ha] at this
      exact this
    · exact ss_p3 hL hT c3 (cg_Eu E1' (by omega)) (cg_Eu E2' (by omega)) (cg_Eu E3 (Nat.le_refl _)) pk_us pk_us (by omega) (fun j _ _ => cg_X_e)
theorem cc_1 (ih : cg_PS u0 tk L f) (hH : xs_H u0 tk p L) (hT : tk_T tk L true i) (hf : tk_en tk i - i ≤ f + 1) (hD : D ≤ i) (hsz : sz ≤ 5 * i) (hlo : 2 * lo + tk_en tk i ≤ i + L) (hes : es ≤ i) (hA : oA D = nI i) (hP : oP D = nI 0) (hG : cg_G tg sz) (hLt : cg_L lT lo i) (heL : ∀ k, k < es → ∃ j, j < i ∧ eL k = nI j) (ht : tk i = 1) : cg_C u0 tk (f + 1) i D sz lo es op ag tg oA oP oQ oR lT eA eL := by
  have hL : L ≤ 60 := hH.2.2.1
  have hen := tk_T_en hL hT
  have ha : tk_ar (tk i) = 2 := by rw [ht]; decide
  have hn := tk_n2 hL hT ha
  have hs0 : tk_sp (tk i) 0 = true := by rw [ht]; decide
  have hs1 : tk_sp (tk i) 1 = true := by rw [ht]; decide
  rw [hs0, hs1] at hn
  have hn1 := tk_T_en hL hn.1
  have hn2 := tk_T_en hL hn.2.1
  have hn3 := hn.2.2
  have hnone : ∀ (k s es : Nat) (oA oP oQ oR lT eA eL op ag tg : Nat → Int32), ∀ post : SX → Prop, post (xs_cu u0 (nI s) (nI (D + 1)) (nI lo) (nI es) op ag tg oA oP oQ oR lT eA eL) → wpX_statement post (xs_cu u0 (nI s) (nI (D + 1)) (nI lo) (nI es) op ag tg oA oP oQ oR lT eA eL) (nI i) (nI (tk i)) (nI k) (nI D) := by
    intro k s es oA oP oQ oR lT eA eL op ag tg post H
    exact sd_12 (Or.inl ht) H
  obtain ⟨s1, es1, op1, ag1, tg1, oA1, oP1, oQ1, oR1, lT1, eA1, eL1, R1, ⟨b1, b2⟩, ⟨e1, e2⟩, ⟨f1, f2, f3⟩, ⟨f4, f5, f6, f7⟩, ⟨gA, gP, gQ, gR⟩, ⟨f8, f9, f10⟩, G1, Z1, S1⟩ := cg_SpS (k := 0) (j := i + 1) ih hH hT (by omega) (fun m' h => by omega) rfl hn.1 (by omega) (by omega) hD hA hP (hnone 0 sz es _ _ oQ oR lT eA eL op ag tg) (by omega) (by omega) (by omega) hG (cg_L_f hLt (cg_f_rf _ _) (by omega)) (fun k hk => by obtain ⟨q, a, b⟩ := heL k hk; exact ⟨q, by omega, b⟩)
  obtain ⟨s2, es2, op2, ag2, tg2, oA2, oP2, oQ2, oR2, lT2, eA2, eL2, R2, ⟨b3, b4⟩, ⟨e3, e4⟩, ⟨h1, h2, h3⟩, ⟨h4, h5, h6, h7⟩, ⟨gA2, gP2, gQ2, gR2⟩, ⟨h8, h9, h10⟩, G2, Z2, S2⟩ := cg_SpS (k := 1) (j := tk_en tk (i + 1)) ih hH hT (by omega) (fun m' h => by rw [show m' = 0 by omega]; exact ⟨_, hn.1⟩) rfl hn.2.1 (by omega) (by omega) hD gA gP (hnone 1 s1 es1 _ _ oQ1 oR1 lT1 eA1 eL1 op1 ag1 tg1) (by omega) (by omega) (by omega) G1 (cg_L_f hLt f8 (by omega)) (cg_eL hLt heL f10 Z1 (by omega))
  have nX1 : ∀ j, j < 1000 → ¬ (sz ≤ j ∧ j < s1) → ¬ cg_X lT eA1 eL1 lo es es1 j := fun j hj hn' => cg_Xn Z1 (cg_L_f hLt (cg_f_rf _ _) (by omega)) (by omega) (by omega) hj hn'
  have nX2 : ∀ j, j < 1000 → ¬ (s1 ≤ j ∧ j < s2) → ¬ cg_X lT1 eA2 eL2 lo es1 es2 j := fun j hj hn' => cg_Xn Z2 (cg_L_f hLt f8 (by omega)) (by omega) (by omega) hj hn'
  have hX : ∀ j, cg_X lT eA2 eL2 lo es es2 j ↔ cg_X lT eA1 eL1 lo es es1 j ∨ cg_X lT1 eA2 eL2 lo es1 es2 j := fun j => cg_X_join e1 e3 h9 h10 f8
  refine ⟨s2, es2, op2, ag2, tg2, oA2, upd oP2 D (nI (2 + 1)), oQ2, oR2, lT2, eA2, eL2, cg_Rc_tr R1 (cg_Rc_tr R2 (cg_SL (k := 2) hH hT hD (by omega) (by omega) gA2 gP2 (hnone 2 s2 es2 _ _ oQ2 oR2 lT2 eA2 eL2 op2 ag2 tg2))), ⟨by omega, by omega⟩, ⟨by omega, by omega⟩, ⟨cg_f_tr f1 h1 (by omega), cg_f_tr f2 h2 (by omega), cg_f_tr f3 h3 (by omega)⟩, ⟨cg_f_tr f4 h4 (Nat.le_refl _), cg_f_u (cg_f_tr f5 h5 (Nat.le_refl _)) (Nat.le_refl _), cg_f_tr f6 h6 (Nat.le_refl _), cg_f_tr f7 h7 (Nat.le_refl _)⟩, ⟨cg_f_tr f8 h8 (Nat.le_refl _), cg_f_tr f9 h9 (by omega), cg_f_tr f10 h10 (by omega)⟩, G2, cg_Z_join Z1 Z2 h9 h10 f8 (by omega) (by omega) (by omega) (by omega) (by omega) (by omega) (by omega) (by omega), ?_⟩
  refine ss_seq ht (sm_S_tr S1 (fun j a b => ⟨h1 j (by omega), h2 j (by omega), fun _ => h3 j (by omega)⟩) (fun j a b => ?_)) (sm_S_tr S2 (fun j a b => ⟨rfl, rfl, fun _ => rfl⟩) (fun j a b => ?_))
  · rw [hX]
    exact ⟨fun h => h.resolve_right (nX2 j (by omega) (by omega)), Or.inl⟩
  · rw [hX]
    exact ⟨fun h => h.resolve_left (nX1 j (by omega) (by omega)), Or.inr⟩
end
end
section
theorem cg_G_u {tg : Nat → Int32} {n a b : Nat} (h : cg_G tg n) (hb : b ≤ n) : cg_G (upd tg a (nI b)) n := fun j hj => by
  by_cases z : j = a
  · rw [z]; exact ⟨b, hb, pk_us⟩
  · obtain ⟨c, h1, h2⟩ := h j hj
    exact ⟨c, h1, (pk_un z).trans h2⟩
section
variable {u0 : SX} {tk : Nat → Nat} {p L f i D sz lo es : Nat} {op ag tg oA oP oQ oR lT eA eL : Nat → Int32}
theorem cc_35 (ih : cg_PS u0 tk L f) (hH : xs_H u0 tk p L) (hT : tk_T tk L true i) (hf : tk_en tk i - i ≤ f + 1) (hD : D ≤ i) (hsz : sz ≤ 5 * i) (hlo : 2 * lo + tk_en tk i ≤ i + L) (hes : es ≤ i) (hA : oA D = nI i) (hP : oP D = nI 0) (hG : cg_G tg sz) (hLt : cg_L lT lo i) (heL : ∀ k, k < es → ∃ j, j < i ∧ eL k = nI j) (ht : tk i = 35) : cg_C u0 tk (f + 1) i D sz lo es op ag tg oA oP oQ oR lT eA eL := by
  have hL : L ≤ 60 := hH.2.2.1
  have hen := tk_T_en hL hT
  have ha : tk_ar (tk i) = 3 := by rw [ht]; decide
  have hn := tk_n3 hL hT ha
  have hs0 : tk_sp (tk i) 0 = false := by rw [ht]; decide
  have hs1 : tk_sp (tk i) 1 = true := by rw [ht]; decide
  have hs2 : tk_sp (tk i) 2 = true := by rw [ht]; decide
  rw [hs0, hs1, hs2] at hn
  have hn1 := tk_T_en hL hn.1
  have hn2 := tk_T_en hL hn.2.1
  have hn3 := tk_T_en hL hn.2.2.1
  have hn4 := hn.2.2.2
  have hv2 : ∀ m', m' < 2 → ∃ b, tk_T tk L b (tk_it tk m' (i + 1)) := fun m' h => by
    by_cases z : m' = 0
    · rw [z]; exact ⟨_, hn.1⟩
    · rw [show m' = 1 by omega]; exact ⟨_, hn.2.1⟩
  obtain ⟨s1, op1, ag1, tg1, oA1, oP1, R1, ⟨b1, b2⟩, ⟨f1, f2, f3⟩, ⟨f4, f5⟩, ⟨gA, gP⟩, E1, G1⟩ := cg_SpE (k := 0) (j := i + 1) (op := op) (ag := ag) (tg := tg) (oQ := oQ) (oR := oR) (lT := lT) (eA := eA) (eL := eL) (lo := lo) (es := es) (sz := sz) (sz1 := sz) (op1 := op) (ag1 := ag) (tg1 := tg) (oQ1 := upd oQ D (-1)) (oR1 := oR) (lT1 := lT) (eA1 := eA) (eL1 := eL) (lo1 := lo) (es1 := es) hH hT (by omega) (fun m' h => by omega) rfl hn.1 (by omega) hD hA hP (fun post H => by rw [ht]; exact sd_35 (sc_0 (by omega) H)) (by omega) hG
  by_cases ck : op1 (s1 - 1) = 300
  · obtain ⟨es1', hv1⟩ := E1.2.1 ck
    subst es1'
    rw [Nat.add_sub_cancel] at ck
    have hjT : tk_T tk L true (tk_it tk (if ag1 sz = 0 then 2 else 1) (i + 1)) := by
      split
      · exact hn.2.2.1
      · exact hn.2.1
    have hjb : i + 1 < tk_it tk (if ag1 sz = 0 then 2 else 1) (i + 1) ∧ tk_en tk (tk_it tk (if ag1 sz = 0 then 2 else 1) (i + 1)) ≤ tk_en tk i := by
      split
      · show i + 1 < tk_en tk (tk_en tk (i + 1)) ∧ tk_en tk (tk_en tk (tk_en tk (i + 1))) ≤ _
        omega
      · show i + 1 < tk_en tk (i + 1) ∧ tk_en tk (tk_en tk (i + 1)) ≤ _
        omega
    have hje := tk_T_en hL hjT
    have hjd : tk_it tk (if ag1 sz = 0 then 2 else 1) (i + 1) = if ag1 sz = 0 then tk_en tk (tk_en tk (i + 1)) else tk_en tk (i + 1) := by
      split <;> rfl
    have R2 : cg_Rc (xs_cu u0 (nI (sz + 1)) (nI (D + 1)) (nI lo) (nI es) op1 ag1 tg1 oA1 oP1 (upd oQ D (-1)) oR lT eA eL) (xs_cu u0 (nI sz) (nI (D + 2)) (nI lo) (nI es) op1 ag1 tg1 (upd oA1 (D + 1) (nI (tk_it tk (if ag1 sz = 0 then 2 else 1) (i + 1)))) (upd (upd (upd oP1 D (nI (1 + 1))) D 4) (D + 1) 0) (upd (upd oQ D (-1)) D (-2)) oR lT eA eL) := by
      refine ⟨1, fun post n H => cg_itS hH hT (by omega) gA gP ?_⟩
      rw [ht]
      refine sd_35 (sc_1k hH (by omega) (by omega) ck pk_us hv2 ?_)
      have := cg_stay (tk := tk) (i := i) (ph := 1) (by omega) H
      rw [ht] at this
      exact this
    generalize hj : tk_it tk (if ag1 sz = 0 then 2 else 1) (i + 1) = j at *
    obtain ⟨s2, es2, op2, ag2, tg2, oA2, oP2, oQ2, oR2, lT2, eA2, eL2, R3, ⟨b3, b4⟩, ⟨e3, e4⟩, ⟨h1, h2, h3⟩, ⟨h4, h5, h6, h7⟩, ⟨h8, h9, h10⟩, G2, Z2, S2⟩ := ih j (D + 1) sz lo es op1 ag1 tg1 (upd oA1 (D + 1) (nI j)) (upd (upd (upd oP1 D (nI (1 + 1))) D 4) (D + 1) 0) (upd (upd oQ D (-1)) D (-2)) oR lT eA eL hjT (by omega) (by omega) (by omega) (by omega) (by omega) pk_us pk_us (cg_G_f hG f3) (cg_L_f hLt (cg_f_rf _ _) (by omega)) (fun k hk => by obtain ⟨q, a, b⟩ := heL k hk; exact ⟨q, by omega, b⟩)
    have gA2 : oA2 D = nI i := (h4 D (by omega)).trans ((pk_un (by omega)).trans gA)
    have gP2 : oP2 D = nI 4 := (h5 D (by omega)).trans ((pk_un (by omega)).trans pk_us)
    refine ⟨s2, es2, op2, ag2, tg2, oA2, upd oP2 D (nI (4 + 1)), oQ2, oR2, lT2, eA2, eL2, cg_Rc_tr R1 (cg_Rc_tr R2 (cg_Rc_tr R3 (cg_SL (k := 4) hH hT hD (by omega) (by omega) gA2 gP2 (fun post H => ?_)))), ⟨by omega, by omega⟩, ⟨by omega, by omega⟩, ⟨cg_f_tr f1 h1 (by omega), cg_f_tr f2 h2 (by omega), cg_f_tr f3 h3 (by omega)⟩, ⟨?_, cg_f_u ?_ (Nat.le_refl _), ?_, ?_⟩, ⟨h8, h9, h10⟩, G2, cg_Z_w Z2 (by omega) (by omega) (by omega) (by omega), ss_ifk ht hv1 ?_⟩
    · rw [ht]
      exact sd_35 (sc_4 H)
    · exact fun q hq => (h4 q (by omega)).trans ((pk_un (by omega)).trans (f4 q hq))
    · exact fun q hq => (h5 q (by omega)).trans ((pk_un (by omega)).trans ((pk_un (by omega)).trans ((pk_un (by omega)).trans (f5 q hq))))
    · exact fun q hq => (h6 q (by omega)).trans ((pk_un (by omega)).trans (pk_un (by omega)))
    · exact fun q hq => h7 q (by omega)
    · rw [← hjd]
      exact S2
  · obtain ⟨s2, es2, op2, ag2, tg2, oA2, oP2, oQ2, oR2, lT2, eA2, eL2, R2, ⟨b3, b4⟩, ⟨e3, e4⟩, ⟨h1, h2, h3⟩, ⟨h4, h5, h6, h7⟩, ⟨gA2, gP2, gQ2, gR2⟩, ⟨h8, h9, h10⟩, G2, Z2, S2⟩ := cg_SpS (k := 1) (j := tk_en tk (i + 1)) (sz1 := s1 + 1) (lo1 := lo) (es1 := es) (op1 := upd op1 s1 302) (ag1 := upd ag1 s1 0) (tg1 := upd tg1 s1 (nI s1)) (oQ1 := upd (upd oQ D (-1)) D (nI s1)) (oR1 := oR) (lT1 := lT) (eA1 := eA) (eL1 := eL) ih hH hT (by omega) (fun m' h => hv2 m' (by omega)) rfl hn.2.1 (by omega) (by omega) hD gA gP (fun post H => by rw [ht]; exact sd_35 (sc_1 (by omega) (by omega) (by omega) ck H)) (by omega) (by omega) (by omega) (cg_G_e G1) (cg_L_f hLt (cg_f_rf _ _) (by omega)) (fun k hk => by obtain ⟨q, a, b⟩ := heL k hk; exact ⟨q, by omega, b⟩)
    have gQ2' : oQ2 D = nI s1 := gQ2.trans pk_us
    obtain ⟨s3, es3, op3, ag3, tg3, oA3, oP3, oQ3, oR3, lT3, eA3, eL3, R3, ⟨b5, b6⟩, ⟨e5, e6⟩, ⟨k1, k2, k3⟩, ⟨k4, k5, k6, k7⟩, ⟨gA3, gP3, gQ3, gR3⟩, ⟨k8, k9, k10⟩, G3, Z3, S3⟩ := cg_SpS (k := 2) (j := tk_en tk (tk_en tk (i + 1))) (sz1 := s2 + 1) (lo1 := lo) (es1 := es2) (op1 := upd op2 s2 301) (ag1 := upd ag2 s2 0) (tg1 := upd (upd tg2 s2 (nI s2)) s1 (nI (s2 + 1))) (oQ1 := upd oQ2 D (nI s2)) (oR1 := oR2) (lT1 := lT2) (eA1 := eA2) (eL1 := eL2) ih hH hT (by omega) hv2 rfl hn.2.2.1 (by omega) (by omega) hD gA2 gP2 (fun post H => by rw [ht]; exact sd_35 (sc_2 (by omega) (by omega) (by omega) gQ2' H)) (by omega) (by omega) (by omega) (cg_G_u (cg_G_e G2) (Nat.le_refl _)) (cg_L_f hLt h8 (by omega)) (cg_eL (i0 := tk_en tk (i + 1)) (cg_L_f hLt (cg_f_rf _ _) (by omega)) (fun k hk => by obtain ⟨q, a, b⟩ := heL k hk; exact ⟨q, by omega, b⟩) h10 Z2 (by omega))
    have gQ3' : oQ3 D = nI s2 := gQ3.trans pk_us
    have nX2 : ∀ j, j < 1000 → ¬ (s1 + 1 ≤ j ∧ j < s2) → ¬ cg_X lT eA2 eL2 lo es es2 j := fun j hj hn' => cg_Xn Z2 (cg_L_f hLt (cg_f_rf _ _) (by omega)) (by omega) (by omega) hj hn'
    have nX3 : ∀ j, j < 1000 → ¬ (s2 + 1 ≤ j ∧ j < s3) → ¬ cg_X lT2 eA3 eL3 lo es2 es3 j := fun j hj hn' => cg_Xn Z3 (cg_L_f hLt h8 (by omega)) (by omega) (by omega) hj hn'
    have hX : ∀ j, cg_X lT eA3 eL3 lo es es3 j ↔ cg_X lT eA2 eL2 lo es es2 j ∨ cg_X lT2 eA3 eL3 lo es2 es3 j := fun j => cg_X_join e3 e5 k9 k10 h8
    have no : ∀ j, j < 1000 → ¬ (s1 + 1 ≤ j ∧ j < s2) → ¬ (s2 + 1 ≤ j ∧ j < s3) → ¬ cg_X lT eA3 eL3 lo es es3 j := fun j hj q1 q2 h => ((hX j).mp h).elim (nX2 j hj q1) (nX3 j hj q2)
    have t4 : ∀ j, j < s3 → j ≠ s2 → upd tg3 s2 (nI s3) j = tg3 j := fun j _ h => pk_un h
    refine ⟨s3, es3, op3, ag3, upd tg3 s2 (nI s3), oA3, upd oP3 D (nI (3 + 1)), oQ3, oR3, lT3, eA3, eL3, cg_Rc_tr R1 (cg_Rc_tr R2 (cg_Rc_tr R3 (cg_SL (k := 3) hH hT hD (by omega) (by omega) gA3 gP3 (fun post H => ?_)))), ⟨by omega, by omega⟩, ⟨by omega, by omega⟩, ⟨?_, ?_, ?_⟩, ⟨cg_f_tr f4 (cg_f_tr h4 k4 (Nat.le_refl _)) (Nat.le_refl _), cg_f_u (cg_f_tr f5 (cg_f_tr h5 k5 (Nat.le_refl _)) (Nat.le_refl _)) (Nat.le_refl _), ?_, cg_f_tr h7 k7 (Nat.le_refl _)⟩, ⟨cg_f_tr h8 k8 (Nat.le_refl _), cg_f_tr h9 k9 (by omega), cg_f_tr h10 k10 (by omega)⟩, cg_G_u G3 (Nat.le_refl _), cg_Z_join Z2 Z3 k9 k10 h8 (by omega) (by omega) (by omega) (by omega) (by omega) (by omega) (by omega) (by omega), ?_⟩
    · rw [ht]
      exact sd_35 (sc_3 (by omega) (by omega) gQ3' H)
    · exact fun q hq => (k1 q (by omega)).trans ((pk_un (by omega)).trans ((h1 q (by omega)).trans ((pk_un (by omega)).trans (f1 q hq))))
    · exact fun q hq => (k2 q (by omega)).trans ((pk_un (by omega)).trans ((h2 q (by omega)).trans ((pk_un (by omega)).trans (f2 q hq))))
    · exact fun q hq => (pk_un (by omega)).trans ((k3 q (by omega)).trans ((pk_un (by omega)).trans ((pk_un (by omega)).trans ((h3 q (by omega)).trans ((pk_un (by omega)).trans (f3 q hq))))))
    · exact fun q hq => (k6 q hq).trans ((pk_un (by omega)).trans ((h6 q hq).trans ((pk_un (by omega)).trans (pk_un (by omega)))))
    · refine ss_if (q1 := s1) (q2 := s2) hL hT ht (sm_E_tr E1 (fun j a b => ⟨?_, ?_, ?_⟩)) ?_ ?_ (sm_S_tr S2 (fun j a b => ⟨?_, ?_, fun _ => ?_⟩) (fun j a b => ?_)) ?_ pk_us (sm_S_tr S3 (fun j a b => ⟨rfl, rfl, fun _ => pk_un (by omega)⟩) (fun j a b => ?_)) (by omega) (fun j a b => no j (by omega) (by omega) (by omega)) (no s1 (by omega) (by omega) (by omega)) (no s2 (by omega) (by omega) (by omega))
      · exact (k1 j (by omega)).trans ((pk_un (by omega)).trans ((h1 j (by omega)).trans (pk_un (by omega))))
      · exact (k2 j (by omega)).trans ((pk_un (by omega)).trans ((h2 j (by omega)).trans (pk_un (by omega))))
      · exact (pk_un (by omega)).trans ((k3 j (by omega)).trans ((pk_un (by omega)).trans ((pk_un (by omega)).trans ((h3 j (by omega)).trans (pk_un (by omega))))))
      · exact (k1 s1 (by omega)).trans ((pk_un (by omega)).trans ((h1 s1 (by omega)).trans pk_us))
      · exact (pk_un (by omega)).trans ((k3 s1 (by omega)).trans pk_us)
      · exact (k1 j (by omega)).trans (pk_un (by omega))
      · exact (k2 j (by omega)).trans (pk_un (by omega))
      · exact (pk_un (by omega)).trans ((k3 j (by omega)).trans ((pk_un (by omega)).trans (pk_un (by omega))))
      · rw [hX]
        exact ⟨fun h => h.resolve_right (nX3 j (by omega) (by omega)), Or.inl⟩
      · exact (k1 s2 (by omega)).trans pk_us
      · rw [hX]
        exact ⟨fun h => h.resolve_left (nX2 j (by omega) (by omega)), Or.inr⟩
theorem cc_56 (ih : cg_PS u0 tk L f) (hH : xs_H u0 tk p L) (hT : tk_T tk L true i) (hf : tk_en tk i - i ≤ f + 1) (hD : D ≤ i) (hsz : sz ≤ 5 * i) (hlo : 2 * lo + tk_en tk i ≤ i + L) (hes : es ≤ i) (hA : oA D = nI i) (hP : oP D = nI 0) (hG : cg_G tg sz) (hLt : cg_L lT lo i) (heL : ∀ k, k < es → ∃ j, j < i ∧ eL k = nI j) (ht : tk i = 56) : cg_C u0 tk (f + 1) i D sz lo es op ag tg oA oP oQ oR lT eA eL := by
  have hL : L ≤ 60 := hH.2.2.1
  have hen := tk_T_en hL hT
  have ha : tk_ar (tk i) = 4 := by rw [ht]; decide
  have hn := tk_n4 hL hT ha
  have hs0 : tk_sp (tk i) 0 = false := by rw [ht]; decide
  have hs1 : tk_sp (tk i) 1 = true := by rw [ht]; decide
  have hs2 : tk_sp (tk i) 2 = true := by rw [ht]; decide
  have hs3 : tk_sp (tk i) 3 = true := by rw [ht]; decide
  rw [hs0, hs1, hs2, hs3] at hn
  have hn1 := tk_T_en hL hn.1
  have hn2 := tk_T_en hL hn.2.1
  have hn3 := tk_T_en hL hn.2.2.1
  have hn4 := tk_T_en hL hn.2.2.2.1
  have hn5 := hn.2.2.2.2
  have hv3 : ∀ m', m' < 3 → ∃ b, tk_T tk L b (tk_it tk m' (i + 1)) := fun m' h => by
    by_cases z : m' = 0
    · rw [z]; exact ⟨_, hn.1⟩
    by_cases z1 : m' = 1
    · rw [z1]; exact ⟨_, hn.2.1⟩
    · rw [show m' = 2 by omega]; exact ⟨_, hn.2.2.1⟩
  obtain ⟨s1, op1, ag1, tg1, oA1, oP1, R1, ⟨b1, b2⟩, ⟨f1, f2, f3⟩, ⟨f4, f5⟩, ⟨gA, gP⟩, E1, G1⟩ := cg_SpE (k := 0) (j := i + 1) (op := op) (ag := ag) (tg := tg) (oQ := oQ) (oR := oR) (lT := lT) (eA := eA) (eL := eL) (lo := lo) (es := es) (sz := sz) (sz1 := sz) (op1 := op) (ag1 := ag) (tg1 := tg) (oQ1 := oQ) (oR1 := oR) (lT1 := lT) (eA1 := eA) (eL1 := eL) (lo1 := lo) (es1 := es) hH hT (by omega) (fun m' h => by omega) rfl hn.1 (by omega) hD hA hP (fun post H => by rw [ht]; exact sd_56 (sk_0 H)) (by omega) hG
  obtain ⟨s2, es2, op2, ag2, tg2, oA2, oP2, oQ2, oR2, lT2, eA2, eL2, R2, ⟨b3, b4⟩, ⟨e3, e4⟩, ⟨h1, h2, h3⟩, ⟨h4, h5, h6, h7⟩, ⟨gA2, gP2, gQ2, gR2⟩, ⟨h8, h9, h10⟩, G2, Z2, S2⟩ := cg_SpS (k := 1) (j := tk_en tk (i + 1)) (sz1 := s1 + 1) (lo1 := lo) (es1 := es) (op1 := upd op1 s1 303) (ag1 := upd ag1 s1 0) (tg1 := upd tg1 s1 (nI s1)) (oQ1 := upd oQ D (nI s1)) (oR1 := upd oR D (-1)) (lT1 := lT) (eA1 := eA) (eL1 := eL) ih hH hT (by omega) (fun m' h => hv3 m' (by omega)) rfl hn.2.1 (by omega) (by omega) hD gA gP (fun post H => by rw [ht]; exact sd_56 (sk_1 (by omega) (by omega) H)) (by omega) (by omega) (by omega) (cg_G_e G1) (cg_L_f hLt (cg_f_rf _ _) (by omega)) (fun k hk => by obtain ⟨q, a, b⟩ := heL k hk; exact ⟨q, by omega, b⟩)
  have gQ2' : oQ2 D = nI s1 := gQ2.trans pk_us
  have eL2' := cg_eL (cg_L_f hLt (cg_f_rf _ _) (by omega)) (fun k hk => by obtain ⟨q, a, b⟩ := heL k hk; exact ⟨q, by omega, b⟩) h10 Z2 (i0 := tk_en tk (i + 1)) (by omega)
  obtain ⟨s3, es3, op3, ag3, tg3, oA3, oP3, oQ3, oR3, lT3, eA3, eL3, R3, ⟨b5, b6⟩, ⟨e5, e6⟩, ⟨k1, k2, k3⟩, ⟨k4, k5, k6, k7⟩, ⟨gA3, gP3, gQ3, gR3⟩, ⟨k8, k9, k10⟩, G3, Z3, S3⟩ := cg_SpS (k := 2) (j := tk_en tk (tk_en tk (i + 1))) (sz1 := s2 + 2) (lo1 := lo) (es1 := es2) (op1 := upd (upd op2 s2 301) (s2 + 1) 303) (ag1 := upd (upd ag2 s2 0) (s2 + 1) 1) (tg1 := upd (upd (upd tg2 s2 (nI s2)) s1 (nI (s2 + 1))) (s2 + 1) (nI (s2 + 1))) (oQ1 := upd oQ2 D (nI (s2 + 1))) (oR1 := upd oR2 D (nI s2)) (lT1 := lT2) (eA1 := eA2) (eL1 := eL2) ih hH hT (by omega) (fun m' h => hv3 m' (by omega)) rfl hn.2.2.1 (by omega) (by omega) hD gA2 gP2 (fun post H => by rw [ht]; exact sd_56 (sk_2 (by omega) (by omega) (by omega) gQ2' H)) (by omega) (by omega) (by omega) (cg_G_e (cg_G_u (cg_G_e G2) (Nat.le_refl _))) (cg_L_f hLt h8 (by omega)) eL2'
  have gQ3' : oQ3 D = nI (s2 + 1) := gQ3.trans pk_us
  have gR3' : oR3 D = nI s2 := gR3.trans pk_us
  have eL3' := cg_eL (cg_L_f hLt h8 (by omega)) eL2' k10 Z3 (i0 := tk_en tk (tk_en tk (i + 1))) (by omega)
  obtain ⟨s4, es4, op4, ag4, tg4, oA4, oP4, oQ4, oR4, lT4, eA4, eL4, R4, ⟨b7, b8⟩, ⟨e7, e8⟩, ⟨m1, m2, m3⟩, ⟨m4, m5, m6, m7⟩, ⟨gA4, gP4, gQ4, gR4⟩, ⟨m8, m9, m10⟩, G4, Z4, S4⟩ := cg_SpS (k := 3) (j := tk_en tk (tk_en tk (tk_en tk (i + 1)))) (sz1 := s3 + 2) (lo1 := lo) (es1 := es3) (op1 := upd (upd op3 s3 301) (s3 + 1) 304) (ag1 := upd (upd ag3 s3 0) (s3 + 1) 0) (tg1 := upd (upd (upd tg3 s3 (nI s3)) (s2 + 1) (nI (s3 + 1))) (s3 + 1) (nI (s3 + 1))) (oQ1 := upd oQ3 D (nI s3)) (oR1 := oR3) (lT1 := lT3) (eA1 := eA3) (eL1 := eL3) ih hH hT (by omega) (fun m' h => hv3 m' (by omega)) rfl hn.2.2.2.1 (by omega) (by omega) hD gA3 gP3 (fun post H => by rw [ht]; exact sd_56 (sk_3 (by omega) (by omega) (by omega) gQ3' H)) (by omega) (by omega) (by omega) (cg_G_e (cg_G_u (cg_G_e G3) (Nat.le_refl _))) (cg_L_f (cg_L_f hLt h8 (Nat.le_refl _)) k8 (by omega)) eL3'
  have gQ4' : oQ4 D = nI s3 := gQ4.trans pk_us
  have gR4' : oR4 D = nI s2 := gR4.trans gR3'
  have nX2 : ∀ j, j < 1000 → ¬ (s1 + 1 ≤ j ∧ j < s2) → ¬ cg_X lT eA2 eL2 lo es es2 j := fun j hj hn' => cg_Xn Z2 (cg_L_f hLt (cg_f_rf _ _) (by omega)) (by omega) (by omega) hj hn'
  have nX3 : ∀ j, j < 1000 → ¬ (s2 + 2 ≤ j ∧ j < s3) → ¬ cg_X lT2 eA3 eL3 lo es2 es3 j := fun j hj hn' => cg_Xn Z3 (cg_L_f hLt h8 (by omega)) (by omega) (by omega) hj hn'
  have nX4 : ∀ j, j < 1000 → ¬ (s3 + 2 ≤ j ∧ j < s4) → ¬ cg_X lT3 eA4 eL4 lo es3 es4 j := fun j hj hn' => cg_Xn Z4 (cg_L_f (cg_L_f hLt h8 (Nat.le_refl _)) k8 (by omega)) (by omega) (by omega) hj hn'
  have hT3 : cg_f lo lT lT3 := cg_f_tr h8 k8 (Nat.le_refl _)
  have hX3 : ∀ j, cg_X lT eA3 eL3 lo es es3 j ↔ cg_X lT eA2 eL2 lo es es2 j ∨ cg_X lT2 eA3 eL3 lo es2 es3 j := fun j => cg_X_join e3 e5 k9 k10 h8
  have hX : ∀ j, cg_X lT eA4 eL4 lo es es4 j ↔ (cg_X lT eA2 eL2 lo es es2 j ∨ cg_X lT2 eA3 eL3 lo es2 es3 j) ∨ cg_X lT3 eA4 eL4 lo es3 es4 j := fun j => by
    rw [← hX3]
    exact cg_X_join (by omega) e7 m9 m10 hT3
  have Z3' : cg_Z lT eA3 eL3 lo es es3 sz s4 i (tk_en tk i) := cg_Z_join Z2 Z3 k9 k10 h8 (by omega) (by omega) (by omega) (by omega) (by omega) (by omega) (by omega) (by omega)
  have no : ∀ j, j < 1000 → ¬ (s1 + 1 ≤ j ∧ j < s2) → ¬ (s2 + 2 ≤ j ∧ j < s3) → ¬ (s3 + 2 ≤ j ∧ j < s4) → ¬ cg_X lT eA4 eL4 lo es es4 j := fun j hj q1 q2 q3 h => ((hX j).mp h).elim (fun h => h.elim (nX2 j hj q1) (nX3 j hj q2)) (nX4 j hj q3)
  -- where the arrays come from
  have O3 : ∀ j, j < s3 → op4 j = op3 j := fun j h => (m1 j (by omega)).trans ((pk_un (by omega)).trans (pk_un (by omega)))
  have A3 : ∀ j, j < s3 → ag4 j = ag3 j := fun j h => (m2 j (by omega)).trans ((pk_un (by omega)).trans (pk_un (by omega)))
  have T3 : ∀ j, j < s3 → j ≠ s2 + 1 → tg4 j = tg3 j := fun j h h2 => (m3 j (by omega)).trans ((pk_un (by omega)).trans ((pk_un (by omega)).trans (pk_un (by omega))))
  have O2 : ∀ j, j < s2 → op4 j = op2 j := fun j h => (O3 j (by omega)).trans ((k1 j (by omega)).trans ((pk_un (by omega)).trans (pk_un (by omega))))
  have A2 : ∀ j, j < s2 → ag4 j = ag2 j := fun j h => (A3 j (by omega)).trans ((k2 j (by omega)).trans ((pk_un (by omega)).trans (pk_un (by omega))))
  have T2 : ∀ j, j < s2 → j ≠ s1 → tg4 j = tg2 j := fun j h h2 => (T3 j (by omega) (by omega)).trans ((k3 j (by omega)).trans ((pk_un (by omega)).trans ((pk_un (by omega)).trans (pk_un (by omega)))))
  have O1 : ∀ j, j < s1 → op4 j = op1 j := fun j h => (O2 j (by omega)).trans ((h1 j (by omega)).trans (pk_un (by omega)))
  have A1 : ∀ j, j < s1 → ag4 j = ag1 j := fun j h => (A2 j (by omega)).trans ((h2 j (by omega)).trans (pk_un (by omega)))
  have T1 : ∀ j, j < s1 → tg4 j = tg1 j := fun j h => (T2 j (by omega) (by omega)).trans ((h3 j (by omega)).trans (pk_un (by omega)))
  have P : ∀ j, j ≠ s3 → j ≠ s2 → upd (upd tg4 s3 (nI s4)) s2 (nI s4) j = tg4 j := fun j h1 h2 => (pk_un h2).trans (pk_un h1)
  refine ⟨s4, es4, op4, ag4, upd (upd tg4 s3 (nI s4)) s2 (nI s4), oA4, upd oP4 D (nI (4 + 1)), oQ4, oR4, lT4, eA4, eL4, cg_Rc_tr R1 (cg_Rc_tr R2 (cg_Rc_tr R3 (cg_Rc_tr R4 (cg_SL (k := 4) hH hT hD (by omega) (by omega) gA4 gP4 (fun post H => ?_))))), ⟨by omega, by omega⟩, ⟨by omega, by omega⟩, ⟨?_, ?_, ?_⟩, ⟨cg_f_tr f4 (cg_f_tr h4 (cg_f_tr k4 m4 (Nat.le_refl _)) (Nat.le_refl _)) (Nat.le_refl _), cg_f_u (cg_f_tr f5 (cg_f_tr h5 (cg_f_tr k5 m5 (Nat.le_refl _)) (Nat.le_refl _)) (Nat.le_refl _)) (Nat.le_refl _), ?_, ?_⟩, ⟨cg_f_tr hT3 m8 (Nat.le_refl _), cg_f_tr h9 (cg_f_tr k9 m9 (by omega)) (by omega), cg_f_tr h10 (cg_f_tr k10 m10 (by omega)) (by omega)⟩, cg_G_u (cg_G_u G4 (Nat.le_refl _)) (Nat.le_refl _), cg_Z_join Z3' Z4 m9 m10 hT3 (by omega) (by omega) (by omega) (by omega) (by omega) (by omega) (by omega) (by omega), ?_⟩
  · rw [ht]
    exact sd_56 (sk_4 (by omega) (by omega) (by omega) gQ4' gR4' H)
  · exact fun q hq => (O1 q (by omega)).trans (f1 q hq)
  · exact fun q hq => (A1 q (by omega)).trans (f2 q hq)
  · exact fun q hq => (P q (by omega) (by omega)).trans ((T1 q (by omega)).trans (f3 q hq))
  · exact fun q hq => (m6 q hq).trans ((pk_un (by omega)).trans ((k6 q hq).trans ((pk_un (by omega)).trans ((h6 q hq).trans (pk_un (by omega))))))
  · exact fun q hq => (m7 q hq).trans ((k7 q hq).trans ((pk_un (by omega)).trans ((h7 q hq).trans (pk_un (by omega)))))
  · refine ss_case (q1 := s1) (q2 := s2) (q3 := s3) (g := s3 + 1) hL hT ht (sm_E_tr E1 (fun j a b => ⟨O1 j b, A1 j b, (P j (by omega) (by omega)).trans (T1 j b)⟩)) ?_ ?_ ?_ (sm_S_tr S2 (fun j a b => ⟨O2 j b, A2 j b, fun _ => (P j (by omega) (by omega)).trans (T2 j b (by omega))⟩) (fun j a b => ?_)) ?_ pk_us ?_ ?_ ?_ (sm_S_tr S3 (fun j a b => ⟨O3 j b, A3 j b, fun _ => (P j (by omega) (by omega)).trans (T3 j b (by omega))⟩) (fun j a b => ?_)) ?_ ?_ ?_ ?_ (by omega) (sm_S_tr S4 (fun j a b => ⟨rfl, rfl, fun _ => P j (by omega) (by omega)⟩) (fun j a b => ?_)) (by omega) (fun j a b => no j (by omega) (by omega) (by omega) (by omega)) (no s1 (by omega) (by omega) (by omega) (by omega)) (no s2 (by omega) (by omega) (by omega) (by omega)) (no (s2 + 1) (by omega) (by omega) (by omega) (by omega)) (no s3 (by omega) (by omega) (by omega) (by omega)) (no (s3 + 1) (by omega) (by omega) (by omega) (by omega))
    · exact (O2 s1 (by omega)).trans ((h1 s1 (by omega)).trans pk_us)
    · exact (A2 s1 (by omega)).trans ((h2 s1 (by omega)).trans pk_us)
    · exact (P s1 (by omega) (by omega)).trans ((T3 s1 (by omega) (by omega)).trans ((k3 s1 (by omega)).trans ((pk_un (by omega)).trans pk_us)))
    · rw [hX]
      exact ⟨fun h => (h.resolve_right (nX4 j (by omega) (by omega))).resolve_right (nX3 j (by omega) (by omega)), fun h => Or.inl (Or.inl h)⟩
    · exact (O3 s2 (by omega)).trans ((k1 s2 (by omega)).trans ((pk_un (by omega)).trans pk_us))
    · exact (O3 (s2 + 1) (by omega)).trans ((k1 (s2 + 1) (by omega)).trans pk_us)
    · exact (A3 (s2 + 1) (by omega)).trans ((k2 (s2 + 1) (by omega)).trans pk_us)
    · exact (P (s2 + 1) (by omega) (by omega)).trans ((m3 (s2 + 1) (by omega)).trans ((pk_un (by omega)).trans pk_us))
    · rw [hX]
      exact ⟨fun h => (h.resolve_right (nX4 j (by omega) (by omega))).resolve_left (nX2 j (by omega) (by omega)), fun h => Or.inl (Or.inr h)⟩
    · exact (m1 s3 (by omega)).trans ((pk_un (by omega)).trans pk_us)
    · exact (pk_un (by omega)).trans pk_us
    · exact (m1 (s3 + 1) (by omega)).trans pk_us
    · exact (P (s3 + 1) (by omega) (by omega)).trans ((m3 (s3 + 1) (by omega)).trans pk_us)
    · rw [hX]
      exact ⟨fun h => h.resolve_left (fun h => h.elim (nX2 j (by omega) (by omega)) (nX3 j (by omega) (by omega))), Or.inr⟩
end
end
section
section
variable {lT lT1 eA eL eA2 eL2 tg tg' : Nat → Int32} {lo es es2 b0 b1 i j e n : Nat}
theorem cg_L_u (h : cg_L lT lo i) (hij : i < j) : cg_L (upd lT lo (nI i)) (lo + 1) j := fun l hl => by
  by_cases z : l = lo
  · rw [z]; exact ⟨i, hij, pk_us⟩
  · obtain ⟨x, a, b⟩ := h l (by omega)
    exact ⟨x, by omega, (pk_un z).trans b⟩
/-- jumps out of the loop that begins at i stand in its s -/
theorem cl_a (hT1 : lT1 lo = nI i) (hi : i < 1000) (he : e ≤ 1000) (hij : i < j) (heL : ∀ k, k < es → ∃ q, q < i ∧ eL k = nI q) (fL : cg_f es eL eL2) (Z : cg_Z lT1 eA2 eL2 (lo + 1) es es2 b0 b1 j e) : ∀ q, q < es2 → eL2 q = nI i → es ≤ q ∧ ∃ a, b0 ≤ a ∧ a < b1 ∧ eA2 q = nI a := by
  intro q hq h
  by_cases z : q < es
  · obtain ⟨y, a, b⟩ := heL q z
    rw [fL q z, b] at h
    have := (nI_eq (by omega) (by omega)).mp h
    omega
  · refine ⟨by omega, ?_⟩
    rcases Z q (by omega) hq with ⟨_, _, a, x1, x2, x3⟩ | ⟨y, x1, x2, x3⟩
    · exact ⟨a, x1, x2, x3⟩
    · rw [x3] at h
      have := (nI_eq (by omega) (by omega)).mp h
      omega
theorem cl_x (hT1 : lT1 lo = nI i) (hi : i < 1000) (he : e ≤ 1000) (hij : i < j) (heL : ∀ k, k < es → ∃ q, q < i ∧ eL k = nI q) (fL : cg_f es eL eL2) (Z : cg_Z lT1 eA2 eL2 (lo + 1) es es2 b0 b1 j e) (m : Nat) : cg_X lT1 eA2 eL2 (lo + 1) es es2 m ↔ ∃ q, q < es2 ∧ eL2 q = nI i ∧ eA2 q = nI m := by
  constructor
  · intro ⟨_, k, h1, h2, h3, h4⟩
    exact ⟨k, h2, h3.trans hT1, h4⟩
  · intro ⟨q, h1, h2, h3⟩
    exact ⟨by omega, q, (cl_a hT1 hi he hij heL fL Z q h1 h2).1, h1, h2.trans hT1.symm, h3⟩
theorem cl_z (hT1 : lT1 lo = nI i) (hij : i < j) (hie : i < n) (hen : e ≤ n) (Z : cg_Z lT1 eA2 eL2 (lo + 1) es es2 b0 b1 j e) (c0 c1 : Nat) : cg_Z lT eA2 eL2 lo es es2 c0 c1 i n := by
  intro k h1 h2
  rcases Z k h1 h2 with ⟨_, x, _⟩ | ⟨y, x1, x2, x3⟩
  · exact Or.inr ⟨i, Nat.le_refl _, hie, x.trans hT1⟩
  · exact Or.inr ⟨y, by omega, by omega, x3⟩
theorem cg_G_c {sz : Nat} {P : Nat → Prop} (h : cg_G tg sz) (h1 : ∀ j, P j → j < 400 → tg' j = nI sz) (h2 : ∀ j, ¬ P j → tg' j = tg j) (hs : sz ≤ 400) : cg_G tg' sz := fun j hj => by
  by_cases z : P j
  · exact ⟨sz, Nat.le_refl _, h1 j z (by omega)⟩
  · obtain ⟨b, x, y⟩ := h j hj
    exact ⟨b, x, (h2 j z).trans y⟩
end
section
variable {u0 : SX} {tk : Nat → Nat} {p L f i D sz lo es : Nat} {op ag tg oA oP oQ oR lT eA eL : Nat → Int32}
theorem cc_36 (ih : cg_PS u0 tk L f) (hH : xs_H u0 tk p L) (hT : tk_T tk L true i) (hf : tk_en tk i - i ≤ f + 1) (hD : D ≤ i) (hsz : sz ≤ 5 * i) (hlo : 2 * lo + tk_en tk i ≤ i + L) (hes : es ≤ i) (hA : oA D = nI i) (hP : oP D = nI 0) (hG : cg_G tg sz) (hLt : cg_L lT lo i) (heL : ∀ k, k < es → ∃ j, j < i ∧ eL k = nI j) (ht : tk i = 36) : cg_C u0 tk (f + 1) i D sz lo es op ag tg oA oP oQ oR lT eA eL := by
  have hL : L ≤ 60 := hH.2.2.1
  have hen := tk_T_en hL hT
  have ha : tk_ar (tk i) = 2 := by rw [ht]; decide
  have hn := tk_n2 hL hT ha
  have hs0 : tk_sp (tk i) 0 = false := by rw [ht]; decide
  have hs1 : tk_sp (tk i) 1 = true := by rw [ht]; decide
  rw [hs0, hs1] at hn
  have hn1 := tk_T_en hL hn.1
  have hn2 := tk_T_en hL hn.2.1
  have hn3 := hn.2.2
  obtain ⟨s1, op1, ag1, tg1, oA1, oP1, R1, ⟨b1, b2⟩, ⟨f1, f2, f3⟩, ⟨f4, f5⟩, ⟨gA, gP⟩, E1, G1⟩ := cg_SpE (k := 0) (j := i + 1) (op := op) (ag := ag) (tg := tg) (oQ := oQ) (oR := oR) (lT := lT) (eA := eA) (eL := eL) (lo := lo) (es := es) (sz := sz) (sz1 := sz + 2) (op1 := upd (upd op sz 305) (sz + 1) 306) (ag1 := upd (upd ag sz (nI lo)) (sz + 1) (nI lo)) (tg1 := upd (upd tg sz (nI sz)) (sz + 1) (nI (sz + 1))) (oQ1 := upd oQ D (nI (sz + 1))) (oR1 := oR) (lT1 := upd lT lo (nI i)) (eA1 := eA) (eL1 := eL) (lo1 := lo + 1) (es1 := es) hH hT (by omega) (fun m' h => by omega) rfl hn.1 (by omega) hD hA hP (fun post H => by rw [ht]; exact sd_36 (sw_0 (by omega) (by omega) (by omega) H)) (by omega) (cg_G_e (cg_G_e hG))
  obtain ⟨s2, es2, op2, ag2, tg2, oA2, oP2, oQ2, oR2, lT2, eA2, eL2, R2, ⟨b3, b4⟩, ⟨e3, e4⟩, ⟨h1, h2, h3⟩, ⟨h4, h5, h6, h7⟩, ⟨gA2, gP2, gQ2, gR2⟩, ⟨h8, h9, h10⟩, G2, Z2, S2⟩ := cg_SpS (k := 1) (j := tk_en tk (i + 1)) (sz1 := s1 + 1) (lo1 := lo + 1) (es1 := es) (op1 := upd op1 s1 302) (ag1 := upd ag1 s1 0) (tg1 := upd tg1 s1 (nI s1)) (oQ1 := upd oQ D (nI (sz + 1))) (oR1 := upd oR D (nI s1)) (lT1 := upd lT lo (nI i)) (eA1 := eA) (eL1 := eL) ih hH hT (by omega) (fun m' h => by rw [show m' = 0 by omega]; exact ⟨_, hn.1⟩) rfl hn.2.1 (by omega) (by omega) hD gA gP (fun post H => by rw [ht]; exact sd_36 (sw_1 (by omega) (by omega) H)) (by omega) (by omega) (by omega) (cg_G_e G1) (cg_L_u hLt (by omega)) (fun k hk => by obtain ⟨q, a, b⟩ := heL k hk; exact ⟨q, by omega, b⟩)
  have gQ2' : oQ2 D = nI (sz + 1) := gQ2.trans pk_us
  have gR2' : oR2 D = nI s1 := gR2.trans pk_us
  have hT1 : upd lT lo (nI i) lo = nI i := pk_us
  have ca := cl_a hT1 (by omega) (by omega) (by omega) heL h10 Z2
  have cx := cl_x hT1 (by omega) (by omega) (by omega) heL h10 Z2
  obtain ⟨tg', c1, c2, c3⟩ := sx_closeL (u0 := u0) (i := i) (dp := nI (D + 1)) (sz := s2 + 1) (lo := lo) (es := es2) (op := upd op2 s2 301) (ag := upd ag2 s2 0) (tg := upd (upd (upd (upd tg2 s2 (nI s2)) s2 (nI (sz + 1))) s1 (nI (s2 + 1))) (sz + 1) (nI (s2 + 1))) (oA := oA2) (oP := upd oP2 D (nI (2 + 1))) (oQ := oQ2) (oR := oR2) (lT := lT2) (eA := eA2) (eL := eL2) (by omega) (fun q h1 h2 => by obtain ⟨_, a, x, y, z⟩ := ca q h1 h2; exact ⟨a, by omega, z⟩)
  have c3' : ∀ j, j < 1000 → ¬ (s1 + 1 ≤ j ∧ j < s2) → tg' j = upd (upd (upd (upd tg2 s2 (nI s2)) s2 (nI (sz + 1))) s1 (nI (s2 + 1))) (sz + 1) (nI (s2 + 1)) j := fun j hj hn' => c3 j (fun ⟨q, x, y, z⟩ => by
    obtain ⟨_, a, w1, w2, w3⟩ := ca q x y
    rw [w3] at z
    have := (nI_eq (by omega) (by omega)).mp z
    omega)
  have O2 : ∀ j, j < s2 → upd op2 s2 301 j = op2 j := fun j h => pk_un (by omega)
  have A2 : ∀ j, j < s2 → upd ag2 s2 0 j = ag2 j := fun j h => pk_un (by omega)
  have O1 : ∀ j, j < s1 → upd op2 s2 301 j = op1 j := fun j h => (O2 j (by omega)).trans ((h1 j (by omega)).trans (pk_un (by omega)))
  have A1 : ∀ j, j < s1 → upd ag2 s2 0 j = ag1 j := fun j h => (A2 j (by omega)).trans ((h2 j (by omega)).trans (pk_un (by omega)))
  have T1 : ∀ j, j < s1 → j ≠ sz + 1 → tg' j = tg1 j := fun j h hne => (c3' j (by omega) (by omega)).trans ((pk_un hne).trans ((pk_un (by omega)).trans ((pk_un (by omega)).trans ((pk_un (by omega)).trans ((h3 j (by omega)).trans (pk_un (by omega)))))))
  refine ⟨s2 + 1, es2, upd op2 s2 301, upd ag2 s2 0, tg', oA2, upd oP2 D (nI (2 + 1)), oQ2, oR2, lT2, eA2, eL2, cg_Rc_tr R1 (cg_Rc_tr R2 (cg_SL (k := 2) hH hT hD (by omega) (by omega) gA2 gP2 (fun post H => ?_))), ⟨by omega, by omega⟩, ⟨by omega, by omega⟩, ⟨?_, ?_, ?_⟩, ⟨cg_f_tr f4 h4 (Nat.le_refl _), cg_f_u (cg_f_tr f5 h5 (Nat.le_refl _)) (Nat.le_refl _), ?_, ?_⟩, ⟨?_, h9, h10⟩, cg_G_c (cg_G_u (cg_G_u (cg_G_u (cg_G_e G2) (by omega)) (by omega)) (by omega)) c2 c3 (by omega), cl_z hT1 (by omega) (by omega) (by omega) Z2 _ _, ?_⟩
  · rw [ht]
    exact sd_36 (sw_2 (by omega) (by omega) (by omega) (by omega) gQ2' gR2' (c1 _ H))
  · exact fun q hq => (O1 q (by omega)).trans ((f1 q (by omega)).trans ((pk_un (by omega)).trans (pk_un (by omega))))
  · exact fun q hq => (A1 q (by omega)).trans ((f2 q (by omega)).trans ((pk_un (by omega)).trans (pk_un (by omega))))
  · exact fun q hq => (T1 q (by omega) (by omega)).trans ((f3 q (by omega)).trans ((pk_un (by omega)).trans (pk_un (by omega))))
  · exact fun q hq => (h6 q hq).trans (pk_un (by omega))
  · exact fun q hq => (h7 q hq).trans (pk_un (by omega))
  · exact fun q hq => (h8 q (by omega)).trans (pk_un (by omega))
  · refine ss_while (g := sz) (q1 := s1) (Xb := cg_X (upd lT lo (nI i)) eA2 eL2 (lo + 1) es es2) hL hT ht (by omega) ?_ ?_ ?_ (by omega) ?_ ?_ ?_ (sm_E_tr E1 (fun j a b => ⟨O1 j b, A1 j b, T1 j b (by omega)⟩)) ?_ ?_ (sm_S_tr S2 (fun j a b => ⟨O2 j b, A2 j b, fun hx => ?_⟩) (fun j a b => Iff.rfl)) pk_us ?_ (by omega) (fun j a b hx => c2 j ((cx j).mp hx) (by omega)) (fun j a b => cg_Xn (cl_z (lT := lT) hT1 (by omega) (n := tk_en tk i) (by omega) (by omega) Z2 0 0) hLt (by omega) (by omega) (by omega) (by omega))
    · exact (O1 sz (by omega)).trans ((f1 sz (by omega)).trans ((pk_un (by omega)).trans pk_us))
    · exact (A1 sz (by omega)).trans ((f2 sz (by omega)).trans ((pk_un (by omega)).trans pk_us))
    · exact (T1 sz (by omega) (by omega)).trans ((f3 sz (by omega)).trans ((pk_un (by omega)).trans pk_us))
    · exact (O1 (sz + 1) (by omega)).trans ((f1 (sz + 1) (by omega)).trans pk_us)
    · exact (A1 (sz + 1) (by omega)).trans ((f2 (sz + 1) (by omega)).trans pk_us)
    · exact (c3' (sz + 1) (by omega) (by omega)).trans pk_us
    · exact (O2 s1 (by omega)).trans ((h1 s1 (by omega)).trans pk_us)
    · exact (c3' s1 (by omega) (by omega)).trans ((pk_un (by omega)).trans pk_us)
    · exact (c3 j (fun h => hx ((cx j).mpr h))).trans ((pk_un (by omega)).trans ((pk_un (by omega)).trans ((pk_un (by omega)).trans (pk_un (by omega)))))
    · exact (c3' s2 (by omega) (by omega)).trans ((pk_un (by omega)).trans ((pk_un (by omega)).trans pk_us))
theorem cc_37 (ih : cg_PS u0 tk L f) (hH : xs_H u0 tk p L) (hT : tk_T tk L true i) (hf : tk_en tk i - i ≤ f + 1) (hD : D ≤ i) (hsz : sz ≤ 5 * i) (hlo : 2 * lo + tk_en tk i ≤ i + L) (hes : es ≤ i) (hA : oA D = nI i) (hP : oP D = nI 0) (hG : cg_G tg sz) (hLt : cg_L lT lo i) (heL : ∀ k, k < es → ∃ j, j < i ∧ eL k = nI j) (ht : tk i = 37) : cg_C u0 tk (f + 1) i D sz lo es op ag tg oA oP oQ oR lT eA eL := by
  have hL : L ≤ 60 := hH.2.2.1
  have hen := tk_T_en hL hT
  have ha : tk_ar (tk i) = 2 := by rw [ht]; decide
  have hn := tk_n2 hL hT ha
  have hs0 : tk_sp (tk i) 0 = true := by rw [ht]; decide
  have hs1 : tk_sp (tk i) 1 = false := by rw [ht]; decide
  rw [hs0, hs1] at hn
  have hn1 := tk_T_en hL hn.1
  have hn2 := tk_T_en hL hn.2.1
  have hn3 := hn.2.2
  obtain ⟨s1, es2, op1, ag1, tg1, oA1, oP1, oQ1, oR1, lT2, eA2, eL2, R1, ⟨b3, b4⟩, ⟨e3, e4⟩, ⟨h1, h2, h3⟩, ⟨h4, h5, h6, h7⟩, ⟨gA, gP, gQ, gR⟩, ⟨h8, h9, h10⟩, G1, Z2, S2⟩ := cg_SpS (k := 0) (j := i + 1) (op := op) (ag := ag) (tg := tg) (oQ := oQ) (oR := oR) (lT := lT) (eA := eA) (eL := eL) (lo := lo) (es := es) (sz := sz) (sz1 := sz + 2) (op1 := upd (upd op sz 305) (sz + 1) 306) (ag1 := upd (upd ag sz (nI lo)) (sz + 1) (nI lo)) (tg1 := upd (upd tg sz (nI sz)) (sz + 1) (nI (sz + 1))) (oQ1 := upd oQ D (nI (sz + 1))) (oR1 := oR) (lT1 := upd lT lo (nI i)) (eA1 := eA) (eL1 := eL) (lo1 := lo + 1) (es1 := es) ih hH hT (by omega) (fun m' h => by omega) rfl hn.1 (by omega) (by omega) hD hA hP (fun post H => by rw [ht]; exact sd_37 (sr_0 (by omega) (by omega) (by omega) H)) (by omega) (by omega) (by omega) (cg_G_e (cg_G_e hG)) (cg_L_u hLt (by omega)) (fun k hk => by obtain ⟨q, a, b⟩ := heL k hk; exact ⟨q, by omega, b⟩)
  have gQ' : oQ1 D = nI (sz + 1) := gQ.trans pk_us
  obtain ⟨s2, op2, ag2, tg2, oA2, oP2, R2, ⟨b1, b2⟩, ⟨f1, f2, f3⟩, ⟨f4, f5⟩, ⟨gA2, gP2⟩, E1, G2⟩ := cg_SpE (k := 1) (j := tk_en tk (i + 1)) (lo1 := lo) hH hT (by omega) (fun m' h => by rw [show m' = 0 by omega]; exact ⟨_, hn.1⟩) rfl hn.2.1 (by omega) hD gA gP (fun post H => by rw [ht]; exact sd_37 (sr_1 H)) (by omega) G1
  have hT1 : upd lT lo (nI i) lo = nI i := pk_us
  have ca := cl_a hT1 (by omega) (by omega) (by omega) heL h10 Z2
  have cx := cl_x hT1 (by omega) (by omega) (by omega) heL h10 Z2
  obtain ⟨tg', c1, c2, c3⟩ := sx_closeL (u0 := u0) (i := i) (dp := nI (D + 1)) (sz := s2 + 1) (lo := lo) (es := es2) (op := upd op2 s2 307) (ag := upd ag2 s2 0) (tg := upd (upd (upd tg2 s2 (nI s2)) s2 (nI (sz + 1))) (sz + 1) (nI (s2 + 1))) (oA := oA2) (oP := upd oP2 D (nI (2 + 1))) (oQ := oQ1) (oR := oR1) (lT := lT2) (eA := eA2) (eL := eL2) (by omega) (fun q h1 h2 => by obtain ⟨_, a, x, y, z⟩ := ca q h1 h2; exact ⟨a, by omega, z⟩)
  have c3' : ∀ j, j < 1000 → ¬ (sz + 2 ≤ j ∧ j < s1) → tg' j = upd (upd (upd tg2 s2 (nI s2)) s2 (nI (sz + 1))) (sz + 1) (nI (s2 + 1)) j := fun j hj hn' => c3 j (fun ⟨q, x, y, z⟩ => by
    obtain ⟨_, a, w1, w2, w3⟩ := ca q x y
    rw [w3] at z
    have := (nI_eq (by omega) (by omega)).mp z
    omega)
  have O2 : ∀ j, j < s2 → upd op2 s2 307 j = op2 j := fun j h => pk_un (by omega)
  have A2 : ∀ j, j < s2 → upd ag2 s2 0 j = ag2 j := fun j h => pk_un (by omega)
  have O1 : ∀ j, j < s1 → upd op2 s2 307 j = op1 j := fun j h => (O2 j (by omega)).trans (f1 j (by omega))
  have A1 : ∀ j, j < s1 → upd ag2 s2 0 j = ag1 j := fun j h => (A2 j (by omega)).trans (f2 j (by omega))
  have T0 : ∀ j, j < sz + 1 → tg' j = tg1 j := fun j h => (c3' j (by omega) (by omega)).trans ((pk_un (by omega)).trans ((pk_un (by omega)).trans ((pk_un (by omega)).trans (f3 j (by omega)))))
  refine ⟨s2 + 1, es2, upd op2 s2 307, upd ag2 s2 0, tg', oA2, upd oP2 D (nI (2 + 1)), oQ1, oR1, lT2, eA2, eL2, cg_Rc_tr R1 (cg_Rc_tr R2 (cg_SL (k := 2) hH hT hD (by omega) (by omega) gA2 gP2 (fun post H => ?_))), ⟨by omega, by omega⟩, ⟨by omega, by omega⟩, ⟨?_, ?_, ?_⟩, ⟨cg_f_tr h4 f4 (Nat.le_refl _), cg_f_u (cg_f_tr h5 f5 (Nat.le_refl _)) (Nat.le_refl _), ?_, h7⟩, ⟨?_, h9, h10⟩, cg_G_c (cg_G_u (cg_G_u (cg_G_e G2) (by omega)) (by omega)) c2 c3 (by omega), cl_z hT1 (by omega) (by omega) (by omega) Z2 _ _, ?_⟩
  · rw [ht]
    exact sd_37 (sr_2 (by omega) (by omega) (by omega) gQ' (c1 _ H))
  · exact fun q hq => (O1 q (by omega)).trans ((h1 q (by omega)).trans ((pk_un (by omega)).trans (pk_un (by omega))))
  · exact fun q hq => (A1 q (by omega)).trans ((h2 q (by omega)).trans ((pk_un (by omega)).trans (pk_un (by omega))))
  · exact fun q hq => (T0 q (by omega)).trans ((h3 q (by omega)).trans ((pk_un (by omega)).trans (pk_un (by omega))))
  · exact fun q hq => (h6 q hq).trans (pk_un (by omega))
  · exact fun q hq => (h8 q (by omega)).trans (pk_un (by omega))
  · refine ss_repeat (g := sz) (q1 := s1) (Xb := cg_X (upd lT lo (nI i)) eA2 eL2 (lo + 1) es es2) hL hT ht (by omega) ?_ ?_ ?_ (by omega) ?_ ?_ ?_ (sm_S_tr S2 (fun j a b => ⟨O1 j b, A1 j b, fun hx => ?_⟩) (fun j a b => Iff.rfl)) (sm_E_tr E1 (fun j a b => ⟨O2 j b, A2 j b, ?_⟩)) pk_us ?_ (by omega) (fun j a b hx => c2 j ((cx j).mp hx) (by omega)) (fun j a b => cg_Xn (cl_z (lT := lT) hT1 (by omega) (n := tk_en tk i) (by omega) (by omega) Z2 0 0) hLt (by omega) (by omega) (by omega) (by omega))
    · exact (O1 sz (by omega)).trans ((h1 sz (by omega)).trans ((pk_un (by omega)).trans pk_us))
    · exact (A1 sz (by omega)).trans ((h2 sz (by omega)).trans ((pk_un (by omega)).trans pk_us))
    · exact (T0 sz (by omega)).trans ((h3 sz (by omega)).trans ((pk_un (by omega)).trans pk_us))
    · exact (O1 (sz + 1) (by omega)).trans ((h1 (sz + 1) (by omega)).trans pk_us)
    · exact (A1 (sz + 1) (by omega)).trans ((h2 (sz + 1) (by omega)).trans pk_us)
    · exact (c3' (sz + 1) (by omega) (by omega)).trans pk_us
    · exact (c3 j (fun h => hx ((cx j).mpr h))).trans ((pk_un (by omega)).trans ((pk_un (by omega)).trans ((pk_un (by omega)).trans (f3 j (by omega)))))
    · exact (c3' j (by omega) (by omega)).trans ((pk_un (by omega)).trans ((pk_un (by omega)).trans (pk_un (by omega))))
    · exact (c3' s2 (by omega) (by omega)).trans ((pk_un (by omega)).trans pk_us)
theorem cc_40 (ih : cg_PS u0 tk L f) (hH : xs_H u0 tk p L) (hT : tk_T tk L true i) (hf : tk_en tk i - i ≤ f + 1) (hD : D ≤ i) (hsz : sz ≤ 5 * i) (hlo : 2 * lo + tk_en tk i ≤ i + L) (hes : es ≤ i) (hA : oA D = nI i) (hP : oP D = nI 0) (hG : cg_G tg sz) (hLt : cg_L lT lo i) (heL : ∀ k, k < es → ∃ j, j < i ∧ eL k = nI j) (ht : 40 ≤ tk i ∧ tk i ≤ 55) : cg_C u0 tk (f + 1) i D sz lo es op ag tg oA oP oQ oR lT eA eL := by
  have hL : L ≤ 60 := hH.2.2.1
  have hen := tk_T_en hL hT
  have ha : tk_ar (tk i) = 3 := by
    unfold tk_ar
    rw [if_neg (by omega), if_neg (by omega), if_neg (by omega), if_pos (by omega)]
  have hn := tk_n3 hL hT ha
  have hs0 : tk_sp (tk i) 0 = false := by unfold tk_sp; exact decide_eq_false (by omega)
  have hs1 : tk_sp (tk i) 1 = false := by unfold tk_sp; exact decide_eq_false (by omega)
  have hs2 : tk_sp (tk i) 2 = true := by unfold tk_sp; exact decide_eq_true (by omega)
  rw [hs0, hs1, hs2] at hn
  have hn1 := tk_T_en hL hn.1
  have hn2 := tk_T_en hL hn.2.1
  have hn3 := tk_T_en hL hn.2.2.1
  have hn4 := hn.2.2.2
  obtain ⟨s1, op1, ag1, tg1, oA1, oP1, R1, ⟨b1, b2⟩, ⟨f1, f2, f3⟩, ⟨f4, f5⟩, ⟨gA, gP⟩, E1, G1⟩ := cg_SpE (k := 0) (j := i + 1) (op := op) (ag := ag) (tg := tg) (oQ := oQ) (oR := oR) (lT := lT) (eA := eA) (eL := eL) (lo := lo) (es := es) (sz := sz) (sz1 := sz) (op1 := op) (ag1 := ag) (tg1 := tg) (oQ1 := oQ) (oR1 := oR) (lT1 := lT) (eA1 := eA) (eL1 := eL) (lo1 := lo) (es1 := es) hH hT (by omega) (fun m' h => by omega) rfl hn.1 (by omega) hD hA hP (fun post H => sd_40 ht (sf_n (by omega) (Or.inl rfl) H)) (by omega) hG
  obtain ⟨s2, op2, ag2, tg2, oA2, oP2, R2, ⟨b3, b4⟩, ⟨g1, g2, g3⟩, ⟨g4, g5⟩, ⟨gA2, gP2⟩, E2, G2⟩ := cg_SpE (k := 1) (j := tk_en tk (i + 1)) hH hT (by omega) (fun m' h => by rw [show m' = 0 by omega]; exact ⟨_, hn.1⟩) rfl hn.2.1 (by omega) hD gA gP (fun post H => sd_40 ht (sf_n (by omega) (Or.inr rfl) H)) (by omega) G1
  obtain ⟨s3, es3, op3, ag3, tg3, oA3, oP3, oQ3, oR3, lT3, eA3, eL3, R3, ⟨b5, b6⟩, ⟨e3, e4⟩, ⟨h1, h2, h3⟩, ⟨h4, h5, h6, h7⟩, ⟨gA3, gP3, gQ3, gR3⟩, ⟨h8, h9, h10⟩, G3, Z3, S3⟩ := cg_SpS (k := 2) (j := tk_en tk (tk_en tk (i + 1))) (sz1 := s2 + 3) (lo1 := lo + 1) (es1 := es) (op1 := upd (upd (upd op2 s2 308) (s2 + 1) (nI (10 + (tk i - 40)))) (s2 + 2) 309) (ag1 := upd (upd (upd ag2 s2 (nI lo)) (s2 + 1) 0) (s2 + 2) (nI (32 * (tk i - 40) + lo))) (tg1 := upd (upd (upd tg2 s2 (nI s2)) (s2 + 1) (nI (s2 + 1))) (s2 + 2) (nI (s2 + 2))) (oQ1 := upd oQ D (nI (s2 + 2))) (oR1 := oR) (lT1 := upd lT lo (nI i)) (eA1 := eA) (eL1 := eL) ih hH hT (by omega) (fun m' h => by
    by_cases z : m' = 0
    · rw [z]; exact ⟨_, hn.1⟩
    · rw [show m' = 1 by omega]; exact ⟨_, hn.2.1⟩) rfl hn.2.2.1 (by omega) (by omega) hD gA2 gP2 (fun post H => sd_40 ht (sf_2 ht (by omega) (by omega) (by omega) H)) (by omega) (by omega) (by omega) (cg_G_e (cg_G_e (cg_G_e G2))) (cg_L_u hLt (by omega)) (fun k hk => by obtain ⟨q, a, b⟩ := heL k hk; exact ⟨q, by omega, b⟩)
  have gQ3' : oQ3 D = nI (s2 + 2) := gQ3.trans pk_us
  have hT1 : upd lT lo (nI i) lo = nI i := pk_us
  have ca := cl_a hT1 (by omega) (by omega) (by omega) heL h10 Z3
  have cx := cl_x hT1 (by omega) (by omega) (by omega) heL h10 Z3
  obtain ⟨tg', c1, c2, c3⟩ := sx_closeL (u0 := u0) (i := i) (dp := nI (D + 1)) (sz := s3 + 2) (lo := lo) (es := es3) (op := upd (upd op3 s3 310) (s3 + 1) 301) (ag := upd (upd ag3 s3 (nI (tk i - 40))) (s3 + 1) 0) (tg := upd (upd (upd (upd tg3 s3 (nI s3)) (s3 + 1) (nI (s3 + 1))) (s3 + 1) (nI (s2 + 2))) (s2 + 2) (nI (s3 + 2))) (oA := oA3) (oP := upd oP3 D (nI (3 + 1))) (oQ := oQ3) (oR := oR3) (lT := lT3) (eA := eA3) (eL := eL3) (by omega) (fun q h1 h2 => by obtain ⟨_, a, x, y, z⟩ := ca q h1 h2; exact ⟨a, by omega, z⟩)
  have c3' : ∀ j, j < 1000 → ¬ (s2 + 3 ≤ j ∧ j < s3) → tg' j = upd (upd (upd (upd tg3 s3 (nI s3)) (s3 + 1) (nI (s3 + 1))) (s3 + 1) (nI (s2 + 2))) (s2 + 2) (nI (s3 + 2)) j := fun j hj hn' => c3 j (fun ⟨q, x, y, z⟩ => by
    obtain ⟨_, a, w1, w2, w3⟩ := ca q x y
    rw [w3] at z
    have := (nI_eq (by omega) (by omega)).mp z
    omega)
  have O3 : ∀ j, j < s3 → upd (upd op3 s3 310) (s3 + 1) 301 j = op3 j := fun j h => (pk_un (by omega)).trans (pk_un (by omega))
  have A3 : ∀ j, j < s3 → upd (upd ag3 s3 (nI (tk i - 40))) (s3 + 1) 0 j = ag3 j := fun j h => (pk_un (by omega)).trans (pk_un (by omega))
  have O2 : ∀ j, j < s2 → upd (upd op3 s3 310) (s3 + 1) 301 j = op2 j := fun j h => (O3 j (by omega)).trans ((h1 j (by omega)).trans ((pk_un (by omega)).trans ((pk_un (by omega)).trans (pk_un (by omega)))))
  have A2 : ∀ j, j < s2 → upd (upd ag3 s3 (nI (tk i - 40))) (s3 + 1) 0 j = ag2 j := fun j h => (A3 j (by omega)).trans ((h2 j (by omega)).trans ((pk_un (by omega)).trans ((pk_un (by omega)).trans (pk_un (by omega)))))
  have T3 : ∀ j, j < s2 + 2 → tg' j = tg3 j := fun j h => (c3' j (by omega) (by omega)).trans ((pk_un (by omega)).trans ((pk_un (by omega)).trans ((pk_un (by omega)).trans (pk_un (by omega)))))
  have T2 : ∀ j, j < s2 → tg' j = tg2 j := fun j h => (T3 j (by omega)).trans ((h3 j (by omega)).trans ((pk_un (by omega)).trans ((pk_un (by omega)).trans (pk_un (by omega)))))
  refine ⟨s3 + 2, es3, upd (upd op3 s3 310) (s3 + 1) 301, upd (upd ag3 s3 (nI (tk i - 40))) (s3 + 1) 0, tg', oA3, upd oP3 D (nI (3 + 1)), oQ3, oR3, lT3, eA3, eL3, cg_Rc_tr R1 (cg_Rc_tr R2 (cg_Rc_tr R3 (cg_SL (k := 3) hH hT hD (by omega) (by omega) gA3 gP3 (fun post H => sd_40 ht (sf_3 ht (by omega) (by omega) (by omega) gQ3' (c1 _ H)))))), ⟨by omega, by omega⟩, ⟨by omega, by omega⟩, ⟨?_, ?_, ?_⟩, ⟨cg_f_tr f4 (cg_f_tr g4 h4 (Nat.le_refl _)) (Nat.le_refl _), cg_f_u (cg_f_tr f5 (cg_f_tr g5 h5 (Nat.le_refl _)) (Nat.le_refl _)) (Nat.le_refl _), ?_, h7⟩, ⟨?_, h9, h10⟩, cg_G_c (cg_G_u (cg_G_u (cg_G_e (cg_G_e G3)) (by omega)) (by omega)) c2 c3 (by omega), cl_z hT1 (by omega) (by omega) (by omega) Z3 _ _, ?_⟩
  · exact fun q hq => (O2 q (by omega)).trans ((g1 q (by omega)).trans (f1 q hq))
  · exact fun q hq => (A2 q (by omega)).trans ((g2 q (by omega)).trans (f2 q hq))
  · exact fun q hq => (T2 q (by omega)).trans ((g3 q (by omega)).trans (f3 q hq))
  · exact fun q hq => (h6 q hq).trans (pk_un (by omega))
  · exact fun q hq => (h8 q (by omega)).trans (pk_un (by omega))
  · refine ss_for (g := s2) (g2 := s2 + 1) (g4 := s3) (q1 := s1) (q2 := s2) (q3 := s3) (Xb := cg_X (upd lT lo (nI i)) eA3 eL3 (lo + 1) es es3) hL hT ht (by omega) (sm_E_tr E1 (fun j a b => ⟨(O2 j (by omega)).trans (g1 j b), (A2 j (by omega)).trans (g2 j b), (T2 j (by omega)).trans (g3 j b)⟩)) (sm_E_tr E2 (fun j a b => ⟨O2 j b, A2 j b, T2 j b⟩)) ?_ ?_ ?_ (by omega) ?_ ?_ (by omega) ?_ ?_ ?_ (sm_S_tr S3 (fun j a b => ⟨O3 j b, A3 j b, fun hx => ?_⟩) (fun j a b => Iff.rfl)) ?_ ?_ ?_ (by omega) pk_us ?_ (by omega) (fun j a b hx => c2 j ((cx j).mp hx) (by omega)) (fun j a b => cg_Xn (cl_z (lT := lT) hT1 (by omega) (n := tk_en tk i) (by omega) (by omega) Z3 0 0) hLt (by omega) (by omega) (by omega) (by omega))
    · exact (O3 s2 (by omega)).trans ((h1 s2 (by omega)).trans ((pk_un (by omega)).trans ((pk_un (by omega)).trans pk_us)))
    · exact (A3 s2 (by omega)).trans ((h2 s2 (by omega)).trans ((pk_un (by omega)).trans ((pk_un (by omega)).trans pk_us)))
    · exact (T3 s2 (by omega)).trans ((h3 s2 (by omega)).trans ((pk_un (by omega)).trans ((pk_un (by omega)).trans pk_us)))
    · exact (O3 (s2 + 1) (by omega)).trans ((h1 (s2 + 1) (by omega)).trans ((pk_un (by omega)).trans pk_us))
    · exact (T3 (s2 + 1) (by omega)).trans ((h3 (s2 + 1) (by omega)).trans ((pk_un (by omega)).trans pk_us))
    · exact (O3 (s2 + 2) (by omega)).trans ((h1 (s2 + 2) (by omega)).trans pk_us)
    · exact (A3 (s2 + 2) (by omega)).trans ((h2 (s2 + 2) (by omega)).trans pk_us)
    · exact (c3' (s2 + 2) (by omega) (by omega)).trans pk_us
    · exact (c3 j (fun h => hx ((cx j).mpr h))).trans ((pk_un (by omega)).trans ((pk_un (by omega)).trans ((pk_un (by omega)).trans (pk_un (by omega)))))
    · exact (pk_un (by omega)).trans pk_us
    · exact (pk_un (by omega)).trans pk_us
    · exact (c3' s3 (by omega) (by omega)).trans ((pk_un (by omega)).trans ((pk_un (by omega)).trans ((pk_un (by omega)).trans pk_us)))
    · exact (c3' (s3 + 1) (by omega) (by omega)).trans ((pk_un (by omega)).trans pk_us)
/-- every statement's code is made, and means what the statement does -/
theorem cg_S (hH : xs_H u0 tk p L) : ∀ f, cg_PS u0 tk L f := by
  have hL : L ≤ 60 := hH.2.2.1
  intro f
  induction f with
  | zero =>
    intro i D sz lo es op ag tg oA oP oQ oR lT eA eL hT hf
    have := tk_T_en hL hT
    omega
  | succ f ih =>
    intro i D sz lo es op ag tg oA oP oQ oR lT eA eL hT hf hD hsz hlo hes hA hP hG hLt heL
    rcases tk_st_kinds (tk_T_ok hT : tk_st (tk i) = true) with c | c | c | c | c | c | c | c | c
    · exact cc_1 ih hH hT hf hD hsz hlo hes hA hP hG hLt heL c
    · exact cc_2 hH hT hD hA hP hG c
    · exact cc_39 hH hT hD hsz hlo hes hA hP hG c
    · exact cc_35 ih hH hT hf hD hsz hlo hes hA hP hG hLt heL c
    · exact cc_56 ih hH hT hf hD hsz hlo hes hA hP hG hLt heL c
    · exact cc_36 ih hH hT hf hD hsz hlo hes hA hP hG hLt heL c
    · exact cc_37 ih hH hT hf hD hsz hlo hes hA hP hG hLt heL c
    · exact cc_40 ih hH hT hf hD hsz hlo hes hA hP hG hLt heL c
    · exact cc_pr hH hT hD hsz hA hP hG c
end
end
section
abbrev xs_tg (u : SX) (tg : Nat → Int32) : SX := (u.1, u.2.1, u.2.2.1, u.2.2.2.1, u.2.2.2.2.1, u.2.2.2.2.2.1, u.2.2.2.2.2.2.1, u.2.2.2.2.2.2.2.1, u.2.2.2.2.2.2.2.2.1, u.2.2.2.2.2.2.2.2.2.1, u.2.2.2.2.2.2.2.2.2.2.1, u.2.2.2.2.2.2.2.2.2.2.2.1, u.2.2.2.2.2.2.2.2.2.2.2.2.1, u.2.2.2.2.2.2.2.2.2.2.2.2.2.1, u.2.2.2.2.2.2.2.2.2.2.2.2.2.2.1, u.2.2.2.2.2.2.2.2.2.2.2.2.2.2.2.1, u.2.2.2.2.2.2.2.2.2.2.2.2.2.2.2.2.1, u.2.2.2.2.2.2.2.2.2.2.2.2.2.2.2.2.2.1, u.2.2.2.2.2.2.2.2.2.2.2.2.2.2.2.2.2.2.1, u.2.2.2.2.2.2.2.2.2.2.2.2.2.2.2.2.2.2.2.1, u.2.2.2.2.2.2.2.2.2.2.2.2.2.2.2.2.2.2.2.2.1, u.2.2.2.2.2.2.2.2.2.2.2.2.2.2.2.2.2.2.2.2.2.1, u.2.2.2.2.2.2.2.2.2.2.2.2.2.2.2.2.2.2.2.2.2.2.1, u.2.2.2.2.2.2.2.2.2.2.2.2.2.2.2.2.2.2.2.2.2.2.2.1, u.2.2.2.2.2.2.2.2.2.2.2.2.2.2.2.2.2.2.2.2.2.2.2.2.1, u.2.2.2.2.2.2.2.2.2.2.2.2.2.2.2.2.2.2.2.2.2.2.2.2.2.1, u.2.2.2.2.2.2.2.2.2.2.2.2.2.2.2.2.2.2.2.2.2.2.2.2.2.2.1, tg, u.2.2.2.2.2.2.2.2.2.2.2.2.2.2.2.2.2.2.2.2.2.2.2.2.2.2.2.2.1, u.2.2.2.2.2.2.2.2.2.2.2.2.2.2.2.2.2.2.2.2.2.2.2.2.2.2.2.2.2.1, u.2.2.2.2.2.2.2.2.2.2.2.2.2.2.2.2.2.2.2.2.2.2.2.2.2.2.2.2.2.2.1, u.2.2.2.2.2.2.2.2.2.2.2.2.2.2.2.2.2.2.2.2.2.2.2.2.2.2.2.2.2.2.2.1, u.2.2.2.2.2.2.2.2.2.2.2.2.2.2.2.2.2.2.2.2.2.2.2.2.2.2.2.2.2.2.2.2.1, u.2.2.2.2.2.2.2.2.2.2.2.2.2.2.2.2.2.2.2.2.2.2.2.2.2.2.2.2.2.2.2.2.2.1, u.2.2.2.2.2.2.2.2.2.2.2.2.2.2.2.2.2.2.2.2.2.2.2.2.2.2.2.2.2.2.2.2.2.2.1, u.2.2.2.2.2.2.2.2.2.2.2.2.2.2.2.2.2.2.2.2.2.2.2.2.2.2.2.2.2.2.2.2.2.2.2.1, u.2.2.2.2.2.2.2.2.2.2.2.2.2.2.2.2.2.2.2.2.2.2.2.2.2.2.2.2.2.2.2.2.2.2.2.2.1, u.2.2.2.2.2.2.2.2.2.2.2.2.2.2.2.2.2.2.2.2.2.2.2.2.2.2.2.2.2.2.2.2.2.2.2.2.2)
abbrev xs_tk (u : SX) (tn : Nat → Int32) : SX := (u.1, u.2.1, u.2.2.1, u.2.2.2.1, u.2.2.2.2.1, u.2.2.2.2.2.1, u.2.2.2.2.2.2.1, u.2.2.2.2.2.2.2.1, u.2.2.2.2.2.2.2.2.1, u.2.2.2.2.2.2.2.2.2.1, u.2.2.2.2.2.2.2.2.2.2.1, u.2.2.2.2.2.2.2.2.2.2.2.1, u.2.2.2.2.2.2.2.2.2.2.2.2.1, u.2.2.2.2.2.2.2.2.2.2.2.2.2.1, tn, u.2.2.2.2.2.2.2.2.2.2.2.2.2.2.2.1, u.2.2.2.2.2.2.2.2.2.2.2.2.2.2.2.2.1, u.2.2.2.2.2.2.2.2.2.2.2.2.2.2.2.2.2.1, u.2.2.2.2.2.2.2.2.2.2.2.2.2.2.2.2.2.2.1, u.2.2.2.2.2.2.2.2.2.2.2.2.2.2.2.2.2.2.2.1, u.2.2.2.2.2.2.2.2.2.2.2.2.2.2.2.2.2.2.2.2.1, u.2.2.2.2.2.2.2.2.2.2.2.2.2.2.2.2.2.2.2.2.2.1, u.2.2.2.2.2.2.2.2.2.2.2.2.2.2.2.2.2.2.2.2.2.2.1, u.2.2.2.2.2.2.2.2.2.2.2.2.2.2.2.2.2.2.2.2.2.2.2.1, u.2.2.2.2.2.2.2.2.2.2.2.2.2.2.2.2.2.2.2.2.2.2.2.2.1, u.2.2.2.2.2.2.2.2.2.2.2.2.2.2.2.2.2.2.2.2.2.2.2.2.2.1, u.2.2.2.2.2.2.2.2.2.2.2.2.2.2.2.2.2.2.2.2.2.2.2.2.2.2.1, u.2.2.2.2.2.2.2.2.2.2.2.2.2.2.2.2.2.2.2.2.2.2.2.2.2.2.2.1, u.2.2.2.2.2.2.2.2.2.2.2.2.2.2.2.2.2.2.2.2.2.2.2.2.2.2.2.2.1, u.2.2.2.2.2.2.2.2.2.2.2.2.2.2.2.2.2.2.2.2.2.2.2.2.2.2.2.2.2.1, u.2.2.2.2.2.2.2.2.2.2.2.2.2.2.2.2.2.2.2.2.2.2.2.2.2.2.2.2.2.2.1, u.2.2.2.2.2.2.2.2.2.2.2.2.2.2.2.2.2.2.2.2.2.2.2.2.2.2.2.2.2.2.2.1, u.2.2.2.2.2.2.2.2.2.2.2.2.2.2.2.2.2.2.2.2.2.2.2.2.2.2.2.2.2.2.2.2.1, u.2.2.2.2.2.2.2.2.2.2.2.2.2.2.2.2.2.2.2.2.2.2.2.2.2.2.2.2.2.2.2.2.2.1, u.2.2.2.2.2.2.2.2.2.2.2.2.2.2.2.2.2.2.2.2.2.2.2.2.2.2.2.2.2.2.2.2.2.2.1, u.2.2.2.2.2.2.2.2.2.2.2.2.2.2.2.2.2.2.2.2.2.2.2.2.2.2.2.2.2.2.2.2.2.2.2.1, u.2.2.2.2.2.2.2.2.2.2.2.2.2.2.2.2.2.2.2.2.2.2.2.2.2.2.2.2.2.2.2.2.2.2.2.2.1, u.2.2.2.2.2.2.2.2.2.2.2.2.2.2.2.2.2.2.2.2.2.2.2.2.2.2.2.2.2.2.2.2.2.2.2.2.2)
/-- an operation that jumps -/
def cp_j (x : Int32) : Prop := x = 301 ∨ x = 302 ∨ x = 303 ∨ x = 306 ∨ x = 309 ∨ x = 307
theorem cp_j_t {t : Nat} (h : vm_jmp t) : cp_j (nI t) := by
  unfold vm_jmp at h
  unfold cp_j
  rcases h with h | h | h | h | h | h
  all_goals (subst h; first | exact Or.inl rfl | exact Or.inr (Or.inl rfl) | exact Or.inr (Or.inr (Or.inl rfl)) | exact Or.inr (Or.inr (Or.inr (Or.inl rfl))) | exact Or.inr (Or.inr (Or.inr (Or.inr (Or.inl rfl)))) | exact Or.inr (Or.inr (Or.inr (Or.inr (Or.inr rfl)))))
theorem cp_j1 {post : Int32 → Prop} {x : Int32} (h : cp_j x) (H : post 1) : wpX_jumps post x := by
  unfold cp_j at h
  by_cases c1 : x = 301
  · exact br_t c1 H
  refine br_f c1 ?_
  by_cases c2 : x = 302
  · exact br_t c2 H
  refine br_f c2 ?_
  by_cases c3 : x = 303
  · exact br_t c3 H
  refine br_f c3 ?_
  by_cases c4 : x = 306
  · exact br_t c4 H
  refine br_f c4 ?_
  by_cases c5 : x = 309
  · exact br_t c5 H
  refine br_f c5 ?_
  by_cases c6 : x = 307
  · exact br_t c6 H
  · exact absurd h (by intro z; rcases z with z | z | z | z | z | z <;> contradiction)
theorem cp_j0 {post : Int32 → Prop} {x : Int32} (h : ¬ cp_j x) (H : post 0) : wpX_jumps post x := by
  unfold cp_j at h
  exact br_f (fun z => h (Or.inl z)) (br_f (fun z => h (Or.inr (Or.inl z))) (br_f (fun z => h (Or.inr (Or.inr (Or.inl z)))) (br_f (fun z => h (Or.inr (Or.inr (Or.inr (Or.inl z))))) (br_f (fun z => h (Or.inr (Or.inr (Or.inr (Or.inr (Or.inl z)))))) (br_f (fun z => h (Or.inr (Or.inr (Or.inr (Or.inr (Or.inr z)))))) H)))))
/-- targets that are led on -/
def cp_I (op tg0 tg : Nat → Int32) (sz : Nat) : Prop := ∀ j, j < sz → ∃ x y, x ≤ sz ∧ y ≤ sz ∧ tg0 j = nI x ∧ tg j = nI y ∧ (cp_j (op j) → vm_Js op tg0 sz x y)
section
variable {u : SX} {sz k : Nat} {tg0 tg : Nat → Int32}
theorem cp_I_u {op : Nat → Int32} {x y : Nat} (h : cp_I op tg0 tg sz) (hx : x ≤ sz) (hy : y ≤ sz) (e : tg0 k = nI x) (hj : cp_j (op k) → vm_Js op tg0 sz x y) : cp_I op tg0 (upd tg k (nI y)) sz := fun j hjs => by
  by_cases z : j = k
  · rw [z]; exact ⟨x, y, hx, hy, e, pk_us, hj⟩
  · obtain ⟨a, b, h1, h2, h3, h4, h5⟩ := h j hjs
    exact ⟨a, b, h1, h2, h3, (pk_un z).trans h4, h5⟩
theorem cp_70 {post : SX → Prop} {n : Nat} {x2 : Int32} (hk : k < 400) (h1 : cp_j (gx_operation u k) → wX_leadOn_2 post (gx_time u) (gx_active u) (gx_isRunning u) (gx_wantedCount u) (gx_size u) (gx_depth u) (gx_loops u) (gx_exits u) (gx_height u) (gx_allRounds u) (gx_isOver u) n (nI (k + 1)) (gx_variables u) (gx_row u) (gx_inputs u) (gx_taken u) (gx_outputs u) (gx_timerOn u) (gx_timerBegin u) (gx_counterLast u) (gx_edgeLast u) (gx_blocks u) (gx_tokens u) (gx_tokenCount u) (gx_wanted u) (gx_spans u) (gx_operation u) (gx_argument u) (upd tg k x2) (gx_openAt u) (gx_openPhase u) (gx_openPatch u) (gx_openPatch2 u) (gx_loopToken u) (gx_exitAt u) (gx_exitLoop u) (gx_stack u) (gx_loopRounds u) (gx_loopLast u)) (h0 : ¬ cp_j (gx_operation u k) → wX_leadOn_2 post (gx_time u) (gx_active u) (gx_isRunning u) (gx_wantedCount u) (gx_size u) (gx_depth u) (gx_loops u) (gx_exits u) (gx_height u) (gx_allRounds u) (gx_isOver u) n (nI (k + 1)) (gx_variables u) (gx_row u) (gx_inputs u) (gx_taken u) (gx_outputs u) (gx_timerOn u) (gx_timerBegin u) (gx_counterLast u) (gx_edgeLast u) (gx_blocks u) (gx_tokens u) (gx_tokenCount u) (gx_wanted u) (gx_spans u) (gx_operation u) (gx_argument u) (upd tg k (tg k)) (gx_openAt u) (gx_openPhase u) (gx_openPatch u) (gx_openPatch2 u) (gx_loopToken u) (gx_exitAt u) (gx_exitLoop u) (gx_stack u) (gx_loopRounds u) (gx_loopLast u)) : wX_leadOn_70 post (wX_leadOn_2 post (gx_time u) (gx_active u) (gx_isRunning u) (gx_wantedCount u) (gx_size u) (gx_depth u) (gx_loops u) (gx_exits u) (gx_height u) (gx_allRounds u) (gx_isOver u) n) (nI k) x2 (gx_time u) (gx_active u) (gx_isRunning u) (gx_wantedCount u) (gx_size u) (gx_depth u) (gx_loops u) (gx_exits u) (gx_height u) (gx_allRounds u) (gx_isOver u) (gx_variables u) (gx_row u) (gx_inputs u) (gx_taken u) (gx_outputs u) (gx_timerOn u) (gx_timerBegin u) (gx_counterLast u) (gx_edgeLast u) (gx_blocks u) (gx_tokens u) (gx_tokenCount u) (gx_wanted u) (gx_spans u) (gx_operation u) (gx_argument u) tg (gx_openAt u) (gx_openPhase u) (gx_openPatch u) (gx_openPatch2 u) (gx_loopToken u) (gx_exitAt u) (gx_exitLoop u) (gx_stack u) (gx_loopRounds u) (gx_loopLast u) := by
  refine And.intro (vp_in_nI hk (by decide)) ?_
  rw [nI_clamp (by omega)]
  by_cases c : cp_j (gx_operation u k)
  · exact cp_j1 c (br_f (by decide) (And.intro (vp_in_nI hk (by decide)) (nm_e (nm_r (nI_1 k) (h1 c)))))
  · exact cp_j0 c (br_t rfl (And.intro (vp_in_nI hk (by decide)) (And.intro (vp_in_nI hk (by decide)) (nm_e (nm_r (nI_1 k) (h0 c))))))
theorem cp_19 (hsz : gx_size u = nI sz) (hs4 : sz ≤ 400) (hk : k < sz) (hI : cp_I (gx_operation u) tg0 tg sz) (hj : cp_j (gx_operation u k)) {a : Nat} : ∀ (m c b : Nat), c + m = 8 → b ≤ sz → vm_Js (gx_operation u) tg0 sz a b → ∃ b', b' ≤ sz ∧ vm_Js (gx_operation u) tg0 sz a b' ∧ ∀ (post : SX → Prop) (n : Nat), wX_leadOn_2 post (gx_time u) (gx_active u) (gx_isRunning u) (gx_wantedCount u) (gx_size u) (gx_depth u) (gx_loops u) (gx_exits u) (gx_height u) (gx_allRounds u) (gx_isOver u) n (nI (k + 1)) (gx_variables u) (gx_row u) (gx_inputs u) (gx_taken u) (gx_outputs u) (gx_timerOn u) (gx_timerBegin u) (gx_counterLast u) (gx_edgeLast u) (gx_blocks u) (gx_tokens u) (gx_tokenCount u) (gx_wanted u) (gx_spans u) (gx_operation u) (gx_argument u) (upd tg k (nI b')) (gx_openAt u) (gx_openPhase u) (gx_openPatch u) (gx_openPatch2 u) (gx_loopToken u) (gx_exitAt u) (gx_exitLoop u) (gx_stack u) (gx_loopRounds u) (gx_loopLast u) → wX_leadOn_19 post (wX_leadOn_2 post (gx_time u) (gx_active u) (gx_isRunning u) (gx_wantedCount u) (gx_size u) (gx_depth u) (gx_loops u) (gx_exits u) (gx_height u) (gx_allRounds u) (gx_isOver u) n) (nI k) (gx_time u) (gx_active u) (gx_isRunning u) (gx_wantedCount u) (gx_size u) (gx_depth u) (gx_loops u) (gx_exits u) (gx_height u) (gx_allRounds u) (gx_isOver u) (gx_variables u) (gx_row u) (gx_inputs u) (gx_taken u) (gx_outputs u) (gx_timerOn u) (gx_timerBegin u) (gx_counterLast u) (gx_edgeLast u) (gx_blocks u) (gx_tokens u) (gx_tokenCount u) (gx_wanted u) (gx_spans u) (gx_operation u) (gx_argument u) tg (gx_openAt u) (gx_openPhase u) (gx_openPatch u) (gx_openPatch2 u) (gx_loopToken u) (gx_exitAt u) (gx_exitLoop u) (gx_stack u) (gx_loopRounds u) (gx_loopLast u) (m + 1) (nI b) (nI c) := by
  intro m
  induction m with
  | zero =>
    intro c b hc hb hJ
    exact ⟨b, hb, hJ, fun post n H => br_t (nI_le (a := 8) (by omega) (by omega)) (cp_70 (by omega) (fun _ => H) (fun z => absurd hj z))⟩
  | succ m ih =>
    intro c b hc hb hJ
    by_cases c1 : b < sz ∧ gx_operation u b = 301
    · obtain ⟨x, y, hx, hy, e1, e2, hxy⟩ := hI b c1.1
      have hJ2 : vm_Js (gx_operation u) tg0 sz a y := vm_Js_tr hJ (vm_Js_tr (vm_Js_1 c1.1 c1.2 e1 (by omega)) (hxy (Or.inl c1.2)))
      obtain ⟨b', h1, h2, h3⟩ := ih (c + 1) y (by omega) hy hJ2
      refine ⟨b', h1, h2, fun post n H => br_f (nI_ge (b := 8) (by omega) (by decide)) (And.intro (vp_in_nI (by omega) (by decide)) ?_)⟩
      rw [nI_clamp (by omega : k < 2 ^ 31), nI_clamp (by omega : b < 2 ^ 31)]
      refine cp_j1 hj (br_f (by decide) (br_f ?_ (And.intro (vp_in_nI (by omega) (by decide)) ?_)))
      · rw [hsz]
        exact nI_ge c1.1 (by omega)
      · refine br_t c1.2 (And.intro (vp_in_nI (by omega) (by decide)) (nm_r (e' := nI y) e2 (nm_r (nI_1 c) (h3 post n H))))
    · refine ⟨b, hb, hJ, fun post n H => br_f (nI_ge (b := 8) (by omega) (by decide)) (And.intro (vp_in_nI (by omega) (by decide)) ?_)⟩
      rw [nI_clamp (by omega : k < 2 ^ 31), nI_clamp (by omega : b < 2 ^ 31)]
      refine cp_j1 hj (br_f (by decide) ?_)
      by_cases c2 : b < sz
      · refine br_f ?_ (And.intro (vp_in_nI (by omega) (by decide)) ?_)
        · rw [hsz]
          exact nI_ge c2 (by omega)
        · exact br_f (fun z => c1 ⟨c2, z⟩) (cp_70 (by omega) (fun _ => H) (fun z => absurd hj z))
      · refine br_t ?_ (cp_70 (by omega) (fun _ => H) (fun z => absurd hj z))
        rw [hsz]
        exact nI_le (by omega) (by omega)
theorem cp_2 (hsz : gx_size u = nI sz) (hs4 : sz ≤ 400) : ∀ (m k : Nat) (tg : Nat → Int32), k + m = sz → cp_I (gx_operation u) tg0 tg sz → ∃ tg', cp_I (gx_operation u) tg0 tg' sz ∧ ∀ post : SX → Prop, post (xs_tg u tg') → wX_leadOn_2 post (gx_time u) (gx_active u) (gx_isRunning u) (gx_wantedCount u) (gx_size u) (gx_depth u) (gx_loops u) (gx_exits u) (gx_height u) (gx_allRounds u) (gx_isOver u) (m + 1) (nI k) (gx_variables u) (gx_row u) (gx_inputs u) (gx_taken u) (gx_outputs u) (gx_timerOn u) (gx_timerBegin u) (gx_counterLast u) (gx_edgeLast u) (gx_blocks u) (gx_tokens u) (gx_tokenCount u) (gx_wanted u) (gx_spans u) (gx_operation u) (gx_argument u) tg (gx_openAt u) (gx_openPhase u) (gx_openPatch u) (gx_openPatch2 u) (gx_loopToken u) (gx_exitAt u) (gx_exitLoop u) (gx_stack u) (gx_loopRounds u) (gx_loopLast u) := by
  intro m
  induction m with
  | zero =>
    intro k tg hk hI
    refine ⟨tg, hI, fun post H => br_t ?_ H⟩
    rw [hsz]
    exact nI_le (by omega) (by omega)
  | succ m ih =>
    intro k tg hk hI
    obtain ⟨x, y, hx, hy, e1, e2, hxy⟩ := hI k (by omega)
    have hnle : ¬ gx_size u ≤ nI k := by
      rw [hsz]
      exact nI_ge (by omega) (by omega)
    by_cases hj : cp_j (gx_operation u k)
    · obtain ⟨b', h1, h2, h3⟩ := cp_19 hsz hs4 (by omega) hI hj 8 0 y (by omega) hy (hxy hj)
      obtain ⟨tg', k1, k2⟩ := ih (k + 1) (upd tg k (nI b')) (by omega) (cp_I_u hI hx h1 e1 (fun _ => h2))
      exact ⟨tg', k1, fun post H => br_f hnle (And.intro (vp_in_nI (by omega) (by decide)) (nm_r (e' := nI y) (by rw [nI_clamp (by omega)]; exact e2) ⟨9, h3 post (m + 1) (k2 post H)⟩))⟩
    · obtain ⟨tg', k1, k2⟩ := ih (k + 1) (upd tg k (tg k)) (by omega) (by rw [e2]; exact cp_I_u hI hx hy e1 hxy)
      refine ⟨tg', k1, fun post H => br_f hnle (And.intro (vp_in_nI (by omega) (by decide)) (nm_e ⟨1, br_f (by decide) (And.intro (vp_in_nI (by omega) (by decide)) ?_)⟩))⟩
      rw [nI_clamp (by omega)]
      exact cp_j0 hj (br_t rfl (cp_70 (by omega) (fun z => absurd z hj) (fun _ => k2 post H)))
theorem cp_lead (hsz : gx_size u = nI sz) (hs4 : sz ≤ 400) (hG : cg_G (gx_target u) sz) : ∃ tg', cp_I (gx_operation u) (gx_target u) tg' sz ∧ ∀ post : SX → Prop, post (xs_tg u tg') → wpX_leadOn post u := by
  obtain ⟨tg', h1, h2⟩ := cp_2 (tg0 := gx_target u) hsz hs4 sz 0 (gx_target u) (by omega) (fun j hj => by
    obtain ⟨b, x, y⟩ := hG j hj
    exact ⟨b, b, x, x, y, y, fun _ => vm_Js_rf⟩)
  exact ⟨tg', h1, fun post H => ⟨sz + 1, h2 post H⟩⟩
end
/-- the code carries the program out -/
def cp_Code (u : SX) (tk : Nat → Nat) : Prop := ∃ sz, gx_size u = nI sz ∧ sz ≤ 400 ∧ ∀ (E : ds_E) (D : ds_T) (lr ll : Nat → Int32), ∃ n pc r' lr' ll', n ≤ 130000 ∧ vm_R (vm_stp E (gx_operation u) (gx_argument u) (gx_target u) sz) n (0, ([], 0, 0, D, lr, ll)) (pc, ([], r', 1, (ex_x E tk 60 0 (0, D)).2.2, lr', ll'))
theorem cp_code {tk : Nat → Nat} {op ag tg tg' : Nat → Int32} {s : Nat} {X : Nat → Prop} (hs : s + 1 ≤ 400) (hX : ∀ j, ¬ X j) (hS : sm_S tk 60 op ag tg 0 0 s 0 X) (hI : cp_I (upd op s 311) (upd tg s (nI s)) tg' (s + 1)) (E : ds_E) (D : ds_T) (lr ll : Nat → Int32) : ∃ n pc r' lr' ll', n ≤ 130000 ∧ vm_R (vm_stp E (upd op s 311) (upd ag s 0) tg' (s + 1)) n (0, ([], 0, 0, D, lr, ll)) (pc, ([], r', 1, (ex_x E tk 60 0 (0, D)).2.2, lr', ll')) := by
  have hr := ex_x_r (E := E) (tk := tk) 60 0 (0, D) (by show 0 ≤ 300; omega)
  obtain ⟨pc', ov', lr', ll', h1, _, h3, h4, h5⟩ := hS.2 E (upd op s 311) (upd ag s 0) (upd tg s (nI s)) (s + 1) 0 (fun j a b => ⟨pk_un (by omega), pk_un (by omega), fun _ => pk_un (by omega), fun z => absurd z (hX j)⟩) (by omega) hs (by omega) 0 D lr ll (by omega)
  generalize ex_x E tk 60 0 (0, D) = o at *
  have key : ∃ n pc lr' ll', n ≤ 130000 ∧ vm_R (vm_stp E (upd op s 311) (upd ag s 0) (upd tg s (nI s)) (s + 1)) n (0, ([], 0, 0, D, lr, ll)) (pc, ([], o.2.1, 1, o.2.2, lr', ll')) := by
    by_cases h0 : o.1 = 0
    · obtain ⟨e1, e2⟩ := h3 h0
      rw [e1, e2] at h1
      have h2 := vm_B_tr h1 (st_311 (E := E) (op := upd op s 311) (ag := upd ag s 0) (tg := upd tg s (nI s)) (sz := s + 1) (pc := s) (q := s) (by omega) pk_us pk_us (by omega))
      obtain ⟨n, hn, h2⟩ := h2
      exact ⟨n, _, lr', ll', by omega, h2⟩
    · have e2 : ov' = 1 := by
        by_cases h1' : o.1 = 1
        · exact (h4 h1').1 rfl
        · exact h5 (by omega)
      rw [e2] at h1
      obtain ⟨n, hn, h1⟩ := h1
      exact ⟨n, _, lr', ll', by omega, h1⟩
  obtain ⟨n, pc, lr', ll', hn, hR⟩ := key
  obtain ⟨n', y', h1, h2⟩ := vm_lead (tg' := tg') (fun k hk => by
    obtain ⟨x, y, a, b, c, d, e⟩ := hI k hk
    exact ⟨x, y, by omega, by omega, c, d, fun t ht et hj => e (by rw [et]; exact cp_j_t hj)⟩) n 0 0 _ _ pc hR (by show 1 ≠ 0; decide) vm_Js_rf
  exact ⟨n', y', o.2.1, lr', ll', by omega, h2⟩
theorem cp_compile {u : SX} {tk : Nat → Nat} {p L : Nat} (hp : p ≤ 1) (hac : gx_active u = nI p) (hL : L ≤ 60) (hF : tk_F tk L [true] 0) (hk : ∀ i, i < L → gx_tokens u (60 * p + i) = nI (tk i)) (hs : gx_tokenCount u p = nI L) :
    ∃ (sp : Nat → Int32) (sz dp lo es : Int32) (op ag tg oA oP oQ oR lT eA eL : Nat → Int32), cp_Code (xs_cu (xs_sp u sp) sz dp lo es op ag tg oA oP oQ oR lT eA eL) tk ∧ ∀ post : SX → Prop, post (xs_cu (xs_sp u sp) sz dp lo es op ag tg oA oP oQ oR lT eA eL) → wpX_compile post u := by
  obtain ⟨sp, hsp, hm⟩ := xa_measure hp hac hL hF hk hs
  have hH : xs_H (xs_sp u sp) tk p L := ⟨hac, hp, hL, hk, hsp⟩
  have hT : tk_T tk L true 0 := ⟨L, hF, by omega⟩
  have hen := tk_T_en hL hT
  obtain ⟨s, es, op, ag, tg, oA, oP, oQ, oR, lT, eA, eL, ⟨c, R⟩, ⟨b1, b2⟩, _, _, _, _, G, _, S⟩ := cg_S hH 60 0 0 0 0 0 (gx_operation u) (gx_argument u) (gx_target u) (upd (gx_openAt u) 0 (nI 0)) (upd (gx_openPhase u) 0 0) (gx_openPatch u) (gx_openPatch2 u) (gx_loopToken u) (gx_exitAt u) (gx_exitLoop u) hT (by omega) (by omega) (by omega) (by omega) (by omega) pk_us pk_us (fun j hj => by omega) (fun l hl => by omega) (fun k hk => by omega)
  obtain ⟨tg', hI, hl⟩ := cp_lead (u := xs_cu (xs_sp u sp) (nI (s + 1)) (nI 0) (nI 0) (nI es) (upd op s 311) (upd ag s 0) (upd tg s (nI s)) oA oP oQ oR lT eA eL) (sz := s + 1) rfl (by omega) (cg_G_e G)
  refine ⟨sp, nI (s + 1), nI 0, nI 0, nI es, upd op s 311, upd ag s 0, tg', oA, oP, oQ, oR, lT, eA, eL, ⟨s + 1, rfl, by omega, fun E D lr ll => cp_code (by omega) (fun j h => absurd h.1 (by decide)) S hI E D lr ll⟩, fun post H => ?_⟩
  unfold wpX_compile
  refine hm _ ?_
  refine xc_enter (u0 := xs_sp u sp) (sz := 0) (D := 0) (i := 0) (by omega) ?_
  refine ⟨1 + c, R post 1 ?_⟩
  refine br_t (nI_le (a := 0) (b := 0) (by omega) (by decide)) ?_
  exact xc_emit (u0 := xs_sp u sp) (by omega) (hl _ H)
end
section
/-- what is wanted, in the array -/
def sn_K (wa : Nat → Int32) : List Bool → Prop
  | [] => True
  | b :: l => wa l.length = (if b = true then 1 else 0) ∧ sn_K wa l
theorem sn_K_upd {wa : Nat → Int32} {k : Nat} {v : Int32} : ∀ l : List Bool, l.length ≤ k → sn_K wa l → sn_K (upd wa k v) l := by
  intro l
  induction l with
  | nil => intro _ _; trivial
  | cons x l ih =>
    intro hk h
    rw [List.length_cons] at hk
    exact ⟨(pk_un (by omega)).trans h.1, ih (by omega) h.2⟩
theorem tk_pa_drop {t c : Nat} (hc : c < tk_ar t) : (tk_pa t).drop c = tk_sp t c :: (tk_pa t).drop (c + 1) := by
  have h : c < (tk_pa t).length := by rw [tk_pa_len]; exact hc
  rw [List.drop_eq_getElem_cons h]
  simp only [tk_pa, List.getElem_map, List.getElem_range]
section
variable {u : SX} {v : SY} {tk : Nat → Nat} {n p i : Nat} {x1 : Int32}
theorem sn_54 {l : List Bool} {t : Nat} (ht : t < 1000) (hl : (tk_pa t ++ l).length < 130) : ∀ (c : Nat) (wa : Nat → Int32), c ≤ tk_ar t → sn_K wa ((tk_pa t).drop c ++ l) → ∃ wa', sn_K wa' (tk_pa t ++ l) ∧ ∀ (post : SX → Prop) (J : Int32 → Int32 → (Nat → Int32) → (Nat → Int32) → (Nat → Int32) → (Nat → Int32) → (Nat → Int32) → (Nat → Int32) → (Nat → Int32) → (Nat → Int32) → (Nat → Int32) → (Nat → Int32) → (Nat → Int32) → (Nat → Int32) → (Nat → Int32) → (Nat → Int32) → (Nat → Int32) → (Nat → Int32) → (Nat → Int32) → (Nat → Int32) → (Nat → Int32) → (Nat → Int32) → (Nat → Int32) → (Nat → Int32) → (Nat → Int32) → (Nat → Int32) → (Nat → Int32) → (Nat → Int32) → (Nat → Int32) → Prop), J (nI (i + 1)) (nI (tk_pa t ++ l).length) (gx_variables u) (gx_row u) (gx_inputs u) (gx_taken u) (gx_outputs u) (gx_timerOn u) (gx_timerBegin u) (gx_counterLast u) (gx_edgeLast u) (gx_blocks u) (gx_tokens u) (gx_tokenCount u) wa' (gx_spans u) (gx_operation u) (gx_argument u) (gx_target u) (gx_openAt u) (gx_openPhase u) (gx_openPatch u) (gx_openPatch2 u) (gx_loopToken u) (gx_exitAt u) (gx_exitLoop u) (gx_stack u) (gx_loopRounds u) (gx_loopLast u) → wX_scan_54 post J x1 (nI i) (nI t) (gx_time u) (gx_active u) (gx_isRunning u) (gx_size u) (gx_depth u) (gx_loops u) (gx_exits u) (gx_height u) (gx_allRounds u) (gx_isOver u) (c + 1) (nI c + (-1)) (nI ((tk_pa t).drop c ++ l).length) (gx_variables u) (gx_row u) (gx_inputs u) (gx_taken u) (gx_outputs u) (gx_timerOn u) (gx_timerBegin u) (gx_counterLast u) (gx_edgeLast u) (gx_blocks u) (gx_tokens u) (gx_tokenCount u) wa (gx_spans u) (gx_operation u) (gx_argument u) (gx_target u) (gx_openAt u) (gx_openPhase u) (gx_openPatch u) (gx_openPatch2 u) (gx_loopToken u) (gx_exitAt u) (gx_exitLoop u) (gx_stack u) (gx_loopRounds u) (gx_loopLast u) := by
  intro c
  induction c with
  | zero =>
    intro wa _ hK
    exact ⟨wa, hK, fun post J H => br_t (by decide) (nm_r (nI_1 i) H)⟩
  | succ c ih =>
    intro wa hc hK
    have hd := tk_pa_drop (t := t) (c := c) (by omega)
    have hlen : ((tk_pa t).drop c ++ l).length = ((tk_pa t).drop (c + 1) ++ l).length + 1 := by rw [hd]; rfl
    have hlt : ((tk_pa t).drop (c + 1) ++ l).length < 130 := by
      rw [List.length_append, List.length_drop, tk_pa_len]
      rw [List.length_append, tk_pa_len] at hl
      omega
    have hlt2 : ((tk_pa t).drop c ++ l).length ≤ 130 := by omega
    obtain ⟨wa', k1, k2⟩ := ih (upd wa ((tk_pa t).drop (c + 1) ++ l).length (if tk_sp t c = true then 1 else 0)) (by omega) (by rw [hd]; exact ⟨pk_us, sn_K_upd _ (Nat.le_refl _) hK⟩)
    refine ⟨wa', k1, fun post J H => ?_⟩
    have H := k2 post J H
    rw [hlen] at H
    have hx : nI (c + 1) + (-1) = nI c := pk_m1 c
    rw [hx]
    have har := tk_ar_le t
    refine br_f (nI_pos (by omega)) (xk_part ht (by omega) ?_)
    by_cases z : tk_sp t c = true
    · rw [if_pos z] at H ⊢
      exact br_f (by decide) (And.intro (vp_in_nI hlt (by decide)) (nm_r (e' := upd wa ((tk_pa t).drop (c + 1) ++ l).length 1) (by rw [nI_clamp (by omega)]) (nm_r (nI_1 _) (nm_e H))))
    · rw [if_neg z] at H ⊢
      exact br_t rfl (And.intro (vp_in_nI hlt (by decide)) (nm_r (e' := upd wa ((tk_pa t).drop (c + 1) ++ l).length 0) (by rw [nI_clamp (by omega)]) (nm_r (nI_1 _) (nm_e H))))
theorem sn_14 (hp : p ≤ 1) (hn : n ≤ 60) (hV : tk_V tk n) (hk : ∀ i, i < n → gx_tokens u (60 * p + i) = nI (tk i)) (hs : gx_tokenCount u p = nI n) : ∀ (m i : Nat) (wa : Nat → Int32), i + m = n → sn_K wa (tk_ws tk i) → ∃ wa', sn_K wa' (tk_ws tk n) ∧ ∀ post : SX → Prop, post (xs_wa u (nI (tk_ws tk n).length) wa') → wX_scan_14 post (nI p) (gx_time u) (gx_active u) (gx_isRunning u) (gx_size u) (gx_depth u) (gx_loops u) (gx_exits u) (gx_height u) (gx_allRounds u) (gx_isOver u) (m + 1) (nI i) (nI (tk_ws tk i).length) (gx_variables u) (gx_row u) (gx_inputs u) (gx_taken u) (gx_outputs u) (gx_timerOn u) (gx_timerBegin u) (gx_counterLast u) (gx_edgeLast u) (gx_blocks u) (gx_tokens u) (gx_tokenCount u) wa (gx_spans u) (gx_operation u) (gx_argument u) (gx_target u) (gx_openAt u) (gx_openPhase u) (gx_openPatch u) (gx_openPatch2 u) (gx_loopToken u) (gx_exitAt u) (gx_exitLoop u) (gx_stack u) (gx_loopRounds u) (gx_loopLast u) := by
  intro m
  induction m with
  | zero =>
    intro i wa hi hK
    have e : i = n := by omega
    subst e
    refine ⟨wa, hK, fun post H => And.intro (vp_in_nI (by omega) (by decide)) ?_⟩
    rw [nI_clamp (by omega)]
    refine br_t ?_ H
    rw [hs]
    exact nI_le (by omega) (by omega)
  | succ m ih =>
    intro i wa hi hK
    obtain ⟨b, l, e, ho⟩ := hV i (by omega)
    have hlen := (tk_V_len hV (i + 1) (by omega)).1
    have ew : tk_ws tk (i + 1) = tk_pa (tk i) ++ l := by
      show tk_pa (tk i) ++ (tk_ws tk i).tail = _
      rw [e]
      rfl
    rw [ew] at hlen
    rw [e] at hK
    have hle := tk_ok_le ho
    have e60 : 60 * nI p + nI i = nI (60 * p + i) := by
      rw [← nI_add]
      exact congrArg (· + nI i) (pk_mul 60 p)
    have hlast : (tk_pa (tk i)).drop (tk_ar (tk i)) ++ l = l := by
      rw [List.drop_eq_nil_of_le (by rw [tk_pa_len]; exact Nat.le_refl _)]
      rfl
    have har := tk_ar_le (tk i)
    have key : ∃ wa', sn_K wa' (tk_ws tk (i + 1)) ∧ ∀ (post : SX → Prop) (J : Int32 → Int32 → (Nat → Int32) → (Nat → Int32) → (Nat → Int32) → (Nat → Int32) → (Nat → Int32) → (Nat → Int32) → (Nat → Int32) → (Nat → Int32) → (Nat → Int32) → (Nat → Int32) → (Nat → Int32) → (Nat → Int32) → (Nat → Int32) → (Nat → Int32) → (Nat → Int32) → (Nat → Int32) → (Nat → Int32) → (Nat → Int32) → (Nat → Int32) → (Nat → Int32) → (Nat → Int32) → (Nat → Int32) → (Nat → Int32) → (Nat → Int32) → (Nat → Int32) → (Nat → Int32) → (Nat → Int32) → Prop), J (nI (i + 1)) (nI (tk_ws tk (i + 1)).length) (gx_variables u) (gx_row u) (gx_inputs u) (gx_taken u) (gx_outputs u) (gx_timerOn u) (gx_timerBegin u) (gx_counterLast u) (gx_edgeLast u) (gx_blocks u) (gx_tokens u) (gx_tokenCount u) wa' (gx_spans u) (gx_operation u) (gx_argument u) (gx_target u) (gx_openAt u) (gx_openPhase u) (gx_openPatch u) (gx_openPatch2 u) (gx_loopToken u) (gx_exitAt u) (gx_exitLoop u) (gx_stack u) (gx_loopRounds u) (gx_loopLast u) → wX_scan_54 post J (nI p) (nI i) (nI (tk i)) (gx_time u) (gx_active u) (gx_isRunning u) (gx_size u) (gx_depth u) (gx_loops u) (gx_exits u) (gx_height u) (gx_allRounds u) (gx_isOver u) (tk_ar (tk i) + 1) (nI (tk_ar (tk i)) + (-1)) (nI l.length) (gx_variables u) (gx_row u) (gx_inputs u) (gx_taken u) (gx_outputs u) (gx_timerOn u) (gx_timerBegin u) (gx_counterLast u) (gx_edgeLast u) (gx_blocks u) (gx_tokens u) (gx_tokenCount u) wa (gx_spans u) (gx_operation u) (gx_argument u) (gx_target u) (gx_openAt u) (gx_openPhase u) (gx_openPatch u) (gx_openPatch2 u) (gx_loopToken u) (gx_exitAt u) (gx_exitLoop u) (gx_stack u) (gx_loopRounds u) (gx_loopLast u) := by
      have hd := sn_54 (u := u) (x1 := nI p) (i := i) (t := tk i) (l := l) (by omega) (by omega) (tk_ar (tk i)) wa (Nat.le_refl _) (by rw [hlast]; exact hK.2)
      rw [hlast] at hd
      rw [ew]
      exact hd
    obtain ⟨wa1, q1, q2⟩ := key
    obtain ⟨wa', h1, h2⟩ := ih (i + 1) wa1 (by omega) q1
    refine ⟨wa', h1, fun post H => And.intro (vp_in_nI (by omega) (by decide)) ?_⟩
    rw [nI_clamp (by omega)]
    refine br_f ?_ ?_
    · rw [hs]
      exact nI_ge (by omega) (by omega)
    · rw [e60, nI_clamp (by omega), e]
      refine And.intro (vp_in_nI (by omega) (by decide)) (nm_r (e' := nI (tk i)) (hk i (by omega)) (nm_r (nI_pred l.length) (xk_parts ho (nm_r (ni_sm1 _) ⟨tk_ar (tk i) + 1, q2 post _ (h2 post H)⟩))))
theorem sn_scan (hp : p ≤ 1) (hn : n ≤ 60) (hV : tk_V tk n) (hk : ∀ i, i < n → gx_tokens u (60 * p + i) = nI (tk i)) (hs : gx_tokenCount u p = nI n) : ∃ wa', sn_K wa' (tk_ws tk n) ∧ ∀ post : SX → Prop, post (xs_wa u (nI (tk_ws tk n).length) wa') → wpX_scan post u (nI p) := by
  obtain ⟨wa', h1, h2⟩ := sn_14 hp hn hV hk hs n 0 (upd (gx_wanted u) 0 1) (by omega) ⟨pk_us, trivial⟩
  exact ⟨wa', h1, fun post H => nm_e ⟨n + 1, h2 post H⟩⟩
theorem sy_55 {l : List Bool} {q : Nat} (hq : q < 120) (hk : gy_tokens v q = nI (tk i)) (ht : tk i < 1000) (hl : (tk_pa (tk i) ++ l).length < 130) : ∀ (c : Nat) (wa : Nat → Int32), c ≤ tk_ar (tk i) → sn_K wa ((tk_pa (tk i)).drop c ++ l) → ∃ wa', sn_K wa' (tk_pa (tk i) ++ l) ∧ ∀ (post : SY → Prop) (J : Int32 → Int32 → (Nat → Int32) → (Nat → Int32) → (Nat → Int32) → (Nat → Int32) → (Nat → Int32) → (Nat → Int32) → (Nat → Int32) → (Nat → Int32) → (Nat → Int32) → (Nat → Int32) → (Nat → Int32) → (Nat → Int32) → (Nat → Int32) → (Nat → Int32) → (Nat → Int32) → (Nat → Int32) → (Nat → Int32) → (Nat → Int32) → (Nat → Int32) → (Nat → Int32) → (Nat → Int32) → (Nat → Int32) → Prop), J (nI (q + 1)) (nI (tk_pa (tk i) ++ l).length) (gy_variables v) (gy_cells v) (gy_inputs v) (gy_outputs v) (gy_timerOn v) (gy_timerBegin v) (gy_timerElapsed v) (gy_timerDone v) (gy_counterLast v) (gy_counterValue v) (gy_counterDone v) (gy_edgeLast v) (gy_edgeDone v) (gy_sizes v) (gy_tokens v) (gy_ends v) wa' (gy_numbers v) (gy_taskKind v) (gy_taskAt v) (gy_taskRounds v) (gy_taskLimit v) → wY_scan_55 post J x1 (nI q) (gy_time v) (gy_active v) (gy_running v) (gy_depth v) (gy_tasks v) (gy_begun v) (c + 1) (nI c + (-1)) (nI ((tk_pa (tk i)).drop c ++ l).length) (gy_variables v) (gy_cells v) (gy_inputs v) (gy_outputs v) (gy_timerOn v) (gy_timerBegin v) (gy_timerElapsed v) (gy_timerDone v) (gy_counterLast v) (gy_counterValue v) (gy_counterDone v) (gy_edgeLast v) (gy_edgeDone v) (gy_sizes v) (gy_tokens v) (gy_ends v) wa (gy_numbers v) (gy_taskKind v) (gy_taskAt v) (gy_taskRounds v) (gy_taskLimit v) := by
  intro c
  induction c with
  | zero =>
    intro wa _ hK
    exact ⟨wa, hK, fun post J H => br_t (by decide) (nm_r (nI_1 q) H)⟩
  | succ c ih =>
    intro wa hc hK
    have hd := tk_pa_drop (t := tk i) (c := c) (by omega)
    have hlen : ((tk_pa (tk i)).drop c ++ l).length = ((tk_pa (tk i)).drop (c + 1) ++ l).length + 1 := by rw [hd]; rfl
    have hlt : ((tk_pa (tk i)).drop (c + 1) ++ l).length < 130 := by
      rw [List.length_append, List.length_drop, tk_pa_len]
      rw [List.length_append, tk_pa_len] at hl
      omega
    have hlt2 : ((tk_pa (tk i)).drop c ++ l).length ≤ 130 := by omega
    obtain ⟨wa', k1, k2⟩ := ih (upd wa ((tk_pa (tk i)).drop (c + 1) ++ l).length (if tk_sp (tk i) c = true then 1 else 0)) (by omega) (by rw [hd]; exact ⟨pk_us, sn_K_upd _ (Nat.le_refl _) hK⟩)
    refine ⟨wa', k1, fun post J H => ?_⟩
    have H := k2 post J H
    rw [hlen] at H
    have hx : nI (c + 1) + (-1) = nI c := pk_m1 c
    rw [hx]
    have har := tk_ar_le (tk i)
    refine br_f (nI_pos (by omega)) (And.intro (vp_in_nI hq (by decide)) ?_)
    rw [nI_clamp (by omega : q < 2 ^ 31), hk]
    refine yk_part ht (by omega) (And.intro (vp_in_nI (by omega) (by decide)) ?_)
    by_cases z : tk_sp (tk i) c = true
    · rw [if_pos z] at H ⊢
      exact nm_r (e' := upd wa ((tk_pa (tk i)).drop (c + 1) ++ l).length 1) (by rw [nI_clamp (by omega), na_b1]) (nm_r (nI_1 _) (nm_e H))
    · rw [if_neg z] at H ⊢
      exact nm_r (e' := upd wa ((tk_pa (tk i)).drop (c + 1) ++ l).length 0) (by rw [nI_clamp (by omega), na_b0]) (nm_r (nI_1 _) (nm_e H))
theorem sy_17 (hp : p ≤ 1) (hn : n ≤ 60) (hV : tk_V tk n) (hk : ∀ i, i < n → gy_tokens v (60 * p + i) = nI (tk i)) (hs : gy_sizes v p = nI n) : ∀ (m i : Nat) (wa : Nat → Int32), i + m = n → sn_K wa (tk_ws tk i) → ∃ wa', sn_K wa' (tk_ws tk n) ∧ ∀ post : SY → Prop, post (ys_wa v (nI (tk_ws tk n).length) wa') → wY_scan_17 post (nI p) (gy_time v) (gy_active v) (gy_running v) (gy_depth v) (gy_tasks v) (gy_begun v) (m + 1) (nI (60 * p + i)) (nI (tk_ws tk i).length) (gy_variables v) (gy_cells v) (gy_inputs v) (gy_outputs v) (gy_timerOn v) (gy_timerBegin v) (gy_timerElapsed v) (gy_timerDone v) (gy_counterLast v) (gy_counterValue v) (gy_counterDone v) (gy_edgeLast v) (gy_edgeDone v) (gy_sizes v) (gy_tokens v) (gy_ends v) wa (gy_numbers v) (gy_taskKind v) (gy_taskAt v) (gy_taskRounds v) (gy_taskLimit v) := by
  have e60 : 60 * nI p = nI (60 * p) := pk_mul 60 p
  intro m
  induction m with
  | zero =>
    intro i wa hi hK
    have e : i = n := by omega
    subst e
    refine ⟨wa, hK, fun post H => And.intro (vp_in_nI (by omega) (by decide)) ?_⟩
    rw [nI_clamp (by omega), e60]
    refine br_t ?_ H
    show nI (60 * p) + gy_sizes v p ≤ _
    rw [hs, nI_add]
    exact nI_le (by omega) (by omega)
  | succ m ih =>
    intro i wa hi hK
    obtain ⟨b, l, e, ho⟩ := hV i (by omega)
    have hlen := (tk_V_len hV (i + 1) (by omega)).1
    have ew : tk_ws tk (i + 1) = tk_pa (tk i) ++ l := by
      show tk_pa (tk i) ++ (tk_ws tk i).tail = _
      rw [e]
      rfl
    rw [ew] at hlen
    rw [e] at hK
    have hle := tk_ok_le ho
    have hlast : (tk_pa (tk i)).drop (tk_ar (tk i)) ++ l = l := by
      rw [List.drop_eq_nil_of_le (by rw [tk_pa_len]; exact Nat.le_refl _)]
      rfl
    have har := tk_ar_le (tk i)
    have hd := sy_55 (v := v) (tk := tk) (i := i) (x1 := nI p) (q := 60 * p + i) (l := l) (by omega) (hk i (by omega)) (by omega) (by omega) (tk_ar (tk i)) wa (Nat.le_refl _) (by rw [hlast]; exact hK.2)
    rw [hlast, ← ew] at hd
    obtain ⟨wa1, q1, q2⟩ := hd
    obtain ⟨wa', h1, h2⟩ := ih (i + 1) wa1 (by omega) q1
    refine ⟨wa', h1, fun post H => And.intro (vp_in_nI (by omega) (by decide)) ?_⟩
    rw [nI_clamp (by omega), e60, e]
    refine br_f ?_ (nm_r (nI_pred l.length) (And.intro (vp_in_nI (by omega) (by decide)) ?_))
    · show ¬ nI (60 * p) + gy_sizes v p ≤ _
      rw [hs, nI_add]
      exact nI_ge (by omega) (by omega)
    · rw [nI_clamp (by omega)]
      show wpY_partsOf _ _ (gy_tokens v (60 * p + i))
      rw [hk i (by omega)]
      exact yp_parts (by omega) (nm_r (ni_sm1 _) ⟨tk_ar (tk i) + 1, q2 post _ (h2 post H)⟩)
theorem sy_scan (hp : p ≤ 1) (hn : n ≤ 60) (hV : tk_V tk n) (hk : ∀ i, i < n → gy_tokens v (60 * p + i) = nI (tk i)) (hs : gy_sizes v p = nI n) : ∃ wa', sn_K wa' (tk_ws tk n) ∧ ∀ post : SY → Prop, post (ys_wa v (nI (tk_ws tk n).length) wa') → wpY_scan post v (nI p) := by
  obtain ⟨wa', h1, h2⟩ := sy_17 hp hn hV hk hs n 0 (upd (gy_wants v) 0 1) (by omega) ⟨pk_us, trivial⟩
  refine ⟨wa', h1, fun post H => nm_r (e' := upd (gy_wants v) 0 1) (by rw [na_b1]) (nm_r (pk_mul 60 p) ⟨n + 1, h2 post H⟩)⟩
end
end
section
/-- token i of program p -/
def rl_tk (to : Nat → Int32) (p i : Nat) : Nat := if i < 60 then (to (60 * p + i)).toNatClampNeg else 0
/-- program p is one that was fed -/
def rl_P (to tc : Nat → Int32) (p : Nat) : Prop := ∃ n, n ≤ 60 ∧ tc p = nI n ∧ tk_V (rl_tk to p) n ∧ ∀ i, i < n → to (60 * p + i) = nI (rl_tk to p i)
def rl_T (k : Nat) (u : SX) (v : SY) : Prop := (∃ t, t ≤ 100 * k ∧ gx_time u = nI t ∧ gy_time v = nI t) ∧ (∃ ac, ac ≤ 1 ∧ gx_active u = nI ac ∧ gy_active v = nI ac) ∧ gy_running v = gx_isRunning u
def rl_V (u : SX) (v : SY) : Prop := (gy_variables v = gx_variables u ∧ gy_cells v = gx_row u ∧ gy_inputs v = gx_inputs u ∧ gy_outputs v = gx_outputs u ∧ gy_timerOn v = gx_timerOn u ∧ gy_timerBegin v = gx_timerBegin u ∧ gy_counterLast v = gx_counterLast u ∧ gy_edgeLast v = gx_edgeLast u) ∧
  ys_b (gx_blocks u) (gy_timerElapsed v) (gy_timerDone v) (gy_counterValue v) (gy_counterDone v) (gy_edgeDone v) ∧ ys_D ((gx_inputs u, gx_time u) : ds_E) (gx_timerOn u) (gx_timerBegin u)
def rl_K (u : SX) (v : SY) : Prop := gy_tokens v = gx_tokens u ∧ gy_sizes v = gx_tokenCount u ∧ ∀ p, p ≤ 1 → rl_P (gx_tokens u) (gx_tokenCount u) p
def rl_C (u : SX) : Prop := ¬ gx_isRunning u = 0 → ∃ ac n, ac ≤ 1 ∧ n ≤ 60 ∧ gx_active u = nI ac ∧ gx_tokenCount u ac = nI n ∧ tk_ws (rl_tk (gx_tokens u) ac) n = [] ∧ cp_Code u (rl_tk (gx_tokens u) ac)
/-- the relation -/
def i_Rel (k : Nat) (u : SX) (v : SY) : Prop := rl_T k u v ∧ rl_V u v ∧ rl_K u v ∧ rl_C u
theorem rl_T_up {k j : Nat} {u : SX} {v : SY} (h : rl_T k u v) (hj : k ≤ j) : rl_T j u v := by
  obtain ⟨⟨t, a, b, c⟩, h2⟩ := h
  exact ⟨⟨t, by omega, b, c⟩, h2⟩
theorem i_up {k : Nat} {u : SX} {v : SY} (h : i_Rel k u v) : i_Rel (k + 3) u v := ⟨rl_T_up h.1 (by omega), h.2⟩
theorem i_vc0 : wpX_init (fun u => wpY_init (fun v => i_Rel 0 u v)) := by
  refine ⟨⟨⟨0, by omega, rfl, rfl⟩, ⟨0, by omega, rfl, rfl⟩, rfl⟩, ⟨⟨rfl, rfl, rfl, rfl, rfl, rfl, rfl, rfl⟩, fun j _ => ⟨rfl, rfl, rfl, rfl, rfl⟩, ?_⟩, ⟨rfl, rfl, fun p _ => ⟨0, by omega, rfl, fun i hi => by omega, fun i hi => by omega⟩⟩, fun h => absurd rfl h⟩
  refine ⟨?_, fun j _ => ⟨Or.inl rfl, ?_, ?_⟩⟩
  · show (0 : Int) ≤ (0 : Int32).toInt
    decide
  · show (0 : Int) ≤ (0 : Int32).toInt
    decide
  · show (0 : Int32).toInt ≤ (0 : Int32).toInt
    decide
/-! the first number of a call -/
theorem rp_good (x : Int32) : (∃ p : Nat, p ≤ 1 ∧ x = nI p) ∨ (¬ x = 0 ∧ ¬ x = 1 ∧ (x < 0 ∨ ¬ x ≤ 1)) := by
  by_cases h0 : x = 0
  · exact Or.inl ⟨0, by omega, h0⟩
  by_cases h1 : x = 1
  · exact Or.inl ⟨1, by omega, h1⟩
  refine Or.inr ⟨h0, h1, ?_⟩
  by_cases h : x < 0
  · exact Or.inl h
  · refine Or.inr fun z => ?_
    obtain ⟨j, hj, rfl⟩ := nI_of h
    have := (nI_leI (b := 1) hj (by decide)).mp z
    have : j = 0 ∨ j = 1 := by omega
    cases this with
    | inl e => exact h0 (by rw [e]; rfl)
    | inr e => exact h1 (by rw [e]; rfl)
section
variable {post : Int32 → Prop} {x : Int32} {p : Nat} {u : SX} {v : SY}
theorem xp_1 (hp : p ≤ 1) (H : post 1) : wpX_isProgram post (nI p) := by
  by_cases h : p = 0
  · exact br_t (by rw [h]; rfl) H
  · exact br_f (ni_ne (b := 0) h (by omega) (by decide)) (br_t (by rw [show p = 1 by omega]; rfl) H)
theorem xp_0 (h0 : ¬ x = 0) (h1 : ¬ x = 1) (H : post 0) : wpX_isProgram post x := br_f h0 (br_f h1 H)
theorem yb_0 (hp : p ≤ 1) (H : post 0) : wpY_badProgram post v (nI p) := br_f (nI_pos (by omega)) (br_t (nI_le (b := 1) hp (by decide)) H)
theorem yb_1 (h : x < 0 ∨ ¬ x ≤ 1) (H : post 1) : wpY_badProgram post v x := by
  by_cases c : x < 0
  · exact br_t c H
  · exact br_f c (br_f (h.resolve_left c) H)
theorem xf_t (h : ¬ gx_isRunning u = 0 ∧ x = gx_active u) (H : post 1) : wpX_isFixed post u x := br_f h.1 (br_t h.2 H)
theorem xf_f (h : ¬ (¬ gx_isRunning u = 0 ∧ x = gx_active u)) (H : post 0) : wpX_isFixed post u x := by
  by_cases c : gx_isRunning u = 0
  · exact br_t c H
  · exact br_f c (br_f (fun z => h ⟨c, z⟩) H)
theorem yf_t (h : ¬ gy_running v = 0 ∧ x = gy_active v) (H : post 1) : wpY_isBusy post v x := br_f h.1 (br_t h.2 H)
theorem yf_f (h : ¬ (¬ gy_running v = 0 ∧ x = gy_active v)) (H : post 0) : wpY_isBusy post v x := by
  by_cases c : gy_running v = 0
  · exact br_t c H
  · exact br_f c (br_f (fun z => h ⟨c, z⟩) H)
/-- an index from 0 on -/
theorem xi_z (n : Nat) (hn : n < 1000) (hn1 : 1 ≤ n) (x : Int32) : (∃ j : Nat, j < n ∧ x = nI j) ∨ (x < 0 ∨ (¬ x < 0 ∧ nI n ≤ x)) := by
  by_cases h : x < 0
  · exact Or.inr (Or.inl h)
  · obtain ⟨j, hj, rfl⟩ := nI_of h
    by_cases c : j < n
    · exact Or.inl ⟨j, c, rfl⟩
    · exact Or.inr (Or.inr ⟨h, nI_le (by omega) hj⟩)
theorem xz_t {n j : Nat} (hn : n < 1000) (hj : j < n) (H : post 1) : wpX_isIn post (nI j) 0 (nI n) := by
  refine br_f (nI_pos (by omega)) (br_f ?_ H)
  rw [Int32.zero_add]
  exact nI_ge hj (by omega)
theorem xz_f {n : Nat} (hn : n < 1000) (h : x < 0 ∨ (¬ x < 0 ∧ nI n ≤ x)) (H : post 0) : wpX_isIn post x 0 (nI n) := by
  rcases h with h | h
  · exact br_t h H
  · refine br_f h.1 (br_t ?_ H)
    rw [Int32.zero_add]
    exact h.2
end
theorem ni_le_pred {n : Nat} {x : Int32} (hn : n + 1 < 1000) (h : ¬ x < 0 ∧ nI (n + 1) ≤ x) : ¬ x ≤ nI n := by
  obtain ⟨j, hj, rfl⟩ := nI_of h.1
  have := (nI_leI (by omega) hj).mp h.2
  exact nI_ge (by omega) hj
section
variable {k : Nat} {u : SX} {v : SY}
theorem i_vc_halt (I : i_Rel k u v) (hk : k + 3 ≤ 1536) : wpX_halt (fun r u' => wpY_halt (fun r' v' => r' = r ∧ i_Rel (k + 3) u' v') v) u := by
  obtain ⟨⟨ht, hac, hr⟩, hV, hK, hC⟩ := i_up I
  by_cases c : gx_isRunning u = 0
  · refine br_t c (br_t (hr.trans c) ⟨rfl, ⟨ht, hac, rfl⟩, hV, hK, fun h => absurd rfl h⟩)
  · refine br_f c (br_f (fun z => c (hr.symm.trans z)) ⟨rfl, ⟨ht, hac, rfl⟩, hV, hK, fun h => absurd rfl h⟩)
theorem i_vc_input (I : i_Rel k u v) (hk : k + 3 ≤ 1536) (v1 : Int32) (v2 : Int32) : wpX_input (fun r u' => wpY_input (fun r' v' => r' = r ∧ i_Rel (k + 3) u' v') v v1 v2) u v1 v2 := by
  have I' := i_up I
  unfold wpX_input
  rcases xi_z 4 (by decide) (by decide) v1 with ⟨j, hj, rfl⟩ | h
  · obtain ⟨hT, ⟨⟨a1, a2, a3, a4⟩, hb, hD⟩, hK, hC⟩ := I'
    refine xz_t (n := 4) (by decide) hj (br_f (by decide) (And.intro (vp_in_nI hj (by decide)) (nm_e ?_)))
    refine br_f (nI_pos (by omega)) (br_t (nI_le (b := 3) (by omega) (by decide)) (And.intro (vp_in_nI hj (by decide)) (nm_e ⟨rfl, hT, ⟨⟨a1, a2, ?_, a4⟩, hb, hD⟩, hK, hC⟩)))
    show upd (gy_inputs v) _ _ = upd (gx_inputs u) _ _
    rw [a3]
  · refine xz_f (n := 4) (by decide) h (br_t rfl ?_)
    rcases h with h | h
    · exact br_t h ⟨rfl, I'⟩
    · exact br_f h.1 (br_f (ni_le_pred (n := 3) (by decide) h) ⟨rfl, I'⟩)
theorem i_vc_variable (I : i_Rel k u v) (hk : k + 3 ≤ 1536) (v1 : Int32) : wpX_variable (fun r => wpY_variable (fun r' => r' = r ∧ i_Rel (k + 3) u v) v v1) u v1 := by
  have I' := i_up I
  have e := I.2.1.1.1
  unfold wpX_variable
  rcases xi_z 16 (by decide) (by decide) v1 with ⟨j, hj, rfl⟩ | h
  · refine xz_t (n := 16) (by decide) hj (br_f (by decide) (And.intro (vp_in_nI hj (by decide)) ?_))
    exact br_f (nI_pos (by omega)) (br_t (nI_le (b := 15) (by omega) (by decide)) (And.intro (vp_in_nI hj (by decide)) ⟨congrFun e _, I'⟩))
  · refine xz_f (n := 16) (by decide) h (br_t rfl ?_)
    rcases h with h | h
    · exact br_t h ⟨rfl, I'⟩
    · exact br_f h.1 (br_f (ni_le_pred (n := 15) (by decide) h) ⟨rfl, I'⟩)
theorem i_vc_cell (I : i_Rel k u v) (hk : k + 3 ≤ 1536) (v1 : Int32) : wpX_cell (fun r => wpY_cell (fun r' => r' = r ∧ i_Rel (k + 3) u v) v v1) u v1 := by
  have I' := i_up I
  have e := I.2.1.1.2.1
  unfold wpX_cell
  rcases xi_z 8 (by decide) (by decide) v1 with ⟨j, hj, rfl⟩ | h
  · refine xz_t (n := 8) (by decide) hj (br_f (by decide) (And.intro (vp_in_nI hj (by decide)) ?_))
    exact br_f (nI_pos (by omega)) (br_t (nI_le (b := 7) (by omega) (by decide)) (And.intro (vp_in_nI hj (by decide)) ⟨congrFun e _, I'⟩))
  · refine xz_f (n := 8) (by decide) h (br_t rfl ?_)
    rcases h with h | h
    · exact br_t h ⟨rfl, I'⟩
    · exact br_f h.1 (br_f (ni_le_pred (n := 7) (by decide) h) ⟨rfl, I'⟩)
theorem i_vc_output (I : i_Rel k u v) (hk : k + 3 ≤ 1536) (v1 : Int32) : wpX_output (fun r => wpY_output (fun r' => r' = r ∧ i_Rel (k + 3) u v) v v1) u v1 := by
  have I' := i_up I
  have e := I.2.1.1.2.2.2.1
  unfold wpX_output
  rcases xi_z 4 (by decide) (by decide) v1 with ⟨j, hj, rfl⟩ | h
  · refine xz_t (n := 4) (by decide) hj (br_f (by decide) (And.intro (vp_in_nI hj (by decide)) ?_))
    exact br_f (nI_pos (by omega)) (br_t (nI_le (b := 3) (by omega) (by decide)) (And.intro (vp_in_nI hj (by decide)) ⟨congrFun e _, I'⟩))
  · refine xz_f (n := 4) (by decide) h (br_t rfl ?_)
    rcases h with h | h
    · exact br_t h ⟨rfl, I'⟩
    · exact br_f h.1 (br_f (ni_le_pred (n := 3) (by decide) h) ⟨rfl, I'⟩)
theorem i_vc_poke (I : i_Rel k u v) (hk : k + 3 ≤ 1536) (v1 : Int32) (v2 : Int32) : wpX_poke (fun r u' => wpY_poke (fun r' v' => r' = r ∧ i_Rel (k + 3) u' v') v v1 v2) u v1 v2 := by
  have I' := i_up I
  unfold wpX_poke
  rcases xi_z 16 (by decide) (by decide) v1 with ⟨j, hj, rfl⟩ | h
  · obtain ⟨hT, ⟨⟨a1, a2⟩, hb, hD⟩, hK, hC⟩ := I'
    refine xz_t (n := 16) (by decide) hj (br_f (by decide) (And.intro (vp_in_nI hj (by decide)) (nm_e ?_)))
    refine br_f (nI_pos (by omega)) (br_t (nI_le (b := 15) (by omega) (by decide)) (And.intro (vp_in_nI hj (by decide)) (nm_e ⟨rfl, hT, ⟨⟨?_, a2⟩, hb, hD⟩, hK, hC⟩)))
    show upd (gy_variables v) _ _ = upd (gx_variables u) _ _
    rw [a1]
  · refine xz_f (n := 16) (by decide) h (br_t rfl ?_)
    rcases h with h | h
    · exact br_t h ⟨rfl, I'⟩
    · exact br_f h.1 (br_f (ni_le_pred (n := 15) (by decide) h) ⟨rfl, I'⟩)
/-- what stands in a block -/
def rl_bo (bl : Nat → Int32) (j w : Nat) : Int32 := if w = 0 then bl (3 + j) else if w = 1 then bl j else if w = 2 then bl (6 + j) else if w = 3 then bl (9 + j) else bl (12 + j)
theorem rb_x {post : Int32 → Prop} {j w : Nat} (hj : j < 3) (hw : w < 5) (H : post (rl_bo (gx_blocks u) j w)) : wpX_blockOf post u (nI j) (nI w) := by
  unfold rl_bo at H
  have e3 : 3 + nI j = nI (3 + j) := nI_add 3 j
  have e6 : 6 + nI j = nI (6 + j) := nI_add 6 j
  have e9 : 9 + nI j = nI (9 + j) := nI_add 9 j
  have e12 : 12 + nI j = nI (12 + j) := nI_add 12 j
  unfold wpX_blockOf
  by_cases c0 : w = 0
  · rw [if_pos c0] at H
    refine br_f (nI_ge (b := 2) (by omega) (by decide)) (br_t (by rw [c0]; rfl) ?_)
    rw [e3, nI_clamp (by omega)]
    exact And.intro (vp_in_nI (by omega) (by decide)) H
  rw [if_neg c0] at H
  by_cases c1 : w = 1
  · rw [if_pos c1] at H
    refine br_f (nI_ge (b := 2) (by omega) (by decide)) (br_f (ni_ne (b := 0) c0 (by omega) (by decide)) ?_)
    rw [nI_clamp (by omega)]
    exact And.intro (vp_in_nI (by omega) (by decide)) H
  rw [if_neg c1] at H
  refine br_t (nI_le (a := 2) (by omega) (by omega)) ?_
  by_cases c2 : w = 2
  · rw [if_pos c2] at H
    refine br_t (by rw [c2]; rfl) ?_
    rw [e6, nI_clamp (by omega)]
    exact And.intro (vp_in_nI (by omega) (by decide)) H
  rw [if_neg c2] at H
  refine br_f (ni_ne (b := 2) c2 (by omega) (by decide)) ?_
  by_cases c3 : w = 3
  · rw [if_pos c3] at H
    refine br_t (by rw [c3]; rfl) ?_
    rw [e9, nI_clamp (by omega)]
    exact And.intro (vp_in_nI (by omega) (by decide)) H
  · rw [if_neg c3] at H
    refine br_f (ni_ne (b := 3) c3 (by omega) (by decide)) ?_
    rw [e12, nI_clamp (by omega)]
    exact And.intro (vp_in_nI (by omega) (by decide)) H
theorem rb_y {post : Int32 → Prop} {bl : Nat → Int32} {j w : Nat} (hb : ys_b bl (gy_timerElapsed v) (gy_timerDone v) (gy_counterValue v) (gy_counterDone v) (gy_edgeDone v)) (hj : j < 3) (hw : w < 5) (H : post (rl_bo bl j w)) : wpY_block post v (nI j) (nI w) := by
  obtain ⟨b1, b2, b3, b4, b5⟩ := hb j hj
  unfold rl_bo at H
  rw [← b1, ← b2, ← b3, ← b4, ← b5] at H
  refine br_f (nI_pos (by omega)) (br_t (nI_le (b := 2) (by omega) (by decide)) ?_)
  rw [nI_clamp (by omega)]
  by_cases c0 : w = 0
  · rw [if_pos c0] at H
    exact br_t (by rw [c0]; rfl) (And.intro (vp_in_nI (by omega) (by decide)) H)
  rw [if_neg c0] at H
  refine br_f (ni_ne (b := 0) c0 (by omega) (by decide)) ?_
  by_cases c1 : w = 1
  · rw [if_pos c1] at H
    exact br_t (by rw [c1]; rfl) (And.intro (vp_in_nI (by omega) (by decide)) H)
  rw [if_neg c1] at H
  refine br_f (ni_ne (b := 1) c1 (by omega) (by decide)) ?_
  by_cases c2 : w = 2
  · rw [if_pos c2] at H
    exact br_t (by rw [c2]; rfl) (And.intro (vp_in_nI (by omega) (by decide)) H)
  rw [if_neg c2] at H
  refine br_f (ni_ne (b := 2) c2 (by omega) (by decide)) ?_
  by_cases c3 : w = 3
  · rw [if_pos c3] at H
    exact br_t (by rw [c3]; rfl) (And.intro (vp_in_nI (by omega) (by decide)) H)
  · rw [if_neg c3] at H
    exact br_f (ni_ne (b := 3) c3 (by omega) (by decide)) (br_t (by rw [show w = 4 by omega]; rfl) (And.intro (vp_in_nI (by omega) (by decide)) H))
theorem i_vc_block (I : i_Rel k u v) (hk : k + 3 ≤ 1536) (v1 : Int32) (v2 : Int32) : wpX_block (fun r => wpY_block (fun r' => r' = r ∧ i_Rel (k + 3) u v) v v1 v2) u v1 v2 := by
  have I' := i_up I
  unfold wpX_block
  rcases xi_z 3 (by decide) (by decide) v1 with ⟨j, hj, rfl⟩ | h
  · refine xz_t (n := 3) (by decide) hj (br_f (by decide) ?_)
    rcases xi_z 5 (by decide) (by decide) v2 with ⟨w, hw, rfl⟩ | h
    · refine xz_t (n := 5) (by decide) hw (br_f (by decide) ?_)
      exact rb_x hj hw (rb_y I.2.1.2.1 hj hw ⟨rfl, I'⟩)
    · refine xz_f (n := 5) (by decide) h (br_t rfl ?_)
      have hne : ∀ a : Nat, a < 5 → ¬ v2 = nI a := by
        intro a ha z
        rcases h with h | h
        · rw [z] at h; exact nI_pos (by omega) h
        · rw [z] at h; exact nI_ge (b := 5) ha (by decide) h.2
      exact br_f (nI_pos (by omega)) (br_t (nI_le (b := 2) (by omega) (by decide)) (br_f (hne 0 (by decide)) (br_f (hne 1 (by decide)) (br_f (hne 2 (by decide)) (br_f (hne 3 (by decide)) (br_f (hne 4 (by decide)) ⟨rfl, I'⟩))))))
  · refine xz_f (n := 3) (by decide) h (br_t rfl ?_)
    rcases h with h | h
    · exact br_t h ⟨rfl, I'⟩
    · exact br_f h.1 (br_f (ni_le_pred (n := 2) (by decide) h) ⟨rfl, I'⟩)
end
end
section
section
variable {to tc : Nat → Int32} {p q n : Nat} {x : Int32}
theorem rl_P_other (h : rl_P to tc q) (hq : q ≠ p) : rl_P to (upd tc p x) q := by
  obtain ⟨n, a, b, c⟩ := h
  exact ⟨n, a, (pk_un hq).trans b, c⟩
theorem tk_V_le {tk : Nat → Nat} {n m : Nat} (h : tk_V tk n) (hm : m ≤ n) : tk_V tk m := fun i hi => h i (by omega)
theorem rl_P_less (h : rl_P to tc p) (hn : tc p = nI n) (hn6 : n ≤ 60) {m : Nat} (hm : m ≤ n) : rl_P to (upd tc p (nI m)) p := by
  obtain ⟨n', a, b, c, d⟩ := h
  have e : n' = n := by
    rw [hn] at b
    exact ((nI_eq (by omega) (by omega)).mp b).symm
  subst e
  exact ⟨m, by omega, pk_us, tk_V_le c hm, fun i hi => d i (by omega)⟩
theorem rl_tk_other (hp : p ≤ 1) (hq : q ≤ 1) (hn : n < 60) (hne : q ≠ p) : rl_tk (upd to (60 * p + n) x) q = rl_tk to q := by
  funext i
  unfold rl_tk
  by_cases h : i < 60
  · rw [if_pos h, if_pos h, pk_un (by omega)]
  · rw [if_neg h, if_neg h]
theorem rl_tk_lt {i : Nat} (hn : n < 60) (hi : i < n) : rl_tk (upd to (60 * p + n) x) p i = rl_tk to p i := by
  unfold rl_tk
  rw [if_pos (by omega), if_pos (by omega), pk_un (by omega)]
theorem tk_ws_eq {tk tk' : Nat → Nat} : ∀ i, (∀ j, j < i → tk' j = tk j) → tk_ws tk' i = tk_ws tk i := by
  intro i
  induction i with
  | zero => intro _; rfl
  | succ i ih =>
    intro h
    show tk_pa (tk' i) ++ (tk_ws tk' i).tail = tk_pa (tk i) ++ (tk_ws tk i).tail
    rw [h i (by omega), ih (fun j hj => h j (by omega))]
theorem rl_P_feed {t : Nat} {b : Bool} {l : List Bool} (hn : n < 60) (hV : tk_V (rl_tk to p) n) (hk : ∀ i, i < n → to (60 * p + i) = nI (rl_tk to p i)) (hw : tk_ws (rl_tk to p) n = b :: l) (ho : tk_ok b t = true) : rl_P (upd to (60 * p + n) (nI t)) (upd tc p (nI (n + 1))) p := by
  have hle := tk_ok_le ho
  have hN : rl_tk (upd to (60 * p + n) (nI t)) p n = t := by
    unfold rl_tk
    rw [if_pos hn, pk_us, nI_clamp (by omega)]
  refine ⟨n + 1, by omega, pk_us, fun i hi => ?_, fun i hi => ?_⟩
  · rw [tk_ws_eq (tk := rl_tk to p) i (fun j hj => rl_tk_lt hn (by omega))]
    by_cases z : i = n
    · rw [z, hN]
      exact ⟨b, l, hw, ho⟩
    · rw [rl_tk_lt hn (by omega)]
      exact hV i (by omega)
  · by_cases z : i = n
    · rw [z, hN, pk_us]
    · rw [rl_tk_lt hn (by omega), pk_un (by omega)]
      exact hk i (by omega)
theorem rl_P_feedo (hp : p ≤ 1) (hq : q ≤ 1) (hn : n < 60) (hne : q ≠ p) {y : Int32} (h : rl_P to tc q) : rl_P (upd to (60 * p + n) x) (upd tc p y) q := by
  obtain ⟨m, a, b, c, d⟩ := h
  refine ⟨m, a, (pk_un hne).trans b, ?_, fun i hi => ?_⟩
  · rw [rl_tk_other hp hq hn hne]
    exact c
  · rw [rl_tk_other hp hq hn hne, pk_un (by omega)]
    exact d i hi
end
section
variable {k : Nat} {u : SX} {v : SY}
/-- program p isn't the one that runs -/
theorem rl_nf {p ac : Nat} (hp : p ≤ 1) (ha : ac ≤ 1) (hf : ¬ (¬ gx_isRunning u = 0 ∧ nI p = gx_active u)) (hr : ¬ gx_isRunning u = 0) (hac : gx_active u = nI ac) : ac ≠ p := by
  intro e
  exact hf ⟨hr, by rw [hac, e]⟩
theorem i_vc_back (I : i_Rel k u v) (hk : k + 3 ≤ 1536) (v1 : Int32) : wpX_back (fun r u' => wpY_back (fun r' v' => r' = r ∧ i_Rel (k + 3) u' v') v v1) u v1 := by
  have I' := i_up I
  unfold wpX_back
  rcases rp_good v1 with ⟨p, hp, rfl⟩ | ⟨h0, h1, h2⟩
  · refine xp_1 hp (br_f (by decide) ?_)
    obtain ⟨hT, hV, ⟨k1, k2, k3⟩, hC⟩ := I'
    have hfy : (¬ gy_running v = 0 ∧ nI p = gy_active v) ↔ (¬ gx_isRunning u = 0 ∧ nI p = gx_active u) := by
      obtain ⟨_, ⟨ac, _, a1, a2⟩, a3⟩ := hT
      rw [a1, a2, a3]
    by_cases hf : ¬ gx_isRunning u = 0 ∧ nI p = gx_active u
    · refine xf_t hf (br_f (by decide) ?_)
      show wpY_back _ v (nI p)
      unfold wpY_back
      exact yb_0 hp (br_t rfl (yf_t (hfy.mpr hf) (br_f (by decide) ⟨rfl, hT, hV, ⟨k1, k2, k3⟩, hC⟩)))
    · obtain ⟨n, hn, hc, _⟩ := k3 p hp
      have hc : gx_tokenCount u p = nI n := hc
      have hcy : gy_sizes v p = nI n := by rw [k2]; exact hc
      refine xf_f hf (br_t rfl (And.intro (vp_in_nI (by omega) (by decide)) ?_))
      rw [nI_clamp (by omega)]
      by_cases hz : n = 0
      · refine br_t (by show gx_tokenCount u p = 0; rw [hc, hz]; rfl) ?_
        show wpY_back _ v (nI p)
        unfold wpY_back
        refine yb_0 hp (br_t rfl (yf_f (fun z => hf (hfy.mp z)) (br_t rfl (And.intro (vp_in_nI (by omega) (by decide)) ?_))))
        rw [nI_clamp (by omega)]
        exact br_t (by show gy_sizes v p = 0; rw [hcy, hz]; rfl) ⟨rfl, hT, hV, ⟨k1, k2, k3⟩, hC⟩
      · have e1 : nI n - 1 = nI (n - 1) := pk_sub (b := 1) (by omega)
        refine br_f (by show ¬ gx_tokenCount u p = 0; rw [hc]; exact ni_ne (b := 0) hz (by omega) (by decide)) (And.intro (vp_in_nI (by omega) (by decide)) (And.intro (vp_in_nI (by omega) (by decide)) (nm_r (e' := upd (gx_tokenCount u) p (nI (n - 1))) (by show upd _ _ (gx_tokenCount u p - 1) = _; rw [hc, e1]) (And.intro (vp_in_nI (by omega) (by decide)) ?_))))
        show wpY_back _ v (nI p)
        unfold wpY_back
        refine yb_0 hp (br_t rfl (yf_f (fun z => hf (hfy.mp z)) (br_t rfl (And.intro (vp_in_nI (by omega) (by decide)) ?_))))
        rw [nI_clamp (by omega)]
        refine br_f (by show ¬ gy_sizes v p = 0; rw [hcy]; exact ni_ne (b := 0) hz (by omega) (by decide)) (And.intro (vp_in_nI (by omega) (by decide)) (And.intro (vp_in_nI (by omega) (by decide)) (nm_r (e' := upd (gx_tokenCount u) p (nI (n - 1))) (by show upd (gy_sizes v) _ (gy_sizes v p - 1) = _; rw [hcy, e1, k2]) (And.intro (vp_in_nI (by omega) (by decide)) ⟨rfl, hT, hV, ⟨k1, rfl, fun q hq => ?_⟩, fun hr => ?_⟩))))
        · by_cases e : q = p
          · rw [e]; exact rl_P_less (k3 p hp) hc hn (by omega)
          · exact rl_P_other (k3 q hq) e
        · obtain ⟨ac, m, q1, q2, q3, q4, q5⟩ := hC hr
          exact ⟨ac, m, q1, q2, q3, (pk_un (rl_nf hp q1 hf hr q3)).trans q4, q5⟩
  · refine xp_0 h0 h1 (br_t rfl ?_)
    show wpY_back _ v v1
    unfold wpY_back
    exact yb_1 h2 (br_f (by decide) ⟨rfl, I'⟩)
theorem i_vc_erase (I : i_Rel k u v) (hk : k + 3 ≤ 1536) (v1 : Int32) : wpX_erase (fun r u' => wpY_erase (fun r' v' => r' = r ∧ i_Rel (k + 3) u' v') v v1) u v1 := by
  have I' := i_up I
  unfold wpX_erase
  rcases rp_good v1 with ⟨p, hp, rfl⟩ | ⟨h0, h1, h2⟩
  · refine xp_1 hp (br_f (by decide) ?_)
    obtain ⟨hT, hV, ⟨k1, k2, k3⟩, hC⟩ := I'
    have hfy : (¬ gy_running v = 0 ∧ nI p = gy_active v) ↔ (¬ gx_isRunning u = 0 ∧ nI p = gx_active u) := by
      obtain ⟨_, ⟨ac, _, a1, a2⟩, a3⟩ := hT
      rw [a1, a2, a3]
    by_cases hf : ¬ gx_isRunning u = 0 ∧ nI p = gx_active u
    · refine xf_t hf (br_f (by decide) ?_)
      show wpY_erase _ v (nI p)
      unfold wpY_erase
      exact yb_0 hp (br_t rfl (yf_t (hfy.mpr hf) (br_f (by decide) ⟨rfl, hT, hV, ⟨k1, k2, k3⟩, hC⟩)))
    · obtain ⟨n, hn, hc, _⟩ := k3 p hp
      have hc : gx_tokenCount u p = nI n := hc
      have hcy : gy_sizes v p = nI n := by rw [k2]; exact hc
      refine xf_f hf (br_t rfl (And.intro (vp_in_nI (by omega) (by decide)) (nm_r (e' := nI n) (by rw [nI_clamp (by omega)]; exact hc) (And.intro (vp_in_nI (by omega) (by decide)) (nm_r (e' := upd (gx_tokenCount u) p (nI 0)) (by rw [nI_clamp (by omega)]; rfl) ?_)))))
      show wpY_erase _ v (nI p)
      unfold wpY_erase
      refine yb_0 hp (br_t rfl (yf_f (fun z => hf (hfy.mp z)) (br_t rfl (And.intro (vp_in_nI (by omega) (by decide)) (nm_r (e' := nI n) (by rw [nI_clamp (by omega)]; exact hcy) (And.intro (vp_in_nI (by omega) (by decide)) (nm_r (e' := upd (gx_tokenCount u) p (nI 0)) (by rw [nI_clamp (by omega)]; show upd (gy_sizes v) _ _ = _; rw [k2]; rfl) ⟨rfl, hT, hV, ⟨k1, rfl, fun q hq => ?_⟩, fun hr => ?_⟩)))))))
      · by_cases e : q = p
        · rw [e]; exact rl_P_less (k3 p hp) hc hn (by omega)
        · exact rl_P_other (k3 q hq) e
      · obtain ⟨ac, m, q1, q2, q3, q4, q5⟩ := hC hr
        exact ⟨ac, m, q1, q2, q3, (pk_un (rl_nf hp q1 hf hr q3)).trans q4, q5⟩
  · refine xp_0 h0 h1 (br_t rfl ?_)
    show wpY_erase _ v v1
    unfold wpY_erase
    exact yb_1 h2 (br_f (by decide) ⟨rfl, I'⟩)
theorem i_vc_complete (I : i_Rel k u v) (hk : k + 3 ≤ 1536) (v1 : Int32) : wpX_complete (fun r u' => wpY_complete (fun r' v' => r' = r ∧ i_Rel (k + 3) u' v') v v1) u v1 := by
  have I' := i_up I
  unfold wpX_complete
  rcases rp_good v1 with ⟨p, hp, rfl⟩ | ⟨h0, h1, h2⟩
  · refine xp_1 hp (br_f (by decide) ?_)
    obtain ⟨hT, hV, ⟨k1, k2, k3⟩, hC⟩ := I'
    obtain ⟨n, hn, hc, hVV, hkk⟩ := k3 p hp
    obtain ⟨wa, _, hx⟩ := sn_scan (u := u) hp hn hVV hkk hc
    obtain ⟨wb, _, hy⟩ := sy_scan (v := v) (n := n) hp hn hVV (by rw [k1]; exact hkk) (by rw [k2]; exact hc)
    have hl := (tk_V_len hVV n (Nat.le_refl _)).1
    unfold wpX_isComplete
    refine hx _ ?_
    by_cases hz : (tk_ws (rl_tk (gx_tokens u) p) n).length = 0
    · refine br_t (by show nI _ = 0; rw [hz]; rfl) (br_f (by decide) ?_)
      show wpY_complete _ v (nI p)
      unfold wpY_complete
      refine yb_0 hp (br_t rfl (hy _ ?_))
      exact br_t (by show nI _ = 0; rw [hz]; rfl) ⟨rfl, hT, hV, ⟨k1, k2, k3⟩, hC⟩
    · refine br_f (ni_ne (b := 0) hz (by omega) (by decide)) (br_t rfl ?_)
      show wpY_complete _ v (nI p)
      unfold wpY_complete
      refine yb_0 hp (br_t rfl (hy _ ?_))
      exact br_f (ni_ne (b := 0) hz (by omega) (by decide)) ⟨rfl, hT, hV, ⟨k1, k2, k3⟩, hC⟩
  · refine xp_0 h0 h1 (br_t rfl ?_)
    show wpY_complete _ v v1
    unfold wpY_complete
    exact yb_1 h2 (br_f (by decide) ⟨rfl, I'⟩)
theorem i_vc_activate (I : i_Rel k u v) (hk : k + 3 ≤ 1536) (v1 : Int32) : wpX_activate (fun r u' => wpY_activate (fun r' v' => r' = r ∧ i_Rel (k + 3) u' v') v v1) u v1 := by
  have I' := i_up I
  unfold wpX_activate
  rcases rp_good v1 with ⟨p, hp, rfl⟩ | ⟨h0, h1, h2⟩
  · refine xp_1 hp (br_f (by decide) ?_)
    obtain ⟨⟨hT1, ⟨ac, ha, a1, a2⟩, a3⟩, hV, ⟨k1, k2, k3⟩, hC⟩ := I'
    obtain ⟨n, hn, hc, hVV, hkk⟩ := k3 p hp
    obtain ⟨wa, _, hx⟩ := sn_scan (u := u) hp hn hVV hkk hc
    obtain ⟨wb, _, hy⟩ := sy_scan (v := v) (n := n) hp hn hVV (by rw [k1]; exact hkk) (by rw [k2]; exact hc)
    have hl := (tk_V_len hVV n (Nat.le_refl _)).1
    unfold wpX_isComplete
    refine hx _ ?_
    by_cases hz : (tk_ws (rl_tk (gx_tokens u) p) n).length = 0
    · refine br_t (by show nI _ = 0; rw [hz]; rfl) (br_f (by decide) ?_)
      have hnil : tk_ws (rl_tk (gx_tokens u) p) n = [] := List.eq_nil_of_length_eq_zero hz
      obtain ⟨sp, sz, dp, lo, es, op, ag, tg, oA, oP, oQ, oR, lT, eA, eL, hcode, hcomp⟩ := cp_compile (u := (u.1, nI p, 1, nI (tk_ws (rl_tk (gx_tokens u) p) n).length, (xs_wa u (nI (tk_ws (rl_tk (gx_tokens u) p) n).length) wa).2.2.2.2)) hp rfl hn (tk_V_prog hVV hnil) hkk hc
      refine hcomp _ ?_
      show wpY_activate _ v (nI p)
      unfold wpY_activate
      refine yb_0 hp (br_t rfl ?_)
      unfold wpY_complete
      refine yb_0 hp (br_t rfl (hy _ ?_))
      refine br_t (by show nI _ = 0; rw [hz]; rfl) (br_f (by decide) ?_)
      refine ⟨?_, ⟨hT1, ⟨p, hp, rfl, rfl⟩, rfl⟩, hV, ⟨k1, k2, k3⟩, fun _ => ⟨p, n, hp, hn, rfl, hc, hnil, hcode⟩⟩
      show gy_active v = gx_active u
      rw [a1, a2]
    · refine br_f (ni_ne (b := 0) hz (by omega) (by decide)) (br_t rfl ?_)
      show wpY_activate _ v (nI p)
      unfold wpY_activate
      refine yb_0 hp (br_t rfl ?_)
      unfold wpY_complete
      refine yb_0 hp (br_t rfl (hy _ ?_))
      exact br_f (ni_ne (b := 0) hz (by omega) (by decide)) (br_t rfl ⟨rfl, ⟨hT1, ⟨ac, ha, a1, a2⟩, a3⟩, hV, ⟨k1, k2, k3⟩, hC⟩)
  · refine xp_0 h0 h1 (br_t rfl ?_)
    show wpY_activate _ v v1
    unfold wpY_activate
    exact yb_1 h2 (br_f (by decide) ⟨rfl, I'⟩)
end
end
section
section
variable {k : Nat} {u : SX} {v : SY}
theorem i_vc_feed (I : i_Rel k u v) (hk : k + 3 ≤ 1536) (v1 : Int32) (v2 : Int32) : wpX_feed (fun r u' => wpY_feed (fun r' v' => r' = r ∧ i_Rel (k + 3) u' v') v v1 v2) u v1 v2 := by
  have I' := i_up I
  unfold wpX_feed
  rcases rp_good v1 with ⟨p, hp, rfl⟩ | ⟨h0, h1, h2⟩
  · refine xp_1 hp (br_f (by decide) ?_)
    obtain ⟨hT, hV, ⟨k1, k2, k3⟩, hC⟩ := I'
    have hfy : (¬ gy_running v = 0 ∧ nI p = gy_active v) ↔ (¬ gx_isRunning u = 0 ∧ nI p = gx_active u) := by
      obtain ⟨_, ⟨ac, _, a1, a2⟩, a3⟩ := hT
      rw [a1, a2, a3]
    by_cases hf : ¬ gx_isRunning u = 0 ∧ nI p = gx_active u
    · refine xf_t hf (br_f (by decide) ?_)
      show wpY_feed _ v (nI p) v2
      unfold wpY_feed
      exact yb_0 hp (br_t rfl (yf_t (hfy.mpr hf) (br_f (by decide) ⟨rfl, hT, hV, ⟨k1, k2, k3⟩, hC⟩)))
    obtain ⟨n, hn, hc, hVV, hkk⟩ := k3 p hp
    have hc : gx_tokenCount u p = nI n := hc
    have hcy : gy_sizes v p = nI n := by rw [k2]; exact hc
    obtain ⟨wa, hwa, hx⟩ := sn_scan (u := u) hp hn hVV hkk hc
    obtain ⟨wb, hwb, hy⟩ := sy_scan (v := v) (n := n) hp hn hVV (by rw [k1]; exact hkk) hcy
    have hl := (tk_V_len hVV n (Nat.le_refl _)).1
    refine xf_f hf (br_t rfl (hx _ ?_))
    have e60 : 60 * nI p + nI n = nI (60 * p + n) := by
      rw [← nI_add]
      exact congrArg (· + nI n) (pk_mul 60 p)
    -- what both do with a token that fits
    have fitX : n < 60 → ∀ (P : Int32 → SX → Prop), P (nI (n + 1)) (gx_time u, gx_active u, gx_isRunning u, nI (tk_ws (rl_tk (gx_tokens u) p) n).length, gx_size u, gx_depth u, gx_loops u, gx_exits u, gx_height u, gx_allRounds u, gx_isOver u, gx_variables u, gx_row u, gx_inputs u, gx_taken u, gx_outputs u, gx_timerOn u, gx_timerBegin u, gx_counterLast u, gx_edgeLast u, gx_blocks u, upd (gx_tokens u) (60 * p + n) v2, upd (gx_tokenCount u) p (nI (n + 1)), wa, gx_spans u, gx_operation u, gx_argument u, gx_target u, gx_openAt u, gx_openPhase u, gx_openPatch u, gx_openPatch2 u, gx_loopToken u, gx_exitAt u, gx_exitLoop u, gx_stack u, gx_loopRounds u, gx_loopLast u) → wX_feed_72 P (nI p) v2 1 (gx_time u) (gx_active u) (gx_isRunning u) (nI (tk_ws (rl_tk (gx_tokens u) p) n).length) (gx_size u) (gx_depth u) (gx_loops u) (gx_exits u) (gx_height u) (gx_allRounds u) (gx_isOver u) (gx_variables u) (gx_row u) (gx_inputs u) (gx_taken u) (gx_outputs u) (gx_timerOn u) (gx_timerBegin u) (gx_counterLast u) (gx_edgeLast u) (gx_blocks u) (gx_tokens u) (gx_tokenCount u) wa (gx_spans u) (gx_operation u) (gx_argument u) (gx_target u) (gx_openAt u) (gx_openPhase u) (gx_openPatch u) (gx_openPatch2 u) (gx_loopToken u) (gx_exitAt u) (gx_exitLoop u) (gx_stack u) (gx_loopRounds u) (gx_loopLast u) := by
      intro hn6 P H
      refine br_f (by decide) (And.intro (vp_in_nI (by omega) (by decide)) ?_)
      rw [nI_clamp (by omega), hc, e60, nI_clamp (by omega), nI_1]
      refine And.intro (vp_in_nI (by omega) (by decide)) (nm_e (And.intro (vp_in_nI (by omega) (by decide)) (And.intro (vp_in_nI (by omega) (by decide)) (nm_e (And.intro (vp_in_nI (by omega) (by decide)) ?_)))))
      rw [pk_us]
      exact H
    have fitY : n < 60 → ∀ (P : Int32 → SY → Prop), P (nI (n + 1)) (gy_time v, gy_active v, gy_running v, nI (tk_ws (rl_tk (gx_tokens u) p) n).length, gy_depth v, gy_tasks v, gy_begun v, gy_variables v, gy_cells v, gy_inputs v, gy_outputs v, gy_timerOn v, gy_timerBegin v, gy_timerElapsed v, gy_timerDone v, gy_counterLast v, gy_counterValue v, gy_counterDone v, gy_edgeLast v, gy_edgeDone v, upd (gy_sizes v) p (nI (n + 1)), upd (gy_tokens v) (60 * p + n) v2, gy_ends v, wb, gy_numbers v, gy_taskKind v, gy_taskAt v, gy_taskRounds v, gy_taskLimit v) → wY_feed_82 P (nI p) v2 (gy_time v) (gy_active v) (gy_running v) (nI (tk_ws (rl_tk (gx_tokens u) p) n).length) (gy_depth v) (gy_tasks v) (gy_begun v) (gy_variables v) (gy_cells v) (gy_inputs v) (gy_outputs v) (gy_timerOn v) (gy_timerBegin v) (gy_timerElapsed v) (gy_timerDone v) (gy_counterLast v) (gy_counterValue v) (gy_counterDone v) (gy_edgeLast v) (gy_edgeDone v) (gy_sizes v) (gy_tokens v) (gy_ends v) wb (gy_numbers v) (gy_taskKind v) (gy_taskAt v) (gy_taskRounds v) (gy_taskLimit v) := by
      intro hn6 P H
      refine And.intro (vp_in_nI (by omega) (by decide)) ?_
      rw [nI_clamp (by omega), hcy, e60, nI_clamp (by omega), nI_1]
      refine And.intro (vp_in_nI (by omega) (by decide)) (nm_e (And.intro (vp_in_nI (by omega) (by decide)) (And.intro (vp_in_nI (by omega) (by decide)) (nm_e (And.intro (vp_in_nI (by omega) (by decide)) ?_)))))
      rw [pk_us]
      exact H
    -- the relation behind it
    have fitR : ∀ (b : Bool) (l : List Bool), n < 60 → tk_ws (rl_tk (gx_tokens u) p) n = b :: l → tk_ok b v2.toNatClampNeg = true → i_Rel (k + 3) (gx_time u, gx_active u, gx_isRunning u, nI (tk_ws (rl_tk (gx_tokens u) p) n).length, gx_size u, gx_depth u, gx_loops u, gx_exits u, gx_height u, gx_allRounds u, gx_isOver u, gx_variables u, gx_row u, gx_inputs u, gx_taken u, gx_outputs u, gx_timerOn u, gx_timerBegin u, gx_counterLast u, gx_edgeLast u, gx_blocks u, upd (gx_tokens u) (60 * p + n) v2, upd (gx_tokenCount u) p (nI (n + 1)), wa, gx_spans u, gx_operation u, gx_argument u, gx_target u, gx_openAt u, gx_openPhase u, gx_openPatch u, gx_openPatch2 u, gx_loopToken u, gx_exitAt u, gx_exitLoop u, gx_stack u, gx_loopRounds u, gx_loopLast u) (gy_time v, gy_active v, gy_running v, nI (tk_ws (rl_tk (gx_tokens u) p) n).length, gy_depth v, gy_tasks v, gy_begun v, gy_variables v, gy_cells v, gy_inputs v, gy_outputs v, gy_timerOn v, gy_timerBegin v, gy_timerElapsed v, gy_timerDone v, gy_counterLast v, gy_counterValue v, gy_counterDone v, gy_edgeLast v, gy_edgeDone v, upd (gy_sizes v) p (nI (n + 1)), upd (gy_tokens v) (60 * p + n) v2, gy_ends v, wb, gy_numbers v, gy_taskKind v, gy_taskAt v, gy_taskRounds v, gy_taskLimit v) := by
      intro b l hn6 hw ho
      have e2 : v2 = nI v2.toNatClampNeg := by
        rcases tv_cases v2 with ⟨_, e⟩ | ⟨j, _, e, e'⟩
        · rw [e] at ho
          have := tk_ok_le ho
          omega
        · rw [e']
          exact e
      refine ⟨hT, hV, ⟨?_, ?_, fun q hq => ?_⟩, fun hr => ?_⟩
      · show upd (gy_tokens v) _ _ = upd (gx_tokens u) _ _
        rw [k1]
      · show upd (gy_sizes v) _ _ = upd (gx_tokenCount u) _ _
        rw [k2]
      · show rl_P (upd (gx_tokens u) (60 * p + n) v2) (upd (gx_tokenCount u) p (nI (n + 1))) q
        by_cases e : q = p
        · rw [e, e2]
          exact rl_P_feed hn6 hVV hkk hw ho
        · exact rl_P_feedo hp hq hn6 e (k3 q hq)
      · obtain ⟨ac, m, q1, q2, q3, q4, q5, q6⟩ := hC hr
        have hne := rl_nf hp q1 hf hr q3
        have et : rl_tk (upd (gx_tokens u) (60 * p + n) v2) ac = rl_tk (gx_tokens u) ac := rl_tk_other hp q1 hn6 hne
        refine ⟨ac, m, q1, q2, q3, (pk_un hne).trans q4, ?_, ?_⟩
        · show tk_ws (rl_tk (upd (gx_tokens u) (60 * p + n) v2) ac) m = []
          rw [et]
          exact q5
        · show cp_Code _ (rl_tk (upd (gx_tokens u) (60 * p + n) v2) ac)
          rw [et]
          exact q6
    -- the two scans agree
    have Yin : ∀ (P : Int32 → SY → Prop), (((nI (tk_ws (rl_tk (gx_tokens u) p) n).length = 0 → P (-3) (ys_wa v (nI (tk_ws (rl_tk (gx_tokens u) p) n).length) wb)) ∧ (¬ nI (tk_ws (rl_tk (gx_tokens u) p) n).length = 0 → ((gy_sizes v p = 60 → P (-3) (ys_wa v (nI (tk_ws (rl_tk (gx_tokens u) p) n).length) wb)) ∧ (¬ gy_sizes v p = 60 → (vp_in (nI (tk_ws (rl_tk (gx_tokens u) p) n).length - 1) 256 ∧ ((wb (nI (tk_ws (rl_tk (gx_tokens u) p) n).length - 1).toNatClampNeg = 0 → wpY_isExpression (fun r => (r = 0 → P (-1) (ys_wa v (nI (tk_ws (rl_tk (gx_tokens u) p) n).length) wb)) ∧ (¬ r = 0 → wY_feed_82 P (nI p) v2 (gy_time v) (gy_active v) (gy_running v) (nI (tk_ws (rl_tk (gx_tokens u) p) n).length) (gy_depth v) (gy_tasks v) (gy_begun v) (gy_variables v) (gy_cells v) (gy_inputs v) (gy_outputs v) (gy_timerOn v) (gy_timerBegin v) (gy_timerElapsed v) (gy_timerDone v) (gy_counterLast v) (gy_counterValue v) (gy_counterDone v) (gy_edgeLast v) (gy_edgeDone v) (gy_sizes v) (gy_tokens v) (gy_ends v) wb (gy_numbers v) (gy_taskKind v) (gy_taskAt v) (gy_taskRounds v) (gy_taskLimit v))) (ys_wa v (nI (tk_ws (rl_tk (gx_tokens u) p) n).length) wb) v2) ∧ (¬ wb (nI (tk_ws (rl_tk (gx_tokens u) p) n).length - 1).toNatClampNeg = 0 → wpY_isStatement (fun r => (r = 0 → P (-1) (ys_wa v (nI (tk_ws (rl_tk (gx_tokens u) p) n).length) wb)) ∧ (¬ r = 0 → wY_feed_82 P (nI p) v2 (gy_time v) (gy_active v) (gy_running v) (nI (tk_ws (rl_tk (gx_tokens u) p) n).length) (gy_depth v) (gy_tasks v) (gy_begun v) (gy_variables v) (gy_cells v) (gy_inputs v) (gy_outputs v) (gy_timerOn v) (gy_timerBegin v) (gy_timerElapsed v) (gy_timerDone v) (gy_counterLast v) (gy_counterValue v) (gy_counterDone v) (gy_edgeLast v) (gy_edgeDone v) (gy_sizes v) (gy_tokens v) (gy_ends v) wb (gy_numbers v) (gy_taskKind v) (gy_taskAt v) (gy_taskRounds v) (gy_taskLimit v))) (ys_wa v (nI (tk_ws (rl_tk (gx_tokens u) p) n).length) wb) v2)))))))) → wpY_feed P v (nI p) v2 := by
      intro P H
      unfold wpY_feed
      refine yb_0 hp (br_t rfl (yf_f (fun z => hf (hfy.mp z)) (br_t rfl (hy _ ?_))))
      refine ⟨H.1, fun hne => And.intro (vp_in_nI (by omega) (by decide)) ?_⟩
      rw [nI_clamp (by omega)]
      exact H.2 hne
    cases hw : tk_ws (rl_tk (gx_tokens u) p) n with
    | nil =>
      rw [hw] at Yin
      refine br_t rfl (Yin _ (br_t rfl ⟨rfl, hT, hV, ⟨k1, k2, k3⟩, hC⟩))
    | cons b l =>
      rw [hw] at hwa hwb hl
      have hl : l.length + 1 ≤ 2 * n + 2 := hl
      have hne : ¬ nI (b :: l).length = 0 := ni_ne (a := l.length + 1) (b := 0) (by omega) (by omega) (by decide)
      have hpr : nI (b :: l).length - 1 = nI l.length := nI_pred l.length
      rw [hw] at Yin fitX fitY fitR
      rw [hpr, nI_clamp (by omega)] at Yin
      refine br_f hne (And.intro (vp_in_nI (by omega) (by decide)) ?_)
      rw [nI_clamp (by omega)]
      by_cases h6 : n < 60
      · have hn60 : ¬ gy_sizes v p = 60 := by
          rw [hcy]
          exact ni_ne (b := 60) (by omega) (by omega) (by decide)
        refine br_t (by show gx_tokenCount u p < 60; rw [hc]; exact nI_lt (b := 60) h6 (by decide)) ?_
        show vp_in (nI (b :: l).length - 1) 130 ∧ _
        rw [hpr, nI_clamp (by omega)]
        refine And.intro (vp_in_nI (by omega) (by decide)) ?_
        cases b with
        | true =>
          have w1 : wa l.length = 1 := hwa.1
          have w2 : ¬ wb l.length = 0 := by
            have : wb l.length = 1 := hwb.1
            rw [this]
            decide
          refine br_t w1 (xk_st ?_)
          by_cases hs : tk_st v2.toNatClampNeg = true
          · rw [if_pos hs]
            refine fitX h6 _ (Yin _ (br_f hne (br_f hn60 (And.intro (vp_in_nI (by omega) (by decide)) (br_f w2 (yk_st ?_))))))
            rw [if_pos hs]
            exact br_f (by decide) (fitY h6 _ ⟨rfl, fitR true l h6 rfl hs⟩)
          · rw [if_neg hs]
            refine br_t rfl (Yin _ (br_f hne (br_f hn60 (And.intro (vp_in_nI (by omega) (by decide)) (br_f w2 (yk_st ?_))))))
            rw [if_neg hs]
            exact br_t rfl ⟨rfl, hT, hV, ⟨k1, k2, k3⟩, hC⟩
        | false =>
          have w1 : ¬ wa l.length = 1 := by
            have : wa l.length = 0 := hwa.1
            rw [this]
            decide
          have w2 : wb l.length = 0 := hwb.1
          refine br_f w1 (xk_ex ?_)
          by_cases hs : tk_ex v2.toNatClampNeg = true
          · rw [if_pos hs]
            refine fitX h6 _ (Yin _ (br_f hne (br_f hn60 (And.intro (vp_in_nI (by omega) (by decide)) (br_t w2 (yk_ex ?_))))))
            rw [if_pos hs]
            exact br_f (by decide) (fitY h6 _ ⟨rfl, fitR false l h6 rfl hs⟩)
          · rw [if_neg hs]
            refine br_t rfl (Yin _ (br_f hne (br_f hn60 (And.intro (vp_in_nI (by omega) (by decide)) (br_t w2 (yk_ex ?_))))))
            rw [if_neg hs]
            exact br_t rfl ⟨rfl, hT, hV, ⟨k1, k2, k3⟩, hC⟩
      · have hn60 : gy_sizes v p = 60 := by
          rw [hcy, show n = 60 by omega]
          rfl
        refine br_f (by show ¬ gx_tokenCount u p < 60; rw [hc]; exact nI_nlt (b := 60) (by omega) (by omega)) ?_
        exact Yin _ (br_f hne (br_t hn60 ⟨rfl, hT, hV, ⟨k1, k2, k3⟩, hC⟩))
  · refine xp_0 h0 h1 (br_t rfl ?_)
    show wpY_feed _ v v1 v2
    unfold wpY_feed
    exact yb_1 h2 (br_f (by decide) ⟨rfl, I'⟩)
end
end
section
section
variable {k : Nat} {u : SX} {v : SY}
theorem ry_34 : ∀ (m j : Nat) (tn : Nat → Int32), j + m = 4 → (∀ q, q < j → tn q = gx_inputs u q) → ∃ tn', (∀ q, q < 4 → tn' q = gx_inputs u q) ∧ ∀ post : Int32 → SX → Prop, (∃ n, xs_w76 post n (nI 0) (nI 0) (xs_mu (xs_tk u tn') (nI 0) (nI 0) (nI 0) (gx_variables u) (gx_row u) (gx_outputs u) (gx_timerOn u) (gx_timerBegin u) (gx_counterLast u) (gx_edgeLast u) (gx_blocks u) (gx_stack u) (gx_loopRounds u) (gx_loopLast u))) → wX_cycle_34 post (gx_time u) (gx_active u) (gx_isRunning u) (gx_wantedCount u) (gx_size u) (gx_depth u) (gx_loops u) (gx_exits u) (gx_height u) (gx_allRounds u) (gx_isOver u) (m + 1) (nI j) (gx_variables u) (gx_row u) (gx_inputs u) tn (gx_outputs u) (gx_timerOn u) (gx_timerBegin u) (gx_counterLast u) (gx_edgeLast u) (gx_blocks u) (gx_tokens u) (gx_tokenCount u) (gx_wanted u) (gx_spans u) (gx_operation u) (gx_argument u) (gx_target u) (gx_openAt u) (gx_openPhase u) (gx_openPatch u) (gx_openPatch2 u) (gx_loopToken u) (gx_exitAt u) (gx_exitLoop u) (gx_stack u) (gx_loopRounds u) (gx_loopLast u) := by
  intro m
  induction m with
  | zero =>
    intro j tn hj h
    exact ⟨tn, fun q hq => h q (by omega), fun post H => br_t (nI_le (a := 4) (by omega) (by omega)) H⟩
  | succ m ih =>
    intro j tn hj h
    obtain ⟨tn', h1, h2⟩ := ih (j + 1) (upd tn j (gx_inputs u j)) (by omega) (fun q hq => by
      by_cases z : q = j
      · rw [z]; exact pk_us
      · rw [pk_un z]; exact h q (by omega))
    exact ⟨tn', h1, fun post H => br_f (nI_ge (b := 4) (by omega) (by decide)) (And.intro (vp_in_nI (by omega) (by decide)) (And.intro (vp_in_nI (by omega) (by decide)) (nm_r (e' := upd tn j (gx_inputs u j)) (by rw [nI_clamp (by omega)]) (nm_r (nI_1 j) (h2 post H)))))⟩
theorem i_vc_cycle (I : i_Rel k u v) (hk : k + 3 ≤ 1536) (v1 : Int32) : wpX_cycle (fun r u' => wpY_cycle (fun r' v' => r' = r ∧ i_Rel (k + 3) u' v') v v1) u v1 := by
  have I' := i_up I
  by_cases c0 : v1 < 0
  · exact br_t c0 (br_t c0 ⟨rfl, I'⟩)
  refine br_f c0 ?_
  by_cases c1 : v1 ≤ 100
  · refine br_t c1 ?_
    obtain ⟨⟨⟨t, ht, t1, t2⟩, ⟨ac', ha', a1, a2⟩, a3⟩, ⟨⟨q1, q2, q3, q4, q5, q6, q7, q8⟩, hb, hD⟩, ⟨k1, k2, k3⟩, hC⟩ := I
    by_cases cr : gx_isRunning u = 0
    · exact br_t cr (br_f c0 (br_t c1 (br_t (a3.trans cr) ⟨rfl, I'⟩)))
    refine br_f cr ?_
    obtain ⟨ac, n, ha, hn, e1, e2, hnil, sz, hsz, hs4, hcode⟩ := hC cr
    obtain ⟨tau, _, rfl⟩ := nI_of c0
    have htau : tau ≤ 100 := (nI_leI (by omega) (b := 100) (by decide)).mp c1
    obtain ⟨n', _, hc', hVV, hkk⟩ := k3 ac ha
    have en : n' = n := by
      have hc' : gx_tokenCount u ac = nI n' := hc'
      rw [e2] at hc'
      exact ((nI_eq (by omega) (by omega)).mp hc').symm
    subst en
    have hF := tk_V_prog hVV hnil
    have hD2 : ys_D ((gx_inputs u, nI (t + tau)) : ds_E) (gx_timerOn u) (gx_timerBegin u) := by
      obtain ⟨d1, d2⟩ := hD
      have w1 : (nI t).toInt = (t : Int) := nI_toInt (by omega)
      have w2 : (nI (t + tau)).toInt = ((t + tau : Nat) : Int) := nI_toInt (by omega)
      refine ⟨?_, fun j hj => ?_⟩
      · show (0 : Int) ≤ (nI (t + tau)).toInt
        rw [w2]
        omega
      · obtain ⟨x1, x2, x3⟩ := d2 j hj
        have x3 : (gx_timerBegin u j).toInt ≤ (gx_time u).toInt := x3
        rw [t1, w1] at x3
        refine ⟨x1, x2, ?_⟩
        show (gx_timerBegin u j).toInt ≤ (nI (t + tau)).toInt
        rw [w2]
        omega
    -- the component
    obtain ⟨tn, h4, hx⟩ := ry_34 (u := (nI (t + tau), u.2)) 4 0 (gx_taken u) (by omega) (fun q hq => by omega)
    obtain ⟨m, pc, r', lr', ll', hm, hR⟩ := hcode (gx_inputs u, nI (t + tau)) (gx_variables u, gx_row u, gx_outputs u, gx_timerOn u, gx_timerBegin u, gx_counterLast u, gx_edgeLast u, gx_blocks u) (gx_loopRounds u) (gx_loopLast u)
    obtain ⟨u', ⟨st, rfl, _, _, _⟩, hw⟩ := xm_run (u0 := xs_tk (nI (t + tau), u.2) tn) (E := (gx_inputs u, nI (t + tau))) hsz hs4 (fun j hj => h4 j hj) rfl m 0 pc 0 _ _ _ hR (by omega) ⟨gx_stack u, rfl, trivial, by show 0 ≤ 80; omega, by show 0 ≤ 300; omega⟩
    -- the reference
    obtain ⟨en, v', s', RY, hY⟩ := yk_carry (v := (nI (t + tau), v.2)) (tk := rl_tk (gx_tokens u) ac) (p := ac) (B := 60 * ac) (L := n') (E := (gx_inputs u, nI (t + tau))) (D := (gx_variables u, gx_row u, gx_outputs u, gx_timerOn u, gx_timerBegin u, gx_counterLast u, gx_edgeLast u, gx_blocks u)) ha rfl hn hF (by show ∀ i, i < n' → gy_tokens v (60 * ac + i) = _; rw [k1]; exact hkk) (by show gy_sizes v ac = _; rw [k2]; exact e2) (by show _ = (gy_inputs v, nI (t + tau)); rw [q3]) q1 q2 q4 q5 q6 q7 q8 hb hD2
    have eac : gy_active v = nI ac := by
      rw [a2, ← a1]
      exact e1
    refine nm_r (e' := nI (t + tau)) (by show gx_time u + _ = _; rw [t1, nI_add]) ⟨5, hx _ ⟨1 + m, hw _ 1 ?_⟩⟩
    rw [Nat.zero_add]
    refine br_f (nI_ge (b := 200000) (by omega) (by decide)) (br_f (by show ¬ nI 1 = 0; decide) ?_)
    show wpY_cycle _ v (nI tau)
    refine br_f c0 (br_t c1 (br_f (fun z => cr (a3.symm.trans z)) (nm_r (e' := nI (t + tau)) (by show gy_time v + _ = _; rw [t2, nI_add]) ?_)))
    show wpY_carryOut _ (nI (t + tau), v.2) (gy_active v)
    rw [eac]
    refine hY _ ?_
    obtain ⟨tE, tD, cV, cD, eD, nu, tK, tA, tR, tM, rfl, hb', hD', _, _⟩ := RY
    refine ⟨rfl, ⟨⟨t + tau, by omega, rfl, rfl⟩, ⟨ac', ha', a1, a2⟩, a3⟩, ⟨⟨rfl, rfl, q3, rfl, rfl, rfl, rfl, rfl⟩, hb', hD'⟩, ⟨k1, k2, k3⟩, fun _ => ⟨ac, n', ha, hn, e1, e2, hnil, sz, hsz, hs4, hcode⟩⟩
  · exact br_f c1 (br_f c0 (br_f c1 ⟨rfl, I'⟩))
end
end
section
/-- m zeros from a on -/
def rz_g : Nat → (Nat → Int32) → Nat → (Nat → Int32)
  | 0, f, _ => f
  | m + 1, f, a => rz_g m (upd f a 0) (a + 1)
theorem rz_hi : ∀ (m : Nat) (f : Nat → Int32) (a j : Nat), j < a → rz_g m f a j = f j := by
  intro m
  induction m with
  | zero => intro f a j _; rfl
  | succ m ih =>
    intro f a j hj
    show rz_g m (upd f a 0) (a + 1) j = _
    rw [ih _ _ _ (by omega), pk_un (by omega)]
theorem rz_0 : ∀ (m : Nat) (f : Nat → Int32) (a j : Nat), a ≤ j → j < a + m → rz_g m f a j = 0 := by
  intro m
  induction m with
  | zero => intro f a j h1 h2; omega
  | succ m ih =>
    intro f a j h1 h2
    show rz_g m (upd f a 0) (a + 1) j = 0
    by_cases z : j = a
    · rw [z, rz_hi _ _ _ _ (by omega)]
      exact pk_us
    · exact ih _ _ _ (by omega) (by omega)

section
variable {u : SX} {v : SY} {va ro ou tO tB cL eL bl tE tD cV cD eD : Nat → Int32}
theorem rs_2 (post : SX → Prop) : ∀ (m a : Nat) (va : Nat → Int32), a + m = 16 → (∃ n, wX_restart_23 post (gx_time u) (gx_active u) (gx_isRunning u) (gx_wantedCount u) (gx_size u) (gx_depth u) (gx_loops u) (gx_exits u) (gx_height u) (gx_allRounds u) (gx_isOver u) n 0 (rz_g m va a) ro (gx_inputs u) (gx_taken u) ou tO tB cL eL bl (gx_tokens u) (gx_tokenCount u) (gx_wanted u) (gx_spans u) (gx_operation u) (gx_argument u) (gx_target u) (gx_openAt u) (gx_openPhase u) (gx_openPatch u) (gx_openPatch2 u) (gx_loopToken u) (gx_exitAt u) (gx_exitLoop u) (gx_stack u) (gx_loopRounds u) (gx_loopLast u)) → wX_restart_2 post (gx_time u) (gx_active u) (gx_isRunning u) (gx_wantedCount u) (gx_size u) (gx_depth u) (gx_loops u) (gx_exits u) (gx_height u) (gx_allRounds u) (gx_isOver u) (m + 1) (nI a) va ro (gx_inputs u) (gx_taken u) ou tO tB cL eL bl (gx_tokens u) (gx_tokenCount u) (gx_wanted u) (gx_spans u) (gx_operation u) (gx_argument u) (gx_target u) (gx_openAt u) (gx_openPhase u) (gx_openPatch u) (gx_openPatch2 u) (gx_loopToken u) (gx_exitAt u) (gx_exitLoop u) (gx_stack u) (gx_loopRounds u) (gx_loopLast u) := by
  intro m
  induction m with
  | zero =>
    intro a va ha H
    exact br_t (nI_le (a := 16) (by omega) (by omega)) H
  | succ m ih =>
    intro a va ha H
    exact br_f (nI_ge (b := 16) (by omega) (by decide)) (And.intro (vp_in_nI (by omega) (by decide)) (nm_r (e' := upd va a 0) (by rw [nI_clamp (by omega)]) (nm_r (nI_1 a) (ih (a + 1) (upd va a 0) (by omega) H))))
theorem rs_23 (post : SX → Prop) : ∀ (m a : Nat) (ro : Nat → Int32), a + m = 8 → (∃ n, wX_restart_44 post (gx_time u) (gx_active u) (gx_isRunning u) (gx_wantedCount u) (gx_size u) (gx_depth u) (gx_loops u) (gx_exits u) (gx_height u) (gx_allRounds u) (gx_isOver u) n 0 va (rz_g m ro a) (gx_inputs u) (gx_taken u) ou tO tB cL eL bl (gx_tokens u) (gx_tokenCount u) (gx_wanted u) (gx_spans u) (gx_operation u) (gx_argument u) (gx_target u) (gx_openAt u) (gx_openPhase u) (gx_openPatch u) (gx_openPatch2 u) (gx_loopToken u) (gx_exitAt u) (gx_exitLoop u) (gx_stack u) (gx_loopRounds u) (gx_loopLast u)) → wX_restart_23 post (gx_time u) (gx_active u) (gx_isRunning u) (gx_wantedCount u) (gx_size u) (gx_depth u) (gx_loops u) (gx_exits u) (gx_height u) (gx_allRounds u) (gx_isOver u) (m + 1) (nI a) va ro (gx_inputs u) (gx_taken u) ou tO tB cL eL bl (gx_tokens u) (gx_tokenCount u) (gx_wanted u) (gx_spans u) (gx_operation u) (gx_argument u) (gx_target u) (gx_openAt u) (gx_openPhase u) (gx_openPatch u) (gx_openPatch2 u) (gx_loopToken u) (gx_exitAt u) (gx_exitLoop u) (gx_stack u) (gx_loopRounds u) (gx_loopLast u) := by
  intro m
  induction m with
  | zero =>
    intro a ro ha H
    exact br_t (nI_le (a := 8) (by omega) (by omega)) H
  | succ m ih =>
    intro a ro ha H
    exact br_f (nI_ge (b := 8) (by omega) (by decide)) (And.intro (vp_in_nI (by omega) (by decide)) (nm_r (e' := upd ro a 0) (by rw [nI_clamp (by omega)]) (nm_r (nI_1 a) (ih (a + 1) (upd ro a 0) (by omega) H))))
theorem rs_44 (post : SX → Prop) : ∀ (m a : Nat) (ou : Nat → Int32), a + m = 4 → (∃ n, wX_restart_64 post (gx_time u) (gx_active u) (gx_isRunning u) (gx_wantedCount u) (gx_size u) (gx_depth u) (gx_loops u) (gx_exits u) (gx_height u) (gx_allRounds u) (gx_isOver u) n 0 va ro (gx_inputs u) (gx_taken u) (rz_g m ou a) tO tB cL eL bl (gx_tokens u) (gx_tokenCount u) (gx_wanted u) (gx_spans u) (gx_operation u) (gx_argument u) (gx_target u) (gx_openAt u) (gx_openPhase u) (gx_openPatch u) (gx_openPatch2 u) (gx_loopToken u) (gx_exitAt u) (gx_exitLoop u) (gx_stack u) (gx_loopRounds u) (gx_loopLast u)) → wX_restart_44 post (gx_time u) (gx_active u) (gx_isRunning u) (gx_wantedCount u) (gx_size u) (gx_depth u) (gx_loops u) (gx_exits u) (gx_height u) (gx_allRounds u) (gx_isOver u) (m + 1) (nI a) va ro (gx_inputs u) (gx_taken u) ou tO tB cL eL bl (gx_tokens u) (gx_tokenCount u) (gx_wanted u) (gx_spans u) (gx_operation u) (gx_argument u) (gx_target u) (gx_openAt u) (gx_openPhase u) (gx_openPatch u) (gx_openPatch2 u) (gx_loopToken u) (gx_exitAt u) (gx_exitLoop u) (gx_stack u) (gx_loopRounds u) (gx_loopLast u) := by
  intro m
  induction m with
  | zero =>
    intro a ou ha H
    exact br_t (nI_le (a := 4) (by omega) (by omega)) H
  | succ m ih =>
    intro a ou ha H
    exact br_f (nI_ge (b := 4) (by omega) (by decide)) (And.intro (vp_in_nI (by omega) (by decide)) (nm_r (e' := upd ou a 0) (by rw [nI_clamp (by omega)]) (nm_r (nI_1 a) (ih (a + 1) (upd ou a 0) (by omega) H))))
theorem rs_64 (post : SX → Prop) : ∀ (m a : Nat) (bl : Nat → Int32), a + m = 15 → (∃ n, wX_restart_85 post (gx_time u) (gx_active u) (gx_isRunning u) (gx_wantedCount u) (gx_size u) (gx_depth u) (gx_loops u) (gx_exits u) (gx_height u) (gx_allRounds u) (gx_isOver u) n 0 va ro (gx_inputs u) (gx_taken u) ou tO tB cL eL (rz_g m bl a) (gx_tokens u) (gx_tokenCount u) (gx_wanted u) (gx_spans u) (gx_operation u) (gx_argument u) (gx_target u) (gx_openAt u) (gx_openPhase u) (gx_openPatch u) (gx_openPatch2 u) (gx_loopToken u) (gx_exitAt u) (gx_exitLoop u) (gx_stack u) (gx_loopRounds u) (gx_loopLast u)) → wX_restart_64 post (gx_time u) (gx_active u) (gx_isRunning u) (gx_wantedCount u) (gx_size u) (gx_depth u) (gx_loops u) (gx_exits u) (gx_height u) (gx_allRounds u) (gx_isOver u) (m + 1) (nI a) va ro (gx_inputs u) (gx_taken u) ou tO tB cL eL bl (gx_tokens u) (gx_tokenCount u) (gx_wanted u) (gx_spans u) (gx_operation u) (gx_argument u) (gx_target u) (gx_openAt u) (gx_openPhase u) (gx_openPatch u) (gx_openPatch2 u) (gx_loopToken u) (gx_exitAt u) (gx_exitLoop u) (gx_stack u) (gx_loopRounds u) (gx_loopLast u) := by
  intro m
  induction m with
  | zero =>
    intro a bl ha H
    exact br_t (nI_le (a := 15) (by omega) (by omega)) H
  | succ m ih =>
    intro a bl ha H
    exact br_f (nI_ge (b := 15) (by omega) (by decide)) (And.intro (vp_in_nI (by omega) (by decide)) (nm_r (e' := upd bl a 0) (by rw [nI_clamp (by omega)]) (nm_r (nI_1 a) (ih (a + 1) (upd bl a 0) (by omega) H))))
theorem rs_85 (post : SX → Prop) : ∀ (m a : Nat) (tO tB cL eL : Nat → Int32), a + m = 3 → post (gx_time u, gx_active u, gx_isRunning u, gx_wantedCount u, gx_size u, gx_depth u, gx_loops u, gx_exits u, gx_height u, gx_allRounds u, gx_isOver u, va, ro, gx_inputs u, gx_taken u, ou, rz_g m tO a, rz_g m tB a, rz_g m cL a, rz_g m eL a, bl, gx_tokens u, gx_tokenCount u, gx_wanted u, gx_spans u, gx_operation u, gx_argument u, gx_target u, gx_openAt u, gx_openPhase u, gx_openPatch u, gx_openPatch2 u, gx_loopToken u, gx_exitAt u, gx_exitLoop u, gx_stack u, gx_loopRounds u, gx_loopLast u) → wX_restart_85 post (gx_time u) (gx_active u) (gx_isRunning u) (gx_wantedCount u) (gx_size u) (gx_depth u) (gx_loops u) (gx_exits u) (gx_height u) (gx_allRounds u) (gx_isOver u) (m + 1) (nI a) va ro (gx_inputs u) (gx_taken u) ou tO tB cL eL bl (gx_tokens u) (gx_tokenCount u) (gx_wanted u) (gx_spans u) (gx_operation u) (gx_argument u) (gx_target u) (gx_openAt u) (gx_openPhase u) (gx_openPatch u) (gx_openPatch2 u) (gx_loopToken u) (gx_exitAt u) (gx_exitLoop u) (gx_stack u) (gx_loopRounds u) (gx_loopLast u) := by
  intro m
  induction m with
  | zero =>
    intro a tO tB cL eL ha H
    exact br_t (nI_le (a := 3) (by omega) (by omega)) H
  | succ m ih =>
    intro a tO tB cL eL ha H
    exact br_f (nI_ge (b := 3) (by omega) (by decide)) (And.intro (vp_in_nI (by omega) (by decide)) (nm_r (e' := upd tO a 0) (by rw [nI_clamp (by omega), na_b0]) (And.intro (vp_in_nI (by omega) (by decide)) (nm_r (e' := upd tB a 0) (by rw [nI_clamp (by omega)]) (And.intro (vp_in_nI (by omega) (by decide)) (nm_r (e' := upd cL a 0) (by rw [nI_clamp (by omega), na_b0]) (And.intro (vp_in_nI (by omega) (by decide)) (nm_r (e' := upd eL a 0) (by rw [nI_clamp (by omega), na_b0]) (nm_r (nI_1 a) (ih (a + 1) (upd tO a 0) (upd tB a 0) (upd cL a 0) (upd eL a 0) (by omega) H))))))))))
theorem ry_2 (post : SY → Prop) : ∀ (m a : Nat) (va : Nat → Int32), a + m = 16 → (∃ n, wY_restart_23 post (gy_time v) (gy_active v) (gy_running v) (gy_open v) (gy_depth v) (gy_tasks v) (gy_begun v) n 0 (rz_g m va a) ro (gy_inputs v) ou tO tB tE tD cL cV cD eL eD (gy_sizes v) (gy_tokens v) (gy_ends v) (gy_wants v) (gy_numbers v) (gy_taskKind v) (gy_taskAt v) (gy_taskRounds v) (gy_taskLimit v)) → wY_restart_2 post (gy_time v) (gy_active v) (gy_running v) (gy_open v) (gy_depth v) (gy_tasks v) (gy_begun v) (m + 1) (nI a) va ro (gy_inputs v) ou tO tB tE tD cL cV cD eL eD (gy_sizes v) (gy_tokens v) (gy_ends v) (gy_wants v) (gy_numbers v) (gy_taskKind v) (gy_taskAt v) (gy_taskRounds v) (gy_taskLimit v) := by
  intro m
  induction m with
  | zero =>
    intro a va ha H
    exact br_t (nI_le (a := 16) (by omega) (by omega)) H
  | succ m ih =>
    intro a va ha H
    exact br_f (nI_ge (b := 16) (by omega) (by decide)) (And.intro (vp_in_nI (by omega) (by decide)) (nm_r (e' := upd va a 0) (by rw [nI_clamp (by omega)]) (nm_r (nI_1 a) (ih (a + 1) (upd va a 0) (by omega) H))))
theorem ry_23 (post : SY → Prop) : ∀ (m a : Nat) (ro : Nat → Int32), a + m = 8 → (∃ n, wY_restart_44 post (gy_time v) (gy_active v) (gy_running v) (gy_open v) (gy_depth v) (gy_tasks v) (gy_begun v) n 0 va (rz_g m ro a) (gy_inputs v) ou tO tB tE tD cL cV cD eL eD (gy_sizes v) (gy_tokens v) (gy_ends v) (gy_wants v) (gy_numbers v) (gy_taskKind v) (gy_taskAt v) (gy_taskRounds v) (gy_taskLimit v)) → wY_restart_23 post (gy_time v) (gy_active v) (gy_running v) (gy_open v) (gy_depth v) (gy_tasks v) (gy_begun v) (m + 1) (nI a) va ro (gy_inputs v) ou tO tB tE tD cL cV cD eL eD (gy_sizes v) (gy_tokens v) (gy_ends v) (gy_wants v) (gy_numbers v) (gy_taskKind v) (gy_taskAt v) (gy_taskRounds v) (gy_taskLimit v) := by
  intro m
  induction m with
  | zero =>
    intro a ro ha H
    exact br_t (nI_le (a := 8) (by omega) (by omega)) H
  | succ m ih =>
    intro a ro ha H
    exact br_f (nI_ge (b := 8) (by omega) (by decide)) (And.intro (vp_in_nI (by omega) (by decide)) (nm_r (e' := upd ro a 0) (by rw [nI_clamp (by omega)]) (nm_r (nI_1 a) (ih (a + 1) (upd ro a 0) (by omega) H))))
theorem ry_44 (post : SY → Prop) : ∀ (m a : Nat) (ou : Nat → Int32), a + m = 4 → (∃ n, wY_restart_64 post (gy_time v) (gy_active v) (gy_running v) (gy_open v) (gy_depth v) (gy_tasks v) (gy_begun v) n 0 va ro (gy_inputs v) (rz_g m ou a) tO tB tE tD cL cV cD eL eD (gy_sizes v) (gy_tokens v) (gy_ends v) (gy_wants v) (gy_numbers v) (gy_taskKind v) (gy_taskAt v) (gy_taskRounds v) (gy_taskLimit v)) → wY_restart_44 post (gy_time v) (gy_active v) (gy_running v) (gy_open v) (gy_depth v) (gy_tasks v) (gy_begun v) (m + 1) (nI a) va ro (gy_inputs v) ou tO tB tE tD cL cV cD eL eD (gy_sizes v) (gy_tokens v) (gy_ends v) (gy_wants v) (gy_numbers v) (gy_taskKind v) (gy_taskAt v) (gy_taskRounds v) (gy_taskLimit v) := by
  intro m
  induction m with
  | zero =>
    intro a ou ha H
    exact br_t (nI_le (a := 4) (by omega) (by omega)) H
  | succ m ih =>
    intro a ou ha H
    exact br_f (nI_ge (b := 4) (by omega) (by decide)) (And.intro (vp_in_nI (by omega) (by decide)) (nm_r (e' := upd ou a 0) (by rw [nI_clamp (by omega)]) (nm_r (nI_1 a) (ih (a + 1) (upd ou a 0) (by omega) H))))
theorem ry_64 (post : SY → Prop) : ∀ (m a : Nat) (tO tB tE tD cL cV cD eL eD : Nat → Int32), a + m = 3 → post (gy_time v, gy_active v, gy_running v, gy_open v, gy_depth v, gy_tasks v, gy_begun v, va, ro, gy_inputs v, ou, rz_g m tO a, rz_g m tB a, rz_g m tE a, rz_g m tD a, rz_g m cL a, rz_g m cV a, rz_g m cD a, rz_g m eL a, rz_g m eD a, gy_sizes v, gy_tokens v, gy_ends v, gy_wants v, gy_numbers v, gy_taskKind v, gy_taskAt v, gy_taskRounds v, gy_taskLimit v) → wY_restart_64 post (gy_time v) (gy_active v) (gy_running v) (gy_open v) (gy_depth v) (gy_tasks v) (gy_begun v) (m + 1) (nI a) va ro (gy_inputs v) ou tO tB tE tD cL cV cD eL eD (gy_sizes v) (gy_tokens v) (gy_ends v) (gy_wants v) (gy_numbers v) (gy_taskKind v) (gy_taskAt v) (gy_taskRounds v) (gy_taskLimit v) := by
  intro m
  induction m with
  | zero =>
    intro a tO tB tE tD cL cV cD eL eD ha H
    exact br_t (nI_le (a := 3) (by omega) (by omega)) H
  | succ m ih =>
    intro a tO tB tE tD cL cV cD eL eD ha H
    exact br_f (nI_ge (b := 3) (by omega) (by decide)) (And.intro (vp_in_nI (by omega) (by decide)) (nm_r (e' := upd tO a 0) (by rw [nI_clamp (by omega), na_b0]) (And.intro (vp_in_nI (by omega) (by decide)) (nm_r (e' := upd tB a 0) (by rw [nI_clamp (by omega)]) (And.intro (vp_in_nI (by omega) (by decide)) (nm_r (e' := upd tE a 0) (by rw [nI_clamp (by omega)]) (And.intro (vp_in_nI (by omega) (by decide)) (nm_r (e' := upd tD a 0) (by rw [nI_clamp (by omega)]) (And.intro (vp_in_nI (by omega) (by decide)) (nm_r (e' := upd cL a 0) (by rw [nI_clamp (by omega), na_b0]) (And.intro (vp_in_nI (by omega) (by decide)) (nm_r (e' := upd cV a 0) (by rw [nI_clamp (by omega)]) (And.intro (vp_in_nI (by omega) (by decide)) (nm_r (e' := upd cD a 0) (by rw [nI_clamp (by omega)]) (And.intro (vp_in_nI (by omega) (by decide)) (nm_r (e' := upd eL a 0) (by rw [nI_clamp (by omega), na_b0]) (And.intro (vp_in_nI (by omega) (by decide)) (nm_r (e' := upd eD a 0) (by rw [nI_clamp (by omega)]) (nm_r (nI_1 a) (ih (a + 1) (upd tO a 0) (upd tB a 0) (upd tE a 0) (upd tD a 0) (upd cL a 0) (upd cV a 0) (upd cD a 0) (upd eL a 0) (upd eD a 0) (by omega) H))))))))))))))))))))
end
section
variable {k : Nat} {u : SX} {v : SY}
theorem i_vc_restart (I : i_Rel k u v) (hk : k + 3 ≤ 1536) : wpX_restart (fun u' => wpY_restart (fun v' => i_Rel (k + 3) u' v') v) u := by
  obtain ⟨hT, ⟨⟨q1, q2, q3, q4, q5, q6, q7, q8⟩, hb, hD⟩, hK, hC⟩ := i_up I
  refine ⟨13, rs_2 (u := u) _ 12 4 (gx_variables u) (by omega) ⟨9, rs_23 _ 8 0 (gx_row u) (by omega) ⟨5, rs_44 _ 4 0 (gx_outputs u) (by omega) ⟨16, rs_64 _ 15 0 (gx_blocks u) (by omega) ⟨4, rs_85 _ 3 0 (gx_timerOn u) (gx_timerBegin u) (gx_counterLast u) (gx_edgeLast u) (by omega) ?_⟩⟩⟩⟩⟩
  refine ⟨13, ry_2 (v := v) _ 12 4 (gy_variables v) (by omega) ⟨9, ry_23 _ 8 0 (gy_cells v) (by omega) ⟨5, ry_44 _ 4 0 (gy_outputs v) (by omega) ⟨4, ry_64 _ 3 0 (gy_timerOn v) (gy_timerBegin v) (gy_timerElapsed v) (gy_timerDone v) (gy_counterLast v) (gy_counterValue v) (gy_counterDone v) (gy_edgeLast v) (gy_edgeDone v) (by omega) ?_⟩⟩⟩⟩
  refine ⟨hT, ⟨⟨?_, ?_, q3, ?_, ?_, ?_, ?_, ?_⟩, fun j hj => ⟨?_, ?_, ?_, ?_, ?_⟩, hD.1, fun j hj => ⟨Or.inl (rz_0 3 _ 0 j (by omega) (by omega)), ?_, ?_⟩⟩, hK, hC⟩
  · show rz_g 12 (gy_variables v) 4 = rz_g 12 (gx_variables u) 4
    rw [q1]
  · show rz_g 8 (gy_cells v) 0 = rz_g 8 (gx_row u) 0
    rw [q2]
  · show rz_g 4 (gy_outputs v) 0 = rz_g 4 (gx_outputs u) 0
    rw [q4]
  · show rz_g 3 (gy_timerOn v) 0 = rz_g 3 (gx_timerOn u) 0
    rw [q5]
  · show rz_g 3 (gy_timerBegin v) 0 = rz_g 3 (gx_timerBegin u) 0
    rw [q6]
  · show rz_g 3 (gy_counterLast v) 0 = rz_g 3 (gx_counterLast u) 0
    rw [q7]
  · show rz_g 3 (gy_edgeLast v) 0 = rz_g 3 (gx_edgeLast u) 0
    rw [q8]
  · exact (rz_0 3 _ 0 j (by omega) (by omega)).trans (rz_0 15 _ 0 j (by omega) (by omega)).symm
  · exact (rz_0 3 _ 0 j (by omega) (by omega)).trans (rz_0 15 _ 0 (3 + j) (by omega) (by omega)).symm
  · exact (rz_0 3 _ 0 j (by omega) (by omega)).trans (rz_0 15 _ 0 (6 + j) (by omega) (by omega)).symm
  · exact (rz_0 3 _ 0 j (by omega) (by omega)).trans (rz_0 15 _ 0 (9 + j) (by omega) (by omega)).symm
  · exact (rz_0 3 _ 0 j (by omega) (by omega)).trans (rz_0 15 _ 0 (12 + j) (by omega) (by omega)).symm
  · show (0 : Int) ≤ (rz_g 3 (gx_timerBegin u) 0 j).toInt
    rw [rz_0 3 _ 0 j (by omega) (by omega)]
    decide
  · show (rz_g 3 (gx_timerBegin u) 0 j).toInt ≤ (gx_time u).toInt
    rw [rz_0 3 _ 0 j (by omega) (by omega)]
    exact hD.1
end
/-- a weighted sum -/
def rd_s (f : Nat → Int32) (c : Int32) : Nat → Nat → Int32 → Int32
  | 0, _, s => s
  | m + 1, a, s => rd_s f c m (a + 1) (s + (nI a + c) * f a)
section
variable {u : SX} {v : SY}
theorem rd_4 (post : Int32 → Prop) : ∀ (m a : Nat) (s : Int32), a + m = 16 → (∃ n, wX_digest_31 post (gx_time u) (gx_active u) (gx_isRunning u) (gx_wantedCount u) (gx_size u) (gx_depth u) (gx_loops u) (gx_exits u) (gx_height u) (gx_allRounds u) (gx_isOver u) (gx_variables u) (gx_row u) (gx_inputs u) (gx_taken u) (gx_outputs u) (gx_timerOn u) (gx_timerBegin u) (gx_counterLast u) (gx_edgeLast u) (gx_blocks u) (gx_tokens u) (gx_tokenCount u) (gx_wanted u) (gx_spans u) (gx_operation u) (gx_argument u) (gx_target u) (gx_openAt u) (gx_openPhase u) (gx_openPatch u) (gx_openPatch2 u) (gx_loopToken u) (gx_exitAt u) (gx_exitLoop u) (gx_stack u) (gx_loopRounds u) (gx_loopLast u) n (rd_s (gx_variables u) 1 m a s) 0) → wX_digest_4 post (gx_time u) (gx_active u) (gx_isRunning u) (gx_wantedCount u) (gx_size u) (gx_depth u) (gx_loops u) (gx_exits u) (gx_height u) (gx_allRounds u) (gx_isOver u) (gx_variables u) (gx_row u) (gx_inputs u) (gx_taken u) (gx_outputs u) (gx_timerOn u) (gx_timerBegin u) (gx_counterLast u) (gx_edgeLast u) (gx_blocks u) (gx_tokens u) (gx_tokenCount u) (gx_wanted u) (gx_spans u) (gx_operation u) (gx_argument u) (gx_target u) (gx_openAt u) (gx_openPhase u) (gx_openPatch u) (gx_openPatch2 u) (gx_loopToken u) (gx_exitAt u) (gx_exitLoop u) (gx_stack u) (gx_loopRounds u) (gx_loopLast u) (m + 1) s (nI a) := by
  intro m
  induction m with
  | zero =>
    intro a s ha H
    exact br_t (nI_le (a := 16) (by omega) (by omega)) H
  | succ m ih =>
    intro a s ha H
    exact br_f (nI_ge (b := 16) (by omega) (by decide)) (And.intro (vp_in_nI (by omega) (by decide)) (nm_r (e' := s + (nI a + 1) * (gx_variables u) a) (by rw [nI_clamp (by omega)]) (nm_r (nI_1 a) (ih (a + 1) _ (by omega) H))))
theorem rd_31 (post : Int32 → Prop) : ∀ (m a : Nat) (s : Int32), a + m = 8 → (∃ n, wX_digest_59 post (gx_time u) (gx_active u) (gx_isRunning u) (gx_wantedCount u) (gx_size u) (gx_depth u) (gx_loops u) (gx_exits u) (gx_height u) (gx_allRounds u) (gx_isOver u) (gx_variables u) (gx_row u) (gx_inputs u) (gx_taken u) (gx_outputs u) (gx_timerOn u) (gx_timerBegin u) (gx_counterLast u) (gx_edgeLast u) (gx_blocks u) (gx_tokens u) (gx_tokenCount u) (gx_wanted u) (gx_spans u) (gx_operation u) (gx_argument u) (gx_target u) (gx_openAt u) (gx_openPhase u) (gx_openPatch u) (gx_openPatch2 u) (gx_loopToken u) (gx_exitAt u) (gx_exitLoop u) (gx_stack u) (gx_loopRounds u) (gx_loopLast u) n (rd_s (gx_row u) 17 m a s) 0) → wX_digest_31 post (gx_time u) (gx_active u) (gx_isRunning u) (gx_wantedCount u) (gx_size u) (gx_depth u) (gx_loops u) (gx_exits u) (gx_height u) (gx_allRounds u) (gx_isOver u) (gx_variables u) (gx_row u) (gx_inputs u) (gx_taken u) (gx_outputs u) (gx_timerOn u) (gx_timerBegin u) (gx_counterLast u) (gx_edgeLast u) (gx_blocks u) (gx_tokens u) (gx_tokenCount u) (gx_wanted u) (gx_spans u) (gx_operation u) (gx_argument u) (gx_target u) (gx_openAt u) (gx_openPhase u) (gx_openPatch u) (gx_openPatch2 u) (gx_loopToken u) (gx_exitAt u) (gx_exitLoop u) (gx_stack u) (gx_loopRounds u) (gx_loopLast u) (m + 1) s (nI a) := by
  intro m
  induction m with
  | zero =>
    intro a s ha H
    exact br_t (nI_le (a := 8) (by omega) (by omega)) H
  | succ m ih =>
    intro a s ha H
    exact br_f (nI_ge (b := 8) (by omega) (by decide)) (And.intro (vp_in_nI (by omega) (by decide)) (nm_r (e' := s + (nI a + 17) * (gx_row u) a) (by rw [nI_clamp (by omega)]) (nm_r (nI_1 a) (ih (a + 1) _ (by omega) H))))
theorem rd_59 (post : Int32 → Prop) : ∀ (m a : Nat) (s : Int32), a + m = 4 → (∃ n, wX_digest_86 post (gx_time u) (gx_active u) (gx_isRunning u) (gx_wantedCount u) (gx_size u) (gx_depth u) (gx_loops u) (gx_exits u) (gx_height u) (gx_allRounds u) (gx_isOver u) (gx_variables u) (gx_row u) (gx_inputs u) (gx_taken u) (gx_outputs u) (gx_timerOn u) (gx_timerBegin u) (gx_counterLast u) (gx_edgeLast u) (gx_blocks u) (gx_tokens u) (gx_tokenCount u) (gx_wanted u) (gx_spans u) (gx_operation u) (gx_argument u) (gx_target u) (gx_openAt u) (gx_openPhase u) (gx_openPatch u) (gx_openPatch2 u) (gx_loopToken u) (gx_exitAt u) (gx_exitLoop u) (gx_stack u) (gx_loopRounds u) (gx_loopLast u) n (rd_s (gx_outputs u) 25 m a s) 0) → wX_digest_59 post (gx_time u) (gx_active u) (gx_isRunning u) (gx_wantedCount u) (gx_size u) (gx_depth u) (gx_loops u) (gx_exits u) (gx_height u) (gx_allRounds u) (gx_isOver u) (gx_variables u) (gx_row u) (gx_inputs u) (gx_taken u) (gx_outputs u) (gx_timerOn u) (gx_timerBegin u) (gx_counterLast u) (gx_edgeLast u) (gx_blocks u) (gx_tokens u) (gx_tokenCount u) (gx_wanted u) (gx_spans u) (gx_operation u) (gx_argument u) (gx_target u) (gx_openAt u) (gx_openPhase u) (gx_openPatch u) (gx_openPatch2 u) (gx_loopToken u) (gx_exitAt u) (gx_exitLoop u) (gx_stack u) (gx_loopRounds u) (gx_loopLast u) (m + 1) s (nI a) := by
  intro m
  induction m with
  | zero =>
    intro a s ha H
    exact br_t (nI_le (a := 4) (by omega) (by omega)) H
  | succ m ih =>
    intro a s ha H
    exact br_f (nI_ge (b := 4) (by omega) (by decide)) (And.intro (vp_in_nI (by omega) (by decide)) (nm_r (e' := s + (nI a + 25) * (gx_outputs u) a) (by rw [nI_clamp (by omega)]) (nm_r (nI_1 a) (ih (a + 1) _ (by omega) H))))
theorem rd_q {a : Nat} (ha : a < 15) : nI a / 5 = nI (a / 5) ∧ nI a - nI a / 5 * 5 = nI (a % 5) := ⟨pk_div (d := 5) (by omega) (by decide) (by decide), pk_rem (d := 5) (by omega) (by decide) (by decide)⟩
theorem rd_86 (post : Int32 → Prop) : ∀ (m a : Nat) (s : Int32), a + m = 15 → post (rd_s (fun a => rl_bo (gx_blocks u) (a / 5) (a % 5)) 29 m a s) → wX_digest_86 post (gx_time u) (gx_active u) (gx_isRunning u) (gx_wantedCount u) (gx_size u) (gx_depth u) (gx_loops u) (gx_exits u) (gx_height u) (gx_allRounds u) (gx_isOver u) (gx_variables u) (gx_row u) (gx_inputs u) (gx_taken u) (gx_outputs u) (gx_timerOn u) (gx_timerBegin u) (gx_counterLast u) (gx_edgeLast u) (gx_blocks u) (gx_tokens u) (gx_tokenCount u) (gx_wanted u) (gx_spans u) (gx_operation u) (gx_argument u) (gx_target u) (gx_openAt u) (gx_openPhase u) (gx_openPatch u) (gx_openPatch2 u) (gx_loopToken u) (gx_exitAt u) (gx_exitLoop u) (gx_stack u) (gx_loopRounds u) (gx_loopLast u) (m + 1) s (nI a) := by
  intro m
  induction m with
  | zero =>
    intro a s ha H
    exact br_t (nI_le (a := 15) (by omega) (by omega)) H
  | succ m ih =>
    intro a s ha H
    refine br_f (nI_ge (b := 15) (by omega) (by decide)) (And.intro (by decide) (And.intro (by decide) ?_))
    rw [(rd_q (a := a) (by omega)).2, (rd_q (a := a) (by omega)).1]
    exact rb_x (u := u) (by omega) (by omega) (nm_e (nm_r (nI_1 a) (ih (a + 1) _ (by omega) H)))
theorem re_4 (post : Int32 → Prop) : ∀ (m a : Nat) (s : Int32), a + m = 16 → (∃ n, wY_digest_31 post (gy_time v) (gy_active v) (gy_running v) (gy_open v) (gy_depth v) (gy_tasks v) (gy_begun v) (gy_variables v) (gy_cells v) (gy_inputs v) (gy_outputs v) (gy_timerOn v) (gy_timerBegin v) (gy_timerElapsed v) (gy_timerDone v) (gy_counterLast v) (gy_counterValue v) (gy_counterDone v) (gy_edgeLast v) (gy_edgeDone v) (gy_sizes v) (gy_tokens v) (gy_ends v) (gy_wants v) (gy_numbers v) (gy_taskKind v) (gy_taskAt v) (gy_taskRounds v) (gy_taskLimit v) n (rd_s (gy_variables v) 1 m a s) 0) → wY_digest_4 post (gy_time v) (gy_active v) (gy_running v) (gy_open v) (gy_depth v) (gy_tasks v) (gy_begun v) (gy_variables v) (gy_cells v) (gy_inputs v) (gy_outputs v) (gy_timerOn v) (gy_timerBegin v) (gy_timerElapsed v) (gy_timerDone v) (gy_counterLast v) (gy_counterValue v) (gy_counterDone v) (gy_edgeLast v) (gy_edgeDone v) (gy_sizes v) (gy_tokens v) (gy_ends v) (gy_wants v) (gy_numbers v) (gy_taskKind v) (gy_taskAt v) (gy_taskRounds v) (gy_taskLimit v) (m + 1) s (nI a) := by
  intro m
  induction m with
  | zero =>
    intro a s ha H
    exact br_t (nI_le (a := 16) (by omega) (by omega)) H
  | succ m ih =>
    intro a s ha H
    exact br_f (nI_ge (b := 16) (by omega) (by decide)) (And.intro (vp_in_nI (by omega) (by decide)) (nm_r (e' := s + (nI a + 1) * (gy_variables v) a) (by rw [nI_clamp (by omega)]) (nm_r (nI_1 a) (ih (a + 1) _ (by omega) H))))
theorem re_31 (post : Int32 → Prop) : ∀ (m a : Nat) (s : Int32), a + m = 8 → (∃ n, wY_digest_59 post (gy_time v) (gy_active v) (gy_running v) (gy_open v) (gy_depth v) (gy_tasks v) (gy_begun v) (gy_variables v) (gy_cells v) (gy_inputs v) (gy_outputs v) (gy_timerOn v) (gy_timerBegin v) (gy_timerElapsed v) (gy_timerDone v) (gy_counterLast v) (gy_counterValue v) (gy_counterDone v) (gy_edgeLast v) (gy_edgeDone v) (gy_sizes v) (gy_tokens v) (gy_ends v) (gy_wants v) (gy_numbers v) (gy_taskKind v) (gy_taskAt v) (gy_taskRounds v) (gy_taskLimit v) n (rd_s (gy_cells v) 17 m a s) 0) → wY_digest_31 post (gy_time v) (gy_active v) (gy_running v) (gy_open v) (gy_depth v) (gy_tasks v) (gy_begun v) (gy_variables v) (gy_cells v) (gy_inputs v) (gy_outputs v) (gy_timerOn v) (gy_timerBegin v) (gy_timerElapsed v) (gy_timerDone v) (gy_counterLast v) (gy_counterValue v) (gy_counterDone v) (gy_edgeLast v) (gy_edgeDone v) (gy_sizes v) (gy_tokens v) (gy_ends v) (gy_wants v) (gy_numbers v) (gy_taskKind v) (gy_taskAt v) (gy_taskRounds v) (gy_taskLimit v) (m + 1) s (nI a) := by
  intro m
  induction m with
  | zero =>
    intro a s ha H
    exact br_t (nI_le (a := 8) (by omega) (by omega)) H
  | succ m ih =>
    intro a s ha H
    exact br_f (nI_ge (b := 8) (by omega) (by decide)) (And.intro (vp_in_nI (by omega) (by decide)) (nm_r (e' := s + (nI a + 17) * (gy_cells v) a) (by rw [nI_clamp (by omega)]) (nm_r (nI_1 a) (ih (a + 1) _ (by omega) H))))
theorem re_59 (post : Int32 → Prop) : ∀ (m a : Nat) (s : Int32), a + m = 4 → (∃ n, wY_digest_86 post (gy_time v) (gy_active v) (gy_running v) (gy_open v) (gy_depth v) (gy_tasks v) (gy_begun v) (gy_variables v) (gy_cells v) (gy_inputs v) (gy_outputs v) (gy_timerOn v) (gy_timerBegin v) (gy_timerElapsed v) (gy_timerDone v) (gy_counterLast v) (gy_counterValue v) (gy_counterDone v) (gy_edgeLast v) (gy_edgeDone v) (gy_sizes v) (gy_tokens v) (gy_ends v) (gy_wants v) (gy_numbers v) (gy_taskKind v) (gy_taskAt v) (gy_taskRounds v) (gy_taskLimit v) n (rd_s (gy_outputs v) 25 m a s) 0) → wY_digest_59 post (gy_time v) (gy_active v) (gy_running v) (gy_open v) (gy_depth v) (gy_tasks v) (gy_begun v) (gy_variables v) (gy_cells v) (gy_inputs v) (gy_outputs v) (gy_timerOn v) (gy_timerBegin v) (gy_timerElapsed v) (gy_timerDone v) (gy_counterLast v) (gy_counterValue v) (gy_counterDone v) (gy_edgeLast v) (gy_edgeDone v) (gy_sizes v) (gy_tokens v) (gy_ends v) (gy_wants v) (gy_numbers v) (gy_taskKind v) (gy_taskAt v) (gy_taskRounds v) (gy_taskLimit v) (m + 1) s (nI a) := by
  intro m
  induction m with
  | zero =>
    intro a s ha H
    exact br_t (nI_le (a := 4) (by omega) (by omega)) H
  | succ m ih =>
    intro a s ha H
    exact br_f (nI_ge (b := 4) (by omega) (by decide)) (And.intro (vp_in_nI (by omega) (by decide)) (nm_r (e' := s + (nI a + 25) * (gy_outputs v) a) (by rw [nI_clamp (by omega)]) (nm_r (nI_1 a) (ih (a + 1) _ (by omega) H))))
theorem re_86 {bl : Nat → Int32} (hb : ys_b bl (gy_timerElapsed v) (gy_timerDone v) (gy_counterValue v) (gy_counterDone v) (gy_edgeDone v)) (post : Int32 → Prop) : ∀ (m a : Nat) (s : Int32), a + m = 15 → post (rd_s (fun a => rl_bo bl (a / 5) (a % 5)) 29 m a s) → wY_digest_86 post (gy_time v) (gy_active v) (gy_running v) (gy_open v) (gy_depth v) (gy_tasks v) (gy_begun v) (gy_variables v) (gy_cells v) (gy_inputs v) (gy_outputs v) (gy_timerOn v) (gy_timerBegin v) (gy_timerElapsed v) (gy_timerDone v) (gy_counterLast v) (gy_counterValue v) (gy_counterDone v) (gy_edgeLast v) (gy_edgeDone v) (gy_sizes v) (gy_tokens v) (gy_ends v) (gy_wants v) (gy_numbers v) (gy_taskKind v) (gy_taskAt v) (gy_taskRounds v) (gy_taskLimit v) (m + 1) s (nI a) := by
  intro m
  induction m with
  | zero =>
    intro a s ha H
    exact br_t (nI_le (a := 15) (by omega) (by omega)) H
  | succ m ih =>
    intro a s ha H
    refine br_f (nI_ge (b := 15) (by omega) (by decide)) (And.intro (by decide) (And.intro (by decide) ?_))
    rw [(rd_q (a := a) (by omega)).2, (rd_q (a := a) (by omega)).1]
    exact rb_y (v := v) hb (by omega) (by omega) (nm_e (nm_r (nI_1 a) (ih (a + 1) _ (by omega) H)))
end
section
theorem i_vc_digest {k : Nat} {u : SX} {v : SY} (I : i_Rel k u v) (hk : k + 3 ≤ 1536) : wpX_digest (fun r => wpY_digest (fun r' => r' = r ∧ i_Rel (k + 3) u v) v) u := by
  have I' := i_up I
  obtain ⟨⟨q1, q2, q3, q4, _⟩, hb, _⟩ := I.2.1
  refine ⟨17, rd_4 (u := u) _ 16 0 0 (by omega) ⟨9, rd_31 _ 8 0 _ (by omega) ⟨5, rd_59 _ 4 0 _ (by omega) ⟨16, rd_86 _ 15 0 _ (by omega) ?_⟩⟩⟩⟩
  refine ⟨17, re_4 (v := v) _ 16 0 0 (by omega) ⟨9, re_31 _ 8 0 _ (by omega) ⟨5, re_59 _ 4 0 _ (by omega) ⟨16, re_86 hb _ 15 0 _ (by omega) ⟨?_, I'⟩⟩⟩⟩⟩
  rw [q1, q2, q4]
end
end
