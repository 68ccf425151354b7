section
theorem pk_us {f : Nat → Int32} {k : Nat} {x : Int32} : upd f k x k = x := if_pos rfl
theorem pk_un {f : Nat → Int32} {k j : Nat} {x : Int32} (h : j ≠ k) : upd f k x j = f j := if_neg h
theorem pk_uLs {f : Nat → Int64} {k : Nat} {x : Int64} : vp_updL f k x k = x := if_pos rfl
theorem pk_uLn {f : Nat → Int64} {k j : Nat} {x : Int64} (h : j ≠ k) : vp_updL f k x j = f j := if_neg h
theorem pk_sub {a b : Nat} (h : b ≤ a) : nI a - nI b = nI (a - b) := by
  obtain ⟨c, rfl⟩ : ∃ c, a = c + b := ⟨a - b, by omega⟩
  rw [← nI_add, Int32.add_sub_cancel, Nat.add_sub_cancel]
theorem pk_m1 (n : Nat) : nI (n + 1) + (-1) = nI n := by
  rw [← nI_1, Int32.add_assoc, show (1 : Int32) + (-1) = 0 from rfl, Int32.add_zero]
theorem pk_mul (a b : Nat) : nI a * nI b = nI (a * b) := (Int32.ofNat_mul a b).symm
theorem pk_div {a d : Nat} (ha : a < 2 ^ 31) (h0 : 0 < d) (hd : d < 2 ^ 31) : nI a / nI d = nI (a / d) := by
  apply Int32.toInt_inj.mp
  rw [lg_idiv_nonneg (by rw [nI_toInt ha]; omega) (by rw [nI_toInt hd]; omega), nI_toInt ha, nI_toInt hd, nI_toInt (Nat.lt_of_le_of_lt (Nat.div_le_self a d) ha)]
  first | rfl | exact (Int.natCast_ediv _ _).symm
theorem pk_rem {a d : Nat} (ha : a < 2 ^ 31) (h0 : 0 < d) (hd : d < 2 ^ 31) : nI a - nI a / nI d * nI d = nI (a % d) := by
  rw [pk_div ha h0 hd, pk_mul, pk_sub (Nat.div_mul_le_self a d)]
  exact congrArg nI (by have := Nat.div_add_mod' a d; omega)
theorem pk_sub_toInt {a b : Nat} (ha : a < 2 ^ 30) (hb : b < 2 ^ 30) : (nI a - nI b).toInt = (a : Int) - b := by
  rw [Int32.toInt_sub, nI_toInt (by omega), nI_toInt (by omega)]
  exact Int.bmod_eq_of_le (by omega) (by omega)
theorem pk_sneg {a b : Nat} (hb : b < 2 ^ 30) (h : a < b) : nI a - nI b < 0 := by
  rw [Int32.lt_iff_toInt_lt, pk_sub_toInt (by omega) hb, show (0 : Int32).toInt = 0 from by decide]
  omega
theorem pk_ix (x : Int32) {n : Nat} (hn : n < 2 ^ 31) : x < 0 ∨ nI n ≤ x ∨ ∃ j : Nat, j < n ∧ x = nI j := by
  by_cases h : x < 0
  · exact Or.inl h
  · obtain ⟨j, hj, rfl⟩ := nI_of h
    by_cases h2 : j < n
    · exact Or.inr (Or.inr ⟨j, h2, rfl⟩)
    · exact Or.inr (Or.inl (nI_le (by omega) hj))
theorem pk_le {x y : Int32} {A B : Prop} (a b : Nat) (f : a ≤ b → A) (g : b < a → B) (hx : x = nI a := by rfl) (hy : y = nI b := by rfl) (ha : a < 2 ^ 31 := by omega) (hb : b < 2 ^ 31 := by omega) : (x ≤ y → A) ∧ (¬ x ≤ y → B) := by
  subst hx hy
  rw [nI_leI ha hb]
  exact ⟨f, fun z => g (by omega)⟩
theorem pk_lt {x y : Int32} {A B : Prop} (a b : Nat) (f : a < b → A) (g : b ≤ a → B) (hx : x = nI a := by rfl) (hy : y = nI b := by rfl) (ha : a < 2 ^ 31 := by omega) (hb : b < 2 ^ 31 := by omega) : (x < y → A) ∧ (¬ x < y → B) := by
  subst hx hy
  rw [nI_ltI ha hb]
  exact ⟨f, fun z => g (by omega)⟩
theorem pk_eq {x y : Int32} {A B : Prop} (a b : Nat) (f : a = b → A) (g : a ≠ b → B) (hx : x = nI a := by rfl) (hy : y = nI b := by rfl) (ha : a < 2 ^ 31 := by omega) (hb : b < 2 ^ 31 := by omega) : (x = y → A) ∧ (¬ x = y → B) := by
  subst hx hy
  rw [nI_eq ha hb]
  exact ⟨f, g⟩
theorem pk_in {x : Int32} (n N : Nat) (h : n < N) (hx : x = nI n := by rfl) (hN : N < 2 ^ 31 := by omega) : vp_in x N := by
  subst hx
  exact vp_in_nI h hN
theorem pk_cl {x : Int32} (n : Nat) (hx : x = nI n := by rfl) (h : n < 2 ^ 31 := by omega) : x.toNatClampNeg = n := by
  subst hx
  exact nI_clamp h
theorem pk_tn {n : Nat} (h : n < 2 ^ 32) : (nI n).toBitVec.toNat = n := Nat.mod_eq_of_lt h
theorem pk_and (x : Int32) {m : Int32} (k : Nat) (hm : m.toBitVec.toNat = 2 ^ k - 1) : x &&& m = nI (x.toBitVec.toNat % 2 ^ k) := by
  apply Int32.toBitVec_inj.mp
  apply BitVec.eq_of_toNat_eq
  rw [Int32.toBitVec_and, BitVec.toNat_and, hm, Nat.and_two_pow_sub_one_eq_mod]
  show _ = (BitVec.ofNat 32 _).toNat
  rw [BitVec.toNat_ofNat]
  exact (Nat.mod_eq_of_lt (Nat.lt_of_le_of_lt (Nat.mod_le _ _) x.toBitVec.isLt)).symm
theorem pk_andN {n : Nat} (h : n < 2 ^ 32) {m : Int32} (k : Nat) (hm : m.toBitVec.toNat = 2 ^ k - 1) : nI n &&& m = nI (n % 2 ^ k) := by
  rw [pk_and _ k hm, pk_tn h]
theorem pk_andE (x : Int32) {m : Int32} (k : Nat) (hm : m.toBitVec.toNat = 2 ^ k - 1) : ∃ j : Nat, j < 2 ^ k ∧ x &&& m = nI j := ⟨_, Nat.mod_lt _ (Nat.two_pow_pos k), pk_and x k hm⟩
theorem pk_andIn (x : Int32) {m : Int32} (k : Nat) (hm : m.toBitVec.toNat = 2 ^ k - 1) (hk : k ≤ 30) : vp_in (x &&& m) (2 ^ k) := by
  obtain ⟨j, hj, e⟩ := pk_andE x k hm
  rw [e]
  exact vp_in_nI hj (Nat.lt_of_le_of_lt (Nat.pow_le_pow_right (by decide) hk) (by decide))
theorem pk_lT {n : Nat} (h : n < 2 ^ 63) : (lN n).toInt = (n : Int) := lg_ofNat_toInt h
theorem pk_lLT {a b : Nat} (ha : a < 2 ^ 63) (hb : b < 2 ^ 63) : lN a < lN b ↔ a < b := by
  rw [Int64.lt_iff_toInt_lt, pk_lT ha, pk_lT hb]; omega
theorem pk_lLE {a b : Nat} (ha : a < 2 ^ 63) (hb : b < 2 ^ 63) : lN a ≤ lN b ↔ a ≤ b := by
  rw [Int64.le_iff_toInt_le, pk_lT ha, pk_lT hb]; omega
theorem pk_lEQ {a b : Nat} (ha : a < 2 ^ 63) (hb : b < 2 ^ 63) : lN a = lN b ↔ a = b := by
  rw [← Int64.toInt_inj, pk_lT ha, pk_lT hb]; omega
theorem pk_lOf {x : Int64} (h : ¬ x < 0) : ∃ k : Nat, k < 2 ^ 63 ∧ x = lN k := by
  rw [Int64.lt_iff_toInt_lt] at h
  have h0 : (0 : Int64).toInt = 0 := by decide
  have hx := Int64.toInt_lt x
  refine ⟨x.toInt.toNat, by omega, Int64.toInt_inj.mp ?_⟩
  rw [pk_lT (by omega)]
  omega
theorem pk_lDiv {a b : Nat} (ha : a < 2 ^ 63) (h0 : 0 < b) (hb : b < 2 ^ 63) : lN a / lN b = lN (a / b) := by
  apply Int64.toInt_inj.mp
  rw [lg_ldiv_nonneg (by rw [pk_lT ha]; omega) (by rw [pk_lT hb]; omega), pk_lT ha, pk_lT hb, pk_lT (Nat.lt_of_le_of_lt (Nat.div_le_self a b) ha)]
  rfl
theorem pk_lRem {a b : Nat} (ha : a < 2 ^ 63) (h0 : 0 < b) (hb : b < 2 ^ 63) : lN a - lN a / lN b * lN b = lN (a % b) := by
  rw [pk_lDiv ha h0 hb, lN_mul, lN_sub (Nat.div_mul_le_self a b)]
  exact congrArg lN (by have := Nat.div_add_mod' a b; omega)
theorem pk_least (P : Nat → Prop) (h : ∃ k, P k) : ∃ k, P k ∧ ∀ j, j < k → ¬ P j := by
  obtain ⟨k, hk⟩ := h
  induction k using Nat.strongRecOn with
  | ind k ih =>
    by_cases e : ∃ j, j < k ∧ P j
    · obtain ⟨j, hj, pj⟩ := e
      exact ih j hj pj
    · exact ⟨k, hk, fun j hj pj => e ⟨j, hj, pj⟩⟩
/-! ===== Int32 by its bits: bt x i ===== -/
def bt (x : Int32) (i : Nat) : Bool := x.toBitVec.getLsbD i
theorem b_ext {x y : Int32} (h : ∀ i, i < 32 → bt x i = bt y i) : x = y := Int32.toBitVec_inj.mp (BitVec.eq_of_getLsbD_eq (fun i hi => h i hi))
theorem b_or (x y : Int32) (i : Nat) : bt (x ||| y) i = (bt x i || bt y i) := by unfold bt; rw [Int32.toBitVec_or, BitVec.getLsbD_or]
theorem b_and (x y : Int32) (i : Nat) : bt (x &&& y) i = (bt x i && bt y i) := by unfold bt; rw [Int32.toBitVec_and, BitVec.getLsbD_and]
theorem b_xor (x y : Int32) (i : Nat) : bt (x ^^^ y) i = (bt x i ^^ bt y i) := by unfold bt; rw [Int32.toBitVec_xor, BitVec.getLsbD_xor]
theorem b_big {x : Int32} {i : Nat} (h : 32 ≤ i) : bt x i = false := BitVec.getLsbD_of_ge _ _ h
theorem b_255 (i : Nat) : bt 255 i = decide (i < 8) := by
  rcases Nat.lt_or_ge i 32 with h | h
  · exact (by decide +kernel : ∀ i, i < 32 → bt 255 i = decide (i < 8)) i h
  · rw [b_big h, decide_eq_false (by omega)]
theorem b_65535 (i : Nat) : bt 65535 i = decide (i < 16) := by
  rcases Nat.lt_or_ge i 32 with h | h
  · exact (by decide +kernel : ∀ i, i < 32 → bt 65535 i = decide (i < 16)) i h
  · rw [b_big h, decide_eq_false (by omega)]
theorem b_m1 : ∀ i, i < 32 → bt (-1) i = true := by decide +kernel
theorem b_0 (i : Nat) : bt 0 i = false := BitVec.getLsbD_zero
theorem s_l : ∀ n, n < 32 → ((nI n &&& 31).toBitVec.smod 32).toNat = n := by decide +kernel
theorem s_u : ∀ n, n < 32 → (((nI n).toUInt32 &&& Int32.toUInt32 31).toBitVec % 32).toNat = n := by decide +kernel
theorem b_shl (n : Nat) (hn : n < 32) (x : Int32) {i : Nat} (hi : i < 32) : bt (x <<< (nI n &&& 31)) i = (decide (n ≤ i) && bt x (i - n)) := by
  unfold bt
  rw [Int32.toBitVec_shiftLeft]
  show (x.toBitVec <<< ((nI n &&& 31).toBitVec.smod 32).toNat).getLsbD i = _
  rw [s_l n hn, BitVec.getLsbD_shiftLeft]
  rcases Nat.lt_or_ge i n with h | h
  · simp [h, Nat.not_le.mpr h]
  · simp [hi, h, Nat.not_lt.mpr h]
theorem b_ushr (n : Nat) (hn : n < 32) (x : Int32) (i : Nat) : bt ((x.toUInt32 >>> ((nI n).toUInt32 &&& Int32.toUInt32 31)).toInt32) i = bt x (n + i) := by
  show (x.toUInt32 >>> ((nI n).toUInt32 &&& Int32.toUInt32 31)).toBitVec.getLsbD i = x.toUInt32.toBitVec.getLsbD (n + i)
  rw [UInt32.toBitVec_shiftRight]
  show (x.toUInt32.toBitVec >>> (((nI n).toUInt32 &&& Int32.toUInt32 31).toBitVec % 32).toNat).getLsbD i = _
  rw [s_u n hn, BitVec.getLsbD_ushiftRight]
end
section
/-! lists as doubly linked chains -/
def fx_h : List Nat → Int32
  | [] => -1
  | t :: _ => nI t
def fx_l (l : List Nat) : Int32 := fx_h l.reverse
def fx_uh : List Nat → (Nat → Int32) → Int32 → Nat → Int32
  | [], f, _ => f
  | a :: _, f, v => upd f a v
def fx_ul (l : List Nat) (f : Nat → Int32) (v : Int32) : Nat → Int32 := fx_uh l.reverse f v
/-- the array f with v at b if the list is empty -/
def fx_e : List Nat → (Nat → Int32) → Nat → Int32 → Nat → Int32
  | [], f, b, v => upd f b v
  | _ :: _, f, _, _ => f
theorem fx_l_nil : fx_l [] = -1 := rfl
theorem fx_l_cc (l : List Nat) (a : Nat) : fx_l (l ++ [a]) = nI a := by
  unfold fx_l
  rw [List.reverse_append]
  rfl
theorem fx_ul_nil {f : Nat → Int32} {v : Int32} : fx_ul [] f v = f := rfl
theorem fx_ul_cc (l : List Nat) (a : Nat) {f : Nat → Int32} {v : Int32} : fx_ul (l ++ [a]) f v = upd f a v := by
  unfold fx_ul
  rw [List.reverse_append]
  rfl
theorem fx_e_cc (l : List Nat) (a : Nat) {f : Nat → Int32} {b : Nat} {v : Int32} : fx_e (l ++ [a]) f b v = f := by
  cases l <;> rfl
theorem fx_lc (l : List Nat) : l = [] ∨ ∃ l' b, l = l' ++ [b] := by
  induction l with
  | nil => exact Or.inl rfl
  | cons a l ih =>
    rcases ih with rfl | ⟨l', b, rfl⟩
    · exact Or.inr ⟨[], a, rfl⟩
    · exact Or.inr ⟨a :: l', b, rfl⟩
theorem fx_h_app {p q : List Nat} (h : p ≠ []) : fx_h (p ++ q) = fx_h p := by
  cases p with
  | nil => exact absurd rfl h
  | cons a p => rfl
theorem fx_l_app {x y : List Nat} (h : y ≠ []) : fx_l (x ++ y) = fx_l y := by
  unfold fx_l
  rw [List.reverse_append]
  exact fx_h_app (fun e => h (List.reverse_eq_nil_iff.mp e))
theorem fx_uh_n {l : List Nat} {s : Nat} {f : Nat → Int32} {v : Int32} (h : s ∉ l) : fx_uh l f v s = f s := by
  cases l with
  | nil => rfl
  | cons a l => exact pk_un (fun e => h (by rw [e]; exact List.mem_cons_self))
theorem fx_ul_n {l : List Nat} {s : Nat} {f : Nat → Int32} {v : Int32} (h : s ∉ l) : fx_ul l f v s = f s :=
  fx_uh_n (fun e => h (List.mem_reverse.mp e))
theorem fx_e_n {l : List Nat} {s b : Nat} {f : Nat → Int32} {v : Int32} (h : s ≠ b) : fx_e l f b v s = f s := by
  cases l with
  | nil => exact pk_un h
  | cons a l => rfl
theorem fx_h_neg : (-1 : Int32) < 0 := by decide
/-- the chain of a list -/
def fx_D (nx pv : Nat → Int32) (l : List Nat) : Prop := ∀ l1 t l2, l = l1 ++ t :: l2 → nx t = fx_h l2 ∧ pv t = fx_l l1
theorem fx_D_nil {nx pv : Nat → Int32} : fx_D nx pv [] := by
  intro l1 t l2 e
  cases l1 <;> cases e
theorem fx_D_fr {nx pv nx' pv' : Nat → Int32} {l : List Nat} (h : fx_D nx pv l) (f : ∀ s, s ∈ l → nx' s = nx s ∧ pv' s = pv s) : fx_D nx' pv' l := by
  intro l1 t l2 e
  have m : t ∈ l := by rw [e]; exact List.mem_append_right _ List.mem_cons_self
  obtain ⟨a, b⟩ := f t m
  obtain ⟨c, d⟩ := h l1 t l2 e
  exact ⟨a.trans c, b.trans d⟩
theorem fx_nd {l1 l2 : List Nat} {t : Nat} (nd : (l1 ++ t :: l2).Nodup) : t ∉ l1 ∧ t ∉ l2 ∧ (l1 ++ l2).Nodup ∧ (∀ s, s ∈ l1 → s ∉ l2) := by
  obtain ⟨a, b, c⟩ := List.nodup_append.mp nd
  obtain ⟨d, e⟩ := List.nodup_cons.mp b
  refine ⟨fun h => c t h t List.mem_cons_self rfl, d, List.nodup_append.mpr ⟨a, e, fun x hx y hy => c x hx y (List.mem_cons_of_mem _ hy)⟩, fun s h1 h2 => c s h1 s (List.mem_cons_of_mem _ h2) rfl⟩
theorem fx_D_rem {nx pv : Nat → Int32} {l1 l2 : List Nat} {t : Nat} (nd : (l1 ++ t :: l2).Nodup) (h : fx_D nx pv (l1 ++ t :: l2)) :
    fx_D (fx_ul l1 nx (fx_h l2)) (fx_uh l2 pv (fx_l l1)) (l1 ++ l2) := by
  intro m1 s m2 e
  obtain ⟨-, -, nd', dj⟩ := fx_nd nd
  rcases List.append_eq_append_iff.mp e with ⟨a, e1, e2⟩ | ⟨a, e1, e2⟩
  · subst e1; subst e2
    have o := h (l1 ++ t :: a) s m2 (by simp)
    have s1 : s ∉ l1 := fun q => dj s q (List.mem_append_right _ List.mem_cons_self)
    refine ⟨(fx_ul_n s1).trans o.1, ?_⟩
    cases a with
    | nil =>
      rw [List.append_nil]
      exact pk_us
    | cons z a =>
      have hz : s ≠ z := by
        intro q
        have := (List.nodup_cons.mp (List.nodup_append.mp nd').2.1).1
        exact this (by rw [← q]; exact List.mem_append_right _ List.mem_cons_self)
      refine (pk_un hz).trans (o.2.trans ?_)
      rw [fx_l_app (x := l1) (y := z :: a) (by simp), show l1 ++ t :: z :: a = (l1 ++ [t]) ++ z :: a by simp]
      exact fx_l_app (by simp)
  · cases a with
    | nil =>
      rw [List.append_nil] at e1
      subst e1
      rw [List.nil_append] at e2
      subst e2
      have o := h (l1 ++ [t]) s m2 (by simp)
      have s1 : s ∉ l1 := fun q => dj s q List.mem_cons_self
      exact ⟨(fx_ul_n s1).trans o.1, pk_us⟩
    | cons b a =>
      rw [List.cons_append, List.cons.injEq] at e2
      obtain ⟨e2, e3⟩ := e2
      subst e2; subst e3; subst e1
      have o := h m1 s (a ++ t :: l2) (by simp)
      have s2 : s ∉ l2 := dj s (List.mem_append_right _ List.mem_cons_self)
      refine ⟨?_, (fx_uh_n s2).trans o.2⟩
      rcases fx_lc a with rfl | ⟨a', z, rfl⟩
      · rw [fx_ul_cc]
        exact pk_us
      · have hz : s ≠ z := by
          intro q
          have h1 := (List.nodup_append.mp nd').1
          have h2 := (List.nodup_cons.mp (List.nodup_append.mp h1).2.1).1
          exact h2 (by rw [q]; simp)
        rw [show m1 ++ s :: (a' ++ [z]) = (m1 ++ s :: a') ++ [z] by simp, fx_ul_cc]
        refine (pk_un hz).trans (o.1.trans ?_)
        rw [fx_h_app (p := a' ++ [z]) (q := t :: l2) (by simp), fx_h_app (p := a' ++ [z]) (q := l2) (by simp)]
theorem fx_D_ins {nx pv : Nat → Int32} {l1 l2 : List Nat} {t : Nat} (nd : (l1 ++ t :: l2).Nodup) (h : fx_D nx pv (l1 ++ l2)) :
    fx_D (fx_ul l1 (upd nx t (fx_h l2)) (nI t)) (fx_uh l2 (upd pv t (fx_l l1)) (nI t)) (l1 ++ t :: l2) := by
  intro m1 s m2 e
  obtain ⟨n1, n2, nd', dj⟩ := fx_nd nd
  rcases List.append_eq_append_iff.mp e with ⟨a, e1, e2⟩ | ⟨a, e1, e2⟩
  · cases a with
    | nil =>
      rw [List.append_nil] at e1
      rw [List.nil_append, List.cons.injEq] at e2
      obtain ⟨e2, e3⟩ := e2
      subst e1; subst e2; subst e3
      exact ⟨(fx_ul_n n1).trans pk_us, (fx_uh_n n2).trans pk_us⟩
    | cons z a =>
      rw [List.cons_append, List.cons.injEq] at e2
      obtain ⟨e2, e3⟩ := e2
      subst e2; subst e3; subst e1
      have o := h (l1 ++ a) s m2 (by simp)
      have s1 : s ∉ l1 := fun q => dj s q (by simp)
      have st : s ≠ t := fun q => n2 (by rw [← q]; simp)
      refine ⟨(fx_ul_n s1).trans ((pk_un st).trans o.1), ?_⟩
      cases a with
      | nil =>
        rw [fx_l_cc]
        exact pk_us
      | cons z a =>
        have hz : s ≠ z := by
          intro q
          have := (List.nodup_cons.mp (List.nodup_append.mp nd').2.1).1
          exact this (by rw [← q]; exact List.mem_append_right _ List.mem_cons_self)
        refine (pk_un hz).trans ((pk_un st).trans (o.2.trans ?_))
        rw [fx_l_app (x := l1) (y := z :: a) (by simp), show l1 ++ t :: z :: a = (l1 ++ [t]) ++ z :: a by simp]
        exact (fx_l_app (by simp)).symm
  · cases a with
    | nil =>
      rw [List.append_nil] at e1
      rw [List.nil_append, List.cons.injEq] at e2
      obtain ⟨e2, e3⟩ := e2
      subst e1; subst e2; subst e3
      exact ⟨(fx_ul_n n1).trans pk_us, (fx_uh_n n2).trans pk_us⟩
    | cons b a =>
      rw [List.cons_append, List.cons.injEq] at e2
      obtain ⟨e2, e3⟩ := e2
      subst e2; subst e3; subst e1
      have o := h m1 s (a ++ l2) (by simp)
      have s2 : s ∉ l2 := dj s (by simp)
      have st : s ≠ t := fun q => n1 (by rw [← q]; simp)
      refine ⟨?_, (fx_uh_n s2).trans ((pk_un st).trans o.2)⟩
      rcases fx_lc a with rfl | ⟨a', z, rfl⟩
      · rw [fx_ul_cc]
        exact pk_us
      · have hz : s ≠ z := by
          intro q
          have h1 := (List.nodup_append.mp nd').1
          have h2 := (List.nodup_cons.mp (List.nodup_append.mp h1).2.1).1
          exact h2 (by rw [q]; simp)
        rw [show m1 ++ s :: (a' ++ [z]) = (m1 ++ s :: a') ++ [z] by simp, fx_ul_cc]
        refine (pk_un hz).trans ((pk_un st).trans (o.1.trans ?_))
        rw [fx_h_app (p := a' ++ [z]) (q := l2) (by simp), fx_h_app (p := a' ++ [z]) (q := t :: l2) (by simp)]
/-- at most T different numbers lie below T -/
theorem fx_pig : ∀ (T : Nat) (l : List Nat), l.Nodup → (∀ x, x ∈ l → x < T) → l.length ≤ T := by
  intro T
  induction T with
  | zero =>
    intro l _ h
    cases l with
    | nil => exact Nat.le_refl 0
    | cons a l => exact absurd (h a List.mem_cons_self) (by omega)
  | succ T ih =>
    intro l nd h
    by_cases m : T ∈ l
    · obtain ⟨l1, l2, rfl⟩ := List.append_of_mem m
      obtain ⟨a, b, c, -⟩ := fx_nd nd
      have h2 := ih (l1 ++ l2) c (fun x hx => by
        have h3 : x ≠ T := by
          rintro rfl
          rcases List.mem_append.mp hx with q | q
          · exact a q
          · exact b q
        have h4 := h x (by
          rcases List.mem_append.mp hx with q | q
          · exact List.mem_append_left _ q
          · exact List.mem_append_right _ (List.mem_cons_of_mem _ q))
        omega)
      rw [List.length_append] at h2 ⊢
      rw [List.length_cons]
      omega
    · have := ih l nd (fun x hx => by
        have h3 : x ≠ T := by
          rintro rfl
          exact m hx
        have h4 := h x hx
        omega)
      omega
end
section
/-! the list of sleepers and its parts -/
def fx_K (L : List (Nat × Nat)) : List Nat := L.map (fun p => p.1)
def fx_Q (B b : Nat) (L : List (Nat × Nat)) : List Nat := (L.filter (fun p => decide (p.2 % B = b))).map (fun p => p.1)
def fx_O (w : Nat) (L : List (Nat × Nat)) : List Nat := (L.filter (fun p => decide (p.2 = w))).map (fun p => p.1)
def fx_m (t : Nat) (L : List (Nat × Nat)) : List (Nat × Nat) := L.filter (fun p => decide (¬ p.1 = t))
theorem fx_Kapp {L1 L2 : List (Nat × Nat)} : fx_K (L1 ++ L2) = fx_K L1 ++ fx_K L2 := List.map_append
theorem fx_Kcons {p : Nat × Nat} {L2 : List (Nat × Nat)} : fx_K (p :: L2) = p.1 :: fx_K L2 := rfl
theorem fx_Qapp {B b : Nat} {L1 L2 : List (Nat × Nat)} : fx_Q B b (L1 ++ L2) = fx_Q B b L1 ++ fx_Q B b L2 := by
  unfold fx_Q; rw [List.filter_append, List.map_append]
theorem fx_Oapp {w : Nat} {L1 L2 : List (Nat × Nat)} : fx_O w (L1 ++ L2) = fx_O w L1 ++ fx_O w L2 := by
  unfold fx_O; rw [List.filter_append, List.map_append]
theorem fx_Qpos {B b t w : Nat} {L2 : List (Nat × Nat)} (h : w % B = b) : fx_Q B b ((t, w) :: L2) = t :: fx_Q B b L2 := by
  unfold fx_Q
  simp [List.filter_cons, h]
theorem fx_Qneg {B b t w : Nat} {L2 : List (Nat × Nat)} (h : ¬ w % B = b) : fx_Q B b ((t, w) :: L2) = fx_Q B b L2 := by
  unfold fx_Q
  simp [List.filter_cons, h]
theorem fx_Opos {w t : Nat} {L2 : List (Nat × Nat)} : fx_O w ((t, w) :: L2) = t :: fx_O w L2 := by
  unfold fx_O
  simp [List.filter_cons]
theorem fx_Oneg {w v t : Nat} {L2 : List (Nat × Nat)} (h : ¬ v = w) : fx_O w ((t, v) :: L2) = fx_O w L2 := by
  unfold fx_O
  simp [List.filter_cons, h]
theorem fx_memK {t : Nat} {L : List (Nat × Nat)} : t ∈ fx_K L ↔ ∃ w, (t, w) ∈ L := by
  unfold fx_K
  rw [List.mem_map]
  constructor
  · rintro ⟨⟨a, b⟩, h, rfl⟩; exact ⟨b, h⟩
  · rintro ⟨w, h⟩; exact ⟨(t, w), h, rfl⟩
theorem fx_memQ {t B b : Nat} {L : List (Nat × Nat)} : t ∈ fx_Q B b L ↔ ∃ w, (t, w) ∈ L ∧ w % B = b := by
  unfold fx_Q
  rw [List.mem_map]
  constructor
  · rintro ⟨⟨a, c⟩, h, rfl⟩
    rw [List.mem_filter] at h
    exact ⟨c, h.1, of_decide_eq_true h.2⟩
  · rintro ⟨w, h, e⟩; exact ⟨(t, w), List.mem_filter.mpr ⟨h, decide_eq_true e⟩, rfl⟩
theorem fx_memO {t v : Nat} {L : List (Nat × Nat)} : t ∈ fx_O v L ↔ (t, v) ∈ L := by
  unfold fx_O
  rw [List.mem_map]
  constructor
  · rintro ⟨⟨a, c⟩, h, rfl⟩
    rw [List.mem_filter] at h
    have := of_decide_eq_true h.2
    cases this
    exact h.1
  · intro h; exact ⟨(t, v), List.mem_filter.mpr ⟨h, decide_eq_true rfl⟩, rfl⟩
theorem fx_QK {t B b : Nat} {L : List (Nat × Nat)} (h : t ∈ fx_Q B b L) : t ∈ fx_K L := by
  obtain ⟨w, a, -⟩ := fx_memQ.mp h
  exact fx_memK.mpr ⟨w, a⟩
theorem fx_Qnd {B b : Nat} {L : List (Nat × Nat)} (nd : (fx_K L).Nodup) : (fx_Q B b L).Nodup :=
  List.Nodup.sublist (List.Sublist.map _ List.filter_sublist) nd
theorem fx_Ond {v : Nat} {L : List (Nat × Nat)} (nd : (fx_K L).Nodup) : (fx_O v L).Nodup :=
  List.Nodup.sublist (List.Sublist.map _ List.filter_sublist) nd
/-- a thread has one word -/
theorem fx_one {t w v : Nat} {L : List (Nat × Nat)} (nd : (fx_K L).Nodup) (h : (t, w) ∈ L) (g : (t, v) ∈ L) : w = v := by
  obtain ⟨L1, L2, rfl⟩ := List.append_of_mem h
  rw [fx_Kapp, fx_Kcons] at nd
  obtain ⟨a, b, -, -⟩ := fx_nd nd
  rcases List.mem_append.mp g with q | q
  · exact absurd (fx_memK.mpr ⟨v, q⟩) a
  · rcases List.mem_cons.mp q with q | q
    · exact (Prod.mk.inj q).2.symm
    · exact absurd (fx_memK.mpr ⟨v, q⟩) b
theorem fx_m_none {t : Nat} {L : List (Nat × Nat)} (h : t ∉ fx_K L) : fx_m t L = L := by
  unfold fx_m
  rw [List.filter_eq_self]
  intro p hp
  refine decide_eq_true (fun e => h (fx_memK.mpr ⟨p.2, ?_⟩))
  rw [← e]
  exact hp
theorem fx_m_split {t w : Nat} {L1 L2 : List (Nat × Nat)} (nd : (fx_K (L1 ++ (t, w) :: L2)).Nodup) : fx_m t (L1 ++ (t, w) :: L2) = L1 ++ L2 := by
  rw [fx_Kapp, fx_Kcons] at nd
  obtain ⟨a, b, -, -⟩ := fx_nd nd
  have h1 := fx_m_none a
  have h2 := fx_m_none b
  unfold fx_m at h1 h2 ⊢
  rw [List.filter_append, List.filter_cons_of_neg (fun e => (of_decide_eq_true e) rfl), h1, h2]
theorem fx_m_mem {t s v : Nat} {L : List (Nat × Nat)} : (s, v) ∈ fx_m t L ↔ (s, v) ∈ L ∧ s ≠ t := by
  unfold fx_m
  rw [List.mem_filter]
  exact ⟨fun h => ⟨h.1, of_decide_eq_true h.2⟩, fun h => ⟨h.1, decide_eq_true h.2⟩⟩
theorem fx_m_K {t s : Nat} {L : List (Nat × Nat)} : s ∈ fx_K (fx_m t L) ↔ s ∈ fx_K L ∧ s ≠ t := by
  rw [fx_memK, fx_memK]
  constructor
  · rintro ⟨v, h⟩
    have := fx_m_mem.mp h
    exact ⟨⟨v, this.1⟩, this.2⟩
  · rintro ⟨⟨v, h⟩, e⟩
    exact ⟨v, fx_m_mem.mpr ⟨h, e⟩⟩
theorem fx_m_nd {t : Nat} {L : List (Nat × Nat)} (nd : (fx_K L).Nodup) : (fx_K (fx_m t L)).Nodup :=
  List.Nodup.sublist (List.Sublist.map _ List.filter_sublist) nd
/-! X's queues -/
def fx_QF (B : Nat) (sl sw qn qp bh bl : Nat → Int32) (L : List (Nat × Nat)) : Prop :=
  (∀ w, w < 16 → sl w = nI (fx_O w L).length) ∧ (∀ t w, (t, w) ∈ L → sw t = nI w) ∧ (∀ t, t < 16 → t ∉ fx_K L → sw t = -1) ∧
  (∀ b, b < 8 → fx_D qn qp (fx_Q B b L) ∧ bh b = fx_h (fx_Q B b L) ∧ bl b = fx_l (fx_Q B b L))
theorem fx_Olen {w : Nat} {L : List (Nat × Nat)} {T : Nat} (nd : (fx_K L).Nodup) (h : ∀ t v, (t, v) ∈ L → t < T) : (fx_O w L).length ≤ T :=
  fx_pig T _ (fx_Ond nd) (fun x hx => h x w (fx_memO.mp hx))
theorem fx_Qlen {B b : Nat} {L : List (Nat × Nat)} {T : Nat} (nd : (fx_K L).Nodup) (h : ∀ t v, (t, v) ∈ L → t < T) : (fx_Q B b L).length ≤ T :=
  fx_pig T _ (fx_Qnd nd) (fun x hx => by obtain ⟨v, g⟩ := fx_memK.mp (fx_QK hx); exact h x v g)
theorem fx_QF_rem {B : Nat} {sl sw qn qp bh bl : Nat → Int32} {t w : Nat} {L1 L2 : List (Nat × Nat)} (hw : w < 16) (hb : w % B < 8)
    (nd : (fx_K (L1 ++ (t, w) :: L2)).Nodup) (h : fx_QF B sl sw qn qp bh bl (L1 ++ (t, w) :: L2)) :
    fx_QF B (upd sl w (sl w - 1)) (upd sw t (-1)) (fx_ul (fx_Q B (w % B) L1) qn (fx_h (fx_Q B (w % B) L2))) (fx_uh (fx_Q B (w % B) L2) qp (fx_l (fx_Q B (w % B) L1)))
      (fx_e (fx_Q B (w % B) L1) bh (w % B) (fx_h (fx_Q B (w % B) L2))) (fx_e (fx_Q B (w % B) L2) bl (w % B) (fx_l (fx_Q B (w % B) L1))) (L1 ++ L2) := by
  obtain ⟨h1, h2, h3, h4⟩ := h
  have nd2 := nd
  rw [fx_Kapp, fx_Kcons] at nd2
  obtain ⟨n1, n2, n3, n4⟩ := fx_nd nd2
  refine ⟨fun v hv => ?_, fun s v g => ?_, fun s hs g => ?_, fun b hb8 => ?_⟩
  · have e := h1 v hv
    by_cases c : v = w
    · subst c
      rw [pk_us, e, fx_Oapp, fx_Oapp, fx_Opos, List.length_append, List.length_append, List.length_cons, ← Nat.add_assoc]
      exact nI_pred _
    · rw [pk_un c, e, fx_Oapp, fx_Oapp, fx_Oneg (fun q => c q.symm)]
  · have k : s ∈ fx_K L1 ∨ s ∈ fx_K L2 := by
      rcases List.mem_append.mp g with q | q
      · exact Or.inl (fx_memK.mpr ⟨v, q⟩)
      · exact Or.inr (fx_memK.mpr ⟨v, q⟩)
    have st : s ≠ t := by
      rintro rfl
      rcases k with q | q
      · exact n1 q
      · exact n2 q
    rw [pk_un st]
    refine h2 s v ?_
    rcases List.mem_append.mp g with q | q
    · exact List.mem_append_left _ q
    · exact List.mem_append_right _ (List.mem_cons_of_mem _ q)
  · by_cases c : s = t
    · rw [c, pk_us]
    · rw [pk_un c]
      refine h3 s hs (fun q => g ?_)
      rw [fx_Kapp, fx_Kcons] at q
      rw [fx_Kapp]
      rcases List.mem_append.mp q with q | q
      · exact List.mem_append_left _ q
      · rcases List.mem_cons.mp q with q | q
        · exact absurd q c
        · exact List.mem_append_right _ q
  · obtain ⟨a1, a2, a3⟩ := h4 b hb8
    by_cases c : w % B = b
    · subst c
      have nq := fx_Qnd (B := B) (b := w % B) nd
      rw [fx_Qapp, fx_Qpos rfl] at a1 a2 a3 nq
      rw [fx_Qapp]
      refine ⟨fx_D_rem nq a1, ?_, ?_⟩
      · cases e : fx_Q B (w % B) L1 with
        | nil => exact pk_us
        | cons x l =>
          rw [e] at a2
          exact a2
      · cases e : fx_Q B (w % B) L2 with
        | nil =>
          rw [List.append_nil]
          exact pk_us
        | cons x l =>
          rw [e, show fx_Q B (w % B) L1 ++ t :: x :: l = (fx_Q B (w % B) L1 ++ [t]) ++ x :: l by simp, fx_l_app (by simp)] at a3
          rw [fx_l_app (by simp)]
          exact a3
    · rw [fx_Qapp, fx_Qneg c] at a1 a2 a3
      rw [fx_Qapp]
      have cb : b ≠ w % B := fun q => c q.symm
      refine ⟨fx_D_fr a1 (fun s hs => ?_), (fx_e_n cb).trans a2, (fx_e_n cb).trans a3⟩
      have hs' : ∃ v, (s, v) ∈ L1 ++ L2 ∧ v % B = b := by
        rw [← fx_Qapp] at hs
        exact fx_memQ.mp hs
      obtain ⟨v, m, ev⟩ := hs'
      have m' : (s, v) ∈ L1 ++ (t, w) :: L2 := by
        rcases List.mem_append.mp m with q | q
        · exact List.mem_append_left _ q
        · exact List.mem_append_right _ (List.mem_cons_of_mem _ q)
      have s1 : s ∉ fx_Q B (w % B) L1 := by
        intro q
        obtain ⟨v', q1, q2⟩ := fx_memQ.mp q
        have := fx_one nd m' (List.mem_append_left _ q1)
        rw [this] at ev
        omega
      have s2 : s ∉ fx_Q B (w % B) L2 := by
        intro q
        obtain ⟨v', q1, q2⟩ := fx_memQ.mp q
        have := fx_one nd m' (List.mem_append_right _ (List.mem_cons_of_mem _ q1))
        rw [this] at ev
        omega
      exact ⟨fx_ul_n s1, fx_uh_n s2⟩
theorem fx_QF_add {B : Nat} {sl sw qn qp bh bl : Nat → Int32} {t w : Nat} {L : List (Nat × Nat)} (hw : w < 16) (hb : w % B < 8)
    (nd : (fx_K L).Nodup) (nt : t ∉ fx_K L) (h : fx_QF B sl sw qn qp bh bl L) :
    fx_QF B (upd sl w (sl w + 1)) (upd sw t (nI w)) (fx_ul (fx_Q B (w % B) L) (upd qn t (-1)) (nI t)) (upd qp t (fx_l (fx_Q B (w % B) L)))
      (fx_e (fx_Q B (w % B) L) bh (w % B) (nI t)) (upd bl (w % B) (nI t)) (L ++ [(t, w)]) := by
  obtain ⟨h1, h2, h3, h4⟩ := h
  refine ⟨fun v hv => ?_, fun s v g => ?_, fun s hs g => ?_, fun b hb8 => ?_⟩
  · have e := h1 v hv
    by_cases c : v = w
    · subst c
      rw [pk_us, e, fx_Oapp, fx_Opos, List.length_append]
      exact nI_1 _
    · rw [pk_un c, e, fx_Oapp, fx_Oneg (fun q => c q.symm)]
      show _ = nI (fx_O v L ++ []).length
      rw [List.append_nil]
  · rcases List.mem_append.mp g with q | q
    · have st : s ≠ t := by
        rintro rfl
        exact nt (fx_memK.mpr ⟨v, q⟩)
      rw [pk_un st]
      exact h2 s v q
    · have := List.mem_singleton.mp q
      cases this
      exact pk_us
  · have st : s ≠ t := by
      rintro rfl
      exact g (fx_memK.mpr ⟨w, List.mem_append_right _ List.mem_cons_self⟩)
    rw [pk_un st]
    refine h3 s hs (fun q => g ?_)
    rw [fx_Kapp]
    exact List.mem_append_left _ q
  · obtain ⟨a1, a2, a3⟩ := h4 b hb8
    have ntq : t ∉ fx_Q B b L := fun q => nt (fx_QK q)
    by_cases c : w % B = b
    · subst c
      rw [fx_Qapp, fx_Qpos rfl]
      show fx_D _ _ (fx_Q B (w % B) L ++ [t]) ∧ _ = fx_h (fx_Q B (w % B) L ++ [t]) ∧ _ = fx_l (fx_Q B (w % B) L ++ [t])
      refine ⟨?_, ?_, ?_⟩
      · have nq : (fx_Q B (w % B) L ++ t :: []).Nodup := by
          refine List.nodup_append.mpr ⟨fx_Qnd nd, by simp, fun x hx y hy => ?_⟩
          have := List.mem_singleton.mp hy
          rintro rfl
          exact ntq (this ▸ hx)
        have := fx_D_ins (l2 := []) nq (by rw [List.append_nil]; exact a1)
        exact this
      · cases e : fx_Q B (w % B) L with
        | nil => exact pk_us
        | cons x l =>
          rw [e] at a2
          exact a2
      · rw [fx_l_cc]
        exact pk_us
    · rw [fx_Qapp, fx_Qneg c]
      show fx_D _ _ (fx_Q B b L ++ []) ∧ _ = fx_h (fx_Q B b L ++ []) ∧ _ = fx_l (fx_Q B b L ++ [])
      rw [List.append_nil]
      have cb : b ≠ w % B := fun q => c q.symm
      refine ⟨fx_D_fr a1 (fun s hs => ?_), (fx_e_n cb).trans a2, (pk_un cb).trans a3⟩
      obtain ⟨v, m, ev⟩ := fx_memQ.mp hs
      have s1 : s ∉ fx_Q B (w % B) L := by
        intro q
        obtain ⟨v', q1, q2⟩ := fx_memQ.mp q
        have := fx_one nd m q1
        rw [this] at ev
        omega
      have st : s ≠ t := fun q => ntq (q ▸ hs)
      exact ⟨(fx_ul_n s1).trans (pk_un st), pk_un st⟩
end
section
/-! counting -/
def fx_c (p : Nat → Bool) : Nat → Nat
  | 0 => 0
  | n + 1 => fx_c p n + (p n).toNat
theorem fx_c_cg {p q : Nat → Bool} : ∀ n, (∀ i, i < n → p i = q i) → fx_c p n = fx_c q n := by
  intro n
  induction n with
  | zero => intro _; rfl
  | succ n ih =>
    intro h
    show fx_c p n + (p n).toNat = fx_c q n + (q n).toNat
    rw [ih (fun i hi => h i (by omega)), h n (by omega)]
theorem fx_c_up {p q : Nat → Bool} {t : Nat} (e : ∀ i, i ≠ t → p i = q i) : ∀ n, t < n → fx_c p n + (q t).toNat = fx_c q n + (p t).toNat := by
  intro n
  induction n with
  | zero => intro h; omega
  | succ n ih =>
    intro h
    show fx_c p n + (p n).toNat + (q t).toNat = fx_c q n + (q n).toNat + (p t).toNat
    by_cases c : n = t
    · subst c
      rw [fx_c_cg n (fun i hi => e i (by omega))]
      omega
    · have := ih (by omega)
      rw [e n c]
      omega
theorem fx_c_le {p : Nat → Bool} : ∀ n, fx_c p n ≤ n := by
  intro n
  induction n with
  | zero => exact Nat.le_refl 0
  | succ n ih =>
    show fx_c p n + (p n).toNat ≤ n + 1
    have : (p n).toNat ≤ 1 := by cases p n <;> decide
    omega
/-! bits -/
theorem fx_b1 : ∀ j, j < 32 → bt 1 j = decide (j = 0) := by decide +kernel
theorem fx_sh1 {t i : Nat} (ht : t < 32) (hi : i < 32) : bt ((1 : Int32) <<< (nI t &&& 31)) i = decide (i = t) := by
  rw [b_shl t ht 1 hi, fx_b1 (i - t) (by omega)]
  by_cases c : i = t
  · subst c; simp
  · rw [decide_eq_false c]
    by_cases d : t ≤ i
    · rw [decide_eq_false (show ¬ i - t = 0 by omega), Bool.and_false]
    · rw [decide_eq_false d, Bool.false_and]
theorem fx_bset {x : Int32} {t i : Nat} (ht : t < 32) (hi : i < 32) : bt (x ||| ((1 : Int32) <<< (nI t &&& 31))) i = (bt x i || decide (i = t)) := by
  rw [b_or, fx_sh1 ht hi]
theorem fx_bclr {x : Int32} {t i : Nat} (ht : t < 32) (hi : i < 32) : bt (x &&& (((1 : Int32) <<< (nI t &&& 31)) ^^^ (-1))) i = (bt x i && !decide (i = t)) := by
  rw [b_and, b_xor, fx_sh1 ht hi, b_m1 i hi, Bool.xor_true]
theorem fx_btst {x : Int32} {t : Nat} (ht : t < 32) : x &&& ((1 : Int32) <<< (nI t &&& 31)) = 0 ↔ bt x t = false := by
  constructor
  · intro h
    have e : bt (x &&& ((1 : Int32) <<< (nI t &&& 31))) t = false := by rw [h]; exact b_0 t
    rw [b_and, fx_sh1 ht ht, decide_eq_true rfl, Bool.and_true] at e
    exact e
  · intro h
    apply b_ext
    intro i hi
    rw [b_and, fx_sh1 ht hi, b_0]
    by_cases c : i = t
    · subst c; rw [h, Bool.false_and]
    · rw [decide_eq_false c, Bool.and_false]
/-! X's facts -/
def fx_bd (p : Int32) : Bool := decide (p = 2 ∨ p = 6 ∨ p = 11 ∨ p = 9)
def fx_bp (po mo : Nat → Int32) (m t : Nat) : Bool := fx_bd (po t) && decide (mo t = nI m)
def fx_BF (T : Nat) (bc po mo : Nat → Int32) : Prop := ∀ m, m < 8 → bc m = nI (fx_c (fx_bp po mo m) T)
def fx_dn : Bool → (Nat → Int32) → Nat → Nat → Int32
  | true, bc, y => upd bc y (bc y - 1)
  | false, bc, _ => bc
def fx_up : Bool → (Nat → Int32) → Nat → Nat → Int32
  | true, bc, y => upd bc y (bc y + 1)
  | false, bc, _ => bc
def fx_HF (hs he : Nat → Int32) : Prop := ∀ t m, t < 16 → m < 8 → bt (hs t) m = decide (¬ he (t * 8 + m) = 0)
def fx_LK (nw : Nat) (d : Int64) (k : Int32) : Prop := (d = -1 ∧ k = -1) ∨ ∃ e : Nat, e ≤ nw + 1000 ∧ d = lN e ∧ k = nI (e - nw)
def fx_LF (T nw : Nat) (dl : Nat → Int64) (tk : Nat → Int32) : Prop := ∀ t, t < T → fx_LK nw (dl t) (tk t)
def fx_TF (th : Int32) (tn tp : Nat → Int32) (dl : Nat → Int64) (TL : List Nat) : Prop :=
  TL.Nodup ∧ fx_D tn tp TL ∧ th = fx_h TL ∧ TL.Pairwise (fun a b => dl a ≤ dl b)
def fx_TK (dl : Nat → Int64) (L : List (Nat × Nat)) (TL : List Nat) : Prop := ∀ t, t ∈ TL ↔ (t ∈ fx_K L ∧ ¬ dl t < 0)
def fx_RF (T : Nat) (rn : Int32) (po : Nat → Int32) (L : List (Nat × Nat)) : Prop := ∀ i, i < 32 → bt rn i = decide (i < T ∧ ¬ po i = 0 ∧ i ∉ fx_K L)
def fx_XF (T B nw : Nat) (th rn : Int32) (sl bc hs : Nat → Int32) (dl : Nat → Int64) (sw qn qp bh bl tn tp po mo tk he : Nat → Int32) (L : List (Nat × Nat)) : Prop :=
  nw ≤ 3000000 ∧ fx_QF B sl sw qn qp bh bl L ∧ fx_BF T bc po mo ∧ fx_HF hs he ∧ fx_LF T nw dl tk ∧ (∃ TL, fx_TF th tn tp dl TL ∧ fx_TK dl L TL) ∧ fx_RF T rn po L
abbrev fx_A : Type := (Nat → Int32) × (Nat → Int32) × (Nat → Int32) × (Nat → Int32) × (Nat → Int32) × (Nat → Int32) × (Nat → Int32) × (Nat → Int32) × List (Nat × Nat)
def fx_RX (T M C B nw : Nat) : fx_A → SX → Prop
  | (va, po, ar, mo, sn, ou, tk, he, L), u => ∃ (th rn : Int32) (sl bc hs : Nat → Int32) (dl : Nat → Int64) (sw qn qp bh bl tn tp : Nat → Int32), u = (nI T, nI M, nI C, nI B, lN nw, th, rn, va, sl, bc, po, ar, mo, sn, ou, hs, dl, sw, qn, qp, bh, bl, tn, tp) ∧ fx_XF T B nw th rn sl bc hs dl sw qn qp bh bl tn tp po mo tk he L
def fx_V (wo we : Nat → Int32) : Nat → List (Nat × Nat) → Prop
  | _, [] => True
  | o, p :: Z => wo o = nI p.1 ∧ we o = nI p.2 ∧ fx_V wo we (o + 1) Z
def fx_RY (T M C B : Nat) : fx_A → SY → Prop
  | (va, po, ar, mo, sn, ou, tk, he, L), v => ∃ wo we : Nat → Int32, v = (nI T, nI M, nI C, nI B, nI L.length, va, po, ar, tk, sn, ou, he, wo, we) ∧ fx_V wo we 0 L
def fx_ok (M C : Nat) (p a m : Int32) : Prop := ∃ q x y : Nat, p = nI q ∧ a = nI x ∧ m = nI y ∧ 1 ≤ q ∧ q ≤ 17 ∧ y < M ∧ (q ≤ 6 → x = y) ∧ (6 < q → x < C ∧ y = x % M)
def fx_B4 (T M C B : Nat) : Prop := 2 ≤ T ∧ T ≤ 16 ∧ 1 ≤ M ∧ M ≤ 8 ∧ 1 ≤ C ∧ C ≤ 8 ∧ 1 ≤ B ∧ B ≤ 8
def fx_G (T M C B : Nat) (po ar mo : Nat → Int32) (L : List (Nat × Nat)) : Prop :=
  fx_B4 T M C B ∧ (fx_K L).Nodup ∧ (∀ t w, (t, w) ∈ L → t < T ∧ w < M + C ∧ (po t = 3 ∨ po t = 10 ∨ po t = 12)) ∧ (∀ t, t < T → ¬ po t = 0 → fx_ok M C (po t) (ar t) (mo t))
def fx_Gc (T M C B : Nat) : fx_A → Prop
  | (va, po, ar, mo, sn, ou, tk, he, L) => fx_G T M C B po ar mo L
theorem fx_BF_mv {T t y : Nat} {bc po mo : Nat → Int32} {q : Int32} (h : fx_BF T bc po mo) (ht : t < T) (hm : mo t = nI y) (hy : y < 8) :
    fx_BF T (fx_up (fx_bd q) (fx_dn (fx_bd (po t)) bc y) y) (upd po t q) mo := by
  intro m hm8
  by_cases c : m = y
  · subst c
    have key := fx_c_up (p := fx_bp po mo m) (q := fx_bp (upd po t q) mo m) (t := t) (fun i hi => by unfold fx_bp; rw [pk_un hi]) T ht
    have e1 : fx_bp po mo m t = fx_bd (po t) := by unfold fx_bp; rw [decide_eq_true hm, Bool.and_true]
    have e2 : fx_bp (upd po t q) mo m t = fx_bd q := by unfold fx_bp; rw [decide_eq_true hm, Bool.and_true, pk_us]
    rw [e1, e2] at key
    have hb := h m hm8
    generalize fx_c (fx_bp po mo m) T = a at key hb
    generalize fx_c (fx_bp (upd po t q) mo m) T = b at key
    generalize fx_bd (po t) = p1 at key ⊢
    generalize fx_bd q = q1 at key ⊢
    cases p1 <;> cases q1
    · show bc m = nI b
      rw [hb]; exact congrArg nI key
    · show upd bc m (bc m + 1) m = nI b
      rw [pk_us, hb, nI_1]; exact congrArg nI key
    · show upd bc m (bc m - 1) m = nI b
      rw [pk_us, hb, show a = b + 1 from key]; exact nI_pred b
    · show upd (upd bc m (bc m - 1)) m (upd bc m (bc m - 1) m + 1) m = nI b
      rw [pk_us, pk_us, hb]
      have k2 : a + 1 = b + 1 := key
      rw [Int32.sub_add_cancel]
      exact congrArg nI (by omega)
  · have e : fx_up (fx_bd q) (fx_dn (fx_bd (po t)) bc y) y m = bc m := by
      cases fx_bd (po t) <;> cases fx_bd q <;> simp only [fx_up, fx_dn, pk_un c]
    rw [e, h m hm8]
    refine congrArg nI (fx_c_cg T (fun i _ => ?_))
    unfold fx_bp
    by_cases d : i = t
    · subst d
      have z : ¬ mo i = nI m := by
        rw [hm, nI_eq (by omega) (by omega)]
        omega
      rw [decide_eq_false z, Bool.and_false, Bool.and_false]
    · rw [pk_un d]
theorem fx_BF_mo {T t : Nat} {bc po mo : Nat → Int32} {y : Int32} (h : fx_BF T bc po mo) (hp : po t = 0) : fx_BF T bc po (upd mo t y) := by
  intro m hm8
  rw [h m hm8]
  refine congrArg nI (fx_c_cg T (fun i _ => ?_))
  unfold fx_bp
  by_cases d : i = t
  · subst d
    have z : fx_bd (po i) = false := by rw [hp]; decide
    rw [z, Bool.false_and, Bool.false_and]
  · rw [pk_un d]
theorem fx_RF_slp {T t w : Nat} {rn : Int32} {po : Nat → Int32} {L : List (Nat × Nat)} (h : fx_RF T rn po L) (ht : t < 32) :
    fx_RF T (rn &&& (((1 : Int32) <<< (nI t &&& 31)) ^^^ (-1))) po (L ++ [(t, w)]) := by
  intro i hi
  rw [fx_bclr ht hi, h i hi]
  have e : i ∈ fx_K (L ++ [(t, w)]) ↔ (i ∈ fx_K L ∨ i = t) := by
    rw [fx_Kapp, List.mem_append]
    show _ ∨ i ∈ [t] ↔ _
    rw [List.mem_singleton]
  by_cases c : i = t
  · subst c
    simp [e]
  · simp [c, e]
theorem fx_RF_end {T t : Nat} {rn : Int32} {po : Nat → Int32} {L : List (Nat × Nat)} (h : fx_RF T rn po L) (ht : t < 32) :
    fx_RF T (rn &&& (((1 : Int32) <<< (nI t &&& 31)) ^^^ (-1))) (upd po t 0) L := by
  intro i hi
  rw [fx_bclr ht hi, h i hi]
  by_cases c : i = t
  · subst c
    simp [pk_us]
  · simp [c, pk_un c]
theorem fx_RF_beg {T t : Nat} {rn q : Int32} {po : Nat → Int32} {L : List (Nat × Nat)} (h : fx_RF T rn po L) (ht : t < T) (h32 : T ≤ 32) (hq : ¬ q = 0) (nt : t ∉ fx_K L) :
    fx_RF T (rn ||| ((1 : Int32) <<< (nI t &&& 31))) (upd po t q) L := by
  intro i hi
  rw [fx_bset (by omega) hi, h i hi]
  by_cases c : i = t
  · subst c
    simp [pk_us, ht, hq, nt]
  · simp [c, pk_un c]
/-- release: the bit is set -/
theorem fx_RF_rel {T t : Nat} {rn : Int32} {po : Nat → Int32} {L : List (Nat × Nat)} (h : fx_RF T rn po L) (ht : t < T) (h32 : T ≤ 32) (hp : ¬ po t = 0) :
    fx_RF T (rn ||| ((1 : Int32) <<< (nI t &&& 31))) po (fx_m t L) := by
  intro i hi
  rw [fx_bset (by omega) hi, h i hi]
  have e : i ∈ fx_K (fx_m t L) ↔ (i ∈ fx_K L ∧ i ≠ t) := fx_m_K
  by_cases c : i = t
  · subst c
    simp [e, ht, hp]
  · simp [c, e]
theorem fx_RF_mv {T t : Nat} {rn q : Int32} {po : Nat → Int32} {L : List (Nat × Nat)} (h : fx_RF T rn po L) (hp : ¬ po t = 0) (hq : ¬ q = 0) : fx_RF T rn (upd po t q) L := by
  intro i hi
  rw [h i hi]
  by_cases c : i = t
  · subst c
    simp [pk_us, hp, hq]
  · simp [pk_un c]
theorem fx_HF_set {hs he : Nat → Int32} {t m : Nat} {x : Int32} (h : fx_HF hs he) (hm : m < 8) (hx : ¬ x = 0) :
    fx_HF (upd hs t (hs t ||| ((1 : Int32) <<< (nI m &&& 31)))) (upd he (t * 8 + m) x) := by
  intro s n hs16 hn
  by_cases c : s = t
  · subst c
    rw [pk_us, fx_bset (by omega) (by omega), h s n hs16 hn]
    by_cases d : n = m
    · subst d
      rw [pk_us]
      simp [hx]
    · rw [pk_un (show s * 8 + n ≠ s * 8 + m by omega)]
      simp [d]
  · rw [pk_un c, pk_un (show s * 8 + n ≠ t * 8 + m by omega)]
    exact h s n hs16 hn
theorem fx_HF_clr {hs he : Nat → Int32} {t m : Nat} (h : fx_HF hs he) (hm : m < 8) :
    fx_HF (upd hs t (hs t &&& (((1 : Int32) <<< (nI m &&& 31)) ^^^ (-1)))) (upd he (t * 8 + m) 0) := by
  intro s n hs16 hn
  by_cases c : s = t
  · subst c
    rw [pk_us, fx_bclr (by omega) (by omega), h s n hs16 hn]
    by_cases d : n = m
    · subst d
      rw [pk_us]
      simp
    · rw [pk_un (show s * 8 + n ≠ s * 8 + m by omega)]
      simp [d]
  · rw [pk_un c, pk_un (show s * 8 + n ≠ t * 8 + m by omega)]
    exact h s n hs16 hn
theorem fx_LF_up {T nw t : Nat} {dl : Nat → Int64} {tk : Nat → Int32} {d : Int64} {k : Int32} (h : fx_LF T nw dl tk) (hk : fx_LK nw d k) : fx_LF T nw (vp_updL dl t d) (upd tk t k) := by
  intro s hs
  by_cases c : s = t
  · subst c
    rw [pk_uLs, pk_us]
    exact hk
  · rw [pk_uLn c, pk_un c]
    exact h s hs
theorem fx_LK_m1 {nw : Nat} : fx_LK nw (-1) (-1) := Or.inl ⟨rfl, rfl⟩
/-- a deadline of a thread outside the timer chain may change -/
theorem fx_TF_dl {th : Int32} {tn tp : Nat → Int32} {dl : Nat → Int64} {TL : List Nat} {t : Nat} {d : Int64} (h : fx_TF th tn tp dl TL) (nt : t ∉ TL) : fx_TF th tn tp (vp_updL dl t d) TL := by
  obtain ⟨a, b, c, e⟩ := h
  refine ⟨a, b, c, List.Pairwise.imp_of_mem (fun {x y} hx hy r => ?_) e⟩
  have h1 : x ≠ t := fun q => nt (q ▸ hx)
  have h2 : y ≠ t := fun q => nt (q ▸ hy)
  show vp_updL dl t d x ≤ vp_updL dl t d y
  rw [pk_uLn h1, pk_uLn h2]
  exact r
theorem fx_TK_dl {dl : Nat → Int64} {L : List (Nat × Nat)} {TL : List Nat} {t : Nat} {d : Int64} (h : fx_TK dl L TL) (nt : t ∉ fx_K L) : fx_TK (vp_updL dl t d) L TL := by
  intro s
  by_cases c : s = t
  · subst c
    rw [h s]
    exact ⟨fun q => absurd q.1 nt, fun q => absurd q.1 nt⟩
  · rw [pk_uLn c]
    exact h s
theorem fx_TT_dl {th : Int32} {tn tp : Nat → Int32} {dl : Nat → Int64} {L : List (Nat × Nat)} {t : Nat} {d : Int64}
    (h : ∃ TL, fx_TF th tn tp dl TL ∧ fx_TK dl L TL) (nt : t ∉ fx_K L) : ∃ TL, fx_TF th tn tp (vp_updL dl t d) TL ∧ fx_TK (vp_updL dl t d) L TL := by
  obtain ⟨TL, a, b⟩ := h
  exact ⟨TL, fx_TF_dl a (fun q => nt ((b t).mp q).1), fx_TK_dl b nt⟩
end
section
/-! X's small methods over a tuple -/
section
variable {T M C B nw : Nat} {th rn : Int32} {va sl bc po ar mo sn ou hs : Nat → Int32} {dl : Nat → Int64} {sw qn qp bh bl tn tp : Nat → Int32}
theorem fx_isB {post : Int32 → Prop} {p : Int32} (h1 : fx_bd p = true → post 1) (h0 : fx_bd p = false → post 0) : wpX_isBound post (nI T, nI M, nI C, nI B, lN nw, th, rn, va, sl, bc, po, ar, mo, sn, ou, hs, dl, sw, qn, qp, bh, bl, tn, tp) p :=
  br_c (fun e => h1 (by rw [e]; decide)) (fun e1 => br_c (fun e => h1 (by rw [e]; decide)) (fun e2 => br_c (fun e => h1 (by rw [e]; decide)) (fun e3 =>
    br_c (fun e => h1 (by rw [e]; decide)) (fun e4 => h0 (decide_eq_false (by simp only [e1, e2, e3, e4, or_self, not_false_eq_true]))))))
theorem fx_mv28 {post : SX → Prop} {t y : Nat} {q : Int32} (ht : t < 16) (hy : y < 8) (hm : mo t = nI y)
    (k : post (nI T, nI M, nI C, nI B, lN nw, th, rn, va, sl, fx_up (fx_bd q) bc y, upd po t q, ar, mo, sn, ou, hs, dl, sw, qn, qp, bh, bl, tn, tp)) : wX_moveTo_28 post (nI t) q (nI T) (nI M) (nI C) (nI B) (lN nw) th rn va sl bc po ar mo sn ou hs dl sw qn qp bh bl tn tp := by
  have ct : (nI t).toNatClampNeg = t := nI_clamp (by omega)
  have cy : (mo t).toNatClampNeg = y := by rw [hm]; exact nI_clamp (by omega)
  have i1 : vp_in (nI t) 16 := vp_in_nI ht (by decide)
  have i2 : vp_in (mo t) 8 := by rw [hm]; exact vp_in_nI hy (by decide)
  unfold wX_moveTo_28
  rw [ct]
  refine And.intro i1 (nm_e ?_)
  refine fx_isB (fun e => ?_) (fun e => ?_)
  · rw [e] at k
    refine br_f (by decide) (And.intro i1 (And.intro i2 (And.intro i2 (nm_e ?_))))
    rw [cy]
    exact k
  · rw [e] at k
    exact br_t rfl k
theorem fx_mv {post : SX → Prop} {t y : Nat} {q : Int32} (ht : t < 16) (hy : y < 8) (hm : mo t = nI y)
    (k : post (nI T, nI M, nI C, nI B, lN nw, th, rn, va, sl, fx_up (fx_bd q) (fx_dn (fx_bd (po t)) bc y) y, upd po t q, ar, mo, sn, ou, hs, dl, sw, qn, qp, bh, bl, tn, tp)) : wpX_moveTo post (nI T, nI M, nI C, nI B, lN nw, th, rn, va, sl, bc, po, ar, mo, sn, ou, hs, dl, sw, qn, qp, bh, bl, tn, tp) (nI t) q := by
  have ct : (nI t).toNatClampNeg = t := nI_clamp (by omega)
  have cy : (mo t).toNatClampNeg = y := by rw [hm]; exact nI_clamp (by omega)
  have i1 : vp_in (nI t) 16 := vp_in_nI ht (by decide)
  have i2 : vp_in (mo t) 8 := by rw [hm]; exact vp_in_nI hy (by decide)
  unfold wpX_moveTo
  rw [ct]
  refine And.intro i1 (fx_isB (fun e => ?_) (fun e => ?_))
  · rw [e] at k
    refine br_f (by decide) (And.intro i1 (And.intro i2 (And.intro i2 (nm_e ?_))))
    rw [cy]
    exact fx_mv28 ht hy hm k
  · rw [e] at k
    exact br_t rfl (fx_mv28 ht hy hm k)
theorem fx_en {post : SX → Prop} {t y : Nat} {r : Int32} (ht : t < 16) (hy : y < 8) (hm : mo t = nI y)
    (k : post (nI T, nI M, nI C, nI B, lN nw, th, rn &&& (((1 : Int32) <<< (nI t &&& 31)) ^^^ (-1)), va, sl, fx_up (fx_bd 0) (fx_dn (fx_bd (po t)) bc y) y, upd po t 0, ar, mo, sn, upd ou t r, hs, vp_updL dl t (-1), sw, qn, qp, bh, bl, tn, tp)) :
    wpX_end post (nI T, nI M, nI C, nI B, lN nw, th, rn, va, sl, bc, po, ar, mo, sn, ou, hs, dl, sw, qn, qp, bh, bl, tn, tp) (nI t) r := by
  have ct : (nI t).toNatClampNeg = t := nI_clamp (by omega)
  have i1 : vp_in (nI t) 16 := vp_in_nI ht (by decide)
  unfold wpX_end
  rw [ct]
  refine And.intro i1 (nm_e (And.intro i1 (nm_e ?_)))
  refine fx_mv ht hy hm ?_
  exact nm_e k
theorem fx_sr {post : SX → Prop} {t y : Nat} {r : Int32} (ht : t < 16) (hy : y < 8) (hm : mo t = nI y)
    (k : post (nI T, nI M, nI C, nI B, lN nw, th, rn, va, sl, fx_up (fx_bd 11) (fx_dn (fx_bd (po t)) bc y) y, upd po t 11, ar, mo, sn, upd ou t r, hs, vp_updL dl t (-1), sw, qn, qp, bh, bl, tn, tp)) :
    wpX_startRelock post (nI T, nI M, nI C, nI B, lN nw, th, rn, va, sl, bc, po, ar, mo, sn, ou, hs, dl, sw, qn, qp, bh, bl, tn, tp) (nI t) r := by
  have ct : (nI t).toNatClampNeg = t := nI_clamp (by omega)
  have i1 : vp_in (nI t) 16 := vp_in_nI ht (by decide)
  unfold wpX_startRelock
  rw [ct]
  refine And.intro i1 (nm_e (And.intro i1 (nm_e ?_)))
  exact fx_mv ht hy hm k
/-! queues -/
theorem fx_dq80 {post : SX → Prop} {t w : Nat} (ht : t < 16) (hw : w < 16) (k : post (nI T, nI M, nI C, nI B, lN nw, th, rn, va, upd sl w (sl w - 1), bc, po, ar, mo, sn, ou, hs, dl, upd sw t (-1), qn, qp, bh, bl, tn, tp)) : wX_dequeue_80 post (nI t) (nI w) (nI T) (nI M) (nI C) (nI B) (lN nw) th rn va sl bc po ar mo sn ou hs dl sw qn qp bh bl tn tp := by
  have ct : (nI t).toNatClampNeg = t := nI_clamp (by omega)
  have cw : (nI w).toNatClampNeg = w := nI_clamp (by omega)
  have i1 : vp_in (nI t) 16 := vp_in_nI ht (by decide)
  have i2 : vp_in (nI w) 16 := vp_in_nI hw (by decide)
  unfold wX_dequeue_80
  rw [ct, cw]
  exact And.intro i1 (nm_e (And.intro i2 (And.intro i2 (nm_e k))))
theorem fx_dq55 {post : SX → Prop} {t w b : Nat} {x : Int32} {l2 : List Nat} (ht : t < 16) (hw : w < 16) (hb : b < 8) (h2 : ∀ s, s ∈ l2 → s < 16)
    (k : post (nI T, nI M, nI C, nI B, lN nw, th, rn, va, upd sl w (sl w - 1), bc, po, ar, mo, sn, ou, hs, dl, upd sw t (-1), qn, fx_uh l2 qp x, bh, fx_e l2 bl b x, tn, tp)) : wX_dequeue_55 post (nI t) (nI w) (nI b) x (fx_h l2) (nI T) (nI M) (nI C) (nI B) (lN nw) th rn va sl bc po ar mo sn ou hs dl sw qn qp bh bl tn tp := by
  unfold wX_dequeue_55
  cases l2 with
  | nil =>
    refine br_t fx_h_neg (And.intro (vp_in_nI hb (by decide)) (nm_e ?_))
    rw [nI_clamp (show b < 2 ^ 31 by omega)]
    exact fx_dq80 ht hw k
  | cons a l =>
    have ha : a < 16 := h2 a List.mem_cons_self
    refine br_f (nI_pos (n := a) (by omega)) (And.intro (vp_in_nI ha (by decide)) (nm_e ?_))
    show wX_dequeue_80 post (nI t) (nI w) (nI T) (nI M) (nI C) (nI B) (lN nw) th rn va sl bc po ar mo sn ou hs dl sw qn (upd qp (nI a).toNatClampNeg x) bh bl tn tp
    rw [nI_clamp (show a < 2 ^ 31 by omega)]
    exact fx_dq80 ht hw k
theorem fx_dq {post : SX → Prop} {t w : Nat} {L1 L2 : List (Nat × Nat)} (hB : 1 ≤ B ∧ B ≤ 8) (hL : ∀ s v, (s, v) ∈ L1 ++ (t, w) :: L2 → s < 16 ∧ v < 16)
    (nd : (fx_K (L1 ++ (t, w) :: L2)).Nodup) (h : fx_QF B sl sw qn qp bh bl (L1 ++ (t, w) :: L2))
    (k : ∀ sl' sw' qn' qp' bh' bl' : Nat → Int32, fx_QF B sl' sw' qn' qp' bh' bl' (L1 ++ L2) → post (nI T, nI M, nI C, nI B, lN nw, th, rn, va, sl', bc, po, ar, mo, sn, ou, hs, dl, sw', qn', qp', bh', bl', tn, tp)) :
    wpX_dequeue post (nI T, nI M, nI C, nI B, lN nw, th, rn, va, sl, bc, po, ar, mo, sn, ou, hs, dl, sw, qn, qp, bh, bl, tn, tp) (nI t) := by
  have mt : (t, w) ∈ L1 ++ (t, w) :: L2 := List.mem_append_right _ List.mem_cons_self
  obtain ⟨ht, hw⟩ := hL t w mt
  have hb : w % B < 8 := by have := Nat.mod_lt w (show B > 0 by omega); omega
  have K := k _ _ _ _ _ _ (fx_QF_rem hw hb nd h)
  clear k
  have hsw : sw t = nI w := h.2.1 t w mt
  obtain ⟨D1, -, -⟩ := h.2.2.2 (w % B) hb
  rw [fx_Qapp, fx_Qpos rfl] at D1
  obtain ⟨en, ep⟩ := D1 _ t _ rfl
  have m1 : ∀ s, s ∈ fx_Q B (w % B) L1 → s < 16 := fun s q => by
    obtain ⟨v, q1, -⟩ := fx_memQ.mp q
    exact (hL s v (List.mem_append_left _ q1)).1
  have m2 : ∀ s, s ∈ fx_Q B (w % B) L2 → s < 16 := fun s q => by
    obtain ⟨v, q1, -⟩ := fx_memQ.mp q
    exact (hL s v (List.mem_append_right _ (List.mem_cons_of_mem _ q1))).1
  generalize fx_Q B (w % B) L1 = l1 at K en ep m1
  generalize fx_Q B (w % B) L2 = l2 at K en ep m2
  have ct : (nI t).toNatClampNeg = t := nI_clamp (by omega)
  have i1 : vp_in (nI t) 16 := vp_in_nI ht (by decide)
  have hB0 : ¬ nI B = 0 := nI_ne0 (by omega) (by omega)
  unfold wpX_dequeue
  rw [ct]
  refine And.intro i1 (nm_r hsw (And.intro hB0 (nm_r (pk_rem (by omega) (by omega) (by omega)) (And.intro i1 (nm_r ep (And.intro i1 (nm_r en ?_)))))))
  rw [nI_clamp (show w % B < 2 ^ 31 by omega)]
  rcases fx_lc l1 with rfl | ⟨l, a, rfl⟩
  · exact br_t fx_h_neg (And.intro (vp_in_nI hb (by decide)) (nm_e (fx_dq55 ht hw hb m2 K)))
  · have ha : a < 16 := m1 a (by simp)
    rw [fx_ul_cc, fx_e_cc, fx_l_cc] at K
    rw [fx_l_cc]
    refine br_f (nI_pos (n := a) (by omega)) (And.intro (vp_in_nI ha (by decide)) (nm_e ?_))
    rw [nI_clamp (show a < 2 ^ 31 by omega)]
    exact fx_dq55 ht hw hb m2 K
theorem fx_eq53 {post : SX → Prop} {t w b : Nat} (ht : t < 16) (hw : w < 16) (hb : b < 8)
    (k : post (nI T, nI M, nI C, nI B, lN nw, th, rn, va, upd sl w (sl w + 1), bc, po, ar, mo, sn, ou, hs, dl, upd sw t (nI w), qn, qp, bh, upd bl b (nI t), tn, tp)) : wX_enqueue_53 post (nI t) (nI w) (nI b) (nI T) (nI M) (nI C) (nI B) (lN nw) th rn va sl bc po ar mo sn ou hs dl sw qn qp bh bl tn tp := by
  have ct : (nI t).toNatClampNeg = t := nI_clamp (by omega)
  have cw : (nI w).toNatClampNeg = w := nI_clamp (by omega)
  have i1 : vp_in (nI t) 16 := vp_in_nI ht (by decide)
  have i2 : vp_in (nI w) 16 := vp_in_nI hw (by decide)
  unfold wX_enqueue_53
  rw [ct, cw, nI_clamp (show b < 2 ^ 31 by omega)]
  exact And.intro (vp_in_nI hb (by decide)) (nm_e (And.intro i1 (nm_e (And.intro i2 (And.intro i2 (nm_e k))))))
theorem fx_eq {post : SX → Prop} {t w : Nat} {L : List (Nat × Nat)} (hB : 1 ≤ B ∧ B ≤ 8) (ht : t < 16) (hw : w < 16) (hL : ∀ s v, (s, v) ∈ L → s < 16 ∧ v < 16)
    (nd : (fx_K L).Nodup) (nt : t ∉ fx_K L) (h : fx_QF B sl sw qn qp bh bl L)
    (k : ∀ sl' sw' qn' qp' bh' bl' : Nat → Int32, fx_QF B sl' sw' qn' qp' bh' bl' (L ++ [(t, w)]) → post (nI T, nI M, nI C, nI B, lN nw, th, rn, va, sl', bc, po, ar, mo, sn, ou, hs, dl, sw', qn', qp', bh', bl', tn, tp)) :
    wpX_enqueue post (nI T, nI M, nI C, nI B, lN nw, th, rn, va, sl, bc, po, ar, mo, sn, ou, hs, dl, sw, qn, qp, bh, bl, tn, tp) (nI t) (nI w) := by
  have hb : w % B < 8 := by have := Nat.mod_lt w (show B > 0 by omega); omega
  have K := k _ _ _ _ _ _ (fx_QF_add hw hb nd nt h)
  clear k
  obtain ⟨-, -, ep⟩ := h.2.2.2 (w % B) hb
  have m1 : ∀ s, s ∈ fx_Q B (w % B) L → s < 16 := fun s q => by
    obtain ⟨v, q1, -⟩ := fx_memQ.mp q
    exact (hL s v q1).1
  generalize fx_Q B (w % B) L = l1 at K ep m1
  have ct : (nI t).toNatClampNeg = t := nI_clamp (by omega)
  have i1 : vp_in (nI t) 16 := vp_in_nI ht (by decide)
  have ib : vp_in (nI (w % B)) 8 := vp_in_nI hb (by decide)
  have cb : (nI (w % B)).toNatClampNeg = w % B := nI_clamp (by omega)
  have hB0 : ¬ nI B = 0 := nI_ne0 (by omega) (by omega)
  unfold wpX_enqueue
  rw [ct]
  refine And.intro hB0 (nm_r (pk_rem (by omega) (by omega) (by omega)) ?_)
  rw [cb]
  refine And.intro ib (nm_r ep (And.intro i1 (nm_e (And.intro i1 (nm_e ?_)))))
  rcases fx_lc l1 with rfl | ⟨l, a, rfl⟩
  · exact br_t fx_h_neg (And.intro ib (nm_e (fx_eq53 ht hw hb K)))
  · have ha : a < 16 := m1 a (by simp)
    rw [fx_ul_cc, fx_e_cc, fx_l_cc] at K
    rw [fx_l_cc]
    refine br_f (nI_pos (n := a) (by omega)) (And.intro (vp_in_nI ha (by decide)) (nm_e ?_))
    rw [nI_clamp (show a < 2 ^ 31 by omega)]
    exact fx_eq53 ht hw hb K
/-! timers -/
theorem fx_rt33 {post : SX → Prop} {x : Int32} {l2 : List Nat} (h2 : ∀ s, s ∈ l2 → s < 16)
    (k : post (nI T, nI M, nI C, nI B, lN nw, th, rn, va, sl, bc, po, ar, mo, sn, ou, hs, dl, sw, qn, qp, bh, bl, tn, fx_uh l2 tp x)) : wX_removeTimer_33 post x (fx_h l2) (nI T) (nI M) (nI C) (nI B) (lN nw) th rn va sl bc po ar mo sn ou hs dl sw qn qp bh bl tn tp := by
  unfold wX_removeTimer_33
  cases l2 with
  | nil => exact br_t fx_h_neg k
  | cons a l =>
    have ha : a < 16 := h2 a List.mem_cons_self
    refine br_f (nI_pos (n := a) (by omega)) (And.intro (vp_in_nI ha (by decide)) (nm_e ?_))
    show post (nI T, nI M, nI C, nI B, lN nw, th, rn, va, sl, bc, po, ar, mo, sn, ou, hs, dl, sw, qn, qp, bh, bl, tn, upd tp (nI a).toNatClampNeg x)
    rw [nI_clamp (show a < 2 ^ 31 by omega)]
    exact k
theorem fx_rt {post : SX → Prop} {t : Nat} {l1 l2 : List Nat} (hb : ∀ s, s ∈ l1 ++ t :: l2 → s < 16) (hD : fx_D tn tp (l1 ++ t :: l2)) (hh : th = fx_h (l1 ++ t :: l2))
    (k : post (nI T, nI M, nI C, nI B, lN nw, fx_h (l1 ++ l2), rn, va, sl, bc, po, ar, mo, sn, ou, hs, dl, sw, qn, qp, bh, bl, fx_ul l1 tn (fx_h l2), fx_uh l2 tp (fx_l l1))) : wpX_removeTimer post (nI T, nI M, nI C, nI B, lN nw, th, rn, va, sl, bc, po, ar, mo, sn, ou, hs, dl, sw, qn, qp, bh, bl, tn, tp) (nI t) := by
  have ht : t < 16 := hb t (by simp)
  have ct : (nI t).toNatClampNeg = t := nI_clamp (by omega)
  have i1 : vp_in (nI t) 16 := vp_in_nI ht (by decide)
  have m2 : ∀ s, s ∈ l2 → s < 16 := fun s q => hb s (by simp [q])
  obtain ⟨en, ep⟩ := hD _ t _ rfl
  unfold wpX_removeTimer
  rw [ct]
  refine And.intro i1 (nm_r ep (And.intro i1 (nm_r en ?_)))
  rcases fx_lc l1 with rfl | ⟨l, a, rfl⟩
  · exact br_t fx_h_neg (fx_rt33 m2 k)
  · have ha : a < 16 := hb a (by simp)
    have e : fx_h (l ++ [a] ++ l2) = th := by rw [hh, fx_h_app (p := l ++ [a]) (q := l2) (by simp), fx_h_app (p := l ++ [a]) (q := t :: l2) (by simp)]
    rw [e, fx_ul_cc, fx_l_cc] at k
    rw [fx_l_cc]
    refine br_f (nI_pos (n := a) (by omega)) (And.intro (vp_in_nI ha (by decide)) (nm_e ?_))
    rw [nI_clamp (show a < 2 ^ 31 by omega)]
    exact fx_rt33 m2 k
theorem fx_at87 {post : SX → Prop} {t : Nat} {l2 : List Nat} (h2 : ∀ s, s ∈ l2 → s < 16)
    (k : post (nI T, nI M, nI C, nI B, lN nw, th, rn, va, sl, bc, po, ar, mo, sn, ou, hs, dl, sw, qn, qp, bh, bl, tn, fx_uh l2 tp (nI t))) : wX_addTimer_87 post (nI t) (fx_h l2) (nI T) (nI M) (nI C) (nI B) (lN nw) th rn va sl bc po ar mo sn ou hs dl sw qn qp bh bl tn tp := by
  unfold wX_addTimer_87
  cases l2 with
  | nil => exact br_t fx_h_neg k
  | cons a l =>
    have ha : a < 16 := h2 a List.mem_cons_self
    refine br_f (nI_pos (n := a) (by omega)) (And.intro (vp_in_nI ha (by decide)) (nm_e ?_))
    show post (nI T, nI M, nI C, nI B, lN nw, th, rn, va, sl, bc, po, ar, mo, sn, ou, hs, dl, sw, qn, qp, bh, bl, tn, upd tp (nI a).toNatClampNeg (nI t))
    rw [nI_clamp (show a < 2 ^ 31 by omega)]
    exact k
theorem fx_at54 {post : SX → Prop} {t : Nat} {l1 l2 : List Nat} (ht : t < 16) (hb : ∀ s, s ∈ l1 ++ l2 → s < 16) (hh : th = fx_h (l1 ++ l2))
    (k : post (nI T, nI M, nI C, nI B, lN nw, fx_h (l1 ++ t :: l2), rn, va, sl, bc, po, ar, mo, sn, ou, hs, dl, sw, qn, qp, bh, bl, fx_ul l1 (upd tn t (fx_h l2)) (nI t), fx_uh l2 (upd tp t (fx_l l1)) (nI t))) :
    wX_addTimer_54 post (nI t) (fx_l l1) (fx_h l2) (nI T) (nI M) (nI C) (nI B) (lN nw) th rn va sl bc po ar mo sn ou hs dl sw qn qp bh bl tn tp := by
  have ct : (nI t).toNatClampNeg = t := nI_clamp (by omega)
  have i1 : vp_in (nI t) 16 := vp_in_nI ht (by decide)
  have m2 : ∀ s, s ∈ l2 → s < 16 := fun s q => hb s (by simp [q])
  unfold wX_addTimer_54
  rw [ct]
  refine And.intro i1 (nm_e (And.intro i1 (nm_e ?_)))
  rcases fx_lc l1 with rfl | ⟨l, a, rfl⟩
  · exact br_t fx_h_neg (fx_at87 m2 k)
  · have ha : a < 16 := hb a (by simp)
    have e : fx_h (l ++ [a] ++ t :: l2) = th := by rw [hh, fx_h_app (p := l ++ [a]) (q := l2) (by simp), fx_h_app (p := l ++ [a]) (q := t :: l2) (by simp)]
    rw [e, fx_ul_cc, fx_l_cc] at k
    rw [fx_l_cc]
    refine br_f (nI_pos (n := a) (by omega)) (And.intro (vp_in_nI ha (by decide)) (nm_e ?_))
    rw [nI_clamp (show a < 2 ^ 31 by omega)]
    exact fx_at87 m2 k
theorem fx_at10 {post : SX → Prop} {t : Nat} {TL : List Nat} (ht : t < 16) (hT : T ≤ 16) (hb : ∀ s, s ∈ TL → s < 16) (hl : TL.length < T) (hD : fx_D tn tp TL) (hh : th = fx_h TL)
    (k : ∀ l1 l2, TL = l1 ++ l2 → (∀ s, s ∈ l1 → ¬ dl t < dl s) → (∀ s l, l2 = s :: l → dl t < dl s) →
      post (nI T, nI M, nI C, nI B, lN nw, fx_h (l1 ++ t :: l2), rn, va, sl, bc, po, ar, mo, sn, ou, hs, dl, sw, qn, qp, bh, bl, fx_ul l1 (upd tn t (fx_h l2)) (nI t), fx_uh l2 (upd tp t (fx_l l1)) (nI t))) :
    ∀ n l1 l2, TL = l1 ++ l2 → l2.length < n → (∀ s, s ∈ l1 → ¬ dl t < dl s) → wX_addTimer_10 post (nI t) (nI T) (nI M) (nI C) (nI B) (lN nw) th rn va sl bc po ar mo sn ou hs dl sw qn qp bh bl tn tp n (fx_l l1) (fx_h l2) (nI l1.length) := by
  have ct : (nI t).toNatClampNeg = t := nI_clamp (by omega)
  have i1 : vp_in (nI t) 16 := vp_in_nI ht (by decide)
  intro n
  induction n with
  | zero => intro l1 l2 _ h; omega
  | succ n ih =>
    intro l1 l2 e hn h1
    have hlen : l1.length + l2.length < T := by rw [← List.length_append, ← e]; exact hl
    rw [wX_addTimer_10]
    refine br_f (nI_ge (by omega) (by omega)) ?_
    cases l2 with
    | nil =>
      refine br_t fx_h_neg ?_
      exact fx_at54 ht (by rw [← e]; exact hb) (by rw [← e]; exact hh) (k l1 [] e h1 (fun s l z => by cases z))
    | cons s l =>
      have hs : s < 16 := hb s (by rw [e]; simp)
      have cs : (nI s).toNatClampNeg = s := nI_clamp (by omega)
      have is : vp_in (nI s) 16 := vp_in_nI hs (by decide)
      refine br_f (nI_pos (n := s) (by omega)) ?_
      show vp_in (nI s) 16 ∧ _
      refine And.intro is (And.intro i1 ?_)
      by_cases c : dl t < dl s
      · refine br_t (by rw [ct]; show dl t < dl (nI s).toNatClampNeg; rw [cs]; exact c) ?_
        exact fx_at54 (l2 := s :: l) ht (by rw [← e]; exact hb) (by rw [← e]; exact hh) (k l1 (s :: l) e h1 (fun s' l' z => by cases z; exact c))
      · refine br_f (by rw [ct]; show ¬ dl t < dl (nI s).toNatClampNeg; rw [cs]; exact c) (And.intro is ?_)
        have en : tn (nI s).toNatClampNeg = fx_h l := by rw [cs]; exact (hD l1 s l e).1
        refine nm_r en (nm_r (nI_1 _) ?_)
        have := ih (l1 ++ [s]) l (by rw [e]; simp) (by simp at hn; omega) (fun s' q => by
          rcases List.mem_append.mp q with q | q
          · exact h1 s' q
          · rw [List.mem_singleton.mp q]; exact c)
        rw [fx_l_cc, List.length_append] at this
        exact this
theorem fx_at {post : SX → Prop} {t : Nat} {TL : List Nat} (ht : t < 16) (hT : T ≤ 16) (hb : ∀ s, s ∈ TL → s < 16) (hl : TL.length < T) (nt : t ∉ TL) (h : fx_TF th tn tp dl TL)
    (k : ∀ th' tn' tp' TL', fx_TF th' tn' tp' dl TL' → (∀ s, s ∈ TL' ↔ s ∈ TL ∨ s = t) → post (nI T, nI M, nI C, nI B, lN nw, th', rn, va, sl, bc, po, ar, mo, sn, ou, hs, dl, sw, qn, qp, bh, bl, tn', tp')) : wpX_addTimer post (nI T, nI M, nI C, nI B, lN nw, th, rn, va, sl, bc, po, ar, mo, sn, ou, hs, dl, sw, qn, qp, bh, bl, tn, tp) (nI t) := by
  obtain ⟨a1, a2, a3, a4⟩ := h
  subst a3
  refine ⟨TL.length + 1, fx_at10 ht hT hb hl a2 rfl ?_ (TL.length + 1) [] TL rfl (by omega) (fun s q => by cases q)⟩
  intro l1 l2 e h1 h2
  · subst e
    refine k _ _ _ (l1 ++ t :: l2) ⟨?_, ?_, rfl, ?_⟩ (fun s => ?_)
    · obtain ⟨b1, b2, b3⟩ := List.nodup_append.mp a1
      refine List.nodup_append.mpr ⟨b1, List.nodup_cons.mpr ⟨fun q => nt (List.mem_append_right _ q), b2⟩, fun x hx y hy => ?_⟩
      rcases List.mem_cons.mp hy with q | q
      · rw [q]; rintro rfl; exact nt (List.mem_append_left _ hx)
      · exact b3 x hx y q
    · refine fx_D_ins ?_ a2
      obtain ⟨b1, b2, b3⟩ := List.nodup_append.mp a1
      refine List.nodup_append.mpr ⟨b1, List.nodup_cons.mpr ⟨fun q => nt (List.mem_append_right _ q), b2⟩, fun x hx y hy => ?_⟩
      rcases List.mem_cons.mp hy with q | q
      · rw [q]; rintro rfl; exact nt (List.mem_append_left _ hx)
      · exact b3 x hx y q
    · obtain ⟨b1, b2, b3⟩ := List.pairwise_append.mp a4
      refine List.pairwise_append.mpr ⟨b1, List.pairwise_cons.mpr ⟨fun y hy => ?_, b2⟩, fun x hx y hy => ?_⟩
      · cases l2 with
        | nil => cases hy
        | cons z l =>
          have hz := h2 z l rfl
          rcases List.mem_cons.mp hy with q | q
          · rw [q]; exact Int64.le_of_lt hz
          · exact Int64.le_trans (Int64.le_of_lt hz) ((List.pairwise_cons.mp b2).1 y q)
      · rcases List.mem_cons.mp hy with q | q
        · rw [q]; exact Int64.not_lt.mp (h1 x hx)
        · exact b3 x hx y q
    · simp only [List.mem_append, List.mem_cons]
      constructor
      · rintro (q | q | q)
        · exact Or.inl (Or.inl q)
        · exact Or.inr q
        · exact Or.inl (Or.inr q)
      · rintro ((q | q) | q)
        · exact Or.inl q
        · exact Or.inr (Or.inr q)
        · exact Or.inr (Or.inl q)
end
end
section
/-! X's methods over the abstract state -/
def fx_np (z p : Int32) : Int32 := if p = 10 then 11 else if p = 12 then 11 else if z = 3 then 0 else 2
def fx_no (z p o : Int32) : Int32 := if p = 10 then z else if p = 12 then o else if z = 3 then 3 else o
def fx_nt (z p k : Int32) : Int32 := if p = 10 then -1 else if p = 12 then k else if z = 3 then -1 else k
/-- one thread is released -/
def fx_r1 (t : Nat) (z : Int32) : fx_A → fx_A
  | (va, po, ar, mo, sn, ou, tk, he, L) => (va, upd po t (fx_np z (po t)), ar, mo, sn, upd ou t (fx_no z (po t) (ou t)), upd tk t (fx_nt z (po t) (tk t)), he, fx_m t L)
theorem fx_us {f : Nat → Int32} {t : Nat} : upd f t (f t) = f := by
  funext j
  unfold upd
  by_cases c : j = t
  · rw [if_pos c, c]
  · rw [if_neg c]
section
variable {T M C B nw : Nat} {th rn : Int32} {va sl bc po ar mo sn ou hs : Nat → Int32} {dl : Nat → Int64} {sw qn qp bh bl tn tp tk he : Nat → Int32} {L : List (Nat × Nat)} {t w : Nat} {z : Int32}
theorem fx_xel {P : SX → Prop} {u : SX} (h : ∀ (th rn : Int32) (sl bc hs : Nat → Int32) (dl : Nat → Int64) (sw qn qp bh bl tn tp : Nat → Int32), fx_XF T B nw th rn sl bc hs dl sw qn qp bh bl tn tp po mo tk he L → P (nI T, nI M, nI C, nI B, lN nw, th, rn, va, sl, bc, po, ar, mo, sn, ou, hs, dl, sw, qn, qp, bh, bl, tn, tp))
    (I : fx_RX T M C B nw (va, po, ar, mo, sn, ou, tk, he, L) u) : P u := by
  obtain ⟨th, rn, sl, bc, hs, dl, sw, qn, qp, bh, bl, tn, tp, rfl, f⟩ := I
  exact h th rn sl bc hs dl sw qn qp bh bl tn tp f
theorem fx_xin (f : fx_XF T B nw th rn sl bc hs dl sw qn qp bh bl tn tp po mo tk he L) : fx_RX T M C B nw (va, po, ar, mo, sn, ou, tk, he, L) (nI T, nI M, nI C, nI B, lN nw, th, rn, va, sl, bc, po, ar, mo, sn, ou, hs, dl, sw, qn, qp, bh, bl, tn, tp) := ⟨th, rn, sl, bc, hs, dl, sw, qn, qp, bh, bl, tn, tp, rfl, f⟩
theorem fx_r1a (h : po t = 10) : fx_r1 t z (va, po, ar, mo, sn, ou, tk, he, L) = (va, upd po t 11, ar, mo, sn, upd ou t z, upd tk t (-1), he, fx_m t L) := by
  have e1 : fx_np z (po t) = 11 := by unfold fx_np; rw [if_pos h]
  have e2 : fx_no z (po t) (ou t) = z := by unfold fx_no; rw [if_pos h]
  have e3 : fx_nt z (po t) (tk t) = -1 := by unfold fx_nt; rw [if_pos h]
  show (va, upd po t (fx_np z (po t)), ar, mo, sn, upd ou t (fx_no z (po t) (ou t)), upd tk t (fx_nt z (po t) (tk t)), he, fx_m t L) = _
  rw [e1, e2, e3]
theorem fx_r1b (h : po t = 12) : fx_r1 t z (va, po, ar, mo, sn, ou, tk, he, L) = (va, upd po t 11, ar, mo, sn, ou, tk, he, fx_m t L) := by
  have n : ¬ po t = 10 := by rw [h]; decide
  have e1 : fx_np z (po t) = 11 := by unfold fx_np; rw [if_neg n, if_pos h]
  have e2 : fx_no z (po t) (ou t) = ou t := by unfold fx_no; rw [if_neg n, if_pos h]
  have e3 : fx_nt z (po t) (tk t) = tk t := by unfold fx_nt; rw [if_neg n, if_pos h]
  show (va, upd po t (fx_np z (po t)), ar, mo, sn, upd ou t (fx_no z (po t) (ou t)), upd tk t (fx_nt z (po t) (tk t)), he, fx_m t L) = _
  rw [e1, e2, e3, fx_us, fx_us]
theorem fx_r1c (h : po t = 3) (hz : z = 3) : fx_r1 t z (va, po, ar, mo, sn, ou, tk, he, L) = (va, upd po t 0, ar, mo, sn, upd ou t 3, upd tk t (-1), he, fx_m t L) := by
  have n : ¬ po t = 10 := by rw [h]; decide
  have n2 : ¬ po t = 12 := by rw [h]; decide
  have e1 : fx_np z (po t) = 0 := by unfold fx_np; rw [if_neg n, if_neg n2, if_pos hz]
  have e2 : fx_no z (po t) (ou t) = 3 := by unfold fx_no; rw [if_neg n, if_neg n2, if_pos hz]
  have e3 : fx_nt z (po t) (tk t) = -1 := by unfold fx_nt; rw [if_neg n, if_neg n2, if_pos hz]
  show (va, upd po t (fx_np z (po t)), ar, mo, sn, upd ou t (fx_no z (po t) (ou t)), upd tk t (fx_nt z (po t) (tk t)), he, fx_m t L) = _
  rw [e1, e2, e3]
theorem fx_r1d (h : po t = 3) (hz : ¬ z = 3) : fx_r1 t z (va, po, ar, mo, sn, ou, tk, he, L) = (va, upd po t 2, ar, mo, sn, ou, tk, he, fx_m t L) := by
  have n : ¬ po t = 10 := by rw [h]; decide
  have n2 : ¬ po t = 12 := by rw [h]; decide
  have e1 : fx_np z (po t) = 2 := by unfold fx_np; rw [if_neg n, if_neg n2, if_neg hz]
  have e2 : fx_no z (po t) (ou t) = ou t := by unfold fx_no; rw [if_neg n, if_neg n2, if_neg hz]
  have e3 : fx_nt z (po t) (tk t) = tk t := by unfold fx_nt; rw [if_neg n, if_neg n2, if_neg hz]
  show (va, upd po t (fx_np z (po t)), ar, mo, sn, upd ou t (fx_no z (po t) (ou t)), upd tk t (fx_nt z (po t) (tk t)), he, fx_m t L) = _
  rw [e1, e2, e3, fx_us, fx_us]
/-- what G says of one thread -/
theorem fx_Gm (g : fx_G T M C B po ar mo L) (ht : t < T) (hp : ¬ po t = 0) : ∃ y, mo t = nI y ∧ y < M ∧ y < 8 := by
  obtain ⟨q, x, y, -, -, e, -, -, hy, -, -⟩ := g.2.2.2 t ht hp
  have := g.1.2.2.2.1
  exact ⟨y, e, hy, by omega⟩
theorem fx_G16 (g : fx_G T M C B po ar mo L) : ∀ s v, (s, v) ∈ L → s < 16 ∧ v < 16 := by
  intro s v h
  have := g.1
  unfold fx_B4 at this
  have := g.2.2.1 s v h
  omega
theorem fx_Gp0 (g : fx_G T M C B po ar mo L) (m : (t, w) ∈ L) : ¬ po t = 0 := by
  rcases (g.2.2.1 t w m).2.2 with h | h | h <;> rw [h] <;> decide
theorem fx_rel16 {post : SX → Prop} {TL : List Nat} (g : fx_G T M C B po ar mo L) (m : (t, w) ∈ L) (fn : nw ≤ 3000000) (fq : fx_QF B sl sw qn qp bh bl L) (fb : fx_BF T bc po mo)
    (fh : fx_HF hs he) (fl : fx_LF T nw dl tk) (ft : fx_TF th tn tp dl TL) (fk : fx_TK dl (fx_m t L) TL) (fr : fx_RF T rn po L)
    (k : ∀ u', fx_RX T M C B nw (fx_r1 t z (va, po, ar, mo, sn, ou, tk, he, L)) u' → post u') : wX_release_16 post (nI t) z (nI T) (nI M) (nI C) (nI B) (lN nw) th rn va sl bc po ar mo sn ou hs dl sw qn qp bh bl tn tp := by
  have g4 := g.1
  unfold fx_B4 at g4
  have ht : t < T := (g.2.2.1 t w m).1
  have hp3 := (g.2.2.1 t w m).2.2
  have hp0 := fx_Gp0 g m
  obtain ⟨y, hm, -, hy⟩ := fx_Gm g ht hp0
  have h16 := fx_G16 g
  have ct : (nI t).toNatClampNeg = t := nI_clamp (by omega)
  have i1 : vp_in (nI t) 16 := vp_in_nI (by omega) (by decide)
  have nK : t ∉ fx_K (fx_m t L) := fun q => (fx_m_K.mp q).2 rfl
  have fr' := fx_RF_rel fr ht (by omega) hp0
  have nd := g.2.1
  clear g
  unfold wX_release_16
  rw [ct]
  obtain ⟨L1, L2, rfl⟩ := List.append_of_mem m
  rw [fx_m_split nd] at *
  refine fx_dq ⟨by omega, by omega⟩ h16 nd fq ?_
  intro sl' sw' qn' qp' bh' bl' fq'
  refine nm_e (And.intro i1 ?_)
  rcases hp3 with h | h | h
  · refine br_f (by rw [h]; decide) (And.intro i1 (br_f (by rw [h]; decide) ?_))
    by_cases hz : z = 3
    · rw [fx_r1c h hz, fx_m_split nd] at k
      refine br_t hz (fx_en (by omega) hy hm ?_)
      exact k _ (fx_xin ⟨fn, fq', fx_BF_mv fb ht hm hy, fh, fx_LF_up fl fx_LK_m1, fx_TT_dl ⟨TL, ft, fk⟩ nK, fx_RF_end fr' (by omega)⟩)
    · rw [fx_r1d h hz, fx_m_split nd] at k
      refine br_f hz (fx_mv (by omega) hy hm ?_)
      exact k _ (fx_xin ⟨fn, fq', fx_BF_mv fb ht hm hy, fh, fl, ⟨TL, ft, fk⟩, fx_RF_mv fr' hp0 (by decide)⟩)
  · rw [fx_r1a h, fx_m_split nd] at k
    refine br_t h (fx_sr (by omega) hy hm ?_)
    exact k _ (fx_xin ⟨fn, fq', fx_BF_mv fb ht hm hy, fh, fx_LF_up fl fx_LK_m1, fx_TT_dl ⟨TL, ft, fk⟩ nK, fx_RF_mv fr' hp0 (by decide)⟩)
  · rw [fx_r1b h, fx_m_split nd] at k
    refine br_f (by rw [h]; decide) (And.intro i1 (br_t h (fx_mv (by omega) hy hm ?_)))
    exact k _ (fx_xin ⟨fn, fq', fx_BF_mv fb ht hm hy, fh, fl, ⟨TL, ft, fk⟩, fx_RF_mv fr' hp0 (by decide)⟩)
theorem fx_relX {post : SX → Prop} {u : SX} (g : fx_G T M C B po ar mo L) (m : (t, w) ∈ L) (I : fx_RX T M C B nw (va, po, ar, mo, sn, ou, tk, he, L) u)
    (k : ∀ u', fx_RX T M C B nw (fx_r1 t z (va, po, ar, mo, sn, ou, tk, he, L)) u' → post u') : wpX_release post u (nI t) z := by
  refine fx_xel (P := fun u => wpX_release post u (nI t) z) ?_ I
  clear I
  intro th rn sl bc hs dl sw qn qp bh bl tn tp f
  obtain ⟨fn, fq, fb, fh, fl, ⟨TL, ft, fk⟩, fr⟩ := f
  have g4 := g.1
  unfold fx_B4 at g4
  have ht : t < T := (g.2.2.1 t w m).1
  have ct : (nI t).toNatClampNeg = t := nI_clamp (by omega)
  have i1 : vp_in (nI t) 16 := vp_in_nI (by omega) (by decide)
  have tK : t ∈ fx_K L := fx_memK.mpr ⟨w, m⟩
  unfold wpX_release
  rw [ct]
  refine And.intro i1 ?_
  by_cases c : dl t < 0
  · refine br_t c (fx_rel16 g m fn fq fb fh fl ft (fun s => ?_) fr k)
    rw [fk s, fx_m_K]
    constructor
    · rintro ⟨a, b⟩
      exact ⟨⟨a, fun q => b (q ▸ c)⟩, b⟩
    · rintro ⟨⟨a, -⟩, b⟩
      exact ⟨a, b⟩
  · have mT : t ∈ TL := (fk t).mpr ⟨tK, c⟩
    have hb : ∀ s, s ∈ TL → s < 16 := fun s q => by
      obtain ⟨v, q1⟩ := fx_memK.mp ((fk s).mp q).1
      exact (fx_G16 g s v q1).1
    obtain ⟨l1, l2, rfl⟩ := List.append_of_mem mT
    obtain ⟨a1, a2, a3, a4⟩ := ft
    obtain ⟨n1, n2, n3, -⟩ := fx_nd a1
    refine br_f c (fx_rt hb a2 a3 ?_)
    refine fx_rel16 g m fn fq fb fh fl (TL := l1 ++ l2) ⟨n3, fx_D_rem a1 a2, rfl, ?_⟩ (fun s => ?_) fr k
    · obtain ⟨b1, b2, b3⟩ := List.pairwise_append.mp a4
      exact List.pairwise_append.mpr ⟨b1, (List.pairwise_cons.mp b2).2, fun x hx y hy => b3 x hx y (List.mem_cons_of_mem _ hy)⟩
    · rw [fx_m_K]
      have := fk s
      constructor
      · intro q
        have q2 := this.mp (by
          rcases List.mem_append.mp q with q | q
          · exact List.mem_append_left _ q
          · exact List.mem_append_right _ (List.mem_cons_of_mem _ q))
        refine ⟨⟨q2.1, ?_⟩, q2.2⟩
        rintro rfl
        rcases List.mem_append.mp q with q | q
        · exact n1 q
        · exact n2 q
      · rintro ⟨⟨a, b⟩, c2⟩
        rcases List.mem_append.mp (this.mpr ⟨a, c2⟩) with q | q
        · exact List.mem_append_left _ q
        · rcases List.mem_cons.mp q with q | q
          · exact absurd q b
          · exact List.mem_append_right _ q
theorem fx_slpX {post : SX → Prop} {u : SX} (g : fx_G T M C B po ar mo L) (ht : t < T) (hw : w < M + C) (nt : t ∉ fx_K L) (I : fx_RX T M C B nw (va, po, ar, mo, sn, ou, tk, he, L) u)
    (k : ∀ u', fx_RX T M C B nw (va, po, ar, mo, sn, ou, tk, he, L ++ [(t, w)]) u' → post u') : wpX_sleepOn post u (nI t) (nI w) := by
  refine fx_xel (P := fun u => wpX_sleepOn post u (nI t) (nI w)) ?_ I
  clear I
  intro th rn sl bc hs dl sw qn qp bh bl tn tp f
  obtain ⟨fn, fq, fb, fh, fl, ⟨TL, ft, fk⟩, fr⟩ := f
  have g4 := g.1
  unfold fx_B4 at g4
  have ct : (nI t).toNatClampNeg = t := nI_clamp (by omega)
  have i1 : vp_in (nI t) 16 := vp_in_nI (by omega) (by decide)
  have ntT : t ∉ TL := fun q => nt ((fk t).mp q).1
  have eK : ∀ s, s ∈ fx_K (L ++ [(t, w)]) ↔ s ∈ fx_K L ∨ s = t := by
    intro s
    rw [fx_Kapp, List.mem_append]
    show _ ∨ s ∈ [t] ↔ _
    rw [List.mem_singleton]
  have fr' := fx_RF_slp (w := w) fr (show t < 32 by omega)
  unfold wpX_sleepOn
  refine fx_eq ⟨by omega, by omega⟩ (by omega) (by omega) (fx_G16 g) g.2.1 nt fq ?_
  intro sl' sw' qn' qp' bh' bl' fq'
  refine And.intro i1 ?_
  by_cases c : dl t < 0
  · refine br_t (by rw [ct]; exact c) (nm_e ?_)
    refine k _ (fx_xin ⟨fn, fq', fb, fh, fl, ⟨TL, ft, fun s => ?_⟩, fr'⟩)
    rw [fk s, eK s]
    constructor
    · rintro ⟨a, b⟩; exact ⟨Or.inl a, b⟩
    · rintro ⟨a | a, b⟩
      · exact ⟨a, b⟩
      · exact absurd c (a ▸ b)
  · refine br_f (by rw [ct]; exact c) ?_
    have hT : ∀ s, s ∈ TL → s < T := fun s q => by
      obtain ⟨v, q1⟩ := fx_memK.mp ((fk s).mp q).1
      exact (g.2.2.1 s v q1).1
    have hl : (t :: TL).length ≤ T := fx_pig T (t :: TL) (List.nodup_cons.mpr ⟨ntT, ft.1⟩) (fun s q => by
      rcases List.mem_cons.mp q with q | q
      · rw [q]; exact ht
      · exact hT s q)
    rw [List.length_cons] at hl
    refine fx_at (by omega) (by omega) (fun s q => by have := hT s q; omega) (by omega) ntT ft ?_
    intro th' tn' tp' TL' ft' mm
    refine nm_e ?_
    refine k _ (fx_xin ⟨fn, fq', fb, fh, fl, ⟨TL', ft', fun s => ?_⟩, fr'⟩)
    rw [mm s, fk s, eK s]
    constructor
    · rintro (⟨a, b⟩ | a)
      · exact ⟨Or.inl a, b⟩
      · exact ⟨Or.inr a, a ▸ c⟩
    · rintro ⟨a | a, b⟩
      · exact Or.inl ⟨a, b⟩
      · exact Or.inr a
theorem fx_endX {post : SX → Prop} {u : SX} (g : fx_G T M C B po ar mo L) (ht : t < T) (hp : ¬ po t = 0) (nt : t ∉ fx_K L) (I : fx_RX T M C B nw (va, po, ar, mo, sn, ou, tk, he, L) u)
    (k : ∀ u', fx_RX T M C B nw (va, upd po t 0, ar, mo, sn, upd ou t z, upd tk t (-1), he, L) u' → post u') : wpX_end post u (nI t) z := by
  refine fx_xel (P := fun u => wpX_end post u (nI t) z) ?_ I
  clear I
  intro th rn sl bc hs dl sw qn qp bh bl tn tp f
  obtain ⟨fn, fq, fb, fh, fl, ft, fr⟩ := f
  have g4 := g.1
  unfold fx_B4 at g4
  obtain ⟨y, hm, -, hy⟩ := fx_Gm g ht hp
  refine fx_en (by omega) hy hm ?_
  exact k _ (fx_xin ⟨fn, fq, fx_BF_mv fb ht hm hy, fh, fx_LF_up fl fx_LK_m1, fx_TT_dl ft nt, fx_RF_end fr (by omega)⟩)
theorem fx_mvX {post : SX → Prop} {u : SX} (g : fx_G T M C B po ar mo L) (ht : t < T) (hp : ¬ po t = 0) (hz : ¬ z = 0) (I : fx_RX T M C B nw (va, po, ar, mo, sn, ou, tk, he, L) u)
    (k : ∀ u', fx_RX T M C B nw (va, upd po t z, ar, mo, sn, ou, tk, he, L) u' → post u') : wpX_moveTo post u (nI t) z := by
  refine fx_xel (P := fun u => wpX_moveTo post u (nI t) z) ?_ I
  clear I
  intro th rn sl bc hs dl sw qn qp bh bl tn tp f
  obtain ⟨fn, fq, fb, fh, fl, ft, fr⟩ := f
  have g4 := g.1
  unfold fx_B4 at g4
  obtain ⟨y, hm, -, hy⟩ := fx_Gm g ht hp
  refine fx_mv (by omega) hy hm ?_
  exact k _ (fx_xin ⟨fn, fq, fx_BF_mv fb ht hm hy, fh, fl, ft, fx_RF_mv fr hp hz⟩)
theorem fx_srX {post : SX → Prop} {u : SX} (g : fx_G T M C B po ar mo L) (ht : t < T) (hp : ¬ po t = 0) (nt : t ∉ fx_K L) (I : fx_RX T M C B nw (va, po, ar, mo, sn, ou, tk, he, L) u)
    (k : ∀ u', fx_RX T M C B nw (va, upd po t 11, ar, mo, sn, upd ou t z, upd tk t (-1), he, L) u' → post u') : wpX_startRelock post u (nI t) z := by
  refine fx_xel (P := fun u => wpX_startRelock post u (nI t) z) ?_ I
  clear I
  intro th rn sl bc hs dl sw qn qp bh bl tn tp f
  obtain ⟨fn, fq, fb, fh, fl, ft, fr⟩ := f
  have g4 := g.1
  unfold fx_B4 at g4
  obtain ⟨y, hm, -, hy⟩ := fx_Gm g ht hp
  refine fx_sr (by omega) hy hm ?_
  exact k _ (fx_xin ⟨fn, fq, fx_BF_mv fb ht hm hy, fh, fx_LF_up fl fx_LK_m1, fx_TT_dl ft nt, fx_RF_mv fr hp (by decide)⟩)
theorem fx_acqX {post : SX → Prop} {u : SX} {y : Nat} (g : fx_G T M C B po ar mo L) (ht : t < T) (hp : ¬ po t = 0) (nt : t ∉ fx_K L) (hm : mo t = nI y) (hy : y < 8) (I : fx_RX T M C B nw (va, po, ar, mo, sn, ou, tk, he, L) u)
    (k : ∀ u', fx_RX T M C B nw (va, upd po t 0, ar, mo, sn, upd ou t z, upd tk t (-1), upd he (t * 8 + y) 1, L) u' → post u') : wpX_acquire post u (nI t) z := by
  refine fx_xel (P := fun u => wpX_acquire post u (nI t) z) ?_ I
  clear I
  intro th rn sl bc hs dl sw qn qp bh bl tn tp f
  obtain ⟨fn, fq, fb, fh, fl, ft, fr⟩ := f
  have g4 := g.1
  unfold fx_B4 at g4
  have ct : (nI t).toNatClampNeg = t := nI_clamp (by omega)
  have i1 : vp_in (nI t) 16 := vp_in_nI (by omega) (by decide)
  unfold wpX_acquire
  rw [ct]
  refine And.intro i1 (And.intro i1 (And.intro i1 (nm_e ?_)))
  rw [hm]
  refine fx_en (by omega) hy hm ?_
  exact k _ (fx_xin ⟨fn, fq, fx_BF_mv fb ht hm hy, fx_HF_set fh hy (by decide), fx_LF_up fl fx_LK_m1, fx_TT_dl ft nt, fx_RF_end fr (by omega)⟩)
end
end
section
/-! X finds a sleeper -/
theorem fx_QO {B w : Nat} {sw : Nat → Int32} (hw : w < 16) : ∀ L : List (Nat × Nat), (∀ t v, (t, v) ∈ L → sw t = nI v ∧ v < 16) → (fx_Q B (w % B) L).filter (fun s => decide (sw s = nI w)) = fx_O w L := by
  intro L
  induction L with
  | nil => intro _; rfl
  | cons p L ih =>
    intro h
    obtain ⟨t, v⟩ := p
    obtain ⟨h1, h2⟩ := h t v List.mem_cons_self
    have ih' := ih (fun s x q => h s x (List.mem_cons_of_mem _ q))
    by_cases c : v = w
    · subst c
      rw [fx_Qpos rfl, fx_Opos, List.filter_cons, if_pos (decide_eq_true h1), ih']
    · rw [fx_Oneg c]
      by_cases d : v % B = w % B
      · have n : ¬ sw t = nI w := by
          rw [h1, nI_eq (by omega) (by omega)]
          exact c
        rw [fx_Qpos d, List.filter_cons, if_neg (by rw [decide_eq_false n]; decide), ih']
      · rw [fx_Qneg d, ih']
section
variable {T M C B nw : Nat} {th rn : Int32} {va sl bc po ar mo sn ou hs : Nat → Int32} {dl : Nat → Int64} {sw qn qp bh bl tn tp tk he wo we : Nat → Int32} {L : List (Nat × Nat)} {t w : Nat} {z : Int32}
theorem fx_sa34 {post : Int32 → Prop} {Q : List Nat} (hT : T ≤ 16) (hD : fx_D qn qp Q) (hb : ∀ s, s ∈ Q → s < 16) (hl : Q.length ≤ T) :
    ∀ n l1 l2 j, Q = l1 ++ l2 → l2.length < n → j < 2 ^ 31 → post (fx_h ((l2.filter (fun s => decide (sw s = nI w))).drop j)) →
      wX_sleeperAt_34 post (nI w) (nI T) (nI M) (nI C) (nI B) (lN nw) th rn va sl bc po ar mo sn ou hs dl sw qn qp bh bl tn tp n (nI j) (fx_h l2) (nI l1.length) := by
  intro n
  induction n with
  | zero => intro l1 l2 j _ h; omega
  | succ n ih =>
    intro l1 l2 j e hn hj k
    have hlen : l1.length + l2.length ≤ T := by rw [← List.length_append, ← e]; exact hl
    rw [wX_sleeperAt_34]
    cases l2 with
    | nil =>
      rw [List.filter_nil, List.drop_nil] at k
      exact br_c (fun _ => k) (fun _ => br_t fx_h_neg k)
    | cons s l =>
      have hs : s < 16 := hb s (by rw [e]; simp)
      have cs : (nI s).toNatClampNeg = s := nI_clamp (by omega)
      have is : vp_in (nI s) 16 := vp_in_nI hs (by decide)
      rw [List.length_cons] at hlen hn
      have en : qn s = fx_h l := (hD l1 s l e).1
      have ih' := ih (l1 ++ [s]) l
      rw [List.length_append] at ih'
      rw [show fx_h (s :: l) = nI s from rfl]
      refine br_f (nI_ge (by omega) (by omega)) (br_f (nI_pos (n := s) (by omega)) (And.intro is ?_))
      by_cases c : sw s = nI w
      · rw [List.filter_cons, if_pos (decide_eq_true c)] at k
        refine br_t (by rw [cs]; exact c) ?_
        cases j with
        | zero => exact br_t nI_0 k
        | succ j =>
          refine br_f (nI_ne0 (by omega) (by omega)) (nm_r (pk_m1 j) (And.intro is (nm_r (e' := fx_h l) (by rw [cs]; exact en) (nm_r (nI_1 _) ?_))))
          exact ih' j (by rw [e]; simp) (by omega) (by omega) k
      · rw [List.filter_cons, if_neg (by rw [decide_eq_false c]; decide)] at k
        refine br_f (by rw [cs]; exact c) (And.intro is (nm_r (e' := fx_h l) (by rw [cs]; exact en) (nm_r (nI_1 _) ?_)))
        exact ih' j (by rw [e]; simp) (by omega) hj k
theorem fx_saX {post : Int32 → Prop} {u : SX} {j : Nat} (g : fx_G T M C B po ar mo L) (hw : w < M + C) (I : fx_RX T M C B nw (va, po, ar, mo, sn, ou, tk, he, L) u) (hj : j < 2 ^ 31)
    (k : post (fx_h ((fx_O w L).drop j))) : wpX_sleeperAt post u (nI w) (nI j) := by
  refine fx_xel (P := fun u => wpX_sleeperAt post u (nI w) (nI j)) ?_ I
  clear I
  intro th rn sl bc hs dl sw qn qp bh bl tn tp f
  obtain ⟨fn, fq, -⟩ := f
  have g4 := g.1
  unfold fx_B4 at g4
  have hb : w % B < 8 := by have := Nat.mod_lt w (show B > 0 by omega); omega
  have cw : (nI w).toNatClampNeg = w := nI_clamp (by omega)
  have iw : vp_in (nI w) 16 := vp_in_nI (by omega) (by decide)
  have er : nI w - nI w / nI B * nI B = nI (w % B) := pk_rem (by omega) (by omega) (by omega)
  have ol := fx_Olen (w := w) (T := T) g.2.1 (fun s v q => (g.2.2.1 s v q).1)
  have ql := fx_Qlen (B := B) (b := w % B) (T := T) g.2.1 (fun s v q => (g.2.2.1 s v q).1)
  obtain ⟨D, eh, -⟩ := fq.2.2.2 (w % B) hb
  unfold wpX_sleeperAt
  dsimp only
  rw [cw, er]
  refine br_f (nI_pos hj) (And.intro iw (pk_lt j (fx_O w L).length (fun c => ?_) (fun c => ?_) rfl (fq.1 w (by omega)) hj))
  · refine And.intro (nI_ne0 (by omega) (by omega)) (And.intro (vp_in_nI hb (by decide)) (nm_r (e' := fx_h (fx_Q B (w % B) L)) (by rw [nI_clamp (show w % B < 2 ^ 31 by omega)]; exact eh) ⟨T + 1, ?_⟩))
    refine fx_sa34 (Q := fx_Q B (w % B) L) (by omega) D (fun s q => ?_) ql (T + 1) [] (fx_Q B (w % B) L) j rfl (by omega) hj ?_
    · obtain ⟨v, q1, -⟩ := fx_memQ.mp q
      exact (fx_G16 g s v q1).1
    · rw [fx_QO (by omega) L (fun s v q => ⟨fq.2.1 s v q, (fx_G16 g s v q).2⟩)]
      exact k
  · rw [List.drop_eq_nil_of_le c] at k
    exact k
theorem fx_wkX {post : SX → Prop} {u : SX} (g : fx_G T M C B po ar mo L) (hw : w < M + C) (I : fx_RX T M C B nw (va, po, ar, mo, sn, ou, tk, he, L) u)
    (k0 : fx_O w L = [] → ∀ u', fx_RX T M C B nw (va, po, ar, mo, sn, ou, tk, he, L) u' → post u') (k1 : ∀ t l, fx_O w L = t :: l → ∀ u', fx_RX T M C B nw (fx_r1 t 5 (va, po, ar, mo, sn, ou, tk, he, L)) u' → post u') : wpX_wakeOne post u (nI w) := by
  refine fx_xel (P := fun u => wpX_wakeOne post u (nI w)) ?_ I
  clear I
  intro th rn sl bc hs dl sw qn qp bh bl tn tp f
  have I := fx_xin (M := M) (C := C) (va := va) (ar := ar) (sn := sn) (ou := ou) f
  unfold wpX_wakeOne
  refine fx_saX (j := 0) g hw I (by decide) ?_
  rw [List.drop_zero]
  cases e : fx_O w L with
  | nil => exact br_t fx_h_neg (k0 e _ I)
  | cons t l =>
    have m : (t, w) ∈ L := fx_memO.mp (by rw [e]; exact List.mem_cons_self)
    have := fx_G16 g t w m
    refine br_f (nI_pos (n := t) (by omega)) (fx_relX g m I ?_)
    intro u' h'
    exact k1 t l e u' h'
/-! Y's methods -/
theorem fx_V_app {A Z : List (Nat × Nat)} : ∀ o, fx_V wo we o (A ++ Z) ↔ (fx_V wo we o A ∧ fx_V wo we (o + A.length) Z) := by
  induction A with
  | nil => intro o; exact ⟨fun h => ⟨trivial, h⟩, fun h => h.2⟩
  | cons p A ih =>
    intro o
    show (_ ∧ _ ∧ fx_V wo we (o + 1) (A ++ Z)) ↔ ((_ ∧ _ ∧ fx_V wo we (o + 1) A) ∧ fx_V wo we (o + (A.length + 1)) Z)
    rw [ih (o + 1), show o + (A.length + 1) = o + 1 + A.length by omega]
    constructor
    · rintro ⟨a, b, c, d⟩; exact ⟨⟨a, b, c⟩, d⟩
    · rintro ⟨⟨a, b, c⟩, d⟩; exact ⟨a, b, c, d⟩
theorem fx_V_fr {wo' we' : Nat → Int32} {A : List (Nat × Nat)} : ∀ o, (∀ j, o ≤ j → j < o + A.length → wo' j = wo j ∧ we' j = we j) → fx_V wo we o A → fx_V wo' we' o A := by
  induction A with
  | nil => intro o _ _; trivial
  | cons p A ih =>
    intro o h f
    obtain ⟨a, b, c⟩ := f
    have := h o (by omega) (by simp)
    exact ⟨this.1.trans a, this.2.trans b, ih (o + 1) (fun j h1 h2 => h j (by omega) (by simp; omega)) c⟩
theorem fx_yel {P : SY → Prop} {v : SY} (h : ∀ wo we : Nat → Int32, fx_V wo we 0 L → P (nI T, nI M, nI C, nI B, nI L.length, va, po, ar, tk, sn, ou, he, wo, we)) (I : fx_RY T M C B (va, po, ar, mo, sn, ou, tk, he, L) v) : P v := by
  obtain ⟨wo, we, rfl, f⟩ := I
  exact h wo we f
theorem fx_yin (f : fx_V wo we 0 L) : fx_RY T M C B (va, po, ar, mo, sn, ou, tk, he, L) (nI T, nI M, nI C, nI B, nI L.length, va, po, ar, tk, sn, ou, he, wo, we) := ⟨wo, we, rfl, f⟩
theorem fx_len (g : fx_G T M C B po ar mo L) : L.length ≤ T := by
  have := fx_pig T (fx_K L) g.2.1 (fun x hx => by obtain ⟨v, q⟩ := fx_memK.mp hx; exact (g.2.2.1 x v q).1)
  unfold fx_K at this
  rw [List.length_map] at this
  exact this
theorem fx_pl2 {post : Int32 → Prop} (hl : L.length ≤ 16) (hb : ∀ s v, (s, v) ∈ L → s < 16 ∧ v < 16) (ht : t < 16) (f : fx_V wo we 0 L)
    (k1 : ∀ L1 v L2, L = L1 ++ (t, v) :: L2 → post (nI L1.length)) (k0 : t ∉ fx_K L → post (-1)) :
    ∀ n L1 L2, L = L1 ++ L2 → L2.length < n → t ∉ fx_K L1 → wY_place_2 post (nI t) (nI T) (nI M) (nI C) (nI B) (nI L.length) va po ar tk sn ou he wo we n (nI L1.length) := by
  intro n
  induction n with
  | zero => intro L1 L2 _ h; omega
  | succ n ih =>
    intro L1 L2 e hn nt
    rw [wY_place_2]
    have hlen : L.length = L1.length + L2.length := by rw [e, List.length_append]
    cases L2 with
    | nil =>
      rw [List.append_nil] at e
      exact br_t (nI_le (by rw [e]; exact Nat.le_refl _) (by omega)) (k0 (by rw [e]; exact nt))
    | cons p L2 =>
      obtain ⟨s, v⟩ := p
      rw [List.length_cons] at hlen hn
      have hs := hb s v (by rw [e]; simp)
      have f2 := f
      rw [e, fx_V_app] at f2
      obtain ⟨-, f3, -, -⟩ := f2
      rw [Nat.zero_add] at f3
      have cs : (nI L1.length).toNatClampNeg = L1.length := nI_clamp (by omega)
      refine br_f (nI_ge (by omega) (by omega)) (And.intro (vp_in_nI (by omega) (by decide)) ?_)
      rw [cs, f3]
      by_cases c : s = t
      · subst c
        exact br_t rfl (k1 L1 v L2 e)
      · refine br_f (fun q => c ((nI_eq (by omega) (by omega)).mp q)) (nm_r (nI_1 _) ?_)
        have := ih (L1 ++ [(s, v)]) L2 (by rw [e]; simp) (by omega) (by
          rw [fx_Kapp]
          intro q
          rcases List.mem_append.mp q with q | q
          · exact nt q
          · exact c (List.mem_singleton.mp q).symm)
        rw [List.length_append] at this
        exact this
theorem fx_plY {post : Int32 → Prop} (hl : L.length ≤ 16) (hb : ∀ s v, (s, v) ∈ L → s < 16 ∧ v < 16) (ht : t < 16) (f : fx_V wo we 0 L)
    (k1 : ∀ L1 v L2, L = L1 ++ (t, v) :: L2 → post (nI L1.length)) (k0 : t ∉ fx_K L → post (-1)) : wpY_place post (nI T, nI M, nI C, nI B, nI L.length, va, po, ar, tk, sn, ou, he, wo, we) (nI t) :=
  ⟨L.length + 1, fx_pl2 hl hb ht f k1 k0 (L.length + 1) [] L rfl (Nat.lt_succ_self _) (fun q => by cases q)⟩
theorem fx_lv13 {post : SY → Prop} : ∀ (M2 : List (Nat × Nat)) (n : Nat) (A : List (Nat × Nat)) (wo we : Nat → Int32), M2.length < n → A.length + 1 + M2.length ≤ 16 → fx_V wo we 0 A → fx_V wo we (A.length + 1) M2 →
    (∀ wo' we' : Nat → Int32, fx_V wo' we' 0 (A ++ M2) → post (nI T, nI M, nI C, nI B, nI (A ++ M2).length, va, po, ar, tk, sn, ou, he, wo', we')) →
    wY_leave_13 post (nI T) (nI M) (nI C) (nI B) (nI (A.length + 1 + M2.length)) n (nI A.length) va po ar tk sn ou he wo we := by
  intro M2
  induction M2 with
  | nil =>
    intro n A wo we hn hl f1 f2 k
    obtain ⟨n, rfl⟩ : ∃ m, n = m + 1 := ⟨n - 1, by rw [List.length_nil] at hn; omega⟩
    rw [wY_leave_13]
    rw [List.length_nil] at hl
    refine br_t ?_ (nm_r (nI_pred _) ?_)
    · rw [nI_1]
      exact nI_le (Nat.le_refl _) (by omega)
    · have := k wo we (by rw [List.append_nil]; exact f1)
      rw [List.append_nil] at this
      exact this
  | cons p M2 ih =>
    intro n A wo we hn hl f1 f2 k
    rw [List.length_cons] at hn hl
    obtain ⟨n, rfl⟩ : ∃ m, n = m + 1 := ⟨n - 1, by omega⟩
    rw [wY_leave_13]
    obtain ⟨a, b, c⟩ := f2
    have c1 : (nI (A.length + 1)).toNatClampNeg = A.length + 1 := nI_clamp (by omega)
    have c0 : (nI A.length).toNatClampNeg = A.length := nI_clamp (by omega)
    have i0 : vp_in (nI A.length) 16 := vp_in_nI (by omega) (by decide)
    have i1 : vp_in (nI (A.length + 1)) 16 := vp_in_nI (by omega) (by decide)
    rw [nI_1, c1, c0]
    refine br_f (nI_ge (by rw [List.length_cons]; omega) (by rw [List.length_cons]; omega)) (And.intro i1 (And.intro i0 (nm_e (And.intro i1 (And.intro i0 (nm_e (nm_e ?_)))))))
    have := ih n (A ++ [p]) (upd wo A.length (wo (A.length + 1))) (upd we A.length (we (A.length + 1))) (by omega) (by rw [List.length_append]; show A.length + 1 + 1 + _ ≤ 16; omega)
      (by
        rw [fx_V_app]
        refine ⟨fx_V_fr 0 (fun j _ hj => ⟨pk_un (by omega), pk_un (by omega)⟩) f1, ?_, ?_, trivial⟩
        · rw [Nat.zero_add, pk_us]; exact a
        · rw [Nat.zero_add, pk_us]; exact b)
      (by
        rw [List.length_append]
        exact fx_V_fr _ (fun j hj _ => ⟨pk_un (by rw [List.length_singleton] at hj; omega), pk_un (by rw [List.length_singleton] at hj; omega)⟩) c)
      (fun wo' we' f => by
        have := k wo' we' (by rw [List.append_cons]; exact f)
        rw [List.append_cons] at this
        exact this)
    rw [List.length_append] at this
    rw [List.length_cons, show A.length + 1 + (M2.length + 1) = A.length + [p].length + 1 + M2.length by rw [List.length_singleton]; omega]
    exact this
theorem fx_lvY {post : SY → Prop} (hl : L.length ≤ 16) (hb : ∀ s v, (s, v) ∈ L → s < 16 ∧ v < 16) (nd : (fx_K L).Nodup) (m : (t, w) ∈ L) (f : fx_V wo we 0 L)
    (k : ∀ wo' we' : Nat → Int32, fx_V wo' we' 0 (fx_m t L) → post (nI T, nI M, nI C, nI B, nI (fx_m t L).length, va, po, ar, tk, sn, ou, he, wo', we')) : wpY_leave post (nI T, nI M, nI C, nI B, nI L.length, va, po, ar, tk, sn, ou, he, wo, we) (nI t) := by
  unfold wpY_leave
  refine fx_plY hl hb (hb t w m).1 f (fun L1 v L2 e => ?_) (fun q => absurd (fx_memK.mpr ⟨w, m⟩) q)
  have hlen : L.length = L1.length + 1 + L2.length := by rw [e, List.length_append, List.length_cons]; omega
  refine br_t (nI_pos' (by omega)) ⟨L2.length + 1, ?_⟩
  rw [hlen]
  have f2 := f
  rw [e, fx_V_app] at f2
  obtain ⟨f3, -, -, f4⟩ := f2
  rw [Nat.zero_add] at f4
  have em : fx_m t L = L1 ++ L2 := by rw [e] at nd ⊢; exact fx_m_split nd
  rw [em] at k
  exact fx_lv13 L2 (L2.length + 1) L1 wo we (Nat.lt_succ_self _) (by omega) f3 f4 k
theorem fx_jnY {post : SY → Prop} (hl : L.length < 16) (f : fx_V wo we 0 L)
    (k : ∀ wo' we' : Nat → Int32, fx_V wo' we' 0 (L ++ [(t, w)]) → post (nI T, nI M, nI C, nI B, nI (L ++ [(t, w)]).length, va, po, ar, tk, sn, ou, he, wo', we')) : wpY_join post (nI T, nI M, nI C, nI B, nI L.length, va, po, ar, tk, sn, ou, he, wo, we) (nI t) (nI w) := by
  have c : (nI L.length).toNatClampNeg = L.length := nI_clamp (by omega)
  have i : vp_in (nI L.length) 16 := vp_in_nI hl (by decide)
  have K := k (upd wo L.length (nI t)) (upd we L.length (nI w)) (by
    rw [fx_V_app]
    refine ⟨fx_V_fr 0 (fun j _ hj => ⟨pk_un (by omega), pk_un (by omega)⟩) f, ?_, ?_, trivial⟩
    · rw [Nat.zero_add, pk_us]
    · rw [Nat.zero_add, pk_us])
  rw [List.length_append] at K
  unfold wpY_join
  dsimp only
  rw [c]
  exact br_f (nI_ge (b := 16) hl (by decide)) (And.intro i (nm_e (And.intro i (nm_e (nm_r (nI_1 _) K)))))
theorem fx_fo2 {post : Int32 → Prop} (hl : L.length ≤ 16) (hb : ∀ s v, (s, v) ∈ L → s < 16 ∧ v < 16) (hw : w < 16) (f : fx_V wo we 0 L) :
    ∀ n L1 L2, L = L1 ++ L2 → L2.length < n → post (fx_h (fx_O w L2)) → wY_firstOn_2 post (nI w) (nI T) (nI M) (nI C) (nI B) (nI L.length) va po ar tk sn ou he wo we n (nI L1.length) := by
  intro n
  induction n with
  | zero => intro L1 L2 _ h; omega
  | succ n ih =>
    intro L1 L2 e hn k
    rw [wY_firstOn_2]
    have hlen : L.length = L1.length + L2.length := by rw [e, List.length_append]
    cases L2 with
    | nil =>
      rw [List.append_nil] at e
      exact br_t (nI_le (by rw [e]; exact Nat.le_refl _) (by omega)) k
    | cons p L2 =>
      obtain ⟨s, v⟩ := p
      rw [List.length_cons] at hlen hn
      have hs := hb s v (by rw [e]; simp)
      have f2 := f
      rw [e, fx_V_app] at f2
      obtain ⟨-, f3, f4, -⟩ := f2
      rw [Nat.zero_add] at f3 f4
      have cs : (nI L1.length).toNatClampNeg = L1.length := nI_clamp (by omega)
      have i : vp_in (nI L1.length) 16 := vp_in_nI (by omega) (by decide)
      refine br_f (nI_ge (by omega) (by omega)) (And.intro i ?_)
      rw [cs, f3, f4]
      by_cases c : v = w
      · subst c
        rw [fx_Opos] at k
        exact br_t rfl (And.intro i k)
      · rw [fx_Oneg c] at k
        refine br_f (fun q => c ((nI_eq (by omega) (by omega)).mp q)) (nm_r (nI_1 _) ?_)
        have := ih (L1 ++ [(s, v)]) L2 (by rw [e]; simp) (by omega) k
        rw [List.length_append] at this
        exact this
theorem fx_foY {post : Int32 → Prop} (hl : L.length ≤ 16) (hb : ∀ s v, (s, v) ∈ L → s < 16 ∧ v < 16) (hw : w < 16) (f : fx_V wo we 0 L)
    (k : post (fx_h (fx_O w L))) : wpY_firstOn post (nI T, nI M, nI C, nI B, nI L.length, va, po, ar, tk, sn, ou, he, wo, we) (nI w) :=
  ⟨L.length + 1, fx_fo2 hl hb hw f (L.length + 1) [] L rfl (Nat.lt_succ_self _) k⟩
theorem fx_endY {post : SY → Prop} {v : SY} (ht : t < 16) (I : fx_RY T M C B (va, po, ar, mo, sn, ou, tk, he, L) v)
    (k : ∀ v', fx_RY T M C B (va, upd po t 0, ar, mo, sn, upd ou t z, upd tk t (-1), he, L) v' → post v') : wpY_end post v (nI t) z := by
  refine fx_yel (P := fun v => wpY_end post v (nI t) z) ?_ I
  clear I
  intro wo we f
  have ct : (nI t).toNatClampNeg = t := nI_clamp (by omega)
  have i1 : vp_in (nI t) 16 := vp_in_nI ht (by decide)
  unfold wpY_end
  rw [ct]
  exact And.intro i1 (nm_e (And.intro i1 (nm_e (And.intro i1 (nm_e (k _ (fx_yin f)))))))
theorem fx_rlY {post : SY → Prop} {v : SY} (ht : t < 16) (I : fx_RY T M C B (va, po, ar, mo, sn, ou, tk, he, L) v)
    (k : ∀ v', fx_RY T M C B (va, upd po t 11, ar, mo, sn, upd ou t z, upd tk t (-1), he, L) v' → post v') : wpY_relock post v (nI t) z := by
  refine fx_yel (P := fun v => wpY_relock post v (nI t) z) ?_ I
  clear I
  intro wo we f
  have ct : (nI t).toNatClampNeg = t := nI_clamp (by omega)
  have i1 : vp_in (nI t) 16 := vp_in_nI ht (by decide)
  unfold wpY_relock
  rw [ct]
  exact And.intro i1 (nm_e (And.intro i1 (nm_e (And.intro i1 (nm_e (k _ (fx_yin f)))))))
theorem fx_relY {post : SY → Prop} {v : SY} (g : fx_G T M C B po ar mo L) (m : (t, w) ∈ L) (I : fx_RY T M C B (va, po, ar, mo, sn, ou, tk, he, L) v)
    (k : ∀ v', fx_RY T M C B (fx_r1 t z (va, po, ar, mo, sn, ou, tk, he, L)) v' → post v') : wpY_release post v (nI t) z := by
  refine fx_yel (P := fun v => wpY_release post v (nI t) z) ?_ I
  clear I
  intro wo we f
  have g4 := g.1
  unfold fx_B4 at g4
  have hl := fx_len g
  have ht : t < T := (g.2.2.1 t w m).1
  have ct : (nI t).toNatClampNeg = t := nI_clamp (by omega)
  have i1 : vp_in (nI t) 16 := vp_in_nI (by omega) (by decide)
  unfold wpY_release
  rw [ct]
  refine fx_lvY (by omega) (fx_G16 g) g.2.1 m f ?_
  intro wo' we' f'
  refine And.intro i1 ?_
  rcases (g.2.2.1 t w m).2.2 with h | h | h
  · refine br_t h ?_
    by_cases hz : z = 3
    · rw [fx_r1c h hz] at k
      refine br_t hz (fx_endY (mo := mo) (by omega) (fx_yin f') ?_)
      intro v' h'
      exact k v' h'
    · rw [fx_r1d h hz] at k
      exact br_f hz (And.intro i1 (nm_e (k _ (fx_yin f'))))
  · rw [fx_r1a h] at k
    refine br_f (by rw [h]; decide) (And.intro i1 (br_t h (fx_rlY (mo := mo) (by omega) (fx_yin f') ?_)))
    intro v' h'
    exact k v' h'
  · rw [fx_r1b h] at k
    exact br_f (by rw [h]; decide) (And.intro i1 (br_f (by rw [h]; decide) (And.intro i1 (br_t h (And.intro i1 (nm_e (k _ (fx_yin f'))))))))
theorem fx_wkY {post : SY → Prop} {v : SY} (g : fx_G T M C B po ar mo L) (hw : w < M + C) (I : fx_RY T M C B (va, po, ar, mo, sn, ou, tk, he, L) v)
    (k0 : fx_O w L = [] → ∀ v', fx_RY T M C B (va, po, ar, mo, sn, ou, tk, he, L) v' → post v') (k1 : ∀ t l, fx_O w L = t :: l → ∀ v', fx_RY T M C B (fx_r1 t 5 (va, po, ar, mo, sn, ou, tk, he, L)) v' → post v') : wpY_wakeOne post v (nI w) := by
  refine fx_yel (P := fun v => wpY_wakeOne post v (nI w)) ?_ I
  clear I
  intro wo we f
  have I := fx_yin (T := T) (M := M) (C := C) (B := B) (va := va) (po := po) (ar := ar) (mo := mo) (sn := sn) (ou := ou) (tk := tk) (he := he) f
  have g4 := g.1
  unfold fx_B4 at g4
  have hl := fx_len g
  unfold wpY_wakeOne
  refine fx_foY (by omega) (fx_G16 g) (by omega) f ?_
  cases e : fx_O w L with
  | nil => exact br_t fx_h_neg (k0 e _ I)
  | cons t l =>
    have m : (t, w) ∈ L := fx_memO.mp (by rw [e]; exact List.mem_cons_self)
    have := fx_G16 g t w m
    refine br_f (nI_pos (n := t) (by omega)) (fx_relY g m I ?_)
    intro v' h'
    exact k1 t l e v' h'
end
end
section
/-! the invariant is kept -/
section
variable {T M C B nw : Nat} {th rn : Int32} {va sl bc po ar mo sn ou hs : Nat → Int32} {dl : Nat → Int64} {sw qn qp bh bl tn tp tk he wo we : Nat → Int32} {L : List (Nat × Nat)} {t w : Nat} {z : Int32}
theorem fx_ok_mv {p q a m : Int32} {i j : Nat} (h : fx_ok M C p a m) (hp : p = nI i) (hi : i ≤ 17) (hq : q = nI j) (h1 : 1 ≤ j) (h2 : j ≤ 17) (c : i ≤ 6 ↔ j ≤ 6) : fx_ok M C q a m := by
  obtain ⟨k, x, y, e1, e2, e3, b1, b2, b3, b4, b5⟩ := h
  have ek : k = i := by
    rw [hp] at e1
    exact ((nI_eq (by omega) (by omega)).mp e1).symm
  subst ek
  exact ⟨j, x, y, hq, e2, e3, h1, h2, b3, fun q => b4 (by omega), fun q => b5 (by omega)⟩
theorem fx_G_po (g : fx_G T M C B po ar mo L) (ht : t < T) (nt : t ∉ fx_K L) (ok : z = 0 ∨ fx_ok M C z (ar t) (mo t)) : fx_G T M C B (upd po t z) ar mo L := by
  obtain ⟨g1, g2, g3, g4⟩ := g
  refine ⟨g1, g2, fun s v m => ?_, fun s hs hp => ?_⟩
  · have st : s ≠ t := fun e => nt (fx_memK.mpr ⟨v, e ▸ m⟩)
    rw [pk_un st]
    exact g3 s v m
  · by_cases c : s = t
    · subst c
      rw [pk_us] at hp ⊢
      rcases ok with o | o
      · exact absurd o hp
      · exact o
    · rw [pk_un c] at hp ⊢
      exact g4 s hs hp
theorem fx_G_r1 (g : fx_G T M C B po ar mo L) (m : (t, w) ∈ L) : fx_G T M C B (upd po t (fx_np z (po t))) ar mo (fx_m t L) := by
  have g' := g
  obtain ⟨g1, g2, g3, g4⟩ := g
  refine ⟨g1, fx_m_nd g2, fun s v q => ?_, fun s hs hp => ?_⟩
  · obtain ⟨q1, q2⟩ := fx_m_mem.mp q
    rw [pk_un q2]
    exact g3 s v q1
  · by_cases c : s = t
    · subst c
      rw [pk_us] at hp ⊢
      have ok := g4 s (g3 s w m).1 (fx_Gp0 g' m)
      rcases (g3 s w m).2.2 with h | h | h
      · unfold fx_np at hp ⊢
        rw [if_neg (by rw [h]; decide), if_neg (by rw [h]; decide)] at hp ⊢
        by_cases hz : z = 3
        · rw [if_pos hz] at hp
          exact absurd rfl hp
        · rw [if_neg hz]
          exact fx_ok_mv (i := 3) (j := 2) ok h (by omega) rfl (by omega) (by omega) (by omega)
      · unfold fx_np
        rw [if_pos h]
        exact fx_ok_mv (i := 10) (j := 11) ok h (by omega) rfl (by omega) (by omega) (by omega)
      · unfold fx_np
        rw [if_neg (by rw [h]; decide), if_pos h]
        exact fx_ok_mv (i := 12) (j := 11) ok h (by omega) rfl (by omega) (by omega) (by omega)
    · rw [pk_un c] at hp ⊢
      exact g4 s hs hp
theorem fx_G_slp (g : fx_G T M C B po ar mo L) (ht : t < T) (nt : t ∉ fx_K L) (hw : w < M + C) (h : po t = 3 ∨ po t = 10 ∨ po t = 12) : fx_G T M C B po ar mo (L ++ [(t, w)]) := by
  obtain ⟨g1, g2, g3, g4⟩ := g
  refine ⟨g1, ?_, fun s v m => ?_, g4⟩
  · rw [fx_Kapp]
    refine List.nodup_append.mpr ⟨g2, by simp [fx_K], fun x hx y hy => ?_⟩
    have : y = t := List.mem_singleton.mp hy
    rintro rfl
    exact nt (this ▸ hx)
  · rcases List.mem_append.mp m with q | q
    · exact g3 s v q
    · have := List.mem_singleton.mp q
      cases this
      exact ⟨ht, hw, h⟩
theorem fx_G_rq {m : Nat} (g : fx_G T M C B po ar mo L) (q : (t, w) ∈ L) (hm : m < M + C) : fx_G T M C B po ar mo (fx_m t L ++ [(t, m)]) := by
  have g' : fx_G T M C B po ar mo (fx_m t L) := by
    obtain ⟨g1, g2, g3, g4⟩ := g
    exact ⟨g1, fx_m_nd g2, fun s v q => g3 s v (fx_m_mem.mp q).1, g4⟩
  have := g.2.2.1 t w q
  exact fx_G_slp g' this.1 (fun q => (fx_m_K.mp q).2 rfl) hm this.2.2
end
/-! lists under removal -/
theorem fx_Q_m {B b t : Nat} : ∀ L : List (Nat × Nat), fx_Q B b (fx_m t L) = (fx_Q B b L).filter (fun s => decide (¬ s = t)) := by
  intro L
  unfold fx_Q fx_m
  rw [List.filter_map, List.filter_filter, List.filter_filter]
  refine congrArg _ (List.filter_congr (fun p _ => ?_))
  show (_ && _) = (_ && _)
  exact Bool.and_comm _ _
theorem fx_O_m {w t : Nat} : ∀ L : List (Nat × Nat), fx_O w (fx_m t L) = (fx_O w L).filter (fun s => decide (¬ s = t)) := by
  intro L
  unfold fx_O fx_m
  rw [List.filter_map, List.filter_filter, List.filter_filter]
  refine congrArg _ (List.filter_congr (fun p _ => ?_))
  show (_ && _) = (_ && _)
  exact Bool.and_comm _ _
theorem fx_f_no {t : Nat} {l : List Nat} (h : t ∉ l) : l.filter (fun s => decide (¬ s = t)) = l := by
  rw [List.filter_eq_self]
  intro a ha
  exact decide_eq_true (fun e => h (e ▸ ha))
theorem fx_f_mid {t : Nat} {d r : List Nat} (nd : (d ++ t :: r).Nodup) : (d ++ t :: r).filter (fun s => decide (¬ s = t)) = d ++ r := by
  obtain ⟨a, b, -, -⟩ := fx_nd nd
  rw [List.filter_append, fx_f_no a, List.filter_cons, if_neg (by simp), fx_f_no b]
theorem fx_O_tl {w t : Nat} {L : List (Nat × Nat)} {o : List Nat} (nd : (fx_K L).Nodup) (e : fx_O w L = t :: o) : fx_O w (fx_m t L) = o := by
  have n := fx_Ond (v := w) nd
  rw [fx_O_m, e]
  rw [e] at n
  exact fx_f_mid (d := []) n
theorem fx_O_1 {w t m : Nat} (h : ¬ m = w) : fx_O w [(t, m)] = [] := by rw [fx_Oneg h]; rfl
/-! all sleepers of a word are woken -/
def fx_w1 (w : Nat) : fx_A → fx_A
  | (va, po, ar, mo, sn, ou, tk, he, L) => match fx_O w L with
    | [] => (va, po, ar, mo, sn, ou, tk, he, L)
    | t :: _ => fx_r1 t 5 (va, po, ar, mo, sn, ou, tk, he, L)
def fx_wn (w : Nat) : Nat → fx_A → fx_A
  | 0, c => c
  | n + 1, c => fx_wn w n (fx_w1 w c)
section
variable {T M C B nw : Nat} {th rn : Int32} {va sl bc po ar mo sn ou hs : Nat → Int32} {dl : Nat → Int64} {sw qn qp bh bl tn tp tk he wo we : Nat → Int32} {L : List (Nat × Nat)} {t w : Nat} {z : Int32}
theorem fx_w1_0 (e : fx_O w L = []) : fx_w1 w (va, po, ar, mo, sn, ou, tk, he, L) = (va, po, ar, mo, sn, ou, tk, he, L) := by
  show (match fx_O w L with | [] => (va, po, ar, mo, sn, ou, tk, he, L) | t :: _ => fx_r1 t 5 (va, po, ar, mo, sn, ou, tk, he, L)) = _
  rw [e]
theorem fx_w1_1 {o : List Nat} (e : fx_O w L = t :: o) : fx_w1 w (va, po, ar, mo, sn, ou, tk, he, L) = fx_r1 t 5 (va, po, ar, mo, sn, ou, tk, he, L) := by
  show (match fx_O w L with | [] => (va, po, ar, mo, sn, ou, tk, he, L) | t :: _ => fx_r1 t 5 (va, po, ar, mo, sn, ou, tk, he, L)) = _
  rw [e]
theorem fx_w1X {post : SX → Prop} {u : SX} (g : fx_G T M C B po ar mo L) (hw : w < M + C) (I : fx_RX T M C B nw (va, po, ar, mo, sn, ou, tk, he, L) u)
    (k : ∀ u', fx_RX T M C B nw (fx_w1 w (va, po, ar, mo, sn, ou, tk, he, L)) u' → post u') : wpX_wakeOne post u (nI w) :=
  fx_wkX g hw I (fun e u' h => k u' (by rw [fx_w1_0 e]; exact h)) (fun t l e u' h => k u' (by rw [fx_w1_1 e]; exact h))
theorem fx_w1Y {post : SY → Prop} {v : SY} (g : fx_G T M C B po ar mo L) (hw : w < M + C) (I : fx_RY T M C B (va, po, ar, mo, sn, ou, tk, he, L) v)
    (k : ∀ v', fx_RY T M C B (fx_w1 w (va, po, ar, mo, sn, ou, tk, he, L)) v' → post v') : wpY_wakeOne post v (nI w) :=
  fx_wkY g hw I (fun e u' h => k u' (by rw [fx_w1_0 e]; exact h)) (fun t l e u' h => k u' (by rw [fx_w1_1 e]; exact h))
end
/-- what waking does not touch: c' differs from c in positions of sleepers, outcomes, ticks and the list alone -/
def fx_Fr (T M C B : Nat) : fx_A → fx_A → Prop
  | (va, po, ar, mo, sn, ou, tk, he, L), c' => ∃ (po' ou' tk' : Nat → Int32) (L' : List (Nat × Nat)), c' = (va, po', ar, mo, sn, ou', tk', he, L') ∧ fx_G T M C B po' ar mo L' ∧ (∀ s, s ∉ fx_K L → po' s = po s ∧ s ∉ fx_K L')
section
variable {T M C B nw : Nat} {th rn : Int32} {va sl bc po ar mo sn ou hs : Nat → Int32} {dl : Nat → Int64} {sw qn qp bh bl tn tp tk he wo we : Nat → Int32} {L : List (Nat × Nat)} {t w : Nat} {z : Int32}
theorem fx_Fr_0 (g : fx_G T M C B po ar mo L) : fx_Fr T M C B (va, po, ar, mo, sn, ou, tk, he, L) (va, po, ar, mo, sn, ou, tk, he, L) := ⟨po, ou, tk, L, rfl, g, fun s h => ⟨rfl, h⟩⟩
theorem fx_Fr_r1 (g : fx_G T M C B po ar mo L) (m : (t, w) ∈ L) : fx_Fr T M C B (va, po, ar, mo, sn, ou, tk, he, L) (fx_r1 t z (va, po, ar, mo, sn, ou, tk, he, L)) := by
  refine ⟨_, _, _, _, rfl, fx_G_r1 g m, fun s h => ⟨pk_un ?_, fun q => h (fx_m_K.mp q).1⟩⟩
  rintro rfl
  exact h (fx_memK.mpr ⟨w, m⟩)
theorem fx_Fr_w1 (g : fx_G T M C B po ar mo L) : fx_Fr T M C B (va, po, ar, mo, sn, ou, tk, he, L) (fx_w1 w (va, po, ar, mo, sn, ou, tk, he, L)) := by
  cases e : fx_O w L with
  | nil => rw [fx_w1_0 e]; exact fx_Fr_0 g
  | cons t o => rw [fx_w1_1 e]; exact fx_Fr_r1 g (fx_memO.mp (by rw [e]; exact List.mem_cons_self))
/-- X's loop over a state -/
def fx_WA (post : SX → Prop) (s : Int32) (n : Nat) (x : Int32) : SX → Prop
  | (a0, a1, a2, a3, a4, a5, a6, a7, a8, a9, b0, b1, b2, b3, b4, b5, b6, b7, b8, b9, c0, c1, c2, c3) => wX_wakeAll_7 post s n x a0 a1 a2 a3 a4 a5 a6 a7 a8 a9 b0 b1 b2 b3 b4 b5 b6 b7 b8 b9 c0 c1 c2 c3
def fx_YA (post : SY → Prop) (x1 s : Int32) (n : Nat) (x : Int32) : SY → Prop
  | (a0, a1, a2, a3, a4, a5, a6, a7, a8, a9, b0, b1, b2, b3) => wY_make_703 post x1 s n x a0 a1 a2 a3 a4 a5 a6 a7 a8 a9 b0 b1 b2 b3
theorem fx_wnX {post : SX → Prop} (hw : w < M + C) : ∀ (n : Nat) (po ou tk : Nat → Int32) (L : List (Nat × Nat)) (u : SX), fx_G T M C B po ar mo L → n < 2 ^ 31 → fx_RX T M C B nw (va, po, ar, mo, sn, ou, tk, he, L) u →
    (∀ u', fx_RX T M C B nw (fx_wn w n (va, po, ar, mo, sn, ou, tk, he, L)) u' → post u') → fx_WA post (nI w) (n + 1) (nI n) u := by
  intro n
  induction n with
  | zero =>
    intro po ou tk L u g hn I k
    refine fx_xel (P := fx_WA post (nI w) 1 (nI 0)) ?_ I
    intro th rn sl bc hs dl sw qn qp bh bl tn tp f
    exact br_t (by decide) (k _ (fx_xin f))
  | succ n ih =>
    intro po ou tk L u g hn I k
    refine fx_xel (P := fx_WA post (nI w) (n + 2) (nI (n + 1))) ?_ I
    intro th rn sl bc hs dl sw qn qp bh bl tn tp f
    refine br_f (nI_nle (by omega) (by omega)) ?_
    refine fx_w1X g hw (fx_xin f) ?_
    intro u' h'
    obtain ⟨po', ou', tk', L', e, g', -⟩ := fx_Fr_w1 (w := w) (va := va) (sn := sn) (ou := ou) (tk := tk) (he := he) g
    have k' : ∀ u', fx_RX T M C B nw (fx_wn w n (fx_w1 w (va, po, ar, mo, sn, ou, tk, he, L))) u' → post u' := k
    rw [e] at h' k'
    have := ih po' ou' tk' L' u' g' (by omega) h' k'
    obtain ⟨a0, a1, a2, a3, a4, a5, a6, a7, a8, a9, b0, b1, b2, b3, b4, b5, b6, b7, b8, b9, c0, c1, c2, c3⟩ := u'
    exact nm_r (pk_m1 n) this
theorem fx_wnY {post : SY → Prop} {x1 : Int32} (hw : w < M + C) : ∀ (j i : Nat) (po ou tk : Nat → Int32) (L : List (Nat × Nat)) (v : SY), fx_G T M C B po ar mo L → i + j = 16 → fx_RY T M C B (va, po, ar, mo, sn, ou, tk, he, L) v →
    (∀ v', fx_RY T M C B (fx_wn w j (va, po, ar, mo, sn, ou, tk, he, L)) v' → wpY_end post v' x1 4) → fx_YA post x1 (nI w) (j + 1) (nI i) v := by
  intro j
  induction j with
  | zero =>
    intro i po ou tk L v g hn I k
    refine fx_yel (P := fx_YA post x1 (nI w) 1 (nI i)) ?_ I
    intro wo we f
    refine br_t ?_ (k _ (fx_yin f))
    rw [show i = 16 by omega]
    decide
  | succ j ih =>
    intro i po ou tk L v g hn I k
    refine fx_yel (P := fx_YA post x1 (nI w) (j + 2) (nI i)) ?_ I
    intro wo we f
    refine br_f (nI_ge (b := 16) (by omega) (by decide)) ?_
    refine fx_w1Y g hw (fx_yin f) ?_
    intro v' h'
    obtain ⟨po', ou', tk', L', e, g', -⟩ := fx_Fr_w1 (w := w) (va := va) (sn := sn) (ou := ou) (tk := tk) (he := he) g
    have k' : ∀ v', fx_RY T M C B (fx_wn w j (fx_w1 w (va, po, ar, mo, sn, ou, tk, he, L))) v' → wpY_end post v' x1 4 := k
    rw [e] at h' k'
    have := ih (i + 1) po' ou' tk' L' v' g' (by omega) h' k'
    obtain ⟨a0, a1, a2, a3, a4, a5, a6, a7, a8, a9, b0, b1, b2, b3⟩ := v'
    exact nm_r (nI_1 i) this
theorem fx_wn_e (e : fx_O w L = []) : ∀ n, fx_wn w n (va, po, ar, mo, sn, ou, tk, he, L) = (va, po, ar, mo, sn, ou, tk, he, L) := by
  intro n
  induction n with
  | zero => rfl
  | succ n ih =>
    show fx_wn w n (fx_w1 w (va, po, ar, mo, sn, ou, tk, he, L)) = _
    rw [fx_w1_0 e, ih]
/-- more rounds than sleepers change nothing -/
theorem fx_wn_len : ∀ (n j : Nat) (po ou tk : Nat → Int32) (L : List (Nat × Nat)), (fx_K L).Nodup → (fx_O w L).length = n → n ≤ j → fx_wn w j (va, po, ar, mo, sn, ou, tk, he, L) = fx_wn w n (va, po, ar, mo, sn, ou, tk, he, L) := by
  intro n
  induction n with
  | zero =>
    intro j po ou tk L nd h _
    exact fx_wn_e (List.eq_nil_of_length_eq_zero h) j
  | succ n ih =>
    intro j po ou tk L nd h hj
    obtain ⟨j, rfl⟩ : ∃ m, j = m + 1 := ⟨j - 1, by omega⟩
    cases e : fx_O w L with
    | nil => rw [e] at h; cases h
    | cons t o =>
      show fx_wn w j (fx_w1 w (va, po, ar, mo, sn, ou, tk, he, L)) = fx_wn w n (fx_w1 w (va, po, ar, mo, sn, ou, tk, he, L))
      rw [fx_w1_1 e]
      have := fx_O_tl nd e
      rw [e, List.length_cons] at h
      exact ih j _ _ _ (fx_m t L) (fx_m_nd nd) (by rw [this]; omega) (by omega)
theorem fx_Fr_tr {po' ou' tk' : Nat → Int32} {L' : List (Nat × Nat)} {c : fx_A} (h : ∀ s, s ∉ fx_K L → po' s = po s ∧ s ∉ fx_K L') (h2 : fx_Fr T M C B (va, po', ar, mo, sn, ou', tk', he, L') c) : fx_Fr T M C B (va, po, ar, mo, sn, ou, tk, he, L) c := by
  obtain ⟨po2, ou2, tk2, L2, e, g, f⟩ := h2
  exact ⟨po2, ou2, tk2, L2, e, g, fun s q => ⟨((f s (h s q).2).1).trans (h s q).1, (f s (h s q).2).2⟩⟩
theorem fx_Fr_wn : ∀ (n : Nat) (po ou tk : Nat → Int32) (L : List (Nat × Nat)), fx_G T M C B po ar mo L → fx_Fr T M C B (va, po, ar, mo, sn, ou, tk, he, L) (fx_wn w n (va, po, ar, mo, sn, ou, tk, he, L)) := by
  intro n
  induction n with
  | zero => intro po ou tk L g; exact fx_Fr_0 g
  | succ n ih =>
    intro po ou tk L g
    obtain ⟨po', ou', tk', L', e, g', h⟩ := fx_Fr_w1 (w := w) (va := va) (sn := sn) (ou := ou) (tk := tk) (he := he) g
    show fx_Fr T M C B (va, po, ar, mo, sn, ou, tk, he, L) (fx_wn w n (fx_w1 w (va, po, ar, mo, sn, ou, tk, he, L)))
    rw [e]
    exact fx_Fr_tr h (ih po' ou' tk' L' g')
end
end
section
/-! all sleepers of a word are moved to another -/
def fx_q1 (s m : Nat) (L : List (Nat × Nat)) : List (Nat × Nat) := match fx_O s L with
  | [] => L
  | t :: _ => fx_m t L ++ [(t, m)]
def fx_qn (s m : Nat) : Nat → List (Nat × Nat) → List (Nat × Nat)
  | 0, L => L
  | n + 1, L => fx_qn s m n (fx_q1 s m L)
theorem fx_q1_1 {s m t : Nat} {o : List Nat} {L : List (Nat × Nat)} (e : fx_O s L = t :: o) : fx_q1 s m L = fx_m t L ++ [(t, m)] := by
  unfold fx_q1
  rw [e]
theorem fx_q1_0 {s m : Nat} {L : List (Nat × Nat)} (e : fx_O s L = []) : fx_q1 s m L = L := by
  unfold fx_q1
  rw [e]
theorem fx_mv_K {t m x w : Nat} {L : List (Nat × Nat)} (h : (t, w) ∈ L) : x ∈ fx_K (fx_m t L ++ [(t, m)]) ↔ x ∈ fx_K L := by
  rw [fx_Kapp, List.mem_append, fx_m_K]
  show _ ∨ x ∈ [t] ↔ _
  rw [List.mem_singleton]
  constructor
  · rintro (⟨a, -⟩ | rfl)
    · exact a
    · exact fx_memK.mpr ⟨w, h⟩
  · intro a
    by_cases c : x = t
    · exact Or.inr c
    · exact Or.inl ⟨a, c⟩
theorem fx_mv_nd {t m : Nat} {L : List (Nat × Nat)} (nd : (fx_K L).Nodup) : (fx_K (fx_m t L ++ [(t, m)])).Nodup := by
  rw [fx_Kapp]
  refine List.nodup_append.mpr ⟨fx_m_nd nd, by simp [fx_K], fun x hx y hy => ?_⟩
  have : y = t := List.mem_singleton.mp hy
  have := (fx_m_K.mp hx).2
  omega
theorem fx_mv_O {s m t : Nat} {o : List Nat} {L : List (Nat × Nat)} (nd : (fx_K L).Nodup) (h : ¬ m = s) (e : fx_O s L = t :: o) : fx_O s (fx_m t L ++ [(t, m)]) = o := by
  rw [fx_Oapp, fx_O_tl nd e, fx_O_1 h, List.append_nil]
theorem fx_qn_K {s m x : Nat} : ∀ (n : Nat) (L : List (Nat × Nat)), x ∈ fx_K (fx_qn s m n L) ↔ x ∈ fx_K L := by
  intro n
  induction n with
  | zero => intro L; exact Iff.rfl
  | succ n ih =>
    intro L
    show x ∈ fx_K (fx_qn s m n (fx_q1 s m L)) ↔ _
    rw [ih]
    cases e : fx_O s L with
    | nil => rw [fx_q1_0 e]
    | cons t o => rw [fx_q1_1 e, fx_mv_K (fx_memO.mp (by rw [e]; exact List.mem_cons_self))]
section
variable {T M C B nw : Nat} {th rn : Int32} {va sl bc po ar mo sn ou hs : Nat → Int32} {dl : Nat → Int64} {sw qn qp bh bl tn tp tk he wo we : Nat → Int32} {L : List (Nat × Nat)} {t w : Nat} {z : Int32}
theorem fx_G_qn {s m : Nat} (hm : m < M + C) : ∀ (n : Nat) (L : List (Nat × Nat)), fx_G T M C B po ar mo L → fx_G T M C B po ar mo (fx_qn s m n L) := by
  intro n
  induction n with
  | zero => intro L g; exact g
  | succ n ih =>
    intro L g
    refine ih _ ?_
    cases e : fx_O s L with
    | nil => rw [fx_q1_0 e]; exact g
    | cons t o => rw [fx_q1_1 e]; exact fx_G_rq g (fx_memO.mp (by rw [e]; exact List.mem_cons_self)) hm
theorem fx_rq15 {post : SX → Prop} {s m : Nat} (hB : 1 ≤ B ∧ B ≤ 8) (hT : T ≤ 16) (hss : s < 16) (hm : m < 16) (hsm : ¬ m = s) :
    ∀ (l2 : List Nat) (n i : Nat) (L : List (Nat × Nat)) (sl sw qn qp bh bl : Nat → Int32) (x3 : Int32), (fx_K L).Nodup → (∀ t v, (t, v) ∈ L → t < 16 ∧ v < 16) →
      fx_QF B sl sw qn qp bh bl L → l2.length < n → i + l2.length ≤ T → (∃ d mv, fx_Q B (s % B) L = d ++ (l2 ++ mv)) → l2.filter (fun x => decide (sw x = nI s)) = fx_O s L →
      (∀ t l, l2 = t :: l → x3 = nI t) →
      (∀ sl' sw' qn' qp' bh' bl' : Nat → Int32, fx_QF B sl' sw' qn' qp' bh' bl' (fx_qn s m (fx_O s L).length L) → post (nI T, nI M, nI C, nI B, lN nw, th, rn, va, sl', bc, po, ar, mo, sn, ou, hs, dl, sw', qn', qp', bh', bl', tn, tp)) →
      wX_requeueAll_15 post (nI s) (nI m) n x3 (nI i) (nI T) (nI M) (nI C) (nI B) (lN nw) th rn va sl bc po ar mo sn ou hs dl sw qn qp bh bl tn tp := by
  intro l2
  have cs : (nI s).toNatClampNeg = s := nI_clamp (by omega)
  have is : vp_in (nI s) 16 := vp_in_nI hss (by decide)
  induction l2 with
  | nil =>
    intro n i L sl sw qn qp bh bl x3 nd hL fq hn hi hq hf hx k
    obtain ⟨n, rfl⟩ : ∃ m, n = m + 1 := ⟨n - 1, by rw [List.length_nil] at hn; omega⟩
    have e : fx_O s L = [] := hf.symm
    have e0 := fq.1 s hss
    rw [e] at k e0
    have K := k _ _ _ _ _ _ fq
    rw [wX_requeueAll_15, cs]
    exact br_c (fun _ => K) (fun _ => br_c (fun _ => K) (fun _ => And.intro is (br_t (by rw [e0]; decide) K)))
  | cons t l ih =>
    intro n i L sl sw qn qp bh bl x3 nd hL fq hn hi hq hf hx k
    rw [List.length_cons] at hn hi
    obtain ⟨n, rfl⟩ : ∃ m, n = m + 1 := ⟨n - 1, by omega⟩
    have := hx t l rfl
    subst this
    obtain ⟨d, mv, hq⟩ := hq
    have hb : s % B < 8 := by have := Nat.mod_lt s (show B > 0 by omega); omega
    have mt : t ∈ fx_Q B (s % B) L := by rw [hq]; simp
    have mK := fx_memQ.mp mt
    have ht : t < 16 := by
      obtain ⟨v, q, -⟩ := mK
      exact (hL t v q).1
    have ct : (nI t).toNatClampNeg = t := nI_clamp (by omega)
    have it : vp_in (nI t) 16 := vp_in_nI ht (by decide)
    have e0 := fq.1 s hss
    have en : qn t = fx_h (l ++ mv) := ((fq.2.2.2 (s % B) hb).1 d t (l ++ mv) hq).1
    have nq := fx_Qnd (B := B) (b := s % B) nd
    rw [hq] at nq
    have nt : t ∉ l := fun q => (fx_nd (l1 := d) (t := t) (l2 := l ++ mv) nq).2.1 (List.mem_append_left _ q)
    rw [wX_requeueAll_15]
    dsimp only
    rw [cs, ct]
    refine br_f (nI_ge (by omega) (by omega)) (br_f (nI_pos (n := t) (by omega)) (And.intro is ?_))
    by_cases c0 : fx_O s L = []
    · rw [c0] at k e0
      exact br_t (by rw [e0]; decide) (k _ _ _ _ _ _ fq)
    · have ol := fx_Olen (w := s) (T := 16) nd (fun t v q => (hL t v q).1)
      have op : 0 < (fx_O s L).length := List.length_pos_iff.mpr c0
      refine br_f (by rw [e0]; exact nI_nle op (by omega)) (And.intro it (nm_r en (And.intro it ?_)))
      by_cases c : sw t = nI s
      · refine br_t c ?_
        rw [List.filter_cons, if_pos (decide_eq_true c)] at hf
        have ho : fx_O s L = t :: fx_O s (fx_m t L) := by rw [fx_O_tl nd hf.symm]; exact hf.symm
        have mL : (t, s) ∈ L := fx_memO.mp (by rw [ho]; exact List.mem_cons_self)
        have mo2 := fx_mv_O (m := m) nd hsm ho
        have k2 : ∀ sl' sw' qn' qp' bh' bl' : Nat → Int32, fx_QF B sl' sw' qn' qp' bh' bl' (fx_qn s m (fx_O s (fx_m t L)).length (fx_m t L ++ [(t, m)])) → post (nI T, nI M, nI C, nI B, lN nw, th, rn, va, sl', bc, po, ar, mo, sn, ou, hs, dl, sw', qn', qp', bh', bl', tn, tp) := by
          rw [ho, List.length_cons] at k
          rw [← fx_q1_1 ho]
          exact k
        clear k
        have e5 := hf
        obtain ⟨L1, L2, eL⟩ := List.append_of_mem mL
        have em : fx_m t L = L1 ++ L2 := by rw [eL] at nd ⊢; exact fx_m_split nd
        have nd2 := nd
        have hL2 := hL
        have fq2 := fq
        rw [eL] at nd2 hL2 fq2
        refine fx_dq hB hL2 nd2 fq2 ?_
        intro sl' sw' qn' qp' bh' bl' fq'
        rw [← em] at fq'
        refine fx_eq hB ht hm (fun x v q => hL x v (fx_m_mem.mp q).1) (fx_m_nd nd) (fun q => (fx_m_K.mp q).2 rfl) fq' ?_
        intro sl'' sw'' qn'' qp'' bh'' bl'' fq''
        refine nm_r (nI_1 i) ?_
        refine ih n (i + 1) (fx_m t L ++ [(t, m)]) sl'' sw'' qn'' qp'' bh'' bl'' (fx_h (l ++ mv)) (fx_mv_nd nd) ?_ fq'' (by omega) (by omega) ?_ ?_ ?_ ?_
        · intro x v q
          rcases List.mem_append.mp q with q | q
          · exact hL x v (fx_m_mem.mp q).1
          · have := List.mem_singleton.mp q
            cases this
            exact ⟨ht, hm⟩
        · rw [fx_Qapp, fx_Q_m, hq]
          have e6 : (d ++ (t :: l ++ mv)).filter (fun s => decide (¬ s = t)) = d ++ (l ++ mv) := fx_f_mid (d := d) (r := l ++ mv) nq
          rw [e6]
          exact ⟨d, mv ++ fx_Q B (s % B) [(t, m)], by simp⟩
        · rw [mo2, fx_O_tl nd hf.symm]
          refine List.filter_congr (fun x hx2 => ?_)
          have mx : x ∈ fx_Q B (s % B) L := by rw [hq]; simp [hx2]
          obtain ⟨v, q, -⟩ := fx_memQ.mp mx
          have xt : x ≠ t := fun e => nt (e ▸ hx2)
          rw [fq.2.1 x v q, fq''.2.1 x v (List.mem_append_left _ (fx_m_mem.mpr ⟨q, xt⟩))]
        · intro t' l' e
          rw [e]
          rfl
        · rw [mo2]
          exact k2
      · refine br_f c (nm_r (nI_1 i) ?_)
        rw [List.filter_cons, if_neg (by rw [decide_eq_false c]; decide)] at hf
        refine ih n (i + 1) L sl sw qn qp bh bl (fx_h (l ++ mv)) nd hL fq (by omega) (by omega) ⟨d ++ [t], mv, by rw [hq]; simp⟩ hf ?_ k
        intro t' l' e
        rw [e]
        rfl
theorem fx_rqX {post : SX → Prop} {u : SX} {s m : Nat} (g : fx_G T M C B po ar mo L) (hs : s < M + C) (hm : m < M + C) (hsm : ¬ m = s) (I : fx_RX T M C B nw (va, po, ar, mo, sn, ou, tk, he, L) u)
    (k : ∀ u', fx_RX T M C B nw (va, po, ar, mo, sn, ou, tk, he, fx_qn s m (fx_O s L).length L) u' → post u') : wpX_requeueAll post u (nI s) (nI m) := by
  refine fx_xel (P := fun u => wpX_requeueAll post u (nI s) (nI m)) ?_ I
  clear I
  intro th rn sl bc hs' dl sw qn qp bh bl tn tp f
  obtain ⟨fn, fq, fb, fh, fl, ⟨TL, ft, fk⟩, fr⟩ := f
  have g4 := g.1
  unfold fx_B4 at g4
  have hb : s % B < 8 := by have := Nat.mod_lt s (show B > 0 by omega); omega
  have er : nI s - nI s / nI B * nI B = nI (s % B) := pk_rem (by omega) (by omega) (by omega)
  have ql := fx_Qlen (B := B) (b := s % B) (T := T) g.2.1 (fun s v q => (g.2.2.1 s v q).1)
  obtain ⟨-, eh, -⟩ := fq.2.2.2 (s % B) hb
  unfold wpX_requeueAll
  dsimp only
  rw [er, nI_clamp (show s % B < 2 ^ 31 by omega)]
  refine And.intro (nI_ne0 (by omega) (by omega)) (And.intro (vp_in_nI hb (by decide)) (nm_r eh ⟨T + 1, ?_⟩))
  refine fx_rq15 ⟨by omega, by omega⟩ (by omega) (by omega) (by omega) hsm (fx_Q B (s % B) L) (T + 1) 0 L sl sw qn qp bh bl (fx_h (fx_Q B (s % B) L)) g.2.1 (fx_G16 g) fq (by omega) (by omega)
    ⟨[], [], by simp⟩ (fx_QO (by omega) L (fun t v q => ⟨fq.2.1 t v q, (fx_G16 g t v q).2⟩)) (fun t l e => by rw [e]; rfl) ?_
  intro sl' sw' qn' qp' bh' bl' fq'
  refine k _ (fx_xin ⟨fn, fq', fb, fh, fl, ⟨TL, ft, fun x => ?_⟩, fun i hi => ?_⟩)
  · rw [fx_qn_K]
    exact fk x
  · rw [fr i hi]
    simp only [fx_qn_K]
def fx_YQ (post : SY → Prop) (x1 x4 s : Int32) (n : Nat) (x : Int32) : SY → Prop
  | (a0, a1, a2, a3, a4, a5, a6, a7, a8, a9, b0, b1, b2, b3) => wY_make_645 post x1 x4 s n x a0 a1 a2 a3 a4 a5 a6 a7 a8 a9 b0 b1 b2 b3
theorem fx_rqY {post : SY → Prop} {x1 : Int32} {s m : Nat} (hs : s < M + C) (hm : m < M + C) (hsm : ¬ m = s) : ∀ (j i : Nat) (L : List (Nat × Nat)) (v : SY), fx_G T M C B po ar mo L → i + j = 16 →
    (fx_O s L).length ≤ j → fx_RY T M C B (va, po, ar, mo, sn, ou, tk, he, L) v → (∀ v', fx_RY T M C B (va, po, ar, mo, sn, ou, tk, he, fx_qn s m (fx_O s L).length L) v' → wpY_end post v' x1 4) → fx_YQ post x1 (nI m) (nI s) (j + 1) (nI i) v := by
  intro j
  induction j with
  | zero =>
    intro i L v g hn ho I k
    have e : fx_O s L = [] := List.eq_nil_of_length_eq_zero (by omega)
    rw [e] at k
    refine fx_yel (P := fx_YQ post x1 (nI m) (nI s) 1 (nI i)) ?_ I
    intro wo we f
    refine br_t ?_ (k _ (fx_yin f))
    rw [show i = 16 by omega]
    decide
  | succ j ih =>
    intro i L v g hn ho I k
    refine fx_yel (P := fx_YQ post x1 (nI m) (nI s) (j + 2) (nI i)) ?_ I
    intro wo we f
    have g4 := g.1
    unfold fx_B4 at g4
    have hl := fx_len g
    refine br_f (nI_ge (b := 16) (by omega) (by decide)) ?_
    refine fx_foY (by omega) (fx_G16 g) (by omega) f ?_
    cases e : fx_O s L with
    | nil =>
      refine br_t fx_h_neg (nm_r (nI_1 i) ?_)
      exact ih (i + 1) L (nI T, nI M, nI C, nI B, nI L.length, va, po, ar, tk, sn, ou, he, wo, we) g (by omega) (by rw [e]; exact Nat.zero_le _) (fx_yin f) k
    | cons t o =>
      have mL : (t, s) ∈ L := fx_memO.mp (by rw [e]; exact List.mem_cons_self)
      have h16 := fx_G16 g t s mL
      have mo2 := fx_mv_O (m := m) g.2.1 hsm e
      have g' := fx_G_rq g mL hm
      have hl' := fx_len g'
      rw [List.length_append] at hl'
      have hl2 : (fx_m t L).length + 1 ≤ T := hl'
      refine br_f (nI_pos (n := t) (by omega)) ?_
      refine fx_lvY (by omega) (fx_G16 g) g.2.1 mL f ?_
      intro wo' we' f'
      refine fx_jnY (by omega) f' ?_
      intro wo'' we'' f''
      refine nm_r (nI_1 i) ?_
      refine ih (i + 1) (fx_m t L ++ [(t, m)]) (nI T, nI M, nI C, nI B, nI (fx_m t L ++ [(t, m)]).length, va, po, ar, tk, sn, ou, he, wo'', we'') g' (by omega) ?_ (fx_yin f'') ?_
      · rw [mo2]
        rw [e, List.length_cons] at ho
        omega
      · rw [mo2]
        rw [e, List.length_cons] at k
        rw [← fx_q1_1 e]
        exact k
end
end
section
/-! X's step methods -/
section
variable {T M C B nw : Nat} {th rn : Int32} {va sl bc po ar mo sn ou hs : Nat → Int32} {dl : Nat → Int64} {sw qn qp bh bl tn tp tk he wo we : Nat → Int32} {L : List (Nat × Nat)} {t w y : Nat} {z r sp : Int32}
theorem fx_ieX {post : Int32 → Prop} (ht : t < 16) (hn : nw ≤ 3000000) (h : fx_LK nw (dl t) (tk t)) (k1 : tk t = 0 → post 1) (k0 : ¬ tk t = 0 → post 0) : wpX_isExpired post (nI T, nI M, nI C, nI B, lN nw, th, rn, va, sl, bc, po, ar, mo, sn, ou, hs, dl, sw, qn, qp, bh, bl, tn, tp) (nI t) := by
  have ct : (nI t).toNatClampNeg = t := nI_clamp (by omega)
  have i1 : vp_in (nI t) 16 := vp_in_nI ht (by decide)
  unfold wpX_isExpired
  dsimp only
  rw [ct]
  refine And.intro i1 ?_
  rcases h with ⟨h1, h2⟩ | ⟨e, h0, h1, h2⟩
  · exact br_t (by rw [h1]; decide) (k0 (by rw [h2]; decide))
  · rw [h2] at k1 k0
    rw [h1]
    refine br_f (fun q => ?_) (And.intro i1 ?_)
    · have q' : lN e < lN 0 := q
      rw [lN_lt (by omega) (by omega)] at q'
      omega
    · by_cases c : nw < e
      · refine br_t ((lN_lt (by omega) (by omega)).mpr c) (k0 (nI_ne0 (by omega) (by omega)))
      · refine br_f (fun q => c ((lN_lt (by omega) (by omega)).mp q)) (k1 ?_)
        rw [show e - nw = 0 by omega]
        rfl
theorem fx_tfX {post : Int32 → SX → Prop} {u : SX} (g : fx_G T M C B po ar mo L) (ht : t < T) (hp : ¬ po t = 0) (nt : t ∉ fx_K L) (hm : mo t = nI y) (hy : y < 8) (I : fx_RX T M C B nw (va, po, ar, mo, sn, ou, tk, he, L) u)
    (k1 : va y = 0 → ∀ u', fx_RX T M C B nw (upd va y 1, upd po t 0, ar, mo, sn, upd ou t 1, upd tk t (-1), upd he (t * 8 + y) 1, L) u' → post 1 u') (k0 : ¬ va y = 0 → ∀ u', fx_RX T M C B nw (va, po, ar, mo, sn, ou, tk, he, L) u' → post 0 u') : wpX_takeIfFree post u (nI t) := by
  refine fx_xel (P := fun u => wpX_takeIfFree post u (nI t)) ?_ I
  clear I
  intro th rn sl bc hs dl sw qn qp bh bl tn tp f
  have g4 := g.1
  unfold fx_B4 at g4
  have ct : (nI t).toNatClampNeg = t := nI_clamp (by omega)
  have cy : (nI y).toNatClampNeg = y := nI_clamp (by omega)
  have i1 : vp_in (nI t) 16 := vp_in_nI (by omega) (by decide)
  have iy : vp_in (nI y) 16 := vp_in_nI (by omega) (by decide)
  unfold wpX_takeIfFree
  dsimp only
  rw [ct]
  refine And.intro i1 (nm_r hm ?_)
  rw [cy]
  refine And.intro iy (br_c (fun e => And.intro iy (nm_e ?_)) (fun e => k0 e _ (fx_xin f)))
  exact fx_acqX g ht hp nt hm hy (fx_xin f) (fun u' h' => k1 e u' h')
theorem fx_ltX {post : SX → Prop} {u : SX} (g : fx_G T M C B po ar mo L) (ht : t < T) (hp : ¬ po t = 0) (nt : t ∉ fx_K L) (hm : mo t = nI y) (hy : y < 8) (I : fx_RX T M C B nw (va, po, ar, mo, sn, ou, tk, he, L) u)
    (k1 : va y = 0 → ∀ u', fx_RX T M C B nw (upd va y 1, upd po t 0, ar, mo, sn, upd ou t 1, upd tk t (-1), upd he (t * 8 + y) 1, L) u' → post u') (k0 : ¬ va y = 0 → ∀ u', fx_RX T M C B nw (va, upd po t 2, ar, mo, sn, ou, tk, he, L) u' → post u') : wpX_lockTry post u (nI t) := by
  refine fx_xel (P := fun u => wpX_lockTry post u (nI t)) ?_ I
  clear I
  intro th rn sl bc hs dl sw qn qp bh bl tn tp f
  have g4 := g.1
  unfold fx_B4 at g4
  have ct : (nI t).toNatClampNeg = t := nI_clamp (by omega)
  have cy : (nI y).toNatClampNeg = y := nI_clamp (by omega)
  have i1 : vp_in (nI t) 16 := vp_in_nI (by omega) (by decide)
  have iy : vp_in (nI y) 16 := vp_in_nI (by omega) (by decide)
  unfold wpX_lockTry
  dsimp only
  refine fx_tfX g ht hp nt hm hy (fx_xin f) (fun e u' h' => ?_) (fun e u' h' => ?_)
  · obtain ⟨a0, a1, a2, a3, a4, a5, a6, a7, a8, a9, b0, b1, b2, b3, b4, b5, b6, b7, b8, b9, c0, c1, c2, c3⟩ := u'
    exact br_f (by decide) (k1 e _ h')
  · obtain ⟨a0, a1, a2, a3, a4, a5, a6, a7, a8, a9, b0, b1, b2, b3, b4, b5, b6, b7, b8, b9, c0, c1, c2, c3⟩ := u'
    exact br_t rfl (fx_mvX g ht hp (by decide) h' (fun u' h' => k0 e u' h'))
theorem fx_toX {post : SX → Prop} {u : SX} (g : fx_G T M C B po ar mo L) (ht : t < T) (hp : ¬ po t = 0) (nt : t ∉ fx_K L) (hm : mo t = nI y) (hy : y < 8) (I : fx_RX T M C B nw (va, po, ar, mo, sn, ou, tk, he, L) u)
    (k1 : va y = 0 → ∀ u', fx_RX T M C B nw (upd va y 1, upd po t 0, ar, mo, sn, upd ou t 1, upd tk t (-1), upd he (t * 8 + y) 1, L) u' → post u') (k0 : ¬ va y = 0 → ∀ u', fx_RX T M C B nw (va, upd po t 0, ar, mo, sn, upd ou t 2, upd tk t (-1), he, L) u' → post u') : wpX_tryOnce post u (nI t) := by
  refine fx_xel (P := fun u => wpX_tryOnce post u (nI t)) ?_ I
  clear I
  intro th rn sl bc hs dl sw qn qp bh bl tn tp f
  have g4 := g.1
  unfold fx_B4 at g4
  have ct : (nI t).toNatClampNeg = t := nI_clamp (by omega)
  have cy : (nI y).toNatClampNeg = y := nI_clamp (by omega)
  have i1 : vp_in (nI t) 16 := vp_in_nI (by omega) (by decide)
  have iy : vp_in (nI y) 16 := vp_in_nI (by omega) (by decide)
  unfold wpX_tryOnce
  dsimp only
  refine fx_tfX g ht hp nt hm hy (fx_xin f) (fun e u' h' => ?_) (fun e u' h' => ?_)
  · obtain ⟨a0, a1, a2, a3, a4, a5, a6, a7, a8, a9, b0, b1, b2, b3, b4, b5, b6, b7, b8, b9, c0, c1, c2, c3⟩ := u'
    exact br_f (by decide) (k1 e _ h')
  · obtain ⟨a0, a1, a2, a3, a4, a5, a6, a7, a8, a9, b0, b1, b2, b3, b4, b5, b6, b7, b8, b9, c0, c1, c2, c3⟩ := u'
    exact br_t rfl (fx_endX g ht hp nt h' (fun u' h' => k0 e u' h'))
theorem fx_siX {post : SX → Prop} {u : SX} (g : fx_G T M C B po ar mo L) (ht : t < T) (hp : ¬ po t = 0) (nt : t ∉ fx_K L) (hm : mo t = nI y) (hy : y < 8) (I : fx_RX T M C B nw (va, po, ar, mo, sn, ou, tk, he, L) u)
    (hsp : ¬ sp = 0) (k1 : va y = 0 → ∀ u', fx_RX T M C B nw (upd va y 2, upd po t 0, ar, mo, sn, upd ou t r, upd tk t (-1), upd he (t * 8 + y) 1, L) u' → post u') (k0 : ¬ va y = 0 → ∀ u', fx_RX T M C B nw (upd va y 2, upd po t sp, ar, mo, sn, ou, tk, he, L) u' → post u') : wpX_swapIn post u (nI t) r sp := by
  refine fx_xel (P := fun u => wpX_swapIn post u (nI t) r sp) ?_ I
  clear I
  intro th rn sl bc hs dl sw qn qp bh bl tn tp f
  have g4 := g.1
  unfold fx_B4 at g4
  have ct : (nI t).toNatClampNeg = t := nI_clamp (by omega)
  have cy : (nI y).toNatClampNeg = y := nI_clamp (by omega)
  have i1 : vp_in (nI t) 16 := vp_in_nI (by omega) (by decide)
  have iy : vp_in (nI y) 16 := vp_in_nI (by omega) (by decide)
  unfold wpX_swapIn
  dsimp only
  rw [ct]
  refine And.intro i1 (nm_r hm ?_)
  rw [cy]
  refine And.intro iy (nm_e (And.intro iy (nm_e (br_c (fun e => ?_) (fun e => ?_)))))
  · exact fx_acqX g ht hp nt hm hy (fx_xin f) (fun u' h' => k1 e u' h')
  · exact fx_mvX g ht hp hsp (fx_xin f) (fun u' h' => k0 e u' h')
theorem fx_soX {post : Int32 → SX → Prop} {u : SX} (g : fx_G T M C B po ar mo L) (ht : t < T) (hp : ¬ po t = 0) (nt : t ∉ fx_K L) (hm : mo t = nI y) (hy : y < 8) (I : fx_RX T M C B nw (va, po, ar, mo, sn, ou, tk, he, L) u)
    (k1 : va y = 2 → ∀ u', fx_RX T M C B nw (upd va y 0, po, ar, mo, sn, ou, tk, upd he (t * 8 + y) 0, L) u' → post 1 u') (k0 : ¬ va y = 2 → ∀ u', fx_RX T M C B nw (upd va y 0, po, ar, mo, sn, ou, tk, upd he (t * 8 + y) 0, L) u' → post 0 u') : wpX_swapOut post u (nI t) := by
  refine fx_xel (P := fun u => wpX_swapOut post u (nI t)) ?_ I
  clear I
  intro th rn sl bc hs dl sw qn qp bh bl tn tp f
  have g4 := g.1
  unfold fx_B4 at g4
  have ct : (nI t).toNatClampNeg = t := nI_clamp (by omega)
  have cy : (nI y).toNatClampNeg = y := nI_clamp (by omega)
  have i1 : vp_in (nI t) 16 := vp_in_nI (by omega) (by decide)
  have iy : vp_in (nI y) 16 := vp_in_nI (by omega) (by decide)
  unfold wpX_swapOut
  dsimp only
  rw [ct]
  obtain ⟨fn, fq, fb, fh, fl, ft, fr⟩ := f
  refine And.intro i1 (nm_r hm ?_)
  rw [cy]
  have I2 := fx_xin (M := M) (C := C) (va := upd va y 0) (ar := ar) (sn := sn) (ou := ou) ⟨fn, fq, fb, fx_HF_clr (t := t) fh hy, fl, ft, fr⟩
  exact And.intro iy (nm_e (And.intro iy (nm_e (And.intro i1 (And.intro i1 (nm_e (br_c (fun e => k1 e _ I2) (fun e => k0 e _ I2))))))))
theorem fx_usX {post : SX → Prop} {u : SX} (g : fx_G T M C B po ar mo L) (ht : t < T) (hp : ¬ po t = 0) (nt : t ∉ fx_K L) (hm : mo t = nI y) (hy : y < 8) (I : fx_RX T M C B nw (va, po, ar, mo, sn, ou, tk, he, L) u)
    (k1 : va y = 2 → ∀ u', fx_RX T M C B nw (upd va y 0, upd po t 6, ar, mo, sn, ou, tk, upd he (t * 8 + y) 0, L) u' → post u') (k0 : ¬ va y = 2 → ∀ u', fx_RX T M C B nw (upd va y 0, upd po t 0, ar, mo, sn, upd ou t 4, upd tk t (-1), upd he (t * 8 + y) 0, L) u' → post u') : wpX_unlockSwap post u (nI t) := by
  refine fx_xel (P := fun u => wpX_unlockSwap post u (nI t)) ?_ I
  clear I
  intro th rn sl bc hs dl sw qn qp bh bl tn tp f
  have g4 := g.1
  unfold fx_B4 at g4
  have ct : (nI t).toNatClampNeg = t := nI_clamp (by omega)
  have cy : (nI y).toNatClampNeg = y := nI_clamp (by omega)
  have i1 : vp_in (nI t) 16 := vp_in_nI (by omega) (by decide)
  have iy : vp_in (nI y) 16 := vp_in_nI (by omega) (by decide)
  unfold wpX_unlockSwap
  dsimp only
  refine fx_soX g ht hp nt hm hy (fx_xin f) (fun e u' h' => ?_) (fun e u' h' => ?_)
  · obtain ⟨a0, a1, a2, a3, a4, a5, a6, a7, a8, a9, b0, b1, b2, b3, b4, b5, b6, b7, b8, b9, c0, c1, c2, c3⟩ := u'
    exact br_f (by decide) (fx_mvX g ht hp (by decide) h' (fun u' h' => k1 e u' h'))
  · obtain ⟨a0, a1, a2, a3, a4, a5, a6, a7, a8, a9, b0, b1, b2, b3, b4, b5, b6, b7, b8, b9, c0, c1, c2, c3⟩ := u'
    exact br_t rfl (fx_endX g ht hp nt h' (fun u' h' => k0 e u' h'))
theorem fx_wsX {post : SX → Prop} {u : SX} (g : fx_G T M C B po ar mo L) (ht : t < T) (hp : ¬ po t = 0) (nt : t ∉ fx_K L) (hm : mo t = nI y) (hy : y < 8) (I : fx_RX T M C B nw (va, po, ar, mo, sn, ou, tk, he, L) u)
    (k1 : va y = 2 → ∀ u', fx_RX T M C B nw (upd va y 0, upd po t 9, ar, mo, sn, ou, tk, upd he (t * 8 + y) 0, L) u' → post u') (k0 : ¬ va y = 2 → ∀ u', fx_RX T M C B nw (upd va y 0, upd po t 10, ar, mo, sn, ou, tk, upd he (t * 8 + y) 0, L) u' → post u') : wpX_waitSwap post u (nI t) := by
  refine fx_xel (P := fun u => wpX_waitSwap post u (nI t)) ?_ I
  clear I
  intro th rn sl bc hs dl sw qn qp bh bl tn tp f
  have g4 := g.1
  unfold fx_B4 at g4
  have ct : (nI t).toNatClampNeg = t := nI_clamp (by omega)
  have cy : (nI y).toNatClampNeg = y := nI_clamp (by omega)
  have i1 : vp_in (nI t) 16 := vp_in_nI (by omega) (by decide)
  have iy : vp_in (nI y) 16 := vp_in_nI (by omega) (by decide)
  unfold wpX_waitSwap
  dsimp only
  refine fx_soX g ht hp nt hm hy (fx_xin f) (fun e u' h' => ?_) (fun e u' h' => ?_)
  · obtain ⟨a0, a1, a2, a3, a4, a5, a6, a7, a8, a9, b0, b1, b2, b3, b4, b5, b6, b7, b8, b9, c0, c1, c2, c3⟩ := u'
    refine br_f (by decide) ?_
    exact fx_mvX g ht hp (by decide) h' (fun u' h' => k1 e u' h')
  · obtain ⟨a0, a1, a2, a3, a4, a5, a6, a7, a8, a9, b0, b1, b2, b3, b4, b5, b6, b7, b8, b9, c0, c1, c2, c3⟩ := u'
    refine br_t rfl ?_
    exact fx_mvX g ht hp (by decide) h' (fun u' h' => k0 e u' h')
theorem fx_lsX {post : SX → Prop} {u : SX} (g : fx_G T M C B po ar mo L) (ht : t < T) (hp : ¬ po t = 0) (nt : t ∉ fx_K L) (hm : mo t = nI y) (hy : y < 8) (I : fx_RX T M C B nw (va, po, ar, mo, sn, ou, tk, he, L) u)
    (hyM : y < M) (k2 : va y = 2 → tk t = 0 → ∀ u', fx_RX T M C B nw (va, upd po t 0, ar, mo, sn, upd ou t 3, upd tk t (-1), he, L) u' → post u') (k1 : va y = 2 → ¬ tk t = 0 → ∀ u', fx_RX T M C B nw (va, po, ar, mo, sn, ou, tk, he, L ++ [(t, y)]) u' → post u') (k0 : ¬ va y = 2 → ∀ u', fx_RX T M C B nw (va, upd po t 2, ar, mo, sn, ou, tk, he, L) u' → post u') : wpX_lockSleep post u (nI t) := by
  refine fx_xel (P := fun u => wpX_lockSleep post u (nI t)) ?_ I
  clear I
  intro th rn sl bc hs dl sw qn qp bh bl tn tp f
  have g4 := g.1
  unfold fx_B4 at g4
  have ct : (nI t).toNatClampNeg = t := nI_clamp (by omega)
  have cy : (nI y).toNatClampNeg = y := nI_clamp (by omega)
  have i1 : vp_in (nI t) 16 := vp_in_nI (by omega) (by decide)
  have iy : vp_in (nI y) 16 := vp_in_nI (by omega) (by decide)
  unfold wpX_lockSleep
  dsimp only
  rw [ct]
  refine And.intro i1 (nm_r hm ?_)
  rw [cy]
  refine And.intro iy (br_c (fun e => ?_) (fun e => ?_))
  · refine fx_ieX (by omega) f.1 (f.2.2.2.2.1 t ht) (fun c => ?_) (fun c => ?_)
    · exact br_f (by decide) (fx_endX g ht hp nt (fx_xin f) (fun u' h' => k2 e c u' h'))
    · exact br_t rfl (fx_slpX g ht (by omega) nt (fx_xin f) (fun u' h' => k1 e c u' h'))
  · exact fx_mvX g ht hp (by decide) (fx_xin f) (fun u' h' => k0 e u' h')
theorem fx_rsX {post : SX → Prop} {u : SX} (g : fx_G T M C B po ar mo L) (ht : t < T) (hp : ¬ po t = 0) (nt : t ∉ fx_K L) (hm : mo t = nI y) (hy : y < 8) (I : fx_RX T M C B nw (va, po, ar, mo, sn, ou, tk, he, L) u)
    (hyM : y < M) (k1 : va y = 2 → ∀ u', fx_RX T M C B nw (va, po, ar, mo, sn, ou, tk, he, L ++ [(t, y)]) u' → post u') (k0 : ¬ va y = 2 → ∀ u', fx_RX T M C B nw (va, upd po t 11, ar, mo, sn, ou, tk, he, L) u' → post u') : wpX_relockSleep post u (nI t) := by
  refine fx_xel (P := fun u => wpX_relockSleep post u (nI t)) ?_ I
  clear I
  intro th rn sl bc hs dl sw qn qp bh bl tn tp f
  have g4 := g.1
  unfold fx_B4 at g4
  have ct : (nI t).toNatClampNeg = t := nI_clamp (by omega)
  have cy : (nI y).toNatClampNeg = y := nI_clamp (by omega)
  have i1 : vp_in (nI t) 16 := vp_in_nI (by omega) (by decide)
  have iy : vp_in (nI y) 16 := vp_in_nI (by omega) (by decide)
  unfold wpX_relockSleep
  dsimp only
  rw [ct]
  refine And.intro i1 (nm_r hm ?_)
  rw [cy]
  refine And.intro iy (br_c (fun e => ?_) (fun e => ?_))
  · exact fx_slpX g ht (by omega) nt (fx_xin f) (fun u' h' => k1 e u' h')
  · exact fx_mvX g ht hp (by decide) (fx_xin f) (fun u' h' => k0 e u' h')
theorem fx_wlX {post : SX → Prop} {u : SX} (g : fx_G T M C B po ar mo L) (ht : t < T) (hp : ¬ po t = 0) (nt : t ∉ fx_K L) (hm : mo t = nI y) (hy : y < 8) (I : fx_RX T M C B nw (va, po, ar, mo, sn, ou, tk, he, L) u)
    (hw : w < M + C) (k2 : va w = sn t → tk t = 0 → ∀ u', fx_RX T M C B nw (va, upd po t 11, ar, mo, sn, upd ou t 3, upd tk t (-1), he, L) u' → post u') (k1 : va w = sn t → ¬ tk t = 0 → ∀ u', fx_RX T M C B nw (va, po, ar, mo, sn, ou, tk, he, L ++ [(t, w)]) u' → post u') (k0 : ¬ va w = sn t → ∀ u', fx_RX T M C B nw (va, upd po t 11, ar, mo, sn, upd ou t 7, upd tk t (-1), he, L) u' → post u') : wpX_waitSleep post u (nI t) (nI w) := by
  refine fx_xel (P := fun u => wpX_waitSleep post u (nI t) (nI w)) ?_ I
  clear I
  intro th rn sl bc hs dl sw qn qp bh bl tn tp f
  have g4 := g.1
  unfold fx_B4 at g4
  have ct : (nI t).toNatClampNeg = t := nI_clamp (by omega)
  have cy : (nI y).toNatClampNeg = y := nI_clamp (by omega)
  have i1 : vp_in (nI t) 16 := vp_in_nI (by omega) (by decide)
  have iy : vp_in (nI y) 16 := vp_in_nI (by omega) (by decide)
  unfold wpX_waitSleep
  dsimp only
  rw [ct, nI_clamp (show w < 2 ^ 31 by omega)]
  refine And.intro (vp_in_nI (by omega) (by decide)) (And.intro i1 (br_c (fun e => ?_) (fun e => ?_)))
  · refine fx_ieX (by omega) f.1 (f.2.2.2.2.1 t ht) (fun c => ?_) (fun c => ?_)
    · exact br_f (by decide) (fx_srX g ht hp nt (fx_xin f) (fun u' h' => k2 e c u' h'))
    · exact br_t rfl (fx_slpX g ht hw nt (fx_xin f) (fun u' h' => k1 e c u' h'))
  · exact fx_srX g ht hp nt (fx_xin f) (fun u' h' => k0 e u' h')
theorem fx_waX {post : SX → Prop} {u : SX} (g : fx_G T M C B po ar mo L) (ht : t < T) (hp : ¬ po t = 0) (nt : t ∉ fx_K L) (hm : mo t = nI y) (hy : y < 8) (I : fx_RX T M C B nw (va, po, ar, mo, sn, ou, tk, he, L) u)
    (hw : w < M + C) (k : ∀ u', fx_RX T M C B nw (fx_wn w (fx_O w L).length (va, po, ar, mo, sn, ou, tk, he, L)) u' → post u') : wpX_wakeAll post u (nI w) := by
  refine fx_xel (P := fun u => wpX_wakeAll post u (nI w)) ?_ I
  clear I
  intro th rn sl bc hs dl sw qn qp bh bl tn tp f
  have g4 := g.1
  unfold fx_B4 at g4
  have ct : (nI t).toNatClampNeg = t := nI_clamp (by omega)
  have cy : (nI y).toNatClampNeg = y := nI_clamp (by omega)
  have i1 : vp_in (nI t) 16 := vp_in_nI (by omega) (by decide)
  have iy : vp_in (nI y) 16 := vp_in_nI (by omega) (by decide)
  unfold wpX_wakeAll
  dsimp only
  rw [nI_clamp (show w < 2 ^ 31 by omega)]
  have ol := fx_Olen (w := w) (T := T) g.2.1 (fun s v q => (g.2.2.1 s v q).1)
  refine And.intro (vp_in_nI (by omega) (by decide)) (nm_r (f.2.1.1 w (by omega)) ⟨_, fx_wnX hw _ po ou tk L (nI T, nI M, nI C, nI B, lN nw, th, rn, va, sl, bc, po, ar, mo, sn, ou, hs, dl, sw, qn, qp, bh, bl, tn, tp) g (by omega) (fx_xin f) k⟩)
theorem fx_ms1 {post : SX → Prop} {u : SX} (ht : t < 16) (h : ¬ (7 : Int32) ≤ po t) (I : fx_RX T M C B nw (va, po, ar, mo, sn, ou, tk, he, L) u) (k : ∀ u, fx_RX T M C B nw (va, po, ar, mo, sn, ou, tk, he, L) u → wpX_stepMutex post u (nI t)) : wpX_makeStep post u (nI t) := by
  refine fx_xel (P := fun u => wpX_makeStep post u (nI t)) ?_ I
  clear I
  intro th rn sl bc hs dl sw qn qp bh bl tn tp f
  have ct : (nI t).toNatClampNeg = t := nI_clamp (by omega)
  have i1 : vp_in (nI t) 16 := vp_in_nI ht (by decide)
  unfold wpX_makeStep
  dsimp only
  rw [ct]
  exact And.intro i1 (br_f h (k _ (fx_xin f)))
theorem fx_ms2 {post : SX → Prop} {u : SX} {x : Nat} (ht : t < 16) (h : (7 : Int32) ≤ po t) (h2 : ¬ (13 : Int32) ≤ po t) (hx : ar t = nI x) (I : fx_RX T M C B nw (va, po, ar, mo, sn, ou, tk, he, L) u) (k : ∀ u, fx_RX T M C B nw (va, po, ar, mo, sn, ou, tk, he, L) u → wpX_stepWait post u (nI t) (nI (M + x))) : wpX_makeStep post u (nI t) := by
  refine fx_xel (P := fun u => wpX_makeStep post u (nI t)) ?_ I
  clear I
  intro th rn sl bc hs dl sw qn qp bh bl tn tp f
  have ct : (nI t).toNatClampNeg = t := nI_clamp (by omega)
  have i1 : vp_in (nI t) 16 := vp_in_nI ht (by decide)
  unfold wpX_makeStep
  dsimp only
  rw [ct, hx, nI_add]
  exact And.intro i1 (br_t h (And.intro i1 (br_f h2 (And.intro i1 (k _ (fx_xin f))))))
theorem fx_ms3 {post : SX → Prop} {u : SX} {x : Nat} (ht : t < 16) (h : (7 : Int32) ≤ po t) (h2 : (13 : Int32) ≤ po t) (hx : ar t = nI x) (I : fx_RX T M C B nw (va, po, ar, mo, sn, ou, tk, he, L) u) (k : ∀ u, fx_RX T M C B nw (va, po, ar, mo, sn, ou, tk, he, L) u → wpX_stepNotify post u (nI t) (nI (M + x))) : wpX_makeStep post u (nI t) := by
  refine fx_xel (P := fun u => wpX_makeStep post u (nI t)) ?_ I
  clear I
  intro th rn sl bc hs dl sw qn qp bh bl tn tp f
  have ct : (nI t).toNatClampNeg = t := nI_clamp (by omega)
  have i1 : vp_in (nI t) 16 := vp_in_nI ht (by decide)
  unfold wpX_makeStep
  dsimp only
  rw [ct, hx, nI_add]
  exact And.intro i1 (br_t h (And.intro i1 (br_t h2 (And.intro i1 (k _ (fx_xin f))))))
theorem fx_sm1 {post : SX → Prop} {u : SX} (ht : t < 16) (h : po t = 1) (I : fx_RX T M C B nw (va, po, ar, mo, sn, ou, tk, he, L) u) (k : ∀ u, fx_RX T M C B nw (va, po, ar, mo, sn, ou, tk, he, L) u → wpX_lockTry post u (nI t)) : wpX_stepMutex post u (nI t) := by
  refine fx_xel (P := fun u => wpX_stepMutex post u (nI t)) ?_ I
  clear I
  intro th rn sl bc hs dl sw qn qp bh bl tn tp f
  have ct : (nI t).toNatClampNeg = t := nI_clamp (by omega)
  have i1 : vp_in (nI t) 16 := vp_in_nI ht (by decide)
  unfold wpX_stepMutex
  dsimp only
  rw [ct]
  refine And.intro i1 (nm_r h ?_)
  exact br_f (by decide) (br_f (by decide) (br_t rfl (k _ (fx_xin f))))
theorem fx_sm2 {post : SX → Prop} {u : SX} (ht : t < 16) (h : po t = 2) (I : fx_RX T M C B nw (va, po, ar, mo, sn, ou, tk, he, L) u) (k : ∀ u, fx_RX T M C B nw (va, po, ar, mo, sn, ou, tk, he, L) u → wpX_swapIn post u (nI t) 1 3) : wpX_stepMutex post u (nI t) := by
  refine fx_xel (P := fun u => wpX_stepMutex post u (nI t)) ?_ I
  clear I
  intro th rn sl bc hs dl sw qn qp bh bl tn tp f
  have ct : (nI t).toNatClampNeg = t := nI_clamp (by omega)
  have i1 : vp_in (nI t) 16 := vp_in_nI ht (by decide)
  unfold wpX_stepMutex
  dsimp only
  rw [ct]
  refine And.intro i1 (nm_r h ?_)
  exact br_f (by decide) (br_f (by decide) (br_f (by decide) (br_t rfl (k _ (fx_xin f)))))
theorem fx_sm3 {post : SX → Prop} {u : SX} (ht : t < 16) (h : po t = 3) (I : fx_RX T M C B nw (va, po, ar, mo, sn, ou, tk, he, L) u) (k : ∀ u, fx_RX T M C B nw (va, po, ar, mo, sn, ou, tk, he, L) u → wpX_lockSleep post u (nI t)) : wpX_stepMutex post u (nI t) := by
  refine fx_xel (P := fun u => wpX_stepMutex post u (nI t)) ?_ I
  clear I
  intro th rn sl bc hs dl sw qn qp bh bl tn tp f
  have ct : (nI t).toNatClampNeg = t := nI_clamp (by omega)
  have i1 : vp_in (nI t) 16 := vp_in_nI ht (by decide)
  unfold wpX_stepMutex
  dsimp only
  rw [ct]
  refine And.intro i1 (nm_r h ?_)
  exact br_f (by decide) (br_f (by decide) (br_f (by decide) (br_f (by decide) (br_t rfl (k _ (fx_xin f))))))
theorem fx_sm4 {post : SX → Prop} {u : SX} (ht : t < 16) (h : po t = 4) (I : fx_RX T M C B nw (va, po, ar, mo, sn, ou, tk, he, L) u) (k : ∀ u, fx_RX T M C B nw (va, po, ar, mo, sn, ou, tk, he, L) u → wpX_tryOnce post u (nI t)) : wpX_stepMutex post u (nI t) := by
  refine fx_xel (P := fun u => wpX_stepMutex post u (nI t)) ?_ I
  clear I
  intro th rn sl bc hs dl sw qn qp bh bl tn tp f
  have ct : (nI t).toNatClampNeg = t := nI_clamp (by omega)
  have i1 : vp_in (nI t) 16 := vp_in_nI ht (by decide)
  unfold wpX_stepMutex
  dsimp only
  rw [ct]
  refine And.intro i1 (nm_r h ?_)
  exact br_f (by decide) (br_f (by decide) (br_f (by decide) (br_f (by decide) (br_f (by decide) (br_t rfl (k _ (fx_xin f)))))))
theorem fx_sm5 {post : SX → Prop} {u : SX} (ht : t < 16) (h : po t = 5) (I : fx_RX T M C B nw (va, po, ar, mo, sn, ou, tk, he, L) u) (k : ∀ u, fx_RX T M C B nw (va, po, ar, mo, sn, ou, tk, he, L) u → wpX_unlockSwap post u (nI t)) : wpX_stepMutex post u (nI t) := by
  refine fx_xel (P := fun u => wpX_stepMutex post u (nI t)) ?_ I
  clear I
  intro th rn sl bc hs dl sw qn qp bh bl tn tp f
  have ct : (nI t).toNatClampNeg = t := nI_clamp (by omega)
  have i1 : vp_in (nI t) 16 := vp_in_nI ht (by decide)
  unfold wpX_stepMutex
  dsimp only
  rw [ct]
  refine And.intro i1 (nm_r h ?_)
  exact br_f (by decide) (br_f (by decide) (br_f (by decide) (br_f (by decide) (br_f (by decide) (br_f (by decide) (br_t rfl (k _ (fx_xin f))))))))
theorem fx_sm6 {post : SX → Prop} {u : SX} (ht : t < 16) (hm : mo t = nI y) (h : po t = 6) (I : fx_RX T M C B nw (va, po, ar, mo, sn, ou, tk, he, L) u) (k : ∀ u, fx_RX T M C B nw (va, po, ar, mo, sn, ou, tk, he, L) u → wpX_wakeOne (fun u => wpX_end post u (nI t) 4) u (nI y)) : wpX_stepMutex post u (nI t) := by
  refine fx_xel (P := fun u => wpX_stepMutex post u (nI t)) ?_ I
  clear I
  intro th rn sl bc hs dl sw qn qp bh bl tn tp f
  have ct : (nI t).toNatClampNeg = t := nI_clamp (by omega)
  have i1 : vp_in (nI t) 16 := vp_in_nI ht (by decide)
  unfold wpX_stepMutex
  dsimp only
  rw [ct]
  rw [hm]
  refine And.intro i1 (nm_r h ?_)
  exact br_f (by decide) (br_t (by decide) (And.intro i1 (k _ (fx_xin f))))
theorem fx_sw8 {post : SX → Prop} {u : SX} (ht : t < 16) (h : po t = 8) (I : fx_RX T M C B nw (va, po, ar, mo, sn, ou, tk, he, L) u) (k : ∀ u, fx_RX T M C B nw (va, po, ar, mo, sn, ou, tk, he, L) u → wpX_waitSwap post u (nI t)) : wpX_stepWait post u (nI t) (nI w) := by
  refine fx_xel (P := fun u => wpX_stepWait post u (nI t) (nI w)) ?_ I
  clear I
  intro th rn sl bc hs dl sw qn qp bh bl tn tp f
  have ct : (nI t).toNatClampNeg = t := nI_clamp (by omega)
  have i1 : vp_in (nI t) 16 := vp_in_nI ht (by decide)
  unfold wpX_stepWait
  dsimp only
  rw [ct]
  refine And.intro i1 (nm_r h ?_)
  exact br_f (by decide) (br_f (by decide) (br_f (by decide) (br_t rfl (k _ (fx_xin f)))))
theorem fx_sw9 {post : SX → Prop} {u : SX} (ht : t < 16) (hm : mo t = nI y) (h : po t = 9) (I : fx_RX T M C B nw (va, po, ar, mo, sn, ou, tk, he, L) u) (k : ∀ u, fx_RX T M C B nw (va, po, ar, mo, sn, ou, tk, he, L) u → wpX_wakeOne (fun u => wpX_moveTo post u (nI t) 10) u (nI y)) : wpX_stepWait post u (nI t) (nI w) := by
  refine fx_xel (P := fun u => wpX_stepWait post u (nI t) (nI w)) ?_ I
  clear I
  intro th rn sl bc hs dl sw qn qp bh bl tn tp f
  have ct : (nI t).toNatClampNeg = t := nI_clamp (by omega)
  have i1 : vp_in (nI t) 16 := vp_in_nI ht (by decide)
  unfold wpX_stepWait
  dsimp only
  rw [ct]
  rw [hm]
  refine And.intro i1 (nm_r h ?_)
  exact br_f (by decide) (br_f (by decide) (br_f (by decide) (br_f (by decide) (br_t rfl (And.intro i1 (k _ (fx_xin f)))))))
theorem fx_sw10 {post : SX → Prop} {u : SX} (ht : t < 16) (h : po t = 10) (I : fx_RX T M C B nw (va, po, ar, mo, sn, ou, tk, he, L) u) (k : ∀ u, fx_RX T M C B nw (va, po, ar, mo, sn, ou, tk, he, L) u → wpX_waitSleep post u (nI t) (nI w)) : wpX_stepWait post u (nI t) (nI w) := by
  refine fx_xel (P := fun u => wpX_stepWait post u (nI t) (nI w)) ?_ I
  clear I
  intro th rn sl bc hs dl sw qn qp bh bl tn tp f
  have ct : (nI t).toNatClampNeg = t := nI_clamp (by omega)
  have i1 : vp_in (nI t) 16 := vp_in_nI ht (by decide)
  unfold wpX_stepWait
  dsimp only
  rw [ct]
  refine And.intro i1 (nm_r h ?_)
  exact br_f (by decide) (br_f (by decide) (br_f (by decide) (br_f (by decide) (br_f (by decide) (br_t rfl (k _ (fx_xin f)))))))
theorem fx_sw11 {post : SX → Prop} {u : SX} (ht : t < 16) (h : po t = 11) (I : fx_RX T M C B nw (va, po, ar, mo, sn, ou, tk, he, L) u) (k : ∀ u, fx_RX T M C B nw (va, po, ar, mo, sn, ou, tk, he, L) u → wpX_swapIn post u (nI t) (ou t) 12) : wpX_stepWait post u (nI t) (nI w) := by
  refine fx_xel (P := fun u => wpX_stepWait post u (nI t) (nI w)) ?_ I
  clear I
  intro th rn sl bc hs dl sw qn qp bh bl tn tp f
  have ct : (nI t).toNatClampNeg = t := nI_clamp (by omega)
  have i1 : vp_in (nI t) 16 := vp_in_nI ht (by decide)
  unfold wpX_stepWait
  dsimp only
  rw [ct]
  refine And.intro i1 (nm_r h ?_)
  exact br_f (by decide) (br_f (by decide) (br_f (by decide) (br_f (by decide) (br_f (by decide) (br_f (by decide) (br_t rfl (And.intro i1 (k _ (fx_xin f)))))))))
theorem fx_sw12 {post : SX → Prop} {u : SX} (ht : t < 16) (h : po t = 12) (I : fx_RX T M C B nw (va, po, ar, mo, sn, ou, tk, he, L) u) (k : ∀ u, fx_RX T M C B nw (va, po, ar, mo, sn, ou, tk, he, L) u → wpX_relockSleep post u (nI t)) : wpX_stepWait post u (nI t) (nI w) := by
  refine fx_xel (P := fun u => wpX_stepWait post u (nI t) (nI w)) ?_ I
  clear I
  intro th rn sl bc hs dl sw qn qp bh bl tn tp f
  have ct : (nI t).toNatClampNeg = t := nI_clamp (by omega)
  have i1 : vp_in (nI t) 16 := vp_in_nI ht (by decide)
  unfold wpX_stepWait
  dsimp only
  rw [ct]
  refine And.intro i1 (nm_r h ?_)
  exact br_f (by decide) (br_t (by decide) (k _ (fx_xin f)))
theorem fx_sn14 {post : SX → Prop} {u : SX} (ht : t < 16) (h : po t = 14) (I : fx_RX T M C B nw (va, po, ar, mo, sn, ou, tk, he, L) u) (k : ∀ u, fx_RX T M C B nw (va, po, ar, mo, sn, ou, tk, he, L) u → wpX_wakeOne (fun u => wpX_end post u (nI t) 4) u (nI w)) : wpX_stepNotify post u (nI t) (nI w) := by
  refine fx_xel (P := fun u => wpX_stepNotify post u (nI t) (nI w)) ?_ I
  clear I
  intro th rn sl bc hs dl sw qn qp bh bl tn tp f
  have ct : (nI t).toNatClampNeg = t := nI_clamp (by omega)
  have i1 : vp_in (nI t) 16 := vp_in_nI ht (by decide)
  unfold wpX_stepNotify
  dsimp only
  rw [ct]
  refine And.intro i1 (nm_r h ?_)
  exact br_f (by decide) (br_f (by decide) (br_f (by decide) (br_t rfl (k _ (fx_xin f)))))
theorem fx_sn16 {post : SX → Prop} {u : SX} (ht : t < 16) (h : po t = 16) (I : fx_RX T M C B nw (va, po, ar, mo, sn, ou, tk, he, L) u) (k : ∀ u, fx_RX T M C B nw (va, po, ar, mo, sn, ou, tk, he, L) u → wpX_broadMove post u (nI t) (nI w)) : wpX_stepNotify post u (nI t) (nI w) := by
  refine fx_xel (P := fun u => wpX_stepNotify post u (nI t) (nI w)) ?_ I
  clear I
  intro th rn sl bc hs dl sw qn qp bh bl tn tp f
  have ct : (nI t).toNatClampNeg = t := nI_clamp (by omega)
  have i1 : vp_in (nI t) 16 := vp_in_nI ht (by decide)
  unfold wpX_stepNotify
  dsimp only
  rw [ct]
  refine And.intro i1 (nm_r h ?_)
  exact br_f (by decide) (br_f (by decide) (br_f (by decide) (br_f (by decide) (br_f (by decide) (br_t rfl (k _ (fx_xin f)))))))
theorem fx_sn17 {post : SX → Prop} {u : SX} (ht : t < 16) (h : po t = 17) (I : fx_RX T M C B nw (va, po, ar, mo, sn, ou, tk, he, L) u) (k : ∀ u, fx_RX T M C B nw (va, po, ar, mo, sn, ou, tk, he, L) u → wpX_wakeAll (fun u => wpX_end post u (nI t) 4) u (nI w)) : wpX_stepNotify post u (nI t) (nI w) := by
  refine fx_xel (P := fun u => wpX_stepNotify post u (nI t) (nI w)) ?_ I
  clear I
  intro th rn sl bc hs dl sw qn qp bh bl tn tp f
  have ct : (nI t).toNatClampNeg = t := nI_clamp (by omega)
  have i1 : vp_in (nI t) 16 := vp_in_nI ht (by decide)
  unfold wpX_stepNotify
  dsimp only
  rw [ct]
  refine And.intro i1 (nm_r h ?_)
  exact br_f (by decide) (br_t (by decide) (k _ (fx_xin f)))
theorem fx_sw7 {post : SX → Prop} {u : SX} (g : fx_G T M C B po ar mo L) (ht : t < T) (hp : ¬ po t = 0) (hw : w < M + C) (h : po t = 7) (I : fx_RX T M C B nw (va, po, ar, mo, sn, ou, tk, he, L) u) (k : ∀ u', fx_RX T M C B nw (va, upd po t 8, ar, mo, upd sn t (va w), ou, tk, he, L) u' → post u') : wpX_stepWait post u (nI t) (nI w) := by
  refine fx_xel (P := fun u => wpX_stepWait post u (nI t) (nI w)) ?_ I
  clear I
  intro th rn sl bc hs dl sw qn qp bh bl tn tp f
  have g4 := g.1
  unfold fx_B4 at g4
  have ct : (nI t).toNatClampNeg = t := nI_clamp (by omega)
  have i1 : vp_in (nI t) 16 := vp_in_nI (by omega) (by decide)
  have iw : vp_in (nI w) 16 := vp_in_nI (by omega) (by decide)
  unfold wpX_stepWait
  dsimp only
  rw [ct, nI_clamp (show w < 2 ^ 31 by omega)]
  refine And.intro i1 (nm_r h ?_)
  refine br_f (by decide) (br_f (by decide) (br_t rfl (And.intro iw (And.intro i1 (nm_e ?_)))))
  exact fx_mvX g ht hp (by decide) (fx_xin f) (fun u' h' => k u' h')
theorem fx_sn13 {post : SX → Prop} {u : SX} (g : fx_G T M C B po ar mo L) (ht : t < T) (hp : ¬ po t = 0) (hw : w < M + C) (h : po t = 13) (I : fx_RX T M C B nw (va, po, ar, mo, sn, ou, tk, he, L) u) (k : ∀ u', fx_RX T M C B nw (upd va w (va w + 1), upd po t 14, ar, mo, sn, ou, tk, he, L) u' → post u') : wpX_stepNotify post u (nI t) (nI w) := by
  refine fx_xel (P := fun u => wpX_stepNotify post u (nI t) (nI w)) ?_ I
  clear I
  intro th rn sl bc hs dl sw qn qp bh bl tn tp f
  have g4 := g.1
  unfold fx_B4 at g4
  have ct : (nI t).toNatClampNeg = t := nI_clamp (by omega)
  have i1 : vp_in (nI t) 16 := vp_in_nI (by omega) (by decide)
  have iw : vp_in (nI w) 16 := vp_in_nI (by omega) (by decide)
  unfold wpX_stepNotify
  dsimp only
  rw [ct, nI_clamp (show w < 2 ^ 31 by omega)]
  refine And.intro i1 (nm_r h ?_)
  refine br_f (by decide) (br_f (by decide) (br_t rfl (And.intro iw (And.intro iw (nm_e ?_)))))
  exact fx_mvX g ht hp (by decide) (fx_xin f) (fun u' h' => k u' h')
theorem fx_sn15 {post : SX → Prop} {u : SX} (g : fx_G T M C B po ar mo L) (ht : t < T) (hp : ¬ po t = 0) (hw : w < M + C) (h : po t = 15) (I : fx_RX T M C B nw (va, po, ar, mo, sn, ou, tk, he, L) u) (k : ∀ u', fx_RX T M C B nw (upd va w (va w + 1), upd po t 16, ar, mo, upd sn t (upd va w (va w + 1) w), ou, tk, he, L) u' → post u') : wpX_stepNotify post u (nI t) (nI w) := by
  refine fx_xel (P := fun u => wpX_stepNotify post u (nI t) (nI w)) ?_ I
  clear I
  intro th rn sl bc hs dl sw qn qp bh bl tn tp f
  have g4 := g.1
  unfold fx_B4 at g4
  have ct : (nI t).toNatClampNeg = t := nI_clamp (by omega)
  have i1 : vp_in (nI t) 16 := vp_in_nI (by omega) (by decide)
  have iw : vp_in (nI w) 16 := vp_in_nI (by omega) (by decide)
  unfold wpX_stepNotify
  dsimp only
  rw [ct, nI_clamp (show w < 2 ^ 31 by omega)]
  refine And.intro i1 (nm_r h ?_)
  refine br_f (by decide) (br_f (by decide) (br_f (by decide) (br_f (by decide) (br_t rfl (And.intro iw (And.intro iw (nm_e (And.intro iw (And.intro i1 (nm_e ?_))))))))))
  exact fx_mvX g ht hp (by decide) (fx_xin f) (fun u' h' => k u' h')
end
end
section
/-! Y's make, position by position -/
theorem fx_nb1 : vp_nar .boolean 1 = 1 := rfl
theorem fx_nb0 : vp_nar .boolean 0 = 0 := rfl
theorem fx_hx {t y : Nat} : nI t * 8 + nI y = nI (t * 8 + y) := by
  show nI t * nI 8 + nI y = _
  rw [pk_mul, nI_add]
section
variable {T M C B nw : Nat} {va po ar mo sn ou tk he wo we : Nat → Int32} {L : List (Nat × Nat)} {t w x y : Nat} {z r : Int32}
theorem fx_y30 {post : SY → Prop} (ht : t < 16) (hM : 1 ≤ M ∧ M ≤ 8) (hx16 : x < 16) (h : po t = z) (hx : ar t = nI x) (hxy : ((6 : Int32) < z ∧ y = x % M) ∨ (¬ (6 : Int32) < z ∧ x = y))
    (k : wY_make_30 post (nI t) z (nI x) (nI y) (nI T) (nI M) (nI C) (nI B) (nI L.length) va po ar tk sn ou he wo we) : wpY_make post (nI T, nI M, nI C, nI B, nI L.length, va, po, ar, tk, sn, ou, he, wo, we) (nI t) := by
  have ct : (nI t).toNatClampNeg = t := nI_clamp (by omega)
  have i1 : vp_in (nI t) 16 := vp_in_nI ht (by decide)
  unfold wpY_make
  dsimp only
  rw [ct]
  refine And.intro i1 (nm_r h (And.intro i1 (nm_r hx ?_)))
  rcases hxy with ⟨a, b⟩ | ⟨a, b⟩
  · refine br_t a (And.intro (nI_ne0 (by omega) (by omega)) ?_)
    rw [pk_rem (by omega) (by omega) (by omega), ← b]
    exact k
  · subst b
    exact br_f a k
theorem fx_y1 {post : SY → Prop} {v : SY} (g : fx_G T M C B po ar mo L) (ht : t < T) (hy : y < M) (hx : ar t = nI x) (hxC : x < 8) (hxy : ((6 : Int32) < 1 ∧ y = x % M) ∨ (¬ (6 : Int32) < 1 ∧ x = y)) (h : po t = 1) (I : fx_RY T M C B (va, po, ar, mo, sn, ou, tk, he, L) v)
    (k1 : va y = 0 → ∀ v', fx_RY T M C B (upd va y 1, upd po t 0, ar, mo, sn, upd ou t 1, upd tk t (-1), upd he (t * 8 + y) 1, L) v' → post v') (k0 : ¬ va y = 0 → ∀ v', fx_RY T M C B (va, upd po t 2, ar, mo, sn, ou, tk, he, L) v' → post v') : wpY_make post v (nI t) := by
  refine fx_yel (P := fun v => wpY_make post v (nI t)) ?_ I
  clear I
  intro wo we f
  have g4 := g.1
  unfold fx_B4 at g4
  have ht16 : t < 16 := by omega
  have hl := fx_len g
  have ct : (nI t).toNatClampNeg = t := nI_clamp (by omega)
  have cy : (nI y).toNatClampNeg = y := nI_clamp (by omega)
  have cw : (nI (M + x)).toNatClampNeg = M + x := nI_clamp (by omega)
  have ch : (nI (t * 8 + y)).toNatClampNeg = t * 8 + y := nI_clamp (by omega)
  have i1 : vp_in (nI t) 16 := vp_in_nI (by omega) (by decide)
  have iy : vp_in (nI y) 16 := vp_in_nI (by omega) (by decide)
  have iw : vp_in (nI (M + x)) 16 := vp_in_nI (by omega) (by decide)
  have ih : vp_in (nI (t * 8 + y)) 128 := vp_in_nI (by omega) (by decide)
  refine fx_y30 ht16 ⟨by omega, by omega⟩ (by omega) h hx hxy ?_
  unfold wY_make_30
  refine nm_r (nI_add M x) (And.intro iy (nm_r (e' := va y) (by rw [cy]) (br_t rfl (?_))))
  unfold wY_make_59
  rw [cy, ct, fx_hx, ch, fx_nb1]
  refine br_c (fun e => And.intro iy (nm_e (And.intro ih (nm_e ?_)))) (fun e => br_t rfl (And.intro i1 (nm_e (k0 e _ (fx_yin f)))))
  exact fx_endY (mo := mo) ht16 (fx_yin f) (fun v' h' => k1 e v' h')
theorem fx_y4 {post : SY → Prop} {v : SY} (g : fx_G T M C B po ar mo L) (ht : t < T) (hy : y < M) (hx : ar t = nI x) (hxC : x < 8) (hxy : ((6 : Int32) < 4 ∧ y = x % M) ∨ (¬ (6 : Int32) < 4 ∧ x = y)) (h : po t = 4) (I : fx_RY T M C B (va, po, ar, mo, sn, ou, tk, he, L) v)
    (k1 : va y = 0 → ∀ v', fx_RY T M C B (upd va y 1, upd po t 0, ar, mo, sn, upd ou t 1, upd tk t (-1), upd he (t * 8 + y) 1, L) v' → post v') (k0 : ¬ va y = 0 → ∀ v', fx_RY T M C B (va, upd po t 0, ar, mo, sn, upd ou t 2, upd tk t (-1), he, L) v' → post v') : wpY_make post v (nI t) := by
  refine fx_yel (P := fun v => wpY_make post v (nI t)) ?_ I
  clear I
  intro wo we f
  have g4 := g.1
  unfold fx_B4 at g4
  have ht16 : t < 16 := by omega
  have hl := fx_len g
  have ct : (nI t).toNatClampNeg = t := nI_clamp (by omega)
  have cy : (nI y).toNatClampNeg = y := nI_clamp (by omega)
  have cw : (nI (M + x)).toNatClampNeg = M + x := nI_clamp (by omega)
  have ch : (nI (t * 8 + y)).toNatClampNeg = t * 8 + y := nI_clamp (by omega)
  have i1 : vp_in (nI t) 16 := vp_in_nI (by omega) (by decide)
  have iy : vp_in (nI y) 16 := vp_in_nI (by omega) (by decide)
  have iw : vp_in (nI (M + x)) 16 := vp_in_nI (by omega) (by decide)
  have ih : vp_in (nI (t * 8 + y)) 128 := vp_in_nI (by omega) (by decide)
  refine fx_y30 ht16 ⟨by omega, by omega⟩ (by omega) h hx hxy ?_
  unfold wY_make_30
  refine nm_r (nI_add M x) (And.intro iy (nm_r (e' := va y) (by rw [cy]) (br_f (by decide) (br_t rfl (?_)))))
  unfold wY_make_59
  rw [cy, ct, fx_hx, ch, fx_nb1]
  refine br_c (fun e => And.intro iy (nm_e (And.intro ih (nm_e ?_)))) (fun e => br_f (by decide) (fx_endY (mo := mo) ht16 (fx_yin f) (fun v' h' => k0 e v' h')))
  exact fx_endY (mo := mo) ht16 (fx_yin f) (fun v' h' => k1 e v' h')
theorem fx_y2 {post : SY → Prop} {v : SY} (g : fx_G T M C B po ar mo L) (ht : t < T) (hy : y < M) (hx : ar t = nI x) (hxC : x < 8) (hxy : ((6 : Int32) < 2 ∧ y = x % M) ∨ (¬ (6 : Int32) < 2 ∧ x = y)) (h : po t = 2) (I : fx_RY T M C B (va, po, ar, mo, sn, ou, tk, he, L) v)
    (k1 : va y = 0 → ∀ v', fx_RY T M C B (upd va y 2, upd po t 0, ar, mo, sn, upd ou t 1, upd tk t (-1), upd he (t * 8 + y) 1, L) v' → post v') (k0 : ¬ va y = 0 → ∀ v', fx_RY T M C B (upd va y 2, upd po t 3, ar, mo, sn, ou, tk, he, L) v' → post v') : wpY_make post v (nI t) := by
  refine fx_yel (P := fun v => wpY_make post v (nI t)) ?_ I
  clear I
  intro wo we f
  have g4 := g.1
  unfold fx_B4 at g4
  have ht16 : t < 16 := by omega
  have hl := fx_len g
  have ct : (nI t).toNatClampNeg = t := nI_clamp (by omega)
  have cy : (nI y).toNatClampNeg = y := nI_clamp (by omega)
  have cw : (nI (M + x)).toNatClampNeg = M + x := nI_clamp (by omega)
  have ch : (nI (t * 8 + y)).toNatClampNeg = t * 8 + y := nI_clamp (by omega)
  have i1 : vp_in (nI t) 16 := vp_in_nI (by omega) (by decide)
  have iy : vp_in (nI y) 16 := vp_in_nI (by omega) (by decide)
  have iw : vp_in (nI (M + x)) 16 := vp_in_nI (by omega) (by decide)
  have ih : vp_in (nI (t * 8 + y)) 128 := vp_in_nI (by omega) (by decide)
  refine fx_y30 ht16 ⟨by omega, by omega⟩ (by omega) h hx hxy ?_
  unfold wY_make_30
  refine nm_r (nI_add M x) (And.intro iy (nm_r (e' := va y) (by rw [cy]) (br_f (by decide) (br_f (by decide) (br_t rfl (?_))))))
  unfold wY_make_129
  rw [cy, ct, fx_hx, ch, fx_nb1]
  refine And.intro iy (nm_e (br_c (fun e => And.intro ih (nm_e (br_t rfl ?_))) (fun e => br_t rfl (And.intro i1 (nm_e (k0 e _ (fx_yin f)))))))
  unfold wY_make_172
  exact fx_endY (mo := mo) ht16 (fx_yin f) (fun v' h' => k1 e v' h')
theorem fx_y11 {post : SY → Prop} {v : SY} (g : fx_G T M C B po ar mo L) (ht : t < T) (hy : y < M) (hx : ar t = nI x) (hxC : x < 8) (hxy : ((6 : Int32) < 11 ∧ y = x % M) ∨ (¬ (6 : Int32) < 11 ∧ x = y)) (h : po t = 11) (I : fx_RY T M C B (va, po, ar, mo, sn, ou, tk, he, L) v)
    (k1 : va y = 0 → ∀ v', fx_RY T M C B (upd va y 2, upd po t 0, ar, mo, sn, upd ou t (ou t), upd tk t (-1), upd he (t * 8 + y) 1, L) v' → post v') (k0 : ¬ va y = 0 → ∀ v', fx_RY T M C B (upd va y 2, upd po t 12, ar, mo, sn, ou, tk, he, L) v' → post v') : wpY_make post v (nI t) := by
  refine fx_yel (P := fun v => wpY_make post v (nI t)) ?_ I
  clear I
  intro wo we f
  have g4 := g.1
  unfold fx_B4 at g4
  have ht16 : t < 16 := by omega
  have hl := fx_len g
  have ct : (nI t).toNatClampNeg = t := nI_clamp (by omega)
  have cy : (nI y).toNatClampNeg = y := nI_clamp (by omega)
  have cw : (nI (M + x)).toNatClampNeg = M + x := nI_clamp (by omega)
  have ch : (nI (t * 8 + y)).toNatClampNeg = t * 8 + y := nI_clamp (by omega)
  have i1 : vp_in (nI t) 16 := vp_in_nI (by omega) (by decide)
  have iy : vp_in (nI y) 16 := vp_in_nI (by omega) (by decide)
  have iw : vp_in (nI (M + x)) 16 := vp_in_nI (by omega) (by decide)
  have ih : vp_in (nI (t * 8 + y)) 128 := vp_in_nI (by omega) (by decide)
  refine fx_y30 ht16 ⟨by omega, by omega⟩ (by omega) h hx hxy ?_
  unfold wY_make_30
  refine nm_r (nI_add M x) (And.intro iy (nm_r (e' := va y) (by rw [cy]) (br_f (by decide) (br_f (by decide) (br_f (by decide) (br_t rfl (?_)))))))
  unfold wY_make_129
  rw [cy, ct, fx_hx, ch, fx_nb1]
  refine And.intro iy (nm_e (br_c (fun e => And.intro ih (nm_e (br_f (by decide) (And.intro i1 ?_)))) (fun e => br_f (by decide) (And.intro i1 (nm_e (k0 e _ (fx_yin f)))))))
  unfold wY_make_172
  exact fx_endY (mo := mo) ht16 (fx_yin f) (fun v' h' => k1 e v' h')
theorem fx_y3 {post : SY → Prop} {v : SY} (g : fx_G T M C B po ar mo L) (ht : t < T) (hy : y < M) (hx : ar t = nI x) (hxC : x < 8) (hxy : ((6 : Int32) < 3 ∧ y = x % M) ∨ (¬ (6 : Int32) < 3 ∧ x = y)) (h : po t = 3) (I : fx_RY T M C B (va, po, ar, mo, sn, ou, tk, he, L) v)
    (nt : t ∉ fx_K L) (k2 : va y = 2 → tk t = 0 → ∀ v', fx_RY T M C B (va, upd po t 0, ar, mo, sn, upd ou t 3, upd tk t (-1), he, L) v' → post v') (k1 : va y = 2 → ¬ tk t = 0 → ∀ v', fx_RY T M C B (va, po, ar, mo, sn, ou, tk, he, L ++ [(t, y)]) v' → post v') (k0 : ¬ va y = 2 → ∀ v', fx_RY T M C B (va, upd po t 2, ar, mo, sn, ou, tk, he, L) v' → post v') : wpY_make post v (nI t) := by
  refine fx_yel (P := fun v => wpY_make post v (nI t)) ?_ I
  clear I
  intro wo we f
  have g4 := g.1
  unfold fx_B4 at g4
  have ht16 : t < 16 := by omega
  have hl := fx_len g
  have ct : (nI t).toNatClampNeg = t := nI_clamp (by omega)
  have cy : (nI y).toNatClampNeg = y := nI_clamp (by omega)
  have cw : (nI (M + x)).toNatClampNeg = M + x := nI_clamp (by omega)
  have ch : (nI (t * 8 + y)).toNatClampNeg = t * 8 + y := nI_clamp (by omega)
  have i1 : vp_in (nI t) 16 := vp_in_nI (by omega) (by decide)
  have iy : vp_in (nI y) 16 := vp_in_nI (by omega) (by decide)
  have iw : vp_in (nI (M + x)) 16 := vp_in_nI (by omega) (by decide)
  have ih : vp_in (nI (t * 8 + y)) 128 := vp_in_nI (by omega) (by decide)
  refine fx_y30 ht16 ⟨by omega, by omega⟩ (by omega) h hx hxy ?_
  unfold wY_make_30
  refine nm_r (nI_add M x) (And.intro iy (nm_r (e' := va y) (by rw [cy]) (br_f (by decide) (br_f (by decide) (br_f (by decide) (br_f (by decide) (br_t rfl (?_))))))))
  rw [ct]
  refine br_c (fun e => And.intro i1 (br_c (fun c => ?_) (fun c => ?_))) (fun e => And.intro i1 (nm_e (k0 e _ (fx_yin f))))
  · exact fx_endY (mo := mo) ht16 (fx_yin f) (fun v' h' => k2 e c v' h')
  · have gl := fx_len (fx_G_slp (w := y) g ht nt (by omega) (Or.inl h))
    rw [List.length_append] at gl
    have gl2 : L.length + 1 ≤ T := gl
    exact fx_jnY (by omega) f (fun wo' we' f' => k1 e c _ (fx_yin f'))
theorem fx_y12 {post : SY → Prop} {v : SY} (g : fx_G T M C B po ar mo L) (ht : t < T) (hy : y < M) (hx : ar t = nI x) (hxC : x < 8) (hxy : ((6 : Int32) < 12 ∧ y = x % M) ∨ (¬ (6 : Int32) < 12 ∧ x = y)) (h : po t = 12) (I : fx_RY T M C B (va, po, ar, mo, sn, ou, tk, he, L) v)
    (nt : t ∉ fx_K L) (k1 : va y = 2 → ∀ v', fx_RY T M C B (va, po, ar, mo, sn, ou, tk, he, L ++ [(t, y)]) v' → post v') (k0 : ¬ va y = 2 → ∀ v', fx_RY T M C B (va, upd po t 11, ar, mo, sn, ou, tk, he, L) v' → post v') : wpY_make post v (nI t) := by
  refine fx_yel (P := fun v => wpY_make post v (nI t)) ?_ I
  clear I
  intro wo we f
  have g4 := g.1
  unfold fx_B4 at g4
  have ht16 : t < 16 := by omega
  have hl := fx_len g
  have ct : (nI t).toNatClampNeg = t := nI_clamp (by omega)
  have cy : (nI y).toNatClampNeg = y := nI_clamp (by omega)
  have cw : (nI (M + x)).toNatClampNeg = M + x := nI_clamp (by omega)
  have ch : (nI (t * 8 + y)).toNatClampNeg = t * 8 + y := nI_clamp (by omega)
  have i1 : vp_in (nI t) 16 := vp_in_nI (by omega) (by decide)
  have iy : vp_in (nI y) 16 := vp_in_nI (by omega) (by decide)
  have iw : vp_in (nI (M + x)) 16 := vp_in_nI (by omega) (by decide)
  have ih : vp_in (nI (t * 8 + y)) 128 := vp_in_nI (by omega) (by decide)
  refine fx_y30 ht16 ⟨by omega, by omega⟩ (by omega) h hx hxy ?_
  unfold wY_make_30
  refine nm_r (nI_add M x) (And.intro iy (nm_r (e' := va y) (by rw [cy]) (br_f (by decide) (br_f (by decide) (br_f (by decide) (br_f (by decide) (br_f (by decide) (br_t rfl (?_)))))))))
  rw [ct]
  refine br_c (fun e => ?_) (fun e => And.intro i1 (nm_e (k0 e _ (fx_yin f))))
  · have gl := fx_len (fx_G_slp (w := y) g ht nt (by omega) (Or.inr (Or.inr h)))
    rw [List.length_append] at gl
    have gl2 : L.length + 1 ≤ T := gl
    exact fx_jnY (by omega) f (fun wo' we' f' => k1 e _ (fx_yin f'))
theorem fx_y5 {post : SY → Prop} {v : SY} (g : fx_G T M C B po ar mo L) (ht : t < T) (hy : y < M) (hx : ar t = nI x) (hxC : x < 8) (hxy : ((6 : Int32) < 5 ∧ y = x % M) ∨ (¬ (6 : Int32) < 5 ∧ x = y)) (h : po t = 5) (I : fx_RY T M C B (va, po, ar, mo, sn, ou, tk, he, L) v)
    (k1 : va y = 2 → ∀ v', fx_RY T M C B (upd va y 0, upd po t 6, ar, mo, sn, ou, tk, upd he (t * 8 + y) 0, L) v' → post v') (k0 : ¬ va y = 2 → ∀ v', fx_RY T M C B (upd va y 0, upd po t 0, ar, mo, sn, upd ou t 4, upd tk t (-1), upd he (t * 8 + y) 0, L) v' → post v') : wpY_make post v (nI t) := by
  refine fx_yel (P := fun v => wpY_make post v (nI t)) ?_ I
  clear I
  intro wo we f
  have g4 := g.1
  unfold fx_B4 at g4
  have ht16 : t < 16 := by omega
  have hl := fx_len g
  have ct : (nI t).toNatClampNeg = t := nI_clamp (by omega)
  have cy : (nI y).toNatClampNeg = y := nI_clamp (by omega)
  have cw : (nI (M + x)).toNatClampNeg = M + x := nI_clamp (by omega)
  have ch : (nI (t * 8 + y)).toNatClampNeg = t * 8 + y := nI_clamp (by omega)
  have i1 : vp_in (nI t) 16 := vp_in_nI (by omega) (by decide)
  have iy : vp_in (nI y) 16 := vp_in_nI (by omega) (by decide)
  have iw : vp_in (nI (M + x)) 16 := vp_in_nI (by omega) (by decide)
  have ih : vp_in (nI (t * 8 + y)) 128 := vp_in_nI (by omega) (by decide)
  refine fx_y30 ht16 ⟨by omega, by omega⟩ (by omega) h hx hxy ?_
  unfold wY_make_30
  refine nm_r (nI_add M x) (And.intro iy (nm_r (e' := va y) (by rw [cy]) (br_f (by decide) (br_f (by decide) (br_f (by decide) (br_f (by decide) (br_f (by decide) (br_f (by decide) (br_t rfl (?_))))))))))
  rw [cy, ct, fx_hx, ch, fx_nb0]
  refine And.intro iy (nm_e (And.intro ih (nm_e (br_c (fun e => And.intro i1 (nm_e (k1 e _ (fx_yin f)))) (fun e => ?_)))))
  exact fx_endY (mo := mo) ht16 (fx_yin f) (fun v' h' => k0 e v' h')
theorem fx_y8 {post : SY → Prop} {v : SY} (g : fx_G T M C B po ar mo L) (ht : t < T) (hy : y < M) (hx : ar t = nI x) (hxC : x < 8) (hxy : ((6 : Int32) < 8 ∧ y = x % M) ∨ (¬ (6 : Int32) < 8 ∧ x = y)) (h : po t = 8) (I : fx_RY T M C B (va, po, ar, mo, sn, ou, tk, he, L) v)
    (k1 : va y = 2 → ∀ v', fx_RY T M C B (upd va y 0, upd po t 9, ar, mo, sn, ou, tk, upd he (t * 8 + y) 0, L) v' → post v') (k0 : ¬ va y = 2 → ∀ v', fx_RY T M C B (upd va y 0, upd po t 10, ar, mo, sn, ou, tk, upd he (t * 8 + y) 0, L) v' → post v') : wpY_make post v (nI t) := by
  refine fx_yel (P := fun v => wpY_make post v (nI t)) ?_ I
  clear I
  intro wo we f
  have g4 := g.1
  unfold fx_B4 at g4
  have ht16 : t < 16 := by omega
  have hl := fx_len g
  have ct : (nI t).toNatClampNeg = t := nI_clamp (by omega)
  have cy : (nI y).toNatClampNeg = y := nI_clamp (by omega)
  have cw : (nI (M + x)).toNatClampNeg = M + x := nI_clamp (by omega)
  have ch : (nI (t * 8 + y)).toNatClampNeg = t * 8 + y := nI_clamp (by omega)
  have i1 : vp_in (nI t) 16 := vp_in_nI (by omega) (by decide)
  have iy : vp_in (nI y) 16 := vp_in_nI (by omega) (by decide)
  have iw : vp_in (nI (M + x)) 16 := vp_in_nI (by omega) (by decide)
  have ih : vp_in (nI (t * 8 + y)) 128 := vp_in_nI (by omega) (by decide)
  refine fx_y30 ht16 ⟨by omega, by omega⟩ (by omega) h hx hxy ?_
  unfold wY_make_30
  refine nm_r (nI_add M x) (And.intro iy (nm_r (e' := va y) (by rw [cy]) (br_f (by decide) (br_f (by decide) (br_f (by decide) (br_f (by decide) (br_f (by decide) (br_f (by decide) (br_f (by decide) (br_f (by decide) (br_f (by decide) (br_t rfl (?_)))))))))))))
  rw [cy, ct, fx_hx, ch, fx_nb0]
  exact And.intro iy (nm_e (And.intro ih (nm_e (br_c (fun e => And.intro i1 (nm_e (k1 e _ (fx_yin f)))) (fun e => And.intro i1 (nm_e (k0 e _ (fx_yin f))))))))
theorem fx_y6 {post : SY → Prop} {v : SY} (g : fx_G T M C B po ar mo L) (ht : t < T) (hy : y < M) (hx : ar t = nI x) (hxC : x < 8) (hxy : ((6 : Int32) < 6 ∧ y = x % M) ∨ (¬ (6 : Int32) < 6 ∧ x = y)) (h : po t = 6) (I : fx_RY T M C B (va, po, ar, mo, sn, ou, tk, he, L) v)
    {po1 ou1 tk1 : Nat → Int32} {L1 : List (Nat × Nat)} (e1 : fx_w1 y (va, po, ar, mo, sn, ou, tk, he, L) = (va, po1, ar, mo, sn, ou1, tk1, he, L1)) (k : ∀ v', fx_RY T M C B (va, upd po1 t 0, ar, mo, sn, upd ou1 t 4, upd tk1 t (-1), he, L1) v' → post v') : wpY_make post v (nI t) := by
  refine fx_yel (P := fun v => wpY_make post v (nI t)) ?_ I
  clear I
  intro wo we f
  have g4 := g.1
  unfold fx_B4 at g4
  have ht16 : t < 16 := by omega
  have hl := fx_len g
  have ct : (nI t).toNatClampNeg = t := nI_clamp (by omega)
  have cy : (nI y).toNatClampNeg = y := nI_clamp (by omega)
  have cw : (nI (M + x)).toNatClampNeg = M + x := nI_clamp (by omega)
  have ch : (nI (t * 8 + y)).toNatClampNeg = t * 8 + y := nI_clamp (by omega)
  have i1 : vp_in (nI t) 16 := vp_in_nI (by omega) (by decide)
  have iy : vp_in (nI y) 16 := vp_in_nI (by omega) (by decide)
  have iw : vp_in (nI (M + x)) 16 := vp_in_nI (by omega) (by decide)
  have ih : vp_in (nI (t * 8 + y)) 128 := vp_in_nI (by omega) (by decide)
  refine fx_y30 ht16 ⟨by omega, by omega⟩ (by omega) h hx hxy ?_
  unfold wY_make_30
  refine nm_r (nI_add M x) (And.intro iy (nm_r (e' := va y) (by rw [cy]) (br_f (by decide) (br_f (by decide) (br_f (by decide) (br_f (by decide) (br_f (by decide) (br_f (by decide) (br_f (by decide) (br_t rfl (?_)))))))))))
  refine fx_w1Y g (by omega) (fx_yin f) ?_
  intro v' h'
  rw [e1] at h'
  obtain ⟨a0, a1, a2, a3, a4, a5, a6, a7, a8, a9, b0, b1, b2, b3⟩ := v'
  exact fx_endY ht16 h' (fun v' h' => k v' h')
theorem fx_y14 {post : SY → Prop} {v : SY} (g : fx_G T M C B po ar mo L) (ht : t < T) (hy : y < M) (hx : ar t = nI x) (hxC : x < 8) (hxy : ((6 : Int32) < 14 ∧ y = x % M) ∨ (¬ (6 : Int32) < 14 ∧ x = y)) (h : po t = 14) (I : fx_RY T M C B (va, po, ar, mo, sn, ou, tk, he, L) v)
    {po1 ou1 tk1 : Nat → Int32} {L1 : List (Nat × Nat)} (e1 : fx_w1 (M + x) (va, po, ar, mo, sn, ou, tk, he, L) = (va, po1, ar, mo, sn, ou1, tk1, he, L1)) (k : ∀ v', fx_RY T M C B (va, upd po1 t 0, ar, mo, sn, upd ou1 t 4, upd tk1 t (-1), he, L1) v' → post v') (hxc : x < C) : wpY_make post v (nI t) := by
  refine fx_yel (P := fun v => wpY_make post v (nI t)) ?_ I
  clear I
  intro wo we f
  have g4 := g.1
  unfold fx_B4 at g4
  have ht16 : t < 16 := by omega
  have hl := fx_len g
  have ct : (nI t).toNatClampNeg = t := nI_clamp (by omega)
  have cy : (nI y).toNatClampNeg = y := nI_clamp (by omega)
  have cw : (nI (M + x)).toNatClampNeg = M + x := nI_clamp (by omega)
  have ch : (nI (t * 8 + y)).toNatClampNeg = t * 8 + y := nI_clamp (by omega)
  have i1 : vp_in (nI t) 16 := vp_in_nI (by omega) (by decide)
  have iy : vp_in (nI y) 16 := vp_in_nI (by omega) (by decide)
  have iw : vp_in (nI (M + x)) 16 := vp_in_nI (by omega) (by decide)
  have ih : vp_in (nI (t * 8 + y)) 128 := vp_in_nI (by omega) (by decide)
  refine fx_y30 ht16 ⟨by omega, by omega⟩ (by omega) h hx hxy ?_
  unfold wY_make_30
  refine nm_r (nI_add M x) (And.intro iy (nm_r (e' := va y) (by rw [cy]) (br_f (by decide) (br_f (by decide) (br_f (by decide) (br_f (by decide) (br_f (by decide) (br_f (by decide) (br_f (by decide) (br_f (by decide) (br_f (by decide) (br_f (by decide) (br_f (by decide) (br_f (by decide) (br_f (by decide) (br_t rfl (?_)))))))))))))))))
  refine fx_w1Y g (by omega) (fx_yin f) ?_
  intro v' h'
  rw [e1] at h'
  obtain ⟨a0, a1, a2, a3, a4, a5, a6, a7, a8, a9, b0, b1, b2, b3⟩ := v'
  exact fx_endY ht16 h' (fun v' h' => k v' h')
theorem fx_y9 {post : SY → Prop} {v : SY} (g : fx_G T M C B po ar mo L) (ht : t < T) (hy : y < M) (hx : ar t = nI x) (hxC : x < 8) (hxy : ((6 : Int32) < 9 ∧ y = x % M) ∨ (¬ (6 : Int32) < 9 ∧ x = y)) (h : po t = 9) (I : fx_RY T M C B (va, po, ar, mo, sn, ou, tk, he, L) v)
    {po1 ou1 tk1 : Nat → Int32} {L1 : List (Nat × Nat)} (e1 : fx_w1 y (va, po, ar, mo, sn, ou, tk, he, L) = (va, po1, ar, mo, sn, ou1, tk1, he, L1)) (k : ∀ v', fx_RY T M C B (va, upd po1 t 10, ar, mo, sn, ou1, tk1, he, L1) v' → post v') : wpY_make post v (nI t) := by
  refine fx_yel (P := fun v => wpY_make post v (nI t)) ?_ I
  clear I
  intro wo we f
  have g4 := g.1
  unfold fx_B4 at g4
  have ht16 : t < 16 := by omega
  have hl := fx_len g
  have ct : (nI t).toNatClampNeg = t := nI_clamp (by omega)
  have cy : (nI y).toNatClampNeg = y := nI_clamp (by omega)
  have cw : (nI (M + x)).toNatClampNeg = M + x := nI_clamp (by omega)
  have ch : (nI (t * 8 + y)).toNatClampNeg = t * 8 + y := nI_clamp (by omega)
  have i1 : vp_in (nI t) 16 := vp_in_nI (by omega) (by decide)
  have iy : vp_in (nI y) 16 := vp_in_nI (by omega) (by decide)
  have iw : vp_in (nI (M + x)) 16 := vp_in_nI (by omega) (by decide)
  have ih : vp_in (nI (t * 8 + y)) 128 := vp_in_nI (by omega) (by decide)
  refine fx_y30 ht16 ⟨by omega, by omega⟩ (by omega) h hx hxy ?_
  unfold wY_make_30
  refine nm_r (nI_add M x) (And.intro iy (nm_r (e' := va y) (by rw [cy]) (br_f (by decide) (br_f (by decide) (br_f (by decide) (br_f (by decide) (br_f (by decide) (br_f (by decide) (br_f (by decide) (br_f (by decide) (br_f (by decide) (br_f (by decide) (br_t rfl (?_))))))))))))))
  rw [ct]
  refine fx_w1Y g (by omega) (fx_yin f) ?_
  intro v' h'
  rw [e1] at h'
  obtain ⟨wo', we', rfl, f'⟩ := h'
  exact And.intro i1 (nm_e (k _ (fx_yin f')))
theorem fx_y7 {post : SY → Prop} {v : SY} (g : fx_G T M C B po ar mo L) (ht : t < T) (hy : y < M) (hx : ar t = nI x) (hxC : x < 8) (hxy : ((6 : Int32) < 7 ∧ y = x % M) ∨ (¬ (6 : Int32) < 7 ∧ x = y)) (h : po t = 7) (I : fx_RY T M C B (va, po, ar, mo, sn, ou, tk, he, L) v)
    (k : ∀ v', fx_RY T M C B (va, upd po t 8, ar, mo, upd sn t (va (M + x)), ou, tk, he, L) v' → post v') : wpY_make post v (nI t) := by
  refine fx_yel (P := fun v => wpY_make post v (nI t)) ?_ I
  clear I
  intro wo we f
  have g4 := g.1
  unfold fx_B4 at g4
  have ht16 : t < 16 := by omega
  have hl := fx_len g
  have ct : (nI t).toNatClampNeg = t := nI_clamp (by omega)
  have cy : (nI y).toNatClampNeg = y := nI_clamp (by omega)
  have cw : (nI (M + x)).toNatClampNeg = M + x := nI_clamp (by omega)
  have ch : (nI (t * 8 + y)).toNatClampNeg = t * 8 + y := nI_clamp (by omega)
  have i1 : vp_in (nI t) 16 := vp_in_nI (by omega) (by decide)
  have iy : vp_in (nI y) 16 := vp_in_nI (by omega) (by decide)
  have iw : vp_in (nI (M + x)) 16 := vp_in_nI (by omega) (by decide)
  have ih : vp_in (nI (t * 8 + y)) 128 := vp_in_nI (by omega) (by decide)
  refine fx_y30 ht16 ⟨by omega, by omega⟩ (by omega) h hx hxy ?_
  unfold wY_make_30
  refine nm_r (nI_add M x) (And.intro iy (nm_r (e' := va y) (by rw [cy]) (br_f (by decide) (br_f (by decide) (br_f (by decide) (br_f (by decide) (br_f (by decide) (br_f (by decide) (br_f (by decide) (br_f (by decide) (br_t rfl (?_))))))))))))
  rw [ct, cw]
  exact And.intro iw (And.intro i1 (nm_e (And.intro i1 (nm_e (k _ (fx_yin f))))))
theorem fx_y13 {post : SY → Prop} {v : SY} (g : fx_G T M C B po ar mo L) (ht : t < T) (hy : y < M) (hx : ar t = nI x) (hxC : x < 8) (hxy : ((6 : Int32) < 13 ∧ y = x % M) ∨ (¬ (6 : Int32) < 13 ∧ x = y)) (h : po t = 13) (I : fx_RY T M C B (va, po, ar, mo, sn, ou, tk, he, L) v)
    (k : ∀ v', fx_RY T M C B (upd va (M + x) (va (M + x) + 1), upd po t 14, ar, mo, sn, ou, tk, he, L) v' → post v') : wpY_make post v (nI t) := by
  refine fx_yel (P := fun v => wpY_make post v (nI t)) ?_ I
  clear I
  intro wo we f
  have g4 := g.1
  unfold fx_B4 at g4
  have ht16 : t < 16 := by omega
  have hl := fx_len g
  have ct : (nI t).toNatClampNeg = t := nI_clamp (by omega)
  have cy : (nI y).toNatClampNeg = y := nI_clamp (by omega)
  have cw : (nI (M + x)).toNatClampNeg = M + x := nI_clamp (by omega)
  have ch : (nI (t * 8 + y)).toNatClampNeg = t * 8 + y := nI_clamp (by omega)
  have i1 : vp_in (nI t) 16 := vp_in_nI (by omega) (by decide)
  have iy : vp_in (nI y) 16 := vp_in_nI (by omega) (by decide)
  have iw : vp_in (nI (M + x)) 16 := vp_in_nI (by omega) (by decide)
  have ih : vp_in (nI (t * 8 + y)) 128 := vp_in_nI (by omega) (by decide)
  refine fx_y30 ht16 ⟨by omega, by omega⟩ (by omega) h hx hxy ?_
  unfold wY_make_30
  refine nm_r (nI_add M x) (And.intro iy (nm_r (e' := va y) (by rw [cy]) (br_f (by decide) (br_f (by decide) (br_f (by decide) (br_f (by decide) (br_f (by decide) (br_f (by decide) (br_f (by decide) (br_f (by decide) (br_f (by decide) (br_f (by decide) (br_f (by decide) (br_f (by decide) (br_t rfl (?_))))))))))))))))
  rw [ct, cw]
  exact And.intro iw (And.intro iw (nm_e (And.intro i1 (nm_e (k _ (fx_yin f))))))
theorem fx_y15 {post : SY → Prop} {v : SY} (g : fx_G T M C B po ar mo L) (ht : t < T) (hy : y < M) (hx : ar t = nI x) (hxC : x < 8) (hxy : ((6 : Int32) < 15 ∧ y = x % M) ∨ (¬ (6 : Int32) < 15 ∧ x = y)) (h : po t = 15) (I : fx_RY T M C B (va, po, ar, mo, sn, ou, tk, he, L) v)
    (k : ∀ v', fx_RY T M C B (upd va (M + x) (va (M + x) + 1), upd po t 16, ar, mo, upd sn t (upd va (M + x) (va (M + x) + 1) (M + x)), ou, tk, he, L) v' → post v') : wpY_make post v (nI t) := by
  refine fx_yel (P := fun v => wpY_make post v (nI t)) ?_ I
  clear I
  intro wo we f
  have g4 := g.1
  unfold fx_B4 at g4
  have ht16 : t < 16 := by omega
  have hl := fx_len g
  have ct : (nI t).toNatClampNeg = t := nI_clamp (by omega)
  have cy : (nI y).toNatClampNeg = y := nI_clamp (by omega)
  have cw : (nI (M + x)).toNatClampNeg = M + x := nI_clamp (by omega)
  have ch : (nI (t * 8 + y)).toNatClampNeg = t * 8 + y := nI_clamp (by omega)
  have i1 : vp_in (nI t) 16 := vp_in_nI (by omega) (by decide)
  have iy : vp_in (nI y) 16 := vp_in_nI (by omega) (by decide)
  have iw : vp_in (nI (M + x)) 16 := vp_in_nI (by omega) (by decide)
  have ih : vp_in (nI (t * 8 + y)) 128 := vp_in_nI (by omega) (by decide)
  refine fx_y30 ht16 ⟨by omega, by omega⟩ (by omega) h hx hxy ?_
  unfold wY_make_30
  refine nm_r (nI_add M x) (And.intro iy (nm_r (e' := va y) (by rw [cy]) (br_f (by decide) (br_f (by decide) (br_f (by decide) (br_f (by decide) (br_f (by decide) (br_f (by decide) (br_f (by decide) (br_f (by decide) (br_f (by decide) (br_f (by decide) (br_f (by decide) (br_f (by decide) (br_f (by decide) (br_f (by decide) (br_t rfl (?_))))))))))))))))))
  rw [ct, cw]
  exact And.intro iw (And.intro iw (nm_e (And.intro iw (And.intro i1 (nm_e (And.intro i1 (nm_e (k _ (fx_yin f)))))))))
theorem fx_y10 {post : SY → Prop} {v : SY} (g : fx_G T M C B po ar mo L) (ht : t < T) (hy : y < M) (hx : ar t = nI x) (hxC : x < 8) (hxy : ((6 : Int32) < 10 ∧ y = x % M) ∨ (¬ (6 : Int32) < 10 ∧ x = y)) (h : po t = 10) (I : fx_RY T M C B (va, po, ar, mo, sn, ou, tk, he, L) v)
    (nt : t ∉ fx_K L) (hxc : x < C) (k2 : va (M + x) = sn t → tk t = 0 → ∀ v', fx_RY T M C B (va, upd po t 11, ar, mo, sn, upd ou t 3, upd tk t (-1), he, L) v' → post v') (k1 : va (M + x) = sn t → ¬ tk t = 0 → ∀ v', fx_RY T M C B (va, po, ar, mo, sn, ou, tk, he, L ++ [(t, M + x)]) v' → post v') (k0 : ¬ va (M + x) = sn t → ∀ v', fx_RY T M C B (va, upd po t 11, ar, mo, sn, upd ou t 7, upd tk t (-1), he, L) v' → post v') : wpY_make post v (nI t) := by
  refine fx_yel (P := fun v => wpY_make post v (nI t)) ?_ I
  clear I
  intro wo we f
  have g4 := g.1
  unfold fx_B4 at g4
  have ht16 : t < 16 := by omega
  have hl := fx_len g
  have ct : (nI t).toNatClampNeg = t := nI_clamp (by omega)
  have cy : (nI y).toNatClampNeg = y := nI_clamp (by omega)
  have cw : (nI (M + x)).toNatClampNeg = M + x := nI_clamp (by omega)
  have ch : (nI (t * 8 + y)).toNatClampNeg = t * 8 + y := nI_clamp (by omega)
  have i1 : vp_in (nI t) 16 := vp_in_nI (by omega) (by decide)
  have iy : vp_in (nI y) 16 := vp_in_nI (by omega) (by decide)
  have iw : vp_in (nI (M + x)) 16 := vp_in_nI (by omega) (by decide)
  have ih : vp_in (nI (t * 8 + y)) 128 := vp_in_nI (by omega) (by decide)
  refine fx_y30 ht16 ⟨by omega, by omega⟩ (by omega) h hx hxy ?_
  unfold wY_make_30
  refine nm_r (nI_add M x) (And.intro iy (nm_r (e' := va y) (by rw [cy]) (br_f (by decide) (br_f (by decide) (br_f (by decide) (br_f (by decide) (br_f (by decide) (br_f (by decide) (br_f (by decide) (br_f (by decide) (br_f (by decide) (br_f (by decide) (br_f (by decide) (br_t rfl (?_)))))))))))))))
  rw [ct, cw]
  refine And.intro iw (And.intro i1 (br_c (fun e => And.intro i1 (br_c (fun c => ?_) (fun c => ?_))) (fun e => ?_)))
  · exact fx_rlY (mo := mo) ht16 (fx_yin f) (fun v' h' => k2 e c v' h')
  · have gl := fx_len (fx_G_slp (w := M + x) g ht nt (by omega) (Or.inr (Or.inl h)))
    rw [List.length_append] at gl
    have gl2 : L.length + 1 ≤ T := gl
    exact fx_jnY (by omega) f (fun wo' we' f' => k1 e c _ (fx_yin f'))
  · exact fx_rlY (mo := mo) ht16 (fx_yin f) (fun v' h' => k0 e v' h')
theorem fx_y16 {post : SY → Prop} {v : SY} (g : fx_G T M C B po ar mo L) (ht : t < T) (hy : y < M) (hx : ar t = nI x) (hxC : x < 8) (hxy : ((6 : Int32) < 16 ∧ y = x % M) ∨ (¬ (6 : Int32) < 16 ∧ x = y)) (h : po t = 16) (I : fx_RY T M C B (va, po, ar, mo, sn, ou, tk, he, L) v)
    (hxc : x < C) {po1 ou1 tk1 : Nat → Int32} {L1 : List (Nat × Nat)} (e1 : fx_w1 (M + x) (va, po, ar, mo, sn, ou, tk, he, L) = (va, po1, ar, mo, sn, ou1, tk1, he, L1)) (g1 : fx_G T M C B po1 ar mo L1) (k1 : va (M + x) = sn t → ∀ v', fx_RY T M C B (va, upd po1 t 0, ar, mo, sn, upd ou1 t 4, upd tk1 t (-1), he, fx_qn (M + x) y (fx_O (M + x) L1).length L1) v' → post v') (k0 : ¬ va (M + x) = sn t → ∀ v', fx_RY T M C B (va, upd po t 17, ar, mo, sn, ou, tk, he, L) v' → post v') : wpY_make post v (nI t) := by
  refine fx_yel (P := fun v => wpY_make post v (nI t)) ?_ I
  clear I
  intro wo we f
  have g4 := g.1
  unfold fx_B4 at g4
  have ht16 : t < 16 := by omega
  have hl := fx_len g
  have ct : (nI t).toNatClampNeg = t := nI_clamp (by omega)
  have cy : (nI y).toNatClampNeg = y := nI_clamp (by omega)
  have cw : (nI (M + x)).toNatClampNeg = M + x := nI_clamp (by omega)
  have ch : (nI (t * 8 + y)).toNatClampNeg = t * 8 + y := nI_clamp (by omega)
  have i1 : vp_in (nI t) 16 := vp_in_nI (by omega) (by decide)
  have iy : vp_in (nI y) 16 := vp_in_nI (by omega) (by decide)
  have iw : vp_in (nI (M + x)) 16 := vp_in_nI (by omega) (by decide)
  have ih : vp_in (nI (t * 8 + y)) 128 := vp_in_nI (by omega) (by decide)
  refine fx_y30 ht16 ⟨by omega, by omega⟩ (by omega) h hx hxy ?_
  unfold wY_make_30
  refine nm_r (nI_add M x) (And.intro iy (nm_r (e' := va y) (by rw [cy]) (br_f (by decide) (br_f (by decide) (br_f (by decide) (br_f (by decide) (br_f (by decide) (br_f (by decide) (br_f (by decide) (br_f (by decide) (br_f (by decide) (br_f (by decide) (br_f (by decide) (br_f (by decide) (br_f (by decide) (br_f (by decide) (br_f (by decide) (br_t rfl (?_)))))))))))))))))))
  rw [ct, cw]
  refine And.intro iw (And.intro i1 (br_c (fun e => ?_) (fun e => And.intro i1 (nm_e (k0 e _ (fx_yin f))))))
  refine fx_w1Y g (by omega) (fx_yin f) ?_
  intro v' h'
  rw [e1] at h'
  have ol := fx_Olen (w := M + x) (T := T) g1.2.1 (fun s v q => (g1.2.2.1 s v q).1)
  have := fx_rqY (post := post) (x1 := nI t) (s := M + x) (m := y) (by omega) (by omega) (by omega) 16 0 L1 v' g1 rfl (by omega) h' (fun v' h' => fx_endY ht16 h' (fun v' h' => k1 e v' h'))
  obtain ⟨a0, a1, a2, a3, a4, a5, a6, a7, a8, a9, b0, b1, b2, b3⟩ := v'
  exact ⟨17, this⟩
theorem fx_wnZ {post : SY → Prop} {x1 : Int32} {c1 : fx_A} {v : SY} (hw : w < M + C) (g : fx_G T M C B po ar mo L) (I : fx_RY T M C B (va, po, ar, mo, sn, ou, tk, he, L) v) (e1 : fx_wn w 16 (va, po, ar, mo, sn, ou, tk, he, L) = c1)
    (k : ∀ v', fx_RY T M C B c1 v' → wpY_end post v' x1 4) : fx_YA post x1 (nI w) 17 (nI 0) v := by
  refine fx_wnY hw 16 0 po ou tk L v g rfl I ?_
  rw [e1]
  exact k
theorem fx_y17 {post : SY → Prop} {v : SY} (g : fx_G T M C B po ar mo L) (ht : t < T) (hy : y < M) (hx : ar t = nI x) (hxC : x < 8) (hxy : ((6 : Int32) < 17 ∧ y = x % M) ∨ (¬ (6 : Int32) < 17 ∧ x = y)) (h : po t = 17) (I : fx_RY T M C B (va, po, ar, mo, sn, ou, tk, he, L) v)
    (hxc : x < C) {po1 ou1 tk1 : Nat → Int32} {L1 : List (Nat × Nat)} (e1 : fx_wn (M + x) 16 (va, po, ar, mo, sn, ou, tk, he, L) = (va, po1, ar, mo, sn, ou1, tk1, he, L1)) (k : ∀ v', fx_RY T M C B (va, upd po1 t 0, ar, mo, sn, upd ou1 t 4, upd tk1 t (-1), he, L1) v' → post v') : wpY_make post v (nI t) := by
  refine fx_yel (P := fun v => wpY_make post v (nI t)) ?_ I
  clear I
  intro wo we f
  have g4 := g.1
  unfold fx_B4 at g4
  have ht16 : t < 16 := by omega
  have hl := fx_len g
  have ct : (nI t).toNatClampNeg = t := nI_clamp (by omega)
  have cy : (nI y).toNatClampNeg = y := nI_clamp (by omega)
  have cw : (nI (M + x)).toNatClampNeg = M + x := nI_clamp (by omega)
  have ch : (nI (t * 8 + y)).toNatClampNeg = t * 8 + y := nI_clamp (by omega)
  have i1 : vp_in (nI t) 16 := vp_in_nI (by omega) (by decide)
  have iy : vp_in (nI y) 16 := vp_in_nI (by omega) (by decide)
  have iw : vp_in (nI (M + x)) 16 := vp_in_nI (by omega) (by decide)
  have ih : vp_in (nI (t * 8 + y)) 128 := vp_in_nI (by omega) (by decide)
  refine fx_y30 ht16 ⟨by omega, by omega⟩ (by omega) h hx hxy ?_
  unfold wY_make_30
  refine nm_r (nI_add M x) (And.intro iy (nm_r (e' := va y) (by rw [cy]) (br_f (by decide) (br_f (by decide) (br_f (by decide) (br_f (by decide) (br_f (by decide) (br_f (by decide) (br_f (by decide) (br_f (by decide) (br_f (by decide) (br_f (by decide) (br_f (by decide) (br_f (by decide) (br_f (by decide) (br_f (by decide) (br_f (by decide) (br_f (by decide) (br_t rfl (?_))))))))))))))))))))
  have := fx_wnZ (post := post) (x1 := nI t) (w := M + x) (by omega) g (fx_yin f) e1 (fun v' h' => fx_endY ht16 h' (fun v' h' => k v' h'))
  exact ⟨17, this⟩
end
end
section
/-! one step of a thread, both sides -/
def fx_J (T M C B t : Nat) (c c' : fx_A) : Prop := fx_Gc T M C B c' ∧
  (∀ (nw : Nat) (u : SX) (post : SX → Prop), fx_RX T M C B nw c u → (∀ u', fx_RX T M C B nw c' u' → post u') → wpX_makeStep post u (nI t)) ∧
  (∀ (v : SY) (post : SY → Prop), fx_RY T M C B c v → (∀ v', fx_RY T M C B c' v' → post v') → wpY_make post v (nI t))
section
variable {T M C B nw : Nat} {va po ar mo sn ou tk he : Nat → Int32} {L : List (Nat × Nat)} {t w x y : Nat} {z r : Int32}
theorem fx_bmX {post : SX → Prop} {u : SX} (g : fx_G T M C B po ar mo L) (ht : t < T) (hp : ¬ po t = 0) (nt : t ∉ fx_K L) (hm : mo t = nI y) (hyM : y < M) (hw : w < M + C) (hwy : ¬ y = w) (I : fx_RX T M C B nw (va, po, ar, mo, sn, ou, tk, he, L) u)
    {po1 ou1 tk1 : Nat → Int32} {L1 : List (Nat × Nat)} (e1 : fx_w1 w (va, po, ar, mo, sn, ou, tk, he, L) = (va, po1, ar, mo, sn, ou1, tk1, he, L1)) (g1 : fx_G T M C B po1 ar mo L1) (hp1 : ¬ po1 t = 0) (nt1 : t ∉ fx_K L1)
    (k1 : va w = sn t → ∀ u', fx_RX T M C B nw (va, upd po1 t 0, ar, mo, sn, upd ou1 t 4, upd tk1 t (-1), he, fx_qn w y (fx_O w L1).length L1) u' → post u')
    (k0 : ¬ va w = sn t → ∀ u', fx_RX T M C B nw (va, upd po t 17, ar, mo, sn, ou, tk, he, L) u' → post u') : wpX_broadMove post u (nI t) (nI w) := by
  refine fx_xel (P := fun u => wpX_broadMove post u (nI t) (nI w)) ?_ I
  clear I
  intro th rn sl bc hs dl sw qn qp bh bl tn tp f
  have g4 := g.1
  unfold fx_B4 at g4
  have ct : (nI t).toNatClampNeg = t := nI_clamp (by omega)
  have i1 : vp_in (nI t) 16 := vp_in_nI (by omega) (by decide)
  unfold wpX_broadMove
  dsimp only
  rw [ct, nI_clamp (show w < 2 ^ 31 by omega)]
  refine And.intro (vp_in_nI (by omega) (by decide)) (And.intro i1 (br_c (fun e => ?_) (fun e => ?_)))
  · refine fx_w1X g hw (fx_xin f) ?_
    intro u' h'
    rw [e1] at h'
    have h2 := h'
    obtain ⟨th', rn', sl', bc', hs', dl', sw', qn', qp', bh', bl', tn', tp', rfl, f'⟩ := h'
    refine And.intro i1 ?_
    dsimp only
    rw [hm]
    refine fx_rqX g1 hw (by omega) hwy h2 ?_
    intro u'' h''
    obtain ⟨a0, a1, a2, a3, a4, a5, a6, a7, a8, a9, b0, b1, b2, b3, b4, b5, b6, b7, b8, b9, c0, c1, c2, c3⟩ := u''
    exact fx_endX (fx_G_qn (by omega) _ _ g1) ht hp1 (fun q => nt1 ((fx_qn_K _ _).mp q)) h'' (fun u' h' => k1 e u' h')
  · exact fx_mvX g ht hp (by decide) (fx_xin f) (fun u' h' => k0 e u' h')
end
section
variable {T M C B nw : Nat} {va po ar mo sn ou tk he : Nat → Int32} {L : List (Nat × Nat)} {t w x y : Nat} {z r : Int32}
theorem fx_j1 (g : fx_G T M C B po ar mo L) (ht : t < T) (hp : ¬ po t = 0) (nt : t ∉ fx_K L) (hm : mo t = nI y) (hyM : y < M) (hx : ar t = nI x) (hxy : x = y) (h : po t = 1) : ∃ c', fx_J T M C B t (va, po, ar, mo, sn, ou, tk, he, L) c' := by
  have g4 := g.1
  unfold fx_B4 at g4
  have ht16 : t < 16 := by omega
  have hy : y < 8 := by omega
  have hx8 : x < 8 := by omega
  have hw : M + x < M + C + 8 := by omega
  have X := Or.inr (a := (6 : Int32) < 1 ∧ y = x % M) (b := ¬ (6 : Int32) < 1 ∧ x = y) ⟨by decide, hxy⟩
  by_cases e : va y = 0
  · refine ⟨(upd va y 1, upd po t 0, ar, mo, sn, upd ou t 1, upd tk t (-1), upd he (t * 8 + y) 1, L), fx_G_po g ht nt (Or.inl rfl), fun nw u post I k => ?_, fun v post I k => ?_⟩
    · exact fx_ms1 ht16 (by rw [h]; decide) I (fun u I => fx_sm1 ht16 h I (fun u I => fx_ltX g ht hp nt hm hy I (fun _ => k) (fun n => absurd e n)))
    · exact fx_y1 g ht hyM hx hx8 X h I (fun _ => k) (fun n => absurd e n)
  · refine ⟨(va, upd po t 2, ar, mo, sn, ou, tk, he, L), fx_G_po g ht nt (Or.inr (fx_ok_mv (i := 1) (j := 2) (g.2.2.2 t ht hp) h (by decide) rfl (by decide) (by decide) (by decide))), fun nw u post I k => ?_, fun v post I k => ?_⟩
    · exact fx_ms1 ht16 (by rw [h]; decide) I (fun u I => fx_sm1 ht16 h I (fun u I => fx_ltX g ht hp nt hm hy I (fun n => absurd n e) (fun _ => k)))
    · exact fx_y1 g ht hyM hx hx8 X h I (fun n => absurd n e) (fun _ => k)
theorem fx_j4 (g : fx_G T M C B po ar mo L) (ht : t < T) (hp : ¬ po t = 0) (nt : t ∉ fx_K L) (hm : mo t = nI y) (hyM : y < M) (hx : ar t = nI x) (hxy : x = y) (h : po t = 4) : ∃ c', fx_J T M C B t (va, po, ar, mo, sn, ou, tk, he, L) c' := by
  have g4 := g.1
  unfold fx_B4 at g4
  have ht16 : t < 16 := by omega
  have hy : y < 8 := by omega
  have hx8 : x < 8 := by omega
  have hw : M + x < M + C + 8 := by omega
  have X := Or.inr (a := (6 : Int32) < 4 ∧ y = x % M) (b := ¬ (6 : Int32) < 4 ∧ x = y) ⟨by decide, hxy⟩
  by_cases e : va y = 0
  · refine ⟨(upd va y 1, upd po t 0, ar, mo, sn, upd ou t 1, upd tk t (-1), upd he (t * 8 + y) 1, L), fx_G_po g ht nt (Or.inl rfl), fun nw u post I k => ?_, fun v post I k => ?_⟩
    · exact fx_ms1 ht16 (by rw [h]; decide) I (fun u I => fx_sm4 ht16 h I (fun u I => fx_toX g ht hp nt hm hy I (fun _ => k) (fun n => absurd e n)))
    · exact fx_y4 g ht hyM hx hx8 X h I (fun _ => k) (fun n => absurd e n)
  · refine ⟨(va, upd po t 0, ar, mo, sn, upd ou t 2, upd tk t (-1), he, L), fx_G_po g ht nt (Or.inl rfl), fun nw u post I k => ?_, fun v post I k => ?_⟩
    · exact fx_ms1 ht16 (by rw [h]; decide) I (fun u I => fx_sm4 ht16 h I (fun u I => fx_toX g ht hp nt hm hy I (fun n => absurd n e) (fun _ => k)))
    · exact fx_y4 g ht hyM hx hx8 X h I (fun n => absurd n e) (fun _ => k)
theorem fx_j2 (g : fx_G T M C B po ar mo L) (ht : t < T) (hp : ¬ po t = 0) (nt : t ∉ fx_K L) (hm : mo t = nI y) (hyM : y < M) (hx : ar t = nI x) (hxy : x = y) (h : po t = 2) : ∃ c', fx_J T M C B t (va, po, ar, mo, sn, ou, tk, he, L) c' := by
  have g4 := g.1
  unfold fx_B4 at g4
  have ht16 : t < 16 := by omega
  have hy : y < 8 := by omega
  have hx8 : x < 8 := by omega
  have hw : M + x < M + C + 8 := by omega
  have X := Or.inr (a := (6 : Int32) < 2 ∧ y = x % M) (b := ¬ (6 : Int32) < 2 ∧ x = y) ⟨by decide, hxy⟩
  by_cases e : va y = 0
  · refine ⟨(upd va y 2, upd po t 0, ar, mo, sn, upd ou t 1, upd tk t (-1), upd he (t * 8 + y) 1, L), fx_G_po g ht nt (Or.inl rfl), fun nw u post I k => ?_, fun v post I k => ?_⟩
    · exact fx_ms1 ht16 (by rw [h]; decide) I (fun u I => fx_sm2 ht16 h I (fun u I => fx_siX g ht hp nt hm hy I (by decide) (fun _ => k) (fun n => absurd e n)))
    · exact fx_y2 g ht hyM hx hx8 X h I (fun _ => k) (fun n => absurd e n)
  · refine ⟨(upd va y 2, upd po t 3, ar, mo, sn, ou, tk, he, L), fx_G_po g ht nt (Or.inr (fx_ok_mv (i := 2) (j := 3) (g.2.2.2 t ht hp) h (by decide) rfl (by decide) (by decide) (by decide))), fun nw u post I k => ?_, fun v post I k => ?_⟩
    · exact fx_ms1 ht16 (by rw [h]; decide) I (fun u I => fx_sm2 ht16 h I (fun u I => fx_siX g ht hp nt hm hy I (by decide) (fun n => absurd n e) (fun _ => k)))
    · exact fx_y2 g ht hyM hx hx8 X h I (fun n => absurd n e) (fun _ => k)
theorem fx_j11 (g : fx_G T M C B po ar mo L) (ht : t < T) (hp : ¬ po t = 0) (nt : t ∉ fx_K L) (hm : mo t = nI y) (hyM : y < M) (hx : ar t = nI x) (hxc : x < C) (hxy : y = x % M) (h : po t = 11) : ∃ c', fx_J T M C B t (va, po, ar, mo, sn, ou, tk, he, L) c' := by
  have g4 := g.1
  unfold fx_B4 at g4
  have ht16 : t < 16 := by omega
  have hy : y < 8 := by omega
  have hx8 : x < 8 := by omega
  have hw : M + x < M + C := by omega
  have X := Or.inl (a := (6 : Int32) < 11 ∧ y = x % M) (b := ¬ (6 : Int32) < 11 ∧ x = y) ⟨by decide, hxy⟩
  by_cases e : va y = 0
  · refine ⟨(upd va y 2, upd po t 0, ar, mo, sn, upd ou t (ou t), upd tk t (-1), upd he (t * 8 + y) 1, L), fx_G_po g ht nt (Or.inl rfl), fun nw u post I k => ?_, fun v post I k => ?_⟩
    · exact fx_ms2 ht16 (by rw [h]; decide) (by rw [h]; decide) hx I (fun u I => fx_sw11 ht16 h I (fun u I => fx_siX g ht hp nt hm hy I (by decide) (fun _ => k) (fun n => absurd e n)))
    · exact fx_y11 g ht hyM hx hx8 X h I (fun _ => k) (fun n => absurd e n)
  · refine ⟨(upd va y 2, upd po t 12, ar, mo, sn, ou, tk, he, L), fx_G_po g ht nt (Or.inr (fx_ok_mv (i := 11) (j := 12) (g.2.2.2 t ht hp) h (by decide) rfl (by decide) (by decide) (by decide))), fun nw u post I k => ?_, fun v post I k => ?_⟩
    · exact fx_ms2 ht16 (by rw [h]; decide) (by rw [h]; decide) hx I (fun u I => fx_sw11 ht16 h I (fun u I => fx_siX g ht hp nt hm hy I (by decide) (fun n => absurd n e) (fun _ => k)))
    · exact fx_y11 g ht hyM hx hx8 X h I (fun n => absurd n e) (fun _ => k)
theorem fx_j5 (g : fx_G T M C B po ar mo L) (ht : t < T) (hp : ¬ po t = 0) (nt : t ∉ fx_K L) (hm : mo t = nI y) (hyM : y < M) (hx : ar t = nI x) (hxy : x = y) (h : po t = 5) : ∃ c', fx_J T M C B t (va, po, ar, mo, sn, ou, tk, he, L) c' := by
  have g4 := g.1
  unfold fx_B4 at g4
  have ht16 : t < 16 := by omega
  have hy : y < 8 := by omega
  have hx8 : x < 8 := by omega
  have hw : M + x < M + C + 8 := by omega
  have X := Or.inr (a := (6 : Int32) < 5 ∧ y = x % M) (b := ¬ (6 : Int32) < 5 ∧ x = y) ⟨by decide, hxy⟩
  by_cases e : va y = 2
  · refine ⟨(upd va y 0, upd po t 6, ar, mo, sn, ou, tk, upd he (t * 8 + y) 0, L), fx_G_po g ht nt (Or.inr (fx_ok_mv (i := 5) (j := 6) (g.2.2.2 t ht hp) h (by decide) rfl (by decide) (by decide) (by decide))), fun nw u post I k => ?_, fun v post I k => ?_⟩
    · exact fx_ms1 ht16 (by rw [h]; decide) I (fun u I => fx_sm5 ht16 h I (fun u I => fx_usX g ht hp nt hm hy I (fun _ => k) (fun n => absurd e n)))
    · exact fx_y5 g ht hyM hx hx8 X h I (fun _ => k) (fun n => absurd e n)
  · refine ⟨(upd va y 0, upd po t 0, ar, mo, sn, upd ou t 4, upd tk t (-1), upd he (t * 8 + y) 0, L), fx_G_po g ht nt (Or.inl rfl), fun nw u post I k => ?_, fun v post I k => ?_⟩
    · exact fx_ms1 ht16 (by rw [h]; decide) I (fun u I => fx_sm5 ht16 h I (fun u I => fx_usX g ht hp nt hm hy I (fun n => absurd n e) (fun _ => k)))
    · exact fx_y5 g ht hyM hx hx8 X h I (fun n => absurd n e) (fun _ => k)
theorem fx_j8 (g : fx_G T M C B po ar mo L) (ht : t < T) (hp : ¬ po t = 0) (nt : t ∉ fx_K L) (hm : mo t = nI y) (hyM : y < M) (hx : ar t = nI x) (hxc : x < C) (hxy : y = x % M) (h : po t = 8) : ∃ c', fx_J T M C B t (va, po, ar, mo, sn, ou, tk, he, L) c' := by
  have g4 := g.1
  unfold fx_B4 at g4
  have ht16 : t < 16 := by omega
  have hy : y < 8 := by omega
  have hx8 : x < 8 := by omega
  have hw : M + x < M + C := by omega
  have X := Or.inl (a := (6 : Int32) < 8 ∧ y = x % M) (b := ¬ (6 : Int32) < 8 ∧ x = y) ⟨by decide, hxy⟩
  by_cases e : va y = 2
  · refine ⟨(upd va y 0, upd po t 9, ar, mo, sn, ou, tk, upd he (t * 8 + y) 0, L), fx_G_po g ht nt (Or.inr (fx_ok_mv (i := 8) (j := 9) (g.2.2.2 t ht hp) h (by decide) rfl (by decide) (by decide) (by decide))), fun nw u post I k => ?_, fun v post I k => ?_⟩
    · exact fx_ms2 ht16 (by rw [h]; decide) (by rw [h]; decide) hx I (fun u I => fx_sw8 ht16 h I (fun u I => fx_wsX g ht hp nt hm hy I (fun _ => k) (fun n => absurd e n)))
    · exact fx_y8 g ht hyM hx hx8 X h I (fun _ => k) (fun n => absurd e n)
  · refine ⟨(upd va y 0, upd po t 10, ar, mo, sn, ou, tk, upd he (t * 8 + y) 0, L), fx_G_po g ht nt (Or.inr (fx_ok_mv (i := 8) (j := 10) (g.2.2.2 t ht hp) h (by decide) rfl (by decide) (by decide) (by decide))), fun nw u post I k => ?_, fun v post I k => ?_⟩
    · exact fx_ms2 ht16 (by rw [h]; decide) (by rw [h]; decide) hx I (fun u I => fx_sw8 ht16 h I (fun u I => fx_wsX g ht hp nt hm hy I (fun n => absurd n e) (fun _ => k)))
    · exact fx_y8 g ht hyM hx hx8 X h I (fun n => absurd n e) (fun _ => k)
theorem fx_j12 (g : fx_G T M C B po ar mo L) (ht : t < T) (hp : ¬ po t = 0) (nt : t ∉ fx_K L) (hm : mo t = nI y) (hyM : y < M) (hx : ar t = nI x) (hxc : x < C) (hxy : y = x % M) (h : po t = 12) : ∃ c', fx_J T M C B t (va, po, ar, mo, sn, ou, tk, he, L) c' := by
  have g4 := g.1
  unfold fx_B4 at g4
  have ht16 : t < 16 := by omega
  have hy : y < 8 := by omega
  have hx8 : x < 8 := by omega
  have hw : M + x < M + C := by omega
  have X := Or.inl (a := (6 : Int32) < 12 ∧ y = x % M) (b := ¬ (6 : Int32) < 12 ∧ x = y) ⟨by decide, hxy⟩
  by_cases e : va y = 2
  · refine ⟨(va, po, ar, mo, sn, ou, tk, he, L ++ [(t, y)]), fx_G_slp g ht nt (by omega) (Or.inr (Or.inr h)), fun nw u post I k => ?_, fun v post I k => ?_⟩
    · exact fx_ms2 ht16 (by rw [h]; decide) (by rw [h]; decide) hx I (fun u I => fx_sw12 ht16 h I (fun u I => fx_rsX g ht hp nt hm hy I hyM (fun _ => k) (fun n => absurd e n)))
    · exact fx_y12 g ht hyM hx hx8 X h I nt (fun _ => k) (fun n => absurd e n)
  · refine ⟨(va, upd po t 11, ar, mo, sn, ou, tk, he, L), fx_G_po g ht nt (Or.inr (fx_ok_mv (i := 12) (j := 11) (g.2.2.2 t ht hp) h (by decide) rfl (by decide) (by decide) (by decide))), fun nw u post I k => ?_, fun v post I k => ?_⟩
    · exact fx_ms2 ht16 (by rw [h]; decide) (by rw [h]; decide) hx I (fun u I => fx_sw12 ht16 h I (fun u I => fx_rsX g ht hp nt hm hy I hyM (fun n => absurd n e) (fun _ => k)))
    · exact fx_y12 g ht hyM hx hx8 X h I nt (fun n => absurd n e) (fun _ => k)
theorem fx_j3 (g : fx_G T M C B po ar mo L) (ht : t < T) (hp : ¬ po t = 0) (nt : t ∉ fx_K L) (hm : mo t = nI y) (hyM : y < M) (hx : ar t = nI x) (hxy : x = y) (h : po t = 3) : ∃ c', fx_J T M C B t (va, po, ar, mo, sn, ou, tk, he, L) c' := by
  have g4 := g.1
  unfold fx_B4 at g4
  have ht16 : t < 16 := by omega
  have hy : y < 8 := by omega
  have hx8 : x < 8 := by omega
  have hw : M + x < M + C + 8 := by omega
  have X := Or.inr (a := (6 : Int32) < 3 ∧ y = x % M) (b := ¬ (6 : Int32) < 3 ∧ x = y) ⟨by decide, hxy⟩
  by_cases e : va y = 2
  · by_cases c : tk t = 0
    · refine ⟨(va, upd po t 0, ar, mo, sn, upd ou t 3, upd tk t (-1), he, L), fx_G_po g ht nt (Or.inl rfl), fun nw u post I k => ?_, fun v post I k => ?_⟩
      · exact fx_ms1 ht16 (by rw [h]; decide) I (fun u I => fx_sm3 ht16 h I (fun u I => fx_lsX g ht hp nt hm hy I hyM (fun _ _ => k) (fun _ n => absurd c n) (fun n => absurd e n)))
      · exact fx_y3 g ht hyM hx hx8 X h I nt (fun _ _ => k) (fun _ n => absurd c n) (fun n => absurd e n)
    · refine ⟨(va, po, ar, mo, sn, ou, tk, he, L ++ [(t, y)]), fx_G_slp g ht nt (by omega) (Or.inl h), fun nw u post I k => ?_, fun v post I k => ?_⟩
      · exact fx_ms1 ht16 (by rw [h]; decide) I (fun u I => fx_sm3 ht16 h I (fun u I => fx_lsX g ht hp nt hm hy I hyM (fun _ n => absurd n c) (fun _ _ => k) (fun n => absurd e n)))
      · exact fx_y3 g ht hyM hx hx8 X h I nt (fun _ n => absurd n c) (fun _ _ => k) (fun n => absurd e n)
  · refine ⟨(va, upd po t 2, ar, mo, sn, ou, tk, he, L), fx_G_po g ht nt (Or.inr (fx_ok_mv (i := 3) (j := 2) (g.2.2.2 t ht hp) h (by decide) rfl (by decide) (by decide) (by decide))), fun nw u post I k => ?_, fun v post I k => ?_⟩
    · exact fx_ms1 ht16 (by rw [h]; decide) I (fun u I => fx_sm3 ht16 h I (fun u I => fx_lsX g ht hp nt hm hy I hyM (fun n => absurd n e) (fun n => absurd n e) (fun _ => k)))
    · exact fx_y3 g ht hyM hx hx8 X h I nt (fun n => absurd n e) (fun n => absurd n e) (fun _ => k)
theorem fx_j10 (g : fx_G T M C B po ar mo L) (ht : t < T) (hp : ¬ po t = 0) (nt : t ∉ fx_K L) (hm : mo t = nI y) (hyM : y < M) (hx : ar t = nI x) (hxc : x < C) (hxy : y = x % M) (h : po t = 10) : ∃ c', fx_J T M C B t (va, po, ar, mo, sn, ou, tk, he, L) c' := by
  have g4 := g.1
  unfold fx_B4 at g4
  have ht16 : t < 16 := by omega
  have hy : y < 8 := by omega
  have hx8 : x < 8 := by omega
  have hw : M + x < M + C := by omega
  have X := Or.inl (a := (6 : Int32) < 10 ∧ y = x % M) (b := ¬ (6 : Int32) < 10 ∧ x = y) ⟨by decide, hxy⟩
  by_cases e : va (M + x) = sn t
  · by_cases c : tk t = 0
    · refine ⟨(va, upd po t 11, ar, mo, sn, upd ou t 3, upd tk t (-1), he, L), fx_G_po g ht nt (Or.inr (fx_ok_mv (i := 10) (j := 11) (g.2.2.2 t ht hp) h (by decide) rfl (by decide) (by decide) (by decide))), fun nw u post I k => ?_, fun v post I k => ?_⟩
      · exact fx_ms2 ht16 (by rw [h]; decide) (by rw [h]; decide) hx I (fun u I => fx_sw10 ht16 h I (fun u I => fx_wlX g ht hp nt hm hy I hw (fun _ _ => k) (fun _ n => absurd c n) (fun n => absurd e n)))
      · exact fx_y10 g ht hyM hx hx8 X h I nt hxc (fun _ _ => k) (fun _ n => absurd c n) (fun n => absurd e n)
    · refine ⟨(va, po, ar, mo, sn, ou, tk, he, L ++ [(t, M + x)]), fx_G_slp g ht nt hw (Or.inr (Or.inl h)), fun nw u post I k => ?_, fun v post I k => ?_⟩
      · exact fx_ms2 ht16 (by rw [h]; decide) (by rw [h]; decide) hx I (fun u I => fx_sw10 ht16 h I (fun u I => fx_wlX g ht hp nt hm hy I hw (fun _ n => absurd n c) (fun _ _ => k) (fun n => absurd e n)))
      · exact fx_y10 g ht hyM hx hx8 X h I nt hxc (fun _ n => absurd n c) (fun _ _ => k) (fun n => absurd e n)
  · refine ⟨(va, upd po t 11, ar, mo, sn, upd ou t 7, upd tk t (-1), he, L), fx_G_po g ht nt (Or.inr (fx_ok_mv (i := 10) (j := 11) (g.2.2.2 t ht hp) h (by decide) rfl (by decide) (by decide) (by decide))), fun nw u post I k => ?_, fun v post I k => ?_⟩
    · exact fx_ms2 ht16 (by rw [h]; decide) (by rw [h]; decide) hx I (fun u I => fx_sw10 ht16 h I (fun u I => fx_wlX g ht hp nt hm hy I hw (fun n => absurd n e) (fun n => absurd n e) (fun _ => k)))
    · exact fx_y10 g ht hyM hx hx8 X h I nt hxc (fun n => absurd n e) (fun n => absurd n e) (fun _ => k)
theorem fx_j7 (g : fx_G T M C B po ar mo L) (ht : t < T) (hp : ¬ po t = 0) (nt : t ∉ fx_K L) (hm : mo t = nI y) (hyM : y < M) (hx : ar t = nI x) (hxc : x < C) (hxy : y = x % M) (h : po t = 7) : ∃ c', fx_J T M C B t (va, po, ar, mo, sn, ou, tk, he, L) c' := by
  have g4 := g.1
  unfold fx_B4 at g4
  have ht16 : t < 16 := by omega
  have hy : y < 8 := by omega
  have hx8 : x < 8 := by omega
  have hw : M + x < M + C := by omega
  have X := Or.inl (a := (6 : Int32) < 7 ∧ y = x % M) (b := ¬ (6 : Int32) < 7 ∧ x = y) ⟨by decide, hxy⟩
  refine ⟨(va, upd po t 8, ar, mo, upd sn t (va (M + x)), ou, tk, he, L), fx_G_po g ht nt (Or.inr (fx_ok_mv (i := 7) (j := 8) (g.2.2.2 t ht hp) h (by decide) rfl (by decide) (by decide) (by decide))), fun nw u post I k => ?_, fun v post I k => ?_⟩
  · exact fx_ms2 ht16 (by rw [h]; decide) (by rw [h]; decide) hx I (fun u I => fx_sw7 g ht hp hw h I k)
  · exact fx_y7 g ht hyM hx hx8 X h I k
theorem fx_j13 (g : fx_G T M C B po ar mo L) (ht : t < T) (hp : ¬ po t = 0) (nt : t ∉ fx_K L) (hm : mo t = nI y) (hyM : y < M) (hx : ar t = nI x) (hxc : x < C) (hxy : y = x % M) (h : po t = 13) : ∃ c', fx_J T M C B t (va, po, ar, mo, sn, ou, tk, he, L) c' := by
  have g4 := g.1
  unfold fx_B4 at g4
  have ht16 : t < 16 := by omega
  have hy : y < 8 := by omega
  have hx8 : x < 8 := by omega
  have hw : M + x < M + C := by omega
  have X := Or.inl (a := (6 : Int32) < 13 ∧ y = x % M) (b := ¬ (6 : Int32) < 13 ∧ x = y) ⟨by decide, hxy⟩
  refine ⟨(upd va (M + x) (va (M + x) + 1), upd po t 14, ar, mo, sn, ou, tk, he, L), fx_G_po g ht nt (Or.inr (fx_ok_mv (i := 13) (j := 14) (g.2.2.2 t ht hp) h (by decide) rfl (by decide) (by decide) (by decide))), fun nw u post I k => ?_, fun v post I k => ?_⟩
  · exact fx_ms3 ht16 (by rw [h]; decide) (by rw [h]; decide) hx I (fun u I => fx_sn13 g ht hp hw h I k)
  · exact fx_y13 g ht hyM hx hx8 X h I k
theorem fx_j15 (g : fx_G T M C B po ar mo L) (ht : t < T) (hp : ¬ po t = 0) (nt : t ∉ fx_K L) (hm : mo t = nI y) (hyM : y < M) (hx : ar t = nI x) (hxc : x < C) (hxy : y = x % M) (h : po t = 15) : ∃ c', fx_J T M C B t (va, po, ar, mo, sn, ou, tk, he, L) c' := by
  have g4 := g.1
  unfold fx_B4 at g4
  have ht16 : t < 16 := by omega
  have hy : y < 8 := by omega
  have hx8 : x < 8 := by omega
  have hw : M + x < M + C := by omega
  have X := Or.inl (a := (6 : Int32) < 15 ∧ y = x % M) (b := ¬ (6 : Int32) < 15 ∧ x = y) ⟨by decide, hxy⟩
  refine ⟨(upd va (M + x) (va (M + x) + 1), upd po t 16, ar, mo, upd sn t (upd va (M + x) (va (M + x) + 1) (M + x)), ou, tk, he, L), fx_G_po g ht nt (Or.inr (fx_ok_mv (i := 15) (j := 16) (g.2.2.2 t ht hp) h (by decide) rfl (by decide) (by decide) (by decide))), fun nw u post I k => ?_, fun v post I k => ?_⟩
  · exact fx_ms3 ht16 (by rw [h]; decide) (by rw [h]; decide) hx I (fun u I => fx_sn15 g ht hp hw h I k)
  · exact fx_y15 g ht hyM hx hx8 X h I k
theorem fx_j6 (g : fx_G T M C B po ar mo L) (ht : t < T) (hp : ¬ po t = 0) (nt : t ∉ fx_K L) (hm : mo t = nI y) (hyM : y < M) (hx : ar t = nI x) (hxy : x = y) (h : po t = 6) : ∃ c', fx_J T M C B t (va, po, ar, mo, sn, ou, tk, he, L) c' := by
  have g4 := g.1
  unfold fx_B4 at g4
  have ht16 : t < 16 := by omega
  have hy : y < 8 := by omega
  have hx8 : x < 8 := by omega
  have hw : M + x < M + C + 8 := by omega
  have X := Or.inr (a := (6 : Int32) < 6 ∧ y = x % M) (b := ¬ (6 : Int32) < 6 ∧ x = y) ⟨by decide, hxy⟩
  obtain ⟨po1, ou1, tk1, L1, e1, g1, h1⟩ := fx_Fr_w1 (w := y) (va := va) (sn := sn) (ou := ou) (tk := tk) (he := he) g
  obtain ⟨hp1, nt1⟩ := h1 t nt
  have hp2 : ¬ po1 t = 0 := by rw [hp1]; exact hp
  refine ⟨(va, upd po1 t 0, ar, mo, sn, upd ou1 t 4, upd tk1 t (-1), he, L1), fx_G_po g1 ht nt1 (Or.inl rfl), fun nw u post I k => ?_, fun v post I k => ?_⟩
  · exact fx_ms1 ht16 (by rw [h]; decide) I (fun u I => fx_sm6 ht16 hm h I (fun u I => fx_w1X g (by omega) I (fun u' h' => by rw [e1] at h'; exact fx_endX g1 ht hp2 nt1 h' k)))
  · exact fx_y6 g ht hyM hx hx8 X h I e1 k
theorem fx_j14 (g : fx_G T M C B po ar mo L) (ht : t < T) (hp : ¬ po t = 0) (nt : t ∉ fx_K L) (hm : mo t = nI y) (hyM : y < M) (hx : ar t = nI x) (hxc : x < C) (hxy : y = x % M) (h : po t = 14) : ∃ c', fx_J T M C B t (va, po, ar, mo, sn, ou, tk, he, L) c' := by
  have g4 := g.1
  unfold fx_B4 at g4
  have ht16 : t < 16 := by omega
  have hy : y < 8 := by omega
  have hx8 : x < 8 := by omega
  have hw : M + x < M + C := by omega
  have X := Or.inl (a := (6 : Int32) < 14 ∧ y = x % M) (b := ¬ (6 : Int32) < 14 ∧ x = y) ⟨by decide, hxy⟩
  obtain ⟨po1, ou1, tk1, L1, e1, g1, h1⟩ := fx_Fr_w1 (w := M + x) (va := va) (sn := sn) (ou := ou) (tk := tk) (he := he) g
  obtain ⟨hp1, nt1⟩ := h1 t nt
  have hp2 : ¬ po1 t = 0 := by rw [hp1]; exact hp
  refine ⟨(va, upd po1 t 0, ar, mo, sn, upd ou1 t 4, upd tk1 t (-1), he, L1), fx_G_po g1 ht nt1 (Or.inl rfl), fun nw u post I k => ?_, fun v post I k => ?_⟩
  · exact fx_ms3 ht16 (by rw [h]; decide) (by rw [h]; decide) hx I (fun u I => fx_sn14 ht16 h I (fun u I => fx_w1X g hw I (fun u' h' => by rw [e1] at h'; exact fx_endX g1 ht hp2 nt1 h' k)))
  · exact fx_y14 g ht hyM hx hx8 X h I e1 k hxc
theorem fx_j9 (g : fx_G T M C B po ar mo L) (ht : t < T) (hp : ¬ po t = 0) (nt : t ∉ fx_K L) (hm : mo t = nI y) (hyM : y < M) (hx : ar t = nI x) (hxc : x < C) (hxy : y = x % M) (h : po t = 9) : ∃ c', fx_J T M C B t (va, po, ar, mo, sn, ou, tk, he, L) c' := by
  have g4 := g.1
  unfold fx_B4 at g4
  have ht16 : t < 16 := by omega
  have hy : y < 8 := by omega
  have hx8 : x < 8 := by omega
  have hw : M + x < M + C := by omega
  have X := Or.inl (a := (6 : Int32) < 9 ∧ y = x % M) (b := ¬ (6 : Int32) < 9 ∧ x = y) ⟨by decide, hxy⟩
  obtain ⟨po1, ou1, tk1, L1, e1, g1, h1⟩ := fx_Fr_w1 (w := y) (va := va) (sn := sn) (ou := ou) (tk := tk) (he := he) g
  obtain ⟨hp1, nt1⟩ := h1 t nt
  have hp2 : ¬ po1 t = 0 := by rw [hp1]; exact hp
  refine ⟨(va, upd po1 t 10, ar, mo, sn, ou1, tk1, he, L1), fx_G_po g1 ht nt1 (Or.inr (fx_ok_mv (i := 9) (j := 10) (g1.2.2.2 t ht hp2) (hp1.trans h) (by decide) rfl (by decide) (by decide) (by decide))), fun nw u post I k => ?_, fun v post I k => ?_⟩
  · exact fx_ms2 ht16 (by rw [h]; decide) (by rw [h]; decide) hx I (fun u I => fx_sw9 ht16 hm h I (fun u I => fx_w1X g (by omega) I (fun u' h' => by rw [e1] at h'; exact fx_mvX g1 ht hp2 (by decide) h' k)))
  · exact fx_y9 g ht hyM hx hx8 X h I e1 k
theorem fx_j16 (g : fx_G T M C B po ar mo L) (ht : t < T) (hp : ¬ po t = 0) (nt : t ∉ fx_K L) (hm : mo t = nI y) (hyM : y < M) (hx : ar t = nI x) (hxc : x < C) (hxy : y = x % M) (h : po t = 16) : ∃ c', fx_J T M C B t (va, po, ar, mo, sn, ou, tk, he, L) c' := by
  have g4 := g.1
  unfold fx_B4 at g4
  have ht16 : t < 16 := by omega
  have hy : y < 8 := by omega
  have hx8 : x < 8 := by omega
  have hw : M + x < M + C := by omega
  have X := Or.inl (a := (6 : Int32) < 16 ∧ y = x % M) (b := ¬ (6 : Int32) < 16 ∧ x = y) ⟨by decide, hxy⟩
  obtain ⟨po1, ou1, tk1, L1, e1, g1, h1⟩ := fx_Fr_w1 (w := M + x) (va := va) (sn := sn) (ou := ou) (tk := tk) (he := he) g
  obtain ⟨hp1, nt1⟩ := h1 t nt
  have hp2 : ¬ po1 t = 0 := by rw [hp1]; exact hp
  by_cases e : va (M + x) = sn t
  · refine ⟨(va, upd po1 t 0, ar, mo, sn, upd ou1 t 4, upd tk1 t (-1), he, fx_qn (M + x) y (fx_O (M + x) L1).length L1), fx_G_po (fx_G_qn (by omega) _ _ g1) ht (fun q => nt1 ((fx_qn_K _ _).mp q)) (Or.inl rfl), fun nw u post I k => ?_, fun v post I k => ?_⟩
    · exact fx_ms3 ht16 (by rw [h]; decide) (by rw [h]; decide) hx I (fun u I => fx_sn16 ht16 h I (fun u I => fx_bmX g ht hp nt hm hyM hw (by omega) I e1 g1 hp2 nt1 (fun _ => k) (fun n => absurd e n)))
    · exact fx_y16 g ht hyM hx hx8 X h I hxc e1 g1 (fun _ => k) (fun n => absurd e n)
  · refine ⟨(va, upd po t 17, ar, mo, sn, ou, tk, he, L), fx_G_po g ht nt (Or.inr (fx_ok_mv (i := 16) (j := 17) (g.2.2.2 t ht hp) h (by decide) rfl (by decide) (by decide) (by decide))), fun nw u post I k => ?_, fun v post I k => ?_⟩
    · exact fx_ms3 ht16 (by rw [h]; decide) (by rw [h]; decide) hx I (fun u I => fx_sn16 ht16 h I (fun u I => fx_bmX g ht hp nt hm hyM hw (by omega) I e1 g1 hp2 nt1 (fun n => absurd n e) (fun _ => k)))
    · exact fx_y16 g ht hyM hx hx8 X h I hxc e1 g1 (fun n => absurd n e) (fun _ => k)
theorem fx_j17 (g : fx_G T M C B po ar mo L) (ht : t < T) (hp : ¬ po t = 0) (nt : t ∉ fx_K L) (hm : mo t = nI y) (hyM : y < M) (hx : ar t = nI x) (hxc : x < C) (hxy : y = x % M) (h : po t = 17) : ∃ c', fx_J T M C B t (va, po, ar, mo, sn, ou, tk, he, L) c' := by
  have g4 := g.1
  unfold fx_B4 at g4
  have ht16 : t < 16 := by omega
  have hy : y < 8 := by omega
  have hx8 : x < 8 := by omega
  have hw : M + x < M + C := by omega
  have X := Or.inl (a := (6 : Int32) < 17 ∧ y = x % M) (b := ¬ (6 : Int32) < 17 ∧ x = y) ⟨by decide, hxy⟩
  have ol := fx_Olen (w := M + x) (T := T) g.2.1 (fun s v q => (g.2.2.1 s v q).1)
  have e16 := fx_wn_len (w := M + x) (va := va) (ar := ar) (mo := mo) (sn := sn) (he := he) (fx_O (M + x) L).length 16 po ou tk L g.2.1 rfl (by omega)
  obtain ⟨po1, ou1, tk1, L1, e1, g1, h1⟩ := fx_Fr_wn (w := M + x) (va := va) (sn := sn) (he := he) (fx_O (M + x) L).length po ou tk L g
  obtain ⟨hp1, nt1⟩ := h1 t nt
  have hp2 : ¬ po1 t = 0 := by rw [hp1]; exact hp
  refine ⟨(va, upd po1 t 0, ar, mo, sn, upd ou1 t 4, upd tk1 t (-1), he, L1), fx_G_po g1 ht nt1 (Or.inl rfl), fun nw u post I k => ?_, fun v post I k => ?_⟩
  · refine fx_ms3 ht16 (by rw [h]; decide) (by rw [h]; decide) hx I (fun u I => fx_sn17 ht16 h I (fun u I => fx_waX g ht hp nt hm hy I hw ?_))
    rw [e1]
    exact fun u' h' => fx_endX g1 ht hp2 nt1 h' k
  · exact fx_y17 g ht hyM hx hx8 X h I hxc (e16.trans e1) k
theorem fx_mk (g : fx_G T M C B po ar mo L) (ht : t < T) (hp : ¬ po t = 0) (nt : t ∉ fx_K L) : ∃ c', fx_J T M C B t (va, po, ar, mo, sn, ou, tk, he, L) c' := by
  obtain ⟨q, x, y, eq, hx, hm, b1, b2, hyM, b4, b5⟩ := g.2.2.2 t ht hp
  have : q = 1 ∨ q = 2 ∨ q = 3 ∨ q = 4 ∨ q = 5 ∨ q = 6 ∨ q = 7 ∨ q = 8 ∨ q = 9 ∨ q = 10 ∨ q = 11 ∨ q = 12 ∨ q = 13 ∨ q = 14 ∨ q = 15 ∨ q = 16 ∨ q = 17 := by omega
  rcases this with rfl | rfl | rfl | rfl | rfl | rfl | rfl | rfl | rfl | rfl | rfl | rfl | rfl | rfl | rfl | rfl | rfl
  · exact fx_j1 g ht hp nt hm hyM hx (b4 (by decide)) eq
  · exact fx_j2 g ht hp nt hm hyM hx (b4 (by decide)) eq
  · exact fx_j3 g ht hp nt hm hyM hx (b4 (by decide)) eq
  · exact fx_j4 g ht hp nt hm hyM hx (b4 (by decide)) eq
  · exact fx_j5 g ht hp nt hm hyM hx (b4 (by decide)) eq
  · exact fx_j6 g ht hp nt hm hyM hx (b4 (by decide)) eq
  · exact fx_j7 g ht hp nt hm hyM hx (b5 (by decide)).1 (b5 (by decide)).2 eq
  · exact fx_j8 g ht hp nt hm hyM hx (b5 (by decide)).1 (b5 (by decide)).2 eq
  · exact fx_j9 g ht hp nt hm hyM hx (b5 (by decide)).1 (b5 (by decide)).2 eq
  · exact fx_j10 g ht hp nt hm hyM hx (b5 (by decide)).1 (b5 (by decide)).2 eq
  · exact fx_j11 g ht hp nt hm hyM hx (b5 (by decide)).1 (b5 (by decide)).2 eq
  · exact fx_j12 g ht hp nt hm hyM hx (b5 (by decide)).1 (b5 (by decide)).2 eq
  · exact fx_j13 g ht hp nt hm hyM hx (b5 (by decide)).1 (b5 (by decide)).2 eq
  · exact fx_j14 g ht hp nt hm hyM hx (b5 (by decide)).1 (b5 (by decide)).2 eq
  · exact fx_j15 g ht hp nt hm hyM hx (b5 (by decide)).1 (b5 (by decide)).2 eq
  · exact fx_j16 g ht hp nt hm hyM hx (b5 (by decide)).1 (b5 (by decide)).2 eq
  · exact fx_j17 g ht hp nt hm hyM hx (b5 (by decide)).1 (b5 (by decide)).2 eq
end
end
section
/-! the lowest bit -/
def fx_lb (x : Int32) (j : Nat) : Prop := bt x j = true ∧ ∀ i, i < j → bt x i = false
theorem fx_lbm {x m : Int32} {j k : Nat} (hk : k ≤ 32) (hm : ∀ i, i < 32 → bt m i = decide (i < k)) (h : fx_lb x j) : x &&& m = 0 ↔ k ≤ j := by
  constructor
  · intro e
    refine Nat.le_of_not_lt (fun c => ?_)
    have a : bt (x &&& m) j = false := by rw [e]; exact b_0 j
    rw [b_and, h.1, hm j (by omega), decide_eq_true c] at a
    cases a
  · intro c
    apply b_ext
    intro i hi
    rw [b_and, hm i hi, b_0]
    by_cases d : i < k
    · rw [h.2 i (by omega), Bool.false_and]
    · rw [decide_eq_false d, Bool.and_false]
theorem fx_lbs {x : Int32} {j k : Nat} (hk : k < 32) (h : fx_lb x j) (c : k ≤ j) : fx_lb ((x.toUInt32 >>> ((nI k).toUInt32 &&& Int32.toUInt32 31)).toInt32) (j - k) := by
  refine ⟨?_, fun i hi => ?_⟩
  · rw [b_ushr k hk, show k + (j - k) = j by omega]; exact h.1
  · rw [b_ushr k hk]; exact h.2 _ (by omega)
theorem fx_k8 : ∀ i, i < 32 → bt 255 i = decide (i < 8) := by decide +kernel
theorem fx_k4 : ∀ i, i < 32 → bt 15 i = decide (i < 4) := by decide +kernel
theorem fx_k2 : ∀ i, i < 32 → bt 3 i = decide (i < 2) := by decide +kernel
theorem fx_k1 : ∀ i, i < 32 → bt 1 i = decide (i < 1) := by decide +kernel
theorem fx_mp : ∀ i, i < 32 → ∀ p, p < 32 → bt ((-1 : Int32) <<< (nI p &&& 31)) i = decide (p ≤ i) := by
  intro i hi p hp
  rw [b_shl p hp (-1) hi]
  by_cases c : p ≤ i
  · rw [b_m1 (i - p) (by omega), Bool.and_true]
  · rw [decide_eq_false c, Bool.false_and]
section
variable {T M C B nw : Nat} {th rn : Int32} {va sl bc po ar mo sn ou hs : Nat → Int32} {dl : Nat → Int64} {sw qn qp bh bl tn tp tk he wo we : Nat → Int32} {L : List (Nat × Nat)} {t w p : Nat} {z : Int32}
theorem fx_l47 {post : Int32 → Prop} {x : Int32} {j n : Nat} (h : fx_lb x j) (hj : j < 2) (k : post (nI (n + j))) : wX_lowestBit_47 post x (nI n) (nI T) (nI M) (nI C) (nI B) (lN nw) th rn va sl bc po ar mo sn ou hs dl sw qn qp bh bl tn tp := by
  unfold wX_lowestBit_47
  by_cases c : 1 ≤ j
  · have e : j = 1 := by omega
    subst e
    refine br_t ((fx_lbm (by omega) fx_k1 h).mpr c) ?_
    rw [nI_1]
    exact k
  · have e : j = 0 := by omega
    subst e
    exact br_f (fun q => c ((fx_lbm (by omega) fx_k1 h).mp q)) k
theorem fx_l34 {post : Int32 → Prop} {x : Int32} {j n : Nat} (h : fx_lb x j) (hj : j < 4) (k : post (nI (n + j))) : wX_lowestBit_34 post x (nI n) (nI T) (nI M) (nI C) (nI B) (lN nw) th rn va sl bc po ar mo sn ou hs dl sw qn qp bh bl tn tp := by
  unfold wX_lowestBit_34
  by_cases c : 2 ≤ j
  · refine br_t ((fx_lbm (by omega) fx_k2 h).mpr c) (nm_r (nI_add n 2) (nm_e ?_))
    exact fx_l47 (fx_lbs (k := 2) (by omega) h c) (by omega) (by rw [show n + 2 + (j - 2) = n + j by omega]; exact k)
  · exact br_f (fun q => c ((fx_lbm (by omega) fx_k2 h).mp q)) (fx_l47 h (by omega) k)
theorem fx_l20 {post : Int32 → Prop} {x : Int32} {j n : Nat} (h : fx_lb x j) (hj : j < 8) (k : post (nI (n + j))) : wX_lowestBit_20 post x (nI n) (nI T) (nI M) (nI C) (nI B) (lN nw) th rn va sl bc po ar mo sn ou hs dl sw qn qp bh bl tn tp := by
  unfold wX_lowestBit_20
  by_cases c : 4 ≤ j
  · refine br_t ((fx_lbm (by omega) fx_k4 h).mpr c) (nm_r (nI_add n 4) (nm_e ?_))
    exact fx_l34 (fx_lbs (k := 4) (by omega) h c) (by omega) (by rw [show n + 4 + (j - 4) = n + j by omega]; exact k)
  · exact br_f (fun q => c ((fx_lbm (by omega) fx_k4 h).mp q)) (fx_l34 h (by omega) k)
theorem fx_lo {post : Int32 → Prop} {x : Int32} {j : Nat} (h : fx_lb x j) (hj : j < 16) (k : post (nI j)) : wpX_lowestBit post (nI T, nI M, nI C, nI B, lN nw, th, rn, va, sl, bc, po, ar, mo, sn, ou, hs, dl, sw, qn, qp, bh, bl, tn, tp) x := by
  unfold wpX_lowestBit
  by_cases c : 8 ≤ j
  · refine br_t ((fx_lbm (by omega) fx_k8 h).mpr c) (nm_r (nI_add 0 8) (nm_e ?_))
    exact fx_l20 (fx_lbs (k := 8) (by omega) h c) (by omega) (by rw [show 0 + 8 + (j - 8) = j by omega]; exact k)
  · exact br_f (fun q => c ((fx_lbm (by omega) fx_k8 h).mp q)) (fx_l20 (n := 0) h (by omega) (by rw [Nat.zero_add]; exact k))
/-! the next thread that can run -/
def fx_rb (po : Nat → Int32) (L : List (Nat × Nat)) (i : Nat) : Prop := ¬ po i = 0 ∧ i ∉ fx_K L
def fx_q (T p k : Nat) : Nat := if p + k < T then p + k else p + k - T
def fx_nx (T : Nat) (po : Nat → Int32) (L : List (Nat × Nat)) (p k : Nat) : Prop := k < T ∧ fx_rb po L (fx_q T p k) ∧ ∀ j, j < k → ¬ fx_rb po L (fx_q T p j)
theorem fx_q_lt {k : Nat} (hp : p < T) (hk : k < T) : fx_q T p k < T := by
  unfold fx_q
  split <;> omega
theorem fx_nx_ex (hp : p < T) (h : ∃ i, i < T ∧ fx_rb po L i) : ∃ k, fx_nx T po L p k := by
  obtain ⟨i, hi, r⟩ := h
  have h2 : ∃ k, k < T ∧ fx_rb po L (fx_q T p k) := by
    by_cases c : p ≤ i
    · refine ⟨i - p, by omega, ?_⟩
      have : fx_q T p (i - p) = i := by unfold fx_q; rw [if_pos (by omega)]; omega
      rw [this]; exact r
    · refine ⟨i + T - p, by omega, ?_⟩
      have : fx_q T p (i + T - p) = i := by unfold fx_q; rw [if_neg (by omega)]; omega
      rw [this]; exact r
  obtain ⟨k, ⟨h1, h3⟩, h4⟩ := pk_least (fun k => k < T ∧ fx_rb po L (fx_q T p k)) h2
  exact ⟨k, h1, h3, fun j hj q => h4 j hj ⟨by omega, q⟩⟩
theorem fx_nrX {post : Int32 → Prop} {k : Nat} (hT : T ≤ 16) (hp : p < T) (fr : fx_RF T rn po L) (h : fx_nx T po L p k) (K : post (nI (fx_q T p k))) : wpX_nextRunnable post (nI T, nI M, nI C, nI B, lN nw, th, rn, va, sl, bc, po, ar, mo, sn, ou, hs, dl, sw, qn, qp, bh, bl, tn, tp) (nI p) := by
  obtain ⟨hk, h1, h2⟩ := h
  have hq := fx_q_lt hp hk
  have r1 : bt rn (fx_q T p k) = true := by rw [fr _ (by omega)]; exact decide_eq_true ⟨hq, h1⟩
  have bx : ∀ i, i < 32 → bt (rn &&& ((-1 : Int32) <<< (nI p &&& 31))) i = (bt rn i && decide (p ≤ i)) := fun i hi => by rw [b_and, fx_mp i hi p (by omega)]
  have r0 : ∀ i, i < 32 → ¬ fx_rb po L i → bt rn i = false := fun i hi q => by rw [fr i hi]; exact decide_eq_false (fun c => q c.2)
  unfold wpX_nextRunnable
  refine nm_e ?_
  by_cases c : p + k < T
  · have e : fx_q T p k = p + k := if_pos c
    rw [e] at r1 K
    have lb : fx_lb (rn &&& ((-1 : Int32) <<< (nI p &&& 31))) (p + k) := by
      refine ⟨?_, fun i hi => ?_⟩
      · rw [bx _ (by omega), r1, decide_eq_true (by omega)]; rfl
      · rw [bx _ (by omega)]
        by_cases d : p ≤ i
        · have : ¬ fx_rb po L i := by
            have := h2 (i - p) (by omega)
            have e2 : fx_q T p (i - p) = i := by unfold fx_q; rw [if_pos (by omega)]; omega
            rw [e2] at this
            exact this
          rw [r0 i (by omega) this, Bool.false_and]
        · rw [decide_eq_false d, Bool.and_false]
    refine br_f (fun q => ?_) ?_
    · have := lb.1
      rw [q, b_0] at this
      cases this
    · exact fx_lo lb (by omega) K
  · have e : fx_q T p k = p + k - T := if_neg c
    rw [e] at r1 K
    refine br_t ?_ ?_
    · apply b_ext
      intro i hi
      rw [bx i hi, b_0]
      by_cases d : p ≤ i
      · by_cases d2 : i < T
        · have : ¬ fx_rb po L i := by
            have := h2 (i - p) (by omega)
            have e2 : fx_q T p (i - p) = i := by unfold fx_q; rw [if_pos (by omega)]; omega
            rw [e2] at this
            exact this
          rw [r0 i (by omega) this, Bool.false_and]
        · rw [fr i hi, decide_eq_false (fun q => d2 q.1), Bool.false_and]
      · rw [decide_eq_false d, Bool.and_false]
    · refine fx_lo (j := p + k - T) ⟨r1, fun i hi => ?_⟩ (by omega) K
      refine r0 i (by omega) ?_
      have := h2 (i + T - p) (by omega)
      have e2 : fx_q T p (i + T - p) = i := by unfold fx_q; rw [if_neg (by omega)]; omega
      rw [e2] at this
      exact this
theorem fx_rn0 (fr : fx_RF T rn po L) (hT : T ≤ 16) (h : ¬ ∃ i, i < T ∧ fx_rb po L i) : rn = 0 := by
  apply b_ext
  intro i hi
  rw [fr i hi, b_0]
  exact decide_eq_false (fun q => h ⟨i, q.1, q.2⟩)
theorem fx_rn1 (fr : fx_RF T rn po L) (hT : T ≤ 16) (h : ∃ i, i < T ∧ fx_rb po L i) : ¬ rn = 0 := by
  intro e
  obtain ⟨i, hi, r⟩ := h
  have := fr i (by omega)
  rw [e, b_0, decide_eq_true ⟨hi, r⟩] at this
  cases this
/-! Y's search -/
abbrev fx_J27 : Type := Int32 → Int32 → Int32 → Int32 → Int32 → Int32 → Int32 → (Nat → Int32) → (Nat → Int32) → (Nat → Int32) → (Nat → Int32) → (Nat → Int32) → (Nat → Int32) → (Nat → Int32) → (Nat → Int32) → (Nat → Int32) → Prop
theorem fx_y83n {post : Int32 → SY → Prop} {J27 : fx_J27} {J39 : Int32 → Int32 → Prop} {x3 x4 x5 x6 : Int32} {a q : Nat} (g : fx_G T M C B po ar mo L) (hq : q < T) (f : fx_V wo we 0 L) (h : ¬ fx_rb po L q)
    (k : J39 x6 (nI (a + 1))) : wY_run_83 post J27 J39 x3 x4 x5 x6 (nI a) (nI q) (nI T) (nI M) (nI C) (nI B) (nI L.length) va po ar tk sn ou he wo we := by
  have g4 := g.1
  unfold fx_B4 at g4
  have hl := fx_len g
  have cq : (nI q).toNatClampNeg = q := nI_clamp (by omega)
  unfold wY_run_83
  rw [cq]
  refine And.intro (vp_in_nI (by omega) (by decide)) (br_c (fun _ => nm_r (nI_1 a) k) (fun e => ?_))
  have m : q ∈ fx_K L := Classical.byContradiction (fun n => h ⟨e, n⟩)
  refine fx_plY (by omega) (fx_G16 g) (by omega) f (fun L1 v L2 eL => ?_) (fun n => absurd m n)
  have : L1.length < L.length := by rw [eL]; simp
  exact br_t (nI_pos' (by omega)) (nm_r (nI_1 a) k)
theorem fx_y83y {post : Int32 → SY → Prop} {J27 : fx_J27} {J39 : Int32 → Int32 → Prop} {x3 x4 x5 x6 : Int32} {a q : Nat} (g : fx_G T M C B po ar mo L) (hq : q < T) (f : fx_V wo we 0 L) (h : fx_rb po L q)
    (k : J39 (nI q) (nI (a + 1))) : wY_run_83 post J27 J39 x3 x4 x5 x6 (nI a) (nI q) (nI T) (nI M) (nI C) (nI B) (nI L.length) va po ar tk sn ou he wo we := by
  have g4 := g.1
  unfold fx_B4 at g4
  have hl := fx_len g
  have cq : (nI q).toNatClampNeg = q := nI_clamp (by omega)
  unfold wY_run_83
  rw [cq]
  refine And.intro (vp_in_nI (by omega) (by decide)) (br_f h.1 ?_)
  refine fx_plY (by omega) (fx_G16 g) (by omega) f (fun L1 v L2 eL => ?_) (fun n => ?_)
  · exact absurd (fx_memK.mpr ⟨v, by rw [eL]; simp⟩) h.2
  · exact br_f (by decide) (nm_r (nI_1 a) k)
theorem fx_y39s {post : Int32 → SY → Prop} {J27 : fx_J27} {x3 x5 : Int32} {a n : Nat} (g : fx_G T M C B po ar mo L) (hp : p < T) (ha : a < T)
    (k : wY_run_83 post J27 (wY_run_39 post J27 x3 (nI p) x5 (nI T) (nI M) (nI C) (nI B) (nI L.length) va po ar tk sn ou he wo we n) x3 (nI p) x5 (-1) (nI a) (nI (fx_q T p a)) (nI T) (nI M) (nI C) (nI B) (nI L.length) va po ar tk sn ou he wo we) : wY_run_39 post J27 x3 (nI p) x5 (nI T) (nI M) (nI C) (nI B) (nI L.length) va po ar tk sn ou he wo we (n + 1) (-1) (nI a) := by
  have g4 := g.1
  unfold fx_B4 at g4
  rw [wY_run_39]
  refine br_f (nI_ge (by omega) (by omega)) (br_f (by decide) ?_)
  rw [nI_add]
  unfold fx_q at k
  by_cases c : p + a < T
  · rw [if_pos c] at k
    exact br_f (nI_ge (by omega) (by omega)) k
  · rw [if_neg c] at k
    refine br_t (nI_le (by omega) (by omega)) ?_
    rw [pk_sub (by omega)]
    exact k
theorem fx_y39h {post : Int32 → SY → Prop} {J27 : fx_J27} {x3 x5 : Int32} {kk : Nat} (g : fx_G T M C B po ar mo L) (hp : p < T) (f : fx_V wo we 0 L) (h : fx_nx T po L p kk)
    (k : wY_run_114 post J27 x3 x5 (nI (fx_q T p kk)) (nI T) (nI M) (nI C) (nI B) (nI L.length) va po ar tk sn ou he wo we) : ∀ m a, a + m = kk → wY_run_39 post J27 x3 (nI p) x5 (nI T) (nI M) (nI C) (nI B) (nI L.length) va po ar tk sn ou he wo we (m + 2) (-1) (nI a) := by
  have g4 := g.1
  unfold fx_B4 at g4
  intro m
  induction m with
  | zero =>
    intro a e
    have e' : a = kk := by omega
    subst e'
    have hq := fx_q_lt hp h.1
    refine fx_y39s g hp h.1 (fx_y83y g hq f h.2.1 ?_)
    rw [wY_run_39]
    exact br_c (fun _ => k) (fun _ => br_t (nI_pos' (by omega)) k)
  | succ m ih =>
    intro a e
    have hk := h.1
    refine fx_y39s g hp (by omega) (fx_y83n g (fx_q_lt hp (by omega)) f (h.2.2 a (by omega)) ?_)
    exact ih (a + 1) (by omega)
theorem fx_y39m {post : Int32 → SY → Prop} {J27 : fx_J27} {x3 x5 : Int32} (g : fx_G T M C B po ar mo L) (hp : p < T) (f : fx_V wo we 0 L) (h : ¬ ∃ i, i < T ∧ fx_rb po L i)
    (k : wY_run_114 post J27 x3 x5 (-1) (nI T) (nI M) (nI C) (nI B) (nI L.length) va po ar tk sn ou he wo we) : ∀ m a, a + m = T → wY_run_39 post J27 x3 (nI p) x5 (nI T) (nI M) (nI C) (nI B) (nI L.length) va po ar tk sn ou he wo we (m + 1) (-1) (nI a) := by
  have g4 := g.1
  unfold fx_B4 at g4
  intro m
  induction m with
  | zero =>
    intro a e
    rw [wY_run_39]
    exact br_t (nI_le (by omega) (by omega)) k
  | succ m ih =>
    intro a e
    have hq := fx_q_lt (k := a) hp (by omega)
    refine fx_y39s g hp (by omega) (fx_y83n g hq f (fun r => h ⟨_, hq, r⟩) ?_)
    exact ih (a + 1) (by omega)
/-! both loops -/
def fx_XR (post : Int32 → SX → Prop) (x3 : Int32) (n : Nat) (x4 x5 : Int32) : SX → Prop
  | (a0, a1, a2, a3, a4, a5, a6, a7, a8, a9, b0, b1, b2, b3, b4, b5, b6, b7, b8, b9, c0, c1, c2, c3) => wX_run_27 post x3 n x4 x5 a0 a1 a2 a3 a4 a5 a6 a7 a8 a9 b0 b1 b2 b3 b4 b5 b6 b7 b8 b9 c0 c1 c2 c3
def fx_YR (post : Int32 → SY → Prop) (x3 : Int32) (n : Nat) (x4 x5 : Int32) : SY → Prop
  | (a0, a1, a2, a3, a4, a5, a6, a7, a8, a9, b0, b1, b2, b3) => wY_run_27 post x3 n x4 x5 a0 a1 a2 a3 a4 a5 a6 a7 a8 a9 b0 b1 b2 b3
theorem fx_run {lim : Nat} (hlim : lim ≤ 128) : ∀ (d i p : Nat) (va po ar mo sn ou tk he : Nat → Int32) (L : List (Nat × Nat)), fx_G T M C B po ar mo L → p < T → i + d = lim →
    ∃ (c' : fx_A) (r : Int32), fx_Gc T M C B c' ∧
      (∀ (nw : Nat) (u : SX) (post : Int32 → SX → Prop), fx_RX T M C B nw (va, po, ar, mo, sn, ou, tk, he, L) u → (∀ u', fx_RX T M C B nw c' u' → post r u') → fx_XR post (nI lim) (d + 1) (nI p) (nI i) u) ∧
      (∀ (v : SY) (post : Int32 → SY → Prop), fx_RY T M C B (va, po, ar, mo, sn, ou, tk, he, L) v → (∀ v', fx_RY T M C B c' v' → post r v') → fx_YR post (nI lim) (d + 1) (nI p) (nI i) v) := by
  intro d
  induction d with
  | zero =>
    intro i p va po ar mo sn ou tk he L g hp e
    refine ⟨(va, po, ar, mo, sn, ou, tk, he, L), nI i, g, fun nw u post I k => ?_, fun v post I k => ?_⟩
    · refine fx_xel (P := fx_XR post (nI lim) 1 (nI p) (nI i)) ?_ I
      intro th rn sl bc hs dl sw qn qp bh bl tn tp f
      exact br_t (nI_le (by omega) (by omega)) (k _ (fx_xin f))
    · refine fx_yel (P := fx_YR post (nI lim) 1 (nI p) (nI i)) ?_ I
      intro wo we f
      have e' : i = lim := by omega
      subst e'
      exact br_t (nI_le (by omega) (by omega)) (k _ (fx_yin f))
  | succ d ih =>
    intro i p va po ar mo sn ou tk he L g hp e
    have g4 := g.1
    unfold fx_B4 at g4
    by_cases ex : ∃ i, i < T ∧ fx_rb po L i
    · obtain ⟨k0, hk⟩ := fx_nx_ex hp ex
      have hq := fx_q_lt hp hk.1
      obtain ⟨c1, g1, jx, jy⟩ := fx_mk (va := va) (sn := sn) (ou := ou) (tk := tk) (he := he) g hq hk.2.1.1 hk.2.1.2
      obtain ⟨va1, po1, ar1, mo1, sn1, ou1, tk1, he1, L1⟩ := c1
      by_cases c : fx_q T p k0 + 1 < T
      · obtain ⟨c', r, gg, ix, iy⟩ := ih (i + 1) (fx_q T p k0 + 1) va1 po1 ar1 mo1 sn1 ou1 tk1 he1 L1 g1 c (by omega)
        refine ⟨c', r, gg, fun nw u post I k => ?_, fun v post I k => ?_⟩
        · refine fx_xel (P := fx_XR post (nI lim) (d + 2) (nI p) (nI i)) ?_ I
          intro th rn sl bc hs dl sw qn qp bh bl tn tp f
          refine br_f (nI_ge (by omega) (by omega)) (br_f (fx_rn1 f.2.2.2.2.2.2 (by omega) ex) ?_)
          refine fx_nrX (by omega) hp f.2.2.2.2.2.2 hk ?_
          refine jx nw _ _ (fx_xin f) ?_
          intro u' h'
          have := ix nw u' post h' k
          obtain ⟨th', rn', sl', bc', hs', dl', sw', qn', qp', bh', bl', tn', tp', rfl, -⟩ := h'
          exact br_t (by rw [nI_1]; exact nI_lt c (by omega)) (nm_r (nI_1 _) (nm_r (nI_1 _) this))
        · refine fx_yel (P := fx_YR post (nI lim) (d + 2) (nI p) (nI i)) ?_ I
          intro wo we f
          refine br_f (nI_ge (by omega) (by omega)) ⟨k0 + 2, fx_y39h g hp f hk ?_ k0 0 (by omega)⟩
          refine br_t (nI_pos' (by omega)) ?_
          refine jy _ _ (fx_yin f) ?_
          intro v' h'
          have := iy v' post h' k
          obtain ⟨wo', we', rfl, -⟩ := h'
          exact br_f (by rw [nI_1]; exact nI_ge c (by omega)) (nm_r (nI_1 _) (nm_r (nI_1 _) this))
      · obtain ⟨c', r, gg, ix, iy⟩ := ih (i + 1) 0 va1 po1 ar1 mo1 sn1 ou1 tk1 he1 L1 g1 (by omega) (by omega)
        refine ⟨c', r, gg, fun nw u post I k => ?_, fun v post I k => ?_⟩
        · refine fx_xel (P := fx_XR post (nI lim) (d + 2) (nI p) (nI i)) ?_ I
          intro th rn sl bc hs dl sw qn qp bh bl tn tp f
          refine br_f (nI_ge (by omega) (by omega)) (br_f (fx_rn1 f.2.2.2.2.2.2 (by omega) ex) ?_)
          refine fx_nrX (by omega) hp f.2.2.2.2.2.2 hk ?_
          refine jx nw _ _ (fx_xin f) ?_
          intro u' h'
          have := ix nw u' post h' k
          obtain ⟨th', rn', sl', bc', hs', dl', sw', qn', qp', bh', bl', tn', tp', rfl, -⟩ := h'
          exact br_f (by rw [nI_1]; exact nI_nlt (by omega) (by omega)) (nm_r (nI_1 _) this)
        · refine fx_yel (P := fx_YR post (nI lim) (d + 2) (nI p) (nI i)) ?_ I
          intro wo we f
          refine br_f (nI_ge (by omega) (by omega)) ⟨k0 + 2, fx_y39h g hp f hk ?_ k0 0 (by omega)⟩
          refine br_t (nI_pos' (by omega)) ?_
          refine jy _ _ (fx_yin f) ?_
          intro v' h'
          have := iy v' post h' k
          obtain ⟨wo', we', rfl, -⟩ := h'
          exact br_t (by rw [nI_1]; exact nI_le (by omega) (by omega)) (nm_r (nI_1 _) this)
    · refine ⟨(va, po, ar, mo, sn, ou, tk, he, L), nI i, g, fun nw u post I k => ?_, fun v post I k => ?_⟩
      · refine fx_xel (P := fx_XR post (nI lim) (d + 2) (nI p) (nI i)) ?_ I
        intro th rn sl bc hs dl sw qn qp bh bl tn tp f
        exact br_f (nI_ge (by omega) (by omega)) (br_t (fx_rn0 f.2.2.2.2.2.2 (by omega) ex) (k _ (fx_xin f)))
      · refine fx_yel (P := fx_YR post (nI lim) (d + 2) (nI p) (nI i)) ?_ I
        intro wo we f
        refine br_f (nI_ge (by omega) (by omega)) ⟨T + 1, fx_y39m g hp f ex ?_ T 0 (by omega)⟩
        exact br_f (by decide) (k _ (fx_yin f))
end
end
section
/-! a set of sleepers is released -/
def fx_rs (S : Nat → Bool) (z : Int32) : fx_A → fx_A
  | (va, po, ar, mo, sn, ou, tk, he, L) => (va, fun s => if S s = true then fx_np z (po s) else po s, ar, mo, sn, fun s => if S s = true then fx_no z (po s) (ou s) else ou s, fun s => if S s = true then fx_nt z (po s) (tk s) else tk s, he, L.filter (fun p => !S p.1))
def fx_S (i : Nat) (tk : Nat → Int32) (L : List (Nat × Nat)) (s : Nat) : Bool := decide (i ≤ s ∧ s ∈ fx_K L ∧ tk s = 0)
def fx_SQ (i B b : Nat) (L : List (Nat × Nat)) (s : Nat) : Bool := decide (i ≤ s ∧ s ∈ fx_Q B b L)
/-- the answer counts the released -/
def fx_N (S : Nat → Bool) (L : List (Nat × Nat)) (a b : Nat) : Prop := b + (L.filter (fun p => !S p.1)).length = a + L.length
section
variable {T M C B nw : Nat} {th rn : Int32} {va sl bc po ar mo sn ou hs : Nat → Int32} {dl : Nat → Int64} {sw qn qp bh bl tn tp tk he wo we : Nat → Int32} {L : List (Nat × Nat)} {t w : Nat} {z : Int32}
theorem fx_rs_L {S : Nat → Bool} : (fx_m t L).filter (fun p => !S p.1) = L.filter (fun p => !(decide (p.1 = t) || S p.1)) := by
  unfold fx_m
  rw [List.filter_filter]
  refine List.filter_congr (fun p _ => ?_)
  rw [Bool.not_or, Bool.and_comm]
  by_cases c : p.1 = t
  · simp [c]
  · simp [c]
theorem fx_rs_r1 {S : Nat → Bool} (h : S t = false) : fx_rs S z (fx_r1 t z (va, po, ar, mo, sn, ou, tk, he, L)) = fx_rs (fun s => decide (s = t) || S s) z (va, po, ar, mo, sn, ou, tk, he, L) := by
  have e1 : (fun s => if S s = true then fx_np z (upd po t (fx_np z (po t)) s) else upd po t (fx_np z (po t)) s) = (fun s => if (decide (s = t) || S s) = true then fx_np z (po s) else po s) := by
    funext s
    by_cases c : s = t
    · subst c; simp [h, pk_us]
    · simp [c, pk_un c]
  have e2 : (fun s => if S s = true then fx_no z (upd po t (fx_np z (po t)) s) (upd ou t (fx_no z (po t) (ou t)) s) else upd ou t (fx_no z (po t) (ou t)) s) = (fun s => if (decide (s = t) || S s) = true then fx_no z (po s) (ou s) else ou s) := by
    funext s
    by_cases c : s = t
    · subst c; simp [h, pk_us]
    · simp [c, pk_un c]
  have e3 : (fun s => if S s = true then fx_nt z (upd po t (fx_np z (po t)) s) (upd tk t (fx_nt z (po t) (tk t)) s) else upd tk t (fx_nt z (po t) (tk t)) s) = (fun s => if (decide (s = t) || S s) = true then fx_nt z (po s) (tk s) else tk s) := by
    funext s
    by_cases c : s = t
    · subst c; simp [h, pk_us]
    · simp [c, pk_un c]
  show (va, fun s => if S s = true then fx_np z (upd po t (fx_np z (po t)) s) else upd po t (fx_np z (po t)) s, ar, mo, sn, fun s => if S s = true then fx_no z (upd po t (fx_np z (po t)) s) (upd ou t (fx_no z (po t) (ou t)) s) else upd ou t (fx_no z (po t) (ou t)) s, fun s => if S s = true then fx_nt z (upd po t (fx_np z (po t)) s) (upd tk t (fx_nt z (po t) (tk t)) s) else upd tk t (fx_nt z (po t) (tk t)) s, he, (fx_m t L).filter (fun p => !S p.1)) = _
  rw [e1, e2, e3, fx_rs_L]
  rfl
theorem fx_rs_0 {S : Nat → Bool} (h : S = fun _ => false) : fx_rs S z (va, po, ar, mo, sn, ou, tk, he, L) = (va, po, ar, mo, sn, ou, tk, he, L) := by
  subst h
  have e : L.filter (fun _ => !false) = L := by rw [List.filter_eq_self]; intro _ _; rfl
  show (va, po, ar, mo, sn, ou, tk, he, L.filter (fun _ => !false)) = _
  rw [e]
theorem fx_N_0 {S : Nat → Bool} {a : Nat} (h : S = fun _ => false) : fx_N S L a a := by
  subst h
  have e : L.filter (fun _ => !false) = L := by rw [List.filter_eq_self]; intro _ _; rfl
  show a + (L.filter (fun _ => !false)).length = _
  rw [e]
theorem fx_m_len (nd : (fx_K L).Nodup) (m : (t, w) ∈ L) : (fx_m t L).length + 1 = L.length := by
  obtain ⟨L1, L2, rfl⟩ := List.append_of_mem m
  rw [fx_m_split nd, List.length_append, List.length_append, List.length_cons]
  omega
theorem fx_N_2 {S : Nat → Bool} {a b : Nat} (nd : (fx_K L).Nodup) (m : (t, w) ∈ L) (h : fx_N S (fx_m t L) (a + 1) b) : fx_N (fun s => decide (s = t) || S s) L a b := by
  unfold fx_N at h
  rw [fx_rs_L] at h
  have := fx_m_len nd m
  show b + (L.filter (fun p => !(decide (p.1 = t) || S p.1))).length = a + L.length
  omega
theorem fx_G_rs {S : Nat → Bool} (g : fx_G T M C B po ar mo L) (h : ∀ s, S s = true → s ∈ fx_K L) : fx_Gc T M C B (fx_rs S z (va, po, ar, mo, sn, ou, tk, he, L)) := by
  show fx_G T M C B (fun s => if S s = true then fx_np z (po s) else po s) ar mo (L.filter (fun p => !S p.1))
  have g' := g
  obtain ⟨g1, g2, g3, g4⟩ := g
  refine ⟨g1, List.Nodup.sublist (List.Sublist.map _ List.filter_sublist) g2, fun s v q => ?_, fun s hs hp => ?_⟩
  · obtain ⟨q1, q2⟩ := List.mem_filter.mp q
    have q3 : ¬ S s = true := by
      intro c
      rw [show (!S (s, v).1) = !S s from rfl, c] at q2
      cases q2
    have e : (fun s => if S s = true then fx_np z (po s) else po s) s = po s := if_neg q3
    rw [e]
    exact g3 s v q1
  · by_cases c : S s = true
    · have e : (fun s => if S s = true then fx_np z (po s) else po s) s = fx_np z (po s) := if_pos c
      rw [e] at hp ⊢
      obtain ⟨v, m⟩ := fx_memK.mp (h s c)
      have := (fx_G_r1 (z := z) g' m).2.2.2 s hs (by rw [pk_us]; exact hp)
      rw [pk_us] at this
      exact this
    · have e : (fun s => if S s = true then fx_np z (po s) else po s) s = po s := if_neg c
      rw [e] at hp ⊢
      exact g4 s hs hp
theorem fx_S_r1 {i j : Nat} {v : Int32} (m : t ∈ fx_K L) (h0 : tk t = 0) (hi : i ≤ t) (hj : ∀ s, s ≠ t → (j ≤ s ↔ i ≤ s)) : (fun s => decide (s = t) || fx_S j (upd tk t v) (fx_m t L) s) = fx_S i tk L := by
  funext s
  unfold fx_S
  by_cases c : s = t
  · subst c
    simp [m, h0, hi]
  · have e : (j ≤ s ∧ s ∈ fx_K (fx_m t L) ∧ upd tk t v s = 0) ↔ (i ≤ s ∧ s ∈ fx_K L ∧ tk s = 0) := by
      rw [pk_un c, fx_m_K, hj s c]
      exact ⟨fun q => ⟨q.1, q.2.1.1, q.2.2⟩, fun q => ⟨q.1, ⟨q.2.1, c⟩, q.2.2⟩⟩
    rw [decide_eq_false c, Bool.false_or]
    exact decide_eq_decide.mpr e
theorem fx_S_t {j : Nat} {v : Int32} : fx_S j (upd tk t v) (fx_m t L) t = false := decide_eq_false (fun q => (fx_m_K.mp q.2.1).2 rfl)
theorem fx_memQm {b s : Nat} : s ∈ fx_Q B b (fx_m t L) ↔ s ∈ fx_Q B b L ∧ s ≠ t := by
  rw [fx_Q_m, List.mem_filter]
  exact ⟨fun q => ⟨q.1, of_decide_eq_true q.2⟩, fun q => ⟨q.1, decide_eq_true q.2⟩⟩
theorem fx_SQ_r1 {i j b : Nat} (m : t ∈ fx_Q B b L) (hi : i ≤ t) (hj : ∀ s, s ≠ t → (j ≤ s ↔ i ≤ s)) : (fun s => decide (s = t) || fx_SQ j B b (fx_m t L) s) = fx_SQ i B b L := by
  funext s
  unfold fx_SQ
  by_cases c : s = t
  · subst c
    simp [m, hi]
  · have e : (j ≤ s ∧ s ∈ fx_Q B b (fx_m t L)) ↔ (i ≤ s ∧ s ∈ fx_Q B b L) := by
      rw [fx_memQm, hj s c]
      exact ⟨fun q => ⟨q.1, q.2.1⟩, fun q => ⟨q.1, q.2, c⟩⟩
    rw [decide_eq_false c, Bool.false_or]
    exact decide_eq_decide.mpr e
theorem fx_SQ_t {j b : Nat} : fx_SQ j B b (fx_m t L) t = false := decide_eq_false (fun q => (fx_memQm.mp q.2).2 rfl)
/-! X's loops -/
theorem fx_LK0 {d : Int64} {k : Int32} (hn : nw ≤ 3000000) (h : fx_LK nw d k) : k = 0 ↔ (¬ d < 0 ∧ d ≤ lN nw) := by
  rcases h with ⟨h1, h2⟩ | ⟨e, h0, h1, h2⟩
  · rw [h1, h2]
    exact ⟨fun q => absurd q (by decide), fun q => absurd (show (-1 : Int64) < 0 by decide) q.1⟩
  · rw [h1, h2]
    constructor
    · intro q
      have q' := (nI_eq (a := e - nw) (b := 0) (by omega) (by omega)).mp q
      refine ⟨fun c => ?_, (lN_le (by omega) (by omega)).mpr (by omega)⟩
      have c' : lN e < lN 0 := c
      rw [lN_lt (by omega) (by omega)] at c'
      omega
    · rintro ⟨-, q⟩
      rw [lN_le (by omega) (by omega)] at q
      rw [show e - nw = 0 by omega]
      rfl
def fx_XT (post : Int32 → SX → Prop) (n : Nat) (x2 x3 : Int32) : SX → Prop
  | (a0, a1, a2, a3, a4, a5, a6, a7, a8, a9, b0, b1, b2, b3, b4, b5, b6, b7, b8, b9, c0, c1, c2, c3) => wX_tick_23 post n x2 x3 a0 a1 a2 a3 a4 a5 a6 a7 a8 a9 b0 b1 b2 b3 b4 b5 b6 b7 b8 b9 c0 c1 c2 c3
theorem fx_tkX {post : Int32 → SX → Prop} : ∀ (n i a : Nat) (po ou tk : Nat → Int32) (L : List (Nat × Nat)) (u : SX), fx_G T M C B po ar mo L → fx_RX T M C B nw (va, po, ar, mo, sn, ou, tk, he, L) u → i + L.length ≤ T → L.length < n → a ≤ i →
    (∀ b, fx_N (fx_S 0 tk L) L a b → ∀ u', fx_RX T M C B nw (fx_rs (fx_S 0 tk L) 3 (va, po, ar, mo, sn, ou, tk, he, L)) u' → post (nI b) u') → fx_XT post n (nI a) (nI i) u := by
  intro n
  induction n with
  | zero => intro i a po ou tk L u _ _ _ h; omega
  | succ n ih =>
    intro i a po ou tk L u g I hi hn hai k
    have g4 := g.1
    unfold fx_B4 at g4
    refine fx_xel (P := fx_XT post (n + 1) (nI a) (nI i)) ?_ I
    clear I
    intro th rn sl bc hs dl sw qn qp bh bl tn tp f
    have done : (∀ s, s ∈ fx_K L → ¬ tk s = 0) → post (nI a) (nI T, nI M, nI C, nI B, lN nw, th, rn, va, sl, bc, po, ar, mo, sn, ou, hs, dl, sw, qn, qp, bh, bl, tn, tp) := by
      intro h
      have e : fx_S 0 tk L = fun _ => false := by
        funext s
        exact decide_eq_false (fun q => h s q.2.1 q.2.2)
      have I := fx_xin (M := M) (C := C) (va := va) (ar := ar) (sn := sn) (ou := ou) f
      exact k a (fx_N_0 e) _ (by rw [fx_rs_0 e]; exact I)
    have f' := f
    obtain ⟨fn, fq, fb, fh, fl, ⟨TL, ft, fk⟩, fr⟩ := f
    have lk : ∀ s, s ∈ fx_K L → (tk s = 0 ↔ (¬ dl s < 0 ∧ dl s ≤ lN nw)) := fun s q => by
      obtain ⟨v, m⟩ := fx_memK.mp q
      exact fx_LK0 fn (fl s (g.2.2.1 s v m).1)
    obtain ⟨t1, t2, t3, t4⟩ := ft
    show wX_tick_23 post (n + 1) (nI a) (nI i) (nI T) (nI M) (nI C) (nI B) (lN nw) th rn va sl bc po ar mo sn ou hs dl sw qn qp bh bl tn tp
    rw [wX_tick_23]
    by_cases c1 : T ≤ i
    · refine br_t (nI_le c1 (by omega)) (done (fun s q => ?_))
      have : L = [] := List.eq_nil_of_length_eq_zero (by omega)
      rw [this] at q
      cases q
    · refine br_f (nI_ge (by omega) (by omega)) ?_
      cases TL with
      | nil =>
        refine br_t (by rw [t3]; decide) (done (fun s q z => ?_))
        have := (fk s).mpr ⟨q, ((lk s q).mp z).1⟩
        cases this
      | cons t l =>
        obtain ⟨mK, hd⟩ := (fk t).mp List.mem_cons_self
        obtain ⟨w, m⟩ := fx_memK.mp mK
        have ht := (g.2.2.1 t w m).1
        have t3' : th = nI t := t3
        subst t3'
        refine br_f (nI_pos (n := t) (by omega)) (And.intro (vp_in_nI (by omega) (by decide)) ?_)
        rw [nI_clamp (show t < 2 ^ 31 by omega)]
        by_cases c2 : dl t ≤ lN nw
        · refine br_t c2 ?_
          have z0 : tk t = 0 := (lk t mK).mpr ⟨hd, c2⟩
          refine fx_relX g m (fx_xin f') ?_
          intro u' h'
          have := ih (i + 1) (a + 1) _ _ _ (fx_m t L) u' (fx_G_r1 g m) h' (by have := fx_m_len g.2.1 m; omega) (by have := fx_m_len g.2.1 m; omega) (by omega) (fun b hb u'' h'' => ?_)
          · obtain ⟨th', rn', sl', bc', hs', dl', sw', qn', qp', bh', bl', tn', tp', rfl, -⟩ := h'
            exact nm_r (nI_1 a) (nm_r (nI_1 i) this)
          · have e5 := fx_S_r1 (i := 0) (j := 0) (v := fx_nt 3 (po t) (tk t)) mK z0 (Nat.zero_le _) (fun _ _ => Iff.rfl)
            refine k b ?_ u'' ?_
            · rw [← e5]
              exact fx_N_2 g.2.1 m hb
            · rw [← e5, ← fx_rs_r1 fx_S_t]
              exact h''
        · refine br_f c2 (done (fun s q z => ?_))
          obtain ⟨z1, z2⟩ := (lk s q).mp z
          have ms := (fk s).mpr ⟨q, z1⟩
          rcases List.mem_cons.mp ms with e | e
          · rw [e] at z2
            exact c2 z2
          · exact c2 (Int64.le_trans ((List.pairwise_cons.mp t4).1 s e) z2)
def fx_XJ (post : Int32 → SX → Prop) (x1 : Int32) (n : Nat) (x2 x3 : Int32) : SX → Prop
  | (a0, a1, a2, a3, a4, a5, a6, a7, a8, a9, b0, b1, b2, b3, b4, b5, b6, b7, b8, b9, c0, c1, c2, c3) => wX_jolt_19 post x1 n x2 x3 a0 a1 a2 a3 a4 a5 a6 a7 a8 a9 b0 b1 b2 b3 b4 b5 b6 b7 b8 b9 c0 c1 c2 c3
theorem fx_jtX {post : Int32 → SX → Prop} {b : Nat} (hb : b < B) : ∀ (n i a : Nat) (po ou tk : Nat → Int32) (L : List (Nat × Nat)) (u : SX), fx_G T M C B po ar mo L → fx_RX T M C B nw (va, po, ar, mo, sn, ou, tk, he, L) u → i + L.length ≤ T → L.length < n → a ≤ i →
    (∀ r, fx_N (fx_SQ 0 B b L) L a r → ∀ u', fx_RX T M C B nw (fx_rs (fx_SQ 0 B b L) 6 (va, po, ar, mo, sn, ou, tk, he, L)) u' → post (nI r) u') → fx_XJ post (nI b) n (nI a) (nI i) u := by
  intro n
  induction n with
  | zero => intro i a po ou tk L u _ _ _ h; omega
  | succ n ih =>
    intro i a po ou tk L u g I hi hn hai k
    have g4 := g.1
    unfold fx_B4 at g4
    refine fx_xel (P := fx_XJ post (nI b) (n + 1) (nI a) (nI i)) ?_ I
    clear I
    intro th rn sl bc hs dl sw qn qp bh bl tn tp f
    have done : fx_Q B b L = [] → post (nI a) (nI T, nI M, nI C, nI B, lN nw, th, rn, va, sl, bc, po, ar, mo, sn, ou, hs, dl, sw, qn, qp, bh, bl, tn, tp) := by
      intro h
      have e : fx_SQ 0 B b L = fun _ => false := by
        funext s
        refine decide_eq_false (fun q => ?_)
        have := q.2
        rw [h] at this
        cases this
      have I := fx_xin (M := M) (C := C) (va := va) (ar := ar) (sn := sn) (ou := ou) f
      exact k a (fx_N_0 e) _ (by rw [fx_rs_0 e]; exact I)
    have ib : vp_in (nI b) 8 := vp_in_nI (by omega) (by decide)
    have eh := (f.2.1.2.2.2 b (by omega)).2.1
    show wX_jolt_19 post (nI b) (n + 1) (nI a) (nI i) (nI T) (nI M) (nI C) (nI B) (lN nw) th rn va sl bc po ar mo sn ou hs dl sw qn qp bh bl tn tp
    rw [wX_jolt_19]
    rw [nI_clamp (show b < 2 ^ 31 by omega)]
    by_cases c1 : T ≤ i
    · refine br_t (nI_le c1 (by omega)) (done ?_)
      have : L = [] := List.eq_nil_of_length_eq_zero (by omega)
      rw [this]
      rfl
    · refine br_f (nI_ge (by omega) (by omega)) (And.intro ib ?_)
      rw [eh]
      cases e : fx_Q B b L with
      | nil => exact br_t fx_h_neg (done e)
      | cons t l =>
        have mQ : t ∈ fx_Q B b L := by rw [e]; exact List.mem_cons_self
        obtain ⟨w, m, -⟩ := fx_memQ.mp mQ
        have ht := (g.2.2.1 t w m).1
        refine br_f (nI_pos (n := t) (by omega)) (And.intro ib ?_)
        refine fx_relX (t := t) g m (fx_xin f) ?_
        intro u' h'
        have := ih (i + 1) (a + 1) _ _ _ (fx_m t L) u' (fx_G_r1 g m) h' (by have := fx_m_len g.2.1 m; omega) (by have := fx_m_len g.2.1 m; omega) (by omega) (fun r hr u'' h'' => ?_)
        · obtain ⟨th', rn', sl', bc', hs', dl', sw', qn', qp', bh', bl', tn', tp', rfl, -⟩ := h'
          exact nm_r (nI_1 a) (nm_r (nI_1 i) this)
        · have e5 := fx_SQ_r1 (i := 0) (j := 0) mQ (Nat.zero_le _) (fun _ _ => Iff.rfl)
          refine k r ?_ u'' ?_
          · rw [← e5]
            exact fx_N_2 g.2.1 m hr
          · rw [← e5, ← fx_rs_r1 fx_SQ_t]
            exact h''
/-! Y's loops -/
def fx_YT (post : Int32 → SY → Prop) (n : Nat) (x3 x4 : Int32) : SY → Prop
  | (a0, a1, a2, a3, a4, a5, a6, a7, a8, a9, b0, b1, b2, b3) => wY_tick_68 post n x3 x4 a0 a1 a2 a3 a4 a5 a6 a7 a8 a9 b0 b1 b2 b3
theorem fx_tkY {post : Int32 → SY → Prop} : ∀ (m i a : Nat) (po ou tk : Nat → Int32) (L : List (Nat × Nat)) (v : SY), fx_G T M C B po ar mo L → fx_RY T M C B (va, po, ar, mo, sn, ou, tk, he, L) v → i + m = T →
    (∀ b, fx_N (fx_S i tk L) L a b → ∀ v', fx_RY T M C B (fx_rs (fx_S i tk L) 3 (va, po, ar, mo, sn, ou, tk, he, L)) v' → post (nI b) v') → fx_YT post (m + 1) (nI a) (nI i) v := by
  intro m
  induction m with
  | zero =>
    intro i a po ou tk L v g I hi k
    have g4 := g.1
    unfold fx_B4 at g4
    refine fx_yel (P := fx_YT post 1 (nI a) (nI i)) ?_ I
    intro wo we f
    have e : fx_S i tk L = fun _ => false := by
      funext s
      refine decide_eq_false (fun q => ?_)
      obtain ⟨w, q2⟩ := fx_memK.mp q.2.1
      have := (g.2.2.1 s w q2).1
      omega
    exact br_t (nI_le (by omega) (by omega)) (k a (fx_N_0 e) _ (by rw [fx_rs_0 e]; exact fx_yin f))
  | succ m ih =>
    intro i a po ou tk L v g I hi k
    have g4 := g.1
    unfold fx_B4 at g4
    have hl := fx_len g
    refine fx_yel (P := fx_YT post (m + 2) (nI a) (nI i)) ?_ I
    clear I
    intro wo we f
    have skip : ¬ (i ∈ fx_K L ∧ tk i = 0) → wY_tick_68 post (m + 1) (nI a) (nI (i + 1)) (nI T) (nI M) (nI C) (nI B) (nI L.length) va po ar tk sn ou he wo we := by
      intro h
      have e : fx_S (i + 1) tk L = fx_S i tk L := by
        funext s
        unfold fx_S
        refine decide_eq_decide.mpr ⟨fun q => ⟨by omega, q.2⟩, fun q => ⟨?_, q.2⟩⟩
        have : s ≠ i := fun c => h (c ▸ q.2)
        omega
      refine ih (i + 1) a po ou tk L (nI T, nI M, nI C, nI B, nI L.length, va, po, ar, tk, sn, ou, he, wo, we) g (fx_yin f) (by omega) ?_
      rw [e]
      exact k
    show wY_tick_68 post (m + 1 + 1) (nI a) (nI i) (nI T) (nI M) (nI C) (nI B) (nI L.length) va po ar tk sn ou he wo we
    rw [wY_tick_68]
    dsimp only
    rw [nI_clamp (show i < 2 ^ 31 by omega)]
    refine br_f (nI_ge (by omega) (by omega)) (And.intro (vp_in_nI (by omega) (by decide)) (br_c (fun z0 => ?_) (fun z0 => nm_r (nI_1 i) (skip (fun q => z0 q.2)))))
    refine fx_plY (by omega) (fx_G16 g) (by omega) f (fun L1 w L2 eL => ?_) (fun q => br_t (by decide) (nm_r (nI_1 i) (skip (fun q2 => q q2.1))))
    have hlen : L1.length < L.length := by rw [eL]; simp
    have mL : (i, w) ∈ L := by rw [eL]; simp
    have mK : i ∈ fx_K L := fx_memK.mpr ⟨w, mL⟩
    refine br_f (nI_pos (n := L1.length) (by omega)) ?_
    refine fx_relY g mL (fx_yin f) ?_
    intro v' h'
    have := ih (i + 1) (a + 1) _ _ _ (fx_m i L) v' (fx_G_r1 g mL) h' (by omega) (fun b hb v'' h'' => ?_)
    · obtain ⟨wo', we', rfl, -⟩ := h'
      exact nm_r (nI_1 a) (nm_r (nI_1 i) this)
    · have e5 := fx_S_r1 (i := i) (j := i + 1) (v := fx_nt 3 (po i) (tk i)) mK z0 (Nat.le_refl _) (fun s hs => by omega)
      refine k b ?_ v'' ?_
      · rw [← e5]
        exact fx_N_2 g.2.1 mL hb
      · rw [← e5, ← fx_rs_r1 fx_S_t]
        exact h''
def fx_YJ (post : Int32 → SY → Prop) (x1 : Int32) (n : Nat) (x3 x4 : Int32) : SY → Prop
  | (a0, a1, a2, a3, a4, a5, a6, a7, a8, a9, b0, b1, b2, b3) => wY_jolt_19 post x1 n x3 x4 a0 a1 a2 a3 a4 a5 a6 a7 a8 a9 b0 b1 b2 b3
theorem fx_jtY {post : Int32 → SY → Prop} {b : Nat} (hb : b < B) : ∀ (m i a : Nat) (po ou tk : Nat → Int32) (L : List (Nat × Nat)) (v : SY), fx_G T M C B po ar mo L → fx_RY T M C B (va, po, ar, mo, sn, ou, tk, he, L) v → i + m = T →
    (∀ r, fx_N (fx_SQ i B b L) L a r → ∀ v', fx_RY T M C B (fx_rs (fx_SQ i B b L) 6 (va, po, ar, mo, sn, ou, tk, he, L)) v' → post (nI r) v') → fx_YJ post (nI b) (m + 1) (nI a) (nI i) v := by
  intro m
  induction m with
  | zero =>
    intro i a po ou tk L v g I hi k
    have g4 := g.1
    unfold fx_B4 at g4
    refine fx_yel (P := fx_YJ post (nI b) 1 (nI a) (nI i)) ?_ I
    intro wo we f
    have e : fx_SQ i B b L = fun _ => false := by
      funext s
      refine decide_eq_false (fun q => ?_)
      obtain ⟨w, q2, -⟩ := fx_memQ.mp q.2
      have := (g.2.2.1 s w q2).1
      omega
    exact br_t (nI_le (by omega) (by omega)) (k a (fx_N_0 e) _ (by rw [fx_rs_0 e]; exact fx_yin f))
  | succ m ih =>
    intro i a po ou tk L v g I hi k
    have g4 := g.1
    unfold fx_B4 at g4
    have hl := fx_len g
    refine fx_yel (P := fx_YJ post (nI b) (m + 2) (nI a) (nI i)) ?_ I
    clear I
    intro wo we f
    have skip : ¬ i ∈ fx_Q B b L → wY_jolt_19 post (nI b) (m + 1) (nI a) (nI (i + 1)) (nI T) (nI M) (nI C) (nI B) (nI L.length) va po ar tk sn ou he wo we := by
      intro h
      have e : fx_SQ (i + 1) B b L = fx_SQ i B b L := by
        funext s
        unfold fx_SQ
        refine decide_eq_decide.mpr ⟨fun q => ⟨by omega, q.2⟩, fun q => ⟨?_, q.2⟩⟩
        have : s ≠ i := fun c => h (c ▸ q.2)
        omega
      refine ih (i + 1) a po ou tk L (nI T, nI M, nI C, nI B, nI L.length, va, po, ar, tk, sn, ou, he, wo, we) g (fx_yin f) (by omega) ?_
      rw [e]
      exact k
    show wY_jolt_19 post (nI b) (m + 1 + 1) (nI a) (nI i) (nI T) (nI M) (nI C) (nI B) (nI L.length) va po ar tk sn ou he wo we
    rw [wY_jolt_19]
    refine br_f (nI_ge (by omega) (by omega)) ?_
    refine fx_plY (by omega) (fx_G16 g) (by omega) f (fun L1 w L2 eL => ?_) (fun q => br_t (by decide) (nm_r (nI_1 i) (skip (fun q2 => q (fx_QK q2)))))
    have hlen : L1.length < L.length := by rw [eL]; simp
    have mL : (i, w) ∈ L := by rw [eL]; simp
    have f2 := f
    rw [eL, fx_V_app] at f2
    obtain ⟨-, -, f4, -⟩ := f2
    rw [Nat.zero_add] at f4
    have h16 := fx_G16 g i w mL
    rw [nI_clamp (show L1.length < 2 ^ 31 by omega), f4, pk_rem (by omega) (by omega) (by omega)]
    have hwb : w % B < 8 := by have := Nat.mod_lt w (show B > 0 by omega); omega
    refine br_f (nI_pos (n := L1.length) (by omega)) (And.intro (vp_in_nI (by omega) (by decide)) (And.intro (nI_ne0 (by omega) (by omega)) (br_c (fun z0 => ?_) (fun z0 => ?_))))
    · have z1 : w % B = b := (nI_eq (by omega) (by omega)).mp z0
      have mQ : i ∈ fx_Q B b L := fx_memQ.mpr ⟨w, mL, z1⟩
      refine fx_relY g mL (fx_yin f) ?_
      intro v' h'
      have := ih (i + 1) (a + 1) _ _ _ (fx_m i L) v' (fx_G_r1 g mL) h' (by omega) (fun r hr v'' h'' => ?_)
      · obtain ⟨wo', we', rfl, -⟩ := h'
        exact nm_r (nI_1 a) (nm_r (nI_1 i) this)
      · have e5 := fx_SQ_r1 (i := i) (j := i + 1) mQ (Nat.le_refl _) (fun s hs => by omega)
        refine k r ?_ v'' ?_
        · rw [← e5]
          exact fx_N_2 g.2.1 mL hr
        · rw [← e5, ← fx_rs_r1 fx_SQ_t]
          exact h''
    · refine nm_r (nI_1 i) (skip (fun q => z0 ?_))
      obtain ⟨w', q1, q2⟩ := fx_memQ.mp q
      rw [fx_one g.2.1 mL q1, q2]
end
end
section
/-- the relation: one abstract state that both states represent -/
def i_Rel (k : Nat) (u : SX) (v : SY) : Prop := ∃ (T M C B nw : Nat) (c : fx_A), fx_Gc T M C B c ∧ fx_RX T M C B nw c u ∧ fx_RY T M C B c v ∧ nw ≤ 1000 * k
theorem i_up {k : Nat} {u : SX} {v : SY} (h : i_Rel k u v) : i_Rel (k + 5) u v := by
  obtain ⟨T, M, C, B, nw, c, a, b, d, e⟩ := h
  exact ⟨T, M, C, B, nw, c, a, b, d, by omega⟩
theorem fx_qel {P : SX → SY → Prop} {k : Nat} {u : SX} {v : SY}
    (h : ∀ (T M C B nw : Nat) (va po ar mo sn ou tk he : Nat → Int32) (L : List (Nat × Nat)) (th rn : Int32) (sl bc hs : Nat → Int32) (dl : Nat → Int64) (sw qn qp bh bl tn tp wo we : Nat → Int32),
      fx_G T M C B po ar mo L → fx_XF T B nw th rn sl bc hs dl sw qn qp bh bl tn tp po mo tk he L → fx_V wo we 0 L → nw ≤ 1000 * k → i_Rel (k + 5) (nI T, nI M, nI C, nI B, lN nw, th, rn, va, sl, bc, po, ar, mo, sn, ou, hs, dl, sw, qn, qp, bh, bl, tn, tp) (nI T, nI M, nI C, nI B, nI L.length, va, po, ar, tk, sn, ou, he, wo, we) → P (nI T, nI M, nI C, nI B, lN nw, th, rn, va, sl, bc, po, ar, mo, sn, ou, hs, dl, sw, qn, qp, bh, bl, tn, tp) (nI T, nI M, nI C, nI B, nI L.length, va, po, ar, tk, sn, ou, he, wo, we))
    (I : i_Rel k u v) : P u v := by
  have R := i_up I
  obtain ⟨T, M, C, B, nw, ⟨va, po, ar, mo, sn, ou, tk, he, L⟩, g, ⟨th, rn, sl, bc, hs, dl, sw, qn, qp, bh, bl, tn, tp, rfl, f⟩, ⟨wo, we, rfl, fy⟩, hn⟩ := I
  exact h T M C B nw va po ar mo sn ou tk he L th rn sl bc hs dl sw qn qp bh bl tn tp wo we g f fy hn R
section
variable {T M C B nw : Nat} {th rn : Int32} {va sl bc po ar mo sn ou hs : Nat → Int32} {dl : Nat → Int64} {sw qn qp bh bl tn tp tk he wo we : Nat → Int32} {L : List (Nat × Nat)} {t w : Nat} {z p : Int32}
theorem fx_it0 {post : Int32 → Prop} (h : p < 0 ∨ nI T ≤ p) (k : post 0) : wpX_isThread post (nI T, nI M, nI C, nI B, lN nw, th, rn, va, sl, bc, po, ar, mo, sn, ou, hs, dl, sw, qn, qp, bh, bl, tn, tp) p := by
  unfold wpX_isThread
  by_cases c : p < 0
  · exact br_t c k
  · refine br_f c (br_t ?_ k)
    rcases h with h | h
    · exact absurd h c
    · exact h
theorem fx_it1 {post : Int32 → Prop} (hT : T ≤ 16) (ht : t < T) (k : post 1) : wpX_isThread post (nI T, nI M, nI C, nI B, lN nw, th, rn, va, sl, bc, po, ar, mo, sn, ou, hs, dl, sw, qn, qp, bh, bl, tn, tp) (nI t) :=
  br_f (nI_pos (by omega)) (br_f (nI_ge ht (by omega)) k)
theorem fx_nt1 {post : Int32 → Prop} (h : p < 0 ∨ nI T ≤ p) (k : post 1) : wpY_noThread post (nI T, nI M, nI C, nI B, nI L.length, va, po, ar, tk, sn, ou, he, wo, we) p := by
  unfold wpY_noThread
  by_cases c : p < 0
  · exact br_t c k
  · refine br_f c (br_f ?_ k)
    rcases h with h | h
    · exact absurd h c
    · exact Int32.not_lt.mpr h
theorem fx_nt0 {post : Int32 → Prop} (hT : T ≤ 16) (ht : t < T) (k : post 0) : wpY_noThread post (nI T, nI M, nI C, nI B, nI L.length, va, po, ar, tk, sn, ou, he, wo, we) (nI t) :=
  br_f (nI_pos (by omega)) (br_t (nI_lt ht (by omega)) k)
/-- a word -/
theorem fx_iw0 {post : Int32 → Prop} (h : p < 0 ∨ nI (M + C) ≤ p) (k : post 0) : wpX_isWord post (nI T, nI M, nI C, nI B, lN nw, th, rn, va, sl, bc, po, ar, mo, sn, ou, hs, dl, sw, qn, qp, bh, bl, tn, tp) p := by
  unfold wpX_isWord
  dsimp only
  rw [nI_add]
  by_cases c : p < 0
  · exact br_t c k
  · refine br_f c (br_t ?_ k)
    rcases h with h | h
    · exact absurd h c
    · exact h
theorem fx_iw1 {post : Int32 → Prop} (hM : M + C ≤ 16) (hw : w < M + C) (k : post 1) : wpX_isWord post (nI T, nI M, nI C, nI B, lN nw, th, rn, va, sl, bc, po, ar, mo, sn, ou, hs, dl, sw, qn, qp, bh, bl, tn, tp) (nI w) := by
  unfold wpX_isWord
  dsimp only
  rw [nI_add]
  exact br_f (nI_pos (by omega)) (br_f (nI_ge hw (by omega)) k)
def fx_clf (p lo hi : Int32) : Int32 := if lo ≤ p then (if p ≤ hi then p else hi) else lo
theorem fx_clX {post : Int32 → Prop} {lo hi : Int32} (k : post (fx_clf p lo hi)) : wpX_clamp post (nI T, nI M, nI C, nI B, lN nw, th, rn, va, sl, bc, po, ar, mo, sn, ou, hs, dl, sw, qn, qp, bh, bl, tn, tp) p lo hi := by
  unfold fx_clf at k
  refine br_c (fun h => ?_) (fun h => ?_)
  · rw [if_pos h] at k
    refine br_c (fun h2 => ?_) (fun h2 => ?_)
    · rw [if_pos h2] at k; exact k
    · rw [if_neg h2] at k; exact k
  · rw [if_neg h] at k; exact k
theorem fx_clY {post : Int32 → Prop} {ns : Int32} {lo hi : Int32} (k : post (fx_clf p lo hi)) : wpY_clamp post (nI T, nI M, nI C, nI B, ns, va, po, ar, tk, sn, ou, he, wo, we) p lo hi := by
  unfold fx_clf at k
  refine br_c (fun h => ?_) (fun h => ?_)
  · rw [if_pos h] at k
    refine br_c (fun h2 => ?_) (fun h2 => ?_)
    · rw [if_pos h2] at k; exact k
    · rw [if_neg h2] at k; exact k
  · rw [if_neg h] at k; exact k
theorem fx_clN {a b : Nat} (hab : a ≤ b) (hb : b < 2 ^ 31) : ∃ d, a ≤ d ∧ d ≤ b ∧ fx_clf p (nI a) (nI b) = nI d := by
  unfold fx_clf
  by_cases h : nI a ≤ p
  · rw [if_pos h]
    have h0 : ¬ p < 0 := by
      intro q
      have : nI a < 0 := Int32.lt_of_le_of_lt h q
      exact nI_pos (by omega) this
    obtain ⟨j, hj, rfl⟩ := nI_of h0
    rw [nI_leI (by omega) hj] at h
    by_cases h2 : nI j ≤ nI b
    · rw [if_pos h2]
      rw [nI_leI hj hb] at h2
      exact ⟨j, h, h2, rfl⟩
    · rw [if_neg h2]
      exact ⟨b, hab, Nat.le_refl _, rfl⟩
  · rw [if_neg h]
    exact ⟨a, Nat.le_refl _, hab, rfl⟩
/-! Y counts the bound threads -/
theorem fx_b61 {post : Int32 → Prop} {J : Int32 → Int32 → Prop} {x1 x2 : Int32} (ht : t < 16) (h1 : ¬ po t = 11) (h2 : ¬ po t = 9) (k : J x2 (nI (t + 1))) : wY_bound_61 post J x1 x2 (nI t) (nI T) (nI M) (nI C) (nI B) (nI L.length) va po ar tk sn ou he wo we := by
  have i1 : vp_in (nI t) 16 := vp_in_nI ht (by decide)
  unfold wY_bound_61
  rw [nI_clamp (show t < 2 ^ 31 by omega)]
  exact And.intro i1 (br_f h1 (And.intro i1 (br_f h2 (nm_r (nI_1 t) k))))
theorem fx_b83 {post : Int32 → Prop} {J : Int32 → Int32 → Prop} {a x y m : Nat} (ht : t < 16) (hM : 1 ≤ M ∧ M ≤ 8) (hx : ar t = nI x) (hx8 : x < 8) (hm8 : m < 8) (hy : mo t = nI y) (hxy : y = x % M)
    (h : po t = 11 ∨ po t = 9) (k : J (nI (a + (fx_bp po mo m t).toNat)) (nI (t + 1))) : wY_bound_61 post J (nI m) (nI a) (nI t) (nI T) (nI M) (nI C) (nI B) (nI L.length) va po ar tk sn ou he wo we := by
  have i1 : vp_in (nI t) 16 := vp_in_nI ht (by decide)
  have hb : fx_bp po mo m t = decide (x % M = m) := by
    unfold fx_bp
    rw [show fx_bd (po t) = true by rcases h with h | h <;> rw [h] <;> decide, Bool.true_and, hy, hxy]
    refine decide_eq_decide.mpr ?_
    have := Nat.mod_lt x (show M > 0 by omega)
    exact nI_eq (by omega) (by omega)
  have k83 : wY_bound_83 post J (nI m) (nI a) (nI t) (nI T) (nI M) (nI C) (nI B) (nI L.length) va po ar tk sn ou he wo we := by
    unfold wY_bound_83
    rw [nI_clamp (show t < 2 ^ 31 by omega), hx, pk_rem (by omega) (by omega) (by omega)]
    refine And.intro i1 (And.intro (nI_ne0 (by omega) (by omega)) ?_)
    have hl := Nat.mod_lt x (show M > 0 by omega)
    by_cases c : x % M = m
    · rw [hb, decide_eq_true c] at k
      exact br_t (by rw [c]) (nm_r (nI_1 a) (nm_r (nI_1 t) k))
    · rw [hb, decide_eq_false c] at k
      exact br_f (fun q => c ((nI_eq (by omega) (by omega)).mp q)) (nm_r (nI_1 t) k)
  unfold wY_bound_61
  rw [nI_clamp (show t < 2 ^ 31 by omega)]
  refine And.intro i1 (br_c (fun _ => k83) (fun n => And.intro i1 (br_t ?_ k83)))
  rcases h with h | h
  · exact absurd h n
  · exact h
theorem fx_b48 {post : Int32 → Prop} {J : Int32 → Int32 → Prop} {a y m : Nat} (ht : t < 16) (hx : ar t = nI y) (hy8 : y < 8) (hm8 : m < 8) (hy : mo t = nI y)
    (h : po t = 2 ∨ po t = 6) (k : J (nI (a + (fx_bp po mo m t).toNat)) (nI (t + 1))) : wY_bound_48 post J (nI m) (nI a) (nI t) (nI T) (nI M) (nI C) (nI B) (nI L.length) va po ar tk sn ou he wo we := by
  have i1 : vp_in (nI t) 16 := vp_in_nI ht (by decide)
  have hb : fx_bp po mo m t = decide (y = m) := by
    unfold fx_bp
    rw [show fx_bd (po t) = true by rcases h with h | h <;> rw [h] <;> decide, Bool.true_and, hy]
    exact decide_eq_decide.mpr (nI_eq (by omega) (by omega))
  have n1 : ¬ po t = 11 := by rcases h with h | h <;> rw [h] <;> decide
  have n2 : ¬ po t = 9 := by rcases h with h | h <;> rw [h] <;> decide
  unfold wY_bound_48
  rw [nI_clamp (show t < 2 ^ 31 by omega), hx]
  refine And.intro i1 ?_
  by_cases c : y = m
  · rw [hb, decide_eq_true c] at k
    exact br_t (by rw [c]) (nm_r (nI_1 a) (fx_b61 ht n1 n2 k))
  · rw [hb, decide_eq_false c] at k
    exact br_f (fun q => c ((nI_eq (by omega) (by omega)).mp q)) (fx_b61 ht n1 n2 k)
theorem fx_b19 {post : Int32 → Prop} {m : Nat} (g : fx_G T M C B po ar mo L) (hm8 : m < 8) (k : post (nI (fx_c (fx_bp po mo m) T))) :
    ∀ j i, i + j = T → wY_bound_19 post (nI m) (nI T) (nI M) (nI C) (nI B) (nI L.length) va po ar tk sn ou he wo we (j + 1) (nI (fx_c (fx_bp po mo m) i)) (nI i) := by
  have g4 := g.1
  unfold fx_B4 at g4
  intro j
  induction j with
  | zero =>
    intro i e
    have e' : i = T := by omega
    subst e'
    rw [wY_bound_19]
    exact br_t (nI_le (Nat.le_refl _) (by omega)) k
  | succ j ih =>
    intro i e
    have i1 : vp_in (nI i) 16 := vp_in_nI (by omega) (by decide)
    have K := ih (i + 1) (by omega)
    rw [show fx_c (fx_bp po mo m) (i + 1) = fx_c (fx_bp po mo m) i + (fx_bp po mo m i).toNat from rfl] at K
    rw [wY_bound_19]
    dsimp only
    rw [nI_clamp (show i < 2 ^ 31 by omega)]
    refine br_f (nI_ge (by omega) (by omega)) (And.intro i1 ?_)
    by_cases z : po i = 0
    · have hb : fx_bp po mo m i = false := by unfold fx_bp; rw [z]; rfl
      rw [hb] at K
      exact br_f (by rw [z]; decide) (And.intro i1 (br_f (by rw [z]; decide) (fx_b61 (by omega) (by rw [z]; decide) (by rw [z]; decide) K)))
    · obtain ⟨q, x, y, e1, e2, e3, b1, b2, b3, b4, b5⟩ := g.2.2.2 i (by omega) z
      by_cases c1 : po i = 2
      · have : q = 2 := (nI_eq (by omega) (by omega)).mp (e1.symm.trans c1)
        have exy := b4 (by omega)
        subst exy
        exact br_t c1 (fx_b48 (by omega) e2 (by omega) hm8 e3 (Or.inl c1) K)
      · refine br_f c1 (And.intro i1 ?_)
        by_cases c2 : po i = 6
        · have : q = 6 := (nI_eq (by omega) (by omega)).mp (e1.symm.trans c2)
          have exy := b4 (by omega)
          subst exy
          exact br_t c2 (fx_b48 (by omega) e2 (by omega) hm8 e3 (Or.inr c2) K)
        · refine br_f c2 ?_
          by_cases c3 : po i = 11
          · have : q = 11 := (nI_eq (by omega) (by omega)).mp (e1.symm.trans c3)
            have b5' := b5 (by omega)
            exact fx_b83 (by omega) ⟨by omega, by omega⟩ e2 (by omega) hm8 e3 b5'.2 (Or.inl c3) K
          · by_cases c4 : po i = 9
            · have : q = 9 := (nI_eq (by omega) (by omega)).mp (e1.symm.trans c4)
              have b5' := b5 (by omega)
              exact fx_b83 (by omega) ⟨by omega, by omega⟩ e2 (by omega) hm8 e3 b5'.2 (Or.inr c4) K
            · have hb : fx_bp po mo m i = false := by
                unfold fx_bp fx_bd
                rw [decide_eq_false (show ¬ (po i = 2 ∨ po i = 6 ∨ po i = 11 ∨ po i = 9) by simp only [c1, c2, c3, c4, or_self, not_false_eq_true]), Bool.false_and]
              rw [hb] at K
              exact fx_b61 (by omega) c3 c4 K
/-! Y's sleeper -/
theorem fx_s58 {post : Int32 → Prop} {J : Int32 → Int32 → Prop} {x2 : Int32} {a i v : Nat} (hi : i < 16) (hw : w < 16) (hv : v < 16) (e : we i = nI v) (k : J (nI (if v = w then a + 1 else a)) (nI (i + 1))) :
    wY_sleeper_58 post J (nI w) x2 (nI a) (nI i) (nI T) (nI M) (nI C) (nI B) (nI L.length) va po ar tk sn ou he wo we := by
  unfold wY_sleeper_58
  rw [nI_clamp (show i < 2 ^ 31 by omega), e]
  refine And.intro (vp_in_nI hi (by decide)) ?_
  by_cases c : v = w
  · rw [if_pos c] at k
    exact br_t (by rw [c]) (nm_r (nI_1 a) (nm_r (nI_1 i) k))
  · rw [if_neg c] at k
    exact br_f (fun q => c ((nI_eq (by omega) (by omega)).mp q)) (nm_r (nI_1 i) k)
theorem fx_s25 {post : Int32 → Prop} {j : Nat} (hl : L.length ≤ 16) (hb : ∀ s v, (s, v) ∈ L → s < 16 ∧ v < 16) (hw : w < 16) (hj : j < 2 ^ 31) (f : fx_V wo we 0 L) :
    ∀ n L1 L2 a, L = L1 ++ L2 → L2.length < n → a ≤ j → a ≤ L1.length → post (fx_h ((fx_O w L2).drop (j - a))) → wY_sleeper_25 post (nI w) (nI j) (nI T) (nI M) (nI C) (nI B) (nI L.length) va po ar tk sn ou he wo we n (nI a) (nI L1.length) := by
  intro n
  induction n with
  | zero => intro L1 L2 a _ h; omega
  | succ n ih =>
    intro L1 L2 a e hn haj hal k
    rw [wY_sleeper_25]
    have hlen : L.length = L1.length + L2.length := by rw [e, List.length_append]
    cases L2 with
    | nil =>
      rw [List.append_nil] at e
      rw [show fx_O w [] = [] from rfl, List.drop_nil] at k
      exact br_t (nI_le (by rw [e]; exact Nat.le_refl _) (by omega)) k
    | cons p L2 =>
      obtain ⟨s, v⟩ := p
      rw [List.length_cons] at hlen hn
      have hs := hb s v (by rw [e]; simp)
      have f2 := f
      rw [e, fx_V_app] at f2
      obtain ⟨-, f3, f4, -⟩ := f2
      rw [Nat.zero_add] at f3 f4
      have cs : (nI L1.length).toNatClampNeg = L1.length := nI_clamp (by omega)
      have i1 : vp_in (nI L1.length) 16 := vp_in_nI (by omega) (by decide)
      have ih' := ih (L1 ++ [(s, v)]) L2
      rw [List.length_append] at ih'
      refine br_f (nI_ge (by omega) (by omega)) (And.intro i1 ?_)
      rw [cs, f3, f4]
      by_cases c : v = w
      · subst c
        rw [fx_Opos] at k
        refine br_t rfl ?_
        by_cases d : a = j
        · subst d
          rw [Nat.sub_self] at k
          exact br_t rfl (And.intro i1 k)
        · refine br_f (fun q => d ((nI_eq (by omega) (by omega)).mp q)) (fx_s58 (by omega) hw hw f4 ?_)
          rw [if_pos rfl]
          rw [show j - a = (j - (a + 1)) + 1 by omega] at k
          exact ih' (a + 1) (by rw [e]; simp) (by omega) (by omega) (by simp; omega) k
      · rw [fx_Oneg c] at k
        refine br_f (fun q => c ((nI_eq (by omega) (by omega)).mp q)) (fx_s58 (by omega) hw hs.2 f4 ?_)
        rw [if_neg c]
        exact ih' a (by rw [e]; simp) (by omega) haj (by simp; omega) k
theorem fx_s25n {post : Int32 → Prop} {x2 : Int32} (hx2 : x2 < 0) (hl : L.length ≤ 16) (hb : ∀ s v, (s, v) ∈ L → s < 16 ∧ v < 16) (hw : w < 16) (f : fx_V wo we 0 L) (k : post (-1)) :
    ∀ n L1 L2 a, L = L1 ++ L2 → L2.length < n → a ≤ L1.length → wY_sleeper_25 post (nI w) x2 (nI T) (nI M) (nI C) (nI B) (nI L.length) va po ar tk sn ou he wo we n (nI a) (nI L1.length) := by
  intro n
  induction n with
  | zero => intro L1 L2 a _ h; omega
  | succ n ih =>
    intro L1 L2 a e hn hal
    rw [wY_sleeper_25]
    have hlen : L.length = L1.length + L2.length := by rw [e, List.length_append]
    cases L2 with
    | nil =>
      rw [List.append_nil] at e
      exact br_t (nI_le (by rw [e]; exact Nat.le_refl _) (by omega)) k
    | cons p L2 =>
      obtain ⟨s, v⟩ := p
      rw [List.length_cons] at hlen hn
      have hs := hb s v (by rw [e]; simp)
      have f2 := f
      rw [e, fx_V_app] at f2
      obtain ⟨-, f3, f4, -⟩ := f2
      rw [Nat.zero_add] at f3 f4
      have cs : (nI L1.length).toNatClampNeg = L1.length := nI_clamp (by omega)
      have i1 : vp_in (nI L1.length) 16 := vp_in_nI (by omega) (by decide)
      have ih' := ih (L1 ++ [(s, v)]) L2 (if v = w then a + 1 else a) (by rw [e]; simp) (by omega) (by simp; split <;> omega)
      rw [List.length_append] at ih'
      have nx : ¬ nI a = x2 := by
        rintro rfl
        exact nI_pos (by omega) hx2
      refine br_f (nI_ge (by omega) (by omega)) (And.intro i1 ?_)
      rw [cs, f3, f4]
      exact br_c (fun _ => br_f nx (fx_s58 (by omega) hw hs.2 f4 ih')) (fun _ => fx_s58 (by omega) hw hs.2 f4 ih')
theorem fx_saXn {post : Int32 → Prop} {x : Int32} (hx : x < 0) (k : post (-1)) : wpX_sleeperAt post (nI T, nI M, nI C, nI B, lN nw, th, rn, va, sl, bc, po, ar, mo, sn, ou, hs, dl, sw, qn, qp, bh, bl, tn, tp) (nI w) x := by
  unfold wpX_sleeperAt
  exact br_t hx k
end
end
section
/-! begin -/
def fx_mis (op hv : Int32) : Prop := (op = 1 ∧ ¬ hv = 0) ∨ ((op = 3 ∨ op = 4) ∧ hv = 0)
theorem fx_uu {f : Nat → Int32} {t : Nat} {a b : Int32} : upd (upd f t a) t b = upd f t b := by
  funext j
  unfold upd
  by_cases c : j = t
  · rw [if_pos c, if_pos c]
  · rw [if_neg c, if_neg c, if_neg c]
section
variable {T M C B nw : Nat} {th rn : Int32} {va sl bc po ar mo sn ou hs : Nat → Int32} {dl : Nat → Int64} {sw qn qp bh bl tn tp tk he wo we : Nat → Int32} {L : List (Nat × Nat)} {t w x y : Nat} {z p : Int32}
theorem fx_im38 {post : Int32 → Prop} {v : Int32} (k1 : v = 0 → post 1) (k0 : ¬ v = 0 → post 0) : wX_isMisuse_38 post v (nI T) (nI M) (nI C) (nI B) (lN nw) th rn va sl bc po ar mo sn ou hs dl sw qn qp bh bl tn tp := br_c k1 k0
theorem fx_imX {post : Int32 → Prop} {op : Int32} (ht : t < 16) (hy : y < 8) (fh : fx_HF hs he) (k1 : fx_mis op (he (t * 8 + y)) → post 1) (k0 : ¬ fx_mis op (he (t * 8 + y)) → post 0) : wpX_isMisuse post (nI T, nI M, nI C, nI B, lN nw, th, rn, va, sl, bc, po, ar, mo, sn, ou, hs, dl, sw, qn, qp, bh, bl, tn, tp) (nI t) op (nI y) := by
  have i1 : vp_in (nI t) 16 := vp_in_nI ht (by decide)
  have e : hs t &&& ((1 : Int32) <<< (nI y &&& 31)) = 0 ↔ he (t * 8 + y) = 0 := by
    rw [fx_btst (by omega), fh t y ht hy, decide_eq_false_iff_not, Classical.not_not]
  unfold wpX_isMisuse
  dsimp only
  rw [nI_clamp (show t < 2 ^ 31 by omega)]
  refine And.intro i1 (br_c (fun c => ?_) (fun c => ?_))
  · have h0 := e.mp c
    unfold wX_isMisuse_18
    refine br_c (fun o => And.intro rfl (k0 ?_)) (fun o => br_c (fun o3 => fx_im38 (fun _ => k1 (Or.inr ⟨Or.inl o3, h0⟩)) (fun n => absurd rfl n)) (fun o3 => br_c (fun o4 => fx_im38 (fun _ => k1 (Or.inr ⟨Or.inr o4, h0⟩)) (fun n => absurd rfl n)) (fun o4 => k0 ?_)))
    · rintro (⟨-, q⟩ | ⟨q, -⟩)
      · exact q h0
      · rw [o] at q
        rcases q with q | q <;> exact absurd q (by decide)
    · rintro (⟨q, -⟩ | ⟨q | q, -⟩)
      · exact o q
      · exact o3 q
      · exact o4 q
  · have h0 : ¬ he (t * 8 + y) = 0 := fun q => c (e.mpr q)
    unfold wX_isMisuse_18
    refine br_c (fun o => And.intro rfl (k1 (Or.inl ⟨o, h0⟩))) (fun o => br_c (fun o3 => fx_im38 (fun n => absurd n (by decide)) (fun _ => k0 ?_)) (fun o3 => br_c (fun o4 => fx_im38 (fun n => absurd n (by decide)) (fun _ => k0 ?_)) (fun o4 => k0 ?_)))
    all_goals
      rintro (⟨q, -⟩ | ⟨-, q⟩)
      · exact o q
      · exact h0 q
theorem fx_cm1 (h : ¬ (0 : Int32) ≤ p) : fx_clf p (-1) 1000 = -1 := by
  unfold fx_clf
  by_cases c : (-1 : Int32) ≤ p
  · have e : p = -1 := by
      rw [Int32.le_iff_toInt_le] at h c
      apply Int32.toInt_inj.mp
      have a : (0 : Int32).toInt = 0 := by decide
      have b : (-1 : Int32).toInt = -1 := by decide
      omega
    rw [if_pos c, e]
    decide
  · rw [if_neg c]
theorem fx_tl10 {post : SX → Prop} (ht : t < 16) (k : ∀ d, fx_LK nw d (fx_clf p (-1) 1000) → post (nI T, nI M, nI C, nI B, lN nw, th, rn, va, sl, bc, po, ar, mo, sn, ou, hs, vp_updL dl t d, sw, qn, qp, bh, bl, tn, tp)) : wX_setTimeLimit_10 post (nI t) p (nI T) (nI M) (nI C) (nI B) (lN nw) th rn va sl bc po ar mo sn ou hs dl sw qn qp bh bl tn tp := by
  have i1 : vp_in (nI t) 16 := vp_in_nI ht (by decide)
  unfold wX_setTimeLimit_10
  rw [nI_clamp (show t < 2 ^ 31 by omega)]
  refine br_c (fun h => ?_) (fun h => And.intro i1 (nm_e (k _ (by rw [fx_cm1 h]; exact fx_LK_m1))))
  obtain ⟨n, hn, rfl⟩ := nI_of (Int32.not_lt.mpr h)
  have h1 : (-1 : Int32) ≤ nI n := Int32.le_trans (by decide) h
  refine br_c (fun c => ?_) (fun c => ?_)
  · have c' : n ≤ 1000 := (nI_leI (b := 1000) hn (by decide)).mp c
    refine And.intro i1 (nm_e (k _ (Or.inr ⟨nw + n, by omega, ?_, ?_⟩)))
    · rw [nI_l hn, lN_add]
    · unfold fx_clf
      rw [if_pos h1, if_pos c, Nat.add_sub_cancel_left]
  · refine And.intro i1 (nm_e (k _ (Or.inr ⟨nw + 1000, by omega, ?_, ?_⟩)))
    · rw [show (1000 : Int32) = nI 1000 from rfl, nI_l (by decide), lN_add]
    · unfold fx_clf
      rw [if_pos h1, if_neg c, Nat.add_sub_cancel_left]
      rfl
theorem fx_Gb1 (g : fx_G T M C B po ar mo L) (ht : t < T) (nt : t ∉ fx_K L) (hx : x < M) (hxy : x = y) : fx_G T M C B (upd po t 1) (upd ar t (nI x)) (upd mo t (nI y)) L := by
  have g4 := g.1
  unfold fx_B4 at g4
  obtain ⟨g1, g2, g3, g5⟩ := g
  refine ⟨g1, g2, fun s v m => ?_, fun s hs hp => ?_⟩
  · have st : s ≠ t := fun e => nt (fx_memK.mpr ⟨v, e ▸ m⟩)
    rw [pk_un st]
    exact g3 s v m
  · by_cases c : s = t
    · subst c
      rw [pk_us, pk_us, pk_us]
      exact ⟨1, x, y, rfl, rfl, rfl, by decide, by decide, by omega, fun _ => hxy, fun q => absurd q (by decide)⟩
    · rw [pk_un c] at hp ⊢
      rw [pk_un c, pk_un c]
      exact g5 s hs hp
theorem fx_bX1 {post : Int32 → SX → Prop} {u : SX} (g : fx_G T M C B po ar mo L) (ht : t < T) (hp : po t = 0) (nt : t ∉ fx_K L) (hx : x < M) (hxy : x = y) (I : fx_RX T M C B nw (va, po, ar, mo, sn, ou, tk, he, L) u)
    (k7 : fx_mis 1 (he (t * 8 + y)) → ∀ u', fx_RX T M C B nw (va, po, ar, mo, sn, ou, tk, he, L) u' → post (-7) u') (k0 : ¬ fx_mis 1 (he (t * 8 + y)) → ∀ u', fx_RX T M C B nw (va, upd po t 1, upd ar t (nI x), upd mo t (nI y), upd sn t 0, upd ou t 0, upd tk t (fx_clf p (-1) 1000), he, L) u' → post 0 u') :
    wpX_begin post u (nI t) 1 (nI x) p := by
  refine fx_xel (P := fun u => wpX_begin post u (nI t) 1 (nI x) p) ?_ I
  clear I
  intro th rn sl bc hs dl sw qn qp bh bl tn tp f
  have g4 := g.1
  unfold fx_B4 at g4
  have hy : y < 8 := by omega
  have ct : (nI t).toNatClampNeg = t := nI_clamp (by omega)
  have i1 : vp_in (nI t) 16 := vp_in_nI (by omega) (by decide)
  unfold wpX_begin
  refine fx_it1 (by omega) ht (br_f (by decide) (br_f (by decide) (br_t (by decide) (br_f (by decide) ?_))))
  unfold wX_begin_38
  rw [ct]
  refine br_f (nI_pos (n := x) (by omega)) (br_t (nI_lt hx (by omega)) (And.intro i1 (br_t hp (br_f (by decide) ?_))))
  subst hxy
  have f0 := f
  obtain ⟨fn, fq, fb, fh, fl, ft, fr⟩ := f
  unfold wX_begin_80
  rw [ct]
  refine fx_imX (by omega) hy fh (fun m => br_f (by decide) (k7 m _ (fx_xin f0))) (fun m => br_t rfl ?_)
  refine And.intro i1 (nm_e (And.intro i1 (nm_e (And.intro i1 (nm_e (And.intro i1 (nm_e ?_)))))))
  have fin : ∀ d, fx_LK nw d (fx_clf p (-1) 1000) → wpX_moveTo (fun u => match u with | (a0, a1, a2, a3, a4, a5, a6, a7, a8, a9, b0, b1, b2, b3, b4, b5, b6, b7, b8, b9, c0, c1, c2, c3) => ∀ r : Int32, r = a6 ||| ((1 : Int32) <<< (nI t &&& 31)) → post 0 (a0, a1, a2, a3, a4, a5, r, a7, a8, a9, b0, b1, b2, b3, b4, b5, b6, b7, b8, b9, c0, c1, c2, c3))
      (nI T, nI M, nI C, nI B, lN nw, th, rn, va, sl, bc, po, upd ar t (nI x), upd mo t (nI x), upd sn t 0, upd ou t 0, hs, vp_updL dl t d, sw, qn, qp, bh, bl, tn, tp) (nI t) 1 := by
    intro d hd
    refine fx_mv (by omega) hy pk_us (nm_e ?_)
    refine k0 m _ (fx_xin ⟨fn, fq, fx_BF_mv (fx_BF_mo fb hp) ht pk_us hy, fh, fx_LF_up fl hd, fx_TT_dl ft nt, fx_RF_beg fr ht (by omega) (by decide) nt⟩)
  unfold wpX_setTimeLimit
  dsimp only
  rw [ct]
  refine br_t rfl (fx_tl10 (by omega) (fun d hd => ?_))
  exact br_f (by decide) (br_f (by decide) (br_t rfl (fin d hd)))
theorem fx_bY1 {post : Int32 → SY → Prop} {v : SY} (g : fx_G T M C B po ar mo L) (ht : t < T) (hp : po t = 0) (hx : x < M) (hxy : x = y) (I : fx_RY T M C B (va, po, ar, mo, sn, ou, tk, he, L) v)
    (k7 : fx_mis 1 (he (t * 8 + y)) → ∀ v', fx_RY T M C B (va, po, ar, mo, sn, ou, tk, he, L) v' → post (-7) v') (k0 : ¬ fx_mis 1 (he (t * 8 + y)) → ∀ v', fx_RY T M C B (va, upd po t 1, upd ar t (nI x), upd mo t (nI y), upd sn t 0, upd ou t 0, upd tk t (fx_clf p (-1) 1000), he, L) v' → post 0 v') :
    wpY_begin post v (nI t) 1 (nI x) p := by
  refine fx_yel (P := fun v => wpY_begin post v (nI t) 1 (nI x) p) ?_ I
  clear I
  intro wo we f
  have g4 := g.1
  unfold fx_B4 at g4
  have hy : y < 8 := by omega
  have ct : (nI t).toNatClampNeg = t := nI_clamp (by omega)
  have i1 : vp_in (nI t) 16 := vp_in_nI (by omega) (by decide)
  have ch : (nI (t * 8 + y)).toNatClampNeg = t * 8 + y := nI_clamp (by omega)
  have ih : vp_in (nI (t * 8 + y)) 128 := vp_in_nI (by omega) (by decide)
  unfold wpY_begin
  refine fx_nt0 (by omega) ht (br_t rfl (br_f (by decide) (br_t (by decide) (br_f (nI_pos (n := x) (by omega)) (br_f (by decide) ?_)))))
  have go : ¬ fx_mis 1 (he (t * 8 + y)) → wY_begin_132 post (nI t) 1 (nI x) p (nI T) (nI M) (nI C) (nI B) (nI L.length) va po ar tk sn ou he wo we := by
    intro m
    unfold wY_begin_132
    rw [ct]
    refine And.intro i1 (nm_e (And.intro i1 (nm_e (And.intro i1 (nm_e (And.intro i1 (nm_e ?_)))))))
    refine br_t rfl ?_
    unfold wY_begin_170
    rw [ct]
    refine fx_clY (And.intro i1 (nm_e ?_))
    rw [fx_uu]
    unfold wY_begin_186
    rw [ct]
    exact br_t rfl (And.intro i1 (nm_e (k0 m _ (fx_yin f))))
  unfold wY_begin_43
  rw [ct]
  refine br_t (nI_lt hx (by omega)) (And.intro i1 (br_t hp ?_))
  subst hxy
  rw [fx_hx, ch]
  refine br_t rfl (And.intro ih (br_c (fun c => ?_) (fun c => k7 (Or.inl ⟨rfl, c⟩) _ (fx_yin f))))
  unfold wY_begin_83 wY_begin_105
  refine br_f (by decide) (br_f (by decide) (go ?_))
  rintro (⟨-, q⟩ | ⟨q | q, -⟩)
  · exact q c
  · exact absurd q (by decide)
  · exact absurd q (by decide)
theorem fx_Gb2 (g : fx_G T M C B po ar mo L) (ht : t < T) (nt : t ∉ fx_K L) (hx : x < M) (hxy : x = y) : fx_G T M C B (upd po t 4) (upd ar t (nI x)) (upd mo t (nI y)) L := by
  have g4 := g.1
  unfold fx_B4 at g4
  obtain ⟨g1, g2, g3, g5⟩ := g
  refine ⟨g1, g2, fun s v m => ?_, fun s hs hp => ?_⟩
  · have st : s ≠ t := fun e => nt (fx_memK.mpr ⟨v, e ▸ m⟩)
    rw [pk_un st]
    exact g3 s v m
  · by_cases c : s = t
    · subst c
      rw [pk_us, pk_us, pk_us]
      exact ⟨4, x, y, rfl, rfl, rfl, by decide, by decide, by omega, fun _ => hxy, fun q => absurd q (by decide)⟩
    · rw [pk_un c] at hp ⊢
      rw [pk_un c, pk_un c]
      exact g5 s hs hp
theorem fx_bX2 {post : Int32 → SX → Prop} {u : SX} (g : fx_G T M C B po ar mo L) (ht : t < T) (hp : po t = 0) (nt : t ∉ fx_K L) (hx : x < M) (hxy : x = y) (I : fx_RX T M C B nw (va, po, ar, mo, sn, ou, tk, he, L) u)
    (k7 : fx_mis 2 (he (t * 8 + y)) → ∀ u', fx_RX T M C B nw (va, po, ar, mo, sn, ou, tk, he, L) u' → post (-7) u') (k0 : ¬ fx_mis 2 (he (t * 8 + y)) → ∀ u', fx_RX T M C B nw (va, upd po t 4, upd ar t (nI x), upd mo t (nI y), upd sn t 0, upd ou t 0, upd tk t (-1), he, L) u' → post 0 u') :
    wpX_begin post u (nI t) 2 (nI x) p := by
  refine fx_xel (P := fun u => wpX_begin post u (nI t) 2 (nI x) p) ?_ I
  clear I
  intro th rn sl bc hs dl sw qn qp bh bl tn tp f
  have g4 := g.1
  unfold fx_B4 at g4
  have hy : y < 8 := by omega
  have ct : (nI t).toNatClampNeg = t := nI_clamp (by omega)
  have i1 : vp_in (nI t) 16 := vp_in_nI (by omega) (by decide)
  unfold wpX_begin
  refine fx_it1 (by omega) ht (br_f (by decide) (br_f (by decide) (br_t (by decide) (br_f (by decide) ?_))))
  unfold wX_begin_38
  rw [ct]
  refine br_f (nI_pos (n := x) (by omega)) (br_t (nI_lt hx (by omega)) (And.intro i1 (br_t hp (br_f (by decide) ?_))))
  subst hxy
  have f0 := f
  obtain ⟨fn, fq, fb, fh, fl, ft, fr⟩ := f
  unfold wX_begin_80
  rw [ct]
  refine fx_imX (by omega) hy fh (fun m => br_f (by decide) (k7 m _ (fx_xin f0))) (fun m => br_t rfl ?_)
  refine And.intro i1 (nm_e (And.intro i1 (nm_e (And.intro i1 (nm_e (And.intro i1 (nm_e ?_)))))))
  have fin : ∀ d, fx_LK nw d (-1) → wpX_moveTo (fun u => match u with | (a0, a1, a2, a3, a4, a5, a6, a7, a8, a9, b0, b1, b2, b3, b4, b5, b6, b7, b8, b9, c0, c1, c2, c3) => ∀ r : Int32, r = a6 ||| ((1 : Int32) <<< (nI t &&& 31)) → post 0 (a0, a1, a2, a3, a4, a5, r, a7, a8, a9, b0, b1, b2, b3, b4, b5, b6, b7, b8, b9, c0, c1, c2, c3))
      (nI T, nI M, nI C, nI B, lN nw, th, rn, va, sl, bc, po, upd ar t (nI x), upd mo t (nI x), upd sn t 0, upd ou t 0, hs, vp_updL dl t d, sw, qn, qp, bh, bl, tn, tp) (nI t) 4 := by
    intro d hd
    refine fx_mv (by omega) hy pk_us (nm_e ?_)
    refine k0 m _ (fx_xin ⟨fn, fq, fx_BF_mv (fx_BF_mo fb hp) ht pk_us hy, fh, fx_LF_up fl hd, fx_TT_dl ft nt, fx_RF_beg fr ht (by omega) (by decide) nt⟩)
  unfold wpX_setTimeLimit
  dsimp only
  rw [ct]
  refine br_f (by decide) (br_f (by decide) (And.intro i1 (nm_e ?_)))
  exact br_f (by decide) (br_f (by decide) (br_f (by decide) (br_t rfl (fin _ fx_LK_m1))))
theorem fx_bY2 {post : Int32 → SY → Prop} {v : SY} (g : fx_G T M C B po ar mo L) (ht : t < T) (hp : po t = 0) (hx : x < M) (hxy : x = y) (I : fx_RY T M C B (va, po, ar, mo, sn, ou, tk, he, L) v)
    (k7 : fx_mis 2 (he (t * 8 + y)) → ∀ v', fx_RY T M C B (va, po, ar, mo, sn, ou, tk, he, L) v' → post (-7) v') (k0 : ¬ fx_mis 2 (he (t * 8 + y)) → ∀ v', fx_RY T M C B (va, upd po t 4, upd ar t (nI x), upd mo t (nI y), upd sn t 0, upd ou t 0, upd tk t (-1), he, L) v' → post 0 v') :
    wpY_begin post v (nI t) 2 (nI x) p := by
  refine fx_yel (P := fun v => wpY_begin post v (nI t) 2 (nI x) p) ?_ I
  clear I
  intro wo we f
  have g4 := g.1
  unfold fx_B4 at g4
  have hy : y < 8 := by omega
  have ct : (nI t).toNatClampNeg = t := nI_clamp (by omega)
  have i1 : vp_in (nI t) 16 := vp_in_nI (by omega) (by decide)
  have ch : (nI (t * 8 + y)).toNatClampNeg = t * 8 + y := nI_clamp (by omega)
  have ih : vp_in (nI (t * 8 + y)) 128 := vp_in_nI (by omega) (by decide)
  unfold wpY_begin
  refine fx_nt0 (by omega) ht (br_t rfl (br_f (by decide) (br_t (by decide) (br_f (nI_pos (n := x) (by omega)) (br_f (by decide) ?_)))))
  have go : ¬ fx_mis 2 (he (t * 8 + y)) → wY_begin_132 post (nI t) 2 (nI x) p (nI T) (nI M) (nI C) (nI B) (nI L.length) va po ar tk sn ou he wo we := by
    intro m
    unfold wY_begin_132
    rw [ct]
    refine And.intro i1 (nm_e (And.intro i1 (nm_e (And.intro i1 (nm_e (And.intro i1 (nm_e ?_)))))))
    refine br_f (by decide) (br_f (by decide) ?_)
    unfold wY_begin_186
    rw [ct]
    exact br_f (by decide) (br_t rfl (And.intro i1 (nm_e (k0 m _ (fx_yin f)))))
  unfold wY_begin_43
  rw [ct]
  refine br_t (nI_lt hx (by omega)) (And.intro i1 (br_t hp ?_))
  refine br_f (by decide) ?_
  unfold wY_begin_83 wY_begin_105
  refine br_f (by decide) (br_f (by decide) (go ?_))
  rintro (⟨q, -⟩ | ⟨q | q, -⟩)
  · exact absurd q (by decide)
  · exact absurd q (by decide)
  · exact absurd q (by decide)
theorem fx_Gb3 (g : fx_G T M C B po ar mo L) (ht : t < T) (nt : t ∉ fx_K L) (hx : x < M) (hxy : x = y) : fx_G T M C B (upd po t 5) (upd ar t (nI x)) (upd mo t (nI y)) L := by
  have g4 := g.1
  unfold fx_B4 at g4
  obtain ⟨g1, g2, g3, g5⟩ := g
  refine ⟨g1, g2, fun s v m => ?_, fun s hs hp => ?_⟩
  · have st : s ≠ t := fun e => nt (fx_memK.mpr ⟨v, e ▸ m⟩)
    rw [pk_un st]
    exact g3 s v m
  · by_cases c : s = t
    · subst c
      rw [pk_us, pk_us, pk_us]
      exact ⟨5, x, y, rfl, rfl, rfl, by decide, by decide, by omega, fun _ => hxy, fun q => absurd q (by decide)⟩
    · rw [pk_un c] at hp ⊢
      rw [pk_un c, pk_un c]
      exact g5 s hs hp
theorem fx_bX3 {post : Int32 → SX → Prop} {u : SX} (g : fx_G T M C B po ar mo L) (ht : t < T) (hp : po t = 0) (nt : t ∉ fx_K L) (hx : x < M) (hxy : x = y) (I : fx_RX T M C B nw (va, po, ar, mo, sn, ou, tk, he, L) u)
    (k7 : fx_mis 3 (he (t * 8 + y)) → ∀ u', fx_RX T M C B nw (va, po, ar, mo, sn, ou, tk, he, L) u' → post (-7) u') (k0 : ¬ fx_mis 3 (he (t * 8 + y)) → ∀ u', fx_RX T M C B nw (va, upd po t 5, upd ar t (nI x), upd mo t (nI y), upd sn t 0, upd ou t 0, upd tk t (-1), he, L) u' → post 0 u') :
    wpX_begin post u (nI t) 3 (nI x) p := by
  refine fx_xel (P := fun u => wpX_begin post u (nI t) 3 (nI x) p) ?_ I
  clear I
  intro th rn sl bc hs dl sw qn qp bh bl tn tp f
  have g4 := g.1
  unfold fx_B4 at g4
  have hy : y < 8 := by omega
  have ct : (nI t).toNatClampNeg = t := nI_clamp (by omega)
  have i1 : vp_in (nI t) 16 := vp_in_nI (by omega) (by decide)
  unfold wpX_begin
  refine fx_it1 (by omega) ht (br_f (by decide) (br_f (by decide) (br_t (by decide) (br_f (by decide) ?_))))
  unfold wX_begin_38
  rw [ct]
  refine br_f (nI_pos (n := x) (by omega)) (br_t (nI_lt hx (by omega)) (And.intro i1 (br_t hp (br_f (by decide) ?_))))
  subst hxy
  have f0 := f
  obtain ⟨fn, fq, fb, fh, fl, ft, fr⟩ := f
  unfold wX_begin_80
  rw [ct]
  refine fx_imX (by omega) hy fh (fun m => br_f (by decide) (k7 m _ (fx_xin f0))) (fun m => br_t rfl ?_)
  refine And.intro i1 (nm_e (And.intro i1 (nm_e (And.intro i1 (nm_e (And.intro i1 (nm_e ?_)))))))
  have fin : ∀ d, fx_LK nw d (-1) → wpX_moveTo (fun u => match u with | (a0, a1, a2, a3, a4, a5, a6, a7, a8, a9, b0, b1, b2, b3, b4, b5, b6, b7, b8, b9, c0, c1, c2, c3) => ∀ r : Int32, r = a6 ||| ((1 : Int32) <<< (nI t &&& 31)) → post 0 (a0, a1, a2, a3, a4, a5, r, a7, a8, a9, b0, b1, b2, b3, b4, b5, b6, b7, b8, b9, c0, c1, c2, c3))
      (nI T, nI M, nI C, nI B, lN nw, th, rn, va, sl, bc, po, upd ar t (nI x), upd mo t (nI x), upd sn t 0, upd ou t 0, hs, vp_updL dl t d, sw, qn, qp, bh, bl, tn, tp) (nI t) 5 := by
    intro d hd
    refine fx_mv (by omega) hy pk_us (nm_e ?_)
    refine k0 m _ (fx_xin ⟨fn, fq, fx_BF_mv (fx_BF_mo fb hp) ht pk_us hy, fh, fx_LF_up fl hd, fx_TT_dl ft nt, fx_RF_beg fr ht (by omega) (by decide) nt⟩)
  unfold wpX_setTimeLimit
  dsimp only
  rw [ct]
  refine br_f (by decide) (br_f (by decide) (And.intro i1 (nm_e ?_)))
  exact br_f (by decide) (br_f (by decide) (br_f (by decide) (br_f (by decide) (br_t rfl (fin _ fx_LK_m1)))))
theorem fx_bY3 {post : Int32 → SY → Prop} {v : SY} (g : fx_G T M C B po ar mo L) (ht : t < T) (hp : po t = 0) (hx : x < M) (hxy : x = y) (I : fx_RY T M C B (va, po, ar, mo, sn, ou, tk, he, L) v)
    (k7 : fx_mis 3 (he (t * 8 + y)) → ∀ v', fx_RY T M C B (va, po, ar, mo, sn, ou, tk, he, L) v' → post (-7) v') (k0 : ¬ fx_mis 3 (he (t * 8 + y)) → ∀ v', fx_RY T M C B (va, upd po t 5, upd ar t (nI x), upd mo t (nI y), upd sn t 0, upd ou t 0, upd tk t (-1), he, L) v' → post 0 v') :
    wpY_begin post v (nI t) 3 (nI x) p := by
  refine fx_yel (P := fun v => wpY_begin post v (nI t) 3 (nI x) p) ?_ I
  clear I
  intro wo we f
  have g4 := g.1
  unfold fx_B4 at g4
  have hy : y < 8 := by omega
  have ct : (nI t).toNatClampNeg = t := nI_clamp (by omega)
  have i1 : vp_in (nI t) 16 := vp_in_nI (by omega) (by decide)
  have ch : (nI (t * 8 + y)).toNatClampNeg = t * 8 + y := nI_clamp (by omega)
  have ih : vp_in (nI (t * 8 + y)) 128 := vp_in_nI (by omega) (by decide)
  unfold wpY_begin
  refine fx_nt0 (by omega) ht (br_t rfl (br_f (by decide) (br_t (by decide) (br_f (nI_pos (n := x) (by omega)) (br_f (by decide) ?_)))))
  have go : ¬ fx_mis 3 (he (t * 8 + y)) → wY_begin_132 post (nI t) 3 (nI x) p (nI T) (nI M) (nI C) (nI B) (nI L.length) va po ar tk sn ou he wo we := by
    intro m
    unfold wY_begin_132
    rw [ct]
    refine And.intro i1 (nm_e (And.intro i1 (nm_e (And.intro i1 (nm_e (And.intro i1 (nm_e ?_)))))))
    refine br_f (by decide) (br_f (by decide) ?_)
    unfold wY_begin_186
    rw [ct]
    exact br_f (by decide) (br_f (by decide) (br_t rfl (And.intro i1 (nm_e (k0 m _ (fx_yin f))))))
  unfold wY_begin_43
  rw [ct]
  refine br_t (nI_lt hx (by omega)) (And.intro i1 (br_t hp ?_))
  subst hxy
  refine br_f (by decide) ?_
  unfold wY_begin_83 wY_begin_105
  rw [fx_hx, ch]
  refine br_t rfl (And.intro ih (br_c (fun c => k7 (Or.inr ⟨Or.inl rfl, c⟩) _ (fx_yin f)) (fun c => br_f (by decide) (go ?_))))
  rintro (⟨q, -⟩ | ⟨-, q⟩)
  · exact absurd q (by decide)
  · exact c q
theorem fx_Gb4 (g : fx_G T M C B po ar mo L) (ht : t < T) (nt : t ∉ fx_K L) (hx : x < C) (hxy : y = x % M) : fx_G T M C B (upd po t 7) (upd ar t (nI x)) (upd mo t (nI y)) L := by
  have g4 := g.1
  unfold fx_B4 at g4
  obtain ⟨g1, g2, g3, g5⟩ := g
  refine ⟨g1, g2, fun s v m => ?_, fun s hs hp => ?_⟩
  · have st : s ≠ t := fun e => nt (fx_memK.mpr ⟨v, e ▸ m⟩)
    rw [pk_un st]
    exact g3 s v m
  · by_cases c : s = t
    · subst c
      rw [pk_us, pk_us, pk_us]
      exact ⟨7, x, y, rfl, rfl, rfl, by decide, by decide, by rw [hxy]; exact Nat.mod_lt x (by omega), fun q => absurd q (by decide), fun _ => ⟨hx, hxy⟩⟩
    · rw [pk_un c] at hp ⊢
      rw [pk_un c, pk_un c]
      exact g5 s hs hp
theorem fx_bX4 {post : Int32 → SX → Prop} {u : SX} (g : fx_G T M C B po ar mo L) (ht : t < T) (hp : po t = 0) (nt : t ∉ fx_K L) (hx : x < C) (hxy : y = x % M) (I : fx_RX T M C B nw (va, po, ar, mo, sn, ou, tk, he, L) u)
    (k7 : fx_mis 4 (he (t * 8 + y)) → ∀ u', fx_RX T M C B nw (va, po, ar, mo, sn, ou, tk, he, L) u' → post (-7) u') (k0 : ¬ fx_mis 4 (he (t * 8 + y)) → ∀ u', fx_RX T M C B nw (va, upd po t 7, upd ar t (nI x), upd mo t (nI y), upd sn t 0, upd ou t 0, upd tk t (fx_clf p (-1) 1000), he, L) u' → post 0 u') :
    wpX_begin post u (nI t) 4 (nI x) p := by
  refine fx_xel (P := fun u => wpX_begin post u (nI t) 4 (nI x) p) ?_ I
  clear I
  intro th rn sl bc hs dl sw qn qp bh bl tn tp f
  have g4 := g.1
  unfold fx_B4 at g4
  have hy : y < 8 := by have := Nat.mod_lt x (show M > 0 by omega); omega
  have ct : (nI t).toNatClampNeg = t := nI_clamp (by omega)
  have i1 : vp_in (nI t) 16 := vp_in_nI (by omega) (by decide)
  unfold wpX_begin
  refine fx_it1 (by omega) ht (br_f (by decide) (br_f (by decide) (br_t (by decide) (br_t (by decide) ?_))))
  unfold wX_begin_38
  rw [ct]
  refine br_f (nI_pos (n := x) (by omega)) (br_t (nI_lt hx (by omega)) (And.intro i1 (br_t hp (br_t (by decide) (And.intro (nI_ne0 (by omega) (by omega)) ?_)))))
  rw [pk_rem (by omega) (by omega) (by omega), ← hxy]
  have f0 := f
  obtain ⟨fn, fq, fb, fh, fl, ft, fr⟩ := f
  unfold wX_begin_80
  rw [ct]
  refine fx_imX (by omega) hy fh (fun m => br_f (by decide) (k7 m _ (fx_xin f0))) (fun m => br_t rfl ?_)
  refine And.intro i1 (nm_e (And.intro i1 (nm_e (And.intro i1 (nm_e (And.intro i1 (nm_e ?_)))))))
  have fin : ∀ d, fx_LK nw d (fx_clf p (-1) 1000) → wpX_moveTo (fun u => match u with | (a0, a1, a2, a3, a4, a5, a6, a7, a8, a9, b0, b1, b2, b3, b4, b5, b6, b7, b8, b9, c0, c1, c2, c3) => ∀ r : Int32, r = a6 ||| ((1 : Int32) <<< (nI t &&& 31)) → post 0 (a0, a1, a2, a3, a4, a5, r, a7, a8, a9, b0, b1, b2, b3, b4, b5, b6, b7, b8, b9, c0, c1, c2, c3))
      (nI T, nI M, nI C, nI B, lN nw, th, rn, va, sl, bc, po, upd ar t (nI x), upd mo t (nI y), upd sn t 0, upd ou t 0, hs, vp_updL dl t d, sw, qn, qp, bh, bl, tn, tp) (nI t) 7 := by
    intro d hd
    refine fx_mv (by omega) hy pk_us (nm_e ?_)
    refine k0 m _ (fx_xin ⟨fn, fq, fx_BF_mv (fx_BF_mo fb hp) ht pk_us hy, fh, fx_LF_up fl hd, fx_TT_dl ft nt, fx_RF_beg fr ht (by omega) (by decide) nt⟩)
  unfold wpX_setTimeLimit
  dsimp only
  rw [ct]
  refine br_f (by decide) (br_t rfl (fx_tl10 (by omega) (fun d hd => ?_)))
  exact br_f (by decide) (br_f (by decide) (br_f (by decide) (br_f (by decide) (br_f (by decide) (br_t rfl (fin d hd))))))
theorem fx_bY4 {post : Int32 → SY → Prop} {v : SY} (g : fx_G T M C B po ar mo L) (ht : t < T) (hp : po t = 0) (hx : x < C) (hxy : y = x % M) (I : fx_RY T M C B (va, po, ar, mo, sn, ou, tk, he, L) v)
    (k7 : fx_mis 4 (he (t * 8 + y)) → ∀ v', fx_RY T M C B (va, po, ar, mo, sn, ou, tk, he, L) v' → post (-7) v') (k0 : ¬ fx_mis 4 (he (t * 8 + y)) → ∀ v', fx_RY T M C B (va, upd po t 7, upd ar t (nI x), upd mo t (nI y), upd sn t 0, upd ou t 0, upd tk t (fx_clf p (-1) 1000), he, L) v' → post 0 v') :
    wpY_begin post v (nI t) 4 (nI x) p := by
  refine fx_yel (P := fun v => wpY_begin post v (nI t) 4 (nI x) p) ?_ I
  clear I
  intro wo we f
  have g4 := g.1
  unfold fx_B4 at g4
  have hy : y < 8 := by have := Nat.mod_lt x (show M > 0 by omega); omega
  have ct : (nI t).toNatClampNeg = t := nI_clamp (by omega)
  have i1 : vp_in (nI t) 16 := vp_in_nI (by omega) (by decide)
  have ch : (nI (t * 8 + y)).toNatClampNeg = t * 8 + y := nI_clamp (by omega)
  have ih : vp_in (nI (t * 8 + y)) 128 := vp_in_nI (by omega) (by decide)
  unfold wpY_begin
  refine fx_nt0 (by omega) ht (br_t rfl (br_f (by decide) (br_t (by decide) (br_f (nI_pos (n := x) (by omega)) (br_t (by decide) ?_)))))
  have go : ¬ fx_mis 4 (he (t * 8 + y)) → wY_begin_132 post (nI t) 4 (nI x) p (nI T) (nI M) (nI C) (nI B) (nI L.length) va po ar tk sn ou he wo we := by
    intro m
    unfold wY_begin_132
    rw [ct]
    refine And.intro i1 (nm_e (And.intro i1 (nm_e (And.intro i1 (nm_e (And.intro i1 (nm_e ?_)))))))
    refine br_f (by decide) (br_t rfl ?_)
    unfold wY_begin_170
    rw [ct]
    refine fx_clY (And.intro i1 (nm_e ?_))
    rw [fx_uu]
    unfold wY_begin_186
    rw [ct]
    exact br_f (by decide) (br_f (by decide) (br_f (by decide) (br_t rfl (And.intro i1 (nm_e (k0 m _ (fx_yin f)))))))
  unfold wY_begin_43
  rw [ct]
  refine br_t (nI_lt hx (by omega)) (And.intro i1 (br_t hp ?_))
  refine br_f (by decide) ?_
  unfold wY_begin_83 wY_begin_105
  refine br_f (by decide) (br_t rfl (And.intro (nI_ne0 (by omega) (by omega)) ?_))
  rw [pk_rem (by omega) (by omega) (by omega), ← hxy, fx_hx, ch]
  refine And.intro ih (br_c (fun c => k7 (Or.inr ⟨Or.inr rfl, c⟩) _ (fx_yin f)) (fun c => go ?_))
  rintro (⟨q, -⟩ | ⟨-, q⟩)
  · exact absurd q (by decide)
  · exact c q
theorem fx_Gb5 (g : fx_G T M C B po ar mo L) (ht : t < T) (nt : t ∉ fx_K L) (hx : x < C) (hxy : y = x % M) : fx_G T M C B (upd po t 13) (upd ar t (nI x)) (upd mo t (nI y)) L := by
  have g4 := g.1
  unfold fx_B4 at g4
  obtain ⟨g1, g2, g3, g5⟩ := g
  refine ⟨g1, g2, fun s v m => ?_, fun s hs hp => ?_⟩
  · have st : s ≠ t := fun e => nt (fx_memK.mpr ⟨v, e ▸ m⟩)
    rw [pk_un st]
    exact g3 s v m
  · by_cases c : s = t
    · subst c
      rw [pk_us, pk_us, pk_us]
      exact ⟨13, x, y, rfl, rfl, rfl, by decide, by decide, by rw [hxy]; exact Nat.mod_lt x (by omega), fun q => absurd q (by decide), fun _ => ⟨hx, hxy⟩⟩
    · rw [pk_un c] at hp ⊢
      rw [pk_un c, pk_un c]
      exact g5 s hs hp
theorem fx_bX5 {post : Int32 → SX → Prop} {u : SX} (g : fx_G T M C B po ar mo L) (ht : t < T) (hp : po t = 0) (nt : t ∉ fx_K L) (hx : x < C) (hxy : y = x % M) (I : fx_RX T M C B nw (va, po, ar, mo, sn, ou, tk, he, L) u)
    (k7 : fx_mis 5 (he (t * 8 + y)) → ∀ u', fx_RX T M C B nw (va, po, ar, mo, sn, ou, tk, he, L) u' → post (-7) u') (k0 : ¬ fx_mis 5 (he (t * 8 + y)) → ∀ u', fx_RX T M C B nw (va, upd po t 13, upd ar t (nI x), upd mo t (nI y), upd sn t 0, upd ou t 0, upd tk t (-1), he, L) u' → post 0 u') :
    wpX_begin post u (nI t) 5 (nI x) p := by
  refine fx_xel (P := fun u => wpX_begin post u (nI t) 5 (nI x) p) ?_ I
  clear I
  intro th rn sl bc hs dl sw qn qp bh bl tn tp f
  have g4 := g.1
  unfold fx_B4 at g4
  have hy : y < 8 := by have := Nat.mod_lt x (show M > 0 by omega); omega
  have ct : (nI t).toNatClampNeg = t := nI_clamp (by omega)
  have i1 : vp_in (nI t) 16 := vp_in_nI (by omega) (by decide)
  unfold wpX_begin
  refine fx_it1 (by omega) ht (br_f (by decide) (br_f (by decide) (br_t (by decide) (br_t (by decide) ?_))))
  unfold wX_begin_38
  rw [ct]
  refine br_f (nI_pos (n := x) (by omega)) (br_t (nI_lt hx (by omega)) (And.intro i1 (br_t hp (br_t (by decide) (And.intro (nI_ne0 (by omega) (by omega)) ?_)))))
  rw [pk_rem (by omega) (by omega) (by omega), ← hxy]
  have f0 := f
  obtain ⟨fn, fq, fb, fh, fl, ft, fr⟩ := f
  unfold wX_begin_80
  rw [ct]
  refine fx_imX (by omega) hy fh (fun m => br_f (by decide) (k7 m _ (fx_xin f0))) (fun m => br_t rfl ?_)
  refine And.intro i1 (nm_e (And.intro i1 (nm_e (And.intro i1 (nm_e (And.intro i1 (nm_e ?_)))))))
  have fin : ∀ d, fx_LK nw d (-1) → wpX_moveTo (fun u => match u with | (a0, a1, a2, a3, a4, a5, a6, a7, a8, a9, b0, b1, b2, b3, b4, b5, b6, b7, b8, b9, c0, c1, c2, c3) => ∀ r : Int32, r = a6 ||| ((1 : Int32) <<< (nI t &&& 31)) → post 0 (a0, a1, a2, a3, a4, a5, r, a7, a8, a9, b0, b1, b2, b3, b4, b5, b6, b7, b8, b9, c0, c1, c2, c3))
      (nI T, nI M, nI C, nI B, lN nw, th, rn, va, sl, bc, po, upd ar t (nI x), upd mo t (nI y), upd sn t 0, upd ou t 0, hs, vp_updL dl t d, sw, qn, qp, bh, bl, tn, tp) (nI t) 13 := by
    intro d hd
    refine fx_mv (by omega) hy pk_us (nm_e ?_)
    refine k0 m _ (fx_xin ⟨fn, fq, fx_BF_mv (fx_BF_mo fb hp) ht pk_us hy, fh, fx_LF_up fl hd, fx_TT_dl ft nt, fx_RF_beg fr ht (by omega) (by decide) nt⟩)
  unfold wpX_setTimeLimit
  dsimp only
  rw [ct]
  refine br_f (by decide) (br_f (by decide) (And.intro i1 (nm_e ?_)))
  exact br_f (by decide) (br_f (by decide) (br_f (by decide) (br_f (by decide) (br_f (by decide) (br_f (by decide) (br_t rfl (fin _ fx_LK_m1)))))))
theorem fx_bY5 {post : Int32 → SY → Prop} {v : SY} (g : fx_G T M C B po ar mo L) (ht : t < T) (hp : po t = 0) (hx : x < C) (hxy : y = x % M) (I : fx_RY T M C B (va, po, ar, mo, sn, ou, tk, he, L) v)
    (k7 : fx_mis 5 (he (t * 8 + y)) → ∀ v', fx_RY T M C B (va, po, ar, mo, sn, ou, tk, he, L) v' → post (-7) v') (k0 : ¬ fx_mis 5 (he (t * 8 + y)) → ∀ v', fx_RY T M C B (va, upd po t 13, upd ar t (nI x), upd mo t (nI y), upd sn t 0, upd ou t 0, upd tk t (-1), he, L) v' → post 0 v') :
    wpY_begin post v (nI t) 5 (nI x) p := by
  refine fx_yel (P := fun v => wpY_begin post v (nI t) 5 (nI x) p) ?_ I
  clear I
  intro wo we f
  have g4 := g.1
  unfold fx_B4 at g4
  have hy : y < 8 := by have := Nat.mod_lt x (show M > 0 by omega); omega
  have ct : (nI t).toNatClampNeg = t := nI_clamp (by omega)
  have i1 : vp_in (nI t) 16 := vp_in_nI (by omega) (by decide)
  have ch : (nI (t * 8 + y)).toNatClampNeg = t * 8 + y := nI_clamp (by omega)
  have ih : vp_in (nI (t * 8 + y)) 128 := vp_in_nI (by omega) (by decide)
  unfold wpY_begin
  refine fx_nt0 (by omega) ht (br_t rfl (br_f (by decide) (br_t (by decide) (br_f (nI_pos (n := x) (by omega)) (br_t (by decide) ?_)))))
  have go : ¬ fx_mis 5 (he (t * 8 + y)) → wY_begin_132 post (nI t) 5 (nI x) p (nI T) (nI M) (nI C) (nI B) (nI L.length) va po ar tk sn ou he wo we := by
    intro m
    unfold wY_begin_132
    rw [ct]
    refine And.intro i1 (nm_e (And.intro i1 (nm_e (And.intro i1 (nm_e (And.intro i1 (nm_e ?_)))))))
    refine br_f (by decide) (br_f (by decide) ?_)
    unfold wY_begin_186
    rw [ct]
    exact br_f (by decide) (br_f (by decide) (br_f (by decide) (br_f (by decide) (br_t rfl (And.intro i1 (nm_e (k0 m _ (fx_yin f))))))))
  unfold wY_begin_43
  rw [ct]
  refine br_t (nI_lt hx (by omega)) (And.intro i1 (br_t hp ?_))
  refine br_f (by decide) ?_
  unfold wY_begin_83 wY_begin_105
  refine br_f (by decide) (br_f (by decide) (go ?_))
  rintro (⟨q, -⟩ | ⟨q | q, -⟩)
  · exact absurd q (by decide)
  · exact absurd q (by decide)
  · exact absurd q (by decide)
theorem fx_Gb6 (g : fx_G T M C B po ar mo L) (ht : t < T) (nt : t ∉ fx_K L) (hx : x < C) (hxy : y = x % M) : fx_G T M C B (upd po t 15) (upd ar t (nI x)) (upd mo t (nI y)) L := by
  have g4 := g.1
  unfold fx_B4 at g4
  obtain ⟨g1, g2, g3, g5⟩ := g
  refine ⟨g1, g2, fun s v m => ?_, fun s hs hp => ?_⟩
  · have st : s ≠ t := fun e => nt (fx_memK.mpr ⟨v, e ▸ m⟩)
    rw [pk_un st]
    exact g3 s v m
  · by_cases c : s = t
    · subst c
      rw [pk_us, pk_us, pk_us]
      exact ⟨15, x, y, rfl, rfl, rfl, by decide, by decide, by rw [hxy]; exact Nat.mod_lt x (by omega), fun q => absurd q (by decide), fun _ => ⟨hx, hxy⟩⟩
    · rw [pk_un c] at hp ⊢
      rw [pk_un c, pk_un c]
      exact g5 s hs hp
theorem fx_bX6 {post : Int32 → SX → Prop} {u : SX} (g : fx_G T M C B po ar mo L) (ht : t < T) (hp : po t = 0) (nt : t ∉ fx_K L) (hx : x < C) (hxy : y = x % M) (I : fx_RX T M C B nw (va, po, ar, mo, sn, ou, tk, he, L) u)
    (k7 : fx_mis 6 (he (t * 8 + y)) → ∀ u', fx_RX T M C B nw (va, po, ar, mo, sn, ou, tk, he, L) u' → post (-7) u') (k0 : ¬ fx_mis 6 (he (t * 8 + y)) → ∀ u', fx_RX T M C B nw (va, upd po t 15, upd ar t (nI x), upd mo t (nI y), upd sn t 0, upd ou t 0, upd tk t (-1), he, L) u' → post 0 u') :
    wpX_begin post u (nI t) 6 (nI x) p := by
  refine fx_xel (P := fun u => wpX_begin post u (nI t) 6 (nI x) p) ?_ I
  clear I
  intro th rn sl bc hs dl sw qn qp bh bl tn tp f
  have g4 := g.1
  unfold fx_B4 at g4
  have hy : y < 8 := by have := Nat.mod_lt x (show M > 0 by omega); omega
  have ct : (nI t).toNatClampNeg = t := nI_clamp (by omega)
  have i1 : vp_in (nI t) 16 := vp_in_nI (by omega) (by decide)
  unfold wpX_begin
  refine fx_it1 (by omega) ht (br_f (by decide) (br_f (by decide) (br_t (by decide) (br_t (by decide) ?_))))
  unfold wX_begin_38
  rw [ct]
  refine br_f (nI_pos (n := x) (by omega)) (br_t (nI_lt hx (by omega)) (And.intro i1 (br_t hp (br_t (by decide) (And.intro (nI_ne0 (by omega) (by omega)) ?_)))))
  rw [pk_rem (by omega) (by omega) (by omega), ← hxy]
  have f0 := f
  obtain ⟨fn, fq, fb, fh, fl, ft, fr⟩ := f
  unfold wX_begin_80
  rw [ct]
  refine fx_imX (by omega) hy fh (fun m => br_f (by decide) (k7 m _ (fx_xin f0))) (fun m => br_t rfl ?_)
  refine And.intro i1 (nm_e (And.intro i1 (nm_e (And.intro i1 (nm_e (And.intro i1 (nm_e ?_)))))))
  have fin : ∀ d, fx_LK nw d (-1) → wpX_moveTo (fun u => match u with | (a0, a1, a2, a3, a4, a5, a6, a7, a8, a9, b0, b1, b2, b3, b4, b5, b6, b7, b8, b9, c0, c1, c2, c3) => ∀ r : Int32, r = a6 ||| ((1 : Int32) <<< (nI t &&& 31)) → post 0 (a0, a1, a2, a3, a4, a5, r, a7, a8, a9, b0, b1, b2, b3, b4, b5, b6, b7, b8, b9, c0, c1, c2, c3))
      (nI T, nI M, nI C, nI B, lN nw, th, rn, va, sl, bc, po, upd ar t (nI x), upd mo t (nI y), upd sn t 0, upd ou t 0, hs, vp_updL dl t d, sw, qn, qp, bh, bl, tn, tp) (nI t) 15 := by
    intro d hd
    refine fx_mv (by omega) hy pk_us (nm_e ?_)
    refine k0 m _ (fx_xin ⟨fn, fq, fx_BF_mv (fx_BF_mo fb hp) ht pk_us hy, fh, fx_LF_up fl hd, fx_TT_dl ft nt, fx_RF_beg fr ht (by omega) (by decide) nt⟩)
  unfold wpX_setTimeLimit
  dsimp only
  rw [ct]
  refine br_f (by decide) (br_f (by decide) (And.intro i1 (nm_e ?_)))
  exact br_f (by decide) (br_t (by decide) (fin _ fx_LK_m1))
theorem fx_bY6 {post : Int32 → SY → Prop} {v : SY} (g : fx_G T M C B po ar mo L) (ht : t < T) (hp : po t = 0) (hx : x < C) (hxy : y = x % M) (I : fx_RY T M C B (va, po, ar, mo, sn, ou, tk, he, L) v)
    (k7 : fx_mis 6 (he (t * 8 + y)) → ∀ v', fx_RY T M C B (va, po, ar, mo, sn, ou, tk, he, L) v' → post (-7) v') (k0 : ¬ fx_mis 6 (he (t * 8 + y)) → ∀ v', fx_RY T M C B (va, upd po t 15, upd ar t (nI x), upd mo t (nI y), upd sn t 0, upd ou t 0, upd tk t (-1), he, L) v' → post 0 v') :
    wpY_begin post v (nI t) 6 (nI x) p := by
  refine fx_yel (P := fun v => wpY_begin post v (nI t) 6 (nI x) p) ?_ I
  clear I
  intro wo we f
  have g4 := g.1
  unfold fx_B4 at g4
  have hy : y < 8 := by have := Nat.mod_lt x (show M > 0 by omega); omega
  have ct : (nI t).toNatClampNeg = t := nI_clamp (by omega)
  have i1 : vp_in (nI t) 16 := vp_in_nI (by omega) (by decide)
  have ch : (nI (t * 8 + y)).toNatClampNeg = t * 8 + y := nI_clamp (by omega)
  have ih : vp_in (nI (t * 8 + y)) 128 := vp_in_nI (by omega) (by decide)
  unfold wpY_begin
  refine fx_nt0 (by omega) ht (br_t rfl (br_f (by decide) (br_t (by decide) (br_f (nI_pos (n := x) (by omega)) (br_t (by decide) ?_)))))
  have go : ¬ fx_mis 6 (he (t * 8 + y)) → wY_begin_132 post (nI t) 6 (nI x) p (nI T) (nI M) (nI C) (nI B) (nI L.length) va po ar tk sn ou he wo we := by
    intro m
    unfold wY_begin_132
    rw [ct]
    refine And.intro i1 (nm_e (And.intro i1 (nm_e (And.intro i1 (nm_e (And.intro i1 (nm_e ?_)))))))
    refine br_f (by decide) (br_f (by decide) ?_)
    unfold wY_begin_186
    rw [ct]
    exact br_f (by decide) (br_f (by decide) (br_f (by decide) (br_f (by decide) (br_f (by decide) (And.intro i1 (nm_e (k0 m _ (fx_yin f))))))))
  unfold wY_begin_43
  rw [ct]
  refine br_t (nI_lt hx (by omega)) (And.intro i1 (br_t hp ?_))
  refine br_f (by decide) ?_
  unfold wY_begin_83 wY_begin_105
  refine br_f (by decide) (br_f (by decide) (go ?_))
  rintro (⟨q, -⟩ | ⟨q | q, -⟩)
  · exact absurd q (by decide)
  · exact absurd q (by decide)
  · exact absurd q (by decide)
end
end
section
/-! time passes -/
def fx_td (d k : Int32) : Int32 := if k ≤ 0 then k else if k ≤ d then 0 else k - d
def fx_tdf (d : Int32) (tk : Nat → Int32) (n : Nat) : Nat → Int32 := fun s => if s < n then fx_td d (tk s) else tk s
theorem fx_LK_td {nw d : Nat} {e : Int64} {k : Int32} (hn : nw ≤ 3000000) (hd : d ≤ 1000) (h : fx_LK nw e k) : fx_LK (nw + d) e (fx_td (nI d) k) := by
  rcases h with ⟨h1, h2⟩ | ⟨a, h0, h1, h2⟩
  · refine Or.inl ⟨h1, ?_⟩
    rw [h2]
    unfold fx_td
    rw [if_pos (by decide)]
  · refine Or.inr ⟨a, by omega, h1, ?_⟩
    rw [h2]
    unfold fx_td
    by_cases c : a ≤ nw
    · rw [show a - nw = 0 by omega, show a - (nw + d) = 0 by omega]
      rw [if_pos (by decide)]
    · rw [if_neg (nI_nle (by omega) (by omega))]
      by_cases c2 : a - nw ≤ d
      · rw [if_pos (nI_le c2 (by omega)), show a - (nw + d) = 0 by omega]
        rfl
      · rw [if_neg (nI_ge (by omega) (by omega)), pk_sub (by omega)]
        exact congrArg nI (by omega)
theorem fx_tdf_0 {d : Int32} {tk : Nat → Int32} : fx_tdf d tk 0 = tk := by
  funext s
  exact if_neg (Nat.not_lt_zero s)
theorem fx_tdf_at {d : Int32} {tk : Nat → Int32} {i : Nat} : fx_tdf d tk i i = tk i := if_neg (Nat.lt_irrefl i)
theorem fx_tdf_up {d : Int32} {tk : Nat → Int32} {i : Nat} : upd (fx_tdf d tk i) i (fx_td d (tk i)) = fx_tdf d tk (i + 1) := by
  funext s
  unfold upd fx_tdf
  by_cases c : s = i
  · subst c
    rw [if_pos rfl, if_pos (by omega)]
  · rw [if_neg c]
    by_cases c2 : s < i
    · rw [if_pos c2, if_pos (by omega)]
    · rw [if_neg c2, if_neg (by omega)]
theorem fx_tdf_no {d : Int32} {tk : Nat → Int32} {i : Nat} (h : tk i ≤ 0) : fx_tdf d tk i = fx_tdf d tk (i + 1) := by
  rw [← fx_tdf_up]
  have : fx_td d (tk i) = fx_tdf d tk i i := by rw [fx_tdf_at]; exact if_pos h
  rw [this, fx_us]
section
variable {T M C B nw : Nat} {th rn : Int32} {va sl bc po ar mo sn ou hs : Nat → Int32} {dl : Nat → Int64} {sw qn qp bh bl tn tp tk he wo we : Nat → Int32} {L : List (Nat × Nat)} {t w d : Nat} {z p : Int32}
theorem fx_tickX {post : Int32 → SX → Prop} {u : SX} (g : fx_G T M C B po ar mo L) (hn : nw ≤ 2999000) (hd : d ≤ 1000) (ed : fx_clf p 0 1000 = nI d) (I : fx_RX T M C B nw (va, po, ar, mo, sn, ou, tk, he, L) u)
    (k : ∀ b, fx_N (fx_S 0 (fx_tdf (nI d) tk T) L) L 0 b → ∀ u', fx_RX T M C B (nw + d) (fx_rs (fx_S 0 (fx_tdf (nI d) tk T) L) 3 (va, po, ar, mo, sn, ou, fx_tdf (nI d) tk T, he, L)) u' → post (nI b) u') : wpX_tick post u p := by
  refine fx_xel (P := fun u => wpX_tick post u p) ?_ I
  clear I
  intro th rn sl bc hs dl sw qn qp bh bl tn tp f
  obtain ⟨fn, fq, fb, fh, fl, ft, fr⟩ := f
  have g4 := g.1
  unfold fx_B4 at g4
  have hl := fx_len g
  unfold wpX_tick
  refine fx_clX ?_
  rw [ed]
  refine nm_r (e' := lN (nw + d)) (by rw [nI_l (by omega), lN_add]) ⟨L.length + 1, ?_⟩
  refine fx_tkX (L.length + 1) 0 0 po ou (fx_tdf (nI d) tk T) L (nI T, nI M, nI C, nI B, lN (nw + d), th, rn, va, sl, bc, po, ar, mo, sn, ou, hs, dl, sw, qn, qp, bh, bl, tn, tp) g (fx_xin ⟨by omega, fq, fb, fh, fun s hs => ?_, ft, fr⟩) (by omega) (by omega) (Nat.le_refl _) k
  have : fx_tdf (nI d) tk T s = fx_td (nI d) (tk s) := if_pos hs
  rw [this]
  exact fx_LK_td fn hd (fl s hs)
theorem fx_tk12 {post : Int32 → SY → Prop} (hT : T ≤ 16) (k : ∃ n, wY_tick_68 post n 0 0 (nI T) (nI M) (nI C) (nI B) (nI L.length) va po ar (fx_tdf (nI d) tk T) sn ou he wo we) :
    ∀ j i, i + j = T → wY_tick_12 post (nI d) (nI T) (nI M) (nI C) (nI B) (nI L.length) (j + 1) (nI i) va po ar (fx_tdf (nI d) tk i) sn ou he wo we := by
  intro j
  induction j with
  | zero =>
    intro i e
    have e' : i = T := by omega
    subst e'
    rw [wY_tick_12]
    exact br_t (nI_le (Nat.le_refl _) (by omega)) k
  | succ j ih =>
    intro i e
    have i1 : vp_in (nI i) 16 := vp_in_nI (by omega) (by decide)
    have K := ih (i + 1) (by omega)
    rw [wY_tick_12]
    dsimp only
    rw [nI_clamp (show i < 2 ^ 31 by omega), fx_tdf_at]
    refine br_f (nI_ge (by omega) (by omega)) (And.intro i1 (br_c (fun h => ?_) (fun h => And.intro i1 (br_c (fun h2 => ?_) (fun h2 => ?_)))))
    · rw [fx_tdf_no h]
      exact nm_r (nI_1 i) K
    · have e2 : fx_td (nI d) (tk i) = 0 := by unfold fx_td; rw [if_neg h, if_pos h2]
      rw [← fx_tdf_up, e2] at K
      exact And.intro i1 (nm_e (nm_r (nI_1 i) K))
    · have e2 : fx_td (nI d) (tk i) = tk i - nI d := by unfold fx_td; rw [if_neg h, if_neg h2]
      rw [← fx_tdf_up, e2] at K
      exact And.intro i1 (And.intro i1 (nm_e (nm_r (nI_1 i) K)))
theorem fx_tickY {post : Int32 → SY → Prop} {v : SY} (g : fx_G T M C B po ar mo L) (ed : fx_clf p 0 1000 = nI d) (I : fx_RY T M C B (va, po, ar, mo, sn, ou, tk, he, L) v)
    (k : ∀ b, fx_N (fx_S 0 (fx_tdf (nI d) tk T) L) L 0 b → ∀ v', fx_RY T M C B (fx_rs (fx_S 0 (fx_tdf (nI d) tk T) L) 3 (va, po, ar, mo, sn, ou, fx_tdf (nI d) tk T, he, L)) v' → post (nI b) v') : wpY_tick post v p := by
  refine fx_yel (P := fun v => wpY_tick post v p) ?_ I
  clear I
  intro wo we f
  have g4 := g.1
  unfold fx_B4 at g4
  unfold wpY_tick
  refine fx_clY ?_
  rw [ed]
  have K : ∃ n, wY_tick_68 post n 0 0 (nI T) (nI M) (nI C) (nI B) (nI L.length) va po ar (fx_tdf (nI d) tk T) sn ou he wo we := ⟨T + 1, fx_tkY T 0 0 po ou (fx_tdf (nI d) tk T) L (nI T, nI M, nI C, nI B, nI L.length, va, po, ar, fx_tdf (nI d) tk T, sn, ou, he, wo, we) g (fx_yin f) (by omega) k⟩
  have := fx_tk12 (by omega) K T 0 (by omega)
  rw [fx_tdf_0] at this
  exact ⟨T + 1, this⟩
end
/-! the constructors -/
def fx_i (n j : Nat) : Int32 := if j < n then -1 else 0
def fx_iL (n j : Nat) : Int64 := if j < n then -1 else 0
theorem fx_i0 : fx_i 0 = fun _ => 0 := by funext j; exact if_neg (Nat.not_lt_zero j)
theorem fx_iL0 : fx_iL 0 = fun _ => 0 := by funext j; exact if_neg (Nat.not_lt_zero j)
theorem fx_iu {n : Nat} : upd (fx_i n) n (-1) = fx_i (n + 1) := by
  funext s
  unfold upd fx_i
  by_cases c : s = n
  · subst c
    rw [if_pos rfl, if_pos (by omega)]
  · rw [if_neg c]
    by_cases c2 : s < n
    · rw [if_pos c2, if_pos (by omega)]
    · rw [if_neg c2, if_neg (by omega)]
theorem fx_iLu {n : Nat} : vp_updL (fx_iL n) n (-1) = fx_iL (n + 1) := by
  funext s
  unfold vp_updL fx_iL
  by_cases c : s = n
  · subst c
    rw [if_pos rfl, if_pos (by omega)]
  · rw [if_neg c]
    by_cases c2 : s < n
    · rw [if_pos c2, if_pos (by omega)]
    · rw [if_neg c2, if_neg (by omega)]
theorem fx_clU {post : Int32 → Prop} {u : SX} {p lo hi : Int32} (k : post (fx_clf p lo hi)) : wpX_clamp post u p lo hi := by
  obtain ⟨a0, a1, a2, a3, a4, a5, a6, a7, a8, a9, b0, b1, b2, b3, b4, b5, b6, b7, b8, b9, c0, c1, c2, c3⟩ := u
  unfold fx_clf at k
  refine br_c (fun h => ?_) (fun h => ?_)
  · rw [if_pos h] at k
    refine br_c (fun h2 => ?_) (fun h2 => ?_)
    · rw [if_pos h2] at k; exact k
    · rw [if_neg h2] at k; exact k
  · rw [if_neg h] at k; exact k
theorem fx_clV {post : Int32 → Prop} {v : SY} {p lo hi : Int32} (k : post (fx_clf p lo hi)) : wpY_clamp post v p lo hi := by
  obtain ⟨a0, a1, a2, a3, a4, a5, a6, a7, a8, a9, b0, b1, b2, b3⟩ := v
  unfold fx_clf at k
  refine br_c (fun h => ?_) (fun h => ?_)
  · rw [if_pos h] at k
    refine br_c (fun h2 => ?_) (fun h2 => ?_)
    · rw [if_pos h2] at k; exact k
    · rw [if_neg h2] at k; exact k
  · rw [if_neg h] at k; exact k
section
variable {T M C B nw : Nat} {th rn ns : Int32} {va sl bc po ar mo sn ou hs : Nat → Int32} {dl : Nat → Int64} {sw qn qp bh bl tn tp tk he wo we : Nat → Int32}
theorem fx_in281 {post : SX → Prop} (k : post (nI T, nI M, nI C, nI B, lN nw, th, rn, va, sl, bc, po, ar, mo, sn, ou, hs, dl, sw, qn, qp, fx_i 8, fx_i 8, tn, tp)) : ∀ j i, i + j = 8 → wX_init_281 post (nI T) (nI M) (nI C) (nI B) (lN nw) th rn (j + 1) (nI i) va sl bc po ar mo sn ou hs dl sw qn qp (fx_i i) (fx_i i) tn tp := by
  intro j
  induction j with
  | zero =>
    intro i e
    have e' : i = 8 := by omega
    subst e'
    rw [wX_init_281]
    exact br_t (by decide) k
  | succ j ih =>
    intro i e
    have i1 : vp_in (nI i) 8 := vp_in_nI (by omega) (by decide)
    have K := ih (i + 1) (by omega)
    rw [wX_init_281]
    dsimp only
    rw [nI_clamp (show i < 2 ^ 31 by omega), fx_iu]
    exact br_f (nI_ge (b := 8) (by omega) (by decide)) (And.intro i1 (nm_e (And.intro i1 (nm_e (nm_r (nI_1 i) K)))))
theorem fx_in207 {post : SX → Prop} (k : ∃ n, wX_init_281 post (nI T) (nI M) (nI C) (nI B) (lN nw) th rn n 0 va sl bc po (fx_i 16) mo sn ou hs (fx_iL 16) (fx_i 16) (fx_i 16) (fx_i 16) bh bl (fx_i 16) (fx_i 16)) :
    ∀ j i, i + j = 16 → wX_init_207 post (nI T) (nI M) (nI C) (nI B) (lN nw) th rn (j + 1) (nI i) va sl bc po (fx_i i) mo sn ou hs (fx_iL i) (fx_i i) (fx_i i) (fx_i i) bh bl (fx_i i) (fx_i i) := by
  intro j
  induction j with
  | zero =>
    intro i e
    have e' : i = 16 := by omega
    subst e'
    rw [wX_init_207]
    exact br_t (by decide) k
  | succ j ih =>
    intro i e
    have i1 : vp_in (nI i) 16 := vp_in_nI (by omega) (by decide)
    have K := ih (i + 1) (by omega)
    rw [wX_init_207]
    dsimp only
    rw [nI_clamp (show i < 2 ^ 31 by omega), fx_iu, fx_iLu]
    exact br_f (nI_ge (b := 16) (by omega) (by decide)) (And.intro i1 (nm_e (And.intro i1 (nm_e (And.intro i1 (nm_e (And.intro i1 (nm_e (And.intro i1 (nm_e (And.intro i1 (nm_e (And.intro i1 (nm_e (nm_r (nI_1 i) K)))))))))))))))
theorem fx_in134 {post : SY → Prop} (k : post (nI T, nI M, nI C, nI B, ns, va, po, fx_i 16, fx_i 16, sn, ou, he, wo, we)) : ∀ j i, i + j = 16 → wY_init_134 post (nI T) (nI M) (nI C) (nI B) ns (j + 1) (nI i) va po (fx_i i) (fx_i i) sn ou he wo we := by
  intro j
  induction j with
  | zero =>
    intro i e
    have e' : i = 16 := by omega
    subst e'
    rw [wY_init_134]
    exact br_t (by decide) k
  | succ j ih =>
    intro i e
    have i1 : vp_in (nI i) 16 := vp_in_nI (by omega) (by decide)
    have K := ih (i + 1) (by omega)
    rw [wY_init_134]
    dsimp only
    rw [nI_clamp (show i < 2 ^ 31 by omega), fx_iu]
    exact br_f (nI_ge (b := 16) (by omega) (by decide)) (And.intro i1 (nm_e (And.intro i1 (nm_e (nm_r (nI_1 i) K)))))
end
theorem fx_c_0 {p : Nat → Bool} (h : ∀ i, p i = false) : ∀ n, fx_c p n = 0 := by
  intro n
  induction n with
  | zero => rfl
  | succ n ih =>
    show fx_c p n + (p n).toNat = 0
    rw [ih, h]
    rfl
theorem fx_X0 {T B : Nat} (hT : T ≤ 16) : fx_XF T B 0 (-1) 0 (fun _ => 0) (fun _ => 0) (fun _ => 0) (fx_iL 16) (fx_i 16) (fx_i 16) (fx_i 16) (fx_i 8) (fx_i 8) (fx_i 16) (fx_i 16) (fun _ => 0) (fun _ => 0) (fx_i 16) (fun _ => 0) [] := by
  refine ⟨by omega, ⟨fun w _ => rfl, fun t w q => (by cases q), fun t ht _ => if_pos ht, fun b hb => ⟨fx_D_nil, if_pos hb, if_pos hb⟩⟩, fun m _ => ?_, fun t m _ _ => ?_, fun t ht => ?_, ⟨[], ⟨List.nodup_nil, fx_D_nil, rfl, List.Pairwise.nil⟩, fun t => ?_⟩, fun i hi => ?_⟩
  · rw [fx_c_0 (fun i => by unfold fx_bp; rw [show fx_bd ((fun _ => 0 : Nat → Int32) i) = false from (show fx_bd 0 = false by decide), Bool.false_and])]
    rfl
  · show bt 0 m = _
    rw [b_0]
    exact (decide_eq_false (fun q => q rfl)).symm
  · have e1 : fx_iL 16 t = -1 := if_pos (by omega)
    have e2 : fx_i 16 t = -1 := if_pos (by omega)
    rw [e1, e2]
    exact fx_LK_m1
  · exact ⟨fun q => (by cases q), fun q => (by cases q.1)⟩
  · rw [b_0]
    exact (decide_eq_false (fun q => q.2.1 rfl)).symm
theorem i_vc0 (k0 : Int32) (k1 : Int32) (k2 : Int32) (k3 : Int32) : wpX_init (fun u => wpY_init (fun v => i_Rel 4 u v) k0 k1 k2 k3) k0 k1 k2 k3 := by
  obtain ⟨T, hT1, hT2, eT⟩ := fx_clN (p := k0) (a := 2) (b := 16) (by decide) (by decide)
  obtain ⟨M, hM1, hM2, eM⟩ := fx_clN (p := k1) (a := 1) (b := 8) (by decide) (by decide)
  obtain ⟨C, hC1, hC2, eC⟩ := fx_clN (p := k2) (a := 1) (b := 8) (by decide) (by decide)
  obtain ⟨B, hB1, hB2, eB⟩ := fx_clN (p := k3) (a := 1) (b := 8) (by decide) (by decide)
  have eT' : fx_clf k0 2 16 = nI T := eT
  have eM' : fx_clf k1 1 8 = nI M := eM
  have eC' : fx_clf k2 1 8 = nI C := eC
  have eB' : fx_clf k3 1 8 = nI B := eB
  have G : fx_Gc T M C B ((fun _ => 0), (fun _ => 0), fx_i 16, (fun _ => 0), (fun _ => 0), (fun _ => 0), fx_i 16, (fun _ => 0), []) :=
    ⟨⟨hT1, hT2, hM1, hM2, hC1, hC2, hB1, hB2⟩, List.nodup_nil, fun t w q => (by cases q), fun t _ q => absurd rfl q⟩
  unfold wpX_init
  refine fx_clU (fx_clU (fx_clU (fx_clU ⟨17, ?_⟩)))
  rw [eT', eM', eC', eB']
  have KY : wpY_init (fun v => i_Rel 4 (nI T, nI M, nI C, nI B, lN 0, -1, 0, (fun _ => 0), (fun _ => 0), (fun _ => 0), (fun _ => 0), fx_i 16, (fun _ => 0), (fun _ => 0), (fun _ => 0), (fun _ => 0), fx_iL 16, fx_i 16, fx_i 16, fx_i 16, fx_i 8, fx_i 8, fx_i 16, fx_i 16) v) k0 k1 k2 k3 := by
    unfold wpY_init
    refine fx_clV (fx_clV (fx_clV (fx_clV ⟨17, ?_⟩)))
    rw [eT', eM', eC', eB']
    have K : (fun v => i_Rel 4 (nI T, nI M, nI C, nI B, lN 0, -1, 0, (fun _ => 0), (fun _ => 0), (fun _ => 0), (fun _ => 0), fx_i 16, (fun _ => 0), (fun _ => 0), (fun _ => 0), (fun _ => 0), fx_iL 16, fx_i 16, fx_i 16, fx_i 16, fx_i 8, fx_i 8, fx_i 16, fx_i 16) v)
        (nI T, nI M, nI C, nI B, nI 0, (fun _ => 0), (fun _ => 0), fx_i 16, fx_i 16, (fun _ => 0), (fun _ => 0), (fun _ => 0), (fun _ => 0), (fun _ => 0)) :=
      ⟨T, M, C, B, 0, _, G, fx_xin (fx_X0 hT2), ⟨(fun _ => 0), (fun _ => 0), rfl, trivial⟩, by omega⟩
    have := fx_in134 (ns := nI 0) K 16 0 rfl
    rw [fx_i0] at this
    exact this
  have := fx_in207 (T := T) (M := M) (C := C) (B := B) (nw := 0) (th := -1) (rn := 0) (va := fun _ => 0) (sl := fun _ => 0) (bc := fun _ => 0) (po := fun _ => 0) (mo := fun _ => 0) (sn := fun _ => 0) (ou := fun _ => 0) (hs := fun _ => 0) (bh := fun _ => 0) (bl := fun _ => 0)
    (post := fun u => wpY_init (fun v => i_Rel 4 u v) k0 k1 k2 k3) ⟨9, by
      have := fx_in281 (T := T) (M := M) (C := C) (B := B) (nw := 0) (th := -1) (rn := 0) (va := fun _ => 0) (sl := fun _ => 0) (bc := fun _ => 0) (po := fun _ => 0) (ar := fx_i 16) (mo := fun _ => 0) (sn := fun _ => 0) (ou := fun _ => 0) (hs := fun _ => 0) (dl := fx_iL 16) (sw := fx_i 16) (qn := fx_i 16) (qp := fx_i 16) (tn := fx_i 16) (tp := fx_i 16)
        (post := fun u => wpY_init (fun v => i_Rel 4 u v) k0 k1 k2 k3) KY 8 0 rfl
      rw [fx_i0] at this
      exact this⟩ 16 0 rfl
  rw [fx_i0, fx_iL0] at this
  exact this
end
section
/-! the owed statements -/
theorem fx_mr {T M C B nw k : Nat} {c : fx_A} {u : SX} {v : SY} (h : fx_RX T M C B nw c u) (h2 : fx_RY T M C B c v) (g : fx_Gc T M C B c) (hn : nw ≤ 1000 * k) : i_Rel k u v := ⟨T, M, C, B, nw, c, g, h, h2, hn⟩
theorem i_vc_position {k : Nat} {u : SX} {v : SY} (I : i_Rel k u v) (hk : k + 5 ≤ 2564) (v1 : Int32) : wpX_position (fun r => wpY_position (fun r' => r' = r ∧ i_Rel (k + 5) u v) v v1) u v1 := by
  refine fx_qel (P := fun u v => wpX_position (fun r => wpY_position (fun r' => r' = r ∧ i_Rel (k + 5) u v) v v1) u v1) ?_ I
  clear I
  intro T M C B nw va po ar mo sn ou tk he L th rn sl bc hs dl sw qn qp bh bl tn tp wo we g f fy hn R
  have g4 := g.1
  unfold fx_B4 at g4
  unfold wpX_position wpY_position
  dsimp only
  rcases pk_ix v1 (n := T) (by omega) with h | h | ⟨t, ht, rfl⟩
  · exact fx_it0 (Or.inl h) (br_t rfl (fx_nt1 (Or.inl h) (br_f (by decide) ⟨rfl, R⟩)))
  · exact fx_it0 (Or.inr h) (br_t rfl (fx_nt1 (Or.inr h) (br_f (by decide) ⟨rfl, R⟩)))
  have ct : (nI t).toNatClampNeg = t := nI_clamp (by omega)
  have i1 : vp_in (nI t) 16 := vp_in_nI (by omega) (by decide)
  exact fx_it1 (by omega) ht (br_f (by decide) (And.intro i1 (fx_nt0 (by omega) ht (br_t rfl (And.intro i1 ⟨rfl, R⟩)))))
theorem i_vc_operand {k : Nat} {u : SX} {v : SY} (I : i_Rel k u v) (hk : k + 5 ≤ 2564) (v1 : Int32) : wpX_operand (fun r => wpY_operand (fun r' => r' = r ∧ i_Rel (k + 5) u v) v v1) u v1 := by
  refine fx_qel (P := fun u v => wpX_operand (fun r => wpY_operand (fun r' => r' = r ∧ i_Rel (k + 5) u v) v v1) u v1) ?_ I
  clear I
  intro T M C B nw va po ar mo sn ou tk he L th rn sl bc hs dl sw qn qp bh bl tn tp wo we g f fy hn R
  have g4 := g.1
  unfold fx_B4 at g4
  unfold wpX_operand wpY_operand
  dsimp only
  rcases pk_ix v1 (n := T) (by omega) with h | h | ⟨t, ht, rfl⟩
  · exact fx_it0 (Or.inl h) (br_t rfl (fx_nt1 (Or.inl h) (br_f (by decide) ⟨rfl, R⟩)))
  · exact fx_it0 (Or.inr h) (br_t rfl (fx_nt1 (Or.inr h) (br_f (by decide) ⟨rfl, R⟩)))
  have ct : (nI t).toNatClampNeg = t := nI_clamp (by omega)
  have i1 : vp_in (nI t) 16 := vp_in_nI (by omega) (by decide)
  exact fx_it1 (by omega) ht (br_f (by decide) (And.intro i1 (fx_nt0 (by omega) ht (br_t rfl (And.intro i1 ⟨rfl, R⟩)))))
theorem i_vc_seen {k : Nat} {u : SX} {v : SY} (I : i_Rel k u v) (hk : k + 5 ≤ 2564) (v1 : Int32) : wpX_seen (fun r => wpY_seen (fun r' => r' = r ∧ i_Rel (k + 5) u v) v v1) u v1 := by
  refine fx_qel (P := fun u v => wpX_seen (fun r => wpY_seen (fun r' => r' = r ∧ i_Rel (k + 5) u v) v v1) u v1) ?_ I
  clear I
  intro T M C B nw va po ar mo sn ou tk he L th rn sl bc hs dl sw qn qp bh bl tn tp wo we g f fy hn R
  have g4 := g.1
  unfold fx_B4 at g4
  unfold wpX_seen wpY_seen
  dsimp only
  rcases pk_ix v1 (n := T) (by omega) with h | h | ⟨t, ht, rfl⟩
  · exact fx_it0 (Or.inl h) (br_t rfl (fx_nt1 (Or.inl h) (br_f (by decide) ⟨rfl, R⟩)))
  · exact fx_it0 (Or.inr h) (br_t rfl (fx_nt1 (Or.inr h) (br_f (by decide) ⟨rfl, R⟩)))
  have ct : (nI t).toNatClampNeg = t := nI_clamp (by omega)
  have i1 : vp_in (nI t) 16 := vp_in_nI (by omega) (by decide)
  exact fx_it1 (by omega) ht (br_f (by decide) (And.intro i1 (fx_nt0 (by omega) ht (br_t rfl (And.intro i1 ⟨rfl, R⟩)))))
theorem i_vc_result {k : Nat} {u : SX} {v : SY} (I : i_Rel k u v) (hk : k + 5 ≤ 2564) (v1 : Int32) : wpX_result (fun r => wpY_result (fun r' => r' = r ∧ i_Rel (k + 5) u v) v v1) u v1 := by
  refine fx_qel (P := fun u v => wpX_result (fun r => wpY_result (fun r' => r' = r ∧ i_Rel (k + 5) u v) v v1) u v1) ?_ I
  clear I
  intro T M C B nw va po ar mo sn ou tk he L th rn sl bc hs dl sw qn qp bh bl tn tp wo we g f fy hn R
  have g4 := g.1
  unfold fx_B4 at g4
  unfold wpX_result wpY_result
  dsimp only
  rcases pk_ix v1 (n := T) (by omega) with h | h | ⟨t, ht, rfl⟩
  · exact fx_it0 (Or.inl h) (br_t rfl (fx_nt1 (Or.inl h) (br_f (by decide) ⟨rfl, R⟩)))
  · exact fx_it0 (Or.inr h) (br_t rfl (fx_nt1 (Or.inr h) (br_f (by decide) ⟨rfl, R⟩)))
  have ct : (nI t).toNatClampNeg = t := nI_clamp (by omega)
  have i1 : vp_in (nI t) 16 := vp_in_nI (by omega) (by decide)
  exact fx_it1 (by omega) ht (br_f (by decide) (And.intro i1 (fx_nt0 (by omega) ht (br_t rfl (And.intro i1 ⟨rfl, R⟩)))))
theorem i_vc_left {k : Nat} {u : SX} {v : SY} (I : i_Rel k u v) (hk : k + 5 ≤ 2564) (v1 : Int32) : wpX_left (fun r => wpY_left (fun r' => r' = r ∧ i_Rel (k + 5) u v) v v1) u v1 := by
  refine fx_qel (P := fun u v => wpX_left (fun r => wpY_left (fun r' => r' = r ∧ i_Rel (k + 5) u v) v v1) u v1) ?_ I
  clear I
  intro T M C B nw va po ar mo sn ou tk he L th rn sl bc hs dl sw qn qp bh bl tn tp wo we g f fy hn R
  have g4 := g.1
  unfold fx_B4 at g4
  unfold wpX_left wpY_left
  dsimp only
  rcases pk_ix v1 (n := T) (by omega) with h | h | ⟨t, ht, rfl⟩
  · exact fx_it0 (Or.inl h) (br_t rfl (fx_nt1 (Or.inl h) (br_f (by decide) ⟨rfl, R⟩)))
  · exact fx_it0 (Or.inr h) (br_t rfl (fx_nt1 (Or.inr h) (br_f (by decide) ⟨rfl, R⟩)))
  have ct : (nI t).toNatClampNeg = t := nI_clamp (by omega)
  have i1 : vp_in (nI t) 16 := vp_in_nI (by omega) (by decide)
  refine fx_it1 (by omega) ht (br_f (by decide) (And.intro i1 ?_))
  rw [ct]
  have fn := f.1
  rcases f.2.2.2.2.1 t ht with ⟨h1, h2⟩ | ⟨e, h0, h1, h2⟩
  · exact br_f (by rw [h1]; decide) (fx_nt0 (by omega) ht (br_t rfl (And.intro i1 ⟨h2, R⟩)))
  · refine br_t (by rw [h1]; exact (lN_le (a := 0) (by omega) (by omega)).mpr (Nat.zero_le _)) (And.intro i1 ?_)
    by_cases c : e ≤ nw
    · refine br_t (by rw [h1]; exact (lN_le (by omega) (by omega)).mpr c) (fx_nt0 (by omega) ht (br_t rfl (And.intro i1 ⟨?_, R⟩)))
      rw [h2, show e - nw = 0 by omega]
      rfl
    · refine br_f (by rw [h1]; exact fun q => c ((lN_le (by omega) (by omega)).mp q)) (And.intro i1 (fx_nt0 (by omega) ht (br_t rfl (And.intro i1 ⟨?_, R⟩))))
      rw [h2, h1, lN_sub (by omega), lN_i]
theorem i_vc_asleep {k : Nat} {u : SX} {v : SY} (I : i_Rel k u v) (hk : k + 5 ≤ 2564) (v1 : Int32) : wpX_asleep (fun r => wpY_asleep (fun r' => r' = r ∧ i_Rel (k + 5) u v) v v1) u v1 := by
  refine fx_qel (P := fun u v => wpX_asleep (fun r => wpY_asleep (fun r' => r' = r ∧ i_Rel (k + 5) u v) v v1) u v1) ?_ I
  clear I
  intro T M C B nw va po ar mo sn ou tk he L th rn sl bc hs dl sw qn qp bh bl tn tp wo we g f fy hn R
  have g4 := g.1
  unfold fx_B4 at g4
  unfold wpX_asleep wpY_asleep
  dsimp only
  rcases pk_ix v1 (n := T) (by omega) with h | h | ⟨t, ht, rfl⟩
  · exact fx_it0 (Or.inl h) (br_t rfl (fx_nt1 (Or.inl h) (br_f (by decide) ⟨rfl, R⟩)))
  · exact fx_it0 (Or.inr h) (br_t rfl (fx_nt1 (Or.inr h) (br_f (by decide) ⟨rfl, R⟩)))
  have ct : (nI t).toNatClampNeg = t := nI_clamp (by omega)
  have i1 : vp_in (nI t) 16 := vp_in_nI (by omega) (by decide)
  refine fx_it1 (by omega) ht (br_f (by decide) (And.intro i1 (fx_nt0 (by omega) ht (br_t rfl ?_))))
  have hl := fx_len g
  rw [ct]
  refine fx_plY (by omega) (fx_G16 g) (by omega) fy (fun L1 w L2 eL => ?_) (fun q => br_f (by decide) ⟨(f.2.1.2.2.1 t (by omega) q).symm, R⟩)
  have hlen : L1.length < L.length := by rw [eL]; simp
  have f2 := fy
  rw [eL, fx_V_app] at f2
  obtain ⟨-, -, f4, -⟩ := f2
  rw [Nat.zero_add] at f4
  refine br_t (nI_pos' (by omega)) (And.intro (vp_in_nI (by omega) (by decide)) ⟨?_, R⟩)
  rw [nI_clamp (show L1.length < 2 ^ 31 by omega), f4]
  exact (f.2.1.2.1 t w (by rw [eL]; simp)).symm
theorem i_vc_word {k : Nat} {u : SX} {v : SY} (I : i_Rel k u v) (hk : k + 5 ≤ 2564) (v1 : Int32) : wpX_word (fun r => wpY_word (fun r' => r' = r ∧ i_Rel (k + 5) u v) v v1) u v1 := by
  refine fx_qel (P := fun u v => wpX_word (fun r => wpY_word (fun r' => r' = r ∧ i_Rel (k + 5) u v) v v1) u v1) ?_ I
  clear I
  intro T M C B nw va po ar mo sn ou tk he L th rn sl bc hs dl sw qn qp bh bl tn tp wo we g f fy hn R
  have g4 := g.1
  unfold fx_B4 at g4
  unfold wpX_word wpY_word
  dsimp only
  rw [nI_add]
  rcases pk_ix v1 (n := M + C) (by omega) with h | h | ⟨w, hw, rfl⟩
  · exact fx_iw0 (Or.inl h) (br_t rfl (br_t h ⟨rfl, R⟩))
  · refine fx_iw0 (Or.inr h) (br_t rfl (br_c (fun _ => ⟨rfl, R⟩) (fun _ => br_f (Int32.not_lt.mpr h) ⟨rfl, R⟩)))
  · have i1 : vp_in (nI w) 16 := vp_in_nI (by omega) (by decide)
    exact fx_iw1 (by omega) hw (br_f (by decide) (And.intro i1 (br_f (nI_pos (n := w) (by omega)) (br_t (nI_lt hw (by omega)) (And.intro i1 ⟨rfl, R⟩)))))
theorem i_vc_sleeper {k : Nat} {u : SX} {v : SY} (I : i_Rel k u v) (hk : k + 5 ≤ 2564) (v1 : Int32) (v2 : Int32) : wpX_sleeper (fun r => wpY_sleeper (fun r' => r' = r ∧ i_Rel (k + 5) u v) v v1 v2) u v1 v2 := by
  refine fx_qel (P := fun u v => wpX_sleeper (fun r => wpY_sleeper (fun r' => r' = r ∧ i_Rel (k + 5) u v) v v1 v2) u v1 v2) ?_ I
  clear I
  intro T M C B nw va po ar mo sn ou tk he L th rn sl bc hs dl sw qn qp bh bl tn tp wo we g f fy hn R
  have g4 := g.1
  unfold fx_B4 at g4
  unfold wpX_sleeper wpY_sleeper
  dsimp only
  rw [nI_add]
  rcases pk_ix v1 (n := M + C) (by omega) with h | h | ⟨w, hw, rfl⟩
  · exact fx_iw0 (Or.inl h) (br_t rfl (br_t h ⟨rfl, R⟩))
  · refine fx_iw0 (Or.inr h) (br_t rfl (br_c (fun _ => ⟨rfl, R⟩) (fun _ => br_f (Int32.not_lt.mpr h) ⟨rfl, R⟩)))
  · have hl := fx_len g
    refine fx_iw1 (by omega) hw (br_f (by decide) ?_)
    by_cases c : v2 < 0
    · refine fx_saXn c (br_f (nI_pos (n := w) (by omega)) (br_t (nI_lt hw (by omega)) ⟨L.length + 1, ?_⟩))
      exact fx_s25n c (by omega) (fx_G16 g) (by omega) fy ⟨rfl, R⟩ (L.length + 1) [] L 0 rfl (Nat.lt_succ_self _) (Nat.le_refl _)
    · obtain ⟨j, hj, rfl⟩ := nI_of c
      refine fx_saX g hw (fx_xin f) hj (br_f (nI_pos (n := w) (by omega)) (br_t (nI_lt hw (by omega)) ⟨L.length + 1, ?_⟩))
      exact fx_s25 (by omega) (fx_G16 g) (by omega) hj fy (L.length + 1) [] L 0 rfl (Nat.lt_succ_self _) (Nat.zero_le _) (Nat.le_refl _) ⟨rfl, R⟩
theorem i_vc_bound {k : Nat} {u : SX} {v : SY} (I : i_Rel k u v) (hk : k + 5 ≤ 2564) (v1 : Int32) : wpX_bound (fun r => wpY_bound (fun r' => r' = r ∧ i_Rel (k + 5) u v) v v1) u v1 := by
  refine fx_qel (P := fun u v => wpX_bound (fun r => wpY_bound (fun r' => r' = r ∧ i_Rel (k + 5) u v) v v1) u v1) ?_ I
  clear I
  intro T M C B nw va po ar mo sn ou tk he L th rn sl bc hs dl sw qn qp bh bl tn tp wo we g f fy hn R
  have g4 := g.1
  unfold fx_B4 at g4
  unfold wpX_bound wpY_bound
  dsimp only
  rcases pk_ix v1 (n := M) (by omega) with h | h | ⟨m, hm, rfl⟩
  · exact br_t h (br_t h ⟨rfl, R⟩)
  · exact br_c (fun _ => br_c (fun _ => ⟨rfl, R⟩) (fun _ => br_f (Int32.not_lt.mpr h) ⟨rfl, R⟩)) (fun _ => br_t h (br_c (fun _ => ⟨rfl, R⟩) (fun _ => br_f (Int32.not_lt.mpr h) ⟨rfl, R⟩)))
  · refine br_f (nI_pos (n := m) (by omega)) (br_f (nI_ge hm (by omega)) (And.intro (vp_in_nI (by omega) (by decide)) (br_f (nI_pos (n := m) (by omega)) (br_t (nI_lt hm (by omega)) ⟨T + 1, ?_⟩))))
    refine fx_b19 g (by omega) ⟨?_, R⟩ T 0 (by omega)
    rw [nI_clamp (show m < 2 ^ 31 by omega)]
    exact (f.2.2.1 m (by omega)).symm
theorem i_vc_holds {k : Nat} {u : SX} {v : SY} (I : i_Rel k u v) (hk : k + 5 ≤ 2564) (v1 : Int32) (v2 : Int32) : wpX_holds (fun r => wpY_holds (fun r' => r' = r ∧ i_Rel (k + 5) u v) v v1 v2) u v1 v2 := by
  refine fx_qel (P := fun u v => wpX_holds (fun r => wpY_holds (fun r' => r' = r ∧ i_Rel (k + 5) u v) v v1 v2) u v1 v2) ?_ I
  clear I
  intro T M C B nw va po ar mo sn ou tk he L th rn sl bc hs dl sw qn qp bh bl tn tp wo we g f fy hn R
  have g4 := g.1
  unfold fx_B4 at g4
  unfold wpX_holds wpY_holds
  dsimp only
  rcases pk_ix v1 (n := T) (by omega) with h | h | ⟨t, ht, rfl⟩
  · exact fx_it0 (Or.inl h) (br_t rfl (br_t h ⟨rfl, R⟩))
  · exact fx_it0 (Or.inr h) (br_t rfl (br_c (fun _ => ⟨rfl, R⟩) (fun _ => br_t h ⟨rfl, R⟩)))
  have ct : (nI t).toNatClampNeg = t := nI_clamp (by omega)
  have i1 : vp_in (nI t) 16 := vp_in_nI (by omega) (by decide)
  refine fx_it1 (by omega) ht (br_f (by decide) ?_)
  have q1 : ¬ nI t < 0 := nI_pos (by omega)
  have q2 : ¬ nI T ≤ nI t := nI_ge ht (by omega)
  rcases pk_ix v2 (n := M) (by omega) with h | h | ⟨m, hm, rfl⟩
  · exact br_t h (br_f q1 (br_f q2 (br_t h ⟨rfl, R⟩)))
  · exact br_c (fun _ => br_f q1 (br_f q2 (br_c (fun _ => ⟨rfl, R⟩) (fun _ => br_t h ⟨rfl, R⟩)))) (fun _ => br_f (Int32.not_lt.mpr h) (br_f q1 (br_f q2 (br_c (fun _ => ⟨rfl, R⟩) (fun _ => br_t h ⟨rfl, R⟩)))))
  · have e : hs t &&& ((1 : Int32) <<< (nI m &&& 31)) = 0 ↔ he (t * 8 + m) = 0 := by
      rw [fx_btst (by omega), f.2.2.2.1 t m (by omega) (by omega), decide_eq_false_iff_not, Classical.not_not]
    have ch : (nI (t * 8 + m)).toNatClampNeg = t * 8 + m := nI_clamp (by omega)
    have ih : vp_in (nI (t * 8 + m)) 128 := vp_in_nI (by omega) (by decide)
    have m1 : ¬ nI m < 0 := nI_pos (by omega)
    have m2 : ¬ nI M ≤ nI m := nI_ge hm (by omega)
    rw [ct, fx_hx, ch]
    refine br_f m1 (br_t (nI_lt hm (by omega)) (And.intro i1 (br_c (fun c => ?_) (fun c => ?_))))
    · exact br_f q1 (br_f q2 (br_f m1 (br_f m2 (And.intro ih (br_t (e.mp c) ⟨rfl, R⟩)))))
    · exact br_f q1 (br_f q2 (br_f m1 (br_f m2 (And.intro ih (br_f (fun q => c (e.mpr q)) ⟨rfl, R⟩)))))
theorem i_vc_step {k : Nat} {u : SX} {v : SY} (I : i_Rel k u v) (hk : k + 5 ≤ 2564) (v1 : Int32) : wpX_step (fun r u' => wpY_step (fun r' v' => r' = r ∧ i_Rel (k + 5) u' v') v v1) u v1 := by
  refine fx_qel (P := fun u v => wpX_step (fun r u' => wpY_step (fun r' v' => r' = r ∧ i_Rel (k + 5) u' v') v v1) u v1) ?_ I
  clear I
  intro T M C B nw va po ar mo sn ou tk he L th rn sl bc hs dl sw qn qp bh bl tn tp wo we g f fy hn R
  have g4 := g.1
  unfold fx_B4 at g4
  unfold wpX_step wpY_step
  dsimp only
  rcases pk_ix v1 (n := T) (by omega) with h | h | ⟨t, ht, rfl⟩
  · exact fx_it0 (Or.inl h) (br_t rfl (fx_nt1 (Or.inl h) (br_f (by decide) ⟨rfl, R⟩)))
  · exact fx_it0 (Or.inr h) (br_t rfl (fx_nt1 (Or.inr h) (br_f (by decide) ⟨rfl, R⟩)))
  have ct : (nI t).toNatClampNeg = t := nI_clamp (by omega)
  have i1 : vp_in (nI t) 16 := vp_in_nI (by omega) (by decide)
  have hl := fx_len g
  refine fx_it1 (by omega) ht (br_f (by decide) (And.intro i1 ?_))
  rw [ct]
  by_cases hp : po t = 0
  · exact br_t hp (fx_nt0 (by omega) ht (br_t rfl (And.intro i1 (br_t hp ⟨rfl, R⟩))))
  · refine br_f hp (And.intro i1 ?_)
    by_cases m : t ∈ fx_K L
    · obtain ⟨w, mL⟩ := fx_memK.mp m
      have h16 := fx_G16 g t w mL
      refine br_f (by rw [f.2.1.2.1 t w mL]; exact nI_pos (by omega)) (fx_nt0 (by omega) ht (br_t rfl (And.intro i1 (br_f hp ?_))))
      refine fx_plY (by omega) (fx_G16 g) (by omega) fy (fun L1 w L2 eL => ?_) (fun q => absurd m q)
      have hlen : L1.length < L.length := by rw [eL]; simp
      exact br_f (nI_pos (n := L1.length) (by omega)) ⟨rfl, R⟩
    · obtain ⟨c1, g1, jx, jy⟩ := fx_mk (va := va) (sn := sn) (ou := ou) (tk := tk) (he := he) g ht hp m
      obtain ⟨va1, po1, ar1, mo1, sn1, ou1, tk1, he1, L1⟩ := c1
      refine br_t (by rw [f.2.1.2.2.1 t (by omega) m]; decide) ?_
      refine jx nw _ _ (fx_xin f) ?_
      intro u' h'
      have h2 := h'
      obtain ⟨th', rn', sl', bc', hs', dl', sw', qn', qp', bh', bl', tn', tp', rfl, f'⟩ := h'
      refine And.intro i1 ?_
      refine fx_nt0 (by omega) ht (br_t rfl (And.intro i1 (br_f hp ?_)))
      refine fx_plY (by omega) (fx_G16 g) (by omega) fy (fun L1 w L2 eL => absurd (fx_memK.mpr ⟨w, by rw [eL]; simp⟩) m) (fun q => br_t (by decide) ?_)
      refine jy _ _ (fx_yin fy) ?_
      intro v' h''
      have h3 := h''
      obtain ⟨wo', we', rfl, fy'⟩ := h''
      exact And.intro i1 ⟨rfl, fx_mr h2 h3 g1 (by omega)⟩
theorem i_vc_run {k : Nat} {u : SX} {v : SY} (I : i_Rel k u v) (hk : k + 5 ≤ 2564) (v1 : Int32) (v2 : Int32) : wpX_run (fun r u' => wpY_run (fun r' v' => r' = r ∧ i_Rel (k + 5) u' v') v v1 v2) u v1 v2 := by
  refine fx_qel (P := fun u v => wpX_run (fun r u' => wpY_run (fun r' v' => r' = r ∧ i_Rel (k + 5) u' v') v v1 v2) u v1 v2) ?_ I
  clear I
  intro T M C B nw va po ar mo sn ou tk he L th rn sl bc hs dl sw qn qp bh bl tn tp wo we g f fy hn R
  have g4 := g.1
  unfold fx_B4 at g4
  have B0 : ∀ h : v1 < 0 ∨ nI T ≤ v1, wpX_run (fun r u' => wpY_run (fun r' v' => r' = r ∧ i_Rel (k + 5) u' v') (nI T, nI M, nI C, nI B, nI L.length, va, po, ar, tk, sn, ou, he, wo, we) v1 v2) (nI T, nI M, nI C, nI B, lN nw, th, rn, va, sl, bc, po, ar, mo, sn, ou, hs, dl, sw, qn, qp, bh, bl, tn, tp) v1 v2 := by
    intro h
    unfold wpX_run wpY_run
    exact fx_it0 h (br_t rfl (fx_nt1 h (br_f (by decide) ⟨rfl, R⟩)))
  rcases pk_ix v1 (n := T) (by omega) with h | h | ⟨t, ht, rfl⟩
  · exact B0 (Or.inl h)
  · exact B0 (Or.inr h)
  clear B0
  obtain ⟨lim, hl1, hl2, el⟩ := fx_clN (p := v2) (a := 0) (b := 128) (by decide) (by decide)
  have el' : fx_clf v2 0 128 = nI lim := el
  obtain ⟨c', r, gg, ix, iy⟩ := fx_run hl2 lim 0 t va po ar mo sn ou tk he L g ht (by omega)
  unfold wpX_run
  refine fx_it1 (by omega) ht (br_f (by decide) (fx_clX ⟨lim + 1, ?_⟩))
  rw [el']
  have KX := ix nw (nI T, nI M, nI C, nI B, lN nw, th, rn, va, sl, bc, po, ar, mo, sn, ou, hs, dl, sw, qn, qp, bh, bl, tn, tp) (fun r u' => wpY_run (fun r' v' => r' = r ∧ i_Rel (k + 5) u' v') (nI T, nI M, nI C, nI B, nI L.length, va, po, ar, tk, sn, ou, he, wo, we) (nI t) v2) (fx_xin f) (by
    intro u' h'
    unfold wpY_run
    refine fx_nt0 (by omega) ht (br_t rfl (fx_clY ⟨lim + 1, ?_⟩))
    rw [el']
    have KY := iy (nI T, nI M, nI C, nI B, nI L.length, va, po, ar, tk, sn, ou, he, wo, we) (fun r' v' => r' = r ∧ i_Rel (k + 5) u' v') (fx_yin fy) (fun v' h'' => ⟨rfl, fx_mr h' h'' gg (by omega)⟩)
    exact KY)
  exact KX
theorem i_vc_tick {k : Nat} {u : SX} {v : SY} (I : i_Rel k u v) (hk : k + 5 ≤ 2564) (v1 : Int32) : wpX_tick (fun r u' => wpY_tick (fun r' v' => r' = r ∧ i_Rel (k + 5) u' v') v v1) u v1 := by
  refine fx_qel (P := fun u v => wpX_tick (fun r u' => wpY_tick (fun r' v' => r' = r ∧ i_Rel (k + 5) u' v') v v1) u v1) ?_ I
  clear I
  intro T M C B nw va po ar mo sn ou tk he L th rn sl bc hs dl sw qn qp bh bl tn tp wo we g f fy hn R
  have g4 := g.1
  unfold fx_B4 at g4
  obtain ⟨d, hd1, hd2, ed⟩ := fx_clN (p := v1) (a := 0) (b := 1000) (by decide) (by decide)
  have ed' : fx_clf v1 0 1000 = nI d := ed
  refine fx_tickX g (by omega) hd2 ed' (fx_xin f) ?_
  intro b hb u' h'
  refine fx_tickY g ed' (fx_yin fy) ?_
  intro b' hb' v' h''
  unfold fx_N at hb hb'
  have eb : b' = b := by omega
  refine ⟨by rw [eb], fx_mr h' h'' ?_ (by omega)⟩
  exact fx_G_rs g (fun s q => (of_decide_eq_true q).2.1)
theorem i_vc_spurious {k : Nat} {u : SX} {v : SY} (I : i_Rel k u v) (hk : k + 5 ≤ 2564) (v1 : Int32) : wpX_spurious (fun r u' => wpY_spurious (fun r' v' => r' = r ∧ i_Rel (k + 5) u' v') v v1) u v1 := by
  refine fx_qel (P := fun u v => wpX_spurious (fun r u' => wpY_spurious (fun r' v' => r' = r ∧ i_Rel (k + 5) u' v') v v1) u v1) ?_ I
  clear I
  intro T M C B nw va po ar mo sn ou tk he L th rn sl bc hs dl sw qn qp bh bl tn tp wo we g f fy hn R
  have g4 := g.1
  unfold fx_B4 at g4
  unfold wpX_spurious wpY_spurious
  dsimp only
  rcases pk_ix v1 (n := T) (by omega) with h | h | ⟨t, ht, rfl⟩
  · exact fx_it0 (Or.inl h) (br_t rfl (fx_nt1 (Or.inl h) (br_f (by decide) ⟨rfl, R⟩)))
  · exact fx_it0 (Or.inr h) (br_t rfl (fx_nt1 (Or.inr h) (br_f (by decide) ⟨rfl, R⟩)))
  have ct : (nI t).toNatClampNeg = t := nI_clamp (by omega)
  have i1 : vp_in (nI t) 16 := vp_in_nI (by omega) (by decide)
  have hl := fx_len g
  refine fx_it1 (by omega) ht (br_f (by decide) (And.intro i1 ?_))
  rw [ct]
  by_cases m : t ∈ fx_K L
  · obtain ⟨w, mL⟩ := fx_memK.mp m
    have h16 := fx_G16 g t w mL
    refine br_t (by rw [f.2.1.2.1 t w mL]; exact nI_pos' (by omega)) (fx_relX g mL (fx_xin f) ?_)
    intro u' h'
    have h2 := h'
    obtain ⟨th', rn', sl', bc', hs', dl', sw', qn', qp', bh', bl', tn', tp', rfl, f'⟩ := h'
    refine fx_nt0 (by omega) ht (br_t rfl ?_)
    refine fx_plY (by omega) (fx_G16 g) (by omega) fy (fun L1 w' L2 eL => ?_) (fun q => absurd m q)
    have hlen : L1.length < L.length := by rw [eL]; simp
    refine br_t (nI_pos' (by omega)) (fx_relY g mL (fx_yin fy) ?_)
    intro v' h''
    have h3 := h''
    obtain ⟨wo', we', rfl, fy'⟩ := h''
    exact ⟨rfl, fx_mr h2 h3 (fx_G_r1 g mL) (by omega)⟩
  · refine br_f (by rw [f.2.1.2.2.1 t (by omega) m]; decide) (fx_nt0 (by omega) ht (br_t rfl ?_))
    exact fx_plY (by omega) (fx_G16 g) (by omega) fy (fun L1 w L2 eL => absurd (fx_memK.mpr ⟨w, by rw [eL]; simp⟩) m) (fun q => br_f (by decide) ⟨rfl, R⟩)
theorem i_vc_jolt {k : Nat} {u : SX} {v : SY} (I : i_Rel k u v) (hk : k + 5 ≤ 2564) (v1 : Int32) : wpX_jolt (fun r u' => wpY_jolt (fun r' v' => r' = r ∧ i_Rel (k + 5) u' v') v v1) u v1 := by
  refine fx_qel (P := fun u v => wpX_jolt (fun r u' => wpY_jolt (fun r' v' => r' = r ∧ i_Rel (k + 5) u' v') v v1) u v1) ?_ I
  clear I
  intro T M C B nw va po ar mo sn ou tk he L th rn sl bc hs dl sw qn qp bh bl tn tp wo we g f fy hn R
  have g4 := g.1
  unfold fx_B4 at g4
  rcases pk_ix v1 (n := B) (by omega) with h | h | ⟨b, hb, rfl⟩
  · unfold wpX_jolt wpY_jolt
    exact br_t h (br_t h ⟨rfl, R⟩)
  · have nx : ¬ v1 < 0 := fun q => nI_pos (n := B) (by omega) (Int32.lt_of_le_of_lt h q)
    unfold wpX_jolt wpY_jolt
    exact br_f nx (br_f (Int32.not_lt.mpr h) (br_f nx (br_f (Int32.not_lt.mpr h) ⟨rfl, R⟩)))
  · have hl := fx_len g
    unfold wpX_jolt
    refine br_f (nI_pos (n := b) (by omega)) (br_t (nI_lt hb (by omega)) ⟨L.length + 1, ?_⟩)
    have KX := fx_jtX (post := fun r u' => wpY_jolt (fun r' v' => r' = r ∧ i_Rel (k + 5) u' v') (nI T, nI M, nI C, nI B, nI L.length, va, po, ar, tk, sn, ou, he, wo, we) (nI b)) hb (L.length + 1) 0 0 po ou tk L (nI T, nI M, nI C, nI B, lN nw, th, rn, va, sl, bc, po, ar, mo, sn, ou, hs, dl, sw, qn, qp, bh, bl, tn, tp) g (fx_xin f) (by omega) (by omega) (Nat.le_refl _) (by
      intro r hr u' h'
      unfold wpY_jolt
      refine br_f (nI_pos (n := b) (by omega)) (br_t (nI_lt hb (by omega)) ⟨T + 1, ?_⟩)
      have KY := fx_jtY (post := fun r' v' => r' = nI r ∧ i_Rel (k + 5) u' v') hb T 0 0 po ou tk L (nI T, nI M, nI C, nI B, nI L.length, va, po, ar, tk, sn, ou, he, wo, we) g (fx_yin fy) (by omega) (by
        intro r' hr' v' h''
        unfold fx_N at hr hr'
        have eb : r' = r := by omega
        refine ⟨by rw [eb], fx_mr h' h'' ?_ (by omega)⟩
        exact fx_G_rs g (fun s q => fx_QK (of_decide_eq_true q).2))
      exact KY)
    exact KX
theorem i_vc_begin {k : Nat} {u : SX} {v : SY} (I : i_Rel k u v) (hk : k + 5 ≤ 2564) (v1 : Int32) (v2 : Int32) (v3 : Int32) (v4 : Int32) : wpX_begin (fun r u' => wpY_begin (fun r' v' => r' = r ∧ i_Rel (k + 5) u' v') v v1 v2 v3 v4) u v1 v2 v3 v4 := by
  refine fx_qel (P := fun u v => wpX_begin (fun r u' => wpY_begin (fun r' v' => r' = r ∧ i_Rel (k + 5) u' v') v v1 v2 v3 v4) u v1 v2 v3 v4) ?_ I
  clear I
  intro T M C B nw va po ar mo sn ou tk he L th rn sl bc hs dl sw qn qp bh bl tn tp wo we g f fy hn R
  have g4 := g.1
  unfold fx_B4 at g4
  have B0 : ∀ h : v1 < 0 ∨ nI T ≤ v1, wpX_begin (fun r u' => wpY_begin (fun r' v' => r' = r ∧ i_Rel (k + 5) u' v') (nI T, nI M, nI C, nI B, nI L.length, va, po, ar, tk, sn, ou, he, wo, we) v1 v2 v3 v4) (nI T, nI M, nI C, nI B, lN nw, th, rn, va, sl, bc, po, ar, mo, sn, ou, hs, dl, sw, qn, qp, bh, bl, tn, tp) v1 v2 v3 v4 := by
    intro h
    unfold wpX_begin wpY_begin
    exact fx_it0 h (br_t rfl (fx_nt1 h (br_f (by decide) ⟨rfl, R⟩)))
  rcases pk_ix v1 (n := T) (by omega) with h | h | ⟨t, ht, rfl⟩
  · exact B0 (Or.inl h)
  · exact B0 (Or.inr h)
  clear B0
  have ct : (nI t).toNatClampNeg = t := nI_clamp (by omega)
  have i1 : vp_in (nI t) 16 := vp_in_nI (by omega) (by decide)
  by_cases c1 : v2 < 1
  · unfold wpX_begin wpY_begin
    exact fx_it1 (by omega) ht (br_f (by decide) (br_t c1 (fx_nt0 (by omega) ht (br_t rfl (br_t c1 ⟨rfl, R⟩)))))
  by_cases c2 : v2 ≤ 6
  rotate_left
  · unfold wpX_begin wpY_begin
    exact fx_it1 (by omega) ht (br_f (by decide) (br_f c1 (br_f c2 (fx_nt0 (by omega) ht (br_t rfl (br_f c1 (br_f c2 ⟨rfl, R⟩)))))))
  have nt : po t = 0 → t ∉ fx_K L := fun z q => by
    obtain ⟨w, m⟩ := fx_memK.mp q
    exact fx_Gp0 g m z
  obtain ⟨op, hop, rfl⟩ := nI_of (show ¬ v2 < 0 from fun q => c1 (Int32.lt_of_le_of_lt (Int32.le_of_lt q) (by decide)))
  have o1 : 1 ≤ op := Nat.le_of_not_lt (fun q => c1 ((nI_ltI (b := 1) hop (by decide)).mpr q))
  have o2 : op ≤ 6 := (nI_leI (b := 6) hop (by decide)).mp c2
  have oc : op = 1 ∨ op = 2 ∨ op = 3 ∨ op = 4 ∨ op = 5 ∨ op = 6 := by omega
  clear c1 c2 hop o1 o2
  rcases oc with rfl | rfl | rfl | rfl | rfl | rfl
  · rcases pk_ix v3 (n := M) (by omega) with hx | hx | ⟨x, hx, rfl⟩
    · unfold wpX_begin wpY_begin wX_begin_38
      exact fx_it1 (by omega) ht (br_f (by decide) (br_f (by decide) (br_t (by decide) (br_f (by decide) (br_t hx (fx_nt0 (by omega) ht (br_t rfl (br_f (by decide) (br_t (by decide) (br_t hx ⟨rfl, R⟩))))))))))
    · have nx : ¬ v3 < 0 := fun q => nI_pos (n := M) (by omega) (Int32.lt_of_le_of_lt hx q)
      unfold wpX_begin wpY_begin wX_begin_38 wY_begin_43
      exact fx_it1 (by omega) ht (br_f (by decide) (br_f (by decide) (br_t (by decide) (br_f (by decide) (br_f nx (br_f (Int32.not_lt.mpr hx) (fx_nt0 (by omega) ht (br_t rfl (br_f (by decide) (br_t (by decide) (br_f nx (br_f (by decide) (br_f (Int32.not_lt.mpr hx) ⟨rfl, R⟩)))))))))))))
    · by_cases hp : po t = 0
      · refine fx_bX1 (y := x) g ht hp (nt hp) hx rfl (fx_xin f) (fun m u' h' => ?_) (fun m u' h' => ?_)
        · refine fx_bY1 (y := x) (mo := mo) g ht hp hx rfl (fx_yin fy) (fun _ v' h'' => ?_) (fun n => absurd m n)
          exact ⟨rfl, fx_mr h' h'' g (by omega)⟩
        · refine fx_bY1 (y := x) (mo := mo) g ht hp hx rfl (fx_yin fy) (fun n => absurd n m) (fun _ v' h'' => ?_)
          exact ⟨rfl, fx_mr h' h'' (fx_Gb1 g ht (nt hp) hx rfl) (by omega)⟩
      · have nx : ¬ nI x < 0 := nI_pos (by omega)
        have lx : nI x < nI M := nI_lt hx (by omega)
        unfold wpX_begin wpY_begin wX_begin_38 wY_begin_43
        dsimp only
        rw [ct]
        exact fx_it1 (by omega) ht (br_f (by decide) (br_f (by decide) (br_t (by decide) (br_f (by decide) (br_f nx (br_t lx (And.intro i1 (br_f hp (fx_nt0 (by omega) ht (br_t rfl (br_f (by decide) (br_t (by decide) (br_f nx (br_f (by decide) (br_t lx (And.intro i1 (br_f hp ⟨rfl, R⟩)))))))))))))))))
  · rcases pk_ix v3 (n := M) (by omega) with hx | hx | ⟨x, hx, rfl⟩
    · unfold wpX_begin wpY_begin wX_begin_38
      exact fx_it1 (by omega) ht (br_f (by decide) (br_f (by decide) (br_t (by decide) (br_f (by decide) (br_t hx (fx_nt0 (by omega) ht (br_t rfl (br_f (by decide) (br_t (by decide) (br_t hx ⟨rfl, R⟩))))))))))
    · have nx : ¬ v3 < 0 := fun q => nI_pos (n := M) (by omega) (Int32.lt_of_le_of_lt hx q)
      unfold wpX_begin wpY_begin wX_begin_38 wY_begin_43
      exact fx_it1 (by omega) ht (br_f (by decide) (br_f (by decide) (br_t (by decide) (br_f (by decide) (br_f nx (br_f (Int32.not_lt.mpr hx) (fx_nt0 (by omega) ht (br_t rfl (br_f (by decide) (br_t (by decide) (br_f nx (br_f (by decide) (br_f (Int32.not_lt.mpr hx) ⟨rfl, R⟩)))))))))))))
    · by_cases hp : po t = 0
      · refine fx_bX2 (y := x) g ht hp (nt hp) hx rfl (fx_xin f) (fun m u' h' => ?_) (fun m u' h' => ?_)
        · refine fx_bY2 (y := x) (mo := mo) g ht hp hx rfl (fx_yin fy) (fun _ v' h'' => ?_) (fun n => absurd m n)
          exact ⟨rfl, fx_mr h' h'' g (by omega)⟩
        · refine fx_bY2 (y := x) (mo := mo) g ht hp hx rfl (fx_yin fy) (fun n => absurd n m) (fun _ v' h'' => ?_)
          exact ⟨rfl, fx_mr h' h'' (fx_Gb2 g ht (nt hp) hx rfl) (by omega)⟩
      · have nx : ¬ nI x < 0 := nI_pos (by omega)
        have lx : nI x < nI M := nI_lt hx (by omega)
        unfold wpX_begin wpY_begin wX_begin_38 wY_begin_43
        dsimp only
        rw [ct]
        exact fx_it1 (by omega) ht (br_f (by decide) (br_f (by decide) (br_t (by decide) (br_f (by decide) (br_f nx (br_t lx (And.intro i1 (br_f hp (fx_nt0 (by omega) ht (br_t rfl (br_f (by decide) (br_t (by decide) (br_f nx (br_f (by decide) (br_t lx (And.intro i1 (br_f hp ⟨rfl, R⟩)))))))))))))))))
  · rcases pk_ix v3 (n := M) (by omega) with hx | hx | ⟨x, hx, rfl⟩
    · unfold wpX_begin wpY_begin wX_begin_38
      exact fx_it1 (by omega) ht (br_f (by decide) (br_f (by decide) (br_t (by decide) (br_f (by decide) (br_t hx (fx_nt0 (by omega) ht (br_t rfl (br_f (by decide) (br_t (by decide) (br_t hx ⟨rfl, R⟩))))))))))
    · have nx : ¬ v3 < 0 := fun q => nI_pos (n := M) (by omega) (Int32.lt_of_le_of_lt hx q)
      unfold wpX_begin wpY_begin wX_begin_38 wY_begin_43
      exact fx_it1 (by omega) ht (br_f (by decide) (br_f (by decide) (br_t (by decide) (br_f (by decide) (br_f nx (br_f (Int32.not_lt.mpr hx) (fx_nt0 (by omega) ht (br_t rfl (br_f (by decide) (br_t (by decide) (br_f nx (br_f (by decide) (br_f (Int32.not_lt.mpr hx) ⟨rfl, R⟩)))))))))))))
    · by_cases hp : po t = 0
      · refine fx_bX3 (y := x) g ht hp (nt hp) hx rfl (fx_xin f) (fun m u' h' => ?_) (fun m u' h' => ?_)
        · refine fx_bY3 (y := x) (mo := mo) g ht hp hx rfl (fx_yin fy) (fun _ v' h'' => ?_) (fun n => absurd m n)
          exact ⟨rfl, fx_mr h' h'' g (by omega)⟩
        · refine fx_bY3 (y := x) (mo := mo) g ht hp hx rfl (fx_yin fy) (fun n => absurd n m) (fun _ v' h'' => ?_)
          exact ⟨rfl, fx_mr h' h'' (fx_Gb3 g ht (nt hp) hx rfl) (by omega)⟩
      · have nx : ¬ nI x < 0 := nI_pos (by omega)
        have lx : nI x < nI M := nI_lt hx (by omega)
        unfold wpX_begin wpY_begin wX_begin_38 wY_begin_43
        dsimp only
        rw [ct]
        exact fx_it1 (by omega) ht (br_f (by decide) (br_f (by decide) (br_t (by decide) (br_f (by decide) (br_f nx (br_t lx (And.intro i1 (br_f hp (fx_nt0 (by omega) ht (br_t rfl (br_f (by decide) (br_t (by decide) (br_f nx (br_f (by decide) (br_t lx (And.intro i1 (br_f hp ⟨rfl, R⟩)))))))))))))))))
  · rcases pk_ix v3 (n := C) (by omega) with hx | hx | ⟨x, hx, rfl⟩
    · unfold wpX_begin wpY_begin wX_begin_38
      exact fx_it1 (by omega) ht (br_f (by decide) (br_f (by decide) (br_t (by decide) (br_t (by decide) (br_t hx (fx_nt0 (by omega) ht (br_t rfl (br_f (by decide) (br_t (by decide) (br_t hx ⟨rfl, R⟩))))))))))
    · have nx : ¬ v3 < 0 := fun q => nI_pos (n := C) (by omega) (Int32.lt_of_le_of_lt hx q)
      unfold wpX_begin wpY_begin wX_begin_38 wY_begin_43
      exact fx_it1 (by omega) ht (br_f (by decide) (br_f (by decide) (br_t (by decide) (br_t (by decide) (br_f nx (br_f (Int32.not_lt.mpr hx) (fx_nt0 (by omega) ht (br_t rfl (br_f (by decide) (br_t (by decide) (br_f nx (br_t (by decide) (br_f (Int32.not_lt.mpr hx) ⟨rfl, R⟩)))))))))))))
    · by_cases hp : po t = 0
      · refine fx_bX4 (y := (x % M)) g ht hp (nt hp) hx rfl (fx_xin f) (fun m u' h' => ?_) (fun m u' h' => ?_)
        · refine fx_bY4 (y := (x % M)) (mo := mo) g ht hp hx rfl (fx_yin fy) (fun _ v' h'' => ?_) (fun n => absurd m n)
          exact ⟨rfl, fx_mr h' h'' g (by omega)⟩
        · refine fx_bY4 (y := (x % M)) (mo := mo) g ht hp hx rfl (fx_yin fy) (fun n => absurd n m) (fun _ v' h'' => ?_)
          exact ⟨rfl, fx_mr h' h'' (fx_Gb4 g ht (nt hp) hx rfl) (by omega)⟩
      · have nx : ¬ nI x < 0 := nI_pos (by omega)
        have lx : nI x < nI C := nI_lt hx (by omega)
        unfold wpX_begin wpY_begin wX_begin_38 wY_begin_43
        dsimp only
        rw [ct]
        exact fx_it1 (by omega) ht (br_f (by decide) (br_f (by decide) (br_t (by decide) (br_t (by decide) (br_f nx (br_t lx (And.intro i1 (br_f hp (fx_nt0 (by omega) ht (br_t rfl (br_f (by decide) (br_t (by decide) (br_f nx (br_t (by decide) (br_t lx (And.intro i1 (br_f hp ⟨rfl, R⟩)))))))))))))))))
  · rcases pk_ix v3 (n := C) (by omega) with hx | hx | ⟨x, hx, rfl⟩
    · unfold wpX_begin wpY_begin wX_begin_38
      exact fx_it1 (by omega) ht (br_f (by decide) (br_f (by decide) (br_t (by decide) (br_t (by decide) (br_t hx (fx_nt0 (by omega) ht (br_t rfl (br_f (by decide) (br_t (by decide) (br_t hx ⟨rfl, R⟩))))))))))
    · have nx : ¬ v3 < 0 := fun q => nI_pos (n := C) (by omega) (Int32.lt_of_le_of_lt hx q)
      unfold wpX_begin wpY_begin wX_begin_38 wY_begin_43
      exact fx_it1 (by omega) ht (br_f (by decide) (br_f (by decide) (br_t (by decide) (br_t (by decide) (br_f nx (br_f (Int32.not_lt.mpr hx) (fx_nt0 (by omega) ht (br_t rfl (br_f (by decide) (br_t (by decide) (br_f nx (br_t (by decide) (br_f (Int32.not_lt.mpr hx) ⟨rfl, R⟩)))))))))))))
    · by_cases hp : po t = 0
      · refine fx_bX5 (y := (x % M)) g ht hp (nt hp) hx rfl (fx_xin f) (fun m u' h' => ?_) (fun m u' h' => ?_)
        · refine fx_bY5 (y := (x % M)) (mo := mo) g ht hp hx rfl (fx_yin fy) (fun _ v' h'' => ?_) (fun n => absurd m n)
          exact ⟨rfl, fx_mr h' h'' g (by omega)⟩
        · refine fx_bY5 (y := (x % M)) (mo := mo) g ht hp hx rfl (fx_yin fy) (fun n => absurd n m) (fun _ v' h'' => ?_)
          exact ⟨rfl, fx_mr h' h'' (fx_Gb5 g ht (nt hp) hx rfl) (by omega)⟩
      · have nx : ¬ nI x < 0 := nI_pos (by omega)
        have lx : nI x < nI C := nI_lt hx (by omega)
        unfold wpX_begin wpY_begin wX_begin_38 wY_begin_43
        dsimp only
        rw [ct]
        exact fx_it1 (by omega) ht (br_f (by decide) (br_f (by decide) (br_t (by decide) (br_t (by decide) (br_f nx (br_t lx (And.intro i1 (br_f hp (fx_nt0 (by omega) ht (br_t rfl (br_f (by decide) (br_t (by decide) (br_f nx (br_t (by decide) (br_t lx (And.intro i1 (br_f hp ⟨rfl, R⟩)))))))))))))))))
  · rcases pk_ix v3 (n := C) (by omega) with hx | hx | ⟨x, hx, rfl⟩
    · unfold wpX_begin wpY_begin wX_begin_38
      exact fx_it1 (by omega) ht (br_f (by decide) (br_f (by decide) (br_t (by decide) (br_t (by decide) (br_t hx (fx_nt0 (by omega) ht (br_t rfl (br_f (by decide) (br_t (by decide) (br_t hx ⟨rfl, R⟩))))))))))
    · have nx : ¬ v3 < 0 := fun q => nI_pos (n := C) (by omega) (Int32.lt_of_le_of_lt hx q)
      unfold wpX_begin wpY_begin wX_begin_38 wY_begin_43
      exact fx_it1 (by omega) ht (br_f (by decide) (br_f (by decide) (br_t (by decide) (br_t (by decide) (br_f nx (br_f (Int32.not_lt.mpr hx) (fx_nt0 (by omega) ht (br_t rfl (br_f (by decide) (br_t (by decide) (br_f nx (br_t (by decide) (br_f (Int32.not_lt.mpr hx) ⟨rfl, R⟩)))))))))))))
    · by_cases hp : po t = 0
      · refine fx_bX6 (y := (x % M)) g ht hp (nt hp) hx rfl (fx_xin f) (fun m u' h' => ?_) (fun m u' h' => ?_)
        · refine fx_bY6 (y := (x % M)) (mo := mo) g ht hp hx rfl (fx_yin fy) (fun _ v' h'' => ?_) (fun n => absurd m n)
          exact ⟨rfl, fx_mr h' h'' g (by omega)⟩
        · refine fx_bY6 (y := (x % M)) (mo := mo) g ht hp hx rfl (fx_yin fy) (fun n => absurd n m) (fun _ v' h'' => ?_)
          exact ⟨rfl, fx_mr h' h'' (fx_Gb6 g ht (nt hp) hx rfl) (by omega)⟩
      · have nx : ¬ nI x < 0 := nI_pos (by omega)
        have lx : nI x < nI C := nI_lt hx (by omega)
        unfold wpX_begin wpY_begin wX_begin_38 wY_begin_43
        dsimp only
        rw [ct]
        exact fx_it1 (by omega) ht (br_f (by decide) (br_f (by decide) (br_t (by decide) (br_t (by decide) (br_f nx (br_t lx (And.intro i1 (br_f hp (fx_nt0 (by omega) ht (br_t rfl (br_f (by decide) (br_t (by decide) (br_f nx (br_t (by decide) (br_t lx (And.intro i1 (br_f hp ⟨rfl, R⟩)))))))))))))))))
end
