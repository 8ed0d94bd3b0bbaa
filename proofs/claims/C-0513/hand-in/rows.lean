section
section WL01
/-! rows of kit/rows, pasted -/
theorem pk_us {f : Nat → Int32} {k : Nat} {x : Int32} : upd f k x k = x := if_pos rfl
theorem pk_un {f : Nat → Int32} {k j : Nat} {x : Int32} (h : j ≠ k) : upd f k x j = f j := if_neg h
theorem pk_sub {a b : Nat} (h : b ≤ a) : nI a - nI b = nI (a - b) := by
  obtain ⟨c, rfl⟩ : ∃ c, a = c + b := ⟨a - b, by omega⟩
  rw [← nI_add, Int32.add_sub_cancel, Nat.add_sub_cancel]
theorem pk_m1 (n : Nat) : nI (n + 1) + (-1) = nI n := by
  rw [← nI_1, Int32.add_assoc, show (1 : Int32) + (-1) = 0 from rfl, Int32.add_zero]
theorem pk_mul (a b : Nat) : nI a * nI b = nI (a * b) := (Int32.ofNat_mul a b).symm
theorem pk_sub_toInt {a b : Nat} (ha : a < 2 ^ 30) (hb : b < 2 ^ 30) : (nI a - nI b).toInt = (a : Int) - b := by
  rw [Int32.toInt_sub, nI_toInt (by omega), nI_toInt (by omega)]
  exact Int.bmod_eq_of_le (by omega) (by omega)
theorem pk_sneg {a b : Nat} (hb : b < 2 ^ 30) (h : a < b) : nI a - nI b < 0 := by
  rw [Int32.lt_iff_toInt_lt, pk_sub_toInt (by omega) hb, show (0 : Int32).toInt = 0 from by decide]
  omega
theorem pk_le {x y : Int32} {A B : Prop} (a b : Nat) (f : a ≤ b → A) (g : b < a → B) (hx : x = nI a := by rfl) (hy : y = nI b := by rfl) (ha : a < 2 ^ 31 := by omega) (hb : b < 2 ^ 31 := by omega) : (x ≤ y → A) ∧ (¬ x ≤ y → B) := by
  subst hx hy
  rw [nI_leI ha hb]
  exact ⟨f, fun z => g (by omega)⟩
theorem pk_lt {x y : Int32} {A B : Prop} (a b : Nat) (f : a < b → A) (g : b ≤ a → B) (hx : x = nI a := by rfl) (hy : y = nI b := by rfl) (ha : a < 2 ^ 31 := by omega) (hb : b < 2 ^ 31 := by omega) : (x < y → A) ∧ (¬ x < y → B) := by
  subst hx hy
  rw [nI_ltI ha hb]
  exact ⟨f, fun z => g (by omega)⟩
theorem pk_eq {x y : Int32} {A B : Prop} (a b : Nat) (f : a = b → A) (g : a ≠ b → B) (hx : x = nI a := by rfl) (hy : y = nI b := by rfl) (ha : a < 2 ^ 31 := by omega) (hb : b < 2 ^ 31 := by omega) : (x = y → A) ∧ (¬ x = y → B) := by
  subst hx hy
  rw [nI_eq ha hb]
  exact ⟨f, g⟩
theorem pk_in {x : Int32} (n N : Nat) (h : n < N) (hx : x = nI n := by rfl) (hN : N < 2 ^ 31 := by omega) : vp_in x N := by
  subst hx
  exact vp_in_nI h hN
theorem pk_cl {x : Int32} (n : Nat) (hx : x = nI n := by rfl) (h : n < 2 ^ 31 := by omega) : x.toNatClampNeg = n := by
  subst hx
  exact nI_clamp h
theorem pk_tn {n : Nat} (h : n < 2 ^ 32) : (nI n).toBitVec.toNat = n := Nat.mod_eq_of_lt h
theorem pk_and (x : Int32) {m : Int32} (k : Nat) (hm : m.toBitVec.toNat = 2 ^ k - 1) : x &&& m = nI (x.toBitVec.toNat % 2 ^ k) := by
  apply Int32.toBitVec_inj.mp
  apply BitVec.eq_of_toNat_eq
  rw [Int32.toBitVec_and, BitVec.toNat_and, hm, Nat.and_two_pow_sub_one_eq_mod]
  show _ = (BitVec.ofNat 32 _).toNat
  rw [BitVec.toNat_ofNat]
  exact (Nat.mod_eq_of_lt (Nat.lt_of_le_of_lt (Nat.mod_le _ _) x.toBitVec.isLt)).symm
theorem pk_andN {n : Nat} (h : n < 2 ^ 32) {m : Int32} (k : Nat) (hm : m.toBitVec.toNat = 2 ^ k - 1) : nI n &&& m = nI (n % 2 ^ k) := by
  rw [pk_and _ k hm, pk_tn h]
theorem pk_andE (x : Int32) {m : Int32} (k : Nat) (hm : m.toBitVec.toNat = 2 ^ k - 1) : ∃ j : Nat, j < 2 ^ k ∧ x &&& m = nI j := ⟨_, Nat.mod_lt _ (Nat.two_pow_pos k), pk_and x k hm⟩
theorem pk_shl (a s : Int32) (k : Nat) (hs : (s.toBitVec.smod 32).toNat = k) : (a <<< s).toBitVec.toNat = a.toBitVec.toNat * 2 ^ k % 2 ^ 32 := by
  show (a.toBitVec <<< (s.toBitVec.smod 32).toNat).toNat = _
  rw [hs, BitVec.toNat_shiftLeft, Nat.shiftLeft_eq]
theorem pk_shlN {n : Nat} (s : Int32) (k : Nat) (hs : (s.toBitVec.smod 32).toNat = k) (h : n * 2 ^ k < 2 ^ 32) : nI n <<< s = nI (n * 2 ^ k) := by
  apply Int32.toBitVec_inj.mp
  apply BitVec.eq_of_toNat_eq
  have hn : n < 2 ^ 32 := Nat.lt_of_le_of_lt (Nat.le_mul_of_pos_right n (Nat.two_pow_pos k)) h
  rw [pk_shl _ _ k hs, pk_tn hn, pk_tn h, Nat.mod_eq_of_lt h]
theorem pk_shr (a s : Int32) (k : Nat) (hs : (s.toBitVec.smod 32).toNat = k) : (a >>> s).toInt = a.toInt >>> k := by
  show (a.toBitVec.sshiftRight (s.toBitVec.smod 32).toNat).toInt = _
  rw [hs, BitVec.toInt_sshiftRight]
  rfl
theorem pk_shrN {n : Nat} (h : n < 2 ^ 31) (s : Int32) (k : Nat) (hs : (s.toBitVec.smod 32).toNat = k) : nI n >>> s = nI (n / 2 ^ k) := by
  apply Int32.toInt_inj.mp
  have h2 : n / 2 ^ k ≤ n := Nat.div_le_self _ _
  rw [pk_shr _ _ k hs, nI_toInt h, nI_toInt (by omega), Int.shiftRight_eq_div_pow]
  rfl
theorem s_l : ∀ n, n < 32 → ((nI n &&& 31).toBitVec.smod 32).toNat = n := by decide +kernel
theorem nx_and (a b : Nat) : nI a &&& nI b = nI (a &&& b) := by
  apply Int32.toBitVec_inj.1
  show BitVec.ofNat 32 a &&& BitVec.ofNat 32 b = BitVec.ofNat 32 (a &&& b)
  apply BitVec.eq_of_getLsbD_eq
  intro i hi
  simp [hi]
theorem nx_cnt : ∀ j : Fin 32, (UInt32.ofNat j.val &&& Int32.toUInt32 31).toNat % 32 = j.val := by decide +kernel
theorem nx_ush {k j : Nat} (hk : k < 65536) (hj : j < 32) : ((nI k).toUInt32 >>> ((nI j).toUInt32 &&& Int32.toUInt32 31)).toInt32 = nI (k >>> j) := by
  have hs : k >>> j ≤ k := by
    rw [Nat.shiftRight_eq_div_pow]
    exact Nat.div_le_self _ _
  have e2 : UInt32.ofNat k >>> (UInt32.ofNat j &&& Int32.toUInt32 31) = UInt32.ofNat (k >>> j) := by
    apply UInt32.toNat_inj.1
    have h1 : (UInt32.ofNat k).toNat = k := Nat.mod_eq_of_lt (by omega)
    have h2 : (UInt32.ofNat (k >>> j)).toNat = k >>> j := Nat.mod_eq_of_lt (by omega)
    rw [UInt32.toNat_shiftRight, nx_cnt ⟨j, hj⟩, h1, h2]
  show (UInt32.ofNat k >>> (UInt32.ofNat j &&& Int32.toUInt32 31)).toInt32 = _
  rw [e2]
  rfl
theorem nx_bit {k j : Nat} (hk : k < 65536) (hj : j < 16) : (((nI k).toUInt32 >>> ((nI j).toUInt32 &&& Int32.toUInt32 31)).toInt32 &&& 1) = 0 ↔ k.testBit j = false := by
  rw [nx_ush hk (by omega)]
  show nI (k >>> j) &&& nI 1 = 0 ↔ _
  rw [nx_and, Nat.and_one_is_mod, ← nI_0, nI_eq (by omega) (by omega), Nat.testBit_eq_decide_div_mod_eq, Nat.shiftRight_eq_div_pow, decide_eq_false_iff_not]
  generalize k / 2 ^ j = z
  omega
/-! own rows: numbers -/
theorem qn_m1lt : (-1 : Int32) < 0 := by decide
theorem qn_m1le : ¬ (0 : Int32) ≤ -1 := by decide
theorem qn_nlt {x : Int32} (h : 0 ≤ x) : ¬ x < 0 := Int32.not_lt.mpr h
theorem qn_ge {x : Int32} (h : ¬ x < 0) : 0 ≤ x := Int32.not_lt.mp h
theorem qn_nge {x : Int32} (h : x < 0) : ¬ 0 ≤ x := Int32.not_le.mpr h
theorem qn_ltn {x : Int32} (h : ¬ 0 ≤ x) : x < 0 := Int32.not_le.mp h
theorem qn_ne1 {a : Nat} (h : a < 2 ^ 31) : nI a ≠ -1 := by
  intro e
  have h1 := nI_pos' h
  rw [e] at h1
  exact qn_m1le h1
theorem qn_inj {a b : Nat} (h : nI a = nI b) (ha : a < 2 ^ 31) (hb : b < 2 ^ 31) : a = b := (nI_eq ha hb).mp h
theorem qn_00 : (0 : Int32) ≤ 0 := by decide
/-- no room for n + 1 different numbers below n -/
theorem ph_no : ∀ (N : Nat) (F : Nat → Nat), (∀ i, i ≤ N → F i < N) → (∀ i j, i ≤ N → j ≤ N → F i = F j → i = j) → False := by
  intro N
  induction N with
  | zero => intro F hF _; exact absurd (hF 0 (Nat.le_refl 0)) (Nat.not_lt_zero _)
  | succ N ih =>
    intro F hF inj
    refine ih (fun i => if F i = N then F (N + 1) else F i) ?_ ?_
    · intro i hi
      show (if F i = N then F (N + 1) else F i) < N
      have h1 := hF i (by omega)
      have h2 := hF (N + 1) (by omega)
      by_cases e : F i = N
      · rw [if_pos e]
        have h3 : F (N + 1) ≠ N := by
          intro e2
          have h4 := inj i (N + 1) (by omega) (by omega) (by omega)
          omega
        omega
      · rw [if_neg e]; omega
    · intro i j hi hj e
      have e' : (if F i = N then F (N + 1) else F i) = (if F j = N then F (N + 1) else F j) := e
      by_cases a : F i = N
      · by_cases b : F j = N
        · exact inj i j (by omega) (by omega) (by omega)
        · rw [if_pos a, if_neg b] at e'
          have h4 := inj (N + 1) j (by omega) (by omega) e'
          omega
      · by_cases b : F j = N
        · rw [if_neg a, if_pos b] at e'
          have h4 := inj i (N + 1) (by omega) (by omega) e'
          omega
        · rw [if_neg a, if_neg b] at e'
          exact inj i j (by omega) (by omega) e'
/-! segments of letters -/
def tq_cl (x : Int32) : Nat := x.toNatClampNeg
theorem tq_clN {n : Nat} (h : n < 2 ^ 31) : tq_cl (nI n) = n := nI_clamp h
def tq_sg (a : Nat → Int32) (i : Nat) : Nat → List Nat
  | 0 => []
  | n + 1 => tq_sg a i n ++ [tq_cl (a (i + n))]
theorem tq_sg0 {a : Nat → Int32} {i : Nat} : tq_sg a i 0 = [] := rfl
theorem tq_sgs {a : Nat → Int32} {i n : Nat} : tq_sg a i (n + 1) = tq_sg a i n ++ [tq_cl (a (i + n))] := rfl
theorem tq_len (a : Nat → Int32) (i n : Nat) : (tq_sg a i n).length = n := by
  induction n with
  | zero => rfl
  | succ n ih => rw [tq_sgs, List.length_append, ih]; rfl
theorem tq_take (a : Nat → Int32) (i n j : Nat) (h : j ≤ n) : (tq_sg a i n).take j = tq_sg a i j := by
  induction n with
  | zero =>
    have e : j = 0 := by omega
    rw [e]; rfl
  | succ n ih =>
    rcases Nat.lt_or_ge n j with h1 | h1
    · have e : j = n + 1 := by omega
      rw [e]
      exact List.take_of_length_le (by rw [tq_len]; omega)
    · rw [tq_sgs, List.take_append_of_le_length (by rw [tq_len]; exact h1)]
      exact ih h1
theorem tq_ext {a b : Nat → Int32} {i j : Nat} : ∀ n, (∀ t, t < n → tq_cl (a (i + t)) = tq_cl (b (j + t))) → tq_sg a i n = tq_sg b j n := by
  intro n
  induction n with
  | zero => intro _; rfl
  | succ n ih =>
    intro h
    rw [tq_sgs, tq_sgs, ih (fun t ht => h t (by omega)), h n (by omega)]
theorem tq_snoc {p q : List Nat} {a b : Nat} (h : p ++ [a] = q ++ [b]) : p = q ∧ a = b := by
  have h1 := List.append_inj' h rfl
  exact ⟨h1.1, (List.cons.inj h1.2).1⟩
theorem tq_self {p : List Nat} {a : Nat} (h : p = p ++ [a]) : False := by
  have h1 := congrArg List.length h
  rw [List.length_append] at h1
  have h2 : [a].length = 1 := rfl
  omega
theorem tq_nil {p : List Nat} {a : Nat} (h : [] = p ++ [a]) : False := by
  have h1 := congrArg List.length h
  rw [List.length_append] at h1
  have h2 : [a].length = 1 := rfl
  have h3 : ([] : List Nat).length = 0 := rfl
  omega
theorem tq_inv {a b : Nat → Int32} {i j : Nat} : ∀ n, tq_sg a i n = tq_sg b j n → ∀ t, t < n → tq_cl (a (i + t)) = tq_cl (b (j + t)) := by
  intro n
  induction n with
  | zero => intro _ t ht; omega
  | succ n ih =>
    intro h t ht
    rw [tq_sgs, tq_sgs] at h
    have h1 := tq_snoc h
    rcases Nat.lt_or_ge t n with h2 | h2
    · exact ih h1.1 t h2
    · have e : t = n := by omega
      rw [e]; exact h1.2
def tq_L (a : Nat → Int32) : Prop := ∀ i, ∃ l, l < 4 ∧ a i = nI l
theorem tq_lt {a : Nat → Int32} (h : tq_L a) (i : Nat) : tq_cl (a i) < 4 := by
  obtain ⟨l, hl, e⟩ := h i
  rw [e, tq_clN (by omega)]; exact hl
theorem tq_nI {a : Nat → Int32} (h : tq_L a) (i : Nat) : a i = nI (tq_cl (a i)) := by
  obtain ⟨l, hl, e⟩ := h i
  rw [e, tq_clN (by omega)]
theorem tq_eq {a b : Nat → Int32} (ha : tq_L a) (hb : tq_L b) {x y : Nat} : a x = b y ↔ tq_cl (a x) = tq_cl (b y) := by
  constructor
  · intro e; rw [e]
  · intro e; rw [tq_nI ha x, tq_nI hb y, e]
theorem tq_Lu {a : Nat → Int32} (h : tq_L a) (k : Nat) (x : Int32) : tq_L (upd a k (x &&& 3)) := by
  intro i
  by_cases e : i = k
  · rw [e, pk_us]
    exact pk_andE x 2 (by decide)
  · rw [pk_un e]; exact h i
theorem tq_L0 : tq_L (fun _ => 0) := fun _ => ⟨0, by omega, rfl⟩
theorem tq_upd {a : Nat → Int32} {k : Nat} {x : Int32} {i : Nat} : ∀ n, i + n ≤ k → tq_sg (upd a k x) i n = tq_sg a i n := by
  intro n h
  exact tq_ext n (fun t ht => by rw [pk_un (by omega)])
end WL01
end
section
section WL02
/-! the tree in two arrays, as a map of the cells to paths -/
def tr_v (ck : Nat → Int32) (c : Nat) : Prop := c < 512 ∧ 0 ≤ ck c
/-- pos: the cell of a state's child by a letter; ex: the one cell whose parent may be gone (0: none) -/
def tr_S (ex : Nat) (pos : Nat → Nat → Nat) (P : Nat → List Nat) (ck : Nat → Int32) : Prop :=
  ck 0 = 0 ∧ P 0 = [] ∧
  (∀ c, tr_v ck c → c ≠ 0 → c ≠ ex → ∃ s l, tr_v ck s ∧ l < 4 ∧ ck c = nI s ∧ c = pos s l ∧ P c = P s ++ [l]) ∧
  (∀ c d, tr_v ck c → tr_v ck d → P c = P d → c = d)
def tr_P (P : Nat → List Nat) (LP : List Nat → Prop) (f : List Nat → Nat) (g h : List Nat → Int32) (ck co ki wb : Nat → Int32) : Prop :=
  (∀ c, tr_v ck c → LP (P c) ∧ wb c = nI (f (P c)) ∧ co c = g (P c) ∧ (0 ≤ g (P c) → ki c = h (P c))) ∧
  (∀ p, LP p → ∃ c, tr_v ck c ∧ P c = p)
def tr_b (bs : Nat → Int32) : Prop := ∀ c, c < 512 → ∃ B, B ≤ 500 ∧ bs c = nI B
def tr_pos (bs : Nat → Int32) (s l : Nat) : Nat := tq_cl (bs s) + l + 1
def tr_I (ex : Nat) (P : Nat → List Nat) (LP : List Nat → Prop) (f : List Nat → Nat) (g h : List Nat → Int32) (bs ck co ki wb : Nat → Int32) : Prop :=
  tr_b bs ∧ tr_S ex (tr_pos bs) P ck ∧ tr_P P LP f g h ck co ki wb
theorem tr_v0 {ck : Nat → Int32} (h : ck 0 = 0) : tr_v ck 0 := ⟨by omega, by rw [h]; exact qn_00⟩
theorem tr_vn {ck : Nat → Int32} {c s : Nat} (hc : c < 512) (hs : s < 512) (h : ck c = nI s) : tr_v ck c := ⟨hc, by rw [h]; exact nI_pos' (by omega)⟩
theorem tr_vd {ck : Nat → Int32} {c d : Nat} (vc : tr_v ck c) (hd : ck d < 0) : c ≠ d := by
  intro e
  rw [e] at vc
  exact qn_nge hd vc.2
theorem tr_bB {bs : Nat → Int32} (h : tr_b bs) {s : Nat} (hs : s < 512) : tq_cl (bs s) ≤ 500 ∧ bs s = nI (tq_cl (bs s)) := by
  obtain ⟨B, hB, e⟩ := h s hs
  rw [e, tq_clN (by omega)]
  exact ⟨hB, rfl⟩
theorem tr_bu {bs : Nat → Int32} (h : tr_b bs) (c B : Nat) (hB : B ≤ 500) : tr_b (upd bs c (nI B)) := by
  intro d hd
  by_cases e : d = c
  · rw [e, pk_us]; exact ⟨B, hB, rfl⟩
  · rw [pk_un e]; exact h d hd
/-- the child is where it must be -/
theorem tr_par {ex : Nat} {pos : Nat → Nat → Nat} {P : Nat → List Nat} {ck : Nat → Int32} (S : tr_S ex pos P ck) {s c l : Nat} (vs : tr_v ck s) (vc : tr_v ck c) (hx : c ≠ ex) (e : P c = P s ++ [l]) : ck c = nI s ∧ c = pos s l ∧ l < 4 := by
  have c0 : c ≠ 0 := by
    intro z
    rw [z, S.2.1] at e
    exact tq_nil e
  obtain ⟨s1, l1, v1, h1, e1, p1, P1⟩ := S.2.2.1 c vc c0 hx
  have h2 := tq_snoc (P1.symm.trans e)
  have h3 := S.2.2.2 s1 s v1 vs h2.1
  rw [h3] at e1 p1
  rw [h2.2] at p1 h1
  exact ⟨e1, p1, h1⟩
theorem tr_chi {ex : Nat} {bs : Nat → Int32} {P : Nat → List Nat} {ck : Nat → Int32} (S : tr_S ex (tr_pos bs) P ck) {s l : Nat} (hs : s < 512) (hc : tr_pos bs s l < 512) (hx : tr_pos bs s l ≠ ex) (e : ck (tr_pos bs s l) = nI s) : tr_v ck (tr_pos bs s l) ∧ P (tr_pos bs s l) = P s ++ [l] := by
  have v := tr_vn hc hs e
  have c0 : tr_pos bs s l ≠ 0 := by unfold tr_pos; omega
  obtain ⟨s1, l1, v1, h1, e1, p1, P1⟩ := S.2.2.1 _ v c0 hx
  have h3 : s1 = s := qn_inj (e1.symm.trans e) (by have := v1.1; omega) (by omega)
  rw [h3] at p1 P1
  have h4 : l1 = l := by
    unfold tr_pos at p1
    omega
  rw [h4] at P1
  exact ⟨v, P1⟩
theorem tr_pre {pos : Nat → Nat → Nat} {P : Nat → List Nat} {LP : List Nat → Prop} {f : List Nat → Nat} {g h : List Nat → Int32} {ck co ki wb : Nat → Int32} (S : tr_S 0 pos P ck) (Q : tr_P P LP f g h ck co ki wb) {p : List Nat} {l : Nat} (hp : LP (p ++ [l])) : LP p := by
  obtain ⟨c, v, e⟩ := Q.2 _ hp
  have c0 : c ≠ 0 := by
    intro z
    rw [z, S.2.1] at e
    exact tq_nil e
  obtain ⟨s1, l1, v1, h1, e1, p1, P1⟩ := S.2.2.1 c v c0 c0
  have h2 := tq_snoc (P1.symm.trans e)
  rw [← h2.1]
  exact (Q.1 s1 v1).1
theorem tr_sgp {pos : Nat → Nat → Nat} {P : Nat → List Nat} {LP : List Nat → Prop} {f : List Nat → Nat} {g h : List Nat → Int32} {ck co ki wb : Nat → Int32} (S : tr_S 0 pos P ck) (Q : tr_P P LP f g h ck co ki wb) {a : Nat → Int32} {i : Nat} : ∀ m j, j ≤ m → LP (tq_sg a i m) → LP (tq_sg a i j) := by
  intro m
  induction m with
  | zero =>
    intro j hj h1
    have e : j = 0 := by omega
    rw [e]; exact h1
  | succ m ih =>
    intro j hj h1
    rcases Nat.lt_or_ge m j with h2 | h2
    · have e : j = m + 1 := by omega
      rw [e]; exact h1
    · exact ih j h2 (tr_pre S Q (by rw [tq_sgs] at h1; exact h1))
/-- another place for what isn't there -/
theorem tr_Sc {ex : Nat} {pos pos' : Nat → Nat → Nat} {P : Nat → List Nat} {ck : Nat → Int32} (S : tr_S ex pos P ck) (h : ∀ s l, tr_v ck s → l < 4 → tr_v ck (pos s l) → P (pos s l) = P s ++ [l] → pos' s l = pos s l) : tr_S ex pos' P ck := by
  refine ⟨S.1, S.2.1, ?_, S.2.2.2⟩
  intro c v c0 cx
  obtain ⟨s1, l1, v1, h1, e1, p1, P1⟩ := S.2.2.1 c v c0 cx
  refine ⟨s1, l1, v1, h1, e1, ?_, P1⟩
  rw [p1] at v P1
  rw [h s1 l1 v1 h1 v P1]
  exact p1
theorem tr_Pc {P : Nat → List Nat} {LP LP' : List Nat → Prop} {f f' : List Nat → Nat} {g h g' h' : List Nat → Int32} {ck co ki wb : Nat → Int32} (Q : tr_P P LP f g h ck co ki wb) (hL : ∀ p, LP p ↔ LP' p) (hf : ∀ p, LP p → f p = f' p) (hg : ∀ p, LP p → g p = g' p) (hh : ∀ p, LP p → 0 ≤ g p → h p = h' p) : tr_P P LP' f' g' h' ck co ki wb := by
  refine ⟨?_, ?_⟩
  · intro c v
    obtain ⟨a1, a2, a3, a4⟩ := Q.1 c v
    refine ⟨(hL _).mp a1, by rw [a2, hf _ a1], by rw [a3, hg _ a1], ?_⟩
    intro z
    rw [← hg _ a1] at z
    rw [a4 z, hh _ a1 z]
  · intro p hp
    exact Q.2 p ((hL p).mpr hp)
/-! a cell moved -/
def tr_rl (ck : Nat → Int32) (B a b k : Nat) : Nat → Int32 := fun j => if B < j ∧ j < B + k ∧ ck j = nI a then nI b else ck j
theorem tr_rl1 {ck : Nat → Int32} {B a b : Nat} : tr_rl ck B a b 1 = ck := by
  funext j
  exact if_neg (by omega)
theorem tr_rls {ck : Nat → Int32} {B a b k : Nat} : tr_rl ck B a b k (B + k) = ck (B + k) := if_neg (by omega)
theorem tr_rlt {ck : Nat → Int32} {B a b k : Nat} (hk : 1 ≤ k) (h : ck (B + k) = nI a) : upd (tr_rl ck B a b k) (B + k) (nI b) = tr_rl ck B a b (k + 1) := by
  funext j
  show (if j = B + k then nI b else (if B < j ∧ j < B + k ∧ ck j = nI a then nI b else ck j)) = (if B < j ∧ j < B + (k + 1) ∧ ck j = nI a then nI b else ck j)
  by_cases e : j = B + k
  · rw [if_pos e, if_pos ⟨by omega, by omega, by rw [e]; exact h⟩]
  · rw [if_neg e]
    by_cases c : B < j ∧ j < B + k ∧ ck j = nI a
    · rw [if_pos c, if_pos ⟨c.1, by omega, c.2.2⟩]
    · rw [if_neg c, if_neg (fun z => c ⟨z.1, by omega, z.2.2⟩)]
theorem tr_rlf {ck : Nat → Int32} {B a b k : Nat} (h : ¬ ck (B + k) = nI a) : tr_rl ck B a b k = tr_rl ck B a b (k + 1) := by
  funext j
  show (if B < j ∧ j < B + k ∧ ck j = nI a then nI b else ck j) = (if B < j ∧ j < B + (k + 1) ∧ ck j = nI a then nI b else ck j)
  by_cases e : j = B + k
  · rw [if_neg (by omega), if_neg (fun z => h (by rw [← e]; exact z.2.2))]
  · by_cases c : B < j ∧ j < B + k ∧ ck j = nI a
    · rw [if_pos c, if_pos ⟨c.1, by omega, c.2.2⟩]
    · rw [if_neg c, if_neg (fun z => c ⟨z.1, by omega, z.2.2⟩)]
def tr_ck (ck : Nat → Int32) (B a b : Nat) : Nat → Int32 := upd (tr_rl (upd ck b (ck a)) B a b 5) a (-1)
def tr_mP (P : Nat → List Nat) (a b : Nat) : Nat → List Nat := fun c => if c = b then P a else P c
def tr_mp (pos : Nat → Nat → Nat) (a b s l : Nat) : Nat → Nat → Nat := fun c t => if c = b then pos a t else if c = s ∧ t = l then b else pos c t
theorem tr_mPb {P : Nat → List Nat} {a b : Nat} : tr_mP P a b b = P a := if_pos rfl
theorem tr_mPo {P : Nat → List Nat} {a b c : Nat} (h : c ≠ b) : tr_mP P a b c = P c := if_neg h
theorem tr_cka {ck : Nat → Int32} {B a b : Nat} : tr_ck ck B a b a = -1 := pk_us
theorem tr_ckb {ck : Nat → Int32} {B a b : Nat} (h : b ≠ a) (hs : ck a ≠ nI a) : tr_ck ck B a b b = ck a := by
  unfold tr_ck
  rw [pk_un h]
  show (if B < b ∧ b < B + 5 ∧ upd ck b (ck a) b = nI a then nI b else upd ck b (ck a) b) = ck a
  rw [pk_us, if_neg (fun z => hs z.2.2)]
theorem tr_cko {pos : Nat → Nat → Nat} {P : Nat → List Nat} {ck : Nat → Int32} {B a b c : Nat} (S : tr_S 0 pos P ck) (va : tr_v ck a) (a0 : a ≠ 0) (hB : ∀ t, t < 4 → pos a t = B + t + 1) (hc : c < 512) (ca : c ≠ a) (cb : c ≠ b) : tr_ck ck B a b c = if ck c = nI a then nI b else ck c := by
  unfold tr_ck
  rw [pk_un ca]
  show (if B < c ∧ c < B + 5 ∧ upd ck b (ck a) c = nI a then nI b else upd ck b (ck a) c) = _
  rw [pk_un cb]
  by_cases e : ck c = nI a
  · have v := tr_vn hc va.1 e
    have c0 : c ≠ 0 := by
      intro z
      rw [z, S.1, ← nI_0] at e
      exact a0 (qn_inj e.symm (by have := va.1; omega) (by omega))
    obtain ⟨s1, l1, v1, h1, e1, p1, P1⟩ := S.2.2.1 c v c0 c0
    have h3 : s1 = a := qn_inj (e1.symm.trans e) (by have := v1.1; omega) (by have := va.1; omega)
    rw [h3, hB l1 h1] at p1
    rw [if_pos ⟨by omega, by omega, e⟩, if_pos e]
  · rw [if_neg (fun z => e z.2.2), if_neg e]
theorem tr_mvv {pos : Nat → Nat → Nat} {P : Nat → List Nat} {ck : Nat → Int32} {B a b : Nat} (S : tr_S 0 pos P ck) (va : tr_v ck a) (a0 : a ≠ 0) (hb : b < 512) (db : ck b < 0) (hs : ck a ≠ nI a) (hB : ∀ t, t < 4 → pos a t = B + t + 1) (c : Nat) : tr_v (tr_ck ck B a b) c ↔ c ≠ a ∧ (c = b ∨ tr_v ck c) := by
  have ab := tr_vd va db
  by_cases ca : c = a
  · constructor
    · intro v
      rw [ca] at v
      exact absurd v.2 (by rw [tr_cka]; exact qn_m1le)
    · intro z
      exact absurd ca z.1
  · by_cases cb : c = b
    · constructor
      · intro _
        exact ⟨ca, Or.inl cb⟩
      · intro _
        rw [cb]
        exact ⟨hb, by rw [tr_ckb (Ne.symm ab) hs]; exact va.2⟩
    · constructor
      · intro v
        refine ⟨ca, Or.inr ⟨v.1, ?_⟩⟩
        have h1 := v.2
        rw [tr_cko S va a0 hB v.1 ca cb] at h1
        by_cases e : ck c = nI a
        · rw [e]; exact nI_pos' (by have := va.1; omega)
        · rw [if_neg e] at h1; exact h1
      · intro z
        have vc := z.2.resolve_left cb
        refine ⟨vc.1, ?_⟩
        rw [tr_cko S va a0 hB vc.1 ca cb]
        by_cases e : ck c = nI a
        · rw [if_pos e]; exact nI_pos' (by omega)
        · rw [if_neg e]; exact vc.2
theorem tr_sne {P : Nat → List Nat} {ck : Nat → Int32} {a s l : Nat} (va : tr_v ck a) (vs : tr_v ck s) (es : ck a = nI s) (eP : P a = P s ++ [l]) : s ≠ a ∧ ck a ≠ nI a := by
  have sa : s ≠ a := by
    intro e
    rw [e] at eP
    exact tq_self eP
  refine ⟨sa, ?_⟩
  intro e
  rw [es] at e
  exact sa (qn_inj e (by have := vs.1; omega) (by have := va.1; omega))
theorem tr_mv {pos : Nat → Nat → Nat} {P : Nat → List Nat} {ck : Nat → Int32} {B a b s l : Nat} (S : tr_S 0 pos P ck) (va : tr_v ck a) (a0 : a ≠ 0) (hb : b < 512) (b0 : b ≠ 0) (db : ck b < 0) (vs : tr_v ck s) (hl : l < 4) (es : ck a = nI s) (eP : P a = P s ++ [l]) (hB : ∀ t, t < 4 → pos a t = B + t + 1) :
    tr_S 0 (tr_mp pos a b s l) (tr_mP P a b) (tr_ck ck B a b) := by
  obtain ⟨sa, hs⟩ := tr_sne va vs es eP
  have sb := tr_vd vs db
  have ab := tr_vd va db
  have V := tr_mvv (B := B) S va a0 hb db hs hB
  refine ⟨?_, ?_, ?_, ?_⟩
  · rw [tr_cko S va a0 hB (by omega) (Ne.symm a0) (Ne.symm b0), S.1, if_neg]
    intro e
    rw [← nI_0] at e
    exact a0 (qn_inj e.symm (by have := va.1; omega) (by omega))
  · rw [tr_mPo (Ne.symm b0)]; exact S.2.1
  · intro c vc c0 _
    obtain ⟨ca, h1⟩ := (V c).mp vc
    by_cases cb : c = b
    · rw [cb]
      refine ⟨s, l, (V s).mpr ⟨sa, Or.inr vs⟩, hl, ?_, ?_, ?_⟩
      · rw [tr_ckb (Ne.symm ab) hs]; exact es
      · unfold tr_mp
        rw [if_neg sb, if_pos ⟨rfl, rfl⟩]
      · rw [tr_mPb, tr_mPo sb]; exact eP
    · have v := h1.resolve_left cb
      obtain ⟨s1, l1, v1, hl1, e1, p1, P1⟩ := S.2.2.1 c v c0 c0
      by_cases s1a : s1 = a
      · refine ⟨b, l1, (V b).mpr ⟨Ne.symm ab, Or.inl rfl⟩, hl1, ?_, ?_, ?_⟩
        · rw [tr_cko S va a0 hB v.1 ca cb, if_pos (by rw [e1, s1a])]
        · unfold tr_mp
          rw [if_pos rfl, ← s1a]; exact p1
        · rw [tr_mPb, tr_mPo cb, ← s1a]; exact P1
      · have s1b := tr_vd v1 db
        refine ⟨s1, l1, (V s1).mpr ⟨s1a, Or.inr v1⟩, hl1, ?_, ?_, ?_⟩
        · rw [tr_cko S va a0 hB v.1 ca cb, if_neg (fun e => s1a (qn_inj (e1.symm.trans e) (by have := v1.1; omega) (by have := va.1; omega)))]
          exact e1
        · have z : ¬ (s1 = s ∧ l1 = l) := by
            intro z
            apply ca
            apply S.2.2.2 c a v va
            rw [P1, z.1, z.2, eP]
          unfold tr_mp
          rw [if_neg s1b, if_neg z]; exact p1
        · rw [tr_mPo s1b, tr_mPo cb]; exact P1
  · intro c d vc vd e
    obtain ⟨ca, h1⟩ := (V c).mp vc
    obtain ⟨da, h2⟩ := (V d).mp vd
    by_cases cb : c = b
    · by_cases dd : d = b
      · rw [cb, dd]
      · rw [cb, tr_mPb, tr_mPo dd] at e
        exact absurd (S.2.2.2 a d va (h2.resolve_left dd) e).symm da
    · by_cases dd : d = b
      · rw [dd, tr_mPb, tr_mPo cb] at e
        exact absurd (S.2.2.2 c a (h1.resolve_left cb) va e) ca
      · rw [tr_mPo cb, tr_mPo dd] at e
        exact S.2.2.2 c d (h1.resolve_left cb) (h2.resolve_left dd) e
theorem tr_mvP {P : Nat → List Nat} {LP : List Nat → Prop} {f : List Nat → Nat} {g h : List Nat → Int32} {ck co ki wb : Nat → Int32} {B a b : Nat} (Q : tr_P P LP f g h ck co ki wb) (va : tr_v ck a) (db : ck b < 0) (V : ∀ c, tr_v (tr_ck ck B a b) c ↔ c ≠ a ∧ (c = b ∨ tr_v ck c)) :
    tr_P (tr_mP P a b) LP f g h (tr_ck ck B a b) (upd (upd co b (co a)) a (-1)) (upd ki b (ki a)) (upd (upd wb b (wb a)) a 0) := by
  have ab := tr_vd va db
  refine ⟨?_, ?_⟩
  · intro c vc
    obtain ⟨ca, h1⟩ := (V c).mp vc
    by_cases cb : c = b
    · have e1 : upd (upd wb b (wb a)) a 0 b = wb a := by rw [pk_un (Ne.symm ab), pk_us]
      have e2 : upd (upd co b (co a)) a (-1) b = co a := by rw [pk_un (Ne.symm ab), pk_us]
      rw [cb, tr_mPb, e1, e2, pk_us]
      exact Q.1 a va
    · have e1 : upd (upd wb b (wb a)) a 0 c = wb c := by rw [pk_un ca, pk_un cb]
      have e2 : upd (upd co b (co a)) a (-1) c = co c := by rw [pk_un ca, pk_un cb]
      rw [tr_mPo cb, e1, e2, pk_un cb]
      exact Q.1 c (h1.resolve_left cb)
  · intro p hp
    obtain ⟨c, v, e⟩ := Q.2 p hp
    by_cases ca : c = a
    · exact ⟨b, (V b).mpr ⟨Ne.symm ab, Or.inl rfl⟩, by rw [tr_mPb, ← ca]; exact e⟩
    · exact ⟨c, (V c).mpr ⟨ca, Or.inr v⟩, by rw [tr_mPo (tr_vd v db)]; exact e⟩
/-! a free block of four -/
theorem tr_free {pos : Nat → Nat → Nat} {P : Nat → List Nat} {LP : List Nat → Prop} {f : List Nat → Nat} {g h : List Nat → Int32} {ck co ki wb : Nat → Int32} (S : tr_S 0 pos P ck) (Q : tr_P P LP f g h ck co ki wb) (W : Nat → List Nat) (hW : ∀ p, LP p → p ≠ [] → ∃ w j, w < 16 ∧ j < 5 ∧ p = (W w).take (j + 1)) : ∃ b, b < 500 ∧ ∀ l, l < 4 → ck (b + l + 1) < 0 := by
  by_cases H : ∃ j, j ≤ 80 ∧ ∀ l, l < 4 → ck (4 * j + l + 1) < 0
  · obtain ⟨j, hj, h1⟩ := H
    exact ⟨4 * j, by omega, h1⟩
  · exfalso
    have A : ∀ j, ∃ e, j ≤ 80 → (e < 80 ∧ ∃ l, l < 4 ∧ tr_v ck (4 * j + l + 1) ∧ P (4 * j + l + 1) = (W (e / 5)).take (e % 5 + 1)) := by
      intro j
      by_cases hj : j ≤ 80
      · have h1 : ∃ l, l < 4 ∧ ¬ ck (4 * j + l + 1) < 0 := Classical.byContradiction fun z => H ⟨j, hj, fun l hl => Classical.byContradiction fun y => z ⟨l, hl, y⟩⟩
        obtain ⟨l, hl, y⟩ := h1
        have v : tr_v ck (4 * j + l + 1) := ⟨by omega, qn_ge y⟩
        have ne : P (4 * j + l + 1) ≠ [] := by
          intro e
          have h2 := S.2.2.2 _ 0 v (tr_v0 S.1) (by rw [e, S.2.1])
          omega
        obtain ⟨w, t, hw, ht, e⟩ := hW _ (Q.1 _ v).1 ne
        refine ⟨5 * w + t, fun _ => ⟨by omega, l, hl, v, ?_⟩⟩
        have e1 : (5 * w + t) / 5 = w := by omega
        have e2 : (5 * w + t) % 5 = t := by omega
        rw [e1, e2]; exact e
      · exact ⟨0, fun z => absurd z hj⟩
    obtain ⟨F, hF⟩ := Classical.axiomOfChoice A
    refine ph_no 80 F (fun i hi => (hF i hi).1) ?_
    intro i j hi hj e
    obtain ⟨_, l, hl, v, eP⟩ := hF i hi
    obtain ⟨_, l', hl', v', eP'⟩ := hF j hj
    have h1 := S.2.2.2 _ _ v v' (by rw [eP, eP', e])
    omega
/-! a child added -/
def tr_aP (P : Nat → List Nat) (c : Nat) (q : List Nat) : Nat → List Nat := fun d => if d = c then q else P d
theorem tr_aPc {P : Nat → List Nat} {c : Nat} {q : List Nat} : tr_aP P c q c = q := if_pos rfl
theorem tr_aPo {P : Nat → List Nat} {c d : Nat} {q : List Nat} (h : d ≠ c) : tr_aP P c q d = P d := if_neg h
theorem tr_add {P : Nat → List Nat} {LP : List Nat → Prop} {f : List Nat → Nat} {g h : List Nat → Int32} {bs ck co ki wb : Nat → Int32} {s l c : Nat} (I : tr_I 0 P LP f g h bs ck co ki wb) (vs : tr_v ck s) (hl : l < 4) (hn : ¬ LP (P s ++ [l])) (hc : c = tr_pos bs s l) (hc5 : c < 512) (dc : ck c < 0) (f0 : f (P s ++ [l]) = 0) (g0 : g (P s ++ [l]) = -1) :
    tr_I 0 (tr_aP P c (P s ++ [l])) (fun p => LP p ∨ p = P s ++ [l]) f g h (upd bs c 0) (upd ck c (nI s)) (upd co c (-1)) ki (upd wb c 0) ∧ tr_v (upd ck c (nI s)) c ∧ tr_aP P c (P s ++ [l]) c = P s ++ [l] := by
  obtain ⟨hb, S, Q⟩ := I
  have sc := tr_vd vs dc
  have c0 : c ≠ 0 := by
    intro z
    rw [z, S.1] at dc
    exact absurd dc (by decide)
  have V : ∀ d, tr_v (upd ck c (nI s)) d ↔ d = c ∨ tr_v ck d := by
    intro d
    by_cases e : d = c
    · constructor
      · intro _; exact Or.inl e
      · intro _; rw [e]; exact ⟨hc5, by rw [pk_us]; exact nI_pos' (by have := vs.1; omega)⟩
    · unfold tr_v
      rw [pk_un e]
      exact ⟨fun z => Or.inr z, fun z => z.resolve_left e⟩
  refine ⟨⟨tr_bu hb c 0 (by omega), ⟨?_, ?_, ?_, ?_⟩, ?_, ?_⟩, (V c).mpr (Or.inl rfl), tr_aPc⟩
  · rw [pk_un (Ne.symm c0)]; exact S.1
  · rw [tr_aPo (Ne.symm c0)]; exact S.2.1
  · intro d vd d0 _
    by_cases e : d = c
    · rw [e]
      refine ⟨s, l, (V s).mpr (Or.inr vs), hl, pk_us, ?_, ?_⟩
      · unfold tr_pos
        rw [pk_un sc]; exact hc
      · rw [tr_aPc, tr_aPo sc]
    · obtain ⟨s1, l1, v1, h1, e1, p1, P1⟩ := S.2.2.1 d (((V d).mp vd).resolve_left e) d0 d0
      have s1c := tr_vd v1 dc
      refine ⟨s1, l1, (V s1).mpr (Or.inr v1), h1, by rw [pk_un e]; exact e1, ?_, ?_⟩
      · unfold tr_pos
        rw [pk_un s1c]; exact p1
      · rw [tr_aPo e, tr_aPo s1c]; exact P1
  · intro d d' vd vd' e
    by_cases e1 : d = c
    · by_cases e2 : d' = c
      · rw [e1, e2]
      · rw [e1, tr_aPc, tr_aPo e2] at e
        exact absurd (Q.1 d' (((V d').mp vd').resolve_left e2)).1 (by rw [← e]; exact hn)
    · by_cases e2 : d' = c
      · rw [e2, tr_aPc, tr_aPo e1] at e
        exact absurd (Q.1 d (((V d).mp vd).resolve_left e1)).1 (by rw [e]; exact hn)
      · rw [tr_aPo e1, tr_aPo e2] at e
        exact S.2.2.2 d d' (((V d).mp vd).resolve_left e1) (((V d').mp vd').resolve_left e2) e
  · intro d vd
    by_cases e : d = c
    · rw [e, tr_aPc, pk_us, pk_us, f0, g0]
      exact ⟨Or.inr rfl, rfl, rfl, fun z => absurd z qn_m1le⟩
    · rw [tr_aPo e, pk_un e, pk_un e]
      obtain ⟨a1, a2, a3, a4⟩ := Q.1 d (((V d).mp vd).resolve_left e)
      exact ⟨Or.inl a1, a2, a3, a4⟩
  · intro p hp
    rcases hp with hp | hp
    · obtain ⟨d, v, e⟩ := Q.2 p hp
      exact ⟨d, (V d).mpr (Or.inr v), by rw [tr_aPo (tr_vd v dc)]; exact e⟩
    · exact ⟨c, (V c).mpr (Or.inl rfl), by rw [tr_aPc]; exact hp.symm⟩
/-! a cell released -/
theorem tr_rel {ex ex' : Nat} {P : Nat → List Nat} {LP : List Nat → Prop} {f : List Nat → Nat} {g h : List Nat → Int32} {bs ck co ki wb : Nat → Int32} {c : Nat} (I : tr_I ex P LP f g h bs ck co ki wb) (vc : tr_v ck c) (c0 : c ≠ 0) (hx : ex = 0 ∨ ex = c) (hch : ∀ d l, tr_v ck d → P d = P c ++ [l] → d = ex') :
    tr_I ex' P (fun p => LP p ∧ p ≠ P c) f g h (upd bs c 0) (upd ck c (-1)) (upd co c (-1)) ki (upd wb c 0) ∧ (∀ d, tr_v (upd ck c (-1)) d ↔ d ≠ c ∧ tr_v ck d) := by
  obtain ⟨hb, S, Q⟩ := I
  have V : ∀ d, tr_v (upd ck c (-1)) d ↔ d ≠ c ∧ tr_v ck d := by
    intro d
    by_cases e : d = c
    · constructor
      · intro v
        exact absurd v.2 (by rw [e, pk_us]; exact qn_m1le)
      · intro z; exact absurd e z.1
    · unfold tr_v
      rw [pk_un e]
      exact ⟨fun z => ⟨e, z⟩, fun z => z.2⟩
  refine ⟨⟨tr_bu hb c 0 (by omega), ⟨?_, S.2.1, ?_, ?_⟩, ?_, ?_⟩, V⟩
  · rw [pk_un (Ne.symm c0)]; exact S.1
  · intro d vd d0 dx
    obtain ⟨dc, v⟩ := (V d).mp vd
    have d1 : d ≠ ex := by
      rcases hx with z | z
      · rw [z]; exact d0
      · rw [z]; exact dc
    obtain ⟨s1, l1, v1, h1, e1, p1, P1⟩ := S.2.2.1 d v d0 d1
    have s1c : s1 ≠ c := by
      intro z
      rw [z] at P1
      exact dx (hch d l1 v P1)
    refine ⟨s1, l1, (V s1).mpr ⟨s1c, v1⟩, h1, by rw [pk_un dc]; exact e1, ?_, P1⟩
    unfold tr_pos
    rw [pk_un s1c]; exact p1
  · intro d d' vd vd' e
    exact S.2.2.2 d d' ((V d).mp vd).2 ((V d').mp vd').2 e
  · intro d vd
    obtain ⟨dc, v⟩ := (V d).mp vd
    rw [pk_un dc, pk_un dc]
    obtain ⟨a1, a2, a3, a4⟩ := Q.1 d v
    exact ⟨⟨a1, fun z => dc (S.2.2.2 d c v vc z)⟩, a2, a3, a4⟩
  · intro p hp
    obtain ⟨d, v, e⟩ := Q.2 p hp.1
    refine ⟨d, (V d).mpr ⟨?_, v⟩, e⟩
    intro z
    rw [z] at e
    exact hp.2 e.symm
/-- one count changed -/
theorem tr_wb {ex : Nat} {P : Nat → List Nat} {LP : List Nat → Prop} {f f' : List Nat → Nat} {g h : List Nat → Int32} {bs ck co ki wb : Nat → Int32} {c : Nat} {x : Int32} (I : tr_I ex P LP f g h bs ck co ki wb) (vc : tr_v ck c) (hx : x = nI (f' (P c))) (ho : ∀ p, LP p → p ≠ P c → f' p = f p) : tr_I ex P LP f' g h bs ck co ki (upd wb c x) := by
  obtain ⟨hb, S, Q⟩ := I
  refine ⟨hb, S, ?_, Q.2⟩
  intro d vd
  obtain ⟨a1, a2, a3, a4⟩ := Q.1 d vd
  refine ⟨a1, ?_, a3, a4⟩
  by_cases e : d = c
  · rw [e, pk_us]; exact hx
  · rw [pk_un e, ho _ a1 (fun z => e (S.2.2.2 d c vd vc z))]; exact a2
/-- one cost, one kind changed -/
theorem tr_co {ex : Nat} {P : Nat → List Nat} {LP : List Nat → Prop} {f : List Nat → Nat} {g h g' h' : List Nat → Int32} {bs ck co ki wb : Nat → Int32} {c : Nat} {x y : Int32} (I : tr_I ex P LP f g h bs ck co ki wb) (vc : tr_v ck c) (hx : x = g' (P c)) (hy : 0 ≤ x → y = h' (P c)) (ho : ∀ p, p ≠ P c → g' p = g p ∧ h' p = h p) : tr_I ex P LP f g' h' bs ck (upd co c x) (upd ki c y) wb := by
  obtain ⟨hb, S, Q⟩ := I
  refine ⟨hb, S, ?_, Q.2⟩
  intro d vd
  obtain ⟨a1, a2, a3, a4⟩ := Q.1 d vd
  refine ⟨a1, a2, ?_, ?_⟩
  · by_cases e : d = c
    · rw [e, pk_us]; exact hx
    · rw [pk_un e, (ho _ (fun z => e (S.2.2.2 d c vd vc z))).1]; exact a3
  · intro z
    by_cases e : d = c
    · rw [e, pk_us]
      rw [e, ← hx] at z
      exact hy z
    · have h1 := ho _ (fun z => e (S.2.2.2 d c vd vc z))
      rw [h1.1] at z
      rw [pk_un e, h1.2]; exact a4 z
/-- a cost taken away -/
theorem tr_co1 {ex : Nat} {P : Nat → List Nat} {LP : List Nat → Prop} {f : List Nat → Nat} {g h g' : List Nat → Int32} {bs ck co ki wb : Nat → Int32} {c : Nat} (I : tr_I ex P LP f g h bs ck co ki wb) (vc : tr_v ck c) (hx : g' (P c) = -1) (ho : ∀ p, p ≠ P c → g' p = g p) : tr_I ex P LP f g' h bs ck (upd co c (-1)) ki wb := by
  obtain ⟨hb, S, Q⟩ := I
  refine ⟨hb, S, ?_, Q.2⟩
  intro d vd
  obtain ⟨a1, a2, a3, a4⟩ := Q.1 d vd
  refine ⟨a1, a2, ?_, ?_⟩
  · by_cases e : d = c
    · rw [e, pk_us]; exact hx.symm
    · rw [pk_un e, ho _ (fun z => e (S.2.2.2 d c vd vc z))]; exact a3
  · intro z
    by_cases e : d = c
    · rw [e, hx] at z
      exact absurd z qn_m1le
    · rw [ho _ (fun z => e (S.2.2.2 d c vd vc z))] at z
      exact a4 z
end WL02
end
section
section WL03
variable {fP fS fL fF fC fK : Int32} {bs ck co ki wb sp tx lk ch nu fi : Nat → Int32}
variable {P : Nat → List Nat} {LP : List Nat → Prop} {f : List Nat → Nat} {g h : List Nat → Int32}
/-! the component's tree, walked -/
theorem tq_sg0s {a : Nat → Int32} {n : Nat} : tq_sg a 0 (n + 1) = tq_sg a 0 n ++ [tq_cl (a n)] := by rw [tq_sgs, Nat.zero_add]
theorem tr_c0 {ex : Nat} {pos : Nat → Nat → Nat} (S : tr_S ex pos P ck) {c l : Nat} {p : List Nat} (e : P c = p ++ [l]) : c ≠ 0 := by
  intro z
  rw [z, S.2.1] at e
  exact tq_nil e
theorem tr_yes (I : tr_I 0 P LP f g h bs ck co ki wb) {s l : Nat} (vs : tr_v ck s) (hp : LP (P s ++ [l])) : ck (tr_pos bs s l) = nI s := by
  obtain ⟨c, v, e⟩ := I.2.2.2 _ hp
  have h1 := tr_par I.2.1 vs v (tr_c0 I.2.1 e) e
  rw [← h1.2.1]
  exact h1.1
theorem tr_p5 (hb : tr_b bs) {s l : Nat} (hs : s < 512) (hl : l < 4) : tr_pos bs s l < 512 := by
  have h1 := (tr_bB hb hs).1
  unfold tr_pos
  omega
theorem xw_child {post : Int32 → Prop} {s l B c : Nat} {x y : Int32} (hx : x = nI s) (hy : y = nI l) (hs : s < 512) (eB : bs s = nI B) (ec : B + l + 1 = c) (hc : c < 512) (h1 : ck c = nI s → post (nI c)) (h2 : ¬ ck c = nI s → post (-1)) : wpX_childOf post (fP, fS, fL, fF, fC, fK, bs, ck, co, ki, wb, sp, tx, lk, ch, nu, fi) x y := by
  subst hx
  subst hy
  unfold wpX_childOf
  refine ⟨vp_in_nI hs (by omega), nm_r (e' := nI c) ?_ ?_⟩
  · rw [nI_clamp (by omega), eB, nI_add, nI_1, ec]
  · refine br_f (nI_nle (by omega) (by omega)) ⟨vp_in_nI hc (by omega), ?_⟩
    have e : (nI c).toNatClampNeg = c := nI_clamp (by omega)
    refine br_c (fun z => h1 ?_) (fun z => h2 ?_)
    · rw [e] at z; exact z
    · rw [e] at z; exact z
/-- the child by a letter: it is there, or no path goes on so -/
theorem xw_chi {post : Int32 → Prop} {s l : Nat} {x y : Int32} (I : tr_I 0 P LP f g h bs ck co ki wb) (hx : x = nI s) (hy : y = nI l) (vs : tr_v ck s) (hl : l < 4) (h1 : ∀ c, tr_v ck c → P c = P s ++ [l] → post (nI c)) (h2 : ¬ LP (P s ++ [l]) → post (-1)) : wpX_childOf post (fP, fS, fL, fF, fC, fK, bs, ck, co, ki, wb, sp, tx, lk, ch, nu, fi) x y := by
  obtain ⟨hB, eB⟩ := tr_bB I.1 vs.1
  have h5 := tr_p5 I.1 vs.1 hl
  refine xw_child (c := tr_pos bs s l) hx hy vs.1 eB rfl h5 ?_ ?_
  · intro e
    have h3 := tr_chi I.2.1 vs.1 h5 (by unfold tr_pos; omega) e
    exact h1 _ h3.1 h3.2
  · intro e
    exact h2 (fun z => e (tr_yes I vs z))
theorem xw_find4 {post : Int32 → Prop} {m : Nat} (I : tr_I 0 P LP f g h bs ck co ki wb) (hm : m ≤ 5) (hL : tq_L sp) (hp : ∀ c, tr_v ck c → P c = tq_sg sp 0 m → post (nI c)) (hn : ¬ LP (tq_sg sp 0 m) → post (-1)) :
    ∀ (d i s n : Nat), i + d = m → d < n → tr_v ck s → P s = tq_sg sp 0 i → wX_find_4 post fP (nI m) fL fF fC fK bs ck co ki wb sp tx lk ch nu fi n (nI s) (nI i) := by
  intro d
  induction d with
  | zero =>
    intro i s n hi hn' vs e
    obtain ⟨n, rfl⟩ : ∃ q, n = q + 1 := ⟨n - 1, by omega⟩
    have e1 : i = m := by omega
    rw [wX_find_4]
    exact br_t (nI_le (by omega) (by omega)) (hp s vs (by rw [e, e1]))
  | succ d ih =>
    intro i s n hi hn' vs e
    obtain ⟨n, rfl⟩ : ∃ q, n = q + 1 := ⟨n - 1, by omega⟩
    rw [wX_find_4]
    refine br_f (nI_ge (by omega) (by omega)) (br_f (nI_pos (by have := vs.1; omega)) ⟨vp_in_nI (by omega) (by omega), ?_⟩)
    refine xw_chi (l := tq_cl (sp i)) I rfl ?_ vs (tq_lt hL i) ?_ ?_
    · rw [nI_clamp (by omega)]; exact tq_nI hL i
    · intro c vc ec
      exact nm_r (nI_1 i) (ih (i + 1) c n (by omega) (by omega) vc (by rw [ec, e, tq_sg0s]))
    · intro z
      have X : post (-1) := by
        apply hn
        intro y
        apply z
        rw [e, ← tq_sg0s]
        exact tr_sgp I.2.1 I.2.2 m (i + 1) (by omega) y
      obtain ⟨n, rfl⟩ : ∃ q, n = q + 1 := ⟨n - 1, by omega⟩
      refine nm_e ?_
      rw [wX_find_4]
      exact br_c (fun _ => X) (fun _ => br_t qn_m1lt X)
theorem xw_find {post : Int32 → Prop} {m : Nat} (I : tr_I 0 P LP f g h bs ck co ki wb) (hm : m ≤ 5) (hL : tq_L sp) (hp : ∀ c, tr_v ck c → P c = tq_sg sp 0 m → post (nI c)) (hn : ¬ LP (tq_sg sp 0 m) → post (-1)) : wpX_find post (fP, nI m, fL, fF, fC, fK, bs, ck, co, ki, wb, sp, tx, lk, ch, nu, fi) := by
  unfold wpX_find
  exact ⟨6, xw_find4 I hm hL hp hn m 0 0 6 (by omega) (by omega) (tr_v0 I.2.1.1) I.2.1.2.1⟩
theorem xw_release {post : SX → Prop} {c : Nat} {x : Int32} (hx : x = nI c) (hc : c < 512) (k : post (fP, fS, fL, fF, fC, fK, upd bs c 0, upd ck c (-1), upd co c (-1), ki, upd wb c 0, sp, tx, lk, ch, nu, fi)) : wpX_release post (fP, fS, fL, fF, fC, fK, bs, ck, co, ki, wb, sp, tx, lk, ch, nu, fi) x := by
  subst hx
  have hv : vp_in (nI c) 512 := vp_in_nI hc (by omega)
  have e : (nI c).toNatClampNeg = c := nI_clamp (by omega)
  unfold wpX_release
  rw [e]
  exact ⟨hv, nm_e ⟨hv, nm_e ⟨hv, nm_e ⟨hv, nm_e k⟩⟩⟩⟩
theorem xw_mvs {post : SX → Prop} {a b B : Nat} (ha : a < 512) (hb : b < 512) (hB : B ≤ 500) (eB : bs a = nI B) (k0 : post (fP, fS, fL, fF, fC, fK, upd bs a 0, upd (tr_rl ck B a b 5) a (-1), upd co a (-1), ki, upd wb a 0, sp, tx, lk, ch, nu, fi)) :
    ∀ d k n, k + d = 5 → 1 ≤ k → d < n → wX_moveState_62 post (nI a) (nI b) fP fS fL fF fC fK n (nI k) bs (tr_rl ck B a b k) co ki wb sp tx lk ch nu fi := by
  intro d
  induction d with
  | zero =>
    intro k n hk h1 hn
    obtain ⟨n, rfl⟩ : ∃ q, n = q + 1 := ⟨n - 1, by omega⟩
    have e : k = 5 := by omega
    rw [e, wX_moveState_62]
    exact br_t (nI_lt (a := 4) (b := 5) (by omega) (by omega)) (xw_release rfl ha k0)
  | succ d ih =>
    intro k n hk h1 hn
    obtain ⟨n, rfl⟩ : ∃ q, n = q + 1 := ⟨n - 1, by omega⟩
    have ev : (bs (nI a).toNatClampNeg) + nI k = nI (B + k) := by rw [nI_clamp (by omega), eB, nI_add]
    have iv : vp_in ((bs (nI a).toNatClampNeg) + nI k) 512 := by rw [ev]; exact vp_in_nI (by omega) (by omega)
    have cv : ((bs (nI a).toNatClampNeg) + nI k).toNatClampNeg = B + k := by rw [ev]; exact nI_clamp (by omega)
    rw [wX_moveState_62]
    refine br_f (nI_nlt (a := 4) (by omega) (by omega)) ⟨vp_in_nI ha (by omega), iv, ?_⟩
    rw [cv, tr_rls]
    refine br_c (fun e => ⟨vp_in_nI ha (by omega), iv, nm_e (nm_r (nI_1 k) ?_)⟩) (fun e => nm_r (nI_1 k) ?_)
    · rw [tr_rlt h1 e]
      exact ih (k + 1) n (by omega) (by omega) (by omega)
    · rw [tr_rlf e]
      exact ih (k + 1) n (by omega) (by omega) (by omega)
theorem xw_moveState {post : SX → Prop} {a b B : Nat} {x y : Int32} (hx : x = nI a) (hy : y = nI b) (ha : a < 512) (hb : b < 512) (ab : a ≠ b) (hB : B ≤ 500) (eB : bs a = nI B) (k0 : post (fP, fS, fL, fF, fC, fK, upd (upd bs b (bs a)) a 0, tr_ck ck B a b, upd (upd co b (co a)) a (-1), upd ki b (ki a), upd (upd wb b (wb a)) a 0, sp, tx, lk, ch, nu, fi)) : wpX_moveState post (fP, fS, fL, fF, fC, fK, bs, ck, co, ki, wb, sp, tx, lk, ch, nu, fi) x y := by
  subst hx
  subst hy
  have va : vp_in (nI a) 512 := vp_in_nI ha (by omega)
  have vb : vp_in (nI b) 512 := vp_in_nI hb (by omega)
  have ea : (nI a).toNatClampNeg = a := nI_clamp (by omega)
  have eb : (nI b).toNatClampNeg = b := nI_clamp (by omega)
  have K := xw_mvs (post := post) (fP := fP) (fS := fS) (fL := fL) (fF := fF) (fC := fC) (fK := fK) (bs := upd bs b (bs a)) (ck := upd ck b (ck a)) (co := upd co b (co a)) (ki := upd ki b (ki a)) (wb := upd wb b (wb a)) (sp := sp) (tx := tx) (lk := lk) (ch := ch) (nu := nu) (fi := fi) ha hb hB (by rw [pk_un ab]; exact eB) k0 4 1 5 (by omega) (by omega) (by omega)
  rw [tr_rl1] at K
  unfold wpX_moveState
  rw [ea, eb]
  exact ⟨va, vb, nm_e ⟨va, vb, nm_e ⟨va, vb, nm_e ⟨va, vb, nm_e ⟨va, vb, nm_e ⟨5, K⟩⟩⟩⟩⟩⟩
/-! a free base -/
def tr_fr (ck : Nat → Int32) (st b c : Nat) : Prop := ∀ l, l < c → st.testBit l = true → ck (b + l + 1) < 0
theorem tr_frs {st b c : Nat} : tr_fr ck st b (c + 1) ↔ tr_fr ck st b c ∧ (st.testBit c = true → ck (b + c + 1) < 0) := by
  constructor
  · intro z
    exact ⟨fun l hl => z l (by omega), z c (by omega)⟩
  · intro z l hl
    rcases Nat.lt_or_ge l c with q | q
    · exact z.1 l q
    · have e : l = c := by omega
      rw [e]; exact z.2
theorem xw_fb14 {post J : Int32 → Prop} {st b : Nat} (hst : st < 16) (hb : b < 500) (h1 : tr_fr ck st b 4 → post (nI b)) (h2 : ¬ tr_fr ck st b 4 → J (nI (b + 1))) :
    ∀ (d c n : Nat) (x3 : Int32), c + d = 4 → d < n → ((x3 = 1 ∧ tr_fr ck st b c) ∨ (x3 = 0 ∧ ¬ tr_fr ck st b c)) → wX_freeBase_14 post J (nI st) (nI b) fP fS fL fF fC fK bs ck co ki wb sp tx lk ch nu fi n x3 (nI c) := by
  intro d
  induction d with
  | zero =>
    intro c n x3 hc hn hx
    obtain ⟨n, rfl⟩ : ∃ q, n = q + 1 := ⟨n - 1, by omega⟩
    have e : c = 4 := by omega
    rw [e] at hx
    rw [e, wX_freeBase_14]
    refine br_t (nI_le (a := 4) (by omega) (by omega)) ?_
    rcases hx with ⟨e3, hf⟩ | ⟨e3, hf⟩
    · exact br_f (by rw [e3]; decide) (h1 hf)
    · exact br_t e3 (nm_r (nI_1 b) (h2 hf))
  | succ d ih =>
    intro c n x3 hc hn hx
    obtain ⟨n, rfl⟩ : ∃ q, n = q + 1 := ⟨n - 1, by omega⟩
    have bit := nx_bit (k := st) (j := c) (by omega) (by omega)
    rw [wX_freeBase_14]
    refine br_f (nI_ge (b := 4) (by omega) (by omega)) ?_
    by_cases t : st.testBit c = true
    · have ev : (nI b + nI c) + 1 = nI (b + c + 1) := by rw [nI_add, nI_1]
      refine br_f (fun z => by rw [bit.mp z] at t; exact absurd t (by decide)) ⟨by rw [ev]; exact vp_in_nI (by omega) (by omega), ?_⟩
      rw [ev, nI_clamp (by omega)]
      refine br_c (fun e => nm_r (nI_1 c) (ih (c + 1) n x3 (by omega) (by omega) ?_)) (fun e => nm_r (nI_1 c) (ih (c + 1) n 0 (by omega) (by omega) (Or.inr ⟨rfl, ?_⟩)))
      · rcases hx with ⟨e3, hf⟩ | ⟨e3, hf⟩
        · exact Or.inl ⟨e3, tr_frs.mpr ⟨hf, fun _ => e⟩⟩
        · exact Or.inr ⟨e3, fun z => hf (tr_frs.mp z).1⟩
      · exact fun z => e ((tr_frs.mp z).2 t)
    · refine br_t (bit.mpr (by simpa using t)) (nm_r (nI_1 c) (ih (c + 1) n x3 (by omega) (by omega) ?_))
      rcases hx with ⟨e3, hf⟩ | ⟨e3, hf⟩
      · exact Or.inl ⟨e3, tr_frs.mpr ⟨hf, fun z => absurd z t⟩⟩
      · exact Or.inr ⟨e3, fun z => hf (tr_frs.mp z).1⟩
theorem xw_fb2 {post : Int32 → Prop} {st b0 : Nat} (hst : st < 16) (hp : ∀ b, b < 500 → tr_fr ck st b 4 → post (nI b)) (hb0 : b0 < 500) (hf0 : tr_fr ck st b0 4) :
    ∀ (d b n : Nat), b + d = 500 → d < n → b ≤ b0 → wX_freeBase_2 post (nI st) fP fS fL fF fC fK bs ck co ki wb sp tx lk ch nu fi n (nI b) := by
  intro d
  induction d with
  | zero => intro b n h1 h2 h3; omega
  | succ d ih =>
    intro b n h1 h2 h3
    obtain ⟨n, rfl⟩ : ∃ q, n = q + 1 := ⟨n - 1, by omega⟩
    rw [wX_freeBase_2]
    refine br_f (nI_ge (b := 500) (by omega) (by omega)) ⟨5, ?_⟩
    refine xw_fb14 hst (by omega) (hp b (by omega)) ?_ 4 0 5 1 (by omega) (by omega) (Or.inl ⟨rfl, fun l hl => absurd hl (by omega)⟩)
    intro hnf
    refine ih (b + 1) n (by omega) (by omega) ?_
    rcases Nat.lt_or_ge b b0 with q | q
    · exact q
    · have e : b = b0 := by omega
      rw [e] at hnf
      exact absurd hf0 hnf
theorem xw_freeBase {post : Int32 → Prop} {st b0 : Nat} {x : Int32} (hx : x = nI st) (hst : st < 16) (hb0 : b0 < 500) (hf0 : tr_fr ck st b0 4) (hp : ∀ b, b < 500 → tr_fr ck st b 4 → post (nI b)) : wpX_freeBase post (fP, fS, fL, fF, fC, fK, bs, ck, co, ki, wb, sp, tx, lk, ch, nu, fi) x := by
  subst hx
  unfold wpX_freeBase
  exact ⟨501, xw_fb2 hst hp hb0 hf0 500 0 501 (by omega) (by omega) (by omega)⟩
theorem qn_or : ∀ st, st < 16 → ∀ c, c < 4 → nI st ||| ((1 : Int32) <<< (nI c &&& 31)) = nI (st ||| 2 ^ c) := by decide +kernel
theorem qn_or16 : ∀ st, st < 16 → ∀ c, c < 4 → st ||| 2 ^ c < 16 := by decide +kernel
theorem qn_orb {st c l : Nat} : (st ||| 2 ^ c).testBit l = true ↔ st.testBit l = true ∨ l = c := by
  rw [Nat.testBit_or, Nat.testBit_two_pow, Bool.or_eq_true, decide_eq_true_eq]
  exact ⟨fun z => z.imp id Eq.symm, fun z => z.imp id Eq.symm⟩
theorem xw_mc60 {post : SX → Prop} {p0 : List Nat} {st old tg l0 s0 : Nat} (hs0 : s0 < 512) (hst : st < 16) (hset : ∀ l, l < 4 → (st.testBit l = true ↔ LP (p0 ++ [l]))) (hold : old ≤ 500) (htg : tg < 500) (hl0 : l0 < 4) (hnl : ¬ LP (p0 ++ [l0]))
    (H : ∀ (P : Nat → List Nat) (bs ck co ki wb : Nat → Int32), tr_I 0 P LP f g h bs ck co ki wb → tr_v ck s0 → P s0 = p0 → bs s0 = nI tg → ck (tg + l0 + 1) < 0 → post (fP, fS, fL, fF, fC, fK, bs, ck, co, ki, wb, sp, tx, lk, ch, nu, fi)) :
    ∀ (d k n : Nat) (P : Nat → List Nat) (pos : Nat → Nat → Nat) (bs ck co ki wb : Nat → Int32), k + d = 4 → d < n → tr_b bs → tr_S 0 pos P ck → tr_P P LP f g h ck co ki wb → tr_v ck s0 → P s0 = p0 → bs s0 = nI old →
      (∀ c l, tr_v ck c → c ≠ s0 → l < 4 → pos c l = tr_pos bs c l) → (∀ l, l < 4 → pos s0 l = if l < k then tg + l + 1 else old + l + 1) → (∀ l, l < 4 → (l = l0 ∨ (k ≤ l ∧ st.testBit l = true)) → ck (tg + l + 1) < 0) →
      wX_moveChildren_60 post (nI s0) (nI st) (nI tg) (nI old) n (nI k) fP fS fL fF fC fK bs ck co ki wb sp tx lk ch nu fi := by
  intro d
  induction d with
  | zero =>
    intro k n P pos bs ck co ki wb hk hn hb S Q vs es eo hp hq hf
    obtain ⟨n, rfl⟩ : ∃ q, n = q + 1 := ⟨n - 1, by omega⟩
    have e : k = 4 := by omega
    rw [e] at hq
    have e0 : (nI s0).toNatClampNeg = s0 := nI_clamp (by omega)
    rw [e, wX_moveChildren_60]
    refine br_t (nI_le (a := 4) (by omega) (by omega)) ⟨vp_in_nI hs0 (by omega), ?_⟩
    rw [e0]
    refine nm_e (H P (upd bs s0 (nI tg)) ck co ki wb ⟨tr_bu hb s0 tg (by omega), tr_Sc S ?_, Q⟩ vs es pk_us (hf l0 hl0 (Or.inl rfl)))
    intro c l vc hl _ _
    by_cases cs : c = s0
    · rw [cs, hq l hl, if_pos hl]
      unfold tr_pos
      rw [pk_us, tq_clN (by omega)]
    · rw [hp c l vc cs hl]
      unfold tr_pos
      rw [pk_un cs]
  | succ d ih =>
    intro k n P pos bs ck co ki wb hk hn hb S Q vs es eo hp hq hf
    obtain ⟨n, rfl⟩ : ∃ q, n = q + 1 := ⟨n - 1, by omega⟩
    have bit := nx_bit (k := st) (j := k) (by omega) (by omega)
    rw [wX_moveChildren_60]
    refine br_f (nI_ge (b := 4) (by omega) (by omega)) ?_
    by_cases t : st.testBit k = true
    · refine br_f (fun z => by rw [bit.mp z] at t; exact absurd t (by decide)) ?_
      have hLk := (hset k (by omega)).mp t
      obtain ⟨a, va, ea⟩ := Q.2 _ hLk
      have a0 := tr_c0 S ea
      have h1 := tr_par S vs va a0 (by rw [ea, es])
      have ea2 : a = old + k + 1 := by
        rw [h1.2.1, hq k (by omega), if_neg (by omega)]
      have as0 : a ≠ s0 := by
        intro z
        rw [z, es] at ea
        exact tq_self ea
      obtain ⟨B, hB, eB⟩ := hb a va.1
      have db : ck (tg + k + 1) < 0 := hf k (by omega) (Or.inr ⟨by omega, t⟩)
      have hb5 : tg + k + 1 < 512 := by omega
      have hpa : ∀ t, t < 4 → pos a t = B + t + 1 := by
        intro t ht
        rw [hp a t va as0 ht]
        unfold tr_pos
        rw [eB, tq_clN (by omega)]
      have eP : P a = P s0 ++ [k] := by rw [ea, es]
      have hsn := tr_sne va vs h1.1 eP
      have ab := tr_vd va db
      have sb := tr_vd vs db
      have V := tr_mvv (B := B) S va a0 hb5 db hsn.2 hpa
      have kl0 : k ≠ l0 := by
        intro z
        rw [z] at hLk
        exact hnl hLk
      refine xw_moveState (a := a) (b := tg + k + 1) (B := B) (by rw [nI_add, nI_1, ea2]) (by rw [nI_add, nI_1]) va.1 hb5 ab hB eB ?_
      refine nm_r (nI_1 k) (ih (k + 1) n (tr_mP P a (tg + k + 1)) (tr_mp pos a (tg + k + 1) s0 k) _ _ _ _ _ (by omega) (by omega) ?_ (tr_mv S va a0 hb5 (by omega) db vs (by omega) h1.1 eP hpa) (tr_mvP Q va db V) ((V s0).mpr ⟨Ne.symm as0, Or.inr vs⟩) (by rw [tr_mPo sb]; exact es) (by rw [pk_un (Ne.symm as0), pk_un sb]; exact eo) ?_ ?_ ?_)
      · rw [eB]
        exact tr_bu (tr_bu hb _ B hB) _ 0 (by omega)
      · intro c l vc cs hl
        obtain ⟨ca, hc⟩ := (V c).mp vc
        unfold tr_mp
        by_cases cb : c = tg + k + 1
        · rw [if_pos cb, hp a l va as0 hl]
          unfold tr_pos
          rw [pk_un ca, cb, pk_us]
        · rw [if_neg cb, if_neg (fun z => cs z.1), hp c l (hc.resolve_left cb) cs hl]
          unfold tr_pos
          rw [pk_un ca, pk_un cb]
      · intro l hl
        unfold tr_mp
        rw [if_neg sb]
        by_cases ek : l = k
        · rw [if_pos ⟨rfl, ek⟩, if_pos (by omega), ek]
        · rw [if_neg (fun z => ek z.2), hq l hl]
          by_cases q : l < k
          · rw [if_pos q, if_pos (by omega)]
          · rw [if_neg q, if_neg (by omega)]
      · intro l hl hor
        have ek : l ≠ k := by
          rcases hor with z | z
          · intro y; exact kl0 (y.symm.trans z)
          · have := z.1; omega
        have D : ck (tg + l + 1) < 0 := hf l hl (hor.imp id (fun z => ⟨by have := z.1; omega, z.2⟩))
        rw [tr_cko S va a0 hpa (by omega) (Ne.symm (tr_vd va D)) (by omega), if_neg]
        · exact D
        · intro z
          rw [z] at D
          exact nI_pos (by have := va.1; omega) D
    · refine br_t (bit.mpr (by simpa using t)) (nm_r (nI_1 k) (ih (k + 1) n P (fun c l => if c = s0 ∧ l = k then tg + k + 1 else pos c l) bs ck co ki wb (by omega) (by omega) hb (tr_Sc S ?_) Q vs es eo ?_ ?_ ?_))
      · intro c l vc hl vp ep
        show (if c = s0 ∧ l = k then tg + k + 1 else pos c l) = pos c l
        rw [if_neg]
        intro z
        rw [z.1, z.2, es] at ep
        apply t
        apply (hset k (by omega)).mpr
        rw [← ep]
        rw [z.1, z.2] at vp
        exact (Q.1 _ vp).1
      · intro c l vc cs hl
        show (if c = s0 ∧ l = k then tg + k + 1 else pos c l) = _
        rw [if_neg (fun z => cs z.1)]
        exact hp c l vc cs hl
      · intro l hl
        show (if s0 = s0 ∧ l = k then tg + k + 1 else pos s0 l) = _
        by_cases ek : l = k
        · rw [if_pos ⟨rfl, ek⟩, if_pos (by omega), ek]
        · rw [if_neg (fun z => ek z.2), hq l hl]
          by_cases q : l < k
          · rw [if_pos q, if_pos (by omega)]
          · rw [if_neg q, if_neg (by omega)]
      · intro l hl hor
        exact hf l hl (hor.imp id (fun z => ⟨by have := z.1; omega, z.2⟩))
theorem xw_mc5 {post : SX → Prop} {p0 : List Nat} {l0 s0 : Nat} (W : Nat → List Nat) (I : tr_I 0 P LP f g h bs ck co ki wb) (vs : tr_v ck s0) (es : P s0 = p0) (hl0 : l0 < 4) (hnl : ¬ LP (p0 ++ [l0])) (hW : ∀ p, LP p → p ≠ [] → ∃ w j, w < 16 ∧ j < 5 ∧ p = (W w).take (j + 1))
    (H : ∀ (P : Nat → List Nat) (bs ck co ki wb : Nat → Int32) (tg : Nat), tr_I 0 P LP f g h bs ck co ki wb → tr_v ck s0 → P s0 = p0 → tg < 500 → bs s0 = nI tg → ck (tg + l0 + 1) < 0 → post (fP, fS, fL, fF, fC, fK, bs, ck, co, ki, wb, sp, tx, lk, ch, nu, fi)) :
    ∀ (d c n st : Nat), c + d = 4 → d < n → st < 16 → (∀ l, l < 4 → (st.testBit l = true ↔ l < c ∧ LP (p0 ++ [l]))) → wX_moveChildren_5 post (nI s0) (nI l0) fP fS fL fF fC fK bs ck co ki wb sp tx lk ch nu fi n (nI st) (nI c) := by
  intro d
  induction d with
  | zero =>
    intro c n st hc hn hst hset
    obtain ⟨n, rfl⟩ : ∃ q, n = q + 1 := ⟨n - 1, by omega⟩
    have e : c = 4 := by omega
    rw [e] at hset
    obtain ⟨b0, hb0, hf0⟩ := tr_free I.2.1 I.2.2 W hW
    obtain ⟨hB, eB⟩ := tr_bB I.1 vs.1
    rw [e, wX_moveChildren_5]
    refine br_t (nI_le (a := 4) (by omega) (by omega)) ?_
    refine xw_freeBase (st := st ||| 2 ^ l0) (qn_or st hst l0 hl0) (qn_or16 st hst l0 hl0) hb0 (fun l hl _ => hf0 l hl) ?_
    intro b hb hf
    refine ⟨vp_in_nI vs.1 (by omega), nm_r (e' := nI (tq_cl (bs s0))) (by rw [nI_clamp (by have := vs.1; omega)]; exact eB) ⟨5, ?_⟩⟩
    refine xw_mc60 (LP := LP) (f := f) (g := g) (h := h) (p0 := p0) (l0 := l0) vs.1 hst ?_ hB hb hl0 hnl ?_ 4 0 5 P (tr_pos bs) bs ck co ki wb (by omega) (by omega) I.1 I.2.1 I.2.2 vs es eB ?_ ?_ ?_
    · intro l hl
      rw [hset l hl]
      exact ⟨fun z => z.2, fun z => ⟨hl, z⟩⟩
    · intro P bs ck co ki wb I vs es eb dd
      exact H P bs ck co ki wb b I vs es hb eb dd
    · intro c l _ _ _
      rfl
    · intro l hl
      rw [if_neg (by omega)]
      rfl
    · intro l hl hor
      exact hf l hl (qn_orb.mpr (hor.elim Or.inr (fun z => Or.inl z.2)))
  | succ d ih =>
    intro c n st hc hn hst hset
    obtain ⟨n, rfl⟩ : ∃ q, n = q + 1 := ⟨n - 1, by omega⟩
    rw [wX_moveChildren_5]
    refine br_f (nI_ge (b := 4) (by omega) (by omega)) ?_
    refine xw_chi (l := c) I rfl rfl vs (by omega) ?_ ?_
    · intro q vq eq
      refine br_f (nI_pos (by have := vq.1; omega)) (nm_r (qn_or st hst c (by omega)) (nm_r (nI_1 c) (ih (c + 1) n (st ||| 2 ^ c) (by omega) (by omega) (qn_or16 st hst c (by omega)) ?_)))
      intro l hl
      rw [qn_orb, hset l hl]
      constructor
      · rintro (z | z)
        · exact ⟨by have := z.1; omega, z.2⟩
        · refine ⟨by omega, ?_⟩
          rw [z, ← es, ← eq]
          exact (I.2.2.1 q vq).1
      · intro z
        rcases Nat.lt_or_ge l c with y | y
        · exact Or.inl ⟨y, z.2⟩
        · exact Or.inr (by have := z.1; omega)
    · intro hno
      refine br_t qn_m1lt (nm_r (nI_1 c) (ih (c + 1) n st (by omega) (by omega) hst ?_))
      intro l hl
      rw [hset l hl]
      constructor
      · intro z
        exact ⟨by have := z.1; omega, z.2⟩
      · intro z
        refine ⟨?_, z.2⟩
        rcases Nat.lt_or_ge l c with y | y
        · exact y
        · have e : l = c := by have := z.1; omega
          rw [e, ← es] at z
          exact absurd z.2 hno
theorem xw_moveChildren {post : SX → Prop} {p0 : List Nat} {l0 s0 : Nat} {x y : Int32} (W : Nat → List Nat) (hx : x = nI s0) (hy : y = nI l0) (I : tr_I 0 P LP f g h bs ck co ki wb) (vs : tr_v ck s0) (es : P s0 = p0) (hl0 : l0 < 4) (hnl : ¬ LP (p0 ++ [l0])) (hW : ∀ p, LP p → p ≠ [] → ∃ w j, w < 16 ∧ j < 5 ∧ p = (W w).take (j + 1))
    (H : ∀ (P : Nat → List Nat) (bs ck co ki wb : Nat → Int32) (tg : Nat), tr_I 0 P LP f g h bs ck co ki wb → tr_v ck s0 → P s0 = p0 → tg < 500 → bs s0 = nI tg → ck (tg + l0 + 1) < 0 → post (fP, fS, fL, fF, fC, fK, bs, ck, co, ki, wb, sp, tx, lk, ch, nu, fi)) : wpX_moveChildren post (fP, fS, fL, fF, fC, fK, bs, ck, co, ki, wb, sp, tx, lk, ch, nu, fi) x y := by
  subst hx
  subst hy
  unfold wpX_moveChildren
  exact ⟨5, xw_mc5 W I vs es hl0 hnl hW H 4 0 5 0 (by omega) (by omega) (by omega) (fun l hl => ⟨fun z => absurd z (by rw [Nat.zero_testBit]; decide), fun z => absurd z.1 (by omega)⟩)⟩
theorem xw_ad41 {post : Int32 → SX → Prop} {s c : Nat} {x y : Int32} (hx : x = nI s) (hy : y = nI c) (hc : c < 512) (k : post (nI c) (fP, fS, fL, fF, fC, fK, upd bs c 0, upd ck c (nI s), upd co c (-1), ki, upd wb c 0, sp, tx, lk, ch, nu, fi)) : wX_addChild_41 post x y fP fS fL fF fC fK bs ck co ki wb sp tx lk ch nu fi := by
  subst hx
  subst hy
  have hv : vp_in (nI c) 512 := vp_in_nI hc (by omega)
  have e : (nI c).toNatClampNeg = c := nI_clamp (by omega)
  unfold wX_addChild_41
  rw [e]
  exact ⟨hv, nm_e ⟨hv, nm_e ⟨hv, nm_e ⟨hv, nm_e k⟩⟩⟩⟩
theorem xw_addChild {post : Int32 → SX → Prop} {p0 : List Nat} {l s : Nat} {x y : Int32} (W : Nat → List Nat) (hx : x = nI s) (hy : y = nI l) (I : tr_I 0 P LP f g h bs ck co ki wb) (vs : tr_v ck s) (es : P s = p0) (hl : l < 4) (hnl : ¬ LP (p0 ++ [l])) (f0 : f (p0 ++ [l]) = 0) (g0 : g (p0 ++ [l]) = -1) (hW : ∀ p, LP p → p ≠ [] → ∃ w j, w < 16 ∧ j < 5 ∧ p = (W w).take (j + 1))
    (H : ∀ (c : Nat) (P : Nat → List Nat) (bs ck co ki wb : Nat → Int32), tr_I 0 P (fun p => LP p ∨ p = p0 ++ [l]) f g h bs ck co ki wb → tr_v ck c → P c = p0 ++ [l] → post (nI c) (fP, fS, fL, fF, fC, fK, bs, ck, co, ki, wb, sp, tx, lk, ch, nu, fi)) : wpX_addChild post (fP, fS, fL, fF, fC, fK, bs, ck, co, ki, wb, sp, tx, lk, ch, nu, fi) x y := by
  subst hx
  subst hy
  obtain ⟨hB, eB⟩ := tr_bB I.1 vs.1
  have s5 := vs.1
  have h5 := tr_p5 I.1 vs.1 hl
  have es0 : (nI s).toNatClampNeg = s := nI_clamp (by omega)
  have K : ∀ (P : Nat → List Nat) (bs ck co ki wb : Nat → Int32) (c : Nat), tr_I 0 P LP f g h bs ck co ki wb → tr_v ck s → P s = p0 → c = tr_pos bs s l → c < 512 → ck c < 0 → wX_addChild_41 post (nI s) (nI c) fP fS fL fF fC fK bs ck co ki wb sp tx lk ch nu fi := by
    intro P bs ck co ki wb c I vs es hc c5 dc
    rw [← es] at hnl f0 g0
    obtain ⟨A, vA, eA⟩ := tr_add I vs hl hnl hc c5 dc f0 g0
    rw [es] at A eA
    exact xw_ad41 rfl rfl c5 (H c _ _ _ _ _ _ A vA eA)
  have M : wX_addChild_24 post (nI s) (nI l) fP fS fL fF fC fK bs ck co ki wb sp tx lk ch nu fi := by
    unfold wX_addChild_24
    refine xw_moveChildren W rfl rfl I vs es hl hnl hW ?_
    intro P bs ck co ki wb tg I vs es htg eb dd
    refine ⟨vp_in_nI vs.1 (by omega), nm_r (e' := nI (tg + l + 1)) (by rw [es0, eb, nI_add, nI_1]) ?_⟩
    refine K P bs ck co ki wb _ I vs es ?_ (by omega) dd
    unfold tr_pos
    rw [eb, tq_clN (by omega)]
  unfold wpX_addChild
  refine ⟨vp_in_nI vs.1 (by omega), nm_r (e' := nI (tr_pos bs s l)) ?_ ⟨vp_in_nI h5 (by omega), ?_⟩⟩
  · rw [es0, eB, nI_add, nI_1]
    rfl
  · have ec : (nI (tr_pos bs s l)).toNatClampNeg = tr_pos bs s l := nI_clamp (by omega)
    refine br_c (fun _ => M) (fun z => ?_)
    rw [ec] at z
    exact br_f (nI_ne0 (by unfold tr_pos; omega) (by omega)) (K P bs ck co ki wb _ I vs es rfl h5 (qn_ltn z))
end WL03
end
section
section WL04
variable {fP fS fL fF fC fK : Int32} {bs ck co ki wb sp tx lk ch nu fi : Nat → Int32}
variable {P : Nat → List Nat} {LP : List Nat → Prop} {f : List Nat → Nat} {g h : List Nat → Int32}
theorem tr_Ic {ex : Nat} {LP' : List Nat → Prop} {f' : List Nat → Nat} (I : tr_I ex P LP f g h bs ck co ki wb) (hL : ∀ p, LP p ↔ LP' p) (hf : ∀ p, LP p → f p = f' p) : tr_I ex P LP' f' g h bs ck co ki wb :=
  ⟨I.1, I.2.1, tr_Pc I.2.2 hL hf (fun _ _ => rfl) (fun _ _ _ => rfl)⟩
theorem tr_Ig {ex : Nat} {g' h' : List Nat → Int32} (I : tr_I ex P LP f g h bs ck co ki wb) (hg : ∀ p, LP p → g p = g' p) (hh : ∀ p, LP p → 0 ≤ g p → h p = h' p) : tr_I ex P LP f g' h' bs ck co ki wb :=
  ⟨I.1, I.2.1, tr_Pc I.2.2 (fun _ => Iff.rfl) (fun _ _ => rfl) hg hh⟩
/-! a word counted in -/
def gr_p (sp : Nat → Int32) (i : Nat) (p : List Nat) : Prop := p.length ≤ i ∧ p = tq_sg sp 0 p.length
theorem gr_at {i j : Nat} (hj : j ≤ i) : gr_p sp i (tq_sg sp 0 j) := ⟨by rw [tq_len]; exact hj, by rw [tq_len]⟩
theorem gr_na {i j : Nat} (hj : i < j) : ¬ gr_p sp i (tq_sg sp 0 j) := by
  intro z
  have h1 := z.1
  rw [tq_len] at h1
  omega
theorem gr_s {i : Nat} {p : List Nat} : gr_p sp (i + 1) p ↔ gr_p sp i p ∨ p = tq_sg sp 0 (i + 1) := by
  constructor
  · intro z
    rcases Nat.lt_or_ge i p.length with q | q
    · have e : p.length = i + 1 := by have := z.1; omega
      right
      rw [← e]; exact z.2
    · exact Or.inl ⟨q, z.2⟩
  · rintro (z | z)
    · exact ⟨by have := z.1; omega, z.2⟩
    · rw [z]; exact gr_at (by omega)
def gr_f (f : List Nat → Nat) (sp : Nat → Int32) (i : Nat) (p : List Nat) : Nat := f p + (if p.length ≤ i ∧ p = tq_sg sp 0 p.length then 1 else 0)
theorem gr_f1 {i : Nat} {p : List Nat} (z : gr_p sp i p) : gr_f f sp i p = f p + 1 := by
  unfold gr_f
  unfold gr_p at z
  rw [if_pos z]
theorem gr_f0 {i : Nat} {p : List Nat} (z : ¬ gr_p sp i p) : gr_f f sp i p = f p := by
  unfold gr_f
  unfold gr_p at z
  rw [if_neg z]
  rfl
theorem gr_fs {i : Nat} {p : List Nat} (z : p ≠ tq_sg sp 0 (i + 1)) : gr_f f sp (i + 1) p = gr_f f sp i p := by
  by_cases y : gr_p sp i p
  · rw [gr_f1 y, gr_f1 (gr_s.mpr (Or.inl y))]
  · rw [gr_f0 y, gr_f0 (fun x => (gr_s.mp x).elim y z)]
def gr_L (LP : List Nat → Prop) (sp : Nat → Int32) (i : Nat) (p : List Nat) : Prop := LP p ∨ gr_p sp i p
theorem gr_Ls {i : Nat} {p : List Nat} : (gr_L LP sp i p ∨ p = tq_sg sp 0 (i + 1)) ↔ gr_L LP sp (i + 1) p := by
  unfold gr_L
  rw [gr_s, or_assoc]
theorem gr_Lm {i m : Nat} (hi : i ≤ m) {p : List Nat} (z : gr_L LP sp i p) : gr_L LP sp m p :=
  z.imp id (fun y => ⟨Nat.le_trans y.1 hi, y.2⟩)
theorem xw_grow14 {post : Int32 → SX → Prop} {m : Nat} (W : Nat → List Nat) (hm : m ≤ 5) (hL : tq_L sp) (hf : ∀ p, ¬ LP p → f p = 0) (hg : ∀ p, ¬ LP p → g p = -1) (hW : ∀ p, gr_L LP sp m p → p ≠ [] → ∃ w j, w < 16 ∧ j < 5 ∧ p = (W w).take (j + 1))
    (H : ∀ (c : Nat) (P : Nat → List Nat) (bs ck co ki wb : Nat → Int32), tr_I 0 P (gr_L LP sp m) (gr_f f sp m) g h bs ck co ki wb → tr_v ck c → P c = tq_sg sp 0 m → post (nI c) (fP, nI m, fL, fF, fC, fK, bs, ck, co, ki, wb, sp, tx, lk, ch, nu, fi)) :
    ∀ (d i s n : Nat) (P : Nat → List Nat) (bs ck co ki wb : Nat → Int32), i + d = m → d < n → tr_I 0 P (gr_L LP sp i) (gr_f f sp i) g h bs ck co ki wb → tr_v ck s → P s = tq_sg sp 0 i → wX_grow_14 post n (nI s) (nI i) fP (nI m) fL fF fC fK bs ck co ki wb sp tx lk ch nu fi := by
  intro d
  induction d with
  | zero =>
    intro i s n P bs ck co ki wb hi hn I vs es
    obtain ⟨n, rfl⟩ : ∃ q, n = q + 1 := ⟨n - 1, by omega⟩
    have e : i = m := by omega
    rw [e] at I es
    rw [e, wX_grow_14]
    exact br_t (nI_le (by omega) (by omega)) (H s P bs ck co ki wb I vs es)
  | succ d ih =>
    intro i s n P bs ck co ki wb hi hn I vs es
    obtain ⟨n, rfl⟩ : ∃ q, n = q + 1 := ⟨n - 1, by omega⟩
    have K : ∀ (c : Nat) (P : Nat → List Nat) (bs ck co ki wb : Nat → Int32), tr_I 0 P (fun p => gr_L LP sp i p ∨ p = tq_sg sp 0 (i + 1)) (gr_f f sp i) g h bs ck co ki wb → tr_v ck c → P c = tq_sg sp 0 (i + 1) → wX_grow_50 post (wX_grow_14 post n) (nI i) (nI c) fP (nI m) fL fF fC fK bs ck co ki wb sp tx lk ch nu fi := by
      intro c P bs ck co ki wb I vc ec
      have c5 := vc.1
      have cc : (nI c).toNatClampNeg = c := nI_clamp (by omega)
      have hv : vp_in (nI c) 512 := vp_in_nI c5 (by omega)
      have ew : wb c + 1 = nI (gr_f f sp (i + 1) (P c)) := by
        rw [(I.2.2.1 c vc).2.1, ec, gr_f0 (gr_na (by omega)), gr_f1 (gr_at (by omega)), nI_1]
      have I2 := tr_wb (f' := gr_f f sp (i + 1)) I vc ew (fun p _ hp => gr_fs (by rw [← ec]; exact hp))
      unfold wX_grow_50
      rw [cc]
      exact ⟨hv, hv, nm_e (nm_r (nI_1 i) (ih (i + 1) c n P bs ck co ki _ (by omega) (by omega) (tr_Ic I2 (fun p => gr_Ls) (fun _ _ => rfl)) vc ec))⟩
    have ei : sp (nI i).toNatClampNeg = nI (tq_cl (sp i)) := by rw [nI_clamp (by omega)]; exact tq_nI hL i
    have hv : vp_in (nI i) 5 := vp_in_nI (by omega) (by omega)
    have eq : P s ++ [tq_cl (sp i)] = tq_sg sp 0 (i + 1) := by rw [es, tq_sg0s]
    rw [wX_grow_14]
    refine br_f (nI_ge (by omega) (by omega)) ⟨hv, ?_⟩
    refine xw_chi (l := tq_cl (sp i)) I rfl ei vs (tq_lt hL i) ?_ ?_
    · intro c vc ec
      rw [eq] at ec
      have hc : gr_L LP sp i (tq_sg sp 0 (i + 1)) := by
        rw [← ec]; exact (I.2.2.1 c vc).1
      refine br_t (nI_pos' (by have := vc.1; omega)) (K c P bs ck co ki wb (tr_Ic I (fun p => ⟨Or.inl, fun z => z.elim id (fun y => by rw [y]; exact hc)⟩) (fun _ _ => rfl)) vc ec)
    · intro hno
      rw [eq] at hno
      refine br_f qn_m1le ⟨hv, ?_⟩
      refine xw_addChild (p0 := tq_sg sp 0 i) (l := tq_cl (sp i)) W rfl ei I vs es (tq_lt hL i) (by rw [← tq_sg0s]; exact hno) ?_ ?_ (fun p hp => hW p (gr_Lm (by omega) hp)) ?_
      · rw [← tq_sg0s, gr_f0 (fun z => hno (Or.inr z))]
        exact hf _ (fun z => hno (Or.inl z))
      · rw [← tq_sg0s]
        exact hg _ (fun z => hno (Or.inl z))
      · intro c P bs ck co ki wb I vc ec
        rw [← tq_sg0s] at I ec
        exact K c P bs ck co ki wb I vc ec
theorem xw_grow {post : Int32 → SX → Prop} {m : Nat} (W : Nat → List Nat) (hm : m ≤ 5) (hL : tq_L sp) (h0 : LP []) (hf : ∀ p, ¬ LP p → f p = 0) (hg : ∀ p, ¬ LP p → g p = -1) (hW : ∀ p, gr_L LP sp m p → p ≠ [] → ∃ w j, w < 16 ∧ j < 5 ∧ p = (W w).take (j + 1)) (I : tr_I 0 P LP f g h bs ck co ki wb)
    (H : ∀ (c : Nat) (P : Nat → List Nat) (bs ck co ki wb : Nat → Int32), tr_I 0 P (gr_L LP sp m) (gr_f f sp m) g h bs ck co ki wb → tr_v ck c → P c = tq_sg sp 0 m → post (nI c) (fP, nI m, fL, fF, fC, fK, bs, ck, co, ki, wb, sp, tx, lk, ch, nu, fi)) : wpX_grow post (fP, nI m, fL, fF, fC, fK, bs, ck, co, ki, wb, sp, tx, lk, ch, nu, fi) := by
  have v0 := tr_v0 I.2.1.1
  have e0 := I.2.1.2.1
  have ew : wb 0 + 1 = nI (gr_f f sp 0 (P 0)) := by
    rw [(I.2.2.1 0 v0).2.1, e0, gr_f1 (sp := sp) (i := 0) ⟨by decide, rfl⟩, nI_1]
  have I2 := tr_wb (f' := gr_f f sp 0) I v0 ew (fun p _ hp => by
    rw [gr_f0]
    intro z
    apply hp
    rw [e0]
    exact List.eq_nil_of_length_eq_zero (by have := z.1; omega))
  have I3 := tr_Ic (LP' := gr_L LP sp 0) (f' := gr_f f sp 0) I2 (fun p => ⟨Or.inl, fun z => z.elim id (fun y => by
    have e : p = [] := List.eq_nil_of_length_eq_zero (by have := y.1; omega)
    rw [e]; exact h0)⟩) (fun _ _ => rfl)
  unfold wpX_grow
  exact nm_e ⟨6, xw_grow14 W hm hL hf hg hW H m 0 0 6 P bs ck co ki _ (by omega) (by omega) I3 v0 e0⟩
/-! a word counted out -/
def pr_f (f : List Nat → Nat) (sp : Nat → Int32) (i : Nat) (p : List Nat) : Nat := f p - (if p.length ≤ i ∧ p = tq_sg sp 0 p.length then 1 else 0)
theorem pr_f1 {i : Nat} {p : List Nat} (z : gr_p sp i p) : pr_f f sp i p = f p - 1 := by
  unfold pr_f
  unfold gr_p at z
  rw [if_pos z]
theorem pr_f0 {i : Nat} {p : List Nat} (z : ¬ gr_p sp i p) : pr_f f sp i p = f p := by
  unfold pr_f
  unfold gr_p at z
  rw [if_neg z]
  rfl
theorem pr_fs {i : Nat} {p : List Nat} (z : p ≠ tq_sg sp 0 (i + 1)) : pr_f f sp (i + 1) p = pr_f f sp i p := by
  by_cases y : gr_p sp i p
  · rw [pr_f1 y, pr_f1 (gr_s.mpr (Or.inl y))]
  · rw [pr_f0 y, pr_f0 (fun x => (gr_s.mp x).elim y z)]
def pr_L (LP : List Nat → Prop) (f : List Nat → Nat) (sp : Nat → Int32) (i : Nat) (p : List Nat) : Prop := LP p ∧ ¬ (1 ≤ p.length ∧ p.length < i ∧ p = tq_sg sp 0 p.length ∧ f p = 1)
theorem pr_Ls {i : Nat} (hi : i = 0 ∨ f (tq_sg sp 0 i) ≠ 1) {p : List Nat} : pr_L LP f sp i p ↔ pr_L LP f sp (i + 1) p := by
  unfold pr_L
  constructor
  · rintro ⟨a, b⟩
    refine ⟨a, fun z => ?_⟩
    obtain ⟨z1, z2, z3, z4⟩ := z
    rcases Nat.lt_or_ge p.length i with q | q
    · exact b ⟨z1, q, z3, z4⟩
    · have e : p.length = i := by omega
      rcases hi with y | y
      · omega
      · apply y
        rw [e] at z3
        rw [← z3]; exact z4
  · rintro ⟨a, b⟩
    exact ⟨a, fun z => b ⟨z.1, by have := z.2.1; omega, z.2.2⟩⟩
theorem pr_Lr {i : Nat} (hi : 1 ≤ i) (h1 : f (tq_sg sp 0 i) = 1) {p : List Nat} : (pr_L LP f sp i p ∧ p ≠ tq_sg sp 0 i) ↔ pr_L LP f sp (i + 1) p := by
  unfold pr_L
  constructor
  · rintro ⟨⟨a, b⟩, c⟩
    refine ⟨a, fun z => ?_⟩
    obtain ⟨z1, z2, z3, z4⟩ := z
    rcases Nat.lt_or_ge p.length i with q | q
    · exact b ⟨z1, q, z3, z4⟩
    · have e : p.length = i := by omega
      rw [e] at z3
      exact c z3
  · rintro ⟨a, b⟩
    refine ⟨⟨a, fun z => b ⟨z.1, by have := z.2.1; omega, z.2.2⟩⟩, fun z => b ?_⟩
    rw [z, tq_len]
    exact ⟨hi, by omega, rfl, h1⟩
theorem xw_prune14 {post : SX → Prop} {m : Nat} (hm1 : 1 ≤ m) (hm : m ≤ 5) (hL : tq_L sp) (F0 : ∀ p, f p ≤ 16) (F1 : ∀ p, LP p → p ≠ [] → 0 < f p) (F2 : ∀ j, j ≤ m → LP (tq_sg sp 0 j) ∧ 0 < f (tq_sg sp 0 j)) (F3 : ∀ j, j < m → f (tq_sg sp 0 (j + 1)) ≤ f (tq_sg sp 0 j)) (F4 : ∀ j l, j ≤ m → f (tq_sg sp 0 j) = 1 → 0 < f (tq_sg sp 0 j ++ [l]) → j < m ∧ tq_sg sp 0 j ++ [l] = tq_sg sp 0 (j + 1))
    (H : ∀ (P : Nat → List Nat) (bs ck co wb : Nat → Int32), tr_I 0 P (pr_L LP f sp (m + 1)) (pr_f f sp m) g h bs ck co ki wb → post (fP, nI m, fL, fF, fC, fK, bs, ck, co, ki, wb, sp, tx, lk, ch, nu, fi)) :
    ∀ (d i s ex n : Nat) (P : Nat → List Nat) (bs ck co wb : Nat → Int32), i + d = m → d < n → tr_I ex P (pr_L LP f sp i) (pr_f f sp i) g h bs ck co ki wb → tr_v ck s → P s = tq_sg sp 0 i → (ex = 0 ∨ (ex = s ∧ f (tq_sg sp 0 i) = 1)) → wX_prune_14 post n (nI s) (nI i) fP (nI m) fL fF fC fK bs ck co ki wb sp tx lk ch nu fi := by
  intro d
  induction d with
  | zero =>
    intro i s ex n P bs ck co wb hi hn I vs es hex
    obtain ⟨n, rfl⟩ : ∃ q, n = q + 1 := ⟨n - 1, by omega⟩
    have e : i = m := by omega
    rw [e] at I es hex
    have s5 := vs.1
    have cc : (nI s).toNatClampNeg = s := nI_clamp (by omega)
    have ew : wb s = nI (f (tq_sg sp 0 m) - 1) := by
      rw [(I.2.2.1 s vs).2.1, es, pr_f1 (gr_at (by omega))]
    have fp := (F2 m (by omega)).2
    rw [e, wX_prune_14]
    refine br_t (nI_le (by omega) (by omega)) ⟨vp_in_nI s5 (by omega), ?_⟩
    rw [cc, ew]
    by_cases one : f (tq_sg sp 0 m) = 1
    · have s0 : s ≠ 0 := by
        intro z
        rw [z, I.2.1.2.1] at es
        have h1 := congrArg List.length es
        rw [tq_len] at h1
        have h2 : ([] : List Nat).length = 0 := rfl
        omega
      obtain ⟨I2, _⟩ := tr_rel (ex' := 0) I vs s0 (hex.imp id (fun z => z.1)) (fun d l vd ed => by
        have h1 := (I.2.2.1 d vd).1.1
        rw [ed, es] at h1
        have h2 := F4 m l (by omega) one (F1 _ h1 (by simp))
        omega)
      rw [es] at I2
      refine br_t (by rw [one]; rfl) (xw_release rfl s5 ?_)
      exact H P _ _ _ _ (tr_Ic I2 (fun p => pr_Lr hm1 one) (fun _ _ => rfl))
    · have hx : ex = 0 := hex.elim id (fun z => absurd z.2 one)
      rw [hx] at I
      refine br_f (nI_ne0 (by omega) (by have := F0 (tq_sg sp 0 m); omega)) ?_
      exact H P _ _ _ _ (tr_Ic I (fun p => pr_Ls (Or.inr one)) (fun _ _ => rfl))
  | succ d ih =>
    intro i s ex n P bs ck co wb hi hn I vs es hex
    obtain ⟨n, rfl⟩ : ∃ q, n = q + 1 := ⟨n - 1, by omega⟩
    have s5 := vs.1
    have cs : (nI s).toNatClampNeg = s := nI_clamp (by omega)
    have fp := (F2 i (by omega)).2
    have ew : wb s = nI (f (tq_sg sp 0 i) - 1) := by
      rw [(I.2.2.1 s vs).2.1, es, pr_f1 (gr_at (by omega))]
    have hLP : pr_L LP f sp i (tq_sg sp 0 (i + 1)) := ⟨(F2 (i + 1) (by omega)).1, fun z => by
      have h1 := z.2.1
      rw [tq_len] at h1
      omega⟩
    obtain ⟨c, vc, ec⟩ := I.2.2.2 _ hLP
    have eP : P c = P s ++ [tq_cl (sp i)] := by rw [ec, es, tq_sg0s]
    have cs0 : c ≠ s := by
      intro z
      rw [z] at eP
      exact tq_self eP
    have cex : c ≠ ex := by
      rcases hex with z | z
      · rw [z]; exact tr_c0 I.2.1 eP
      · rw [z.1]; exact cs0
    obtain ⟨h1, h2, _⟩ := tr_par I.2.1 vs vc cex eP
    obtain ⟨hB, eB⟩ := tr_bB I.1 s5
    have K : ∀ (ex : Nat) (P : Nat → List Nat) (bs ck co wb : Nat → Int32), tr_I ex P (pr_L LP f sp (i + 1)) (pr_f f sp i) g h bs ck co ki wb → tr_v ck c → P c = tq_sg sp 0 (i + 1) → (ex = 0 ∨ (ex = c ∧ f (tq_sg sp 0 (i + 1)) = 1)) → wX_prune_52 post (wX_prune_14 post n) (nI i) (nI c) fP (nI m) fL fF fC fK bs ck co ki wb sp tx lk ch nu fi := by
      intro ex P bs ck co wb I vc ec hex
      have c5 := vc.1
      have cc : (nI c).toNatClampNeg = c := nI_clamp (by omega)
      have hv : vp_in (nI c) 512 := vp_in_nI c5 (by omega)
      have fp := (F2 (i + 1) (by omega)).2
      have ew : wb c - 1 = nI (pr_f f sp (i + 1) (P c)) := by
        rw [(I.2.2.1 c vc).2.1, ec, pr_f0 (gr_na (by omega)), pr_f1 (gr_at (by omega))]
        exact pk_sub (b := 1) fp
      have I2 := tr_wb (f' := pr_f f sp (i + 1)) I vc ew (fun p _ hp => pr_fs (by rw [← ec]; exact hp))
      unfold wX_prune_52
      rw [cc]
      exact ⟨hv, hv, nm_e (nm_r (nI_1 i) (ih (i + 1) c ex n P bs ck co _ (by omega) (by omega) I2 vc ec hex))⟩
    have w1 : f (tq_sg sp 0 i) ≠ 1 → ¬ wb (nI s).toNatClampNeg = 0 := by
      intro z
      rw [cs, ew]
      exact nI_ne0 (by omega) (by have := F0 (tq_sg sp 0 i); omega)
    have w0 : f (tq_sg sp 0 i) = 1 → wb (nI s).toNatClampNeg = 0 := by
      intro z
      rw [cs, ew, z]; rfl
    rw [wX_prune_14]
    refine br_f (nI_ge (by omega) (by omega)) ⟨vp_in_nI (by omega) (by omega), ?_⟩
    refine xw_child (c := c) rfl (by rw [nI_clamp (by omega)]; exact tq_nI hL i) s5 eB h2.symm vc.1 (fun _ => ?_) (fun z => absurd h1 z)
    refine ⟨vp_in_nI s5 (by omega), ?_⟩
    by_cases one : f (tq_sg sp 0 i) = 1
    · refine br_t (w0 one) ?_
      by_cases s0 : s = 0
      · have i0 : i = 0 := by
          rw [s0, I.2.1.2.1] at es
          have h3 := congrArg List.length es
          rw [tq_len] at h3
          exact h3.symm
        have x0 : ex = 0 := hex.elim id (fun z => z.1.trans s0)
        rw [x0] at I
        exact br_t (by rw [s0]; rfl) (K 0 P bs ck co wb (tr_Ic I (fun p => pr_Ls (Or.inl i0)) (fun _ _ => rfl)) vc ec (Or.inl rfl))
      · have i1 : 1 ≤ i := by
          rcases Nat.lt_or_ge 0 i with q | q
          · exact q
          · exfalso
            apply s0
            apply I.2.1.2.2.2 s 0 vs (tr_v0 I.2.1.1)
            have e : i = 0 := by omega
            rw [es, I.2.1.2.1, e]
            rfl
        obtain ⟨I2, V⟩ := tr_rel (ex' := c) I vs s0 (hex.imp id (fun z => z.1)) (fun d l vd ed => by
          have h3 := (I.2.2.1 d vd).1.1
          have h4 := ed
          rw [es] at h4
          rw [h4] at h3
          have h5 := F4 i l (by omega) one (F1 _ h3 (by simp))
          apply I.2.1.2.2.2 d c vd vc
          rw [h4, h5.2, ec])
        rw [es] at I2
        have f1 : f (tq_sg sp 0 (i + 1)) = 1 := by
          have h3 := F3 i (by omega)
          have h4 := (F2 (i + 1) (by omega)).2
          omega
        refine br_f (fun z => s0 (qn_inj z (by omega) (by omega))) (xw_release rfl s5 ?_)
        exact K c P _ _ _ _ (tr_Ic I2 (fun p => pr_Lr i1 one) (fun _ _ => rfl)) ((V c).mpr ⟨cs0, vc⟩) ec (Or.inr ⟨rfl, f1⟩)
    · have hx : ex = 0 := hex.elim id (fun z => absurd z.2 one)
      rw [hx] at I
      exact br_f (w1 one) (K 0 P bs ck co wb (tr_Ic I (fun p => pr_Ls (Or.inr one)) (fun _ _ => rfl)) vc ec (Or.inl rfl))
theorem xw_prune {post : SX → Prop} {m : Nat} (hm1 : 1 ≤ m) (hm : m ≤ 5) (hL : tq_L sp) (F0 : ∀ p, f p ≤ 16) (F1 : ∀ p, LP p → p ≠ [] → 0 < f p) (F2 : ∀ j, j ≤ m → LP (tq_sg sp 0 j) ∧ 0 < f (tq_sg sp 0 j)) (F3 : ∀ j, j < m → f (tq_sg sp 0 (j + 1)) ≤ f (tq_sg sp 0 j)) (F4 : ∀ j l, j ≤ m → f (tq_sg sp 0 j) = 1 → 0 < f (tq_sg sp 0 j ++ [l]) → j < m ∧ tq_sg sp 0 j ++ [l] = tq_sg sp 0 (j + 1)) (I : tr_I 0 P LP f g h bs ck co ki wb)
    (H : ∀ (P : Nat → List Nat) (bs ck co wb : Nat → Int32), tr_I 0 P (pr_L LP f sp (m + 1)) (pr_f f sp m) g h bs ck co ki wb → post (fP, nI m, fL, fF, fC, fK, bs, ck, co, ki, wb, sp, tx, lk, ch, nu, fi)) : wpX_prune post (fP, nI m, fL, fF, fC, fK, bs, ck, co, ki, wb, sp, tx, lk, ch, nu, fi) := by
  have v0 := tr_v0 I.2.1.1
  have e0 := I.2.1.2.1
  have fp := (F2 0 (by omega)).2
  have ew : wb 0 - 1 = nI (pr_f f sp 0 (P 0)) := by
    rw [(I.2.2.1 0 v0).2.1, e0, pr_f1 (sp := sp) (i := 0) ⟨by decide, rfl⟩]
    exact pk_sub (b := 1) fp
  have I2 := tr_wb (f' := pr_f f sp 0) I v0 ew (fun p _ hp => by
    rw [pr_f0]
    intro z
    apply hp
    rw [e0]
    exact List.eq_nil_of_length_eq_zero (by have := z.1; omega))
  have I3 := tr_Ic (LP' := pr_L LP f sp 0) (f' := pr_f f sp 0) I2 (fun p => ⟨fun z => ⟨z, fun y => by have := y.2.1; omega⟩, fun z => z.1⟩) (fun _ _ => rfl)
  unfold wpX_prune
  exact nm_e ⟨6, xw_prune14 hm1 hm hL F0 F1 F2 F3 F4 H m 0 0 0 6 P bs ck co _ (by omega) (by omega) I3 v0 e0 (Or.inl rfl)⟩
end WL04
end
section
section WL05
/-! the reference's list of words: pure -/
def dq_w (lt le : Nat → Int32) (w : Nat) : List Nat := tq_sg lt (5 * w) (tq_cl (le w))
def dq_c : Nat → (Nat → Bool) → Nat
  | 0, _ => 0
  | n + 1, q => dq_c n q + (if q n = true then 1 else 0)
theorem dq_cs {n : Nat} {q : Nat → Bool} : dq_c (n + 1) q = dq_c n q + (if q n = true then 1 else 0) := rfl
def dq_pf (p q : List Nat) : Bool := decide (q.take p.length = p)
def dq_f (lt le : Nat → Int32) (nw : Nat) (p : List Nat) : Nat := dq_c nw (fun w => dq_pf p (dq_w lt le w))
def dq_g (lt le pr : Nat → Int32) : Nat → List Nat → Int32
  | 0, _ => -1
  | n + 1, p => if dq_w lt le n = p then pr n else dq_g lt le pr n p
def dq_L (lt le : Nat → Int32) (nw : Nat) (p : List Nat) : Prop := p = [] ∨ 0 < dq_f lt le nw p
def dq_ok (nw : Nat) (lt le pr kd : Nat → Int32) : Prop :=
  nw ≤ 16 ∧ tq_L lt ∧ (∀ w, w < nw → ∃ n, 1 ≤ n ∧ n ≤ 5 ∧ le w = nI n) ∧ (∀ w, w < nw → ∃ c, c ≤ 99 ∧ pr w = nI c) ∧ (∀ w, w < nw → ∃ k, k ≤ 2 ∧ kd w = nI k) ∧
  (∀ w v, w < nw → v < nw → dq_w lt le w = dq_w lt le v → w = v)
theorem dq_cc {q q' : Nat → Bool} : ∀ n, (∀ j, j < n → q' j = q j) → dq_c n q' = dq_c n q := by
  intro n
  induction n with
  | zero => intro _; rfl
  | succ n ih => intro z; rw [dq_cs, dq_cs, ih (fun j hj => z j (by omega)), z n (by omega)]
theorem dq_cm {q q' : Nat → Bool} : ∀ n, (∀ j, j < n → q j = true → q' j = true) → dq_c n q ≤ dq_c n q' := by
  intro n
  induction n with
  | zero => intro _; exact Nat.le_refl 0
  | succ n ih =>
    intro z
    have h1 := ih (fun j hj => z j (by omega))
    rw [dq_cs, dq_cs]
    by_cases e : q n = true
    · rw [if_pos e, if_pos (z n (by omega) e)]; omega
    · rw [if_neg e]; omega
theorem dq_cn {q : Nat → Bool} : ∀ n, dq_c n q ≤ n := by
  intro n
  induction n with
  | zero => exact Nat.le_refl 0
  | succ n ih =>
    rw [dq_cs]
    by_cases e : q n = true
    · rw [if_pos e]; omega
    · rw [if_neg e]; omega
theorem dq_ca {q : Nat → Bool} : ∀ n, (∀ j, j < n → q j = true) → dq_c n q = n := by
  intro n
  induction n with
  | zero => intro _; rfl
  | succ n ih =>
    intro z
    rw [dq_cs, ih (fun j hj => z j (by omega)), if_pos (z n (by omega))]
theorem dq_cp1 {q : Nat → Bool} : ∀ n a, a < n → q a = true → 1 ≤ dq_c n q := by
  intro n
  induction n with
  | zero => intro a ha; omega
  | succ n ih =>
    intro a ha e
    rw [dq_cs]
    rcases Nat.lt_or_ge a n with z | z
    · have := ih a z e; omega
    · have h1 : a = n := by omega
      rw [h1] at e
      rw [if_pos e]; omega
theorem dq_cp2 {q : Nat → Bool} : ∀ n a b, a < b → b < n → q a = true → q b = true → 2 ≤ dq_c n q := by
  intro n
  induction n with
  | zero => intro a b _ hb; omega
  | succ n ih =>
    intro a b hab hb ea eb
    rw [dq_cs]
    rcases Nat.lt_or_ge b n with z | z
    · have := ih a b hab z ea eb; omega
    · have h1 : b = n := by omega
      have h2 := dq_cp1 n a (by omega) ea
      rw [h1] at eb
      rw [if_pos eb]; omega
theorem dq_c1 {q : Nat → Bool} {n a b : Nat} (h : dq_c n q = 1) (ha : a < n) (hb : b < n) (ea : q a = true) (eb : q b = true) : a = b := by
  rcases Nat.lt_or_ge a b with z | z
  · have := dq_cp2 n a b z hb ea eb; omega
  · rcases Nat.lt_or_ge b a with y | y
    · have := dq_cp2 n b a y ha eb ea; omega
    · omega
theorem dq_cx {q : Nat → Bool} : ∀ n, 0 < dq_c n q → ∃ a, a < n ∧ q a = true := by
  intro n
  induction n with
  | zero => intro z; exact absurd z (Nat.lt_irrefl 0)
  | succ n ih =>
    intro z
    by_cases e : q n = true
    · exact ⟨n, by omega, e⟩
    · rw [dq_cs, if_neg e] at z
      obtain ⟨a, ha, ea⟩ := ih z
      exact ⟨a, by omega, ea⟩
theorem dq_cch {q q' : Nat → Bool} {w : Nat} : ∀ n, w < n → (∀ j, j < n → j ≠ w → q' j = q j) → dq_c n q' + (if q w = true then 1 else 0) = dq_c n q + (if q' w = true then 1 else 0) := by
  intro n
  induction n with
  | zero => intro z; omega
  | succ n ih =>
    intro hw z
    rw [dq_cs, dq_cs]
    rcases Nat.lt_or_ge w n with y | y
    · have h1 := ih y (fun j hj => z j (by omega))
      rw [z n (by omega) (by omega)]
      omega
    · have e : w = n := by omega
      rw [e, dq_cc n (fun j hj => z j (by omega) (by omega))]
      omega
theorem dq_crm {q q' : Nat → Bool} {w n : Nat} (hw : w ≤ n) (ho : ∀ j, j < n → j ≠ w → q' j = q j) (hn : w < n → q' w = q n) : dq_c n q' + (if q w = true then 1 else 0) = dq_c (n + 1) q := by
  rw [dq_cs]
  rcases Nat.lt_or_ge w n with y | y
  · rw [← hn y]; exact dq_cch n y ho
  · have e : w = n := by omega
    rw [e, dq_cc n (fun j hj => ho j hj (by omega))]
theorem dq_gin {lt le pr : Nat → Int32} : ∀ n w, (∀ a b, a < n → b < n → dq_w lt le a = dq_w lt le b → a = b) → w < n → dq_g lt le pr n (dq_w lt le w) = pr w := by
  intro n
  induction n with
  | zero => intro w _ z; omega
  | succ n ih =>
    intro w hd hw
    show (if dq_w lt le n = dq_w lt le w then pr n else dq_g lt le pr n (dq_w lt le w)) = pr w
    by_cases e : dq_w lt le n = dq_w lt le w
    · rw [if_pos e, hd n w (by omega) hw e]
    · rw [if_neg e]
      refine ih w (fun a b ha hb => hd a b (by omega) (by omega)) ?_
      rcases Nat.lt_or_ge w n with y | y
      · exact y
      · have e1 : w = n := by omega
        rw [e1] at e
        exact absurd rfl e
theorem dq_gout {lt le pr : Nat → Int32} {p : List Nat} : ∀ n, (∀ w, w < n → dq_w lt le w ≠ p) → dq_g lt le pr n p = -1 := by
  intro n
  induction n with
  | zero => intro _; rfl
  | succ n ih =>
    intro z
    show (if dq_w lt le n = p then pr n else dq_g lt le pr n p) = -1
    rw [if_neg (z n (by omega))]
    exact ih (fun w hw => z w (by omega))
theorem dq_pfr (p : List Nat) : dq_pf p p = true := by
  unfold dq_pf
  rw [decide_eq_true_eq]
  exact List.take_of_length_le (Nat.le_refl _)
theorem dq_pf0 (q : List Nat) : dq_pf [] q = true := by
  unfold dq_pf
  rw [decide_eq_true_eq]
  exact List.take_zero
theorem dq_pfs {sp : Nat → Int32} {m : Nat} {p : List Nat} : dq_pf p (tq_sg sp 0 m) = true ↔ gr_p sp m p := by
  unfold dq_pf gr_p
  rw [decide_eq_true_eq]
  constructor
  · intro e
    have h1 := congrArg List.length e
    rw [List.length_take, tq_len] at h1
    have h2 : p.length ≤ m := by omega
    rw [tq_take sp 0 m _ h2] at e
    exact ⟨h2, e.symm⟩
  · intro z
    rw [tq_take sp 0 m _ z.1]
    exact z.2.symm
theorem dq_pft {p q : List Nat} {l : Nat} (h : dq_pf (p ++ [l]) q = true) : dq_pf p q = true := by
  unfold dq_pf at h ⊢
  rw [decide_eq_true_eq] at h ⊢
  have h1 := congrArg (List.take p.length) h
  rw [List.take_take, List.take_append_of_le_length (Nat.le_refl _), List.take_of_length_le (Nat.le_refl _), List.length_append] at h1
  rw [Nat.min_eq_left (by omega)] at h1
  exact h1
theorem dq_fin {lt le : Nat → Int32} {nw w : Nat} {p : List Nat} (hw : w < nw) (h : dq_pf p (dq_w lt le w) = true) : 0 < dq_f lt le nw p := dq_cp1 nw w hw h
theorem dq_fx {lt le : Nat → Int32} {nw : Nat} {p : List Nat} (h : 0 < dq_f lt le nw p) : ∃ w, w < nw ∧ dq_pf p (dq_w lt le w) = true := dq_cx nw h
theorem dq_f00 {lt le : Nat → Int32} {nw : Nat} : dq_f lt le nw [] = nw := dq_ca nw (fun j _ => dq_pf0 _)
theorem dq_nf {lt le : Nat → Int32} {nw : Nat} {p : List Nat} (h : ¬ dq_L lt le nw p) : dq_f lt le nw p = 0 := by
  rcases Nat.eq_zero_or_pos (dq_f lt le nw p) with z | z
  · exact z
  · exact absurd (Or.inr z) h
theorem dq_ng {lt le pr : Nat → Int32} {nw : Nat} {p : List Nat} (h : ¬ dq_L lt le nw p) : dq_g lt le pr nw p = -1 := by
  apply dq_gout
  intro w hw e
  apply h
  right
  refine dq_fin hw ?_
  rw [e]; exact dq_pfr p
/-- the lengths of prefixes -/
theorem dq_W {lt le pr kd : Nat → Int32} {nw : Nat} (ok : dq_ok nw lt le pr kd) {p : List Nat} (hp : 0 < dq_f lt le nw p) (hn : p ≠ []) : ∃ w j, w < nw ∧ j < 5 ∧ p = (dq_w lt le w).take (j + 1) := by
  obtain ⟨w, hw, e⟩ := dq_fx hp
  obtain ⟨n, h1, h2, e2⟩ := ok.2.2.1 w hw
  unfold dq_pf at e
  rw [decide_eq_true_eq] at e
  have h3 := congrArg List.length e
  have h4 : (dq_w lt le w).length = n := by
    unfold dq_w
    rw [tq_len, e2, tq_clN (by omega)]
  rw [List.length_take, h4] at h3
  have h5 : 0 < p.length := List.length_pos_iff.mpr hn
  refine ⟨w, p.length - 1, hw, by omega, ?_⟩
  rw [Nat.sub_add_cancel h5]
  exact e.symm
/-! a word learned -/
def dq_cp (lt sd : Nat → Int32) (w i : Nat) : Nat → Int32 := fun j => if 5 * w ≤ j ∧ j < 5 * w + i then sd (j - 5 * w) else lt j
theorem dq_cp0 {lt sd : Nat → Int32} {w : Nat} : dq_cp lt sd w 0 = lt := by
  funext j
  exact if_neg (by omega)
theorem dq_cps {lt sd : Nat → Int32} {w i : Nat} : upd (dq_cp lt sd w i) (5 * w + i) (sd i) = dq_cp lt sd w (i + 1) := by
  funext j
  show (if j = 5 * w + i then sd i else (if 5 * w ≤ j ∧ j < 5 * w + i then sd (j - 5 * w) else lt j)) = (if 5 * w ≤ j ∧ j < 5 * w + (i + 1) then sd (j - 5 * w) else lt j)
  by_cases e : j = 5 * w + i
  · rw [if_pos e, if_pos (by omega), e, Nat.add_sub_cancel_left]
  · rw [if_neg e]
    by_cases c : 5 * w ≤ j ∧ j < 5 * w + i
    · rw [if_pos c, if_pos (by omega)]
    · rw [if_neg c, if_neg (by omega)]
theorem dq_cpL {lt sd : Nat → Int32} {w i : Nat} (h1 : tq_L lt) (h2 : tq_L sd) : tq_L (dq_cp lt sd w i) := by
  intro j
  show ∃ l, l < 4 ∧ (if 5 * w ≤ j ∧ j < 5 * w + i then sd (j - 5 * w) else lt j) = nI l
  by_cases c : 5 * w ≤ j ∧ j < 5 * w + i
  · rw [if_pos c]; exact h2 _
  · rw [if_neg c]; exact h1 _
theorem dq_cpo {lt sd : Nat → Int32} {w v i n : Nat} (hv : v ≠ w) (hi : i ≤ 5) (hn : n ≤ 5) : tq_sg (dq_cp lt sd w i) (5 * v) n = tq_sg lt (5 * v) n := by
  apply tq_ext
  intro t ht
  show tq_cl (if 5 * w ≤ 5 * v + t ∧ 5 * v + t < 5 * w + i then sd (5 * v + t - 5 * w) else lt (5 * v + t)) = _
  rw [if_neg (by omega)]
theorem dq_cpn {lt sd : Nat → Int32} {w i : Nat} : tq_sg (dq_cp lt sd w i) (5 * w) i = tq_sg sd 0 i := by
  apply tq_ext
  intro t ht
  show tq_cl (if 5 * w ≤ 5 * w + t ∧ 5 * w + t < 5 * w + i then sd (5 * w + t - 5 * w) else lt (5 * w + t)) = _
  rw [if_pos (by omega), Nat.add_sub_cancel_left, Nat.zero_add]
theorem dq_len {nw : Nat} {lt le pr kd : Nat → Int32} (ok : dq_ok nw lt le pr kd) {w : Nat} (hw : w < nw) : 1 ≤ tq_cl (le w) ∧ tq_cl (le w) ≤ 5 ∧ le w = nI (tq_cl (le w)) := by
  obtain ⟨n, h1, h2, e⟩ := ok.2.2.1 w hw
  rw [e, tq_clN (by omega)]
  exact ⟨h1, h2, rfl⟩
section NEW
variable {nw m : Nat} {lt le pr kd sd : Nat → Int32} {c k : Int32}
theorem dn_wo (ok : dq_ok nw lt le pr kd) (hm : m ≤ 5) {w : Nat} (hw : w < nw) : dq_w (dq_cp lt sd nw m) (upd le nw (nI m)) w = dq_w lt le w := by
  unfold dq_w
  rw [pk_un (by omega)]
  exact dq_cpo (by omega) hm (dq_len ok hw).2.1
theorem dn_wn (hm : m ≤ 5) : dq_w (dq_cp lt sd nw m) (upd le nw (nI m)) nw = tq_sg sd 0 m := by
  unfold dq_w
  rw [pk_us, tq_clN (by omega)]
  exact dq_cpn
theorem dn_f (ok : dq_ok nw lt le pr kd) (hm : m ≤ 5) (p : List Nat) : dq_f (dq_cp lt sd nw m) (upd le nw (nI m)) (nw + 1) p = gr_f (dq_f lt le nw) sd m p := by
  unfold dq_f
  rw [dq_cs, dq_cc (q := fun w => dq_pf p (dq_w lt le w)) nw (fun j hj => by rw [dn_wo ok hm hj])]
  show _ + (if dq_pf p (dq_w (dq_cp lt sd nw m) (upd le nw (nI m)) nw) = true then 1 else 0) = _
  rw [dn_wn hm]
  by_cases z : gr_p sd m p
  · rw [if_pos (dq_pfs.mpr z), gr_f1 z]
  · rw [if_neg (fun y => z (dq_pfs.mp y)), gr_f0 z]; rfl
theorem dn_g (ok : dq_ok nw lt le pr kd) (hm : m ≤ 5) {a : Nat → Int32} {x : Int32} (p : List Nat) : dq_g (dq_cp lt sd nw m) (upd le nw (nI m)) (upd a nw x) (nw + 1) p = if tq_sg sd 0 m = p then x else dq_g lt le a nw p := by
  show (if dq_w (dq_cp lt sd nw m) (upd le nw (nI m)) nw = p then upd a nw x nw else dq_g (dq_cp lt sd nw m) (upd le nw (nI m)) (upd a nw x) nw p) = _
  rw [dn_wn hm, pk_us]
  have A : ∀ n, n ≤ nw → dq_g (dq_cp lt sd nw m) (upd le nw (nI m)) (upd a nw x) n p = dq_g lt le a n p := by
    intro n
    induction n with
    | zero => intro _; rfl
    | succ n ih =>
      intro hn
      show (if dq_w (dq_cp lt sd nw m) (upd le nw (nI m)) n = p then upd a nw x n else dq_g (dq_cp lt sd nw m) (upd le nw (nI m)) (upd a nw x) n p) = (if dq_w lt le n = p then a n else dq_g lt le a n p)
      rw [dn_wo ok hm (by omega), pk_un (by omega), ih (by omega)]
  rw [A nw (Nat.le_refl _)]
theorem dn_ok (ok : dq_ok nw lt le pr kd) (h16 : nw < 16) (hm1 : 1 ≤ m) (hm : m ≤ 5) (hd : tq_L sd) {c k : Nat} (hc : c ≤ 99) (hk : k ≤ 2) (hn : ∀ w, w < nw → dq_w lt le w ≠ tq_sg sd 0 m) : dq_ok (nw + 1) (dq_cp lt sd nw m) (upd le nw (nI m)) (upd pr nw (nI c)) (upd kd nw (nI k)) := by
  have hE : ∀ {w : Nat}, w < nw + 1 → w = nw ∨ (w < nw ∧ w ≠ nw) := by
    intro w hw; omega
  refine ⟨by omega, dq_cpL ok.2.1 hd, ?_, ?_, ?_, ?_⟩
  · intro w hw
    rcases hE hw with z | z
    · rw [z, pk_us]; exact ⟨m, hm1, hm, rfl⟩
    · rw [pk_un z.2]; exact ok.2.2.1 w z.1
  · intro w hw
    rcases hE hw with z | z
    · rw [z, pk_us]; exact ⟨c, hc, rfl⟩
    · rw [pk_un z.2]; exact ok.2.2.2.1 w z.1
  · intro w hw
    rcases hE hw with z | z
    · rw [z, pk_us]; exact ⟨k, hk, rfl⟩
    · rw [pk_un z.2]; exact ok.2.2.2.2.1 w z.1
  · intro w v hw hv e
    rcases hE hw with z | z
    · rcases hE hv with y | y
      · omega
      · rw [z, dn_wn hm, dn_wo ok hm y.1] at e
        exact absurd e.symm (hn v y.1)
    · rcases hE hv with y | y
      · rw [y, dn_wn hm, dn_wo ok hm z.1] at e
        exact absurd e (hn w z.1)
      · rw [dn_wo ok hm z.1, dn_wo ok hm y.1] at e
        exact ok.2.2.2.2.2 w v z.1 y.1 e
/-- what is there stays there -/
theorem dn_L (p : List Nat) : gr_L (dq_L lt le nw) sd m p ↔ (p = [] ∨ 0 < gr_f (dq_f lt le nw) sd m p) := by
  unfold gr_L dq_L
  by_cases z : gr_p sd m p
  · rw [gr_f1 z]
    exact ⟨fun _ => Or.inr (by omega), fun _ => Or.inr z⟩
  · rw [gr_f0 z]
    exact ⟨fun y => y.elim id (fun x => absurd x z), Or.inl⟩
/-! a known word's price -/
theorem dk_g (ok : dq_ok nw lt le pr kd) {a : Nat → Int32} {x : Int32} {w : Nat} (hw : w < nw) (p : List Nat) : dq_g lt le (upd a w x) nw p = if dq_w lt le w = p then x else dq_g lt le a nw p := by
  by_cases e : dq_w lt le w = p
  · rw [if_pos e, ← e, dq_gin nw w ok.2.2.2.2.2 hw, pk_us]
  · rw [if_neg e]
    by_cases z : ∃ v, v < nw ∧ dq_w lt le v = p
    · obtain ⟨v, hv, ev⟩ := z
      have vw : v ≠ w := by
        intro y
        rw [y] at ev
        exact e ev
      rw [← ev, dq_gin nw v ok.2.2.2.2.2 hv, dq_gin nw v ok.2.2.2.2.2 hv, pk_un vw]
    · rw [dq_gout nw (fun v hv ev => z ⟨v, hv, ev⟩), dq_gout nw (fun v hv ev => z ⟨v, hv, ev⟩)]
theorem dk_ok (ok : dq_ok nw lt le pr kd) {w c k : Nat} (hc : c ≤ 99) (hk : k ≤ 2) : dq_ok nw lt le (upd pr w (nI c)) (upd kd w (nI k)) := by
  refine ⟨ok.1, ok.2.1, ok.2.2.1, ?_, ?_, ok.2.2.2.2.2⟩
  · intro v hv
    by_cases z : v = w
    · rw [z, pk_us]; exact ⟨c, hc, rfl⟩
    · rw [pk_un z]; exact ok.2.2.2.1 v hv
  · intro v hv
    by_cases z : v = w
    · rw [z, pk_us]; exact ⟨k, hk, rfl⟩
    · rw [pk_un z]; exact ok.2.2.2.2.1 v hv
end NEW
/-! a word forgotten: the last one takes its place -/
def dq_mv (lt : Nat → Int32) (w v i : Nat) : Nat → Int32 := fun j => if 5 * w ≤ j ∧ j < 5 * w + i then lt (5 * v + (j - 5 * w)) else lt j
theorem dq_mv0 {lt : Nat → Int32} {w v : Nat} : dq_mv lt w v 0 = lt := by
  funext j
  exact if_neg (by omega)
theorem dq_mvs {lt : Nat → Int32} {w v i : Nat} (hi : i < 5) : upd (dq_mv lt w v i) (5 * w + i) (dq_mv lt w v i (5 * v + i)) = dq_mv lt w v (i + 1) := by
  have e0 : dq_mv lt w v i (5 * v + i) = lt (5 * v + i) := if_neg (by omega)
  rw [e0]
  funext j
  show (if j = 5 * w + i then lt (5 * v + i) else (if 5 * w ≤ j ∧ j < 5 * w + i then lt (5 * v + (j - 5 * w)) else lt j)) = (if 5 * w ≤ j ∧ j < 5 * w + (i + 1) then lt (5 * v + (j - 5 * w)) else lt j)
  by_cases e : j = 5 * w + i
  · rw [if_pos e, if_pos (by omega), e, Nat.add_sub_cancel_left]
  · rw [if_neg e]
    by_cases c : 5 * w ≤ j ∧ j < 5 * w + i
    · rw [if_pos c, if_pos (by omega)]
    · rw [if_neg c, if_neg (by omega)]
section OUT
variable {n w m : Nat} {lt le pr kd sd : Nat → Int32}
theorem df_wo (ok : dq_ok (n + 1) lt le pr kd) (hw : w ≤ n) {v : Nat} (hv : v < n) (vw : v ≠ w) : dq_w (dq_mv lt w n 5) (upd le w (le n)) v = dq_w lt le v := by
  unfold dq_w
  rw [pk_un vw]
  have h1 := (dq_len ok (w := v) (by omega)).2.1
  apply tq_ext
  intro t ht
  show tq_cl (if 5 * w ≤ 5 * v + t ∧ 5 * v + t < 5 * w + 5 then lt (5 * n + (5 * v + t - 5 * w)) else lt (5 * v + t)) = _
  rw [if_neg (by omega)]
theorem df_wn (ok : dq_ok (n + 1) lt le pr kd) : dq_w (dq_mv lt w n 5) (upd le w (le n)) w = dq_w lt le n := by
  unfold dq_w
  rw [pk_us]
  have h1 := (dq_len ok (w := n) (by omega)).2.1
  apply tq_ext
  intro t ht
  show tq_cl (if 5 * w ≤ 5 * w + t ∧ 5 * w + t < 5 * w + 5 then lt (5 * n + (5 * w + t - 5 * w)) else lt (5 * w + t)) = _
  rw [if_pos (by omega), Nat.add_sub_cancel_left]
theorem df_f (ok : dq_ok (n + 1) lt le pr kd) (hw : w ≤ n) (ew : dq_w lt le w = tq_sg sd 0 m) (p : List Nat) : dq_f (dq_mv lt w n 5) (upd le w (le n)) n p = pr_f (dq_f lt le (n + 1)) sd m p := by
  have h1 := dq_crm (q := fun v => dq_pf p (dq_w lt le v)) (q' := fun v => dq_pf p (dq_w (dq_mv lt w n 5) (upd le w (le n)) v)) hw (fun j hj jw => by
    show dq_pf p _ = dq_pf p _
    rw [df_wo ok hw hj jw]) (fun _ => by
    show dq_pf p _ = dq_pf p _
    rw [df_wn ok])
  have h2 : dq_f (dq_mv lt w n 5) (upd le w (le n)) n p + (if dq_pf p (dq_w lt le w) = true then 1 else 0) = dq_f lt le (n + 1) p := h1
  rw [ew] at h2
  by_cases z : gr_p sd m p
  · rw [if_pos (dq_pfs.mpr z)] at h2
    rw [pr_f1 z]; omega
  · rw [if_neg (fun y => z (dq_pfs.mp y))] at h2
    rw [pr_f0 z]; omega
theorem df_d (ok : dq_ok (n + 1) lt le pr kd) (hw : w ≤ n) : ∀ a b, a < n → b < n → dq_w (dq_mv lt w n 5) (upd le w (le n)) a = dq_w (dq_mv lt w n 5) (upd le w (le n)) b → a = b := by
  intro a b ha hb e
  have D := ok.2.2.2.2.2
  by_cases z : a = w
  · by_cases y : b = w
    · omega
    · rw [z, df_wn ok, df_wo ok hw hb y] at e
      have := D n b (by omega) (by omega) e
      omega
  · by_cases y : b = w
    · rw [y, df_wn ok, df_wo ok hw ha z] at e
      have := D a n (by omega) (by omega) e
      omega
    · rw [df_wo ok hw ha z, df_wo ok hw hb y] at e
      exact D a b (by omega) (by omega) e
theorem df_g (ok : dq_ok (n + 1) lt le pr kd) (hw : w ≤ n) {a : Nat → Int32} (p : List Nat) : dq_g (dq_mv lt w n 5) (upd le w (le n)) (upd a w (a n)) n p = if dq_w lt le w = p then -1 else dq_g lt le a (n + 1) p := by
  have D := ok.2.2.2.2.2
  have D' := df_d ok hw
  by_cases e : dq_w lt le w = p
  · rw [if_pos e]
    apply dq_gout
    intro v hv ev
    by_cases z : v = w
    · rw [z, df_wn ok, ← e] at ev
      have := D n w (by omega) (by omega) ev
      omega
    · rw [df_wo ok hw hv z, ← e] at ev
      exact z (D v w (by omega) (by omega) ev)
  · rw [if_neg e]
    by_cases z : ∃ v, v < n + 1 ∧ dq_w lt le v = p
    · obtain ⟨v, hv, ev⟩ := z
      have vw : v ≠ w := by
        intro y
        rw [y] at ev
        exact e ev
      rw [← ev, dq_gin (n + 1) v D hv]
      by_cases vn : v = n
      · have h1 := dq_gin (pr := upd a w (a n)) n w D' (by omega)
        rw [df_wn ok, pk_us] at h1
        rw [vn]; exact h1
      · have h1 := dq_gin (pr := upd a w (a n)) n v D' (by omega)
        rw [df_wo ok hw (by omega) vw, pk_un vw] at h1
        exact h1
    · rw [dq_gout (n + 1) (fun v hv ev => z ⟨v, hv, ev⟩)]
      apply dq_gout
      intro v hv ev
      by_cases y : v = w
      · rw [y, df_wn ok] at ev
        exact z ⟨n, by omega, ev⟩
      · rw [df_wo ok hw hv y] at ev
        exact z ⟨v, by omega, ev⟩
theorem df_ok (ok : dq_ok (n + 1) lt le pr kd) (hw : w ≤ n) : dq_ok n (dq_mv lt w n 5) (upd le w (le n)) (upd pr w (pr n)) (upd kd w (kd n)) := by
  refine ⟨by have := ok.1; omega, ?_, ?_, ?_, ?_, df_d ok hw⟩
  · intro j
    show ∃ l, l < 4 ∧ (if 5 * w ≤ j ∧ j < 5 * w + 5 then lt (5 * n + (j - 5 * w)) else lt j) = nI l
    by_cases c : 5 * w ≤ j ∧ j < 5 * w + 5
    · rw [if_pos c]; exact ok.2.1 _
    · rw [if_neg c]; exact ok.2.1 _
  · intro v hv
    by_cases z : v = w
    · rw [z, pk_us]; exact ok.2.2.1 n (by omega)
    · rw [pk_un z]; exact ok.2.2.1 v (by omega)
  · intro v hv
    by_cases z : v = w
    · rw [z, pk_us]; exact ok.2.2.2.1 n (by omega)
    · rw [pk_un z]; exact ok.2.2.2.1 v (by omega)
  · intro v hv
    by_cases z : v = w
    · rw [z, pk_us]; exact ok.2.2.2.2.1 n (by omega)
    · rw [pk_un z]; exact ok.2.2.2.2.1 v (by omega)
theorem df_L (p : List Nat) : pr_L (dq_L lt le n) (dq_f lt le n) sd (m + 1) p ↔ (p = [] ∨ 0 < pr_f (dq_f lt le n) sd m p) := by
  unfold pr_L dq_L
  by_cases z : gr_p sd m p
  · rw [pr_f1 z]
    constructor
    · rintro ⟨a, b⟩
      rcases a with a | a
      · exact Or.inl a
      · by_cases e : p = []
        · exact Or.inl e
        · right
          have h5 : 0 < p.length := List.length_pos_iff.mpr e
          rcases Nat.lt_or_ge 1 (dq_f lt le n p) with y | y
          · omega
          · exact absurd ⟨h5, by have := z.1; omega, z.2, by omega⟩ b
    · intro a
      rcases a with a | a
      · refine ⟨Or.inl a, fun y => ?_⟩
        have h1 := y.1
        rw [a] at h1
        exact absurd h1 (by decide)
      · exact ⟨Or.inr (by omega), fun y => by have := y.2.2.2; omega⟩
  · rw [pr_f0 z]
    exact ⟨fun y => y.1, fun y => ⟨y, fun x => z ⟨by have := x.2.1; omega, x.2.2.1⟩⟩⟩
/-- what prune needs -/
theorem df_F2 (hw : w < n) (ew : dq_w lt le w = tq_sg sd 0 m) (j : Nat) (hj : j ≤ m) : dq_L lt le n (tq_sg sd 0 j) ∧ 0 < dq_f lt le n (tq_sg sd 0 j) := by
  have h1 : 0 < dq_f lt le n (tq_sg sd 0 j) := dq_fin hw (by rw [ew]; exact dq_pfs.mpr (gr_at hj))
  exact ⟨Or.inr h1, h1⟩
theorem df_F3 (j : Nat) : dq_f lt le n (tq_sg sd 0 (j + 1)) ≤ dq_f lt le n (tq_sg sd 0 j) := by
  rw [tq_sg0s]
  exact dq_cm n (fun v _ hv => dq_pft hv)
theorem df_F4 (hw : w < n) (ew : dq_w lt le w = tq_sg sd 0 m) (j l : Nat) (hj : j ≤ m) (h1 : dq_f lt le n (tq_sg sd 0 j) = 1) (h2 : 0 < dq_f lt le n (tq_sg sd 0 j ++ [l])) : j < m ∧ tq_sg sd 0 j ++ [l] = tq_sg sd 0 (j + 1) := by
  obtain ⟨v, hv, ev⟩ := dq_fx h2
  have h3 : w = v := dq_c1 h1 hw hv (by
    show dq_pf _ _ = true
    rw [ew]; exact dq_pfs.mpr (gr_at hj)) (dq_pft ev)
  rw [← h3, ew] at ev
  have h4 := dq_pfs.mp ev
  have h5 := h4.1
  have h6 := h4.2
  have h7 : (tq_sg sd 0 j ++ [l]).length = j + 1 := by rw [List.length_append, tq_len]; rfl
  rw [h7] at h5 h6
  exact ⟨by omega, h6⟩
end OUT
end WL05
end
section
section WL06
variable {gP gW gS gT gB gM gC : Int32} {lt le pr kd sd ty ls : Nat → Int32}
/-! the reference's words, walked -/
theorem dq_pfE {w m L : Nat} (e : le w = nI L) (hL : L ≤ 5) : dq_pf (tq_sg sd 0 m) (dq_w lt le w) = true ↔ m ≤ L ∧ tq_sg lt (5 * w) m = tq_sg sd 0 m := by
  unfold dq_pf dq_w
  rw [decide_eq_true_eq, e, tq_clN (by omega), tq_len]
  constructor
  · intro z
    have h1 := congrArg List.length z
    rw [List.length_take, tq_len, tq_len] at h1
    have h2 : m ≤ L := by omega
    rw [tq_take _ _ _ _ h2] at z
    exact ⟨h2, z⟩
  · intro z
    rw [tq_take _ _ _ _ z.1]
    exact z.2
theorem dq_wE {w m : Nat} (e : tq_cl (le w) = m) : dq_pf (tq_sg sd 0 m) (dq_w lt le w) = true ↔ dq_w lt le w = tq_sg sd 0 m := by
  unfold dq_pf dq_w
  rw [decide_eq_true_eq, e, tq_len, tq_take _ _ _ _ (Nat.le_refl m)]
theorem dq_wl {w m i : Nat} {a : Nat → Int32} (e : dq_w lt le w = tq_sg a i m) : tq_cl (le w) = m := by
  have h1 := congrArg List.length e
  unfold dq_w at h1
  rw [tq_len, tq_len] at h1
  exact h1
theorem yn_5 (w i : Nat) : 5 * nI w + nI i = nI (5 * w + i) := by
  show nI 5 * nI w + nI i = _
  rw [pk_mul, nI_add]
theorem yn_4 (w i : Nat) : 4 * nI w + nI i = nI (4 * w + i) := by
  show nI 4 * nI w + nI i = _
  rw [pk_mul, nI_add]
theorem yw_b17 {post : Int32 → Prop} {w m : Nat} (hw : w < 16) (hm : m ≤ 5) (hl : tq_L lt) (hd : tq_L sd) (h1 : tq_sg lt (5 * w) m = tq_sg sd 0 m → post 1) (h0 : tq_sg lt (5 * w) m ≠ tq_sg sd 0 m → post 0) :
    ∀ d i n, i + d = m → d < n → tq_sg lt (5 * w) i = tq_sg sd 0 i → wY_begins_17 post (nI w) gP gW (nI m) gT gB gM gC lt le pr kd sd ty ls n (nI i) := by
  intro d
  induction d with
  | zero =>
    intro i n hi hn e
    obtain ⟨n, rfl⟩ : ∃ q, n = q + 1 := ⟨n - 1, by omega⟩
    have e1 : i = m := by omega
    rw [e1] at e
    rw [wY_begins_17]
    exact br_t (nI_le (by omega) (by omega)) (h1 e)
  | succ d ih =>
    intro i n hi hn e
    obtain ⟨n, rfl⟩ : ∃ q, n = q + 1 := ⟨n - 1, by omega⟩
    have ev := yn_5 w i
    have cv : (5 * nI w + nI i).toNatClampNeg = 5 * w + i := by rw [ev]; exact nI_clamp (by omega)
    have ci : (nI i).toNatClampNeg = i := nI_clamp (by omega)
    rw [wY_begins_17]
    refine br_f (nI_ge (by omega) (by omega)) ⟨by rw [ev]; exact vp_in_nI (by omega) (by omega), vp_in_nI (by omega) (by omega), ?_⟩
    rw [cv, ci]
    refine br_c (fun z => nm_r (nI_1 i) (ih (i + 1) n (by omega) (by omega) ?_)) (fun z => h0 ?_)
    · rw [tq_sgs, tq_sg0s, e, (tq_eq hl hd).mp z]
    · intro y
      have h2 := tq_inv m y i (by omega)
      rw [Nat.zero_add] at h2
      exact z ((tq_eq hl hd).mpr h2)
theorem yw_begins {post : Int32 → Prop} {w m L : Nat} {x : Int32} (hx : x = nI w) (hw : w < 16) (e : le w = nI L) (hL : L ≤ 5) (hm : m ≤ 5) (hl : tq_L lt) (hd : tq_L sd) (h1 : dq_pf (tq_sg sd 0 m) (dq_w lt le w) = true → post 1) (h0 : ¬ dq_pf (tq_sg sd 0 m) (dq_w lt le w) = true → post 0) : wpY_begins post (gP, gW, nI m, gT, gB, gM, gC, lt, le, pr, kd, sd, ty, ls) x := by
  subst hx
  have cw : (nI w).toNatClampNeg = w := nI_clamp (by omega)
  rw [dq_pfE e hL] at h1 h0
  unfold wpY_begins
  refine ⟨vp_in_nI hw (by omega), ?_⟩
  rw [cw, e]
  exact pk_le m L (fun q => ⟨m + 1, yw_b17 hw hm hl hd (fun z => h1 ⟨q, z⟩) (fun z => h0 (fun y => z y.2)) m 0 (m + 1) (by omega) (by omega) rfl⟩) (fun q => h0 (fun z => by have := z.1; omega))
theorem yw_n2 {post : Int32 → Prop} {nw m : Nat} (ok : dq_ok nw lt le pr kd) (hm : m ≤ 5) (hd : tq_L sd) (hp : ∀ w, w < nw → dq_w lt le w = tq_sg sd 0 m → post (nI w)) (hn : (∀ w, w < nw → dq_w lt le w ≠ tq_sg sd 0 m) → post (-1)) :
    ∀ d w n, w + d = nw → d < n → (∀ v, v < w → dq_w lt le v ≠ tq_sg sd 0 m) → wY_named_2 post gP (nI nw) (nI m) gT gB gM gC lt le pr kd sd ty ls n (nI w) := by
  have h16 := ok.1
  intro d
  induction d with
  | zero =>
    intro w n hi hk hv
    obtain ⟨n, rfl⟩ : ∃ q, n = q + 1 := ⟨n - 1, by omega⟩
    have e : w = nw := by omega
    rw [e] at hv
    rw [wY_named_2]
    exact br_t (nI_le (by omega) (by omega)) (hn hv)
  | succ d ih =>
    intro w n hi hk hv
    obtain ⟨n, rfl⟩ : ∃ q, n = q + 1 := ⟨n - 1, by omega⟩
    have cw : (nI w).toNatClampNeg = w := nI_clamp (by omega)
    obtain ⟨a1, a2, a3⟩ := dq_len ok (w := w) (by omega)
    have nx : dq_w lt le w ≠ tq_sg sd 0 m → wY_named_2 post gP (nI nw) (nI m) gT gB gM gC lt le pr kd sd ty ls n (nI (w + 1)) := by
      intro z
      refine ih (w + 1) n (by omega) (by omega) ?_
      intro v hvw
      rcases Nat.lt_or_ge v w with y | y
      · exact hv v y
      · have e : v = w := by omega
        rw [e]; exact z
    rw [wY_named_2]
    refine br_f (nI_ge (by omega) (by omega)) ⟨vp_in_nI (by omega) (by omega), ?_⟩
    rw [cw]
    by_cases eL : tq_cl (le w) = m
    · refine br_t (by rw [a3, eL]) ?_
      refine yw_begins rfl (by omega) a3 a2 hm ok.2.1 hd ?_ ?_
      · intro z
        exact br_f (by decide) (hp w (by omega) ((dq_wE eL).mp z))
      · intro z
        exact br_t rfl (nm_r (nI_1 w) (nx (fun y => z ((dq_wE eL).mpr y))))
    · refine br_f (fun z => eL ?_) (nm_r (nI_1 w) (nx (fun y => eL (dq_wl y))))
      rw [z, tq_clN (by omega)]
theorem yw_named {post : Int32 → Prop} {nw m : Nat} (ok : dq_ok nw lt le pr kd) (hm : m ≤ 5) (hd : tq_L sd) (hp : ∀ w, w < nw → dq_w lt le w = tq_sg sd 0 m → post (nI w)) (hn : (∀ w, w < nw → dq_w lt le w ≠ tq_sg sd 0 m) → post (-1)) : wpY_named post (gP, nI nw, nI m, gT, gB, gM, gC, lt, le, pr, kd, sd, ty, ls) := by
  unfold wpY_named
  exact ⟨nw + 1, yw_n2 ok hm hd hp hn nw 0 (nw + 1) (by omega) (by omega) (fun v z => absurd z (by omega))⟩
theorem yw_s2 {post : Int32 → Prop} {w i0 L nT : Nat} (hw : w < 16) (eL : le w = nI L) (hL : L ≤ 5) (hT : i0 + L ≤ nT) (h12 : nT ≤ 12) (hl : tq_L lt) (hy : tq_L ty) (h1 : tq_sg lt (5 * w) L = tq_sg ty i0 L → post 1) (h0 : tq_sg lt (5 * w) L ≠ tq_sg ty i0 L → post 0) :
    ∀ d i n, i + d = L → d < n → tq_sg lt (5 * w) i = tq_sg ty i0 i → wY_stands_2 post (nI w) (nI i0) gP gW gS (nI nT) gB gM gC lt le pr kd sd ty ls n (nI i) := by
  have cw : (nI w).toNatClampNeg = w := nI_clamp (by omega)
  intro d
  induction d with
  | zero =>
    intro i n hi hn e
    obtain ⟨n, rfl⟩ : ∃ q, n = q + 1 := ⟨n - 1, by omega⟩
    have e1 : i = L := by omega
    rw [e1] at e
    rw [wY_stands_2]
    refine ⟨vp_in_nI hw (by omega), ?_⟩
    rw [cw, eL]
    exact br_t (nI_le (by omega) (by omega)) (h1 e)
  | succ d ih =>
    intro i n hi hn e
    obtain ⟨n, rfl⟩ : ∃ q, n = q + 1 := ⟨n - 1, by omega⟩
    have ev := yn_5 w i
    have cv : (5 * nI w + nI i).toNatClampNeg = 5 * w + i := by rw [ev]; exact nI_clamp (by omega)
    have et : nI i0 + nI i = nI (i0 + i) := nI_add i0 i
    have ct : (nI i0 + nI i).toNatClampNeg = i0 + i := by rw [et]; exact nI_clamp (by omega)
    rw [wY_stands_2]
    refine ⟨vp_in_nI hw (by omega), ?_⟩
    rw [cw, eL]
    refine br_f (nI_ge (by omega) (by omega)) (br_f (by rw [et]; exact nI_ge (by omega) (by omega)) ⟨by rw [ev]; exact vp_in_nI (by omega) (by omega), by rw [et]; exact vp_in_nI (by omega) (by omega), ?_⟩)
    rw [cv, ct]
    refine br_c (fun z => nm_r (nI_1 i) (ih (i + 1) n (by omega) (by omega) ?_)) (fun z => h0 ?_)
    · rw [tq_sgs, tq_sgs, e, (tq_eq hl hy).mp z]
    · intro y
      exact z ((tq_eq hl hy).mpr (tq_inv L y i (by omega)))
theorem yw_stands {post : Int32 → Prop} {w i0 L nT : Nat} {x y : Int32} (hx : x = nI w) (hy0 : y = nI i0) (hw : w < 16) (eL : le w = nI L) (hL : L ≤ 5) (hT : i0 + L ≤ nT) (h12 : nT ≤ 12) (hl : tq_L lt) (hy : tq_L ty) (h1 : tq_sg lt (5 * w) L = tq_sg ty i0 L → post 1) (h0 : tq_sg lt (5 * w) L ≠ tq_sg ty i0 L → post 0) : wpY_stands post (gP, gW, gS, nI nT, gB, gM, gC, lt, le, pr, kd, sd, ty, ls) x y := by
  subst hx
  subst hy0
  unfold wpY_stands
  exact ⟨L + 1, yw_s2 hw eL hL hT h12 hl hy h1 h0 L 0 (L + 1) (by omega) (by omega) rfl⟩
theorem yw_w2 {post : Int32 → Prop} {nw i0 L nT : Nat} (ok : dq_ok nw lt le pr kd) (hy : tq_L ty) (hT : i0 + L ≤ nT) (h12 : nT ≤ 12) (hp : ∀ w, w < nw → dq_w lt le w = tq_sg ty i0 L → post (nI w)) (hn : (∀ w, w < nw → dq_w lt le w ≠ tq_sg ty i0 L) → post (-1)) :
    ∀ d w n, w + d = nw → d < n → (∀ v, v < w → dq_w lt le v ≠ tq_sg ty i0 L) → wY_word_2 post (nI i0) (nI (i0 + L)) gP (nI nw) gS (nI nT) gB gM gC lt le pr kd sd ty ls n (nI w) := by
  have h16 := ok.1
  intro d
  induction d with
  | zero =>
    intro w n hi hk hv
    obtain ⟨n, rfl⟩ : ∃ q, n = q + 1 := ⟨n - 1, by omega⟩
    have e : w = nw := by omega
    rw [e] at hv
    rw [wY_word_2]
    exact br_t (nI_le (by omega) (by omega)) (hn hv)
  | succ d ih =>
    intro w n hi hk hv
    obtain ⟨n, rfl⟩ : ∃ q, n = q + 1 := ⟨n - 1, by omega⟩
    have cw : (nI w).toNatClampNeg = w := nI_clamp (by omega)
    have es : nI (i0 + L) - nI i0 = nI L := by rw [pk_sub (by omega), Nat.add_sub_cancel_left]
    obtain ⟨a1, a2, a3⟩ := dq_len ok (w := w) (by omega)
    have nx : dq_w lt le w ≠ tq_sg ty i0 L → wY_word_2 post (nI i0) (nI (i0 + L)) gP (nI nw) gS (nI nT) gB gM gC lt le pr kd sd ty ls n (nI (w + 1)) := by
      intro z
      refine ih (w + 1) n (by omega) (by omega) ?_
      intro v hvw
      rcases Nat.lt_or_ge v w with y | y
      · exact hv v y
      · have e : v = w := by omega
        rw [e]; exact z
    rw [wY_word_2]
    refine br_f (nI_ge (by omega) (by omega)) ⟨vp_in_nI (by omega) (by omega), ?_⟩
    rw [cw, es]
    by_cases eL : tq_cl (le w) = L
    · have ew : dq_w lt le w = tq_sg lt (5 * w) L := by unfold dq_w; rw [eL]
      rw [eL] at a3
      refine br_t a3 ?_
      refine yw_stands rfl rfl (by omega) a3 (by omega) hT h12 ok.2.1 hy ?_ ?_
      · intro z
        exact br_f (by decide) (hp w (by omega) (by rw [ew]; exact z))
      · intro z
        exact br_t rfl (nm_r (nI_1 w) (nx (by rw [ew]; exact z)))
    · refine br_f (fun z => eL ?_) (nm_r (nI_1 w) (nx (fun y => eL (dq_wl y))))
      rw [z, tq_clN (by omega)]
theorem yw_word {post : Int32 → Prop} {nw i0 L nT : Nat} {x y : Int32} (hx : x = nI i0) (hy0 : y = nI (i0 + L)) (ok : dq_ok nw lt le pr kd) (hy : tq_L ty) (hT : i0 + L ≤ nT) (h12 : nT ≤ 12) (hp : ∀ w, w < nw → dq_w lt le w = tq_sg ty i0 L → post (nI w)) (hn : (∀ w, w < nw → dq_w lt le w ≠ tq_sg ty i0 L) → post (-1)) : wpY_word post (gP, nI nw, gS, nI nT, gB, gM, gC, lt, le, pr, kd, sd, ty, ls) x y := by
  subst hx
  subst hy0
  unfold wpY_word
  exact ⟨nw + 1, yw_w2 ok hy hT h12 hp hn nw 0 (nw + 1) (by omega) (by omega) (fun v z => absurd z (by omega))⟩
theorem yw_113 {post : Int32 → SY → Prop} {x1 x2 x3 : Int32} {w : Nat} (h3 : x3 = nI w) (hw : w < 16) (k : post gW (gP, gW, 0, gT, gB, gM, gC, lt, le, upd pr w x1, upd kd w x2, sd, ty, ls)) : wY_learn_113 post x1 x2 x3 gP gW gS gT gB gM gC lt le pr kd sd ty ls := by
  subst h3
  have cw : (nI w).toNatClampNeg = w := nI_clamp (by omega)
  have hv : vp_in (nI w) 16 := vp_in_nI hw (by omega)
  unfold wY_learn_113
  rw [cw]
  exact ⟨hv, nm_e ⟨hv, nm_e k⟩⟩
theorem yw_l80 {post : Int32 → SY → Prop} {x1 x2 : Int32} {w m : Nat} (hw : w < 16) (hm : m ≤ 5) (k : wY_learn_113 post x1 x2 (nI w) gP gW (nI m) gT gB gM gC (dq_cp lt sd w m) le pr kd sd ty ls) :
    ∀ d i n, i + d = m → d < n → wY_learn_80 post x1 x2 (nI w) gP gW (nI m) gT gB gM gC n (nI i) (dq_cp lt sd w i) le pr kd sd ty ls := by
  intro d
  induction d with
  | zero =>
    intro i n hi hn
    obtain ⟨n, rfl⟩ : ∃ q, n = q + 1 := ⟨n - 1, by omega⟩
    have e1 : i = m := by omega
    rw [e1, wY_learn_80]
    exact br_t (nI_le (by omega) (by omega)) k
  | succ d ih =>
    intro i n hi hn
    obtain ⟨n, rfl⟩ : ∃ q, n = q + 1 := ⟨n - 1, by omega⟩
    have ev := yn_5 w i
    have cv : (5 * nI w + nI i).toNatClampNeg = 5 * w + i := by rw [ev]; exact nI_clamp (by omega)
    have ci : (nI i).toNatClampNeg = i := nI_clamp (by omega)
    rw [wY_learn_80]
    exact br_f (nI_ge (by omega) (by omega)) ⟨vp_in_nI (by omega) (by omega), by rw [ev]; exact vp_in_nI (by omega) (by omega), nm_r (e' := dq_cp lt sd w (i + 1)) (by rw [cv, ci]; exact dq_cps) (nm_r (nI_1 i) (ih (i + 1) n (by omega) (by omega)))⟩
theorem yw_new {post : Int32 → SY → Prop} {x1 x2 : Int32} {nw m : Nat} (hw : nw < 16) (hm : m ≤ 5) (k : post (nI (nw + 1)) (gP, nI (nw + 1), 0, gT, gB, gM, gC, dq_cp lt sd nw m, upd le nw (nI m), upd pr nw x1, upd kd nw x2, sd, ty, ls)) : wY_learn_48 post x1 x2 (-1) gP (nI nw) (nI m) gT gB gM gC lt le pr kd sd ty ls := by
  have cw : (nI nw).toNatClampNeg = nw := nI_clamp (by omega)
  have K := yw_l80 (post := post) (x1 := x1) (x2 := x2) (gP := gP) (gW := nI (nw + 1)) (gT := gT) (gB := gB) (gM := gM) (gC := gC) (lt := lt) (le := upd le nw (nI m)) (pr := pr) (kd := kd) (sd := sd) (ty := ty) (ls := ls) hw hm (yw_113 rfl hw k) m 0 (m + 1) (by omega) (by omega)
  rw [dq_cp0] at K
  unfold wY_learn_48
  refine br_f qn_m1le (nm_r (nI_1 nw) ⟨vp_in_nI hw (by omega), ?_⟩)
  rw [cw]
  exact nm_e ⟨m + 1, K⟩
theorem yw_old {post : Int32 → SY → Prop} {x1 x2 : Int32} {w : Nat} (hw : w < 16) (k : post gW (gP, gW, 0, gT, gB, gM, gC, lt, le, upd pr w x1, upd kd w x2, sd, ty, ls)) : wY_learn_48 post x1 x2 (nI w) gP gW gS gT gB gM gC lt le pr kd sd ty ls := by
  unfold wY_learn_48
  exact br_t (nI_pos' (by omega)) (yw_113 rfl hw k)
theorem yw_f68 {post : Int32 → SY → Prop} {w v : Nat} (hw : w < 16) (hv : v < 16) (k : post (nI v) (gP, nI v, 0, gT, gB, gM, gC, dq_mv lt w v 5, le, pr, kd, sd, ty, ls)) :
    ∀ d i n, i + d = 5 → d < n → wY_forget_68 post (nI w) gP (nI v) gS gT gB gM gC n (nI i) (dq_mv lt w v i) le pr kd sd ty ls := by
  intro d
  induction d with
  | zero =>
    intro i n hi hn
    obtain ⟨n, rfl⟩ : ∃ q, n = q + 1 := ⟨n - 1, by omega⟩
    have e1 : i = 5 := by omega
    rw [e1, wY_forget_68]
    exact br_t (nI_le (a := 5) (by omega) (by omega)) k
  | succ d ih =>
    intro i n hi hn
    obtain ⟨n, rfl⟩ : ∃ q, n = q + 1 := ⟨n - 1, by omega⟩
    have ev := yn_5 v i
    have cv : (5 * nI v + nI i).toNatClampNeg = 5 * v + i := by rw [ev]; exact nI_clamp (by omega)
    have ew := yn_5 w i
    have cw : (5 * nI w + nI i).toNatClampNeg = 5 * w + i := by rw [ew]; exact nI_clamp (by omega)
    rw [wY_forget_68]
    exact br_f (nI_ge (b := 5) (by omega) (by omega)) ⟨by rw [ev]; exact vp_in_nI (by omega) (by omega), by rw [ew]; exact vp_in_nI (by omega) (by omega), nm_r (e' := dq_mv lt w v (i + 1)) (by rw [cv, cw]; exact dq_mvs (by omega)) (nm_r (nI_1 i) (ih (i + 1) n (by omega) (by omega)))⟩
theorem yw_forget {post : Int32 → SY → Prop} {nw m : Nat} (ok : dq_ok nw lt le pr kd) (hm : m ≤ 5) (hd : tq_L sd)
    (hp : ∀ w v, w ≤ v → nw = v + 1 → dq_w lt le w = tq_sg sd 0 m → post (nI v) (gP, nI v, 0, gT, gB, gM, gC, dq_mv lt w v 5, upd le w (le v), upd pr w (pr v), upd kd w (kd v), sd, ty, ls))
    (hn : (∀ w, w < nw → dq_w lt le w ≠ tq_sg sd 0 m) → post (-1) (gP, nI nw, nI m, gT, gB, gM, gC, lt, le, pr, kd, sd, ty, ls)) : wpY_forget post (gP, nI nw, nI m, gT, gB, gM, gC, lt, le, pr, kd, sd, ty, ls) := by
  have h16 := ok.1
  unfold wpY_forget
  refine yw_named ok hm hd ?_ ?_
  · intro w hw ew
    obtain ⟨v, rfl⟩ : ∃ v, nw = v + 1 := ⟨nw - 1, by omega⟩
    have cw : (nI w).toNatClampNeg = w := nI_clamp (by omega)
    have cv : (nI v).toNatClampNeg = v := nI_clamp (by omega)
    have vw : vp_in (nI w) 16 := vp_in_nI (by omega) (by omega)
    have vv : vp_in (nI v) 16 := vp_in_nI (by omega) (by omega)
    have K := yw_f68 (post := post) (gP := gP) (gS := nI m) (gT := gT) (gB := gB) (gM := gM) (gC := gC) (lt := lt) (le := upd le w (le v)) (pr := upd pr w (pr v)) (kd := upd kd w (kd v)) (sd := sd) (ty := ty) (ls := ls) (w := w) (v := v) (by omega) (by omega) (hp w v (by omega) rfl ew) 5 0 6 (by omega) (by omega)
    rw [dq_mv0] at K
    refine br_t (nI_pos' (by omega)) (nm_r (nI_pred v) ?_)
    rw [cw, cv]
    exact ⟨vv, vw, nm_e ⟨vv, vw, nm_e ⟨vv, vw, nm_e ⟨6, K⟩⟩⟩⟩
  · intro z
    exact br_f qn_m1le (hn z)
theorem yw_be4 {post : Int32 → Prop} {nw m : Nat} (ok : dq_ok nw lt le pr kd) (hm : m ≤ 5) (hd : tq_L sd) (hp : post (nI (dq_f lt le nw (tq_sg sd 0 m)))) :
    ∀ d w n, w + d = nw → d < n → wY_beginning_4 post gP (nI nw) (nI m) gT gB gM gC lt le pr kd sd ty ls n (nI (dq_f lt le w (tq_sg sd 0 m))) (nI w) := by
  have h16 := ok.1
  intro d
  induction d with
  | zero =>
    intro w n hi hk
    obtain ⟨n, rfl⟩ : ∃ q, n = q + 1 := ⟨n - 1, by omega⟩
    have e : w = nw := by omega
    rw [e, wY_beginning_4]
    exact br_t (nI_le (by omega) (by omega)) hp
  | succ d ih =>
    intro w n hi hk
    obtain ⟨n, rfl⟩ : ∃ q, n = q + 1 := ⟨n - 1, by omega⟩
    obtain ⟨a1, a2, a3⟩ := dq_len ok (w := w) (by omega)
    have K := ih (w + 1) n (by omega) (by omega)
    have es : dq_f lt le (w + 1) (tq_sg sd 0 m) = dq_f lt le w (tq_sg sd 0 m) + (if dq_pf (tq_sg sd 0 m) (dq_w lt le w) = true then 1 else 0) := rfl
    rw [es] at K
    rw [wY_beginning_4]
    refine br_f (nI_ge (by omega) (by omega)) ?_
    refine yw_begins rfl (by omega) a3 a2 hm ok.2.1 hd ?_ ?_
    · intro z
      rw [if_pos z] at K
      exact br_f (by decide) (nm_r (nI_1 _) (nm_r (nI_1 w) K))
    · intro z
      rw [if_neg z] at K
      exact br_t rfl (nm_r (nI_1 w) K)
theorem yw_beginning {post : Int32 → Prop} {nw m : Nat} (ok : dq_ok nw lt le pr kd) (hm : m ≤ 5) (hd : tq_L sd) (hp : post (nI (dq_f lt le nw (tq_sg sd 0 m)))) : wpY_beginning post (gP, nI nw, nI m, gT, gB, gM, gC, lt, le, pr, kd, sd, ty, ls) := by
  unfold wpY_beginning
  exact ⟨nw + 1, yw_be4 ok hm hd hp nw 0 (nw + 1) (by omega) (by omega)⟩
end WL06
end
section
section WL07
/-! cuts: pure -/
def cu_b (n x p : Nat) : Bool := decide (p = n) || x.testBit (n - 1 - p)
def cu_c (n : Nat) (pz : Nat → Nat → Option (Nat × Nat)) (lc : Nat → Nat → Nat) (x : Nat) : Nat → Nat → Nat → Nat → Option Nat
  | 0, _, _, _ => some 0
  | d + 1, a, b, t => if cu_b n x t = true then (pz a (t - a)).bind (fun q => (cu_c n pz lc x d t q.2 (t + 1)).map (fun r => q.1 + lc b q.2 + r)) else cu_c n pz lc x d a b (t + 1)
def cu_m : Option (Nat × Nat × Nat) → Option (Nat × Nat × Nat) → Option (Nat × Nat × Nat)
  | none, B => B
  | some a, none => some a
  | some a, some b => if b.1 < a.1 then some b else if a.1 = b.1 then some (a.1, a.2.1 + b.2.1, a.2.2) else some a
def cu_s (F : Nat → Option Nat) (a : Nat) : Nat → Option (Nat × Nat × Nat)
  | 0 => none
  | n + 1 => cu_m (cu_s F a n) ((F (a + n)).map (fun c => (c, 1, a + n)))
theorem cu_m0 {B : Option (Nat × Nat × Nat)} : cu_m none B = B := rfl
theorem cu_m1 {A : Option (Nat × Nat × Nat)} : cu_m A none = A := by cases A <;> rfl
theorem cu_m2 {a b : Nat × Nat × Nat} : cu_m (some a) (some b) = if b.1 < a.1 then some b else if a.1 = b.1 then some (a.1, a.2.1 + b.2.1, a.2.2) else some a := rfl
theorem cu_mlt {a b : Nat × Nat × Nat} (h : b.1 < a.1) : cu_m (some a) (some b) = some b := by rw [cu_m2, if_pos h]
theorem cu_mgt {a b : Nat × Nat × Nat} (h : a.1 < b.1) : cu_m (some a) (some b) = some a := by rw [cu_m2, if_neg (by omega), if_neg (by omega)]
theorem cu_meq {a b : Nat × Nat × Nat} (h : a.1 = b.1) : cu_m (some a) (some b) = some (a.1, a.2.1 + b.2.1, a.2.2) := by rw [cu_m2, if_neg (by omega), if_pos h]
theorem cu_ma (A B C : Option (Nat × Nat × Nat)) : cu_m (cu_m A B) C = cu_m A (cu_m B C) := by
  rcases A with _ | a
  · rfl
  rcases B with _ | b
  · rfl
  rcases C with _ | c
  · rw [cu_m1, cu_m1]
  rcases Nat.lt_trichotomy a.1 b.1 with h1 | h1 | h1
  · rw [cu_mgt h1]
    rcases Nat.lt_trichotomy b.1 c.1 with h2 | h2 | h2
    · rw [cu_mgt h2, cu_mgt h1, cu_mgt (by omega)]
    · rw [cu_meq h2, cu_mgt (by omega), cu_mgt (by exact h1)]
    · rw [cu_mlt h2]
  · rw [cu_meq h1]
    rcases Nat.lt_trichotomy b.1 c.1 with h2 | h2 | h2
    · rw [cu_mgt h2, cu_meq h1, cu_mgt (by show a.1 < c.1; omega)]
    · rw [cu_meq h2, cu_meq (b := c) (by show a.1 = c.1; omega), cu_meq (a := a) (by exact h1)]
      show some (a.1, a.2.1 + b.2.1 + c.2.1, a.2.2) = some (a.1, a.2.1 + (b.2.1 + c.2.1), a.2.2)
      rw [Nat.add_assoc]
    · rw [cu_mlt h2, cu_mlt (by show c.1 < a.1; omega), cu_mlt (by omega)]
  · rw [cu_mlt h1]
    rcases Nat.lt_trichotomy b.1 c.1 with h2 | h2 | h2
    · rw [cu_mgt h2, cu_mlt h1]
    · rw [cu_meq h2, cu_mlt (by exact h1)]
    · rw [cu_mlt h2, cu_mlt (by omega)]
theorem cu_ss {F : Nat → Option Nat} {a n : Nat} : cu_s F a (n + 1) = cu_m (cu_s F a n) ((F (a + n)).map (fun c => (c, 1, a + n))) := rfl
theorem cu_sa {F : Nat → Option Nat} {a n : Nat} : ∀ m, cu_s F a (n + m) = cu_m (cu_s F a n) (cu_s F (a + n) m) := by
  intro m
  induction m with
  | zero => exact cu_m1.symm
  | succ m ih => rw [← Nat.add_assoc, cu_ss, cu_ss, ih, cu_ma, Nat.add_assoc]
theorem cu_mm {c0 a0 : Nat} (A B : Option (Nat × Nat × Nat)) : cu_m (A.map (fun r => (c0 + r.1, r.2.1, a0 + r.2.2))) (B.map (fun r => (c0 + r.1, r.2.1, a0 + r.2.2))) = (cu_m A B).map (fun r => (c0 + r.1, r.2.1, a0 + r.2.2)) := by
  rcases A with _ | a
  · rfl
  rcases B with _ | b
  · rfl
  show cu_m (some (c0 + a.1, a.2.1, a0 + a.2.2)) (some (c0 + b.1, b.2.1, a0 + b.2.2)) = _
  rcases Nat.lt_trichotomy a.1 b.1 with h1 | h1 | h1
  · rw [cu_mgt h1, cu_mgt (by show c0 + a.1 < c0 + b.1; omega)]; rfl
  · rw [cu_meq h1, cu_meq (by show c0 + a.1 = c0 + b.1; omega)]; rfl
  · rw [cu_mlt h1, cu_mlt (by show c0 + b.1 < c0 + a.1; omega)]; rfl
theorem cu_sm {F G : Nat → Option Nat} {a c0 : Nat} : ∀ n, (∀ y, y < n → F (a + y) = (G y).map (fun r => c0 + r)) → cu_s F a n = (cu_s G 0 n).map (fun r => (c0 + r.1, r.2.1, a + r.2.2)) := by
  intro n
  induction n with
  | zero => intro _; rfl
  | succ n ih =>
    intro z
    rw [cu_ss, cu_ss, ih (fun y hy => z y (by omega)), z n (by omega), ← cu_mm, Nat.zero_add]
    congr 1
    cases G n <;> rfl
theorem cu_sn {F : Nat → Option Nat} {a : Nat} : ∀ n, (∀ y, y < n → F (a + y) = none) → cu_s F a n = none := by
  intro n
  induction n with
  | zero => intro _; rfl
  | succ n ih =>
    intro z
    rw [cu_ss, ih (fun y hy => z y (by omega)), z n (by omega)]
    rfl
theorem cu_mx {A B : Option (Nat × Nat × Nat)} {r : Nat × Nat × Nat} (h : cu_m A B = some r) : (∃ a, A = some a ∧ a.1 = r.1 ∧ a.2.2 = r.2.2) ∨ (∃ b, B = some b ∧ b.1 = r.1 ∧ b.2.2 = r.2.2) := by
  rcases A with _ | a
  · exact Or.inr ⟨r, h, rfl, rfl⟩
  rcases B with _ | b
  · rw [cu_m1] at h
    exact Or.inl ⟨r, h, rfl, rfl⟩
  rcases Nat.lt_trichotomy a.1 b.1 with h1 | h1 | h1
  · rw [cu_mgt h1] at h
    exact Or.inl ⟨r, h, rfl, rfl⟩
  · rw [cu_meq h1] at h
    have h2 := Option.some.inj h
    exact Or.inl ⟨a, rfl, by rw [← h2], by rw [← h2]⟩
  · rw [cu_mlt h1] at h
    exact Or.inr ⟨r, h, rfl, rfl⟩
theorem cu_sx {F : Nat → Option Nat} {a : Nat} {r : Nat × Nat × Nat} : ∀ n, cu_s F a n = some r → F r.2.2 = some r.1 ∧ a ≤ r.2.2 ∧ r.2.2 < a + n := by
  intro n
  induction n generalizing r with
  | zero => intro z; exact absurd z (by intro y; cases y)
  | succ n ih =>
    intro z
    rw [cu_ss] at z
    rcases cu_mx z with ⟨q, e1, e2, e3⟩ | ⟨q, e1, e2, e3⟩
    · have h1 := ih e1
      rw [e2, e3] at h1
      exact ⟨h1.1, h1.2.1, by omega⟩
    · cases hF : F (a + n) with
      | none =>
        rw [hF] at e1
        exact absurd e1 (by intro y; cases y)
      | some c =>
        rw [hF] at e1
        have h2 : (c, 1, a + n) = q := Option.some.inj e1
        rw [← h2] at e2 e3
        have e4 : a + n = r.2.2 := e3
        have e5 : c = r.1 := e2
        rw [← e4, hF, e5]
        exact ⟨rfl, by omega, by omega⟩
theorem cu_mS {A : Option (Nat × Nat × Nat)} {b : Nat × Nat × Nat} : ∃ r, cu_m A (some b) = some r := by
  rcases A with _ | a
  · exact ⟨b, rfl⟩
  rcases Nat.lt_trichotomy a.1 b.1 with h1 | h1 | h1
  · exact ⟨_, cu_mgt h1⟩
  · exact ⟨_, cu_meq h1⟩
  · exact ⟨_, cu_mlt h1⟩
section PZ
variable {n : Nat} {pz : Nat → Nat → Option (Nat × Nat)} {lc : Nat → Nat → Nat}
theorem cu_cs {x d a b t : Nat} : cu_c n pz lc x (d + 1) a b t = if cu_b n x t = true then (pz a (t - a)).bind (fun q => (cu_c n pz lc x d t q.2 (t + 1)).map (fun r => q.1 + lc b q.2 + r)) else cu_c n pz lc x d a b (t + 1) := rfl
theorem cu_skip {x d a b : Nat} : ∀ k t, (∀ p, t ≤ p → p < t + k → cu_b n x p = false) → cu_c n pz lc x (d + k) a b t = cu_c n pz lc x d a b (t + k) := by
  intro k
  induction k with
  | zero => intro t _; rfl
  | succ k ih =>
    intro t z
    have e : t + 1 + k = t + (k + 1) := by omega
    rw [← Nat.add_assoc, cu_cs, z t (by omega) (by omega), if_neg (by decide), ih (t + 1) (fun p h1 h2 => z p (by omega) (by omega)), e]
theorem cu_cc {x y : Nat} : ∀ d a b t, (∀ p, t ≤ p → p < t + d → cu_b n x p = cu_b n y p) → cu_c n pz lc x d a b t = cu_c n pz lc y d a b t := by
  intro d
  induction d with
  | zero => intro a b t _; rfl
  | succ d ih =>
    intro a b t z
    have A : ∀ a b, cu_c n pz lc x d a b (t + 1) = cu_c n pz lc y d a b (t + 1) := fun a b => ih a b (t + 1) (fun p h1 h2 => z p (by omega) (by omega))
    rw [cu_cs, cu_cs, z t (by omega) (by omega), A a b]
    simp only [A]
theorem cu_bd (hz : ∀ i L q, pz i L = some q → q.1 ≤ 99 ∧ q.2 ≤ 3) (hl : ∀ b k, lc b k ≤ 99) {x : Nat} : ∀ d a b t r, cu_c n pz lc x d a b t = some r → r ≤ 198 * d := by
  intro d
  induction d with
  | zero =>
    intro a b t r z
    have h1 : 0 = r := Option.some.inj z
    omega
  | succ d ih =>
    intro a b t r z
    rw [cu_cs] at z
    by_cases e : cu_b n x t = true
    · rw [if_pos e] at z
      cases hq : pz a (t - a) with
      | none =>
        rw [hq] at z
        exact absurd z (by intro y; cases y)
      | some q =>
        rw [hq] at z
        have z1 : (cu_c n pz lc x d t q.2 (t + 1)).map (fun r => q.1 + lc b q.2 + r) = some r := z
        cases hc : cu_c n pz lc x d t q.2 (t + 1) with
        | none =>
          rw [hc] at z1
          exact absurd z1 (by intro y; cases y)
        | some r1 =>
          rw [hc] at z1
          have h1 : q.1 + lc b q.2 + r1 = r := Option.some.inj z1
          have h2 := ih _ _ _ _ hc
          have h3 := (hz _ _ _ hq).1
          have h4 := hl b q.2
          omega
    · rw [if_neg e] at z
      have h2 := ih _ _ _ _ z
      omega
def cu_bit (n i L : Nat) : Nat := if i + L = n then 0 else 2 ^ (n - 1 - (i + L))
theorem cu_bt {i L y : Nat} (hL : 1 ≤ L) (hn : i + L ≤ n) (hy : y < 2 ^ (n - 1 - (i + L))) :
    (∀ p, i < p → p < i + L → cu_b n (cu_bit n i L + y) p = false) ∧ cu_b n (cu_bit n i L + y) (i + L) = true ∧ (∀ p, i + L < p → p ≤ n → cu_b n (cu_bit n i L + y) p = cu_b n y p) := by
  unfold cu_bit cu_b
  by_cases e : i + L = n
  · rw [if_pos e]
    have e1 : n - 1 - (i + L) = 0 := by omega
    rw [e1] at hy
    have y0 : y = 0 := by
      have : (2 : Nat) ^ 0 = 1 := rfl
      omega
    rw [y0]
    refine ⟨?_, ?_, ?_⟩
    · intro p h1 h2
      rw [Nat.zero_add, Nat.zero_testBit, decide_eq_false (by omega)]
      rfl
    · rw [e, decide_eq_true rfl]
      rfl
    · intro p h1 h2
      omega
  · rw [if_neg e]
    refine ⟨?_, ?_, ?_⟩
    · intro p h1 h2
      have h3 : 2 ^ (n - 1 - (i + L)) + y < 2 ^ (n - 1 - p) := by
        have h4 : 2 ^ (n - 1 - (i + L) + 1) ≤ 2 ^ (n - 1 - p) := Nat.pow_le_pow_right (by decide) (by omega)
        rw [Nat.pow_succ] at h4
        omega
      rw [Nat.testBit_lt_two_pow h3, decide_eq_false (by omega)]
      rfl
    · rw [Nat.testBit_two_pow_add_eq, Nat.testBit_lt_two_pow hy, Bool.or_eq_true]
      exact Or.inr rfl
    · intro p h1 h2
      by_cases e2 : p = n
      · rw [decide_eq_true e2]
        rfl
      · rw [Nat.testBit_two_pow_add_gt (by omega)]
theorem cu_bF {i L y k : Nat} (hL : 1 ≤ L) (hn : i + L ≤ n) (hy : y < 2 ^ (n - 1 - (i + L))) :
    cu_c n pz lc (cu_bit n i L + y) (n - i) i k (i + 1) = (pz i L).bind (fun q => (cu_c n pz lc y (n - (i + L)) (i + L) q.2 (i + L + 1)).map (fun r => q.1 + lc k q.2 + r)) := by
  obtain ⟨h1, h2, h3⟩ := cu_bt hL hn hy
  have e1 : n - i = (n - (i + L) + 1) + (L - 1) := by omega
  have e2 : i + 1 + (L - 1) = i + L := by omega
  rw [e1, cu_skip (L - 1) (i + 1) (fun p a b => h1 p (by omega) (by omega)), e2, cu_cs, if_pos h2, Nat.add_sub_cancel_left]
  have A : ∀ a b, cu_c n pz lc (cu_bit n i L + y) (n - (i + L)) a b (i + L + 1) = cu_c n pz lc y (n - (i + L)) a b (i + L + 1) := fun a b => cu_cc _ a b _ (fun p a b => h3 p (by omega) (by omega))
  simp only [A]
def cu_R (n : Nat) (pz : Nat → Nat → Option (Nat × Nat)) (lc : Nat → Nat → Nat) (i k : Nat) : Option (Nat × Nat × Nat) := cu_s (fun x => cu_c n pz lc x (n - i) i k (i + 1)) 0 (2 ^ (n - 1 - i))
def cu_k (n : Nat) (pz : Nat → Nat → Option (Nat × Nat)) (lc : Nat → Nat → Nat) (i k L : Nat) : Option (Nat × Nat × Nat) :=
  if i + L ≤ n then (pz i L).bind (fun q => (cu_R n pz lc (i + L) q.2).map (fun r => (q.1 + lc k q.2 + r.1, r.2.1, cu_bit n i L + r.2.2))) else none
def cu_T (n : Nat) (pz : Nat → Nat → Option (Nat × Nat)) (lc : Nat → Nat → Nat) (i k : Nat) : Nat → Option (Nat × Nat × Nat)
  | 0 => none
  | j + 1 => cu_m (cu_k n pz lc i k (j + 1)) (cu_T n pz lc i k j)
theorem cu_Ts {i k j : Nat} : cu_T n pz lc i k (j + 1) = cu_m (cu_k n pz lc i k (j + 1)) (cu_T n pz lc i k j) := rfl
/-- the cuts whose first piece is of L letters -/
theorem cu_kF {i k L : Nat} (hL : 1 ≤ L) (hn : i + L ≤ n) : cu_s (fun x => cu_c n pz lc x (n - i) i k (i + 1)) (cu_bit n i L) (2 ^ (n - 1 - (i + L))) = cu_k n pz lc i k L := by
  unfold cu_k
  rw [if_pos hn]
  cases hq : pz i L with
  | none =>
    apply cu_sn
    intro y hy
    show cu_c n pz lc (cu_bit n i L + y) (n - i) i k (i + 1) = none
    rw [cu_bF hL hn hy, hq]
    rfl
  | some q =>
    show _ = (cu_R n pz lc (i + L) q.2).map (fun r => (q.1 + lc k q.2 + r.1, r.2.1, cu_bit n i L + r.2.2))
    unfold cu_R
    apply cu_sm
    intro y hy
    show cu_c n pz lc (cu_bit n i L + y) (n - i) i k (i + 1) = _
    rw [cu_bF hL hn hy, hq]
    rfl
theorem cu_TR1 {i k : Nat} (hi : i < n) : ∀ j, j ≤ n - i → cu_s (fun x => cu_c n pz lc x (n - i) i k (i + 1)) (cu_bit n i j) (2 ^ (n - 1 - i) - cu_bit n i j) = cu_T n pz lc i k j := by
  intro j
  induction j with
  | zero =>
    intro _
    have e : cu_bit n i 0 = 2 ^ (n - 1 - i) := by
      unfold cu_bit
      rw [if_neg (by omega)]
      rfl
    rw [e, Nat.sub_self]
    rfl
  | succ j ih =>
    intro hj
    have h1 : cu_bit n i j = cu_bit n i (j + 1) + 2 ^ (n - 1 - (i + (j + 1))) := by
      unfold cu_bit
      rw [if_neg (by omega)]
      by_cases e : i + (j + 1) = n
      · have e1 : n - 1 - (i + j) = 0 := by omega
        have e2 : n - 1 - (i + (j + 1)) = 0 := by omega
        rw [if_pos e, e1, e2, Nat.zero_add]
      · have e1 : n - 1 - (i + j) = n - 1 - (i + (j + 1)) + 1 := by omega
        rw [if_neg e, e1, Nat.pow_succ]
        omega
    have h2 : cu_bit n i j ≤ 2 ^ (n - 1 - i) := by
      unfold cu_bit
      rw [if_neg (by omega)]
      exact Nat.pow_le_pow_right (by decide) (by omega)
    have h0 : ∀ A B C W : Nat, C = B + W → C ≤ A → A - B = W + (A - C) := by
      intro A B C W q1 q2
      omega
    have h3 : 2 ^ (n - 1 - i) - cu_bit n i (j + 1) = 2 ^ (n - 1 - (i + (j + 1))) + (2 ^ (n - 1 - i) - cu_bit n i j) := h0 _ _ _ _ h1 h2
    rw [h3, cu_sa, cu_kF (by omega) (by omega), ← h1, ih (by omega)]
    rfl
theorem cu_TR {i k : Nat} (hi : i < n) : cu_R n pz lc i k = cu_T n pz lc i k (n - i) := by
  rw [← cu_TR1 hi (n - i) (Nat.le_refl _)]
  have e : cu_bit n i (n - i) = 0 := by
    unfold cu_bit
    rw [if_pos (by omega)]
  rw [e]
  rfl
theorem cu_Tn {i k : Nat} : ∀ d j, (∀ L, j < L → cu_k n pz lc i k L = none) → cu_T n pz lc i k (j + d) = cu_T n pz lc i k j := by
  intro d
  induction d with
  | zero => intro j _; rfl
  | succ d ih =>
    intro j z
    rw [← Nat.add_assoc, cu_Ts, z _ (by omega), cu_m0, ih j z]
theorem cu_T5 {i k : Nat} (h5 : ∀ i L, 5 < L → pz i L = none) (hi : i < n) : cu_R n pz lc i k = cu_T n pz lc i k 5 := by
  rw [cu_TR hi]
  rcases Nat.lt_or_ge 5 (n - i) with z | z
  · have e : n - i = 5 + (n - i - 5) := by omega
    rw [e]
    apply cu_Tn
    intro L hL
    unfold cu_k
    rw [h5 i L hL]
    by_cases y : i + L ≤ n
    · rw [if_pos y]; rfl
    · rw [if_neg y]
  · have e : 5 = (n - i) + (5 - (n - i)) := by omega
    rw [e]
    symm
    apply cu_Tn
    intro L hL
    unfold cu_k
    rw [if_neg (by omega)]
theorem cu_Rn {k : Nat} : cu_R n pz lc n k = some (0, 1, 0) := by
  unfold cu_R
  have e1 : n - 1 - n = 0 := by omega
  rw [e1, Nat.sub_self]
  rfl
theorem cu_Rb (hz : ∀ i L q, pz i L = some q → q.1 ≤ 99 ∧ q.2 ≤ 3) (hl : ∀ b k, lc b k ≤ 99) {i k : Nat} {r : Nat × Nat × Nat} (h : cu_R n pz lc i k = some r) : r.1 ≤ 198 * (n - i) ∧ r.2.2 < 2 ^ (n - 1 - i) := by
  have h1 := cu_sx _ h
  refine ⟨cu_bd hz hl _ _ _ _ _ h1.1, ?_⟩
  have := h1.2.2
  omega
theorem cu_RS (h1 : ∀ i, i < n → ∃ q, pz i 1 = some q) : ∀ d i k, i + d = n → ∃ r, cu_R n pz lc i k = some r := by
  intro d
  induction d with
  | zero =>
    intro i k e
    have e1 : i = n := by omega
    rw [e1]
    exact ⟨_, cu_Rn⟩
  | succ d ih =>
    intro i k e
    obtain ⟨q, hq⟩ := h1 i (by omega)
    obtain ⟨r, hr⟩ := ih (i + 1) q.2 (by omega)
    rw [cu_TR (by omega)]
    have A : ∀ j, ∃ r, cu_T n pz lc i k (j + 1) = some r := by
      intro j
      induction j with
      | zero =>
        refine ⟨(q.1 + lc k q.2 + r.1, r.2.1, cu_bit n i 1 + r.2.2), ?_⟩
        rw [cu_Ts]
        show cu_m (cu_k n pz lc i k 1) none = _
        rw [cu_m1]
        unfold cu_k
        rw [if_pos (by omega), hq]
        show (cu_R n pz lc (i + 1) q.2).map _ = _
        rw [hr]
        rfl
      | succ j ihj =>
        obtain ⟨b, hb⟩ := ihj
        rw [cu_Ts, hb]
        exact cu_mS
    have e2 : n - i = d + 1 := by omega
    rw [e2]
    exact A d
/-- the first piece of a cut -/
def cu_F (n : Nat) (pz : Nat → Nat → Option (Nat × Nat)) (lc : Nat → Nat → Nat) (i L x : Nat) : Prop := 1 ≤ L ∧ L ≤ 5 ∧ i + L ≤ n ∧ ∃ q r, pz i L = some q ∧ cu_R n pz lc (i + L) q.2 = some r ∧ x = cu_bit n i L + r.2.2
def cu_E (n : Nat) (pz : Nat → Nat → Option (Nat × Nat)) (lc : Nat → Nat → Nat) (i : Nat) (T : Option (Nat × Nat × Nat)) (a b c : Int32) : Prop :=
  (T = none → a = nI 1000000 ∧ b = nI 0) ∧ (∀ r, T = some r → r.1 ≤ 198 * (n - i) ∧ a = nI r.1 ∧ b = nI r.2.1 ∧ ∃ L, c = nI L ∧ cu_F n pz lc i L r.2.2)
end PZ
end WL07
end
section
section WL08
variable {fP fS fL fF fC fK : Int32} {bs ck co ki wb sp tx lk ch nu fi : Nat → Int32}
variable {P : Nat → List Nat} {LP : List Nat → Prop} {f : List Nat → Nat} {g h : List Nat → Int32}
/-! the component's pieces -/
def pz_z (pen : Nat) (tx : Nat → Int32) (g h : List Nat → Int32) (i L : Nat) : Option (Nat × Nat) :=
  if 0 ≤ g (tq_sg tx i L) then some (tq_cl (g (tq_sg tx i L)), tq_cl (h (tq_sg tx i L))) else if L = 1 then some (pen, 3) else none
def pz_l (lk : Nat → Int32) (b k : Nat) : Nat := if b < 4 then tq_cl (lk (4 * b + k)) else 0
/-- costs and kinds of the words -/
def pz_G (g h : List Nat → Int32) : Prop := (∀ p, 0 ≤ g p → p.length ≤ 5 ∧ ∃ c k, c ≤ 99 ∧ k ≤ 2 ∧ g p = nI c ∧ h p = nI k)
theorem pz_1 {pen : Nat} {i L : Nat} (G : pz_G g h) (z : 0 ≤ g (tq_sg tx i L)) : ∃ q, pz_z pen tx g h i L = some q ∧ g (tq_sg tx i L) = nI q.1 ∧ h (tq_sg tx i L) = nI q.2 ∧ q.1 ≤ 99 ∧ q.2 ≤ 3 := by
  obtain ⟨_, c, k, hc, hk, e1, e2⟩ := G _ z
  refine ⟨_, by unfold pz_z; rw [if_pos z], ?_⟩
  rw [e1, e2, tq_clN (by omega), tq_clN (by omega)]
  exact ⟨rfl, rfl, hc, by show k ≤ 3; omega⟩
theorem pz_2 {pen : Nat} {i L : Nat} (z : ¬ 0 ≤ g (tq_sg tx i L)) : pz_z pen tx g h i L = if L = 1 then some (pen, 3) else none := by
  unfold pz_z
  rw [if_neg z]
theorem pz_hz {pen : Nat} (G : pz_G g h) (hp : pen ≤ 99) : ∀ i L q, pz_z pen tx g h i L = some q → q.1 ≤ 99 ∧ q.2 ≤ 3 := by
  intro i L q e
  by_cases z : 0 ≤ g (tq_sg tx i L)
  · obtain ⟨q1, e1, _, _, h3, h4⟩ := pz_1 (pen := pen) G z
    have h5 := Option.some.inj (e1.symm.trans e)
    rw [← h5]; exact ⟨h3, h4⟩
  · rw [pz_2 z] at e
    by_cases y : L = 1
    · rw [if_pos y] at e
      have h5 := Option.some.inj e
      rw [← h5]; exact ⟨hp, Nat.le_refl 3⟩
    · rw [if_neg y] at e
      exact absurd e (by intro x; cases x)
theorem pz_h1 {pen : Nat} {i : Nat} (G : pz_G g h) : ∃ q, pz_z pen tx g h i 1 = some q := by
  by_cases z : 0 ≤ g (tq_sg tx i 1)
  · obtain ⟨q1, e1, _⟩ := pz_1 (pen := pen) G z
    exact ⟨q1, e1⟩
  · rw [pz_2 z, if_pos rfl]
    exact ⟨_, rfl⟩
theorem pz_h5 {pen : Nat} (G : pz_G g h) : ∀ i L, 5 < L → pz_z pen tx g h i L = none := by
  intro i L hL
  have z : ¬ 0 ≤ g (tq_sg tx i L) := by
    intro z
    have h1 := (G _ z).1
    rw [tq_len] at h1
    omega
  rw [pz_2 z, if_neg (by omega)]
theorem pz_hl (hk : ∀ j, ∃ c, c ≤ 99 ∧ lk j = nI c) : ∀ b k, pz_l lk b k ≤ 99 := by
  intro b k
  unfold pz_l
  by_cases z : b < 4
  · rw [if_pos z]
    obtain ⟨c, hc, e⟩ := hk (4 * b + k)
    rw [e, tq_clN (by omega)]; exact hc
  · rw [if_neg z]; omega
theorem pz_le (hk : ∀ j, ∃ c, c ≤ 99 ∧ lk j = nI c) {b k : Nat} (hb : b < 4) : lk (4 * b + k) = nI (pz_l lk b k) := by
  unfold pz_l
  rw [if_pos hb]
  obtain ⟨c, hc, e⟩ := hk (4 * b + k)
  rw [e, tq_clN (by omega)]
theorem xw_f26 {post : SX → Prop} {i L n : Nat} (I : tr_I 0 P LP f g h bs ck co ki wb) (hT : tq_L tx) (hn : i + L ≤ n) (h12 : n ≤ 12)
    (K : ∀ x3 : Int32, ((∃ c, x3 = nI c ∧ tr_v ck c ∧ P c = tq_sg tx i L) ∨ (x3 = -1 ∧ ¬ LP (tq_sg tx i L))) → wX_fitPiece_57 post (nI L) x3 fP fS fL fF fC fK bs ck co ki wb sp tx lk ch nu fi) :
    ∀ d j s m, j + d = L → d < m → tr_v ck s → P s = tq_sg tx i j → wX_fitPiece_26 post (nI i) (nI L) fP fS fL fF fC fK bs ck co ki wb sp tx lk ch nu fi m (nI s) (nI j) := by
  intro d
  induction d with
  | zero =>
    intro j s m hj hm vs e
    obtain ⟨m, rfl⟩ : ∃ q, m = q + 1 := ⟨m - 1, by omega⟩
    have e1 : j = L := by omega
    rw [e1] at e
    rw [wX_fitPiece_26]
    exact br_t (nI_le (by omega) (by omega)) (K (nI s) (Or.inl ⟨s, rfl, vs, e⟩))
  | succ d ih =>
    intro j s m hj hm vs e
    obtain ⟨m, rfl⟩ : ∃ q, m = q + 1 := ⟨m - 1, by omega⟩
    have et : nI i + nI j = nI (i + j) := nI_add i j
    rw [wX_fitPiece_26]
    refine br_f (nI_ge (by omega) (by omega)) (br_f (nI_pos (by have := vs.1; omega)) ⟨by rw [et]; exact vp_in_nI (by omega) (by omega), ?_⟩)
    refine xw_chi (l := tq_cl (tx (i + j))) I rfl ?_ vs (tq_lt hT _) ?_ ?_
    · rw [et, nI_clamp (by omega)]; exact tq_nI hT _
    · intro c vc ec
      exact nm_r (nI_1 j) (ih (j + 1) c m (by omega) (by omega) vc (by rw [ec, e, tq_sgs]))
    · intro z
      have X := K (-1) (Or.inr ⟨rfl, by
        intro y
        apply z
        rw [e, ← tq_sgs]
        exact tr_sgp I.2.1 I.2.2 L (j + 1) (by omega) y⟩)
      obtain ⟨m, rfl⟩ : ∃ q, m = q + 1 := ⟨m - 1, by omega⟩
      refine nm_e ?_
      rw [wX_fitPiece_26]
      exact br_c (fun _ => X) (fun _ => br_t qn_m1lt X)
theorem xw_fit {post : SX → Prop} {i L n pen : Nat} {x y : Int32} (hx : x = nI i) (hy : y = nI L) (I : tr_I 0 P LP f g h bs ck co ki wb) (G : pz_G g h) (hN : ∀ p, ¬ LP p → g p = -1) (hT : tq_L tx) (h12 : n ≤ 12) (hi : i ≤ 12) (hL : L ≤ 12)
    (hs : ∀ q, i + L ≤ n → pz_z pen tx g h i L = some q → post (nI pen, fS, nI n, fF, nI q.1, nI q.2, bs, ck, co, ki, wb, sp, tx, lk, ch, nu, fi))
    (hno : (i + L ≤ n → pz_z pen tx g h i L = none) → post (nI pen, fS, nI n, fF, (-1), 3, bs, ck, co, ki, wb, sp, tx, lk, ch, nu, fi)) : wpX_fitPiece post (nI pen, fS, nI n, fF, fC, fK, bs, ck, co, ki, wb, sp, tx, lk, ch, nu, fi) x y := by
  subst hx
  subst hy
  have et : nI i + nI L = nI (i + L) := nI_add i L
  unfold wpX_fitPiece
  dsimp only
  rw [et]
  refine pk_le (i + L) n (fun hn => ⟨L + 1, ?_⟩) (fun hn => hno (fun z => by omega))
  refine xw_f26 I hT hn h12 ?_ L 0 0 (L + 1) (by omega) (by omega) (tr_v0 I.2.1.1) I.2.1.2.1
  have B : ¬ 0 ≤ g (tq_sg tx i L) → wX_fitPiece_93 post (nI L) (nI pen) fS (nI n) fF (-1) 3 bs ck co ki wb sp tx lk ch nu fi := by
    intro z
    unfold wX_fitPiece_93
    refine pk_eq L 1 (fun e => ?_) (fun e => ?_)
    · exact hs (pen, 3) hn (by rw [pz_2 z, if_pos e])
    · exact hno (fun _ => by rw [pz_2 z, if_neg e])
  intro x3 h3
  unfold wX_fitPiece_57
  rcases h3 with ⟨c, e, vc, ec⟩ | ⟨e, hnl⟩
  · subst e
    have c5 := vc.1
    have cc : (nI c).toNatClampNeg = c := nI_clamp (by omega)
    have vv : vp_in (nI c) 512 := vp_in_nI c5 (by omega)
    obtain ⟨a1, a2, a3, a4⟩ := I.2.2.1 c vc
    rw [ec] at a3 a4
    refine br_f (nI_pos (by omega)) ⟨vv, ?_⟩
    rw [cc]
    by_cases z : 0 ≤ g (tq_sg tx i L)
    · obtain ⟨q, e1, e2, e3, _⟩ := pz_1 (pen := pen) G z
      refine br_f (by rw [a3]; exact qn_nlt z) ⟨vv, nm_r (a3.trans e2) ⟨vv, nm_r ((a4 z).trans e3) (hs q hn e1)⟩⟩
    · exact br_t (by rw [a3]; exact qn_ltn z) (B z)
  · subst e
    exact br_t qn_m1lt (B (by rw [hN _ hnl]; exact qn_m1le))
end WL08
end
section
section WL09
variable {fP fS fL fF fC fK : Int32} {bs ck co ki wb sp tx lk ch nu fi : Nat → Int32}
/-! the component's tables -/
section TAB
variable {n : Nat} {pz : Nat → Nat → Option (Nat × Nat)} {lc : Nat → Nat → Nat}
def cu_D (n : Nat) (pz : Nat → Nat → Option (Nat × Nat)) (lc : Nat → Nat → Nat) (i : Nat) (ch nu fi : Nat → Int32) : Prop :=
  ∀ k, k < 5 → ∃ r, cu_R n pz lc i k = some r ∧ ch (5 * i + k) = nI r.1 ∧ nu (5 * i + k) = nI r.2.1 ∧ (i < n → ∃ L, fi (5 * i + k) = nI L ∧ cu_F n pz lc i L r.2.2)
def cu_A (n : Nat) (pz : Nat → Nat → Option (Nat × Nat)) (lc : Nat → Nat → Nat) (i : Nat) (ch nu fi : Nat → Int32) : Prop :=
  ∀ j, i < j → j ≤ n → cu_D n pz lc j ch nu fi
theorem cu_Au {i : Nat} {ch nu fi ch' nu' fi' : Nat → Int32} (A : cu_A n pz lc i ch nu fi) (h1 : ∀ j, 5 * i + 5 ≤ j → ch' j = ch j) (h2 : ∀ j, 5 * i + 5 ≤ j → nu' j = nu j) (h3 : ∀ j, 5 * i + 5 ≤ j → fi' j = fi j) : cu_A n pz lc i ch' nu' fi' := by
  intro j hj hn k hk
  rw [h1 _ (by omega), h2 _ (by omega), h3 _ (by omega)]
  exact A j hj hn k hk
def cu_V (n : Nat) (pz : Nat → Nat → Option (Nat × Nat)) (lc : Nat → Nat → Nat) (i k j : Nat) (ch nu fi : Nat → Int32) : Prop :=
  cu_E n pz lc i (cu_T n pz lc i k j) (ch (5 * i + k)) (nu (5 * i + k)) (fi (5 * i + k))
theorem cu_Ea {i : Nat} {T : Option (Nat × Nat × Nat)} {a b c : Int32} (h12 : n ≤ 12) (E : cu_E n pz lc i T a b c) : ∃ v, v ≤ 1000000 ∧ a = nI v := by
  cases hT : T with
  | none => exact ⟨1000000, by omega, (E.1 hT).1⟩
  | some r =>
    obtain ⟨h1, h2, _⟩ := E.2 r hT
    refine ⟨r.1, ?_, h2⟩
    have h3 : 198 * (n - i) ≤ 198 * 12 := Nat.mul_le_mul_left _ (by omega)
    omega
/-- one piece taken, after one kind -/
theorem cu_Es {i k L v : Nat} {a b c bq : Int32} {q : Nat × Nat} {r : Nat × Nat × Nat} (h12 : n ≤ 12) (hz : ∀ i L q, pz i L = some q → q.1 ≤ 99 ∧ q.2 ≤ 3) (hl : ∀ b k, lc b k ≤ 99) (hL : L + 1 ≤ 5) (hn : i + (L + 1) ≤ n) (hq : pz i (L + 1) = some q) (hr : cu_R n pz lc (i + (L + 1)) q.2 = some r) (eb : bq = nI r.2.1)
    (E : cu_E n pz lc i (cu_T n pz lc i k L) a b c) (hv : v ≤ 1000000) (ea : a = nI v) :
    (q.1 + r.1 + lc k q.2 < v → cu_E n pz lc i (cu_T n pz lc i k (L + 1)) (nI (q.1 + r.1 + lc k q.2)) bq (nI (L + 1))) ∧
    (q.1 + r.1 + lc k q.2 = v → cu_E n pz lc i (cu_T n pz lc i k (L + 1)) a (b + bq) (nI (L + 1))) ∧
    (v < q.1 + r.1 + lc k q.2 → cu_E n pz lc i (cu_T n pz lc i k (L + 1)) a b c) := by
  have b1 := (hz _ _ _ hq).1
  have b2 := hl k q.2
  have b3 := (cu_Rb hz hl hr).1
  have b4 : 198 * (n - (i + (L + 1))) + 198 ≤ 198 * (n - i) := by
    have e : n - i = (n - (i + (L + 1))) + (L + 1) := by omega
    rw [e, Nat.mul_add]
    omega
  have b5 : 198 * (n - i) ≤ 198 * 12 := Nat.mul_le_mul_left _ (by omega)
  have ew : q.1 + r.1 + lc k q.2 = q.1 + lc k q.2 + r.1 := by omega
  have ek : cu_k n pz lc i k (L + 1) = some (q.1 + lc k q.2 + r.1, r.2.1, cu_bit n i (L + 1) + r.2.2) := by
    unfold cu_k
    rw [if_pos hn, hq]
    show (cu_R n pz lc (i + (L + 1)) q.2).map _ = _
    rw [hr]
    rfl
  have F : cu_F n pz lc i (L + 1) (cu_bit n i (L + 1) + r.2.2) := ⟨by omega, hL, hn, q, r, hq, hr, rfl⟩
  rw [cu_Ts, ek, ew]
  generalize hw : q.1 + lc k q.2 + r.1 = w
  rw [hw] at ew
  have S1 : cu_E n pz lc i (some (w, r.2.1, cu_bit n i (L + 1) + r.2.2)) (nI w) bq (nI (L + 1)) := by
    refine ⟨fun z => absurd z (by intro y; cases y), ?_⟩
    intro t ht
    have h1 := Option.some.inj ht
    rw [← h1]
    exact ⟨by show w ≤ _; omega, rfl, eb, L + 1, rfl, F⟩
  cases hT : cu_T n pz lc i k L with
  | none =>
    rw [hT] at E
    have h1 := (E.1 rfl).1
    rw [ea] at h1
    have h2 := qn_inj h1 (by omega) (by omega)
    rw [cu_m1]
    exact ⟨fun _ => S1, fun z => by omega, fun z => by omega⟩
  | some t =>
    rw [hT] at E
    obtain ⟨c1, c2, c3, c4⟩ := E.2 t rfl
    rw [ea] at c2
    have c5 := qn_inj c2 (by omega) (by omega)
    refine ⟨fun z => ?_, fun z => ?_, fun z => ?_⟩
    · rw [cu_mgt (by show w < t.1; omega)]; exact S1
    · rw [cu_meq (by show w = t.1; omega)]
      refine ⟨fun z => absurd z (by intro y; cases y), ?_⟩
      intro t' ht
      have h1 := Option.some.inj ht
      rw [← h1]
      refine ⟨by show w ≤ _; omega, ?_, ?_, L + 1, rfl, F⟩
      · show a = nI w
        rw [ea, z]
      · show b + bq = nI (r.2.1 + t.2.1)
        rw [c3, eb, nI_add, Nat.add_comm]
    · rw [cu_mlt (by show t.1 < w; omega)]; exact E
end TAB
theorem xw_u55 {post : SX → Prop} {J : Int32 → (Nat → Int32) → (Nat → Int32) → (Nat → Int32) → (Nat → Int32) → (Nat → Int32) → (Nat → Int32) → (Nat → Int32) → (Nat → Int32) → (Nat → Int32) → (Nat → Int32) → (Nat → Int32) → Prop} {i L k rs w v : Nat} {x3 z0 z1 : Int32} (h3 : x3 = nI rs) (hz : z1 + z0 = nI w) (hi : i ≤ 12) (hk : k < 5) (hrs : rs < 65) (ea : ch (5 * i + k) = nI v) (hv : v ≤ 1000000) (hw : w ≤ 1000000)
    (h1 : w < v → J (nI (k + 1)) bs ck co ki wb sp tx lk (upd ch (5 * i + k) (nI w)) (upd nu (5 * i + k) (nu rs)) (upd fi (5 * i + k) (nI L)))
    (h2 : w = v → J (nI (k + 1)) bs ck co ki wb sp tx lk ch (upd nu (5 * i + k) (nu (5 * i + k) + nu rs)) (upd fi (5 * i + k) (nI L)))
    (h3' : v < w → J (nI (k + 1)) bs ck co ki wb sp tx lk ch nu fi) : wX_usePiece_55 post J (nI i) (nI L) x3 (nI k) z0 z1 fP fS fL fF fC fK bs ck co ki wb sp tx lk ch nu fi := by
  subst h3
  have e6 : 5 * nI i + nI k = nI (5 * i + k) := yn_5 i k
  have v6 : vp_in (nI (5 * i + k)) 65 := vp_in_nI (by omega) (by omega)
  have vr : vp_in (nI rs) 65 := vp_in_nI hrs (by omega)
  have c6 : (nI (5 * i + k)).toNatClampNeg = 5 * i + k := nI_clamp (by omega)
  have cr : (nI rs).toNatClampNeg = rs := nI_clamp (by omega)
  unfold wX_usePiece_55
  refine nm_r hz (nm_r e6 ⟨v6, ?_⟩)
  rw [c6, cr, ea]
  refine pk_le v w (fun hvw => ⟨v6, ?_⟩) (fun hvw => ?_)
  · exact pk_eq w v (fun e => ⟨v6, vr, v6, nm_e ⟨v6, nm_e (nm_r (nI_1 k) (h2 e))⟩⟩) (fun e => nm_r (nI_1 k) (h3' (by omega)))
  · exact ⟨v6, nm_e ⟨vr, v6, nm_e ⟨v6, nm_e (nm_r (nI_1 k) (h1 hvw))⟩⟩⟩
section USE
variable {n : Nat} {pz : Nat → Nat → Option (Nat × Nat)}
theorem xw_u14 {post : SX → Prop} {i L : Nat} {q : Nat × Nat} {r : Nat × Nat × Nat} (h12 : n ≤ 12) (hz : ∀ i L q, pz i L = some q → q.1 ≤ 99 ∧ q.2 ≤ 3) (hk : ∀ j, ∃ c, c ≤ 99 ∧ lk j = nI c) (hL : L + 1 ≤ 5) (hn : i + (L + 1) ≤ n) (hq : pz i (L + 1) = some q)
    (H : ∀ (ch nu fi : Nat → Int32), cu_A n pz (pz_l lk) i ch nu fi → (∀ k, k < 5 → cu_V n pz (pz_l lk) i k (L + 1) ch nu fi) → post (fP, fS, fL, fF, nI q.1, nI q.2, bs, ck, co, ki, wb, sp, tx, lk, ch, nu, fi)) :
    ∀ (d k m : Nat) (ch nu fi : Nat → Int32), k + d = 5 → d < m → cu_A n pz (pz_l lk) i ch nu fi → (∀ j, j < k → cu_V n pz (pz_l lk) i j (L + 1) ch nu fi) → (∀ j, k ≤ j → j < 5 → cu_V n pz (pz_l lk) i j L ch nu fi) →
      wX_usePiece_14 post (nI i) (nI (L + 1)) (nI (5 * (i + (L + 1)) + q.2)) fP fS fL fF (nI q.1) (nI q.2) m (nI k) bs ck co ki wb sp tx lk ch nu fi := by
  have hl := pz_hl hk
  have q1 := (hz _ _ _ hq).1
  have q3 := (hz _ _ _ hq).2
  intro d
  induction d with
  | zero =>
    intro k m ch nu fi hd hm A V1 V2
    obtain ⟨m, rfl⟩ : ∃ q, m = q + 1 := ⟨m - 1, by omega⟩
    have e : k = 5 := by omega
    rw [e] at V1
    rw [e, wX_usePiece_14]
    exact br_t (nI_le (a := 5) (by omega) (by omega)) (H ch nu fi A V1)
  | succ d ih =>
    intro k m ch nu fi hd hm A V1 V2
    obtain ⟨m, rfl⟩ : ∃ q, m = q + 1 := ⟨m - 1, by omega⟩
    have k5 : k < 5 := by omega
    obtain ⟨r, hr, er1, er2, _⟩ := A (i + (L + 1)) (by omega) hn q.2 (by omega)
    have rs65 : 5 * (i + (L + 1)) + q.2 < 65 := by omega
    have crs : (nI (5 * (i + (L + 1)) + q.2)).toNatClampNeg = 5 * (i + (L + 1)) + q.2 := nI_clamp (by omega)
    obtain ⟨v, hv, ea⟩ := cu_Ea h12 (V2 k (by omega) k5)
    obtain ⟨s1, s2, s3⟩ := cu_Es h12 hz hl hL hn hq hr er2 (V2 k (by omega) k5) hv ea
    have r3 := (cu_Rb hz hl hr).1
    have r4 : 198 * (n - (i + (L + 1))) ≤ 198 * 12 := Nat.mul_le_mul_left _ (by omega)
    have l2 := hl k q.2
    have nx : ∀ (ch' nu' fi' : Nat → Int32), (∀ j, j ≠ 5 * i + k → ch' j = ch j ∧ nu' j = nu j ∧ fi' j = fi j) → cu_E n pz (pz_l lk) i (cu_T n pz (pz_l lk) i k (L + 1)) (ch' (5 * i + k)) (nu' (5 * i + k)) (fi' (5 * i + k)) →
        wX_usePiece_14 post (nI i) (nI (L + 1)) (nI (5 * (i + (L + 1)) + q.2)) fP fS fL fF (nI q.1) (nI q.2) m (nI (k + 1)) bs ck co ki wb sp tx lk ch' nu' fi' := by
      intro ch' nu' fi' ho hE
      refine ih (k + 1) m ch' nu' fi' (by omega) (by omega) (cu_Au A (fun j hj => (ho j (by omega)).1) (fun j hj => (ho j (by omega)).2.1) (fun j hj => (ho j (by omega)).2.2)) ?_ ?_
      · intro j hj
        by_cases e : j = k
        · rw [e]; exact hE
        · unfold cu_V
          have h1 := ho (5 * i + j) (by omega)
          rw [h1.1, h1.2.1, h1.2.2]
          exact V1 j (by omega)
      · intro j hj hj5
        unfold cu_V
        have h1 := ho (5 * i + j) (by omega)
        rw [h1.1, h1.2.1, h1.2.2]
        exact V2 j (by omega) hj5
    have J : ∀ z0 : Int32, z0 = nI (pz_l lk k q.2) → wX_usePiece_55 post (wX_usePiece_14 post (nI i) (nI (L + 1)) (nI (5 * (i + (L + 1)) + q.2)) fP fS fL fF (nI q.1) (nI q.2) m) (nI i) (nI (L + 1)) (nI (5 * (i + (L + 1)) + q.2)) (nI k) z0 (nI q.1 + ch (nI (5 * (i + (L + 1)) + q.2)).toNatClampNeg) fP fS fL fF (nI q.1) (nI q.2) bs ck co ki wb sp tx lk ch nu fi := by
      intro z0 hz0
      refine xw_u55 (w := q.1 + r.1 + pz_l lk k q.2) (v := v) rfl ?_ (by omega) k5 rs65 ea hv (by omega) ?_ ?_ ?_
      · rw [crs, er1, hz0, nI_add, nI_add]
      · intro z
        refine nx _ _ _ (fun j hj => ⟨pk_un hj, pk_un hj, pk_un hj⟩) ?_
        rw [pk_us, pk_us, pk_us]
        exact s1 z
      · intro z
        refine nx _ _ _ (fun j hj => ⟨rfl, pk_un hj, pk_un hj⟩) ?_
        rw [pk_us, pk_us]
        exact s2 z
      · intro z
        exact nx _ _ _ (fun j hj => ⟨rfl, rfl, rfl⟩) (s3 z)
    rw [wX_usePiece_14]
    refine br_f (nI_ge (b := 5) (by omega) (by omega)) ⟨vp_in_nI rs65 (by omega), ?_⟩
    refine pk_le 4 k (fun z => J 0 ?_) (fun z => ⟨?_, J _ ?_⟩)
    · unfold pz_l
      rw [if_neg (by omega)]
      rfl
    · rw [yn_4]; exact vp_in_nI (by omega) (by omega)
    · rw [yn_4, nI_clamp (by omega)]; exact pz_le hk (by omega)
theorem xw_use {post : SX → Prop} {i L : Nat} {x y : Int32} {q : Nat × Nat} (hx : x = nI i) (hy : y = nI (L + 1)) (h12 : n ≤ 12) (hz : ∀ i L q, pz i L = some q → q.1 ≤ 99 ∧ q.2 ≤ 3) (hk : ∀ j, ∃ c, c ≤ 99 ∧ lk j = nI c) (hL : L + 1 ≤ 5) (hn : i + (L + 1) ≤ n) (hq : pz i (L + 1) = some q) (A : cu_A n pz (pz_l lk) i ch nu fi) (V : ∀ k, k < 5 → cu_V n pz (pz_l lk) i k L ch nu fi)
    (H : ∀ (ch nu fi : Nat → Int32), cu_A n pz (pz_l lk) i ch nu fi → (∀ k, k < 5 → cu_V n pz (pz_l lk) i k (L + 1) ch nu fi) → post (fP, fS, fL, fF, nI q.1, nI q.2, bs, ck, co, ki, wb, sp, tx, lk, ch, nu, fi)) : wpX_usePiece post (fP, fS, fL, fF, nI q.1, nI q.2, bs, ck, co, ki, wb, sp, tx, lk, ch, nu, fi) x y := by
  subst hx
  subst hy
  unfold wpX_usePiece
  refine nm_r (e' := nI (5 * (i + (L + 1)) + q.2)) ?_ ⟨6, ?_⟩
  · rw [nI_add]; exact yn_5 _ _
  · exact xw_u14 (r := (0, 0, 0)) h12 hz hk hL hn hq H 5 0 6 ch nu fi (by omega) (by omega) A (fun j hj => absurd hj (by omega)) (fun j _ hj => V j hj)
end USE
end WL09
end
section
section WL10
variable {fP fS fL fF fC fK : Int32} {bs ck co ki wb sp tx lk ch nu fi : Nat → Int32}
variable {P : Nat → List Nat} {LP : List Nat → Prop} {f : List Nat → Nat} {g h : List Nat → Int32}
/-! the component's text cut -/
def xc_p (e : Nat) : Int32 := if e = 0 then -1 else nI (e - 1)
theorem xc_p0 : xc_p 0 = -1 := rfl
theorem xc_ps (e : Nat) : xc_p (e + 1) = nI e := rfl
theorem xc_m (i : Nat) : nI i + (-1) = xc_p i := by
  cases i with
  | zero => rfl
  | succ i => exact pk_m1 i
theorem xc_s (n : Nat) : nI n - 1 = xc_p n := by
  cases n with
  | zero => rfl
  | succ n => exact nI_pred n
abbrev xc_J : Type := Int32 → Int32 → Int32 → Int32 → Int32 → Int32 → Int32 → (Nat → Int32) → (Nat → Int32) → (Nat → Int32) → (Nat → Int32) → (Nat → Int32) → (Nat → Int32) → (Nat → Int32) → (Nat → Int32) → (Nat → Int32) → (Nat → Int32) → (Nat → Int32) → Prop
/-- what the cutting rests on -/
def xc_H (n pen : Nat) (P : Nat → List Nat) (LP : List Nat → Prop) (f : List Nat → Nat) (g h : List Nat → Int32) (bs ck co ki wb tx lk : Nat → Int32) : Prop :=
  n ≤ 12 ∧ pen ≤ 99 ∧ tr_I 0 P LP f g h bs ck co ki wb ∧ pz_G g h ∧ (∀ p, ¬ LP p → g p = -1) ∧ tq_L tx ∧ (∀ j, ∃ c, c ≤ 99 ∧ lk j = nI c)
theorem xw_c117 {post : SX → Prop} {J : xc_J} {n pen i : Nat} (X : xc_H n pen P LP f g h bs ck co ki wb tx lk) (hi : i < n)
    (HJ : ∀ (fC fK : Int32) (ch nu fi : Nat → Int32), cu_A n (pz_z pen tx g h) (pz_l lk) i ch nu fi → cu_D n (pz_z pen tx g h) (pz_l lk) i ch nu fi → J (xc_p i) (nI pen) fS (nI n) fF fC fK bs ck co ki wb sp tx lk ch nu fi) :
    ∀ (d j m : Nat) (fC fK : Int32) (ch nu fi : Nat → Int32), j + d = 5 → d < m → cu_A n (pz_z pen tx g h) (pz_l lk) i ch nu fi → (∀ k, k < 5 → cu_V n (pz_z pen tx g h) (pz_l lk) i k j ch nu fi) → wX_cutText_117 post J (nI i) m (nI (j + 1)) (nI pen) fS (nI n) fF fC fK bs ck co ki wb sp tx lk ch nu fi := by
  obtain ⟨h12, hp, I, G, hN, hT, hk⟩ := X
  intro d
  induction d with
  | zero =>
    intro j m fC fK ch nu fi hd hm A V
    obtain ⟨m, rfl⟩ : ∃ q, m = q + 1 := ⟨m - 1, by omega⟩
    have e : j = 5 := by omega
    rw [e] at V
    rw [e, wX_cutText_117]
    refine br_t (nI_lt (a := 5) (b := 5 + 1) (by omega) (by omega)) (nm_r (xc_m i) (HJ fC fK ch nu fi A ?_))
    intro k hk5
    obtain ⟨r, hr⟩ := cu_RS (n := n) (pz := pz_z pen tx g h) (lc := pz_l lk) (fun _ _ => pz_h1 G) (n - i) i k (by omega)
    refine ⟨r, hr, ?_⟩
    have h1 := V k hk5
    unfold cu_V at h1
    rw [← cu_T5 (pz_h5 G) hi, hr] at h1
    obtain ⟨_, h2, h3, h4⟩ := h1.2 r rfl
    exact ⟨h2, h3, fun _ => h4⟩
  | succ d ih =>
    intro j m fC fK ch nu fi hd hm A V
    obtain ⟨m, rfl⟩ : ∃ q, m = q + 1 := ⟨m - 1, by omega⟩
    rw [wX_cutText_117]
    refine br_f (nI_nlt (a := 5) (by omega) (by omega)) ?_
    refine xw_fit (pen := pen) (n := n) (i := i) (L := j + 1) rfl rfl I G hN hT h12 (by omega) (by omega) ?_ ?_
    · intro q hn hq
      have q1 := (pz_hz G hp _ _ _ hq).1
      refine br_f (nI_pos (by omega)) ?_
      refine xw_use (n := n) (pz := pz_z pen tx g h) (i := i) (L := j) rfl rfl h12 (pz_hz G hp) hk (by omega) hn hq A V ?_
      intro ch nu fi A V
      exact nm_r (nI_1 (j + 1)) (ih (j + 1) m _ _ ch nu fi (by omega) (by omega) A V)
    · intro hno
      refine br_t qn_m1lt (nm_r (nI_1 (j + 1)) (ih (j + 1) m _ _ ch nu fi (by omega) (by omega) A ?_))
      intro k hk5
      have ek : cu_k n (pz_z pen tx g h) (pz_l lk) i k (j + 1) = none := by
        unfold cu_k
        by_cases z : i + (j + 1) ≤ n
        · rw [if_pos z, hno z]; rfl
        · rw [if_neg z]
      unfold cu_V
      rw [cu_Ts, ek, cu_m0]
      exact V k hk5
theorem xw_c81 {post : SX → Prop} {J : xc_J} {n : Nat} {pz : Nat → Nat → Option (Nat × Nat)} {lc : Nat → Nat → Nat} {i : Nat} (h12 : n ≤ 12) (hi : i < n)
    (H : ∀ (ch nu : Nat → Int32), cu_A n pz lc i ch nu fi → (∀ k, k < 5 → ch (5 * i + k) = nI 1000000 ∧ nu (5 * i + k) = nI 0) → ∃ m, wX_cutText_117 post J (nI i) m 1 fP fS fL fF fC fK bs ck co ki wb sp tx lk ch nu fi) :
    ∀ (d k m : Nat) (ch nu : Nat → Int32), k + d = 5 → d < m → cu_A n pz lc i ch nu fi → (∀ j, j < k → ch (5 * i + j) = nI 1000000 ∧ nu (5 * i + j) = nI 0) → wX_cutText_81 post J (nI i) fP fS fL fF fC fK m (nI k) bs ck co ki wb sp tx lk ch nu fi := by
  intro d
  induction d with
  | zero =>
    intro k m ch nu hd hm A V
    obtain ⟨m, rfl⟩ : ∃ q, m = q + 1 := ⟨m - 1, by omega⟩
    have e : k = 5 := by omega
    rw [e] at V
    rw [e, wX_cutText_81]
    exact br_t (nI_le (a := 5) (by omega) (by omega)) (H ch nu A V)
  | succ d ih =>
    intro k m ch nu hd hm A V
    obtain ⟨m, rfl⟩ : ∃ q, m = q + 1 := ⟨m - 1, by omega⟩
    have e6 : 5 * nI i + nI k = nI (5 * i + k) := yn_5 i k
    have v6 : vp_in (5 * nI i + nI k) 65 := by rw [e6]; exact vp_in_nI (by omega) (by omega)
    have c6 : (5 * nI i + nI k).toNatClampNeg = 5 * i + k := by rw [e6]; exact nI_clamp (by omega)
    rw [wX_cutText_81]
    refine br_f (nI_ge (b := 5) (by omega) (by omega)) ⟨v6, ?_⟩
    rw [c6]
    refine nm_e ⟨v6, nm_e (nm_r (nI_1 k) (ih (k + 1) m _ _ (by omega) (by omega) (cu_Au A (fun j hj => pk_un (by omega)) (fun j hj => pk_un (by omega)) (fun _ _ => rfl)) ?_))⟩
    intro j hj
    by_cases e : j = k
    · rw [e, pk_us, pk_us]; exact ⟨rfl, rfl⟩
    · rw [pk_un (by omega), pk_un (by omega)]; exact V j (by omega)
theorem xw_c75 {post : SX → Prop} {n pen : Nat} (X : xc_H n pen P LP f g h bs ck co ki wb tx lk)
    (H : ∀ (fC fK : Int32) (ch nu fi : Nat → Int32), (∀ i, i ≤ n → cu_D n (pz_z pen tx g h) (pz_l lk) i ch nu fi) → post (nI pen, fS, nI n, fF, fC, fK, bs, ck, co, ki, wb, sp, tx, lk, ch, nu, fi)) :
    ∀ (e m : Nat) (fC fK : Int32) (ch nu fi : Nat → Int32), e ≤ n → e < m → (∀ i, e ≤ i → i ≤ n → cu_D n (pz_z pen tx g h) (pz_l lk) i ch nu fi) → wX_cutText_75 post m (xc_p e) (nI pen) fS (nI n) fF fC fK bs ck co ki wb sp tx lk ch nu fi := by
  have h12 := X.1
  intro e
  induction e with
  | zero =>
    intro m fC fK ch nu fi he hm D
    obtain ⟨m, rfl⟩ : ∃ q, m = q + 1 := ⟨m - 1, by omega⟩
    rw [wX_cutText_75]
    exact br_t qn_m1lt (H fC fK ch nu fi (fun i hi => D i (by omega) hi))
  | succ e ih =>
    intro m fC fK ch nu fi he hm D
    obtain ⟨m, rfl⟩ : ∃ q, m = q + 1 := ⟨m - 1, by omega⟩
    rw [xc_ps, wX_cutText_75]
    refine br_f (nI_pos (by omega)) ⟨6, ?_⟩
    refine xw_c81 (pz := pz_z pen tx g h) (lc := pz_l lk) h12 (by omega) ?_ 5 0 6 ch nu (by omega) (by omega) (fun j hj hn => D j (by omega) hn) (fun j hj => absurd hj (by omega))
    intro ch nu A V
    refine ⟨6, xw_c117 X (by omega) ?_ 5 0 6 fC fK ch nu fi (by omega) (by omega) A ?_⟩
    · intro fC fK ch nu fi A D
      refine ih m fC fK ch nu fi (by omega) (by omega) ?_
      intro i h1 h2
      by_cases z : i = e
      · rw [z]; exact D
      · exact A i (by omega) h2
    · intro k hk5
      exact ⟨fun _ => V k hk5, fun r hr => absurd hr (by intro y; cases y)⟩
theorem xw_c15 {post : SX → Prop} {n pen : Nat} (X : xc_H n pen P LP f g h bs ck co ki wb tx lk)
    (H : ∀ (fC fK : Int32) (ch nu fi : Nat → Int32), (∀ i, i ≤ n → cu_D n (pz_z pen tx g h) (pz_l lk) i ch nu fi) → post (nI pen, fS, nI n, fF, fC, fK, bs, ck, co, ki, wb, sp, tx, lk, ch, nu, fi)) :
    ∀ (d k m : Nat) (ch nu fi : Nat → Int32), k + d = 5 → d < m → (∀ j, j < k → ch (5 * n + j) = nI 0 ∧ nu (5 * n + j) = nI 1) → wX_cutText_15 post (nI pen) fS (nI n) fF fC fK m (nI k) bs ck co ki wb sp tx lk ch nu fi := by
  have h12 := X.1
  intro d
  induction d with
  | zero =>
    intro k m ch nu fi hd hm V
    obtain ⟨m, rfl⟩ : ∃ q, m = q + 1 := ⟨m - 1, by omega⟩
    have e : k = 5 := by omega
    rw [e] at V
    rw [e, wX_cutText_15]
    refine br_t (nI_le (a := 5) (by omega) (by omega)) (nm_r (xc_s n) ⟨n + 1, ?_⟩)
    refine xw_c75 X H n (n + 1) fC fK ch nu fi (by omega) (by omega) ?_
    intro i h1 h2
    have e : i = n := by omega
    rw [e]
    intro k hk
    exact ⟨_, cu_Rn, (V k hk).1, (V k hk).2, fun z => absurd z (by omega)⟩
  | succ d ih =>
    intro k m ch nu fi hd hm V
    obtain ⟨m, rfl⟩ : ∃ q, m = q + 1 := ⟨m - 1, by omega⟩
    have e6 : 5 * nI n + nI k = nI (5 * n + k) := yn_5 n k
    have v6 : vp_in (5 * nI n + nI k) 65 := by rw [e6]; exact vp_in_nI (by omega) (by omega)
    have c6 : (5 * nI n + nI k).toNatClampNeg = 5 * n + k := by rw [e6]; exact nI_clamp (by omega)
    rw [wX_cutText_15]
    refine br_f (nI_ge (b := 5) (by omega) (by omega)) ⟨v6, ?_⟩
    rw [c6]
    refine nm_e ⟨v6, nm_e ⟨v6, nm_e (nm_r (nI_1 k) (ih (k + 1) m _ _ _ (by omega) (by omega) ?_))⟩⟩
    intro j hj
    by_cases e : j = k
    · rw [e, pk_us, pk_us]; exact ⟨rfl, rfl⟩
    · rw [pk_un (by omega), pk_un (by omega)]; exact V j (by omega)
theorem xw_cutText {post : SX → Prop} {n pen : Nat} (X : xc_H n pen P LP f g h bs ck co ki wb tx lk)
    (H : ∀ (fC fK : Int32) (ch nu fi : Nat → Int32), (∀ i, i ≤ n → cu_D n (pz_z pen tx g h) (pz_l lk) i ch nu fi) → post (nI pen, fS, nI n, 1, fC, fK, bs, ck, co, ki, wb, sp, tx, lk, ch, nu, fi))
    (hF : fF = 0 ∨ (fF = 1 ∧ ∀ i, i ≤ n → cu_D n (pz_z pen tx g h) (pz_l lk) i ch nu fi)) : wpX_cutText post (nI pen, fS, nI n, fF, fC, fK, bs, ck, co, ki, wb, sp, tx, lk, ch, nu, fi) := by
  unfold wpX_cutText
  rcases hF with z | ⟨z, D⟩
  · exact br_t z ⟨6, xw_c15 X H 5 0 6 ch nu fi (by omega) (by omega) (fun j hj => absurd hj (by omega))⟩
  · subst z
    exact br_f (by decide) (H fC fK ch nu fi D)
end WL10
end
section
section WL11
variable {gP gW gS gT gB gM gC : Int32} {lt le pr kd sd ty ls : Nat → Int32}
/-! the reference's cuts, walked -/
theorem qn_sb {x s : Nat} (hx : x < 2 ^ 31) (hs : s < 32) : ((nI x >>> (nI s &&& 31)) &&& 1) = 1 ↔ x.testBit s = true := by
  have h1 : x / 2 ^ s ≤ x := Nat.div_le_self _ _
  rw [pk_shrN hx (nI s &&& 31) s (s_l s hs), pk_andN (by omega) 1 (by decide), Nat.testBit_eq_decide_div_mod_eq, decide_eq_true_eq]
  have h2 : x / 2 ^ s % 2 ^ 1 = x / 2 ^ s % 2 := rfl
  rw [h2]
  have h3 : x / 2 ^ s % 2 < 2 := Nat.mod_lt _ (by decide)
  exact nI_eq (b := 1) (by omega) (by omega)
theorem yw_border {post : Int32 → Prop} {x n p : Nat} {x0 y0 : Int32} (e1 : x0 = nI x) (e2 : y0 = nI p) (hx : x < 2 ^ 31) (hn : n ≤ 12) (hp : p ≤ n) (h1 : (p = 0 ∨ cu_b n x p = true) → post 1) (h0 : p ≠ 0 → cu_b n x p = false → post 0) : wpY_border post (gP, gW, gS, nI n, gB, gM, gC, lt, le, pr, kd, sd, ty, ls) x0 y0 := by
  subst e1
  subst e2
  unfold wpY_border
  refine pk_eq p 0 (fun z => h1 (Or.inl z)) (fun p0 => ?_)
  refine pk_eq p n (fun z => h1 (Or.inr ?_)) (fun pn => ?_)
  · unfold cu_b
    rw [decide_eq_true z]
    rfl
  · have e3 : nI n - 1 - nI p = nI (n - 1 - p) := by
      have e4 : nI n - 1 = nI (n - 1) := pk_sub (b := 1) (by omega)
      rw [e4, pk_sub (by omega)]
    rw [e3]
    have hb := qn_sb (x := x) (s := n - 1 - p) hx (by omega)
    refine br_c (fun z => h1 (Or.inr ?_)) (fun z => h0 p0 ?_)
    · unfold cu_b
      rw [hb.mp z, Bool.or_true]
    · unfold cu_b
      rw [decide_eq_false pn, Bool.false_or]
      rw [hb] at z
      simpa using z
/-- the words' costs and kinds -/
theorem dq_G {nw : Nat} (ok : dq_ok nw lt le pr kd) : pz_G (dq_g lt le pr nw) (dq_g lt le kd nw) := by
  intro p z
  by_cases y : ∃ w, w < nw ∧ dq_w lt le w = p
  · obtain ⟨w, hw, e⟩ := y
    obtain ⟨c, hc, ec⟩ := ok.2.2.2.1 w hw
    obtain ⟨k, hk, ek⟩ := ok.2.2.2.2.1 w hw
    refine ⟨?_, c, k, hc, hk, ?_, ?_⟩
    · rw [← e]
      unfold dq_w
      rw [tq_len]
      exact (dq_len ok hw).2.1
    · rw [← e, dq_gin nw w ok.2.2.2.2.2 hw]; exact ec
    · rw [← e, dq_gin nw w ok.2.2.2.2.2 hw]; exact ek
  · rw [dq_gout nw (fun w hw e => y ⟨w, hw, e⟩)] at z
    exact absurd z qn_m1le
def yc_b (b : Nat) (x : Int32) : Prop := (b < 4 ∧ x = nI b) ∨ (b = 4 ∧ x = -1)
theorem yw_91 {post : Int32 → Prop} {J : Int32 → Int32 → Int32 → Int32 → Prop} {x1 x4 z0 z1 x7 : Int32} {b t k c sum : Nat} (hk : ∀ j, ∃ c, c ≤ 99 ∧ ls j = nI c) (eb : yc_b b x4) (k3 : k ≤ 3) (e7 : x7 = nI k) (e0 : z0 = nI c) (e1 : z1 = nI sum) (K : J (nI (sum + c + pz_l ls b k)) (nI t) (nI k) (nI (t + 1))) : wY_costOf_91 post J x1 x4 (nI t) x7 z0 z1 gP gW gS gT gB gM gC lt le pr kd sd ty ls := by
  subst e7
  subst e0
  subst e1
  unfold wY_costOf_91
  refine nm_r (nI_add sum c) ?_
  rcases eb with ⟨hb, e⟩ | ⟨hb, e⟩
  · subst e
    refine br_f (nI_pos (by omega)) ⟨by rw [yn_4]; exact vp_in_nI (by omega) (by omega), nm_r (e' := nI (sum + c + pz_l ls b k)) ?_ (nm_r (nI_1 t) K)⟩
    rw [yn_4, nI_clamp (by omega), pz_le hk hb, nI_add]
  · subst e
    refine br_t qn_m1lt (nm_r (nI_1 t) ?_)
    have e2 : pz_l ls b k = 0 := by
      unfold pz_l
      rw [if_neg (by omega)]
    rw [e2] at K
    exact K
theorem yw_c10 {post : Int32 → Prop} {x n nw pen : Nat} (ok : dq_ok nw lt le pr kd) (hy : tq_L ty) (h12 : n ≤ 12) (hx : x < 2 ^ 31) (hk : ∀ j, ∃ c, c ≤ 99 ∧ ls j = nI c) :
    ∀ (d m sum a b t : Nat) (x4 : Int32), t + d = n + 1 → d < m → a < t → yc_b b x4 → (∀ r, cu_c n (pz_z pen ty (dq_g lt le pr nw) (dq_g lt le kd nw)) (pz_l ls) x d a b t = some r → post (nI (sum + r))) → (cu_c n (pz_z pen ty (dq_g lt le pr nw) (dq_g lt le kd nw)) (pz_l ls) x d a b t = none → post (-1)) →
      wY_costOf_10 post (nI x) (nI pen) (nI nw) gS (nI n) gB gM gC lt le pr kd sd ty ls m (nI sum) (nI a) x4 (nI t) := by
  have G := dq_G ok
  have h16 := ok.1
  intro d
  induction d with
  | zero =>
    intro m sum a b t x4 ht hm ha eb hs hn
    obtain ⟨m, rfl⟩ : ∃ q, m = q + 1 := ⟨m - 1, by omega⟩
    rw [wY_costOf_10]
    exact br_t (nI_lt (by omega) (by omega)) (hs 0 rfl)
  | succ d ih =>
    intro m sum a b t x4 ht hm ha eb hs hn
    obtain ⟨m, rfl⟩ : ∃ q, m = q + 1 := ⟨m - 1, by omega⟩
    rw [cu_cs] at hs hn
    rw [wY_costOf_10]
    refine br_f (nI_nlt (by omega) (by omega)) ?_
    refine yw_border (x := x) (p := t) rfl rfl hx h12 (by omega) ?_ ?_
    · intro z
      have z1 : cu_b n x t = true := z.resolve_left (by omega)
      rw [if_pos z1] at hs hn
      have N : ∀ q : Nat × Nat, pz_z pen ty (dq_g lt le pr nw) (dq_g lt le kd nw) a (t - a) = some q → wY_costOf_10 post (nI x) (nI pen) (nI nw) gS (nI n) gB gM gC lt le pr kd sd ty ls m (nI (sum + q.1 + pz_l ls b q.2)) (nI t) (nI q.2) (nI (t + 1)) := by
        intro q hq
        have q3 : q.2 ≤ 3 := by
          by_cases z : 0 ≤ dq_g lt le pr nw (tq_sg ty a (t - a))
          · obtain ⟨q', e1, _, _, _, e5⟩ := pz_1 (pen := pen) G z
            have h5 := Option.some.inj (e1.symm.trans hq)
            rw [← h5]; exact e5
          · rw [pz_2 z] at hq
            by_cases y : t - a = 1
            · rw [if_pos y] at hq
              have h5 := Option.some.inj hq
              rw [← h5]; exact Nat.le_refl 3
            · rw [if_neg y] at hq
              exact absurd hq (by intro x; cases x)
        rw [hq] at hs hn
        refine ih m _ t q.2 (t + 1) _ (by omega) (by omega) (by omega) (Or.inl ⟨by omega, rfl⟩) ?_ ?_
        · intro r hr
          have h1 := hs (q.1 + pz_l ls b q.2 + r) (by
            show (cu_c n _ _ x d t q.2 (t + 1)).map _ = _
            rw [hr]; rfl)
          have e : sum + q.1 + pz_l ls b q.2 + r = sum + (q.1 + pz_l ls b q.2 + r) := by omega
          rw [e]; exact h1
        · intro hr
          apply hn
          show (cu_c n _ _ x d t q.2 (t + 1)).map _ = _
          rw [hr]; rfl
      refine br_f (by decide) ?_
      refine yw_word (i0 := a) (L := t - a) rfl (by rw [Nat.add_sub_cancel' (by omega)]) ok hy (by omega) h12 ?_ ?_
      · intro w hw ew
        have cw : (nI w).toNatClampNeg = w := nI_clamp (by omega)
        have w16 : vp_in (nI w) 16 := vp_in_nI (by omega) (by omega)
        have w0 : (0 : Int32) ≤ nI w := nI_pos' (by omega)
        have g1 : dq_g lt le pr nw (tq_sg ty a (t - a)) = pr w := by rw [← ew]; exact dq_gin nw w ok.2.2.2.2.2 hw
        have g2 : dq_g lt le kd nw (tq_sg ty a (t - a)) = kd w := by rw [← ew]; exact dq_gin nw w ok.2.2.2.2.2 hw
        obtain ⟨c, hc, ec⟩ := ok.2.2.2.1 w hw
        have z : 0 ≤ dq_g lt le pr nw (tq_sg ty a (t - a)) := by rw [g1, ec]; exact nI_pos' (by omega)
        obtain ⟨q, hq, e1, e2, e3, e4⟩ := pz_1 (pen := pen) G z
        rw [g1] at e1
        rw [g2] at e2
        refine br_t w0 ?_
        unfold wY_costOf_53
        refine br_t w0 ⟨w16, ?_⟩
        unfold wY_costOf_69
        refine br_t w0 ⟨w16, ?_⟩
        rw [cw]
        exact yw_91 hk eb e4 e2 e1 rfl (N q hq)
      · intro hno
        have g1 : dq_g lt le pr nw (tq_sg ty a (t - a)) = -1 := dq_gout nw hno
        have z : ¬ 0 ≤ dq_g lt le pr nw (tq_sg ty a (t - a)) := by rw [g1]; exact qn_m1le
        have es : nI t - nI a = nI (t - a) := pk_sub (by omega)
        refine br_f qn_m1le ?_
        rw [es]
        refine pk_le (t - a) 1 (fun y => ?_) (fun y => ?_)
        · have y1 : t - a = 1 := by omega
          have hq : pz_z pen ty (dq_g lt le pr nw) (dq_g lt le kd nw) a (t - a) = some (pen, 3) := by rw [pz_2 z, if_pos y1]
          unfold wY_costOf_53
          refine br_f qn_m1le ?_
          unfold wY_costOf_69
          refine br_f qn_m1le ?_
          exact yw_91 (c := pen) (k := 3) hk eb (Nat.le_refl 3) rfl rfl rfl (N (pen, 3) hq)
        · apply hn
          rw [pz_2 z, if_neg (by omega)]
          rfl
    · intro _ z
      rw [if_neg (by rw [z]; decide)] at hs hn
      exact br_t rfl (nm_r (nI_1 t) (ih m sum a b (t + 1) x4 (by omega) (by omega) (by omega) eb hs hn))
theorem yw_costOf {post : Int32 → Prop} {x n nw pen : Nat} {x0 : Int32} (e : x0 = nI x) (ok : dq_ok nw lt le pr kd) (hy : tq_L ty) (h12 : n ≤ 12) (hx : x < 2 ^ 31) (hk : ∀ j, ∃ c, c ≤ 99 ∧ ls j = nI c)
    (hs : ∀ r, cu_c n (pz_z pen ty (dq_g lt le pr nw) (dq_g lt le kd nw)) (pz_l ls) x n 0 4 1 = some r → post (nI r)) (hn : cu_c n (pz_z pen ty (dq_g lt le pr nw) (dq_g lt le kd nw)) (pz_l ls) x n 0 4 1 = none → post (-1)) : wpY_costOf post (nI pen, nI nw, gS, nI n, gB, gM, gC, lt, le, pr, kd, sd, ty, ls) x0 := by
  subst e
  unfold wpY_costOf
  refine ⟨n + 1, yw_c10 (pen := pen) ok hy h12 hx hk n (n + 1) 0 0 4 1 (-1) (by omega) (by omega) (by omega) (Or.inr ⟨rfl, rfl⟩) ?_ hn⟩
  intro r hr
  rw [Nat.zero_add]
  exact hs r hr
def yc_E (T : Option (Nat × Nat × Nat)) (be ma cn : Int32) : Prop := (T = none → be = -1 ∧ ma = 0 ∧ cn = 0) ∧ (∀ r, T = some r → r.1 ≤ 198 * 12 ∧ be = nI r.1 ∧ ma = nI r.2.1 ∧ cn = nI r.2.2)
theorem yc_S {r : Nat × Nat × Nat} {be ma cn : Int32} (h0 : r.1 ≤ 198 * 12) (h1 : be = nI r.1) (h2 : ma = nI r.2.1) (h3 : cn = nI r.2.2) : yc_E (some r) be ma cn := by
  refine ⟨fun z => absurd z (by intro y; cases y), ?_⟩
  intro t ht
  have h4 := Option.some.inj ht
  rw [← h4]
  exact ⟨h0, h1, h2, h3⟩
theorem yw_l38 {post : SY → Prop} {n nw pen C : Nat} (ok : dq_ok nw lt le pr kd) (hp : pen ≤ 99) (hy : tq_L ty) (h12 : n ≤ 12) (hk : ∀ j, ∃ c, c ≤ 99 ∧ ls j = nI c) (hC : C ≤ 2048)
    (H : ∀ gB gM gC : Int32, yc_E (cu_s (fun x => cu_c n (pz_z pen ty (dq_g lt le pr nw) (dq_g lt le kd nw)) (pz_l ls) x n 0 4 1) 0 C) gB gM gC → post (nI pen, nI nw, gS, nI n, gB, gM, gC, lt, le, pr, kd, sd, ty, ls)) :
    ∀ (d x m : Nat) (gB gM gC : Int32), x + d = C → d < m → yc_E (cu_s (fun x => cu_c n (pz_z pen ty (dq_g lt le pr nw) (dq_g lt le kd nw)) (pz_l ls) x n 0 4 1) 0 x) gB gM gC → wY_look_38 post (nI C) (nI pen) (nI nw) gS (nI n) lt le pr kd sd ty ls m (nI x) gB gM gC := by
  have G := dq_G ok
  have hl := pz_hl hk
  have hz := pz_hz (tx := ty) (pen := pen) G hp
  intro d
  induction d with
  | zero =>
    intro x m gB gM gC hd hm E
    obtain ⟨m, rfl⟩ : ∃ q, m = q + 1 := ⟨m - 1, by omega⟩
    have e : x = C := by omega
    rw [e] at E
    rw [wY_look_38]
    exact br_t (nI_le (by omega) (by omega)) (H gB gM gC E)
  | succ d ih =>
    intro x m gB gM gC hd hm E
    obtain ⟨m, rfl⟩ : ∃ q, m = q + 1 := ⟨m - 1, by omega⟩
    have nx := fun gB gM gC => ih (x + 1) m gB gM gC (by omega) (by omega)
    rw [cu_ss, Nat.zero_add] at nx
    rw [wY_look_38]
    refine br_f (nI_ge (by omega) (by omega)) ?_
    refine yw_costOf (pen := pen) (x := x) rfl ok hy h12 (by omega) hk ?_ ?_
    · intro c hc
      have c1 : c ≤ 198 * n := cu_bd hz hl _ _ _ _ _ hc
      have c2 : c ≤ 198 * 12 := Nat.le_trans c1 (Nat.mul_le_mul_left _ h12)
      have S : ∀ q : Nat × Nat × Nat, q = (c, 1, x) → yc_E (some q) (nI c) (nI 1) (nI x) := by
        intro q e
        subst e
        exact yc_S c2 rfl rfl rfl
      rw [hc] at nx
      have nx2 : ∀ (gB gM gC : Int32), yc_E (cu_m (cu_s (fun x => cu_c n (pz_z pen ty (dq_g lt le pr nw) (dq_g lt le kd nw)) (pz_l ls) x n 0 4 1) 0 x) (some (c, 1, x))) gB gM gC → wY_look_38 post (nI C) (nI pen) (nI nw) gS (nI n) lt le pr kd sd ty ls m (nI (x + 1)) gB gM gC := nx
      have B : cu_m (cu_s (fun x => cu_c n (pz_z pen ty (dq_g lt le pr nw) (dq_g lt le kd nw)) (pz_l ls) x n 0 4 1) 0 x) (some (c, 1, x)) = some (c, 1, x) → wY_look_68 post (wY_look_38 post (nI C) (nI pen) (nI nw) gS (nI n) lt le pr kd sd ty ls m) (nI C) (nI x) (nI c) (nI pen) (nI nw) gS (nI n) gB gM gC lt le pr kd sd ty ls := by
        intro e
        unfold wY_look_68 wY_look_83
        refine br_f (nI_pos (by omega)) (br_t rfl (nm_r (e' := nI 1) rfl (nm_r (nI_1 x) (nx2 _ _ _ ?_))))
        rw [e]
        exact S _ rfl
      refine br_f (nI_pos (by omega)) ?_
      cases hT : cu_s (fun x => cu_c n (pz_z pen ty (dq_g lt le pr nw) (dq_g lt le kd nw)) (pz_l ls) x n 0 4 1) 0 x with
      | none =>
        have e1 := (E.1 hT).1
        refine br_t (by rw [e1]; exact qn_m1lt) (B ?_)
        rw [hT]
        rfl
      | some t =>
        obtain ⟨t1, t2, t3, t4⟩ := E.2 t hT
        rw [hT] at nx2
        rw [hT] at B
        subst t2
        refine br_f (nI_pos (by omega)) (pk_le t.1 c (fun y => ?_) (fun y => ?_))
        · unfold wY_look_83
          refine br_f (nI_pos (by omega)) (pk_eq c t.1 (fun w => ?_) (fun w => ?_))
          · refine nm_r (e' := nI (t.2.1 + 1)) (by rw [t3, nI_1]) (nm_r (nI_1 x) (nx2 _ _ _ ?_))
            rw [cu_meq (by show t.1 = c; omega)]
            exact yc_S t1 rfl rfl t4
          · refine nm_r (nI_1 x) (nx2 _ _ _ ?_)
            rw [cu_mgt (by show t.1 < c; omega)]
            exact yc_S t1 rfl t3 t4
        · exact B (cu_mlt y)
    · intro hc
      rw [hc] at nx
      unfold wY_look_83
      refine br_t qn_m1lt (br_t qn_m1lt (nm_r (nI_1 x) (nx _ _ _ ?_)))
      show yc_E (cu_m _ none) _ _ _
      rw [cu_m1]
      exact E
theorem yw_look {post : SY → Prop} {n nw pen : Nat} (ok : dq_ok nw lt le pr kd) (hp : pen ≤ 99) (hy : tq_L ty) (h12 : n ≤ 12) (hk : ∀ j, ∃ c, c ≤ 99 ∧ ls j = nI c)
    (H : ∀ r, cu_R n (pz_z pen ty (dq_g lt le pr nw) (dq_g lt le kd nw)) (pz_l ls) 0 4 = some r → post (nI pen, nI nw, gS, nI n, nI r.1, nI r.2.1, nI r.2.2, lt, le, pr, kd, sd, ty, ls)) : wpY_look post (nI pen, nI nw, gS, nI n, gB, gM, gC, lt, le, pr, kd, sd, ty, ls) := by
  have G := dq_G ok
  have E0 : yc_E (cu_s (fun x => cu_c n (pz_z pen ty (dq_g lt le pr nw) (dq_g lt le kd nw)) (pz_l ls) x n 0 4 1) 0 0) (-1) 0 0 := ⟨fun _ => ⟨rfl, rfl, rfl⟩, fun r z => absurd z (by intro y; cases y)⟩
  have HH : ∀ gB gM gC : Int32, yc_E (cu_s (fun x => cu_c n (pz_z pen ty (dq_g lt le pr nw) (dq_g lt le kd nw)) (pz_l ls) x n 0 4 1) 0 (2 ^ (n - 1))) gB gM gC → post (nI pen, nI nw, gS, nI n, gB, gM, gC, lt, le, pr, kd, sd, ty, ls) := by
    intro gB gM gC E
    obtain ⟨r, hr⟩ := cu_RS (n := n) (pz := pz_z pen ty (dq_g lt le pr nw) (dq_g lt le kd nw)) (lc := pz_l ls) (fun _ _ => pz_h1 G) n 0 4 (by omega)
    obtain ⟨_, e1, e2, e3⟩ := E.2 r hr
    rw [e1, e2, e3]
    exact H r hr
  have hC : 2 ^ (n - 1) ≤ 2048 := Nat.le_trans (Nat.pow_le_pow_right (n := 2) (j := 11) (by decide) (by omega)) (by decide)
  have K := yw_l38 (gS := gS) (post := post) (sd := sd) ok hp hy h12 hk hC HH (2 ^ (n - 1)) 0 (2 ^ (n - 1) + 1) (-1) 0 0 (by omega) (by omega) E0
  unfold wpY_look
  refine pk_le n 1 (fun z => ⟨2 ^ (n - 1) + 1, ?_⟩) (fun z => nm_r (e' := nI (2 ^ (n - 1))) ?_ ⟨2 ^ (n - 1) + 1, K⟩)
  · have e : n - 1 = 0 := by omega
    rw [e] at K
    rw [e]
    exact K
  · have e4 : nI n - 1 = nI (n - 1) := pk_sub (b := 1) (by omega)
    have h1 : 2 ^ (n - 1) < 2 ^ 32 := Nat.pow_lt_pow_right (by decide) (by omega)
    rw [e4]
    have h2 := pk_shlN (n := 1) (nI (n - 1) &&& 31) (n - 1) (s_l (n - 1) (by omega)) (by omega)
    rw [Nat.one_mul] at h2
    exact h2
end WL11
end
section
section WL12
variable {fP fS fL fF fC fK : Int32} {bs ck co ki wb sp tx lk ch nu fi : Nat → Int32}
variable {P : Nat → List Nat} {LP : List Nat → Prop} {f : List Nat → Nat} {g h : List Nat → Int32}
variable {gP gW gS gT gB gM gC : Int32} {lt le pr kd sd ty ls : Nat → Int32}
/-! the pieces' places -/
theorem yw_sk {post : Int32 → SY → Prop} {n x : Nat} {pc : Int32} (h12 : n ≤ 12) (hx : x < 2 ^ 31) : ∀ (k m p c : Nat), (∀ s, p ≤ s → s < p + k → cu_b n x s = false) → 1 ≤ p → p + k ≤ n → wY_start_8 post pc gP gW gS (nI n) gB gM (nI x) lt le pr kd sd ty ls m (nI c) (nI (p + k)) → wY_start_8 post pc gP gW gS (nI n) gB gM (nI x) lt le pr kd sd ty ls (m + k) (nI c) (nI p) := by
  intro k
  induction k with
  | zero => intro m p c _ _ _ K; exact K
  | succ k ih =>
    intro m p c hb hp hn K
    rw [← Nat.add_assoc, wY_start_8]
    refine br_f (nI_nlt (by omega) (by omega)) ?_
    refine yw_border (x := x) (p := p) rfl rfl hx h12 (by omega) ?_ ?_
    · intro z
      have h1 := hb p (by omega) (by omega)
      rcases z with z | z
      · omega
      · rw [h1] at z
        exact absurd z (by decide)
    · intro _ _
      have e : p + 1 + k = p + (k + 1) := by omega
      exact br_t rfl (nm_r (nI_1 p) (ih m (p + 1) c (fun s h1 h2 => hb s (by omega) (by omega)) (by omega) (by omega) (by rw [e]; exact K)))
theorem yw_neg {post : Int32 → SY → Prop} {n x : Nat} {pc : Int32} (h12 : n ≤ 12) (hx : x < 2 ^ 31) (hp : pc < 0) (K : post (-1) (gP, gW, gS, nI n, gB, gM, nI x, lt, le, pr, kd, sd, ty, ls)) : ∀ (d m p c : Nat), p + d = n + 1 → d < m → c + d ≤ 100 → wY_start_8 post pc gP gW gS (nI n) gB gM (nI x) lt le pr kd sd ty ls m (nI c) (nI p) := by
  intro d
  induction d with
  | zero =>
    intro m p c h1 hm hc
    obtain ⟨m, rfl⟩ : ∃ q, m = q + 1 := ⟨m - 1, by omega⟩
    rw [wY_start_8]
    exact br_t (nI_lt (by omega) (by omega)) K
  | succ d ih =>
    intro m p c h1 hm hc
    obtain ⟨m, rfl⟩ : ∃ q, m = q + 1 := ⟨m - 1, by omega⟩
    rw [wY_start_8]
    refine br_f (nI_nlt (by omega) (by omega)) ?_
    refine yw_border (x := x) (p := p) rfl rfl hx h12 (by omega) ?_ ?_
    · intro _
      refine br_f (by decide) (br_f (fun z => ?_) (nm_r (nI_1 c) (nm_r (nI_1 p) (ih m (p + 1) (c + 1) (by omega) (by omega) (by omega)))))
      rw [← z] at hp
      exact nI_pos (by omega) hp
    · intro _ _
      exact br_t rfl (nm_r (nI_1 p) (ih m (p + 1) c (by omega) (by omega) (by omega)))
theorem st_A {n pen x0 i b j : Nat} (h12 : n ≤ 12) (hx : x0 < 2 ^ 31) (hi : i ≤ n) (hj : j ≤ i) (hb : i = 0 ∨ cu_b n x0 i = true) :
    (∀ (m : Nat) (fC fK : Int32) (post : Int32 → SX → Prop), n - i < m → (∀ fC fK : Int32, post (nI i) (nI pen, fS, nI n, fF, fC, fK, bs, ck, co, ki, wb, sp, tx, lk, ch, nu, fi)) → wX_start_17 post (nI j) m (nI i) (nI b) (nI j) (nI pen) fS (nI n) fF fC fK bs ck co ki wb sp tx lk ch nu fi) ∧
    (∀ (m : Nat) (post : Int32 → SY → Prop), n + 1 - i < m → post (nI i) (gP, gW, gS, nI n, gB, gM, nI x0, lt, le, pr, kd, sd, ty, ls) → wY_start_8 post (nI j) gP gW gS (nI n) gB gM (nI x0) lt le pr kd sd ty ls m (nI j) (nI i)) := by
  constructor
  · intro m fC fK post hm H
    obtain ⟨m, rfl⟩ : ∃ q, m = q + 1 := ⟨m - 1, by omega⟩
    have K : wX_start_75 post (nI j) (nI i) (nI pen) fS (nI n) fF fC fK bs ck co ki wb sp tx lk ch nu fi := by
      unfold wX_start_75
      exact pk_le j 12 (fun _ => H fC fK) (fun z => absurd z (by omega))
    rw [wX_start_17]
    exact br_c (fun _ => K) (fun _ => br_t (nI_le (Nat.le_refl _) (by omega)) K)
  · intro m post hm H
    obtain ⟨m, rfl⟩ : ∃ q, m = q + 1 := ⟨m - 1, by omega⟩
    rw [wY_start_8]
    refine br_f (nI_nlt (by omega) (by omega)) ?_
    refine yw_border (x := x0) (p := i) rfl rfl hx h12 hi ?_ ?_
    · intro _
      exact br_f (by decide) (br_t rfl H)
    · intro h0 h1
      rcases hb with z | z
      · exact absurd z h0
      · rw [h1] at z
        exact absurd z (by decide)
theorem st_B {n pen x0 b j pc : Nat} (h12 : n ≤ 12) (hx : x0 < 2 ^ 31) (hj : j ≤ n) (hp : pc < 2 ^ 31) (hjp : j < pc) (hb : n = 0 ∨ cu_b n x0 n = true) :
    (∀ (m : Nat) (fC fK : Int32) (post : Int32 → SX → Prop), n - n < m → (∀ fC fK : Int32, post (-1) (nI pen, fS, nI n, fF, fC, fK, bs, ck, co, ki, wb, sp, tx, lk, ch, nu, fi)) → wX_start_17 post (nI pc) m (nI n) (nI b) (nI j) (nI pen) fS (nI n) fF fC fK bs ck co ki wb sp tx lk ch nu fi) ∧
    (∀ (m : Nat) (post : Int32 → SY → Prop), n + 1 - n < m → post (-1) (gP, gW, gS, nI n, gB, gM, nI x0, lt, le, pr, kd, sd, ty, ls) → wY_start_8 post (nI pc) gP gW gS (nI n) gB gM (nI x0) lt le pr kd sd ty ls m (nI j) (nI n)) := by
  constructor
  · intro m fC fK post hm H
    obtain ⟨m, rfl⟩ : ∃ q, m = q + 1 := ⟨m - 1, by omega⟩
    rw [wX_start_17]
    refine pk_le 12 j (fun z => ?_) (fun z => ?_)
    · unfold wX_start_75
      exact pk_le pc 12 (fun y => absurd y (by omega)) (fun _ => H fC fK)
    · exact br_f (nI_ge hjp hp) (br_f (nI_nlt (Nat.le_refl _) (by omega)) (H fC fK))
  · intro m post hm H
    obtain ⟨m, rfl⟩ : ∃ q, m = q + 2 := ⟨m - 2, by omega⟩
    rw [wY_start_8]
    refine br_f (nI_nlt (by omega) (by omega)) ?_
    refine yw_border (x := x0) (p := n) rfl rfl hx h12 (Nat.le_refl _) ?_ ?_
    · intro _
      refine br_f (by decide) (pk_eq j pc (fun z => absurd z (by omega)) (fun _ => nm_r (nI_1 j) (nm_r (nI_1 n) ?_)))
      rw [wY_start_8]
      exact br_t (nI_lt (by omega) (by omega)) H
    · intro h0 h1
      rcases hb with z | z
      · exact absurd z h0
      · rw [h1] at z
        exact absurd z (by decide)
theorem st_L {n pen pc x0 : Nat} (X : xc_H n pen P LP f g h bs ck co ki wb tx lk) (D : ∀ i, i ≤ n → cu_D n (pz_z pen tx g h) (pz_l lk) i ch nu fi) (hx : x0 < 2 ^ 31) (hp : pc < 2 ^ 31) :
    ∀ (d i b j : Nat) (r : Nat × Nat × Nat), n - i ≤ d → i ≤ n → j ≤ i → b < 5 → (i = 0 ∨ cu_b n x0 i = true) → cu_R n (pz_z pen tx g h) (pz_l lk) i b = some r → (∀ p, i < p → p ≤ n → cu_b n x0 p = cu_b n r.2.2 p) → j ≤ pc →
    ∃ res : Int32,
      (∀ (m : Nat) (fC fK : Int32) (post : Int32 → SX → Prop), n - i < m → (∀ fC fK : Int32, post res (nI pen, fS, nI n, fF, fC, fK, bs, ck, co, ki, wb, sp, tx, lk, ch, nu, fi)) → wX_start_17 post (nI pc) m (nI i) (nI b) (nI j) (nI pen) fS (nI n) fF fC fK bs ck co ki wb sp tx lk ch nu fi) ∧
      (∀ (m : Nat) (post : Int32 → SY → Prop), n + 1 - i < m → post res (gP, gW, gS, nI n, gB, gM, nI x0, lt, le, pr, kd, sd, ty, ls) → wY_start_8 post (nI pc) gP gW gS (nI n) gB gM (nI x0) lt le pr kd sd ty ls m (nI j) (nI i)) := by
  obtain ⟨h12, hpen, I, G, hN, hT, hk⟩ := X
  intro d
  induction d with
  | zero =>
    intro i b j r hd hi hj hb5 hb hr hs hjp
    have e : i = n := by omega
    by_cases z : j = pc
    · rw [← z]
      exact ⟨_, st_A h12 hx hi hj hb⟩
    · rw [e]
      rw [e] at hj hb
      exact ⟨_, st_B h12 hx hj hp (by omega) hb⟩
  | succ d ih =>
    intro i b j r hd hi hj hb5 hb hr hs hjp
    by_cases z : j = pc
    · rw [← z]
      exact ⟨_, st_A h12 hx hi hj hb⟩
    by_cases e : i = n
    · rw [e]
      rw [e] at hj hb
      exact ⟨_, st_B h12 hx hj hp (by omega) hb⟩
    obtain ⟨r', hr', e1, e2, e3⟩ := D i hi b hb5
    have er : r' = r := Option.some.inj (hr'.symm.trans hr)
    rw [er] at e3
    obtain ⟨L, eL, L1, L5, Ln, q, r2, hq, hr2, ex⟩ := e3 (by omega)
    have hy := (cu_Rb (pz_hz G hpen) (pz_hl hk) hr2).2
    obtain ⟨t1, t2, t3⟩ := cu_bt L1 Ln hy
    have q3 := (pz_hz G hpen _ _ _ hq).2
    obtain ⟨res, KX, KY⟩ := ih (i + L) q.2 (j + 1) r2 (by omega) Ln (by omega) (by omega) (Or.inr (by rw [hs (i + L) (by omega) Ln, ex]; exact t2)) hr2 (fun p h1 h2 => by rw [hs p (by omega) h2, ex]; exact t3 p h1 h2) (by omega)
    refine ⟨res, ?_, ?_⟩
    · intro m fC fK post hm H
      obtain ⟨m, rfl⟩ : ∃ q, m = q + 1 := ⟨m - 1, by omega⟩
      rw [wX_start_17]
      refine br_f (nI_ge (b := 12) (by omega) (by omega)) (br_f (nI_ge (by omega) hp) (br_t (nI_lt (by omega) (by omega)) ⟨by rw [yn_5]; exact vp_in_nI (by omega) (by omega), nm_r (e' := nI L) (by rw [yn_5, nI_clamp (by omega)]; exact eL) ?_⟩))
      refine xw_fit (pen := pen) (n := n) (i := i) (L := L) rfl rfl I G hN hT h12 (by omega) (by omega) ?_ ?_
      · intro q' _ hq'
        have eq : q' = q := Option.some.inj (hq'.symm.trans hq)
        rw [eq]
        exact nm_r (nI_add i L) (nm_r (nI_1 j) (KX m _ _ post (by omega) H))
      · intro hno
        rw [hno Ln] at hq
        exact absurd hq (by intro y; cases y)
    · intro m post hm H
      obtain ⟨m, rfl⟩ : ∃ q, m = (q + (L - 1)) + 1 := ⟨m - 1 - (L - 1), by omega⟩
      rw [wY_start_8]
      refine br_f (nI_nlt (by omega) (by omega)) ?_
      refine yw_border (x := x0) (p := i) rfl rfl hx h12 hi ?_ ?_
      · intro _
        refine br_f (by decide) (pk_eq j pc (fun y => absurd y z) (fun _ => nm_r (nI_1 j) (nm_r (nI_1 i) ?_)))
        have e5 : i + 1 + (L - 1) = i + L := by omega
        refine yw_sk h12 hx (L - 1) m (i + 1) (j + 1) ?_ (by omega) (by omega) (by rw [e5]; exact KY m post (by omega) H)
        intro s h1 h2
        rw [hs s (by omega) (by omega), ex]
        exact t1 s (by omega) (by omega)
      · intro h0 h1
        rcases hb with y | y
        · exact absurd y h0
        · rw [h1] at y
          exact absurd y (by decide)
end WL12
end
section
section WL13
/-! the relation -/
def rl_F (pen m n nw : Nat) (fF : Int32) (bs ck co ki wb sp tx lk ch nu fi lt le pr kd : Nat → Int32) : Prop :=
  1 ≤ pen ∧ pen ≤ 99 ∧ m ≤ 5 ∧ n ≤ 12 ∧ tq_L sp ∧ tq_L tx ∧ (∀ j, ∃ c, c ≤ 99 ∧ lk j = nI c) ∧ dq_ok nw lt le pr kd ∧
  (∃ P, tr_I 0 P (dq_L lt le nw) (dq_f lt le nw) (dq_g lt le pr nw) (dq_g lt le kd nw) bs ck co ki wb) ∧
  (fF = 0 ∨ (fF = 1 ∧ ∀ i, i ≤ n → cu_D n (pz_z pen tx (dq_g lt le pr nw) (dq_g lt le kd nw)) (pz_l lk) i ch nu fi))
/-- the relation at the head of a turn: the least one that holds of all such states -/
def i_Rel (k : Nat) (u : SX) (v : SY) : Prop := ∀ Q : SX → SY → Prop,
  (∀ (pen m n nw : Nat) (fF fC fK gB gM gC : Int32) (bs ck co ki wb sp tx lk ch nu fi lt le pr kd : Nat → Int32), rl_F pen m n nw fF bs ck co ki wb sp tx lk ch nu fi lt le pr kd →
    Q (nI pen, nI m, nI n, fF, fC, fK, bs, ck, co, ki, wb, sp, tx, lk, ch, nu, fi) (nI pen, nI nw, nI m, nI n, gB, gM, gC, lt, le, pr, kd, sp, tx, lk)) → Q u v
theorem rl_mk {k pen m n nw : Nat} {fF fC fK gB gM gC : Int32} {bs ck co ki wb sp tx lk ch nu fi lt le pr kd : Nat → Int32} (F : rl_F pen m n nw fF bs ck co ki wb sp tx lk ch nu fi lt le pr kd) :
    i_Rel k (nI pen, nI m, nI n, fF, fC, fK, bs, ck, co, ki, wb, sp, tx, lk, ch, nu, fi) (nI pen, nI nw, nI m, nI n, gB, gM, gC, lt, le, pr, kd, sp, tx, lk) := fun _ H => H _ _ _ _ _ _ _ _ _ _ _ _ _ _ _ _ _ _ _ _ _ _ _ _ _ F
theorem rl_el {k : Nat} {u : SX} {v : SY} {Q : SX → SY → Prop} (I : i_Rel k u v)
    (H : ∀ (pen m n nw : Nat) (fF fC fK gB gM gC : Int32) (bs ck co ki wb sp tx lk ch nu fi lt le pr kd : Nat → Int32), rl_F pen m n nw fF bs ck co ki wb sp tx lk ch nu fi lt le pr kd →
      Q (nI pen, nI m, nI n, fF, fC, fK, bs, ck, co, ki, wb, sp, tx, lk, ch, nu, fi) (nI pen, nI nw, nI m, nI n, gB, gM, gC, lt, le, pr, kd, sp, tx, lk)) : Q u v := I Q H
theorem rl_X {pen m n nw : Nat} {fF : Int32} {bs ck co ki wb sp tx lk ch nu fi lt le pr kd : Nat → Int32} (F : rl_F pen m n nw fF bs ck co ki wb sp tx lk ch nu fi lt le pr kd) :
    ∃ P, xc_H n pen P (dq_L lt le nw) (dq_f lt le nw) (dq_g lt le pr nw) (dq_g lt le kd nw) bs ck co ki wb tx lk := by
  obtain ⟨p1, p2, hm, hn, hs, ht, hk, ok, ⟨P, I⟩, hF⟩ := F
  exact ⟨P, hn, p2, I, dq_G ok, fun p => dq_ng, ht, hk⟩
/-! the first state -/
def in_f (k : Nat) : Nat → Int32 := fun j => if j < k then -1 else 0
theorem in_f0 : in_f 0 = fun _ => 0 := by
  funext j
  exact if_neg (by omega)
theorem in_fs {k : Nat} : upd (in_f k) k (-1) = in_f (k + 1) := by
  funext j
  show (if j = k then -1 else (if j < k then -1 else 0)) = (if j < k + 1 then (-1 : Int32) else 0)
  by_cases e : j = k
  · rw [if_pos e, if_pos (by omega)]
  · rw [if_neg e]
    by_cases c : j < k
    · rw [if_pos c, if_pos (by omega)]
    · rw [if_neg c, if_neg (by omega)]
theorem xw_i123 {post : SX → Prop} {fP : Int32} (H : post (fP, 0, 0, 0, 0, 0, (fun _ => 0), upd (in_f 512) 0 0, in_f 512, (fun _ => 0), (fun _ => 0), (fun _ => 0), (fun _ => 0), (fun _ => 0), (fun _ => 0), (fun _ => 0), (fun _ => 0))) :
    ∀ d k n, k + d = 512 → d < n → wX_init_123 post fP 0 0 0 0 0 n (nI k) (fun _ => 0) (in_f k) (in_f k) (fun _ => 0) (fun _ => 0) (fun _ => 0) (fun _ => 0) (fun _ => 0) (fun _ => 0) (fun _ => 0) (fun _ => 0) := by
  intro d
  induction d with
  | zero =>
    intro k n hd hn
    obtain ⟨n, rfl⟩ : ∃ q, n = q + 1 := ⟨n - 1, by omega⟩
    have e : k = 512 := by omega
    rw [e, wX_init_123]
    exact br_t (nI_le (a := 512) (by omega) (by omega)) (nm_e H)
  | succ d ih =>
    intro k n hd hn
    obtain ⟨n, rfl⟩ : ∃ q, n = q + 1 := ⟨n - 1, by omega⟩
    have cc : (nI k).toNatClampNeg = k := nI_clamp (by omega)
    have hv : vp_in (nI k) 512 := vp_in_nI (by omega) (by omega)
    rw [wX_init_123]
    refine br_f (nI_ge (b := 512) (by omega) (by omega)) ⟨hv, ?_⟩
    rw [cc]
    exact nm_r in_fs ⟨hv, nm_r in_fs (nm_r (nI_1 k) (ih (k + 1) n (by omega) (by omega)))⟩
theorem in_I : tr_I 0 (fun _ => []) (dq_L (fun _ => 0) (fun _ => 0) 0) (dq_f (fun _ => 0) (fun _ => 0) 0) (dq_g (fun _ => 0) (fun _ => 0) (fun _ => 0) 0) (dq_g (fun _ => 0) (fun _ => 0) (fun _ => 0) 0) (fun _ => 0) (upd (in_f 512) 0 0) (in_f 512) (fun _ => 0) (fun _ => 0) := by
  have V : ∀ c, tr_v (upd (in_f 512) 0 0) c → c = 0 := by
    intro c v
    by_cases e : c = 0
    · exact e
    · have h1 := v.2
      rw [pk_un e] at h1
      have h2 : in_f 512 c = -1 := if_pos v.1
      rw [h2] at h1
      exact absurd h1 qn_m1le
  refine ⟨fun c _ => ⟨0, by omega, rfl⟩, ⟨pk_us, rfl, ?_, ?_⟩, ?_, ?_⟩
  · intro c v c0 _
    exact absurd (V c v) c0
  · intro c d vc vd _
    rw [V c vc, V d vd]
  · intro c v
    rw [V c v]
    exact ⟨Or.inl rfl, rfl, rfl, fun z => absurd z qn_m1le⟩
  · intro p hp
    rcases hp with z | z
    · exact ⟨0, tr_v0 pk_us, z.symm⟩
    · exact absurd z (Nat.lt_irrefl 0)
theorem in_F {pen : Nat} (h1 : 1 ≤ pen) (h2 : pen ≤ 99) : rl_F pen 0 0 0 0 (fun _ => 0) (upd (in_f 512) 0 0) (in_f 512) (fun _ => 0) (fun _ => 0) (fun _ => 0) (fun _ => 0) (fun _ => 0) (fun _ => 0) (fun _ => 0) (fun _ => 0) (fun _ => 0) (fun _ => 0) (fun _ => 0) (fun _ => 0) :=
  ⟨h1, h2, by omega, by omega, tq_L0, tq_L0, fun _ => ⟨0, by omega, rfl⟩, ⟨by omega, tq_L0, fun w hw => absurd hw (by omega), fun w hw => absurd hw (by omega), fun w hw => absurd hw (by omega), fun w v hw => absurd hw (by omega)⟩, ⟨_, in_I⟩, Or.inl rfl⟩
/-! learning, the reference's half -/
section LY
variable {gP gW gS gT gB gM gC : Int32} {lt le pr kd sd ty ls : Nat → Int32}
theorem yw_learn {post : Int32 → SY → Prop} {nw m : Nat} {v1 v2 : Int32} (ok : dq_ok nw lt le pr kd) (hm1 : 1 ≤ m) (hm : m ≤ 5) (hd : tq_L sd) (g1 : ¬ v1 < 0) (g2 : ¬ 99 < v1) (g3 : ¬ v2 < 0) (g4 : v2 ≤ 2)
    (ho : ∀ w, w < nw → dq_w lt le w = tq_sg sd 0 m → post (nI nw) (gP, nI nw, 0, gT, gB, gM, gC, lt, le, upd pr w v1, upd kd w v2, sd, ty, ls))
    (hf : (∀ w, w < nw → dq_w lt le w ≠ tq_sg sd 0 m) → nw = 16 → post (-1) (gP, nI nw, nI m, gT, gB, gM, gC, lt, le, pr, kd, sd, ty, ls))
    (hn : (∀ w, w < nw → dq_w lt le w ≠ tq_sg sd 0 m) → nw < 16 → post (nI (nw + 1)) (gP, nI (nw + 1), 0, gT, gB, gM, gC, dq_cp lt sd nw m, upd le nw (nI m), upd pr nw v1, upd kd nw v2, sd, ty, ls)) : wpY_learn post (gP, nI nw, nI m, gT, gB, gM, gC, lt, le, pr, kd, sd, ty, ls) v1 v2 := by
  have h16 := ok.1
  unfold wpY_learn
  refine br_f (nI_ne0 (by omega) (by omega)) (br_f g1 (br_f g2 (br_f g3 (br_t g4 ?_))))
  refine yw_named ok hm hd ?_ ?_
  · intro w hw ew
    exact br_t (nI_pos' (by omega)) (yw_old (by omega) (ho w hw ew))
  · intro z
    refine br_f qn_m1le ?_
    exact pk_eq nw 16 (fun e => hf z e) (fun e => yw_new (by omega) hm (hn z (by omega)))
end LY
end WL13
end
section
section WL14
theorem i_up {k : Nat} {u : SX} {v : SY} (h : i_Rel k u v) : i_Rel (k + 4) u v := h
theorem i_vc0 (k0 : Int32) : wpX_init (fun u => wpY_init (fun v => i_Rel 1 u v) k0) k0 := by
  have K : ∀ (pen : Nat) (post : SX → Prop), post (nI pen, 0, 0, 0, 0, 0, (fun _ => 0), upd (in_f 512) 0 0, in_f 512, (fun _ => 0), (fun _ => 0), (fun _ => 0), (fun _ => 0), (fun _ => 0), (fun _ => 0), (fun _ => 0), (fun _ => 0)) → wX_init_26 post (nI pen) 0 0 0 0 0 0 := by
    intro pen post H
    unfold wX_init_26
    have h1 := xw_i123 H 512 0 513 (by omega) (by omega)
    rw [in_f0] at h1
    exact ⟨513, h1⟩
  unfold wpX_init
  refine br_c (fun h1 => br_c (fun h2 => ?_) (fun h2 => ?_)) (fun h1 => ?_)
  · obtain ⟨pen, hp, rfl⟩ := nI_of2 (x := k0) (M := 99) (n := 99) (by decide) (fun z => by
      have h3 := Int32.lt_of_lt_of_le z (by decide : (0 : Int32) ≤ 1)
      exact Int32.not_lt.mpr h1 h3) h2
    have h3 : 1 ≤ pen := by
      have h4 : nI 1 ≤ nI pen := h1
      rw [nI_leI (by omega) (by omega)] at h4
      exact h4
    refine K pen _ ?_
    exact br_t h1 (br_t h2 (rl_mk (m := 0) (n := 0) (nw := 0) (in_F h3 hp)))
  · refine K 99 _ ?_
    exact br_t h1 (br_f h2 (rl_mk (pen := 99) (m := 0) (n := 0) (nw := 0) (in_F (by omega) (by omega))))
  · refine K 1 _ ?_
    exact br_f h1 (rl_mk (pen := 1) (m := 0) (n := 0) (nw := 0) (in_F (by omega) (by omega)))
theorem i_vc_spell {k : Nat} {u : SX} {v : SY} (I : i_Rel k u v) (hk : k + 4 ≤ 2049) (v1 : Int32) : wpX_spell (fun r u' => wpY_spell (fun r' v' => r' = r ∧ i_Rel (k + 4) u' v') v v1) u v1 := by
  refine rl_el (Q := fun u v => wpX_spell (fun r u' => wpY_spell (fun r' v' => r' = r ∧ i_Rel (k + 4) u' v') v v1) u v1) I ?_
  intro pen m n nw fF fC fK gB gM gC bs ck co ki wb sp tx lk ch nu fi lt le pr kd F
  have F0 := F
  obtain ⟨p1, p2, hm, hn, hs, ht, hl, ok, hI, hF⟩ := F
  have cm : (nI m).toNatClampNeg = m := nI_clamp (by omega)
  unfold wpX_spell
  refine pk_lt m 5 (fun z => ⟨vp_in_nI z (by omega), ?_⟩) (fun z => ?_)
  · rw [cm]
    refine nm_e (nm_r (nI_1 m) ?_)
    unfold wpY_spell
    refine pk_eq m 5 (fun y => absurd y (by omega)) (fun _ => ⟨vp_in_nI z (by omega), ?_⟩)
    rw [cm]
    exact nm_e (nm_r (nI_1 m) ⟨rfl, rl_mk ⟨p1, p2, z, hn, tq_Lu hs m v1, ht, hl, ok, hI, hF⟩⟩)
  · unfold wpY_spell
    exact pk_eq m 5 (fun y => ⟨rfl, rl_mk F0⟩) (fun y => absurd (by omega : m = 5) y)
theorem i_vc_type {k : Nat} {u : SX} {v : SY} (I : i_Rel k u v) (hk : k + 4 ≤ 2049) (v1 : Int32) : wpX_type (fun r u' => wpY_type (fun r' v' => r' = r ∧ i_Rel (k + 4) u' v') v v1) u v1 := by
  refine rl_el (Q := fun u v => wpX_type (fun r u' => wpY_type (fun r' v' => r' = r ∧ i_Rel (k + 4) u' v') v v1) u v1) I ?_
  intro pen m n nw fF fC fK gB gM gC bs ck co ki wb sp tx lk ch nu fi lt le pr kd F
  have F0 := F
  obtain ⟨p1, p2, hm, hn, hs, ht, hl, ok, hI, hF⟩ := F
  have cn : (nI n).toNatClampNeg = n := nI_clamp (by omega)
  unfold wpX_type
  refine pk_lt n 12 (fun z => ⟨vp_in_nI z (by omega), ?_⟩) (fun z => ?_)
  · rw [cn]
    refine nm_e (nm_r (nI_1 n) ?_)
    unfold wpY_type
    refine pk_eq n 12 (fun y => absurd y (by omega)) (fun _ => ⟨vp_in_nI z (by omega), ?_⟩)
    rw [cn]
    exact nm_e (nm_r (nI_1 n) ⟨rfl, rl_mk ⟨p1, p2, hm, z, hs, tq_Lu ht n v1, hl, ok, hI, Or.inl rfl⟩⟩)
  · unfold wpY_type
    exact pk_eq n 12 (fun y => ⟨rfl, rl_mk F0⟩) (fun y => absurd (by omega : n = 12) y)
theorem i_vc_clearSpelling {k : Nat} {u : SX} {v : SY} (I : i_Rel k u v) (hk : k + 4 ≤ 2049) : wpX_clearSpelling (fun u' => wpY_clearSpelling (fun v' => i_Rel (k + 4) u' v') v) u := by
  refine rl_el (Q := fun u v => wpX_clearSpelling (fun u' => wpY_clearSpelling (fun v' => i_Rel (k + 4) u' v') v) u) I ?_
  intro pen m n nw fF fC fK gB gM gC bs ck co ki wb sp tx lk ch nu fi lt le pr kd F
  obtain ⟨p1, p2, hm, hn, hs, ht, hl, ok, hI, hF⟩ := F
  unfold wpX_clearSpelling wpY_clearSpelling
  exact rl_mk (m := 0) ⟨p1, p2, by omega, hn, hs, ht, hl, ok, hI, hF⟩
theorem i_vc_clearText {k : Nat} {u : SX} {v : SY} (I : i_Rel k u v) (hk : k + 4 ≤ 2049) : wpX_clearText (fun u' => wpY_clearText (fun v' => i_Rel (k + 4) u' v') v) u := by
  refine rl_el (Q := fun u v => wpX_clearText (fun u' => wpY_clearText (fun v' => i_Rel (k + 4) u' v') v) u) I ?_
  intro pen m n nw fF fC fK gB gM gC bs ck co ki wb sp tx lk ch nu fi lt le pr kd F
  obtain ⟨p1, p2, hm, hn, hs, ht, hl, ok, hI, hF⟩ := F
  unfold wpX_clearText wpY_clearText
  exact rl_mk (n := 0) ⟨p1, p2, hm, by omega, hs, ht, hl, ok, hI, Or.inl rfl⟩
theorem i_vc_link {k : Nat} {u : SX} {v : SY} (I : i_Rel k u v) (hk : k + 4 ≤ 2049) (v1 : Int32) (v2 : Int32) (v3 : Int32) : wpX_link (fun r u' => wpY_link (fun r' v' => r' = r ∧ i_Rel (k + 4) u' v') v v1 v2 v3) u v1 v2 v3 := by
  refine rl_el (Q := fun u v => wpX_link (fun r u' => wpY_link (fun r' v' => r' = r ∧ i_Rel (k + 4) u' v') v v1 v2 v3) u v1 v2 v3) I ?_
  intro pen m n nw fF fC fK gB gM gC bs ck co ki wb sp tx lk ch nu fi lt le pr kd F
  have F0 := F
  obtain ⟨p1, p2, hm, hn, hs, ht, hl, ok, hI, hF⟩ := F
  unfold wpX_link wpY_link
  by_cases c1 : v1 < 0
  · exact br_t c1 (br_t c1 ⟨rfl, rl_mk F0⟩)
  by_cases c2 : 3 < v1
  · exact br_f c1 (br_t c2 (br_f c1 (br_t c2 ⟨rfl, rl_mk F0⟩)))
  by_cases c3 : v2 < 0
  · exact br_f c1 (br_f c2 (br_t c3 (br_f c1 (br_f c2 (br_t c3 ⟨rfl, rl_mk F0⟩)))))
  by_cases c4 : 3 < v2
  · exact br_f c1 (br_f c2 (br_f c3 (br_t c4 (br_f c1 (br_f c2 (br_f c3 (br_t c4 ⟨rfl, rl_mk F0⟩)))))))
  by_cases c5 : v3 < 0
  · exact br_f c1 (br_f c2 (br_f c3 (br_f c4 (br_t c5 (br_f c1 (br_f c2 (br_f c3 (br_f c4 (br_t c5 ⟨rfl, rl_mk F0⟩)))))))))
  by_cases c6 : v3 ≤ 99
  · obtain ⟨a, ha, rfl⟩ := nI_of2 (x := v1) (M := 3) (n := 3) (by decide) c1 (Int32.not_lt.mp c2)
    obtain ⟨b, hb, rfl⟩ := nI_of2 (x := v2) (M := 3) (n := 3) (by decide) c3 (Int32.not_lt.mp c4)
    obtain ⟨c, hc, rfl⟩ := nI_of2 (x := v3) (M := 99) (n := 99) (by decide) c5 c6
    have e := yn_4 a b
    have vi : vp_in (4 * nI a + nI b) 16 := by rw [e]; exact vp_in_nI (by omega) (by omega)
    have ci : (4 * nI a + nI b).toNatClampNeg = 4 * a + b := by rw [e]; exact nI_clamp (by omega)
    rw [ci]
    refine br_f c1 (br_f c2 (br_f c3 (br_f c4 (br_f c5 (br_t c6 ⟨vi, nm_e ⟨vi, nm_e (br_f c1 (br_f c2 (br_f c3 (br_f c4 (br_f c5 (br_t c6 ⟨vi, nm_e ⟨vi, nm_e ⟨rfl, rl_mk ⟨p1, p2, hm, hn, hs, ht, ?_, ok, hI, Or.inl rfl⟩⟩⟩⟩))))))⟩⟩)))))
    intro j
    by_cases ej : j = 4 * a + b
    · rw [ej, pk_us]; exact ⟨c, hc, rfl⟩
    · rw [pk_un ej]; exact hl j
  · exact br_f c1 (br_f c2 (br_f c3 (br_f c4 (br_f c5 (br_f c6 (br_f c1 (br_f c2 (br_f c3 (br_f c4 (br_f c5 (br_f c6 ⟨rfl, rl_mk F0⟩)))))))))))
theorem i_vc_lookUp {k : Nat} {u : SX} {v : SY} (I : i_Rel k u v) (hk : k + 4 ≤ 2049) : wpX_lookUp (fun r => wpY_lookUp (fun r' => r' = r ∧ i_Rel (k + 4) u v) v) u := by
  refine rl_el (Q := fun u v => wpX_lookUp (fun r => wpY_lookUp (fun r' => r' = r ∧ i_Rel (k + 4) u v) v) u) I ?_
  intro pen m n nw fF fC fK gB gM gC bs ck co ki wb sp tx lk ch nu fi lt le pr kd F
  have F0 := F
  obtain ⟨p1, p2, hm, hn, hs, ht, hl, ok, ⟨P, hI⟩, hF⟩ := F
  have h16 := ok.1
  have Y : ∀ r : Int32, r = dq_g lt le pr nw (tq_sg sp 0 m) → wpY_lookUp (fun r' => r' = r ∧ i_Rel (k + 4) (nI pen, nI m, nI n, fF, fC, fK, bs, ck, co, ki, wb, sp, tx, lk, ch, nu, fi) (nI pen, nI nw, nI m, nI n, gB, gM, gC, lt, le, pr, kd, sp, tx, lk)) (nI pen, nI nw, nI m, nI n, gB, gM, gC, lt, le, pr, kd, sp, tx, lk) := by
    intro r er
    unfold wpY_lookUp
    refine yw_named ok hm hs ?_ ?_
    · intro w hw ew
      have cw : (nI w).toNatClampNeg = w := nI_clamp (by omega)
      refine br_t (nI_pos' (by omega)) ⟨vp_in_nI (by omega) (by omega), ?_, rl_mk F0⟩
      rw [cw, er, ← ew, dq_gin nw w ok.2.2.2.2.2 hw]
    · intro z
      refine br_f qn_m1le ⟨?_, rl_mk F0⟩
      rw [er, dq_gout nw z]
  unfold wpX_lookUp
  refine xw_find hI hm hs ?_ ?_
  · intro c vc ec
    have c5 := vc.1
    have cc : (nI c).toNatClampNeg = c := nI_clamp (by omega)
    refine br_t (nI_pos' (by omega)) ⟨vp_in_nI c5 (by omega), ?_⟩
    rw [cc]
    refine Y _ ?_
    rw [(hI.2.2.1 c vc).2.2.1, ec]
  · intro z
    exact br_f qn_m1le (Y _ (dq_ng z).symm)
theorem i_vc_beginning {k : Nat} {u : SX} {v : SY} (I : i_Rel k u v) (hk : k + 4 ≤ 2049) : wpX_beginning (fun r => wpY_beginning (fun r' => r' = r ∧ i_Rel (k + 4) u v) v) u := by
  refine rl_el (Q := fun u v => wpX_beginning (fun r => wpY_beginning (fun r' => r' = r ∧ i_Rel (k + 4) u v) v) u) I ?_
  intro pen m n nw fF fC fK gB gM gC bs ck co ki wb sp tx lk ch nu fi lt le pr kd F
  have F0 := F
  obtain ⟨p1, p2, hm, hn, hs, ht, hl, ok, ⟨P, hI⟩, hF⟩ := F
  unfold wpX_beginning
  refine xw_find hI hm hs ?_ ?_
  · intro c vc ec
    have c5 := vc.1
    have cc : (nI c).toNatClampNeg = c := nI_clamp (by omega)
    refine br_t (nI_pos' (by omega)) ⟨vp_in_nI c5 (by omega), ?_⟩
    rw [cc]
    refine yw_beginning ok hm hs ⟨?_, rl_mk F0⟩
    rw [(hI.2.2.1 c vc).2.1, ec]
  · intro z
    refine br_f qn_m1le (yw_beginning ok hm hs ⟨?_, rl_mk F0⟩)
    rw [dq_nf z]
    rfl
theorem i_vc_learn {k : Nat} {u : SX} {v : SY} (I : i_Rel k u v) (hk : k + 4 ≤ 2049) (v1 : Int32) (v2 : Int32) : wpX_learn (fun r u' => wpY_learn (fun r' v' => r' = r ∧ i_Rel (k + 4) u' v') v v1 v2) u v1 v2 := by
  refine rl_el (Q := fun u v => wpX_learn (fun r u' => wpY_learn (fun r' v' => r' = r ∧ i_Rel (k + 4) u' v') v v1 v2) u v1 v2) I ?_
  intro pen m n nw fF fC fK gB gM gC bs ck co ki wb sp tx lk ch nu fi lt le pr kd F
  have F0 := F
  obtain ⟨p1, p2, hm, hn, hs, ht, hl, ok, ⟨P, hI⟩, hF⟩ := F
  have h16 := ok.1
  unfold wpX_learn
  by_cases m0 : m = 0
  · have e : nI m = 0 := by rw [m0]; rfl
    exact br_t e (br_t e ⟨rfl, rl_mk F0⟩)
  have e0 : ¬ nI m = 0 := nI_ne0 (by omega) (by omega)
  by_cases c1 : v1 < 0
  · exact br_f e0 (br_t c1 (br_f e0 (br_t c1 ⟨rfl, rl_mk F0⟩)))
  by_cases c2 : 99 < v1
  · exact br_f e0 (br_f c1 (br_t c2 (br_f e0 (br_f c1 (br_t c2 ⟨rfl, rl_mk F0⟩)))))
  by_cases c3 : v2 < 0
  · exact br_f e0 (br_f c1 (br_f c2 (br_t c3 (br_f e0 (br_f c1 (br_f c2 (br_t c3 ⟨rfl, rl_mk F0⟩)))))))
  by_cases c4 : v2 ≤ 2
  · refine br_f e0 (br_f c1 (br_f c2 (br_f c3 (br_t c4 ?_))))
    obtain ⟨c, hc, ec⟩ := nI_of2 (x := v1) (M := 99) (n := 99) (by decide) c1 (Int32.not_lt.mp c2)
    obtain ⟨d, hd, ed⟩ := nI_of2 (x := v2) (M := 2) (n := 2) (by decide) c3 c4
    have w0 : wb 0 = nI nw := by
      rw [(hI.2.2.1 0 (tr_v0 hI.2.1.1)).2.1, hI.2.1.2.1, dq_f00]
    -- a new word
    have N : (∀ w, w < nw → dq_w lt le w ≠ tq_sg sp 0 m) → ∀ x3 : Int32, wX_learn_50 (fun r u' => wpY_learn (fun r' v' => r' = r ∧ i_Rel (k + 4) u' v') (nI pen, nI nw, nI m, nI n, gB, gM, gC, lt, le, pr, kd, sp, tx, lk) v1 v2) v1 v2 x3 (nI pen) (nI m) (nI n) fF fC fK bs ck co ki wb sp tx lk ch nu fi := by
      intro hno x3
      unfold wX_learn_50 wX_learn_51
      refine br_t rfl ?_
      rw [w0]
      refine pk_lt nw 16 (fun z => ?_) (fun z => ?_)
      · refine xw_grow (fun w => if w < nw then dq_w lt le w else tq_sg sp 0 m) hm hs (Or.inl rfl) (fun p => dq_nf) (fun p => dq_ng) ?_ hI ?_
        · intro p hp hpn
          rcases hp with hp | hp
          · obtain ⟨w, j, hw, hj, e⟩ := dq_W ok (hp.resolve_left hpn) hpn
            refine ⟨w, j, by omega, hj, ?_⟩
            show p = (if w < nw then dq_w lt le w else tq_sg sp 0 m).take (j + 1)
            rw [if_pos hw]; exact e
          · have h5 : 0 < p.length := List.length_pos_iff.mpr hpn
            have h6 := hp.1
            refine ⟨nw, p.length - 1, z, by omega, ?_⟩
            show p = (if nw < nw then dq_w lt le nw else tq_sg sp 0 m).take (p.length - 1 + 1)
            rw [if_neg (Nat.lt_irrefl _), Nat.sub_add_cancel h5, tq_take _ _ _ _ h6]
            exact hp.2
        · intro s P' bs' ck' co' ki' wb' I' vs es
          have s5 := vs.1
          have cs : (nI s).toNatClampNeg = s := nI_clamp (by omega)
          have vv : vp_in (nI s) 512 := vp_in_nI s5 (by omega)
          have e00 : wb' 0 = nI (nw + 1) := by
            rw [(I'.2.2.1 0 (tr_v0 I'.2.1.1)).2.1, I'.2.1.2.1, gr_f1 (sp := sp) (i := m) ⟨Nat.zero_le _, rfl⟩, dq_f00]
          unfold wX_learn_76
          rw [cs]
          refine ⟨vv, nm_e ⟨vv, nm_e ?_⟩⟩
          rw [e00]
          refine yw_learn ok (by omega) hm hs c1 c2 c3 c4 (fun w hw ew => absurd ew (hno w hw)) (fun _ z2 => by omega) (fun _ _ => ⟨rfl, ?_⟩)
          have okn := dn_ok ok z (by omega) hm hs hc hd hno
          rw [← ec, ← ed] at okn
          have I2 := tr_co (g' := dq_g (dq_cp lt sp nw m) (upd le nw (nI m)) (upd pr nw v1) (nw + 1)) (h' := dq_g (dq_cp lt sp nw m) (upd le nw (nI m)) (upd kd nw v2) (nw + 1)) (x := v1) (y := v2) I' vs (by rw [dn_g ok hm, es, if_pos rfl]) (fun _ => by rw [dn_g ok hm, es, if_pos rfl]) (fun p hp => by
            rw [es] at hp
            rw [dn_g ok hm, dn_g ok hm, if_neg (fun y => hp y.symm), if_neg (fun y => hp y.symm)]
            exact ⟨rfl, rfl⟩)
          have I3 := tr_Ic (LP' := dq_L (dq_cp lt sp nw m) (upd le nw (nI m)) (nw + 1)) (f' := dq_f (dq_cp lt sp nw m) (upd le nw (nI m)) (nw + 1)) I2 (fun p => by
            rw [dn_L p]
            unfold dq_L
            rw [dn_f ok hm]) (fun p _ => (dn_f ok hm p).symm)
          exact rl_mk (m := 0) (nw := nw + 1) ⟨p1, p2, by omega, hn, hs, ht, hl, okn, ⟨P', I3⟩, Or.inl rfl⟩
      · exact yw_learn ok (by omega) hm hs c1 c2 c3 c4 (fun w hw ew => absurd ew (hno w hw)) (fun _ _ => ⟨rfl, rl_mk F0⟩) (fun _ z2 => absurd z2 (by omega))
    refine xw_find hI hm hs ?_ ?_
    · intro s vs es
      have s5 := vs.1
      have cs : (nI s).toNatClampNeg = s := nI_clamp (by omega)
      have vv : vp_in (nI s) 512 := vp_in_nI s5 (by omega)
      have eco : co s = dq_g lt le pr nw (tq_sg sp 0 m) := by rw [(hI.2.2.1 s vs).2.2.1, es]
      refine br_f (nI_pos (by omega)) ⟨vv, ?_⟩
      rw [cs, eco]
      by_cases wx : ∃ w, w < nw ∧ dq_w lt le w = tq_sg sp 0 m
      · obtain ⟨w, hw, ew⟩ := wx
        have gp : 0 ≤ dq_g lt le pr nw (tq_sg sp 0 m) := by
          rw [← ew, dq_gin nw w ok.2.2.2.2.2 hw]
          obtain ⟨c', hc', ec'⟩ := ok.2.2.2.1 w hw
          rw [ec']; exact nI_pos' (by omega)
        refine br_f (qn_nlt gp) ?_
        unfold wX_learn_51
        refine br_f (by decide) ?_
        unfold wX_learn_76
        rw [cs]
        refine ⟨vv, nm_e ⟨vv, nm_e ?_⟩⟩
        rw [w0]
        refine yw_learn ok (by omega) hm hs c1 c2 c3 c4 (fun w' hw' ew' => ⟨rfl, ?_⟩) (fun z => absurd ew (z w hw)) (fun z => absurd ew (z w hw))
        have okn := dk_ok (w := w') ok hc hd
        rw [← ec, ← ed] at okn
        have I2 := tr_co (g' := dq_g lt le (upd pr w' v1) nw) (h' := dq_g lt le (upd kd w' v2) nw) (x := v1) (y := v2) hI vs (by rw [dk_g ok hw', es, if_pos ew']) (fun _ => by rw [dk_g ok hw', es, if_pos ew']) (fun p hp => by
          rw [es] at hp
          rw [dk_g ok hw', dk_g ok hw', if_neg (fun y => hp (by rw [← y, ew'])), if_neg (fun y => hp (by rw [← y, ew']))]
          exact ⟨rfl, rfl⟩)
        exact rl_mk (m := 0) ⟨p1, p2, by omega, hn, hs, ht, hl, okn, ⟨P, I2⟩, Or.inl rfl⟩
      · have hno : ∀ w, w < nw → dq_w lt le w ≠ tq_sg sp 0 m := fun w hw ew => wx ⟨w, hw, ew⟩
        exact br_t (by rw [dq_gout nw hno]; exact qn_m1lt) (N hno _)
    · intro z
      refine br_t qn_m1lt (N ?_ _)
      intro w hw ew
      apply z
      exact Or.inr (dq_fin hw (by rw [ew]; exact dq_pfr _))
  · exact br_f e0 (br_f c1 (br_f c2 (br_f c3 (br_f c4 (br_f e0 (br_f c1 (br_f c2 (br_f c3 (br_f c4 ⟨rfl, rl_mk F0⟩)))))))))
theorem i_vc_forget {k : Nat} {u : SX} {v : SY} (I : i_Rel k u v) (hk : k + 4 ≤ 2049) : wpX_forget (fun r u' => wpY_forget (fun r' v' => r' = r ∧ i_Rel (k + 4) u' v') v) u := by
  refine rl_el (Q := fun u v => wpX_forget (fun r u' => wpY_forget (fun r' v' => r' = r ∧ i_Rel (k + 4) u' v') v) u) I ?_
  intro pen m n nw fF fC fK gB gM gC bs ck co ki wb sp tx lk ch nu fi lt le pr kd F
  have F0 := F
  obtain ⟨p1, p2, hm, hn, hs, ht, hl, ok, ⟨P, hI⟩, hF⟩ := F
  have h16 := ok.1
  have N : (∀ w, w < nw → dq_w lt le w ≠ tq_sg sp 0 m) → wpY_forget (fun r' v' => r' = -1 ∧ i_Rel (k + 4) (nI pen, nI m, nI n, fF, fC, fK, bs, ck, co, ki, wb, sp, tx, lk, ch, nu, fi) v') (nI pen, nI nw, nI m, nI n, gB, gM, gC, lt, le, pr, kd, sp, tx, lk) := by
    intro hno
    exact yw_forget ok hm hs (fun w v hw hv ew => absurd ew (hno w (by omega))) (fun _ => ⟨rfl, rl_mk F0⟩)
  unfold wpX_forget
  refine xw_find hI hm hs ?_ ?_
  · intro s vs es
    have s5 := vs.1
    have cs : (nI s).toNatClampNeg = s := nI_clamp (by omega)
    have vv : vp_in (nI s) 512 := vp_in_nI s5 (by omega)
    have eco : co s = dq_g lt le pr nw (tq_sg sp 0 m) := by rw [(hI.2.2.1 s vs).2.2.1, es]
    refine br_f (nI_pos (by omega)) ⟨vv, ?_⟩
    rw [cs, eco]
    by_cases wx : ∃ w, w < nw ∧ dq_w lt le w = tq_sg sp 0 m
    · obtain ⟨w, hw, ew⟩ := wx
      have gp : 0 ≤ dq_g lt le pr nw (tq_sg sp 0 m) := by
        rw [← ew, dq_gin nw w ok.2.2.2.2.2 hw]
        obtain ⟨c', hc', ec'⟩ := ok.2.2.2.1 w hw
        rw [ec']; exact nI_pos' (by omega)
      have m1 : 1 ≤ m := by
        have h1 := dq_wl ew
        have h2 := (dq_len ok hw).1
        omega
      refine br_t gp ⟨vv, nm_e ?_⟩
      have I1 := tr_co1 (g' := fun p => if tq_sg sp 0 m = p then -1 else dq_g lt le pr nw p) hI vs (by
        show (if tq_sg sp 0 m = P s then -1 else dq_g lt le pr nw (P s)) = -1
        rw [es, if_pos rfl]) (fun p hp => by
        show (if tq_sg sp 0 m = p then -1 else dq_g lt le pr nw p) = _
        rw [es] at hp
        rw [if_neg (fun y => hp y.symm)])
      refine xw_prune (LP := dq_L lt le nw) (f := dq_f lt le nw) m1 hm hs (fun p => Nat.le_trans (dq_cn nw) h16) (fun p hp hpn => hp.resolve_left hpn) (df_F2 hw ew) (fun j _ => df_F3 j) (df_F4 hw ew) I1 ?_
      intro P' bs' ck' co' wb' I'
      obtain ⟨v, rfl⟩ : ∃ v, nw = v + 1 := ⟨nw - 1, by omega⟩
      have e00 : wb' 0 = nI v := by
        rw [(I'.2.2.1 0 (tr_v0 I'.2.1.1)).2.1, I'.2.1.2.1, pr_f1 (sp := sp) (i := m) ⟨Nat.zero_le _, rfl⟩, dq_f00]
        rfl
      show wpY_forget _ _
      rw [e00]
      refine yw_forget ok hm hs ?_ (fun z => absurd ew (z w hw))
      intro w' v' hw' hv' ew'
      have ev : v' = v := by omega
      have eww : w' = w := ok.2.2.2.2.2 w' w (by omega) hw (ew'.trans ew.symm)
      subst ev
      subst eww
      refine ⟨rfl, ?_⟩
      have okn := df_ok ok hw'
      have I2 := tr_Ic (LP' := dq_L (dq_mv lt w' v' 5) (upd le w' (le v')) v') (f' := dq_f (dq_mv lt w' v' 5) (upd le w' (le v')) v') I' (fun p => by
        rw [df_L p]
        unfold dq_L
        rw [df_f ok hw' ew]) (fun p _ => (df_f ok hw' ew p).symm)
      have I3 := tr_Ig (g' := dq_g (dq_mv lt w' v' 5) (upd le w' (le v')) (upd pr w' (pr v')) v') (h' := dq_g (dq_mv lt w' v' 5) (upd le w' (le v')) (upd kd w' (kd v')) v') I2 (fun p _ => by rw [df_g ok hw', ew]) (fun p _ gq => by
        rw [df_g ok hw', ew]
        by_cases y : tq_sg sp 0 m = p
        · have gq2 : 0 ≤ (if tq_sg sp 0 m = p then (-1 : Int32) else dq_g lt le pr (v' + 1) p) := gq
          rw [if_pos y] at gq2
          exact absurd gq2 qn_m1le
        · rw [if_neg y])
      exact rl_mk (m := 0) (nw := v') ⟨p1, p2, by omega, hn, hs, ht, hl, okn, ⟨P', I3⟩, Or.inl rfl⟩
    · have hno : ∀ w, w < nw → dq_w lt le w ≠ tq_sg sp 0 m := fun w hw ew => wx ⟨w, hw, ew⟩
      exact br_f (by rw [dq_gout nw hno]; exact qn_m1le) (N hno)
  · intro z
    refine br_t qn_m1lt (N ?_)
    intro w hw ew
    apply z
    exact Or.inr (dq_fin hw (by rw [ew]; exact dq_pfr _))
theorem i_vc_cost {k : Nat} {u : SX} {v : SY} (I : i_Rel k u v) (hk : k + 4 ≤ 2049) : wpX_cost (fun r u' => wpY_cost (fun r' v' => r' = r ∧ i_Rel (k + 4) u' v') v) u := by
  refine rl_el (Q := fun u v => wpX_cost (fun r u' => wpY_cost (fun r' v' => r' = r ∧ i_Rel (k + 4) u' v') v) u) I ?_
  intro pen m n nw fF fC fK gB gM gC bs ck co ki wb sp tx lk ch nu fi lt le pr kd F
  obtain ⟨P, X⟩ := rl_X F
  obtain ⟨p1, p2, hm, hn, hs, ht, hl, ok, hI, hF⟩ := F
  unfold wpX_cost
  refine xw_cutText X ?_ hF
  intro fC fK ch nu fi D
  show wpY_cost _ _
  unfold wpY_cost
  refine yw_look ok p2 ht hn hl ?_
  intro r hr
  obtain ⟨r', hr', e1, _⟩ := D 0 (by omega) 4 (by omega)
  have er : r' = r := Option.some.inj (hr'.symm.trans hr)
  rw [er] at e1
  exact ⟨e1.symm, rl_mk ⟨p1, p2, hm, hn, hs, ht, hl, ok, hI, Or.inr ⟨rfl, D⟩⟩⟩
theorem i_vc_ways {k : Nat} {u : SX} {v : SY} (I : i_Rel k u v) (hk : k + 4 ≤ 2049) : wpX_ways (fun r u' => wpY_ways (fun r' v' => r' = r ∧ i_Rel (k + 4) u' v') v) u := by
  refine rl_el (Q := fun u v => wpX_ways (fun r u' => wpY_ways (fun r' v' => r' = r ∧ i_Rel (k + 4) u' v') v) u) I ?_
  intro pen m n nw fF fC fK gB gM gC bs ck co ki wb sp tx lk ch nu fi lt le pr kd F
  obtain ⟨P, X⟩ := rl_X F
  obtain ⟨p1, p2, hm, hn, hs, ht, hl, ok, hI, hF⟩ := F
  unfold wpX_ways
  refine xw_cutText X ?_ hF
  intro fC fK ch nu fi D
  show wpY_ways _ _
  unfold wpY_ways
  refine yw_look ok p2 ht hn hl ?_
  intro r hr
  obtain ⟨r', hr', _, e1, _⟩ := D 0 (by omega) 4 (by omega)
  have er : r' = r := Option.some.inj (hr'.symm.trans hr)
  rw [er] at e1
  exact ⟨e1.symm, rl_mk ⟨p1, p2, hm, hn, hs, ht, hl, ok, hI, Or.inr ⟨rfl, D⟩⟩⟩
theorem i_vc_start {k : Nat} {u : SX} {v : SY} (I : i_Rel k u v) (hk : k + 4 ≤ 2049) (v1 : Int32) : wpX_start (fun r u' => wpY_start (fun r' v' => r' = r ∧ i_Rel (k + 4) u' v') v v1) u v1 := by
  refine rl_el (Q := fun u v => wpX_start (fun r u' => wpY_start (fun r' v' => r' = r ∧ i_Rel (k + 4) u' v') v v1) u v1) I ?_
  intro pen m n nw fF fC fK gB gM gC bs ck co ki wb sp tx lk ch nu fi lt le pr kd F
  have F0 := F
  obtain ⟨P, X⟩ := rl_X F
  obtain ⟨p1, p2, hm, hn, hs, ht, hl, ok, hI, hF⟩ := F
  have x31 : ∀ r : Nat × Nat × Nat, cu_R n (pz_z pen tx (dq_g lt le pr nw) (dq_g lt le kd nw)) (pz_l lk) 0 4 = some r → r.2.2 < 2 ^ 31 := by
    intro r hr
    have h1 := (cu_Rb (pz_hz (dq_G ok) p2) (pz_hl hl) hr).2
    have h2 : 2 ^ (n - 1 - 0) < 2 ^ 31 := Nat.pow_lt_pow_right (by decide) (by omega)
    omega
  unfold wpX_start
  by_cases c : 0 ≤ v1
  · obtain ⟨pc, hpc, rfl⟩ := nI_of (x := v1) (qn_nlt c)
    refine br_t c ?_
    refine xw_cutText X ?_ hF
    intro fC fK ch nu fi D
    obtain ⟨r, hr, _⟩ := D 0 (by omega) 4 (by omega)
    obtain ⟨res, KX, KY⟩ := st_L (gP := nI pen) (gW := nI nw) (gS := nI m) (gB := nI r.1) (gM := nI r.2.1) (lt := lt) (le := le) (pr := pr) (kd := kd) (sd := sp) (ty := tx) (ls := lk) (fS := nI m) (fF := 1) (sp := sp) X D (x31 r hr) hpc n 0 4 0 r (by omega) (by omega) (by omega) (by omega) (Or.inl rfl) hr (fun _ _ _ => rfl) (by omega)
    refine ⟨n + 1, KX (n + 1) fC fK _ (by omega) ?_⟩
    intro fC fK
    show wpY_start _ _ _
    unfold wpY_start
    refine yw_look ok p2 ht hn hl ?_
    intro r' hr'
    have er : r' = r := Option.some.inj (hr'.symm.trans hr)
    rw [er]
    exact ⟨n + 2, KY (n + 2) _ (by omega) ⟨rfl, rl_mk ⟨p1, p2, hm, hn, hs, ht, hl, ok, hI, Or.inr ⟨rfl, D⟩⟩⟩⟩
  · refine br_f c ?_
    show wpY_start _ _ _
    unfold wpY_start
    refine yw_look ok p2 ht hn hl ?_
    intro r hr
    exact ⟨n + 2, yw_neg hn (x31 r hr) (qn_ltn c) ⟨rfl, rl_mk F0⟩ (n + 1) (n + 2) 0 0 (by omega) (by omega) (by omega)⟩
end WL14
end
