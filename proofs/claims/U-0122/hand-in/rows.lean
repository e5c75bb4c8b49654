section
/-! pure rows to paste: stores, nI and lN arithmetic, masks, shifts, narrowing, branches by naturals (pk_le, pk_lt, pk_eq), loops (lp1 .. lp16: the measure of the state; rp1 ..: recursion), negatives. Take what you need -/
theorem pk_us {f : Nat → Int32} {k : Nat} {x : Int32} : upd f k x k = x := if_pos rfl
theorem pk_un {f : Nat → Int32} {k j : Nat} {x : Int32} (h : j ≠ k) : upd f k x j = f j := if_neg h
theorem pk_uLs {f : Nat → Int64} {k : Nat} {x : Int64} : vp_updL f k x k = x := if_pos rfl
theorem pk_uLn {f : Nat → Int64} {k j : Nat} {x : Int64} (h : j ≠ k) : vp_updL f k x j = f j := if_neg h
theorem pk_sub {a b : Nat} (h : b ≤ a) : nI a - nI b = nI (a - b) := by
  obtain ⟨c, rfl⟩ : ∃ c, a = c + b := ⟨a - b, by omega⟩
  rw [← nI_add, Int32.add_sub_cancel, Nat.add_sub_cancel]
theorem pk_m1 (n : Nat) : nI (n + 1) + (-1) = nI n := by
  rw [← nI_1, Int32.add_assoc, show (1 : Int32) + (-1) = 0 from rfl, Int32.add_zero]
theorem pk_mul (a b : Nat) : nI a * nI b = nI (a * b) := (Int32.ofNat_mul a b).symm
theorem pk_div {a d : Nat} (ha : a < 2 ^ 31) (h0 : 0 < d) (hd : d < 2 ^ 31) : nI a / nI d = nI (a / d) := by
  apply Int32.toInt_inj.mp
  rw [lg_idiv_nonneg (by rw [nI_toInt ha]; omega) (by rw [nI_toInt hd]; omega), nI_toInt ha, nI_toInt hd, nI_toInt (Nat.lt_of_le_of_lt (Nat.div_le_self a d) ha)]
  first | rfl | exact (Int.natCast_ediv _ _).symm
theorem pk_rem {a d : Nat} (ha : a < 2 ^ 31) (h0 : 0 < d) (hd : d < 2 ^ 31) : nI a - nI a / nI d * nI d = nI (a % d) := by
  rw [pk_div ha h0 hd, pk_mul, pk_sub (Nat.div_mul_le_self a d)]
  exact congrArg nI (by have := Nat.div_add_mod' a d; omega)
theorem pk_sub_toInt {a b : Nat} (ha : a < 2 ^ 30) (hb : b < 2 ^ 30) : (nI a - nI b).toInt = (a : Int) - b := by
  rw [Int32.toInt_sub, nI_toInt (by omega), nI_toInt (by omega)]
  exact Int.bmod_eq_of_le (by omega) (by omega)
theorem pk_sneg {a b : Nat} (hb : b < 2 ^ 30) (h : a < b) : nI a - nI b < 0 := by
  rw [Int32.lt_iff_toInt_lt, pk_sub_toInt (by omega) hb, show (0 : Int32).toInt = 0 from by decide]
  omega
theorem pk_ix (x : Int32) {n : Nat} (hn : n < 2 ^ 31) : x < 0 ∨ nI n ≤ x ∨ ∃ j : Nat, j < n ∧ x = nI j := by
  by_cases h : x < 0
  · exact Or.inl h
  · obtain ⟨j, hj, rfl⟩ := nI_of h
    by_cases h2 : j < n
    · exact Or.inr (Or.inr ⟨j, h2, rfl⟩)
    · exact Or.inr (Or.inl (nI_le (by omega) hj))
theorem pk_le {x y : Int32} {A B : Prop} (a b : Nat) (f : a ≤ b → A) (g : b < a → B) (hx : x = nI a := by rfl) (hy : y = nI b := by rfl) (ha : a < 2 ^ 31 := by omega) (hb : b < 2 ^ 31 := by omega) : (x ≤ y → A) ∧ (¬ x ≤ y → B) := by
  subst hx hy
  rw [nI_leI ha hb]
  exact ⟨f, fun z => g (by omega)⟩
theorem pk_lt {x y : Int32} {A B : Prop} (a b : Nat) (f : a < b → A) (g : b ≤ a → B) (hx : x = nI a := by rfl) (hy : y = nI b := by rfl) (ha : a < 2 ^ 31 := by omega) (hb : b < 2 ^ 31 := by omega) : (x < y → A) ∧ (¬ x < y → B) := by
  subst hx hy
  rw [nI_ltI ha hb]
  exact ⟨f, fun z => g (by omega)⟩
theorem pk_eq {x y : Int32} {A B : Prop} (a b : Nat) (f : a = b → A) (g : a ≠ b → B) (hx : x = nI a := by rfl) (hy : y = nI b := by rfl) (ha : a < 2 ^ 31 := by omega) (hb : b < 2 ^ 31 := by omega) : (x = y → A) ∧ (¬ x = y → B) := by
  subst hx hy
  rw [nI_eq ha hb]
  exact ⟨f, g⟩
theorem pk_in {x : Int32} (n N : Nat) (h : n < N) (hx : x = nI n := by rfl) (hN : N < 2 ^ 31 := by omega) : vp_in x N := by
  subst hx
  exact vp_in_nI h hN
theorem pk_cl {x : Int32} (n : Nat) (hx : x = nI n := by rfl) (h : n < 2 ^ 31 := by omega) : x.toNatClampNeg = n := by
  subst hx
  exact nI_clamp h
theorem pk_tn {n : Nat} (h : n < 2 ^ 32) : (nI n).toBitVec.toNat = n := Nat.mod_eq_of_lt h
theorem pk_and (x : Int32) {m : Int32} (k : Nat) (hm : m.toBitVec.toNat = 2 ^ k - 1) : x &&& m = nI (x.toBitVec.toNat % 2 ^ k) := by
  apply Int32.toBitVec_inj.mp
  apply BitVec.eq_of_toNat_eq
  rw [Int32.toBitVec_and, BitVec.toNat_and, hm, Nat.and_two_pow_sub_one_eq_mod]
  show _ = (BitVec.ofNat 32 _).toNat
  rw [BitVec.toNat_ofNat]
  exact (Nat.mod_eq_of_lt (Nat.lt_of_le_of_lt (Nat.mod_le _ _) x.toBitVec.isLt)).symm
theorem pk_andN {n : Nat} (h : n < 2 ^ 32) {m : Int32} (k : Nat) (hm : m.toBitVec.toNat = 2 ^ k - 1) : nI n &&& m = nI (n % 2 ^ k) := by
  rw [pk_and _ k hm, pk_tn h]
theorem pk_andE (x : Int32) {m : Int32} (k : Nat) (hm : m.toBitVec.toNat = 2 ^ k - 1) : ∃ j : Nat, j < 2 ^ k ∧ x &&& m = nI j := ⟨_, Nat.mod_lt _ (Nat.two_pow_pos k), pk_and x k hm⟩
theorem pk_andIn (x : Int32) {m : Int32} (k : Nat) (hm : m.toBitVec.toNat = 2 ^ k - 1) (hk : k ≤ 30) : vp_in (x &&& m) (2 ^ k) := by
  obtain ⟨j, hj, e⟩ := pk_andE x k hm
  rw [e]
  exact vp_in_nI hj (Nat.lt_of_le_of_lt (Nat.pow_le_pow_right (by decide) hk) (by decide))
theorem pk_shl (a s : Int32) (k : Nat) (hs : (s.toBitVec.smod 32).toNat = k) : (a <<< s).toBitVec.toNat = a.toBitVec.toNat * 2 ^ k % 2 ^ 32 := by
  show (a.toBitVec <<< (s.toBitVec.smod 32).toNat).toNat = _
  rw [hs, BitVec.toNat_shiftLeft, Nat.shiftLeft_eq]
theorem pk_shlN {n : Nat} (s : Int32) (k : Nat) (hs : (s.toBitVec.smod 32).toNat = k) (h : n * 2 ^ k < 2 ^ 32) : nI n <<< s = nI (n * 2 ^ k) := by
  apply Int32.toBitVec_inj.mp
  apply BitVec.eq_of_toNat_eq
  have hn : n < 2 ^ 32 := Nat.lt_of_le_of_lt (Nat.le_mul_of_pos_right n (Nat.two_pow_pos k)) h
  rw [pk_shl _ _ k hs, pk_tn hn, pk_tn h, Nat.mod_eq_of_lt h]
theorem pk_shr (a s : Int32) (k : Nat) (hs : (s.toBitVec.smod 32).toNat = k) : (a >>> s).toInt = a.toInt >>> k := by
  show (a.toBitVec.sshiftRight (s.toBitVec.smod 32).toNat).toInt = _
  rw [hs, BitVec.toInt_sshiftRight]
  rfl
theorem pk_shrN {n : Nat} (h : n < 2 ^ 31) (s : Int32) (k : Nat) (hs : (s.toBitVec.smod 32).toNat = k) : nI n >>> s = nI (n / 2 ^ k) := by
  apply Int32.toInt_inj.mp
  have h2 : n / 2 ^ k ≤ n := Nat.div_le_self _ _
  rw [pk_shr _ _ k hs, nI_toInt h, nI_toInt (by omega), Int.shiftRight_eq_div_pow]
  rfl
theorem pk_ushr (x s : Int32) (k : Nat) (hs : ((s.toUInt32 &&& Int32.toUInt32 31).toBitVec % 32).toNat = k) : (x.toUInt32 >>> (s.toUInt32 &&& Int32.toUInt32 31)).toInt32.toBitVec.toNat = x.toBitVec.toNat / 2 ^ k := by
  have e : (x.toUInt32 >>> (s.toUInt32 &&& Int32.toUInt32 31)).toInt32.toBitVec = x.toBitVec >>> k := by
    rw [← hs]
    exact UInt32.toBitVec_shiftRight _ _
  rw [e, BitVec.toNat_ushiftRight, Nat.shiftRight_eq_div_pow]
theorem pk_ushrN {n : Nat} (hn : n < 2 ^ 32) (s : Int32) (k : Nat) (hs : ((s.toUInt32 &&& Int32.toUInt32 31).toBitVec % 32).toNat = k) : ((nI n).toUInt32 >>> (s.toUInt32 &&& Int32.toUInt32 31)).toInt32 = nI (n / 2 ^ k) := by
  apply Int32.toBitVec_inj.mp
  apply BitVec.eq_of_toNat_eq
  rw [pk_ushr _ s k hs, pk_tn hn, pk_tn (Nat.lt_of_le_of_lt (Nat.div_le_self _ _) hn)]
/-! ===== Int32 by its bits: bt x i ===== -/
def bt (x : Int32) (i : Nat) : Bool := x.toBitVec.getLsbD i
theorem b_ext {x y : Int32} (h : ∀ i, i < 32 → bt x i = bt y i) : x = y := Int32.toBitVec_inj.mp (BitVec.eq_of_getLsbD_eq (fun i hi => h i hi))
theorem b_or (x y : Int32) (i : Nat) : bt (x ||| y) i = (bt x i || bt y i) := by unfold bt; rw [Int32.toBitVec_or, BitVec.getLsbD_or]
theorem b_and (x y : Int32) (i : Nat) : bt (x &&& y) i = (bt x i && bt y i) := by unfold bt; rw [Int32.toBitVec_and, BitVec.getLsbD_and]
theorem b_xor (x y : Int32) (i : Nat) : bt (x ^^^ y) i = (bt x i ^^ bt y i) := by unfold bt; rw [Int32.toBitVec_xor, BitVec.getLsbD_xor]
theorem b_big {x : Int32} {i : Nat} (h : 32 ≤ i) : bt x i = false := BitVec.getLsbD_of_ge _ _ h
theorem b_255 (i : Nat) : bt 255 i = decide (i < 8) := by
  rcases Nat.lt_or_ge i 32 with h | h
  · exact (by decide +kernel : ∀ i, i < 32 → bt 255 i = decide (i < 8)) i h
  · rw [b_big h, decide_eq_false (by omega)]
theorem b_65535 (i : Nat) : bt 65535 i = decide (i < 16) := by
  rcases Nat.lt_or_ge i 32 with h | h
  · exact (by decide +kernel : ∀ i, i < 32 → bt 65535 i = decide (i < 16)) i h
  · rw [b_big h, decide_eq_false (by omega)]
theorem b_m1 : ∀ i, i < 32 → bt (-1) i = true := by decide +kernel
theorem b_0 (i : Nat) : bt 0 i = false := BitVec.getLsbD_zero
theorem s_l : ∀ n, n < 32 → ((nI n &&& 31).toBitVec.smod 32).toNat = n := by decide +kernel
theorem s_u : ∀ n, n < 32 → (((nI n).toUInt32 &&& Int32.toUInt32 31).toBitVec % 32).toNat = n := by decide +kernel
theorem b_shl (n : Nat) (hn : n < 32) (x : Int32) {i : Nat} (hi : i < 32) : bt (x <<< (nI n &&& 31)) i = (decide (n ≤ i) && bt x (i - n)) := by
  unfold bt
  rw [Int32.toBitVec_shiftLeft]
  show (x.toBitVec <<< ((nI n &&& 31).toBitVec.smod 32).toNat).getLsbD i = _
  rw [s_l n hn, BitVec.getLsbD_shiftLeft]
  rcases Nat.lt_or_ge i n with h | h
  · simp [h, Nat.not_le.mpr h]
  · simp [hi, h, Nat.not_lt.mpr h]
theorem b_ushr (n : Nat) (hn : n < 32) (x : Int32) (i : Nat) : bt ((x.toUInt32 >>> ((nI n).toUInt32 &&& Int32.toUInt32 31)).toInt32) i = bt x (n + i) := by
  show (x.toUInt32 >>> ((nI n).toUInt32 &&& Int32.toUInt32 31)).toBitVec.getLsbD i = x.toUInt32.toBitVec.getLsbD (n + i)
  rw [UInt32.toBitVec_shiftRight]
  show (x.toUInt32.toBitVec >>> (((nI n).toUInt32 &&& Int32.toUInt32 31).toBitVec % 32).toNat).getLsbD i = _
  rw [s_u n hn, BitVec.getLsbD_ushiftRight]
theorem b_sshr (n : Nat) (hn : n < 32) (x : Int32) {i : Nat} (hi : i < 32) : bt (x >>> (nI n &&& 31)) i = if n + i < 32 then bt x (n + i) else bt x 31 := by
  unfold bt
  rw [Int32.toBitVec_shiftRight]
  show (x.toBitVec.sshiftRight ((nI n &&& 31).toBitVec.smod 32).toNat).getLsbD i = _
  rw [s_l n hn, BitVec.getLsbD_sshiftRight, BitVec.msb_eq_getLsbD_last]
  simp [hi]
theorem b_shl8 (x : Int32) {i : Nat} (hi : i < 32) : bt (x <<< ((8 : Int32) &&& 31)) i = (decide (8 ≤ i) && bt x (i - 8)) := b_shl 8 (by omega) x hi
theorem b_shl16 (x : Int32) {i : Nat} (hi : i < 32) : bt (x <<< ((16 : Int32) &&& 31)) i = (decide (16 ≤ i) && bt x (i - 16)) := b_shl 16 (by omega) x hi
theorem b_shl24 (x : Int32) {i : Nat} (hi : i < 32) : bt (x <<< ((24 : Int32) &&& 31)) i = (decide (24 ≤ i) && bt x (i - 24)) := b_shl 24 (by omega) x hi
theorem b_sshr8 (x : Int32) {i : Nat} (hi : i < 32) : bt (x >>> ((8 : Int32) &&& 31)) i = if 8 + i < 32 then bt x (8 + i) else bt x 31 := b_sshr 8 (by omega) x hi
end
section
/-! numbers, stores, lists by index -/
theorem nu_m10 (a : Nat) : nI a * 10 = nI (a * 10) := pk_mul a 10
theorem nu_m3 (a : Nat) : nI a * 3 = nI (a * 3) := pk_mul a 3
theorem nu_m16 (a : Nat) : nI a * 16 = nI (a * 16) := pk_mul a 16
theorem nu_m12 (a : Nat) : nI a * 12 = nI (a * 12) := pk_mul a 12
theorem nu_m8 (a : Nat) : nI a * 8 = nI (a * 8) := pk_mul a 8
theorem nu_s1 {n : Nat} (h : 0 < n) : nI n - 1 = nI (n - 1) := pk_sub (b := 1) h
theorem nu_s2 {n : Nat} (h : 2 ≤ n) : nI n - 2 = nI (n - 2) := pk_sub (b := 2) h
theorem nu_ne1 {a : Nat} (h : a < 2 ^ 31) : ¬ nI a = -1 := by
  intro e
  have h1 := nI_pos (n := a) h
  rw [e] at h1
  exact h1 (by decide)
theorem nu_uu {f : Nat → Int32} {k : Nat} {x y : Int32} : upd (upd f k x) k y = upd f k y := by
  funext j
  unfold upd
  by_cases h : j = k
  · simp only [h, if_true]
  · simp only [h, if_false]
theorem nu_id {f : Nat → Int32} {k : Nat} {x : Int32} (h : f k = x) : upd f k x = f := by
  funext j
  unfold upd
  by_cases e : j = k
  · rw [if_pos e, e, h]
  · rw [if_neg e]
def la_st {α : Type} (f : Nat → α) (i : Nat) (v : α) : Nat → α := fun j => if j = i then v else f j
theorem la_ss {α : Type} {f : Nat → α} {i : Nat} {v : α} : la_st f i v i = v := if_pos rfl
theorem la_sn {α : Type} {f : Nat → α} {i j : Nat} {v : α} (h : j ≠ i) : la_st f i v j = f j := if_neg h
theorem la_su {α : Type} {f : Nat → α} {i : Nat} {v w : α} : la_st (la_st f i v) i w = la_st f i w := by
  funext j
  unfold la_st
  by_cases h : j = i
  · simp only [h, if_true]
  · simp only [h, if_false]
theorem la_si {α : Type} {f : Nat → α} {i : Nat} {v : α} (h : f i = v) : la_st f i v = f := by
  funext j
  unfold la_st
  by_cases e : j = i
  · rw [if_pos e, e, h]
  · rw [if_neg e]
theorem la_gd {α : Type} {d : α} {l : List α} {j : Nat} (h : j < l.length) : l.getD j d = l[j] := by
  rw [List.getD_eq_getElem?_getD, List.getElem?_eq_getElem h]; rfl
theorem la_gl {α : Type} {d x : α} {l : List α} {j : Nat} (h : j < l.length) : (l ++ [x]).getD j d = l.getD j d := by
  rw [la_gd (by rw [List.length_append]; omega), la_gd h, List.getElem_append_left h]
theorem la_ge {α : Type} {d x : α} {l : List α} : (l ++ [x]).getD l.length d = x := by
  rw [la_gd (by rw [List.length_append]; exact Nat.lt_succ_self _), List.getElem_append_right (Nat.le_refl _)]
  simp
theorem la_gm {α : Type} {d : α} {l : List α} {j : Nat} (h : j < l.length) : l.getD j d ∈ l := by
  rw [la_gd h]; exact List.getElem_mem h
theorem la_dr {α : Type} {d : α} {l : List α} {j : Nat} (h : j < l.length) : l.drop j = l.getD j d :: l.drop (j + 1) := by
  rw [la_gd h]; exact List.drop_eq_getElem_cons h
theorem la_tk {α : Type} {d : α} {l : List α} {j : Nat} (h : j < l.length) : l.take (j + 1) = l.take j ++ [l.getD j d] := by
  rw [la_gd h]; exact List.take_succ_eq_append_getElem h
theorem la_ml {α : Type} {d : α} {l : List α} {x : α} (h : x ∈ l) : ∃ j, j < l.length ∧ l.getD j d = x := by
  obtain ⟨j, hj, e⟩ := List.mem_iff_getElem.mp h
  exact ⟨j, hj, by rw [la_gd hj]; exact e⟩
theorem la_nd {n : Nat} {l : List Nat} (h : l.Nodup) (hl : ∀ x, x ∈ l → x < n) : l.length ≤ n := by
  have := List.Nodup.length_le_of_subset (l₂ := List.range n) h (fun x hx => List.mem_range.mpr (hl x hx))
  rwa [List.length_range] at this
theorem la_nd1 {n y : Nat} {l : List Nat} (h : l.Nodup) (hl : ∀ x, x ∈ l → x < n) (hy : y < n) (hn : y ∉ l) : l.length < n := by
  have := la_nd (n := n) (l := y :: l) (List.nodup_cons.mpr ⟨hn, h⟩) (fun x hx => by
    rcases List.mem_cons.mp hx with e | e
    · omega
    · exact hl x e)
  rw [List.length_cons] at this
  omega
/-- row c of the table a (rows of width w, lengths in n) holds the list l -/
def la_row (a n : Nat → Int32) (w c : Nat) (l : List Nat) : Prop := n c = nI l.length ∧ ∀ j, j < l.length → a (c * w + j) = nI (l.getD j 0)
def oI : Option Nat → Int32
  | none => -1
  | some x => nI x
theorem oI_n : oI none = -1 := rfl
theorem oI_s {x : Nat} : oI (some x) = nI x := rfl
theorem sm_10 : ¬ (1 : Int32) = 0 := by decide
theorem sm_30 : ¬ (-3 : Int32) = 0 := by decide
theorem sm_40 : ¬ (-4 : Int32) = 0 := by decide
end
section
/-! the merge of C3, pure: four lists ls 0 .. ls 3 -/
def cm_ok (ls : Nat → List Nat) (x : Nat) : Bool := (List.range 4).all (fun i => !((ls i).tail.contains x))
theorem cm_ok_t {ls : Nat → List Nat} {x : Nat} : cm_ok ls x = true ↔ ∀ i, i < 4 → x ∉ (ls i).tail := by
  unfold cm_ok
  simp only [List.all_eq_true, List.mem_range, Bool.not_eq_true', List.contains_eq_mem, decide_eq_false_iff_not]
def cm_pf (ls : Nat → List Nat) : Nat → Nat → Option Nat
  | 0, _ => none
  | n + 1, i => match ls i with
    | [] => cm_pf ls n (i + 1)
    | h :: _ => if cm_ok ls h = true then some h else cm_pf ls n (i + 1)
theorem cm_pf_n {ls : Nat → List Nat} {n i : Nat} (h : ls i = []) : cm_pf ls (n + 1) i = cm_pf ls n (i + 1) := by
  simp only [cm_pf, h]
theorem cm_pf_t {ls : Nat → List Nat} {n i x : Nat} {t : List Nat} (h : ls i = x :: t) (o : cm_ok ls x = true) : cm_pf ls (n + 1) i = some x := by
  simp only [cm_pf, h, o, if_true]
theorem cm_pf_f {ls : Nat → List Nat} {n i x : Nat} {t : List Nat} (h : ls i = x :: t) (o : ¬ cm_ok ls x = true) : cm_pf ls (n + 1) i = cm_pf ls n (i + 1) := by
  simp only [cm_pf, h, o, if_false, Bool.false_eq_true]
theorem cm_pf_z {ls : Nat → List Nat} : ∀ (n i : Nat), (∀ j, i ≤ j → j < i + n → ls j = []) → cm_pf ls n i = none := by
  intro n
  induction n with
  | zero => intro i _; rfl
  | succ n ih =>
    intro i h
    rw [cm_pf_n (h i (Nat.le_refl _) (by omega))]
    exact ih (i + 1) (fun j h1 h2 => h j (by omega) (by omega))
theorem cm_pf_s {ls : Nat → List Nat} {x : Nat} : ∀ (n i : Nat), cm_pf ls n i = some x → cm_ok ls x = true ∧ ∃ j t, i ≤ j ∧ j < i + n ∧ ls j = x :: t := by
  intro n
  induction n with
  | zero => intro i h; exact absurd h (by simp [cm_pf])
  | succ n ih =>
    intro i h
    have nx : cm_pf ls n (i + 1) = some x → cm_ok ls x = true ∧ ∃ j t, i ≤ j ∧ j < i + (n + 1) ∧ ls j = x :: t := fun h' => by
      obtain ⟨a, j, t, b, c, d⟩ := ih (i + 1) h'
      exact ⟨a, j, t, by omega, by omega, d⟩
    cases e : ls i with
    | nil => rw [cm_pf_n e] at h; exact nx h
    | cons y t =>
      by_cases o : cm_ok ls y = true
      · rw [cm_pf_t e o] at h
        cases h
        exact ⟨o, i, t, Nat.le_refl _, by omega, e⟩
      · rw [cm_pf_f e o] at h; exact nx h
def cm_dr (ls : Nat → List Nat) (x : Nat) : Nat → List Nat := fun i => if (ls i).head? = some x then (ls i).tail else ls i
theorem cm_dr_m {ls : Nat → List Nat} {x y i : Nat} (h : y ∈ cm_dr ls x i) : y ∈ ls i := by
  unfold cm_dr at h
  split at h
  · exact List.mem_of_mem_tail h
  · exact h
theorem cm_dr_x {ls : Nat → List Nat} {x i : Nat} (o : cm_ok ls x = true) (hi : i < 4) : x ∉ cm_dr ls x i := by
  intro h
  have t := cm_ok_t.mp o i hi
  unfold cm_dr at h
  split at h
  · exact t h
  · rename_i hn
    cases e : ls i with
    | nil => rw [e] at h; exact absurd h (by simp)
    | cons y u =>
      rw [e] at h t hn
      rcases List.mem_cons.mp h with q | q
      · exact hn (by rw [q]; rfl)
      · exact t q
abbrev cm_e (ls : Nat → List Nat) : Prop := ∀ i, i < 4 → ls i = []
def cm_run : Nat → (Nat → List Nat) → Option (List Nat)
  | 0, ls => if cm_e ls then some [] else none
  | n + 1, ls => if cm_e ls then some [] else
      match cm_pf ls 4 0 with
      | none => none
      | some h => (cm_run n (cm_dr ls h)).map (h :: ·)
theorem cm_run_e {ls : Nat → List Nat} (h : cm_e ls) (n : Nat) : cm_run n ls = some [] := by
  cases n with
  | zero => unfold cm_run; exact if_pos h
  | succ n => unfold cm_run; exact if_pos h
theorem cm_run_n {ls : Nat → List Nat} (h : ¬ cm_e ls) (p : cm_pf ls 4 0 = none) (n : Nat) : cm_run n ls = none := by
  cases n with
  | zero => unfold cm_run; exact if_neg h
  | succ n => unfold cm_run; rw [if_neg h, p]
theorem cm_run_s {ls : Nat → List Nat} {x : Nat} (h : ¬ cm_e ls) (p : cm_pf ls 4 0 = some x) (n : Nat) : cm_run (n + 1) ls = (cm_run n (cm_dr ls x)).map (x :: ·) := by
  rw [cm_run, if_neg h, p]
theorem cm_pf_e {ls : Nat → List Nat} (h : cm_e ls) : cm_pf ls 4 0 = none := cm_pf_z 4 0 (fun j _ h2 => h j (by omega))
theorem cm_ne {ls : Nat → List Nat} {x : Nat} (p : cm_pf ls 4 0 = some x) : ¬ cm_e ls := by
  intro h
  rw [cm_pf_e h] at p
  exact absurd p (by simp)
theorem cm_run_p : ∀ (n : Nat) (ls : Nat → List Nat) (l : List Nat), cm_run n ls = some l → (∀ x, x ∈ l → ∃ i, i < 4 ∧ x ∈ ls i) ∧ l.Nodup := by
  intro n
  induction n with
  | zero =>
    intro ls l h
    by_cases e : cm_e ls
    · rw [cm_run_e e] at h
      cases h
      exact ⟨fun x hx => absurd hx (by simp), List.nodup_nil⟩
    · unfold cm_run at h
      rw [if_neg e] at h
      exact absurd h (by simp)
  | succ n ih =>
    intro ls l h
    by_cases e : cm_e ls
    · rw [cm_run_e e] at h
      cases h
      exact ⟨fun x hx => absurd hx (by simp), List.nodup_nil⟩
    · cases p : cm_pf ls 4 0 with
      | none => rw [cm_run_n e p] at h; exact absurd h (by simp)
      | some x =>
        rw [cm_run_s e p] at h
        cases q : cm_run n (cm_dr ls x) with
        | none => rw [q] at h; exact absurd h (by simp)
        | some l' =>
          rw [q] at h
          cases h
          obtain ⟨o, j, t, _, j4, ej⟩ := cm_pf_s 4 0 p
          obtain ⟨a, b⟩ := ih _ _ q
          refine ⟨fun y hy => ?_, List.nodup_cons.mpr ⟨fun hx => ?_, b⟩⟩
          · rcases List.mem_cons.mp hy with r | r
            · exact ⟨j, by omega, by rw [ej, r]; exact List.mem_cons_self⟩
            · obtain ⟨i, hi, m⟩ := a y r
              exact ⟨i, hi, cm_dr_m m⟩
          · obtain ⟨i, hi, m⟩ := a x hx
            exact cm_dr_x o hi m
/-- the merge in its course: acc taken, ls left -/
def cm_I (c : Nat) (l0 : Nat → List Nat) (acc : List Nat) (ls : Nat → List Nat) : Prop :=
  (∀ i, i < 4 → ∀ x, x ∈ ls i → x < c) ∧ acc.Nodup ∧ (∀ x, x ∈ acc → x < c) ∧ (∀ i, i < 4 → ∀ x, x ∈ ls i → x ∉ acc) ∧ cm_run c l0 = (cm_run (c - acc.length) ls).map (acc ++ ·)
theorem cm_I0 {c : Nat} {ls : Nat → List Nat} (h : ∀ i, i < 4 → ∀ x, x ∈ ls i → x < c) : cm_I c ls [] ls :=
  ⟨h, List.nodup_nil, fun x hx => absurd hx (by simp), fun _ _ _ _ hx => absurd hx (by simp), by
    show _ = (cm_run (c - 0) ls).map (fun x => [] ++ x)
    rw [Nat.sub_zero]
    cases cm_run c ls <;> rfl⟩
theorem cm_Il {c : Nat} {l0 ls : Nat → List Nat} {acc : List Nat} (h : cm_I c l0 acc ls) : acc.length ≤ c := la_nd h.2.1 h.2.2.1
theorem cm_Ie {c : Nat} {l0 ls : Nat → List Nat} {acc : List Nat} (h : cm_I c l0 acc ls) (e : ¬ cm_e ls) : acc.length < c := by
  rcases Nat.lt_or_ge acc.length c with q | q
  · exact q
  · refine absurd (fun i hi => ?_) e
    cases r : ls i with
    | nil => rfl
    | cons y t =>
      have m : y ∈ ls i := by rw [r]; exact List.mem_cons_self
      have := la_nd1 h.2.1 h.2.2.1 (h.1 i hi y m) (h.2.2.2.1 i hi y m)
      omega
theorem cm_Id {c : Nat} {l0 ls : Nat → List Nat} {acc : List Nat} (h : cm_I c l0 acc ls) (e : cm_e ls) : cm_run c l0 = some acc := by
  rw [h.2.2.2.2, cm_run_e e]
  show some (acc ++ []) = _
  rw [List.append_nil]
theorem cm_In {c : Nat} {l0 ls : Nat → List Nat} {acc : List Nat} (h : cm_I c l0 acc ls) (e : ¬ cm_e ls) (p : cm_pf ls 4 0 = none) : cm_run c l0 = none := by
  rw [h.2.2.2.2, cm_run_n e p]; rfl
theorem cm_Is {c x : Nat} {l0 ls : Nat → List Nat} {acc : List Nat} (h : cm_I c l0 acc ls) (p : cm_pf ls 4 0 = some x) : cm_I c l0 (acc ++ [x]) (cm_dr ls x) ∧ acc.length < c ∧ x < c := by
  have e := cm_ne p
  have hl := cm_Ie h e
  obtain ⟨o, j, t, _, j4, ej⟩ := cm_pf_s 4 0 p
  have mx : x ∈ ls j := by rw [ej]; exact List.mem_cons_self
  have hx := h.1 j (by omega) x mx
  have hn := h.2.2.2.1 j (by omega) x mx
  refine ⟨⟨fun i hi y hy => h.1 i hi y (cm_dr_m hy), ?_, fun y hy => ?_, fun i hi y hy hc => ?_, ?_⟩, hl, hx⟩
  · refine List.nodup_append.mpr ⟨h.2.1, List.nodup_cons.mpr ⟨by simp, List.nodup_nil⟩, fun a ha b hb => ?_⟩
    rcases List.mem_singleton.mp hb with rfl
    intro q
    rw [q] at ha
    exact hn ha
  · rcases List.mem_append.mp hy with q | q
    · exact h.2.2.1 y q
    · rw [List.mem_singleton.mp q]; exact hx
  · rcases List.mem_append.mp hc with q | q
    · exact h.2.2.2.1 i hi y (cm_dr_m hy) q
    · rw [List.mem_singleton.mp q] at hy
      exact cm_dr_x o hi hy
  · rw [h.2.2.2.2]
    obtain ⟨m, hm⟩ : ∃ m, c - acc.length = m + 1 := ⟨c - acc.length - 1, by omega⟩
    rw [hm, cm_run_s e p, List.length_append, List.length_singleton, show c - (acc.length + 1) = m by omega]
    cases cm_run m (cm_dr ls x) with
    | none => rfl
    | some l =>
      show some (acc ++ (x :: l)) = some ((acc ++ [x]) ++ l)
      rw [List.append_assoc]; rfl
/-! the order of one kind, and tables of orders -/
def cm_ls (L : Nat → List Nat) (p : List Nat) : Nat → List Nat := fun i => if i < p.length then L (p.getD i 0) else if i = p.length then p else []
def cm_lin (L : Nat → List Nat) (p : List Nat) (c : Nat) : Option (List Nat) := (cm_run c (cm_ls L p)).map (c :: ·)
theorem cm_ls_c {L L' : Nat → List Nat} {p : List Nat} (h : ∀ q, q ∈ p → L q = L' q) : cm_ls L p = cm_ls L' p := by
  funext i
  unfold cm_ls
  by_cases e : i < p.length
  · rw [if_pos e, if_pos e, h _ (la_gm e)]
  · rw [if_neg e, if_neg e]
theorem cm_lin_c {L L' : Nat → List Nat} {p : List Nat} {c : Nat} (h : ∀ q, q ∈ p → L q = L' q) : cm_lin L p c = cm_lin L' p c := by
  unfold cm_lin; rw [cm_ls_c h]
theorem cm_ls_m {L : Nat → List Nat} {p : List Nat} {i x : Nat} (h : x ∈ cm_ls L p i) : (∃ q, q ∈ p ∧ x ∈ L q) ∨ x ∈ p := by
  unfold cm_ls at h
  split at h
  · exact Or.inl ⟨_, la_gm (by assumption), h⟩
  · split at h
    · exact Or.inr h
    · exact absurd h (by simp)
/-- parent lists below n: at most three, each of a lower number -/
def cm_P (n : Nat) (P : Nat → List Nat) : Prop := ∀ c, c < n → (P c).length ≤ 3 ∧ ∀ q, q ∈ P c → q < c
/-- L gives the orders of the classes below n -/
def cm_T (n : Nat) (P L : Nat → List Nat) : Prop := ∀ c, c < n → cm_lin L (P c) c = some (L c)
theorem cm_T_f {n : Nat} {P L : Nat → List Nat} (hP : cm_P n P) (hT : cm_T n P L) : ∀ c, c < n → (∀ x, x ∈ L c → x ≤ c) ∧ (L c).Nodup ∧ (L c).length ≤ c + 1 ∧ ∃ t, L c = c :: t := by
  intro c
  induction c using Nat.strongRecOn with
  | ind c ih =>
    intro hc
    have h := hT c hc
    unfold cm_lin at h
    cases q : cm_run c (cm_ls L (P c)) with
    | none => rw [q] at h; exact absurd h (by simp)
    | some l =>
      rw [q] at h
      have h' : c :: l = L c := by
        have := Option.some.inj h
        exact this
      obtain ⟨a, b⟩ := cm_run_p _ _ _ q
      have lo : ∀ x, x ∈ l → x < c := fun x hx => by
        obtain ⟨i, _, m⟩ := a x hx
        rcases cm_ls_m m with ⟨z, hz, mz⟩ | m
        · have h1 := (hP c hc).2 z hz
          have := (ih z h1 (by omega)).1 x mz
          omega
        · exact (hP c hc).2 x m
      rw [← h']
      refine ⟨fun x hx => ?_, List.nodup_cons.mpr ⟨fun hx => by have := lo c hx; omega, b⟩, ?_, l, rfl⟩
      · rcases List.mem_cons.mp hx with e | e
        · omega
        · have := lo x e; omega
      · have := la_nd b lo
        rw [List.length_cons]; omega
theorem cm_T_u {n : Nat} {P L L' : Nat → List Nat} (hP : cm_P n P) (hT : cm_T n P L) (hT' : cm_T n P L') : ∀ c, c < n → L c = L' c := by
  intro c
  induction c using Nat.strongRecOn with
  | ind c ih =>
    intro hc
    have h := hT c hc
    have h' := hT' c hc
    rw [cm_lin_c (L' := L') (fun q hq => ih q ((hP c hc).2 q hq) (by have := (hP c hc).2 q hq; omega)), h'] at h
    exact (Option.some.inj h).symm
theorem cm_P_le {n m : Nat} {P : Nat → List Nat} (h : cm_P n P) (hm : m ≤ n) : cm_P m P := fun c hc => h c (by omega)
theorem cm_T_le {n m : Nat} {P L : Nat → List Nat} (h : cm_T n P L) (hm : m ≤ n) : cm_T m P L := fun c hc => h c (by omega)
/-- one number more -/
theorem cm_T_s {n : Nat} {P L : Nat → List Nat} {l : List Nat} (hP : cm_P (n + 1) P) (hT : cm_T n P L) (h : cm_lin L (P n) n = some l) : cm_T (n + 1) P (la_st L n l) := by
  intro c hc
  have e : cm_lin (la_st L n l) (P c) c = cm_lin L (P c) c := cm_lin_c (fun q hq => la_sn (by have := (hP c hc).2 q hq; omega))
  rw [e]
  by_cases z : c = n
  · rw [z, la_ss]; exact h
  · rw [la_sn z]; exact hT c (by omega)
theorem cm_T_no {n m : Nat} {P L : Nat → List Nat} (hP : cm_P m P) (hn : n < m) (hT : cm_T n P L) (h : cm_lin L (P n) n = none) : ¬ ∃ L', cm_T m P L' := by
  rintro ⟨L', h'⟩
  have u := cm_T_u (cm_P_le hP (by omega)) hT (cm_T_le h' (by omega))
  have := h' n hn
  rw [← cm_lin_c (L := L) (fun q hq => u q ((hP n hn).2 q hq)), h] at this
  exact absurd this (by simp)
/-- the lists of a merge are below c and at most 10 long -/
theorem cm_ls_lt {n c : Nat} {P L : Nat → List Nat} {p : List Nat} (hP : cm_P n P) (hT : cm_T n P L) (hc : c ≤ n) (h10 : c < 10) (hp : ∀ q, q ∈ p → q < c) (h3 : p.length ≤ 3) : (∀ i, ∀ x, x ∈ cm_ls L p i → x < c) ∧ ∀ i, (cm_ls L p i).length ≤ 10 := by
  constructor
  · intro i x h
    rcases cm_ls_m h with ⟨q, hq, m⟩ | m
    · have h1 := hp q hq
      have := (cm_T_f hP hT q (by omega)).1 x m
      omega
    · exact hp x m
  · intro i
    unfold cm_ls
    split
    · have h1 := hp _ (la_gm (d := 0) (by assumption))
      have := (cm_T_f hP hT _ (Nat.lt_of_lt_of_le h1 hc)).2.2.1
      omega
    · split
      · omega
      · simp
end
section
/-! sets of classes as bits -/
theorem bs_b1 : ∀ i, i < 32 → bt 1 i = decide (i = 0) := by decide +kernel
theorem bs_1 {x j : Nat} (hx : x < 32) (hj : j < 32) : bt ((1 : Int32) <<< (nI x &&& 31)) j = decide (j = x) := by
  rw [b_shl x hx 1 hj, bs_b1 _ (by omega)]
  by_cases e : j = x
  · subst e
    simp
  · by_cases l : x ≤ j
    · rw [decide_eq_false (show ¬ j - x = 0 by omega), decide_eq_false e, Bool.and_false]
    · rw [decide_eq_false l, decide_eq_false e, Bool.false_and]
theorem bs_or {s : Int32} {x j : Nat} (hx : x < 32) (hj : j < 32) : bt (s ||| ((1 : Int32) <<< (nI x &&& 31))) j = (bt s j || decide (j = x)) := by
  rw [b_or, bs_1 hx hj]
theorem bs_a1 {y : Int32} : y &&& 1 = 0 ↔ bt y 0 = false := by
  constructor
  · intro h
    have e := congrArg (fun z => bt z 0) h
    simp only [b_and, b_0, bs_b1 0 (by decide), decide_true, Bool.and_true] at e
    exact e
  · intro h
    refine b_ext (fun i hi => ?_)
    rw [b_and, b_0, bs_b1 i hi]
    by_cases z : i = 0
    · rw [z, h]; rfl
    · rw [decide_eq_false z, Bool.and_false]
theorem bs_sh {x : Int32} {s : Nat} (hs : s < 32) : bt (x >>> (nI s &&& 31)) 0 = bt x s := by
  rw [b_sshr s hs x (by decide), Nat.add_zero, if_pos hs]
theorem bs_t {x : Int32} {s : Nat} (hs : s < 32) : ((x >>> (nI s &&& 31)) &&& 1) = 0 ↔ bt x s = false := by
  rw [bs_a1, bs_sh hs]
theorem bs_t2 {x : Int32} {s t : Nat} (hs : s < 32) (ht : t < 32) : (((x >>> (nI s &&& 31)) ||| (x >>> (nI t &&& 31))) &&& 1) = 0 ↔ (bt x s = false ∧ bt x t = false) := by
  rw [bs_a1, b_or, bs_sh hs, bs_sh ht, Bool.or_eq_false_iff]
/-- s is the bit set of l -/
def bs_is (s : Int32) (l : List Nat) : Prop := ∀ j, j < 32 → bt s j = decide (j ∈ l)
theorem bs_is_1 {c : Nat} (hc : c < 32) : bs_is ((1 : Int32) <<< (nI c &&& 31)) [c] := fun j hj => by
  rw [bs_1 hc hj]
  by_cases e : j = c
  · rw [decide_eq_true e, decide_eq_true (by rw [e]; exact List.mem_singleton.mpr rfl)]
  · rw [decide_eq_false e, decide_eq_false (fun h => e (List.mem_singleton.mp h))]
theorem bs_is_s {s : Int32} {l : List Nat} {x : Nat} (hx : x < 32) (h : bs_is s l) : bs_is (s ||| ((1 : Int32) <<< (nI x &&& 31))) (l ++ [x]) := fun j hj => by
  rw [bs_or hx hj, h j hj]
  by_cases a : j ∈ l
  · rw [decide_eq_true a, decide_eq_true (List.mem_append.mpr (Or.inl a)), Bool.true_or]
  · by_cases b : j = x
    · rw [decide_eq_true b, decide_eq_true (List.mem_append.mpr (Or.inr (List.mem_singleton.mpr b))), Bool.or_true]
    · rw [decide_eq_false a, decide_eq_false b, decide_eq_false (fun h => (List.mem_append.mp h).elim a (fun q => b (List.mem_singleton.mp q))), Bool.or_false]
theorem bs_is_0 {s : Int32} {l : List Nat} {j : Nat} (h : bs_is s l) (hj : j < 32) : ((s >>> (nI j &&& 31)) &&& 1) = 0 ↔ j ∉ l := by
  rw [bs_t hj, h j hj, decide_eq_false_iff_not]
theorem bs_is_2 {s : Int32} {l : List Nat} {i j : Nat} (h : bs_is s l) (hi : i < 32) (hj : j < 32) : (((s >>> (nI i &&& 31)) ||| (s >>> (nI j &&& 31))) &&& 1) = 0 ↔ (i ∉ l ∧ j ∉ l) := by
  rw [bs_t2 hi hj, h i hi, h j hj, decide_eq_false_iff_not, decide_eq_false_iff_not]
theorem bs_is_n {s : Int32} {l : List Nat} (h : bs_is s l) (hl : 31 ∉ l) : ¬ s = -1 := by
  intro e
  have a := h 31 (by decide)
  rw [e, b_m1 31 (by decide), decide_eq_false hl] at a
  exact absurd a (by decide)
end
section
/-! X's merge workspace -/
def cm_tc (ls : Nat → List Nat) (x : Nat) : Nat := (ls 0).tail.count x + (ls 1).tail.count x + (ls 2).tail.count x + (ls 3).tail.count x
theorem cm_4 {i : Nat} (h : i < 4) : i = 0 ∨ i = 1 ∨ i = 2 ∨ i = 3 := by omega
theorem cm_tc_0 {ls : Nat → List Nat} {x : Nat} : cm_tc ls x = 0 ↔ cm_ok ls x = true := by
  rw [cm_ok_t]
  constructor
  · intro h i hi
    unfold cm_tc at h
    rcases cm_4 hi with e | e | e | e <;> (subst e; apply List.count_eq_zero.mp; omega)
  · intro h
    unfold cm_tc
    rw [List.count_eq_zero.mpr (h 0 (by decide)), List.count_eq_zero.mpr (h 1 (by decide)), List.count_eq_zero.mpr (h 2 (by decide)), List.count_eq_zero.mpr (h 3 (by decide))]
theorem cm_tc_st {ls : Nat → List Nat} {i x : Nat} {l : List Nat} (hi : i < 4) : cm_tc (la_st ls i l) x + (ls i).tail.count x = cm_tc ls x + l.tail.count x := by
  rcases cm_4 hi with e | e | e | e <;> (subst e; simp only [cm_tc, la_st, if_true, if_false, show ¬ (0 : Nat) = 1 by decide, show ¬ (0 : Nat) = 2 by decide, show ¬ (0 : Nat) = 3 by decide, show ¬ (1 : Nat) = 0 by decide, show ¬ (1 : Nat) = 2 by decide, show ¬ (1 : Nat) = 3 by decide, show ¬ (2 : Nat) = 0 by decide, show ¬ (2 : Nat) = 1 by decide, show ¬ (2 : Nat) = 3 by decide, show ¬ (3 : Nat) = 0 by decide, show ¬ (3 : Nat) = 1 by decide, show ¬ (3 : Nat) = 2 by decide]; omega)
theorem cm_tc_c {ls ls' : Nat → List Nat} (h : ∀ i, i < 4 → ls i = ls' i) (x : Nat) : cm_tc ls x = cm_tc ls' x := by
  unfold cm_tc
  rw [h 0 (by decide), h 1 (by decide), h 2 (by decide), h 3 (by decide)]
theorem cm_tc_b {l : List Nat} {x : Nat} (h : l.length ≤ 10) : l.tail.count x ≤ 10 := by
  have := List.count_le_length (a := x) (l := l.tail)
  rw [List.length_tail] at this
  omega
/-- the lists ls, read from the heads hd on, and how often each number stands in a tail -/
def xl_R (hd : Nat → Nat) (ls : Nat → List Nat) (mi mh me tc : Nat → Int32) : Prop :=
  (∀ i, i < 4 → mh i = nI (hd i) ∧ me i = nI (hd i + (ls i).length) ∧ hd i + (ls i).length ≤ 10 ∧ (∀ j, j < (ls i).length → mi (i * 10 + (hd i + j)) = nI ((ls i).getD j 0)) ∧ ∀ x, x ∈ ls i → x < 10) ∧ ∀ x, x < 10 → tc x = nI (cm_tc ls x)
theorem xl_c {hd : Nat → Nat} {ls ls' : Nat → List Nat} {mi mh me tc : Nat → Int32} (h : xl_R hd ls mi mh me tc) (e : ∀ i, i < 4 → ls i = ls' i) : xl_R hd ls' mi mh me tc :=
  ⟨fun i hi => by rw [← e i hi]; exact h.1 i hi, fun x hx => by rw [← cm_tc_c e x]; exact h.2 x hx⟩
theorem xl_tb {hd : Nat → Nat} {ls : Nat → List Nat} {mi mh me tc : Nat → Int32} (h : xl_R hd ls mi mh me tc) (x : Nat) : cm_tc ls x ≤ 40 := by
  have b : ∀ i, i < 4 → (ls i).tail.count x ≤ 10 := fun i hi => cm_tc_b (by have := (h.1 i hi).2.2.1; omega)
  have b0 := b 0 (by decide)
  have b1 := b 1 (by decide)
  have b2 := b 2 (by decide)
  have b3 := b 3 (by decide)
  unfold cm_tc
  omega
theorem xl_add {hd : Nat → Nat} {ls : Nat → List Nat} {mi mh me tc : Nat → Int32} {i x : Nat} (h : xl_R hd ls mi mh me tc) (hi : i < 4) (h0 : hd i = 0) (hl : (ls i).length < 10) (hx : x < 10) : xl_R hd (la_st ls i (ls i ++ [x])) (upd mi (i * 10 + (ls i).length) (nI x)) mh (upd me i (nI ((ls i).length + 1))) (if (ls i).length = 0 then tc else upd tc x (nI (cm_tc ls x + 1))) := by
  refine ⟨fun r hr => ?_, fun y hy => ?_⟩
  · obtain ⟨a, b, c, d, e⟩ := h.1 r hr
    by_cases z : r = i
    · subst z
      rw [la_ss, pk_us, List.length_append, List.length_singleton]
      refine ⟨a, by rw [h0, Nat.zero_add], by omega, fun j hj => ?_, fun y hy => ?_⟩
      · rcases Nat.lt_or_ge j (ls r).length with q | q
        · rw [pk_un (by omega), la_gl q]; exact d j q
        · have q' : j = (ls r).length := by omega
          subst q'
          rw [h0, Nat.zero_add, pk_us, la_ge]
      · rcases List.mem_append.mp hy with q | q
        · exact e y q
        · rw [List.mem_singleton.mp q]; exact hx
    · rw [la_sn z, pk_un z]
      exact ⟨a, b, c, fun j hj => by rw [pk_un (by omega)]; exact d j hj, e⟩
  · have t := cm_tc_st (ls := ls) (l := ls i ++ [x]) (x := y) hi
    by_cases z : (ls i).length = 0
    · rw [if_pos z, h.2 y hy]
      have z' := List.length_eq_zero_iff.mp z
      rw [z'] at t
      exact congrArg nI (by simp only [List.nil_append, List.tail_cons, List.tail_nil, List.count_nil] at t; rw [z']; simp only [List.nil_append]; omega)
    · rw [if_neg z]
      have tt : (ls i ++ [x]).tail = (ls i).tail ++ [x] := by
        cases q : ls i with
        | nil => rw [q] at z; exact absurd rfl z
        | cons a l => rfl
      rw [tt, List.count_append] at t
      by_cases q : y = x
      · subst q
        rw [pk_us]
        rw [List.count_singleton_self] at t
        exact congrArg nI (by omega)
      · rw [pk_un q, h.2 y hy]
        have c0 : List.count y [x] = 0 := List.count_eq_zero.mpr (fun m => q (List.mem_singleton.mp m))
        rw [c0] at t
        exact congrArg nI (by omega)
theorem xl_drop {hd : Nat → Nat} {ls : Nat → List Nat} {mi mh me tc tc' : Nat → Int32} {i x : Nat} {t : List Nat} (h : xl_R hd ls mi mh me tc) (hi : i < 4) (e : ls i = x :: t) (ht : ∀ y, y < 10 → tc' y = nI (cm_tc (la_st ls i t) y)) : xl_R (la_st hd i (hd i + 1)) (la_st ls i t) mi (upd mh i (nI (hd i + 1))) me tc' := by
  refine ⟨fun r hr => ?_, ht⟩
  obtain ⟨a, b, c, d, f⟩ := h.1 r hr
  by_cases z : r = i
  · subst z
    rw [e, List.length_cons] at b c d
    rw [la_ss, la_ss, pk_us]
    refine ⟨rfl, by rw [b]; exact congrArg nI (by omega), by omega, fun j hj => ?_, fun y hy => f y (by rw [e]; exact List.mem_cons_of_mem _ hy)⟩
    have := d (j + 1) (by omega)
    rw [List.getD_cons_succ] at this
    rw [← this]
    exact congrArg mi (by omega)
  · rw [la_sn z, la_sn z, pk_un z]
    exact ⟨a, b, c, d, f⟩
theorem xl_t0 {hd : Nat → Nat} {ls : Nat → List Nat} {mi mh me tc : Nat → Int32} {i x : Nat} (h : xl_R hd ls mi mh me tc) (hi : i < 4) (e : ls i = [x]) : ∀ y, y < 10 → tc y = nI (cm_tc (la_st ls i []) y) := by
  intro y hy
  have t := cm_tc_st (ls := ls) (l := []) (x := y) hi
  rw [e] at t
  simp only [List.tail_cons, List.tail_nil, List.count_nil, Nat.add_zero] at t
  rw [h.2 y hy, t]
theorem xl_t1 {hd : Nat → Nat} {ls : Nat → List Nat} {mi mh me tc : Nat → Int32} {i x z : Nat} {t : List Nat} (h : xl_R hd ls mi mh me tc) (hi : i < 4) (e : ls i = x :: z :: t) : 0 < cm_tc ls z ∧ ∀ y, y < 10 → upd tc z (nI (cm_tc ls z - 1)) y = nI (cm_tc (la_st ls i (z :: t)) y) := by
  have key : ∀ y, cm_tc (la_st ls i (z :: t)) y + List.count y (z :: t) = cm_tc ls y + List.count y t := fun y => by
    have q := cm_tc_st (ls := ls) (l := z :: t) (x := y) hi
    rw [e] at q
    exact q
  have kz := key z
  rw [List.count_cons_self] at kz
  refine ⟨by omega, fun y hy => ?_⟩
  have ky := key y
  by_cases q : y = z
  · subst q
    rw [pk_us]
    exact congrArg nI (by omega)
  · rw [List.count_cons_of_ne (fun m => q m.symm)] at ky
    rw [pk_un q, h.2 y hy]
    exact congrArg nI (by omega)
end
section
section XLIN
variable {cL mL fL oL cC sC mC oC sT rV oT fC : Int32} {pa pc li ll an sg mi mh me tc mb ck cn cb bl co ca ob oF ou cp cq aa ab po od oN : Nat → Int32}
theorem xw_addItem {hd : Nat → Nat} {ls : Nat → List Nat} {i x : Nat} {post : SX → Prop} (h : xl_R hd ls mi mh me tc) (hi : i < 4) (h0 : hd i = 0) (hl : (ls i).length < 10) (hx : x < 10)
    (K : ∀ mi' me' tc', xl_R hd (la_st ls i (ls i ++ [x])) mi' mh me' tc' → post (cL, mL, fL, oL, cC, sC, mC, oC, sT, rV, oT, fC, pa, pc, li, ll, an, sg, mi', mh, me', tc', mb, ck, cn, cb, bl, co, ca, ob, oF, ou, cp, cq, aa, ab, po, od, oN)) : wpX_addItem post (cL, mL, fL, oL, cC, sC, mC, oC, sT, rV, oT, fC, pa, pc, li, ll, an, sg, mi, mh, me, tc, mb, ck, cn, cb, bl, co, ca, ob, oF, ou, cp, cq, aa, ab, po, od, oN) (nI i) (nI x) := by
  obtain ⟨a, b, c, d, e⟩ := h.1 i hi
  rw [h0, Nat.zero_add] at b
  have ci : (nI i).toNatClampNeg = i := nI_clamp (by omega)
  have cx : (nI x).toNatClampNeg = x := nI_clamp (by omega)
  have v4 : vp_in (nI i) 4 := vp_in_nI hi (by decide)
  have v10 : vp_in (nI x) 10 := vp_in_nI hx (by decide)
  have v40 : vp_in (nI (i * 10 + (ls i).length)) 40 := vp_in_nI (by omega) (by decide)
  have c40 : (nI (i * 10 + (ls i).length)).toNatClampNeg = i * 10 + (ls i).length := nI_clamp (by omega)
  have K' := K _ _ _ (xl_add h hi h0 hl hx)
  by_cases z : (ls i).length = 0
  · have z1 : nI (ls i).length ≤ 0 := nI_le (b := 0) (by omega) (by decide)
    rw [if_pos z] at K'
    simp only [wpX_addItem, wX_addItem_33, v4, ci, b, nu_m10, nI_add, v40, c40, z1, nI_1, not_true, not_false_iff, false_implies, true_implies, true_and, and_true, forall_eq, implies_true]
    exact K'
  · have z1 : ¬ nI (ls i).length ≤ 0 := nI_nle (by omega) (by omega)
    rw [if_neg z] at K'
    simp only [wpX_addItem, wX_addItem_33, v4, v10, ci, cx, b, nu_m10, nI_add, v40, c40, z1, nI_1, h.2 x hx, not_true, not_false_iff, false_implies, true_implies, true_and, and_true, forall_eq, implies_true]
    exact K'
/-- the lists while they are loaded: i parents done -/
def cm_li (L : Nat → List Nat) (p : List Nat) (i : Nat) : Nat → List Nat := fun r => if r < i then L (p.getD r 0) else if r = p.length then p.take i else []
theorem cm_li_0 {L : Nat → List Nat} {p : List Nat} : ∀ r, cm_li L p 0 r = [] := fun r => by
  unfold cm_li
  rw [if_neg (by omega), List.take_zero]
  split <;> rfl
theorem cm_li_e {L : Nat → List Nat} {p : List Nat} : cm_li L p p.length = cm_ls L p := by
  funext r
  unfold cm_li cm_ls
  rw [List.take_length]
theorem cm_li_s {L : Nat → List Nat} {p : List Nat} {i : Nat} (h : i < p.length) : la_st (la_st (cm_li L p i) i (L (p.getD i 0))) p.length (cm_li L p i p.length ++ [p.getD i 0]) = cm_li L p (i + 1) := by
  funext r
  by_cases a : r = p.length
  · subst a
    rw [la_ss]
    unfold cm_li
    rw [if_neg (by omega), if_pos rfl, if_neg (by omega), if_pos rfl, la_tk h]
  · rw [la_sn a]
    by_cases b : r = i
    · subst b
      rw [la_ss]
      unfold cm_li
      rw [if_pos (by omega)]
    · rw [la_sn b]
      unfold cm_li
      by_cases c : r < i
      · rw [if_pos c, if_pos (by omega)]
      · rw [if_neg c, if_neg a, if_neg (show ¬ r < i + 1 by omega), if_neg a]
theorem cm_li_i {L : Nat → List Nat} {p : List Nat} {i : Nat} (h : i < p.length) : cm_li L p i i = [] := by
  unfold cm_li
  rw [if_neg (by omega), if_neg (by omega)]
theorem cm_li_k {L : Nat → List Nat} {p : List Nat} {i : Nat} (h : i ≤ p.length) : cm_li L p i p.length = p.take i := by
  unfold cm_li
  rw [if_neg (by omega), if_pos rfl]
theorem xw_load77 {post : SX → Prop} {J57 : Int32 → Int32 → Int32 → Int32 → Int32 → Int32 → Int32 → Int32 → Int32 → Int32 → Int32 → Int32 → Int32 → (Nat → Int32) → (Nat → Int32) → (Nat → Int32) → (Nat → Int32) → (Nat → Int32) → (Nat → Int32) → (Nat → Int32) → (Nat → Int32) → (Nat → Int32) → (Nat → Int32) → (Nat → Int32) → (Nat → Int32) → (Nat → Int32) → (Nat → Int32) → (Nat → Int32) → (Nat → Int32) → (Nat → Int32) → (Nat → Int32) → (Nat → Int32) → (Nat → Int32) → (Nat → Int32) → (Nat → Int32) → (Nat → Int32) → (Nat → Int32) → (Nat → Int32) → (Nat → Int32) → (Nat → Int32) → Prop}
    {c i k q : Nat} {lq : List Nat} {hd : Nat → Nat} {ls : Nat → List Nat} (hik : i < k) (h3 : k ≤ 3) (h0 : ∀ r, r < 4 → hd r = 0) (hq : q < 10) (hr : la_row li ll 10 q lq) (hl : lq.length ≤ 10) (h10 : ∀ x, x ∈ lq → x < 10) (hlk : (ls k).length < 10)
    (K : ∀ mi me tc, xl_R hd (la_st (la_st ls i lq) k (ls k ++ [q])) mi mh me tc → J57 (nI (i + 1)) cL mL fL oL cC sC mC oC sT rV oT fC pa pc li ll an sg mi mh me tc mb ck cn cb bl co ca ob oF ou cp cq aa ab po od oN) :
    ∀ f j mi me tc, j ≤ lq.length → lq.length - j < f → xl_R hd (la_st ls i (lq.take j)) mi mh me tc → wX_loadLists_77 post J57 (nI c) (nI k) (nI i) (nI q) f (nI j) cL mL fL oL cC sC mC oC sT rV oT fC pa pc li ll an sg mi mh me tc mb ck cn cb bl co ca ob oF ou cp cq aa ab po od oN := by
  intro f
  induction f with
  | zero => intro j mi me tc _ h; omega
  | succ f ih =>
    intro j mi me tc hj hf hI
    refine And.intro (vp_in_nI hq (by decide)) ?_
    refine pk_le lq.length j (fun z => ?_) (fun z => ?_) (by rw [nI_clamp (by omega)]; exact hr.1)
    · rw [List.take_of_length_le z] at hI
      refine xw_addItem hI (by omega) (h0 k (by omega)) (by rw [la_sn (by omega)]; exact hlk) hq (fun mi' me' tc' hI' => ?_)
      rw [la_sn (f := ls) (i := i) (j := k) (by omega)] at hI'
      exact nm_r (nI_1 i) (K _ _ _ hI')
    · have e1 : nI q * 10 + nI j = nI (q * 10 + j) := by rw [nu_m10, nI_add]
      have e2 : li (nI q * 10 + nI j).toNatClampNeg = nI (lq.getD j 0) := by rw [e1, nI_clamp (by omega)]; exact hr.2 j z
      rw [e2, e1]
      refine ⟨vp_in_nI (by omega) (by decide), xw_addItem hI (by omega) (h0 i (by omega)) (by rw [la_ss, List.length_take]; omega) (h10 _ (la_gm z)) (fun mi' me' tc' hI' => ?_)⟩
      rw [la_ss, la_su, ← la_tk z] at hI'
      exact nm_r (nI_1 j) (ih (j + 1) _ _ _ (by omega) (by omega) hI')
theorem xw_load57 {post : SX → Prop} {c : Nat} {p : List Nat} {L : Nat → List Nat} {hd : Nat → Nat} (hc : c < 10) (h3 : p.length ≤ 3) (hrow : la_row pa pc 3 c p) (hrows : ∀ q, q ∈ p → q < 10 ∧ la_row li ll 10 q (L q) ∧ (L q).length ≤ 10 ∧ ∀ x, x ∈ L q → x < 10) (h0 : ∀ r, r < 4 → hd r = 0)
    (K : ∀ mi me tc, xl_R hd (cm_ls L p) mi mh me tc → post (cL, mL, fL, oL, cC, sC, mC, oC, sT, rV, oT, fC, pa, pc, li, ll, an, sg, mi, mh, me, tc, mb, ck, cn, cb, bl, co, ca, ob, oF, ou, cp, cq, aa, ab, po, od, oN)) :
    ∀ f i mi me tc, i ≤ p.length → p.length - i < f → xl_R hd (cm_li L p i) mi mh me tc → wX_loadLists_57 post (nI c) (nI p.length) f (nI i) cL mL fL oL cC sC mC oC sT rV oT fC pa pc li ll an sg mi mh me tc mb ck cn cb bl co ca ob oF ou cp cq aa ab po od oN := by
  intro f
  induction f with
  | zero => intro i mi me tc _ h; omega
  | succ f ih =>
    intro i mi me tc hi hf hI
    refine pk_le p.length i (fun z => ?_) (fun z => ?_)
    · have e : i = p.length := by omega
      rw [e, cm_li_e] at hI
      exact K _ _ _ hI
    · have e1 : nI c * 3 + nI i = nI (c * 3 + i) := by rw [nu_m3, nI_add]
      have e2 : pa (nI c * 3 + nI i).toNatClampNeg = nI (p.getD i 0) := by rw [e1, nI_clamp (by omega)]; exact hrow.2 i z
      obtain ⟨q1, q2, q3, q4⟩ := hrows _ (la_gm (d := 0) z)
      refine And.intro (by rw [e1]; exact vp_in_nI (by omega) (by decide)) (nm_r e2 (Exists.intro ((L (p.getD i 0)).length + 1) ?_))
      refine xw_load77 (ls := cm_li L p i) z h3 h0 q1 q2 q3 q4 (by rw [cm_li_k hi, List.length_take]; omega) (fun mi' me' tc' h' => ih (i + 1) mi' me' tc' (by omega) (by omega) (by rw [← cm_li_s z]; exact h')) _ 0 mi me tc (Nat.zero_le _) (by omega) ?_
      rw [List.take_zero, la_si (cm_li_i z)]
      exact hI
theorem xw_load23 {post : SX → Prop} {c : Nat} {p : List Nat} {L : Nat → List Nat} (hc : c < 10) (h3 : p.length ≤ 3) (hrow : la_row pa pc 3 c p) (hrows : ∀ q, q ∈ p → q < 10 ∧ la_row li ll 10 q (L q) ∧ (L q).length ≤ 10 ∧ ∀ x, x ∈ L q → x < 10) (ht : ∀ x, x < 10 → tc x = 0)
    (K : ∀ hd mi mh me tc, xl_R hd (cm_ls L p) mi mh me tc → post (cL, mL, fL, oL, cC, sC, mC, oC, sT, rV, oT, fC, pa, pc, li, ll, an, sg, mi, mh, me, tc, mb, ck, cn, cb, bl, co, ca, ob, oF, ou, cp, cq, aa, ab, po, od, oN)) :
    ∀ f i mh me, i ≤ 4 → 4 - i < f → (∀ r, r < i → mh r = 0 ∧ me r = 0) → wX_loadLists_23 post (nI c) cL mL fL oL cC sC mC oC sT rV oT fC f (nI i) pa pc li ll an sg mi mh me tc mb ck cn cb bl co ca ob oF ou cp cq aa ab po od oN := by
  intro f
  induction f with
  | zero => intro i mh me _ h; omega
  | succ f ih =>
    intro i mh me hi hf hI
    refine pk_le 4 i (fun z => ?_) (fun z => ?_)
    · refine And.intro (vp_in_nI hc (by decide)) (nm_r (e' := nI p.length) (by rw [nI_clamp (by omega)]; exact hrow.1) (Exists.intro (p.length + 1) ?_))
      refine xw_load57 (hd := fun _ => 0) hc h3 hrow hrows (fun _ _ => rfl) (fun mi' me' tc' h' => K _ _ _ _ _ h') _ 0 mi me tc (Nat.zero_le _) (by omega) ⟨fun r hr => ?_, fun x hx => ?_⟩
      · obtain ⟨a, b⟩ := hI r (by omega)
        rw [cm_li_0]
        exact ⟨a, b, by show 0 + 0 ≤ 10; decide, fun j hj => absurd hj (by simp), fun x hx => absurd hx (by simp)⟩
      · rw [ht x hx]
        unfold cm_tc
        rw [cm_li_0, cm_li_0, cm_li_0, cm_li_0]
        rfl
    · refine And.intro (vp_in_nI z (by decide)) (nm_r (e' := upd mh i 0) (by rw [nI_clamp (by omega)]) (And.intro (vp_in_nI z (by decide)) (nm_r (e' := upd me i 0) (by rw [nI_clamp (by omega)]) (nm_r (nI_1 i) (ih (i + 1) _ _ (by omega) (by omega) (fun r hr => ?_))))))
      by_cases q : r = i
      · rw [q, pk_us, pk_us]; exact ⟨rfl, rfl⟩
      · rw [pk_un q, pk_un q]; exact hI r (by omega)
theorem xw_load {post : SX → Prop} {c : Nat} {p : List Nat} {L : Nat → List Nat} (hc : c < 10) (h3 : p.length ≤ 3) (hrow : la_row pa pc 3 c p) (hrows : ∀ q, q ∈ p → q < 10 ∧ la_row li ll 10 q (L q) ∧ (L q).length ≤ 10 ∧ ∀ x, x ∈ L q → x < 10)
    (K : ∀ hd mi mh me tc, xl_R hd (cm_ls L p) mi mh me tc → post (cL, mL, fL, oL, cC, sC, mC, oC, sT, rV, oT, fC, pa, pc, li, ll, an, sg, mi, mh, me, tc, mb, ck, cn, cb, bl, co, ca, ob, oF, ou, cp, cq, aa, ab, po, od, oN)) : wpX_loadLists post (cL, mL, fL, oL, cC, sC, mC, oC, sT, rV, oT, fC, pa, pc, li, ll, an, sg, mi, mh, me, tc, mb, ck, cn, cb, bl, co, ca, ob, oF, ou, cp, cq, aa, ab, po, od, oN) (nI c) := by
  have key : ∀ f i tc, i ≤ 10 → 10 - i < f → (∀ x, x < i → tc x = 0) → wX_loadLists_2 post (nI c) cL mL fL oL cC sC mC oC sT rV oT fC f (nI i) pa pc li ll an sg mi mh me tc mb ck cn cb bl co ca ob oF ou cp cq aa ab po od oN := by
    intro f
    induction f with
    | zero => intro i tc _ h; omega
    | succ f ih =>
      intro i tc hi hf hI
      refine pk_le 10 i (fun z => ?_) (fun z => ?_)
      · exact Exists.intro 5 (xw_load23 hc h3 hrow hrows (fun x hx => hI x (by omega)) K 5 0 mh me (by omega) (by omega) (fun r hr => absurd hr (by omega)))
      · refine And.intro (vp_in_nI z (by decide)) (nm_r (e' := upd tc i 0) (by rw [nI_clamp (by omega)]) (nm_r (nI_1 i) (ih (i + 1) _ (by omega) (by omega) (fun x hx => ?_))))
        by_cases q : x = i
        · rw [q, pk_us]
        · rw [pk_un q]; exact hI x (by omega)
  exact Exists.intro 11 (key 11 0 tc (by omega) (by omega) (fun x hx => absurd hx (by omega)))
theorem xw_acc {hd : Nat → Nat} {ls : Nat → List Nat} {post : Int32 → Prop} (h : xl_R hd ls mi mh me tc) (K : post (oI (cm_pf ls 4 0))) : wpX_acceptable post (cL, mL, fL, oL, cC, sC, mC, oC, sT, rV, oT, fC, pa, pc, li, ll, an, sg, mi, mh, me, tc, mb, ck, cn, cb, bl, co, ca, ob, oF, ou, cp, cq, aa, ab, po, od, oN) := by
  have key : ∀ f i, i ≤ 4 → 4 - i < f → post (oI (cm_pf ls (4 - i) i)) → wX_acceptable_2 post cL mL fL oL cC sC mC oC sT rV oT fC pa pc li ll an sg mi mh me tc mb ck cn cb bl co ca ob oF ou cp cq aa ab po od oN f (nI i) := by
    intro f
    induction f with
    | zero => intro i _ h; omega
    | succ f ih =>
      intro i hi hf K
      refine pk_le 4 i (fun z => ?_) (fun z => ?_)
      · rw [show 4 - i = 0 by omega] at K
        exact K
      · obtain ⟨a, b, c, d, e⟩ := h.1 i z
        have ci : (nI i).toNatClampNeg = i := nI_clamp (by omega)
        have nx : cm_pf ls (4 - i) i = cm_pf ls (4 - (i + 1)) (i + 1) → ∀ y, y = nI i + 1 → wX_acceptable_2 post cL mL fL oL cC sC mC oC sT rV oT fC pa pc li ll an sg mi mh me tc mb ck cn cb bl co ca ob oF ou cp cq aa ab po od oN f y := fun q => nm_r (nI_1 i) (ih (i + 1) (by omega) (by omega) (by rw [← q]; exact K))
        have e4 : 4 - i = (4 - (i + 1)) + 1 := by omega
        refine And.intro (vp_in_nI z (by decide)) (And.intro (vp_in_nI z (by decide)) ?_)
        rw [ci, a, b]
        refine pk_le (hd i + (ls i).length) (hd i) (fun y => ?_) (fun y => ?_)
        · exact nx (by rw [e4, cm_pf_n (List.length_eq_zero_iff.mp (by omega))])
        · cases q : ls i with
          | nil => rw [q] at y; exact absurd y (by simp)
          | cons x t =>
            have hx : x < 10 := e x (by rw [q]; exact List.mem_cons_self)
            have e1 : nI i * 10 + nI (hd i) = nI (i * 10 + hd i) := by rw [nu_m10, nI_add]
            have e2 : mi (nI i * 10 + nI (hd i)).toNatClampNeg = nI x := by
              rw [e1, nI_clamp (by omega)]
              have := d 0 (by omega)
              rw [q, List.getD_cons_zero] at this
              exact this
            refine And.intro (vp_in_nI z (by decide)) (And.intro (by rw [e1]; exact vp_in_nI (by omega) (by decide)) (nm_r e2 (And.intro (vp_in_nI hx (by decide)) ?_)))
            rw [nI_clamp (n := x) (by omega), h.2 x hx]
            by_cases o : cm_ok ls x = true
            · refine br_t (by rw [cm_tc_0.mpr o]; exact nI_0) ?_
              rw [e4, cm_pf_t q o] at K
              exact K
            · refine br_f (nI_ne0 (Nat.pos_of_ne_zero (fun w => o (cm_tc_0.mp w))) (by have := xl_tb h x; omega)) (nx ?_)
              rw [e4, cm_pf_f q o]
  exact Exists.intro 5 (key 5 0 (by omega) (by omega) K)
def cm_di (ls : Nat → List Nat) (x i : Nat) : Nat → List Nat := fun r => if r < i then cm_dr ls x r else ls r
theorem cm_di_i {ls : Nat → List Nat} {x i : Nat} : cm_di ls x i i = ls i := by unfold cm_di; rw [if_neg (by omega)]
theorem cm_di_k {ls : Nat → List Nat} {x i : Nat} (h : cm_dr ls x i = ls i) : cm_di ls x (i + 1) = cm_di ls x i := by
  funext r
  unfold cm_di
  by_cases a : r < i
  · rw [if_pos a, if_pos (by omega)]
  · rw [if_neg a]
    by_cases b : r = i
    · rw [if_pos (by omega), b, h]
    · rw [if_neg (by omega)]
theorem cm_di_s {ls : Nat → List Nat} {x i : Nat} {t : List Nat} (h : ls i = x :: t) : la_st (cm_di ls x i) i t = cm_di ls x (i + 1) := by
  funext r
  by_cases b : r = i
  · rw [b, la_ss]
    unfold cm_di cm_dr
    rw [if_pos (by omega), h, if_pos (by rfl)]; rfl
  · rw [la_sn b]
    unfold cm_di
    by_cases a : r < i
    · rw [if_pos a, if_pos (by omega)]
    · rw [if_neg a, if_neg (by omega)]
theorem cm_dr_n {ls : Nat → List Nat} {x i : Nat} (h : ls i = []) : cm_dr ls x i = ls i := by
  unfold cm_dr; rw [h]; rfl
theorem cm_dr_o {ls : Nat → List Nat} {x y i : Nat} {t : List Nat} (h : ls i = y :: t) (n : y ≠ x) : cm_dr ls x i = ls i := by
  unfold cm_dr
  rw [if_neg]
  rw [h, List.head?_cons]
  intro q
  exact n (Option.some.inj q)
theorem xw_drop {hd : Nat → Nat} {ls : Nat → List Nat} {x : Nat} {post : SX → Prop} (h : xl_R hd ls mi mh me tc) (hx : x < 10)
    (K : ∀ hd' mh' tc', xl_R hd' (cm_dr ls x) mi mh' me tc' → post (cL, mL, fL, oL, cC, sC, mC, oC, sT, rV, oT, fC, pa, pc, li, ll, an, sg, mi, mh', me, tc', mb, ck, cn, cb, bl, co, ca, ob, oF, ou, cp, cq, aa, ab, po, od, oN)) : wpX_dropFront post (cL, mL, fL, oL, cC, sC, mC, oC, sT, rV, oT, fC, pa, pc, li, ll, an, sg, mi, mh, me, tc, mb, ck, cn, cb, bl, co, ca, ob, oF, ou, cp, cq, aa, ab, po, od, oN) (nI x) := by
  have key : ∀ f i hd mh tc, i ≤ 4 → 4 - i < f → xl_R hd (cm_di ls x i) mi mh me tc → wX_dropFront_2 post (nI x) cL mL fL oL cC sC mC oC sT rV oT fC f (nI i) pa pc li ll an sg mi mh me tc mb ck cn cb bl co ca ob oF ou cp cq aa ab po od oN := by
    intro f
    induction f with
    | zero => intro i hd mh tc _ h; omega
    | succ f ih =>
      intro i hd mh tc hi hf hI
      refine pk_le 4 i (fun z => ?_) (fun z => ?_)
      · exact K hd mh tc (xl_c hI (fun r hr => by unfold cm_di; rw [if_pos (by omega)]))
      · obtain ⟨a, b, c, d, e⟩ := hI.1 i z
        rw [cm_di_i] at b c d e
        have ci : (nI i).toNatClampNeg = i := nI_clamp (by omega)
        have sk : cm_dr ls x i = ls i → ∀ y, y = nI i + 1 → wX_dropFront_2 post (nI x) cL mL fL oL cC sC mC oC sT rV oT fC f y pa pc li ll an sg mi mh me tc mb ck cn cb bl co ca ob oF ou cp cq aa ab po od oN := fun q => nm_r (nI_1 i) (ih (i + 1) hd mh tc (by omega) (by omega) (by rw [cm_di_k q]; exact hI))
        refine And.intro (vp_in_nI z (by decide)) (nm_r (e' := nI (hd i)) (by rw [ci]; exact a) (And.intro (vp_in_nI z (by decide)) ?_))
        rw [ci, b]
        refine pk_le (hd i + (ls i).length) (hd i) (fun y => ?_) (fun y => ?_)
        · exact sk (cm_dr_n (List.length_eq_zero_iff.mp (by omega)))
        · cases q : ls i with
          | nil => rw [q] at y; exact absurd y (by simp)
          | cons w t =>
            have hw : w < 10 := e w (by rw [q]; exact List.mem_cons_self)
            rw [q] at b c d e
            rw [List.length_cons] at b c d
            have e1 : nI i * 10 + nI (hd i) = nI (i * 10 + hd i) := by rw [nu_m10, nI_add]
            have e2 : mi (nI i * 10 + nI (hd i)).toNatClampNeg = nI w := by
              rw [e1, nI_clamp (by omega)]
              have := d 0 (by omega)
              rw [List.getD_cons_zero] at this
              exact this
            refine And.intro (by rw [e1]; exact vp_in_nI (by omega) (by decide)) ?_
            rw [e2]
            refine pk_eq w x (fun g => ?_) (fun g => sk (cm_dr_o q g))
            subst g
            refine nm_r (nI_1 (hd i)) (And.intro (vp_in_nI z (by decide)) (nm_r (e' := upd mh i (nI (hd i + 1))) rfl (And.intro (vp_in_nI z (by decide)) ?_)))
            refine pk_le (hd i + (t.length + 1)) (hd i + 1) (fun y2 => ?_) (fun y2 => ?_)
            · have t0 : t = [] := List.length_eq_zero_iff.mp (by omega)
              subst t0
              have q' : cm_di ls w i i = [w] := by rw [cm_di_i]; exact q
              have := xl_drop hI z q' (xl_t0 hI z q')
              rw [cm_di_s q] at this
              exact nm_r (nI_1 i) (ih (i + 1) _ _ _ (by omega) (by omega) this)
            · cases t with
              | nil => exact absurd y2 (by simp)
              | cons v t =>
                have hv : v < 10 := e v (by simp)
                have e3 : nI i * 10 + nI (hd i + 1) = nI (i * 10 + (hd i + 1)) := by rw [nu_m10, nI_add]
                have e4 : mi (nI i * 10 + nI (hd i + 1)).toNatClampNeg = nI v := by
                  rw [e3, nI_clamp (by omega)]
                  have := d 1 (by omega)
                  exact this
                have q' : cm_di ls w i i = w :: v :: t := by rw [cm_di_i]; exact q
                obtain ⟨p0, p1⟩ := xl_t1 hI z q'
                have := xl_drop hI z q' p1
                rw [cm_di_s q] at this
                rw [e4, e3]
                refine And.intro (vp_in_nI (by omega) (by decide)) (And.intro (vp_in_nI hv (by decide)) (And.intro (vp_in_nI hv (by decide)) (nm_r (e' := upd tc v (nI (cm_tc (cm_di ls w i) v - 1))) ?_ (nm_r (nI_1 i) (ih (i + 1) _ _ _ (by omega) (by omega) this)))))
                rw [nI_clamp (by omega), hI.2 v hv, nu_s1 p0]
  exact Exists.intro 5 (key 5 0 hd mh tc (by omega) (by omega) (xl_c h (fun r _ => by unfold cm_di; rw [if_neg (by omega)])))
theorem xw_emp {hd : Nat → Nat} {ls : Nat → List Nat} {post : Int32 → Prop} (h : xl_R hd ls mi mh me tc) (K1 : cm_e ls → post 1) (K0 : ¬ cm_e ls → post 0) : wpX_listsEmpty post (cL, mL, fL, oL, cC, sC, mC, oC, sT, rV, oT, fC, pa, pc, li, ll, an, sg, mi, mh, me, tc, mb, ck, cn, cb, bl, co, ca, ob, oF, ou, cp, cq, aa, ab, po, od, oN) := by
  have key : ∀ f i, i ≤ 4 → 4 - i < f → (∀ r, r < i → ls r = []) → wX_listsEmpty_2 post cL mL fL oL cC sC mC oC sT rV oT fC pa pc li ll an sg mi mh me tc mb ck cn cb bl co ca ob oF ou cp cq aa ab po od oN f (nI i) := by
    intro f
    induction f with
    | zero => intro i _ h; omega
    | succ f ih =>
      intro i hi hf hI
      refine pk_le 4 i (fun z => ?_) (fun z => ?_)
      · exact K1 (fun r hr => hI r (by omega))
      · obtain ⟨a, b, c, d, e⟩ := h.1 i z
        have ci : (nI i).toNatClampNeg = i := nI_clamp (by omega)
        refine And.intro (vp_in_nI z (by decide)) (And.intro (vp_in_nI z (by decide)) ?_)
        rw [ci, a, b]
        refine pk_le (hd i + (ls i).length) (hd i) (fun y => ?_) (fun y => ?_)
        · refine nm_r (nI_1 i) (ih (i + 1) (by omega) (by omega) (fun r hr => ?_))
          by_cases q : r = i
          · rw [q]; exact List.length_eq_zero_iff.mp (by omega)
          · exact hI r (by omega)
        · refine K0 (fun w => ?_)
          rw [w i z] at y
          exact absurd y (by simp)
  exact Exists.intro 5 (key 5 0 (by omega) (by omega) (fun r hr => absurd hr (by omega)))
/-- all rows but row c stay -/
def xl_off (c : Nat) (li ll an li' ll' an' : Nat → Int32) : Prop := (∀ j, j < c * 10 ∨ c * 10 + 10 ≤ j → li' j = li j) ∧ (∀ j, j ≠ c → ll' j = ll j) ∧ (∀ j, j ≠ c → an' j = an j)
theorem xw_lin30 {post : Int32 → SX → Prop} {c : Nat} {l0 : Nat → List Nat} {li0 : Nat → Int32} (hc : c < 10)
    (K1 : ∀ acc li' ll' an' mh' tc', cm_run c l0 = some acc → la_row li' ll' 10 c (c :: acc) → bs_is (an' c) (c :: acc) → xl_off c li0 ll an li' ll' an' → post 1 (cL, mL, fL, oL, cC, sC, mC, oC, sT, rV, oT, fC, pa, pc, li', ll', an', sg, mi, mh', me, tc', mb, ck, cn, cb, bl, co, ca, ob, oF, ou, cp, cq, aa, ab, po, od, oN))
    (K0 : ∀ li' ll' an' mh' tc', cm_run c l0 = none → xl_off c li0 ll an li' ll' an' → post 0 (cL, mL, fL, oL, cC, sC, mC, oC, sT, rV, oT, fC, pa, pc, li', ll', an', sg, mi, mh', me, tc', mb, ck, cn, cb, bl, co, ca, ob, oF, ou, cp, cq, aa, ab, po, od, oN)) :
    ∀ f acc hd ls li mh tc st, c - acc.length < f → cm_I c l0 acc ls → xl_R hd ls mi mh me tc → (∀ j, j < (c :: acc).length → li (c * 10 + j) = nI ((c :: acc).getD j 0)) → (∀ j, j < c * 10 ∨ c * 10 + 10 ≤ j → li j = li0 j) → bs_is st (c :: acc) →
      wX_linearise_30 post (nI c) f (nI (1 + acc.length)) st (oI (cm_pf ls 4 0)) (nI acc.length) cL mL fL oL cC sC mC oC sT rV oT fC pa pc li ll an sg mi mh me tc mb ck cn cb bl co ca ob oF ou cp cq aa ab po od oN := by
  intro f
  induction f with
  | zero => intro acc hd ls li mh tc st h; omega
  | succ f ih =>
    intro acc hd ls li mh tc st hf hI hR hli ho hs
    have hl := cm_Il hI
    have fin : cm_pf ls 4 0 = none → wX_linearise_90 post (nI c) (nI (1 + acc.length)) st cL mL fL oL cC sC mC oC sT rV oT fC pa pc li ll an sg mi mh me tc mb ck cn cb bl co ca ob oF ou cp cq aa ab po od oN := fun hp => by
      have ci : (nI c).toNatClampNeg = c := nI_clamp (by omega)
      refine And.intro (vp_in_nI hc (by decide)) (nm_r (e' := upd ll c (nI (1 + acc.length))) (by rw [ci]) (And.intro (vp_in_nI hc (by decide)) (nm_r (e' := upd an c st) (by rw [ci]) ?_)))
      have off : xl_off c li0 ll an li (upd ll c (nI (1 + acc.length))) (upd an c st) := ⟨ho, fun j hj => pk_un hj, fun j hj => pk_un hj⟩
      refine xw_emp hR (fun e => ⟨by rfl, ?_⟩) (fun e => ⟨by rfl, ?_⟩)
      · refine K1 acc _ _ _ _ _ (cm_Id hI e) ⟨?_, hli⟩ (by rw [pk_us]; exact hs) off
        rw [pk_us, List.length_cons]
        exact congrArg nI (by omega)
      · exact K0 _ _ _ _ _ (cm_In hI e hp) off
    refine pk_le 10 acc.length (fun z => absurd z (by omega)) (fun z => ?_)
    cases hp : cm_pf ls 4 0 with
    | none => exact br_t rfl (fin hp)
    | some x =>
      obtain ⟨hI', hlt, hx⟩ := cm_Is hI hp
      refine br_f (nu_ne1 (by omega)) (pk_le 10 (1 + acc.length) (fun z => absurd z (by omega)) (fun z => ?_))
      have e1 : nI c * 10 + nI (1 + acc.length) = nI (c * 10 + (1 + acc.length)) := by rw [nu_m10, nI_add]
      rw [e1, nI_clamp (by omega)]
      refine And.intro (vp_in_nI (by omega) (by decide)) (nm_e (nm_r (nI_1 (1 + acc.length)) (nm_e (xw_drop hR (by omega) (fun hd' mh' tc' hR' => ?_)))))
      refine xw_acc hR' (nm_r (nI_1 acc.length) ?_)
      have := ih (acc ++ [x]) hd' (cm_dr ls x) (upd li (c * 10 + (1 + acc.length)) (nI x)) mh' tc' (st ||| ((1 : Int32) <<< (nI x &&& 31))) (by rw [List.length_append, List.length_singleton]; omega) hI' hR' (fun j hj => ?_) (fun j hj => ?_) (bs_is_s (by omega) hs)
      · rw [List.length_append, List.length_singleton, ← Nat.add_assoc] at this
        exact this
      · have hj' : j < acc.length + 2 := by simpa using hj
        rw [← List.cons_append]
        rcases Nat.lt_or_ge j (acc.length + 1) with q | q
        · rw [pk_un (by omega), la_gl (by rw [List.length_cons]; exact q)]
          exact hli j (by rw [List.length_cons]; exact q)
        · have q' : j = (c :: acc).length := by rw [List.length_cons]; omega
          rw [q', la_ge, List.length_cons, show c * 10 + (acc.length + 1) = c * 10 + (1 + acc.length) by omega, pk_us]
      · rw [pk_un (by omega)]; exact ho j hj
theorem xw_lin {post : Int32 → SX → Prop} {c : Nat} {p : List Nat} {L : Nat → List Nat} (hc : c < 10) (h3 : p.length ≤ 3) (hrow : la_row pa pc 3 c p) (hrows : ∀ q, q ∈ p → q < c ∧ la_row li ll 10 q (L q) ∧ (L q).length ≤ 10 ∧ ∀ x, x ∈ L q → x < c)
    (K1 : ∀ l li' ll' an' mi' mh' me' tc', cm_lin L p c = some l → la_row li' ll' 10 c l → bs_is (an' c) l → xl_off c li ll an li' ll' an' → post 1 (cL, mL, fL, oL, cC, sC, mC, oC, sT, rV, oT, fC, pa, pc, li', ll', an', sg, mi', mh', me', tc', mb, ck, cn, cb, bl, co, ca, ob, oF, ou, cp, cq, aa, ab, po, od, oN))
    (K0 : ∀ li' ll' an' mi' mh' me' tc', cm_lin L p c = none → xl_off c li ll an li' ll' an' → post 0 (cL, mL, fL, oL, cC, sC, mC, oC, sT, rV, oT, fC, pa, pc, li', ll', an', sg, mi', mh', me', tc', mb, ck, cn, cb, bl, co, ca, ob, oF, ou, cp, cq, aa, ab, po, od, oN)) : wpX_linearise post (cL, mL, fL, oL, cC, sC, mC, oC, sT, rV, oT, fC, pa, pc, li, ll, an, sg, mi, mh, me, tc, mb, ck, cn, cb, bl, co, ca, ob, oF, ou, cp, cq, aa, ab, po, od, oN) (nI c) := by
  refine xw_load (L := L) hc h3 hrow (fun q hq => ?_) (fun hd mi mh me tc hR => ?_)
  · obtain ⟨a, b, d, e⟩ := hrows q hq
    exact ⟨by omega, b, d, fun x hx => by have := e x hx; omega⟩
  have hlt : ∀ i, i < 4 → ∀ x, x ∈ cm_ls L p i → x < c := fun i _ x hx => by
    rcases cm_ls_m hx with ⟨q, hq, m⟩ | m
    · exact (hrows q hq).2.2.2 x m
    · exact (hrows x m).1
  have e1 : nI c * 10 = nI (c * 10) := nu_m10 c
  have ci : (nI (c * 10)).toNatClampNeg = c * 10 := nI_clamp (by omega)
  refine And.intro (by rw [e1]; exact vp_in_nI (by omega) (by decide)) (nm_r (e' := upd li (c * 10) (nI c)) (by rw [e1, ci]) (nm_e (xw_acc hR (Exists.intro (c + 1) ?_))))
  have off : ∀ j, j < c * 10 ∨ c * 10 + 10 ≤ j → upd li (c * 10) (nI c) j = li j := fun j hj => pk_un (by omega)
  refine xw_lin30 (li0 := li) (l0 := cm_ls L p) hc (fun acc li' ll' an' mh' tc' hr h1 h2 h3 => K1 (c :: acc) _ _ _ _ _ _ _ (by unfold cm_lin; rw [hr]; rfl) h1 h2 h3) (fun li' ll' an' mh' tc' hr h3 => K0 _ _ _ _ _ _ _ (by unfold cm_lin; rw [hr]; rfl) h3) _ [] hd _ _ mh tc _ (by show c - 0 < c + 1; omega) (cm_I0 hlt) hR (fun j hj => ?_) off (bs_is_1 (by omega))
  have hj' : j = 0 := by
    have : j < 1 := hj
    omega
  rw [hj', Nat.add_zero, pk_us]
  rfl
end XLIN
end
section
section YORD
variable {cL mL fL oL cC mC oC fC sT rV oT : Int32} {qa qc mg ms mt mB co ca bl ob oF cp cq od oN aa ab po ou yl yn ys ye yf : Nat → Int32}
/-- Y's lists 0 .. k hold ls -/
def yo_R (k : Nat) (ls : Nat → List Nat) (ys ye : Nat → Int32) : Prop := ∀ i, i ≤ k → ye i = nI (ls i).length ∧ (ls i).length ≤ 10 ∧ ∀ j, j < (ls i).length → ys (i * 10 + j) = nI ((ls i).getD j 0)
theorem yw_acc {k x : Nat} {ls : Nat → List Nat} {post : Int32 → Prop} (hk : k ≤ 3) (hR : yo_R k ls ys ye) (hz : ∀ i, k < i → i < 4 → ls i = []) (hx : x < 10) (h10 : ∀ i, i < 4 → ∀ y, y ∈ ls i → y < 10) (K1 : cm_ok ls x = true → post 1) (K0 : ¬ cm_ok ls x = true → post 0) : wpY_acceptable post (cL, mL, fL, oL, cC, mC, oC, fC, sT, rV, oT, qa, qc, mg, ms, mt, mB, co, ca, bl, ob, oF, cp, cq, od, oN, aa, ab, po, ou, yl, yn, ys, ye, yf) (nI x) (nI k) := by
  have inner : ∀ (J : Int32 → Prop) i, i ≤ k → (x ∉ (ls i).tail → J (nI (i + 1))) → ∀ f j, 1 ≤ j → j ≤ 11 → (ls i).length + 1 - j < f → (∀ m, m + 1 < j → m < (ls i).tail.length → (ls i).tail.getD m 0 ≠ x) → wY_acceptable_10 post J (nI x) (nI k) (nI i) cL mL fL oL cC mC oC fC sT rV oT qa qc mg ms mt mB co ca bl ob oF cp cq od oN aa ab po ou yl yn ys ye yf f (nI j) := by
    intro J i hi KJ f
    obtain ⟨a, b, c⟩ := hR i hi
    have ci : (nI i).toNatClampNeg = i := nI_clamp (by omega)
    have tl : (ls i).tail.length = (ls i).length - 1 := List.length_tail
    have tg : ∀ m, m + 1 < (ls i).length → (ls i).tail.getD m 0 = (ls i).getD (m + 1) 0 := fun m hm => by
      cases q : ls i with
      | nil => rw [q] at hm; exact absurd hm (by simp)
      | cons h t => rw [List.getD_cons_succ]; rfl
    induction f with
    | zero => intro j _ _ h; omega
    | succ f ih =>
      intro j h1 h11 hf hI
      refine And.intro (vp_in_nI (by omega) (by decide)) (pk_le (ls i).length j (fun z => ?_) (fun z => ?_) (by rw [ci]; exact a))
      · refine nm_r (nI_1 i) (KJ (fun hm => ?_))
        obtain ⟨m, hm1, hm2⟩ := la_ml (d := 0) hm
        exact hI m (by omega) hm1 hm2
      · have e1 : nI i * 10 + nI j = nI (i * 10 + j) := by rw [nu_m10, nI_add]
        have e2 : ys (nI i * 10 + nI j).toNatClampNeg = nI ((ls i).getD j 0) := by rw [e1, nI_clamp (by omega)]; exact c j z
        have hg : (ls i).getD j 0 < 10 := h10 i (by omega) _ (la_gm z)
        rw [e2, e1]
        refine And.intro (vp_in_nI (by omega) (by decide)) (pk_eq ((ls i).getD j 0) x (fun q => ?_) (fun q => ?_))
        · refine K0 (fun o => cm_ok_t.mp o i (by omega) ?_)
          have hj : j - 1 < (ls i).tail.length := by omega
          have := la_gm (d := 0) hj
          rw [tg (j - 1) (by omega), show j - 1 + 1 = j by omega, q] at this
          exact this
        · refine nm_r (nI_1 j) (ih (j + 1) (by omega) (by omega) (by omega) (fun m hm hm2 => ?_))
          rcases Nat.lt_or_ge (m + 1) j with w | w
          · exact hI m w hm2
          · have : m + 1 = j := by omega
            rw [tg m (by omega), this]
            exact q
  have key : ∀ f i, i ≤ k + 1 → k + 1 - i < f → (∀ r, r < i → x ∉ (ls r).tail) → wY_acceptable_2 post (nI x) (nI k) cL mL fL oL cC mC oC fC sT rV oT qa qc mg ms mt mB co ca bl ob oF cp cq od oN aa ab po ou yl yn ys ye yf f (nI i) := by
    intro f
    induction f with
    | zero => intro i _ h; omega
    | succ f ih =>
      intro i hi hf hI
      refine pk_lt k i (fun z => ?_) (fun z => ?_)
      · refine K1 (cm_ok_t.mpr (fun r hr => ?_))
        rcases Nat.lt_or_ge r i with w | w
        · exact hI r w
        · rw [hz r (by omega) hr]; simp
      · refine Exists.intro ((ls i).length + 1) (inner _ i z (fun hm => ih (i + 1) (by omega) (by omega) (fun r hr => ?_)) _ 1 (by omega) (by omega) (by omega) (fun m hm => absurd hm (by omega)))
        rcases Nat.lt_or_ge r i with w | w
        · exact hI r w
        · rw [show r = i by omega]; exact hm
  exact Exists.intro (k + 2) (key (k + 2) 0 (by omega) (by omega) (fun r hr => absurd hr (by omega)))
theorem yw_327 {post : Int32 → SY → Prop} {J2 J168 J293 : Int32 → (Nat → Int32) → (Nat → Int32) → (Nat → Int32) → (Nat → Int32) → (Nat → Int32) → (Nat → Int32) → (Nat → Int32) → (Nat → Int32) → (Nat → Int32) → (Nat → Int32) → (Nat → Int32) → (Nat → Int32) → (Nat → Int32) → (Nat → Int32) → (Nat → Int32) → (Nat → Int32) → (Nat → Int32) → (Nat → Int32) → (Nat → Int32) → (Nat → Int32) → (Nat → Int32) → (Nat → Int32) → (Nat → Int32) → (Nat → Int32) → Prop} {x1 x2 x3 x4 x5 : Int32} {i k h : Nat} {t : List Nat} {ls : Nat → List Nat} (hk : k ≤ 3) (hi : i ≤ k) (e : ls i = h :: t) (hye : ∀ r, r ≤ k → ye r = nI (ls r).length ∧ (ls r).length ≤ 10)
    (K : ∀ ys ye, yo_R k (la_st ls i t) ys ye → J293 (nI (i + 1)) qa qc mg ms mt mB co ca bl ob oF cp cq od oN aa ab po ou yl yn ys ye yf) :
    ∀ f j ys, 1 ≤ j → j ≤ t.length + 1 → t.length + 1 - j < f → (∀ r, r ≤ k → r ≠ i → ∀ m, m < (ls r).length → ys (r * 10 + m) = nI ((ls r).getD m 0)) → (∀ m, m + 1 < j → ys (i * 10 + m) = nI (t.getD m 0)) → (∀ m, j ≤ m + 1 → m < t.length + 1 → ys (i * 10 + m) = nI ((h :: t).getD m 0)) →
      wY_order_327 post J2 J168 J293 x1 x2 x3 x4 x5 (nI i) cL mL fL oL cC mC oC fC sT rV oT f (nI j) qa qc mg ms mt mB co ca bl ob oF cp cq od oN aa ab po ou yl yn ys ye yf := by
  obtain ⟨a, b⟩ := hye i hi
  rw [e, List.length_cons] at a b
  have ci : (nI i).toNatClampNeg = i := nI_clamp (by omega)
  intro f
  induction f with
  | zero => intro j ys _ _ h; omega
  | succ f ih =>
    intro j ys h1 hj hf ho hlo hhi
    refine And.intro (vp_in_nI (by omega) (by decide)) (pk_le (t.length + 1) j (fun z => ?_) (fun z => ?_) (by rw [ci]; exact a))
    · refine And.intro (vp_in_nI (by omega) (by decide)) (And.intro (vp_in_nI (by omega) (by decide)) (nm_r (e' := upd ye i (nI t.length)) (by rw [ci, a, nu_s1 (by omega)]; rfl) (nm_r (nI_1 i) (K _ _ (fun r hr => ?_)))))
      by_cases q : r = i
      · rw [q, la_ss, pk_us]
        exact ⟨rfl, by omega, fun m hm => hlo m (by omega)⟩
      · rw [la_sn q, pk_un q]
        exact ⟨(hye r hr).1, (hye r hr).2, ho r hr q⟩
    · have e1 : nI i * 10 + nI j = nI (i * 10 + j) := by rw [nu_m10, nI_add]
      have e2 : ys (nI (i * 10 + j)).toNatClampNeg = nI (t.getD (j - 1) 0) := by
        rw [nI_clamp (by omega), hhi j (by omega) z]
        obtain ⟨j', rfl⟩ : ∃ j', j = j' + 1 := ⟨j - 1, by omega⟩
        rw [List.getD_cons_succ]; rfl
      rw [e1, nu_s1 (by omega), e2, nI_clamp (n := i * 10 + j - 1) (by omega)]
      refine And.intro (vp_in_nI (by omega) (by decide)) (And.intro (vp_in_nI (by omega) (by decide)) (nm_e (nm_r (nI_1 j) (ih (j + 1) _ (by omega) (by omega) (by omega) (fun r hr hri m hm => ?_) (fun m hm => ?_) (fun m hm hm2 => ?_)))))
      · have := (hye r hr).2
        rw [pk_un (by omega)]
        exact ho r hr hri m hm
      · by_cases q : m + 1 = j
        · rw [show i * 10 + m = i * 10 + j - 1 by omega, pk_us, show j - 1 = m by omega]
        · rw [pk_un (by omega)]
          exact hlo m (by omega)
      · rw [pk_un (by omega)]
        exact hhi m (by omega) hm2
theorem yw_293 {post : Int32 → SY → Prop} {J2 J168 : Int32 → (Nat → Int32) → (Nat → Int32) → (Nat → Int32) → (Nat → Int32) → (Nat → Int32) → (Nat → Int32) → (Nat → Int32) → (Nat → Int32) → (Nat → Int32) → (Nat → Int32) → (Nat → Int32) → (Nat → Int32) → (Nat → Int32) → (Nat → Int32) → (Nat → Int32) → (Nat → Int32) → (Nat → Int32) → (Nat → Int32) → (Nat → Int32) → (Nat → Int32) → (Nat → Int32) → (Nat → Int32) → (Nat → Int32) → (Nat → Int32) → Prop} {x1 x2 : Int32} {j k x : Nat} {ls : Nat → List Nat} (hk : k ≤ 3) (hx : x < 10) (h10 : ∀ i, i < 4 → ∀ y, y ∈ ls i → y < 10)
    (K : ∀ ys ye, yo_R k (cm_dr ls x) ys ye → J168 (nI (j + 1)) qa qc mg ms mt mB co ca bl ob oF cp cq od oN aa ab po ou yl yn ys ye yf) :
    ∀ f i ys ye, i ≤ k + 1 → k + 1 - i < f → yo_R k (cm_di ls x i) ys ye → wY_order_293 post J2 J168 x1 x2 (nI k) (nI j) (nI x) cL mL fL oL cC mC oC fC sT rV oT f (nI i) qa qc mg ms mt mB co ca bl ob oF cp cq od oN aa ab po ou yl yn ys ye yf := by
  intro f
  induction f with
  | zero => intro i ys ye _ h; omega
  | succ f ih =>
    intro i ys ye hi hf hR
    refine pk_lt k i (fun z => ?_) (fun z => ?_)
    · refine nm_r (nI_1 j) (K _ _ (fun r hr => ?_))
      have := hR r hr
      unfold cm_di at this
      rw [if_pos (by omega)] at this
      exact this
    · obtain ⟨a, b, c⟩ := hR i z
      have ci : (nI i).toNatClampNeg = i := nI_clamp (by omega)
      have sk : cm_dr ls x i = ls i → ∀ y, y = nI i + 1 → wY_order_293 post J2 J168 x1 x2 (nI k) (nI j) (nI x) cL mL fL oL cC mC oC fC sT rV oT f y qa qc mg ms mt mB co ca bl ob oF cp cq od oN aa ab po ou yl yn ys ye yf := fun q => nm_r (nI_1 i) (ih (i + 1) ys ye (by omega) (by omega) (by rw [cm_di_k q]; exact hR))
      rw [cm_di_i] at a b c
      refine And.intro (vp_in_nI (by omega) (by decide)) (pk_le (ls i).length 0 (fun y => ?_) (fun y => ?_) (by rw [ci]; exact a))
      · exact sk (cm_dr_n (List.length_eq_zero_iff.mp (by omega)))
      · cases q : ls i with
        | nil => rw [q] at y; exact absurd y (by simp)
        | cons w t =>
          have hw : w < 10 := h10 i (by omega) w (by rw [q]; exact List.mem_cons_self)
          have e1 : nI i * 10 = nI (i * 10) := nu_m10 i
          have e2 : ys (nI i * 10).toNatClampNeg = nI w := by
            rw [e1, nI_clamp (by omega)]
            have := c 0 y
            rw [q, List.getD_cons_zero] at this
            exact this
          rw [e2, e1]
          refine And.intro (vp_in_nI (by omega) (by decide)) (pk_eq w x (fun g => ?_) (fun g => sk (cm_dr_o q g)))
          subst g
          have q' : cm_di ls w i i = w :: t := by rw [cm_di_i]; exact q
          refine Exists.intro (t.length + 1) (yw_327 hk z q' (fun r hr => ⟨(hR r hr).1, (hR r hr).2.1⟩) (fun ys' ye' h' => ih (i + 1) ys' ye' (by omega) (by omega) (by rw [cm_di_s q] at h'; exact h')) _ 1 ys (by omega) (by omega) (by omega) (fun r hr _ => (hR r hr).2.2) (fun m hm => absurd hm (by omega)) (fun m _ hm => ?_))
          have := c m (by rw [q]; exact hm)
          rw [q] at this
          exact this
theorem yw_293e {post : Int32 → SY → Prop} {J2 J168 : Int32 → (Nat → Int32) → (Nat → Int32) → (Nat → Int32) → (Nat → Int32) → (Nat → Int32) → (Nat → Int32) → (Nat → Int32) → (Nat → Int32) → (Nat → Int32) → (Nat → Int32) → (Nat → Int32) → (Nat → Int32) → (Nat → Int32) → (Nat → Int32) → (Nat → Int32) → (Nat → Int32) → (Nat → Int32) → (Nat → Int32) → (Nat → Int32) → (Nat → Int32) → (Nat → Int32) → (Nat → Int32) → (Nat → Int32) → (Nat → Int32) → Prop} {x1 x2 x5 : Int32} {j k : Nat} {ls : Nat → List Nat} (hk : k ≤ 3) (hR : yo_R k ls ys ye) (he : cm_e ls)
    (K : J168 (nI (j + 1)) qa qc mg ms mt mB co ca bl ob oF cp cq od oN aa ab po ou yl yn ys ye yf) :
    ∀ f i, i ≤ k + 1 → k + 1 - i < f → wY_order_293 post J2 J168 x1 x2 (nI k) (nI j) x5 cL mL fL oL cC mC oC fC sT rV oT f (nI i) qa qc mg ms mt mB co ca bl ob oF cp cq od oN aa ab po ou yl yn ys ye yf := by
  intro f
  induction f with
  | zero => intro i _ h; omega
  | succ f ih =>
    intro i hi hf
    refine pk_lt k i (fun z => ?_) (fun z => ?_)
    · exact nm_r (nI_1 j) K
    · have a := (hR i z).1
      rw [he i (by omega)] at a
      exact And.intro (vp_in_nI (by omega) (by decide)) (br_t (by rw [nI_clamp (by omega), a]; exact Int32.le_refl _) (nm_r (nI_1 i) (ih (i + 1) (by omega) (by omega))))
theorem yw_183a {post : Int32 → SY → Prop} {J2 J168 : Int32 → (Nat → Int32) → (Nat → Int32) → (Nat → Int32) → (Nat → Int32) → (Nat → Int32) → (Nat → Int32) → (Nat → Int32) → (Nat → Int32) → (Nat → Int32) → (Nat → Int32) → (Nat → Int32) → (Nat → Int32) → (Nat → Int32) → (Nat → Int32) → (Nat → Int32) → (Nat → Int32) → (Nat → Int32) → (Nat → Int32) → (Nat → Int32) → (Nat → Int32) → (Nat → Int32) → (Nat → Int32) → (Nat → Int32) → (Nat → Int32) → Prop} {x1 x2 x4 : Int32} {k x : Nat} {ls : Nat → List Nat} (hk : k ≤ 3) (hx : x < 10) (hR : yo_R k ls ys ye)
    (K : wY_order_257 post J2 J168 x1 x2 (nI k) x4 (nI x) 1 cL mL fL oL cC mC oC fC sT rV oT qa qc mg ms mt mB co ca bl ob oF cp cq od oN aa ab po ou yl yn ys ye yf) :
    ∀ f i, i ≤ k + 1 → k + 1 - i < f → wY_order_183 post J2 J168 x1 x2 (nI k) x4 cL mL fL oL cC mC oC fC sT rV oT qa qc mg ms mt mB co ca bl ob oF cp cq od oN aa ab po ou yl yn ys ye yf f (nI x) 1 (nI i) := by
  intro f
  induction f with
  | zero => intro i _ h; omega
  | succ f ih =>
    intro i hi hf
    refine pk_lt k i (fun z => ?_) (fun z => ?_)
    · exact br_f (by decide) (br_f (nu_ne1 (by omega)) K)
    · have nx : ∀ y, y = nI i + 1 → wY_order_183 post J2 J168 x1 x2 (nI k) x4 cL mL fL oL cC mC oC fC sT rV oT qa qc mg ms mt mB co ca bl ob oF cp cq od oN aa ab po ou yl yn ys ye yf f (nI x) 1 y := nm_r (nI_1 i) (ih (i + 1) (by omega) (by omega))
      exact And.intro (vp_in_nI (by omega) (by decide)) (br_c (fun _ => nx) (fun _ => br_f (nu_ne1 (by omega)) nx))
theorem yw_183 {post : Int32 → SY → Prop} {J2 J168 : Int32 → (Nat → Int32) → (Nat → Int32) → (Nat → Int32) → (Nat → Int32) → (Nat → Int32) → (Nat → Int32) → (Nat → Int32) → (Nat → Int32) → (Nat → Int32) → (Nat → Int32) → (Nat → Int32) → (Nat → Int32) → (Nat → Int32) → (Nat → Int32) → (Nat → Int32) → (Nat → Int32) → (Nat → Int32) → (Nat → Int32) → (Nat → Int32) → (Nat → Int32) → (Nat → Int32) → (Nat → Int32) → (Nat → Int32) → (Nat → Int32) → Prop} {x1 x2 x4 : Int32} {k : Nat} {ls : Nat → List Nat} (hk : k ≤ 3) (hR : yo_R k ls ys ye) (hz : ∀ i, k < i → i < 4 → ls i = []) (h10 : ∀ i, i < 4 → ∀ y, y ∈ ls i → y < 10)
    (Ks : ∀ x, cm_pf ls 4 0 = some x → wY_order_257 post J2 J168 x1 x2 (nI k) x4 (nI x) 1 cL mL fL oL cC mC oC fC sT rV oT qa qc mg ms mt mB co ca bl ob oF cp cq od oN aa ab po ou yl yn ys ye yf)
    (Ke : cm_e ls → wY_order_257 post J2 J168 x1 x2 (nI k) x4 (-1) 0 cL mL fL oL cC mC oC fC sT rV oT qa qc mg ms mt mB co ca bl ob oF cp cq od oN aa ab po ou yl yn ys ye yf)
    (Kn : ¬ cm_e ls → cm_pf ls 4 0 = none → post 0 (cL, mL, fL, oL, cC, mC, oC, fC, sT, rV, oT, qa, qc, mg, ms, mt, mB, co, ca, bl, ob, oF, cp, cq, od, oN, aa, ab, po, ou, yl, yn, ys, ye, yf)) :
    ∀ f i x6, i ≤ k + 1 → k + 1 - i < f → cm_pf ls 4 0 = cm_pf ls (4 - i) i → ((x6 = 0 ∧ ∀ r, r < i → ls r = []) ∨ (x6 = 1 ∧ ¬ cm_e ls)) → wY_order_183 post J2 J168 x1 x2 (nI k) x4 cL mL fL oL cC mC oC fC sT rV oT qa qc mg ms mt mB co ca bl ob oF cp cq od oN aa ab po ou yl yn ys ye yf f (-1) x6 (nI i) := by
  intro f
  induction f with
  | zero => intro i x6 _ h; omega
  | succ f ih =>
    intro i x6 hi hf hp h6
    refine pk_lt k i (fun z => ?_) (fun z => ?_)
    · have p0 : cm_pf ls 4 0 = none := by
        rw [hp]
        exact cm_pf_z _ _ (fun r h1 h2 => hz r (by omega) (by omega))
      rcases h6 with ⟨rfl, he⟩ | ⟨rfl, he⟩
      · refine br_t rfl (Ke (fun r hr => ?_))
        rcases Nat.lt_or_ge r i with w | w
        · exact he r w
        · exact hz r (by omega) hr
      · exact br_f (by decide) (br_t rfl (Kn he p0))
    · obtain ⟨a, b, c⟩ := hR i z
      have ci : (nI i).toNatClampNeg = i := nI_clamp (by omega)
      have e4 : 4 - i = (4 - (i + 1)) + 1 := by omega
      refine And.intro (vp_in_nI (by omega) (by decide)) (pk_le (ls i).length 0 (fun y => ?_) (fun y => ?_) (by rw [ci]; exact a))
      · have n0 : ls i = [] := List.length_eq_zero_iff.mp (by omega)
        refine nm_r (nI_1 i) (ih (i + 1) x6 (by omega) (by omega) (by rw [hp, e4, cm_pf_n n0]) ?_)
        rcases h6 with ⟨q, he⟩ | h6
        · refine Or.inl ⟨q, fun r hr => ?_⟩
          rcases Nat.lt_or_ge r i with w | w
          · exact he r w
          · rw [show r = i by omega]; exact n0
        · exact Or.inr h6
      · cases q : ls i with
        | nil => rw [q] at y; exact absurd y (by simp)
        | cons w t =>
          have hw : w < 10 := h10 i (by omega) w (by rw [q]; exact List.mem_cons_self)
          have ne : ¬ cm_e ls := fun h => by
            have := h i (by omega)
            rw [q] at this
            exact absurd this (by simp)
          have e1 : nI i * 10 = nI (i * 10) := nu_m10 i
          have e2 : ys (nI i * 10).toNatClampNeg = nI w := by
            rw [e1, nI_clamp (by omega)]
            have := c 0 y
            rw [q, List.getD_cons_zero] at this
            exact this
          refine br_t rfl ?_
          rw [e2, e1]
          refine And.intro (vp_in_nI (by omega) (by decide)) (yw_acc hk hR hz hw h10 (fun o => ?_) (fun o => ?_))
          · refine br_f (by decide) (And.intro (vp_in_nI (by omega) (by decide)) (nm_e (nm_r (nI_1 i) (yw_183a hk hw hR (Ks w ?_) f (i + 1) (by omega) (by omega)))))
            rw [hp, e4, cm_pf_t q o]
          · refine br_t rfl (nm_r (nI_1 i) (ih (i + 1) 1 (by omega) (by omega) ?_ (Or.inr ⟨rfl, ne⟩)))
            rw [hp, e4, cm_pf_f q o]
/-- all rows of Y's orders but row c stay -/
def yo_off (c : Nat) (yl yn yl' yn' : Nat → Int32) : Prop := (∀ j, j < c * 10 ∨ c * 10 + 10 ≤ j → yl' j = yl j) ∧ (∀ j, j ≠ c → yn' j = yn j)
theorem yw_168 {post : Int32 → SY → Prop} {J2 : Int32 → (Nat → Int32) → (Nat → Int32) → (Nat → Int32) → (Nat → Int32) → (Nat → Int32) → (Nat → Int32) → (Nat → Int32) → (Nat → Int32) → (Nat → Int32) → (Nat → Int32) → (Nat → Int32) → (Nat → Int32) → (Nat → Int32) → (Nat → Int32) → (Nat → Int32) → (Nat → Int32) → (Nat → Int32) → (Nat → Int32) → (Nat → Int32) → (Nat → Int32) → (Nat → Int32) → (Nat → Int32) → (Nat → Int32) → (Nat → Int32) → Prop} {x1 : Int32} {c k : Nat} {l0 : Nat → List Nat} {yl0 yn0 : Nat → Int32} (hc : c < 10) (hk : k ≤ 3)
    (K1 : ∀ acc yl yn ys ye, cm_run c l0 = some acc → la_row yl yn 10 c (c :: acc) → yo_off c yl0 yn0 yl yn → J2 (nI (c + 1)) qa qc mg ms mt mB co ca bl ob oF cp cq od oN aa ab po ou yl yn ys ye yf)
    (K0 : ∀ yl yn ys ye, cm_run c l0 = none → post 0 (cL, mL, fL, oL, cC, mC, oC, fC, sT, rV, oT, qa, qc, mg, ms, mt, mB, co, ca, bl, ob, oF, cp, cq, od, oN, aa, ab, po, ou, yl, yn, ys, ye, yf)) :
    ∀ f j acc ls yl yn ys ye, j ≤ c → c - j < f → cm_I c l0 acc ls → (acc.length = j ∨ cm_e ls) → (∀ i, k < i → i < 4 → ls i = []) → yo_R k ls ys ye → la_row yl yn 10 c (c :: acc) → yo_off c yl0 yn0 yl yn →
      wY_order_168 post J2 x1 (nI c) (nI k) cL mL fL oL cC mC oC fC sT rV oT f (nI j) qa qc mg ms mt mB co ca bl ob oF cp cq od oN aa ab po ou yl yn ys ye yf := by
  intro f
  induction f with
  | zero => intro j acc ls yl yn ys ye _ h; omega
  | succ f ih =>
    intro j acc ls yl yn ys ye hj hf hI ha hz hR hrow hoff
    have h10 : ∀ i, i < 4 → ∀ y, y ∈ ls i → y < 10 := fun i hi y hy => by have := hI.1 i hi y hy; omega
    refine pk_le c j (fun z => ?_) (fun z => Exists.intro (k + 2) ?_)
    · have e : cm_e ls := by
        rcases ha with ha | ha
        · rcases Classical.em (cm_e ls) with e | e
          · exact e
          · have := cm_Ie hI e
            omega
        · exact ha
      exact nm_r (nI_1 c) (K1 acc _ _ _ _ (cm_Id hI e) hrow hoff)
    · refine yw_183 hk hR hz h10 (fun x hp => ?_) (fun e => ?_) (fun e hp => K0 _ _ _ _ (cm_In hI e hp)) (k + 2) 0 0 (by omega) (by omega) rfl (Or.inl ⟨rfl, fun r hr => absurd hr (by omega)⟩)
      · obtain ⟨hI', hlt, hx⟩ := cm_Is hI hp
        have e := cm_ne hp
        have haj : acc.length = j := ha.resolve_right e
        have ci : (nI c).toNatClampNeg = c := nI_clamp (by omega)
        have e0 : yn (nI c).toNatClampNeg = nI (acc.length + 1) := by rw [ci]; exact hrow.1
        refine br_f (by decide) ?_
        rw [e0, nu_m10, nI_add, nI_clamp (by omega), ci, nI_1]
        refine And.intro (vp_in_nI hc (by decide)) (And.intro (vp_in_nI (by omega) (by decide)) (nm_e (And.intro (vp_in_nI hc (by decide)) (And.intro (vp_in_nI hc (by decide)) (nm_e (Exists.intro (k + 2) ?_))))))
        refine yw_293 hk (by omega) h10 (fun ys' ye' hR' => ih (j + 1) (acc ++ [x]) (cm_dr ls x) _ _ ys' ye' (by omega) (by omega) hI' (Or.inl (by rw [List.length_append, List.length_singleton, haj])) (fun i h1 h2 => ?_) hR' ⟨?_, fun m hm => ?_⟩ ⟨fun m hm => ?_, fun m hm => ?_⟩) (k + 2) 0 ys ye (by omega) (by omega) (fun r hr => ?_)
        · rw [cm_dr_n (hz i h1 h2)]; exact hz i h1 h2
        · rw [pk_us, List.length_cons, List.length_append, List.length_singleton]
        · have hm' : m < acc.length + 2 := by simpa using hm
          rw [← List.cons_append]
          rcases Nat.lt_or_ge m (acc.length + 1) with q | q
          · rw [pk_un (by omega), la_gl (by rw [List.length_cons]; exact q)]
            exact hrow.2 m (by rw [List.length_cons]; exact q)
          · have q' : m = (c :: acc).length := by rw [List.length_cons]; omega
            rw [q', la_ge, List.length_cons, pk_us]
        · rw [pk_un (by omega)]; exact hoff.1 m hm
        · rw [pk_un hm]; exact hoff.2 m hm
        · have := hR r hr
          unfold cm_di
          rw [if_neg (by omega)]
          exact this
      · refine br_t rfl (Exists.intro (k + 2) (yw_293e hk hR e (ih (j + 1) acc ls yl yn ys ye (by omega) (by omega) hI (Or.inr e) hz hR hrow hoff) (k + 2) 0 (by omega) (by omega)))
theorem yw_53 {post : Int32 → SY → Prop} {J2 J17 : Int32 → (Nat → Int32) → (Nat → Int32) → (Nat → Int32) → (Nat → Int32) → (Nat → Int32) → (Nat → Int32) → (Nat → Int32) → (Nat → Int32) → (Nat → Int32) → (Nat → Int32) → (Nat → Int32) → (Nat → Int32) → (Nat → Int32) → (Nat → Int32) → (Nat → Int32) → (Nat → Int32) → (Nat → Int32) → (Nat → Int32) → (Nat → Int32) → (Nat → Int32) → (Nat → Int32) → (Nat → Int32) → (Nat → Int32) → (Nat → Int32) → Prop} {x1 x2 x3 : Int32} {i q : Nat} {lq : List Nat} {ys0 : Nat → Int32} (hi : i < 4) (hq : q < 10) (hr : la_row yl yn 10 q lq) (hl : lq.length ≤ 10)
    (K : ∀ ys, (∀ j, j < i * 10 ∨ i * 10 + 10 ≤ j → ys j = ys0 j) → (∀ m, m < lq.length → ys (i * 10 + m) = nI (lq.getD m 0)) → J17 (nI (i + 1)) qa qc mg ms mt mB co ca bl ob oF cp cq od oN aa ab po ou yl yn ys ye yf) :
    ∀ f m ys, m ≤ lq.length → lq.length - m < f → (∀ j, j < i * 10 ∨ i * 10 + 10 ≤ j → ys j = ys0 j) → (∀ r, r < m → ys (i * 10 + r) = nI (lq.getD r 0)) → wY_order_53 post J2 J17 x1 x2 x3 (nI i) (nI q) cL mL fL oL cC mC oC fC sT rV oT f (nI m) qa qc mg ms mt mB co ca bl ob oF cp cq od oN aa ab po ou yl yn ys ye yf := by
  intro f
  induction f with
  | zero => intro m ys _ h; omega
  | succ f ih =>
    intro m ys hm hf ho hI
    refine And.intro (vp_in_nI hq (by decide)) (pk_le lq.length m (fun z => ?_) (fun z => ?_) (by rw [nI_clamp (by omega)]; exact hr.1))
    · exact nm_r (nI_1 i) (K ys ho (fun r hr => hI r (by omega)))
    · have e1 : nI q * 10 + nI m = nI (q * 10 + m) := by rw [nu_m10, nI_add]
      have e2 : nI i * 10 + nI m = nI (i * 10 + m) := by rw [nu_m10, nI_add]
      have e3 : yl (nI (q * 10 + m)).toNatClampNeg = nI (lq.getD m 0) := by rw [nI_clamp (by omega)]; exact hr.2 m z
      rw [e1, e2, e3, nI_clamp (n := i * 10 + m) (by omega)]
      refine And.intro (vp_in_nI (by omega) (by decide)) (And.intro (vp_in_nI (by omega) (by decide)) (nm_e (nm_r (nI_1 m) (ih (m + 1) _ (by omega) (by omega) (fun j hj => ?_) (fun r hr => ?_)))))
      · rw [pk_un (by omega)]; exact ho j hj
      · by_cases w : r = m
        · rw [w, pk_us]
        · rw [pk_un (by omega)]; exact hI r (by omega)
theorem yw_113 {post : Int32 → SY → Prop} {J2 : Int32 → (Nat → Int32) → (Nat → Int32) → (Nat → Int32) → (Nat → Int32) → (Nat → Int32) → (Nat → Int32) → (Nat → Int32) → (Nat → Int32) → (Nat → Int32) → (Nat → Int32) → (Nat → Int32) → (Nat → Int32) → (Nat → Int32) → (Nat → Int32) → (Nat → Int32) → (Nat → Int32) → (Nat → Int32) → (Nat → Int32) → (Nat → Int32) → (Nat → Int32) → (Nat → Int32) → (Nat → Int32) → (Nat → Int32) → (Nat → Int32) → Prop} {x1 : Int32} {c : Nat} {p : List Nat} {ys0 : Nat → Int32} (hc : c < 10) (h3 : p.length ≤ 3) (hrow : la_row qa qc 3 c p)
    (K : ∀ ys, (∀ j, j < p.length * 10 ∨ p.length * 10 + 10 ≤ j → ys j = ys0 j) → (∀ m, m < p.length → ys (p.length * 10 + m) = nI (p.getD m 0)) → ∃ n, wY_order_168 post J2 x1 (nI c) (nI p.length) cL mL fL oL cC mC oC fC sT rV oT n 0 qa qc mg ms mt mB co ca bl ob oF cp cq od oN aa ab po ou (upd yl (c * 10) (nI c)) (upd yn c 1) ys ye yf) :
    ∀ f m ys, m ≤ p.length → p.length - m < f → (∀ j, j < p.length * 10 ∨ p.length * 10 + 10 ≤ j → ys j = ys0 j) → (∀ r, r < m → ys (p.length * 10 + r) = nI (p.getD r 0)) → wY_order_113 post J2 x1 (nI c) (nI p.length) cL mL fL oL cC mC oC fC sT rV oT f (nI m) qa qc mg ms mt mB co ca bl ob oF cp cq od oN aa ab po ou yl yn ys ye yf := by
  intro f
  induction f with
  | zero => intro m ys _ h; omega
  | succ f ih =>
    intro m ys hm hf ho hI
    refine pk_le p.length m (fun z => ?_) (fun z => ?_)
    · have ci : (nI c).toNatClampNeg = c := nI_clamp (by omega)
      have c10 : (nI (c * 10)).toNatClampNeg = c * 10 := nI_clamp (by omega)
      rw [nu_m10, c10, ci]
      exact And.intro (vp_in_nI (by omega) (by decide)) (nm_e (And.intro (vp_in_nI hc (by decide)) (nm_e (K ys ho (fun r hr => hI r (by omega))))))
    · have e1 : nI c * 3 + nI m = nI (c * 3 + m) := by rw [nu_m3, nI_add]
      have e2 : nI p.length * 10 + nI m = nI (p.length * 10 + m) := by rw [nu_m10, nI_add]
      have e3 : qa (nI (c * 3 + m)).toNatClampNeg = nI (p.getD m 0) := by rw [nI_clamp (by omega)]; exact hrow.2 m z
      rw [e1, e2, e3, nI_clamp (n := p.length * 10 + m) (by omega)]
      refine And.intro (vp_in_nI (by omega) (by decide)) (And.intro (vp_in_nI (by omega) (by decide)) (nm_e (nm_r (nI_1 m) (ih (m + 1) _ (by omega) (by omega) (fun j hj => ?_) (fun r hr => ?_)))))
      · rw [pk_un (by omega)]; exact ho j hj
      · by_cases w : r = m
        · rw [w, pk_us]
        · rw [pk_un (by omega)]; exact hI r (by omega)
theorem yw_17 {post : Int32 → SY → Prop} {J2 : Int32 → (Nat → Int32) → (Nat → Int32) → (Nat → Int32) → (Nat → Int32) → (Nat → Int32) → (Nat → Int32) → (Nat → Int32) → (Nat → Int32) → (Nat → Int32) → (Nat → Int32) → (Nat → Int32) → (Nat → Int32) → (Nat → Int32) → (Nat → Int32) → (Nat → Int32) → (Nat → Int32) → (Nat → Int32) → (Nat → Int32) → (Nat → Int32) → (Nat → Int32) → (Nat → Int32) → (Nat → Int32) → (Nat → Int32) → (Nat → Int32) → Prop} {x1 : Int32} {c : Nat} {p : List Nat} {L : Nat → List Nat} (hc : c < 10) (h3 : p.length ≤ 3) (hrow : la_row qa qc 3 c p) (hrows : ∀ q, q ∈ p → q < 10 ∧ la_row yl yn 10 q (L q) ∧ (L q).length ≤ 10)
    (K : ∀ ys ye, yo_R p.length (cm_ls L p) ys ye → ∃ n, wY_order_168 post J2 x1 (nI c) (nI p.length) cL mL fL oL cC mC oC fC sT rV oT n 0 qa qc mg ms mt mB co ca bl ob oF cp cq od oN aa ab po ou (upd yl (c * 10) (nI c)) (upd yn c 1) ys ye yf) :
    ∀ f i ys ye, i ≤ p.length → p.length - i < f → (∀ r, r < i → ye r = nI (cm_ls L p r).length ∧ (cm_ls L p r).length ≤ 10 ∧ ∀ j, j < (cm_ls L p r).length → ys (r * 10 + j) = nI ((cm_ls L p r).getD j 0)) → wY_order_17 post J2 x1 (nI c) (nI p.length) cL mL fL oL cC mC oC fC sT rV oT f (nI i) qa qc mg ms mt mB co ca bl ob oF cp cq od oN aa ab po ou yl yn ys ye yf := by
  intro f
  induction f with
  | zero => intro i ys ye _ h; omega
  | succ f ih =>
    intro i ys ye hi hf hI
    refine pk_le p.length i (fun z => ?_) (fun z => ?_)
    · refine And.intro (vp_in_nI (by omega) (by decide)) (nm_r (e' := upd ye p.length (nI p.length)) (by rw [nI_clamp (by omega)]) (Exists.intro (p.length + 1) ?_))
      refine yw_113 (ys0 := ys) hc h3 hrow (fun ys' h1 h2 => K ys' _ (fun r hr => ?_)) _ 0 ys (by omega) (by omega) (fun _ _ => rfl) (fun r hr => absurd hr (by omega))
      by_cases w : r = p.length
      · have e : cm_ls L p r = p := by unfold cm_ls; rw [if_neg (by omega), if_pos w]
        rw [e, w, pk_us]
        exact ⟨rfl, by omega, h2⟩
      · obtain ⟨a, b, d⟩ := hI r (by omega)
        rw [pk_un w]
        exact ⟨a, b, fun j hj => by rw [h1 _ (by omega)]; exact d j hj⟩
    · have e1 : nI c * 3 + nI i = nI (c * 3 + i) := by rw [nu_m3, nI_add]
      have e2 : qa (nI c * 3 + nI i).toNatClampNeg = nI (p.getD i 0) := by rw [e1, nI_clamp (by omega)]; exact hrow.2 i z
      obtain ⟨q1, q2, q3⟩ := hrows _ (la_gm (d := 0) z)
      have ei : cm_ls L p i = L (p.getD i 0) := by unfold cm_ls; rw [if_pos z]
      refine And.intro (by rw [e1]; exact vp_in_nI (by omega) (by decide)) (nm_r e2 (And.intro (vp_in_nI q1 (by decide)) (And.intro (vp_in_nI (by omega) (by decide)) (nm_r (e' := upd ye i (nI (L (p.getD i 0)).length)) (by rw [nI_clamp (n := i) (by omega), nI_clamp (by omega), q2.1]) (Exists.intro ((L (p.getD i 0)).length + 1) ?_)))))
      refine yw_53 (ys0 := ys) (by omega) q1 q2 q3 (fun ys' h1 h2 => ih (i + 1) ys' _ (by omega) (by omega) (fun r hr => ?_)) _ 0 ys (by omega) (by omega) (fun _ _ => rfl) (fun r hr => absurd hr (by omega))
      by_cases w : r = i
      · rw [w, ei, pk_us]
        exact ⟨rfl, q3, h2⟩
      · obtain ⟨a, b, d⟩ := hI r (by omega)
        rw [pk_un w]
        exact ⟨a, b, fun j hj => by rw [h1 _ (by omega)]; exact d j hj⟩
theorem yw_order {post : Int32 → SY → Prop} {n : Nat} {P : Nat → List Nat} (hn : n ≤ 10) (hP : cm_P n P) (hrow : ∀ c, c < n → la_row qa qc 3 c (P c))
    (K1 : ∀ L yl yn ys ye, cm_T n P L → (∀ c, c < n → la_row yl yn 10 c (L c)) → post 1 (cL, mL, fL, oL, cC, mC, oC, fC, sT, rV, oT, qa, qc, mg, ms, mt, mB, co, ca, bl, ob, oF, cp, cq, od, oN, aa, ab, po, ou, yl, yn, ys, ye, yf))
    (K0 : ∀ yl yn ys ye, (¬ ∃ L, cm_T n P L) → post 0 (cL, mL, fL, oL, cC, mC, oC, fC, sT, rV, oT, qa, qc, mg, ms, mt, mB, co, ca, bl, ob, oF, cp, cq, od, oN, aa, ab, po, ou, yl, yn, ys, ye, yf)) : wpY_order post (cL, mL, fL, oL, cC, mC, oC, fC, sT, rV, oT, qa, qc, mg, ms, mt, mB, co, ca, bl, ob, oF, cp, cq, od, oN, aa, ab, po, ou, yl, yn, ys, ye, yf) (nI n) := by
  have key : ∀ f c L yl yn ys ye, c ≤ n → n - c < f → cm_T c P L → (∀ r, r < c → la_row yl yn 10 r (L r)) → wY_order_2 post (nI n) cL mL fL oL cC mC oC fC sT rV oT f (nI c) qa qc mg ms mt mB co ca bl ob oF cp cq od oN aa ab po ou yl yn ys ye yf := by
    intro f
    induction f with
    | zero => intro c L yl yn ys ye _ h; omega
    | succ f ih =>
      intro c L yl yn ys ye hc hf hT hrows
      refine pk_le n c (fun z => ?_) (fun z => ?_)
      · have e : c = n := by omega
        subst e
        exact K1 L _ _ _ _ hT hrows
      · have hPc := hP c z
        have hF := cm_T_f (cm_P_le hP hc) hT
        have hlt := cm_ls_lt (cm_P_le hP hc) hT (Nat.le_refl c) (by omega) hPc.2 hPc.1
        refine And.intro (vp_in_nI (by omega) (by decide)) (nm_r (e' := nI (P c).length) (by rw [nI_clamp (by omega)]; exact (hrow c z).1) (Exists.intro ((P c).length + 1) ?_))
        refine yw_17 (L := L) (by omega) hPc.1 (hrow c z) (fun q hq => ?_) (fun ys' ye' hR => Exists.intro (c + 1) ?_) _ 0 ys ye (by omega) (by omega) (fun r hr => absurd hr (by omega))
        · have h1 := hPc.2 q hq
          exact ⟨by omega, hrows q h1, by have := (hF q h1).2.2.1; omega⟩
        · refine yw_168 (yl0 := yl) (yn0 := yn) (l0 := cm_ls L (P c)) (by omega) hPc.1 (fun acc yl' yn' ys' ye' hr h1 h2 => ?_) (fun yl' yn' ys' ye' hr => ?_) _ 0 [] _ _ _ _ _ (by omega) (by omega) (cm_I0 (fun i _ => hlt.1 i)) (Or.inl rfl) (fun i h1 h2 => ?_) hR ⟨?_, fun j hj => ?_⟩ ⟨fun j hj => ?_, fun j hj => ?_⟩
          · have hl : cm_lin L (P c) c = some (c :: acc) := by unfold cm_lin; rw [hr]; rfl
            refine ih (c + 1) (la_st L c (c :: acc)) yl' yn' ys' ye' (by omega) (by omega) (cm_T_s (cm_P_le hP (by omega)) hT hl) (fun r hr' => ?_)
            by_cases w : r = c
            · rw [w, la_ss]; exact h1
            · rw [la_sn w]
              have h3 := hrows r (by omega)
              have := (hF r (by omega)).2.2.1
              exact ⟨by rw [h2.2 r w]; exact h3.1, fun j hj => by rw [h2.1 _ (by omega)]; exact h3.2 j hj⟩
          · exact K0 _ _ _ _ (cm_T_no hP z hT (by unfold cm_lin; rw [hr]; rfl))
          · unfold cm_ls
            rw [if_neg (by omega), if_neg (by omega)]
          · rw [pk_us]; rfl
          · have hj' : j = 0 := by
              have : j < 1 := hj
              omega
            rw [hj', Nat.add_zero, pk_us]; rfl
          · rw [pk_un (by omega)]
          · rw [pk_un hj]
  exact Exists.intro (n + 1) (key (n + 1) 0 (fun _ => []) yl yn ys ye (by omega) (by omega) (fun c hc => absurd hc (by omega)) (fun r hr => absurd hr (by omega)))
end YORD
end
section
/-! parent lists: what is staged -/
def sp_ok (c : Nat) (p : Int32) : Prop := p = -1 ∨ ∃ q, q < c ∧ p = nI q
def sp_dup (p1 p2 p3 : Int32) : Prop := (¬ p1 = -1 ∧ (p1 = p2 ∨ p1 = p3)) ∨ (¬ p2 = -1 ∧ p2 = p3)
def sp_o (p : Int32) : List Nat := if p = -1 then [] else [p.toNatClampNeg]
def sp_l (p1 p2 p3 : Int32) : List Nat := if sp_o p1 ++ sp_o p2 ++ sp_o p3 = [] then [0] else sp_o p1 ++ sp_o p2 ++ sp_o p3
theorem sp_o_l (p : Int32) : (sp_o p).length ≤ 1 := by unfold sp_o; split <;> simp
theorem sp_o_m {c : Nat} {p : Int32} (h : sp_ok c p) (hc : c < 2 ^ 31) : ∀ q, q ∈ sp_o p → q < c := by
  intro q hq
  unfold sp_o at hq
  rcases h with h | ⟨r, hr, h⟩
  · rw [if_pos h] at hq; exact absurd hq (by simp)
  · rw [h, if_neg (nu_ne1 (by omega)), nI_clamp (by omega)] at hq
    rw [List.mem_singleton.mp hq]; exact hr
theorem sp_l_3 (p1 p2 p3 : Int32) : (sp_l p1 p2 p3).length ≤ 3 := by
  have h1 := sp_o_l p1
  have h2 := sp_o_l p2
  have h3 := sp_o_l p3
  unfold sp_l
  split
  · simp
  · rw [List.length_append, List.length_append]; omega
theorem sp_l_n (p1 p2 p3 : Int32) : sp_l p1 p2 p3 ≠ [] := by
  unfold sp_l
  split
  · simp
  · assumption
theorem sp_l_m {c : Nat} {p1 p2 p3 : Int32} (h1 : sp_ok c p1) (h2 : sp_ok c p2) (h3 : sp_ok c p3) (hc : c < 2 ^ 31) (h0 : 0 < c) : ∀ q, q ∈ sp_l p1 p2 p3 → q < c := by
  intro q hq
  unfold sp_l at hq
  split at hq
  · rw [List.mem_singleton.mp hq]; exact h0
  · rcases List.mem_append.mp hq with a | a
    · rcases List.mem_append.mp a with b | b
      · exact sp_o_m h1 hc q b
      · exact sp_o_m h2 hc q b
    · exact sp_o_m h3 hc q a
/-- a list in the first places of sg, its length in sC -/
def sp_e (l : List Nat) (sC : Int32) (sg : Nat → Int32) : Prop := sC = nI l.length ∧ ∀ j, j < l.length → sg j = nI (l.getD j 0)
section XCLS
variable {cL mL fL oL cC sC mC oC sT rV oT fC : Int32} {pa pc li ll an sg mi mh me tc mb ck cn cb bl co ca ob oF ou cp cq aa ab po od oN : Nat → Int32}
theorem xw_bad {post : Int32 → Prop} {c : Nat} {p : Int32} (hc : c < 2 ^ 31) (K0 : sp_ok c p → post 0) (K1 : ¬ sp_ok c p → post 1) : wpX_badParent post (cL, mL, fL, oL, cC, sC, mC, oC, sT, rV, oT, fC, pa, pc, li, ll, an, sg, mi, mh, me, tc, mb, ck, cn, cb, bl, co, ca, ob, oF, ou, cp, cq, aa, ab, po, od, oN) p (nI c) := by
  refine br_c (fun h => K0 (Or.inl h)) (fun h => br_c (fun h2 => K1 (fun o => ?_)) (fun h2 => br_c (fun h3 => K0 (Or.inr ?_)) (fun h3 => K1 (fun o => ?_))))
  · rcases o with o | ⟨q, hq, rfl⟩
    · exact h o
    · exact nI_pos (by omega) h2
  · obtain ⟨j, hj, rfl⟩ := nI_of h2
    exact ⟨j, (nI_ltI hj hc).mp h3, rfl⟩
  · rcases o with o | ⟨q, hq, rfl⟩
    · exact h o
    · exact h3 (nI_lt hq hc)
theorem xw_one {post : SX → Prop} {l : List Nat} {p : Int32} {c : Nat} (hs : sp_e l sC sg) (hl : l.length < 3) (hp : sp_ok c p) (hc : c ≤ 10) (K : ∀ sC' sg', sp_e (l ++ sp_o p) sC' sg' → post (cL, mL, fL, oL, cC, sC', mC, oC, sT, rV, oT, fC, pa, pc, li, ll, an, sg', mi, mh, me, tc, mb, ck, cn, cb, bl, co, ca, ob, oF, ou, cp, cq, aa, ab, po, od, oN)) : wpX_stageOne post (cL, mL, fL, oL, cC, sC, mC, oC, sT, rV, oT, fC, pa, pc, li, ll, an, sg, mi, mh, me, tc, mb, ck, cn, cb, bl, co, ca, ob, oF, ou, cp, cq, aa, ab, po, od, oN) p := by
  obtain ⟨s1, s2⟩ := hs
  subst s1
  rcases hp with rfl | ⟨q, hq, rfl⟩
  · refine br_t rfl (K _ _ ?_)
    have e : sp_o (-1) = [] := if_pos rfl
    rw [e, List.append_nil]
    exact ⟨rfl, s2⟩
  · refine br_f (nu_ne1 (by omega)) (pk_le 3 l.length (fun z => absurd z (by omega)) (fun z => And.intro (vp_in_nI z (by decide)) (nm_r (e' := upd sg l.length (nI q)) (by rw [nI_clamp (by omega)]) (nm_r (nI_1 l.length) (K _ _ ?_)))))
    have e : sp_o (nI q) = [q] := by unfold sp_o; rw [if_neg (nu_ne1 (by omega)), nI_clamp (by omega)]
    rw [e]
    refine ⟨by rw [List.length_append]; rfl, fun j hj => ?_⟩
    rw [List.length_append, List.length_singleton] at hj
    rcases Nat.lt_or_ge j l.length with w | w
    · rw [pk_un (by omega), la_gl w]; exact s2 j w
    · rw [show j = l.length by omega, pk_us, la_ge]
theorem xw_s61 {post : Int32 → SX → Prop} {c : Nat} {p1 p2 p3 : Int32} (h0 : 0 < c) (hc : c ≤ 10) (h1 : sp_ok c p1) (h2 : sp_ok c p2) (h3 : sp_ok c p3) (K : ∀ sC' sg', sp_e (sp_l p1 p2 p3) sC' sg' → post 0 (cL, mL, fL, oL, cC, sC', mC, oC, sT, rV, oT, fC, pa, pc, li, ll, an, sg', mi, mh, me, tc, mb, ck, cn, cb, bl, co, ca, ob, oF, ou, cp, cq, aa, ab, po, od, oN)) : wX_stage_61 post p1 p2 p3 cL mL fL oL cC sC mC oC sT rV oT fC pa pc li ll an sg mi mh me tc mb ck cn cb bl co ca ob oF ou cp cq aa ab po od oN := by
  have l1 := sp_o_l p1
  have l2 := sp_o_l p2
  have l3 := sp_o_l p3
  refine xw_one (l := []) (c := c) ⟨rfl, fun j hj => absurd hj (by simp)⟩ (by decide) h1 hc (fun sC1 sg1 e1 => ?_)
  rw [List.nil_append] at e1
  refine xw_one e1 (by omega) h2 hc (fun sC2 sg2 e2 => ?_)
  refine xw_one e2 (by rw [List.length_append]; omega) h3 hc (fun sC3 sg3 e3 => ?_)
  have b3 : (sp_o p1 ++ sp_o p2 ++ sp_o p3).length ≤ 3 := by rw [List.length_append, List.length_append]; omega
  refine pk_eq (sp_o p1 ++ sp_o p2 ++ sp_o p3).length 0 (fun z => ?_) (fun z => ?_) e3.1
  · have z' := List.length_eq_zero_iff.mp z
    rw [z'] at e3
    refine xw_one (p := 0) (c := c) e3 (by decide) (Or.inr ⟨0, h0, rfl⟩) hc (fun sC4 sg4 e4 => K _ _ ?_)
    unfold sp_l
    rw [if_pos z']
    exact e4
  · refine K _ _ ?_
    unfold sp_l
    rw [if_neg (fun w => z (by rw [w]; rfl))]
    exact e3
theorem xw_stage {post : Int32 → SX → Prop} {c : Nat} {p1 p2 p3 : Int32} (h0 : 0 < c) (hc : c ≤ 10)
    (K3 : ¬ (sp_ok c p1 ∧ sp_ok c p2 ∧ sp_ok c p3) → post (-3) (cL, mL, fL, oL, cC, sC, mC, oC, sT, rV, oT, fC, pa, pc, li, ll, an, sg, mi, mh, me, tc, mb, ck, cn, cb, bl, co, ca, ob, oF, ou, cp, cq, aa, ab, po, od, oN))
    (K4 : (sp_ok c p1 ∧ sp_ok c p2 ∧ sp_ok c p3) → sp_dup p1 p2 p3 → post (-4) (cL, mL, fL, oL, cC, sC, mC, oC, sT, rV, oT, fC, pa, pc, li, ll, an, sg, mi, mh, me, tc, mb, ck, cn, cb, bl, co, ca, ob, oF, ou, cp, cq, aa, ab, po, od, oN))
    (K : (sp_ok c p1 ∧ sp_ok c p2 ∧ sp_ok c p3) → ¬ sp_dup p1 p2 p3 → ∀ sC' sg', sp_e (sp_l p1 p2 p3) sC' sg' → post 0 (cL, mL, fL, oL, cC, sC', mC, oC, sT, rV, oT, fC, pa, pc, li, ll, an, sg', mi, mh, me, tc, mb, ck, cn, cb, bl, co, ca, ob, oF, ou, cp, cq, aa, ab, po, od, oN)) : wpX_stage post (cL, mL, fL, oL, cC, sC, mC, oC, sT, rV, oT, fC, pa, pc, li, ll, an, sg, mi, mh, me, tc, mb, ck, cn, cb, bl, co, ca, ob, oF, ou, cp, cq, aa, ab, po, od, oN) p1 p2 p3 (nI c) := by
  have hc' : c < 2 ^ 31 := by omega
  unfold wpX_stage
  dsimp only
  refine xw_bad hc' (fun o1 => br_t rfl ?_) (fun o1 => br_f sm_10 (K3 (fun w => o1 w.1)))
  refine xw_bad hc' (fun o2 => br_t rfl ?_) (fun o2 => br_f sm_10 (K3 (fun w => o2 w.2.1)))
  refine xw_bad hc' (fun o3 => br_t rfl ?_) (fun o3 => br_f sm_10 (K3 (fun w => o3 w.2.2)))
  have ok := And.intro o1 (And.intro o2 o3)
  have q48 : (p1 = -1 ∨ (¬ p1 = p2 ∧ ¬ p1 = p3)) → wX_stage_48 post p1 p2 p3 cL mL fL oL cC sC mC oC sT rV oT fC pa pc li ll an sg mi mh me tc mb ck cn cb bl co ca ob oF ou cp cq aa ab po od oN := fun w1 => by
    have nd : (p2 = -1 ∨ ¬ p2 = p3) → wX_stage_61 post p1 p2 p3 cL mL fL oL cC sC mC oC sT rV oT fC pa pc li ll an sg mi mh me tc mb ck cn cb bl co ca ob oF ou cp cq aa ab po od oN := fun w2 => xw_s61 h0 hc o1 o2 o3 (K ok (fun d => by
      rcases d with ⟨d1, d2⟩ | ⟨d1, d2⟩
      · rcases w1 with w1 | w1
        · exact d1 w1
        · exact d2.elim w1.1 w1.2
      · exact w2.elim d1 (fun w => w d2)))
    exact br_c (fun h => nd (Or.inl h)) (fun h => br_c (fun h2 => K4 ok (Or.inr ⟨h, h2⟩)) (fun h2 => nd (Or.inr h2)))
  exact br_c (fun h => q48 (Or.inl h)) (fun h => br_c (fun h2 => K4 ok (Or.inl ⟨h, Or.inl h2⟩)) (fun h2 => br_c (fun h3 => K4 ok (Or.inl ⟨h, Or.inr h3⟩)) (fun h3 => q48 (Or.inr ⟨h2, h3⟩))))
theorem xw_swap {post : SX → Prop} {c : Nat} (hc : c < 10)
    (K : ∀ pa' sg', (∀ i, i < 3 → pa' (c * 3 + i) = sg i) → (∀ i, i < 3 → sg' i = pa (c * 3 + i)) → (∀ j, j < c * 3 ∨ c * 3 + 3 ≤ j → pa' j = pa j) → post (cL, mL, fL, oL, cC, pc c, mC, oC, sT, rV, oT, fC, pa', upd pc c sC, li, ll, an, sg', mi, mh, me, tc, mb, ck, cn, cb, bl, co, ca, ob, oF, ou, cp, cq, aa, ab, po, od, oN)) : wpX_swapParents post (cL, mL, fL, oL, cC, sC, mC, oC, sT, rV, oT, fC, pa, pc, li, ll, an, sg, mi, mh, me, tc, mb, ck, cn, cb, bl, co, ca, ob, oF, ou, cp, cq, aa, ab, po, od, oN) (nI c) := by
  have ci : (nI c).toNatClampNeg = c := nI_clamp (by omega)
  have key : ∀ f i pa' sg', i ≤ 3 → 3 - i < f → (∀ r, r < i → pa' (c * 3 + r) = sg r ∧ sg' r = pa (c * 3 + r)) → (∀ r, i ≤ r → r < 3 → pa' (c * 3 + r) = pa (c * 3 + r) ∧ sg' r = sg r) → (∀ j, j < c * 3 ∨ c * 3 + 3 ≤ j → pa' j = pa j) → wX_swapParents_2 post (nI c) cL mL fL oL cC sC mC oC sT rV oT fC f (nI i) pa' pc li ll an sg' mi mh me tc mb ck cn cb bl co ca ob oF ou cp cq aa ab po od oN := by
    intro f
    induction f with
    | zero => intro i pa' sg' _ h; omega
    | succ f ih =>
      intro i pa' sg' hi hf hlo hhi ho
      refine pk_le 3 i (fun z => ?_) (fun z => ?_)
      · rw [ci]
        exact And.intro (vp_in_nI hc (by decide)) (nm_e (And.intro (vp_in_nI hc (by decide)) (nm_e (K _ _ (fun r hr => (hlo r (by omega)).1) (fun r hr => (hlo r (by omega)).2) ho))))
      · have e1 : nI c * 3 + nI i = nI (c * 3 + i) := by rw [nu_m3, nI_add]
        have c1 : (nI (c * 3 + i)).toNatClampNeg = c * 3 + i := nI_clamp (by omega)
        have c2 : (nI i).toNatClampNeg = i := nI_clamp (by omega)
        rw [e1, c1, c2]
        refine And.intro (vp_in_nI (by omega) (by decide)) (nm_e (And.intro (vp_in_nI z (by decide)) (And.intro (vp_in_nI (by omega) (by decide)) (nm_e (And.intro (vp_in_nI z (by decide)) (nm_e (nm_r (nI_1 i) (ih (i + 1) _ _ (by omega) (by omega) (fun r hr => ?_) (fun r hr hr3 => ?_) (fun j hj => ?_)))))))))
        · by_cases w : r = i
          · rw [w, pk_us, pk_us]
            exact ⟨(hhi i (by omega) z).2, (hhi i (by omega) z).1⟩
          · rw [pk_un (by omega), pk_un w]
            exact hlo r (by omega)
        · rw [pk_un (by omega), pk_un (by omega)]
          exact hhi r (by omega) hr3
        · rw [pk_un (by omega)]; exact ho j hj
  exact Exists.intro 4 (key 4 0 pa sg (by omega) (by omega) (fun r hr => absurd hr (by omega)) (fun r _ _ => ⟨rfl, rfl⟩) (fun j _ => rfl))
theorem xw_has {post : Int32 → Prop} {k : Nat} {p T : List Nat} {s : Int32} (hk : k < 10) (h3 : p.length ≤ 3) (hp : ∀ q, q ∈ p → q < 10) (hrow : la_row pa pc 3 k p) (hs : bs_is s T)
    (K1 : (∃ q, q ∈ p ∧ q ∈ T) → post 1) (K0 : (∀ q, q ∈ p → q ∉ T) → post 0) : wpX_hasParentIn post (cL, mL, fL, oL, cC, sC, mC, oC, sT, rV, oT, fC, pa, pc, li, ll, an, sg, mi, mh, me, tc, mb, ck, cn, cb, bl, co, ca, ob, oF, ou, cp, cq, aa, ab, po, od, oN) (nI k) s := by
  have key : ∀ f i, i ≤ p.length → p.length - i < f → (∀ r, r < i → p.getD r 0 ∉ T) → wX_hasParentIn_2 post (nI k) s cL mL fL oL cC sC mC oC sT rV oT fC pa pc li ll an sg mi mh me tc mb ck cn cb bl co ca ob oF ou cp cq aa ab po od oN f (nI i) := by
    intro f
    induction f with
    | zero => intro i _ h; omega
    | succ f ih =>
      intro i hi hf hI
      refine And.intro (vp_in_nI hk (by decide)) (pk_le p.length i (fun z => ?_) (fun z => ?_) (by rw [nI_clamp (by omega)]; exact hrow.1))
      · refine K0 (fun q hq => ?_)
        obtain ⟨j, hj, e⟩ := la_ml (d := 0) hq
        rw [← e]
        exact hI j (by omega)
      · have e1 : nI k * 3 + nI i = nI (k * 3 + i) := by rw [nu_m3, nI_add]
        have e2 : pa (nI (k * 3 + i)).toNatClampNeg = nI (p.getD i 0) := by rw [nI_clamp (by omega)]; exact hrow.2 i z
        have h10 := hp _ (la_gm (d := 0) z)
        rw [e1, e2]
        refine And.intro (vp_in_nI (by omega) (by decide)) (br_c (fun w => ?_) (fun w => ?_))
        · have w' := (bs_is_0 hs (by omega)).mp w
          refine nm_r (nI_1 i) (ih (i + 1) (by omega) (by omega) (fun r hr => ?_))
          by_cases v : r = i
          · rw [v]; exact w'
          · exact hI r (by omega)
        · refine K1 ⟨_, la_gm (d := 0) z, ?_⟩
          rcases Classical.em (p.getD i 0 ∈ T) with v | v
          · exact v
          · exact absurd ((bs_is_0 hs (by omega)).mpr v) w
  exact Exists.intro (p.length + 1) (key _ 0 (by omega) (by omega) (fun r hr => absurd hr (by omega)))
end XCLS
/-! the classes touched by a new parent list of c -/
def cm_D (P : Nat → List Nat) (c : Nat) : Nat → List Nat
  | 0 => []
  | n + 1 => if n = c ∨ (c < n ∧ ∃ q, q ∈ P n ∧ q ∈ cm_D P c n) then cm_D P c n ++ [n] else cm_D P c n
theorem cm_D_t {P : Nat → List Nat} {c n : Nat} (h : n = c ∨ (c < n ∧ ∃ q, q ∈ P n ∧ q ∈ cm_D P c n)) : cm_D P c (n + 1) = cm_D P c n ++ [n] := by rw [cm_D, if_pos h]
theorem cm_D_f {P : Nat → List Nat} {c n : Nat} (h : ¬ (n = c ∨ (c < n ∧ ∃ q, q ∈ P n ∧ q ∈ cm_D P c n))) : cm_D P c (n + 1) = cm_D P c n := by rw [cm_D, if_neg h]
theorem cm_D_b {P : Nat → List Nat} {c : Nat} : ∀ n x, x ∈ cm_D P c n → c ≤ x ∧ x < n := by
  intro n
  induction n with
  | zero => intro x hx; exact absurd hx (by simp [cm_D])
  | succ n ih =>
    intro x hx
    by_cases h : n = c ∨ (c < n ∧ ∃ q, q ∈ P n ∧ q ∈ cm_D P c n)
    · rw [cm_D_t h] at hx
      rcases List.mem_append.mp hx with w | w
      · have := ih x w; omega
      · rw [List.mem_singleton.mp w]
        rcases h with h | h <;> omega
    · rw [cm_D_f h] at hx
      have := ih x hx; omega
theorem cm_D_up {P : Nat → List Nat} {c x n : Nat} (h : x ∈ cm_D P c n) : x ∈ cm_D P c (n + 1) := by
  by_cases w : n = c ∨ (c < n ∧ ∃ q, q ∈ P n ∧ q ∈ cm_D P c n)
  · rw [cm_D_t w]; exact List.mem_append.mpr (Or.inl h)
  · rw [cm_D_f w]; exact h
theorem cm_D_dn {P : Nat → List Nat} {c x n : Nat} (h : x ∈ cm_D P c (n + 1)) (hx : x ≠ n) : x ∈ cm_D P c n := by
  by_cases w : n = c ∨ (c < n ∧ ∃ q, q ∈ P n ∧ q ∈ cm_D P c n)
  · rw [cm_D_t w] at h
    rcases List.mem_append.mp h with a | a
    · exact a
    · exact absurd (List.mem_singleton.mp a) hx
  · rw [cm_D_f w] at h; exact h
theorem cm_D_le {P : Nat → List Nat} {c x n : Nat} : ∀ d, x ∈ cm_D P c n → x ∈ cm_D P c (n + d) := by
  intro d
  induction d with
  | zero => intro h; exact h
  | succ d ih => intro h; exact cm_D_up (ih h)
theorem cm_D_c {P P' : Nat → List Nat} {c : Nat} (h : ∀ k, k ≠ c → P k = P' k) : ∀ n, cm_D P c n = cm_D P' c n := by
  intro n
  induction n with
  | zero => rfl
  | succ n ih =>
    by_cases w : n = c ∨ (c < n ∧ ∃ q, q ∈ P n ∧ q ∈ cm_D P c n)
    · rw [cm_D_t w, ih]
      refine (cm_D_t ?_).symm
      rcases w with w | w
      · exact Or.inl w
      · rw [← h n (by omega), ← ih]; exact Or.inr w
    · rw [cm_D_f w, ih]
      refine (cm_D_f (fun v => w ?_)).symm
      rcases v with v | v
      · exact Or.inl v
      · rw [h n (by omega), ih]; exact Or.inr v
theorem cm_D_lo {P : Nat → List Nat} {c n : Nat} (h : n ≤ c) : cm_D P c n = [] := by
  cases e : cm_D P c n with
  | nil => rfl
  | cons x t =>
    have := cm_D_b n x (by rw [e]; exact List.mem_cons_self)
    omega
theorem cm_D_1 {P : Nat → List Nat} {c : Nat} : cm_D P c (c + 1) = [c] := by
  rw [cm_D_t (Or.inl rfl), cm_D_lo (Nat.le_refl c), List.nil_append]
end
section
section XREL
variable {cL mL fL oL cC sC mC oC sT rV oT fC : Int32} {pa pc li ll an sg mi mh me tc mb ck cn cb bl co ca ob oF ou cp cq aa ab po od oN : Nat → Int32}
/-- rows of the orders: row r holds l, with its bits -/
def xr_row (li ll an : Nat → Int32) (r : Nat) (l : List Nat) : Prop := la_row li ll 10 r l ∧ bs_is (an r) l
theorem xr_off {c r : Nat} {li ll an li' ll' an' : Nat → Int32} {l : List Nat} (h : xr_row li ll an r l) (o : xl_off c li ll an li' ll' an') (hr : r ≠ c) (hl : l.length ≤ 10) : xr_row li' ll' an' r l := by
  refine ⟨⟨by rw [o.2.1 r hr]; exact h.1.1, fun j hj => ?_⟩, by rw [o.2.2 r hr]; exact h.2⟩
  rw [o.1 _ (by omega)]
  exact h.1.2 j hj
/-- relinearise in its course: the classes below k done -/
def xr_I (cc c k : Nat) (P L0 L : Nat → List Nat) (li ll an : Nat → Int32) : Prop :=
  cm_T k P L ∧ (∀ r, r < k → xr_row li ll an r (L r)) ∧ (∀ r, r < k → r ∉ cm_D P c k → L r = L0 r) ∧ (∀ r, r < cc → k ≤ r → r ∉ cm_D P c cc → xr_row li ll an r (L0 r))
theorem xw_relfail {post : Int32 → SX → Prop} {f : Nat} {t x4 : Int32} (K : post (-1) (cL, mL, fL, oL, cC, sC, mC, oC, sT, rV, oT, fC, pa, pc, li, ll, an, sg, mi, mh, me, tc, mb, ck, cn, cb, bl, co, ca, ob, oF, ou, cp, cq, aa, ab, po, od, oN)) : wX_relinearise_15 post (f + 1) t 0 x4 cL mL fL oL cC sC mC oC sT rV oT fC pa pc li ll an sg mi mh me tc mb ck cn cb bl co ca ob oF ou cp cq aa ab po od oN :=
  br_c (fun _ => br_t rfl K) (fun _ => br_t rfl (br_t rfl K))
theorem xw_rel15 {post : Int32 → SX → Prop} {cc c : Nat} {P L0 : Nat → List Nat} (hcc : cc ≤ 10) (hP : cm_P cc P) (hrow : ∀ k, k < cc → la_row pa pc 3 k (P k)) (h0 : ∀ k, k < cc → k ∉ cm_D P c cc → cm_lin L0 (P k) k = some (L0 k)) (hl0 : ∀ k, k < cc → (L0 k).length ≤ 10)
    (K1 : ∀ t L li ll an mi mh me tc, bs_is t (cm_D P c cc) → xr_I cc c cc P L0 L li ll an → post t (cL, mL, fL, oL, nI cc, sC, mC, oC, sT, rV, oT, fC, pa, pc, li, ll, an, sg, mi, mh, me, tc, mb, ck, cn, cb, bl, co, ca, ob, oF, ou, cp, cq, aa, ab, po, od, oN))
    (K0 : ∀ li ll an mi mh me tc, (¬ ∃ L, cm_T cc P L) → (∀ r, r < cc → r ∉ cm_D P c cc → xr_row li ll an r (L0 r)) → post (-1) (cL, mL, fL, oL, nI cc, sC, mC, oC, sT, rV, oT, fC, pa, pc, li, ll, an, sg, mi, mh, me, tc, mb, ck, cn, cb, bl, co, ca, ob, oF, ou, cp, cq, aa, ab, po, od, oN)) :
    ∀ f k t L li ll an mi mh me tc, c < k → k ≤ cc → cc - k < f → bs_is t (cm_D P c k) → xr_I cc c k P L0 L li ll an → wX_relinearise_15 post f t 1 (nI k) cL mL fL oL (nI cc) sC mC oC sT rV oT fC pa pc li ll an sg mi mh me tc mb ck cn cb bl co ca ob oF ou cp cq aa ab po od oN := by
  intro f
  induction f with
  | zero => intro k t L li ll an mi mh me tc _ _ h; omega
  | succ f ih =>
    intro k t L li ll an mi mh me tc hck hk hf ht hI
    refine pk_le cc k (fun z => ?_) (fun z => ?_)
    · have e : k = cc := by omega
      subst e
      exact br_f (by decide) (K1 t L _ _ _ _ _ _ _ ht hI)
    · obtain ⟨hT, hr, hu, ho⟩ := hI
      have hF := cm_T_f (cm_P_le hP hk) hT
      have hPk := hP k z
      have Dle : ∀ m, m ≤ cc → ∀ r, r ∈ cm_D P c m → r ∈ cm_D P c cc := fun m hm r h => by
        have := cm_D_le (cc - m) h
        rw [show m + (cc - m) = cc by omega] at this
        exact this
      refine br_f (by decide) (xw_has (by omega) hPk.1 (fun q hq => by have := hPk.2 q hq; omega) (hrow k z) ht (fun w => ?_) (fun w => ?_))
      · have eD : cm_D P c (k + 1) = cm_D P c k ++ [k] := cm_D_t (Or.inr ⟨hck, w⟩)
        have kD : k ∈ cm_D P c (k + 1) := by rw [eD]; exact List.mem_append.mpr (Or.inr (List.mem_singleton.mpr rfl))
        refine br_f (by decide) (nm_e (xw_lin (L := L) (by omega) hPk.1 (hrow k z) (fun q hq => ?_) (fun l li' ll' an' mi' mh' me' tc' hl h1 h2 off => ?_) (fun li' ll' an' mi' mh' me' tc' hl off => ?_)))
        · have h1 := hPk.2 q hq
          obtain ⟨f1, f2, f3, f4⟩ := hF q h1
          exact ⟨h1, (hr q h1).1, by omega, fun x hx => by have := f1 x hx; omega⟩
        · refine nm_r (nI_1 k) (ih (k + 1) _ (la_st L k l) _ _ _ _ _ _ _ (by omega) (by omega) (by omega) (by rw [eD]; exact bs_is_s (by omega) ht) ⟨cm_T_s (cm_P_le hP (by omega)) hT hl, fun r hr' => ?_, fun r hr' hd => ?_, fun r h1r h2r h3r => ?_⟩)
          · by_cases v : r = k
            · rw [v, la_ss]; exact ⟨h1, h2⟩
            · rw [la_sn v]
              exact xr_off (hr r (by omega)) off v (by have := (hF r (by omega)).2.2.1; omega)
          · have v : r ≠ k := fun v => hd (by rw [v]; exact kD)
            rw [la_sn v]
            exact hu r (by omega) (fun m => hd (cm_D_up m))
          · exact xr_off (ho r h1r (by omega) h3r) off (by omega) (hl0 r h1r)
        · obtain ⟨f', rfl⟩ : ∃ f', f = f' + 1 := ⟨f - 1, by omega⟩
          refine nm_r (nI_1 k) (xw_relfail (K0 _ _ _ _ _ _ _ (cm_T_no hP z hT hl) (fun r h1r h3r => ?_)))
          have v : r ≠ k := fun v => h3r (Dle (k + 1) (by omega) r (by rw [v]; exact kD))
          rcases Nat.lt_or_ge r k with q | q
          · have e := hu r q (fun m => h3r (Dle k hk r m))
            rw [← e]
            exact xr_off (hr r q) off v (by have := (hF r q).2.2.1; omega)
          · exact xr_off (ho r h1r q h3r) off v (hl0 r h1r)
      · have nD : ¬ (k = c ∨ (c < k ∧ ∃ q, q ∈ P k ∧ q ∈ cm_D P c k)) := fun v => by
          rcases v with v | ⟨_, q, q1, q2⟩
          · omega
          · exact w q q1 q2
        have eD : cm_D P c (k + 1) = cm_D P c k := cm_D_f nD
        have kD : k ∉ cm_D P c cc := fun m => by
          have : ∀ d, k ∈ cm_D P c (k + 1 + d) → k ∈ cm_D P c (k + 1) := by
            intro d
            induction d with
            | zero => intro h; exact h
            | succ d ihd => intro h; exact ihd (cm_D_dn h (by omega))
          have h1 := this (cc - (k + 1)) (by rw [show k + 1 + (cc - (k + 1)) = cc by omega]; exact m)
          rw [eD] at h1
          have := cm_D_b k k h1
          omega
        have hl : cm_lin L (P k) k = some (L0 k) := by
          rw [cm_lin_c (L' := L0) (fun q hq => hu q (hPk.2 q hq) (w q hq))]
          exact h0 k z kD
        refine br_t rfl (nm_r (nI_1 k) (ih (k + 1) t (la_st L k (L0 k)) _ _ _ _ _ _ _ (by omega) (by omega) (by omega) (by rw [eD]; exact ht) ⟨cm_T_s (cm_P_le hP (by omega)) hT hl, fun r hr' => ?_, fun r hr' hd => ?_, fun r h1r h2r h3r => ho r h1r (by omega) h3r⟩))
        · by_cases v : r = k
          · rw [v, la_ss]; exact ho k z (Nat.le_refl _) kD
          · rw [la_sn v]; exact hr r (by omega)
        · by_cases v : r = k
          · rw [v, la_ss]
          · rw [la_sn v]
            rw [eD] at hd
            exact hu r (by omega) hd
theorem xw_rel {post : Int32 → SX → Prop} {cc c : Nat} {P L0 : Nat → List Nat} (hcc : cc ≤ 10) (hc : c < cc) (hP : cm_P cc P) (hrow : ∀ k, k < cc → la_row pa pc 3 k (P k)) (h0 : ∀ k, k < cc → k ∉ cm_D P c cc → cm_lin L0 (P k) k = some (L0 k)) (hl0 : ∀ k, k < cc → (L0 k).length ≤ 10) (hr0 : ∀ r, r < cc → r ∉ cm_D P c cc → xr_row li ll an r (L0 r))
    (K1 : ∀ t L li ll an mi mh me tc, bs_is t (cm_D P c cc) → xr_I cc c cc P L0 L li ll an → post t (cL, mL, fL, oL, nI cc, sC, mC, oC, sT, rV, oT, fC, pa, pc, li, ll, an, sg, mi, mh, me, tc, mb, ck, cn, cb, bl, co, ca, ob, oF, ou, cp, cq, aa, ab, po, od, oN))
    (K0 : ∀ li ll an mi mh me tc, (¬ ∃ L, cm_T cc P L) → (∀ r, r < cc → r ∉ cm_D P c cc → xr_row li ll an r (L0 r)) → post (-1) (cL, mL, fL, oL, nI cc, sC, mC, oC, sT, rV, oT, fC, pa, pc, li, ll, an, sg, mi, mh, me, tc, mb, ck, cn, cb, bl, co, ca, ob, oF, ou, cp, cq, aa, ab, po, od, oN)) : wpX_relinearise post (cL, mL, fL, oL, nI cc, sC, mC, oC, sT, rV, oT, fC, pa, pc, li, ll, an, sg, mi, mh, me, tc, mb, ck, cn, cb, bl, co, ca, ob, oF, ou, cp, cq, aa, ab, po, od, oN) (nI c) := by
  have Dc : ∀ r, r < c → r ∉ cm_D P c cc := fun r hr m => by have := cm_D_b cc r m; omega
  have cD : c ∈ cm_D P c cc := by
    have := cm_D_le (P := P) (c := c) (x := c) (n := c + 1) (cc - (c + 1)) (by rw [cm_D_1]; exact List.mem_singleton.mpr rfl)
    rw [show c + 1 + (cc - (c + 1)) = cc by omega] at this
    exact this
  have hT : cm_T c P L0 := fun k hk => h0 k (by omega) (Dc k hk)
  have hF := cm_T_f (cm_P_le hP (by omega)) hT
  have hPc := hP c hc
  refine nm_e (xw_lin (L := L0) (by omega) hPc.1 (hrow c hc) (fun q hq => ?_) (fun l li' ll' an' mi' mh' me' tc' hl h1 h2 off => ?_) (fun li' ll' an' mi' mh' me' tc' hl off => ?_))
  · have h1 := hPc.2 q hq
    obtain ⟨f1, f2, f3, f4⟩ := hF q h1
    exact ⟨h1, (hr0 q (by omega) (Dc q h1)).1, by omega, fun x hx => by have := f1 x hx; omega⟩
  · refine nm_r (nI_1 c) (Exists.intro (cc + 1) (xw_rel15 hcc hP hrow h0 hl0 K1 K0 (cc + 1) (c + 1) _ (la_st L0 c l) _ _ _ _ _ _ _ (by omega) (by omega) (by omega) (by rw [cm_D_1]; exact bs_is_1 (by omega)) ⟨cm_T_s (cm_P_le hP (by omega)) hT hl, fun r hr' => ?_, fun r hr' hd => ?_, fun r h1r h2r h3r => ?_⟩))
    · by_cases v : r = c
      · rw [v, la_ss]; exact ⟨h1, h2⟩
      · rw [la_sn v]
        exact xr_off (hr0 r (by omega) (Dc r (by omega))) off v (hl0 r (by omega))
    · have v : r ≠ c := fun v => hd (by rw [cm_D_1]; exact List.mem_singleton.mpr v)
      rw [la_sn v]
    · exact xr_off (hr0 r h1r h3r) off (by omega) (hl0 r h1r)
  · refine nm_r (nI_1 c) (Exists.intro 1 (xw_relfail (K0 _ _ _ _ _ _ _ (cm_T_no hP hc hT hl) (fun r h1r h3r => ?_))))
    exact xr_off (hr0 r h1r h3r) off (fun v => h3r (by rw [v]; exact cD)) (hl0 r h1r)
/-! forgetting the chains of touched classes -/
theorem xw_fc35 {post : SX → Prop} {J2 J12 : Int32 → (Nat → Int32) → (Nat → Int32) → (Nat → Int32) → (Nat → Int32) → (Nat → Int32) → (Nat → Int32) → (Nat → Int32) → (Nat → Int32) → (Nat → Int32) → (Nat → Int32) → (Nat → Int32) → (Nat → Int32) → (Nat → Int32) → (Nat → Int32) → (Nat → Int32) → (Nat → Int32) → (Nat → Int32) → (Nat → Int32) → (Nat → Int32) → (Nat → Int32) → (Nat → Int32) → (Nat → Int32) → (Nat → Int32) → (Nat → Int32) → (Nat → Int32) → (Nat → Int32) → (Nat → Int32) → Prop} {x1 : Int32} {c d : Nat} {ck0 : Nat → Int32} (hc : c < 10) (hd : d < 10)
    (K : ∀ ck, (∀ q, ck q = 0 ∨ ck q = ck0 q) → (∀ g, g < 4 → ck ((g * 10 + c) * 10 + d) = 0) → J12 (nI (d + 1)) pa pc li ll an sg mi mh me tc mb ck cn cb bl co ca ob oF ou cp cq aa ab po od oN) :
    ∀ f g ck, g ≤ 4 → 4 - g < f → (∀ q, ck q = 0 ∨ ck q = ck0 q) → (∀ r, r < g → ck ((r * 10 + c) * 10 + d) = 0) → wX_forgetClasses_35 post J2 J12 x1 (nI c) (nI d) cL mL fL oL cC sC mC oC sT rV oT fC f (nI g) pa pc li ll an sg mi mh me tc mb ck cn cb bl co ca ob oF ou cp cq aa ab po od oN := by
  intro f
  induction f with
  | zero => intro g ck _ h; omega
  | succ f ih =>
    intro g ck hg hf ha hz
    refine pk_le 4 g (fun z => ?_) (fun z => ?_)
    · exact nm_r (nI_1 d) (K ck ha (fun r hr => hz r (by omega)))
    · have e1 : (nI g * 10 + nI c) * 10 + nI d = nI ((g * 10 + c) * 10 + d) := by rw [nu_m10, nI_add, nu_m10, nI_add]
      rw [e1, nI_clamp (by omega)]
      refine And.intro (vp_in_nI (by omega) (by decide)) (nm_r (e' := upd ck ((g * 10 + c) * 10 + d) 0) rfl (nm_r (nI_1 g) (ih (g + 1) _ (by omega) (by omega) (fun q => ?_) (fun r hr => ?_))))
      · by_cases v : q = (g * 10 + c) * 10 + d
        · rw [v, pk_us]; exact Or.inl rfl
        · rw [pk_un v]; exact ha q
      · by_cases v : r = g
        · rw [v, pk_us]
        · rw [pk_un (by omega)]; exact hz r (by omega)
theorem xw_fc12 {post : SX → Prop} {J2 : Int32 → (Nat → Int32) → (Nat → Int32) → (Nat → Int32) → (Nat → Int32) → (Nat → Int32) → (Nat → Int32) → (Nat → Int32) → (Nat → Int32) → (Nat → Int32) → (Nat → Int32) → (Nat → Int32) → (Nat → Int32) → (Nat → Int32) → (Nat → Int32) → (Nat → Int32) → (Nat → Int32) → (Nat → Int32) → (Nat → Int32) → (Nat → Int32) → (Nat → Int32) → (Nat → Int32) → (Nat → Int32) → (Nat → Int32) → (Nat → Int32) → (Nat → Int32) → (Nat → Int32) → (Nat → Int32) → Prop} {t : Int32} {cc c : Nat} {T : List Nat} {ck0 : Nat → Int32} (hcc : cc ≤ 10) (hc : c < 10) (ht : bs_is t T)
    (K : ∀ ck, (∀ q, ck q = 0 ∨ ck q = ck0 q) → (∀ g d, g < 4 → d < cc → (c ∈ T ∨ d ∈ T) → ck ((g * 10 + c) * 10 + d) = 0) → J2 (nI (c + 1)) pa pc li ll an sg mi mh me tc mb ck cn cb bl co ca ob oF ou cp cq aa ab po od oN) :
    ∀ f d ck, d ≤ cc → cc - d < f → (∀ q, ck q = 0 ∨ ck q = ck0 q) → (∀ g r, g < 4 → r < d → (c ∈ T ∨ r ∈ T) → ck ((g * 10 + c) * 10 + r) = 0) → wX_forgetClasses_12 post J2 t (nI c) cL mL fL oL (nI cc) sC mC oC sT rV oT fC f (nI d) pa pc li ll an sg mi mh me tc mb ck cn cb bl co ca ob oF ou cp cq aa ab po od oN := by
  intro f
  induction f with
  | zero => intro d ck _ h; omega
  | succ f ih =>
    intro d ck hd hf ha hz
    refine pk_le cc d (fun z => ?_) (fun z => ?_)
    · exact nm_r (nI_1 c) (K ck ha (fun g r hg hr h => hz g r hg (by omega) h))
    · refine br_c (fun w => ?_) (fun w => ?_)
      · have w' := (bs_is_2 ht (by omega) (by omega)).mp w
        refine nm_r (nI_1 d) (ih (d + 1) ck (by omega) (by omega) ha (fun g r hg hr h => ?_))
        by_cases v : r = d
        · subst v
          exact (h.elim w'.1 w'.2).elim
        · exact hz g r hg (by omega) h
      · refine Exists.intro 5 (xw_fc35 (ck0 := ck) hc (by omega) (fun ck' h1 h2 => ih (d + 1) ck' (by omega) (by omega) (fun q => ?_) (fun g r hg hr h => ?_)) 5 0 ck (by omega) (by omega) (fun q => Or.inr rfl) (fun r hr => absurd hr (by omega)))
        · rcases h1 q with e | e
          · exact Or.inl e
          · rw [e]; exact ha q
        · by_cases v : r = d
          · rw [v]; exact h2 g hg
          · rcases h1 ((g * 10 + c) * 10 + r) with e | e
            · exact e
            · rw [e]; exact hz g r hg (by omega) h
theorem xw_forgetC {post : SX → Prop} {t : Int32} {cc : Nat} {T : List Nat} (hcc : cc ≤ 10) (ht : bs_is t T)
    (K : ∀ ck', (∀ q, ck' q = 0 ∨ ck' q = ck q) → (∀ g c d, g < 4 → c < cc → d < cc → (c ∈ T ∨ d ∈ T) → ck' ((g * 10 + c) * 10 + d) = 0) → post (cL, mL, fL, oL, nI cc, sC, mC, oC, sT, rV, oT, fC, pa, pc, li, ll, an, sg, mi, mh, me, tc, mb, ck', cn, cb, bl, co, ca, ob, oF, ou, cp, cq, aa, ab, po, od, oN)) : wpX_forgetClasses post (cL, mL, fL, oL, nI cc, sC, mC, oC, sT, rV, oT, fC, pa, pc, li, ll, an, sg, mi, mh, me, tc, mb, ck, cn, cb, bl, co, ca, ob, oF, ou, cp, cq, aa, ab, po, od, oN) t := by
  have key : ∀ f c ck', c ≤ cc → cc - c < f → (∀ q, ck' q = 0 ∨ ck' q = ck q) → (∀ g r d, g < 4 → r < c → d < cc → (r ∈ T ∨ d ∈ T) → ck' ((g * 10 + r) * 10 + d) = 0) → wX_forgetClasses_2 post t cL mL fL oL (nI cc) sC mC oC sT rV oT fC f (nI c) pa pc li ll an sg mi mh me tc mb ck' cn cb bl co ca ob oF ou cp cq aa ab po od oN := by
    intro f
    induction f with
    | zero => intro c ck' _ h; omega
    | succ f ih =>
      intro c ck' hc hf ha hz
      refine pk_le cc c (fun z => ?_) (fun z => ?_)
      · exact K ck' ha (fun g r d hg hr hd h => hz g r d hg (by omega) hd h)
      · refine Exists.intro (cc + 1) (xw_fc12 (ck0 := ck') (T := T) hcc (by omega) ht (fun ck2 h1 h2 => ih (c + 1) ck2 (by omega) (by omega) (fun q => ?_) (fun g r d hg hr hd h => ?_)) (cc + 1) 0 ck' (by omega) (by omega) (fun q => Or.inr rfl) (fun g r hg hr => absurd hr (by omega)))
        · rcases h1 q with e | e
          · exact Or.inl e
          · rw [e]; exact ha q
        · by_cases v : r = c
          · subst v
            exact h2 g d hg hd h
          · rcases h1 ((g * 10 + r) * 10 + d) with e | e
            · exact e
            · rw [e]; exact hz g r d hg (by omega) hd h
  exact Exists.intro (cc + 1) (key _ 0 ck (by omega) (by omega) (fun q => Or.inr rfl) (fun g r d _ hr => absurd hr (by omega)))
end XREL
end
section
section YCLS
variable {cL mL fL oL cC mC oC fC sT rV oT : Int32} {qa qc mg ms mt mB co ca bl ob oF cp cq od oN aa ab po ou yl yn ys ye yf : Nat → Int32}
theorem yw_bad {post : Int32 → Prop} {c : Nat} {p : Int32} (hc : c < 2 ^ 31) (K0 : sp_ok c p → post 0) (K1 : ¬ sp_ok c p → post 1) : wpY_badParent post (cL, mL, fL, oL, cC, mC, oC, fC, sT, rV, oT, qa, qc, mg, ms, mt, mB, co, ca, bl, ob, oF, cp, cq, od, oN, aa, ab, po, ou, yl, yn, ys, ye, yf) p (nI c) := by
  refine br_c (fun h => K0 (Or.inl h)) (fun h => br_c (fun h2 => K1 (fun o => ?_)) (fun h2 => br_c (fun h3 => K0 (Or.inr ?_)) (fun h3 => K1 (fun o => ?_))))
  · rcases o with o | ⟨q, hq, rfl⟩
    · exact h o
    · exact nI_pos (by omega) h2
  · obtain ⟨j, hj, rfl⟩ := nI_of h2
    exact ⟨j, (nI_ltI hj hc).mp h3, rfl⟩
  · rcases o with o | ⟨q, hq, rfl⟩
    · exact h o
    · exact h3 (nI_lt hq hc)
theorem yw_check {post : Int32 → Prop} {c : Nat} {p1 p2 p3 : Int32} (hc : c ≤ 10)
    (K3 : ¬ (sp_ok c p1 ∧ sp_ok c p2 ∧ sp_ok c p3) → post (-3))
    (K4 : (sp_ok c p1 ∧ sp_ok c p2 ∧ sp_ok c p3) → sp_dup p1 p2 p3 → post (-4))
    (K : (sp_ok c p1 ∧ sp_ok c p2 ∧ sp_ok c p3) → ¬ sp_dup p1 p2 p3 → post 0) : wpY_checkParents post (cL, mL, fL, oL, cC, mC, oC, fC, sT, rV, oT, qa, qc, mg, ms, mt, mB, co, ca, bl, ob, oF, cp, cq, od, oN, aa, ab, po, ou, yl, yn, ys, ye, yf) (nI c) p1 p2 p3 := by
  have hc' : c < 2 ^ 31 := by omega
  unfold wpY_checkParents
  dsimp only
  refine yw_bad hc' (fun o1 => br_t rfl ?_) (fun o1 => br_f sm_10 (K3 (fun w => o1 w.1)))
  refine yw_bad hc' (fun o2 => br_t rfl ?_) (fun o2 => br_f sm_10 (K3 (fun w => o2 w.2.1)))
  refine yw_bad hc' (fun o3 => br_t rfl ?_) (fun o3 => br_f sm_10 (K3 (fun w => o3 w.2.2)))
  have ok := And.intro o1 (And.intro o2 o3)
  have q48 : (p1 = -1 ∨ (¬ p1 = p2 ∧ ¬ p1 = p3)) → wY_checkParents_47 post p2 p3 cL mL fL oL cC mC oC fC sT rV oT qa qc mg ms mt mB co ca bl ob oF cp cq od oN aa ab po ou yl yn ys ye yf := fun w1 => by
    have nd : (p2 = -1 ∨ ¬ p2 = p3) → post 0 := fun w2 => K ok (fun d => by
      rcases d with ⟨d1, d2⟩ | ⟨d1, d2⟩
      · rcases w1 with w1 | w1
        · exact d1 w1
        · exact d2.elim w1.1 w1.2
      · exact w2.elim d1 (fun w => w d2))
    exact br_c (fun h => nd (Or.inl h)) (fun h => br_c (fun h2 => K4 ok (Or.inr ⟨h, h2⟩)) (fun h2 => nd (Or.inr h2)))
  exact br_c (fun h => q48 (Or.inl h)) (fun h => br_c (fun h2 => K4 ok (Or.inl ⟨h, Or.inl h2⟩)) (fun h2 => br_c (fun h3 => K4 ok (Or.inl ⟨h, Or.inr h3⟩)) (fun h3 => q48 (Or.inr ⟨h2, h3⟩))))
/-- all parent lists but that of c stay -/
def yo_poff (c : Nat) (qa qc qa' qc' : Nat → Int32) : Prop := (∀ j, j < c * 3 ∨ c * 3 + 3 ≤ j → qa' j = qa j) ∧ (∀ j, j ≠ c → qc' j = qc j)
theorem yw_addP {post : SY → Prop} {l : List Nat} {p : Int32} {c n : Nat} {qa0 qc0 : Nat → Int32} (hc : c < 10) (hs : la_row qa qc 3 c l) (ho : yo_poff c qa0 qc0 qa qc) (hl : l.length < 3) (hp : sp_ok n p) (hn : n ≤ 10) (K : ∀ qa' qc', la_row qa' qc' 3 c (l ++ sp_o p) → yo_poff c qa0 qc0 qa' qc' → post (cL, mL, fL, oL, cC, mC, oC, fC, sT, rV, oT, qa', qc', mg, ms, mt, mB, co, ca, bl, ob, oF, cp, cq, od, oN, aa, ab, po, ou, yl, yn, ys, ye, yf)) : wpY_addParent post (cL, mL, fL, oL, cC, mC, oC, fC, sT, rV, oT, qa, qc, mg, ms, mt, mB, co, ca, bl, ob, oF, cp, cq, od, oN, aa, ab, po, ou, yl, yn, ys, ye, yf) (nI c) p := by
  have ci : (nI c).toNatClampNeg = c := nI_clamp (by omega)
  rcases hp with rfl | ⟨q, hq, rfl⟩
  · refine br_t rfl (K _ _ ?_ ho)
    have e : sp_o (-1) = [] := if_pos rfl
    rw [e, List.append_nil]
    exact hs
  · refine br_f (nu_ne1 (by omega)) ?_
    rw [ci, hs.1, nu_m3, nI_add, nI_clamp (by omega), nI_1]
    refine And.intro (vp_in_nI hc (by decide)) (pk_le 3 l.length (fun z => absurd z (by omega)) (fun z => And.intro (vp_in_nI hc (by decide)) (And.intro (vp_in_nI (by omega) (by decide)) (nm_e (And.intro (vp_in_nI hc (by decide)) (And.intro (vp_in_nI hc (by decide)) (nm_e (K _ _ ⟨?_, fun j hj => ?_⟩ ⟨fun j hj => ?_, fun j hj => ?_⟩))))))))
    · have e : sp_o (nI q) = [q] := by unfold sp_o; rw [if_neg (nu_ne1 (by omega)), nI_clamp (by omega)]
      rw [e, pk_us, List.length_append]; rfl
    · have e : sp_o (nI q) = [q] := by unfold sp_o; rw [if_neg (nu_ne1 (by omega)), nI_clamp (by omega)]
      rw [e, List.length_append, List.length_singleton] at hj
      rw [e]
      rcases Nat.lt_or_ge j l.length with w | w
      · rw [pk_un (by omega), la_gl w]; exact hs.2 j w
      · rw [show j = l.length by omega, pk_us, la_ge]
    · rw [pk_un (by omega)]; exact ho.1 j hj
    · rw [pk_un hj]; exact ho.2 j hj
theorem yw_put {post : SY → Prop} {c n : Nat} {p1 p2 p3 : Int32} (hc : c < 10) (h0 : 0 < n) (hn : n ≤ 10) (h1 : sp_ok n p1) (h2 : sp_ok n p2) (h3 : sp_ok n p3) (K : ∀ qa' qc', la_row qa' qc' 3 c (sp_l p1 p2 p3) → yo_poff c qa qc qa' qc' → post (cL, mL, fL, oL, cC, mC, oC, fC, sT, rV, oT, qa', qc', mg, ms, mt, mB, co, ca, bl, ob, oF, cp, cq, od, oN, aa, ab, po, ou, yl, yn, ys, ye, yf)) : wpY_putParents post (cL, mL, fL, oL, cC, mC, oC, fC, sT, rV, oT, qa, qc, mg, ms, mt, mB, co, ca, bl, ob, oF, cp, cq, od, oN, aa, ab, po, ou, yl, yn, ys, ye, yf) (nI c) p1 p2 p3 := by
  have l1 := sp_o_l p1
  have l2 := sp_o_l p2
  have l3 := sp_o_l p3
  have ci : (nI c).toNatClampNeg = c := nI_clamp (by omega)
  refine And.intro (vp_in_nI hc (by decide)) (nm_r (e' := upd qc c 0) (by rw [ci]) ?_)
  refine yw_addP (l := []) (n := n) (qa0 := qa) (qc0 := qc) hc ⟨pk_us, fun j hj => absurd hj (by simp)⟩ ⟨fun _ _ => rfl, fun j hj => pk_un hj⟩ (by decide) h1 hn (fun qa1 qc1 e1 o1 => ?_)
  rw [List.nil_append] at e1
  refine yw_addP hc e1 o1 (by omega) h2 hn (fun qa2 qc2 e2 o2 => ?_)
  refine yw_addP hc e2 o2 (by rw [List.length_append]; omega) h3 hn (fun qa3 qc3 e3 o3 => ?_)
  have b3 : (sp_o p1 ++ sp_o p2 ++ sp_o p3).length ≤ 3 := by rw [List.length_append, List.length_append]; omega
  refine And.intro (vp_in_nI hc (by decide)) (pk_eq (sp_o p1 ++ sp_o p2 ++ sp_o p3).length 0 (fun z => ?_) (fun z => ?_) (by rw [ci]; exact e3.1))
  · have z' := List.length_eq_zero_iff.mp z
    rw [z'] at e3
    refine yw_addP (p := 0) (n := n) hc e3 o3 (by decide) (Or.inr ⟨0, h0, rfl⟩) hn (fun qa4 qc4 e4 o4 => K _ _ ?_ o4)
    unfold sp_l
    rw [if_pos z']
    exact e4
  · refine K _ _ ?_ o3
    unfold sp_l
    rw [if_neg (fun w => z (by rw [w]; rfl))]
    exact e3
end YCLS
end
section
/-! chains, pure -/
theorem la_fi {α β : Type} {f : α → β → α} {I : α → Prop} : ∀ (l : List β) (a : α), (∀ a x, x ∈ l → I a → I (f a x)) → I a → I (l.foldl f a) := by
  intro l
  induction l with
  | nil => intro a _ h; exact h
  | cons x l ih => intro a hf h; exact ih (f a x) (fun a y hy => hf a y (List.mem_cons_of_mem _ hy)) (hf a x List.mem_cons_self h)
theorem la_fc {α β : Type} {f f' : α → β → α} : ∀ (l : List β) (a : α), (∀ a x, x ∈ l → f a x = f' a x) → l.foldl f a = l.foldl f' a := by
  intro l
  induction l with
  | nil => intro a _; rfl
  | cons x l ih =>
    intro a hf
    show l.foldl f (f a x) = l.foldl f' (f' a x)
    rw [hf a x List.mem_cons_self]
    exact ih _ (fun a y hy => hf a y (List.mem_cons_of_mem _ hy))
def ch_1 (mb : Nat → Int32) (g s : Nat) (acc : List Int32) (t : Nat) : List Int32 := if mb ((g * 10 + s) * 10 + t) = -1 then acc else if acc.length < 16 then acc ++ [mb ((g * 10 + s) * 10 + t)] else acc
def ch_2 (mb : Nat → Int32) (g : Nat) (ld : List Nat) (acc : List Int32) (s : Nat) : List Int32 := ld.foldl (ch_1 mb g s) acc
def ch_L (mb : Nat → Int32) (g : Nat) (lc ld : List Nat) : List Int32 := lc.foldl (ch_2 mb g ld) []
theorem ch_1_l {mb : Nat → Int32} {g s t : Nat} {acc : List Int32} (h : acc.length ≤ 16) : (ch_1 mb g s acc t).length ≤ 16 := by
  unfold ch_1
  split
  · exact h
  · split
    · rw [List.length_append, List.length_singleton]; omega
    · exact h
theorem ch_2_l {mb : Nat → Int32} {g s : Nat} {ld : List Nat} {acc : List Int32} (h : acc.length ≤ 16) : (ch_2 mb g ld acc s).length ≤ 16 := la_fi (I := fun a => a.length ≤ 16) ld acc (fun _ _ _ h => ch_1_l h) h
theorem ch_L_l {mb : Nat → Int32} {g : Nat} {lc ld : List Nat} : (ch_L mb g lc ld).length ≤ 16 := la_fi (f := ch_2 mb g ld) (I := fun (a : List Int32) => a.length ≤ 16) lc [] (fun _ _ _ h => ch_2_l h) (Nat.zero_le 16)
theorem ch_L_c {mb mb' : Nat → Int32} {g : Nat} {lc ld : List Nat} (h : ∀ s t, s ∈ lc → t ∈ ld → mb ((g * 10 + s) * 10 + t) = mb' ((g * 10 + s) * 10 + t)) : ch_L mb g lc ld = ch_L mb' g lc ld :=
  la_fc lc [] (fun a s hs => la_fc ld a (fun b t ht => by unfold ch_1; rw [h s t hs ht]))
/-- the bodies of a chain are bodies of methods -/
theorem ch_L_b {mb : Nat → Int32} {g : Nat} {lc ld : List Nat} {Q : Int32 → Prop} (h : ∀ s t, s ∈ lc → t ∈ ld → mb ((g * 10 + s) * 10 + t) = -1 ∨ Q (mb ((g * 10 + s) * 10 + t))) : ∀ b, b ∈ ch_L mb g lc ld → Q b :=
  la_fi (I := fun a => ∀ b, b ∈ a → Q b) lc [] (fun a s hs ha => la_fi (I := fun a => ∀ b, b ∈ a → Q b) ld a (fun a t ht ha b hb => by
    unfold ch_1 at hb
    split at hb
    · exact ha b hb
    · rename_i hn
      split at hb
      · rcases List.mem_append.mp hb with q | q
        · exact ha b q
        · rw [List.mem_singleton.mp q]
          exact (h s t hs ht).resolve_left hn
      · exact ha b hb) ha) (fun b hb => absurd hb (by simp))
def ch_e (acc : List Int32) (q : Nat) (cb : Nat → Int32) : Prop := ∀ i, i < acc.length → cb (q * 16 + i) = acc.getD i 0
/-- row q of the cache holds l -/
def ch_at (l : List Int32) (q : Nat) (cn cb : Nat → Int32) : Prop := cn q = nI l.length ∧ ch_e l q cb
/-- the cache: a known row holds the chain -/
def rl_K (cc : Nat) (L : Nat → List Nat) (mb ck cn cb : Nat → Int32) : Prop := ∀ g c d, g < 4 → c < 10 → d < 10 → ck ((g * 10 + c) * 10 + d) = 0 ∨ (c < cc ∧ d < cc ∧ ch_at (ch_L mb g (L c) (L d)) ((g * 10 + c) * 10 + d) cn cb)
theorem ch_sl {g c d g' c' d' : Nat} (hc : c < 10) (hd : d < 10) (hc' : c' < 10) (hd' : d' < 10) (h : (g * 10 + c) * 10 + d = (g' * 10 + c') * 10 + d') : g = g' ∧ c = c' ∧ d = d' := by omega
theorem rl_K_f {cc g c d : Nat} {L : Nat → List Nat} {mb ck cn cb cn' cb' : Nat → Int32} (hcc : cc ≤ 10) (hc : c < cc) (hd : d < cc) (hK : rl_K cc L mb ck cn cb) (h1 : ch_at (ch_L mb g (L c) (L d)) ((g * 10 + c) * 10 + d) cn' cb') (h2 : ∀ j, j ≠ (g * 10 + c) * 10 + d → cn' j = cn j) (h3 : ∀ j, j < ((g * 10 + c) * 10 + d) * 16 ∨ ((g * 10 + c) * 10 + d) * 16 + 16 ≤ j → cb' j = cb j) : rl_K cc L mb (upd ck ((g * 10 + c) * 10 + d) 1) cn' cb' := by
  intro g' c' d' hg' hc' hd'
  by_cases w : (g' * 10 + c') * 10 + d' = (g * 10 + c) * 10 + d
  · obtain ⟨rfl, rfl, rfl⟩ := ch_sl hc' hd' (by omega) (by omega) w
    exact Or.inr ⟨hc, hd, h1⟩
  · rw [pk_un w]
    rcases hK g' c' d' hg' hc' hd' with e | ⟨e1, e2, e3, e4⟩
    · exact Or.inl e
    · refine Or.inr ⟨e1, e2, by rw [h2 _ w]; exact e3, fun i hi => ?_⟩
      have := ch_L_l (mb := mb) (g := g') (lc := L c') (ld := L d')
      rw [h3 _ (by omega)]
      exact e4 i hi
section XCH
variable {cL mL fL oL cC sC mC oC sT rV oT fC : Int32} {pa pc li ll an sg mi mh me tc mb ck cn cb bl co ca ob oF ou cp cq aa ab po od oN : Nat → Int32}
theorem xw_fill42 {post : SX → Prop} {J6 : Int32 → Int32 → (Nat → Int32) → (Nat → Int32) → (Nat → Int32) → (Nat → Int32) → (Nat → Int32) → (Nat → Int32) → (Nat → Int32) → (Nat → Int32) → (Nat → Int32) → (Nat → Int32) → (Nat → Int32) → (Nat → Int32) → (Nat → Int32) → (Nat → Int32) → (Nat → Int32) → (Nat → Int32) → (Nat → Int32) → (Nat → Int32) → (Nat → Int32) → (Nat → Int32) → (Nat → Int32) → (Nat → Int32) → (Nat → Int32) → (Nat → Int32) → (Nat → Int32) → (Nat → Int32) → (Nat → Int32) → Prop} {g c d i s q : Nat} {ld : List Nat} {R : List Int32} {cb0 : Nat → Int32} (hq : q < 400) (hg : g < 4) (hs : s < 10) (hd : d < 10) (hr : la_row li ll 10 d ld) (hl : ld.length ≤ 10) (h10 : ∀ x, x ∈ ld → x < 10)
    (K : ∀ cb, ch_e R q cb → (∀ j, j < q * 16 ∨ q * 16 + 16 ≤ j → cb j = cb0 j) → J6 (nI R.length) (nI (i + 1)) pa pc li ll an sg mi mh me tc mb ck cn cb bl co ca ob oF ou cp cq aa ab po od oN) :
    ∀ f j acc cb, j ≤ ld.length → ld.length - j < f → acc.length ≤ 16 → ch_e acc q cb → (∀ j, j < q * 16 ∨ q * 16 + 16 ≤ j → cb j = cb0 j) → (ld.drop j).foldl (ch_1 mb g s) acc = R → wX_fillChain_42 post J6 (nI q) (nI g) (nI c) (nI d) (nI i) (nI ((g * 10 + s) * 10)) cL mL fL oL cC sC mC oC sT rV oT fC f (nI acc.length) (nI j) pa pc li ll an sg mi mh me tc mb ck cn cb bl co ca ob oF ou cp cq aa ab po od oN := by
  intro f
  induction f with
  | zero => intro j acc cb _ h; omega
  | succ f ih =>
    intro j acc cb hj hf ha he ho hR
    refine And.intro (vp_in_nI hd (by decide)) (pk_le ld.length j (fun z => ?_) (fun z => ?_) (by rw [nI_clamp (by omega)]; exact hr.1))
    · rw [List.drop_eq_nil_of_le z] at hR
      have hR' : acc = R := hR
      subst hR'
      exact nm_r (nI_1 i) (K cb he ho)
    · have e1 : nI d * 10 + nI j = nI (d * 10 + j) := by rw [nu_m10, nI_add]
      have e2 : li (nI (d * 10 + j)).toNatClampNeg = nI (ld.getD j 0) := by rw [nI_clamp (by omega)]; exact hr.2 j z
      have h1 := h10 _ (la_gm (d := 0) z)
      rw [la_dr (d := 0) z] at hR
      have hR1 : (ld.drop (j + 1)).foldl (ch_1 mb g s) (ch_1 mb g s acc (ld.getD j 0)) = R := hR
      rw [e1, e2, nI_add, nI_clamp (n := (g * 10 + s) * 10 + ld.getD j 0) (by omega)]
      refine And.intro (vp_in_nI (by omega) (by decide)) (And.intro (vp_in_nI (by omega) (by decide)) (nm_e (br_c (fun w => ?_) (fun w => ?_))))
      · have e3 : ch_1 mb g s acc (ld.getD j 0) = acc := if_pos w
        rw [e3] at hR1
        exact nm_r (nI_1 j) (ih (j + 1) acc cb (by omega) (by omega) ha he ho hR1)
      · refine pk_le 16 acc.length (fun v => ?_) (fun v => ?_)
        · have e3 : ch_1 mb g s acc (ld.getD j 0) = acc := by unfold ch_1; rw [if_neg w, if_neg (by omega)]
          rw [e3] at hR1
          exact nm_r (nI_1 j) (ih (j + 1) acc cb (by omega) (by omega) ha he ho hR1)
        · have e3 : ch_1 mb g s acc (ld.getD j 0) = acc ++ [mb ((g * 10 + s) * 10 + ld.getD j 0)] := by unfold ch_1; rw [if_neg w, if_pos v]
          rw [e3] at hR1
          rw [nu_m16, nI_add, nI_clamp (by omega), nI_1]
          refine And.intro (vp_in_nI (by omega) (by decide)) (nm_e (nm_e (nm_r (nI_1 j) ?_)))
          have := ih (j + 1) _ (upd cb (q * 16 + acc.length) (mb ((g * 10 + s) * 10 + ld.getD j 0))) (by omega) (by omega) (by rw [List.length_append, List.length_singleton]; omega) (fun m hm => ?_) (fun m hm => ?_) hR1
          · rw [List.length_append, List.length_singleton] at this
            exact this
          · rw [List.length_append, List.length_singleton] at hm
            rcases Nat.lt_or_ge m acc.length with y | y
            · rw [pk_un (by omega), la_gl y]; exact he m y
            · rw [show m = acc.length by omega, pk_us, la_ge]
          · rw [pk_un (by omega)]; exact ho m hm
theorem xw_fill {post : SX → Prop} {g c d q : Nat} {lc ld : List Nat} (hq : q < 400) (hg : g < 4) (hc : c < 10) (hd : d < 10) (hrc : la_row li ll 10 c lc) (hlc : lc.length ≤ 10) (h10c : ∀ x, x ∈ lc → x < 10) (hr : la_row li ll 10 d ld) (hl : ld.length ≤ 10) (h10 : ∀ x, x ∈ ld → x < 10)
    (K : ∀ cn' cb', ch_at (ch_L mb g lc ld) q cn' cb' → (∀ j, j ≠ q → cn' j = cn j) → (∀ j, j < q * 16 ∨ q * 16 + 16 ≤ j → cb' j = cb j) → post (cL, mL, fL, oL, cC, sC, mC, oC, sT, rV, oT, fC, pa, pc, li, ll, an, sg, mi, mh, me, tc, mb, ck, cn', cb', bl, co, ca, ob, oF, ou, cp, cq, aa, ab, po, od, oN)) : wpX_fillChain post (cL, mL, fL, oL, cC, sC, mC, oC, sT, rV, oT, fC, pa, pc, li, ll, an, sg, mi, mh, me, tc, mb, ck, cn, cb, bl, co, ca, ob, oF, ou, cp, cq, aa, ab, po, od, oN) (nI q) (nI g) (nI c) (nI d) := by
  have key : ∀ f i acc cb', i ≤ lc.length → lc.length - i < f → acc.length ≤ 16 → ch_e acc q cb' → (∀ j, j < q * 16 ∨ q * 16 + 16 ≤ j → cb' j = cb j) → (lc.drop i).foldl (ch_2 mb g ld) acc = ch_L mb g lc ld → wX_fillChain_6 post (nI q) (nI g) (nI c) (nI d) cL mL fL oL cC sC mC oC sT rV oT fC f (nI acc.length) (nI i) pa pc li ll an sg mi mh me tc mb ck cn cb' bl co ca ob oF ou cp cq aa ab po od oN := by
    intro f
    induction f with
    | zero => intro i acc cb' _ h; omega
    | succ f ih =>
      intro i acc cb' hi hf ha he ho hR
      refine And.intro (vp_in_nI hc (by decide)) (pk_le lc.length i (fun z => ?_) (fun z => ?_) (by rw [nI_clamp (by omega)]; exact hrc.1))
      · rw [List.drop_eq_nil_of_le z] at hR
        have hR' : acc = ch_L mb g lc ld := hR
        refine And.intro (vp_in_nI hq (by decide)) (nm_r (e' := upd cn q (nI acc.length)) (by rw [nI_clamp (by omega)]) (K _ _ ⟨?_, ?_⟩ (fun j hj => pk_un hj) ho))
        · rw [pk_us, hR']
        · rw [← hR']; exact he
      · have e1 : nI c * 10 + nI i = nI (c * 10 + i) := by rw [nu_m10, nI_add]
        have e2 : li (nI (c * 10 + i)).toNatClampNeg = nI (lc.getD i 0) := by rw [nI_clamp (by omega)]; exact hrc.2 i z
        have h1 := h10c _ (la_gm (d := 0) z)
        rw [la_dr (d := 0) z] at hR
        have hR1 : (lc.drop (i + 1)).foldl (ch_2 mb g ld) (ch_2 mb g ld acc (lc.getD i 0)) = ch_L mb g lc ld := hR
        rw [e1, e2, nu_m10, nI_add, nu_m10]
        refine And.intro (vp_in_nI (by omega) (by decide)) (nm_e (Exists.intro (ld.length + 1) ?_))
        exact xw_fill42 (R := ch_2 mb g ld acc (lc.getD i 0)) (cb0 := cb) hq hg h1 hd hr hl h10 (fun cb2 h2 h3 => ih (i + 1) _ cb2 (by omega) (by omega) (ch_2_l ha) h2 h3 hR1) (ld.length + 1) 0 acc cb' (by omega) (by omega) ha he ho (by rw [List.drop_zero]; rfl)
  exact Exists.intro (lc.length + 1) (key _ 0 [] cb (by omega) (by omega) (by decide) (fun i hi => absurd hi (by simp)) (fun _ _ => rfl) (by rw [List.drop_zero]; rfl))
theorem xw_slot {post : Int32 → Prop} {g c d : Nat} (K : post (nI ((g * 10 + c) * 10 + d))) : wpX_slotOf post (cL, mL, fL, oL, cC, sC, mC, oC, sT, rV, oT, fC, pa, pc, li, ll, an, sg, mi, mh, me, tc, mb, ck, cn, cb, bl, co, ca, ob, oF, ou, cp, cq, aa, ab, po, od, oN) (nI g) (nI c) (nI d) := by
  have e1 : (nI g * 10 + nI c) * 10 + nI d = nI ((g * 10 + c) * 10 + d) := by rw [nu_m10, nI_add, nu_m10, nI_add]
  show post ((nI g * 10 + nI c) * 10 + nI d)
  rw [e1]
  exact K
theorem xw_disp {post : Int32 → SX → Prop} {cc g c d : Nat} {L : Nat → List Nat} (hg : g < 4) (hcc : cc ≤ 10) (hc : c < cc) (hd : d < cc) (hK : rl_K cc L mb ck cn cb) (hL : ∀ r, r < cc → la_row li ll 10 r (L r) ∧ (L r).length ≤ 10 ∧ ∀ x, x ∈ L r → x < 10)
    (K : ∀ ck' cn' cb', rl_K cc L mb ck' cn' cb' → ch_at (ch_L mb g (L c) (L d)) ((g * 10 + c) * 10 + d) cn' cb' → post (nI ((g * 10 + c) * 10 + d)) (cL, mL, fL, oL, cC, sC, mC, oC, sT, rV, oT, fC, pa, pc, li, ll, an, sg, mi, mh, me, tc, mb, ck', cn', cb', bl, co, ca, ob, oF, ou, cp, cq, aa, ab, po, od, oN)) : wpX_dispatch post (cL, mL, fL, oL, cC, sC, mC, oC, sT, rV, oT, fC, pa, pc, li, ll, an, sg, mi, mh, me, tc, mb, ck, cn, cb, bl, co, ca, ob, oF, ou, cp, cq, aa, ab, po, od, oN) (nI g) (nI c) (nI d) := by
  have hq : (g * 10 + c) * 10 + d < 400 := by omega
  have ci : (nI ((g * 10 + c) * 10 + d)).toNatClampNeg = (g * 10 + c) * 10 + d := nI_clamp (by omega)
  unfold wpX_dispatch
  dsimp only
  refine xw_slot (And.intro (vp_in_nI hq (by decide)) ?_)
  rw [ci]
  rcases Classical.em (ck ((g * 10 + c) * 10 + d) = 0) with w | w
  · refine br_t w (xw_fill hq hg (by omega) (by omega) (hL c hc).1 (hL c hc).2.1 (hL c hc).2.2 (hL d hd).1 (hL d hd).2.1 (hL d hd).2.2 (fun cn' cb' h1 h2 h3 => ?_))
    exact And.intro (vp_in_nI hq (by decide)) (nm_r (e' := upd ck ((g * 10 + c) * 10 + d) 1) rfl (K (upd ck ((g * 10 + c) * 10 + d) 1) cn' cb' (rl_K_f hcc hc hd hK h1 h2 h3) h1))
  · exact br_f w (K _ _ _ hK ((hK g c d hg (by omega) (by omega)).resolve_left w).2.2)
/-! forgetting the chains of a method -/
theorem xw_fm29 {post : SX → Prop} {J3 : Int32 → (Nat → Int32) → (Nat → Int32) → (Nat → Int32) → (Nat → Int32) → (Nat → Int32) → (Nat → Int32) → (Nat → Int32) → (Nat → Int32) → (Nat → Int32) → (Nat → Int32) → (Nat → Int32) → (Nat → Int32) → (Nat → Int32) → (Nat → Int32) → (Nat → Int32) → (Nat → Int32) → (Nat → Int32) → (Nat → Int32) → (Nat → Int32) → (Nat → Int32) → (Nat → Int32) → (Nat → Int32) → (Nat → Int32) → (Nat → Int32) → (Nat → Int32) → (Nat → Int32) → (Nat → Int32) → Prop} {cc g s t c : Nat} {L : Nat → List Nat} {ck0 : Nat → Int32} (hcc : cc ≤ 10) (hg : g < 4) (ht : t < cc) (hc : c < 10) (hA : ∀ r, r < cc → bs_is (an r) (L r))
    (K : ∀ ck, (∀ q, ck q = 0 ∨ ck q = ck0 q) → (∀ d, t ≤ d → d < cc → t ∈ L d → ck ((g * 10 + c) * 10 + d) = 0) → J3 (nI (c + 1)) pa pc li ll an sg mi mh me tc mb ck cn cb bl co ca ob oF ou cp cq aa ab po od oN) :
    ∀ f d ck, d ≤ cc → cc - d < f → (∀ q, ck q = 0 ∨ ck q = ck0 q) → (∀ r, t ≤ r → r < d → t ∈ L r → ck ((g * 10 + c) * 10 + r) = 0) → wX_forgetMethod_29 post J3 (nI g) (nI s) (nI t) (nI c) cL mL fL oL (nI cc) sC mC oC sT rV oT fC f (nI d) pa pc li ll an sg mi mh me tc mb ck cn cb bl co ca ob oF ou cp cq aa ab po od oN := by
  intro f
  induction f with
  | zero => intro d ck _ h; omega
  | succ f ih =>
    intro d ck hd hf ha hz
    refine pk_le cc d (fun z => ?_) (fun z => ?_)
    · exact nm_r (nI_1 c) (K ck ha (fun r h1 h2 h3 => hz r h1 (by omega) h3))
    · have ci : (nI d).toNatClampNeg = d := nI_clamp (by omega)
      rw [ci]
      refine And.intro (vp_in_nI (by omega) (by decide)) (br_c (fun w => ?_) (fun w => ?_))
      · have w' := (bs_is_0 (hA d z) (by omega)).mp w
        refine nm_r (nI_1 d) (ih (d + 1) ck (by omega) (by omega) ha (fun r h1 h2 h3 => ?_))
        by_cases v : r = d
        · subst v; exact absurd h3 w'
        · exact hz r h1 (by omega) h3
      · have e1 : (nI g * 10 + nI c) * 10 + nI d = nI ((g * 10 + c) * 10 + d) := by rw [nu_m10, nI_add, nu_m10, nI_add]
        rw [e1, nI_clamp (by omega)]
        refine And.intro (vp_in_nI (by omega) (by decide)) (nm_r (e' := upd ck ((g * 10 + c) * 10 + d) 0) rfl (nm_r (nI_1 d) (ih (d + 1) _ (by omega) (by omega) (fun q => ?_) (fun r h1 h2 h3 => ?_))))
        · by_cases v : q = (g * 10 + c) * 10 + d
          · rw [v, pk_us]; exact Or.inl rfl
          · rw [pk_un v]; exact ha q
        · by_cases v : r = d
          · rw [v, pk_us]
          · rw [pk_un (by omega)]; exact hz r h1 (by omega) h3
theorem xw_forgetM {post : SX → Prop} {cc g s t : Nat} {L : Nat → List Nat} (hcc : cc ≤ 10) (hg : g < 4) (hs : s < cc) (ht : t < cc) (hA : ∀ r, r < cc → bs_is (an r) (L r))
    (K : ∀ ck', (∀ q, ck' q = 0 ∨ ck' q = ck q) → (∀ c d, s ≤ c → c < cc → t ≤ d → d < cc → s ∈ L c → t ∈ L d → ck' ((g * 10 + c) * 10 + d) = 0) → post (cL, mL, fL, oL, nI cc, sC, mC, oC, sT, rV, oT, fC, pa, pc, li, ll, an, sg, mi, mh, me, tc, mb, ck', cn, cb, bl, co, ca, ob, oF, ou, cp, cq, aa, ab, po, od, oN)) : wpX_forgetMethod post (cL, mL, fL, oL, nI cc, sC, mC, oC, sT, rV, oT, fC, pa, pc, li, ll, an, sg, mi, mh, me, tc, mb, ck, cn, cb, bl, co, ca, ob, oF, ou, cp, cq, aa, ab, po, od, oN) (nI g) (nI s) (nI t) := by
  have key : ∀ f c ck', c ≤ cc → cc - c < f → (∀ q, ck' q = 0 ∨ ck' q = ck q) → (∀ r d, s ≤ r → r < c → t ≤ d → d < cc → s ∈ L r → t ∈ L d → ck' ((g * 10 + r) * 10 + d) = 0) → wX_forgetMethod_3 post (nI g) (nI s) (nI t) cL mL fL oL (nI cc) sC mC oC sT rV oT fC f (nI c) pa pc li ll an sg mi mh me tc mb ck' cn cb bl co ca ob oF ou cp cq aa ab po od oN := by
    intro f
    induction f with
    | zero => intro c ck' _ h; omega
    | succ f ih =>
      intro c ck' hc hf ha hz
      refine pk_le cc c (fun z => ?_) (fun z => ?_)
      · exact K ck' ha (fun r d h1 h2 h3 h4 h5 h6 => hz r d h1 (by omega) h3 h4 h5 h6)
      · have ci : (nI c).toNatClampNeg = c := nI_clamp (by omega)
        rw [ci]
        refine And.intro (vp_in_nI (by omega) (by decide)) (br_c (fun w => ?_) (fun w => ?_))
        · have w' := (bs_is_0 (hA c z) (by omega)).mp w
          refine nm_r (nI_1 c) (ih (c + 1) ck' (by omega) (by omega) ha (fun r d h1 h2 h3 h4 h5 h6 => ?_))
          by_cases v : r = c
          · subst v; exact absurd h5 w'
          · exact hz r d h1 (by omega) h3 h4 h5 h6
        · refine Exists.intro (cc + 1) (xw_fm29 (ck0 := ck') (L := L) hcc hg ht (by omega) hA (fun ck2 h1 h2 => ih (c + 1) ck2 (by omega) (by omega) (fun q => ?_) (fun r d h3 h4 h5 h6 h7 h8 => ?_)) (cc + 1) t ck' (by omega) (by omega) (fun q => Or.inr rfl) (fun r h1 h2 => absurd h2 (by omega)))
          · rcases h1 q with e | e
            · exact Or.inl e
            · rw [e]; exact ha q
          · by_cases v : r = c
            · subst v
              exact h2 d h5 h6 h8
            · rcases h1 ((g * 10 + r) * 10 + d) with e | e
              · exact e
              · rw [e]; exact hz r d h3 (by omega) h5 h6 h7 h8
  exact Exists.intro (cc + 1) (key (cc + 1) s ck (by omega) (by omega) (fun q => Or.inr rfl) (fun r d h1 h2 => absurd h2 (by omega)))
end XCH
end
section
/-- Y's table of methods against X's table by slots: method m stands at the slot sl m -/
def rl_M (mc : Nat) (sl : Nat → Nat) (mb mg ms mt mB : Nat → Int32) : Prop :=
  (∀ m, m < mc → sl m < 400 ∧ mg m = nI (sl m / 100) ∧ ms m = nI (sl m / 10 % 10) ∧ mt m = nI (sl m % 10) ∧ mB m = mb (sl m) ∧ ¬ mb (sl m) = -1) ∧ (∀ m m', m < mc → m' < mc → sl m = sl m' → m = m') ∧ (∀ q, q < 400 → mb q = -1 ∨ ∃ m, m < mc ∧ sl m = q) ∧ (∀ q, q < 400 → mb q = -1 ∨ ∃ b, b < 16 ∧ mb q = nI b)
section YCH
variable {cL mL fL oL cC mC oC fC sT rV oT : Int32} {qa qc mg ms mt mB co ca bl ob oF cp cq od oN aa ab po ou yl yn ys ye yf : Nat → Int32} {mb : Nat → Int32}
def yf_e (acc : List Int32) (yf : Nat → Int32) : Prop := ∀ i, i < acc.length → yf i = acc.getD i 0
def yf_c (mc m q : Nat) (sl : Nat → Nat) (acc acc0 R : List Int32) : Prop := ((∃ r, m ≤ r ∧ r < mc ∧ sl r = q) ∧ acc = acc0) ∨ ((∀ r, m ≤ r → r < mc → sl r ≠ q) ∧ acc = R)
theorem yw_43 {post : Int32 → SY → Prop} {J15 J29 : Int32 → Int32 → (Nat → Int32) → (Nat → Int32) → (Nat → Int32) → (Nat → Int32) → (Nat → Int32) → (Nat → Int32) → (Nat → Int32) → (Nat → Int32) → (Nat → Int32) → (Nat → Int32) → (Nat → Int32) → (Nat → Int32) → (Nat → Int32) → (Nat → Int32) → (Nat → Int32) → (Nat → Int32) → (Nat → Int32) → (Nat → Int32) → (Nat → Int32) → (Nat → Int32) → (Nat → Int32) → (Nat → Int32) → (Nat → Int32) → (Nat → Int32) → Prop} {mc g c d i j s t : Nat} {sl : Nat → Nat} {acc0 R : List Int32} (hM : rl_M mc sl mb mg ms mt mB) (hmc : mc ≤ 16) (hg : g < 4) (hs : s < 10) (ht : t < 10) (hc : c < 10) (hi : i < 10) (hd : d < 10) (hj : j < 10) (es : yl (c * 10 + i) = nI s) (et : yl (d * 10 + j) = nI t)
    (ha0 : acc0.length ≤ 16) (hR : R = ch_1 mb g s acc0 t)
    (K : ∀ yf, yf_e R yf → J29 (nI R.length) (nI (j + 1)) qa qc mg ms mt mB co ca bl ob oF cp cq od oN aa ab po ou yl yn ys ye yf) :
    ∀ f m acc yf, m ≤ mc → mc - m < f → yf_e acc yf → yf_c mc m ((g * 10 + s) * 10 + t) sl acc acc0 R →
      wY_buildChain_43 post J15 J29 (nI g) (nI c) (nI d) (nI i) (nI j) cL mL fL oL cC (nI mc) oC fC sT rV oT f (nI acc.length) (nI m) qa qc mg ms mt mB co ca bl ob oF cp cq od oN aa ab po ou yl yn ys ye yf := by
  intro f
  induction f with
  | zero => intro m acc yf _ h; omega
  | succ f ih =>
    intro m acc yf hm hf he hcase
    refine pk_le mc m (fun z => ?_) (fun z => ?_)
    · rcases hcase with ⟨⟨r, h1, h2, _⟩, _⟩ | ⟨_, e⟩
      · omega
      · subst e
        exact nm_r (nI_1 j) (K yf he)
    · obtain ⟨m1, m2, m3, m4, m5, m6⟩ := hM.1 m z
      have ci : (nI m).toNatClampNeg = m := nI_clamp (by omega)
      have e1 : nI c * 10 + nI i = nI (c * 10 + i) := by rw [nu_m10, nI_add]
      have e2 : nI d * 10 + nI j = nI (d * 10 + j) := by rw [nu_m10, nI_add]
      have c1 : (nI (c * 10 + i)).toNatClampNeg = c * 10 + i := nI_clamp (by omega)
      have c2 : (nI (d * 10 + j)).toNatClampNeg = d * 10 + j := nI_clamp (by omega)
      have v16 : vp_in (nI m) 16 := vp_in_nI (by omega) (by decide)
      have v1 : vp_in (nI (c * 10 + i)) 100 := vp_in_nI (by omega) (by decide)
      have v2 : vp_in (nI (d * 10 + j)) 100 := vp_in_nI (by omega) (by decide)
      have sk : sl m ≠ (g * 10 + s) * 10 + t → ∀ y, y = nI m + 1 → wY_buildChain_43 post J15 J29 (nI g) (nI c) (nI d) (nI i) (nI j) cL mL fL oL cC (nI mc) oC fC sT rV oT f (nI acc.length) y qa qc mg ms mt mB co ca bl ob oF cp cq od oN aa ab po ou yl yn ys ye yf := fun ne => nm_r (nI_1 m) (ih (m + 1) acc yf (by omega) (by omega) he (by
        rcases hcase with ⟨⟨r, h1, h2, h3⟩, e⟩ | ⟨h1, e⟩
        · refine Or.inl ⟨⟨r, ?_, h2, h3⟩, e⟩
          rcases Nat.lt_or_ge m r with w | w
          · exact w
          · exact absurd (show sl m = _ by rw [show m = r by omega]; exact h3) ne
        · exact Or.inr ⟨fun r h2 h3 => h1 r (by omega) h3, e⟩))
      rw [e1, e2, c1, c2, ci, es, et, m2, m3, m4]
      refine And.intro v16 (pk_eq (sl m / 100) g (fun y1 => And.intro v16 (And.intro v1 (pk_eq (sl m / 10 % 10) s (fun y2 => And.intro v16 (And.intro v2 (pk_eq (sl m % 10) t (fun y3 => ?_) (fun y3 => sk (by omega))))) (fun y2 => sk (by omega))))) (fun y1 => sk (by omega)))
      have hq : sl m = (g * 10 + s) * 10 + t := by omega
      have hacc : acc = acc0 := by
        rcases hcase with ⟨_, e⟩ | ⟨h1, _⟩
        · exact e
        · exact absurd hq (h1 m (Nat.le_refl _) z)
      have none' : ∀ r, m + 1 ≤ r → r < mc → sl r ≠ (g * 10 + s) * 10 + t := fun r h1 h2 h3 => by
        have := hM.2.1 m r z h2 (by rw [hq, h3])
        omega
      rw [hq] at m5 m6
      subst hacc
      unfold ch_1 at hR
      rw [if_neg m6] at hR
      refine pk_le 16 acc.length (fun v => ?_) (fun v => ?_)
      · rw [if_neg (by omega)] at hR
        exact nm_r (nI_1 m) (ih (m + 1) acc yf (by omega) (by omega) he (Or.inr ⟨none', hR.symm⟩))
      · rw [if_pos v] at hR
        rw [m5, nI_clamp (n := acc.length) (by omega)]
        refine And.intro v16 (And.intro (vp_in_nI v (by decide)) (nm_e (nm_r (nI_1 acc.length) (nm_r (nI_1 m) ?_))))
        have := ih (m + 1) R (upd yf acc.length (mb ((g * 10 + s) * 10 + t))) (by omega) (by omega) (fun r hr => ?_) (Or.inr ⟨none', rfl⟩)
        · rw [show R.length = acc.length + 1 by rw [hR, List.length_append, List.length_singleton]] at this
          exact this
        · rw [hR, List.length_append, List.length_singleton] at hr
          rw [hR]
          rcases Nat.lt_or_ge r acc.length with y | y
          · rw [pk_un (by omega), la_gl y]; exact he r y
          · rw [show r = acc.length by omega, pk_us, la_ge]
theorem yw_29 {post : Int32 → SY → Prop} {J15 : Int32 → Int32 → (Nat → Int32) → (Nat → Int32) → (Nat → Int32) → (Nat → Int32) → (Nat → Int32) → (Nat → Int32) → (Nat → Int32) → (Nat → Int32) → (Nat → Int32) → (Nat → Int32) → (Nat → Int32) → (Nat → Int32) → (Nat → Int32) → (Nat → Int32) → (Nat → Int32) → (Nat → Int32) → (Nat → Int32) → (Nat → Int32) → (Nat → Int32) → (Nat → Int32) → (Nat → Int32) → (Nat → Int32) → (Nat → Int32) → (Nat → Int32) → Prop} {mc g c d i s : Nat} {sl : Nat → Nat} {ld : List Nat} {R : List Int32} (hM : rl_M mc sl mb mg ms mt mB) (hmc : mc ≤ 16) (hg : g < 4) (hs : s < 10) (hc : c < 10) (hi : i < 10) (hd : d < 10) (es : yl (c * 10 + i) = nI s) (hr : la_row yl yn 10 d ld) (hl : ld.length ≤ 10) (h10 : ∀ x, x ∈ ld → x < 10)
    (K : ∀ yf, yf_e R yf → J15 (nI R.length) (nI (i + 1)) qa qc mg ms mt mB co ca bl ob oF cp cq od oN aa ab po ou yl yn ys ye yf) :
    ∀ f j acc yf, j ≤ ld.length → ld.length - j < f → acc.length ≤ 16 → yf_e acc yf → (ld.drop j).foldl (ch_1 mb g s) acc = R → wY_buildChain_29 post J15 (nI g) (nI c) (nI d) (nI i) cL mL fL oL cC (nI mc) oC fC sT rV oT f (nI acc.length) (nI j) qa qc mg ms mt mB co ca bl ob oF cp cq od oN aa ab po ou yl yn ys ye yf := by
  intro f
  induction f with
  | zero => intro j acc yf _ h; omega
  | succ f ih =>
    intro j acc yf hj hf ha he hR
    refine And.intro (vp_in_nI hd (by decide)) (pk_le ld.length j (fun z => ?_) (fun z => ?_) (by rw [nI_clamp (by omega)]; exact hr.1))
    · rw [List.drop_eq_nil_of_le z] at hR
      have hR' : acc = R := hR
      subst hR'
      exact nm_r (nI_1 i) (K yf he)
    · have h1 := h10 _ (la_gm (d := 0) z)
      rw [la_dr (d := 0) z] at hR
      have hR1 : (ld.drop (j + 1)).foldl (ch_1 mb g s) (ch_1 mb g s acc (ld.getD j 0)) = R := hR
      refine Exists.intro (mc + 1) (yw_43 (t := ld.getD j 0) (acc0 := acc) (R := ch_1 mb g s acc (ld.getD j 0)) hM hmc hg hs h1 hc hi hd (by omega) es (hr.2 j z) ha rfl (fun yf' he' => ih (j + 1) _ yf' (by omega) (by omega) (ch_1_l ha) he' hR1) (mc + 1) 0 acc yf (by omega) (by omega) he ?_)
      rcases Classical.em (mb ((g * 10 + s) * 10 + ld.getD j 0) = -1) with w | w
      · refine Or.inr ⟨fun r _ h2 h3 => ?_, ?_⟩
        · have := (hM.1 r h2).2.2.2.2.2
          rw [h3] at this
          exact this w
        · unfold ch_1; rw [if_pos w]
      · obtain ⟨r, h2, h3⟩ := (hM.2.2.1 ((g * 10 + s) * 10 + ld.getD j 0) (by omega)).resolve_left w
        exact Or.inl ⟨⟨r, by omega, h2, h3⟩, rfl⟩
theorem yw_15 {post : Int32 → SY → Prop} {mc g c d : Nat} {sl : Nat → Nat} {lc ld : List Nat} (hM : rl_M mc sl mb mg ms mt mB) (hmc : mc ≤ 16) (hg : g < 4) (hc : c < 10) (hd : d < 10) (hrc : la_row yl yn 10 c lc) (hlc : lc.length ≤ 10) (h10c : ∀ x, x ∈ lc → x < 10) (hr : la_row yl yn 10 d ld) (hl : ld.length ≤ 10) (h10 : ∀ x, x ∈ ld → x < 10)
    (K : ∀ yf, yf_e (ch_L mb g lc ld) yf → post (nI (ch_L mb g lc ld).length) (cL, mL, fL, oL, cC, nI mc, oC, fC, sT, rV, oT, qa, qc, mg, ms, mt, mB, co, ca, bl, ob, oF, cp, cq, od, oN, aa, ab, po, ou, yl, yn, ys, ye, yf)) :
    ∀ f i acc yf, i ≤ lc.length → lc.length - i < f → acc.length ≤ 16 → yf_e acc yf → (lc.drop i).foldl (ch_2 mb g ld) acc = ch_L mb g lc ld → wY_buildChain_15 post (nI g) (nI c) (nI d) cL mL fL oL cC (nI mc) oC fC sT rV oT f (nI acc.length) (nI i) qa qc mg ms mt mB co ca bl ob oF cp cq od oN aa ab po ou yl yn ys ye yf := by
  intro f
  induction f with
  | zero => intro i acc yf _ h; omega
  | succ f ih =>
    intro i acc yf hi hf ha he hR
    refine And.intro (vp_in_nI hc (by decide)) (pk_le lc.length i (fun z => ?_) (fun z => ?_) (by rw [nI_clamp (by omega)]; exact hrc.1))
    · rw [List.drop_eq_nil_of_le z] at hR
      have hR' : acc = ch_L mb g lc ld := hR
      rw [hR'] at he ⊢
      exact K yf he
    · have h1 := h10c _ (la_gm (d := 0) z)
      rw [la_dr (d := 0) z] at hR
      have hR1 : (lc.drop (i + 1)).foldl (ch_2 mb g ld) (ch_2 mb g ld acc (lc.getD i 0)) = ch_L mb g lc ld := hR
      exact Exists.intro (ld.length + 1) (yw_29 (s := lc.getD i 0) (R := ch_2 mb g ld acc (lc.getD i 0)) hM hmc hg h1 hc (by omega) hd (hrc.2 i z) hr hl h10 (fun yf' he' => ih (i + 1) _ yf' (by omega) (by omega) (ch_2_l ha) he' hR1) (ld.length + 1) 0 acc yf (by omega) (by omega) ha he (by rw [List.drop_zero]; rfl))
theorem yw_chain {post : Int32 → SY → Prop} {cc mc g c d : Nat} {sl : Nat → Nat} {P L : Nat → List Nat} (hcc : cc ≤ 10) (hP : cm_P cc P) (hT : cm_T cc P L) (hrow : ∀ c, c < cc → la_row qa qc 3 c (P c)) (hM : rl_M mc sl mb mg ms mt mB) (hmc : mc ≤ 16) (hg : g < 4) (hc : c < cc) (hd : d < cc)
    (K : ∀ yl yn ys ye yf, yf_e (ch_L mb g (L c) (L d)) yf → post (nI (ch_L mb g (L c) (L d)).length) (cL, mL, fL, oL, nI cc, nI mc, oC, fC, sT, rV, oT, qa, qc, mg, ms, mt, mB, co, ca, bl, ob, oF, cp, cq, od, oN, aa, ab, po, ou, yl, yn, ys, ye, yf)) : wpY_buildChain post (cL, mL, fL, oL, nI cc, nI mc, oC, fC, sT, rV, oT, qa, qc, mg, ms, mt, mB, co, ca, bl, ob, oF, cp, cq, od, oN, aa, ab, po, ou, yl, yn, ys, ye, yf) (nI g) (nI c) (nI d) := by
  refine yw_order hcc hP hrow (fun L' yl yn ys ye hT' hr => ?_) (fun yl yn ys ye hn => absurd ⟨L, hT⟩ hn)
  have u := cm_T_u hP hT hT'
  have hF := cm_T_f hP hT
  have fact : ∀ r, r < cc → la_row yl yn 10 r (L r) ∧ (L r).length ≤ 10 ∧ ∀ x, x ∈ L r → x < 10 := fun r hr' => by
    obtain ⟨f1, f2, f3, f4⟩ := hF r hr'
    exact ⟨by rw [u r hr']; exact hr r hr', by omega, fun x hx => by have := f1 x hx; omega⟩
  obtain ⟨a1, a2, a3⟩ := fact c hc
  obtain ⟨b1, b2, b3⟩ := fact d hd
  exact Exists.intro ((L c).length + 1) (yw_15 hM hmc hg (by omega) (by omega) a1 a2 a3 b1 b2 b3 (fun yf he => K _ _ _ _ _ he) _ 0 [] yf (by omega) (by omega) (by decide) (fun i hi => absurd hi (by simp)) (by rw [List.drop_zero]; rfl))
theorem yw_find {post : Int32 → Prop} {mc g s t : Nat} {sl : Nat → Nat} (hM : rl_M mc sl mb mg ms mt mB) (hmc : mc ≤ 16) (hg : g < 4) (hs : s < 10) (ht : t < 10)
    (K1 : ∀ m, m < mc → sl m = (g * 10 + s) * 10 + t → post (nI m)) (K0 : mb ((g * 10 + s) * 10 + t) = -1 → post (-1)) : wpY_findMethod post (cL, mL, fL, oL, cC, nI mc, oC, fC, sT, rV, oT, qa, qc, mg, ms, mt, mB, co, ca, bl, ob, oF, cp, cq, od, oN, aa, ab, po, ou, yl, yn, ys, ye, yf) (nI g) (nI s) (nI t) := by
  have key : ∀ f m, m ≤ mc → mc - m < f → (∀ r, r < m → sl r ≠ (g * 10 + s) * 10 + t) → wY_findMethod_3 post (nI g) (nI s) (nI t) cL mL fL oL cC (nI mc) oC fC sT rV oT qa qc mg ms mt mB co ca bl ob oF cp cq od oN aa ab po ou yl yn ys ye yf f (nI m) := by
    intro f
    induction f with
    | zero => intro m _ h; omega
    | succ f ih =>
      intro m hm hf hI
      refine pk_le mc m (fun z => ?_) (fun z => ?_)
      · refine K0 ((hM.2.2.1 _ (by omega)).resolve_right (fun ⟨r, h1, h2⟩ => hI r (by omega) h2))
      · obtain ⟨m1, m2, m3, m4, m5, m6⟩ := hM.1 m z
        have ci : (nI m).toNatClampNeg = m := nI_clamp (by omega)
        have v16 : vp_in (nI m) 16 := vp_in_nI (by omega) (by decide)
        have sk : sl m ≠ (g * 10 + s) * 10 + t → ∀ y, y = nI m + 1 → wY_findMethod_3 post (nI g) (nI s) (nI t) cL mL fL oL cC (nI mc) oC fC sT rV oT qa qc mg ms mt mB co ca bl ob oF cp cq od oN aa ab po ou yl yn ys ye yf f y := fun ne => nm_r (nI_1 m) (ih (m + 1) (by omega) (by omega) (fun r hr => by
          by_cases v : r = m
          · rw [v]; exact ne
          · exact hI r (by omega)))
        rw [ci, m2, m3, m4]
        exact And.intro v16 (pk_eq (sl m / 100) g (fun y1 => And.intro v16 (pk_eq (sl m / 10 % 10) s (fun y2 => And.intro v16 (pk_eq (sl m % 10) t (fun y3 => K1 m z (by omega)) (fun y3 => sk (by omega)))) (fun y2 => sk (by omega)))) (fun y1 => sk (by omega)))
  exact Exists.intro (mc + 1) (key _ 0 (by omega) (by omega) (fun r hr => absurd hr (by omega)))
end YCH
/-! the table of methods changes -/
theorem rl_M_new {mc q b : Nat} {sl : Nat → Nat} {mb mg ms mt mB : Nat → Int32} (hM : rl_M mc sl mb mg ms mt mB) (hq : q < 400) (hb : b < 16) (h : mb q = -1) : rl_M (mc + 1) (la_st sl mc q) (upd mb q (nI b)) (upd mg mc (nI (q / 100))) (upd ms mc (nI (q / 10 % 10))) (upd mt mc (nI (q % 10))) (upd mB mc (nI b)) := by
  refine ⟨fun m hm => ?_, fun m m' hm hm' e => ?_, fun r hr => ?_, fun r hr => ?_⟩
  · by_cases v : m = mc
    · subst v
      rw [la_ss, pk_us, pk_us, pk_us, pk_us, pk_us]
      exact ⟨hq, rfl, rfl, rfl, rfl, nu_ne1 (by omega)⟩
    · obtain ⟨m1, m2, m3, m4, m5, m6⟩ := hM.1 m (by omega)
      have ne : sl m ≠ q := fun e => m6 (by rw [e]; exact h)
      rw [la_sn v, pk_un v, pk_un v, pk_un v, pk_un v, pk_un ne]
      exact ⟨m1, m2, m3, m4, m5, m6⟩
  · have ne : ∀ r, r < mc → sl r ≠ q := fun r hr e => (hM.1 r hr).2.2.2.2.2 (by rw [e]; exact h)
    by_cases v : m = mc
    · by_cases v' : m' = mc
      · omega
      · rw [v, la_ss, la_sn v'] at e
        exact absurd e.symm (ne m' (by omega))
    · by_cases v' : m' = mc
      · rw [v', la_ss, la_sn v] at e
        exact absurd e (ne m (by omega))
      · rw [la_sn v, la_sn v'] at e
        exact hM.2.1 m m' (by omega) (by omega) e
  · by_cases v : r = q
    · exact Or.inr ⟨mc, by omega, by rw [la_ss, v]⟩
    · rw [pk_un v]
      rcases hM.2.2.1 r hr with e | ⟨m, h1, h2⟩
      · exact Or.inl e
      · exact Or.inr ⟨m, by omega, by rw [la_sn (by omega)]; exact h2⟩
  · by_cases v : r = q
    · rw [v, pk_us]; exact Or.inr ⟨b, hb, rfl⟩
    · rw [pk_un v]; exact hM.2.2.2 r hr
theorem rl_M_rep {mc m b : Nat} {sl : Nat → Nat} {mb mg ms mt mB : Nat → Int32} (hM : rl_M mc sl mb mg ms mt mB) (hm : m < mc) (hb : b < 16) : rl_M mc sl (upd mb (sl m) (nI b)) (upd mg m (nI (sl m / 100))) (upd ms m (nI (sl m / 10 % 10))) (upd mt m (nI (sl m % 10))) (upd mB m (nI b)) := by
  obtain ⟨n1, n2, n3, n4, n5, n6⟩ := hM.1 m hm
  refine ⟨fun r hr => ?_, hM.2.1, fun r hr => ?_, fun r hr => ?_⟩
  · by_cases v : r = m
    · subst v
      rw [pk_us, pk_us, pk_us, pk_us, pk_us]
      exact ⟨n1, rfl, rfl, rfl, rfl, nu_ne1 (by omega)⟩
    · obtain ⟨m1, m2, m3, m4, m5, m6⟩ := hM.1 r hr
      have ne : sl r ≠ sl m := fun e => v (hM.2.1 r m hr hm e)
      rw [pk_un v, pk_un v, pk_un v, pk_un v, pk_un ne]
      exact ⟨m1, m2, m3, m4, m5, m6⟩
  · by_cases v : r = sl m
    · exact Or.inr ⟨m, hm, v.symm⟩
    · rw [pk_un v]; exact hM.2.2.1 r hr
  · by_cases v : r = sl m
    · rw [v, pk_us]; exact Or.inr ⟨b, hb, rfl⟩
    · rw [pk_un v]; exact hM.2.2.2 r hr
theorem rl_M_del {mc m : Nat} {sl : Nat → Nat} {mb mg ms mt mB : Nat → Int32} (hM : rl_M mc sl mb mg ms mt mB) (hm : m < mc) : rl_M (mc - 1) (la_st sl m (sl (mc - 1))) (upd mb (sl m) (-1)) (upd mg m (mg (mc - 1))) (upd ms m (ms (mc - 1))) (upd mt m (mt (mc - 1))) (upd mB m (mB (mc - 1))) := by
  refine ⟨fun r hr => ?_, fun r r' hr hr' e => ?_, fun r hr => ?_, fun r hr => ?_⟩
  · by_cases v : r = m
    · subst v
      obtain ⟨m1, m2, m3, m4, m5, m6⟩ := hM.1 (mc - 1) (by omega)
      have ne : sl (mc - 1) ≠ sl r := fun e => by have := hM.2.1 (mc - 1) r (by omega) hm e; omega
      rw [la_ss, pk_us, pk_us, pk_us, pk_us, pk_un ne]
      exact ⟨m1, m2, m3, m4, m5, m6⟩
    · obtain ⟨m1, m2, m3, m4, m5, m6⟩ := hM.1 r (by omega)
      have ne : sl r ≠ sl m := fun e => v (hM.2.1 r m (by omega) hm e)
      rw [la_sn v, pk_un v, pk_un v, pk_un v, pk_un v, pk_un ne]
      exact ⟨m1, m2, m3, m4, m5, m6⟩
  · by_cases v : r = m
    · by_cases v' : r' = m
      · omega
      · rw [v, la_ss, la_sn v'] at e
        have := hM.2.1 (mc - 1) r' (by omega) (by omega) e
        omega
    · by_cases v' : r' = m
      · rw [v', la_ss, la_sn v] at e
        have := hM.2.1 r (mc - 1) (by omega) (by omega) e
        omega
      · rw [la_sn v, la_sn v'] at e
        exact hM.2.1 r r' (by omega) (by omega) e
  · by_cases v : r = sl m
    · rw [v, pk_us]; exact Or.inl rfl
    · rw [pk_un v]
      rcases hM.2.2.1 r hr with e | ⟨n, h1, h2⟩
      · exact Or.inl e
      · by_cases w : n = mc - 1
        · exact Or.inr ⟨m, by
            have : m ≠ mc - 1 := fun e => v (by rw [← h2, w, e])
            omega, by rw [la_ss, ← w]; exact h2⟩
        · exact Or.inr ⟨n, by omega, by rw [la_sn (fun e => v (by rw [← h2, e]))]; exact h2⟩
  · by_cases v : r = sl m
    · rw [v, pk_us]; exact Or.inl rfl
    · rw [pk_un v]; exact hM.2.2.2 r hr
end
section
/-! the relation -/
def rl_N (cl ml fl ol cc mc oc ot fc : Nat) : Prop := 2 ≤ cl ∧ cl ≤ 10 ∧ ml ≤ 16 ∧ 1 ≤ fl ∧ fl ≤ 12 ∧ ol ≤ 16 ∧ 1 ≤ cc ∧ cc ≤ cl ∧ mc ≤ ml ∧ oc ≤ ol ∧ ot ≤ 32 ∧ fc ≤ fl
def rl_C (cc : Nat) (P L : Nat → List Nat) (pa pc li ll an qa qc : Nat → Int32) : Prop := cm_P cc P ∧ cm_T cc P L ∧ (∀ c, 0 < c → c < cc → P c ≠ []) ∧ (∀ c, c < cc → la_row pa pc 3 c (P c)) ∧ (∀ c, c < cc → xr_row li ll an c (L c)) ∧ (∀ c, c < cc → la_row qa qc 3 c (P c))
def rl_B (bl co ca : Nat → Int32) : Prop := ∀ b, b < 16 → ∃ n, n ≤ 12 ∧ bl b = nI n ∧ ∀ i, i < n → ∃ o, o ≤ 9 ∧ co (b * 12 + i) = nI o ∧ (o = 5 → ∃ g, g < 4 ∧ ca (b * 12 + i) = nI g) ∧ (o = 9 → ∃ k, k ≤ 12 ∧ ca (b * 12 + i) = nI k)
def rl_O (cc oc : Nat) (ob : Nat → Int32) : Prop := ∀ h, h < oc → ∃ c, c < cc ∧ ob h = nI c
def rl_f1 (fc f : Nat) (cp cq po oN : Nat → Int32) : Prop := ∃ n p o, 1 ≤ n ∧ n ≤ 16 ∧ p ≤ 24 ∧ o ≤ 8 ∧ (f + 1 < fc → o ≤ 7) ∧ cq f = nI n ∧ po f = nI p ∧ oN f = nI o ∧ ∀ i, i < n → ∃ b, b < 16 ∧ cp (f * 16 + i) = nI b
def rl_F (fc : Nat) (sT : Int32) (cp cq po oN : Nat → Int32) : Prop := (sT = 1 → 1 ≤ fc) ∧ (¬ sT = 1 → fc = 0) ∧ ∀ f, f < fc → rl_f1 fc f cp cq po oN
def rl_A (cl ml fl ol cc mc oc ot fc : Nat) (sT : Int32) (P L : Nat → List Nat) (sl : Nat → Nat) (pa pc li ll an qa qc mb mg ms mt mB ck cn cb bl co ca ob cp cq po oN : Nat → Int32) : Prop :=
  rl_N cl ml fl ol cc mc oc ot fc ∧ rl_C cc P L pa pc li ll an qa qc ∧ rl_M mc sl mb mg ms mt mB ∧ rl_K cc L mb ck cn cb ∧ rl_B bl co ca ∧ rl_O cc oc ob ∧ rl_F fc sT cp cq po oN
def i_Rel (_ : Nat) (u : SX) (v : SY) : Prop := ∃ (cl ml fl ol cc mc oc ot fc : Nat) (sC sT rV : Int32) (P L : Nat → List Nat) (sl : Nat → Nat) (pa pc li ll an sg mi mh me tc mb ck cn cb bl co ca ob oF ou cp cq aa ab po od oN qa qc mg ms mt mB yl yn ys ye yf : Nat → Int32), u = (nI cl, nI ml, nI fl, nI ol, nI cc, sC, nI mc, nI oc, sT, rV, nI ot, nI fc, pa, pc, li, ll, an, sg, mi, mh, me, tc, mb, ck, cn, cb, bl, co, ca, ob, oF, ou, cp, cq, aa, ab, po, od, oN) ∧ v = (nI cl, nI ml, nI fl, nI ol, nI cc, nI mc, nI oc, nI fc, sT, rV, nI ot, qa, qc, mg, ms, mt, mB, co, ca, bl, ob, oF, cp, cq, od, oN, aa, ab, po, ou, yl, yn, ys, ye, yf) ∧ rl_A cl ml fl ol cc mc oc ot fc sT P L sl pa pc li ll an qa qc mb mg ms mt mB ck cn cb bl co ca ob cp cq po oN
theorem i_up {k : Nat} {u : SX} {v : SY} (h : i_Rel k u v) : i_Rel (k + 5) u v := h
theorem rl_mk {k : Nat} {cl ml fl ol cc mc oc ot fc : Nat} {sC sT rV : Int32} {P L : Nat → List Nat} {sl : Nat → Nat} {pa pc li ll an sg mi mh me tc mb ck cn cb bl co ca ob oF ou cp cq aa ab po od oN qa qc mg ms mt mB yl yn ys ye yf : Nat → Int32} (h : rl_A cl ml fl ol cc mc oc ot fc sT P L sl pa pc li ll an qa qc mb mg ms mt mB ck cn cb bl co ca ob cp cq po oN) : i_Rel k (nI cl, nI ml, nI fl, nI ol, nI cc, sC, nI mc, nI oc, sT, rV, nI ot, nI fc, pa, pc, li, ll, an, sg, mi, mh, me, tc, mb, ck, cn, cb, bl, co, ca, ob, oF, ou, cp, cq, aa, ab, po, od, oN) (nI cl, nI ml, nI fl, nI ol, nI cc, nI mc, nI oc, nI fc, sT, rV, nI ot, qa, qc, mg, ms, mt, mB, co, ca, bl, ob, oF, cp, cq, od, oN, aa, ab, po, ou, yl, yn, ys, ye, yf) := Exists.intro cl (Exists.intro ml (Exists.intro fl (Exists.intro ol (Exists.intro cc (Exists.intro mc (Exists.intro oc (Exists.intro ot (Exists.intro fc (Exists.intro sC (Exists.intro sT (Exists.intro rV (Exists.intro P (Exists.intro L (Exists.intro sl (Exists.intro pa (Exists.intro pc (Exists.intro li (Exists.intro ll (Exists.intro an (Exists.intro sg (Exists.intro mi (Exists.intro mh (Exists.intro me (Exists.intro tc (Exists.intro mb (Exists.intro ck (Exists.intro cn (Exists.intro cb (Exists.intro bl (Exists.intro co (Exists.intro ca (Exists.intro ob (Exists.intro oF (Exists.intro ou (Exists.intro cp (Exists.intro cq (Exists.intro aa (Exists.intro ab (Exists.intro po (Exists.intro od (Exists.intro oN (Exists.intro qa (Exists.intro qc (Exists.intro mg (Exists.intro ms (Exists.intro mt (Exists.intro mB (Exists.intro yl (Exists.intro yn (Exists.intro ys (Exists.intro ye (Exists.intro yf (⟨rfl, rfl, h⟩)))))))))))))))))))))))))))))))))))))))))))))))))))))
theorem rl_el {k : Nat} {u : SX} {v : SY} {Q : SX → SY → Prop} (I : i_Rel k u v) (H : ∀ (cl ml fl ol cc mc oc ot fc : Nat) (sC sT rV : Int32) (P L : Nat → List Nat) (sl : Nat → Nat) (pa pc li ll an sg mi mh me tc mb ck cn cb bl co ca ob oF ou cp cq aa ab po od oN qa qc mg ms mt mB yl yn ys ye yf : Nat → Int32), rl_A cl ml fl ol cc mc oc ot fc sT P L sl pa pc li ll an qa qc mb mg ms mt mB ck cn cb bl co ca ob cp cq po oN → Q (nI cl, nI ml, nI fl, nI ol, nI cc, sC, nI mc, nI oc, sT, rV, nI ot, nI fc, pa, pc, li, ll, an, sg, mi, mh, me, tc, mb, ck, cn, cb, bl, co, ca, ob, oF, ou, cp, cq, aa, ab, po, od, oN) (nI cl, nI ml, nI fl, nI ol, nI cc, nI mc, nI oc, nI fc, sT, rV, nI ot, qa, qc, mg, ms, mt, mB, co, ca, bl, ob, oF, cp, cq, od, oN, aa, ab, po, ou, yl, yn, ys, ye, yf)) : Q u v := by
  refine Exists.elim I (fun cl h => Exists.elim h (fun ml h => Exists.elim h (fun fl h => Exists.elim h (fun ol h => Exists.elim h (fun cc h => Exists.elim h (fun mc h => Exists.elim h (fun oc h => Exists.elim h (fun ot h => Exists.elim h (fun fc h => Exists.elim h (fun sC h => Exists.elim h (fun sT h => Exists.elim h (fun rV h => Exists.elim h (fun P h => Exists.elim h (fun L h => Exists.elim h (fun sl h => Exists.elim h (fun pa h => Exists.elim h (fun pc h => Exists.elim h (fun li h => Exists.elim h (fun ll h => Exists.elim h (fun an h => Exists.elim h (fun sg h => Exists.elim h (fun mi h => Exists.elim h (fun mh h => Exists.elim h (fun me h => Exists.elim h (fun tc h => Exists.elim h (fun mb h => Exists.elim h (fun ck h => Exists.elim h (fun cn h => Exists.elim h (fun cb h => Exists.elim h (fun bl h => Exists.elim h (fun co h => Exists.elim h (fun ca h => Exists.elim h (fun ob h => Exists.elim h (fun oF h => Exists.elim h (fun ou h => Exists.elim h (fun cp h => Exists.elim h (fun cq h => Exists.elim h (fun aa h => Exists.elim h (fun ab h => Exists.elim h (fun po h => Exists.elim h (fun od h => Exists.elim h (fun oN h => Exists.elim h (fun qa h => Exists.elim h (fun qc h => Exists.elim h (fun mg h => Exists.elim h (fun ms h => Exists.elim h (fun mt h => Exists.elim h (fun mB h => Exists.elim h (fun yl h => Exists.elim h (fun yn h => Exists.elim h (fun ys h => Exists.elim h (fun ye h => Exists.elim h (fun yf h => ?_)))))))))))))))))))))))))))))))))))))))))))))))))))))
  obtain ⟨hu, hv, hA⟩ := h
  subst hu
  subst hv
  exact H cl ml fl ol cc mc oc ot fc sC sT rV P L sl pa pc li ll an sg mi mh me tc mb ck cn cb bl co ca ob oF ou cp cq aa ab po od oN qa qc mg ms mt mB yl yn ys ye yf hA
end
section
/-! small tests, on both sides -/
theorem sm_in {p : Int32} {n : Nat} (hn : n < 2 ^ 31) (h1 : ¬ p < 0) (h2 : ¬ nI n ≤ p) : ∃ c, c < n ∧ p = nI c := by
  obtain ⟨j, hj, rfl⟩ := nI_of h1
  exact ⟨j, Nat.lt_of_not_le (fun h => h2 (nI_le h hj)), rfl⟩
section SMALL
variable {cL mL fL oL cC sC mC oC sT rV oT fC : Int32} {pa pc li ll an sg mi mh me tc mb ck cn cb bl co ca ob oF ou cp cq aa ab po od oN qa qc mg ms mt mB yl yn ys ye yf : Nat → Int32}
theorem xw_C1 {post : Int32 → Prop} {cc c : Nat} (hcc : cc < 2 ^ 31) (hc : c < cc) (K : post 1) : wpX_isClass post (cL, mL, fL, oL, nI cc, sC, mC, oC, sT, rV, oT, fC, pa, pc, li, ll, an, sg, mi, mh, me, tc, mb, ck, cn, cb, bl, co, ca, ob, oF, ou, cp, cq, aa, ab, po, od, oN) (nI c) := br_f (nI_pos (by omega)) (br_f (nI_ge hc hcc) K)
theorem xw_C0 {post : Int32 → Prop} {cc : Nat} {p : Int32} (hcc : cc < 2 ^ 31) (h : ¬ ∃ c, c < cc ∧ p = nI c) (K : post 0) : wpX_isClass post (cL, mL, fL, oL, nI cc, sC, mC, oC, sT, rV, oT, fC, pa, pc, li, ll, an, sg, mi, mh, me, tc, mb, ck, cn, cb, bl, co, ca, ob, oF, ou, cp, cq, aa, ab, po, od, oN) p := br_c (fun _ => K) (fun h1 => br_c (fun _ => K) (fun h2 => absurd (sm_in hcc h1 h2) h))
theorem yw_C1 {post : Int32 → Prop} {cc c : Nat} (hcc : cc < 2 ^ 31) (hc : c < cc) (K : post 1) : wpY_isClass post (cL, mL, fL, oL, nI cc, mC, oC, fC, sT, rV, oT, qa, qc, mg, ms, mt, mB, co, ca, bl, ob, oF, cp, cq, od, oN, aa, ab, po, ou, yl, yn, ys, ye, yf) (nI c) := br_f (nI_pos (by omega)) (br_f (nI_ge hc hcc) K)
theorem yw_C0 {post : Int32 → Prop} {cc : Nat} {p : Int32} (hcc : cc < 2 ^ 31) (h : ¬ ∃ c, c < cc ∧ p = nI c) (K : post 0) : wpY_isClass post (cL, mL, fL, oL, nI cc, mC, oC, fC, sT, rV, oT, qa, qc, mg, ms, mt, mB, co, ca, bl, ob, oF, cp, cq, od, oN, aa, ab, po, ou, yl, yn, ys, ye, yf) p := br_c (fun _ => K) (fun h1 => br_c (fun _ => K) (fun h2 => absurd (sm_in hcc h1 h2) h))
theorem xw_O1 {post : Int32 → Prop} {oc c : Nat} (hcc : oc < 2 ^ 31) (hc : c < oc) (K : post 1) : wpX_isObject post (cL, mL, fL, oL, cC, sC, mC, nI oc, sT, rV, oT, fC, pa, pc, li, ll, an, sg, mi, mh, me, tc, mb, ck, cn, cb, bl, co, ca, ob, oF, ou, cp, cq, aa, ab, po, od, oN) (nI c) := br_f (nI_pos (by omega)) (br_f (nI_ge hc hcc) K)
theorem xw_O0 {post : Int32 → Prop} {oc : Nat} {p : Int32} (hcc : oc < 2 ^ 31) (h : ¬ ∃ c, c < oc ∧ p = nI c) (K : post 0) : wpX_isObject post (cL, mL, fL, oL, cC, sC, mC, nI oc, sT, rV, oT, fC, pa, pc, li, ll, an, sg, mi, mh, me, tc, mb, ck, cn, cb, bl, co, ca, ob, oF, ou, cp, cq, aa, ab, po, od, oN) p := br_c (fun _ => K) (fun h1 => br_c (fun _ => K) (fun h2 => absurd (sm_in hcc h1 h2) h))
theorem yw_O1 {post : Int32 → Prop} {oc c : Nat} (hcc : oc < 2 ^ 31) (hc : c < oc) (K : post 1) : wpY_isObject post (cL, mL, fL, oL, cC, mC, nI oc, fC, sT, rV, oT, qa, qc, mg, ms, mt, mB, co, ca, bl, ob, oF, cp, cq, od, oN, aa, ab, po, ou, yl, yn, ys, ye, yf) (nI c) := br_f (nI_pos (by omega)) (br_f (nI_ge hc hcc) K)
theorem yw_O0 {post : Int32 → Prop} {oc : Nat} {p : Int32} (hcc : oc < 2 ^ 31) (h : ¬ ∃ c, c < oc ∧ p = nI c) (K : post 0) : wpY_isObject post (cL, mL, fL, oL, cC, mC, nI oc, fC, sT, rV, oT, qa, qc, mg, ms, mt, mB, co, ca, bl, ob, oF, cp, cq, od, oN, aa, ab, po, ou, yl, yn, ys, ye, yf) p := br_c (fun _ => K) (fun h1 => br_c (fun _ => K) (fun h2 => absurd (sm_in hcc h1 h2) h))
theorem sm_g {p : Int32} (h1 : ¬ p < 0) (h2 : ¬ 3 < p) : ∃ c, c < 4 ∧ p = nI c := by
  obtain ⟨j, hj, e⟩ := nI_of2 (x := p) (M := 3) (n := 3) (by decide) h1 (Int32.not_lt.mp h2)
  exact ⟨j, by omega, e⟩
theorem xw_G1 {post : Int32 → Prop} {g : Nat} (hg : g < 4) (K : post 1) : wpX_isGeneric post (cL, mL, fL, oL, cC, sC, mC, oC, sT, rV, oT, fC, pa, pc, li, ll, an, sg, mi, mh, me, tc, mb, ck, cn, cb, bl, co, ca, ob, oF, ou, cp, cq, aa, ab, po, od, oN) (nI g) := br_f (nI_pos (by omega)) (br_f (nI_nlt (b := g) (a := 3) (by omega) (by decide)) K)
theorem xw_G0 {post : Int32 → Prop} {p : Int32} (h : ¬ ∃ c, c < 4 ∧ p = nI c) (K : post 0) : wpX_isGeneric post (cL, mL, fL, oL, cC, sC, mC, oC, sT, rV, oT, fC, pa, pc, li, ll, an, sg, mi, mh, me, tc, mb, ck, cn, cb, bl, co, ca, ob, oF, ou, cp, cq, aa, ab, po, od, oN) p := br_c (fun _ => K) (fun h1 => br_c (fun _ => K) (fun h2 => absurd (sm_g h1 h2) h))
end SMALL
/-- an index v below n, or none -/
theorem sm_ix {v : Int32} {n : Nat} (hn : n < 2 ^ 31) : (v < 0 ∨ (¬ v < 0 ∧ nI n ≤ v ∧ ¬ v < nI n)) ∨ ∃ i, i < n ∧ v = nI i := by
  rcases pk_ix v hn with h | h | h
  · exact Or.inl (Or.inl h)
  · by_cases g : v < 0
    · exact Or.inl (Or.inl g)
    · exact Or.inl (Or.inr ⟨g, h, Int32.not_lt.mpr h⟩)
  · exact Or.inr h
theorem i_vc_result {k : Nat} {u : SX} {v : SY} (I : i_Rel k u v) (hk : k + 5 ≤ 2564) : wpX_result (fun r => wpY_result (fun r' => r' = r ∧ i_Rel (k + 5) u v) v) u := by
  refine rl_el (Q := fun u v => wpX_result (fun r => wpY_result (fun r' => r' = r ∧ i_Rel (k + 5) u v) v) u) I ?_
  intro cl ml fl ol cc mc oc ot fc sC sT rV P L sl pa pc li ll an sg mi mh me tc mb ck cn cb bl co ca ob oF ou cp cq aa ab po od oN qa qc mg ms mt mB yl yn ys ye yf h
  exact ⟨rfl, rl_mk h⟩
theorem i_vc_classOf {k : Nat} {u : SX} {v : SY} (I : i_Rel k u v) (hk : k + 5 ≤ 2564) (v1 : Int32) : wpX_classOf (fun r => wpY_classOf (fun r' => r' = r ∧ i_Rel (k + 5) u v) v v1) u v1 := by
  refine rl_el (Q := fun u v => wpX_classOf (fun r => wpY_classOf (fun r' => r' = r ∧ i_Rel (k + 5) u v) v v1) u v1) I ?_
  intro cl ml fl ol cc mc oc ot fc sC sT rV P L sl pa pc li ll an sg mi mh me tc mb ck cn cb bl co ca ob oF ou cp cq aa ab po od oN qa qc mg ms mt mB yl yn ys ye yf h
  unfold wpX_classOf wpY_classOf
  dsimp only
  obtain ⟨n1, n2, n3, n4, n5, n6, n7, n8, n9, n10, n11, n12⟩ := h.1
  rcases Classical.em (∃ c, c < oc ∧ v1 = nI c) with ⟨c, hc, rfl⟩ | hn
  · have v16 : vp_in (nI c) 16 := vp_in_nI (by omega) (by decide)
    exact xw_O1 (by omega) hc (br_f (by decide) (And.intro v16 (yw_O1 (by omega) hc (br_f (by decide) (And.intro v16 ⟨rfl, rl_mk h⟩)))))
  · exact xw_O0 (by omega) hn (br_t rfl (yw_O0 (by omega) hn (br_t rfl ⟨rfl, rl_mk h⟩)))
theorem i_vc_field {k : Nat} {u : SX} {v : SY} (I : i_Rel k u v) (hk : k + 5 ≤ 2564) (v1 : Int32) : wpX_field (fun r => wpY_field (fun r' => r' = r ∧ i_Rel (k + 5) u v) v v1) u v1 := by
  refine rl_el (Q := fun u v => wpX_field (fun r => wpY_field (fun r' => r' = r ∧ i_Rel (k + 5) u v) v v1) u v1) I ?_
  intro cl ml fl ol cc mc oc ot fc sC sT rV P L sl pa pc li ll an sg mi mh me tc mb ck cn cb bl co ca ob oF ou cp cq aa ab po od oN qa qc mg ms mt mB yl yn ys ye yf h
  unfold wpX_field wpY_field
  dsimp only
  obtain ⟨n1, n2, n3, n4, n5, n6, n7, n8, n9, n10, n11, n12⟩ := h.1
  rcases Classical.em (∃ c, c < oc ∧ v1 = nI c) with ⟨c, hc, rfl⟩ | hn
  · have v16 : vp_in (nI c) 16 := vp_in_nI (by omega) (by decide)
    exact xw_O1 (by omega) hc (br_f (by decide) (And.intro v16 (yw_O1 (by omega) hc (br_f (by decide) (And.intro v16 ⟨rfl, rl_mk h⟩)))))
  · exact xw_O0 (by omega) hn (br_t rfl (yw_O0 (by omega) hn (br_t rfl ⟨rfl, rl_mk h⟩)))
theorem i_vc_output {k : Nat} {u : SX} {v : SY} (I : i_Rel k u v) (hk : k + 5 ≤ 2564) (v1 : Int32) : wpX_output (fun r => wpY_output (fun r' => r' = r ∧ i_Rel (k + 5) u v) v v1) u v1 := by
  refine rl_el (Q := fun u v => wpX_output (fun r => wpY_output (fun r' => r' = r ∧ i_Rel (k + 5) u v) v v1) u v1) I ?_
  intro cl ml fl ol cc mc oc ot fc sC sT rV P L sl pa pc li ll an sg mi mh me tc mb ck cn cb bl co ca ob oF ou cp cq aa ab po od oN qa qc mg ms mt mB yl yn ys ye yf h
  obtain ⟨n1, n2, n3, n4, n5, n6, n7, n8, n9, n10, n11, n12⟩ := h.1
  rcases sm_ix (v := v1) (n := ot) (by omega) with (z | ⟨z1, z2, z3⟩) | ⟨i, hi, rfl⟩
  · exact br_t z (br_t z ⟨rfl, rl_mk h⟩)
  · exact br_f z1 (br_t z2 (br_f z1 (br_t z2 ⟨rfl, rl_mk h⟩)))
  · have v32 : vp_in (nI i) 32 := vp_in_nI (by omega) (by decide)
    have z1 : ¬ nI i < 0 := nI_pos (by omega)
    have z2 : ¬ nI ot ≤ nI i := nI_ge hi (by omega)
    exact br_f z1 (br_f z2 (And.intro v32 (br_f z1 (br_f z2 (And.intro v32 ⟨rfl, rl_mk h⟩)))))
theorem i_vc_pending {k : Nat} {u : SX} {v : SY} (I : i_Rel k u v) (hk : k + 5 ≤ 2564) (v1 : Int32) (v2 : Int32) : wpX_pending (fun r => wpY_pending (fun r' => r' = r ∧ i_Rel (k + 5) u v) v v1 v2) u v1 v2 := by
  refine rl_el (Q := fun u v => wpX_pending (fun r => wpY_pending (fun r' => r' = r ∧ i_Rel (k + 5) u v) v v1 v2) u v1 v2) I ?_
  intro cl ml fl ol cc mc oc ot fc sC sT rV P L sl pa pc li ll an sg mi mh me tc mb ck cn cb bl co ca ob oF ou cp cq aa ab po od oN qa qc mg ms mt mB yl yn ys ye yf h
  obtain ⟨n1, n2, n3, n4, n5, n6, n7, n8, n9, n10, n11, n12⟩ := h.1
  rcases sm_ix (v := v1) (n := fc) (by omega) with (z | ⟨z1, z2, z3⟩) | ⟨f, hf, rfl⟩
  · exact br_t z (br_t z ⟨rfl, rl_mk h⟩)
  · exact br_f z1 (br_t z2 (br_f z1 (br_t z2 ⟨rfl, rl_mk h⟩)))
  · have v12 : vp_in (nI f) 12 := vp_in_nI (by omega) (by decide)
    have z1 : ¬ nI f < 0 := nI_pos (by omega)
    have z2 : ¬ nI fc ≤ nI f := nI_ge hf (by omega)
    obtain ⟨n, p, o, h1, h16, hp, ho, ho7, e1, e2, e3, hb⟩ := h.2.2.2.2.2.2.2.2 f hf
    have eq : cq (nI f).toNatClampNeg = nI n := by rw [nI_clamp (by omega)]; exact e1
    rcases sm_ix (v := v2) (n := n) (by omega) with (w | ⟨w1, w2, w3⟩) | ⟨i, hi, rfl⟩
    · exact br_f z1 (br_f z2 (br_t w (br_f z1 (br_f z2 (br_t w ⟨rfl, rl_mk h⟩)))))
    · exact br_f z1 (br_f z2 (br_f w1 (And.intro v12 (br_f (by rw [eq]; exact w3) (br_f z1 (br_f z2 (br_f w1 (And.intro v12 (br_t (by rw [eq]; exact w2) ⟨rfl, rl_mk h⟩)))))))))
    · have w1 : ¬ nI i < 0 := nI_pos (by omega)
      have w2 : nI i < cq (nI f).toNatClampNeg := by rw [eq]; exact nI_lt hi (by omega)
      have w3 : ¬ cq (nI f).toNatClampNeg ≤ nI i := by rw [eq]; exact nI_ge hi (by omega)
      have v192 : vp_in (nI f * 16 + nI i) 192 := by rw [nu_m16, nI_add]; exact vp_in_nI (by omega) (by decide)
      exact br_f z1 (br_f z2 (br_f w1 (And.intro v12 (br_t w2 (And.intro v192 (br_f z1 (br_f z2 (br_f w1 (And.intro v12 (br_f w3 (And.intro v192 ⟨rfl, rl_mk h⟩)))))))))))
theorem i_vc_parent {k : Nat} {u : SX} {v : SY} (I : i_Rel k u v) (hk : k + 5 ≤ 2564) (v1 : Int32) (v2 : Int32) : wpX_parent (fun r => wpY_parent (fun r' => r' = r ∧ i_Rel (k + 5) u v) v v1 v2) u v1 v2 := by
  refine rl_el (Q := fun u v => wpX_parent (fun r => wpY_parent (fun r' => r' = r ∧ i_Rel (k + 5) u v) v v1 v2) u v1 v2) I ?_
  intro cl ml fl ol cc mc oc ot fc sC sT rV P L sl pa pc li ll an sg mi mh me tc mb ck cn cb bl co ca ob oF ou cp cq aa ab po od oN qa qc mg ms mt mB yl yn ys ye yf h
  unfold wpX_parent wpY_parent
  dsimp only
  obtain ⟨n1, n2, n3, n4, n5, n6, n7, n8, n9, n10, n11, n12⟩ := h.1
  obtain ⟨hP, hT, hne, hx, hL, hy⟩ := h.2.1
  rcases Classical.em (∃ c, c < cc ∧ v1 = nI c) with ⟨c, hc, rfl⟩ | hn
  · have v10 : vp_in (nI c) 10 := vp_in_nI (by omega) (by decide)
    have h3 := (hP c hc).1
    have ex : pc (nI c).toNatClampNeg = nI (P c).length := by rw [nI_clamp (by omega)]; exact (hx c hc).1
    have ey : qc (nI c).toNatClampNeg = nI (P c).length := by rw [nI_clamp (by omega)]; exact (hy c hc).1
    refine xw_C1 (by omega) hc (br_f (by decide) ?_)
    rcases sm_ix (v := v2) (n := (P c).length) (by omega) with (w | ⟨w1, w2, w3⟩) | ⟨i, hi, rfl⟩
    · exact br_t w (yw_C1 (by omega) hc (br_f (by decide) (br_t w ⟨rfl, rl_mk h⟩)))
    · exact br_f w1 (And.intro v10 (br_f (by rw [ex]; exact w3) (yw_C1 (by omega) hc (br_f (by decide) (br_f w1 (And.intro v10 (br_t (by rw [ey]; exact w2) ⟨rfl, rl_mk h⟩)))))))
    · have w1 : ¬ nI i < 0 := nI_pos (by omega)
      have w2 : nI i < pc (nI c).toNatClampNeg := by rw [ex]; exact nI_lt hi (by omega)
      have w3 : ¬ qc (nI c).toNatClampNeg ≤ nI i := by rw [ey]; exact nI_ge hi (by omega)
      have e3 : nI c * 3 + nI i = nI (c * 3 + i) := by rw [nu_m3, nI_add]
      have v30 : vp_in (nI c * 3 + nI i) 30 := by rw [e3]; exact vp_in_nI (by omega) (by decide)
      have ea : qa (nI c * 3 + nI i).toNatClampNeg = pa (nI c * 3 + nI i).toNatClampNeg := by
        rw [e3, nI_clamp (by omega), (hx c hc).2 i hi, (hy c hc).2 i hi]
      exact br_f w1 (And.intro v10 (br_t w2 (And.intro v30 (yw_C1 (by omega) hc (br_f (by decide) (br_f w1 (And.intro v10 (br_f w3 (And.intro v30 ⟨ea, rl_mk h⟩)))))))))
  · exact xw_C0 (by omega) hn (br_t rfl (yw_C0 (by omega) hn (br_t rfl ⟨rfl, rl_mk h⟩)))
theorem i_vc_linear {k : Nat} {u : SX} {v : SY} (I : i_Rel k u v) (hk : k + 5 ≤ 2564) (v1 : Int32) (v2 : Int32) : wpX_linear (fun r => wpY_linear (fun r' v' => r' = r ∧ i_Rel (k + 5) u v') v v1 v2) u v1 v2 := by
  refine rl_el (Q := fun u v => wpX_linear (fun r => wpY_linear (fun r' v' => r' = r ∧ i_Rel (k + 5) u v') v v1 v2) u v1 v2) I ?_
  intro cl ml fl ol cc mc oc ot fc sC sT rV P L sl pa pc li ll an sg mi mh me tc mb ck cn cb bl co ca ob oF ou cp cq aa ab po od oN qa qc mg ms mt mB yl yn ys ye yf h
  unfold wpX_linear wpY_linear
  dsimp only
  obtain ⟨n1, n2, n3, n4, n5, n6, n7, n8, n9, n10, n11, n12⟩ := h.1
  obtain ⟨hP, hT, hne, hx, hL, hy⟩ := h.2.1
  have h10 : cc ≤ 10 := by omega
  rcases Classical.em (∃ c, c < cc ∧ v1 = nI c) with ⟨c, hc, rfl⟩ | hn
  · have v10 : vp_in (nI c) 10 := vp_in_nI (by omega) (by decide)
    have hF := (cm_T_f hP hT c hc).2.2.1
    have ex : ll (nI c).toNatClampNeg = nI (L c).length := by rw [nI_clamp (by omega)]; exact (hL c hc).1.1
    refine xw_C1 (by omega) hc (br_f (by decide) ?_)
    rcases sm_ix (v := v2) (n := (L c).length) (by omega) with (w | ⟨w1, w2, w3⟩) | ⟨i, hi, rfl⟩
    · refine br_t w (yw_order h10 hP hy (fun L' yl yn ys ye hT' hr => ?_) (fun yl yn ys ye hn => absurd ⟨L, hT⟩ hn))
      exact yw_C1 (by omega) hc (br_f (by decide) (br_t w ⟨rfl, rl_mk h⟩))
    · refine br_f w1 (And.intro v10 (br_f (by rw [ex]; exact w3) (yw_order h10 hP hy (fun L' yl yn ys ye hT' hr => ?_) (fun yl yn ys ye hn => absurd ⟨L, hT⟩ hn))))
      have ey : yn (nI c).toNatClampNeg = nI (L c).length := by rw [nI_clamp (by omega), cm_T_u hP hT hT' c hc]; exact (hr c hc).1
      have w4 : yn (nI c).toNatClampNeg ≤ v2 := by rw [ey]; exact w2
      exact yw_C1 (by omega) hc (br_f (by decide) (br_f w1 (And.intro v10 (br_t w4 ⟨rfl, rl_mk h⟩))))
    · have w1 : ¬ nI i < 0 := nI_pos (by omega)
      have w2 : nI i < ll (nI c).toNatClampNeg := by rw [ex]; exact nI_lt hi (by omega)
      have e3 : nI c * 10 + nI i = nI (c * 10 + i) := by rw [nu_m10, nI_add]
      have v100 : vp_in (nI c * 10 + nI i) 100 := by rw [e3]; exact vp_in_nI (by omega) (by decide)
      refine br_f w1 (And.intro v10 (br_t w2 (And.intro v100 (yw_order h10 hP hy (fun L' yl yn ys ye hT' hr => ?_) (fun yl yn ys ye hn => absurd ⟨L, hT⟩ hn)))))
      have u := cm_T_u hP hT hT' c hc
      have w3 : ¬ yn (nI c).toNatClampNeg ≤ nI i := by rw [nI_clamp (by omega), (hr c hc).1, ← u]; exact nI_ge hi (by omega)
      have ea : yl (nI c * 10 + nI i).toNatClampNeg = li (nI c * 10 + nI i).toNatClampNeg := by
        rw [e3, nI_clamp (by omega), (hL c hc).1.2 i hi, (hr c hc).2 i (by rw [← u]; exact hi), u]
      exact yw_C1 (by omega) hc (br_f (by decide) (br_f w1 (And.intro v10 (br_f w3 (And.intro v100 ⟨ea, rl_mk h⟩)))))
  · refine xw_C0 (by omega) hn (br_t rfl (yw_order h10 hP hy (fun L' yl yn ys ye hT' hr => ?_) (fun yl yn ys ye hn => absurd ⟨L, hT⟩ hn)))
    exact yw_C0 (by omega) hn (br_t rfl ⟨rfl, rl_mk h⟩)
end
section
theorem la_row3 {a n a' n' : Nat → Int32} {c r : Nat} {l : List Nat} (h : la_row a n 3 r l) (hl : l.length ≤ 3) (o1 : ∀ j, j < c * 3 ∨ c * 3 + 3 ≤ j → a' j = a j) (o2 : ∀ j, j ≠ c → n' j = n j) (hr : r ≠ c) : la_row a' n' 3 r l :=
  ⟨by rw [o2 r hr]; exact h.1, fun j hj => by rw [o1 _ (by omega)]; exact h.2 j hj⟩
theorem cm_P_s {cc : Nat} {P : Nat → List Nat} {p : List Nat} (hP : cm_P cc P) (h3 : p.length ≤ 3) (hp : ∀ q, q ∈ p → q < cc) : cm_P (cc + 1) (la_st P cc p) := fun c hc => by
  by_cases v : c = cc
  · rw [v, la_ss]; exact ⟨h3, hp⟩
  · rw [la_sn v]; exact hP c (by omega)
theorem cm_P_r {cc c : Nat} {P : Nat → List Nat} {p : List Nat} (hP : cm_P cc P) (h3 : p.length ≤ 3) (hp : ∀ q, q ∈ p → q < c) : cm_P cc (la_st P c p) := fun r hr => by
  by_cases v : r = c
  · rw [v, la_ss]; exact ⟨h3, hp⟩
  · rw [la_sn v]; exact hP r hr
theorem cm_T_p {cc : Nat} {P L : Nat → List Nat} {p : List Nat} (hT : cm_T cc P L) : cm_T cc (la_st P cc p) L := fun c hc => by
  rw [la_sn (by omega)]; exact hT c hc
theorem rl_C_off {cc : Nat} {P L : Nat → List Nat} {pa pc li ll an qa qc pa' pc' li' ll' an' qa' qc' : Nat → Int32} (h : rl_C cc P L pa pc li ll an qa qc) (hcc : cc ≤ 10) (o1 : ∀ j, j < cc * 3 ∨ cc * 3 + 3 ≤ j → pa' j = pa j) (o2 : ∀ j, j ≠ cc → pc' j = pc j) (o3 : xl_off cc li ll an li' ll' an') (o4 : yo_poff cc qa qc qa' qc') : rl_C cc P L pa' pc' li' ll' an' qa' qc' := by
  obtain ⟨hP, hT, hn, hx, hL, hy⟩ := h
  have hF := cm_T_f hP hT
  exact ⟨hP, hT, hn, fun c hc => la_row3 (hx c hc) (hP c hc).1 o1 o2 (by omega), fun c hc => xr_off (hL c hc) o3 (by omega) (by have := (hF c hc).2.2.1; omega), fun c hc => la_row3 (hy c hc) (hP c hc).1 o4.1 o4.2 (by omega)⟩
theorem rl_C_new {cc : Nat} {P L : Nat → List Nat} {p l : List Nat} {pa pc li ll an qa qc pa' pc' li' ll' an' qa' qc' : Nat → Int32} (h : rl_C cc P L pa pc li ll an qa qc) (hcc : cc < 10) (h3 : p.length ≤ 3) (hp : ∀ q, q ∈ p → q < cc) (hpn : p ≠ []) (hl : cm_lin L p cc = some l) (r1 : la_row pa' pc' 3 cc p) (r2 : xr_row li' ll' an' cc l) (r3 : la_row qa' qc' 3 cc p)
    (o1 : ∀ j, j < cc * 3 ∨ cc * 3 + 3 ≤ j → pa' j = pa j) (o2 : ∀ j, j ≠ cc → pc' j = pc j) (o3 : xl_off cc li ll an li' ll' an') (o4 : yo_poff cc qa qc qa' qc') : rl_C (cc + 1) (la_st P cc p) (la_st L cc l) pa' pc' li' ll' an' qa' qc' := by
  obtain ⟨hP, hT, hn, hx, hL, hy⟩ := rl_C_off h (by omega) o1 o2 o3 o4
  refine ⟨cm_P_s hP h3 hp, cm_T_s (cm_P_s hP h3 hp) (cm_T_p hT) (by rw [la_ss]; exact hl), fun c h0 hc => ?_, fun c hc => ?_, fun c hc => ?_, fun c hc => ?_⟩
  · by_cases v : c = cc
    · rw [v, la_ss]; exact hpn
    · rw [la_sn v]; exact hn c h0 (by omega)
  · by_cases v : c = cc
    · rw [v, la_ss]; exact r1
    · rw [la_sn v]; exact hx c (by omega)
  · by_cases v : c = cc
    · rw [v, la_ss]; exact r2
    · rw [la_sn v]; exact hL c (by omega)
  · by_cases v : c = cc
    · rw [v, la_ss]; exact r3
    · rw [la_sn v]; exact hy c (by omega)
theorem rl_K_new {cc : Nat} {L : Nat → List Nat} {l : List Nat} {mb ck cn cb : Nat → Int32} (h : rl_K cc L mb ck cn cb) : rl_K (cc + 1) (la_st L cc l) mb ck cn cb := fun g c d hg hc hd => by
  rcases h g c d hg hc hd with e | ⟨e1, e2, e3⟩
  · exact Or.inl e
  · exact Or.inr ⟨by omega, by omega, by rw [la_sn (by omega), la_sn (by omega)]; exact e3⟩
theorem rl_O_new {cc oc : Nat} {ob : Nat → Int32} (h : rl_O cc oc ob) : rl_O (cc + 1) oc ob := fun i hi => by
  obtain ⟨c, hc, e⟩ := h i hi
  exact ⟨c, by omega, e⟩
section YDEF
variable {cl ml fl ol cc mc oc ot fc : Nat} {sC sT rV : Int32} {P L : Nat → List Nat} {sl : Nat → Nat} {pa pc li ll an sg mi mh me tc mb ck cn cb bl co ca ob oF ou cp cq aa ab po od oN qa qc mg ms mt mB yl yn ys ye yf : Nat → Int32} {v1 v2 v3 v4 : Int32}
theorem yw_def2 {post : Int32 → SY → Prop} (hc : cc ≤ 10) (h : cl ≤ cc) (K : post (-2) (nI cl, nI ml, nI fl, nI ol, nI cc, nI mc, nI oc, nI fc, sT, rV, nI ot, qa, qc, mg, ms, mt, mB, co, ca, bl, ob, oF, cp, cq, od, oN, aa, ab, po, ou, yl, yn, ys, ye, yf)) : wpY_defineClass post (nI cl, nI ml, nI fl, nI ol, nI cc, nI mc, nI oc, nI fc, sT, rV, nI ot, qa, qc, mg, ms, mt, mB, co, ca, bl, ob, oF, cp, cq, od, oN, aa, ab, po, ou, yl, yn, ys, ye, yf) v1 v2 v3 := br_f (nI_nlt h (by omega)) K
theorem yw_def3 {post : Int32 → SY → Prop} (hc : cl ≤ 10) (h : cc < cl) (no : ¬ (sp_ok cc v1 ∧ sp_ok cc v2 ∧ sp_ok cc v3)) (K : post (-3) (nI cl, nI ml, nI fl, nI ol, nI cc, nI mc, nI oc, nI fc, sT, rV, nI ot, qa, qc, mg, ms, mt, mB, co, ca, bl, ob, oF, cp, cq, od, oN, aa, ab, po, ou, yl, yn, ys, ye, yf)) : wpY_defineClass post (nI cl, nI ml, nI fl, nI ol, nI cc, nI mc, nI oc, nI fc, sT, rV, nI ot, qa, qc, mg, ms, mt, mB, co, ca, bl, ob, oF, cp, cq, od, oN, aa, ab, po, ou, yl, yn, ys, ye, yf) v1 v2 v3 :=
  br_t (nI_lt h (by omega)) (yw_check (by omega) (fun _ => br_f (by decide) K) (fun o _ => absurd o no) (fun o _ => absurd o no))
theorem yw_def4 {post : Int32 → SY → Prop} (hc : cl ≤ 10) (h : cc < cl) (ok : sp_ok cc v1 ∧ sp_ok cc v2 ∧ sp_ok cc v3) (d : sp_dup v1 v2 v3) (K : post (-4) (nI cl, nI ml, nI fl, nI ol, nI cc, nI mc, nI oc, nI fc, sT, rV, nI ot, qa, qc, mg, ms, mt, mB, co, ca, bl, ob, oF, cp, cq, od, oN, aa, ab, po, ou, yl, yn, ys, ye, yf)) : wpY_defineClass post (nI cl, nI ml, nI fl, nI ol, nI cc, nI mc, nI oc, nI fc, sT, rV, nI ot, qa, qc, mg, ms, mt, mB, co, ca, bl, ob, oF, cp, cq, od, oN, aa, ab, po, ou, yl, yn, ys, ye, yf) v1 v2 v3 :=
  br_t (nI_lt h (by omega)) (yw_check (by omega) (fun n => absurd ok n) (fun _ _ => br_f (by decide) K) (fun _ n => absurd d n))
theorem yw_def {post : Int32 → SY → Prop} (hc : cl ≤ 10) (h1 : 1 ≤ cc) (h : cc < cl) (hP : cm_P cc P) (hy : ∀ c, c < cc → la_row qa qc 3 c (P c)) (ok : sp_ok cc v1 ∧ sp_ok cc v2 ∧ sp_ok cc v3) (nd : ¬ sp_dup v1 v2 v3)
    (K5 : (¬ ∃ L, cm_T (cc + 1) (la_st P cc (sp_l v1 v2 v3)) L) → ∀ qa' qc' yl yn ys ye, yo_poff cc qa qc qa' qc' → post (-5) (nI cl, nI ml, nI fl, nI ol, nI cc, nI mc, nI oc, nI fc, sT, rV, nI ot, qa', qc', mg, ms, mt, mB, co, ca, bl, ob, oF, cp, cq, od, oN, aa, ab, po, ou, yl, yn, ys, ye, yf))
    (K0 : (∃ L, cm_T (cc + 1) (la_st P cc (sp_l v1 v2 v3)) L) → ∀ qa' qc' yl yn ys ye, la_row qa' qc' 3 cc (sp_l v1 v2 v3) → yo_poff cc qa qc qa' qc' → post (nI cc) (nI cl, nI ml, nI fl, nI ol, nI (cc + 1), nI mc, nI oc, nI fc, sT, rV, nI ot, qa', qc', mg, ms, mt, mB, co, ca, bl, ob, oF, cp, cq, od, oN, aa, ab, po, ou, yl, yn, ys, ye, yf)) : wpY_defineClass post (nI cl, nI ml, nI fl, nI ol, nI cc, nI mc, nI oc, nI fc, sT, rV, nI ot, qa, qc, mg, ms, mt, mB, co, ca, bl, ob, oF, cp, cq, od, oN, aa, ab, po, ou, yl, yn, ys, ye, yf) v1 v2 v3 := by
  refine br_t (nI_lt h (by omega)) (yw_check (by omega) (fun n => absurd ok n) (fun _ d => absurd d nd) (fun _ _ => br_t rfl ?_))
  refine yw_put (n := cc) (by omega) h1 (by omega) ok.1 ok.2.1 ok.2.2 (fun qa' qc' r o => ?_)
  rw [nI_1 cc]
  have hlt : ∀ q, q ∈ sp_l v1 v2 v3 → q < cc := sp_l_m ok.1 ok.2.1 ok.2.2 (by omega) h1
  have hP' := cm_P_s hP (sp_l_3 v1 v2 v3) hlt
  refine yw_order (n := cc + 1) (P := la_st P cc (sp_l v1 v2 v3)) (by omega) hP' (fun c hc => ?_) (fun L' yl yn ys ye hT' hr => ?_) (fun yl yn ys ye hn => ?_)
  · by_cases v : c = cc
    · rw [v, la_ss]; exact r
    · rw [la_sn v]
      exact la_row3 (hy c (by omega)) (hP c (by omega)).1 o.1 o.2 v
  · exact br_f (by decide) (nm_e (K0 ⟨L', hT'⟩ _ _ _ _ _ _ r o))
  · exact br_t rfl (K5 hn _ _ _ _ _ _ o)
end YDEF
theorem sp_row {c : Nat} {p : List Nat} {sC : Int32} {sg pa' pc : Nat → Int32} (h3 : p.length ≤ 3) (e : sp_e p sC sg) (h : ∀ i, i < 3 → pa' (c * 3 + i) = sg i) : la_row pa' (upd pc c sC) 3 c p :=
  ⟨by rw [pk_us]; exact e.1, fun j hj => by rw [h j (by omega)]; exact e.2 j hj⟩
theorem i_vc_defineClass {k : Nat} {u : SX} {v : SY} (I : i_Rel k u v) (hk : k + 5 ≤ 2564) (v1 : Int32) (v2 : Int32) (v3 : Int32) : wpX_defineClass (fun r u' => wpY_defineClass (fun r' v' => r' = r ∧ i_Rel (k + 5) u' v') v v1 v2 v3) u v1 v2 v3 := by
  refine rl_el (Q := fun u v => wpX_defineClass (fun r u' => wpY_defineClass (fun r' v' => r' = r ∧ i_Rel (k + 5) u' v') v v1 v2 v3) u v1 v2 v3) I ?_
  intro cl ml fl ol cc mc oc ot fc sC sT rV P L sl pa pc li ll an sg mi mh me tc mb ck cn cb bl co ca ob oF ou cp cq aa ab po od oN qa qc mg ms mt mB yl yn ys ye yf h
  obtain ⟨⟨n1, n2, n3, n4, n5, n6, n7, n8, n9, n10, n11, n12⟩, hC, hM, hK, hB, hO, hF⟩ := h
  have hN : rl_N cl ml fl ol cc mc oc ot fc := ⟨n1, n2, n3, n4, n5, n6, n7, n8, n9, n10, n11, n12⟩
  have hC' := hC
  obtain ⟨hP, hT, hne, hx, hL, hy⟩ := hC'
  have hTF := cm_T_f hP hT
  rcases Nat.lt_or_ge cc cl with hlt | hge
  · refine br_t (nI_lt hlt (by omega)) (xw_stage (by omega) (by omega) (fun no => br_f (by decide) ?_) (fun ok d => br_f (by decide) ?_) (fun ok nd sC' sg' e => br_t rfl ?_))
    · exact yw_def3 n2 hlt no ⟨rfl, rl_mk ⟨hN, hC, hM, hK, hB, hO, hF⟩⟩
    · exact yw_def4 n2 hlt ok d ⟨rfl, rl_mk ⟨hN, hC, hM, hK, hB, hO, hF⟩⟩
    · have h3 := sp_l_3 v1 v2 v3
      have hp : ∀ q, q ∈ sp_l v1 v2 v3 → q < cc := sp_l_m ok.1 ok.2.1 ok.2.2 (by omega) n7
      have hP' := cm_P_s hP h3 hp
      refine xw_swap (by omega) (fun pa' sg'' s1 s2 s3 => ?_)
      have r1 : la_row pa' (upd pc cc sC') 3 cc (sp_l v1 v2 v3) := sp_row h3 e s1
      refine xw_lin (L := L) (by omega) h3 r1 (fun q hq => ?_) (fun l li' ll' an' mi' mh' me' tc' hl a1 a2 off => br_f (by decide) (nm_r (nI_1 cc) ?_)) (fun li' ll' an' mi' mh' me' tc' hl off => br_t rfl ?_)
      · have h1 := hp q hq
        obtain ⟨f1, f2, f3, f4⟩ := hTF q h1
        exact ⟨h1, (hL q h1).1, by omega, fun x hx => by have := f1 x hx; omega⟩
      · refine yw_def n2 n7 hlt hP hy ok nd (fun hn => absurd ⟨_, cm_T_s hP' (cm_T_p hT) (by rw [la_ss]; exact hl)⟩ hn) (fun _ qa' qc' yl yn ys ye r3 o4 => ⟨rfl, ?_⟩)
        exact rl_mk ⟨⟨n1, n2, n3, n4, n5, n6, by omega, hlt, n9, n10, n11, n12⟩, rl_C_new hC (by omega) h3 hp (sp_l_n v1 v2 v3) hl r1 ⟨a1, a2⟩ r3 s3 (fun j hj => pk_un hj) off o4, hM, rl_K_new hK, hB, rl_O_new hO, hF⟩
      · refine yw_def n2 n7 hlt hP hy ok nd (fun hn qa' qc' yl yn ys ye o4 => ⟨rfl, ?_⟩) (fun hn => absurd hn (cm_T_no hP' (Nat.lt_succ_self cc) (cm_T_p hT) (by rw [la_ss]; exact hl)))
        exact rl_mk ⟨hN, rl_C_off hC (by omega) s3 (fun j hj => pk_un hj) off o4, hM, hK, hB, hO, hF⟩
  · exact br_f (nI_nlt hge (by omega)) (yw_def2 (by omega) hge ⟨rfl, rl_mk ⟨hN, hC, hM, hK, hB, hO, hF⟩⟩)
end
section
section YRED
variable {cl ml fl ol cc mc oc ot fc : Nat} {sC sT rV : Int32} {P L : Nat → List Nat} {sl : Nat → Nat} {pa pc li ll an sg mi mh me tc mb ck cn cb bl co ca ob oF ou cp cq aa ab po od oN qa qc mg ms mt mB yl yn ys ye yf : Nat → Int32} {v1 v2 v3 v4 : Int32}
theorem yw_95 {post : Int32 → SY → Prop} {c : Nat} {o1 o2 o3 : Int32} (hcc : cc ≤ 10) (h0 : 0 < c) (hc : c < cc) (hP : cm_P cc P) (hy : ∀ r, r < cc → la_row qa qc 3 r (P r)) (ok : sp_ok c v1 ∧ sp_ok c v2 ∧ sp_ok c v3) (ho : sp_ok c o1 ∧ sp_ok c o2 ∧ sp_ok c o3) (hl : sp_l o1 o2 o3 = P c)
    (K0 : (∃ L, cm_T cc (la_st P c (sp_l v1 v2 v3)) L) → ∀ qa' qc' yl yn ys ye, la_row qa' qc' 3 c (sp_l v1 v2 v3) → yo_poff c qa qc qa' qc' → post 0 (nI cl, nI ml, nI fl, nI ol, nI cc, nI mc, nI oc, nI fc, sT, rV, nI ot, qa', qc', mg, ms, mt, mB, co, ca, bl, ob, oF, cp, cq, od, oN, aa, ab, po, ou, yl, yn, ys, ye, yf))
    (K5 : (¬ ∃ L, cm_T cc (la_st P c (sp_l v1 v2 v3)) L) → ∀ qa' qc' yl yn ys ye, la_row qa' qc' 3 c (P c) → yo_poff c qa qc qa' qc' → post (-5) (nI cl, nI ml, nI fl, nI ol, nI cc, nI mc, nI oc, nI fc, sT, rV, nI ot, qa', qc', mg, ms, mt, mB, co, ca, bl, ob, oF, cp, cq, od, oN, aa, ab, po, ou, yl, yn, ys, ye, yf)) : wY_redefineClass_95 post (nI c) v1 v2 v3 o1 o2 o3 (nI cl) (nI ml) (nI fl) (nI ol) (nI cc) (nI mc) (nI oc) (nI fc) sT rV (nI ot) qa qc mg ms mt mB co ca bl ob oF cp cq od oN aa ab po ou yl yn ys ye yf := by
  have hlt : ∀ q, q ∈ sp_l v1 v2 v3 → q < c := sp_l_m ok.1 ok.2.1 ok.2.2 (by omega) h0
  have hP' := cm_P_r hP (sp_l_3 v1 v2 v3) hlt
  refine yw_put (n := c) (by omega) h0 (by omega) ok.1 ok.2.1 ok.2.2 (fun qa' qc' r o => ?_)
  refine yw_order (n := cc) (P := la_st P c (sp_l v1 v2 v3)) hcc hP' (fun d hd => ?_) (fun L' yl yn ys ye hT' hr => ?_) (fun yl yn ys ye hn => ?_)
  · by_cases v : d = c
    · rw [v, la_ss]; exact r
    · rw [la_sn v]
      exact la_row3 (hy d hd) (hP d hd).1 o.1 o.2 v
  · exact br_f (by decide) (K0 ⟨L', hT'⟩ _ _ _ _ _ _ r o)
  · refine br_t rfl (yw_put (n := c) (by omega) h0 (by omega) ho.1 ho.2.1 ho.2.2 (fun qa2 qc2 r2 o2 => K5 hn _ _ _ _ _ _ (by rw [← hl]; exact r2) ⟨fun j hj => ?_, fun j hj => ?_⟩))
    · rw [o2.1 j hj]; exact o.1 j hj
    · rw [o2.2 j hj]; exact o.2 j hj
theorem yw_red {post : Int32 → SY → Prop} {c : Nat} (hcc : cc ≤ 10) (h0 : 0 < c) (hc : c < cc) (hP : cm_P cc P) (hn : P c ≠ []) (hy : ∀ r, r < cc → la_row qa qc 3 r (P r)) (ok : sp_ok c v1 ∧ sp_ok c v2 ∧ sp_ok c v3) (nd : ¬ sp_dup v1 v2 v3)
    (K0 : (∃ L, cm_T cc (la_st P c (sp_l v1 v2 v3)) L) → ∀ qa' qc' yl yn ys ye, la_row qa' qc' 3 c (sp_l v1 v2 v3) → yo_poff c qa qc qa' qc' → post 0 (nI cl, nI ml, nI fl, nI ol, nI cc, nI mc, nI oc, nI fc, sT, rV, nI ot, qa', qc', mg, ms, mt, mB, co, ca, bl, ob, oF, cp, cq, od, oN, aa, ab, po, ou, yl, yn, ys, ye, yf))
    (K5 : (¬ ∃ L, cm_T cc (la_st P c (sp_l v1 v2 v3)) L) → ∀ qa' qc' yl yn ys ye, la_row qa' qc' 3 c (P c) → yo_poff c qa qc qa' qc' → post (-5) (nI cl, nI ml, nI fl, nI ol, nI cc, nI mc, nI oc, nI fc, sT, rV, nI ot, qa', qc', mg, ms, mt, mB, co, ca, bl, ob, oF, cp, cq, od, oN, aa, ab, po, ou, yl, yn, ys, ye, yf)) : wpY_redefineClass post (nI cl, nI ml, nI fl, nI ol, nI cc, nI mc, nI oc, nI fc, sT, rV, nI ot, qa, qc, mg, ms, mt, mB, co, ca, bl, ob, oF, cp, cq, od, oN, aa, ab, po, ou, yl, yn, ys, ye, yf) (nI c) v1 v2 v3 := by
  have hPc := hP c hc
  have hyc := hy c hc
  have ci : (nI c).toNatClampNeg = c := nI_clamp (by omega)
  have v10 : vp_in (nI c) 10 := vp_in_nI (by omega) (by decide)
  have e3 : nI c * 3 = nI (c * 3) := nu_m3 c
  have e31 : nI c * 3 + 1 = nI (c * 3 + 1) := by rw [e3]; exact nI_1 _
  have e32 : nI c * 3 + 2 = nI (c * 3 + 2) := by rw [e3]; exact nI_add _ 2
  have v31 : vp_in (nI c * 3 + 1) 30 := by rw [e31]; exact vp_in_nI (by omega) (by decide)
  have v32 : vp_in (nI c * 3 + 2) 30 := by rw [e32]; exact vp_in_nI (by omega) (by decide)
  have hq : qc (nI c).toNatClampNeg = nI (P c).length := by rw [ci]; exact hyc.1
  refine br_f (nI_nlt (b := 1) h0 (by omega)) (br_t (nI_lt hc (by omega)) (yw_check (by omega) (fun n => absurd ok n) (fun _ d => absurd d nd) (fun _ _ => br_t rfl (And.intro (by rw [e3]; exact vp_in_nI (by omega) (by decide)) ?_))))
  have so : ∀ q, q < 10 → sp_o (nI q) = [q] := fun q hq => by unfold sp_o; rw [if_neg (nu_ne1 (by omega)), nI_clamp (by omega)]
  have sn : sp_o (-1) = [] := if_pos rfl
  have hm := hPc.2
  have h3 := hPc.1
  have r := hyc.2
  cases e : P c with
  | nil => exact absurd e hn
  | cons a t =>
    have ha : a < c := hm a (by rw [e]; exact List.mem_cons_self)
    have q0 : qa (nI c * 3).toNatClampNeg = nI a := by
      rw [e3, nI_clamp (by omega)]
      have := r 0 (by rw [e]; exact Nat.succ_pos _)
      rw [e] at this
      exact this
    refine nm_r q0 (And.intro v10 ?_)
    rw [e] at hq
    cases t with
    | nil =>
      refine br_t (by rw [hq]; exact Int32.le_refl _) (And.intro v10 (br_t (by rw [hq]; exact nI_le (a := 1) (b := 2) (by decide) (by decide)) ?_))
      refine yw_95 hcc h0 hc hP hy ok ⟨Or.inr ⟨a, ha, rfl⟩, Or.inl rfl, Or.inl rfl⟩ ?_ K0 K5
      unfold sp_l
      rw [so a (by omega), sn, e, List.append_nil, List.append_nil, if_neg (by simp)]
    | cons b t =>
      have hb : b < c := hm b (by rw [e]; simp)
      have q1 : qa (nI c * 3 + 1).toNatClampNeg = nI b := by
        rw [e31, nI_clamp (by omega)]
        have := r 1 (by rw [e]; simp)
        rw [e] at this
        exact this
      refine br_f (by rw [hq]; exact nI_ge (b := t.length + 1 + 1) (a := 1) (by omega) (by rw [e] at h3; simp at h3; omega)) (And.intro v31 ?_)
      rw [q1]
      cases t with
      | nil =>
        refine And.intro v10 (br_t (by rw [hq]; exact Int32.le_refl _) ?_)
        refine yw_95 hcc h0 hc hP hy ok ⟨Or.inr ⟨a, ha, rfl⟩, Or.inr ⟨b, hb, rfl⟩, Or.inl rfl⟩ ?_ K0 K5
        unfold sp_l
        rw [so a (by omega), so b (by omega), sn, e, List.append_nil, if_neg (by simp)]; rfl
      | cons d t =>
        have hd : d < c := hm d (by rw [e]; simp)
        have q2 : qa (nI c * 3 + 2).toNatClampNeg = nI d := by
          rw [e32, nI_clamp (by omega)]
          have := r 2 (by rw [e]; simp)
          rw [e] at this
          exact this
        have t0 : t = [] := by
          rw [e] at h3
          cases t with
          | nil => rfl
          | cons x t => simp at h3
        subst t0
        refine And.intro v10 (br_f (by rw [hq]; exact nI_ge (b := 3) (a := 2) (by decide) (by decide)) (And.intro v32 ?_))
        rw [q2]
        refine yw_95 hcc h0 hc hP hy ok ⟨Or.inr ⟨a, ha, rfl⟩, Or.inr ⟨b, hb, rfl⟩, Or.inr ⟨d, hd, rfl⟩⟩ ?_ K0 K5
        unfold sp_l
        rw [so a (by omega), so b (by omega), so d (by omega), e, if_neg (by simp)]; rfl
end YRED
theorem i_vc_redefineClass {k : Nat} {u : SX} {v : SY} (I : i_Rel k u v) (hk : k + 5 ≤ 2564) (v1 : Int32) (v2 : Int32) (v3 : Int32) (v4 : Int32) : wpX_redefineClass (fun r u' => wpY_redefineClass (fun r' v' => r' = r ∧ i_Rel (k + 5) u' v') v v1 v2 v3 v4) u v1 v2 v3 v4 := by
  refine rl_el (Q := fun u v => wpX_redefineClass (fun r u' => wpY_redefineClass (fun r' v' => r' = r ∧ i_Rel (k + 5) u' v') v v1 v2 v3 v4) u v1 v2 v3 v4) I ?_
  intro cl ml fl ol cc mc oc ot fc sC sT rV P L sl pa pc li ll an sg mi mh me tc mb ck cn cb bl co ca ob oF ou cp cq aa ab po od oN qa qc mg ms mt mB yl yn ys ye yf h
  have h' := h
  obtain ⟨⟨n1, n2, n3, n4, n5, n6, n7, n8, n9, n10, n11, n12⟩, hC, hM, hK, hB, hO, hF⟩ := h'
  have hN := h.1
  have hcc : cc ≤ 10 := by omega
  have hC' := hC
  obtain ⟨hP, hT, hne, hx, hL, hy⟩ := hC'
  have hTF := cm_T_f hP hT
  have hl10 : ∀ r, r < cc → (L r).length ≤ 10 := fun r hr => by have := (hTF r hr).2.2.1; omega
  by_cases z1 : v1 < 1
  · exact br_t z1 (br_t z1 ⟨rfl, rl_mk h⟩)
  by_cases z2 : v1 < nI cc
  · obtain ⟨c, hc1, hc, rfl⟩ : ∃ c, 1 ≤ c ∧ c < cc ∧ v1 = nI c := by
      have z0 : ¬ v1 < 0 := fun w => z1 (by
        rw [Int32.lt_iff_toInt_lt] at w ⊢
        have a1 : (0 : Int32).toInt = 0 := by decide
        have a2 : (1 : Int32).toInt = 1 := by decide
        omega)
      obtain ⟨j, hj, rfl⟩ := nI_of z0
      refine ⟨j, ?_, (nI_ltI hj (by omega)).mp z2, rfl⟩
      rcases Nat.lt_or_ge j 1 with w | w
      · exact absurd (nI_lt (b := 1) w (by decide)) z1
      · exact w
    refine br_f z1 (br_t z2 (xw_stage (by omega) (by omega) (fun no => br_f (by decide) ?_) (fun ok d => br_f (by decide) ?_) (fun ok nd sC' sg' e => br_t rfl ?_)))
    · exact br_f z1 (br_t z2 (yw_check (by omega) (fun _ => br_f (by decide) ⟨rfl, rl_mk h⟩) (fun o _ => absurd o no) (fun o _ => absurd o no)))
    · exact br_f z1 (br_t z2 (yw_check (by omega) (fun n => absurd ok n) (fun _ _ => br_f (by decide) ⟨rfl, rl_mk h⟩) (fun _ n => absurd d n)))
    · have h3 := sp_l_3 v2 v3 v4
      have hp : ∀ q, q ∈ sp_l v2 v3 v4 → q < c := sp_l_m ok.1 ok.2.1 ok.2.2 (by omega) hc1
      have hP' := cm_P_r hP h3 hp
      have eD : ∀ n, cm_D P c n = cm_D (la_st P c (sp_l v2 v3 v4)) c n := cm_D_c (fun r hr => (la_sn hr).symm)
      have cD : c ∈ cm_D (la_st P c (sp_l v2 v3 v4)) c cc := by
        have := cm_D_le (P := la_st P c (sp_l v2 v3 v4)) (c := c) (x := c) (n := c + 1) (cc - (c + 1)) (by rw [cm_D_1]; exact List.mem_singleton.mpr rfl)
        rw [show c + 1 + (cc - (c + 1)) = cc by omega] at this
        exact this
      refine xw_swap (by omega) (fun pa' sg'' s1 s2 s3 => ?_)
      have r1 : la_row pa' (upd pc c sC') 3 c (sp_l v2 v3 v4) := sp_row h3 e s1
      have rows' : ∀ r, r < cc → la_row pa' (upd pc c sC') 3 r (la_st P c (sp_l v2 v3 v4) r) := fun r hr => by
        by_cases w : r = c
        · rw [w, la_ss]; exact r1
        · rw [la_sn w]; exact la_row3 (hx r hr) (hP r hr).1 s3 (fun j hj => pk_un hj) w
      refine xw_rel (P := la_st P c (sp_l v2 v3 v4)) (L0 := L) hcc hc hP' rows' (fun r hr hd => ?_) hl10 (fun r hr _ => hL r hr) (fun t L' li' ll' an' mi' mh' me' tc' ht hI => ?_) (fun li' ll' an' mi' mh' me' tc' hno hr0 => ?_)
      · have w : r ≠ c := fun w => hd (by rw [w]; exact cD)
        rw [la_sn w]; exact hT r hr
      · obtain ⟨hT', hr', hu, _⟩ := hI
        refine br_f (bs_is_n ht (fun w => by have := cm_D_b cc 31 w; omega)) (xw_forgetC hcc ht (fun ck' g1 g2 => ?_))
        refine yw_red hcc hc1 hc hP (hne c hc1 hc) hy ok nd (fun _ qa' qc' yl yn ys ye r3 o4 => ⟨rfl, ?_⟩) (fun hn => absurd ⟨L', hT'⟩ hn)
        refine rl_mk (P := la_st P c (sp_l v2 v3 v4)) (L := L') ⟨hN, ⟨hP', hT', fun r h0 hr => ?_, rows', hr', fun r hr => ?_⟩, hM, fun g a b hg ha hb => ?_, hB, hO, hF⟩
        · by_cases w : r = c
          · rw [w, la_ss]; exact sp_l_n v2 v3 v4
          · rw [la_sn w]; exact hne r h0 hr
        · by_cases w : r = c
          · rw [w, la_ss]; exact r3
          · rw [la_sn w]; exact la_row3 (hy r hr) (hP r hr).1 o4.1 o4.2 w
        · rcases g1 ((g * 10 + a) * 10 + b) with q | q
          · exact Or.inl q
          · rcases hK g a b hg ha hb with q2 | ⟨a1, b1, q2⟩
            · exact Or.inl (by rw [q]; exact q2)
            · by_cases w : a ∈ cm_D (la_st P c (sp_l v2 v3 v4)) c cc ∨ b ∈ cm_D (la_st P c (sp_l v2 v3 v4)) c cc
              · exact Or.inl (g2 g a b hg a1 b1 w)
              · refine Or.inr ⟨a1, b1, ?_⟩
                rw [hu a a1 (fun m => w (Or.inl m)), hu b b1 (fun m => w (Or.inr m))]
                exact q2
      · refine br_t rfl (xw_swap (by omega) (fun pa2 sg2 t1 t2 t3 => ?_))
        have rows2 : ∀ r, r < cc → la_row pa2 (upd (upd pc c sC') c (pc c)) 3 r (P r) := fun r hr => by
          rw [nu_uu, nu_id rfl]
          by_cases w : r = c
          · subst w
            exact ⟨(hx r hr).1, fun j hj => by
              have := (hP r hr).1
              rw [t1 j (by omega), s2 j (by omega)]; exact (hx r hr).2 j hj⟩
          · refine la_row3 (a := pa) (hx r hr) (hP r hr).1 (fun j hj => ?_) (fun j _ => rfl) w
            rw [t3 j hj]; exact s3 j hj
        refine xw_rel (P := P) (L0 := L) hcc hc hP rows2 (fun r hr _ => hT r hr) hl10 (fun r hr hd => hr0 r hr (by rw [← eD]; exact hd)) (fun t L' li2 ll2 an2 mi2 mh2 me2 tc2 ht hI => ?_) (fun li2 ll2 an2 mi2 mh2 me2 tc2 hno2 _ => absurd ⟨L, hT⟩ hno2)
        obtain ⟨hT', hr', hu, _⟩ := hI
        have un := cm_T_u hP hT hT'
        refine yw_red hcc hc1 hc hP (hne c hc1 hc) hy ok nd (fun w => absurd w hno) (fun _ qa' qc' yl yn ys ye r3 o4 => ⟨rfl, ?_⟩)
        refine rl_mk (P := P) (L := L) ⟨hN, ⟨hP, hT, hne, rows2, fun r hr => ?_, fun r hr => ?_⟩, hM, hK, hB, hO, hF⟩
        · rw [un r hr]; exact hr' r hr
        · by_cases w : r = c
          · rw [w]; exact r3
          · exact la_row3 (hy r hr) (hP r hr).1 o4.1 o4.2 w
  · exact br_f z1 (br_f z2 (br_f z1 (br_f z2 ⟨rfl, rl_mk h⟩)))
end
section
theorem rl_K_m {cc g s t : Nat} {x : Int32} {L : Nat → List Nat} {mb ck cn cb ck' : Nat → Int32} (hK : rl_K cc L mb ck cn cb) (hcc : cc ≤ 10) (hs : s < cc) (ht : t < cc) (hle : ∀ c, c < cc → ∀ x, x ∈ L c → x ≤ c) (g1 : ∀ q, ck' q = 0 ∨ ck' q = ck q) (g2 : ∀ c d, s ≤ c → c < cc → t ≤ d → d < cc → s ∈ L c → t ∈ L d → ck' ((g * 10 + c) * 10 + d) = 0) : rl_K cc L (upd mb ((g * 10 + s) * 10 + t) x) ck' cn cb := by
  intro g' a b hg ha hb
  rcases g1 ((g' * 10 + a) * 10 + b) with q | q
  · exact Or.inl q
  · rcases hK g' a b hg ha hb with q2 | ⟨a1, b1, q2⟩
    · exact Or.inl (by rw [q]; exact q2)
    · by_cases w : g' = g ∧ s ∈ L a ∧ t ∈ L b
      · obtain ⟨w1, w2, w3⟩ := w
        subst w1
        exact Or.inl (g2 a b (hle a a1 s w2) a1 (hle b b1 t w3) b1 w2 w3)
      · refine Or.inr ⟨a1, b1, ?_⟩
        have e : ch_L (upd mb ((g * 10 + s) * 10 + t) x) g' (L a) (L b) = ch_L mb g' (L a) (L b) := ch_L_c (fun s' t' hs' ht' => pk_un (fun e => w (by
          have b1' := hle a a1 s' hs'
          have b2' := hle b b1 t' ht'
          obtain ⟨e1, e2, e3⟩ := ch_sl (by omega) (by omega) (by omega) (by omega) e
          subst e1 e2 e3
          exact ⟨rfl, hs', ht'⟩)))
        rw [e]
        exact q2
theorem sm_b {p : Int32} (h1 : ¬ p < 0) (h2 : p ≤ 15) : ∃ c, c < 16 ∧ p = nI c := by
  obtain ⟨j, hj, e⟩ := nI_of2 (x := p) (M := 15) (n := 15) (by decide) h1 h2
  exact ⟨j, by omega, e⟩
theorem sm_ng {p : Int32} {P : Prop} (h : ¬ ∃ c, c < 4 ∧ p = nI c) (h1 : ¬ p < 0) (h2 : ¬ 3 < p) : P := absurd (sm_g h1 h2) h
section METH
variable {cl ml fl ol cc mc oc ot fc : Nat} {sC sT rV : Int32} {P L : Nat → List Nat} {sl : Nat → Nat} {pa pc li ll an sg mi mh me tc mb ck cn cb bl co ca ob oF ou cp cq aa ab po od oN qa qc mg ms mt mB yl yn ys ye yf : Nat → Int32} {v1 v2 v3 v4 : Int32}
theorem xw_set {post : Int32 → SX → Prop} {g s t b : Nat} (hN : rl_N cl ml fl ol cc mc oc ot fc) (hC : rl_C cc P L pa pc li ll an qa qc) (hK : rl_K cc L mb ck cn cb) (hg : g < 4) (hs : s < cc) (ht : t < cc) (K : ∀ ck', rl_K cc L (upd mb ((g * 10 + s) * 10 + t) (nI b)) ck' cn cb → post 0 (nI cl, nI ml, nI fl, nI ol, nI cc, sC, nI mc, nI oc, sT, rV, nI ot, nI fc, pa, pc, li, ll, an, sg, mi, mh, me, tc, upd mb ((g * 10 + s) * 10 + t) (nI b), ck', cn, cb, bl, co, ca, ob, oF, ou, cp, cq, aa, ab, po, od, oN)) : wX_setMethod_86 post (nI g) (nI s) (nI t) (nI b) (nI ((g * 10 + s) * 10 + t)) (nI cl) (nI ml) (nI fl) (nI ol) (nI cc) sC (nI mc) (nI oc) sT rV (nI ot) (nI fc) pa pc li ll an sg mi mh me tc mb ck cn cb bl co ca ob oF ou cp cq aa ab po od oN := by
  obtain ⟨n1, n2, n3, n4, n5, n6, n7, n8, n9, n10, n11, n12⟩ := hN
  obtain ⟨hP, hT, hne, hx, hL, hy⟩ := hC
  have hTF := cm_T_f hP hT
  refine And.intro (vp_in_nI (by omega) (by decide)) (nm_r (e' := upd mb ((g * 10 + s) * 10 + t) (nI b)) (by rw [nI_clamp (by omega)]) ?_)
  exact xw_forgetM (L := L) (by omega) hg hs ht (fun r hr => (hL r hr).2) (fun ck' g1 g2 => K ck' (rl_K_m hK (by omega) hs ht (fun c hc => (hTF c hc).1) g1 g2))
theorem yw_set {post : Int32 → SY → Prop} {g s t b m : Nat} (hm : m < 16) (K : post 0 (nI cl, nI ml, nI fl, nI ol, nI cc, nI mc, nI oc, nI fc, sT, rV, nI ot, qa, qc, upd mg m (nI g), upd ms m (nI s), upd mt m (nI t), upd mB m (nI b), co, ca, bl, ob, oF, cp, cq, od, oN, aa, ab, po, ou, yl, yn, ys, ye, yf)) : wY_setMethod_88 post (nI g) (nI s) (nI t) (nI b) (nI m) (nI cl) (nI ml) (nI fl) (nI ol) (nI cc) (nI mc) (nI oc) (nI fc) sT rV (nI ot) qa qc mg ms mt mB co ca bl ob oF cp cq od oN aa ab po ou yl yn ys ye yf := by
  have ci : (nI m).toNatClampNeg = m := nI_clamp (by omega)
  have v16 : vp_in (nI m) 16 := vp_in_nI hm (by decide)
  exact And.intro v16 (nm_r (e' := upd mg m (nI g)) (by rw [ci]) (And.intro v16 (nm_r (e' := upd ms m (nI s)) (by rw [ci]) (And.intro v16 (nm_r (e' := upd mt m (nI t)) (by rw [ci]) (And.intro v16 (nm_r (e' := upd mB m (nI b)) (by rw [ci]) K)))))))
end METH
theorem i_vc_setMethod {k : Nat} {u : SX} {v : SY} (I : i_Rel k u v) (hk : k + 5 ≤ 2564) (v1 : Int32) (v2 : Int32) (v3 : Int32) (v4 : Int32) : wpX_setMethod (fun r u' => wpY_setMethod (fun r' v' => r' = r ∧ i_Rel (k + 5) u' v') v v1 v2 v3 v4) u v1 v2 v3 v4 := by
  refine rl_el (Q := fun u v => wpX_setMethod (fun r u' => wpY_setMethod (fun r' v' => r' = r ∧ i_Rel (k + 5) u' v') v v1 v2 v3 v4) u v1 v2 v3 v4) I ?_
  intro cl ml fl ol cc mc oc ot fc sC sT rV P L sl pa pc li ll an sg mi mh me tc mb ck cn cb bl co ca ob oF ou cp cq aa ab po od oN qa qc mg ms mt mB yl yn ys ye yf h
  unfold wpX_setMethod wpY_setMethod
  dsimp only
  have h' := h
  obtain ⟨⟨n1, n2, n3, n4, n5, n6, n7, n8, n9, n10, n11, n12⟩, hC, hM, hK, hB, hO, hF⟩ := h'
  have hN := h.1
  have R : i_Rel (k + 5) (nI cl, nI ml, nI fl, nI ol, nI cc, sC, nI mc, nI oc, sT, rV, nI ot, nI fc, pa, pc, li, ll, an, sg, mi, mh, me, tc, mb, ck, cn, cb, bl, co, ca, ob, oF, ou, cp, cq, aa, ab, po, od, oN) (nI cl, nI ml, nI fl, nI ol, nI cc, nI mc, nI oc, nI fc, sT, rV, nI ot, qa, qc, mg, ms, mt, mB, co, ca, bl, ob, oF, cp, cq, od, oN, aa, ab, po, ou, yl, yn, ys, ye, yf) := rl_mk h
  rcases Classical.em (∃ c, c < 4 ∧ v1 = nI c) with ⟨g, hg, rfl⟩ | hn
  · have z1 : ¬ nI g < 0 := nI_pos (by omega)
    have z2 : ¬ 3 < nI g := nI_nlt (a := 3) (b := g) (by omega) (by decide)
    refine xw_G1 hg (br_f (by decide) ?_)
    by_cases y1 : v4 < 0
    · exact br_t y1 (br_f z1 (br_f z2 (br_t y1 ⟨rfl, R⟩)))
    by_cases y2 : v4 ≤ 15
    · obtain ⟨b, hb, rfl⟩ := sm_b y1 y2
      refine br_f y1 (br_t y2 ?_)
      rcases Classical.em (∃ c, c < cc ∧ v2 = nI c) with ⟨s, hs, rfl⟩ | hn
      · refine xw_C1 (by omega) hs (br_f (by decide) ?_)
        rcases Classical.em (∃ c, c < cc ∧ v3 = nI c) with ⟨t, ht, rfl⟩ | hn
        · refine xw_C1 (by omega) ht (br_f (by decide) (xw_slot (And.intro (vp_in_nI (by omega) (by decide)) ?_)))
          have hq : (g * 10 + s) * 10 + t < 400 := by omega
          have d1 : ((g * 10 + s) * 10 + t) / 100 = g := by omega
          have d2 : ((g * 10 + s) * 10 + t) / 10 % 10 = s := by omega
          have d3 : ((g * 10 + s) * 10 + t) % 10 = t := by omega
          rw [nI_clamp (n := (g * 10 + s) * 10 + t) (by omega)]
          by_cases e : mb ((g * 10 + s) * 10 + t) = -1
          · refine br_t e (pk_lt mc ml (fun w => ?_) (fun w => ?_))
            · refine nm_r (nI_1 mc) (xw_set ⟨n1, n2, n3, n4, n5, n6, n7, n8, w, n10, n11, n12⟩ hC hK hg hs ht (fun ck' hK' => ?_))
              refine br_f z1 (br_f z2 (br_f y1 (br_t y2 (yw_C1 (by omega) hs (br_f (by decide) (yw_C1 (by omega) ht (br_f (by decide) (yw_find hM (by omega) hg (by omega) (by omega) (fun m hm e2 => ?_) (fun _ => ?_)))))))))
              · have := (hM.1 m hm).2.2.2.2.2
                rw [e2] at this
                exact absurd e this
              · refine br_t rfl (br_t (nI_lt w (by omega)) (nm_r (nI_1 mc) (yw_set (by omega) ⟨rfl, ?_⟩)))
                have hM' := rl_M_new hM hq hb e
                rw [d1, d2, d3] at hM'
                exact rl_mk ⟨⟨n1, n2, n3, n4, n5, n6, n7, n8, w, n10, n11, n12⟩, hC, hM', hK', hB, hO, hF⟩
            · refine br_f z1 (br_f z2 (br_f y1 (br_t y2 (yw_C1 (by omega) hs (br_f (by decide) (yw_C1 (by omega) ht (br_f (by decide) (yw_find hM (by omega) hg (by omega) (by omega) (fun m hm e2 => ?_) (fun _ => ?_)))))))))
              · have := (hM.1 m hm).2.2.2.2.2
                rw [e2] at this
                exact absurd e this
              · exact br_t rfl (br_f (nI_nlt w (by omega)) ⟨rfl, R⟩)
          · refine br_f e (xw_set hN hC hK hg hs ht (fun ck' hK' => ?_))
            refine br_f z1 (br_f z2 (br_f y1 (br_t y2 (yw_C1 (by omega) hs (br_f (by decide) (yw_C1 (by omega) ht (br_f (by decide) (yw_find hM (by omega) hg (by omega) (by omega) (fun m hm e2 => ?_) (fun e2 => absurd e2 e)))))))))
            refine br_f (nu_ne1 (by omega)) (yw_set (by omega) ⟨rfl, ?_⟩)
            have hM' := rl_M_rep hM hm hb
            rw [e2, d1, d2, d3] at hM'
            exact rl_mk ⟨hN, hC, hM', hK', hB, hO, hF⟩
        · exact xw_C0 (by omega) hn (br_t rfl (br_f z1 (br_f z2 (br_f y1 (br_t y2 (yw_C1 (by omega) hs (br_f (by decide) (yw_C0 (by omega) hn (br_t rfl ⟨rfl, R⟩)))))))))
      · exact xw_C0 (by omega) hn (br_t rfl (br_f z1 (br_f z2 (br_f y1 (br_t y2 (yw_C0 (by omega) hn (br_t rfl ⟨rfl, R⟩)))))))
    · exact br_f y1 (br_f y2 (br_f z1 (br_f z2 (br_f y1 (br_f y2 ⟨rfl, R⟩)))))
  · exact xw_G0 hn (br_t rfl (br_c (fun _ => ⟨rfl, R⟩) (fun z1 => br_c (fun _ => ⟨rfl, R⟩) (fun z2 => sm_ng hn z1 z2))))
theorem i_vc_removeMethod {k : Nat} {u : SX} {v : SY} (I : i_Rel k u v) (hk : k + 5 ≤ 2564) (v1 : Int32) (v2 : Int32) (v3 : Int32) : wpX_removeMethod (fun r u' => wpY_removeMethod (fun r' v' => r' = r ∧ i_Rel (k + 5) u' v') v v1 v2 v3) u v1 v2 v3 := by
  refine rl_el (Q := fun u v => wpX_removeMethod (fun r u' => wpY_removeMethod (fun r' v' => r' = r ∧ i_Rel (k + 5) u' v') v v1 v2 v3) u v1 v2 v3) I ?_
  intro cl ml fl ol cc mc oc ot fc sC sT rV P L sl pa pc li ll an sg mi mh me tc mb ck cn cb bl co ca ob oF ou cp cq aa ab po od oN qa qc mg ms mt mB yl yn ys ye yf h
  unfold wpX_removeMethod wpY_removeMethod
  dsimp only
  have h' := h
  obtain ⟨⟨n1, n2, n3, n4, n5, n6, n7, n8, n9, n10, n11, n12⟩, hC, hM, hK, hB, hO, hF⟩ := h'
  have hN := h.1
  have R : i_Rel (k + 5) (nI cl, nI ml, nI fl, nI ol, nI cc, sC, nI mc, nI oc, sT, rV, nI ot, nI fc, pa, pc, li, ll, an, sg, mi, mh, me, tc, mb, ck, cn, cb, bl, co, ca, ob, oF, ou, cp, cq, aa, ab, po, od, oN) (nI cl, nI ml, nI fl, nI ol, nI cc, nI mc, nI oc, nI fc, sT, rV, nI ot, qa, qc, mg, ms, mt, mB, co, ca, bl, ob, oF, cp, cq, od, oN, aa, ab, po, ou, yl, yn, ys, ye, yf) := rl_mk h
  rcases Classical.em (∃ c, c < 4 ∧ v1 = nI c) with ⟨g, hg, rfl⟩ | hn
  · have z1 : ¬ nI g < 0 := nI_pos (by omega)
    have z2 : nI g ≤ 3 := nI_le (a := g) (b := 3) (by omega) (by decide)
    refine xw_G1 hg (br_f (by decide) ?_)
    rcases Classical.em (∃ c, c < cc ∧ v2 = nI c) with ⟨s, hs, rfl⟩ | hn
    · refine xw_C1 (by omega) hs (br_f (by decide) ?_)
      rcases Classical.em (∃ c, c < cc ∧ v3 = nI c) with ⟨t, ht, rfl⟩ | hn
      · refine xw_C1 (by omega) ht (br_f (by decide) (xw_slot (And.intro (vp_in_nI (by omega) (by decide)) ?_)))
        have hq : (g * 10 + s) * 10 + t < 400 := by omega
        rw [nI_clamp (n := (g * 10 + s) * 10 + t) (by omega)]
        by_cases e : mb ((g * 10 + s) * 10 + t) = -1
        · refine br_t e (br_f z1 (br_t z2 (yw_C1 (by omega) hs (br_f (by decide) (yw_C1 (by omega) ht (br_f (by decide) (yw_find hM (by omega) hg (by omega) (by omega) (fun m hm e2 => ?_) (fun _ => br_t rfl ⟨rfl, R⟩))))))))
          have := (hM.1 m hm).2.2.2.2.2
          rw [e2] at this
          exact absurd e this
        · obtain ⟨m0, hm0, _⟩ := (hM.2.2.1 _ hq).resolve_left e
          obtain ⟨hP, hT, hne, hx, hL, hy⟩ := hC
          have hTF := cm_T_f hP hT
          refine br_f e (And.intro (vp_in_nI hq (by decide)) (nm_e (nm_r (nu_s1 (by omega)) ?_)))
          refine xw_forgetM (L := L) (by omega) hg hs ht (fun r hr => (hL r hr).2) (fun ck' g1 g2 => ?_)
          refine br_f z1 (br_t z2 (yw_C1 (by omega) hs (br_f (by decide) (yw_C1 (by omega) ht (br_f (by decide) (yw_find hM (by omega) hg (by omega) (by omega) (fun m hm e2 => ?_) (fun e2 => absurd e2 e)))))))
          have c1 : (nI (mc - 1)).toNatClampNeg = mc - 1 := nI_clamp (by omega)
          have c2 : (nI m).toNatClampNeg = m := nI_clamp (by omega)
          have v1' : vp_in (nI (mc - 1)) 16 := vp_in_nI (by omega) (by decide)
          have v2' : vp_in (nI m) 16 := vp_in_nI (by omega) (by decide)
          refine br_f (nu_ne1 (by omega)) (nm_r (nu_s1 (by omega)) ?_)
          rw [c1, c2]
          refine And.intro v1' (And.intro v2' (nm_e (And.intro v1' (And.intro v2' (nm_e (And.intro v1' (And.intro v2' (nm_e (And.intro v1' (And.intro v2' (nm_e ⟨rfl, ?_⟩)))))))))))
          have hM' := rl_M_del hM hm
          rw [e2] at hM'
          exact rl_mk ⟨⟨n1, n2, n3, n4, n5, n6, n7, n8, by omega, n10, n11, n12⟩, ⟨hP, hT, hne, hx, hL, hy⟩, hM', rl_K_m hK (by omega) hs ht (fun c hc => (hTF c hc).1) g1 g2, hB, hO, hF⟩
      · exact xw_C0 (by omega) hn (br_t rfl (br_f z1 (br_t z2 (yw_C1 (by omega) hs (br_f (by decide) (yw_C0 (by omega) hn (br_t rfl ⟨rfl, R⟩)))))))
    · exact xw_C0 (by omega) hn (br_t rfl (br_f z1 (br_t z2 (yw_C0 (by omega) hn (br_t rfl ⟨rfl, R⟩)))))
  · exact xw_G0 hn (br_t rfl (br_c (fun _ => ⟨rfl, R⟩) (fun z1 => br_c (fun z2 => sm_ng hn z1 (fun w => absurd w (Int32.not_lt.mpr z2))) (fun _ => ⟨rfl, R⟩))))
theorem i_vc_chain {k : Nat} {u : SX} {v : SY} (I : i_Rel k u v) (hk : k + 5 ≤ 2564) (v1 : Int32) (v2 : Int32) (v3 : Int32) (v4 : Int32) : wpX_chain (fun r u' => wpY_chain (fun r' v' => r' = r ∧ i_Rel (k + 5) u' v') v v1 v2 v3 v4) u v1 v2 v3 v4 := by
  refine rl_el (Q := fun u v => wpX_chain (fun r u' => wpY_chain (fun r' v' => r' = r ∧ i_Rel (k + 5) u' v') v v1 v2 v3 v4) u v1 v2 v3 v4) I ?_
  intro cl ml fl ol cc mc oc ot fc sC sT rV P L sl pa pc li ll an sg mi mh me tc mb ck cn cb bl co ca ob oF ou cp cq aa ab po od oN qa qc mg ms mt mB yl yn ys ye yf h
  unfold wpX_chain
  dsimp only
  have h' := h
  obtain ⟨⟨n1, n2, n3, n4, n5, n6, n7, n8, n9, n10, n11, n12⟩, hC, hM, hK, hB, hO, hF⟩ := h'
  have hN := h.1
  have R : i_Rel (k + 5) (nI cl, nI ml, nI fl, nI ol, nI cc, sC, nI mc, nI oc, sT, rV, nI ot, nI fc, pa, pc, li, ll, an, sg, mi, mh, me, tc, mb, ck, cn, cb, bl, co, ca, ob, oF, ou, cp, cq, aa, ab, po, od, oN) (nI cl, nI ml, nI fl, nI ol, nI cc, nI mc, nI oc, nI fc, sT, rV, nI ot, qa, qc, mg, ms, mt, mB, co, ca, bl, ob, oF, cp, cq, od, oN, aa, ab, po, ou, yl, yn, ys, ye, yf) := rl_mk h
  have hC' := hC
  obtain ⟨hP, hT, hne, hx, hL, hy⟩ := hC'
  have hTF := cm_T_f hP hT
  have fact : ∀ r, r < cc → la_row li ll 10 r (L r) ∧ (L r).length ≤ 10 ∧ ∀ x, x ∈ L r → x < 10 := fun r hr' => by
    obtain ⟨f1, f2, f3, f4⟩ := hTF r hr'
    exact ⟨(hL r hr').1, by omega, fun x hx => by have := f1 x hx; omega⟩
  rcases Classical.em (∃ c, c < 4 ∧ v1 = nI c) with ⟨g, hg, rfl⟩ | hn
  · have z1 : ¬ nI g < 0 := nI_pos (by omega)
    have z2 : ¬ 3 < nI g := nI_nlt (a := 3) (b := g) (by omega) (by decide)
    refine xw_G1 hg (br_f (by decide) ?_)
    rcases Classical.em (∃ c, c < cc ∧ v2 = nI c) with ⟨c, hc, rfl⟩ | hn
    · refine xw_C1 (by omega) hc (br_f (by decide) ?_)
      rcases Classical.em (∃ c, c < cc ∧ v3 = nI c) with ⟨d, hd, rfl⟩ | hn
      · refine xw_C1 (by omega) hd (br_f (by decide) (xw_disp (L := L) hg (by omega) hc hd hK fact (fun ck' cn' cb' hK' hat => ?_)))
        have len := ch_L_l (mb := mb) (g := g) (lc := L c) (ld := L d)
        have vq : vp_in (nI ((g * 10 + c) * 10 + d)) 400 := vp_in_nI (by omega) (by decide)
        have ec : cn' (nI ((g * 10 + c) * 10 + d)).toNatClampNeg = nI (ch_L mb g (L c) (L d)).length := by rw [nI_clamp (by omega)]; exact hat.1
        have Yw : ∀ (r : Int32) (u' : SX), (∀ yl yn ys ye yf, yf_e (ch_L mb g (L c) (L d)) yf → (v4 < 0 → ((-1 : Int32) = r ∧ i_Rel (k + 5) u' (nI cl, nI ml, nI fl, nI ol, nI cc, nI mc, nI oc, nI fc, sT, rV, nI ot, qa, qc, mg, ms, mt, mB, co, ca, bl, ob, oF, cp, cq, od, oN, aa, ab, po, ou, yl, yn, ys, ye, yf))) ∧ (¬ v4 < 0 → ((nI (ch_L mb g (L c) (L d)).length ≤ v4 → ((-1 : Int32) = r ∧ i_Rel (k + 5) u' (nI cl, nI ml, nI fl, nI ol, nI cc, nI mc, nI oc, nI fc, sT, rV, nI ot, qa, qc, mg, ms, mt, mB, co, ca, bl, ob, oF, cp, cq, od, oN, aa, ab, po, ou, yl, yn, ys, ye, yf))) ∧ (¬ nI (ch_L mb g (L c) (L d)).length ≤ v4 → (vp_in v4 16 ∧ (yf v4.toNatClampNeg = r ∧ i_Rel (k + 5) u' (nI cl, nI ml, nI fl, nI ol, nI cc, nI mc, nI oc, nI fc, sT, rV, nI ot, qa, qc, mg, ms, mt, mB, co, ca, bl, ob, oF, cp, cq, od, oN, aa, ab, po, ou, yl, yn, ys, ye, yf))))))) → wpY_chain (fun r' v' => r' = r ∧ i_Rel (k + 5) u' v') (nI cl, nI ml, nI fl, nI ol, nI cc, nI mc, nI oc, nI fc, sT, rV, nI ot, qa, qc, mg, ms, mt, mB, co, ca, bl, ob, oF, cp, cq, od, oN, aa, ab, po, ou, yl, yn, ys, ye, yf) (nI g) (nI c) (nI d) v4 := fun r u' H =>
          br_f z1 (br_f z2 (yw_C1 (by omega) hc (br_f (by decide) (yw_C1 (by omega) hd (br_f (by decide) (yw_chain (by omega) hP hT hy hM (by omega) hg hc hd H))))))
        have R' : ∀ yl yn ys ye yf, i_Rel (k + 5) (nI cl, nI ml, nI fl, nI ol, nI cc, sC, nI mc, nI oc, sT, rV, nI ot, nI fc, pa, pc, li, ll, an, sg, mi, mh, me, tc, mb, ck', cn', cb', bl, co, ca, ob, oF, ou, cp, cq, aa, ab, po, od, oN) (nI cl, nI ml, nI fl, nI ol, nI cc, nI mc, nI oc, nI fc, sT, rV, nI ot, qa, qc, mg, ms, mt, mB, co, ca, bl, ob, oF, cp, cq, od, oN, aa, ab, po, ou, yl, yn, ys, ye, yf) := fun yl yn ys ye yf => rl_mk ⟨hN, hC, hM, hK', hB, hO, hF⟩
        dsimp only
        rcases sm_ix (v := v4) (n := (ch_L mb g (L c) (L d)).length) (by omega) with (w | ⟨w1, w2, w3⟩) | ⟨i, hi, rfl⟩
        · exact br_t w (Yw _ _ (fun yl yn ys ye yf _ => br_t w ⟨rfl, R' yl yn ys ye yf⟩))
        · exact br_f w1 (And.intro vq (br_f (by rw [ec]; exact w3) (Yw _ _ (fun yl yn ys ye yf _ => br_f w1 (br_t w2 ⟨rfl, R' yl yn ys ye yf⟩)))))
        · have w1 : ¬ nI i < 0 := nI_pos (by omega)
          have e16 : nI ((g * 10 + c) * 10 + d) * 16 + nI i = nI (((g * 10 + c) * 10 + d) * 16 + i) := by rw [nu_m16, nI_add]
          refine br_f w1 (And.intro vq (br_t (by rw [ec]; exact nI_lt hi (by omega)) (And.intro (by rw [e16]; exact vp_in_nI (by omega) (by decide)) (Yw _ _ (fun yl yn ys ye yf hyf => br_f w1 (br_f (nI_ge hi (by omega)) (And.intro (vp_in_nI (by omega) (by decide)) ⟨?_, R' yl yn ys ye yf⟩)))))))
          rw [e16, nI_clamp (by omega), nI_clamp (by omega), hat.2 i hi, hyf i hi]
      · exact xw_C0 (by omega) hn (br_t rfl (br_f z1 (br_f z2 (yw_C1 (by omega) hc (br_f (by decide) (yw_C0 (by omega) hn (br_t rfl ⟨rfl, R⟩)))))))
    · exact xw_C0 (by omega) hn (br_t rfl (br_f z1 (br_f z2 (yw_C0 (by omega) hn (br_t rfl ⟨rfl, R⟩)))))
  · exact xw_G0 hn (br_t rfl (br_c (fun _ => ⟨rfl, R⟩) (fun z1 => br_c (fun _ => ⟨rfl, R⟩) (fun z2 => sm_ng hn z1 z2))))
end
section
/-! the constructors -/
def cw_v (p : Int32) (a b : Nat) : Nat := if nI a ≤ p then (if p ≤ nI b then p.toNatClampNeg else b) else a
theorem cw_b {p : Int32} {a b : Nat} (hab : a ≤ b) (hb : b < 2 ^ 31) : a ≤ cw_v p a b ∧ cw_v p a b ≤ b := by
  unfold cw_v
  by_cases h1 : nI a ≤ p
  · rw [if_pos h1]
    by_cases h2 : p ≤ nI b
    · rw [if_pos h2]
      have h0 : ¬ p < 0 := fun w => by
        rw [Int32.lt_iff_toInt_lt] at w
        rw [Int32.le_iff_toInt_le, nI_toInt (by omega)] at h1
        have a1 : (0 : Int32).toInt = 0 := by decide
        omega
      obtain ⟨j, hj, rfl⟩ := nI_of h0
      rw [nI_clamp hj]
      exact ⟨(nI_leI (by omega) hj).mp h1, (nI_leI hj hb).mp h2⟩
    · rw [if_neg h2]; exact ⟨hab, Nat.le_refl _⟩
  · rw [if_neg h1]; exact ⟨Nat.le_refl _, hab⟩
theorem cw_e {p : Int32} {a b : Nat} (ha : a < 2 ^ 31) (h1 : nI a ≤ p) (h2 : p ≤ nI b) : p = nI (cw_v p a b) := by
  unfold cw_v
  rw [if_pos h1, if_pos h2]
  have h0 : ¬ p < 0 := fun w => by
    rw [Int32.lt_iff_toInt_lt] at w
    rw [Int32.le_iff_toInt_le, nI_toInt ha] at h1
    have a1 : (0 : Int32).toInt = 0 := by decide
    omega
  obtain ⟨j, hj, rfl⟩ := nI_of h0
  rw [nI_clamp hj]
section INIT
variable {cL mL fL oL cC sC mC oC sT rV oT fC : Int32} {pa pc li ll an sg mi mh me tc mb ck cn cb bl co ca ob oF ou cp cq aa ab po od oN qa qc mg ms mt mB yl yn ys ye yf : Nat → Int32}
theorem xw_clamp {post : Int32 → Prop} {p lo hi : Int32} (a b : Nat) (ha : a < 2 ^ 31) (el : lo = nI a) (eh : hi = nI b) (K : post (nI (cw_v p a b))) : wpX_clamp post (cL, mL, fL, oL, cC, sC, mC, oC, sT, rV, oT, fC, pa, pc, li, ll, an, sg, mi, mh, me, tc, mb, ck, cn, cb, bl, co, ca, ob, oF, ou, cp, cq, aa, ab, po, od, oN) p lo hi := by
  subst el
  subst eh
  refine br_c (fun h1 => br_c (fun h2 => ?_) (fun h2 => ?_)) (fun h1 => ?_)
  · rw [← cw_e ha h1 h2] at K; exact K
  · unfold cw_v at K; rw [if_pos h1, if_neg h2] at K; exact K
  · unfold cw_v at K; rw [if_neg h1] at K; exact K
theorem yw_clamp {post : Int32 → Prop} {p lo hi : Int32} (a b : Nat) (ha : a < 2 ^ 31) (el : lo = nI a) (eh : hi = nI b) (K : post (nI (cw_v p a b))) : wpY_clamp post (cL, mL, fL, oL, cC, mC, oC, fC, sT, rV, oT, qa, qc, mg, ms, mt, mB, co, ca, bl, ob, oF, cp, cq, od, oN, aa, ab, po, ou, yl, yn, ys, ye, yf) p lo hi := by
  subst el
  subst eh
  refine br_c (fun h1 => br_c (fun h2 => ?_) (fun h2 => ?_)) (fun h1 => ?_)
  · rw [← cw_e ha h1 h2] at K; exact K
  · unfold cw_v at K; rw [if_pos h1, if_neg h2] at K; exact K
  · unfold cw_v at K; rw [if_neg h1] at K; exact K
theorem xw_init276 {post : SX → Prop} (K : ∀ mb', (∀ q, q < 400 → mb' q = -1) → post (cL, mL, fL, oL, 1, sC, mC, oC, 0, rV, oT, fC, pa, pc, li, upd ll 0 1, upd an 0 1, sg, mi, mh, me, tc, mb', ck, cn, cb, bl, co, ca, ob, oF, ou, cp, cq, aa, ab, po, od, oN)) :
    ∀ f i mb, i ≤ 400 → 400 - i < f → (∀ q, q < i → mb q = -1) → wX_init_276 post cL mL fL oL cC sC mC oC sT rV oT fC f (nI i) pa pc li ll an sg mi mh me tc mb ck cn cb bl co ca ob oF ou cp cq aa ab po od oN := by
  intro f
  induction f with
  | zero => intro i mb _ h; omega
  | succ f ih =>
    intro i mb hi hf hI
    refine pk_le 400 i (fun z => ?_) (fun z => ?_)
    · exact nm_e (nm_e (K mb (fun q hq => hI q (by omega))))
    · refine And.intro (vp_in_nI z (by decide)) (nm_r (e' := upd mb i (-1)) (by rw [nI_clamp (by omega)]) (nm_r (nI_1 i) (ih (i + 1) _ (by omega) (by omega) (fun q hq => ?_))))
      by_cases w : q = i
      · rw [w, pk_us]
      · rw [pk_un w]; exact hI q (by omega)
end INIT
theorem i_vc0 (k0 : Int32) (k1 : Int32) (k2 : Int32) (k3 : Int32) : wpX_init (fun u => wpY_init (fun v => i_Rel 4 u v) k0 k1 k2 k3) k0 k1 k2 k3 := by
  obtain ⟨a1, a2⟩ := cw_b (p := k0) (a := 2) (b := 10) (by decide) (by decide)
  obtain ⟨b1, b2⟩ := cw_b (p := k1) (a := 1) (b := 16) (by decide) (by decide)
  obtain ⟨c1, c2⟩ := cw_b (p := k2) (a := 1) (b := 12) (by decide) (by decide)
  obtain ⟨d1, d2⟩ := cw_b (p := k3) (a := 1) (b := 16) (by decide) (by decide)
  refine xw_clamp 2 10 (by decide) rfl rfl (xw_clamp 1 16 (by decide) rfl rfl (xw_clamp 1 12 (by decide) rfl rfl (xw_clamp 1 16 (by decide) rfl rfl (Exists.intro 401 ?_))))
  refine xw_init276 (fun mb' hmb => ?_) 401 0 (fun _ => 0) (by decide) (by decide) (fun q hq => absurd hq (by omega))
  refine yw_clamp 2 10 (by decide) rfl rfl (yw_clamp 1 16 (by decide) rfl rfl (yw_clamp 1 12 (by decide) rfl rfl (yw_clamp 1 16 (by decide) rfl rfl ?_)))
  refine rl_mk (cc := 1) (mc := 0) (oc := 0) (ot := 0) (fc := 0) (P := fun _ => []) (L := fun c => [c]) (sl := fun _ => 0) ⟨⟨a1, a2, b2, c1, c2, d2, by decide, by omega, by omega, by omega, by decide, by omega⟩, ⟨?_, ?_, ?_, ?_, ?_, ?_⟩, ⟨?_, ?_, ?_, ?_⟩, ?_, ?_, ?_, ⟨?_, ?_, ?_⟩⟩
  · intro c hc; exact ⟨Nat.zero_le 3, fun q hq => absurd hq (by simp)⟩
  · intro c hc
    have : c = 0 := by omega
    subst this
    rfl
  · intro c h0 hc; omega
  · intro c hc
    exact ⟨rfl, fun j hj => absurd hj (by simp)⟩
  · intro c hc
    have : c = 0 := by omega
    subst this
    refine ⟨⟨rfl, fun j hj => ?_⟩, fun j hj => ?_⟩
    · have : j = 0 := by
        have : j < 1 := hj
        omega
      subst this
      rfl
    · show bt 1 j = _
      rw [bs_b1 j hj]
      by_cases w : j = 0
      · rw [w]; rfl
      · rw [decide_eq_false w, decide_eq_false (fun m => w (List.mem_singleton.mp m))]
  · intro c hc
    exact ⟨rfl, fun j hj => absurd hj (by simp)⟩
  · intro m hm; omega
  · intro m m' hm; omega
  · intro q hq; exact Or.inl (hmb q hq)
  · intro q hq; exact Or.inl (hmb q hq)
  · intro g c d _ _ _; exact Or.inl rfl
  · intro b hb; exact ⟨0, by decide, rfl, fun i hi => absurd hi (by omega)⟩
  · intro h hh; omega
  · intro w; exact absurd w (by decide)
  · intro _; rfl
  · intro f hf; omega
theorem i_vc_newObject {k : Nat} {u : SX} {v : SY} (I : i_Rel k u v) (hk : k + 5 ≤ 2564) (v1 : Int32) (v2 : Int32) : wpX_newObject (fun r u' => wpY_newObject (fun r' v' => r' = r ∧ i_Rel (k + 5) u' v') v v1 v2) u v1 v2 := by
  refine rl_el (Q := fun u v => wpX_newObject (fun r u' => wpY_newObject (fun r' v' => r' = r ∧ i_Rel (k + 5) u' v') v v1 v2) u v1 v2) I ?_
  intro cl ml fl ol cc mc oc ot fc sC sT rV P L sl pa pc li ll an sg mi mh me tc mb ck cn cb bl co ca ob oF ou cp cq aa ab po od oN qa qc mg ms mt mB yl yn ys ye yf h
  unfold wpX_newObject wpY_newObject
  dsimp only
  have h' := h
  obtain ⟨⟨n1, n2, n3, n4, n5, n6, n7, n8, n9, n10, n11, n12⟩, hC, hM, hK, hB, hO, hF⟩ := h'
  rcases Classical.em (∃ c, c < cc ∧ v1 = nI c) with ⟨c, hc, rfl⟩ | hn
  · refine xw_C1 (by omega) hc (br_f (by decide) (pk_lt oc ol (fun w => ?_) (fun w => ?_)))
    · have v16 : vp_in (nI oc) 16 := vp_in_nI (by omega) (by decide)
      have ci : (nI oc).toNatClampNeg = oc := nI_clamp (by omega)
      rw [ci, nI_1 oc]
      refine And.intro v16 (nm_e (And.intro v16 (nm_e (nm_e (yw_C1 (by omega) hc (br_f (by decide) (br_t (nI_lt w (by omega)) ?_)))))))
      refine And.intro v16 (nm_e (And.intro v16 (nm_e (nm_e ⟨nI_pred oc, ?_⟩))))
      refine rl_mk ⟨⟨n1, n2, n3, n4, n5, n6, n7, n8, n9, w, n11, n12⟩, hC, hM, hK, hB, fun i hi => ?_, hF⟩
      by_cases q : i = oc
      · exact ⟨c, hc, by rw [q, pk_us]⟩
      · rw [pk_un q]; exact hO i (by omega)
    · exact yw_C1 (by omega) hc (br_f (by decide) (br_f (nI_nlt w (by omega)) ⟨rfl, rl_mk h⟩))
  · exact xw_C0 (by omega) hn (br_t rfl (yw_C0 (by omega) hn (br_t rfl ⟨rfl, rl_mk h⟩)))
/-! emit -/
def em_g (o : Nat) (k : Int32) : Prop := (o = 1 → ∃ j, j ≤ 1 ∧ k = nI j) ∧ (o = 5 → ∃ j, j ≤ 3 ∧ k = nI j) ∧ (o = 9 → ∃ j, j ≤ 12 ∧ k = nI j)
theorem em_1 {k : Int32} {n : Nat} (hn : n < 2 ^ 31) (h : k < 0) : ¬ ∃ j, j ≤ n ∧ k = nI j := by
  rintro ⟨j, hj, rfl⟩
  exact nI_pos (by omega) h
theorem em_2 {k : Int32} {n : Nat} (hn : n < 2 ^ 31) (h : nI n < k) : ¬ ∃ j, j ≤ n ∧ k = nI j := by
  rintro ⟨j, hj, rfl⟩
  exact nI_nlt hj hn h
theorem em_3 {k : Int32} {n : Nat} (hn : n < 2 ^ 31) (h1 : ¬ k < 0) (h2 : ¬ nI n < k) : ∃ j, j ≤ n ∧ k = nI j := by
  obtain ⟨j, hj, rfl⟩ := nI_of h1
  exact ⟨j, Nat.le_of_not_lt (fun w => h2 (nI_lt w hj)), rfl⟩
theorem em_4 {k : Int32} {n : Nat} (hn : n < 2 ^ 31) (h2 : ¬ k ≤ nI n) : nI n < k := Int32.not_le.mp h2
section EMIT
variable {cL mL fL oL cC sC mC oC sT rV oT fC : Int32} {pa pc li ll an sg mi mh me tc mb ck cn cb bl co ca ob oF ou cp cq aa ab po od oN qa qc mg ms mt mB yl yn ys ye yf : Nat → Int32}
theorem xw_fit {post : Int32 → Prop} {o : Nat} {k : Int32} (ho : o ≤ 9) (K1 : em_g o k → post 1) (K0 : ¬ em_g o k → post 0) : wpX_fitsOperation post (cL, mL, fL, oL, cC, sC, mC, oC, sT, rV, oT, fC, pa, pc, li, ll, an, sg, mi, mh, me, tc, mb, ck, cn, cb, bl, co, ca, ob, oF, ou, cp, cq, aa, ab, po, od, oN) (nI o) k := by
  refine pk_eq o 1 (fun e => ?_) (fun e1 => pk_eq o 5 (fun e => ?_) (fun e5 => pk_eq o 9 (fun e => ?_) (fun e9 => K1 ⟨fun w => absurd w e1, fun w => absurd w e5, fun w => absurd w e9⟩)))
  · exact br_c (fun h => K0 (fun w => em_1 (n := 1) (by decide) h (w.1 e))) (fun h => br_c (fun h2 => K0 (fun w => em_2 (n := 1) (by decide) h2 (w.1 e))) (fun h2 => K1 ⟨fun _ => em_3 (n := 1) (by decide) h h2, fun w => absurd w (by omega), fun w => absurd w (by omega)⟩))
  · rcases Classical.em (∃ c, c < 4 ∧ k = nI c) with ⟨c, hc, rfl⟩ | hn
    · exact xw_G1 hc ⟨by rfl, K1 ⟨fun w => absurd w (by omega), fun _ => ⟨c, by omega, rfl⟩, fun w => absurd w (by omega)⟩⟩
    · refine xw_G0 hn ⟨by rfl, K0 (fun w => hn ?_)⟩
      obtain ⟨j, hj, e2⟩ := w.2.1 e
      exact ⟨j, by omega, e2⟩
  · exact br_c (fun h => K0 (fun w => em_1 (n := 12) (by decide) h (w.2.2 e))) (fun h => br_c (fun h2 => K0 (fun w => em_2 (n := 12) (by decide) h2 (w.2.2 e))) (fun h2 => K1 ⟨fun w => absurd w (by omega), fun w => absurd w (by omega), fun _ => em_3 (n := 12) (by decide) h h2⟩))
theorem yw_fit {post : Int32 → SY → Prop} {b o : Nat} {k : Int32} (hb : b < 16) (ho : o ≤ 9) (K1 : em_g o k → wY_emit_74 post (nI b) (nI o) k cL mL fL oL cC mC oC fC sT rV oT qa qc mg ms mt mB co ca bl ob oF cp cq od oN aa ab po ou yl yn ys ye yf) (K0 : ¬ em_g o k → post (-6) (cL, mL, fL, oL, cC, mC, oC, fC, sT, rV, oT, qa, qc, mg, ms, mt, mB, co, ca, bl, ob, oF, cp, cq, od, oN, aa, ab, po, ou, yl, yn, ys, ye, yf)) : wpY_emit post (cL, mL, fL, oL, cC, mC, oC, fC, sT, rV, oT, qa, qc, mg, ms, mt, mB, co, ca, bl, ob, oF, cp, cq, od, oN, aa, ab, po, ou, yl, yn, ys, ye, yf) (nI b) (nI o) k := by
  have s61 : ∀ n (z0 : Int32), n < 2 ^ 31 → z0 = nI n → ((∃ j, j ≤ n ∧ k = nI j) ↔ em_g o k) → wY_emit_61 post (nI b) (nI o) k z0 cL mL fL oL cC mC oC fC sT rV oT qa qc mg ms mt mB co ca bl ob oF cp cq od oN aa ab po ou yl yn ys ye yf := fun n z0 hn ez hg => by
    subst ez
    exact br_c (fun h => K0 (fun w => em_1 hn h (hg.mpr w))) (fun h => br_c (fun h2 => K1 (hg.mp (em_3 hn h (Int32.not_lt.mpr h2)))) (fun h2 => K0 (fun w => em_2 hn (em_4 hn h2) (hg.mpr w))))
  refine br_f (nI_pos (by omega)) (br_f (nI_nlt (a := 15) (b := b) (by omega) (by decide)) (br_f (nI_pos (by omega)) (br_t (nI_le (a := o) (b := 9) ho (by decide)) ?_)))
  refine pk_eq o 1 (fun e => ?_) (fun e1 => pk_eq o 5 (fun e => ?_) (fun e5 => ?_))
  · exact pk_eq o 1 (fun _ => s61 1 1 (by decide) rfl ⟨fun w => ⟨fun _ => w, fun q => absurd q (by omega), fun q => absurd q (by omega)⟩, fun w => w.1 e⟩) (fun q => absurd e q)
  · exact pk_eq o 1 (fun q => absurd q (by omega)) (fun _ => pk_eq o 5 (fun _ => s61 3 3 (by decide) rfl ⟨fun w => ⟨fun q => absurd q (by omega), fun _ => w, fun q => absurd q (by omega)⟩, fun w => w.2.1 e⟩) (fun q => absurd e q))
  · exact pk_eq o 1 (fun q => absurd q e1) (fun _ => pk_eq o 5 (fun q => absurd q e5) (fun _ => pk_eq o 9 (fun e => s61 12 12 (by decide) rfl ⟨fun w => ⟨fun q => absurd q (by omega), fun q => absurd q (by omega), fun _ => w⟩, fun w => w.2.2 e⟩) (fun e9 => K1 ⟨fun w => absurd w e1, fun w => absurd w e5, fun w => absurd w e9⟩)))
end EMIT
theorem rl_B_s {bl co ca : Nat → Int32} {b o n : Nat} {k : Int32} (hB : rl_B bl co ca) (hb : b < 16) (hn : n < 12) (en : bl b = nI n) (ho : o ≤ 9) (hg : em_g o k) : rl_B (upd bl b (nI (n + 1))) (upd co (b * 12 + n) (nI o)) (upd ca (b * 12 + n) k) := by
  intro b' hb'
  obtain ⟨n', h1, h2, h3⟩ := hB b' hb'
  by_cases w : b' = b
  · subst w
    have e : n' = n := by
      rw [h2] at en
      exact (nI_eq (by omega) (by omega)).mp en
    subst e
    refine ⟨n' + 1, by omega, by rw [pk_us], fun i hi => ?_⟩
    by_cases q : i = n'
    · subst q
      rw [pk_us, pk_us]
      refine ⟨o, ho, rfl, fun e => ?_, fun e => ?_⟩
      · obtain ⟨j, hj, e2⟩ := hg.2.1 e
        exact ⟨j, by omega, e2⟩
      · exact hg.2.2 e
    · rw [pk_un (by omega), pk_un (by omega)]
      exact h3 i (by omega)
  · refine ⟨n', h1, by rw [pk_un w]; exact h2, fun i hi => ?_⟩
    rw [pk_un (by omega), pk_un (by omega)]
    exact h3 i hi
theorem i_vc_emit {k : Nat} {u : SX} {v : SY} (I : i_Rel k u v) (hk : k + 5 ≤ 2564) (v1 : Int32) (v2 : Int32) (v3 : Int32) : wpX_emit (fun r u' => wpY_emit (fun r' v' => r' = r ∧ i_Rel (k + 5) u' v') v v1 v2 v3) u v1 v2 v3 := by
  refine rl_el (Q := fun u v => wpX_emit (fun r u' => wpY_emit (fun r' v' => r' = r ∧ i_Rel (k + 5) u' v') v v1 v2 v3) u v1 v2 v3) I ?_
  intro cl ml fl ol cc mc oc ot fc sC sT rV P L sl pa pc li ll an sg mi mh me tc mb ck cn cb bl co ca ob oF ou cp cq aa ab po od oN qa qc mg ms mt mB yl yn ys ye yf h
  have h' := h
  obtain ⟨hN, hC, hM, hK, hB, hO, hF⟩ := h'
  have R : i_Rel (k + 5) (nI cl, nI ml, nI fl, nI ol, nI cc, sC, nI mc, nI oc, sT, rV, nI ot, nI fc, pa, pc, li, ll, an, sg, mi, mh, me, tc, mb, ck, cn, cb, bl, co, ca, ob, oF, ou, cp, cq, aa, ab, po, od, oN) (nI cl, nI ml, nI fl, nI ol, nI cc, nI mc, nI oc, nI fc, sT, rV, nI ot, qa, qc, mg, ms, mt, mB, co, ca, bl, ob, oF, cp, cq, od, oN, aa, ab, po, ou, yl, yn, ys, ye, yf) := rl_mk h
  by_cases z1 : v1 < 0
  · exact br_t z1 (br_t z1 ⟨rfl, R⟩)
  by_cases z2 : 15 < v1
  · exact br_f z1 (br_t z2 (br_f z1 (br_t z2 ⟨rfl, R⟩)))
  by_cases z3 : v2 < 0
  · exact br_f z1 (br_f z2 (br_t z3 (br_f z1 (br_f z2 (br_t z3 ⟨rfl, R⟩)))))
  by_cases z4 : v2 ≤ 9
  · obtain ⟨b, hb, rfl⟩ := sm_b z1 (Int32.not_lt.mp z2)
    obtain ⟨o, ho, rfl⟩ := nI_of2 (x := v2) (M := 9) (n := 9) (by decide) z3 z4
    refine br_f z1 (br_f z2 (br_f z3 (br_t z4 (xw_fit ho (fun hg => br_f (by decide) ?_) (fun hg => br_t rfl ?_)))))
    · obtain ⟨n, hn, en, _⟩ := hB b hb
      have ci : (nI b).toNatClampNeg = b := nI_clamp (by omega)
      have v16 : vp_in (nI b) 16 := vp_in_nI hb (by decide)
      have e12 : nI b * 12 + nI n = nI (b * 12 + n) := by rw [nu_m12, nI_add]
      refine And.intro v16 (nm_r (e' := nI n) (by rw [ci]; exact en) (pk_lt n 12 (fun w => ?_) (fun w => ?_)))
      · have v192 : vp_in (nI (b * 12 + n)) 192 := vp_in_nI (by omega) (by decide)
        have cn2 : (nI (b * 12 + n)).toNatClampNeg = b * 12 + n := nI_clamp (by omega)
        rw [e12, cn2, ci, nI_1 n]
        refine And.intro v192 (nm_e (And.intro v192 (nm_e (And.intro v16 (nm_e (yw_fit hb ho (fun _ => ?_) (fun q => absurd hg q)))))))
        refine And.intro v16 ?_
        rw [ci, en, e12, cn2, nI_1 n]
        exact br_t (nI_lt (b := 12) w (by decide)) (And.intro v16 (And.intro v192 (nm_e (And.intro v16 (And.intro v192 (nm_e (And.intro v16 (And.intro v16 (nm_e ⟨rfl, rl_mk ⟨hN, hC, hM, hK, rl_B_s hB hb w en ho hg, hO, hF⟩⟩)))))))))
      · refine yw_fit hb ho (fun _ => And.intro v16 ?_) (fun q => absurd hg q)
        rw [ci, en]
        exact br_f (nI_nlt (b := 12) w (by omega)) ⟨rfl, R⟩
    · exact yw_fit hb ho (fun q => absurd q hg) (fun _ => ⟨rfl, R⟩)
  · exact br_f z1 (br_f z2 (br_f z3 (br_f z4 (br_f z1 (br_f z2 (br_f z3 (br_f z4 ⟨rfl, R⟩)))))))
end
section
/-! frames -/
def ch_w (cp : Nat → Int32) (base : Nat) (l : List Int32) : Nat → Int32 := fun j => if base ≤ j ∧ j < base + l.length then l.getD (j - base) 0 else cp j
theorem ch_w_0 {cp : Nat → Int32} {base : Nat} : ch_w cp base [] = cp := by
  funext j
  unfold ch_w
  rw [if_neg (fun h => by have := h.2; rw [List.length_nil] at this; omega)]
theorem ch_w_lo {cp : Nat → Int32} {base j : Nat} {l : List Int32} (h : j < base) : ch_w cp base l j = cp j := if_neg (fun w => by omega)
theorem ch_w_in {cp : Nat → Int32} {base i : Nat} {l : List Int32} (h : i < l.length) : ch_w cp base l (base + i) = l.getD i 0 := by
  unfold ch_w
  rw [if_pos ⟨by omega, by omega⟩, Nat.add_sub_cancel_left]
theorem ch_w_s {cp : Nat → Int32} {base i : Nat} {l : List Int32} (h : i < l.length) : upd (ch_w cp base (l.take i)) (base + i) (l.getD i 0) = ch_w cp base (l.take (i + 1)) := by
  have l1 : (l.take i).length = i := by rw [List.length_take]; omega
  have l2 : (l.take (i + 1)).length = i + 1 := by rw [List.length_take]; omega
  funext j
  by_cases e : j = base + i
  · rw [e, pk_us, ch_w_in (by omega), la_tk (d := 0) h]
    have := la_ge (d := (0 : Int32)) (x := l.getD i 0) (l := l.take i)
    rw [l1] at this
    exact this.symm
  · rw [pk_un e]
    unfold ch_w
    rw [l1, l2]
    by_cases a : base ≤ j ∧ j < base + i
    · rw [if_pos a, if_pos ⟨a.1, by omega⟩, la_tk (d := 0) h, la_gl (by omega)]
    · rw [if_neg a, if_neg (fun b => a ⟨b.1, by omega⟩)]
def ch_n (cp : Nat → Int32) (f n : Nat) : List Int32 := (List.range (n - 1)).map (fun i => cp (f * 16 + i + 1))
theorem ch_n_l {cp : Nat → Int32} {f n : Nat} : (ch_n cp f n).length = n - 1 := by unfold ch_n; rw [List.length_map, List.length_range]
theorem ch_n_g {cp : Nat → Int32} {f n i : Nat} (h : i < n - 1) : (ch_n cp f n).getD i 0 = cp (f * 16 + i + 1) := by
  rw [la_gd (by rw [ch_n_l]; exact h)]
  unfold ch_n
  rw [List.getElem_map, List.getElem_range]
/-- a new frame at fc -/
theorem rl_F_new {fc : Nat} {l : List Int32} {cp cq po oN : Nat → Int32} (h : ∀ r, r < fc → rl_f1 (fc + 1) r cp cq po oN) (h1 : 1 ≤ l.length) (h16 : l.length ≤ 16) (hb : ∀ x, x ∈ l → ∃ b, b < 16 ∧ x = nI b) : rl_F (fc + 1) 1 (ch_w cp (fc * 16) l) (upd cq fc (nI l.length)) (upd po fc 0) (upd oN fc 0) := by
  refine ⟨fun _ => by omega, fun w => absurd rfl w, fun r hr => ?_⟩
  by_cases v : r = fc
  · subst v
    refine ⟨l.length, 0, 0, h1, h16, by omega, by omega, fun _ => by omega, pk_us, by rw [pk_us]; rfl, by rw [pk_us]; rfl, fun i hi => ?_⟩
    rw [ch_w_in hi]
    exact hb _ (la_gm hi)
  · obtain ⟨n, p, o, a1, a2, a3, a4, a5, a6, a7, a8, a9⟩ := h r (by omega)
    refine ⟨n, p, o, a1, a2, a3, a4, a5, by rw [pk_un v]; exact a6, by rw [pk_un v]; exact a7, by rw [pk_un v]; exact a8, fun i hi => ?_⟩
    rw [ch_w_lo (by omega)]
    exact a9 i hi
/-- the newest frame changes its position and its operands -/
theorem rl_F_set {f p o : Nat} {cp cq po oN po' oN' : Nat → Int32} (h : rl_F (f + 1) 1 cp cq po oN) (hr : ∀ r, r < f → po' r = po r ∧ oN' r = oN r) (hp : p ≤ 24) (ho : o ≤ 8) (ep : po' f = nI p) (eo : oN' f = nI o) : rl_F (f + 1) 1 cp cq po' oN' := by
  refine ⟨fun _ => by omega, fun w => absurd rfl w, fun r hr' => ?_⟩
  obtain ⟨n, p0, o0, a1, a2, a3, a4, a5, a6, a7, a8, a9⟩ := h.2.2 r hr'
  by_cases v : r = f
  · subst v
    exact ⟨n, p, o, a1, a2, hp, ho, fun w => absurd w (by omega), a6, ep, eo, a9⟩
  · exact ⟨n, p0, o0, a1, a2, a3, a4, a5, a6, by rw [(hr r (by omega)).1]; exact a7, by rw [(hr r (by omega)).2]; exact a8, a9⟩
/-- below a new frame: the newest one keeps room -/
theorem rl_F_sub {f p o : Nat} {cp cq po oN po' oN' : Nat → Int32} (h : rl_F (f + 1) 1 cp cq po oN) (hr : ∀ r, r < f → po' r = po r ∧ oN' r = oN r) (hp : p ≤ 24) (ho : o ≤ 7) (ep : po' f = nI p) (eo : oN' f = nI o) : ∀ r, r < f + 1 → rl_f1 (f + 1 + 1) r cp cq po' oN' := by
  intro r hr'
  obtain ⟨n, p0, o0, a1, a2, a3, a4, a5, a6, a7, a8, a9⟩ := h.2.2 r hr'
  by_cases v : r = f
  · subst v
    exact ⟨n, p, o, a1, a2, hp, by omega, fun _ => ho, a6, ep, eo, a9⟩
  · exact ⟨n, p0, o0, a1, a2, a3, a4, fun _ => a5 (by omega), a6, by rw [(hr r (by omega)).1]; exact a7, by rw [(hr r (by omega)).2]; exact a8, a9⟩
theorem rl_F_trap {t : Int32} {cp cq po oN : Nat → Int32} (h : ¬ t = 1) : rl_F 0 t cp cq po oN := ⟨fun w => absurd w h, fun _ => rfl, fun r hr => absurd hr (by omega)⟩
theorem rl_F_ret {f o : Nat} {cp cq po oN : Nat → Int32} (h : rl_F (f + 1 + 1) 1 cp cq po oN) (ho : o ≤ 7) : rl_F (f + 1) 1 cp cq po (upd oN f (nI (o + 1))) := by
  refine ⟨fun _ => by omega, fun w => absurd rfl w, fun r hr' => ?_⟩
  obtain ⟨n, p0, o0, a1, a2, a3, a4, a5, a6, a7, a8, a9⟩ := h.2.2 r (by omega)
  by_cases v : r = f
  · subst v
    exact ⟨n, p0, o + 1, a1, a2, a3, by omega, fun w => absurd w (by omega), a6, a7, pk_us, a9⟩
  · exact ⟨n, p0, o0, a1, a2, a3, a4, fun _ => a5 (by omega), a6, a7, by rw [pk_un v]; exact a8, a9⟩
section FRX
variable {cl ml fl ol cc mc oc ot fc : Nat} {sC sT rV : Int32} {P L : Nat → List Nat} {sl : Nat → Nat} {pa pc li ll an sg mi mh me tc mb ck cn cb bl co ca ob oF ou cp cq aa ab po od oN qa qc mg ms mt mB yl yn ys ye yf : Nat → Int32}
theorem xw_top {post : Int32 → Prop} {f o dd : Nat} (hf : f < 12) (ho : oN f = nI o) (h8 : o ≤ 8) (hd : dd < o) (K : post (od (f * 8 + o - 1 - dd))) : wpX_top post (nI cl, nI ml, nI fl, nI ol, nI cc, sC, nI mc, nI oc, sT, rV, nI ot, nI fc, pa, pc, li, ll, an, sg, mi, mh, me, tc, mb, ck, cn, cb, bl, co, ca, ob, oF, ou, cp, cq, aa, ab, po, od, oN) (nI f) (nI dd) := by
  have e : ((nI f * 8 + oN (nI f).toNatClampNeg) - 1) - nI dd = nI (f * 8 + o - 1 - dd) := by rw [nI_clamp (by omega), ho, nu_m8, nI_add, nu_s1 (by omega), pk_sub (by omega)]
  refine And.intro (vp_in_nI hf (by decide)) ?_
  rw [e, nI_clamp (by omega)]
  exact And.intro (vp_in_nI (by omega) (by decide)) K
theorem xw_push {post : SX → Prop} {f o : Nat} {v : Int32} (hf : f < 12) (ho : oN f = nI o) (h8 : o < 8) (K : post (nI cl, nI ml, nI fl, nI ol, nI cc, sC, nI mc, nI oc, sT, rV, nI ot, nI fc, pa, pc, li, ll, an, sg, mi, mh, me, tc, mb, ck, cn, cb, bl, co, ca, ob, oF, ou, cp, cq, aa, ab, po, upd od (f * 8 + o) v, upd oN f (nI (o + 1)))) : wpX_push post (nI cl, nI ml, nI fl, nI ol, nI cc, sC, nI mc, nI oc, sT, rV, nI ot, nI fc, pa, pc, li, ll, an, sg, mi, mh, me, tc, mb, ck, cn, cb, bl, co, ca, ob, oF, ou, cp, cq, aa, ab, po, od, oN) (nI f) v := by
  have ci : (nI f).toNatClampNeg = f := nI_clamp (by omega)
  have v12 : vp_in (nI f) 12 := vp_in_nI hf (by decide)
  refine And.intro v12 ?_
  rw [ci, ho, nu_m8, nI_add, nI_clamp (by omega), nI_1 o]
  exact And.intro (vp_in_nI (by omega) (by decide)) (nm_e (And.intro v12 (And.intro v12 (nm_e K))))
theorem xw_pot {post : SX → Prop} {f o : Nat} {v : Int32} (hf : f < 12) (ho : oN f = nI o) (h8 : o ≤ 8) (K1 : o < 8 → post (nI cl, nI ml, nI fl, nI ol, nI cc, sC, nI mc, nI oc, sT, rV, nI ot, nI fc, pa, pc, li, ll, an, sg, mi, mh, me, tc, mb, ck, cn, cb, bl, co, ca, ob, oF, ou, cp, cq, aa, ab, po, upd od (f * 8 + o) v, upd oN f (nI (o + 1)))) (K0 : ¬ o < 8 → post (nI cl, nI ml, nI fl, nI ol, nI cc, sC, nI mc, nI oc, 3, rV, nI ot, nI 0, pa, pc, li, ll, an, sg, mi, mh, me, tc, mb, ck, cn, cb, bl, co, ca, ob, oF, ou, cp, cq, aa, ab, po, od, oN)) : wpX_pushOrTrap post (nI cl, nI ml, nI fl, nI ol, nI cc, sC, nI mc, nI oc, sT, rV, nI ot, nI fc, pa, pc, li, ll, an, sg, mi, mh, me, tc, mb, ck, cn, cb, bl, co, ca, ob, oF, ou, cp, cq, aa, ab, po, od, oN) (nI f) v :=
  And.intro (vp_in_nI hf (by decide)) (pk_lt o 8 (fun h => xw_push hf ho h (K1 h)) (fun h => K0 (by omega)) (by rw [nI_clamp (by omega)]; exact ho))
theorem xw_oF {post : SX → Prop} {len a b : Int32} (hfc : fc < 12) (K : post (nI cl, nI ml, nI fl, nI ol, nI cc, sC, nI mc, nI oc, sT, rV, nI ot, nI (fc + 1), pa, pc, li, ll, an, sg, mi, mh, me, tc, mb, ck, cn, cb, bl, co, ca, ob, oF, ou, cp, upd cq fc len, upd aa fc a, upd ab fc b, upd po fc 0, od, upd oN fc 0)) : wpX_openFrame post (nI cl, nI ml, nI fl, nI ol, nI cc, sC, nI mc, nI oc, sT, rV, nI ot, nI fc, pa, pc, li, ll, an, sg, mi, mh, me, tc, mb, ck, cn, cb, bl, co, ca, ob, oF, ou, cp, cq, aa, ab, po, od, oN) len a b := by
  have ci : (nI fc).toNatClampNeg = fc := nI_clamp (by omega)
  have v12 : vp_in (nI fc) 12 := vp_in_nI hfc (by decide)
  refine And.intro v12 ?_
  rw [ci, nI_1 fc]
  exact nm_e (And.intro v12 (nm_e (And.intro v12 (nm_e (And.intro v12 (nm_e (And.intro v12 (nm_e (nm_e K)))))))))
theorem xw_oC {post : SX → Prop} {q : Nat} {l : List Int32} {a b : Int32} (hfc : fc < 12) (hq : q < 400) (h16 : l.length ≤ 16) (hat : ch_at l q cn cb) (K : post (nI cl, nI ml, nI fl, nI ol, nI cc, sC, nI mc, nI oc, sT, rV, nI ot, nI (fc + 1), pa, pc, li, ll, an, sg, mi, mh, me, tc, mb, ck, cn, cb, bl, co, ca, ob, oF, ou, ch_w cp (fc * 16) l, upd cq fc (nI l.length), upd aa fc a, upd ab fc b, upd po fc 0, od, upd oN fc 0)) : wpX_openChainFrame post (nI cl, nI ml, nI fl, nI ol, nI cc, sC, nI mc, nI oc, sT, rV, nI ot, nI fc, pa, pc, li, ll, an, sg, mi, mh, me, tc, mb, ck, cn, cb, bl, co, ca, ob, oF, ou, cp, cq, aa, ab, po, od, oN) (nI q) a b := by
  have key : ∀ d i, i + d = l.length → wX_openChainFrame_11 post (nI q) a b (nI l.length) (nI cl) (nI ml) (nI fl) (nI ol) (nI cc) sC (nI mc) (nI oc) sT rV (nI ot) (nI fc) (d + 1) (nI i) pa pc li ll an sg mi mh me tc mb ck cn cb bl co ca ob oF ou (ch_w cp (fc * 16) (l.take i)) cq aa ab po od oN := by
    intro d
    induction d with
    | zero =>
      intro i hi
      refine pk_le l.length i (fun z => ?_) (fun z => absurd z (by omega))
      rw [List.take_of_length_le z]
      exact xw_oF hfc K
    | succ d ih =>
      intro i hi
      refine pk_le l.length i (fun z => absurd z (by omega)) (fun z => ?_)
      have e1 : nI q * 16 + nI i = nI (q * 16 + i) := by rw [nu_m16, nI_add]
      have e2 : nI fc * 16 + nI i = nI (fc * 16 + i) := by rw [nu_m16, nI_add]
      have e3 : cb (nI (q * 16 + i)).toNatClampNeg = l.getD i 0 := by rw [nI_clamp (by omega)]; exact hat.2 i z
      rw [e1, e2, e3, nI_clamp (n := fc * 16 + i) (by omega), ch_w_s z]
      exact And.intro (vp_in_nI (by omega) (by decide)) (And.intro (vp_in_nI (by omega) (by decide)) (nm_e (nm_r (nI_1 i) (ih (i + 1) (by omega)))))
  refine And.intro (vp_in_nI hq (by decide)) (nm_r (e' := nI l.length) (by rw [nI_clamp (by omega)]; exact hat.1) (Exists.intro (l.length + 1) ?_))
  have := key l.length 0 (by omega)
  rw [List.take_zero, ch_w_0] at this
  exact this
theorem xw_oX {post : SX → Prop} {f n : Nat} (hf : f + 1 < 12) (hn : cq f = nI n) (h1 : 1 ≤ n) (h16 : n ≤ 16) (K : post (nI cl, nI ml, nI fl, nI ol, nI cc, sC, nI mc, nI oc, sT, rV, nI ot, nI (f + 1 + 1), pa, pc, li, ll, an, sg, mi, mh, me, tc, mb, ck, cn, cb, bl, co, ca, ob, oF, ou, ch_w cp ((f + 1) * 16) (ch_n cp f n), upd cq (f + 1) (nI (ch_n cp f n).length), upd aa (f + 1) (aa f), upd ab (f + 1) (ab f), upd po (f + 1) 0, od, upd oN (f + 1) 0)) : wpX_openNextFrame post (nI cl, nI ml, nI fl, nI ol, nI cc, sC, nI mc, nI oc, sT, rV, nI ot, nI (f + 1), pa, pc, li, ll, an, sg, mi, mh, me, tc, mb, ck, cn, cb, bl, co, ca, ob, oF, ou, cp, cq, aa, ab, po, od, oN) (nI f) := by
  have ci : (nI f).toNatClampNeg = f := nI_clamp (by omega)
  have v12 : vp_in (nI f) 12 := vp_in_nI (by omega) (by decide)
  have hll : (ch_n cp f n).length = n - 1 := ch_n_l
  have key : ∀ d i, i + d = (ch_n cp f n).length → wX_openNextFrame_11 post (nI f) (nI (ch_n cp f n).length) (nI cl) (nI ml) (nI fl) (nI ol) (nI cc) sC (nI mc) (nI oc) sT rV (nI ot) (nI (f + 1)) (d + 1) (nI i) pa pc li ll an sg mi mh me tc mb ck cn cb bl co ca ob oF ou (ch_w cp ((f + 1) * 16) ((ch_n cp f n).take i)) cq aa ab po od oN := by
    intro d
    induction d with
    | zero =>
      intro i hi
      refine pk_le (ch_n cp f n).length i (fun z => ?_) (fun z => absurd z (by omega))
      rw [List.take_of_length_le z, ci]
      exact And.intro v12 (And.intro v12 (xw_oF hf K))
    | succ d ih =>
      intro i hi
      refine pk_le (ch_n cp f n).length i (fun z => absurd z (by omega)) (fun z => ?_)
      have e1 : nI f * 16 + nI i + 1 = nI (f * 16 + i + 1) := by rw [nu_m16, nI_add, nI_1]
      have e2 : nI (f + 1) * 16 + nI i = nI ((f + 1) * 16 + i) := by rw [nu_m16, nI_add]
      have e3 : ch_w cp ((f + 1) * 16) ((ch_n cp f n).take i) (nI (f * 16 + i + 1)).toNatClampNeg = (ch_n cp f n).getD i 0 := by
        rw [nI_clamp (by omega), ch_w_lo (by omega), ch_n_g (by omega)]
      rw [e1, e2, e3, nI_clamp (n := (f + 1) * 16 + i) (by omega), ch_w_s z]
      exact And.intro (vp_in_nI (by omega) (by decide)) (And.intro (vp_in_nI (by omega) (by decide)) (nm_e (nm_r (nI_1 i) (ih (i + 1) (by omega)))))
  refine And.intro v12 (nm_r (e' := nI (ch_n cp f n).length) (by rw [ci, hn, nu_s1 (by omega), hll]) (Exists.intro ((ch_n cp f n).length + 1) ?_))
  have := key (ch_n cp f n).length 0 (by omega)
  rw [List.take_zero, ch_w_0] at this
  exact this
theorem yw_push {post : SY → Prop} {f o : Nat} {v : Int32} (hf : f < 12) (ho : oN f = nI o) (h8 : o < 8) (K : post (nI cl, nI ml, nI fl, nI ol, nI cc, nI mc, nI oc, nI fc, sT, rV, nI ot, qa, qc, mg, ms, mt, mB, co, ca, bl, ob, oF, cp, cq, upd od (f * 8 + o) v, upd oN f (nI (o + 1)), aa, ab, po, ou, yl, yn, ys, ye, yf)) : wpY_push post (nI cl, nI ml, nI fl, nI ol, nI cc, nI mc, nI oc, nI fc, sT, rV, nI ot, qa, qc, mg, ms, mt, mB, co, ca, bl, ob, oF, cp, cq, od, oN, aa, ab, po, ou, yl, yn, ys, ye, yf) (nI f) v := by
  have ci : (nI f).toNatClampNeg = f := nI_clamp (by omega)
  have v12 : vp_in (nI f) 12 := vp_in_nI hf (by decide)
  refine And.intro v12 ?_
  rw [ci, ho, nu_m8, nI_add, nI_clamp (by omega), nI_1 o]
  exact And.intro (vp_in_nI (by omega) (by decide)) (nm_e (And.intro v12 (And.intro v12 (nm_e K))))
theorem yw_nF {post : SY → Prop} {l : List Int32} {a b : Int32} (hfc : fc < 12) (h16 : l.length ≤ 16) (he : yf_e l yf) (K : post (nI cl, nI ml, nI fl, nI ol, nI cc, nI mc, nI oc, nI (fc + 1), sT, rV, nI ot, qa, qc, mg, ms, mt, mB, co, ca, bl, ob, oF, ch_w cp (fc * 16) l, upd cq fc (nI l.length), od, upd oN fc 0, upd aa fc a, upd ab fc b, upd po fc 0, ou, yl, yn, ys, ye, yf)) : wpY_newFrame post (nI cl, nI ml, nI fl, nI ol, nI cc, nI mc, nI oc, nI fc, sT, rV, nI ot, qa, qc, mg, ms, mt, mB, co, ca, bl, ob, oF, cp, cq, od, oN, aa, ab, po, ou, yl, yn, ys, ye, yf) (nI l.length) a b := by
  have ci : (nI fc).toNatClampNeg = fc := nI_clamp (by omega)
  have v12 : vp_in (nI fc) 12 := vp_in_nI hfc (by decide)
  have key : ∀ d i, i + d = l.length → wY_newFrame_3 post (nI l.length) a b (nI cl) (nI ml) (nI fl) (nI ol) (nI cc) (nI mc) (nI oc) (nI fc) sT rV (nI ot) (d + 1) (nI i) qa qc mg ms mt mB co ca bl ob oF (ch_w cp (fc * 16) (l.take i)) cq od oN aa ab po ou yl yn ys ye yf := by
    intro d
    induction d with
    | zero =>
      intro i hi
      refine pk_le l.length i (fun z => ?_) (fun z => absurd z (by omega))
      rw [List.take_of_length_le z, ci, nI_1 fc]
      exact And.intro v12 (nm_e (And.intro v12 (nm_e (And.intro v12 (nm_e (And.intro v12 (nm_e (And.intro v12 (nm_e (nm_e K))))))))))
    | succ d ih =>
      intro i hi
      refine pk_le l.length i (fun z => absurd z (by omega)) (fun z => ?_)
      have e2 : nI fc * 16 + nI i = nI (fc * 16 + i) := by rw [nu_m16, nI_add]
      have e3 : yf (nI i).toNatClampNeg = l.getD i 0 := by rw [nI_clamp (by omega)]; exact he i z
      rw [e2, e3, nI_clamp (n := fc * 16 + i) (by omega), ch_w_s z]
      exact And.intro (vp_in_nI (by omega) (by decide)) (And.intro (vp_in_nI (by omega) (by decide)) (nm_e (nm_r (nI_1 i) (ih (i + 1) (by omega)))))
  refine Exists.intro (l.length + 1) ?_
  have := key l.length 0 (by omega)
  rw [List.take_zero, ch_w_0] at this
  exact this
theorem yw_584 {post : SY → Prop} {f n : Nat} (hf : f + 1 < 12) (hn : cq f = nI n) (h1 : 1 ≤ n) (h16 : n ≤ 16) (K : ∀ yf, post (nI cl, nI ml, nI fl, nI ol, nI cc, nI mc, nI oc, nI (f + 1 + 1), sT, rV, nI ot, qa, qc, mg, ms, mt, mB, co, ca, bl, ob, oF, ch_w cp ((f + 1) * 16) (ch_n cp f n), upd cq (f + 1) (nI (ch_n cp f n).length), od, upd oN (f + 1) 0, upd aa (f + 1) (aa f), upd ab (f + 1) (ab f), upd po (f + 1) 0, ou, yl, yn, ys, ye, yf)) : ∃ m, wY_step_584 post (nI f) (nI cl) (nI ml) (nI fl) (nI ol) (nI cc) (nI mc) (nI oc) (nI (f + 1)) sT rV (nI ot) m 1 qa qc mg ms mt mB co ca bl ob oF cp cq od oN aa ab po ou yl yn ys ye yf := by
  have ci : (nI f).toNatClampNeg = f := nI_clamp (by omega)
  have v12 : vp_in (nI f) 12 := vp_in_nI (by omega) (by decide)
  have hll : (ch_n cp f n).length = n - 1 := ch_n_l
  have key : ∀ d i yf, 1 ≤ i → i + d = n → (∀ r, r + 1 < i → yf r = (ch_n cp f n).getD r 0) → wY_step_584 post (nI f) (nI cl) (nI ml) (nI fl) (nI ol) (nI cc) (nI mc) (nI oc) (nI (f + 1)) sT rV (nI ot) (d + 1) (nI i) qa qc mg ms mt mB co ca bl ob oF cp cq od oN aa ab po ou yl yn ys ye yf := by
    intro d
    induction d with
    | zero =>
      intro i yf hi1 hi hI
      refine And.intro v12 (pk_le n i (fun z => ?_) (fun z => absurd z (by omega)) (by rw [ci]; exact hn))
      rw [ci, hn, nu_s1 (by omega), ← hll]
      exact And.intro v12 (And.intro v12 (And.intro v12 (yw_nF hf (by omega) (fun r hr => hI r (by omega)) (K yf))))
    | succ d ih =>
      intro i yf hi1 hi hI
      refine And.intro v12 (pk_le n i (fun z => absurd z (by omega)) (fun z => ?_) (by rw [ci]; exact hn))
      have e1 : nI f * 16 + nI i = nI (f * 16 + i) := by rw [nu_m16, nI_add]
      have e3 : cp (nI (f * 16 + i)).toNatClampNeg = (ch_n cp f n).getD (i - 1) 0 := by
        rw [nI_clamp (by omega), ch_n_g (by omega)]
        exact congrArg cp (by omega)
      rw [e1, e3, nu_s1 (by omega), nI_clamp (n := i - 1) (by omega)]
      refine And.intro (vp_in_nI (by omega) (by decide)) (And.intro (vp_in_nI (by omega) (by decide)) (nm_e (nm_r (nI_1 i) (ih (i + 1) _ (by omega) (by omega) (fun r hr => ?_)))))
      by_cases v : r = i - 1
      · rw [v, pk_us]
      · rw [pk_un v]; exact hI r (by omega)
  exact Exists.intro (n - 1 + 1) (key (n - 1) 1 yf (by omega) (by omega) (fun r hr => absurd hr (by omega)))
end FRX
end
section
section EXE
variable {cl ml fl ol cc mc oc ot fc : Nat} {sC sT rV : Int32} {P L : Nat → List Nat} {sl : Nat → Nat} {pa pc li ll an sg mi mh me tc mb ck cn cb bl co ca ob oF ou cp cq aa ab po od oN qa qc mg ms mt mB yl yn ys ye yf : Nat → Int32} {f o n : Nat} {k : Int32}
theorem xe_0 {post : SX → Prop} (hf : f < 12) (ho : oN f = nI o) (h8 : o ≤ 8) (K1 : o < 8 → post (nI cl, nI ml, nI fl, nI ol, nI cc, sC, nI mc, nI oc, sT, rV, nI ot, nI fc, pa, pc, li, ll, an, sg, mi, mh, me, tc, mb, ck, cn, cb, bl, co, ca, ob, oF, ou, cp, cq, aa, ab, po, upd od (f * 8 + o) k, upd oN f (nI (o + 1)))) (K0 : ¬ o < 8 → post (nI cl, nI ml, nI fl, nI ol, nI cc, sC, nI mc, nI oc, 3, rV, nI ot, nI 0, pa, pc, li, ll, an, sg, mi, mh, me, tc, mb, ck, cn, cb, bl, co, ca, ob, oF, ou, cp, cq, aa, ab, po, od, oN)) : wpX_execute post (nI cl, nI ml, nI fl, nI ol, nI cc, sC, nI mc, nI oc, sT, rV, nI ot, nI fc, pa, pc, li, ll, an, sg, mi, mh, me, tc, mb, ck, cn, cb, bl, co, ca, ob, oF, ou, cp, cq, aa, ab, po, od, oN) (nI f) (nI 0) k :=
  br_f (by decide) (br_f (by decide) (br_t (by decide) (xw_pot hf ho h8 K1 K0)))
theorem xe_1 {post : SX → Prop} (hf : f < 12) (ho : oN f = nI o) (h8 : o ≤ 8) (K1 : o < 8 → post (nI cl, nI ml, nI fl, nI ol, nI cc, sC, nI mc, nI oc, sT, rV, nI ot, nI fc, pa, pc, li, ll, an, sg, mi, mh, me, tc, mb, ck, cn, cb, bl, co, ca, ob, oF, ou, cp, cq, aa, ab, po, upd od (f * 8 + o) (if k = 0 then aa f else ab f), upd oN f (nI (o + 1)))) (K0 : ¬ o < 8 → post (nI cl, nI ml, nI fl, nI ol, nI cc, sC, nI mc, nI oc, 3, rV, nI ot, nI 0, pa, pc, li, ll, an, sg, mi, mh, me, tc, mb, ck, cn, cb, bl, co, ca, ob, oF, ou, cp, cq, aa, ab, po, od, oN)) : wpX_execute post (nI cl, nI ml, nI fl, nI ol, nI cc, sC, nI mc, nI oc, sT, rV, nI ot, nI fc, pa, pc, li, ll, an, sg, mi, mh, me, tc, mb, ck, cn, cb, bl, co, ca, ob, oF, ou, cp, cq, aa, ab, po, od, oN) (nI f) (nI 1) k := by
  have ci : (nI f).toNatClampNeg = f := nI_clamp (by omega)
  have v12 : vp_in (nI f) 12 := vp_in_nI hf (by decide)
  refine br_f (by decide) (br_f (by decide) (br_f (by decide) (br_t (by decide) ?_)))
  rw [ci]
  refine br_c (fun h => And.intro v12 ?_) (fun h => And.intro v12 ?_)
  · rw [if_pos h] at K1; exact xw_pot hf ho h8 K1 K0
  · rw [if_neg h] at K1; exact xw_pot hf ho h8 K1 K0
theorem xe_7 {post : SX → Prop} (hf : f < 12) (ho : oN f = nI o) (h8 : o ≤ 8) (hn : cq f = nI n) (h16 : n ≤ 16) (K1 : o < 8 → post (nI cl, nI ml, nI fl, nI ol, nI cc, sC, nI mc, nI oc, sT, rV, nI ot, nI fc, pa, pc, li, ll, an, sg, mi, mh, me, tc, mb, ck, cn, cb, bl, co, ca, ob, oF, ou, cp, cq, aa, ab, po, upd od (f * 8 + o) (if n < 2 then 0 else 1), upd oN f (nI (o + 1)))) (K0 : ¬ o < 8 → post (nI cl, nI ml, nI fl, nI ol, nI cc, sC, nI mc, nI oc, 3, rV, nI ot, nI 0, pa, pc, li, ll, an, sg, mi, mh, me, tc, mb, ck, cn, cb, bl, co, ca, ob, oF, ou, cp, cq, aa, ab, po, od, oN)) : wpX_execute post (nI cl, nI ml, nI fl, nI ol, nI cc, sC, nI mc, nI oc, sT, rV, nI ot, nI fc, pa, pc, li, ll, an, sg, mi, mh, me, tc, mb, ck, cn, cb, bl, co, ca, ob, oF, ou, cp, cq, aa, ab, po, od, oN) (nI f) (nI 7) k := by
  have v12 : vp_in (nI f) 12 := vp_in_nI hf (by decide)
  refine br_f (by decide) (br_f (by decide) (br_f (by decide) (br_f (by decide) (br_f (by decide) (br_f (by decide) (br_f (by decide) (br_f (by decide) (br_f (by decide) (br_t (by decide) (And.intro v12 (pk_lt n 2 (fun h => ?_) (fun h => ?_) (by rw [nI_clamp (by omega)]; exact hn))))))))))))
  · rw [if_pos h] at K1; exact xw_pot hf ho h8 K1 K0
  · rw [if_neg (by omega)] at K1; exact xw_pot hf ho h8 K1 K0
theorem xe_6 {post : SX → Prop} (hf : f < 12) (hfl : fl ≤ 12) (hfc : f + 1 ≤ fl) (ho : oN f = nI o) (h8 : o ≤ 8) (hn : cq f = nI n) (h1 : 1 ≤ n) (h16 : n ≤ 16) (K6 : n < 2 → post (nI cl, nI ml, nI fl, nI ol, nI cc, sC, nI mc, nI oc, 6, rV, nI ot, nI 0, pa, pc, li, ll, an, sg, mi, mh, me, tc, mb, ck, cn, cb, bl, co, ca, ob, oF, ou, cp, cq, aa, ab, po, od, oN)) (K3 : 2 ≤ n → ¬ o < 8 → post (nI cl, nI ml, nI fl, nI ol, nI cc, sC, nI mc, nI oc, 3, rV, nI ot, nI 0, pa, pc, li, ll, an, sg, mi, mh, me, tc, mb, ck, cn, cb, bl, co, ca, ob, oF, ou, cp, cq, aa, ab, po, od, oN)) (K7 : 2 ≤ n → o < 8 → fl ≤ f + 1 → post (nI cl, nI ml, nI fl, nI ol, nI cc, sC, nI mc, nI oc, 7, rV, nI ot, nI 0, pa, pc, li, ll, an, sg, mi, mh, me, tc, mb, ck, cn, cb, bl, co, ca, ob, oF, ou, cp, cq, aa, ab, po, od, oN))
    (K : 2 ≤ n → o < 8 → f + 1 < fl → post (nI cl, nI ml, nI fl, nI ol, nI cc, sC, nI mc, nI oc, sT, rV, nI ot, nI (f + 1 + 1), pa, pc, li, ll, an, sg, mi, mh, me, tc, mb, ck, cn, cb, bl, co, ca, ob, oF, ou, ch_w cp ((f + 1) * 16) (ch_n cp f n), upd cq (f + 1) (nI (ch_n cp f n).length), upd aa (f + 1) (aa f), upd ab (f + 1) (ab f), upd po (f + 1) 0, od, upd oN (f + 1) 0)) : wpX_execute post (nI cl, nI ml, nI fl, nI ol, nI cc, sC, nI mc, nI oc, sT, rV, nI ot, nI (f + 1), pa, pc, li, ll, an, sg, mi, mh, me, tc, mb, ck, cn, cb, bl, co, ca, ob, oF, ou, cp, cq, aa, ab, po, od, oN) (nI f) (nI 6) k := by
  have v12 : vp_in (nI f) 12 := vp_in_nI hf (by decide)
  have ci : (nI f).toNatClampNeg = f := nI_clamp (by omega)
  refine br_f (by decide) (br_f (by decide) (br_f (by decide) (br_f (by decide) (br_f (by decide) (br_f (by decide) (br_f (by decide) (br_f (by decide) (br_t (by decide) (And.intro v12 (pk_le 2 n (fun h => And.intro v12 (pk_lt o 8 (fun h2 => pk_lt (f + 1) fl (fun h3 => ?_) (fun h3 => K7 h h2 h3)) (fun h2 => K3 h (by omega)) (by rw [ci]; exact ho))) (fun h => K6 h) rfl (by rw [ci]; exact hn)))))))))))
  exact xw_oX (by omega) hn h1 h16 (K h h2 h3)
theorem xe_2 {post : SX → Prop} (hf : f < 12) (ho : oN f = nI o) (h8 : o ≤ 8) (K : 2 ≤ o → post (nI cl, nI ml, nI fl, nI ol, nI cc, sC, nI mc, nI oc, sT, rV, nI ot, nI fc, pa, pc, li, ll, an, sg, mi, mh, me, tc, mb, ck, cn, cb, bl, co, ca, ob, oF, ou, cp, cq, aa, ab, po, upd od (f * 8 + (o - 2)) (od (f * 8 + o - 2) + od (f * 8 + o - 1)), upd oN f (nI (o - 1)))) (K0 : o < 2 → post (nI cl, nI ml, nI fl, nI ol, nI cc, sC, nI mc, nI oc, 3, rV, nI ot, nI 0, pa, pc, li, ll, an, sg, mi, mh, me, tc, mb, ck, cn, cb, bl, co, ca, ob, oF, ou, cp, cq, aa, ab, po, od, oN)) : wpX_execute post (nI cl, nI ml, nI fl, nI ol, nI cc, sC, nI mc, nI oc, sT, rV, nI ot, nI fc, pa, pc, li, ll, an, sg, mi, mh, me, tc, mb, ck, cn, cb, bl, co, ca, ob, oF, ou, cp, cq, aa, ab, po, od, oN) (nI f) (nI 2) k := by
  have v12 : vp_in (nI f) 12 := vp_in_nI hf (by decide)
  have ci : (nI f).toNatClampNeg = f := nI_clamp (by omega)
  refine br_f (by decide) (br_f (by decide) (br_f (by decide) (br_f (by decide) (br_t (by decide) (br_t (by decide) (And.intro v12 (pk_le 2 o (fun h => br_f (by decide) (br_f (by decide) (br_t (by decide) ?_))) (fun h => K0 h) rfl (by rw [ci]; exact ho))))))))
  unfold wpX_doAdd
  dsimp only
  refine xw_top (dd := 1) hf ho h8 (by omega) ?_
  refine xw_top (dd := 0) hf ho h8 (by omega) ?_
  refine nm_e (And.intro v12 (And.intro v12 (nm_r (e' := upd oN f (nI (o - 2))) (by rw [ci, ho, nu_s2 h]) ?_)))
  refine xw_push (o := o - 2) hf pk_us (by omega) ?_
  have := K h
  rw [nu_uu, show o - 2 + 1 = o - 1 by omega]
  exact this
theorem xe_3 {post : SX → Prop} (hf : f < 12) (hoc : oc ≤ 16) (ho : oN f = nI o) (h8 : o ≤ 8) (K : ∀ h, 1 ≤ o → h < oc → od (f * 8 + o - 1) = nI h → post (nI cl, nI ml, nI fl, nI ol, nI cc, sC, nI mc, nI oc, sT, rV, nI ot, nI fc, pa, pc, li, ll, an, sg, mi, mh, me, tc, mb, ck, cn, cb, bl, co, ca, ob, oF, ou, cp, cq, aa, ab, po, upd od (f * 8 + o - 1) (oF h), oN)) (K0 : o < 1 → post (nI cl, nI ml, nI fl, nI ol, nI cc, sC, nI mc, nI oc, 3, rV, nI ot, nI 0, pa, pc, li, ll, an, sg, mi, mh, me, tc, mb, ck, cn, cb, bl, co, ca, ob, oF, ou, cp, cq, aa, ab, po, od, oN)) (K4 : 1 ≤ o → (¬ ∃ h, h < oc ∧ od (f * 8 + o - 1) = nI h) → post (nI cl, nI ml, nI fl, nI ol, nI cc, sC, nI mc, nI oc, 4, rV, nI ot, nI 0, pa, pc, li, ll, an, sg, mi, mh, me, tc, mb, ck, cn, cb, bl, co, ca, ob, oF, ou, cp, cq, aa, ab, po, od, oN)) : wpX_execute post (nI cl, nI ml, nI fl, nI ol, nI cc, sC, nI mc, nI oc, sT, rV, nI ot, nI fc, pa, pc, li, ll, an, sg, mi, mh, me, tc, mb, ck, cn, cb, bl, co, ca, ob, oF, ou, cp, cq, aa, ab, po, od, oN) (nI f) (nI 3) k := by
  have v12 : vp_in (nI f) 12 := vp_in_nI hf (by decide)
  have ci : (nI f).toNatClampNeg = f := nI_clamp (by omega)
  refine br_f (by decide) (br_f (by decide) (br_f (by decide) (br_f (by decide) (br_f (by decide) (br_t (by decide) (br_f (by decide) (br_f (by decide) (br_f (by decide) (And.intro v12 (pk_le 1 o (fun h => br_f (by decide) (br_f (by decide) (br_f (by decide) (br_t (by decide) ?_)))) (fun h => K0 h) rfl (by rw [ci]; exact ho)))))))))))
  unfold wpX_doGet
  dsimp only
  refine xw_top (dd := 0) hf ho h8 (by omega) ?_
  rw [Nat.sub_zero]
  rcases Classical.em (∃ h, h < oc ∧ od (f * 8 + o - 1) = nI h) with ⟨q, hq, e⟩ | hn
  · rw [e]
    refine xw_O1 (by omega) hq (br_f sm_10 (And.intro v12 (And.intro v12 (nm_r (e' := upd oN f (nI (o - 1))) (by rw [ci, ho, nu_s1 h]) (And.intro (vp_in_nI (by omega) (by decide)) ?_)))))
    rw [nI_clamp (n := q) (by omega)]
    refine xw_push (o := o - 1) hf pk_us (by omega) ?_
    have := K q h hq e
    rw [nu_uu, show o - 1 + 1 = o by omega, nu_id ho, show f * 8 + (o - 1) = f * 8 + o - 1 by omega]
    exact this
  · exact xw_O0 (by omega) hn (br_t rfl (K4 h hn))
theorem xe_4 {post : SX → Prop} (hf : f < 12) (hoc : oc ≤ 16) (ho : oN f = nI o) (h8 : o ≤ 8) (K : ∀ h, 2 ≤ o → h < oc → od (f * 8 + o - 2) = nI h → post (nI cl, nI ml, nI fl, nI ol, nI cc, sC, nI mc, nI oc, sT, rV, nI ot, nI fc, pa, pc, li, ll, an, sg, mi, mh, me, tc, mb, ck, cn, cb, bl, co, ca, ob, upd oF h (od (f * 8 + o - 1)), ou, cp, cq, aa, ab, po, od, upd oN f (nI (o - 2)))) (K0 : o < 2 → post (nI cl, nI ml, nI fl, nI ol, nI cc, sC, nI mc, nI oc, 3, rV, nI ot, nI 0, pa, pc, li, ll, an, sg, mi, mh, me, tc, mb, ck, cn, cb, bl, co, ca, ob, oF, ou, cp, cq, aa, ab, po, od, oN)) (K4 : 2 ≤ o → (¬ ∃ h, h < oc ∧ od (f * 8 + o - 2) = nI h) → post (nI cl, nI ml, nI fl, nI ol, nI cc, sC, nI mc, nI oc, 4, rV, nI ot, nI 0, pa, pc, li, ll, an, sg, mi, mh, me, tc, mb, ck, cn, cb, bl, co, ca, ob, oF, ou, cp, cq, aa, ab, po, od, oN)) : wpX_execute post (nI cl, nI ml, nI fl, nI ol, nI cc, sC, nI mc, nI oc, sT, rV, nI ot, nI fc, pa, pc, li, ll, an, sg, mi, mh, me, tc, mb, ck, cn, cb, bl, co, ca, ob, oF, ou, cp, cq, aa, ab, po, od, oN) (nI f) (nI 4) k := by
  have v12 : vp_in (nI f) 12 := vp_in_nI hf (by decide)
  have ci : (nI f).toNatClampNeg = f := nI_clamp (by omega)
  refine br_f (by decide) (br_f (by decide) (br_f (by decide) (br_f (by decide) (br_f (by decide) (br_f (by decide) (br_t (by decide) (br_f (by decide) (br_t (by decide) (And.intro v12 (pk_le 2 o (fun h => br_f (by decide) (br_f (by decide) (br_f (by decide) (br_f (by decide) (br_t (by decide) ?_))))) (fun h => K0 h) rfl (by rw [ci]; exact ho)))))))))))
  unfold wpX_doSet
  dsimp only
  refine xw_top (dd := 1) hf ho h8 (by omega) ?_
  rw [show f * 8 + o - 1 - 1 = f * 8 + o - 2 by omega]
  rcases Classical.em (∃ h, h < oc ∧ od (f * 8 + o - 2) = nI h) with ⟨q, hq, e⟩ | hn
  · rw [e]
    refine xw_O1 (by omega) hq (br_f sm_10 (xw_top (dd := 0) hf ho h8 (by omega) ?_))
    rw [Nat.sub_zero, nI_clamp (n := q) (by omega), ci, ho, nu_s2 h]
    exact And.intro (vp_in_nI (by omega) (by decide)) (nm_e (And.intro v12 (And.intro v12 (nm_e (K q h hq e)))))
  · exact xw_O0 (by omega) hn (br_t rfl (K4 h hn))
theorem xe_8 {post : SX → Prop} (hf : f < 12) (hot : ot ≤ 32) (ho : oN f = nI o) (h8 : o ≤ 8) (K : 1 ≤ o → ot < 32 → post (nI cl, nI ml, nI fl, nI ol, nI cc, sC, nI mc, nI oc, sT, rV, nI (ot + 1), nI fc, pa, pc, li, ll, an, sg, mi, mh, me, tc, mb, ck, cn, cb, bl, co, ca, ob, oF, upd ou ot (od (f * 8 + o - 1)), cp, cq, aa, ab, po, od, upd oN f (nI (o - 1)))) (K0 : o < 1 → post (nI cl, nI ml, nI fl, nI ol, nI cc, sC, nI mc, nI oc, 3, rV, nI ot, nI 0, pa, pc, li, ll, an, sg, mi, mh, me, tc, mb, ck, cn, cb, bl, co, ca, ob, oF, ou, cp, cq, aa, ab, po, od, oN)) (Kf : 1 ≤ o → ot = 32 → post (nI cl, nI ml, nI fl, nI ol, nI cc, sC, nI mc, nI oc, 8, rV, nI ot, nI 0, pa, pc, li, ll, an, sg, mi, mh, me, tc, mb, ck, cn, cb, bl, co, ca, ob, oF, ou, cp, cq, aa, ab, po, od, oN)) : wpX_execute post (nI cl, nI ml, nI fl, nI ol, nI cc, sC, nI mc, nI oc, sT, rV, nI ot, nI fc, pa, pc, li, ll, an, sg, mi, mh, me, tc, mb, ck, cn, cb, bl, co, ca, ob, oF, ou, cp, cq, aa, ab, po, od, oN) (nI f) (nI 8) k := by
  have v12 : vp_in (nI f) 12 := vp_in_nI hf (by decide)
  have ci : (nI f).toNatClampNeg = f := nI_clamp (by omega)
  refine br_f (by decide) (br_t (by decide) (br_f (by decide) (br_f (by decide) (br_f (by decide) (And.intro v12 (pk_le 1 o (fun h => br_f (by decide) (br_f (by decide) (br_f (by decide) (br_f (by decide) (br_f (by decide) (br_f (by decide) (br_f (by decide) (br_f (by decide) (br_t (by decide) ?_))))))))) (fun h => K0 h) rfl (by rw [ci]; exact ho)))))))
  refine pk_lt ot 32 (fun w => ?_) (fun w => Kf h (by omega))
  refine xw_top (dd := 0) hf ho h8 (by omega) ?_
  rw [Nat.sub_zero, nI_clamp (n := ot) (by omega), ci, ho, nu_s1 h, nI_1 ot]
  exact And.intro (vp_in_nI w (by decide)) (nm_e (nm_e (And.intro v12 (And.intro v12 (nm_e (K h w))))))
theorem xe_9 {post : SX → Prop} (hf : f < 12) (ho : oN f = nI o) (h8 : o ≤ 8) (K : 1 ≤ o → od (f * 8 + o - 1) = 0 → post (nI cl, nI ml, nI fl, nI ol, nI cc, sC, nI mc, nI oc, sT, rV, nI ot, nI fc, pa, pc, li, ll, an, sg, mi, mh, me, tc, mb, ck, cn, cb, bl, co, ca, ob, oF, ou, cp, cq, aa, ab, upd po f (po f + k), od, upd oN f (nI (o - 1)))) (Kn : 1 ≤ o → ¬ od (f * 8 + o - 1) = 0 → post (nI cl, nI ml, nI fl, nI ol, nI cc, sC, nI mc, nI oc, sT, rV, nI ot, nI fc, pa, pc, li, ll, an, sg, mi, mh, me, tc, mb, ck, cn, cb, bl, co, ca, ob, oF, ou, cp, cq, aa, ab, po, od, upd oN f (nI (o - 1)))) (K0 : o < 1 → post (nI cl, nI ml, nI fl, nI ol, nI cc, sC, nI mc, nI oc, 3, rV, nI ot, nI 0, pa, pc, li, ll, an, sg, mi, mh, me, tc, mb, ck, cn, cb, bl, co, ca, ob, oF, ou, cp, cq, aa, ab, po, od, oN)) : wpX_execute post (nI cl, nI ml, nI fl, nI ol, nI cc, sC, nI mc, nI oc, sT, rV, nI ot, nI fc, pa, pc, li, ll, an, sg, mi, mh, me, tc, mb, ck, cn, cb, bl, co, ca, ob, oF, ou, cp, cq, aa, ab, po, od, oN) (nI f) (nI 9) k := by
  have v12 : vp_in (nI f) 12 := vp_in_nI hf (by decide)
  have ci : (nI f).toNatClampNeg = f := nI_clamp (by omega)
  refine br_f (by decide) (br_t (by decide) (br_f (by decide) (br_f (by decide) (br_f (by decide) (And.intro v12 (pk_le 1 o (fun h => br_f (by decide) (br_t (by decide) ?_)) (fun h => K0 h) rfl (by rw [ci]; exact ho)))))))
  unfold wX_executePopping_125 wpX_doSkip
  dsimp only
  refine xw_top (dd := 0) hf ho h8 (by omega) ?_
  rw [Nat.sub_zero, ci, ho, nu_s1 h]
  exact And.intro v12 (And.intro v12 (nm_e (br_c (fun w => And.intro v12 (And.intro v12 (nm_e (K h w)))) (fun w => Kn h w))))
theorem xe_5 {post : SX → Prop} {g : Nat} (hf : f < 12) (hN : rl_N cl ml fl ol cc mc oc ot (f + 1)) (hO : rl_O cc oc ob) (hC : rl_C cc P L pa pc li ll an qa qc) (hK : rl_K cc L mb ck cn cb) (hg : g < 4) (ho : oN f = nI o) (h8 : o ≤ 8) (K0 : o < 2 → post (nI cl, nI ml, nI fl, nI ol, nI cc, sC, nI mc, nI oc, 3, rV, nI ot, nI 0, pa, pc, li, ll, an, sg, mi, mh, me, tc, mb, ck, cn, cb, bl, co, ca, ob, oF, ou, cp, cq, aa, ab, po, od, oN)) (K4 : 2 ≤ o → (¬ ((∃ h, h < oc ∧ od (f * 8 + o - 2) = nI h) ∧ (∃ h, h < oc ∧ od (f * 8 + o - 1) = nI h))) → post (nI cl, nI ml, nI fl, nI ol, nI cc, sC, nI mc, nI oc, 4, rV, nI ot, nI 0, pa, pc, li, ll, an, sg, mi, mh, me, tc, mb, ck, cn, cb, bl, co, ca, ob, oF, ou, cp, cq, aa, ab, po, od, oN))
    (K : ∀ x y c d ck cn cb, rl_K cc L mb ck cn cb → 2 ≤ o → x < oc → y < oc → od (f * 8 + o - 2) = nI x → od (f * 8 + o - 1) = nI y → ob x = nI c → ob y = nI d → c < cc → d < cc → ((ch_L mb g (L c) (L d)).length = 0 → post (nI cl, nI ml, nI fl, nI ol, nI cc, sC, nI mc, nI oc, 5, rV, nI ot, nI 0, pa, pc, li, ll, an, sg, mi, mh, me, tc, mb, ck, cn, cb, bl, co, ca, ob, oF, ou, cp, cq, aa, ab, po, od, oN)) ∧ (0 < (ch_L mb g (L c) (L d)).length → fl ≤ f + 1 → post (nI cl, nI ml, nI fl, nI ol, nI cc, sC, nI mc, nI oc, 7, rV, nI ot, nI 0, pa, pc, li, ll, an, sg, mi, mh, me, tc, mb, ck, cn, cb, bl, co, ca, ob, oF, ou, cp, cq, aa, ab, po, od, oN)) ∧ (0 < (ch_L mb g (L c) (L d)).length → f + 1 < fl → post (nI cl, nI ml, nI fl, nI ol, nI cc, sC, nI mc, nI oc, sT, rV, nI ot, nI (f + 1 + 1), pa, pc, li, ll, an, sg, mi, mh, me, tc, mb, ck, cn, cb, bl, co, ca, ob, oF, ou, ch_w cp ((f + 1) * 16) (ch_L mb g (L c) (L d)), upd cq (f + 1) (nI (ch_L mb g (L c) (L d)).length), upd aa (f + 1) (nI x), upd ab (f + 1) (nI y), upd po (f + 1) 0, od, upd (upd oN f (nI (o - 2))) (f + 1) 0))) : wpX_execute post (nI cl, nI ml, nI fl, nI ol, nI cc, sC, nI mc, nI oc, sT, rV, nI ot, nI (f + 1), pa, pc, li, ll, an, sg, mi, mh, me, tc, mb, ck, cn, cb, bl, co, ca, ob, oF, ou, cp, cq, aa, ab, po, od, oN) (nI f) (nI 5) (nI g) := by
  obtain ⟨n1, n2, n3, n4, n5, n6, n7, n8, n9, n10, n11, n12⟩ := hN
  obtain ⟨hP, hT, hne, hx, hL, hy⟩ := hC
  have hTF := cm_T_f hP hT
  have fact : ∀ r, r < cc → la_row li ll 10 r (L r) ∧ (L r).length ≤ 10 ∧ ∀ x, x ∈ L r → x < 10 := fun r hr' => by
    obtain ⟨f1, f2, f3, f4⟩ := hTF r hr'
    exact ⟨(hL r hr').1, by omega, fun x hx => by have := f1 x hx; omega⟩
  have v12 : vp_in (nI f) 12 := vp_in_nI hf (by decide)
  have ci : (nI f).toNatClampNeg = f := nI_clamp (by omega)
  refine br_f (by decide) (br_f (by decide) (br_f (by decide) (br_f (by decide) (br_f (by decide) (br_f (by decide) (br_f (by decide) (br_t (by decide) (br_f (by decide) (br_f (by decide) (br_t (by decide) (And.intro v12 (pk_le 2 o (fun h => br_f (by decide) (br_f (by decide) (br_f (by decide) (br_f (by decide) (br_f (by decide) (br_t (by decide) ?_)))))) (fun h => K0 h) rfl (by rw [ci]; exact ho)))))))))))))
  unfold wpX_doCall
  dsimp only
  refine xw_top (dd := 1) hf ho h8 (by omega) ?_
  refine xw_top (dd := 0) hf ho h8 (by omega) ?_
  rw [show f * 8 + o - 1 - 1 = f * 8 + o - 2 by omega, Nat.sub_zero]
  rcases Classical.em (∃ h, h < oc ∧ od (f * 8 + o - 2) = nI h) with ⟨x, hx', ex⟩ | hn
  · rcases Classical.em (∃ h, h < oc ∧ od (f * 8 + o - 1) = nI h) with ⟨y, hy', ey⟩ | hn
    · obtain ⟨c, hc, ec⟩ := hO x hx'
      obtain ⟨d, hd, ed⟩ := hO y hy'
      rw [ex, ey]
      refine xw_O1 (by omega) hx' (br_f sm_10 (xw_O1 (by omega) hy' (br_f sm_10 (And.intro (vp_in_nI (by omega) (by decide)) (And.intro (vp_in_nI (by omega) (by decide)) ?_)))))
      rw [nI_clamp (n := x) (by omega), nI_clamp (n := y) (by omega), ec, ed]
      refine xw_disp (L := L) hg (by omega) hc hd hK fact (fun ck' cn' cb' hK' hat => ?_)
      have len := ch_L_l (mb := mb) (g := g) (lc := L c) (ld := L d)
      obtain ⟨k5, k7, kk⟩ := K x y c d ck' cn' cb' hK' h hx' hy' ex ey ec ed hc hd
      have e0 : cn' (nI ((g * 10 + c) * 10 + d)).toNatClampNeg = nI (ch_L mb g (L c) (L d)).length := by rw [nI_clamp (by omega)]; exact hat.1
      dsimp only
      rw [e0]
      refine And.intro (vp_in_nI (by omega) (by decide)) (pk_eq (ch_L mb g (L c) (L d)).length 0 (fun w => k5 w) (fun w => pk_lt (f + 1) fl (fun w2 => ?_) (fun w2 => k7 (by omega) w2)))
      rw [ci, ho, nu_s2 h]
      exact And.intro v12 (And.intro v12 (nm_e (xw_oC (by omega) (by omega) len hat (kk (by omega) w2))))
    · rw [ex]
      exact xw_O1 (by omega) hx' (br_f sm_10 (xw_O0 (by omega) hn (br_t rfl (K4 h (fun w => hn w.2)))))
  · exact xw_O0 (by omega) hn (br_t rfl (K4 h (fun w => hn w.1)))
end EXE
end
section
section STY
variable {cl ml fl ol cc mc oc ot fc : Nat} {sC sT rV : Int32} {P L : Nat → List Nat} {sl : Nat → Nat} {pa pc li ll an sg mi mh me tc mb ck cn cb bl co ca ob oF ou cp cq aa ab po od oN qa qc mg ms mt mB yl yn ys ye yf : Nat → Int32} {f o n b m p : Nat} {k : Int32}
def yT (od : Nat → Int32) (f o : Nat) : Int32 := if 0 < o then od (f * 8 + o - 1) else 0
def yB (od : Nat → Int32) (f o : Nat) : Int32 := if 1 < o then od (f * 8 + o - 2) else 0
theorem yT_e {od : Nat → Int32} {f o : Nat} (h : 0 < o) : yT od f o = od (f * 8 + o - 1) := if_pos h
theorem yB_e {od : Nat → Int32} {f o : Nat} (h : 1 < o) : yB od f o = od (f * 8 + o - 2) := if_pos h
theorem st_fc {po bl co ca : Nat → Int32} {f b m p : Nat} (hf : f < 12) (hb : b < 16) (em : bl b = nI m) (hm : m ≤ 12) (ep : po f = nI p) (hp : p < m) : (nI f).toNatClampNeg = f ∧ vp_in (nI f) 12 ∧ vp_in (nI b) 16 ∧ po (nI f).toNatClampNeg < bl (nI b).toNatClampNeg ∧ vp_in (nI b * 12 + po (nI f).toNatClampNeg) 192 ∧ co (nI b * 12 + po (nI f).toNatClampNeg).toNatClampNeg = co (b * 12 + p) ∧ ca (nI b * 12 + po (nI f).toNatClampNeg).toNatClampNeg = ca (b * 12 + p) ∧ upd po (nI f).toNatClampNeg (po (nI f).toNatClampNeg + 1) = upd po f (nI (p + 1)) := by
  have ci : (nI f).toNatClampNeg = f := nI_clamp (by omega)
  rw [ci, ep, nI_clamp (n := b) (by omega), em, nu_m12, nI_add, nI_clamp (by omega), nI_1]
  exact ⟨rfl, vp_in_nI hf (by decide), vp_in_nI hb (by decide), nI_lt hp (by omega), vp_in_nI (by omega) (by decide), rfl, rfl, rfl⟩
theorem ys_pre {post : SY → Prop} (hf : f < 12) (hb : b < 16) (eb : cp (f * 16) = nI b) (ho : oN f = nI o) (h8 : o ≤ 8) (K : wY_step_69 post (nI f) (nI b) (nI o) (yT od f o) (yB od f o) (nI cl) (nI ml) (nI fl) (nI ol) (nI cc) (nI mc) (nI oc) (nI (f + 1)) sT rV (nI ot) qa qc mg ms mt mB co ca bl ob oF cp cq od oN aa ab po ou yl yn ys ye yf) : wpY_step post (nI cl, nI ml, nI fl, nI ol, nI cc, nI mc, nI oc, nI (f + 1), sT, rV, nI ot, qa, qc, mg, ms, mt, mB, co, ca, bl, ob, oF, cp, cq, od, oN, aa, ab, po, ou, yl, yn, ys, ye, yf) := by
  have ci : (nI f).toNatClampNeg = f := nI_clamp (by omega)
  have v12 : vp_in (nI f) 12 := vp_in_nI hf (by decide)
  have e16 : nI f * 16 = nI (f * 16) := nu_m16 f
  refine nm_r (nI_pred f) (And.intro (by rw [e16]; exact vp_in_nI (by omega) (by decide)) (nm_r (e' := nI b) (by rw [e16, nI_clamp (by omega)]; exact eb) (And.intro v12 (nm_r (e' := nI o) (by rw [ci]; exact ho) (pk_le o 0 (fun h => ?_) (fun h => ?_))))))
  · unfold yT yB at K
    rw [if_neg (by omega), if_neg (by omega)] at K
    exact br_t (nI_le (b := 1) (by omega) (by decide)) K
  · have e1 : nI f * 8 + nI o - 1 = nI (f * 8 + o - 1) := by rw [nu_m8, nI_add, nu_s1 (by omega)]
    rw [e1, nI_clamp (by omega)]
    rw [yT_e h] at K
    refine And.intro (vp_in_nI (by omega) (by decide)) (pk_le o 1 (fun h1 => ?_) (fun h1 => ?_))
    · unfold yB at K
      rw [if_neg (by omega)] at K
      exact K
    · have e2 : nI f * 8 + nI o - 2 = nI (f * 8 + o - 2) := by rw [nu_m8, nI_add, nu_s2 (by omega)]
      rw [e2, nI_clamp (by omega)]
      rw [yB_e h1] at K
      exact And.intro (vp_in_nI (by omega) (by decide)) K
theorem ye_0 {post : SY → Prop} (hf : f < 12) (hb : b < 16) (eb : cp (f * 16) = nI b) (ho : oN f = nI o) (h8 : o ≤ 8) (em : bl b = nI m) (hm : m ≤ 12) (ep : po f = nI p) (hp : p < m) (hop : co (b * 12 + p) = nI 0) (hk : ca (b * 12 + p) = k) (K1 : o < 8 → post (nI cl, nI ml, nI fl, nI ol, nI cc, nI mc, nI oc, nI (f + 1), sT, rV, nI ot, qa, qc, mg, ms, mt, mB, co, ca, bl, ob, oF, cp, cq, upd od (f * 8 + o) k, upd oN f (nI (o + 1)), aa, ab, upd po f (nI (p + 1)), ou, yl, yn, ys, ye, yf)) (K0 : ¬ o < 8 → post (nI cl, nI ml, nI fl, nI ol, nI cc, nI mc, nI oc, nI 0, 3, rV, nI ot, qa, qc, mg, ms, mt, mB, co, ca, bl, ob, oF, cp, cq, od, oN, aa, ab, upd po f (nI (p + 1)), ou, yl, yn, ys, ye, yf)) : wpY_step post (nI cl, nI ml, nI fl, nI ol, nI cc, nI mc, nI oc, nI (f + 1), sT, rV, nI ot, qa, qc, mg, ms, mt, mB, co, ca, bl, ob, oF, cp, cq, od, oN, aa, ab, po, ou, yl, yn, ys, ye, yf) := by
  obtain ⟨ci, v12, v16, hlt, v192, eop, ek, epo⟩ := st_fc (co := co) (ca := ca) hf hb em hm ep hp
  refine ys_pre hf hb eb ho h8 ?_
  refine And.intro v12 (And.intro v16 (br_t hlt (And.intro v12 (And.intro v192 (nm_r (eop.trans hop) (And.intro v12 (And.intro v192 (nm_r (ek.trans hk) (And.intro v12 (And.intro v12 (nm_r epo ?_)))))))))))
  exact br_t (by decide) (pk_eq o 8 (fun h => K0 (by omega)) (fun h => yw_push hf ho (by omega) (K1 (by omega))))
theorem ye_1 {post : SY → Prop} (hf : f < 12) (hb : b < 16) (eb : cp (f * 16) = nI b) (ho : oN f = nI o) (h8 : o ≤ 8) (em : bl b = nI m) (hm : m ≤ 12) (ep : po f = nI p) (hp : p < m) (hop : co (b * 12 + p) = nI 1) (hk : ca (b * 12 + p) = k) (K1 : o < 8 → post (nI cl, nI ml, nI fl, nI ol, nI cc, nI mc, nI oc, nI (f + 1), sT, rV, nI ot, qa, qc, mg, ms, mt, mB, co, ca, bl, ob, oF, cp, cq, upd od (f * 8 + o) (if k = 0 then aa f else ab f), upd oN f (nI (o + 1)), aa, ab, upd po f (nI (p + 1)), ou, yl, yn, ys, ye, yf)) (K0 : ¬ o < 8 → post (nI cl, nI ml, nI fl, nI ol, nI cc, nI mc, nI oc, nI 0, 3, rV, nI ot, qa, qc, mg, ms, mt, mB, co, ca, bl, ob, oF, cp, cq, od, oN, aa, ab, upd po f (nI (p + 1)), ou, yl, yn, ys, ye, yf)) : wpY_step post (nI cl, nI ml, nI fl, nI ol, nI cc, nI mc, nI oc, nI (f + 1), sT, rV, nI ot, qa, qc, mg, ms, mt, mB, co, ca, bl, ob, oF, cp, cq, od, oN, aa, ab, po, ou, yl, yn, ys, ye, yf) := by
  obtain ⟨ci, v12, v16, hlt, v192, eop, ek, epo⟩ := st_fc (co := co) (ca := ca) hf hb em hm ep hp
  refine ys_pre hf hb eb ho h8 ?_
  refine And.intro v12 (And.intro v16 (br_t hlt (And.intro v12 (And.intro v192 (nm_r (eop.trans hop) (And.intro v12 (And.intro v192 (nm_r (ek.trans hk) (And.intro v12 (And.intro v12 (nm_r epo ?_)))))))))))
  rw [ci]
  refine br_f (by decide) (br_t (by decide) (pk_eq o 8 (fun h => K0 (by omega)) (fun h => br_c (fun w => And.intro v12 ?_) (fun w => And.intro v12 ?_))))
  · rw [if_pos w] at K1
    exact yw_push hf ho (by omega) (K1 (by omega))
  · rw [if_neg w] at K1
    exact yw_push hf ho (by omega) (K1 (by omega))
theorem ye_2 {post : SY → Prop} (hf : f < 12) (hb : b < 16) (eb : cp (f * 16) = nI b) (ho : oN f = nI o) (h8 : o ≤ 8) (em : bl b = nI m) (hm : m ≤ 12) (ep : po f = nI p) (hp : p < m) (hop : co (b * 12 + p) = nI 2) (hk : ca (b * 12 + p) = k) (K : 2 ≤ o → post (nI cl, nI ml, nI fl, nI ol, nI cc, nI mc, nI oc, nI (f + 1), sT, rV, nI ot, qa, qc, mg, ms, mt, mB, co, ca, bl, ob, oF, cp, cq, upd od (f * 8 + (o - 2)) (od (f * 8 + o - 2) + od (f * 8 + o - 1)), upd oN f (nI (o - 1)), aa, ab, upd po f (nI (p + 1)), ou, yl, yn, ys, ye, yf)) (K0 : o < 2 → post (nI cl, nI ml, nI fl, nI ol, nI cc, nI mc, nI oc, nI 0, 3, rV, nI ot, qa, qc, mg, ms, mt, mB, co, ca, bl, ob, oF, cp, cq, od, oN, aa, ab, upd po f (nI (p + 1)), ou, yl, yn, ys, ye, yf)) : wpY_step post (nI cl, nI ml, nI fl, nI ol, nI cc, nI mc, nI oc, nI (f + 1), sT, rV, nI ot, qa, qc, mg, ms, mt, mB, co, ca, bl, ob, oF, cp, cq, od, oN, aa, ab, po, ou, yl, yn, ys, ye, yf) := by
  obtain ⟨ci, v12, v16, hlt, v192, eop, ek, epo⟩ := st_fc (co := co) (ca := ca) hf hb em hm ep hp
  refine ys_pre hf hb eb ho h8 ?_
  refine And.intro v12 (And.intro v16 (br_t hlt (And.intro v12 (And.intro v192 (nm_r (eop.trans hop) (And.intro v12 (And.intro v192 (nm_r (ek.trans hk) (And.intro v12 (And.intro v12 (nm_r epo ?_)))))))))))
  refine br_f (by decide) (br_f (by decide) (br_t (by decide) (pk_le 2 o (fun h => And.intro v12 (nm_r (e' := upd oN f (nI (o - 2))) (by rw [ci, nu_s2 h]) ?_)) (fun h => K0 h))))
  rw [yT_e (by omega), yB_e (by omega)]
  refine yw_push (o := o - 2) hf pk_us (by omega) ?_
  have := K h
  rw [nu_uu, show o - 2 + 1 = o - 1 by omega]
  exact this
theorem ye_3 {post : SY → Prop} (hf : f < 12) (hb : b < 16) (eb : cp (f * 16) = nI b) (ho : oN f = nI o) (h8 : o ≤ 8) (em : bl b = nI m) (hm : m ≤ 12) (ep : po f = nI p) (hp : p < m) (hop : co (b * 12 + p) = nI 3) (hk : ca (b * 12 + p) = k) (hoc : oc ≤ 16) (K : ∀ h, 1 ≤ o → h < oc → od (f * 8 + o - 1) = nI h → post (nI cl, nI ml, nI fl, nI ol, nI cc, nI mc, nI oc, nI (f + 1), sT, rV, nI ot, qa, qc, mg, ms, mt, mB, co, ca, bl, ob, oF, cp, cq, upd od (f * 8 + o - 1) (oF h), oN, aa, ab, upd po f (nI (p + 1)), ou, yl, yn, ys, ye, yf)) (K0 : o < 1 → post (nI cl, nI ml, nI fl, nI ol, nI cc, nI mc, nI oc, nI 0, 3, rV, nI ot, qa, qc, mg, ms, mt, mB, co, ca, bl, ob, oF, cp, cq, od, oN, aa, ab, upd po f (nI (p + 1)), ou, yl, yn, ys, ye, yf)) (K4 : 1 ≤ o → (¬ ∃ h, h < oc ∧ od (f * 8 + o - 1) = nI h) → post (nI cl, nI ml, nI fl, nI ol, nI cc, nI mc, nI oc, nI 0, 4, rV, nI ot, qa, qc, mg, ms, mt, mB, co, ca, bl, ob, oF, cp, cq, od, oN, aa, ab, upd po f (nI (p + 1)), ou, yl, yn, ys, ye, yf)) : wpY_step post (nI cl, nI ml, nI fl, nI ol, nI cc, nI mc, nI oc, nI (f + 1), sT, rV, nI ot, qa, qc, mg, ms, mt, mB, co, ca, bl, ob, oF, cp, cq, od, oN, aa, ab, po, ou, yl, yn, ys, ye, yf) := by
  obtain ⟨ci, v12, v16, hlt, v192, eop, ek, epo⟩ := st_fc (co := co) (ca := ca) hf hb em hm ep hp
  refine ys_pre hf hb eb ho h8 ?_
  refine And.intro v12 (And.intro v16 (br_t hlt (And.intro v12 (And.intro v192 (nm_r (eop.trans hop) (And.intro v12 (And.intro v192 (nm_r (ek.trans hk) (And.intro v12 (And.intro v12 (nm_r epo ?_)))))))))))
  refine br_f (by decide) (br_f (by decide) (br_f (by decide) (br_t (by decide) (pk_le 1 o (fun h => ?_) (fun h => K0 h)))))
  rw [yT_e (by omega)]
  rcases Classical.em (∃ h, h < oc ∧ od (f * 8 + o - 1) = nI h) with ⟨q, hq, e⟩ | hn
  · rw [e]
    refine yw_O1 (by omega) hq (br_f sm_10 ?_)
    rw [nu_m8, nI_add, nu_s1 (by omega), nI_clamp (n := q) (by omega), nI_clamp (by omega)]
    exact And.intro (vp_in_nI (by omega) (by decide)) (And.intro (vp_in_nI (by omega) (by decide)) (nm_e (K q h hq e)))
  · exact yw_O0 (by omega) hn (br_t rfl (K4 h hn))
theorem ye_4 {post : SY → Prop} (hf : f < 12) (hb : b < 16) (eb : cp (f * 16) = nI b) (ho : oN f = nI o) (h8 : o ≤ 8) (em : bl b = nI m) (hm : m ≤ 12) (ep : po f = nI p) (hp : p < m) (hop : co (b * 12 + p) = nI 4) (hk : ca (b * 12 + p) = k) (hoc : oc ≤ 16) (K : ∀ h, 2 ≤ o → h < oc → od (f * 8 + o - 2) = nI h → post (nI cl, nI ml, nI fl, nI ol, nI cc, nI mc, nI oc, nI (f + 1), sT, rV, nI ot, qa, qc, mg, ms, mt, mB, co, ca, bl, ob, upd oF h (od (f * 8 + o - 1)), cp, cq, od, upd oN f (nI (o - 2)), aa, ab, upd po f (nI (p + 1)), ou, yl, yn, ys, ye, yf)) (K0 : o < 2 → post (nI cl, nI ml, nI fl, nI ol, nI cc, nI mc, nI oc, nI 0, 3, rV, nI ot, qa, qc, mg, ms, mt, mB, co, ca, bl, ob, oF, cp, cq, od, oN, aa, ab, upd po f (nI (p + 1)), ou, yl, yn, ys, ye, yf)) (K4 : 2 ≤ o → (¬ ∃ h, h < oc ∧ od (f * 8 + o - 2) = nI h) → post (nI cl, nI ml, nI fl, nI ol, nI cc, nI mc, nI oc, nI 0, 4, rV, nI ot, qa, qc, mg, ms, mt, mB, co, ca, bl, ob, oF, cp, cq, od, oN, aa, ab, upd po f (nI (p + 1)), ou, yl, yn, ys, ye, yf)) : wpY_step post (nI cl, nI ml, nI fl, nI ol, nI cc, nI mc, nI oc, nI (f + 1), sT, rV, nI ot, qa, qc, mg, ms, mt, mB, co, ca, bl, ob, oF, cp, cq, od, oN, aa, ab, po, ou, yl, yn, ys, ye, yf) := by
  obtain ⟨ci, v12, v16, hlt, v192, eop, ek, epo⟩ := st_fc (co := co) (ca := ca) hf hb em hm ep hp
  refine ys_pre hf hb eb ho h8 ?_
  refine And.intro v12 (And.intro v16 (br_t hlt (And.intro v12 (And.intro v192 (nm_r (eop.trans hop) (And.intro v12 (And.intro v192 (nm_r (ek.trans hk) (And.intro v12 (And.intro v12 (nm_r epo ?_)))))))))))
  refine br_f (by decide) (br_f (by decide) (br_f (by decide) (br_f (by decide) (br_t (by decide) (pk_le 2 o (fun h => ?_) (fun h => K0 h))))))
  rw [yT_e (by omega), yB_e (by omega)]
  rcases Classical.em (∃ h, h < oc ∧ od (f * 8 + o - 2) = nI h) with ⟨q, hq, e⟩ | hn
  · rw [e]
    refine yw_O1 (by omega) hq (br_f sm_10 ?_)
    rw [nI_clamp (n := q) (by omega), ci, nu_s2 h]
    exact And.intro v12 (nm_e (And.intro (vp_in_nI (by omega) (by decide)) (nm_e (K q h hq e))))
  · exact yw_O0 (by omega) hn (br_t rfl (K4 h hn))
theorem ye_8 {post : SY → Prop} (hf : f < 12) (hb : b < 16) (eb : cp (f * 16) = nI b) (ho : oN f = nI o) (h8 : o ≤ 8) (em : bl b = nI m) (hm : m ≤ 12) (ep : po f = nI p) (hp : p < m) (hop : co (b * 12 + p) = nI 8) (hk : ca (b * 12 + p) = k) (hot : ot ≤ 32) (K : 1 ≤ o → ot < 32 → post (nI cl, nI ml, nI fl, nI ol, nI cc, nI mc, nI oc, nI (f + 1), sT, rV, nI (ot + 1), qa, qc, mg, ms, mt, mB, co, ca, bl, ob, oF, cp, cq, od, upd oN f (nI (o - 1)), aa, ab, upd po f (nI (p + 1)), upd ou ot (od (f * 8 + o - 1)), yl, yn, ys, ye, yf)) (K0 : o < 1 → post (nI cl, nI ml, nI fl, nI ol, nI cc, nI mc, nI oc, nI 0, 3, rV, nI ot, qa, qc, mg, ms, mt, mB, co, ca, bl, ob, oF, cp, cq, od, oN, aa, ab, upd po f (nI (p + 1)), ou, yl, yn, ys, ye, yf)) (Kf : 1 ≤ o → ot = 32 → post (nI cl, nI ml, nI fl, nI ol, nI cc, nI mc, nI oc, nI 0, 8, rV, nI ot, qa, qc, mg, ms, mt, mB, co, ca, bl, ob, oF, cp, cq, od, oN, aa, ab, upd po f (nI (p + 1)), ou, yl, yn, ys, ye, yf)) : wpY_step post (nI cl, nI ml, nI fl, nI ol, nI cc, nI mc, nI oc, nI (f + 1), sT, rV, nI ot, qa, qc, mg, ms, mt, mB, co, ca, bl, ob, oF, cp, cq, od, oN, aa, ab, po, ou, yl, yn, ys, ye, yf) := by
  obtain ⟨ci, v12, v16, hlt, v192, eop, ek, epo⟩ := st_fc (co := co) (ca := ca) hf hb em hm ep hp
  refine ys_pre hf hb eb ho h8 ?_
  refine And.intro v12 (And.intro v16 (br_t hlt (And.intro v12 (And.intro v192 (nm_r (eop.trans hop) (And.intro v12 (And.intro v192 (nm_r (ek.trans hk) (And.intro v12 (And.intro v12 (nm_r epo ?_)))))))))))
  refine br_f (by decide) (br_f (by decide) (br_f (by decide) (br_f (by decide) (br_f (by decide) (br_f (by decide) (br_f (by decide) (br_f (by decide) (br_t (by decide) (pk_le 1 o (fun h => pk_eq ot 32 (fun w => Kf h w) (fun w => ?_)) (fun h => K0 h))))))))))
  rw [yT_e (by omega), nI_clamp (n := ot) (by omega), ci, nu_s1 h, nI_1 ot]
  exact And.intro v12 (nm_e (And.intro (vp_in_nI (by omega) (by decide)) (nm_e (nm_e (K h (by omega))))))
theorem ye_9 {post : SY → Prop} (hf : f < 12) (hb : b < 16) (eb : cp (f * 16) = nI b) (ho : oN f = nI o) (h8 : o ≤ 8) (em : bl b = nI m) (hm : m ≤ 12) (ep : po f = nI p) (hp : p < m) (hop : co (b * 12 + p) = nI 9) (hk : ca (b * 12 + p) = k) (K : 1 ≤ o → od (f * 8 + o - 1) = 0 → post (nI cl, nI ml, nI fl, nI ol, nI cc, nI mc, nI oc, nI (f + 1), sT, rV, nI ot, qa, qc, mg, ms, mt, mB, co, ca, bl, ob, oF, cp, cq, od, upd oN f (nI (o - 1)), aa, ab, upd (upd po f (nI (p + 1))) f (upd po f (nI (p + 1)) f + k), ou, yl, yn, ys, ye, yf)) (Kn : 1 ≤ o → ¬ od (f * 8 + o - 1) = 0 → post (nI cl, nI ml, nI fl, nI ol, nI cc, nI mc, nI oc, nI (f + 1), sT, rV, nI ot, qa, qc, mg, ms, mt, mB, co, ca, bl, ob, oF, cp, cq, od, upd oN f (nI (o - 1)), aa, ab, upd po f (nI (p + 1)), ou, yl, yn, ys, ye, yf)) (K0 : o < 1 → post (nI cl, nI ml, nI fl, nI ol, nI cc, nI mc, nI oc, nI 0, 3, rV, nI ot, qa, qc, mg, ms, mt, mB, co, ca, bl, ob, oF, cp, cq, od, oN, aa, ab, upd po f (nI (p + 1)), ou, yl, yn, ys, ye, yf)) : wpY_step post (nI cl, nI ml, nI fl, nI ol, nI cc, nI mc, nI oc, nI (f + 1), sT, rV, nI ot, qa, qc, mg, ms, mt, mB, co, ca, bl, ob, oF, cp, cq, od, oN, aa, ab, po, ou, yl, yn, ys, ye, yf) := by
  obtain ⟨ci, v12, v16, hlt, v192, eop, ek, epo⟩ := st_fc (co := co) (ca := ca) hf hb em hm ep hp
  refine ys_pre hf hb eb ho h8 ?_
  refine And.intro v12 (And.intro v16 (br_t hlt (And.intro v12 (And.intro v192 (nm_r (eop.trans hop) (And.intro v12 (And.intro v192 (nm_r (ek.trans hk) (And.intro v12 (And.intro v12 (nm_r epo ?_)))))))))))
  refine br_f (by decide) (br_f (by decide) (br_f (by decide) (br_f (by decide) (br_f (by decide) (br_f (by decide) (br_f (by decide) (br_f (by decide) (br_f (by decide) (pk_le 1 o (fun h => ?_) (fun h => K0 h))))))))))
  rw [yT_e (by omega), ci, nu_s1 h]
  exact And.intro v12 (nm_e (br_c (fun w => And.intro v12 (And.intro v12 (nm_e (K h w)))) (fun w => Kn h w)))
theorem ye_7 {post : SY → Prop} (hf : f < 12) (hb : b < 16) (eb : cp (f * 16) = nI b) (ho : oN f = nI o) (h8 : o ≤ 8) (em : bl b = nI m) (hm : m ≤ 12) (ep : po f = nI p) (hp : p < m) (hop : co (b * 12 + p) = nI 7) (hk : ca (b * 12 + p) = k) (hn : cq f = nI n) (h16 : n ≤ 16) (K1 : o < 8 → post (nI cl, nI ml, nI fl, nI ol, nI cc, nI mc, nI oc, nI (f + 1), sT, rV, nI ot, qa, qc, mg, ms, mt, mB, co, ca, bl, ob, oF, cp, cq, upd od (f * 8 + o) (if n < 2 then 0 else 1), upd oN f (nI (o + 1)), aa, ab, upd po f (nI (p + 1)), ou, yl, yn, ys, ye, yf)) (K0 : ¬ o < 8 → post (nI cl, nI ml, nI fl, nI ol, nI cc, nI mc, nI oc, nI 0, 3, rV, nI ot, qa, qc, mg, ms, mt, mB, co, ca, bl, ob, oF, cp, cq, od, oN, aa, ab, upd po f (nI (p + 1)), ou, yl, yn, ys, ye, yf)) : wpY_step post (nI cl, nI ml, nI fl, nI ol, nI cc, nI mc, nI oc, nI (f + 1), sT, rV, nI ot, qa, qc, mg, ms, mt, mB, co, ca, bl, ob, oF, cp, cq, od, oN, aa, ab, po, ou, yl, yn, ys, ye, yf) := by
  obtain ⟨ci, v12, v16, hlt, v192, eop, ek, epo⟩ := st_fc (co := co) (ca := ca) hf hb em hm ep hp
  refine ys_pre hf hb eb ho h8 ?_
  refine And.intro v12 (And.intro v16 (br_t hlt (And.intro v12 (And.intro v192 (nm_r (eop.trans hop) (And.intro v12 (And.intro v192 (nm_r (ek.trans hk) (And.intro v12 (And.intro v12 (nm_r epo ?_)))))))))))
  refine br_f (by decide) (br_f (by decide) (br_f (by decide) (br_f (by decide) (br_f (by decide) (br_f (by decide) (br_f (by decide) (br_t (by decide) (pk_eq o 8 (fun h => K0 (by omega)) (fun h => And.intro v12 (pk_lt n 2 (fun w => ?_) (fun w => ?_) (by rw [ci]; exact hn)))))))))))
  · rw [if_pos w] at K1
    exact yw_push hf ho (by omega) (K1 (by omega))
  · rw [if_neg (by omega)] at K1
    exact yw_push hf ho (by omega) (K1 (by omega))
theorem ye_6 {post : SY → Prop} (hf : f < 12) (hb : b < 16) (eb : cp (f * 16) = nI b) (ho : oN f = nI o) (h8 : o ≤ 8) (em : bl b = nI m) (hm : m ≤ 12) (ep : po f = nI p) (hp : p < m) (hop : co (b * 12 + p) = nI 6) (hk : ca (b * 12 + p) = k) (hfl : fl ≤ 12) (hfc : f + 1 ≤ fl) (hn : cq f = nI n) (h1 : 1 ≤ n) (h16 : n ≤ 16) (K6 : n < 2 → post (nI cl, nI ml, nI fl, nI ol, nI cc, nI mc, nI oc, nI 0, 6, rV, nI ot, qa, qc, mg, ms, mt, mB, co, ca, bl, ob, oF, cp, cq, od, oN, aa, ab, upd po f (nI (p + 1)), ou, yl, yn, ys, ye, yf)) (K3 : 2 ≤ n → ¬ o < 8 → post (nI cl, nI ml, nI fl, nI ol, nI cc, nI mc, nI oc, nI 0, 3, rV, nI ot, qa, qc, mg, ms, mt, mB, co, ca, bl, ob, oF, cp, cq, od, oN, aa, ab, upd po f (nI (p + 1)), ou, yl, yn, ys, ye, yf)) (K7 : 2 ≤ n → o < 8 → fl ≤ f + 1 → post (nI cl, nI ml, nI fl, nI ol, nI cc, nI mc, nI oc, nI 0, 7, rV, nI ot, qa, qc, mg, ms, mt, mB, co, ca, bl, ob, oF, cp, cq, od, oN, aa, ab, upd po f (nI (p + 1)), ou, yl, yn, ys, ye, yf)) (K : 2 ≤ n → o < 8 → f + 1 < fl → ∀ yf, post (nI cl, nI ml, nI fl, nI ol, nI cc, nI mc, nI oc, nI (f + 1 + 1), sT, rV, nI ot, qa, qc, mg, ms, mt, mB, co, ca, bl, ob, oF, ch_w cp ((f + 1) * 16) (ch_n cp f n), upd cq (f + 1) (nI (ch_n cp f n).length), od, upd oN (f + 1) 0, upd aa (f + 1) (aa f), upd ab (f + 1) (ab f), upd (upd po f (nI (p + 1))) (f + 1) 0, ou, yl, yn, ys, ye, yf)) : wpY_step post (nI cl, nI ml, nI fl, nI ol, nI cc, nI mc, nI oc, nI (f + 1), sT, rV, nI ot, qa, qc, mg, ms, mt, mB, co, ca, bl, ob, oF, cp, cq, od, oN, aa, ab, po, ou, yl, yn, ys, ye, yf) := by
  obtain ⟨ci, v12, v16, hlt, v192, eop, ek, epo⟩ := st_fc (co := co) (ca := ca) hf hb em hm ep hp
  refine ys_pre hf hb eb ho h8 ?_
  refine And.intro v12 (And.intro v16 (br_t hlt (And.intro v12 (And.intro v192 (nm_r (eop.trans hop) (And.intro v12 (And.intro v192 (nm_r (ek.trans hk) (And.intro v12 (And.intro v12 (nm_r epo ?_)))))))))))
  refine br_f (by decide) (br_f (by decide) (br_f (by decide) (br_f (by decide) (br_f (by decide) (br_f (by decide) (br_t (by decide) (And.intro v12 (pk_le 2 n (fun h => pk_eq o 8 (fun w => K3 h (by omega)) (fun w => pk_lt (f + 1) fl (fun w2 => ?_) (fun w2 => K7 h (by omega) w2))) (fun h => K6 h) rfl (by rw [ci]; exact hn)))))))))
  exact yw_584 (by omega) hn h1 h16 (K h (by omega) w2)
theorem ye_5 {post : SY → Prop} {g : Nat} (hf : f < 12) (hb : b < 16) (eb : cp (f * 16) = nI b) (ho : oN f = nI o) (h8 : o ≤ 8) (em : bl b = nI m) (hm : m ≤ 12) (ep : po f = nI p) (hp : p < m) (hop : co (b * 12 + p) = nI 5) (hk : ca (b * 12 + p) = nI g) (hN : rl_N cl ml fl ol cc mc oc ot (f + 1)) (hO : rl_O cc oc ob) (hC : rl_C cc P L pa pc li ll an qa qc) (hM : rl_M mc sl mb mg ms mt mB) (hg : g < 4) (K0 : o < 2 → post (nI cl, nI ml, nI fl, nI ol, nI cc, nI mc, nI oc, nI 0, 3, rV, nI ot, qa, qc, mg, ms, mt, mB, co, ca, bl, ob, oF, cp, cq, od, oN, aa, ab, upd po f (nI (p + 1)), ou, yl, yn, ys, ye, yf)) (K4 : 2 ≤ o → (¬ ((∃ h, h < oc ∧ od (f * 8 + o - 2) = nI h) ∧ (∃ h, h < oc ∧ od (f * 8 + o - 1) = nI h))) → post (nI cl, nI ml, nI fl, nI ol, nI cc, nI mc, nI oc, nI 0, 4, rV, nI ot, qa, qc, mg, ms, mt, mB, co, ca, bl, ob, oF, cp, cq, od, oN, aa, ab, upd po f (nI (p + 1)), ou, yl, yn, ys, ye, yf)) (K : ∀ x y c d yl yn ys ye yf, 2 ≤ o → x < oc → y < oc → od (f * 8 + o - 2) = nI x → od (f * 8 + o - 1) = nI y → ob x = nI c → ob y = nI d → c < cc → d < cc → ((ch_L mb g (L c) (L d)).length = 0 → post (nI cl, nI ml, nI fl, nI ol, nI cc, nI mc, nI oc, nI 0, 5, rV, nI ot, qa, qc, mg, ms, mt, mB, co, ca, bl, ob, oF, cp, cq, od, oN, aa, ab, upd po f (nI (p + 1)), ou, yl, yn, ys, ye, yf)) ∧ (0 < (ch_L mb g (L c) (L d)).length → fl ≤ f + 1 → post (nI cl, nI ml, nI fl, nI ol, nI cc, nI mc, nI oc, nI 0, 7, rV, nI ot, qa, qc, mg, ms, mt, mB, co, ca, bl, ob, oF, cp, cq, od, oN, aa, ab, upd po f (nI (p + 1)), ou, yl, yn, ys, ye, yf)) ∧ (0 < (ch_L mb g (L c) (L d)).length → f + 1 < fl → post (nI cl, nI ml, nI fl, nI ol, nI cc, nI mc, nI oc, nI (f + 1 + 1), sT, rV, nI ot, qa, qc, mg, ms, mt, mB, co, ca, bl, ob, oF, ch_w cp ((f + 1) * 16) (ch_L mb g (L c) (L d)), upd cq (f + 1) (nI (ch_L mb g (L c) (L d)).length), od, upd (upd oN f (nI (o - 2))) (f + 1) 0, upd aa (f + 1) (nI x), upd ab (f + 1) (nI y), upd (upd po f (nI (p + 1))) (f + 1) 0, ou, yl, yn, ys, ye, yf))) : wpY_step post (nI cl, nI ml, nI fl, nI ol, nI cc, nI mc, nI oc, nI (f + 1), sT, rV, nI ot, qa, qc, mg, ms, mt, mB, co, ca, bl, ob, oF, cp, cq, od, oN, aa, ab, po, ou, yl, yn, ys, ye, yf) := by
  obtain ⟨ci, v12, v16, hlt, v192, eop, ek, epo⟩ := st_fc (co := co) (ca := ca) hf hb em hm ep hp
  refine ys_pre hf hb eb ho h8 ?_
  refine And.intro v12 (And.intro v16 (br_t hlt (And.intro v12 (And.intro v192 (nm_r (eop.trans hop) (And.intro v12 (And.intro v192 (nm_r (ek.trans hk) (And.intro v12 (And.intro v12 (nm_r epo ?_)))))))))))
  obtain ⟨n1, n2, n3, n4, n5, n6, n7, n8, n9, n10, n11, n12⟩ := hN
  obtain ⟨hP, hT, hne, hx, hL, hy⟩ := hC
  refine br_f (by decide) (br_f (by decide) (br_f (by decide) (br_f (by decide) (br_f (by decide) (br_t (by decide) (pk_le 2 o (fun h => ?_) (fun h => K0 h)))))))
  rw [yT_e (by omega), yB_e (by omega)]
  rcases Classical.em (∃ h, h < oc ∧ od (f * 8 + o - 2) = nI h) with ⟨x, hx', ex⟩ | hn
  · rcases Classical.em (∃ h, h < oc ∧ od (f * 8 + o - 1) = nI h) with ⟨y, hy', ey⟩ | hn
    · obtain ⟨c, hc, ec⟩ := hO x hx'
      obtain ⟨d, hd, ed⟩ := hO y hy'
      rw [ex, ey]
      refine yw_O1 (by omega) hx' (br_f sm_10 (yw_O1 (by omega) hy' (br_f sm_10 (And.intro (vp_in_nI (by omega) (by decide)) (And.intro (vp_in_nI (by omega) (by decide)) ?_)))))
      rw [nI_clamp (n := x) (by omega), nI_clamp (n := y) (by omega), ec, ed]
      refine yw_chain (P := P) (L := L) (by omega) hP hT hy hM (by omega) hg hc hd (fun yl yn ys ye yf he => ?_)
      have len := ch_L_l (mb := mb) (g := g) (lc := L c) (ld := L d)
      obtain ⟨k5, k7, kk⟩ := K x y c d yl yn ys ye yf h hx' hy' ex ey ec ed hc hd
      refine pk_eq (ch_L mb g (L c) (L d)).length 0 (fun w => k5 w) (fun w => pk_lt (f + 1) fl (fun w2 => ?_) (fun w2 => k7 (by omega) w2))
      refine And.intro v12 (nm_r (e' := upd oN f (nI (o - 2))) (by rw [ci, nu_s2 h]) ?_)
      exact yw_nF (by omega) len he (kk (by omega) w2)
    · rw [ex]
      exact yw_O1 (by omega) hx' (br_f sm_10 (yw_O0 (by omega) hn (br_t rfl (K4 h (fun w => hn w.2)))))
  · exact yw_O0 (by omega) hn (br_t rfl (K4 h (fun w => hn w.1)))
theorem ye_ret {post : SY → Prop} (hf : f < 12) (hb : b < 16) (eb : cp (f * 16) = nI b) (ho : oN f = nI o) (h8 : o ≤ 8) (em : bl b = nI m) (hm : m ≤ 12) (ep : po f = nI p) (hp24 : p ≤ 24) (hp : m ≤ p)
    (K0 : f = 0 → post (nI cl, nI ml, nI fl, nI ol, nI cc, nI mc, nI oc, nI 0, 2, yT od f o, nI ot, qa, qc, mg, ms, mt, mB, co, ca, bl, ob, oF, cp, cq, od, oN, aa, ab, po, ou, yl, yn, ys, ye, yf)) (K1 : ∀ g r, f = g + 1 → oN g = nI r → r ≤ 7 → post (nI cl, nI ml, nI fl, nI ol, nI cc, nI mc, nI oc, nI (g + 1), sT, rV, nI ot, qa, qc, mg, ms, mt, mB, co, ca, bl, ob, oF, cp, cq, upd od (g * 8 + r) (yT od f o), upd oN g (nI (r + 1)), aa, ab, po, ou, yl, yn, ys, ye, yf)) (h7 : ∀ g, f = g + 1 → ∃ r, oN g = nI r ∧ r ≤ 7) : wpY_step post (nI cl, nI ml, nI fl, nI ol, nI cc, nI mc, nI oc, nI (f + 1), sT, rV, nI ot, qa, qc, mg, ms, mt, mB, co, ca, bl, ob, oF, cp, cq, od, oN, aa, ab, po, ou, yl, yn, ys, ye, yf) := by
  have ci : (nI f).toNatClampNeg = f := nI_clamp (by omega)
  have v12 : vp_in (nI f) 12 := vp_in_nI hf (by decide)
  refine ys_pre hf hb eb ho h8 (And.intro v12 (And.intro (vp_in_nI hb (by decide)) (br_f (by rw [ci, ep, nI_clamp (by omega), em]; exact nI_nlt hp (by omega)) (pk_le f 0 (fun h => ?_) (fun h => ?_)))))
  · have : f = 0 := by omega
    subst this
    exact K0 rfl
  · obtain ⟨g, rfl⟩ : ∃ g, f = g + 1 := ⟨f - 1, by omega⟩
    obtain ⟨r, hr, hr7⟩ := h7 g rfl
    rw [nI_pred g]
    exact yw_push (f := g) (by omega) hr (by omega) (K1 g r rfl hr hr7)
theorem xe_ret {post : SX → Prop} (hf : f < 12) (hb : b < 16) (eb : cp (f * 16) = nI b) (ho : oN f = nI o) (h8 : o ≤ 8) (em : bl b = nI m) (hm : m ≤ 12) (ep : po f = nI p) (hp24 : p ≤ 24) (hp : m ≤ p)
    (K0 : f = 0 → post (nI cl, nI ml, nI fl, nI ol, nI cc, sC, nI mc, nI oc, 2, yT od f o, nI ot, nI 0, pa, pc, li, ll, an, sg, mi, mh, me, tc, mb, ck, cn, cb, bl, co, ca, ob, oF, ou, cp, cq, aa, ab, po, od, oN)) (K1 : ∀ g r, f = g + 1 → oN g = nI r → r ≤ 7 → post (nI cl, nI ml, nI fl, nI ol, nI cc, sC, nI mc, nI oc, sT, rV, nI ot, nI (g + 1), pa, pc, li, ll, an, sg, mi, mh, me, tc, mb, ck, cn, cb, bl, co, ca, ob, oF, ou, cp, cq, aa, ab, po, upd od (g * 8 + r) (yT od f o), upd oN g (nI (r + 1)))) (h7 : ∀ g, f = g + 1 → ∃ r, oN g = nI r ∧ r ≤ 7) : wpX_step post (nI cl, nI ml, nI fl, nI ol, nI cc, sC, nI mc, nI oc, sT, rV, nI ot, nI (f + 1), pa, pc, li, ll, an, sg, mi, mh, me, tc, mb, ck, cn, cb, bl, co, ca, ob, oF, ou, cp, cq, aa, ab, po, od, oN) := by
  have ci : (nI f).toNatClampNeg = f := nI_clamp (by omega)
  have v12 : vp_in (nI f) 12 := vp_in_nI hf (by decide)
  have e16 : nI f * 16 = nI (f * 16) := nu_m16 f
  have tl : ∀ (Q : SX → Prop) z, z = yT od f o → (∀ u, post u → Q u) → wX_returnFrom_19 Q (nI f) z (nI cl) (nI ml) (nI fl) (nI ol) (nI cc) sC (nI mc) (nI oc) sT rV (nI ot) (nI (f + 1)) pa pc li ll an sg mi mh me tc mb ck cn cb bl co ca ob oF ou cp cq aa ab po od oN := fun Q z ez hQ => by
    subst ez
    refine pk_le f 0 (fun h => ?_) (fun h => ?_)
    · have : f = 0 := by omega
      subst this
      exact hQ _ (K0 rfl)
    · obtain ⟨g, rfl⟩ : ∃ g, f = g + 1 := ⟨f - 1, by omega⟩
      obtain ⟨r, hr, hr7⟩ := h7 g rfl
      rw [nI_pred g]
      exact xw_push (f := g) (fc := g + 1) (by omega) hr (by omega) (hQ _ (K1 g r rfl hr hr7))
  refine nm_r (nI_pred f) (And.intro (by rw [e16]; exact vp_in_nI (by omega) (by decide)) (nm_r (e' := nI b) (by rw [e16, nI_clamp (by omega)]; exact eb) (And.intro v12 (nm_r (e' := nI p) (by rw [ci]; exact ep) (And.intro (vp_in_nI hb (by decide)) (br_f (by rw [nI_clamp (by omega), em]; exact nI_nlt hp (by omega)) ?_))))))
  refine And.intro v12 (pk_le o 0 (fun h => ?_) (fun h => ?_) (by rw [ci]; exact ho))
  · exact tl _ 0 (by unfold yT; rw [if_neg (by omega)]) (fun u hu => hu)
  · refine xw_top (dd := 0) hf ho h8 (by omega) ?_
    exact tl _ _ (by rw [yT_e h]; rfl) (fun u hu => hu)
theorem xs_pre {post : SX → Prop} {j : Nat} (hf : f < 12) (hb : b < 16) (eb : cp (f * 16) = nI b) (em : bl b = nI m) (hm : m ≤ 12) (ep : po f = nI p) (hp : p < m) (hop : co (b * 12 + p) = nI j) (hk : ca (b * 12 + p) = k)
    (K : ∀ Q : SX → Prop, (∀ u, post u → Q u) → wpX_execute Q (nI cl, nI ml, nI fl, nI ol, nI cc, sC, nI mc, nI oc, sT, rV, nI ot, nI (f + 1), pa, pc, li, ll, an, sg, mi, mh, me, tc, mb, ck, cn, cb, bl, co, ca, ob, oF, ou, cp, cq, aa, ab, upd po f (nI (p + 1)), od, oN) (nI f) (nI j) k) : wpX_step post (nI cl, nI ml, nI fl, nI ol, nI cc, sC, nI mc, nI oc, sT, rV, nI ot, nI (f + 1), pa, pc, li, ll, an, sg, mi, mh, me, tc, mb, ck, cn, cb, bl, co, ca, ob, oF, ou, cp, cq, aa, ab, po, od, oN) := by
  have ci : (nI f).toNatClampNeg = f := nI_clamp (by omega)
  have v12 : vp_in (nI f) 12 := vp_in_nI hf (by decide)
  have e16 : nI f * 16 = nI (f * 16) := nu_m16 f
  have e12 : nI b * 12 + nI p = nI (b * 12 + p) := by rw [nu_m12, nI_add]
  have v192 : vp_in (nI b * 12 + nI p) 192 := by rw [e12]; exact vp_in_nI (by omega) (by decide)
  have o1 : co (nI b * 12 + nI p).toNatClampNeg = nI j := by rw [e12, nI_clamp (by omega)]; exact hop
  have o2 : ca (nI b * 12 + nI p).toNatClampNeg = k := by rw [e12, nI_clamp (by omega)]; exact hk
  refine nm_r (nI_pred f) (And.intro (by rw [e16]; exact vp_in_nI (by omega) (by decide)) (nm_r (e' := nI b) (by rw [e16, nI_clamp (by omega)]; exact eb) (And.intro v12 (nm_r (e' := nI p) (by rw [ci]; exact ep) (And.intro (vp_in_nI hb (by decide)) (br_t (by rw [nI_clamp (by omega), em]; exact nI_lt hp (by omega)) (And.intro v12 (nm_r (e' := upd po f (nI (p + 1))) (by rw [ci, nI_1]) (And.intro v192 (And.intro v192 ?_))))))))))
  rw [o1, o2]
  exact K _ (fun u hu => hu)
end STY
end
section
section STP
variable {cl ml fl ol cc mc oc ot fc : Nat} {sC sT rV : Int32} {P L : Nat → List Nat} {sl : Nat → Nat} {pa pc li ll an sg mi mh me tc mb ck cn cb bl co ca ob oF ou cp cq aa ab po od oN qa qc mg ms mt mB yl yn ys ye yf : Nat → Int32} {f o n b m p : Nat} {k : Int32}
theorem st_u {a a' : Nat} {z : Int32} (h : z = nI a) (h' : z = nI a') (ha : a < 2 ^ 31) (ha' : a' < 2 ^ 31) : a' = a := by
  rw [h] at h'
  exact ((nI_eq ha ha').mp h').symm
theorem st_0 (hf : f < 12) (hb : b < 16) (eb : cp (f * 16) = nI b) (ho : oN f = nI o) (h8 : o ≤ 8) (em : bl b = nI m) (hm : m ≤ 12) (ep : po f = nI p) (hp : p < m) (hN : rl_N cl ml fl ol cc mc oc ot (f + 1)) (hF : rl_F (f + 1) 1 cp cq po oN) (hop : co (b * 12 + p) = nI 0) (hk : ca (b * 12 + p) = k) : ∃ (sT' rV' : Int32) (ot' fc' : Nat) (oF' ou' cp' cq' aa' ab' po' od' oN' : Nat → Int32), (ot' ≤ 32 ∧ fc' ≤ fl ∧ rl_F fc' sT' cp' cq' po' oN') ∧ (∀ (ck cn cb : Nat → Int32) (post : SX → Prop), rl_K cc L mb ck cn cb → (∀ ck cn cb, rl_K cc L mb ck cn cb → post (nI cl, nI ml, nI fl, nI ol, nI cc, sC, nI mc, nI oc, sT', rV', nI ot', nI fc', pa, pc, li, ll, an, sg, mi, mh, me, tc, mb, ck, cn, cb, bl, co, ca, ob, oF', ou', cp', cq', aa', ab', po', od', oN')) → wpX_step post (nI cl, nI ml, nI fl, nI ol, nI cc, sC, nI mc, nI oc, 1, rV, nI ot, nI (f + 1), pa, pc, li, ll, an, sg, mi, mh, me, tc, mb, ck, cn, cb, bl, co, ca, ob, oF, ou, cp, cq, aa, ab, po, od, oN)) ∧ (∀ (yl yn ys ye yf : Nat → Int32) (post : SY → Prop), (∀ yl yn ys ye yf, post (nI cl, nI ml, nI fl, nI ol, nI cc, nI mc, nI oc, nI fc', sT', rV', nI ot', qa, qc, mg, ms, mt, mB, co, ca, bl, ob, oF', cp', cq', od', oN', aa', ab', po', ou', yl, yn, ys, ye, yf)) → wpY_step post (nI cl, nI ml, nI fl, nI ol, nI cc, nI mc, nI oc, nI (f + 1), 1, rV, nI ot, qa, qc, mg, ms, mt, mB, co, ca, bl, ob, oF, cp, cq, od, oN, aa, ab, po, ou, yl, yn, ys, ye, yf)) := by
  have hN' := hN
  obtain ⟨n1, n2, n3, n4, n5, n6, n7, n8, n9, n10, n11, n12⟩ := hN
  rcases Nat.lt_or_ge o 8 with h | h
  · refine ⟨1, rV, ot, f + 1, oF, ou, cp, cq, aa, ab, upd po f (nI (p + 1)), upd od (f * 8 + o) k, upd oN f (nI (o + 1)), ⟨n11, n12, rl_F_set (p := p + 1) (o := o + 1) hF (fun r hr => ⟨pk_un (by omega), pk_un (by omega)⟩) (by omega) (by omega) pk_us pk_us⟩, fun ck cn cb post hK K => xs_pre hf hb eb em hm ep hp hop hk (fun Q hQ => xe_0 hf ho h8 (fun _ => hQ _ (K _ _ _ hK)) (fun w => absurd h w)), fun yl yn ys ye yf post K => ye_0 hf hb eb ho h8 em hm ep hp hop hk  (fun _ => K _ _ _ _ _) (fun w => absurd h w)⟩
  · refine ⟨3, rV, ot, 0, oF, ou, cp, cq, aa, ab, upd po f (nI (p + 1)), od, oN, ⟨n11, by omega, rl_F_trap (by decide)⟩, fun ck cn cb post hK K => xs_pre hf hb eb em hm ep hp hop hk (fun Q hQ => xe_0 hf ho h8 (fun w => absurd w (by omega)) (fun _ => hQ _ (K _ _ _ hK))), fun yl yn ys ye yf post K => ye_0 hf hb eb ho h8 em hm ep hp hop hk  (fun w => absurd w (by omega)) (fun _ => K _ _ _ _ _)⟩
theorem st_1 (hf : f < 12) (hb : b < 16) (eb : cp (f * 16) = nI b) (ho : oN f = nI o) (h8 : o ≤ 8) (em : bl b = nI m) (hm : m ≤ 12) (ep : po f = nI p) (hp : p < m) (hN : rl_N cl ml fl ol cc mc oc ot (f + 1)) (hF : rl_F (f + 1) 1 cp cq po oN) (hop : co (b * 12 + p) = nI 1) (hk : ca (b * 12 + p) = k) : ∃ (sT' rV' : Int32) (ot' fc' : Nat) (oF' ou' cp' cq' aa' ab' po' od' oN' : Nat → Int32), (ot' ≤ 32 ∧ fc' ≤ fl ∧ rl_F fc' sT' cp' cq' po' oN') ∧ (∀ (ck cn cb : Nat → Int32) (post : SX → Prop), rl_K cc L mb ck cn cb → (∀ ck cn cb, rl_K cc L mb ck cn cb → post (nI cl, nI ml, nI fl, nI ol, nI cc, sC, nI mc, nI oc, sT', rV', nI ot', nI fc', pa, pc, li, ll, an, sg, mi, mh, me, tc, mb, ck, cn, cb, bl, co, ca, ob, oF', ou', cp', cq', aa', ab', po', od', oN')) → wpX_step post (nI cl, nI ml, nI fl, nI ol, nI cc, sC, nI mc, nI oc, 1, rV, nI ot, nI (f + 1), pa, pc, li, ll, an, sg, mi, mh, me, tc, mb, ck, cn, cb, bl, co, ca, ob, oF, ou, cp, cq, aa, ab, po, od, oN)) ∧ (∀ (yl yn ys ye yf : Nat → Int32) (post : SY → Prop), (∀ yl yn ys ye yf, post (nI cl, nI ml, nI fl, nI ol, nI cc, nI mc, nI oc, nI fc', sT', rV', nI ot', qa, qc, mg, ms, mt, mB, co, ca, bl, ob, oF', cp', cq', od', oN', aa', ab', po', ou', yl, yn, ys, ye, yf)) → wpY_step post (nI cl, nI ml, nI fl, nI ol, nI cc, nI mc, nI oc, nI (f + 1), 1, rV, nI ot, qa, qc, mg, ms, mt, mB, co, ca, bl, ob, oF, cp, cq, od, oN, aa, ab, po, ou, yl, yn, ys, ye, yf)) := by
  have hN' := hN
  obtain ⟨n1, n2, n3, n4, n5, n6, n7, n8, n9, n10, n11, n12⟩ := hN
  rcases Nat.lt_or_ge o 8 with h | h
  · refine ⟨1, rV, ot, f + 1, oF, ou, cp, cq, aa, ab, upd po f (nI (p + 1)), upd od (f * 8 + o) (if k = 0 then aa f else ab f), upd oN f (nI (o + 1)), ⟨n11, n12, rl_F_set (p := p + 1) (o := o + 1) hF (fun r hr => ⟨pk_un (by omega), pk_un (by omega)⟩) (by omega) (by omega) pk_us pk_us⟩, fun ck cn cb post hK K => xs_pre hf hb eb em hm ep hp hop hk (fun Q hQ => xe_1 hf ho h8 (fun _ => hQ _ (K _ _ _ hK)) (fun w => absurd h w)), fun yl yn ys ye yf post K => ye_1 hf hb eb ho h8 em hm ep hp hop hk  (fun _ => K _ _ _ _ _) (fun w => absurd h w)⟩
  · refine ⟨3, rV, ot, 0, oF, ou, cp, cq, aa, ab, upd po f (nI (p + 1)), od, oN, ⟨n11, by omega, rl_F_trap (by decide)⟩, fun ck cn cb post hK K => xs_pre hf hb eb em hm ep hp hop hk (fun Q hQ => xe_1 hf ho h8 (fun w => absurd w (by omega)) (fun _ => hQ _ (K _ _ _ hK))), fun yl yn ys ye yf post K => ye_1 hf hb eb ho h8 em hm ep hp hop hk  (fun w => absurd w (by omega)) (fun _ => K _ _ _ _ _)⟩
theorem st_7 (hf : f < 12) (hb : b < 16) (eb : cp (f * 16) = nI b) (ho : oN f = nI o) (h8 : o ≤ 8) (em : bl b = nI m) (hm : m ≤ 12) (ep : po f = nI p) (hp : p < m) (hN : rl_N cl ml fl ol cc mc oc ot (f + 1)) (hF : rl_F (f + 1) 1 cp cq po oN) (hn : cq f = nI n) (h16 : n ≤ 16) (hop : co (b * 12 + p) = nI 7) (hk : ca (b * 12 + p) = k) : ∃ (sT' rV' : Int32) (ot' fc' : Nat) (oF' ou' cp' cq' aa' ab' po' od' oN' : Nat → Int32), (ot' ≤ 32 ∧ fc' ≤ fl ∧ rl_F fc' sT' cp' cq' po' oN') ∧ (∀ (ck cn cb : Nat → Int32) (post : SX → Prop), rl_K cc L mb ck cn cb → (∀ ck cn cb, rl_K cc L mb ck cn cb → post (nI cl, nI ml, nI fl, nI ol, nI cc, sC, nI mc, nI oc, sT', rV', nI ot', nI fc', pa, pc, li, ll, an, sg, mi, mh, me, tc, mb, ck, cn, cb, bl, co, ca, ob, oF', ou', cp', cq', aa', ab', po', od', oN')) → wpX_step post (nI cl, nI ml, nI fl, nI ol, nI cc, sC, nI mc, nI oc, 1, rV, nI ot, nI (f + 1), pa, pc, li, ll, an, sg, mi, mh, me, tc, mb, ck, cn, cb, bl, co, ca, ob, oF, ou, cp, cq, aa, ab, po, od, oN)) ∧ (∀ (yl yn ys ye yf : Nat → Int32) (post : SY → Prop), (∀ yl yn ys ye yf, post (nI cl, nI ml, nI fl, nI ol, nI cc, nI mc, nI oc, nI fc', sT', rV', nI ot', qa, qc, mg, ms, mt, mB, co, ca, bl, ob, oF', cp', cq', od', oN', aa', ab', po', ou', yl, yn, ys, ye, yf)) → wpY_step post (nI cl, nI ml, nI fl, nI ol, nI cc, nI mc, nI oc, nI (f + 1), 1, rV, nI ot, qa, qc, mg, ms, mt, mB, co, ca, bl, ob, oF, cp, cq, od, oN, aa, ab, po, ou, yl, yn, ys, ye, yf)) := by
  have hN' := hN
  obtain ⟨n1, n2, n3, n4, n5, n6, n7, n8, n9, n10, n11, n12⟩ := hN
  rcases Nat.lt_or_ge o 8 with h | h
  · refine ⟨1, rV, ot, f + 1, oF, ou, cp, cq, aa, ab, upd po f (nI (p + 1)), upd od (f * 8 + o) (if n < 2 then 0 else 1), upd oN f (nI (o + 1)), ⟨n11, n12, rl_F_set (p := p + 1) (o := o + 1) hF (fun r hr => ⟨pk_un (by omega), pk_un (by omega)⟩) (by omega) (by omega) pk_us pk_us⟩, fun ck cn cb post hK K => xs_pre hf hb eb em hm ep hp hop hk (fun Q hQ => xe_7 hf ho h8 hn h16 (fun _ => hQ _ (K _ _ _ hK)) (fun w => absurd h w)), fun yl yn ys ye yf post K => ye_7 hf hb eb ho h8 em hm ep hp hop hk hn h16 (fun _ => K _ _ _ _ _) (fun w => absurd h w)⟩
  · refine ⟨3, rV, ot, 0, oF, ou, cp, cq, aa, ab, upd po f (nI (p + 1)), od, oN, ⟨n11, by omega, rl_F_trap (by decide)⟩, fun ck cn cb post hK K => xs_pre hf hb eb em hm ep hp hop hk (fun Q hQ => xe_7 hf ho h8 hn h16 (fun w => absurd w (by omega)) (fun _ => hQ _ (K _ _ _ hK))), fun yl yn ys ye yf post K => ye_7 hf hb eb ho h8 em hm ep hp hop hk hn h16 (fun w => absurd w (by omega)) (fun _ => K _ _ _ _ _)⟩
theorem st_2 (hf : f < 12) (hb : b < 16) (eb : cp (f * 16) = nI b) (ho : oN f = nI o) (h8 : o ≤ 8) (em : bl b = nI m) (hm : m ≤ 12) (ep : po f = nI p) (hp : p < m) (hN : rl_N cl ml fl ol cc mc oc ot (f + 1)) (hF : rl_F (f + 1) 1 cp cq po oN) (hop : co (b * 12 + p) = nI 2) (hk : ca (b * 12 + p) = k) : ∃ (sT' rV' : Int32) (ot' fc' : Nat) (oF' ou' cp' cq' aa' ab' po' od' oN' : Nat → Int32), (ot' ≤ 32 ∧ fc' ≤ fl ∧ rl_F fc' sT' cp' cq' po' oN') ∧ (∀ (ck cn cb : Nat → Int32) (post : SX → Prop), rl_K cc L mb ck cn cb → (∀ ck cn cb, rl_K cc L mb ck cn cb → post (nI cl, nI ml, nI fl, nI ol, nI cc, sC, nI mc, nI oc, sT', rV', nI ot', nI fc', pa, pc, li, ll, an, sg, mi, mh, me, tc, mb, ck, cn, cb, bl, co, ca, ob, oF', ou', cp', cq', aa', ab', po', od', oN')) → wpX_step post (nI cl, nI ml, nI fl, nI ol, nI cc, sC, nI mc, nI oc, 1, rV, nI ot, nI (f + 1), pa, pc, li, ll, an, sg, mi, mh, me, tc, mb, ck, cn, cb, bl, co, ca, ob, oF, ou, cp, cq, aa, ab, po, od, oN)) ∧ (∀ (yl yn ys ye yf : Nat → Int32) (post : SY → Prop), (∀ yl yn ys ye yf, post (nI cl, nI ml, nI fl, nI ol, nI cc, nI mc, nI oc, nI fc', sT', rV', nI ot', qa, qc, mg, ms, mt, mB, co, ca, bl, ob, oF', cp', cq', od', oN', aa', ab', po', ou', yl, yn, ys, ye, yf)) → wpY_step post (nI cl, nI ml, nI fl, nI ol, nI cc, nI mc, nI oc, nI (f + 1), 1, rV, nI ot, qa, qc, mg, ms, mt, mB, co, ca, bl, ob, oF, cp, cq, od, oN, aa, ab, po, ou, yl, yn, ys, ye, yf)) := by
  have hN' := hN
  obtain ⟨n1, n2, n3, n4, n5, n6, n7, n8, n9, n10, n11, n12⟩ := hN
  rcases Nat.lt_or_ge o 2 with h | h
  · refine ⟨3, rV, ot, 0, oF, ou, cp, cq, aa, ab, upd po f (nI (p + 1)), od, oN, ⟨n11, by omega, rl_F_trap (by decide)⟩, fun ck cn cb post hK K => xs_pre hf hb eb em hm ep hp hop hk (fun Q hQ => xe_2 hf ho h8 (fun w => absurd w (by omega)) (fun _ => hQ _ (K _ _ _ hK))), fun yl yn ys ye yf post K => ye_2 hf hb eb ho h8 em hm ep hp hop hk (fun w => absurd w (by omega)) (fun _ => K _ _ _ _ _)⟩
  · refine ⟨1, rV, ot, f + 1, oF, ou, cp, cq, aa, ab, upd po f (nI (p + 1)), upd od (f * 8 + (o - 2)) (od (f * 8 + o - 2) + od (f * 8 + o - 1)), upd oN f (nI (o - 1)), ⟨n11, n12, rl_F_set (p := p + 1) (o := o - 1) hF (fun r hr => ⟨pk_un (by omega), pk_un (by omega)⟩) (by omega) (by omega) pk_us pk_us⟩, fun ck cn cb post hK K => xs_pre hf hb eb em hm ep hp hop hk (fun Q hQ => xe_2 hf ho h8 (fun _ => hQ _ (K _ _ _ hK)) (fun w => absurd w (by omega))), fun yl yn ys ye yf post K => ye_2 hf hb eb ho h8 em hm ep hp hop hk (fun _ => K _ _ _ _ _) (fun w => absurd w (by omega))⟩
theorem st_3 (hf : f < 12) (hb : b < 16) (eb : cp (f * 16) = nI b) (ho : oN f = nI o) (h8 : o ≤ 8) (em : bl b = nI m) (hm : m ≤ 12) (ep : po f = nI p) (hp : p < m) (hN : rl_N cl ml fl ol cc mc oc ot (f + 1)) (hF : rl_F (f + 1) 1 cp cq po oN) (hop : co (b * 12 + p) = nI 3) (hk : ca (b * 12 + p) = k) : ∃ (sT' rV' : Int32) (ot' fc' : Nat) (oF' ou' cp' cq' aa' ab' po' od' oN' : Nat → Int32), (ot' ≤ 32 ∧ fc' ≤ fl ∧ rl_F fc' sT' cp' cq' po' oN') ∧ (∀ (ck cn cb : Nat → Int32) (post : SX → Prop), rl_K cc L mb ck cn cb → (∀ ck cn cb, rl_K cc L mb ck cn cb → post (nI cl, nI ml, nI fl, nI ol, nI cc, sC, nI mc, nI oc, sT', rV', nI ot', nI fc', pa, pc, li, ll, an, sg, mi, mh, me, tc, mb, ck, cn, cb, bl, co, ca, ob, oF', ou', cp', cq', aa', ab', po', od', oN')) → wpX_step post (nI cl, nI ml, nI fl, nI ol, nI cc, sC, nI mc, nI oc, 1, rV, nI ot, nI (f + 1), pa, pc, li, ll, an, sg, mi, mh, me, tc, mb, ck, cn, cb, bl, co, ca, ob, oF, ou, cp, cq, aa, ab, po, od, oN)) ∧ (∀ (yl yn ys ye yf : Nat → Int32) (post : SY → Prop), (∀ yl yn ys ye yf, post (nI cl, nI ml, nI fl, nI ol, nI cc, nI mc, nI oc, nI fc', sT', rV', nI ot', qa, qc, mg, ms, mt, mB, co, ca, bl, ob, oF', cp', cq', od', oN', aa', ab', po', ou', yl, yn, ys, ye, yf)) → wpY_step post (nI cl, nI ml, nI fl, nI ol, nI cc, nI mc, nI oc, nI (f + 1), 1, rV, nI ot, qa, qc, mg, ms, mt, mB, co, ca, bl, ob, oF, cp, cq, od, oN, aa, ab, po, ou, yl, yn, ys, ye, yf)) := by
  have hN' := hN
  obtain ⟨n1, n2, n3, n4, n5, n6, n7, n8, n9, n10, n11, n12⟩ := hN
  rcases Nat.lt_or_ge o 1 with h | h
  · refine ⟨3, rV, ot, 0, oF, ou, cp, cq, aa, ab, upd po f (nI (p + 1)), od, oN, ⟨n11, by omega, rl_F_trap (by decide)⟩, fun ck cn cb post hK K => xs_pre hf hb eb em hm ep hp hop hk (fun Q hQ => xe_3 hf (by omega) ho h8 (fun _ w => absurd w (by omega)) (fun _ => hQ _ (K _ _ _ hK)) (fun w => absurd w (by omega))), fun yl yn ys ye yf post K => ye_3 hf hb eb ho h8 em hm ep hp hop hk (by omega) (fun _ w => absurd w (by omega)) (fun _ => K _ _ _ _ _) (fun w => absurd w (by omega))⟩
  · rcases Classical.em (∃ h, h < oc ∧ od (f * 8 + o - 1) = nI h) with ⟨q, hq, e⟩ | hn
    · refine ⟨1, rV, ot, f + 1, oF, ou, cp, cq, aa, ab, upd po f (nI (p + 1)), upd od (f * 8 + o - 1) (oF q), oN, ⟨n11, n12, rl_F_set (p := p + 1) (o := o) hF (fun r hr => ⟨pk_un (by omega), rfl⟩) (by omega) (by omega) pk_us ho⟩, fun ck cn cb post hK K => xs_pre hf hb eb em hm ep hp hop hk (fun Q hQ => xe_3 hf (by omega) ho h8 (fun q' _ hq' e' => by have e2 := st_u e e' (by omega) (by omega); subst e2; exact hQ _ (K _ _ _ hK)) (fun w => absurd w (by omega)) (fun _ w => absurd ⟨q, hq, e⟩ w)), fun yl yn ys ye yf post K => ye_3 hf hb eb ho h8 em hm ep hp hop hk (by omega) (fun q' _ hq' e' => by have e2 := st_u e e' (by omega) (by omega); subst e2; exact K _ _ _ _ _) (fun w => absurd w (by omega)) (fun _ w => absurd ⟨q, hq, e⟩ w)⟩
    · refine ⟨4, rV, ot, 0, oF, ou, cp, cq, aa, ab, upd po f (nI (p + 1)), od, oN, ⟨n11, by omega, rl_F_trap (by decide)⟩, fun ck cn cb post hK K => xs_pre hf hb eb em hm ep hp hop hk (fun Q hQ => xe_3 hf (by omega) ho h8 (fun q' _ hq' e' => absurd ⟨q', hq', e'⟩ hn) (fun w => absurd w (by omega)) (fun _ _ => hQ _ (K _ _ _ hK))), fun yl yn ys ye yf post K => ye_3 hf hb eb ho h8 em hm ep hp hop hk (by omega) (fun q' _ hq' e' => absurd ⟨q', hq', e'⟩ hn) (fun w => absurd w (by omega)) (fun _ _ => K _ _ _ _ _)⟩
theorem st_4 (hf : f < 12) (hb : b < 16) (eb : cp (f * 16) = nI b) (ho : oN f = nI o) (h8 : o ≤ 8) (em : bl b = nI m) (hm : m ≤ 12) (ep : po f = nI p) (hp : p < m) (hN : rl_N cl ml fl ol cc mc oc ot (f + 1)) (hF : rl_F (f + 1) 1 cp cq po oN) (hop : co (b * 12 + p) = nI 4) (hk : ca (b * 12 + p) = k) : ∃ (sT' rV' : Int32) (ot' fc' : Nat) (oF' ou' cp' cq' aa' ab' po' od' oN' : Nat → Int32), (ot' ≤ 32 ∧ fc' ≤ fl ∧ rl_F fc' sT' cp' cq' po' oN') ∧ (∀ (ck cn cb : Nat → Int32) (post : SX → Prop), rl_K cc L mb ck cn cb → (∀ ck cn cb, rl_K cc L mb ck cn cb → post (nI cl, nI ml, nI fl, nI ol, nI cc, sC, nI mc, nI oc, sT', rV', nI ot', nI fc', pa, pc, li, ll, an, sg, mi, mh, me, tc, mb, ck, cn, cb, bl, co, ca, ob, oF', ou', cp', cq', aa', ab', po', od', oN')) → wpX_step post (nI cl, nI ml, nI fl, nI ol, nI cc, sC, nI mc, nI oc, 1, rV, nI ot, nI (f + 1), pa, pc, li, ll, an, sg, mi, mh, me, tc, mb, ck, cn, cb, bl, co, ca, ob, oF, ou, cp, cq, aa, ab, po, od, oN)) ∧ (∀ (yl yn ys ye yf : Nat → Int32) (post : SY → Prop), (∀ yl yn ys ye yf, post (nI cl, nI ml, nI fl, nI ol, nI cc, nI mc, nI oc, nI fc', sT', rV', nI ot', qa, qc, mg, ms, mt, mB, co, ca, bl, ob, oF', cp', cq', od', oN', aa', ab', po', ou', yl, yn, ys, ye, yf)) → wpY_step post (nI cl, nI ml, nI fl, nI ol, nI cc, nI mc, nI oc, nI (f + 1), 1, rV, nI ot, qa, qc, mg, ms, mt, mB, co, ca, bl, ob, oF, cp, cq, od, oN, aa, ab, po, ou, yl, yn, ys, ye, yf)) := by
  have hN' := hN
  obtain ⟨n1, n2, n3, n4, n5, n6, n7, n8, n9, n10, n11, n12⟩ := hN
  rcases Nat.lt_or_ge o 2 with h | h
  · refine ⟨3, rV, ot, 0, oF, ou, cp, cq, aa, ab, upd po f (nI (p + 1)), od, oN, ⟨n11, by omega, rl_F_trap (by decide)⟩, fun ck cn cb post hK K => xs_pre hf hb eb em hm ep hp hop hk (fun Q hQ => xe_4 hf (by omega) ho h8 (fun _ w => absurd w (by omega)) (fun _ => hQ _ (K _ _ _ hK)) (fun w => absurd w (by omega))), fun yl yn ys ye yf post K => ye_4 hf hb eb ho h8 em hm ep hp hop hk (by omega) (fun _ w => absurd w (by omega)) (fun _ => K _ _ _ _ _) (fun w => absurd w (by omega))⟩
  · rcases Classical.em (∃ h, h < oc ∧ od (f * 8 + o - 2) = nI h) with ⟨q, hq, e⟩ | hn
    · refine ⟨1, rV, ot, f + 1, upd oF q (od (f * 8 + o - 1)), ou, cp, cq, aa, ab, upd po f (nI (p + 1)), od, upd oN f (nI (o - 2)), ⟨n11, n12, rl_F_set (p := p + 1) (o := o - 2) hF (fun r hr => ⟨pk_un (by omega), pk_un (by omega)⟩) (by omega) (by omega) pk_us pk_us⟩, fun ck cn cb post hK K => xs_pre hf hb eb em hm ep hp hop hk (fun Q hQ => xe_4 hf (by omega) ho h8 (fun q' _ hq' e' => by have e2 := st_u e e' (by omega) (by omega); subst e2; exact hQ _ (K _ _ _ hK)) (fun w => absurd w (by omega)) (fun _ w => absurd ⟨q, hq, e⟩ w)), fun yl yn ys ye yf post K => ye_4 hf hb eb ho h8 em hm ep hp hop hk (by omega) (fun q' _ hq' e' => by have e2 := st_u e e' (by omega) (by omega); subst e2; exact K _ _ _ _ _) (fun w => absurd w (by omega)) (fun _ w => absurd ⟨q, hq, e⟩ w)⟩
    · refine ⟨4, rV, ot, 0, oF, ou, cp, cq, aa, ab, upd po f (nI (p + 1)), od, oN, ⟨n11, by omega, rl_F_trap (by decide)⟩, fun ck cn cb post hK K => xs_pre hf hb eb em hm ep hp hop hk (fun Q hQ => xe_4 hf (by omega) ho h8 (fun q' _ hq' e' => absurd ⟨q', hq', e'⟩ hn) (fun w => absurd w (by omega)) (fun _ _ => hQ _ (K _ _ _ hK))), fun yl yn ys ye yf post K => ye_4 hf hb eb ho h8 em hm ep hp hop hk (by omega) (fun q' _ hq' e' => absurd ⟨q', hq', e'⟩ hn) (fun w => absurd w (by omega)) (fun _ _ => K _ _ _ _ _)⟩
theorem st_8 (hf : f < 12) (hb : b < 16) (eb : cp (f * 16) = nI b) (ho : oN f = nI o) (h8 : o ≤ 8) (em : bl b = nI m) (hm : m ≤ 12) (ep : po f = nI p) (hp : p < m) (hN : rl_N cl ml fl ol cc mc oc ot (f + 1)) (hF : rl_F (f + 1) 1 cp cq po oN) (hop : co (b * 12 + p) = nI 8) (hk : ca (b * 12 + p) = k) : ∃ (sT' rV' : Int32) (ot' fc' : Nat) (oF' ou' cp' cq' aa' ab' po' od' oN' : Nat → Int32), (ot' ≤ 32 ∧ fc' ≤ fl ∧ rl_F fc' sT' cp' cq' po' oN') ∧ (∀ (ck cn cb : Nat → Int32) (post : SX → Prop), rl_K cc L mb ck cn cb → (∀ ck cn cb, rl_K cc L mb ck cn cb → post (nI cl, nI ml, nI fl, nI ol, nI cc, sC, nI mc, nI oc, sT', rV', nI ot', nI fc', pa, pc, li, ll, an, sg, mi, mh, me, tc, mb, ck, cn, cb, bl, co, ca, ob, oF', ou', cp', cq', aa', ab', po', od', oN')) → wpX_step post (nI cl, nI ml, nI fl, nI ol, nI cc, sC, nI mc, nI oc, 1, rV, nI ot, nI (f + 1), pa, pc, li, ll, an, sg, mi, mh, me, tc, mb, ck, cn, cb, bl, co, ca, ob, oF, ou, cp, cq, aa, ab, po, od, oN)) ∧ (∀ (yl yn ys ye yf : Nat → Int32) (post : SY → Prop), (∀ yl yn ys ye yf, post (nI cl, nI ml, nI fl, nI ol, nI cc, nI mc, nI oc, nI fc', sT', rV', nI ot', qa, qc, mg, ms, mt, mB, co, ca, bl, ob, oF', cp', cq', od', oN', aa', ab', po', ou', yl, yn, ys, ye, yf)) → wpY_step post (nI cl, nI ml, nI fl, nI ol, nI cc, nI mc, nI oc, nI (f + 1), 1, rV, nI ot, qa, qc, mg, ms, mt, mB, co, ca, bl, ob, oF, cp, cq, od, oN, aa, ab, po, ou, yl, yn, ys, ye, yf)) := by
  have hN' := hN
  obtain ⟨n1, n2, n3, n4, n5, n6, n7, n8, n9, n10, n11, n12⟩ := hN
  rcases Nat.lt_or_ge o 1 with h | h
  · refine ⟨3, rV, ot, 0, oF, ou, cp, cq, aa, ab, upd po f (nI (p + 1)), od, oN, ⟨n11, by omega, rl_F_trap (by decide)⟩, fun ck cn cb post hK K => xs_pre hf hb eb em hm ep hp hop hk (fun Q hQ => xe_8 hf n11 ho h8 (fun w => absurd w (by omega)) (fun _ => hQ _ (K _ _ _ hK)) (fun w => absurd w (by omega))), fun yl yn ys ye yf post K => ye_8 hf hb eb ho h8 em hm ep hp hop hk n11 (fun w => absurd w (by omega)) (fun _ => K _ _ _ _ _) (fun w => absurd w (by omega))⟩
  rcases Nat.lt_or_ge ot 32 with h2 | h2
  · refine ⟨1, rV, ot + 1, f + 1, oF, upd ou ot (od (f * 8 + o - 1)), cp, cq, aa, ab, upd po f (nI (p + 1)), od, upd oN f (nI (o - 1)), ⟨h2, n12, rl_F_set (p := p + 1) (o := o - 1) hF (fun r hr => ⟨pk_un (by omega), pk_un (by omega)⟩) (by omega) (by omega) pk_us pk_us⟩, fun ck cn cb post hK K => xs_pre hf hb eb em hm ep hp hop hk (fun Q hQ => xe_8 hf n11 ho h8 (fun _ _ => hQ _ (K _ _ _ hK)) (fun w => absurd w (by omega)) (fun _ w => absurd w (by omega))), fun yl yn ys ye yf post K => ye_8 hf hb eb ho h8 em hm ep hp hop hk n11 (fun _ _ => K _ _ _ _ _) (fun w => absurd w (by omega)) (fun _ w => absurd w (by omega))⟩
  · refine ⟨8, rV, ot, 0, oF, ou, cp, cq, aa, ab, upd po f (nI (p + 1)), od, oN, ⟨n11, by omega, rl_F_trap (by decide)⟩, fun ck cn cb post hK K => xs_pre hf hb eb em hm ep hp hop hk (fun Q hQ => xe_8 hf n11 ho h8 (fun _ w => absurd w (by omega)) (fun w => absurd w (by omega)) (fun _ _ => hQ _ (K _ _ _ hK))), fun yl yn ys ye yf post K => ye_8 hf hb eb ho h8 em hm ep hp hop hk n11 (fun _ w => absurd w (by omega)) (fun w => absurd w (by omega)) (fun _ _ => K _ _ _ _ _)⟩
theorem st_9 {q : Nat} (hf : f < 12) (hb : b < 16) (eb : cp (f * 16) = nI b) (ho : oN f = nI o) (h8 : o ≤ 8) (em : bl b = nI m) (hm : m ≤ 12) (ep : po f = nI p) (hp : p < m) (hN : rl_N cl ml fl ol cc mc oc ot (f + 1)) (hF : rl_F (f + 1) 1 cp cq po oN) (hq : q ≤ 12) (hop : co (b * 12 + p) = nI 9) (hk : ca (b * 12 + p) = nI q) : ∃ (sT' rV' : Int32) (ot' fc' : Nat) (oF' ou' cp' cq' aa' ab' po' od' oN' : Nat → Int32), (ot' ≤ 32 ∧ fc' ≤ fl ∧ rl_F fc' sT' cp' cq' po' oN') ∧ (∀ (ck cn cb : Nat → Int32) (post : SX → Prop), rl_K cc L mb ck cn cb → (∀ ck cn cb, rl_K cc L mb ck cn cb → post (nI cl, nI ml, nI fl, nI ol, nI cc, sC, nI mc, nI oc, sT', rV', nI ot', nI fc', pa, pc, li, ll, an, sg, mi, mh, me, tc, mb, ck, cn, cb, bl, co, ca, ob, oF', ou', cp', cq', aa', ab', po', od', oN')) → wpX_step post (nI cl, nI ml, nI fl, nI ol, nI cc, sC, nI mc, nI oc, 1, rV, nI ot, nI (f + 1), pa, pc, li, ll, an, sg, mi, mh, me, tc, mb, ck, cn, cb, bl, co, ca, ob, oF, ou, cp, cq, aa, ab, po, od, oN)) ∧ (∀ (yl yn ys ye yf : Nat → Int32) (post : SY → Prop), (∀ yl yn ys ye yf, post (nI cl, nI ml, nI fl, nI ol, nI cc, nI mc, nI oc, nI fc', sT', rV', nI ot', qa, qc, mg, ms, mt, mB, co, ca, bl, ob, oF', cp', cq', od', oN', aa', ab', po', ou', yl, yn, ys, ye, yf)) → wpY_step post (nI cl, nI ml, nI fl, nI ol, nI cc, nI mc, nI oc, nI (f + 1), 1, rV, nI ot, qa, qc, mg, ms, mt, mB, co, ca, bl, ob, oF, cp, cq, od, oN, aa, ab, po, ou, yl, yn, ys, ye, yf)) := by
  have hN' := hN
  obtain ⟨n1, n2, n3, n4, n5, n6, n7, n8, n9, n10, n11, n12⟩ := hN
  rcases Nat.lt_or_ge o 1 with h | h
  · refine ⟨3, rV, ot, 0, oF, ou, cp, cq, aa, ab, upd po f (nI (p + 1)), od, oN, ⟨n11, by omega, rl_F_trap (by decide)⟩, fun ck cn cb post hK K => xs_pre hf hb eb em hm ep hp hop hk (fun Q hQ => xe_9 hf ho h8 (fun w => absurd w (by omega)) (fun w => absurd w (by omega)) (fun _ => hQ _ (K _ _ _ hK))), fun yl yn ys ye yf post K => ye_9 hf hb eb ho h8 em hm ep hp hop hk (fun w => absurd w (by omega)) (fun w => absurd w (by omega)) (fun _ => K _ _ _ _ _)⟩
  by_cases h2 : od (f * 8 + o - 1) = 0
  · refine ⟨1, rV, ot, f + 1, oF, ou, cp, cq, aa, ab, upd (upd po f (nI (p + 1))) f (upd po f (nI (p + 1)) f + nI q), od, upd oN f (nI (o - 1)), ⟨n11, n12, rl_F_set (p := p + 1 + q) (o := o - 1) hF (fun r hr => ⟨by rw [pk_un (by omega), pk_un (by omega)], pk_un (by omega)⟩) (by omega) (by omega) (by rw [pk_us, pk_us, nI_add]) pk_us⟩, fun ck cn cb post hK K => xs_pre hf hb eb em hm ep hp hop hk (fun Q hQ => xe_9 hf ho h8 (fun _ _ => hQ _ (K _ _ _ hK)) (fun _ w => absurd h2 w) (fun w => absurd w (by omega))), fun yl yn ys ye yf post K => ye_9 hf hb eb ho h8 em hm ep hp hop hk (fun _ _ => K _ _ _ _ _) (fun _ w => absurd h2 w) (fun w => absurd w (by omega))⟩
  · refine ⟨1, rV, ot, f + 1, oF, ou, cp, cq, aa, ab, upd po f (nI (p + 1)), od, upd oN f (nI (o - 1)), ⟨n11, n12, rl_F_set (p := p + 1) (o := o - 1) hF (fun r hr => ⟨pk_un (by omega), pk_un (by omega)⟩) (by omega) (by omega) pk_us pk_us⟩, fun ck cn cb post hK K => xs_pre hf hb eb em hm ep hp hop hk (fun Q hQ => xe_9 hf ho h8 (fun _ w => absurd w h2) (fun _ _ => hQ _ (K _ _ _ hK)) (fun w => absurd w (by omega))), fun yl yn ys ye yf post K => ye_9 hf hb eb ho h8 em hm ep hp hop hk (fun _ w => absurd w h2) (fun _ _ => K _ _ _ _ _) (fun w => absurd w (by omega))⟩
theorem st_6 (hf : f < 12) (hb : b < 16) (eb : cp (f * 16) = nI b) (ho : oN f = nI o) (h8 : o ≤ 8) (em : bl b = nI m) (hm : m ≤ 12) (ep : po f = nI p) (hp : p < m) (hN : rl_N cl ml fl ol cc mc oc ot (f + 1)) (hF : rl_F (f + 1) 1 cp cq po oN) (hn : cq f = nI n) (h1 : 1 ≤ n) (h16 : n ≤ 16) (hop : co (b * 12 + p) = nI 6) (hk : ca (b * 12 + p) = k) : ∃ (sT' rV' : Int32) (ot' fc' : Nat) (oF' ou' cp' cq' aa' ab' po' od' oN' : Nat → Int32), (ot' ≤ 32 ∧ fc' ≤ fl ∧ rl_F fc' sT' cp' cq' po' oN') ∧ (∀ (ck cn cb : Nat → Int32) (post : SX → Prop), rl_K cc L mb ck cn cb → (∀ ck cn cb, rl_K cc L mb ck cn cb → post (nI cl, nI ml, nI fl, nI ol, nI cc, sC, nI mc, nI oc, sT', rV', nI ot', nI fc', pa, pc, li, ll, an, sg, mi, mh, me, tc, mb, ck, cn, cb, bl, co, ca, ob, oF', ou', cp', cq', aa', ab', po', od', oN')) → wpX_step post (nI cl, nI ml, nI fl, nI ol, nI cc, sC, nI mc, nI oc, 1, rV, nI ot, nI (f + 1), pa, pc, li, ll, an, sg, mi, mh, me, tc, mb, ck, cn, cb, bl, co, ca, ob, oF, ou, cp, cq, aa, ab, po, od, oN)) ∧ (∀ (yl yn ys ye yf : Nat → Int32) (post : SY → Prop), (∀ yl yn ys ye yf, post (nI cl, nI ml, nI fl, nI ol, nI cc, nI mc, nI oc, nI fc', sT', rV', nI ot', qa, qc, mg, ms, mt, mB, co, ca, bl, ob, oF', cp', cq', od', oN', aa', ab', po', ou', yl, yn, ys, ye, yf)) → wpY_step post (nI cl, nI ml, nI fl, nI ol, nI cc, nI mc, nI oc, nI (f + 1), 1, rV, nI ot, qa, qc, mg, ms, mt, mB, co, ca, bl, ob, oF, cp, cq, od, oN, aa, ab, po, ou, yl, yn, ys, ye, yf)) := by
  have hN' := hN
  obtain ⟨n1, n2, n3, n4, n5, n6, n7, n8, n9, n10, n11, n12⟩ := hN
  rcases Nat.lt_or_ge n 2 with h | h
  · refine ⟨6, rV, ot, 0, oF, ou, cp, cq, aa, ab, upd po f (nI (p + 1)), od, oN, ⟨n11, by omega, rl_F_trap (by decide)⟩, fun ck cn cb post hK K => xs_pre hf hb eb em hm ep hp hop hk (fun Q hQ => xe_6 hf n5 n12 ho h8 hn h1 h16 (fun _ => hQ _ (K _ _ _ hK)) (fun w => absurd w (by omega)) (fun w => absurd w (by omega)) (fun w => absurd w (by omega))), fun yl yn ys ye yf post K => ye_6 hf hb eb ho h8 em hm ep hp hop hk n5 n12 hn h1 h16 (fun _ => K _ _ _ _ _) (fun w => absurd w (by omega)) (fun w => absurd w (by omega)) (fun w => absurd w (by omega))⟩
  rcases Nat.lt_or_ge o 8 with h2 | h2
  · rcases Nat.lt_or_ge (f + 1) fl with h3 | h3
    · have hl : (ch_n cp f n).length = n - 1 := ch_n_l
      obtain ⟨nn, pp, oo, a1, a2, a3, a4, a5, a6, a7, a8, a9⟩ := hF.2.2 f (by omega)
      have en : n = nn := st_u a6 hn (by omega) (by omega)
      have hbs : ∀ x, x ∈ ch_n cp f n → ∃ b, b < 16 ∧ x = nI b := fun x hx => by
        obtain ⟨j, hj, e⟩ := la_ml (d := 0) hx
        rw [hl] at hj
        rw [← e, ch_n_g hj]
        have := a9 (j + 1) (by omega)
        rw [← Nat.add_assoc] at this
        exact this
      refine ⟨1, rV, ot, f + 1 + 1, oF, ou, ch_w cp ((f + 1) * 16) (ch_n cp f n), upd cq (f + 1) (nI (ch_n cp f n).length), upd aa (f + 1) (aa f), upd ab (f + 1) (ab f), upd (upd po f (nI (p + 1))) (f + 1) 0, od, upd oN (f + 1) 0, ⟨n11, h3, rl_F_new (rl_F_sub (p := p + 1) (o := o) hF (fun r hr => ⟨pk_un (by omega), rfl⟩) (by omega) (by omega) pk_us ho) (by omega) (by omega) hbs⟩, fun ck cn cb post hK K => xs_pre hf hb eb em hm ep hp hop hk (fun Q hQ => xe_6 hf n5 n12 ho h8 hn h1 h16 (fun w => absurd w (by omega)) (fun _ w => absurd h2 w) (fun _ _ w => absurd w (by omega)) (fun _ _ _ => hQ _ (K _ _ _ hK))), fun yl yn ys ye yf post K => ye_6 hf hb eb ho h8 em hm ep hp hop hk n5 n12 hn h1 h16 (fun w => absurd w (by omega)) (fun _ w => absurd h2 w) (fun _ _ w => absurd w (by omega)) (fun _ _ _ _ => K _ _ _ _ _)⟩
    · refine ⟨7, rV, ot, 0, oF, ou, cp, cq, aa, ab, upd po f (nI (p + 1)), od, oN, ⟨n11, by omega, rl_F_trap (by decide)⟩, fun ck cn cb post hK K => xs_pre hf hb eb em hm ep hp hop hk (fun Q hQ => xe_6 hf n5 n12 ho h8 hn h1 h16 (fun w => absurd w (by omega)) (fun _ w => absurd h2 w) (fun _ _ _ => hQ _ (K _ _ _ hK)) (fun _ _ w => absurd w (by omega))), fun yl yn ys ye yf post K => ye_6 hf hb eb ho h8 em hm ep hp hop hk n5 n12 hn h1 h16 (fun w => absurd w (by omega)) (fun _ w => absurd h2 w) (fun _ _ _ => K _ _ _ _ _) (fun _ _ w => absurd w (by omega))⟩
  · refine ⟨3, rV, ot, 0, oF, ou, cp, cq, aa, ab, upd po f (nI (p + 1)), od, oN, ⟨n11, by omega, rl_F_trap (by decide)⟩, fun ck cn cb post hK K => xs_pre hf hb eb em hm ep hp hop hk (fun Q hQ => xe_6 hf n5 n12 ho h8 hn h1 h16 (fun w => absurd w (by omega)) (fun _ _ => hQ _ (K _ _ _ hK)) (fun _ w => absurd w (by omega)) (fun _ w => absurd w (by omega))), fun yl yn ys ye yf post K => ye_6 hf hb eb ho h8 em hm ep hp hop hk n5 n12 hn h1 h16 (fun w => absurd w (by omega)) (fun _ _ => K _ _ _ _ _) (fun _ w => absurd w (by omega)) (fun _ w => absurd w (by omega))⟩
theorem st_5 {g : Nat} (hf : f < 12) (hb : b < 16) (eb : cp (f * 16) = nI b) (ho : oN f = nI o) (h8 : o ≤ 8) (em : bl b = nI m) (hm : m ≤ 12) (ep : po f = nI p) (hp : p < m) (hN : rl_N cl ml fl ol cc mc oc ot (f + 1)) (hF : rl_F (f + 1) 1 cp cq po oN) (hO : rl_O cc oc ob) (hC : rl_C cc P L pa pc li ll an qa qc) (hM : rl_M mc sl mb mg ms mt mB) (hg : g < 4) (hop : co (b * 12 + p) = nI 5) (hk : ca (b * 12 + p) = nI g) : ∃ (sT' rV' : Int32) (ot' fc' : Nat) (oF' ou' cp' cq' aa' ab' po' od' oN' : Nat → Int32), (ot' ≤ 32 ∧ fc' ≤ fl ∧ rl_F fc' sT' cp' cq' po' oN') ∧ (∀ (ck cn cb : Nat → Int32) (post : SX → Prop), rl_K cc L mb ck cn cb → (∀ ck cn cb, rl_K cc L mb ck cn cb → post (nI cl, nI ml, nI fl, nI ol, nI cc, sC, nI mc, nI oc, sT', rV', nI ot', nI fc', pa, pc, li, ll, an, sg, mi, mh, me, tc, mb, ck, cn, cb, bl, co, ca, ob, oF', ou', cp', cq', aa', ab', po', od', oN')) → wpX_step post (nI cl, nI ml, nI fl, nI ol, nI cc, sC, nI mc, nI oc, 1, rV, nI ot, nI (f + 1), pa, pc, li, ll, an, sg, mi, mh, me, tc, mb, ck, cn, cb, bl, co, ca, ob, oF, ou, cp, cq, aa, ab, po, od, oN)) ∧ (∀ (yl yn ys ye yf : Nat → Int32) (post : SY → Prop), (∀ yl yn ys ye yf, post (nI cl, nI ml, nI fl, nI ol, nI cc, nI mc, nI oc, nI fc', sT', rV', nI ot', qa, qc, mg, ms, mt, mB, co, ca, bl, ob, oF', cp', cq', od', oN', aa', ab', po', ou', yl, yn, ys, ye, yf)) → wpY_step post (nI cl, nI ml, nI fl, nI ol, nI cc, nI mc, nI oc, nI (f + 1), 1, rV, nI ot, qa, qc, mg, ms, mt, mB, co, ca, bl, ob, oF, cp, cq, od, oN, aa, ab, po, ou, yl, yn, ys, ye, yf)) := by
  have hN' := hN
  obtain ⟨n1, n2, n3, n4, n5, n6, n7, n8, n9, n10, n11, n12⟩ := hN
  rcases Nat.lt_or_ge o 2 with h | h
  · refine ⟨3, rV, ot, 0, oF, ou, cp, cq, aa, ab, upd po f (nI (p + 1)), od, oN, ⟨n11, by omega, rl_F_trap (by decide)⟩, fun ck cn cb post hK K => xs_pre hf hb eb em hm ep hp hop hk (fun Q hQ => xe_5 hf hN' hO hC hK hg ho h8 (fun _ => hQ _ (K _ _ _ hK)) (fun w => absurd w (by omega)) (fun _ _ _ _ _ _ _ _ w => absurd w (by omega))), fun yl yn ys ye yf post K => ye_5 hf hb eb ho h8 em hm ep hp hop hk hN' hO hC hM hg (fun _ => K _ _ _ _ _) (fun w => absurd w (by omega)) (fun _ _ _ _ _ _ _ _ _ w => absurd w (by omega))⟩
  rcases Classical.em ((∃ h, h < oc ∧ od (f * 8 + o - 2) = nI h) ∧ (∃ h, h < oc ∧ od (f * 8 + o - 1) = nI h)) with ho2 | ho2
  rotate_left
  · refine ⟨4, rV, ot, 0, oF, ou, cp, cq, aa, ab, upd po f (nI (p + 1)), od, oN, ⟨n11, by omega, rl_F_trap (by decide)⟩, fun ck cn cb post hK K => xs_pre hf hb eb em hm ep hp hop hk (fun Q hQ => xe_5 hf hN' hO hC hK hg ho h8 (fun w => absurd w (by omega)) (fun _ _ => hQ _ (K _ _ _ hK)) (fun x y _ _ _ _ _ _ _ hx hy ex ey => absurd ⟨⟨x, hx, ex⟩, ⟨y, hy, ey⟩⟩ ho2)), fun yl yn ys ye yf post K => ye_5 hf hb eb ho h8 em hm ep hp hop hk hN' hO hC hM hg (fun w => absurd w (by omega)) (fun _ _ => K _ _ _ _ _) (fun x y _ _ _ _ _ _ _ _ hx hy ex ey => absurd ⟨⟨x, hx, ex⟩, ⟨y, hy, ey⟩⟩ ho2)⟩
  obtain ⟨⟨x, hx, ex⟩, ⟨y, hy, ey⟩⟩ := ho2
  obtain ⟨c, hc, ec⟩ := hO x hx
  obtain ⟨d, hd, ed⟩ := hO y hy
  have un : ∀ x' y' c' d', x' < oc → y' < oc → od (f * 8 + o - 2) = nI x' → od (f * 8 + o - 1) = nI y' → ob x' = nI c' → ob y' = nI d' → c' < cc → d' < cc → x' = x ∧ y' = y ∧ c' = c ∧ d' = d := fun x' y' c' d' hx' hy' ex' ey' ec' ed' hc' hd' => by
    have e1 := st_u ex ex' (by omega) (by omega)
    have e2 := st_u ey ey' (by omega) (by omega)
    subst e1 e2
    exact ⟨rfl, rfl, st_u ec ec' (by omega) (by omega), st_u ed ed' (by omega) (by omega)⟩
  have len := ch_L_l (mb := mb) (g := g) (lc := L c) (ld := L d)
  have nob : ¬ ¬ ((∃ h, h < oc ∧ od (f * 8 + o - 2) = nI h) ∧ (∃ h, h < oc ∧ od (f * 8 + o - 1) = nI h)) := fun w => w ⟨⟨x, hx, ex⟩, ⟨y, hy, ey⟩⟩
  have C' := hC
  obtain ⟨hP, hT, hne, hxx, hL, hyy⟩ := C'
  have hTF := cm_T_f hP hT
  rcases Nat.eq_zero_or_pos (ch_L mb g (L c) (L d)).length with z | z
  · refine ⟨5, rV, ot, 0, oF, ou, cp, cq, aa, ab, upd po f (nI (p + 1)), od, oN, ⟨n11, by omega, rl_F_trap (by decide)⟩, fun ck cn cb post hK K => xs_pre hf hb eb em hm ep hp hop hk (fun Q hQ => xe_5 hf hN' hO hC hK hg ho h8 (fun w => absurd w (by omega)) (fun _ w => absurd w nob) (fun x' y' c' d' ck cn cb hK _ hx' hy' ex' ey' ec' ed' hc' hd' => by obtain ⟨rfl, rfl, rfl, rfl⟩ := un x' y' c' d' hx' hy' ex' ey' ec' ed' hc' hd'; exact ⟨fun _ => hQ _ (K _ _ _ hK), fun w => absurd w (by omega), fun w => absurd w (by omega)⟩)), fun yl yn ys ye yf post K => ye_5 hf hb eb ho h8 em hm ep hp hop hk hN' hO hC hM hg (fun w => absurd w (by omega)) (fun _ w => absurd w nob) (fun x' y' c' d' yl yn ys ye yf _ hx' hy' ex' ey' ec' ed' hc' hd' => by obtain ⟨rfl, rfl, rfl, rfl⟩ := un x' y' c' d' hx' hy' ex' ey' ec' ed' hc' hd'; exact ⟨fun _ => K _ _ _ _ _, fun w => absurd w (by omega), fun w => absurd w (by omega)⟩)⟩
  rcases Nat.lt_or_ge (f + 1) fl with h3 | h3
  · have hbs : ∀ v, v ∈ ch_L mb g (L c) (L d) → ∃ b, b < 16 ∧ v = nI b := ch_L_b (fun s t hs ht => by
      have q1 := (hTF c hc).1 s hs
      have q2 := (hTF d hd).1 t ht
      exact hM.2.2.2 _ (by omega))
    refine ⟨1, rV, ot, f + 1 + 1, oF, ou, ch_w cp ((f + 1) * 16) (ch_L mb g (L c) (L d)), upd cq (f + 1) (nI (ch_L mb g (L c) (L d)).length), upd aa (f + 1) (nI x), upd ab (f + 1) (nI y), upd (upd po f (nI (p + 1))) (f + 1) 0, od, upd (upd oN f (nI (o - 2))) (f + 1) 0, ⟨n11, h3, rl_F_new (rl_F_sub (p := p + 1) (o := o - 2) hF (fun r hr => ⟨pk_un (by omega), pk_un (by omega)⟩) (by omega) (by omega) pk_us pk_us) (by omega) (by omega) hbs⟩, fun ck cn cb post hK K => xs_pre hf hb eb em hm ep hp hop hk (fun Q hQ => xe_5 hf hN' hO hC hK hg ho h8 (fun w => absurd w (by omega)) (fun _ w => absurd w nob) (fun x' y' c' d' ck cn cb hK _ hx' hy' ex' ey' ec' ed' hc' hd' => by obtain ⟨rfl, rfl, rfl, rfl⟩ := un x' y' c' d' hx' hy' ex' ey' ec' ed' hc' hd'; exact ⟨fun w => absurd w (by omega), fun _ w => absurd w (by omega), fun _ _ => hQ _ (K _ _ _ hK)⟩)), fun yl yn ys ye yf post K => ye_5 hf hb eb ho h8 em hm ep hp hop hk hN' hO hC hM hg (fun w => absurd w (by omega)) (fun _ w => absurd w nob) (fun x' y' c' d' yl yn ys ye yf _ hx' hy' ex' ey' ec' ed' hc' hd' => by obtain ⟨rfl, rfl, rfl, rfl⟩ := un x' y' c' d' hx' hy' ex' ey' ec' ed' hc' hd'; exact ⟨fun w => absurd w (by omega), fun _ w => absurd w (by omega), fun _ _ => K _ _ _ _ _⟩)⟩
  · refine ⟨7, rV, ot, 0, oF, ou, cp, cq, aa, ab, upd po f (nI (p + 1)), od, oN, ⟨n11, by omega, rl_F_trap (by decide)⟩, fun ck cn cb post hK K => xs_pre hf hb eb em hm ep hp hop hk (fun Q hQ => xe_5 hf hN' hO hC hK hg ho h8 (fun w => absurd w (by omega)) (fun _ w => absurd w nob) (fun x' y' c' d' ck cn cb hK _ hx' hy' ex' ey' ec' ed' hc' hd' => by obtain ⟨rfl, rfl, rfl, rfl⟩ := un x' y' c' d' hx' hy' ex' ey' ec' ed' hc' hd'; exact ⟨fun w => absurd w (by omega), fun _ _ => hQ _ (K _ _ _ hK), fun _ w => absurd w (by omega)⟩)), fun yl yn ys ye yf post K => ye_5 hf hb eb ho h8 em hm ep hp hop hk hN' hO hC hM hg (fun w => absurd w (by omega)) (fun _ w => absurd w nob) (fun x' y' c' d' yl yn ys ye yf _ hx' hy' ex' ey' ec' ed' hc' hd' => by obtain ⟨rfl, rfl, rfl, rfl⟩ := un x' y' c' d' hx' hy' ex' ey' ec' ed' hc' hd'; exact ⟨fun w => absurd w (by omega), fun _ _ => K _ _ _ _ _, fun _ w => absurd w (by omega)⟩)⟩
end STP
end
section
section STR
variable {cl ml fl ol cc mc oc ot fc : Nat} {sC sT rV : Int32} {P L : Nat → List Nat} {sl : Nat → Nat} {pa pc li ll an sg mi mh me tc mb ck cn cb bl co ca ob oF ou cp cq aa ab po od oN qa qc mg ms mt mB yl yn ys ye yf : Nat → Int32} {f o n b m p : Nat} {k : Int32}
theorem st_ret (hf : f < 12) (hb : b < 16) (eb : cp (f * 16) = nI b) (ho : oN f = nI o) (h8 : o ≤ 8) (em : bl b = nI m) (hm : m ≤ 12) (ep : po f = nI p) (hp24 : p ≤ 24) (hp : m ≤ p) (hN : rl_N cl ml fl ol cc mc oc ot (f + 1)) (hF : rl_F (f + 1) 1 cp cq po oN) : ∃ (sT' rV' : Int32) (ot' fc' : Nat) (oF' ou' cp' cq' aa' ab' po' od' oN' : Nat → Int32), (ot' ≤ 32 ∧ fc' ≤ fl ∧ rl_F fc' sT' cp' cq' po' oN') ∧ (∀ (ck cn cb : Nat → Int32) (post : SX → Prop), rl_K cc L mb ck cn cb → (∀ ck cn cb, rl_K cc L mb ck cn cb → post (nI cl, nI ml, nI fl, nI ol, nI cc, sC, nI mc, nI oc, sT', rV', nI ot', nI fc', pa, pc, li, ll, an, sg, mi, mh, me, tc, mb, ck, cn, cb, bl, co, ca, ob, oF', ou', cp', cq', aa', ab', po', od', oN')) → wpX_step post (nI cl, nI ml, nI fl, nI ol, nI cc, sC, nI mc, nI oc, 1, rV, nI ot, nI (f + 1), pa, pc, li, ll, an, sg, mi, mh, me, tc, mb, ck, cn, cb, bl, co, ca, ob, oF, ou, cp, cq, aa, ab, po, od, oN)) ∧ (∀ (yl yn ys ye yf : Nat → Int32) (post : SY → Prop), (∀ yl yn ys ye yf, post (nI cl, nI ml, nI fl, nI ol, nI cc, nI mc, nI oc, nI fc', sT', rV', nI ot', qa, qc, mg, ms, mt, mB, co, ca, bl, ob, oF', cp', cq', od', oN', aa', ab', po', ou', yl, yn, ys, ye, yf)) → wpY_step post (nI cl, nI ml, nI fl, nI ol, nI cc, nI mc, nI oc, nI (f + 1), 1, rV, nI ot, qa, qc, mg, ms, mt, mB, co, ca, bl, ob, oF, cp, cq, od, oN, aa, ab, po, ou, yl, yn, ys, ye, yf)) := by
  obtain ⟨n1, n2, n3, n4, n5, n6, n7, n8, n9, n10, n11, n12⟩ := hN
  have h7 : ∀ g, f = g + 1 → ∃ r, oN g = nI r ∧ r ≤ 7 := fun g e => by
    obtain ⟨nn, pp, oo, a1, a2, a3, a4, a5, a6, a7, a8, a9⟩ := hF.2.2 g (by omega)
    exact ⟨oo, a8, a5 (by omega)⟩
  rcases Nat.eq_zero_or_pos f with z | z
  · refine ⟨2, yT od f o, ot, 0, oF, ou, cp, cq, aa, ab, po, od, oN, ⟨n11, by omega, rl_F_trap (by decide)⟩, fun ck cn cb post hK K => ?_, fun yl yn ys ye yf post K => ?_⟩
    · exact xe_ret hf hb eb ho h8 em hm ep hp24 hp (fun _ => K _ _ _ hK) (fun g r e => absurd e (by omega)) h7
    · exact ye_ret hf hb eb ho h8 em hm ep hp24 hp (fun _ => K _ _ _ _ _) (fun g r e => absurd e (by omega)) h7
  · obtain ⟨g, rfl⟩ : ∃ g, f = g + 1 := ⟨f - 1, by omega⟩
    obtain ⟨r, hr, hr7⟩ := h7 g rfl
    refine ⟨1, rV, ot, g + 1, oF, ou, cp, cq, aa, ab, po, upd od (g * 8 + r) (yT od (g + 1) o), upd oN g (nI (r + 1)), ⟨n11, by omega, rl_F_ret hF hr7⟩, fun ck cn cb post hK K => ?_, fun yl yn ys ye yf post K => ?_⟩
    · refine xe_ret hf hb eb ho h8 em hm ep hp24 hp (fun w => absurd w (by omega)) (fun g' r' e hr' hr7' => ?_) h7
      have e1 : g' = g := by omega
      subst e1
      have e2 := st_u hr hr' (by omega) (by omega)
      subst e2
      exact K _ _ _ hK
    · refine ye_ret hf hb eb ho h8 em hm ep hp24 hp (fun w => absurd w (by omega)) (fun g' r' e hr' hr7' => ?_) h7
      have e1 : g' = g := by omega
      subst e1
      have e2 := st_u hr hr' (by omega) (by omega)
      subst e2
      exact K _ _ _ _ _
theorem st_all (hN : rl_N cl ml fl ol cc mc oc ot (f + 1)) (hF : rl_F (f + 1) 1 cp cq po oN) (hB : rl_B bl co ca) (hO : rl_O cc oc ob) (hC : rl_C cc P L pa pc li ll an qa qc) (hM : rl_M mc sl mb mg ms mt mB) : ∃ (sT' rV' : Int32) (ot' fc' : Nat) (oF' ou' cp' cq' aa' ab' po' od' oN' : Nat → Int32), (ot' ≤ 32 ∧ fc' ≤ fl ∧ rl_F fc' sT' cp' cq' po' oN') ∧ (∀ (ck cn cb : Nat → Int32) (post : SX → Prop), rl_K cc L mb ck cn cb → (∀ ck cn cb, rl_K cc L mb ck cn cb → post (nI cl, nI ml, nI fl, nI ol, nI cc, sC, nI mc, nI oc, sT', rV', nI ot', nI fc', pa, pc, li, ll, an, sg, mi, mh, me, tc, mb, ck, cn, cb, bl, co, ca, ob, oF', ou', cp', cq', aa', ab', po', od', oN')) → wpX_step post (nI cl, nI ml, nI fl, nI ol, nI cc, sC, nI mc, nI oc, 1, rV, nI ot, nI (f + 1), pa, pc, li, ll, an, sg, mi, mh, me, tc, mb, ck, cn, cb, bl, co, ca, ob, oF, ou, cp, cq, aa, ab, po, od, oN)) ∧ (∀ (yl yn ys ye yf : Nat → Int32) (post : SY → Prop), (∀ yl yn ys ye yf, post (nI cl, nI ml, nI fl, nI ol, nI cc, nI mc, nI oc, nI fc', sT', rV', nI ot', qa, qc, mg, ms, mt, mB, co, ca, bl, ob, oF', cp', cq', od', oN', aa', ab', po', ou', yl, yn, ys, ye, yf)) → wpY_step post (nI cl, nI ml, nI fl, nI ol, nI cc, nI mc, nI oc, nI (f + 1), 1, rV, nI ot, qa, qc, mg, ms, mt, mB, co, ca, bl, ob, oF, cp, cq, od, oN, aa, ab, po, ou, yl, yn, ys, ye, yf)) := by
  have hf : f < 12 := by
    obtain ⟨n1, n2, n3, n4, n5, n6, n7, n8, n9, n10, n11, n12⟩ := hN
    omega
  obtain ⟨nn, pp, oo, a1, a2, a3, a4, a5, a6, a7, a8, a9⟩ := hF.2.2 f (by omega)
  obtain ⟨b, hb, eb⟩ := a9 0 (by omega)
  rw [Nat.add_zero] at eb
  obtain ⟨m, hm, em, hops⟩ := hB b hb
  rcases Nat.lt_or_ge pp m with h | h
  · obtain ⟨op, h9, eop, k5, k9⟩ := hops pp h
    have cases10 : op = 0 ∨ op = 1 ∨ op = 2 ∨ op = 3 ∨ op = 4 ∨ op = 5 ∨ op = 6 ∨ op = 7 ∨ op = 8 ∨ op = 9 := by
      clear hops k5 k9
      omega
    rcases cases10 with rfl | rfl | rfl | rfl | rfl | rfl | rfl | rfl | rfl | rfl
    · exact st_0 hf hb eb a8 a4 em hm a7 h hN hF eop rfl
    · exact st_1 hf hb eb a8 a4 em hm a7 h hN hF eop rfl
    · exact st_2 hf hb eb a8 a4 em hm a7 h hN hF eop rfl
    · exact st_3 hf hb eb a8 a4 em hm a7 h hN hF eop rfl
    · exact st_4 hf hb eb a8 a4 em hm a7 h hN hF eop rfl
    · obtain ⟨g, hg, ek⟩ := k5 rfl
      exact st_5 hf hb eb a8 a4 em hm a7 h hN hF hO hC hM hg eop ek
    · exact st_6 hf hb eb a8 a4 em hm a7 h hN hF a6 a1 a2 eop rfl
    · exact st_7 hf hb eb a8 a4 em hm a7 h hN hF a6 a2 eop rfl
    · exact st_8 hf hb eb a8 a4 em hm a7 h hN hF eop rfl
    · obtain ⟨q, hq, ek⟩ := k9 rfl
      exact st_9 hf hb eb a8 a4 em hm a7 h hN hF hq eop ek
  · exact st_ret hf hb eb a8 a4 em hm a7 a3 h hN hF
theorem st_run {lim : Nat} (hlim : lim ≤ 64) (hN0 : ∀ ot fc, ot ≤ 32 → fc ≤ fl → rl_N cl ml fl ol cc mc oc ot fc) (hB : rl_B bl co ca) (hO : rl_O cc oc ob) (hC : rl_C cc P L pa pc li ll an qa qc) (hM : rl_M mc sl mb mg ms mt mB) :
    ∀ d i sT rV ot fc oF ou cp cq aa ab po od oN, i + d = lim → ot ≤ 32 → fc ≤ fl → rl_F fc sT cp cq po oN → ∃ (sT' rV' : Int32) (ot' fc' : Nat) (oF' ou' cp' cq' aa' ab' po' od' oN' : Nat → Int32), (ot' ≤ 32 ∧ fc' ≤ fl ∧ rl_F fc' sT' cp' cq' po' oN') ∧ (∀ (ck cn cb : Nat → Int32) (post : Int32 → SX → Prop), rl_K cc L mb ck cn cb → (∀ ck cn cb, rl_K cc L mb ck cn cb → post sT' (nI cl, nI ml, nI fl, nI ol, nI cc, sC, nI mc, nI oc, sT', rV', nI ot', nI fc', pa, pc, li, ll, an, sg, mi, mh, me, tc, mb, ck, cn, cb, bl, co, ca, ob, oF', ou', cp', cq', aa', ab', po', od', oN')) → wX_run_11 post (nI lim) (d + 1) (nI i) (nI cl) (nI ml) (nI fl) (nI ol) (nI cc) sC (nI mc) (nI oc) sT rV (nI ot) (nI fc) pa pc li ll an sg mi mh me tc mb ck cn cb bl co ca ob oF ou cp cq aa ab po od oN) ∧ (∀ (yl yn ys ye yf : Nat → Int32) (post : Int32 → SY → Prop), (∀ yl yn ys ye yf, post sT' (nI cl, nI ml, nI fl, nI ol, nI cc, nI mc, nI oc, nI fc', sT', rV', nI ot', qa, qc, mg, ms, mt, mB, co, ca, bl, ob, oF', cp', cq', od', oN', aa', ab', po', ou', yl, yn, ys, ye, yf)) → wY_run_11 post (nI lim) (d + 1) (nI i) (nI cl) (nI ml) (nI fl) (nI ol) (nI cc) (nI mc) (nI oc) (nI fc) sT rV (nI ot) qa qc mg ms mt mB co ca bl ob oF cp cq od oN aa ab po ou yl yn ys ye yf) := by
  intro d
  induction d with
  | zero =>
    intro i sT rV ot fc oF ou cp cq aa ab po od oN hi hot hfc hF
    exact ⟨sT, rV, ot, fc, oF, ou, cp, cq, aa, ab, po, od, oN, ⟨hot, hfc, hF⟩, fun ck cn cb post hK K => pk_le lim i (fun _ => K _ _ _ hK) (fun w => absurd w (by omega)), fun yl yn ys ye yf post K => pk_le lim i (fun _ => K _ _ _ _ _) (fun w => absurd w (by omega))⟩
  | succ d ih =>
    intro i sT rV ot fc oF ou cp cq aa ab po od oN hi hot hfc hF
    by_cases hs : sT = 1
    · subst hs
      obtain ⟨f, rfl⟩ : ∃ f, fc = f + 1 := ⟨fc - 1, by have := hF.1 rfl; omega⟩
      obtain ⟨s1, r1, o1, f1, b1, b2, b3, b4, b5, b6, b7, b8, b9, ⟨g1, g2, g3⟩, hX, hY⟩ := st_all (sC := sC) (rV := rV) (L := L) (sl := sl) (oF := oF) (ou := ou) (aa := aa) (ab := ab) (od := od) (sg := sg) (mi := mi) (mh := mh) (me := me) (tc := tc) (hN0 ot (f + 1) hot hfc) hF hB hO hC hM
      obtain ⟨s2, r2, o2, f2, c1, c2, c3, c4, c5, c6, c7, c8, c9, hG, hX2, hY2⟩ := ih (i + 1) s1 r1 o1 f1 b1 b2 b3 b4 b5 b6 b7 b8 b9 (by omega) g1 g2 g3
      refine ⟨s2, r2, o2, f2, c1, c2, c3, c4, c5, c6, c7, c8, c9, hG, fun ck cn cb post hK K => ?_, fun yl yn ys ye yf post K => ?_⟩
      · exact pk_le lim i (fun w => absurd w (by omega)) (fun _ => br_t rfl (hX ck cn cb _ hK (fun ck cn cb hK' => nm_r (nI_1 i) (hX2 ck cn cb post hK' K))))
      · exact pk_le lim i (fun w => absurd w (by omega)) (fun _ => br_t rfl (hY yl yn ys ye yf _ (fun yl yn ys ye yf => nm_r (nI_1 i) (hY2 yl yn ys ye yf post K))))
    · exact ⟨sT, rV, ot, fc, oF, ou, cp, cq, aa, ab, po, od, oN, ⟨hot, hfc, hF⟩, fun ck cn cb post hK K => pk_le lim i (fun w => absurd w (by omega)) (fun _ => br_f hs (K _ _ _ hK)), fun yl yn ys ye yf post K => pk_le lim i (fun w => absurd w (by omega)) (fun _ => br_f hs (K _ _ _ _ _))⟩
end STR
theorem i_vc_run {k : Nat} {u : SX} {v : SY} (I : i_Rel k u v) (hk : k + 5 ≤ 2564) (v1 : Int32) : wpX_run (fun r u' => wpY_run (fun r' v' => r' = r ∧ i_Rel (k + 5) u' v') v v1) u v1 := by
  refine rl_el (Q := fun u v => wpX_run (fun r u' => wpY_run (fun r' v' => r' = r ∧ i_Rel (k + 5) u' v') v v1) u v1) I ?_
  intro cl ml fl ol cc mc oc ot fc sC sT rV P L sl pa pc li ll an sg mi mh me tc mb ck cn cb bl co ca ob oF ou cp cq aa ab po od oN qa qc mg ms mt mB yl yn ys ye yf h
  obtain ⟨hN, hC, hM, hK, hB, hO, hF⟩ := h
  obtain ⟨n1, n2, n3, n4, n5, n6, n7, n8, n9, n10, n11, n12⟩ := hN
  have hN0 : ∀ ot fc, ot ≤ 32 → fc ≤ fl → rl_N cl ml fl ol cc mc oc ot fc := fun ot fc h1 h2 => ⟨n1, n2, n3, n4, n5, n6, n7, n8, n9, n10, h1, h2⟩
  obtain ⟨_, hl⟩ := cw_b (p := v1) (a := 0) (b := 64) (by decide) (by decide)
  obtain ⟨s2, r2, o2, f2, c1, c2, c3, c4, c5, c6, c7, c8, c9, ⟨g1, g2, g3⟩, hX, hY⟩ := st_run (sC := sC) (L := L) (sl := sl) (sg := sg) (mi := mi) (mh := mh) (me := me) (tc := tc) (lim := cw_v v1 0 64) hl hN0 hB hO hC hM (cw_v v1 0 64) 0 sT rV ot fc oF ou cp cq aa ab po od oN (by omega) n11 n12 hF
  unfold wpX_run wpY_run
  dsimp only
  refine xw_clamp 0 64 (by decide) rfl rfl (Exists.intro (cw_v v1 0 64 + 1) ?_)
  refine hX ck cn cb _ hK (fun ck cn cb hK' => ?_)
  refine yw_clamp 0 64 (by decide) rfl rfl (Exists.intro (cw_v v1 0 64 + 1) ?_)
  refine hY yl yn ys ye yf _ (fun yl yn ys ye yf => ⟨rfl, ?_⟩)
  exact rl_mk ⟨hN0 _ _ g1 g2, hC, hM, hK', hB, hO, g3⟩
theorem i_vc_start {k : Nat} {u : SX} {v : SY} (I : i_Rel k u v) (hk : k + 5 ≤ 2564) (v1 : Int32) (v2 : Int32) (v3 : Int32) : wpX_start (fun r u' => wpY_start (fun r' v' => r' = r ∧ i_Rel (k + 5) u' v') v v1 v2 v3) u v1 v2 v3 := by
  refine rl_el (Q := fun u v => wpX_start (fun r u' => wpY_start (fun r' v' => r' = r ∧ i_Rel (k + 5) u' v') v v1 v2 v3) u v1 v2 v3) I ?_
  intro cl ml fl ol cc mc oc ot fc sC sT rV P L sl pa pc li ll an sg mi mh me tc mb ck cn cb bl co ca ob oF ou cp cq aa ab po od oN qa qc mg ms mt mB yl yn ys ye yf h
  have h' := h
  obtain ⟨⟨n1, n2, n3, n4, n5, n6, n7, n8, n9, n10, n11, n12⟩, hC, hM, hK, hB, hO, hF⟩ := h'
  have R : i_Rel (k + 5) (nI cl, nI ml, nI fl, nI ol, nI cc, sC, nI mc, nI oc, sT, rV, nI ot, nI fc, pa, pc, li, ll, an, sg, mi, mh, me, tc, mb, ck, cn, cb, bl, co, ca, ob, oF, ou, cp, cq, aa, ab, po, od, oN) (nI cl, nI ml, nI fl, nI ol, nI cc, nI mc, nI oc, nI fc, sT, rV, nI ot, qa, qc, mg, ms, mt, mB, co, ca, bl, ob, oF, cp, cq, od, oN, aa, ab, po, ou, yl, yn, ys, ye, yf) := rl_mk h
  have hC' := hC
  obtain ⟨hP, hT, hne, hx, hL, hy⟩ := hC'
  have hTF := cm_T_f hP hT
  have fact : ∀ r, r < cc → la_row li ll 10 r (L r) ∧ (L r).length ≤ 10 ∧ ∀ x, x ∈ L r → x < 10 := fun r hr' => by
    obtain ⟨f1, f2, f3, f4⟩ := hTF r hr'
    exact ⟨(hL r hr').1, by omega, fun x hx => by have := f1 x hx; omega⟩
  by_cases hs : sT = 1
  · exact br_t hs (br_t hs ⟨rfl, R⟩)
  have fc0 : fc = 0 := hF.2.1 hs
  subst fc0
  refine br_f hs ?_
  rcases Classical.em (∃ c, c < 4 ∧ v1 = nI c) with ⟨g, hg, rfl⟩ | hn
  · have z1 : ¬ nI g < 0 := nI_pos (by omega)
    have z2 : nI g ≤ 3 := nI_le (a := g) (b := 3) (by omega) (by decide)
    refine xw_G1 hg (br_f sm_10 ?_)
    rcases Classical.em (∃ c, c < oc ∧ v2 = nI c) with ⟨x, hx', rfl⟩ | hn
    · refine xw_O1 (by omega) hx' (br_f sm_10 ?_)
      rcases Classical.em (∃ c, c < oc ∧ v3 = nI c) with ⟨y, hy', rfl⟩ | hn
      · obtain ⟨c, hc, ec⟩ := hO x hx'
        obtain ⟨d, hd, ed⟩ := hO y hy'
        refine xw_O1 (by omega) hy' (br_f sm_10 (And.intro (vp_in_nI (by omega) (by decide)) (And.intro (vp_in_nI (by omega) (by decide)) ?_)))
        have cx : (nI x).toNatClampNeg = x := nI_clamp (by omega)
        have cy : (nI y).toNatClampNeg = y := nI_clamp (by omega)
        rw [cx, cy, ec, ed]
        refine xw_disp (L := L) hg (by omega) hc hd hK fact (fun ck' cn' cb' hK' hat => ?_)
        have len := ch_L_l (mb := mb) (g := g) (lc := L c) (ld := L d)
        have e0 : cn' (nI ((g * 10 + c) * 10 + d)).toNatClampNeg = nI (ch_L mb g (L c) (L d)).length := by rw [nI_clamp (by omega)]; exact hat.1
        have hbs : ∀ v, v ∈ ch_L mb g (L c) (L d) → ∃ b, b < 16 ∧ v = nI b := ch_L_b (fun s t hs ht => by
          have q1 := (hTF c hc).1 s hs
          have q2 := (hTF d hd).1 t ht
          exact hM.2.2.2 _ (by omega))
        dsimp only
        rw [e0]
        refine And.intro (vp_in_nI (by omega) (by decide)) (pk_eq (ch_L mb g (L c) (L d)).length 0 (fun w => ?_) (fun w => ?_))
        · refine br_f hs (br_f z1 (br_t z2 (yw_O1 (by omega) hx' (br_f sm_10 (yw_O1 (by omega) hy' (br_f sm_10 (And.intro (vp_in_nI (by omega) (by decide)) (And.intro (vp_in_nI (by omega) (by decide)) ?_))))))))
          rw [cx, cy, ec, ed]
          refine yw_chain (P := P) (L := L) (by omega) hP hT hy hM (by omega) hg hc hd (fun yl yn ys ye yf he => pk_eq (ch_L mb g (L c) (L d)).length 0 (fun _ => ⟨rfl, ?_⟩) (fun w2 => absurd w w2))
          exact rl_mk ⟨⟨n1, n2, n3, n4, n5, n6, n7, n8, n9, n10, n11, n12⟩, hC, hM, hK', hB, hO, hF⟩
        · refine xw_oC (fc := 0) (ot := 0) (by omega) (by omega) len hat ?_
          refine br_f hs (br_f z1 (br_t z2 (yw_O1 (by omega) hx' (br_f sm_10 (yw_O1 (by omega) hy' (br_f sm_10 (And.intro (vp_in_nI (by omega) (by decide)) (And.intro (vp_in_nI (by omega) (by decide)) ?_))))))))
          rw [cx, cy, ec, ed]
          refine yw_chain (P := P) (L := L) (by omega) hP hT hy hM (by omega) hg hc hd (fun yl yn ys ye yf he => pk_eq (ch_L mb g (L c) (L d)).length 0 (fun w2 => absurd w2 w) (fun _ => ?_))
          refine yw_nF (fc := 0) (ot := 0) (by omega) len he ⟨rfl, ?_⟩
          exact rl_mk ⟨⟨n1, n2, n3, n4, n5, n6, n7, n8, n9, n10, by omega, n4⟩, hC, hM, hK', hB, hO, rl_F_new (fun r hr => absurd hr (by omega)) (by omega) len hbs⟩
      · exact xw_O0 (by omega) hn (br_t rfl (br_f hs (br_f z1 (br_t z2 (yw_O1 (by omega) hx' (br_f sm_10 (yw_O0 (by omega) hn (br_t rfl ⟨rfl, R⟩))))))))
    · exact xw_O0 (by omega) hn (br_t rfl (br_f hs (br_f z1 (br_t z2 (yw_O0 (by omega) hn (br_t rfl ⟨rfl, R⟩))))))
  · exact xw_G0 hn (br_t rfl (br_f hs (br_c (fun _ => ⟨rfl, R⟩) (fun z1 => br_c (fun z2 => sm_ng hn z1 (fun w => absurd w (Int32.not_lt.mpr z2))) (fun _ => ⟨rfl, R⟩)))))
end
