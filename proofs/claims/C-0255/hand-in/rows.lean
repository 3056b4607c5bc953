section
/-! rows of kit/rows/PURE-ROWS (starting text) -/
theorem pk_us {f : Nat → Int32} {k : Nat} {x : Int32} : upd f k x k = x := if_pos rfl
theorem pk_un {f : Nat → Int32} {k j : Nat} {x : Int32} (h : j ≠ k) : upd f k x j = f j := if_neg h
theorem pk_uLs {f : Nat → Int64} {k : Nat} {x : Int64} : vp_updL f k x k = x := if_pos rfl
theorem pk_uLn {f : Nat → Int64} {k j : Nat} {x : Int64} (h : j ≠ k) : vp_updL f k x j = f j := if_neg h
theorem pk_sub {a b : Nat} (h : b ≤ a) : nI a - nI b = nI (a - b) := by
  obtain ⟨c, rfl⟩ : ∃ c, a = c + b := ⟨a - b, by omega⟩
  rw [← nI_add, Int32.add_sub_cancel, Nat.add_sub_cancel]
theorem pk_m1 (n : Nat) : nI (n + 1) + (-1) = nI n := by
  rw [← nI_1, Int32.add_assoc, show (1 : Int32) + (-1) = 0 from rfl, Int32.add_zero]
theorem pk_mul (a b : Nat) : nI a * nI b = nI (a * b) := (Int32.ofNat_mul a b).symm
theorem pk_div {a d : Nat} (ha : a < 2 ^ 31) (h0 : 0 < d) (hd : d < 2 ^ 31) : nI a / nI d = nI (a / d) := by
  apply Int32.toInt_inj.mp
  rw [lg_idiv_nonneg (by rw [nI_toInt ha]; omega) (by rw [nI_toInt hd]; omega), nI_toInt ha, nI_toInt hd, nI_toInt (Nat.lt_of_le_of_lt (Nat.div_le_self a d) ha)]
  first | rfl | exact (Int.natCast_ediv _ _).symm
theorem pk_rem {a d : Nat} (ha : a < 2 ^ 31) (h0 : 0 < d) (hd : d < 2 ^ 31) : nI a - nI a / nI d * nI d = nI (a % d) := by
  rw [pk_div ha h0 hd, pk_mul, pk_sub (Nat.div_mul_le_self a d)]
  exact congrArg nI (by have := Nat.div_add_mod' a d; omega)
theorem pk_sub_toInt {a b : Nat} (ha : a < 2 ^ 30) (hb : b < 2 ^ 30) : (nI a - nI b).toInt = (a : Int) - b := by
  rw [Int32.toInt_sub, nI_toInt (by omega), nI_toInt (by omega)]
  exact Int.bmod_eq_of_le (by omega) (by omega)
theorem pk_sneg {a b : Nat} (hb : b < 2 ^ 30) (h : a < b) : nI a - nI b < 0 := by
  rw [Int32.lt_iff_toInt_lt, pk_sub_toInt (by omega) hb, show (0 : Int32).toInt = 0 from by decide]
  omega
theorem pk_ix (x : Int32) {n : Nat} (hn : n < 2 ^ 31) : x < 0 ∨ nI n ≤ x ∨ ∃ j : Nat, j < n ∧ x = nI j := by
  by_cases h : x < 0
  · exact Or.inl h
  · obtain ⟨j, hj, rfl⟩ := nI_of h
    by_cases h2 : j < n
    · exact Or.inr (Or.inr ⟨j, h2, rfl⟩)
    · exact Or.inr (Or.inl (nI_le (by omega) hj))
theorem pk_le {x y : Int32} {A B : Prop} (a b : Nat) (f : a ≤ b → A) (g : b < a → B) (hx : x = nI a := by rfl) (hy : y = nI b := by rfl) (ha : a < 2 ^ 31 := by omega) (hb : b < 2 ^ 31 := by omega) : (x ≤ y → A) ∧ (¬ x ≤ y → B) := by
  subst hx hy
  rw [nI_leI ha hb]
  exact ⟨f, fun z => g (by omega)⟩
theorem pk_lt {x y : Int32} {A B : Prop} (a b : Nat) (f : a < b → A) (g : b ≤ a → B) (hx : x = nI a := by rfl) (hy : y = nI b := by rfl) (ha : a < 2 ^ 31 := by omega) (hb : b < 2 ^ 31 := by omega) : (x < y → A) ∧ (¬ x < y → B) := by
  subst hx hy
  rw [nI_ltI ha hb]
  exact ⟨f, fun z => g (by omega)⟩
theorem pk_eq {x y : Int32} {A B : Prop} (a b : Nat) (f : a = b → A) (g : a ≠ b → B) (hx : x = nI a := by rfl) (hy : y = nI b := by rfl) (ha : a < 2 ^ 31 := by omega) (hb : b < 2 ^ 31 := by omega) : (x = y → A) ∧ (¬ x = y → B) := by
  subst hx hy
  rw [nI_eq ha hb]
  exact ⟨f, g⟩
theorem pk_in {x : Int32} (n N : Nat) (h : n < N) (hx : x = nI n := by rfl) (hN : N < 2 ^ 31 := by omega) : vp_in x N := by
  subst hx
  exact vp_in_nI h hN
theorem pk_cl {x : Int32} (n : Nat) (hx : x = nI n := by rfl) (h : n < 2 ^ 31 := by omega) : x.toNatClampNeg = n := by
  subst hx
  exact nI_clamp h
theorem pk_tn {n : Nat} (h : n < 2 ^ 32) : (nI n).toBitVec.toNat = n := Nat.mod_eq_of_lt h
theorem pk_and (x : Int32) {m : Int32} (k : Nat) (hm : m.toBitVec.toNat = 2 ^ k - 1) : x &&& m = nI (x.toBitVec.toNat % 2 ^ k) := by
  apply Int32.toBitVec_inj.mp
  apply BitVec.eq_of_toNat_eq
  rw [Int32.toBitVec_and, BitVec.toNat_and, hm, Nat.and_two_pow_sub_one_eq_mod]
  show _ = (BitVec.ofNat 32 _).toNat
  rw [BitVec.toNat_ofNat]
  exact (Nat.mod_eq_of_lt (Nat.lt_of_le_of_lt (Nat.mod_le _ _) x.toBitVec.isLt)).symm
theorem pk_andN {n : Nat} (h : n < 2 ^ 32) {m : Int32} (k : Nat) (hm : m.toBitVec.toNat = 2 ^ k - 1) : nI n &&& m = nI (n % 2 ^ k) := by
  rw [pk_and _ k hm, pk_tn h]
theorem pk_andE (x : Int32) {m : Int32} (k : Nat) (hm : m.toBitVec.toNat = 2 ^ k - 1) : ∃ j : Nat, j < 2 ^ k ∧ x &&& m = nI j := ⟨_, Nat.mod_lt _ (Nat.two_pow_pos k), pk_and x k hm⟩
theorem pk_andIn (x : Int32) {m : Int32} (k : Nat) (hm : m.toBitVec.toNat = 2 ^ k - 1) (hk : k ≤ 30) : vp_in (x &&& m) (2 ^ k) := by
  obtain ⟨j, hj, e⟩ := pk_andE x k hm
  rw [e]
  exact vp_in_nI hj (Nat.lt_of_le_of_lt (Nat.pow_le_pow_right (by decide) hk) (by decide))
theorem pk_shl (a s : Int32) (k : Nat) (hs : (s.toBitVec.smod 32).toNat = k) : (a <<< s).toBitVec.toNat = a.toBitVec.toNat * 2 ^ k % 2 ^ 32 := by
  show (a.toBitVec <<< (s.toBitVec.smod 32).toNat).toNat = _
  rw [hs, BitVec.toNat_shiftLeft, Nat.shiftLeft_eq]
theorem pk_shlN {n : Nat} (s : Int32) (k : Nat) (hs : (s.toBitVec.smod 32).toNat = k) (h : n * 2 ^ k < 2 ^ 32) : nI n <<< s = nI (n * 2 ^ k) := by
  apply Int32.toBitVec_inj.mp
  apply BitVec.eq_of_toNat_eq
  have hn : n < 2 ^ 32 := Nat.lt_of_le_of_lt (Nat.le_mul_of_pos_right n (Nat.two_pow_pos k)) h
  rw [pk_shl _ _ k hs, pk_tn hn, pk_tn h, Nat.mod_eq_of_lt h]
theorem pk_shr (a s : Int32) (k : Nat) (hs : (s.toBitVec.smod 32).toNat = k) : (a >>> s).toInt = a.toInt >>> k := by
  show (a.toBitVec.sshiftRight (s.toBitVec.smod 32).toNat).toInt = _
  rw [hs, BitVec.toInt_sshiftRight]
  rfl
theorem pk_shrN {n : Nat} (h : n < 2 ^ 31) (s : Int32) (k : Nat) (hs : (s.toBitVec.smod 32).toNat = k) : nI n >>> s = nI (n / 2 ^ k) := by
  apply Int32.toInt_inj.mp
  have h2 : n / 2 ^ k ≤ n := Nat.div_le_self _ _
  rw [pk_shr _ _ k hs, nI_toInt h, nI_toInt (by omega), Int.shiftRight_eq_div_pow]
  rfl
end
section
/-! numbers and lifted arrays -/
def gf_L (f : Nat → Nat) : Nat → Int32 := fun j => nI (f j)
def gf_u (f : Nat → Nat) (k v : Nat) : Nat → Nat := fun j => if j = k then v else f j
theorem gf_us {f : Nat → Nat} {k v : Nat} : gf_u f k v k = v := if_pos rfl
theorem gf_un {f : Nat → Nat} {k v j : Nat} (h : j ≠ k) : gf_u f k v j = f j := if_neg h
theorem gf_up (f : Nat → Nat) (k v : Nat) : upd (gf_L f) k (nI v) = gf_L (gf_u f k v) := by
  funext j
  show (if j = k then nI v else nI (f j)) = nI (if j = k then v else f j)
  by_cases h : j = k
  · rw [if_pos h, if_pos h]
  · rw [if_neg h, if_neg h]
/-- a store of a number at a numbered place -/
theorem gf_st {f : Nat → Nat} {x y : Int32} (k v : Nat) (hx : x = nI k) (hy : y = nI v) (hk : k < 2 ^ 31) : upd (gf_L f) x.toNatClampNeg y = gf_L (gf_u f k v) := by
  subst hx hy
  rw [nI_clamp hk]
  exact gf_up f k v
/-- a store of any value at a numbered place -/
theorem gf_sv {f : Nat → Int32} {x y : Int32} (k : Nat) (hx : x = nI k) (hk : k < 2 ^ 31) : upd f x.toNatClampNeg y = upd f k y := by
  subst hx
  rw [nI_clamp hk]
/-- a read of a lifted array -/
theorem gf_rd {f : Nat → Nat} {x : Int32} (k : Nat) (hx : x = nI k) (hk : k < 2 ^ 31) : gf_L f x.toNatClampNeg = nI (f k) := by
  subst hx
  rw [nI_clamp hk]
  rfl
theorem gf_rv {f : Nat → Int32} {x : Int32} (k : Nat) (hx : x = nI k) (hk : k < 2 ^ 31) : f x.toNatClampNeg = f k := by
  subst hx
  rw [nI_clamp hk]
theorem gf_m4 (a : Nat) : (4 : Int32) * nI a = nI (4 * a) := pk_mul 4 a
theorem gf_m32 (a : Nat) : (32 : Int32) * nI a = nI (32 * a) := pk_mul 32 a
theorem gf_4a (a b : Nat) : (4 : Int32) * nI a + nI b = nI (4 * a + b) := by rw [gf_m4, nI_add]
theorem gf_32a (a b : Nat) : (32 : Int32) * nI a + nI b = nI (32 * a + b) := by rw [gf_m32, nI_add]
theorem gf_s {n : Nat} (h : 0 < n) : nI n - 1 = nI (n - 1) := by
  obtain ⟨m, rfl⟩ : ∃ m, n = m + 1 := ⟨n - 1, by omega⟩
  exact nI_pred m
theorem gf_m {n : Nat} (h : 0 < n) : nI n + (-1) = nI (n - 1) := by
  obtain ⟨m, rfl⟩ : ∃ m, n = m + 1 := ⟨n - 1, by omega⟩
  exact pk_m1 m
theorem gf_sh5 {n : Nat} (h : n < 2 ^ 31) : nI n >>> ((5 : Int32) &&& 31) = nI (n / 32) := pk_shrN h _ 5 (by decide)
theorem gf_sh1 {n : Nat} (h : n < 2 ^ 31) : nI n >>> ((1 : Int32) &&& 31) = nI (n / 2) := pk_shrN h _ 1 (by decide)
theorem gf_a31 {n : Nat} (h : n < 2 ^ 31) : nI n &&& 31 = nI (n % 32) := pk_andN (by omega) 5 (by decide)
theorem gf_d32 {n : Nat} (h : n < 2 ^ 31) : nI n / 32 = nI (n / 32) := pk_div (d := 32) h (by omega) (by omega)
theorem gf_r32 {n : Nat} (h : n < 2 ^ 31) : nI n - nI n / 32 * 32 = nI (n % 32) := pk_rem (d := 32) h (by omega) (by omega)
theorem gf_b0 : vp_nar .boolean 0 = 0 := by decide
theorem gf_b1 : vp_nar .boolean 1 = 1 := by decide
theorem gf_ne1 {a : Nat} (h : a < 2 ^ 31) : ¬ nI a = -1 := by
  intro e
  have := nI_pos (n := a) h
  rw [e] at this
  exact this (by decide)
theorem gf_n1lt : (-1 : Int32) < 0 := by decide
theorem gf_n1le : ¬ (0 : Int32) ≤ -1 := by decide

/-! lists in arrays: entry o + i matches the list's entry i -/
def gf_A {α : Type} (Q : Nat → α → Prop) : Nat → List α → Prop
  | _, [] => True
  | o, e :: l => Q o e ∧ gf_A Q (o + 1) l
theorem gf_A_nil {α : Type} {Q : Nat → α → Prop} {o : Nat} : gf_A Q o [] := trivial
theorem gf_A_app {α : Type} {Q : Nat → α → Prop} : ∀ {l m : List α} {o : Nat}, gf_A Q o (l ++ m) ↔ gf_A Q o l ∧ gf_A Q (o + l.length) m
  | [], m, o => by simp [gf_A]
  | e :: l, m, o => by
    have ih := gf_A_app (Q := Q) (l := l) (m := m) (o := o + 1)
    rw [List.cons_append, List.length_cons, show o + (l.length + 1) = o + 1 + l.length from by omega]
    show Q o e ∧ gf_A Q (o + 1) (l ++ m) ↔ (Q o e ∧ gf_A Q (o + 1) l) ∧ _
    rw [ih, and_assoc]
theorem gf_A_mono {α : Type} {Q Q' : Nat → α → Prop} : ∀ {l : List α} {o : Nat}, (∀ j e, o ≤ j → j < o + l.length → Q j e → Q' j e) → gf_A Q o l → gf_A Q' o l
  | [], _, _, _ => trivial
  | e :: l, o, h, a => by
    refine ⟨h o e (Nat.le_refl o) (by rw [List.length_cons]; omega) a.1, gf_A_mono (fun j e' h1 h2 q => h j e' (by omega) (by rw [List.length_cons]; omega) q) a.2⟩
theorem gf_A_at {α : Type} {Q : Nat → α → Prop} {l m : List α} {z : α} {o : Nat} (h : gf_A Q o (l ++ z :: m)) : Q (o + l.length) z := (gf_A_app.mp h).2.1
theorem gf_A_set {α : Type} {Q Q' : Nat → α → Prop} {l m : List α} {z w : α} {o : Nat} (h : gf_A Q o (l ++ z :: m)) (hw : Q' (o + l.length) w) (hk : ∀ j e, j ≠ o + l.length → Q j e → Q' j e) : gf_A Q' o (l ++ w :: m) := by
  obtain ⟨h1, h2, h3⟩ := gf_A_app.mp h
  exact gf_A_app.mpr ⟨gf_A_mono (fun j e _ h5 q => hk j e (by omega) q) h1, hw, gf_A_mono (fun j e h4 _ q => hk j e (by omega) q) h3⟩
theorem gf_A_snoc {α : Type} {Q Q' : Nat → α → Prop} {l : List α} {w : α} {o : Nat} (h : gf_A Q o l) (hw : Q' (o + l.length) w) (hk : ∀ j e, j ≠ o + l.length → Q j e → Q' j e) : gf_A Q' o (l ++ [w]) :=
  gf_A_app.mpr ⟨gf_A_mono (fun j e _ h5 q => hk j e (by omega) q) h, hw, trivial⟩
theorem gf_A_get {α : Type} {Q : Nat → α → Prop} : ∀ {l : List α} {o : Nat}, gf_A Q o l → ∀ k, (h : k < l.length) → Q (o + k) l[k]
  | e :: l, o, a, 0, _ => a.1
  | e :: l, o, a, k + 1, h => by
    have := gf_A_get a.2 k (by rw [List.length_cons] at h; omega)
    rw [show o + (k + 1) = o + 1 + k from by omega]
    exact this
theorem gf_A_of {α : Type} {Q : Nat → α → Prop} : ∀ {l : List α} {o : Nat}, (∀ k, (h : k < l.length) → Q (o + k) l[k]) → gf_A Q o l
  | [], _, _ => trivial
  | e :: l, o, a => by
    refine ⟨a 0 (by rw [List.length_cons]; omega), gf_A_of fun k h => ?_⟩
    have := a (k + 1) (by rw [List.length_cons]; omega)
    rw [show o + (k + 1) = o + 1 + k from by omega] at this
    exact this

/-! the point list of a bucket, of all buckets -/
def gf_bk (sz pl : Nat → Nat) (vs : Nat → Int32) (b : Nat) : List (Nat × Int32) := (List.range (sz b)).map (fun k => (pl (4 * b + k), vs (4 * b + k)))
def gf_ct (B : Nat) (sz pl : Nat → Nat) (vs : Nat → Int32) : List (Nat × Int32) := (List.range B).flatMap (gf_bk sz pl vs)
def gf_Q (pl : Nat → Nat) (vs : Nat → Int32) (j : Nat) (e : Nat × Int32) : Prop := pl j = e.1 ∧ vs j = e.2
theorem gf_bk_len {sz pl : Nat → Nat} {vs : Nat → Int32} {b : Nat} : (gf_bk sz pl vs b).length = sz b := by
  rw [gf_bk, List.length_map, List.length_range]
theorem gf_bk_A {sz pl : Nat → Nat} {vs : Nat → Int32} {b : Nat} : gf_A (gf_Q pl vs) (4 * b) (gf_bk sz pl vs b) := by
  apply gf_A_of
  intro k h
  have e : (gf_bk sz pl vs b)[k] = (pl (4 * b + k), vs (4 * b + k)) := by
    simp only [gf_bk, List.getElem_map, List.getElem_range]
  rw [e]
  exact ⟨rfl, rfl⟩
theorem gf_bk_of {sz pl : Nat → Nat} {vs : Nat → Int32} {b : Nat} {l : List (Nat × Int32)} (h : gf_A (gf_Q pl vs) (4 * b) l) (hl : sz b = l.length) : gf_bk sz pl vs b = l := by
  apply List.ext_getElem
  · rw [gf_bk_len, hl]
  · intro k h1 h2
    have e : (gf_bk sz pl vs b)[k] = (pl (4 * b + k), vs (4 * b + k)) := by
      simp only [gf_bk, List.getElem_map, List.getElem_range]
    have q := gf_A_get h k h2
    rw [e]
    exact Prod.ext q.1 q.2
theorem gf_bk_eq {sz pl sz' pl' : Nat → Nat} {vs vs' : Nat → Int32} {b : Nat} (hs : sz' b = sz b) (h : ∀ k, k < sz b → pl' (4 * b + k) = pl (4 * b + k) ∧ vs' (4 * b + k) = vs (4 * b + k)) : gf_bk sz' pl' vs' b = gf_bk sz pl vs b := by
  rw [gf_bk, gf_bk, hs]
  apply List.map_congr_left
  intro k hk
  obtain ⟨h1, h2⟩ := h k (List.mem_range.mp hk)
  rw [h1, h2]
theorem gf_bk_mem {sz pl : Nat → Nat} {vs : Nat → Int32} {b : Nat} {e : Nat × Int32} : e ∈ gf_bk sz pl vs b ↔ ∃ k, k < sz b ∧ (pl (4 * b + k), vs (4 * b + k)) = e := by
  simp only [gf_bk, List.mem_map, List.mem_range]
theorem gf_ct_mem {B : Nat} {sz pl : Nat → Nat} {vs : Nat → Int32} {e : Nat × Int32} : e ∈ gf_ct B sz pl vs ↔ ∃ b k, b < B ∧ k < sz b ∧ (pl (4 * b + k), vs (4 * b + k)) = e := by
  rw [gf_ct, List.mem_flatMap]
  constructor
  · rintro ⟨b, hb, he⟩
    obtain ⟨k, hk, e'⟩ := gf_bk_mem.mp he
    exact ⟨b, k, List.mem_range.mp hb, hk, e'⟩
  · rintro ⟨b, k, hb, hk, e'⟩
    exact ⟨b, List.mem_range.mpr hb, gf_bk_mem.mpr ⟨k, hk, e'⟩⟩
theorem gf_pickm {α : Type} (f : Nat → α) {n k : Nat} (hk : k < n) : ∃ rest : List α, ∀ f' : Nat → α, (∀ j, j < n → j ≠ k → f' j = f j) → ((List.range n).map f').Perm (f' k :: rest) := by
  refine ⟨((List.range n).erase k).map f, fun f' h => ?_⟩
  have h1 : (List.range n).Perm (k :: (List.range n).erase k) := List.perm_cons_erase (List.mem_range.mpr hk)
  have h2 := h1.map f'
  rw [List.map_cons] at h2
  have e : ((List.range n).erase k).map f' = ((List.range n).erase k).map f := by
    apply List.map_congr_left
    intro j hj
    have h3 := (List.Nodup.mem_erase_iff List.nodup_range).mp hj
    exact h j (List.mem_range.mp h3.2) h3.1
  rw [e] at h2
  exact h2
theorem gf_pick {α : Type} (f : Nat → List α) {n k : Nat} (hk : k < n) : ∃ rest : List α, ∀ f' : Nat → List α, (∀ j, j < n → j ≠ k → f' j = f j) → ((List.range n).flatMap f').Perm (f' k ++ rest) := by
  obtain ⟨rest, hr⟩ := gf_pickm f hk
  refine ⟨rest.flatten, fun f' h => ?_⟩
  have := (hr f' h).flatten
  rw [List.flatten_cons] at this
  exact this
/-- a nodup list within another: the other is it and a rest -/
theorem gf_rest : ∀ {V l : List Nat}, V.Nodup → (∀ x, x ∈ V → x ∈ l) → ∃ rest, l.Perm (V ++ rest)
  | [], l, _, _ => ⟨l, List.Perm.refl _⟩
  | a :: V, l, h, hs => by
    have h1 := List.nodup_cons.mp h
    have h2 : l.Perm (a :: l.erase a) := List.perm_cons_erase (hs a (List.mem_cons_self ..))
    obtain ⟨rest, hr⟩ := gf_rest (V := V) (l := l.erase a) h1.2 (fun x hx => by
      have h3 := h2.mem_iff.mp (hs x (List.mem_cons_of_mem _ hx))
      rcases List.mem_cons.mp h3 with h4 | h4
      · exact absurd (h4 ▸ hx) h1.1
      · exact h4)
    exact ⟨rest, h2.trans (List.Perm.cons a hr)⟩
end
section
/-! a scale: from 0 to 32, strictly increasing -/
def gf_Sc (C : Nat) (cx : Nat → Nat) : Prop := 1 ≤ C ∧ cx 0 = 0 ∧ cx C = 32 ∧ ∀ i, i < C → cx i < cx (i + 1)
theorem gf_Sc_gap {C : Nat} {cx : Nat → Nat} (h : gf_Sc C cx) {i : Nat} : ∀ d, i + d ≤ C → cx i + d ≤ cx (i + d)
  | 0, _ => by simp
  | d + 1, hd => by
    have h1 := gf_Sc_gap h (i := i) d (by omega)
    have h2 := h.2.2.2 (i + d) (by omega)
    rw [show i + (d + 1) = i + d + 1 from by omega]
    omega
theorem gf_Sc_le {C : Nat} {cx : Nat → Nat} (h : gf_Sc C cx) {i j : Nat} (hij : i ≤ j) (hj : j ≤ C) : cx i + (j - i) ≤ cx j := by
  have := gf_Sc_gap h (i := i) (j - i) (by omega)
  rw [show i + (j - i) = j from by omega] at this
  exact this
theorem gf_Sc_32 {C : Nat} {cx : Nat → Nat} (h : gf_Sc C cx) : C ≤ 32 := by
  have := gf_Sc_le h (i := 0) (j := C) (by omega) (by omega)
  rw [h.2.1, h.2.2.1] at this
  omega
/-- the cell of a scale that holds x -/
abbrev gf_Ce (C : Nat) (cx : Nat → Nat) (x c : Nat) : Prop := c < C ∧ cx c ≤ x ∧ x < cx (c + 1)
theorem gf_Ce_le {C : Nat} {cx : Nat → Nat} (h : gf_Sc C cx) {x y c d : Nat} (hc : gf_Ce C cx x c) (hd : gf_Ce C cx y d) (hxy : x ≤ y) : c ≤ d := by
  apply Nat.le_of_not_lt
  intro z
  have h1 := gf_Sc_le h (i := d + 1) (j := c) z (by have := hc.1; omega)
  have h2 := hc.2.1
  have h3 := hd.2.2
  omega
theorem gf_Ce_ex {C : Nat} {cx : Nat → Nat} (h : gf_Sc C cx) {x : Nat} (hx : x < 32) : ∃ c, gf_Ce C cx x c := by
  have key : ∀ n, n ≤ C → x < cx n → ∃ c, gf_Ce C cx x c := by
    intro n
    induction n with
    | zero => intro _ h1; rw [h.2.1] at h1; omega
    | succ n ih =>
      intro hn h1
      by_cases h2 : cx n ≤ x
      · exact ⟨n, by omega, h2, h1⟩
      · exact ih (by omega) (by omega)
  exact key C (Nat.le_refl _) (by rw [h.2.2.1]; exact hx)
/-- a scale with a new cut behind place c -/
theorem gf_Sc_ins {C : Nat} {cx cx' : Nat → Nat} (h : gf_Sc C cx) {x c : Nat} (hc : gf_Ce C cx x c) (hx : cx c ≠ x)
    (h1 : ∀ i, i ≤ c → cx' i = cx i) (h2 : cx' (c + 1) = x) (h3 : ∀ i, c + 1 < i → i ≤ C + 1 → cx' i = cx (i - 1)) : gf_Sc (C + 1) cx' := by
  obtain ⟨ha, hb, hd, he⟩ := h
  obtain ⟨k1, k2, k3⟩ := hc
  refine ⟨by omega, by rw [h1 0 (by omega)]; exact hb, by rw [h3 (C + 1) (by omega) (by omega)]; exact hd, ?_⟩
  intro i hi
  rcases Nat.lt_trichotomy i c with z | z | z
  · rw [h1 i (by omega), h1 (i + 1) (by omega)]
    exact he i (by omega)
  · subst z
    rw [h1 i (by omega), h2]
    omega
  · by_cases w : i = c + 1
    · subst w
      rw [h2, h3 (c + 1 + 1) (by omega) (by omega)]
      exact k3
    · rw [h3 i (by omega) (by omega), h3 (i + 1) (by omega) (by omega)]
      have := he (i - 1) (by omega)
      rw [show i - 1 + 1 = i from by omega] at this
      rw [show i + 1 - 1 = i from by omega]
      exact this

/-! the grid -/
abbrev gf_In (lf rt lo hi : Nat → Nat) (b x y : Nat) : Prop := lf b ≤ x ∧ x ≤ rt b ∧ lo b ≤ y ∧ y ≤ hi b
/-- the bucket b's rectangle holds the cell c, r -/
abbrev gf_Ho (cx cy lf rt lo hi : Nat → Nat) (b c r : Nat) : Prop := lf b ≤ cx c ∧ cx (c + 1) ≤ rt b + 1 ∧ lo b ≤ cy r ∧ cy (r + 1) ≤ hi b + 1
def gf_G (C R B : Nat) (cx cy dr lf rt lo hi : Nat → Nat) : Prop :=
  gf_Sc C cx ∧ gf_Sc R cy ∧ 1 ≤ B ∧ B ≤ 64 ∧
  (∀ c r, c < C → r < R → dr (32 * c + r) < B ∧ gf_Ho cx cy lf rt lo hi (dr (32 * c + r)) c r) ∧
  (∀ b b' x y, b < B → b' < B → gf_In lf rt lo hi b x y → gf_In lf rt lo hi b' x y → b = b')
section GRID
variable {C R B : Nat} {cx cy dr lf rt lo hi : Nat → Nat}
theorem gf_G_at (h : gf_G C R B cx cy dr lf rt lo hi) {x y c r : Nat} (hc : gf_Ce C cx x c) (hr : gf_Ce R cy y r) : dr (32 * c + r) < B ∧ gf_In lf rt lo hi (dr (32 * c + r)) x y := by
  obtain ⟨_, _, _, _, h1, _⟩ := h
  obtain ⟨k1, k2, k3, k4, k5⟩ := h1 c r hc.1 hr.1
  obtain ⟨_, a1, a2⟩ := hc
  obtain ⟨_, b1, b2⟩ := hr
  exact ⟨k1, by omega, by omega, by omega, by omega⟩
theorem gf_G_col (h : gf_G C R B cx cy dr lf rt lo hi) {cx' dr' : Nat → Nat} {x c : Nat} (hc : gf_Ce C cx x c) (hx : cx c ≠ x)
    (h1 : ∀ i, i ≤ c → cx' i = cx i) (h2 : cx' (c + 1) = x) (h3 : ∀ i, c + 1 < i → i ≤ C + 1 → cx' i = cx (i - 1))
    (d1 : ∀ k r, r < R → k ≤ c → dr' (32 * k + r) = dr (32 * k + r)) (d2 : ∀ k r, r < R → c < k → k ≤ C → dr' (32 * k + r) = dr (32 * (k - 1) + r)) : gf_G (C + 1) R B cx' cy dr' lf rt lo hi := by
  obtain ⟨s1, s2, s3, s4, s5, s6⟩ := h
  refine ⟨gf_Sc_ins s1 hc hx h1 h2 h3, s2, s3, s4, ?_, s6⟩
  obtain ⟨k1, k2, k3⟩ := hc
  intro k r hk hr
  rcases Nat.lt_trichotomy k c with z | z | z
  · rw [d1 k r hr (by omega)]
    obtain ⟨a1, a2, a3, a4⟩ := s5 k r (by omega) hr
    exact ⟨a1, by rw [h1 k (by omega)]; exact a2, by rw [h1 (k + 1) (by omega)]; exact a3, a4⟩
  · subst z
    rw [d1 k r hr (by omega)]
    obtain ⟨a1, a2, a3, a4⟩ := s5 k r (by omega) hr
    exact ⟨a1, by rw [h1 k (by omega)]; exact a2, by rw [h2]; omega, a4⟩
  · obtain ⟨j, rfl⟩ : ∃ j, k = j + 1 := ⟨k - 1, by omega⟩
    have e1 := d2 (j + 1) r hr z (by omega)
    rw [Nat.add_sub_cancel] at e1
    rw [e1]
    obtain ⟨a1, a2, a3, a4⟩ := s5 j r (by omega) hr
    have e2 := h3 (j + 1 + 1) (by omega) (by omega)
    rw [Nat.add_sub_cancel] at e2
    by_cases w : j = c
    · subst w
      exact ⟨a1, by rw [h2]; omega, by rw [e2]; exact a3, a4⟩
    · have e3 := h3 (j + 1) (by omega) (by omega)
      rw [Nat.add_sub_cancel] at e3
      exact ⟨a1, by rw [e3]; exact a2, by rw [e2]; exact a3, a4⟩
theorem gf_G_row (h : gf_G C R B cx cy dr lf rt lo hi) {cy' dr' : Nat → Nat} {y r : Nat} (hr : gf_Ce R cy y r) (hy : cy r ≠ y)
    (h1 : ∀ i, i ≤ r → cy' i = cy i) (h2 : cy' (r + 1) = y) (h3 : ∀ i, r + 1 < i → i ≤ R + 1 → cy' i = cy (i - 1))
    (d1 : ∀ c k, c < C → k ≤ r → dr' (32 * c + k) = dr (32 * c + k)) (d2 : ∀ c k, c < C → r < k → k ≤ R → dr' (32 * c + k) = dr (32 * c + (k - 1))) : gf_G C (R + 1) B cx cy' dr' lf rt lo hi := by
  obtain ⟨s1, s2, s3, s4, s5, s6⟩ := h
  refine ⟨s1, gf_Sc_ins s2 hr hy h1 h2 h3, s3, s4, ?_, s6⟩
  obtain ⟨k1, k2, k3⟩ := hr
  intro c k hc hk
  rcases Nat.lt_trichotomy k r with z | z | z
  · rw [d1 c k hc (by omega)]
    obtain ⟨a1, a2, a3, a4, a5⟩ := s5 c k hc (by omega)
    exact ⟨a1, a2, a3, by rw [h1 k (by omega)]; exact a4, by rw [h1 (k + 1) (by omega)]; exact a5⟩
  · subst z
    rw [d1 c k hc (by omega)]
    obtain ⟨a1, a2, a3, a4, a5⟩ := s5 c k hc (by omega)
    exact ⟨a1, a2, a3, by rw [h1 k (by omega)]; exact a4, by rw [h2]; omega⟩
  · obtain ⟨j, rfl⟩ : ∃ j, k = j + 1 := ⟨k - 1, by omega⟩
    have e1 := d2 c (j + 1) hc z (by omega)
    rw [Nat.add_sub_cancel] at e1
    rw [e1]
    obtain ⟨a1, a2, a3, a4, a5⟩ := s5 c j hc (by omega)
    have e2 := h3 (j + 1 + 1) (by omega) (by omega)
    rw [Nat.add_sub_cancel] at e2
    by_cases w : j = r
    · subst w
      exact ⟨a1, a2, a3, by rw [h2]; omega, by rw [e2]; exact a5⟩
    · have e3 := h3 (j + 1) (by omega) (by omega)
      rw [Nat.add_sub_cancel] at e3
      exact ⟨a1, a2, a3, by rw [e3]; exact a4, by rw [e2]; exact a5⟩
/-- a bucket is split along x, its right part is the bucket B -/
theorem gf_G_spx (h : gf_G C R B cx cy dr lf rt lo hi) {b cut : Nat} {dr' : Nat → Nat} (hb : b < B) (hB : B < 64) (hl : lf b < cut) (hr : cut ≤ rt b) (hcut : ∃ c, c < C ∧ cx c = cut)
    (hd : ∀ c r, c < C → r < R → ((cut ≤ cx c ∧ cx c ≤ rt b ∧ lo b ≤ cy r ∧ cy r ≤ hi b) → dr' (32 * c + r) = B) ∧ (¬ (cut ≤ cx c ∧ cx c ≤ rt b ∧ lo b ≤ cy r ∧ cy r ≤ hi b) → dr' (32 * c + r) = dr (32 * c + r))) :
    gf_G C R (B + 1) cx cy dr' (gf_u lf B cut) (gf_u (gf_u rt B (rt b)) b (cut - 1)) (gf_u lo B (lo b)) (gf_u hi B (hi b)) := by
  obtain ⟨s1, s2, s3, s4, s5, s6⟩ := h
  have nb : b ≠ B := by omega
  have L : ∀ a, (a = B → gf_u lf B cut a = cut ∧ gf_u (gf_u rt B (rt b)) b (cut - 1) a = rt b ∧ gf_u lo B (lo b) a = lo b ∧ gf_u hi B (hi b) a = hi b) ∧
      (a = b → gf_u lf B cut a = lf b ∧ gf_u (gf_u rt B (rt b)) b (cut - 1) a = cut - 1 ∧ gf_u lo B (lo b) a = lo b ∧ gf_u hi B (hi b) a = hi b) ∧
      (a ≠ b → a ≠ B → gf_u lf B cut a = lf a ∧ gf_u (gf_u rt B (rt b)) b (cut - 1) a = rt a ∧ gf_u lo B (lo b) a = lo a ∧ gf_u hi B (hi b) a = hi a) := by
    intro a
    refine ⟨fun e => ?_, fun e => ?_, fun e1 e2 => ?_⟩
    · subst e
      exact ⟨gf_us, by rw [gf_un (by omega), gf_us], gf_us, gf_us⟩
    · subst e
      exact ⟨gf_un nb, gf_us, gf_un nb, gf_un nb⟩
    · exact ⟨gf_un e2, by rw [gf_un e1, gf_un e2], gf_un e2, gf_un e2⟩
  refine ⟨s1, s2, by omega, by omega, ?_, ?_⟩
  · intro c r hc hr'
    obtain ⟨a1, a2, a3, a4, a5⟩ := s5 c r hc hr'
    have i1 := s1.2.2.2 c hc
    have i2 := s2.2.2.2 r hr'
    by_cases z : cut ≤ cx c ∧ cx c ≤ rt b ∧ lo b ≤ cy r ∧ cy r ≤ hi b
    · rw [(hd c r hc hr').1 z]
      obtain ⟨l1, l2, l3, l4⟩ := (L B).1 rfl
      have e := s6 b (dr (32 * c + r)) (cx c) (cy r) hb a1 ⟨by omega, by omega, by omega, by omega⟩ ⟨by omega, by omega, by omega, by omega⟩
      rw [← e] at a2 a3 a4 a5
      exact ⟨by omega, by rw [l1]; omega, by rw [l2]; omega, by rw [l3]; omega, by rw [l4]; omega⟩
    · rw [(hd c r hc hr').2 z]
      by_cases w : dr (32 * c + r) = b
      · obtain ⟨l1, l2, l3, l4⟩ := (L (dr (32 * c + r))).2.1 w
        rw [w] at a2 a3 a4 a5
        refine ⟨by omega, by rw [l1]; omega, ?_, by rw [l3]; omega, by rw [l4]; omega⟩
        rw [l2]
        obtain ⟨c', hc', ec⟩ := hcut
        have lt : cx c < cut := by
          apply Nat.lt_of_not_le
          intro q
          exact z ⟨q, by omega, by omega, by omega⟩
        have cc : c < c' := by
          apply Nat.lt_of_not_le
          intro q
          have := gf_Sc_le s1 q (by omega)
          omega
        have := gf_Sc_le s1 (i := c + 1) (j := c') cc (by omega)
        omega
      · obtain ⟨l1, l2, l3, l4⟩ := (L (dr (32 * c + r))).2.2 w (by omega)
        exact ⟨by omega, by rw [l1]; omega, by rw [l2]; omega, by rw [l3]; omega, by rw [l4]; omega⟩
  · intro p q x y hp hq ip iq
    obtain ⟨p1, p2, p3, p4⟩ := ip
    obtain ⟨q1, q2, q3, q4⟩ := iq
    by_cases pb : p = b
    · obtain ⟨l1, l2, l3, l4⟩ := (L p).2.1 pb
      by_cases qb : q = b
      · omega
      · by_cases qB : q = B
        · obtain ⟨m1, m2, m3, m4⟩ := (L q).1 qB
          omega
        · obtain ⟨m1, m2, m3, m4⟩ := (L q).2.2 qb qB
          have := s6 b q x y hb (by omega) ⟨by omega, by omega, by omega, by omega⟩ ⟨by omega, by omega, by omega, by omega⟩
          omega
    · by_cases pB : p = B
      · obtain ⟨l1, l2, l3, l4⟩ := (L p).1 pB
        by_cases qb : q = b
        · obtain ⟨m1, m2, m3, m4⟩ := (L q).2.1 qb
          omega
        · by_cases qB : q = B
          · omega
          · obtain ⟨m1, m2, m3, m4⟩ := (L q).2.2 qb qB
            have := s6 b q x y hb (by omega) ⟨by omega, by omega, by omega, by omega⟩ ⟨by omega, by omega, by omega, by omega⟩
            omega
      · obtain ⟨l1, l2, l3, l4⟩ := (L p).2.2 pb pB
        by_cases qb : q = b
        · obtain ⟨m1, m2, m3, m4⟩ := (L q).2.1 qb
          have := s6 p b x y (by omega) hb ⟨by omega, by omega, by omega, by omega⟩ ⟨by omega, by omega, by omega, by omega⟩
          omega
        · by_cases qB : q = B
          · obtain ⟨m1, m2, m3, m4⟩ := (L q).1 qB
            have := s6 p b x y (by omega) hb ⟨by omega, by omega, by omega, by omega⟩ ⟨by omega, by omega, by omega, by omega⟩
            omega
          · obtain ⟨m1, m2, m3, m4⟩ := (L q).2.2 qb qB
            exact s6 p q x y (by omega) (by omega) ⟨by omega, by omega, by omega, by omega⟩ ⟨by omega, by omega, by omega, by omega⟩
/-- a bucket is split along y, its upper part is the bucket B -/
theorem gf_G_spy (h : gf_G C R B cx cy dr lf rt lo hi) {b cut : Nat} {dr' : Nat → Nat} (hb : b < B) (hB : B < 64) (hl : lo b < cut) (hr : cut ≤ hi b) (hcut : ∃ r, r < R ∧ cy r = cut)
    (hd : ∀ c r, c < C → r < R → ((lf b ≤ cx c ∧ cx c ≤ rt b ∧ cut ≤ cy r ∧ cy r ≤ hi b) → dr' (32 * c + r) = B) ∧ (¬ (lf b ≤ cx c ∧ cx c ≤ rt b ∧ cut ≤ cy r ∧ cy r ≤ hi b) → dr' (32 * c + r) = dr (32 * c + r))) :
    gf_G C R (B + 1) cx cy dr' (gf_u lf B (lf b)) (gf_u rt B (rt b)) (gf_u lo B cut) (gf_u (gf_u hi B (hi b)) b (cut - 1)) := by
  obtain ⟨s1, s2, s3, s4, s5, s6⟩ := h
  have nb : b ≠ B := by omega
  have L : ∀ a, (a = B → gf_u lf B (lf b) a = lf b ∧ gf_u rt B (rt b) a = rt b ∧ gf_u lo B cut a = cut ∧ gf_u (gf_u hi B (hi b)) b (cut - 1) a = hi b) ∧
      (a = b → gf_u lf B (lf b) a = lf b ∧ gf_u rt B (rt b) a = rt b ∧ gf_u lo B cut a = lo b ∧ gf_u (gf_u hi B (hi b)) b (cut - 1) a = cut - 1) ∧
      (a ≠ b → a ≠ B → gf_u lf B (lf b) a = lf a ∧ gf_u rt B (rt b) a = rt a ∧ gf_u lo B cut a = lo a ∧ gf_u (gf_u hi B (hi b)) b (cut - 1) a = hi a) := by
    intro a
    refine ⟨fun e => ?_, fun e => ?_, fun e1 e2 => ?_⟩
    · subst e
      exact ⟨gf_us, gf_us, gf_us, by rw [gf_un (by omega), gf_us]⟩
    · subst e
      exact ⟨gf_un nb, gf_un nb, gf_un nb, gf_us⟩
    · exact ⟨gf_un e2, gf_un e2, gf_un e2, by rw [gf_un e1, gf_un e2]⟩
  refine ⟨s1, s2, by omega, by omega, ?_, ?_⟩
  · intro c r hc hr'
    obtain ⟨a1, a2, a3, a4, a5⟩ := s5 c r hc hr'
    have i1 := s1.2.2.2 c hc
    have i2 := s2.2.2.2 r hr'
    by_cases z : lf b ≤ cx c ∧ cx c ≤ rt b ∧ cut ≤ cy r ∧ cy r ≤ hi b
    · rw [(hd c r hc hr').1 z]
      obtain ⟨l1, l2, l3, l4⟩ := (L B).1 rfl
      have e := s6 b (dr (32 * c + r)) (cx c) (cy r) hb a1 ⟨by omega, by omega, by omega, by omega⟩ ⟨by omega, by omega, by omega, by omega⟩
      rw [← e] at a2 a3 a4 a5
      exact ⟨by omega, by rw [l1]; omega, by rw [l2]; omega, by rw [l3]; omega, by rw [l4]; omega⟩
    · rw [(hd c r hc hr').2 z]
      by_cases w : dr (32 * c + r) = b
      · obtain ⟨l1, l2, l3, l4⟩ := (L (dr (32 * c + r))).2.1 w
        rw [w] at a2 a3 a4 a5
        refine ⟨by omega, by rw [l1]; omega, by rw [l2]; omega, by rw [l3]; omega, ?_⟩
        rw [l4]
        obtain ⟨c', hc', ec⟩ := hcut
        have lt : cy r < cut := by
          apply Nat.lt_of_not_le
          intro q
          exact z ⟨by omega, by omega, q, by omega⟩
        have cc : r < c' := by
          apply Nat.lt_of_not_le
          intro q
          have := gf_Sc_le s2 q (by omega)
          omega
        have := gf_Sc_le s2 (i := r + 1) (j := c') cc (by omega)
        omega
      · obtain ⟨l1, l2, l3, l4⟩ := (L (dr (32 * c + r))).2.2 w (by omega)
        exact ⟨by omega, by rw [l1]; omega, by rw [l2]; omega, by rw [l3]; omega, by rw [l4]; omega⟩
  · intro p q x y hp hq ip iq
    obtain ⟨p1, p2, p3, p4⟩ := ip
    obtain ⟨q1, q2, q3, q4⟩ := iq
    by_cases pb : p = b
    · obtain ⟨l1, l2, l3, l4⟩ := (L p).2.1 pb
      by_cases qb : q = b
      · omega
      · by_cases qB : q = B
        · obtain ⟨m1, m2, m3, m4⟩ := (L q).1 qB
          omega
        · obtain ⟨m1, m2, m3, m4⟩ := (L q).2.2 qb qB
          have := s6 b q x y hb (by omega) ⟨by omega, by omega, by omega, by omega⟩ ⟨by omega, by omega, by omega, by omega⟩
          omega
    · by_cases pB : p = B
      · obtain ⟨l1, l2, l3, l4⟩ := (L p).1 pB
        by_cases qb : q = b
        · obtain ⟨m1, m2, m3, m4⟩ := (L q).2.1 qb
          omega
        · by_cases qB : q = B
          · omega
          · obtain ⟨m1, m2, m3, m4⟩ := (L q).2.2 qb qB
            have := s6 b q x y hb (by omega) ⟨by omega, by omega, by omega, by omega⟩ ⟨by omega, by omega, by omega, by omega⟩
            omega
      · obtain ⟨l1, l2, l3, l4⟩ := (L p).2.2 pb pB
        by_cases qb : q = b
        · obtain ⟨m1, m2, m3, m4⟩ := (L q).2.1 qb
          have := s6 p b x y (by omega) hb ⟨by omega, by omega, by omega, by omega⟩ ⟨by omega, by omega, by omega, by omega⟩
          omega
        · by_cases qB : q = B
          · obtain ⟨m1, m2, m3, m4⟩ := (L q).1 qB
            have := s6 p b x y (by omega) hb ⟨by omega, by omega, by omega, by omega⟩ ⟨by omega, by omega, by omega, by omega⟩
            omega
          · obtain ⟨m1, m2, m3, m4⟩ := (L q).2.2 qb qB
            exact s6 p q x y (by omega) (by omega) ⟨by omega, by omega, by omega, by omega⟩ ⟨by omega, by omega, by omega, by omega⟩
end GRID
end
section
/-! points in buckets -/
def gf_AB (cx cy dr sz lf rt lo hi pl : Nat → Nat) : Prop := ∀ j, cx j ≤ 32 ∧ cy j ≤ 32 ∧ dr j < 64 ∧ sz j ≤ 4 ∧ lf j < 32 ∧ rt j < 32 ∧ lo j < 32 ∧ hi j < 32 ∧ pl j < 1024
def gf_P (B : Nat) (sz lf rt lo hi pl : Nat → Nat) (vs : Nat → Int32) : Prop := ∀ b, b < B → ∀ e, e ∈ gf_bk sz pl vs b → gf_In lf rt lo hi b (e.1 / 32) (e.1 % 32)
def gf_J (C R B : Nat) (cx cy dr sz lf rt lo hi pl : Nat → Nat) (vs : Nat → Int32) (L : List (Nat × Int32)) : Prop :=
  gf_AB cx cy dr sz lf rt lo hi pl ∧ gf_G C R B cx cy dr lf rt lo hi ∧ gf_P B sz lf rt lo hi pl vs ∧ (gf_ct B sz pl vs).Perm L ∧ (L.map Prod.fst).Nodup
def gf_has (L : List (Nat × Int32)) (p : Nat) : Prop := ∃ v, (p, v) ∈ L
theorem gf_has_key {L : List (Nat × Int32)} {p : Nat} : gf_has L p ↔ p ∈ L.map Prod.fst := by
  rw [List.mem_map]
  exact ⟨fun ⟨v, h⟩ => ⟨(p, v), h, rfl⟩, fun ⟨e, h, he⟩ => ⟨e.2, by rw [← he]; exact h⟩⟩
theorem gf_has_perm {L M : List (Nat × Int32)} (h : L.Perm M) {p : Nat} : gf_has L p ↔ gf_has M p :=
  ⟨fun ⟨v, hv⟩ => ⟨v, h.mem_iff.mp hv⟩, fun ⟨v, hv⟩ => ⟨v, h.mem_iff.mpr hv⟩⟩
/-- one key, one value -/
theorem gf_key {L : List (Nat × Int32)} (hn : (L.map Prod.fst).Nodup) : ∀ {e e' : Nat × Int32}, e ∈ L → e' ∈ L → e.1 = e'.1 → e = e' := by
  induction L with
  | nil => intro e e' h; cases h
  | cons a l ih =>
    intro e e' h h' q
    rw [List.map_cons, List.nodup_cons] at hn
    rcases List.mem_cons.mp h with rfl | h1
    · rcases List.mem_cons.mp h' with rfl | h2
      · rfl
      · exact absurd (q ▸ List.mem_map_of_mem h2) hn.1
    · rcases List.mem_cons.mp h' with rfl | h2
      · exact absurd (q ▸ List.mem_map_of_mem h1) hn.1
      · exact ih hn.2 h1 h2 q
section PTS
variable {C R B : Nat} {cx cy dr sz lf rt lo hi pl : Nat → Nat} {vs : Nat → Int32} {L : List (Nat × Int32)}
theorem gf_J_mem (h : gf_J C R B cx cy dr sz lf rt lo hi pl vs L) {e : Nat × Int32} : e ∈ L ↔ ∃ b k, b < B ∧ k < sz b ∧ (pl (4 * b + k), vs (4 * b + k)) = e := by
  rw [← h.2.2.2.1.mem_iff]
  exact gf_ct_mem
theorem gf_J_in (h : gf_J C R B cx cy dr sz lf rt lo hi pl vs L) {b k : Nat} (hb : b < B) (hk : k < sz b) : gf_In lf rt lo hi b (pl (4 * b + k) / 32) (pl (4 * b + k) % 32) :=
  h.2.2.1 b hb _ (gf_bk_mem.mpr ⟨k, hk, rfl⟩)
theorem gf_J_at (h : gf_J C R B cx cy dr sz lf rt lo hi pl vs L) {b k : Nat} (hb : b < B) (hk : k < sz b) : (pl (4 * b + k), vs (4 * b + k)) ∈ L :=
  (gf_J_mem h).mpr ⟨b, k, hb, hk, rfl⟩
theorem gf_J_bnd (h : gf_J C R B cx cy dr sz lf rt lo hi pl vs L) {b k : Nat} (hb : b < B) (hk : k < sz b) : 4 * b + k < 256 ∧ b < 64 ∧ k < 4 ∧ pl (4 * b + k) < 1024 := by
  have h1 := h.1 b
  have h2 := h.1 (4 * b + k)
  have h3 := h.2.1.2.2.2.1
  omega
theorem gf_J_1024 (h : gf_J C R B cx cy dr sz lf rt lo hi pl vs L) {e : Nat × Int32} (he : e ∈ L) : e.1 < 1024 := by
  obtain ⟨b, k, hb, hk, rfl⟩ := (gf_J_mem h).mp he
  exact (gf_J_bnd h hb hk).2.2.2
theorem gf_J_uniq (h : gf_J C R B cx cy dr sz lf rt lo hi pl vs L) {b k b' k' : Nat} (hb : b < B) (hk : k < sz b) (hb' : b' < B) (hk' : k' < sz b') (e : pl (4 * b + k) = pl (4 * b' + k')) : b = b' ∧ k = k' := by
  have i1 := gf_J_in h hb hk
  have i2 := gf_J_in h hb' hk'
  rw [← e] at i2
  have e1 : b = b' := h.2.1.2.2.2.2.2 b b' _ _ hb hb' i1 i2
  subst e1
  refine ⟨rfl, ?_⟩
  obtain ⟨rest, hr⟩ := gf_pick (gf_bk sz pl vs) hb
  have p1 := (hr (gf_bk sz pl vs) (fun _ _ _ => rfl)).symm.trans h.2.2.2.1
  have p2 := (p1.map Prod.fst).nodup_iff.mpr h.2.2.2.2
  rw [List.map_append, List.nodup_append] at p2
  have p3 := p2.1
  have len : ((gf_bk sz pl vs b).map Prod.fst).length = sz b := by rw [List.length_map, gf_bk_len]
  have g : ∀ q, q < sz b → ((gf_bk sz pl vs b).map Prod.fst)[q]? = some (pl (4 * b + q)) := by
    intro q hq
    rw [List.getElem?_eq_getElem (by rw [len]; exact hq)]
    simp only [gf_bk, List.getElem_map, List.getElem_range]
  refine (List.getElem?_inj (by rw [len]; exact hk) p3).mp ?_
  rw [g k hk, g k' hk', e]
/-- a value is overwritten -/
def gf_setL (L : List (Nat × Int32)) (p : Nat) (v : Int32) : List (Nat × Int32) := L.map (fun e => if e.1 = p then (p, v) else e)
theorem gf_setL_keys {p : Nat} {v : Int32} : (gf_setL L p v).map Prod.fst = L.map Prod.fst := by
  rw [gf_setL, List.map_map]
  apply List.map_congr_left
  intro e _
  show (if e.1 = p then (p, v) else e).1 = e.1
  by_cases h : e.1 = p
  · rw [if_pos h]; exact h.symm
  · rw [if_neg h]
theorem gf_J_set (h : gf_J C R B cx cy dr sz lf rt lo hi pl vs L) {b k : Nat} (hb : b < B) (hk : k < sz b) (v : Int32) : gf_J C R B cx cy dr sz lf rt lo hi pl (upd vs (4 * b + k) v) (gf_setL L (pl (4 * b + k)) v) := by
  have key : ∀ b', b' < B → gf_bk sz pl (upd vs (4 * b + k) v) b' = (gf_bk sz pl vs b').map (fun e => if e.1 = pl (4 * b + k) then (pl (4 * b + k), v) else e) := by
    intro b' hb'
    rw [gf_bk, gf_bk, List.map_map]
    apply List.map_congr_left
    intro k' hk'
    have hk' := List.mem_range.mp hk'
    show (pl (4 * b' + k'), upd vs (4 * b + k) v (4 * b' + k')) = (if pl (4 * b' + k') = pl (4 * b + k) then (pl (4 * b + k), v) else (pl (4 * b' + k'), vs (4 * b' + k')))
    by_cases q : pl (4 * b' + k') = pl (4 * b + k)
    · obtain ⟨e1, e2⟩ := gf_J_uniq h hb' hk' hb hk q
      subst e1
      subst e2
      rw [if_pos rfl, pk_us]
    · rw [if_neg q, pk_un (fun z => q (by rw [z]))]
  refine ⟨h.1, h.2.1, ?_, ?_, by rw [gf_setL_keys]; exact h.2.2.2.2⟩
  · intro b' hb' e he
    rw [key b' hb', List.mem_map] at he
    obtain ⟨e0, h0, he⟩ := he
    have i := h.2.2.1 b' hb' e0 h0
    by_cases q : e0.1 = pl (4 * b + k)
    · rw [if_pos q] at he
      rw [← he]
      show gf_In lf rt lo hi b' (pl (4 * b + k) / 32) (pl (4 * b + k) % 32)
      rw [← q]
      exact i
    · rw [if_neg q] at he
      rw [← he]
      exact i
  · have e : gf_ct B sz pl (upd vs (4 * b + k) v) = (gf_ct B sz pl vs).map (fun e => if e.1 = pl (4 * b + k) then (pl (4 * b + k), v) else e) := by
      rw [gf_ct, gf_ct, List.map_flatMap, List.flatMap_def, List.flatMap_def]
      congr 1
      apply List.map_congr_left
      intro b' hb'
      exact key b' (List.mem_range.mp hb')
    rw [e]
    exact h.2.2.2.1.map _
/-- a point comes into a bucket with room -/
theorem gf_J_add (h : gf_J C R B cx cy dr sz lf rt lo hi pl vs L) {b p : Nat} (v : Int32) (hb : b < B) (hs : sz b < 4) (hp : p < 1024) (hi' : gf_In lf rt lo hi b (p / 32) (p % 32)) (hn : ¬ gf_has L p) :
    gf_J C R B cx cy dr (gf_u sz b (sz b + 1)) lf rt lo hi (gf_u pl (4 * b + sz b) p) (upd vs (4 * b + sz b) v) ((p, v) :: L) := by
  have k1 : gf_bk (gf_u sz b (sz b + 1)) (gf_u pl (4 * b + sz b) p) (upd vs (4 * b + sz b) v) b = gf_bk sz pl vs b ++ [(p, v)] := by
    apply gf_bk_of
    · apply gf_A_snoc (Q := gf_Q pl vs) gf_bk_A
      · rw [gf_bk_len]
        exact ⟨gf_us, pk_us⟩
      · intro j e hj q
        rw [gf_bk_len] at hj
        exact ⟨(gf_un hj).trans q.1, (pk_un hj).trans q.2⟩
    · rw [gf_us, List.length_append, gf_bk_len]
      rfl
  have k2 : ∀ b', b' ≠ b → gf_bk (gf_u sz b (sz b + 1)) (gf_u pl (4 * b + sz b) p) (upd vs (4 * b + sz b) v) b' = gf_bk sz pl vs b' := by
    intro b' hb'
    apply gf_bk_eq (gf_un hb')
    intro k hk
    have := h.1 b'
    have ne : 4 * b' + k ≠ 4 * b + sz b := by omega
    exact ⟨gf_un ne, pk_un ne⟩
  refine ⟨?_, h.2.1, ?_, ?_, ?_⟩
  · intro j
    have := h.1 j
    refine ⟨this.1, this.2.1, this.2.2.1, ?_, this.2.2.2.2.1, this.2.2.2.2.2.1, this.2.2.2.2.2.2.1, this.2.2.2.2.2.2.2.1, ?_⟩
    · by_cases q : j = b
      · rw [q, gf_us]; omega
      · rw [gf_un q]; exact this.2.2.2.1
    · by_cases q : j = 4 * b + sz b
      · rw [q, gf_us]; exact hp
      · rw [gf_un q]; exact this.2.2.2.2.2.2.2.2
  · intro b' hb' e he
    by_cases q : b' = b
    · subst q
      rw [k1, List.mem_append, List.mem_singleton] at he
      rcases he with he | rfl
      · exact h.2.2.1 b' hb' e he
      · exact hi'
    · rw [k2 b' q] at he
      exact h.2.2.1 b' hb' e he
  · obtain ⟨rest, hr⟩ := gf_pick (gf_bk sz pl vs) hb
    have p1 := (hr (gf_bk sz pl vs) (fun _ _ _ => rfl)).symm.trans h.2.2.2.1
    have p2 := hr (gf_bk (gf_u sz b (sz b + 1)) (gf_u pl (4 * b + sz b) p) (upd vs (4 * b + sz b) v)) (fun j _ hj => k2 j hj)
    rw [k1, List.append_assoc] at p2
    exact p2.trans (List.perm_middle.trans (List.Perm.cons _ p1))
  · rw [List.map_cons, List.nodup_cons]
    exact ⟨fun z => hn (gf_has_key.mpr z), h.2.2.2.2⟩
/-- a point goes: the bucket's last comes into its place -/
theorem gf_J_drop (h : gf_J C R B cx cy dr sz lf rt lo hi pl vs L) {b k : Nat} (hb : b < B) (hk : k < sz b) {M : List (Nat × Int32)} (hM : L.Perm ((pl (4 * b + k), vs (4 * b + k)) :: M)) :
    gf_J C R B cx cy dr (gf_u sz b (sz b - 1)) lf rt lo hi (gf_u pl (4 * b + k) (pl (4 * b + (sz b - 1)))) (upd vs (4 * b + k) (vs (4 * b + (sz b - 1)))) M := by
  have k1 : (gf_bk sz pl vs b).Perm ((pl (4 * b + k), vs (4 * b + k)) :: gf_bk (gf_u sz b (sz b - 1)) (gf_u pl (4 * b + k) (pl (4 * b + (sz b - 1)))) (upd vs (4 * b + k) (vs (4 * b + (sz b - 1)))) b) := by
    obtain ⟨n, hn⟩ : ∃ n, sz b = n + 1 := ⟨sz b - 1, by omega⟩
    rw [gf_bk, gf_bk, gf_us, hn, Nat.add_sub_cancel, List.range_succ, List.map_append]
    show (_ ++ [(pl (4 * b + n), vs (4 * b + n))]).Perm _
    by_cases q : k = n
    · subst q
      have e : (List.range k).map (fun k_1 => (gf_u pl (4 * b + k) (pl (4 * b + k)) (4 * b + k_1), upd vs (4 * b + k) (vs (4 * b + k)) (4 * b + k_1))) = (List.range k).map (fun k_1 => (pl (4 * b + k_1), vs (4 * b + k_1))) := by
        apply List.map_congr_left
        intro j hj
        have hj := List.mem_range.mp hj
        have ne : 4 * b + j ≠ 4 * b + k := by omega
        rw [gf_un ne, pk_un ne]
      rw [e]
      exact List.perm_append_singleton _ _
    · obtain ⟨rest, hr⟩ := gf_pickm (fun j => (pl (4 * b + j), vs (4 * b + j))) (n := n) (k := k) (by omega)
      have p1 := hr (fun j => (pl (4 * b + j), vs (4 * b + j))) (fun _ _ _ => rfl)
      have p2 := hr (fun j => (gf_u pl (4 * b + k) (pl (4 * b + n)) (4 * b + j), upd vs (4 * b + k) (vs (4 * b + n)) (4 * b + j))) (fun j _ hj => by
        have ne : 4 * b + j ≠ 4 * b + k := by omega
        show (gf_u pl (4 * b + k) (pl (4 * b + n)) (4 * b + j), upd vs (4 * b + k) (vs (4 * b + n)) (4 * b + j)) = _
        rw [gf_un ne, pk_un ne])
      simp only [gf_us, pk_us] at p2
      refine (p1.append_right _).trans ?_
      refine List.Perm.cons _ ?_
      exact (List.perm_append_singleton _ _).trans p2.symm
  have k2 : ∀ b', b' ≠ b → gf_bk (gf_u sz b (sz b - 1)) (gf_u pl (4 * b + k) (pl (4 * b + (sz b - 1)))) (upd vs (4 * b + k) (vs (4 * b + (sz b - 1)))) b' = gf_bk sz pl vs b' := by
    intro b' hb'
    apply gf_bk_eq (gf_un hb')
    intro k' hk'
    have := h.1 b'
    have := h.1 b
    have ne : 4 * b' + k' ≠ 4 * b + k := by omega
    exact ⟨gf_un ne, pk_un ne⟩
  refine ⟨?_, h.2.1, ?_, ?_, ?_⟩
  · intro j
    have := h.1 j
    refine ⟨this.1, this.2.1, this.2.2.1, ?_, this.2.2.2.2.1, this.2.2.2.2.2.1, this.2.2.2.2.2.2.1, this.2.2.2.2.2.2.2.1, ?_⟩
    · by_cases q : j = b
      · rw [q, gf_us]; have := h.1 b; omega
      · rw [gf_un q]; exact this.2.2.2.1
    · by_cases q : j = 4 * b + k
      · rw [q, gf_us]; exact (h.1 _).2.2.2.2.2.2.2.2
      · rw [gf_un q]; exact this.2.2.2.2.2.2.2.2
  · intro b' hb' e he
    by_cases q : b' = b
    · subst q
      exact h.2.2.1 b' hb' e (k1.mem_iff.mpr (List.mem_cons_of_mem _ he))
    · rw [k2 b' q] at he
      exact h.2.2.1 b' hb' e he
  · obtain ⟨rest, hr⟩ := gf_pick (gf_bk sz pl vs) hb
    have p1 := (hr (gf_bk sz pl vs) (fun _ _ _ => rfl)).symm.trans (h.2.2.2.1.trans hM)
    have p2 := hr (gf_bk (gf_u sz b (sz b - 1)) (gf_u pl (4 * b + k) (pl (4 * b + (sz b - 1)))) (upd vs (4 * b + k) (vs (4 * b + (sz b - 1))))) (fun j _ hj => k2 j hj)
    have p3 := (k1.append_right rest).symm.trans p1
    exact p2.trans (List.Perm.cons_inv p3)
  · have := (hM.map Prod.fst).nodup_iff.mp h.2.2.2.2
    rw [List.map_cons, List.nodup_cons] at this
    exact this.2
/-- buckets after a split: b keeps some, B gets the others -/
theorem gf_ct_split {sz' pl' : Nat → Nat} {vs' : Nat → Int32} {b : Nat} (hb : b < B) (f : Nat × Int32 → Bool)
    (h1 : gf_bk sz' pl' vs' b = (gf_bk sz pl vs b).filter f) (h2 : gf_bk sz' pl' vs' B = (gf_bk sz pl vs b).filter (fun e => !f e)) (h3 : ∀ b', b' < B → b' ≠ b → gf_bk sz' pl' vs' b' = gf_bk sz pl vs b') :
    (gf_ct (B + 1) sz' pl' vs').Perm (gf_ct B sz pl vs) := by
  obtain ⟨rest, hr⟩ := gf_pick (gf_bk sz pl vs) hb
  have p1 := hr (gf_bk sz pl vs) (fun _ _ _ => rfl)
  have p2 := hr (gf_bk sz' pl' vs') (fun j hj hn => h3 j hj hn)
  rw [gf_ct, List.range_succ, List.flatMap_append, List.flatMap_singleton, h2]
  rw [h1] at p2
  refine (p2.append_right _).trans ?_
  refine List.Perm.trans ?_ p1.symm
  refine (List.perm_append_comm).trans ?_
  rw [← List.append_assoc]
  refine List.Perm.append_right _ ?_
  exact List.perm_append_comm.trans (List.filter_append_perm f _)
end PTS
end
section
/-! arguments: places, rectangles -/
theorem gf_i31 : (31 : Int32).toInt = 31 := by decide
theorem gf_i1023 : (1023 : Int32).toInt = 1023 := by decide
theorem gf_n31 {x : Int32} (h : nI 32 ≤ x) : ¬ x ≤ 31 := by
  rw [Int32.le_iff_toInt_le, nI_toInt (by decide)] at h
  rw [Int32.le_iff_toInt_le, gf_i31]
  omega
theorem gf_n1023 {x : Int32} (h : nI 1024 ≤ x) : ¬ x ≤ 1023 := by
  rw [Int32.le_iff_toInt_le, nI_toInt (by decide)] at h
  rw [Int32.le_iff_toInt_le, gf_i1023]
  omega
theorem gf_l1023 {x : Int32} (h : nI 1024 ≤ x) : 1023 < x := by
  rw [Int32.le_iff_toInt_le, nI_toInt (by decide)] at h
  rw [Int32.lt_iff_toInt_lt, gf_i1023]
  omega
theorem gf_nneg {x : Int32} {n : Nat} (hn : n < 2 ^ 31) (h : nI n ≤ x) : ¬ x < 0 := by
  rw [Int32.le_iff_toInt_le, nI_toInt hn] at h
  rw [Int32.lt_iff_toInt_lt, show (0 : Int32).toInt = 0 from by decide]
  omega
/-- x is a number below n -/
def gf_Co (n : Nat) (x : Int32) : Prop := ∃ a, a < n ∧ x = nI a
theorem gf_Co_neg {n : Nat} (hn : n < 2 ^ 31) {x : Int32} (h : x < 0) : ¬ gf_Co n x := by
  rintro ⟨a, ha, rfl⟩
  exact nI_pos (by omega) h
theorem gf_Co_big {n : Nat} (hn : n < 2 ^ 31) {x : Int32} (h : nI n ≤ x) : ¬ gf_Co n x := by
  rintro ⟨a, ha, rfl⟩
  exact nI_ge ha hn h
def gf_Pl (x y : Int32) : Prop := gf_Co 32 x ∧ gf_Co 32 y
theorem gx_isPlace {post : Int32 → Prop} (x y : Int32) (h1 : ∀ a b, a < 32 → b < 32 → x = nI a → y = nI b → post 1) (h2 : ¬ gf_Pl x y → post 0) : wpX_isPlace post x y := by
  rcases pk_ix x (n := 32) (by decide) with h | h | ⟨a, ha, rfl⟩
  · exact br_t h (h2 fun z => gf_Co_neg (by decide) h z.1)
  · exact br_f (gf_nneg (by decide) h) (br_t h (h2 fun z => gf_Co_big (by decide) h z.1))
  · refine br_f (nI_pos (by omega)) (br_f (nI_ge (b := 32) ha (by decide)) ?_)
    rcases pk_ix y (n := 32) (by decide) with h | h | ⟨b, hb, rfl⟩
    · exact br_t h (h2 fun z => gf_Co_neg (by decide) h z.2)
    · exact br_f (gf_nneg (by decide) h) (br_t h (h2 fun z => gf_Co_big (by decide) h z.2))
    · exact br_f (nI_pos (by omega)) (br_f (nI_ge (b := 32) hb (by decide)) (h1 a b ha hb rfl rfl))
section YB
variable {post : Int32 → Prop} {s : Int32} {px py wo : Nat → Int32}
theorem gy_bad (x : Int32) (h1 : ∀ a, a < 32 → x = nI a → post 0) (h2 : ¬ gf_Co 32 x → post 1) : wpY_bad post (s, px, py, wo) x := by
  rcases pk_ix x (n := 32) (by decide) with h | h | ⟨a, ha, rfl⟩
  · exact br_t h (h2 (gf_Co_neg (by decide) h))
  · exact br_f (gf_nneg (by decide) h) (br_f (gf_n31 h) (h2 (gf_Co_big (by decide) h)))
  · exact br_f (nI_pos (by omega)) (br_t (nI_le (b := 31) (by omega) (by decide)) (h1 a ha rfl))
theorem gy_badPlace (x : Int32) (h1 : ∀ a, a < 1024 → x = nI a → post 0) (h2 : ¬ gf_Co 1024 x → post 1) : wpY_badPlace post (s, px, py, wo) x := by
  rcases pk_ix x (n := 1024) (by decide) with h | h | ⟨a, ha, rfl⟩
  · exact br_t h (h2 (gf_Co_neg (by decide) h))
  · exact br_f (gf_nneg (by decide) h) (br_f (gf_n1023 h) (h2 (gf_Co_big (by decide) h)))
  · exact br_f (nI_pos (by omega)) (br_t (nI_le (b := 1023) (by omega) (by decide)) (h1 a ha rfl))
end YB
/-- a rectangle by its two corners -/
def gf_Re (x y : Int32) : Prop := ∃ a b, a < 1024 ∧ b < 1024 ∧ x = nI a ∧ y = nI b ∧ a / 32 ≤ b / 32 ∧ a % 32 ≤ b % 32
theorem gf_Re_1 {x y : Int32} (h : ¬ gf_Co 1024 x) : ¬ gf_Re x y := fun ⟨a, _, ha, _, hx, _⟩ => h ⟨a, ha, hx⟩
theorem gf_Re_2 {x y : Int32} (h : ¬ gf_Co 1024 y) : ¬ gf_Re x y := fun ⟨_, b, _, hb, _, hy, _⟩ => h ⟨b, hb, hy⟩
theorem gf_Re_n {a b : Nat} (ha : a < 1024) (hb : b < 1024) (h : ¬ (a / 32 ≤ b / 32 ∧ a % 32 ≤ b % 32)) : ¬ gf_Re (nI a) (nI b) := by
  rintro ⟨a', b', ha', hb', hx, hy, h1, h2⟩
  have e1 := (nI_eq (by omega) (by omega)).mp hx
  have e2 := (nI_eq (by omega) (by omega)).mp hy
  subst e1
  subst e2
  exact h ⟨h1, h2⟩
theorem gx_isRectangle {post : Int32 → Prop} (x y : Int32) (h1 : ∀ a b, a < 1024 → b < 1024 → x = nI a → y = nI b → a / 32 ≤ b / 32 → a % 32 ≤ b % 32 → post 1) (h2 : ¬ gf_Re x y → post 0) : wpX_isRectangle post x y := by
  have z27 : ¬ gf_Re x y → wX_isRectangle_26 post x y := fun z => br_t rfl (h2 z)
  rcases pk_ix x (n := 1024) (by decide) with h | h | ⟨a, ha, rfl⟩
  · exact br_t h (z27 (gf_Re_1 (gf_Co_neg (by decide) h)))
  · exact br_f (gf_nneg (by decide) h) (br_t (gf_l1023 h) (z27 (gf_Re_1 (gf_Co_big (by decide) h))))
  · refine br_f (nI_pos (by omega)) (br_f (nI_nlt (a := 1023) (by omega) (by decide)) ?_)
    rcases pk_ix y (n := 1024) (by decide) with h | h | ⟨b, hb, rfl⟩
    · exact br_t h (z27 (gf_Re_2 (gf_Co_neg (by decide) h)))
    · exact br_f (gf_nneg (by decide) h) (br_t (gf_l1023 h) (z27 (gf_Re_2 (gf_Co_big (by decide) h))))
    · refine br_f (nI_pos (by omega)) (br_f (nI_nlt (a := 1023) (by omega) (by decide)) ?_)
      refine br_f (by decide) ?_
      refine pk_lt (b / 32) (a / 32) (fun q => h2 (gf_Re_n ha hb (by omega))) (fun q => ?_) (gf_sh5 (by omega)) (gf_sh5 (by omega))
      exact pk_lt (b % 32) (a % 32) (fun q => h2 (gf_Re_n ha hb (by omega))) (fun q' => h1 a b ha hb rfl rfl q q') (gf_a31 (by omega)) (gf_a31 (by omega))
theorem gy_badRectangle {post : Int32 → Prop} {s : Int32} {px py wo : Nat → Int32} (x y : Int32) (h1 : ∀ a b, a < 1024 → b < 1024 → x = nI a → y = nI b → a / 32 ≤ b / 32 → a % 32 ≤ b % 32 → post 0) (h2 : ¬ gf_Re x y → post 1) : wpY_badRectangle post (s, px, py, wo) x y := by
  unfold wpY_badRectangle
  refine gy_badPlace x (fun a ha hx => br_t rfl ?_) (fun z => br_f (by decide) (h2 (gf_Re_1 z)))
  refine gy_badPlace y (fun b hb hy => br_t rfl ?_) (fun z => br_f (by decide) (h2 (gf_Re_2 z)))
  subst hx hy
  refine ⟨by decide, by decide, ?_⟩
  refine pk_lt (b / 32) (a / 32) (fun q => h2 (gf_Re_n ha hb (by omega))) (fun q => ?_) (gf_d32 (by omega)) (gf_d32 (by omega))
  refine ⟨by decide, by decide, ?_⟩
  exact pk_le (a % 32) (b % 32) (fun q' => h1 a b ha hb rfl rfl q q') (fun q' => h2 (gf_Re_n ha hb (by omega))) (gf_r32 (by omega)) (gf_r32 (by omega))
end
section
/-! the reference: its arrays hold the list -/
def gf_QY (px py wo : Nat → Int32) (j : Nat) (e : Nat × Int32) : Prop := px j = nI (e.1 / 32) ∧ py j = nI (e.1 % 32) ∧ wo j = e.2
def gf_ok (L : List (Nat × Int32)) : Prop := (L.map Prod.fst).Nodup ∧ L.length ≤ 40 ∧ ∀ e, e ∈ L → e.1 < 1024
def gf_YI (v : SY) (L : List (Nat × Int32)) : Prop := gf_ok L ∧ ∃ px py wo : Nat → Int32, v = (nI L.length, px, py, wo) ∧ gf_A (gf_QY px py wo) 0 L
def gf_ins (a b : Nat) (e : Nat × Int32) : Bool := decide (a / 32 ≤ e.1 / 32 ∧ e.1 / 32 ≤ b / 32 ∧ a % 32 ≤ e.1 % 32 ∧ e.1 % 32 ≤ b % 32)
theorem gf_ins_t {a b : Nat} {e : Nat × Int32} (h : a / 32 ≤ e.1 / 32 ∧ e.1 / 32 ≤ b / 32 ∧ a % 32 ≤ e.1 % 32 ∧ e.1 % 32 ≤ b % 32) : gf_ins a b e = true := decide_eq_true h
theorem gf_ins_f {a b : Nat} {e : Nat × Int32} (h : ¬ (a / 32 ≤ e.1 / 32 ∧ e.1 / 32 ≤ b / 32 ∧ a % 32 ≤ e.1 % 32 ∧ e.1 % 32 ≤ b % 32)) : gf_ins a b e = false := decide_eq_false h
theorem gf_ins_i {a b : Nat} {e : Nat × Int32} (h : gf_ins a b e = true) : a / 32 ≤ e.1 / 32 ∧ e.1 / 32 ≤ b / 32 ∧ a % 32 ≤ e.1 % 32 ∧ e.1 % 32 ≤ b % 32 := of_decide_eq_true h
theorem gf_snl {α : Type} (P : List α) (e : α) : nI P.length + 1 = nI (P ++ [e]).length := by rw [nI_1, List.length_append]; rfl
theorem gf_asc {α : Type} {L P Q : List α} {e : α} (h : L = P ++ e :: Q) : L = (P ++ [e]) ++ Q := by rw [h, List.append_assoc]; rfl
theorem gf_lenc {α : Type} {L P Q : List α} {e : α} (h : L = P ++ e :: Q) : L.length = P.length + Q.length + 1 := by rw [h, List.length_append, List.length_cons]; omega
theorem gf_memc {α : Type} {L P Q : List α} {e : α} (h : L = P ++ e :: Q) : e ∈ L := by rw [h]; exact List.mem_append_right _ (List.mem_cons_self ..)
theorem gf_snoc_all {α : Type} {P : List α} {e : α} {p : α → Prop} (h : ∀ x, x ∈ P → p x) (he : p e) : ∀ x, x ∈ P ++ [e] → p x := by
  intro x hx
  rcases List.mem_append.mp hx with h1 | h1
  · exact h x h1
  · rw [List.mem_singleton.mp h1]; exact he
section YL
variable {px py wo : Nat → Int32} {L : List (Nat × Int32)}
theorem gf_yat (hA : gf_A (gf_QY px py wo) 0 L) {P Q : List (Nat × Int32)} {e : Nat × Int32} (hP : L = P ++ e :: Q) (hl : L.length ≤ 40) : vp_in (nI P.length) 40 ∧ (nI P.length).toNatClampNeg = P.length ∧ px P.length = nI (e.1 / 32) ∧ py P.length = nI (e.1 % 32) ∧ wo P.length = e.2 := by
  have q : gf_QY px py wo (0 + P.length) e := gf_A_at (hP ▸ hA)
  rw [Nat.zero_add] at q
  have := gf_lenc hP
  exact ⟨vp_in_nI (by omega) (by decide), nI_clamp (by omega), q⟩
theorem gy_find2 {post : Int32 → Prop} {x y : Int32} (hA : gf_A (gf_QY px py wo) 0 L) (hl : L.length ≤ 40)
    (hf : ∀ P e Q, L = P ++ e :: Q → nI (e.1 / 32) = x → nI (e.1 % 32) = y → (∀ e', e' ∈ P → ¬ (nI (e'.1 / 32) = x ∧ nI (e'.1 % 32) = y)) → post (nI P.length))
    (hn : (∀ e, e ∈ L → ¬ (nI (e.1 / 32) = x ∧ nI (e.1 % 32) = y)) → post (-1)) :
    ∀ (Q P : List (Nat × Int32)), L = P ++ Q → (∀ e', e' ∈ P → ¬ (nI (e'.1 / 32) = x ∧ nI (e'.1 % 32) = y)) → ∀ n, Q.length < n → wY_find_2 post x y (nI L.length) px py wo n (nI P.length) := by
  intro Q
  induction Q with
  | nil =>
    intro P hP hp n hn'
    obtain ⟨m, rfl⟩ : ∃ m, n = m + 1 := ⟨n - 1, by omega⟩
    rw [List.append_nil] at hP
    subst hP
    exact br_t (nI_le (Nat.le_refl _) (by omega)) (hn hp)
  | cons e Q ih =>
    intro P hP hp n hn'
    obtain ⟨m, rfl⟩ : ∃ m, n = m + 1 := ⟨n - 1, by omega⟩
    rw [List.length_cons] at hn'
    obtain ⟨vi, cl, q1, q2, q3⟩ := gf_yat hA hP hl
    have len := gf_lenc hP
    have go : (¬ (nI (e.1 / 32) = x ∧ nI (e.1 % 32) = y)) → ∀ z, z = nI P.length + 1 → wY_find_2 post x y (nI L.length) px py wo m z := by
      intro ne z hz
      rw [hz, gf_snl P e]
      exact ih (P ++ [e]) (gf_asc hP) (gf_snoc_all hp ne) m (by omega)
    refine br_f (nI_ge (by omega) (by omega)) (br_f (nI_ge (b := 40) (by omega) (by decide)) ⟨vi, ?_⟩)
    rw [cl, q1, q2]
    exact br_c (fun hx => ⟨vi, br_c (fun hy => hf P e Q hP hx hy hp) (fun hy => go fun z => hy z.2)⟩) (fun hx => go fun z => hx z.1)
theorem gy_find0 {post : Int32 → Prop} {x y : Int32} (hA : gf_A (gf_QY px py wo) 0 L) (hl : L.length ≤ 40)
    (hf : ∀ P e Q, L = P ++ e :: Q → nI (e.1 / 32) = x → nI (e.1 % 32) = y → (∀ e', e' ∈ P → ¬ (nI (e'.1 / 32) = x ∧ nI (e'.1 % 32) = y)) → post (nI P.length))
    (hn : (∀ e, e ∈ L → ¬ (nI (e.1 / 32) = x ∧ nI (e.1 % 32) = y)) → post (-1)) : wpY_find post (nI L.length, px, py, wo) x y :=
  ⟨L.length + 1, gy_find2 hA hl hf hn L [] rfl (fun e' h => nomatch h) (L.length + 1) (by omega)⟩
theorem gf_xy {p a b : Nat} (hp : p < 1024) (ha : a < 32) (hb : b < 32) : (nI (p / 32) = nI a ∧ nI (p % 32) = nI b) ↔ p = 32 * a + b := by
  rw [nI_eq (by omega) (by omega), nI_eq (by omega) (by omega)]
  omega
theorem gy_find {post : Int32 → Prop} {a b : Nat} (ha : a < 32) (hb : b < 32) (hA : gf_A (gf_QY px py wo) 0 L) (ok : gf_ok L)
    (hf : ∀ P e Q, L = P ++ e :: Q → e.1 = 32 * a + b → post (nI P.length))
    (hn : (¬ gf_has L (32 * a + b)) → post (-1)) : wpY_find post (nI L.length, px, py, wo) (nI a) (nI b) := by
  refine gy_find0 hA ok.2.1 (fun P e Q hP hx hy _ => hf P e Q hP ((gf_xy (ok.2.2 e (gf_memc hP)) ha hb).mp ⟨hx, hy⟩)) (fun z => hn ?_)
  rintro ⟨v, hv⟩
  exact z _ hv ((gf_xy (ok.2.2 _ hv) ha hb).mpr rfl)
theorem gy_take {post : SY → Prop} : ∀ (Q P : List (Nat × Int32)) (z : Nat × Int32) (px py wo : Nat → Int32), gf_A (gf_QY px py wo) 0 (P ++ z :: Q) → P.length + Q.length < 40 →
    (∀ px' py' wo', gf_A (gf_QY px' py' wo') 0 (P ++ Q) → post (nI (P.length + Q.length), px', py', wo')) → ∀ n, Q.length < n → wY_takeOut_2 post (nI (P.length + Q.length + 1)) n (nI P.length) px py wo := by
  intro Q
  induction Q with
  | nil =>
    intro P z px py wo hA hl hp n hn
    obtain ⟨m, rfl⟩ : ∃ m, n = m + 1 := ⟨n - 1, by omega⟩
    have h1 := (gf_A_app.mp hA).1
    refine br_t ?_ (nm_r (nI_pred _) (hp px py wo (by rw [List.append_nil]; exact h1)))
    rw [nI_pred]
    exact nI_le (by rw [List.length_nil]; omega) (by omega)
  | cons y Q ih =>
    intro P z px py wo hA hl hp n hn
    obtain ⟨m, rfl⟩ : ∃ m, n = m + 1 := ⟨n - 1, by omega⟩
    rw [List.length_cons] at hn hl hp
    have q : gf_QY px py wo (P.length + 1) y := by
      have := (gf_A_app.mp hA).2.2.1
      rw [Nat.zero_add] at this
      exact this
    have c1 : (nI P.length).toNatClampNeg = P.length := nI_clamp (by omega)
    have c2 : (nI P.length + 1).toNatClampNeg = P.length + 1 := by rw [nI_1]; exact nI_clamp (by omega)
    have v1 : vp_in (nI P.length) 40 := vp_in_nI (by omega) (by decide)
    have v2 : vp_in (nI P.length + 1) 40 := by rw [nI_1]; exact vp_in_nI (by omega) (by decide)
    refine br_f ?_ (br_f (nI_ge (b := 39) (by omega) (by decide)) ⟨v2, v1, ?_⟩)
    · rw [nI_pred]
      exact nI_ge (by rw [List.length_cons]; omega) (by rw [List.length_cons]; omega)
    rw [c1, c2, q.1, q.2.1, q.2.2]
    refine nm_e ⟨v2, v1, nm_e ⟨v2, v1, nm_e ?_⟩⟩
    refine nm_r (gf_snl P y) ?_
    have e1 : P.length + (y :: Q).length + 1 = (P ++ [y]).length + Q.length + 1 := by
      rw [List.length_append, List.length_cons, List.length_cons, List.length_nil]; omega
    have hA' : gf_A (gf_QY (upd px P.length (nI (y.1 / 32))) (upd py P.length (nI (y.1 % 32))) (upd wo P.length y.2)) 0 ((P ++ [y]) ++ y :: Q) := by
      have := gf_A_set (Q' := gf_QY (upd px P.length (nI (y.1 / 32))) (upd py P.length (nI (y.1 % 32))) (upd wo P.length y.2)) (w := y) hA (by rw [Nat.zero_add]; exact ⟨pk_us, pk_us, pk_us⟩) (fun j e hj h => by
        rw [Nat.zero_add] at hj
        exact ⟨(pk_un hj).trans h.1, (pk_un hj).trans h.2.1, (pk_un hj).trans h.2.2⟩)
      rw [List.append_assoc]
      exact this
    rw [e1]
    refine ih (P ++ [y]) y _ _ _ hA' (by rw [List.length_append, List.length_cons, List.length_nil]; omega) (fun px' py' wo' h => ?_) m (by omega)
    rw [List.append_assoc] at h
    have := hp px' py' wo' h
    rw [show (P ++ [y]).length + Q.length = P.length + (Q.length + 1) from by rw [List.length_append, List.length_cons, List.length_nil]; omega]
    exact this
theorem gy_takeOut {post : SY → Prop} {P Q : List (Nat × Int32)} {e : Nat × Int32} (hA : gf_A (gf_QY px py wo) 0 L) (hl : L.length ≤ 40) (hP : L = P ++ e :: Q)
    (hp : ∀ px' py' wo', gf_A (gf_QY px' py' wo') 0 (P ++ Q) → post (nI (P ++ Q).length, px', py', wo')) : wpY_takeOut post (nI L.length, px, py, wo) (nI P.length) := by
  have len := gf_lenc hP
  rw [len]
  refine ⟨Q.length + 1, gy_take Q P e px py wo (hP ▸ hA) (by omega) (fun px' py' wo' h => ?_) (Q.length + 1) (by omega)⟩
  rw [← List.length_append]
  exact hp px' py' wo' h
theorem gy_inside {post : Int32 → Prop} {s : Int32} {P Q : List (Nat × Int32)} {e : Nat × Int32} {a b : Nat} (hA : gf_A (gf_QY px py wo) 0 L) (ok : gf_ok L) (hP : L = P ++ e :: Q) (ha : a < 1024) (hb : b < 1024)
    (h1 : gf_ins a b e = true → post 1) (h0 : gf_ins a b e = false → post 0) : wpY_inside post (s, px, py, wo) (nI P.length) (nI a) (nI b) := by
  obtain ⟨vi, cl, q1, q2, q3⟩ := gf_yat hA hP ok.2.1
  have he := ok.2.2 e (gf_memc hP)
  have e1 : px (nI P.length).toNatClampNeg = nI (e.1 / 32) := by rw [cl]; exact q1
  have e2 : py (nI P.length).toNatClampNeg = nI (e.1 % 32) := by rw [cl]; exact q2
  have d1 : nI a / 32 = nI (a / 32) := gf_d32 (by omega)
  have d2 : nI b / 32 = nI (b / 32) := gf_d32 (by omega)
  have r1 : nI a - nI a / 32 * 32 = nI (a % 32) := gf_r32 (by omega)
  have r2 : nI b - nI b / 32 * 32 = nI (b % 32) := gf_r32 (by omega)
  exact ⟨vi, by decide, pk_lt (e.1 / 32) (a / 32) (fun q => h0 (gf_ins_f (by omega))) (fun g1 => ⟨vi, by decide, pk_lt (b / 32) (e.1 / 32) (fun q => h0 (gf_ins_f (by omega))) (fun g2 => ⟨vi, by decide,
    pk_lt (e.1 % 32) (a % 32) (fun q => h0 (gf_ins_f (by omega))) (fun g3 => ⟨vi, by decide, pk_lt (b % 32) (e.1 % 32) (fun q => h0 (gf_ins_f (by omega))) (fun g4 => h1 (gf_ins_t ⟨g1, g2, g3, g4⟩)) r2 e2⟩) e2 r1⟩) d2 e1⟩) e1 d1⟩
end YL
end
section
/-! the reference's methods over the list -/
theorem gf_YI_el {v : SY} {L : List (Nat × Int32)} {P : SY → Prop} (I : gf_YI v L) (h : gf_ok L → ∀ px py wo : Nat → Int32, gf_A (gf_QY px py wo) 0 L → P (nI L.length, px, py, wo)) : P v := by
  obtain ⟨ok, px, py, wo, rfl, hA⟩ := I
  exact h ok px py wo hA
theorem gf_YI_mk {L : List (Nat × Int32)} {px py wo : Nat → Int32} (ok : gf_ok L) (hA : gf_A (gf_QY px py wo) 0 L) : gf_YI (nI L.length, px, py, wo) L := ⟨ok, px, py, wo, rfl, hA⟩
/-- setting the value of the only entry with the key -/
theorem gf_setL_none {P : List (Nat × Int32)} {p : Nat} {v : Int32} (h : ∀ e, e ∈ P → e.1 ≠ p) : gf_setL P p v = P := by
  induction P with
  | nil => rfl
  | cons a l ih =>
    show (if a.1 = p then (p, v) else a) :: gf_setL l p v = a :: l
    rw [if_neg (h a (List.mem_cons_self ..)), ih (fun e he => h e (List.mem_cons_of_mem _ he))]
theorem gf_split_keys {L P Q : List (Nat × Int32)} {e : Nat × Int32} (hn : (L.map Prod.fst).Nodup) (hP : L = P ++ e :: Q) : (∀ x, x ∈ P → x.1 ≠ e.1) ∧ (∀ x, x ∈ Q → x.1 ≠ e.1) := by
  subst hP
  rw [List.map_append, List.map_cons, List.nodup_append, List.nodup_cons] at hn
  obtain ⟨_, ⟨h2, _⟩, h4⟩ := hn
  refine ⟨fun x hx => h4 x.1 (List.mem_map_of_mem hx) e.1 (List.mem_cons_self ..), fun x hx z => h2 ?_⟩
  rw [← z]
  exact List.mem_map_of_mem hx
theorem gf_setL_at {L P Q : List (Nat × Int32)} {e : Nat × Int32} {v : Int32} (hn : (L.map Prod.fst).Nodup) (hP : L = P ++ e :: Q) : gf_setL L e.1 v = P ++ (e.1, v) :: Q := by
  obtain ⟨h1, h2⟩ := gf_split_keys hn hP
  subst hP
  have e1 := gf_setL_none (v := v) h1
  have e2 := gf_setL_none (v := v) h2
  rw [gf_setL] at e1 e2 ⊢
  rw [List.map_append, List.map_cons, e1, e2, if_pos rfl]
theorem gf_ok_set {L : List (Nat × Int32)} (ok : gf_ok L) (p : Nat) (hp : p < 1024) (v : Int32) : gf_ok (gf_setL L p v) := by
  refine ⟨by rw [gf_setL_keys]; exact ok.1, by rw [gf_setL, List.length_map]; exact ok.2.1, ?_⟩
  intro e he
  obtain ⟨e0, h0, he⟩ := List.mem_map.mp he
  by_cases q : e0.1 = p
  · rw [if_pos q] at he; rw [← he]; exact hp
  · rw [if_neg q] at he; rw [← he]; exact ok.2.2 e0 h0
theorem gf_ok_snoc {L : List (Nat × Int32)} (ok : gf_ok L) {p : Nat} (hp : p < 1024) (v : Int32) (hl : L.length < 40) (hn : ¬ gf_has L p) : gf_ok (L ++ [(p, v)]) := by
  refine ⟨?_, by rw [List.length_append]; show L.length + 1 ≤ 40; omega, gf_snoc_all ok.2.2 hp⟩
  have := (List.perm_append_singleton (p, v) L).map Prod.fst
  rw [this.nodup_iff, List.map_cons, List.nodup_cons]
  exact ⟨fun z => hn (gf_has_key.mpr z), ok.1⟩
theorem gf_ok_filter {L : List (Nat × Int32)} (ok : gf_ok L) (f : Nat × Int32 → Bool) : gf_ok (L.filter f) :=
  ⟨ok.1.sublist ((List.filter_sublist).map Prod.fst), Nat.le_trans (List.length_filter_le ..) ok.2.1, fun e he => ok.2.2 e (List.mem_filter.mp he).1⟩
section YM
variable {v : SY} {L : List (Nat × Int32)}
theorem gy_put_no {post : Int32 → SY → Prop} {x y val : Int32} (I : gf_YI v L) (h : ¬ gf_Pl x y) (hp : post (-1) v) : wpY_put post v x y val := by
  refine gf_YI_el (P := fun v => post (-1) v → wpY_put post v x y val) I (fun ok px py wo hA hp => ?_) hp
  unfold wpY_put
  refine gy_bad x (fun a ha hx => br_t rfl ?_) (fun z => br_f (by decide) hp)
  exact gy_bad y (fun b hb hy => absurd ⟨⟨a, ha, hx⟩, ⟨b, hb, hy⟩⟩ h) (fun z => br_f (by decide) hp)
theorem gy_put_yes {post : Int32 → SY → Prop} {a b : Nat} {val : Int32} (I : gf_YI v L) (ha : a < 32) (hb : b < 32)
    (h0 : gf_has L (32 * a + b) → ∀ v', gf_YI v' (gf_setL L (32 * a + b) val) → post 0 v')
    (h1 : ¬ gf_has L (32 * a + b) → L.length = 40 → post (-2) v)
    (h2 : ¬ gf_has L (32 * a + b) → L.length < 40 → ∀ v', gf_YI v' (L ++ [(32 * a + b, val)]) → post 1 v') : wpY_put post v (nI a) (nI b) val := by
  refine gf_YI_el (P := fun v => (¬ gf_has L (32 * a + b) → L.length = 40 → post (-2) v) → wpY_put post v (nI a) (nI b) val) I (fun ok px py wo hA h1 => ?_) h1
  have hl := ok.2.1
  unfold wpY_put
  refine gy_bad (nI a) (fun _ _ _ => br_t rfl ?_) (fun z => absurd ⟨a, ha, rfl⟩ z)
  refine gy_bad (nI b) (fun _ _ _ => br_t rfl ?_) (fun z => absurd ⟨b, hb, rfl⟩ z)
  refine gy_find ha hb hA ok (fun P e Q hP he => ?_) (fun hn => ?_)
  · obtain ⟨vi, cl, q1, q2, q3⟩ := gf_yat hA hP hl
    have len := gf_lenc hP
    refine br_f (nI_pos (by omega)) ⟨vi, ?_⟩
    rw [cl]
    refine nm_e ?_
    have hA' : gf_A (gf_QY px py (upd wo P.length val)) 0 (P ++ (e.1, val) :: Q) :=
      gf_A_set (hP ▸ hA) (by rw [Nat.zero_add]; exact ⟨q1, q2, pk_us⟩) (fun j e hj h => by
        rw [Nat.zero_add] at hj
        exact ⟨h.1, h.2.1, (pk_un hj).trans h.2.2⟩)
    have es := gf_setL_at (v := val) ok.1 hP
    rw [he] at es
    rw [he, ← es] at hA'
    have := h0 ⟨e.2, by rw [← he]; exact gf_memc hP⟩ _ (gf_YI_mk (gf_ok_set ok _ (by omega) val) hA')
    rw [gf_setL, List.length_map] at this
    exact this
  · refine br_t (by decide) ?_
    refine pk_lt L.length 40 (fun q => ?_) (fun q => h1 hn (by omega))
    have vi : vp_in (nI L.length) 40 := vp_in_nI q (by decide)
    have cl : (nI L.length).toNatClampNeg = L.length := nI_clamp (by omega)
    refine ⟨vi, ?_⟩
    rw [cl]
    refine nm_e ⟨vi, nm_e ⟨vi, nm_e (nm_r (gf_snl L (32 * a + b, val)) ?_)⟩⟩
    refine h2 hn q _ (gf_YI_mk (gf_ok_snoc ok (by omega) val q hn) ?_)
    refine gf_A_snoc hA ?_ (fun j e hj h => ?_)
    · rw [Nat.zero_add]
      refine ⟨?_, ?_, pk_us⟩
      · rw [pk_us]; exact congrArg nI (by show a = (32 * a + b) / 32; omega)
      · rw [pk_us]; exact congrArg nI (by show b = (32 * a + b) % 32; omega)
    · rw [Nat.zero_add] at hj
      exact ⟨(pk_un hj).trans h.1, (pk_un hj).trans h.2.1, (pk_un hj).trans h.2.2⟩
theorem gf_filter_all {α : Type} {P : List α} {f : α → Bool} (h : ∀ x, x ∈ P → f x = true) : P.filter f = P := List.filter_eq_self.mpr h
/-- taking out the only entry with the key -/
theorem gf_rm {L P Q : List (Nat × Int32)} {e : Nat × Int32} (hn : (L.map Prod.fst).Nodup) (hP : L = P ++ e :: Q) : L.filter (fun x => decide (x.1 ≠ e.1)) = P ++ Q := by
  obtain ⟨h1, h2⟩ := gf_split_keys hn hP
  subst hP
  rw [List.filter_append, List.filter_cons, if_neg (by simp), gf_filter_all (fun x hx => decide_eq_true (h1 x hx)), gf_filter_all (fun x hx => decide_eq_true (h2 x hx))]
theorem gy_remove_no {post : Int32 → SY → Prop} {x y : Int32} (I : gf_YI v L) (h : ¬ gf_Pl x y) (hp : post (-1) v) : wpY_remove post v x y := by
  refine gf_YI_el (P := fun v => post (-1) v → wpY_remove post v x y) I (fun ok px py wo hA hp => ?_) hp
  unfold wpY_remove
  refine gy_bad x (fun a ha hx => br_t rfl ?_) (fun z => br_f (by decide) hp)
  exact gy_bad y (fun b hb hy => absurd ⟨⟨a, ha, hx⟩, ⟨b, hb, hy⟩⟩ h) (fun z => br_f (by decide) hp)
theorem gy_remove_yes {post : Int32 → SY → Prop} {a b : Nat} (I : gf_YI v L) (ha : a < 32) (hb : b < 32)
    (h0 : gf_has L (32 * a + b) → ∀ v', gf_YI v' (L.filter (fun x => decide (x.1 ≠ 32 * a + b))) → post 0 v')
    (h1 : ¬ gf_has L (32 * a + b) → post (-2) v) : wpY_remove post v (nI a) (nI b) := by
  refine gf_YI_el (P := fun v => (¬ gf_has L (32 * a + b) → post (-2) v) → wpY_remove post v (nI a) (nI b)) I (fun ok px py wo hA h1 => ?_) h1
  have hl := ok.2.1
  unfold wpY_remove
  refine gy_bad (nI a) (fun _ _ _ => br_t rfl ?_) (fun z => absurd ⟨a, ha, rfl⟩ z)
  refine gy_bad (nI b) (fun _ _ _ => br_t rfl ?_) (fun z => absurd ⟨b, hb, rfl⟩ z)
  refine gy_find ha hb hA ok (fun P e Q hP he => ?_) (fun hn => br_f (by decide) (h1 hn))
  have len := gf_lenc hP
  refine br_t (nI_pos' (by omega)) ?_
  have es := gf_rm ok.1 hP
  rw [he] at es
  refine gy_takeOut hA hl hP (fun px' py' wo' hA' => ?_)
  rw [← es] at hA' ⊢
  exact h0 ⟨e.2, by rw [← he]; exact gf_memc hP⟩ _ (gf_YI_mk (gf_ok_filter ok _) hA')
theorem gy_has_no {post : Int32 → Prop} {x y : Int32} (I : gf_YI v L) (h : ¬ gf_Pl x y) (hp : post (-1)) : wpY_has post v x y := by
  refine gf_YI_el (P := fun v => wpY_has post v x y) I (fun ok px py wo hA => ?_)
  unfold wpY_has
  refine gy_bad x (fun a ha hx => br_t rfl ?_) (fun z => br_f (by decide) hp)
  exact gy_bad y (fun b hb hy => absurd ⟨⟨a, ha, hx⟩, ⟨b, hb, hy⟩⟩ h) (fun z => br_f (by decide) hp)
theorem gy_has_yes {post : Int32 → Prop} {a b : Nat} (I : gf_YI v L) (ha : a < 32) (hb : b < 32) (h0 : gf_has L (32 * a + b) → post 1) (h1 : ¬ gf_has L (32 * a + b) → post 0) : wpY_has post v (nI a) (nI b) := by
  refine gf_YI_el (P := fun v => wpY_has post v (nI a) (nI b)) I (fun ok px py wo hA => ?_)
  have hl := ok.2.1
  unfold wpY_has
  refine gy_bad (nI a) (fun _ _ _ => br_t rfl ?_) (fun z => absurd ⟨a, ha, rfl⟩ z)
  refine gy_bad (nI b) (fun _ _ _ => br_t rfl ?_) (fun z => absurd ⟨b, hb, rfl⟩ z)
  refine gy_find ha hb hA ok (fun P e Q hP he => ?_) (fun hn => br_t (by decide) (h1 hn))
  have len := gf_lenc hP
  exact br_f (nI_pos (by omega)) (h0 ⟨e.2, by rw [← he]; exact gf_memc hP⟩)
theorem gy_valueAt_no {post : Int32 → Prop} {x y : Int32} (I : gf_YI v L) (h : ¬ gf_Pl x y) (hp : post 0) : wpY_valueAt post v x y := by
  refine gf_YI_el (P := fun v => wpY_valueAt post v x y) I (fun ok px py wo hA => ?_)
  unfold wpY_valueAt
  refine gy_find0 hA ok.2.1 (fun P e Q hP hx hy _ => ?_) (fun _ => br_f (by decide) hp)
  have := ok.2.2 e (gf_memc hP)
  exact absurd ⟨⟨e.1 / 32, by omega, hx.symm⟩, ⟨e.1 % 32, by omega, hy.symm⟩⟩ h
theorem gy_valueAt_yes {post : Int32 → Prop} {a b : Nat} (I : gf_YI v L) (ha : a < 32) (hb : b < 32) (h0 : ∀ val, (32 * a + b, val) ∈ L → post val) (h1 : ¬ gf_has L (32 * a + b) → post 0) : wpY_valueAt post v (nI a) (nI b) := by
  refine gf_YI_el (P := fun v => wpY_valueAt post v (nI a) (nI b)) I (fun ok px py wo hA => ?_)
  have hl := ok.2.1
  unfold wpY_valueAt
  refine gy_find ha hb hA ok (fun P e Q hP he => ?_) (fun hn => br_f (by decide) (h1 hn))
  obtain ⟨vi, cl, q1, q2, q3⟩ := gf_yat hA hP hl
  have len := gf_lenc hP
  refine br_t (nI_pos' (by omega)) ⟨vi, ?_⟩
  rw [cl, q3]
  exact h0 e.2 (by rw [← he]; exact gf_memc hP)
end YM
end
section
/-! distances -/
def gf_ad (a b : Nat) : Nat := (a - b) + (b - a)
def gf_d (p x y : Nat) : Nat := gf_ad (p / 32) x * gf_ad (p / 32) x + gf_ad (p % 32) y * gf_ad (p % 32) y
theorem gf_sq (a b : Nat) : (nI a - nI b) * (nI a - nI b) = nI (gf_ad a b * gf_ad a b) := by
  rcases Nat.le_total b a with h | h
  · rw [pk_sub h, pk_mul, show gf_ad a b = a - b from by unfold gf_ad; omega]
  · have e : nI a - nI b = -(nI (b - a)) := by rw [← pk_sub h, Int32.neg_sub]
    rw [e, Int32.neg_mul_neg, pk_mul, show gf_ad a b = b - a from by unfold gf_ad; omega]
theorem gf_ad_lt {a b : Nat} (ha : a < 32) (hb : b < 32) : gf_ad a b ≤ 31 := by unfold gf_ad; omega
theorem gf_sq_le {a : Nat} (h : a ≤ 31) : a * a ≤ 961 := Nat.mul_le_mul h h
theorem gf_d_lt {p x y : Nat} (hp : p < 1024) (hx : x < 32) (hy : y < 32) : gf_d p x y ≤ 1922 := by
  have h1 := gf_sq_le (gf_ad_lt (a := p / 32) (b := x) (by omega) hx)
  have h2 := gf_sq_le (gf_ad_lt (a := p % 32) (b := y) (by omega) hy)
  unfold gf_d
  omega
theorem gf_ad_comm (a b : Nat) : gf_ad a b = gf_ad b a := by unfold gf_ad; omega
theorem gf_d_comm (p q : Nat) : gf_d p (q / 32) (q % 32) = gf_d q (p / 32) (p % 32) := by
  unfold gf_d
  rw [gf_ad_comm (p / 32), gf_ad_comm (p % 32)]
section YC
variable {px py wo : Nat → Int32} {L : List (Nat × Int32)}
theorem gy_apart {post : Int32 → Prop} {s : Int32} {P Q : List (Nat × Int32)} {e : Nat × Int32} {x y : Nat} (hA : gf_A (gf_QY px py wo) 0 L) (ok : gf_ok L) (hP : L = P ++ e :: Q) (hp : post (nI (gf_d e.1 x y))) : wpY_apart post (s, px, py, wo) (nI P.length) (nI x) (nI y) := by
  obtain ⟨vi, cl, q1, q2, q3⟩ := gf_yat hA hP ok.2.1
  refine ⟨vi, vi, vi, vi, ?_⟩
  rw [cl, q1, q2, gf_sq, gf_sq, nI_add]
  exact hp
theorem gy_count16 {post : Int32 → Prop} {a b : Nat} (ha : a < 1024) (hb : b < 1024) (hA : gf_A (gf_QY px py wo) 0 L) (ok : gf_ok L) :
    ∀ (Q P : List (Nat × Int32)) (acc : Nat), L = P ++ Q → post (nI (acc + Q.countP (gf_ins a b))) → ∀ n, Q.length < n → wY_count_16 post (nI a) (nI b) (nI L.length) px py wo n (nI acc) (nI P.length) := by
  have hl := ok.2.1
  intro Q
  induction Q with
  | nil =>
    intro P acc hP hp n hn
    obtain ⟨m, rfl⟩ : ∃ m, n = m + 1 := ⟨n - 1, by omega⟩
    rw [List.append_nil] at hP
    subst hP
    exact br_t (nI_le (Nat.le_refl _) (by omega)) hp
  | cons e Q ih =>
    intro P acc hP hp n hn
    obtain ⟨m, rfl⟩ : ∃ m, n = m + 1 := ⟨n - 1, by omega⟩
    rw [List.length_cons] at hn
    have len := gf_lenc hP
    refine br_f (nI_ge (by omega) (by omega)) (br_f (nI_ge (b := 40) (by omega) (by decide)) ?_)
    refine gy_inside hA ok hP ha hb (fun hi => ?_) (fun hi => ?_)
    · refine br_f (by decide) (nm_r (nI_1 acc) (nm_r (gf_snl P e) (ih (P ++ [e]) (acc + 1) (gf_asc hP) ?_ m (by omega))))
      rw [List.countP_cons_of_pos hi] at hp
      rw [show acc + 1 + Q.countP (gf_ins a b) = acc + (Q.countP (gf_ins a b) + 1) from by omega]
      exact hp
    · refine br_t rfl (nm_r (gf_snl P e) (ih (P ++ [e]) acc (gf_asc hP) ?_ m (by omega)))
      rw [List.countP_cons_of_neg (by rw [hi]; decide)] at hp
      exact hp
theorem gy_sum16 {post : Int32 → Prop} {a b : Nat} (ha : a < 1024) (hb : b < 1024) (hA : gf_A (gf_QY px py wo) 0 L) (ok : gf_ok L) :
    ∀ (Q P : List (Nat × Int32)) (acc : Int32), L = P ++ Q → post ((Q.filter (gf_ins a b)).foldl (fun s e => s + e.2) acc) → ∀ n, Q.length < n → wY_sum_16 post (nI a) (nI b) (nI L.length) px py wo n acc (nI P.length) := by
  have hl := ok.2.1
  intro Q
  induction Q with
  | nil =>
    intro P acc hP hp n hn
    obtain ⟨m, rfl⟩ : ∃ m, n = m + 1 := ⟨n - 1, by omega⟩
    rw [List.append_nil] at hP
    subst hP
    exact br_t (nI_le (Nat.le_refl _) (by omega)) hp
  | cons e Q ih =>
    intro P acc hP hp n hn
    obtain ⟨m, rfl⟩ : ∃ m, n = m + 1 := ⟨n - 1, by omega⟩
    rw [List.length_cons] at hn
    have len := gf_lenc hP
    obtain ⟨vi, cl, q1, q2, q3⟩ := gf_yat hA hP hl
    refine br_f (nI_ge (by omega) (by omega)) (br_f (nI_ge (b := 40) (by omega) (by decide)) ?_)
    refine gy_inside hA ok hP ha hb (fun hi => ?_) (fun hi => ?_)
    · rw [List.filter_cons_of_pos hi, List.foldl_cons] at hp
      refine br_f (by decide) ⟨vi, nm_r (e' := acc + e.2) (by rw [cl, q3]) (nm_r (gf_snl P e) (ih (P ++ [e]) (acc + e.2) (gf_asc hP) hp m (by omega)))⟩
    · rw [List.filter_cons_of_neg (by rw [hi]; decide)] at hp
      exact br_t rfl (nm_r (gf_snl P e) (ih (P ++ [e]) acc (gf_asc hP) hp m (by omega)))
def gf_mx (s v : Int32) : Int32 := if v ≤ s then s else v
theorem gy_most17 {post : Int32 → Prop} {a b : Nat} (ha : a < 1024) (hb : b < 1024) (hA : gf_A (gf_QY px py wo) 0 L) (ok : gf_ok L) :
    ∀ (Q P : List (Nat × Int32)) (acc : Int32), L = P ++ Q → post ((Q.filter (gf_ins a b)).foldl (fun s e => gf_mx s e.2) acc) → ∀ n, Q.length < n → wY_most_17 post (nI a) (nI b) (nI L.length) px py wo n acc (nI P.length) := by
  have hl := ok.2.1
  intro Q
  induction Q with
  | nil =>
    intro P acc hP hp n hn
    obtain ⟨m, rfl⟩ : ∃ m, n = m + 1 := ⟨n - 1, by omega⟩
    rw [List.append_nil] at hP
    subst hP
    exact br_t (nI_le (Nat.le_refl _) (by omega)) hp
  | cons e Q ih =>
    intro P acc hP hp n hn
    obtain ⟨m, rfl⟩ : ∃ m, n = m + 1 := ⟨n - 1, by omega⟩
    rw [List.length_cons] at hn
    have len := gf_lenc hP
    obtain ⟨vi, cl, q1, q2, q3⟩ := gf_yat hA hP hl
    refine br_f (nI_ge (by omega) (by omega)) (br_f (nI_ge (b := 40) (by omega) (by decide)) ?_)
    refine gy_inside hA ok hP ha hb (fun hi => ?_) (fun hi => ?_)
    · rw [List.filter_cons_of_pos hi, List.foldl_cons] at hp
      have qv : wo (nI P.length).toNatClampNeg = e.2 := by rw [cl]; exact q3
      refine br_f (by decide) ⟨vi, ?_⟩
      rw [qv]
      refine br_c (fun h => ?_) (fun h => ⟨vi, ?_⟩)
      · rw [gf_mx, if_pos h] at hp
        exact nm_r (gf_snl P e) (ih (P ++ [e]) acc (gf_asc hP) hp m (by omega))
      · rw [gf_mx, if_neg h] at hp
        exact nm_e (nm_r (gf_snl P e) (ih (P ++ [e]) e.2 (gf_asc hP) hp m (by omega)))
    · rw [List.filter_cons_of_neg (by rw [hi]; decide)] at hp
      exact br_t rfl (nm_r (gf_snl P e) (ih (P ++ [e]) acc (gf_asc hP) hp m (by omega)))
/-- within reach -/
def gf_wi (x y : Nat) (r : Int32) (e : Nat × Int32) : Bool := decide (¬ r < nI (gf_d e.1 x y))
theorem gy_within24 {post : Int32 → Prop} {x y : Nat} {r : Int32} (hA : gf_A (gf_QY px py wo) 0 L) (ok : gf_ok L) :
    ∀ (Q P : List (Nat × Int32)) (acc : Nat), L = P ++ Q → post (nI (acc + Q.countP (gf_wi x y r))) → ∀ n, Q.length < n → wY_within_24 post (nI x) (nI y) r (nI L.length) px py wo n (nI acc) (nI P.length) := by
  have hl := ok.2.1
  intro Q
  induction Q with
  | nil =>
    intro P acc hP hp n hn
    obtain ⟨m, rfl⟩ : ∃ m, n = m + 1 := ⟨n - 1, by omega⟩
    rw [List.append_nil] at hP
    subst hP
    exact br_t (nI_le (Nat.le_refl _) (by omega)) hp
  | cons e Q ih =>
    intro P acc hP hp n hn
    obtain ⟨m, rfl⟩ : ∃ m, n = m + 1 := ⟨n - 1, by omega⟩
    rw [List.length_cons] at hn
    have len := gf_lenc hP
    refine br_f (nI_ge (by omega) (by omega)) (br_f (nI_ge (b := 40) (by omega) (by decide)) ?_)
    refine gy_apart hA ok hP ?_
    refine br_c (fun hi => ?_) (fun hi => ?_)
    · rw [List.countP_cons_of_neg (by rw [gf_wi, decide_eq_true_eq]; exact fun z => z hi)] at hp
      exact nm_r (gf_snl P e) (ih (P ++ [e]) acc (gf_asc hP) hp m (by omega))
    · rw [List.countP_cons_of_pos (show gf_wi x y r e = true from decide_eq_true hi)] at hp
      refine nm_r (nI_1 acc) (nm_r (gf_snl P e) (ih (P ++ [e]) (acc + 1) (gf_asc hP) ?_ m (by omega)))
      rw [show acc + 1 + Q.countP (gf_wi x y r) = acc + (Q.countP (gf_wi x y r) + 1) from by omega]
      exact hp
/-- on a line: axis 0 or 1 -/
def gf_ln (ax x : Nat) (e : Nat × Int32) : Bool := decide ((if ax = 0 then e.1 / 32 else e.1 % 32) = x)
theorem gy_line27 {post : Int32 → Prop} {ax x : Nat} (hx : x < 32) (hax : ax < 2) (hA : gf_A (gf_QY px py wo) 0 L) (ok : gf_ok L) :
    ∀ (Q P : List (Nat × Int32)) (acc : Nat), L = P ++ Q → post (nI (acc + Q.countP (gf_ln ax x))) → ∀ n, Q.length < n → wY_line_27 post (nI ax) (nI x) (nI L.length) px py wo n (nI acc) (nI P.length) := by
  have hl := ok.2.1
  intro Q
  induction Q with
  | nil =>
    intro P acc hP hp n hn
    obtain ⟨m, rfl⟩ : ∃ m, n = m + 1 := ⟨n - 1, by omega⟩
    rw [List.append_nil] at hP
    subst hP
    exact br_t (nI_le (Nat.le_refl _) (by omega)) hp
  | cons e Q ih =>
    intro P acc hP hp n hn
    obtain ⟨m, rfl⟩ : ∃ m, n = m + 1 := ⟨n - 1, by omega⟩
    rw [List.length_cons] at hn
    have len := gf_lenc hP
    have he := ok.2.2 e (gf_memc hP)
    obtain ⟨vi, cl, q1, q2, q3⟩ := gf_yat hA hP hl
    have e1 : px (nI P.length).toNatClampNeg = nI (e.1 / 32) := by rw [cl]; exact q1
    have e2 : py (nI P.length).toNatClampNeg = nI (e.1 % 32) := by rw [cl]; exact q2
    have go : ∀ z, z < 32 → (gf_ln ax x e = decide (z = x)) → wY_line_64 post (wY_line_27 post (nI ax) (nI x) (nI L.length) px py wo m) (nI ax) (nI x) (nI acc) (nI P.length) (nI z) (nI L.length) px py wo := by
      intro z hz hd
      refine pk_eq z x (fun q => ?_) (fun q => ?_)
      · rw [List.countP_cons_of_pos (by rw [hd]; exact decide_eq_true q)] at hp
        refine nm_r (nI_1 acc) (nm_r (gf_snl P e) (ih (P ++ [e]) (acc + 1) (gf_asc hP) ?_ m (by omega)))
        rw [show acc + 1 + Q.countP (gf_ln ax x) = acc + (Q.countP (gf_ln ax x) + 1) from by omega]
        exact hp
      · rw [List.countP_cons_of_neg (by rw [hd, decide_eq_true_eq]; exact q)] at hp
        exact nm_r (gf_snl P e) (ih (P ++ [e]) acc (gf_asc hP) hp m (by omega))
    refine br_f (nI_ge (by omega) (by omega)) (br_f (nI_ge (b := 40) (by omega) (by decide)) ?_)
    refine pk_eq ax 0 (fun q => ⟨vi, ?_⟩) (fun q => ⟨vi, ?_⟩)
    · rw [e1]
      exact go (e.1 / 32) (by omega) (by rw [gf_ln, if_pos q])
    · rw [e2]
      exact go (e.1 % 32) (by omega) (by rw [gf_ln, if_neg q])
end YC
end
section
/-! nearest: the least by distance, then by place -/
def gf_ob : Option Nat → Int32
  | none => -2
  | some p => nI p
def gf_ol (x y : Nat) : Option Nat → Int32
  | none => 0
  | some p => nI (gf_d p x y)
def gf_k (x y p : Nat) : Nat := gf_d p x y * 1024 + p
def gf_Mi (x y : Nat) (K : Nat → Prop) (o : Option Nat) : Prop := (∀ p, o = some p → K p ∧ ∀ q, K q → gf_k x y p ≤ gf_k x y q) ∧ (o = none → ∀ q, ¬ K q)
theorem gf_Mi_new {x y p : Nat} {K K' : Nat → Prop} {o : Option Nat} (h : gf_Mi x y K o) (hp : ∀ q, o = some q → gf_k x y p ≤ gf_k x y q) (hK : ∀ q, K' q ↔ K q ∨ q = p) : gf_Mi x y K' (some p) := by
  refine ⟨fun p' e => ?_, fun e => nomatch e⟩
  cases e
  refine ⟨(hK p).mpr (Or.inr rfl), fun q hq => ?_⟩
  rcases (hK q).mp hq with h1 | rfl
  · cases o with
    | none => exact absurd h1 (h.2 rfl q)
    | some r => exact Nat.le_trans (hp r rfl) ((h.1 r rfl).2 q h1)
  · exact Nat.le_refl _
theorem gf_Mi_old {x y p r : Nat} {K K' : Nat → Prop} (h : gf_Mi x y K (some r)) (hp : gf_k x y r ≤ gf_k x y p) (hK : ∀ q, K' q ↔ K q ∨ q = p) : gf_Mi x y K' (some r) := by
  refine ⟨fun p' e => ?_, fun e => nomatch e⟩
  cases e
  refine ⟨(hK r).mpr (Or.inl (h.1 r rfl).1), fun q hq => ?_⟩
  rcases (hK q).mp hq with h1 | rfl
  · exact (h.1 r rfl).2 q h1
  · exact hp
theorem gf_Mi_uniq {x y : Nat} {K : Nat → Prop} {o o' : Option Nat} (hK : ∀ q, K q → q < 1024) (h : gf_Mi x y K o) (h' : gf_Mi x y K o') : o = o' := by
  cases o with
  | none =>
    cases o' with
    | none => rfl
    | some q => exact absurd (h'.1 q rfl).1 (h.2 rfl q)
  | some p =>
    cases o' with
    | none => exact absurd (h.1 p rfl).1 (h'.2 rfl p)
    | some q =>
      have h1 := (h.1 p rfl).2 q (h'.1 q rfl).1
      have h2 := (h'.1 q rfl).2 p (h.1 p rfl).1
      have h3 := hK p (h.1 p rfl).1
      have h4 := hK q (h'.1 q rfl).1
      unfold gf_k at h1 h2
      congr 1
      omega
theorem gf_has_snoc {P : List (Nat × Int32)} {e : Nat × Int32} (q : Nat) : gf_has (P ++ [e]) q ↔ gf_has P q ∨ q = e.1 := by
  constructor
  · rintro ⟨v, hv⟩
    rcases List.mem_append.mp hv with h | h
    · exact Or.inl ⟨v, h⟩
    · rw [← List.mem_singleton.mp h]
      exact Or.inr rfl
  · rintro (⟨v, hv⟩ | rfl)
    · exact ⟨v, List.mem_append_left _ hv⟩
    · exact ⟨e.2, List.mem_append_right _ (List.mem_singleton.mpr rfl)⟩
theorem gf_has_nil (q : Nat) : ¬ gf_has [] q := fun ⟨_, h⟩ => nomatch h
section YN
variable {px py wo : Nat → Int32} {L : List (Nat × Int32)}
theorem gy_near27 {post : Int32 → Prop} {x y : Nat} (hx : x < 32) (hy : y < 32) (hA : gf_A (gf_QY px py wo) 0 L) (ok : gf_ok L) (hp : ∀ o, gf_Mi x y (gf_has L) o → post (gf_ob o)) :
    ∀ (Q P : List (Nat × Int32)) (o : Option Nat), L = P ++ Q → gf_Mi x y (gf_has P) o → ∀ n, Q.length < n → wY_nearest_27 post (nI x) (nI y) (nI L.length) px py wo n (gf_ob o) (gf_ol x y o) (nI P.length) := by
  have hl := ok.2.1
  intro Q
  induction Q with
  | nil =>
    intro P o hP hm n hn
    obtain ⟨m, rfl⟩ : ∃ m, n = m + 1 := ⟨n - 1, by omega⟩
    rw [List.append_nil] at hP
    subst hP
    exact br_t (nI_le (Nat.le_refl _) (by omega)) (hp o hm)
  | cons e Q ih =>
    intro P o hP hm n hn
    obtain ⟨m, rfl⟩ : ∃ m, n = m + 1 := ⟨n - 1, by omega⟩
    rw [List.length_cons] at hn
    have len := gf_lenc hP
    have he := ok.2.2 e (gf_memc hP)
    have hd := gf_d_lt he hx hy
    obtain ⟨vi, cl, q1, q2, q3⟩ := gf_yat hA hP hl
    have e7 : (32 : Int32) * px (nI P.length).toNatClampNeg + py (nI P.length).toNatClampNeg = nI e.1 := by
      rw [cl, q1, q2, gf_32a]
      exact congrArg nI (by omega)
    have new : (∀ q, o = some q → gf_k x y e.1 ≤ gf_k x y q) → wY_nearest_27 post (nI x) (nI y) (nI L.length) px py wo m (nI e.1) (nI (gf_d e.1 x y)) (nI (P ++ [e]).length) :=
      fun h => ih (P ++ [e]) (some e.1) (gf_asc hP) (gf_Mi_new hm h gf_has_snoc) m (by omega)
    refine br_f (nI_ge (by omega) (by omega)) (br_f (nI_ge (b := 40) (by omega) (by decide)) ?_)
    refine gy_apart hA ok hP ⟨vi, vi, nm_r e7 ?_⟩
    cases o with
    | none => exact br_t (by decide) (nm_r (gf_snl P e) (new (fun q h => nomatch h)))
    | some r =>
      have hr := (hm.1 r rfl).1
      obtain ⟨vr, hvr⟩ := hr
      have hr' := ok.2.2 (r, vr) (by rw [hP]; exact List.mem_append_left _ hvr)
      have hr2 : r < 1024 := hr'
      have hdr := gf_d_lt hr2 hx hy
      have old : gf_k x y r ≤ gf_k x y e.1 → wY_nearest_27 post (nI x) (nI y) (nI L.length) px py wo m (nI r) (nI (gf_d r x y)) (nI (P ++ [e]).length) :=
        fun h => ih (P ++ [e]) (some r) (gf_asc hP) (gf_Mi_old hm h gf_has_snoc) m (by omega)
      refine br_f (nI_pos (by omega)) ?_
      refine pk_lt (gf_d e.1 x y) (gf_d r x y) (fun h => nm_r (gf_snl P e) (new (fun q hq => ?_))) (fun h => ?_)
      · cases hq
        unfold gf_k
        omega
      refine pk_eq (gf_d e.1 x y) (gf_d r x y) (fun h2 => ?_) (fun h2 => nm_r (gf_snl P e) (old ?_))
      · refine pk_le r e.1 (fun h3 => nm_r (gf_snl P e) (old ?_)) (fun h3 => nm_r (gf_snl P e) (new (fun q hq => ?_)))
        · unfold gf_k; omega
        · cases hq
          unfold gf_k; omega
      · unfold gf_k; omega
end YN
/-! the least of a set of numbers -/
def gf_om : Option Nat → Int32
  | none => -1
  | some p => nI p
def gf_Mn (S : Nat → Prop) (o : Option Nat) : Prop := (∀ d, o = some d → S d ∧ ∀ d', S d' → d ≤ d') ∧ (o = none → ∀ d, ¬ S d)
theorem gf_Mn_new {S S' : Nat → Prop} {o : Option Nat} {d : Nat} (h : gf_Mn S o) (hd : ∀ q, o = some q → d ≤ q) (hS : ∀ q, S' q ↔ S q ∨ q = d) : gf_Mn S' (some d) := by
  refine ⟨fun p' e => ?_, fun e => nomatch e⟩
  cases e
  refine ⟨(hS d).mpr (Or.inr rfl), fun q hq => ?_⟩
  rcases (hS q).mp hq with h1 | rfl
  · cases o with
    | none => exact absurd h1 (h.2 rfl q)
    | some r => exact Nat.le_trans (hd r rfl) ((h.1 r rfl).2 q h1)
  · exact Nat.le_refl _
theorem gf_Mn_old {S S' : Nat → Prop} {r : Nat} (h : gf_Mn S (some r)) (hS : ∀ q, S' q → S q ∨ r ≤ q) (hS2 : ∀ q, S q → S' q) : gf_Mn S' (some r) := by
  refine ⟨fun p' e => ?_, fun e => nomatch e⟩
  cases e
  refine ⟨hS2 r (h.1 r rfl).1, fun q hq => ?_⟩
  rcases hS q hq with h1 | h1
  · exact (h.1 r rfl).2 q h1
  · exact h1
theorem gf_Mn_uniq {S : Nat → Prop} {o o' : Option Nat} (h : gf_Mn S o) (h' : gf_Mn S o') : o = o' := by
  cases o with
  | none =>
    cases o' with
    | none => rfl
    | some q => exact absurd (h'.1 q rfl).1 (h.2 rfl q)
  | some p =>
    cases o' with
    | none => exact absurd (h.1 p rfl).1 (h'.2 rfl p)
    | some q =>
      have h1 := (h.1 p rfl).2 q (h'.1 q rfl).1
      have h2 := (h'.1 q rfl).2 p (h.1 p rfl).1
      congr 1
      omega
theorem gf_Mn_iff {S S' : Nat → Prop} {o : Option Nat} (hS : ∀ q, S q ↔ S' q) (h : gf_Mn S o) : gf_Mn S' o :=
  ⟨fun d e => ⟨(hS d).mp (h.1 d e).1, fun d' h' => (h.1 d e).2 d' ((hS d').mpr h')⟩, fun e d h' => h.2 e d ((hS d).mpr h')⟩
/-- the distances of the pairs of a list -/
def gf_PS (P : List (Nat × Int32)) (d : Nat) : Prop := ∃ p q, gf_has P p ∧ gf_has P q ∧ p ≠ q ∧ d = gf_d p (q / 32) (q % 32)
theorem gf_PS_snoc {P : List (Nat × Int32)} {e : Nat × Int32} (hn : ¬ gf_has P e.1) (d : Nat) : gf_PS (P ++ [e]) d ↔ gf_PS P d ∨ ∃ e', e' ∈ P ∧ d = gf_d e.1 (e'.1 / 32) (e'.1 % 32) := by
  constructor
  · rintro ⟨p, q, hp, hq, hne, hd⟩
    rcases (gf_has_snoc p).mp hp with h1 | h1
    · rcases (gf_has_snoc q).mp hq with h2 | h2
      · exact Or.inl ⟨p, q, h1, h2, hne, hd⟩
      · obtain ⟨v, hv⟩ := h1
        refine Or.inr ⟨(p, v), hv, ?_⟩
        rw [hd, gf_d_comm, h2]
    · rcases (gf_has_snoc q).mp hq with h2 | h2
      · obtain ⟨v, hv⟩ := h2
        refine Or.inr ⟨(q, v), hv, ?_⟩
        rw [hd, h1]
      · exact absurd (h1.trans h2.symm) hne
  · rintro (⟨p, q, hp, hq, hne, hd⟩ | ⟨e', he', hd⟩)
    · exact ⟨p, q, (gf_has_snoc p).mpr (Or.inl hp), (gf_has_snoc q).mpr (Or.inl hq), hne, hd⟩
    · refine ⟨e.1, e'.1, (gf_has_snoc _).mpr (Or.inr rfl), (gf_has_snoc _).mpr (Or.inl ⟨e'.2, he'⟩), fun z => hn ?_, hd⟩
      rw [z]
      exact ⟨e'.2, he'⟩
section YP
variable {px py wo : Nat → Int32} {L : List (Nat × Int32)}
theorem gy_clo20 {post : Int32 → Prop} {J4 : Int32 → Int32 → Prop} {P Q : List (Nat × Int32)} {e : Nat × Int32} (hA : gf_A (gf_QY px py wo) 0 L) (ok : gf_ok L) (hP : L = P ++ e :: Q) :
    ∀ (P2 P1 : List (Nat × Int32)) (S : Nat → Prop) (o : Option Nat), P = P1 ++ P2 → gf_Mn S o → (∀ d, S d → d ≤ 1922) →
    (∀ S' o', (∀ d, S' d ↔ S d ∨ ∃ e', e' ∈ P2 ∧ d = gf_d e.1 (e'.1 / 32) (e'.1 % 32)) → gf_Mn S' o' → J4 (gf_om o') (nI (P.length + 1))) →
    ∀ n, P2.length < n → wY_closest_20 post J4 (nI P.length) (nI L.length) px py wo n (gf_om o) (nI P1.length) := by
  have hl := ok.2.1
  have len := gf_lenc hP
  intro P2
  induction P2 with
  | nil =>
    intro P1 S o h1 hm hb hp n hn
    obtain ⟨m, rfl⟩ : ∃ m, n = m + 1 := ⟨n - 1, by omega⟩
    rw [List.append_nil] at h1
    subst h1
    refine br_t (nI_le (Nat.le_refl _) (by omega)) (nm_r (nI_1 _) (hp S o (fun d => ⟨Or.inl, fun z => ?_⟩) hm))
    rcases z with z | ⟨e', h, _⟩
    · exact z
    · cases h
  | cons f P2 ih =>
    intro P1 S o h1 hm hb hp n hn
    obtain ⟨m, rfl⟩ : ∃ m, n = m + 1 := ⟨n - 1, by omega⟩
    rw [List.length_cons] at hn
    have len1 := gf_lenc h1
    have hL : L = P1 ++ f :: (P2 ++ e :: Q) := by rw [hP, h1, List.append_assoc]; rfl
    have hf := ok.2.2 f (gf_memc hL)
    have he := ok.2.2 e (gf_memc hP)
    have hd := gf_d_lt (x := f.1 / 32) (y := f.1 % 32) he (by omega) (by omega)
    obtain ⟨vi, cl, q1, q2, q3⟩ := gf_yat hA hL hl
    have next : ∀ o', gf_Mn (fun d => S d ∨ d = gf_d e.1 (f.1 / 32) (f.1 % 32)) o' → wY_closest_20 post J4 (nI P.length) (nI L.length) px py wo m (gf_om o') (nI (P1 ++ [f]).length) := by
      intro o' hm'
      refine ih (P1 ++ [f]) _ o' (gf_asc h1) hm' (fun d hd' => ?_) (fun S' o'' hS hm'' => hp S' o'' (fun d => ?_) hm'') m (by omega)
      · rcases hd' with h | h
        · exact hb d h
        · omega
      · rw [hS d]
        constructor
        · rintro ((h | h) | ⟨e', h, h'⟩)
          · exact Or.inl h
          · exact Or.inr ⟨f, List.mem_cons_self .., h⟩
          · exact Or.inr ⟨e', List.mem_cons_of_mem _ h, h'⟩
        · rintro (h | ⟨e', h, h'⟩)
          · exact Or.inl (Or.inl h)
          · rcases List.mem_cons.mp h with rfl | h2
            · exact Or.inl (Or.inr h')
            · exact Or.inr ⟨e', h2, h'⟩
    refine br_f (nI_ge (by omega) (by omega)) ⟨vi, vi, ?_⟩
    rw [cl, q1, q2]
    refine gy_apart hA ok hP ?_
    cases o with
    | none => exact br_t (by decide) (nm_r (gf_snl P1 f) (next (some _) (gf_Mn_new hm (fun q z => nomatch z) (fun q => Iff.rfl))))
    | some r =>
      have hr := hb r (hm.1 r rfl).1
      refine br_f (nI_pos (by omega)) (pk_le r (gf_d e.1 (f.1 / 32) (f.1 % 32)) (fun h => nm_r (gf_snl P1 f) (next (some r) ?_)) (fun h => nm_r (gf_snl P1 f) (next (some _) ?_)))
      · exact gf_Mn_old hm (fun q z => z.imp id (fun z => by omega)) (fun q z => Or.inl z)
      · exact gf_Mn_new hm (fun q z => by cases z; omega) (fun q => Iff.rfl)
theorem gy_clo4 {post : Int32 → Prop} (hA : gf_A (gf_QY px py wo) 0 L) (ok : gf_ok L) (hp : ∀ o, gf_Mn (gf_PS L) o → post (gf_om o)) :
    ∀ (Q P : List (Nat × Int32)) (o : Option Nat), L = P ++ Q → gf_Mn (gf_PS P) o → ∀ n, Q.length < n → wY_closest_4 post (nI L.length) px py wo n (gf_om o) (nI P.length) := by
  have hl := ok.2.1
  intro Q
  induction Q with
  | nil =>
    intro P o hP hm n hn
    obtain ⟨m, rfl⟩ : ∃ m, n = m + 1 := ⟨n - 1, by omega⟩
    rw [List.append_nil] at hP
    subst hP
    exact br_t (nI_le (Nat.le_refl _) (by omega)) (hp o hm)
  | cons e Q ih =>
    intro P o hP hm n hn
    obtain ⟨m, rfl⟩ : ∃ m, n = m + 1 := ⟨n - 1, by omega⟩
    rw [List.length_cons] at hn
    have len := gf_lenc hP
    refine br_f (nI_ge (by omega) (by omega)) (br_f (nI_ge (b := 40) (by omega) (by decide)) ⟨P.length + 1, ?_⟩)
    have ne : ¬ gf_has P e.1 := by
      rintro ⟨v, hv⟩
      exact (gf_split_keys ok.1 hP).1 (e.1, v) hv rfl
    refine gy_clo20 hA ok hP P [] (gf_PS P) o rfl hm (fun d hd => ?_) (fun S' o' hS hm' => ?_) (P.length + 1) (by omega)
    · obtain ⟨p, q, ⟨v, hv⟩, ⟨w, hw⟩, _, rfl⟩ := hd
      have h1 : p < 1024 := ok.2.2 (p, v) (by rw [hP]; exact List.mem_append_left _ hv)
      have h2 : q < 1024 := ok.2.2 (q, w) (by rw [hP]; exact List.mem_append_left _ hw)
      exact gf_d_lt h1 (by omega) (by omega)
    · rw [show P.length + 1 = (P ++ [e]).length from by rw [List.length_append]; rfl]
      exact ih (P ++ [e]) o' (gf_asc hP) (gf_Mn_iff (fun q => (hS q).trans (gf_PS_snoc ne q).symm) hm') m (by omega)
end YP
end
section
/-! frontier -/
def gf_nd (e e' : Nat × Int32) : Bool := decide (e'.1 = e.1 ∨ ¬ (e.1 / 32 ≤ e'.1 / 32 ∧ e.1 % 32 ≤ e'.1 % 32))
def gf_fr (L : List (Nat × Int32)) (e : Nat × Int32) : Bool := L.all (gf_nd e)
def gf_bi (b : Bool) : Int32 := if b = true then 1 else 0
theorem gf_pos {L P Q P1 Q1 : List (Nat × Int32)} {e e' : Nat × Int32} (hn : (L.map Prod.fst).Nodup) (hP : L = P ++ e :: Q) (hP1 : L = P1 ++ e' :: Q1) : e'.1 = e.1 ↔ P1.length = P.length := by
  have g : ∀ (A B : List (Nat × Int32)) (z : Nat × Int32), L = A ++ z :: B → (L.map Prod.fst)[A.length]? = some z.1 := by
    intro A B z h
    rw [h, List.map_append, List.map_cons, List.getElem?_append_right (by rw [List.length_map]; exact Nat.le_refl _), List.length_map, Nat.sub_self]
    rfl
  have l1 := gf_lenc hP1
  have h0 : P1.length < (L.map Prod.fst).length := by rw [List.length_map]; omega
  have := List.getElem?_inj (j := P.length) h0 hn
  rw [g P1 Q1 e' hP1, g P Q e hP, Option.some.injEq] at this
  exact this
section YF
variable {px py wo : Nat → Int32} {L : List (Nat × Int32)}
theorem gy_fro23 {post : Int32 → Prop} {J4 : Int32 → Int32 → Prop} {P Q : List (Nat × Int32)} {e : Nat × Int32} {acc : Nat} (hA : gf_A (gf_QY px py wo) 0 L) (ok : gf_ok L) (hP : L = P ++ e :: Q)
    (h1 : gf_fr L e = true → J4 (nI (acc + 1)) (nI (P ++ [e]).length)) (h0 : gf_fr L e = false → J4 (nI acc) (nI (P ++ [e]).length)) :
    ∀ (Q1 P1 : List (Nat × Int32)), L = P1 ++ Q1 → ∀ n, Q1.length < n → wY_frontier_23 post J4 (nI acc) (nI P.length) (nI L.length) px py wo n (gf_bi (P1.all (gf_nd e))) (nI P1.length) := by
  have hl := ok.2.1
  have len := gf_lenc hP
  have he := ok.2.2 e (gf_memc hP)
  obtain ⟨vi, cl, q1, q2, q3⟩ := gf_yat hA hP hl
  have e1 : px (nI P.length).toNatClampNeg = nI (e.1 / 32) := by rw [cl]; exact q1
  have e2 : py (nI P.length).toNatClampNeg = nI (e.1 % 32) := by rw [cl]; exact q2
  intro Q1
  induction Q1 with
  | nil =>
    intro P1 hP1 n hn
    obtain ⟨m, rfl⟩ : ∃ m, n = m + 1 := ⟨n - 1, by omega⟩
    rw [List.append_nil] at hP1
    subst hP1
    refine br_t (nI_le (Nat.le_refl _) (by omega)) ?_
    cases h : L.all (gf_nd e) with
    | true => exact br_f (by decide) (nm_r (nI_1 acc) (nm_r (gf_snl P e) (h1 h)))
    | false => exact br_t rfl (nm_r (gf_snl P e) (h0 h))
  | cons f Q1 ih =>
    intro P1 hP1 n hn
    obtain ⟨m, rfl⟩ : ∃ m, n = m + 1 := ⟨n - 1, by omega⟩
    rw [List.length_cons] at hn
    have len1 := gf_lenc hP1
    have hf := ok.2.2 f (gf_memc hP1)
    obtain ⟨vi', cl', r1, r2, r3⟩ := gf_yat hA hP1 hl
    have f1 : px (nI P1.length).toNatClampNeg = nI (f.1 / 32) := by rw [cl']; exact r1
    have f2 : py (nI P1.length).toNatClampNeg = nI (f.1 % 32) := by rw [cl']; exact r2
    have hpos := gf_pos ok.1 hP hP1
    have next := ih (P1 ++ [f]) (gf_asc hP1) m (by omega)
    have al : (P1 ++ [f]).all (gf_nd e) = (P1.all (gf_nd e) && gf_nd e f) := by rw [List.all_append, List.all_cons, List.all_nil, Bool.and_true]
    rw [al] at next
    have keep : gf_nd e f = true → wY_frontier_23 post J4 (nI acc) (nI P.length) (nI L.length) px py wo m (gf_bi (P1.all (gf_nd e))) (nI (P1 ++ [f]).length) := by
      intro h
      rw [h, Bool.and_true] at next
      exact next
    refine br_f (nI_ge (by omega) (by omega)) (br_f (nI_ge (b := 40) (by omega) (by decide)) ?_)
    refine pk_eq P1.length P.length (fun h => nm_r (gf_snl P1 f) (keep ?_)) (fun h => ⟨vi', vi, ?_⟩)
    · exact decide_eq_true (Or.inl (hpos.mpr h))
    rw [f1, e1]
    refine pk_lt (f.1 / 32) (e.1 / 32) (fun h2 => nm_r (gf_snl P1 f) (keep ?_)) (fun h2 => ⟨vi', vi, ?_⟩)
    · exact decide_eq_true (Or.inr (by omega))
    rw [f2, e2]
    refine pk_lt (f.1 % 32) (e.1 % 32) (fun h3 => nm_r (gf_snl P1 f) (keep ?_)) (fun h3 => nm_r (gf_snl P1 f) ?_)
    · exact decide_eq_true (Or.inr (by omega))
    have nf : gf_nd e f = false := decide_eq_false (fun z => by
      rcases z with z | z
      · exact h (hpos.mp z)
      · exact z ⟨h2, h3⟩)
    rw [nf, Bool.and_false] at next
    exact next
theorem gy_fro4 {post : Int32 → Prop} (hA : gf_A (gf_QY px py wo) 0 L) (ok : gf_ok L) :
    ∀ (Q P : List (Nat × Int32)) (acc : Nat), L = P ++ Q → post (nI (acc + Q.countP (gf_fr L))) → ∀ n, Q.length < n → wY_frontier_4 post (nI L.length) px py wo n (nI acc) (nI P.length) := by
  have hl := ok.2.1
  intro Q
  induction Q with
  | nil =>
    intro P acc hP hp n hn
    obtain ⟨m, rfl⟩ : ∃ m, n = m + 1 := ⟨n - 1, by omega⟩
    rw [List.append_nil] at hP
    subst hP
    exact br_t (nI_le (Nat.le_refl _) (by omega)) hp
  | cons e Q ih =>
    intro P acc hP hp n hn
    obtain ⟨m, rfl⟩ : ∃ m, n = m + 1 := ⟨n - 1, by omega⟩
    rw [List.length_cons] at hn
    have len := gf_lenc hP
    refine br_f (nI_ge (by omega) (by omega)) (br_f (nI_ge (b := 40) (by omega) (by decide)) ⟨L.length + 1, ?_⟩)
    refine gy_fro23 hA ok hP (fun h => ?_) (fun h => ?_) L [] rfl (L.length + 1) (by omega)
    · refine ih (P ++ [e]) (acc + 1) (gf_asc hP) ?_ m (by omega)
      rw [List.countP_cons_of_pos h] at hp
      rw [show acc + 1 + Q.countP (gf_fr L) = acc + (Q.countP (gf_fr L) + 1) from by omega]
      exact hp
    · refine ih (P ++ [e]) acc (gf_asc hP) ?_ m (by omega)
      rw [List.countP_cons_of_neg (by rw [h]; decide)] at hp
      exact hp
/-! point: the i-th place of a sorted list -/
theorem gy_pnt17 {post : Int32 → Prop} {a b : Nat} {v3 : Int32} {S : List Nat} (ha : a < 1024) (hb : b < 1024) (hA : gf_A (gf_QY px py wo) 0 L) (ok : gf_ok L)
    (hS : S.Pairwise (· < ·)) (hm : ∀ p, p ∈ S ↔ ∃ v, (p, v) ∈ L ∧ gf_ins a b (p, v) = true)
    (hf : ∀ S1 q S2, S = S1 ++ q :: S2 → v3 = nI S1.length → post (nI q)) (hn : (∀ i, i < S.length → v3 ≠ nI i) → post (-2)) :
    ∀ (d p : Nat) (S2 S1 : List Nat), p + d = 1024 → S = S1 ++ S2 → (∀ q, q ∈ S1 → q < p) → (∀ q, q ∈ S2 → p ≤ q) → (∀ i, i < S1.length → v3 ≠ nI i) → S1.length ≤ p →
    ∀ n, d < n → wY_point_17 post (nI a) (nI b) v3 (nI L.length) px py wo n (nI S1.length) (nI p) := by
  have hl := ok.2.1
  have h1024 : ∀ q, q ∈ S → q < 1024 := by
    intro q hq
    obtain ⟨v, hv, _⟩ := (hm q).mp hq
    exact ok.2.2 (q, v) hv
  intro d
  induction d with
  | zero =>
    intro p S2 S1 hd hSS h1 h2 h3 h4 n hn'
    obtain ⟨m, rfl⟩ : ∃ m, n = m + 1 := ⟨n - 1, by omega⟩
    refine br_t (nI_le (a := 1024) (by omega) (by omega)) (hn ?_)
    cases S2 with
    | nil => rw [hSS, List.append_nil]; exact h3
    | cons q S2 =>
      have e1 := h2 q (List.mem_cons_self ..)
      have e2 := h1024 q (gf_memc hSS)
      omega
  | succ d ih =>
    intro p S2 S1 hd hSS h1 h2 h3 h4 n hn'
    obtain ⟨m, rfl⟩ : ∃ m, n = m + 1 := ⟨n - 1, by omega⟩
    have skip : p ∉ S → ∀ z, z = nI p + 1 → wY_point_17 post (nI a) (nI b) v3 (nI L.length) px py wo m (nI S1.length) z := by
      intro hp z hz
      rw [hz, nI_1]
      refine ih (p + 1) S2 S1 (by omega) hSS (fun q hq => ?_) (fun q hq => ?_) h3 (by omega) m (by omega)
      · have := h1 q hq; omega
      · have e1 := h2 q hq
        have e2 : q ≠ p := fun z => hp (by rw [← z, hSS]; exact List.mem_append_right _ hq)
        omega
    refine br_f (nI_ge (b := 1024) (by omega) (by decide)) ⟨by decide, by decide, ?_⟩
    rw [gf_r32 (by omega), gf_d32 (by omega)]
    refine gy_find (by omega) (by omega) hA ok (fun P e Q hP he => ?_) (fun hno => br_t (by decide) (skip ?_))
    · have len := gf_lenc hP
      have he' : e.1 = p := by omega
      refine br_f (nI_pos (by omega)) ?_
      refine gy_inside hA ok hP ha hb (fun hi => br_f (by decide) ?_) (fun hi => br_t rfl (skip ?_))
      · have hpS : p ∈ S := (hm p).mpr ⟨e.2, by rw [← he']; exact ⟨gf_memc hP, hi⟩⟩
        cases S2 with
        | nil =>
          rw [hSS, List.append_nil] at hpS
          have := h1 p hpS
          omega
        | cons q S2 =>
          have hq : q = p := by
            have e1 := h2 q (List.mem_cons_self ..)
            rw [hSS] at hpS hS
            rcases List.mem_append.mp hpS with z | z
            · have := h1 p z; omega
            · rcases List.mem_cons.mp z with z | z
              · exact z.symm
              · have := (List.pairwise_cons.mp (List.pairwise_append.mp hS).2.1).1 p z
                omega
          subst hq
          refine br_c (fun h => hf S1 q S2 hSS h.symm) (fun h => ?_)
          refine nm_r (gf_snl S1 q) (nm_r (nI_1 q) ?_)
          refine ih (q + 1) S2 (S1 ++ [q]) (by omega) (gf_asc hSS) ?_ (fun x hx => ?_) (fun i hi => ?_) (by rw [List.length_append]; show S1.length + 1 ≤ q + 1; omega) m (by omega)
          · exact gf_snoc_all (fun x hx => by have := h1 x hx; omega) (by omega)
          · rw [hSS] at hS
            have := (List.pairwise_cons.mp (List.pairwise_append.mp hS).2.1).1 x hx
            omega
          · rw [List.length_append, List.length_cons, List.length_nil] at hi
            by_cases z : i = S1.length
            · rw [z]; exact fun y => h y.symm
            · exact h3 i (by omega)
      · intro hpS
        obtain ⟨v, hv, hv'⟩ := (hm p).mp hpS
        have := gf_key ok.1 hv (gf_memc hP) (by rw [he'])
        rw [this, hi] at hv'
        cases hv'
    · intro hpS
      obtain ⟨v, hv, _⟩ := (hm p).mp hpS
      refine hno ⟨v, ?_⟩
      rw [show 32 * (p / 32) + p % 32 = p from by omega]
      exact hv
end YF
/-! clear, move -/
theorem gy_clear17 {post : Int32 → SY → Prop} {a b : Nat} (ha : a < 1024) (hb : b < 1024) :
    ∀ (m : Nat) (P F : List (Nat × Int32)) (px py wo : Nat → Int32) (acc : Nat), gf_A (gf_QY px py wo) 0 (P ++ F) → gf_ok (P ++ F) → m ≤ 40 → (P.length = m ∨ (P.length < m ∧ F = [])) →
    (∀ px' py' wo', gf_A (gf_QY px' py' wo') 0 (P.filter (fun e => !gf_ins a b e) ++ F) → gf_ok (P.filter (fun e => !gf_ins a b e) ++ F) → post (nI (acc + P.countP (gf_ins a b))) (nI (P.filter (fun e => !gf_ins a b e) ++ F).length, px', py', wo')) →
    ∀ n, m < n → wY_clear_17 post (nI a) (nI b) n (nI acc) (nI m + (-1)) (nI (P ++ F).length) px py wo := by
  intro m
  induction m with
  | zero =>
    intro P F px py wo acc hA ok hm hPF hp n hn
    obtain ⟨k, rfl⟩ : ∃ k, n = k + 1 := ⟨n - 1, by omega⟩
    have : P = [] := List.eq_nil_of_length_eq_zero (by omega)
    subst this
    exact br_t (by decide) (hp px py wo hA ok)
  | succ m ih =>
    intro P F px py wo acc hA ok hm hPF hp n hn
    obtain ⟨k, rfl⟩ : ∃ k, n = k + 1 := ⟨n - 1, by omega⟩
    have hl := ok.2.1
    rw [pk_m1]
    refine br_f (nI_pos (by omega)) ?_
    refine pk_le (P ++ F).length m (fun h => nm_e ?_) (fun h => ?_)
    · refine ih P F px py wo acc hA ok (by omega) ?_ hp k (by omega)
      rw [List.length_append] at h
      rcases hPF with z | z
      · omega
      · by_cases w : P.length = m
        · exact Or.inl w
        · exact Or.inr ⟨by omega, z.2⟩
    · rw [List.length_append] at h
      have hPl : P.length = m + 1 := by
        rcases hPF with z | z
        · exact z
        · rw [z.2, List.length_nil] at h; omega
      obtain ⟨P', e, rfl⟩ : ∃ P' e, P = P' ++ [e] := ⟨P.dropLast, P.getLast (by intro z; rw [z] at hPl; cases hPl), (List.dropLast_concat_getLast _).symm⟩
      rw [List.length_append, List.length_cons, List.length_nil] at hPl
      have hm' : P'.length = m := by omega
      have hL : (P' ++ [e]) ++ F = P' ++ e :: F := by rw [List.append_assoc]; rfl
      rw [← hm']
      refine gy_inside hA ok hL ha hb (fun hi => br_f (by decide) ?_) (fun hi => br_t rfl ?_)
      · refine gy_takeOut hA hl hL (fun px' py' wo' hA' => nm_r (nI_1 acc) (nm_e ?_))
        rw [hm']
        have es : (P' ++ [e]).filter (fun e => !gf_ins a b e) = P'.filter (fun e => !gf_ins a b e) := by
          rw [List.filter_append, List.filter_cons_of_neg (by rw [hi]; decide), List.filter_nil, List.append_nil]
        have ec : (P' ++ [e]).countP (gf_ins a b) = P'.countP (gf_ins a b) + 1 := by
          rw [List.countP_append, List.countP_cons_of_pos hi, List.countP_nil]
        rw [es, ec] at hp
        refine ih P' F px' py' wo' (acc + 1) hA' ?_ (by omega) (Or.inl hm') (fun px'' py'' wo'' h1 h2 => ?_) k (by omega)
        · have sub : (P' ++ F).Sublist ((P' ++ [e]) ++ F) := by
            rw [hL]
            exact List.Sublist.append_left (List.sublist_cons_self ..) _
          exact ⟨ok.1.sublist (sub.map _), Nat.le_trans sub.length_le ok.2.1, fun x hx => ok.2.2 x (sub.subset hx)⟩
        · have := hp px'' py'' wo'' h1 h2
          rw [show acc + (P'.countP (gf_ins a b) + 1) = acc + 1 + P'.countP (gf_ins a b) from by omega] at this
          exact this
      · refine nm_e ?_
        rw [hm']
        have es : (P' ++ [e]).filter (fun e => !gf_ins a b e) ++ F = P'.filter (fun e => !gf_ins a b e) ++ e :: F := by
          rw [List.filter_append, List.filter_cons_of_pos (by rw [hi]; rfl), List.filter_nil, List.append_assoc]; rfl
        have ec : (P' ++ [e]).countP (gf_ins a b) = P'.countP (gf_ins a b) := by
          rw [List.countP_append, List.countP_cons_of_neg (by rw [hi]; decide), List.countP_nil, Nat.add_zero]
        rw [es, ec] at hp
        rw [hL] at hA ok ⊢
        exact ih P' (e :: F) px py wo acc hA ok (by omega) (Or.inl hm') hp k (by omega)
def gf_mvL (L : List (Nat × Int32)) (p q : Nat) : List (Nat × Int32) := L.map (fun e => if e.1 = p then (q, e.2) else e)
theorem gf_mvL_none {P : List (Nat × Int32)} {p q : Nat} (h : ∀ e, e ∈ P → e.1 ≠ p) : gf_mvL P p q = P := by
  induction P with
  | nil => rfl
  | cons a l ih =>
    show (if a.1 = p then (q, a.2) else a) :: gf_mvL l p q = a :: l
    rw [if_neg (h a (List.mem_cons_self ..)), ih (fun e he => h e (List.mem_cons_of_mem _ he))]
theorem gf_mvL_at {L P Q : List (Nat × Int32)} {e : Nat × Int32} {q : Nat} (hn : (L.map Prod.fst).Nodup) (hP : L = P ++ e :: Q) : gf_mvL L e.1 q = P ++ (q, e.2) :: Q := by
  obtain ⟨h1, h2⟩ := gf_split_keys hn hP
  subst hP
  have e1 := gf_mvL_none (q := q) h1
  have e2 := gf_mvL_none (q := q) h2
  rw [gf_mvL] at e1 e2 ⊢
  rw [List.map_append, List.map_cons, e1, e2, if_pos rfl]
/-- the moved list, as the component has it -/
theorem gf_mvL_perm {L : List (Nat × Int32)} {e : Nat × Int32} {q : Nat} (hn : (L.map Prod.fst).Nodup) (he : e ∈ L) : (gf_mvL L e.1 q).Perm ((q, e.2) :: L.filter (fun x => decide (x.1 ≠ e.1))) := by
  obtain ⟨P, Q, hP⟩ := List.append_of_mem he
  rw [gf_mvL_at hn hP, gf_rm hn hP]
  exact List.perm_middle
theorem gf_ok_mv {L : List (Nat × Int32)} {p q : Nat} (ok : gf_ok L) (hq : q < 1024) (hp : gf_has L p) (hn : ¬ gf_has L q) : gf_ok (gf_mvL L p q) := by
  obtain ⟨v, hv⟩ := hp
  have pm := gf_mvL_perm (q := q) ok.1 hv
  refine ⟨?_, by rw [gf_mvL, List.length_map]; exact ok.2.1, fun x hx => ?_⟩
  · rw [(pm.map Prod.fst).nodup_iff, List.map_cons, List.nodup_cons]
    refine ⟨fun z => hn ?_, (gf_ok_filter ok _).1⟩
    obtain ⟨x, hx, e⟩ := List.mem_map.mp z
    have e' : x.1 = q := e
    exact ⟨x.2, by rw [← e']; exact (List.mem_filter.mp hx).1⟩
  · rcases List.mem_cons.mp (pm.mem_iff.mp hx) with h | h
    · rw [h]; exact hq
    · exact ok.2.2 x (List.mem_filter.mp h).1
end
section
/-! the component: cells, buckets, points -/
section XF
variable {C R B N : Nat} {H : Int32} {cx cy dr sz lf rt lo hi pl : Nat → Nat} {vs hp hv sn : Nat → Int32}
theorem gx_columnOf12 {post : Int32 → Prop} (hs : gf_Sc C cx) (hb : ∀ j, cx j ≤ 32) {x : Nat} (hx : x < 32) (hq : ∀ c, gf_Ce C cx x c → post (nI c)) :
    ∀ (d k l h : Nat), k + d = 5 → h - l < 2 ^ d → l ≤ h → h < C → cx l ≤ x → x < cx (h + 1) → ∀ n, d < n → wX_columnOf_12 post (nI x) (nI C) (nI R) (nI B) (nI N) H (gf_L cx) (gf_L cy) (gf_L dr) (gf_L sz) (gf_L lf) (gf_L rt) (gf_L lo) (gf_L hi) (gf_L pl) vs hp hv sn n (nI l) (nI h) (nI k) := by
  have h32 := gf_Sc_32 hs
  intro d
  induction d with
  | zero =>
    intro k l h hk hd hlh hC h1 h2 n hn
    obtain ⟨m, rfl⟩ : ∃ m, n = m + 1 := ⟨n - 1, by omega⟩
    have e : h = l := by omega
    subst e
    exact br_f (nI_ge (b := 6) (by omega) (by decide)) (br_t (nI_le (Nat.le_refl _) (by omega)) (hq h ⟨hC, h1, h2⟩))
  | succ d ih =>
    intro k l h hk hd hlh hC h1 h2 n hn
    obtain ⟨m, rfl⟩ : ∃ m, n = m + 1 := ⟨n - 1, by omega⟩
    rw [Nat.pow_succ] at hd
    refine br_f (nI_ge (b := 6) (by omega) (by decide)) (pk_le h l (fun q => hq l ⟨by omega, h1, ?_⟩) (fun q => ?_))
    · have e : h = l := by omega
      rw [← e]
      exact h2
    have hm := hb ((l + h + 1) / 2)
    have em : gf_L cx (nI ((l + h + 1) / 2)).toNatClampNeg = nI (cx ((l + h + 1) / 2)) := gf_rd _ rfl (by omega)
    refine nm_r (e' := nI ((l + h + 1) / 2)) (by rw [nI_add, nI_1]; exact gf_sh1 (by omega)) ⟨vp_in_nI (by omega) (by decide), ?_⟩
    rw [em]
    refine pk_lt x (cx ((l + h + 1) / 2)) (fun q2 => nm_r (gf_s (by omega)) (nm_r (nI_1 k) ?_)) (fun q2 => nm_r (nI_1 k) ?_)
    · refine ih (k + 1) l ((l + h + 1) / 2 - 1) (by omega) (by omega) (by omega) (by omega) h1 ?_ m (by omega)
      rw [show (l + h + 1) / 2 - 1 + 1 = (l + h + 1) / 2 from by omega]
      exact q2
    · exact ih (k + 1) ((l + h + 1) / 2) h (by omega) (by omega) (by omega) hC q2 h2 m (by omega)
theorem gx_columnOf {post : Int32 → Prop} (hs : gf_Sc C cx) (hb : ∀ j, cx j ≤ 32) {x : Nat} (hx : x < 32) (hq : ∀ c, gf_Ce C cx x c → post (nI c)) : wpX_columnOf post (nI C, nI R, nI B, nI N, H, gf_L cx, gf_L cy, gf_L dr, gf_L sz, gf_L lf, gf_L rt, gf_L lo, gf_L hi, gf_L pl, vs, hp, hv, sn) (nI x) := by
  have h32 := gf_Sc_32 hs
  obtain ⟨h1, h2, h3, h4⟩ := hs
  refine nm_r (gf_s (by omega)) ⟨6, gx_columnOf12 ⟨h1, h2, h3, h4⟩ hb hx hq 5 0 0 (C - 1) rfl (by show C - 1 - 0 < 32; omega) (by omega) (by omega) (by omega) ?_ 6 (by omega)⟩
  rw [show C - 1 + 1 = C from by omega, h3]
  exact hx
theorem gx_rowOf12 {post : Int32 → Prop} (hs : gf_Sc R cy) (hb : ∀ j, cy j ≤ 32) {x : Nat} (hx : x < 32) (hq : ∀ c, gf_Ce R cy x c → post (nI c)) :
    ∀ (d k l h : Nat), k + d = 5 → h - l < 2 ^ d → l ≤ h → h < R → cy l ≤ x → x < cy (h + 1) → ∀ n, d < n → wX_rowOf_12 post (nI x) (nI C) (nI R) (nI B) (nI N) H (gf_L cx) (gf_L cy) (gf_L dr) (gf_L sz) (gf_L lf) (gf_L rt) (gf_L lo) (gf_L hi) (gf_L pl) vs hp hv sn n (nI l) (nI h) (nI k) := by
  have h32 := gf_Sc_32 hs
  intro d
  induction d with
  | zero =>
    intro k l h hk hd hlh hC h1 h2 n hn
    obtain ⟨m, rfl⟩ : ∃ m, n = m + 1 := ⟨n - 1, by omega⟩
    have e : h = l := by omega
    subst e
    exact br_f (nI_ge (b := 6) (by omega) (by decide)) (br_t (nI_le (Nat.le_refl _) (by omega)) (hq h ⟨hC, h1, h2⟩))
  | succ d ih =>
    intro k l h hk hd hlh hC h1 h2 n hn
    obtain ⟨m, rfl⟩ : ∃ m, n = m + 1 := ⟨n - 1, by omega⟩
    rw [Nat.pow_succ] at hd
    refine br_f (nI_ge (b := 6) (by omega) (by decide)) (pk_le h l (fun q => hq l ⟨by omega, h1, ?_⟩) (fun q => ?_))
    · have e : h = l := by omega
      rw [← e]
      exact h2
    have hm := hb ((l + h + 1) / 2)
    have em : gf_L cy (nI ((l + h + 1) / 2)).toNatClampNeg = nI (cy ((l + h + 1) / 2)) := gf_rd _ rfl (by omega)
    refine nm_r (e' := nI ((l + h + 1) / 2)) (by rw [nI_add, nI_1]; exact gf_sh1 (by omega)) ⟨vp_in_nI (by omega) (by decide), ?_⟩
    rw [em]
    refine pk_lt x (cy ((l + h + 1) / 2)) (fun q2 => nm_r (gf_s (by omega)) (nm_r (nI_1 k) ?_)) (fun q2 => nm_r (nI_1 k) ?_)
    · refine ih (k + 1) l ((l + h + 1) / 2 - 1) (by omega) (by omega) (by omega) (by omega) h1 ?_ m (by omega)
      rw [show (l + h + 1) / 2 - 1 + 1 = (l + h + 1) / 2 from by omega]
      exact q2
    · exact ih (k + 1) ((l + h + 1) / 2) h (by omega) (by omega) (by omega) hC q2 h2 m (by omega)
theorem gx_rowOf {post : Int32 → Prop} (hs : gf_Sc R cy) (hb : ∀ j, cy j ≤ 32) {x : Nat} (hx : x < 32) (hq : ∀ c, gf_Ce R cy x c → post (nI c)) : wpX_rowOf post (nI C, nI R, nI B, nI N, H, gf_L cx, gf_L cy, gf_L dr, gf_L sz, gf_L lf, gf_L rt, gf_L lo, gf_L hi, gf_L pl, vs, hp, hv, sn) (nI x) := by
  have h32 := gf_Sc_32 hs
  obtain ⟨h1, h2, h3, h4⟩ := hs
  refine nm_r (gf_s (by omega)) ⟨6, gx_rowOf12 ⟨h1, h2, h3, h4⟩ hb hx hq 5 0 0 (R - 1) rfl (by show R - 1 - 0 < 32; omega) (by omega) (by omega) (by omega) ?_ 6 (by omega)⟩
  rw [show R - 1 + 1 = R from by omega, h3]
  exact hx
theorem gx_bucketAt {post : Int32 → Prop} (hA : gf_AB cx cy dr sz lf rt lo hi pl) (hG : gf_G C R B cx cy dr lf rt lo hi) {x y : Nat} (hx : x < 32) (hy : y < 32) (hq : ∀ b, b < B → gf_In lf rt lo hi b x y → post (nI b)) : wpX_bucketAt post (nI C, nI R, nI B, nI N, H, gf_L cx, gf_L cy, gf_L dr, gf_L sz, gf_L lf, gf_L rt, gf_L lo, gf_L hi, gf_L pl, vs, hp, hv, sn) (nI x) (nI y) := by
  have hC := gf_Sc_32 hG.1
  have hR := gf_Sc_32 hG.2.1
  unfold wpX_bucketAt
  refine gx_columnOf hG.1 (fun j => (hA j).1) hx (fun c hc => ?_)
  refine gx_rowOf hG.2.1 (fun j => (hA j).2.1) hy (fun r hr => ?_)
  obtain ⟨h1, h2⟩ := gf_G_at hG hc hr
  have c1 := hc.1
  have r1 := hr.1
  rw [gf_32a]
  refine ⟨vp_in_nI (by omega) (by decide), ?_⟩
  rw [gf_rd (32 * c + r) rfl (by omega)]
  exact hq _ h1 h2
theorem gx_find12 {post : Int32 → Prop} {x y b : Nat} (hx : x < 32) (hy : y < 32) (hb : b < 64) (hs : sz b ≤ 4) (hpl : ∀ j, pl j < 1024)
    (hf : ∀ k, k < sz b → pl (4 * b + k) = 32 * x + y → post (nI (4 * b + k))) (hn : (∀ k, k < sz b → pl (4 * b + k) ≠ 32 * x + y) → post (-1)) :
    ∀ (d j : Nat), j + d = sz b → (∀ k, k < j → pl (4 * b + k) ≠ 32 * x + y) → ∀ n, d < n → wX_find_12 post (nI x) (nI y) (nI b) (nI C) (nI R) (nI B) (nI N) H (gf_L cx) (gf_L cy) (gf_L dr) (gf_L sz) (gf_L lf) (gf_L rt) (gf_L lo) (gf_L hi) (gf_L pl) vs hp hv sn n (nI (4 * b + j)) := by
  have es : gf_L sz (nI b).toNatClampNeg = nI (sz b) := gf_rd b rfl (by omega)
  intro d
  induction d with
  | zero =>
    intro j hj hk n hn'
    obtain ⟨m, rfl⟩ : ∃ m, n = m + 1 := ⟨n - 1, by omega⟩
    refine ⟨vp_in_nI hb (by decide), ?_⟩
    rw [es, gf_4a]
    exact br_t (nI_le (by omega) (by omega)) (hn (fun k h => hk k (by omega)))
  | succ d ih =>
    intro j hj hk n hn'
    obtain ⟨m, rfl⟩ : ∃ m, n = m + 1 := ⟨n - 1, by omega⟩
    have ep : gf_L pl (nI (4 * b + j)).toNatClampNeg = nI (pl (4 * b + j)) := gf_rd _ rfl (by omega)
    have hp := hpl (4 * b + j)
    refine ⟨vp_in_nI hb (by decide), ?_⟩
    rw [es, gf_4a]
    refine br_f (nI_ge (by omega) (by omega)) ⟨vp_in_nI (by omega) (by decide), ?_⟩
    rw [ep, gf_32a]
    refine pk_eq (pl (4 * b + j)) (32 * x + y) (fun q => hf j (by omega) q) (fun q => nm_r (nI_1 _) ?_)
    refine ih (j + 1) (by omega) (fun k h => ?_) m (by omega)
    by_cases z : k = j
    · rw [z]; exact q
    · exact hk k (by omega)
theorem gx_find {post : Int32 → Prop} {L : List (Nat × Int32)} (J : gf_J C R B cx cy dr sz lf rt lo hi pl vs L) {x y : Nat} (hx : x < 32) (hy : y < 32)
    (hf : ∀ b k, b < B → k < sz b → pl (4 * b + k) = 32 * x + y → post (nI (4 * b + k))) (hn : ¬ gf_has L (32 * x + y) → post (-1)) : wpX_find post (nI C, nI R, nI B, nI N, H, gf_L cx, gf_L cy, gf_L dr, gf_L sz, gf_L lf, gf_L rt, gf_L lo, gf_L hi, gf_L pl, vs, hp, hv, sn) (nI x) (nI y) := by
  unfold wpX_find
  refine gx_bucketAt J.1 J.2.1 hx hy (fun b hb hin => ?_)
  have h64 := J.2.1.2.2.2.1
  refine nm_r (gf_m4 b) ⟨sz b + 1, gx_find12 hx hy (by omega) (J.1 b).2.2.2.1 (fun j => (J.1 j).2.2.2.2.2.2.2.2) (fun k hk he => hf b k hb hk he) (fun hno => hn ?_) (sz b) 0 (by omega) (fun k h => absurd h (Nat.not_lt_zero k)) (sz b + 1) (by omega)⟩
  rintro ⟨v, hv⟩
  obtain ⟨b', k', hb', hk', e⟩ := (gf_J_mem J).mp hv
  have e1 : pl (4 * b' + k') = 32 * x + y := congrArg Prod.fst e
  have i := gf_J_in J hb' hk'
  rw [e1, show (32 * x + y) / 32 = x from by omega, show (32 * x + y) % 32 = y from by omega] at i
  have := J.2.1.2.2.2.2.2 b b' x y hb hb' hin i
  subst this
  exact hno k' hk' e1
theorem gx_drop {post : SX → Prop} {L : List (Nat × Int32)} (J : gf_J C R B cx cy dr sz lf rt lo hi pl vs L) {b k : Nat} (hb : b < B) (hk : k < sz b) (hN : 1 ≤ N)
    (hq : post (nI C, nI R, nI B, nI (N - 1), H, gf_L cx, gf_L cy, gf_L dr, gf_L (gf_u sz b (sz b - 1)), gf_L lf, gf_L rt, gf_L lo, gf_L hi, gf_L (gf_u pl (4 * b + k) (pl (4 * b + (sz b - 1)))), upd vs (4 * b + k) (vs (4 * b + (sz b - 1))), hp, hv, sn)) : wpX_drop post (nI C, nI R, nI B, nI N, H, gf_L cx, gf_L cy, gf_L dr, gf_L sz, gf_L lf, gf_L rt, gf_L lo, gf_L hi, gf_L pl, vs, hp, hv, sn) (nI (4 * b + k)) := by
  obtain ⟨b1, b2, b3, b4⟩ := gf_J_bnd J hb hk
  have hs := (J.1 b).2.2.2.1
  have vb : vp_in (nI b) 64 := vp_in_nI b2 (by decide)
  have e6 : gf_L (gf_u sz b (sz b - 1)) (nI b).toNatClampNeg = nI (sz b - 1) := by rw [gf_rd b rfl (by omega), gf_us]
  have ei : (4 : Int32) * nI b + nI (sz b - 1) = nI (4 * b + (sz b - 1)) := gf_4a _ _
  have vl : vp_in (nI (4 * b + (sz b - 1))) 256 := vp_in_nI (by omega) (by decide)
  have va : vp_in (nI (4 * b + k)) 256 := vp_in_nI b1 (by decide)
  refine br_t (nI_pos' (by omega)) ⟨by decide, nm_r (e' := nI b) (by rw [show (4 : Int32) = nI 4 from rfl, pk_div (by omega) (by omega) (by omega)]; exact congrArg nI (by omega)) ⟨vb, vb, nm_r (e' := gf_L (gf_u sz b (sz b - 1))) (gf_st b (sz b - 1) rfl (by rw [gf_rd b rfl (by omega)]; exact gf_s (by omega)) (by omega)) ⟨vb, ?_⟩⟩⟩
  rw [e6, ei]
  refine ⟨vl, va, nm_r (e' := gf_L (gf_u pl (4 * b + k) (pl (4 * b + (sz b - 1))))) (gf_st _ _ rfl (gf_rd _ rfl (by omega)) (by omega)) ⟨vb, vl, va, nm_r (e' := upd vs (4 * b + k) (vs (4 * b + (sz b - 1)))) (by rw [nI_clamp (by omega), nI_clamp (by omega)]) (nm_r (gf_s (by omega)) hq)⟩⟩
end XF
end
section
/-! gather, collect -/
def gf_QH (hp hv : Nat → Int32) (j : Nat) (e : Nat × Int32) : Prop := hp j = nI e.1 ∧ hv j = e.2
theorem gf_QH_snoc {hp hv : Nat → Int32} {l : List (Nat × Int32)} (e : Nat × Int32) (h : gf_A (gf_QH hp hv) 0 l) : gf_A (gf_QH (upd hp l.length (nI e.1)) (upd hv l.length e.2)) 0 (l ++ [e]) :=
  gf_A_snoc h (by rw [Nat.zero_add]; exact ⟨pk_us, pk_us⟩) (fun j e hj q => by
    rw [Nat.zero_add] at hj
    exact ⟨(pk_un hj).trans q.1, (pk_un hj).trans q.2⟩)
theorem gf_QH_set {hp hv : Nat → Int32} {l m : List (Nat × Int32)} {z : Nat × Int32} (e : Nat × Int32) (h : gf_A (gf_QH hp hv) 0 (l ++ z :: m)) : gf_A (gf_QH (upd hp l.length (nI e.1)) (upd hv l.length e.2)) 0 (l ++ e :: m) :=
  gf_A_set h (by rw [Nat.zero_add]; exact ⟨pk_us, pk_us⟩) (fun j e hj q => by
    rw [Nat.zero_add] at hj
    exact ⟨(pk_un hj).trans q.1, (pk_un hj).trans q.2⟩)
theorem gf_QH_at {hp hv : Nat → Int32} {l m : List (Nat × Int32)} {z : Nat × Int32} (h : gf_A (gf_QH hp hv) 0 (l ++ z :: m)) : hp l.length = nI z.1 ∧ hv l.length = z.2 := by
  have := gf_A_at h
  rw [Nat.zero_add] at this
  exact this
section XG
variable {C R B N : Nat} {H : Int32} {cx cy dr sz lf rt lo hi pl : Nat → Nat} {vs hp hv sn : Nat → Int32}
/-- the entry of a bucket at a place of its list -/
theorem gf_bat {b : Nat} {P Q : List (Nat × Int32)} {e : Nat × Int32} (hP : gf_bk sz pl vs b = P ++ e :: Q) (hb : b < 64) (hs : sz b ≤ 4) : sz b = P.length + Q.length + 1 ∧ vp_in (nI (4 * b + P.length)) 256 ∧ (nI (4 * b + P.length)).toNatClampNeg = 4 * b + P.length ∧ pl (4 * b + P.length) = e.1 ∧ vs (4 * b + P.length) = e.2 := by
  have len := gf_lenc hP
  rw [gf_bk_len] at len
  have q : gf_A (gf_Q pl vs) (4 * b) (P ++ e :: Q) := hP ▸ gf_bk_A
  exact ⟨len, vp_in_nI (by omega) (by decide), nI_clamp (by omega), gf_A_at q⟩
theorem gx_gather5 {post : SX → Prop} {b a c : Nat} {HL : List (Nat × Int32)} (hb : b < 64) (hs : sz b ≤ 4) (hpl : ∀ j, pl j < 1024) (ha : a < 1024) (hc : c < 1024) (hlen : (HL ++ (gf_bk sz pl vs b).filter (gf_ins a c)).length ≤ 40)
    (hq : ∀ hp' hv', gf_A (gf_QH hp' hv') 0 (HL ++ (gf_bk sz pl vs b).filter (gf_ins a c)) → post (nI C, nI R, nI B, nI N, nI (HL ++ (gf_bk sz pl vs b).filter (gf_ins a c)).length, gf_L cx, gf_L cy, gf_L dr, gf_L sz, gf_L lf, gf_L rt, gf_L lo, gf_L hi, gf_L pl, vs, hp', hv', sn)) :
    ∀ (Q P : List (Nat × Int32)) (hp hv : Nat → Int32), gf_bk sz pl vs b = P ++ Q → gf_A (gf_QH hp hv) 0 (HL ++ P.filter (gf_ins a c)) →
    ∀ n, Q.length < n → wX_gather_5 post (nI b) (nI a) (nI c) (nI C) (nI R) (nI B) (nI N) n (nI (4 * b + P.length)) (nI (HL ++ P.filter (gf_ins a c)).length) (gf_L cx) (gf_L cy) (gf_L dr) (gf_L sz) (gf_L lf) (gf_L rt) (gf_L lo) (gf_L hi) (gf_L pl) vs hp hv sn := by
  have vb : vp_in (nI b) 64 := vp_in_nI hb (by decide)
  have es : gf_L sz (nI b).toNatClampNeg = nI (sz b) := gf_rd b rfl (by omega)
  intro Q
  induction Q with
  | nil =>
    intro P hp hv hP hA n hn
    obtain ⟨m, rfl⟩ : ∃ m, n = m + 1 := ⟨n - 1, by omega⟩
    rw [List.append_nil] at hP
    have len : sz b = P.length := by rw [← hP, gf_bk_len]
    refine ⟨vb, ?_⟩
    rw [es, gf_4a]
    refine br_t (nI_le (by omega) (by omega)) ?_
    rw [hP] at hq
    exact hq hp hv hA
  | cons e Q ih =>
    intro P hp hv hP hA n hn
    obtain ⟨m, rfl⟩ : ∃ m, n = m + 1 := ⟨n - 1, by omega⟩
    rw [List.length_cons] at hn
    obtain ⟨len, vi, cl, q1, q2⟩ := gf_bat hP hb hs
    have hp1 := hpl (4 * b + P.length)
    rw [q1] at hp1
    have ep : gf_L pl (nI (4 * b + P.length)).toNatClampNeg = nI e.1 := by rw [gf_rd _ rfl (by omega), q1]
    have ev : vs (nI (4 * b + P.length)).toNatClampNeg = e.2 := by rw [cl, q2]
    have e4 : nI (4 * b + P.length) + 1 = nI (4 * b + (P ++ [e]).length) := by rw [nI_1, List.length_append]; rfl
    have hno : gf_ins a c e = false → ∀ z, z = nI (4 * b + P.length) + 1 → wX_gather_5 post (nI b) (nI a) (nI c) (nI C) (nI R) (nI B) (nI N) m z (nI (HL ++ P.filter (gf_ins a c)).length) (gf_L cx) (gf_L cy) (gf_L dr) (gf_L sz) (gf_L lf) (gf_L rt) (gf_L lo) (gf_L hi) (gf_L pl) vs hp hv sn := by
      intro hi z hz
      have ef : (P ++ [e]).filter (gf_ins a c) = P.filter (gf_ins a c) := by
        rw [List.filter_append, List.filter_cons_of_neg (by rw [hi]; decide), List.filter_nil, List.append_nil]
      have := ih (P ++ [e]) hp hv (gf_asc hP) (by rw [ef]; exact hA) m (by omega)
      rw [ef] at this
      rw [hz, e4]
      exact this
    have hz0 : gf_ins a c e = false → wX_gather_63 post (wX_gather_5 post (nI b) (nI a) (nI c) (nI C) (nI R) (nI B) (nI N) m) (nI b) (nI a) (nI c) (nI (4 * b + P.length)) (nI (e.1 % 32)) (nI C) (nI R) (nI B) (nI N) (nI (HL ++ P.filter (gf_ins a c)).length) (gf_L cx) (gf_L cy) (gf_L dr) (gf_L sz) (gf_L lf) (gf_L rt) (gf_L lo) (gf_L hi) (gf_L pl) vs hp hv sn :=
      fun hi => br_t rfl (hno hi)
    refine ⟨vb, ?_⟩
    rw [es, gf_4a]
    refine br_f (nI_ge (by omega) (by omega)) ⟨vi, nm_r (e' := nI (e.1 / 32)) (by rw [ep]; exact gf_sh5 (by omega)) ⟨vi, nm_r (e' := nI (e.1 % 32)) (by rw [ep]; exact gf_a31 (by omega)) ?_⟩⟩
    refine pk_lt (e.1 / 32) (a / 32) (fun q => hz0 (gf_ins_f (by omega))) (fun g1 => ?_) rfl (gf_sh5 (by omega))
    refine pk_lt (c / 32) (e.1 / 32) (fun q => hz0 (gf_ins_f (by omega))) (fun g2 => ?_) (gf_sh5 (by omega)) rfl
    refine br_f (by decide) ?_
    refine pk_lt (e.1 % 32) (a % 32) (fun q => hno (gf_ins_f (by omega))) (fun g3 => ?_) rfl (gf_a31 (by omega))
    refine pk_lt (c % 32) (e.1 % 32) (fun q => hno (gf_ins_f (by omega))) (fun g4 => ?_) (gf_a31 (by omega)) rfl
    have hi : gf_ins a c e = true := gf_ins_t ⟨g1, g2, g3, g4⟩
    have ef : HL ++ (P ++ [e]).filter (gf_ins a c) = (HL ++ P.filter (gf_ins a c)) ++ [e] := by
      rw [List.filter_append, List.filter_cons_of_pos hi, List.filter_nil, List.append_assoc]
    have hl : (HL ++ P.filter (gf_ins a c)).length < 40 := by
      rw [hP, List.filter_append, List.filter_cons_of_pos hi, List.length_append, List.length_append, List.length_cons] at hlen
      rw [List.length_append]
      omega
    have vh : vp_in (nI (HL ++ P.filter (gf_ins a c)).length) 40 := vp_in_nI hl (by decide)
    refine ⟨vi, vh, nm_r (e' := upd hp (HL ++ P.filter (gf_ins a c)).length (nI e.1)) (by rw [ep, nI_clamp (by omega)]) ⟨vi, vh, nm_r (e' := upd hv (HL ++ P.filter (gf_ins a c)).length e.2) (by rw [ev, nI_clamp (by omega)]) (nm_r (gf_snl _ e) (nm_r e4 ?_))⟩⟩
    have := ih (P ++ [e]) _ _ (gf_asc hP) (by rw [ef]; exact gf_QH_snoc e hA) m (by omega)
    rw [ef] at this
    exact this
theorem gx_gather {post : SX → Prop} {b a c : Nat} {HL : List (Nat × Int32)} (hb : b < 64) (hs : sz b ≤ 4) (hpl : ∀ j, pl j < 1024) (ha : a < 1024) (hc : c < 1024) (hlen : (HL ++ (gf_bk sz pl vs b).filter (gf_ins a c)).length ≤ 40) (hA : gf_A (gf_QH hp hv) 0 HL)
    (hq : ∀ hp' hv', gf_A (gf_QH hp' hv') 0 (HL ++ (gf_bk sz pl vs b).filter (gf_ins a c)) → post (nI C, nI R, nI B, nI N, nI (HL ++ (gf_bk sz pl vs b).filter (gf_ins a c)).length, gf_L cx, gf_L cy, gf_L dr, gf_L sz, gf_L lf, gf_L rt, gf_L lo, gf_L hi, gf_L pl, vs, hp', hv', sn)) :
    wpX_gather post (nI C, nI R, nI B, nI N, nI HL.length, gf_L cx, gf_L cy, gf_L dr, gf_L sz, gf_L lf, gf_L rt, gf_L lo, gf_L hi, gf_L pl, vs, hp, hv, sn) (nI b) (nI a) (nI c) := by
  have h0 : HL ++ ([] : List (Nat × Int32)).filter (gf_ins a c) = HL := by rw [List.filter_nil, List.append_nil]
  have := gx_gather5 hb hs hpl ha hc hlen hq (gf_bk sz pl vs b) [] hp hv rfl (by rw [h0]; exact hA) (sz b + 1) (by rw [gf_bk_len]; omega)
  rw [h0] at this
  exact nm_r (gf_m4 b) ⟨sz b + 1, this⟩
/-- visited buckets, and the hits so far -/
def gf_VI (B : Nat) (f : Nat → List (Nat × Int32)) (V : List Nat) (hp hv sn : Nat → Int32) : Prop :=
  V.Nodup ∧ (∀ b, b ∈ V → b < B) ∧ (∀ b, b < B → (sn b = 0 ↔ b ∉ V)) ∧ gf_A (gf_QH hp hv) 0 (V.flatMap f)
theorem gf_VI_len {B : Nat} {f : Nat → List (Nat × Int32)} {V : List Nat} (h1 : V.Nodup) (h2 : ∀ b, b ∈ V → b < B) : (V.flatMap f).length ≤ ((List.range B).flatMap f).length := by
  obtain ⟨rest, hr⟩ := gf_rest (l := List.range B) h1 (fun x hx => List.mem_range.mpr (h2 x hx))
  have := (hr.flatMap_right f).length_eq
  rw [this, List.flatMap_append, List.length_append]
  omega
theorem gx_collect71 {post : SX → Prop} {J55 : Int32 → Int32 → Int32 → Int32 → Int32 → Int32 → (Nat → Int32) → (Nat → Int32) → (Nat → Int32) → (Nat → Int32) → (Nat → Int32) → (Nat → Int32) → (Nat → Int32) → (Nat → Int32) → (Nat → Int32) → (Nat → Int32) → (Nat → Int32) → (Nat → Int32) → (Nat → Int32) → Prop}
    {a k c r0 r1 : Nat} {V : List Nat} {z3 : Int32} (hAB : gf_AB cx cy dr sz lf rt lo hi pl) (hG : gf_G C R B cx cy dr lf rt lo hi) (ha : a < 1024) (hk : k < 1024) (hlen : ((List.range B).flatMap (fun b => (gf_bk sz pl vs b).filter (gf_ins a k))).length ≤ 40) (hc : c < C) (hr1 : r1 < R)
    (hq : ∀ V' hp' hv' sn', gf_VI B (fun b => (gf_bk sz pl vs b).filter (gf_ins a k)) V' hp' hv' sn' → (∀ b, b ∈ V → b ∈ V') → (∀ r', r0 ≤ r' → r' ≤ r1 → dr (32 * c + r') ∈ V') →
      J55 (nI (c + 1)) (nI C) (nI R) (nI B) (nI N) (nI (V'.flatMap (fun b => (gf_bk sz pl vs b).filter (gf_ins a k))).length) (gf_L cx) (gf_L cy) (gf_L dr) (gf_L sz) (gf_L lf) (gf_L rt) (gf_L lo) (gf_L hi) (gf_L pl) vs hp' hv' sn') :
    ∀ (d r : Nat) (V' : List Nat) (hp hv sn : Nat → Int32), r + d = r1 + 1 → gf_VI B (fun b => (gf_bk sz pl vs b).filter (gf_ins a k)) V' hp hv sn → (∀ b, b ∈ V → b ∈ V') → (∀ r', r0 ≤ r' → r' < r → dr (32 * c + r') ∈ V') →
    ∀ n, d < n → wX_collect_71 post J55 (nI a) (nI k) z3 (nI r1) (nI c) n (nI r) (nI C) (nI R) (nI B) (nI N) (nI (V'.flatMap (fun b => (gf_bk sz pl vs b).filter (gf_ins a k))).length) (gf_L cx) (gf_L cy) (gf_L dr) (gf_L sz) (gf_L lf) (gf_L rt) (gf_L lo) (gf_L hi) (gf_L pl) vs hp hv sn := by
  have hC := gf_Sc_32 hG.1
  have hR := gf_Sc_32 hG.2.1
  have h64 := hG.2.2.2.1
  intro d
  induction d with
  | zero =>
    intro r V' hp hv sn hd hV hsub hcov n hn
    obtain ⟨m, rfl⟩ : ∃ m, n = m + 1 := ⟨n - 1, by omega⟩
    exact br_t (nI_lt (by omega) (by omega)) (nm_r (nI_1 c) (hq V' hp hv sn hV hsub (fun r' h1 h2 => hcov r' h1 (by omega))))
  | succ d ih =>
    intro r V' hp hv sn hd hV hsub hcov n hn
    obtain ⟨m, rfl⟩ : ∃ m, n = m + 1 := ⟨n - 1, by omega⟩
    obtain ⟨v1, v2, v3, v4⟩ := hV
    have hbB := (hG.2.2.2.2.1 c r hc (by omega)).1
    have ed : gf_L dr (nI (32 * c + r)).toNatClampNeg = nI (dr (32 * c + r)) := gf_rd _ rfl (by omega)
    refine br_f (nI_nlt (by omega) (by omega)) ?_
    rw [gf_32a]
    refine ⟨vp_in_nI (by omega) (by decide), nm_r ed ?_⟩
    have vb : vp_in (nI (dr (32 * c + r))) 64 := vp_in_nI (by omega) (by decide)
    have cb : (nI (dr (32 * c + r))).toNatClampNeg = dr (32 * c + r) := nI_clamp (by omega)
    refine ⟨vb, ?_⟩
    rw [cb]
    refine br_c (fun hz => ⟨vb, ?_⟩) (fun hz => nm_r (nI_1 r) ?_)
    · have nin : dr (32 * c + r) ∉ V' := (v3 _ hbB).mp hz
      have nd : (V' ++ [dr (32 * c + r)]).Nodup := by
        rw [List.nodup_append]
        refine ⟨v1, List.nodup_cons.mpr ⟨(fun h => nomatch h), List.nodup_nil⟩, fun x hx y hy z => ?_⟩
        rw [List.mem_singleton.mp hy] at z
        exact nin (z ▸ hx)
      have lt' : ∀ b, b ∈ V' ++ [dr (32 * c + r)] → b < B := gf_snoc_all v2 hbB
      have ef : (V' ++ [dr (32 * c + r)]).flatMap (fun b => (gf_bk sz pl vs b).filter (gf_ins a k)) = V'.flatMap (fun b => (gf_bk sz pl vs b).filter (gf_ins a k)) ++ (gf_bk sz pl vs (dr (32 * c + r))).filter (gf_ins a k) := by
        rw [List.flatMap_append, List.flatMap_singleton]
      have hl := Nat.le_trans (gf_VI_len (f := fun b => (gf_bk sz pl vs b).filter (gf_ins a k)) nd lt') hlen
      rw [ef] at hl
      refine nm_r (e' := upd sn (dr (32 * c + r)) 1) (by rw [gf_b1]) ?_
      refine gx_gather (by omega) (hAB _).2.2.2.1 (fun j => (hAB j).2.2.2.2.2.2.2.2) ha hk hl v4 (fun hp' hv' hA' => ?_)
      refine nm_r (nI_1 r) ?_
      have := ih (r + 1) (V' ++ [dr (32 * c + r)]) hp' hv' (upd sn (dr (32 * c + r)) 1) (by omega) ⟨nd, lt', fun b hb => ?_, by rw [ef]; exact hA'⟩ (fun b hb => List.mem_append_left _ (hsub b hb)) (fun r' h1 h2 => ?_) m (by omega)
      · rw [ef] at this
        exact this
      · by_cases z : b = dr (32 * c + r)
        · rw [z, pk_us]
          exact ⟨fun h => absurd h (by decide), fun h => absurd (List.mem_append_right _ (List.mem_singleton.mpr rfl)) h⟩
        · rw [pk_un z, v3 b hb]
          constructor
          · intro h1 h2
            rcases List.mem_append.mp h2 with h3 | h3
            · exact h1 h3
            · exact z (List.mem_singleton.mp h3)
          · exact fun h1 h2 => h1 (List.mem_append_left _ h2)
      · by_cases z : r' = r
        · rw [z]; exact List.mem_append_right _ (List.mem_singleton.mpr rfl)
        · exact List.mem_append_left _ (hcov r' h1 (by omega))
    · refine ih (r + 1) V' hp hv sn (by omega) ⟨v1, v2, v3, v4⟩ hsub (fun r' h1 h2 => ?_) m (by omega)
      by_cases z : r' = r
      · rw [z]
        exact Classical.byContradiction fun h => hz ((v3 _ hbB).mpr h)
      · exact hcov r' h1 (by omega)
theorem gf_Ce_eq {C : Nat} {cx : Nat → Nat} (h : gf_Sc C cx) {x c d : Nat} (hc : gf_Ce C cx x c) (hd : gf_Ce C cx x d) : c = d :=
  Nat.le_antisymm (gf_Ce_le h hc hd (Nat.le_refl _)) (gf_Ce_le h hd hc (Nat.le_refl _))
theorem gx_collect55 {post : SX → Prop} {a k c0 c1 r0 r1 : Nat} (hAB : gf_AB cx cy dr sz lf rt lo hi pl) (hG : gf_G C R B cx cy dr lf rt lo hi) (ha : a < 1024) (hk : k < 1024) (hlen : ((List.range B).flatMap (fun b => (gf_bk sz pl vs b).filter (gf_ins a k))).length ≤ 40)
    (h2 : a % 32 ≤ k % 32) (hc1 : c1 < C) (hr0 : gf_Ce R cy (a % 32) r0) (hr1 : gf_Ce R cy (k % 32) r1)
    (hq : ∀ V' hp' hv' sn', gf_VI B (fun b => (gf_bk sz pl vs b).filter (gf_ins a k)) V' hp' hv' sn' → (∀ c' r', c0 ≤ c' → c' ≤ c1 → r0 ≤ r' → r' ≤ r1 → dr (32 * c' + r') ∈ V') →
      post (nI C, nI R, nI B, nI N, nI (V'.flatMap (fun b => (gf_bk sz pl vs b).filter (gf_ins a k))).length, gf_L cx, gf_L cy, gf_L dr, gf_L sz, gf_L lf, gf_L rt, gf_L lo, gf_L hi, gf_L pl, vs, hp', hv', sn')) :
    ∀ (d c : Nat) (V : List Nat) (hp hv sn : Nat → Int32), c + d = c1 + 1 → gf_VI B (fun b => (gf_bk sz pl vs b).filter (gf_ins a k)) V hp hv sn → (∀ c' r', c0 ≤ c' → c' < c → r0 ≤ r' → r' ≤ r1 → dr (32 * c' + r') ∈ V) →
    ∀ n, d < n → wX_collect_55 post (nI a) (nI k) (nI c1) (nI r1) n (nI c) (nI C) (nI R) (nI B) (nI N) (nI (V.flatMap (fun b => (gf_bk sz pl vs b).filter (gf_ins a k))).length) (gf_L cx) (gf_L cy) (gf_L dr) (gf_L sz) (gf_L lf) (gf_L rt) (gf_L lo) (gf_L hi) (gf_L pl) vs hp hv sn := by
  have hC := gf_Sc_32 hG.1
  have hR := gf_Sc_32 hG.2.1
  have hrr := gf_Ce_le hG.2.1 hr0 hr1 h2
  intro d
  induction d with
  | zero =>
    intro c V hp hv sn hd hV hcov n hn
    obtain ⟨m, rfl⟩ : ∃ m, n = m + 1 := ⟨n - 1, by omega⟩
    exact br_t (nI_lt (by omega) (by omega)) (hq V hp hv sn hV (fun c' r' g1 g2 g3 g4 => hcov c' r' g1 (by omega) g3 g4))
  | succ d ih =>
    intro c V hp hv sn hd hV hcov n hn
    obtain ⟨m, rfl⟩ : ∃ m, n = m + 1 := ⟨n - 1, by omega⟩
    refine br_f (nI_nlt (by omega) (by omega)) ?_
    rw [gf_a31 (by omega)]
    refine gx_rowOf hG.2.1 (fun j => (hAB j).2.1) (by omega) (fun r hr => ⟨r1 + 2, ?_⟩)
    have er := gf_Ce_eq hG.2.1 hr hr0
    subst er
    refine gx_collect71 (r0 := r) (V := V) hAB hG ha hk hlen (by omega) hr1.1 (fun V' hp' hv' sn' hV' hsub hcov' => ?_) (r1 + 1 - r) r V hp hv sn (by omega) hV (fun b hb => hb) (fun r' g1 g2 => absurd g2 (by omega)) (r1 + 2) (by omega)
    refine ih (c + 1) V' hp' hv' sn' (by omega) hV' (fun c' r' g1 g2 g3 g4 => ?_) m (by omega)
    by_cases z : c' = c
    · rw [z]; exact hcov' r' g3 g4
    · exact hsub _ (hcov c' r' g1 (by omega) g3 g4)
theorem gx_collect7 {post : SX → Prop} {a k : Nat} (hB : B ≤ 64)
    (hq : ∀ sn', (∀ j, j < B → sn' j = 0) → wpX_columnOf (fun r_2 => (wpX_rowOf (fun r_21 => (wpX_columnOf (fun r_40 => (∃ n55 : Nat, wX_collect_55 post (nI a) (nI k) r_2 r_21 n55 r_40 (nI C) (nI R) (nI B) (nI N) H (gf_L cx) (gf_L cy) (gf_L dr) (gf_L sz) (gf_L lf) (gf_L rt) (gf_L lo) (gf_L hi) (gf_L pl) vs hp hv sn')) (nI C, nI R, nI B, nI N, H, gf_L cx, gf_L cy, gf_L dr, gf_L sz, gf_L lf, gf_L rt, gf_L lo, gf_L hi, gf_L pl, vs, hp, hv, sn') (nI a >>> ((5 : Int32) &&& 31)))) (nI C, nI R, nI B, nI N, H, gf_L cx, gf_L cy, gf_L dr, gf_L sz, gf_L lf, gf_L rt, gf_L lo, gf_L hi, gf_L pl, vs, hp, hv, sn') (nI k &&& 31))) (nI C, nI R, nI B, nI N, H, gf_L cx, gf_L cy, gf_L dr, gf_L sz, gf_L lf, gf_L rt, gf_L lo, gf_L hi, gf_L pl, vs, hp, hv, sn') (nI k >>> ((5 : Int32) &&& 31))) :
    ∀ (d i : Nat) (sn : Nat → Int32), i + d = B → (∀ j, j < i → sn j = 0) → ∀ n, d < n → wX_collect_7 post (nI a) (nI k) (nI C) (nI R) (nI B) (nI N) H n (nI i) (gf_L cx) (gf_L cy) (gf_L dr) (gf_L sz) (gf_L lf) (gf_L rt) (gf_L lo) (gf_L hi) (gf_L pl) vs hp hv sn := by
  intro d
  induction d with
  | zero =>
    intro i sn hd hs n hn
    obtain ⟨m, rfl⟩ : ∃ m, n = m + 1 := ⟨n - 1, by omega⟩
    exact br_t (nI_le (by omega) (by omega)) (hq sn (fun j hj => hs j (by omega)))
  | succ d ih =>
    intro i sn hd hs n hn
    obtain ⟨m, rfl⟩ : ∃ m, n = m + 1 := ⟨n - 1, by omega⟩
    refine br_f (nI_ge (by omega) (by omega)) ⟨vp_in_nI (by omega) (by decide), nm_r (e' := upd sn i 0) (by rw [nI_clamp (by omega), gf_b0]) (nm_r (nI_1 i) (ih (i + 1) _ (by omega) (fun j hj => ?_) m (by omega)))⟩
    by_cases z : j = i
    · rw [z, pk_us]
    · rw [pk_un z]; exact hs j (by omega)
theorem gx_collect {post : SX → Prop} {L : List (Nat × Int32)} (J : gf_J C R B cx cy dr sz lf rt lo hi pl vs L) (hl : L.length ≤ 40) {a k : Nat} (ha : a < 1024) (hk : k < 1024) (h1 : a / 32 ≤ k / 32) (h2 : a % 32 ≤ k % 32)
    (hq : ∀ HL hp' hv' sn', gf_A (gf_QH hp' hv') 0 HL → HL.Perm (L.filter (gf_ins a k)) → post (nI C, nI R, nI B, nI N, nI HL.length, gf_L cx, gf_L cy, gf_L dr, gf_L sz, gf_L lf, gf_L rt, gf_L lo, gf_L hi, gf_L pl, vs, hp', hv', sn')) : wpX_collect post (nI C, nI R, nI B, nI N, H, gf_L cx, gf_L cy, gf_L dr, gf_L sz, gf_L lf, gf_L rt, gf_L lo, gf_L hi, gf_L pl, vs, hp, hv, sn) (nI a) (nI k) := by
  obtain ⟨hAB, hG, hP, hct, hnd⟩ := J
  have hC := gf_Sc_32 hG.1
  have hR := gf_Sc_32 hG.2.1
  have h64 := hG.2.2.2.1
  have ec : (List.range B).flatMap (fun b => (gf_bk sz pl vs b).filter (gf_ins a k)) = (gf_ct B sz pl vs).filter (gf_ins a k) := by rw [gf_ct, List.filter_flatMap]
  have hlen : ((List.range B).flatMap (fun b => (gf_bk sz pl vs b).filter (gf_ins a k))).length ≤ 40 := by
    rw [ec]
    refine Nat.le_trans (List.length_filter_le ..) ?_
    rw [hct.length_eq]
    exact hl
  refine ⟨B + 1, gx_collect7 (H := 0) h64 (fun sn' hs => ?_) B 0 sn (by omega) (fun j hj => absurd hj (Nat.not_lt_zero j)) (B + 1) (by omega)⟩
  rw [gf_sh5 (n := k) (by omega), gf_a31 (n := k) (by omega), gf_sh5 (n := a) (by omega)]
  refine gx_columnOf hG.1 (fun j => (hAB j).1) (by omega) (fun c1 hc1 => ?_)
  refine gx_rowOf hG.2.1 (fun j => (hAB j).2.1) (by omega) (fun r1 hr1 => ?_)
  refine gx_columnOf hG.1 (fun j => (hAB j).1) (by omega) (fun c0 hc0 => ?_)
  obtain ⟨r0, hr0⟩ := gf_Ce_ex hG.2.1 (x := a % 32) (by omega)
  have hcc := gf_Ce_le hG.1 hc0 hc1 h1
  refine ⟨c1 + 2, ?_⟩
  refine gx_collect55 (c0 := c0) hAB hG ha hk hlen h2 hc1.1 hr0 hr1 (fun V hp' hv' sn'' hV hcov => ?_) (c1 + 1 - c0) c0 [] hp hv sn' (by omega) ⟨List.nodup_nil, (fun b h => nomatch h), (fun b hb => ⟨(fun _ h => nomatch h), fun _ => hs b hb⟩), trivial⟩ (fun c' r' g1 g2 => absurd g2 (by omega)) (c1 + 2) (by omega)
  obtain ⟨v1, v2, v3, v4⟩ := hV
  refine hq _ hp' hv' sn'' v4 ?_
  have miss : ∀ b, b < B → b ∉ V → (gf_bk sz pl vs b).filter (gf_ins a k) = [] := by
    intro b hb hn
    rw [List.filter_eq_nil_iff]
    intro e he hi
    have hin := hP b hb e he
    obtain ⟨i1, i2, i3, i4⟩ := gf_ins_i hi
    have ex : e.1 / 32 < 32 := by omega
    have ey : e.1 % 32 < 32 := by omega
    obtain ⟨c, hc⟩ := gf_Ce_ex hG.1 ex
    obtain ⟨r, hr⟩ := gf_Ce_ex hG.2.1 ey
    have g := hcov c r (gf_Ce_le hG.1 hc0 hc i1) (gf_Ce_le hG.1 hc hc1 i2) (gf_Ce_le hG.2.1 hr0 hr i3) (gf_Ce_le hG.2.1 hr hr1 i4)
    obtain ⟨w1, w2⟩ := gf_G_at hG hc hr
    have := hG.2.2.2.2.2 _ _ _ _ w1 hb w2 hin
    exact hn (this ▸ g)
  have p1 : (V.flatMap (fun b => (gf_bk sz pl vs b).filter (gf_ins a k))).Perm ((List.range B).flatMap (fun b => (gf_bk sz pl vs b).filter (gf_ins a k))) := by
    obtain ⟨rest, hr⟩ := gf_rest (l := List.range B) v1 (fun x hx => List.mem_range.mpr (v2 x hx))
    have p2 := hr.flatMap_right (fun b => (gf_bk sz pl vs b).filter (gf_ins a k))
    have nd := hr.nodup_iff.mp List.nodup_range
    rw [List.nodup_append] at nd
    have e0 : rest.flatMap (fun b => (gf_bk sz pl vs b).filter (gf_ins a k)) = [] := by
      rw [List.flatMap_eq_nil_iff]
      intro b hb
      exact miss b (List.mem_range.mp (hr.mem_iff.mpr (List.mem_append_right _ hb))) (fun z => nd.2.2 b z b hb rfl)
    rw [List.flatMap_append, e0, List.append_nil] at p2
    exact p2.symm
  rw [ec] at p1
  exact p1.trans (hct.filter _)
end XG
end
section
/-! sortHits -/
section XS
variable {C R B N : Nat} {H : Int32} {cx cy dr sz lf rt lo hi pl : Nat → Nat} {vs hp hv sn : Nat → Int32}
theorem gx_sort27 {post : SX → Prop} {J2 : Int32 → (Nat → Int32) → (Nat → Int32) → (Nat → Int32) → (Nat → Int32) → (Nat → Int32) → (Nat → Int32) → (Nat → Int32) → (Nat → Int32) → (Nat → Int32) → (Nat → Int32) → (Nat → Int32) → (Nat → Int32) → (Nat → Int32) → Prop}
    {i : Nat} {e : Nat × Int32} {S rest : List (Nat × Int32)} (he : e.1 < 1024) (hi40 : i < 40)
    (hq : ∀ A1 D1 hp' hv', S = A1 ++ D1 → (∀ x, x ∈ D1 → e.1 < x.1) → (A1 = [] ∨ ∃ A0 w, A1 = A0 ++ [w] ∧ w.1 ≤ e.1) → gf_A (gf_QH hp' hv') 0 (A1 ++ e :: (D1 ++ rest)) → J2 (nI (i + 1)) (gf_L cx) (gf_L cy) (gf_L dr) (gf_L sz) (gf_L lf) (gf_L rt) (gf_L lo) (gf_L hi) (gf_L pl) vs hp' hv' sn) :
    ∀ (m : Nat) (A D : List (Nat × Int32)) (z : Nat × Int32) (hp hv : Nat → Int32), A.length = m → m ≤ i → S = A ++ D → (∀ x, x ∈ A → x.1 < 1024) → (∀ x, x ∈ D → e.1 < x.1) → gf_A (gf_QH hp hv) 0 (A ++ z :: (D ++ rest)) →
    ∀ n, m < n → wX_sortHits_27 post J2 (nI i) (nI e.1) e.2 (nI C) (nI R) (nI B) (nI N) H n (nI m) (gf_L cx) (gf_L cy) (gf_L dr) (gf_L sz) (gf_L lf) (gf_L rt) (gf_L lo) (gf_L hi) (gf_L pl) vs hp hv sn := by
  have fin : ∀ (m : Nat) (A D : List (Nat × Int32)) (z : Nat × Int32) (hp hv : Nat → Int32), A.length = m → m ≤ i → S = A ++ D → (∀ x, x ∈ D → e.1 < x.1) → (A = [] ∨ ∃ A0 w, A = A0 ++ [w] ∧ w.1 ≤ e.1) → gf_A (gf_QH hp hv) 0 (A ++ z :: (D ++ rest)) →
      wX_sortHits_83 post J2 (nI i) (nI e.1) e.2 (nI m) (nI C) (nI R) (nI B) (nI N) H (gf_L cx) (gf_L cy) (gf_L dr) (gf_L sz) (gf_L lf) (gf_L rt) (gf_L lo) (gf_L hi) (gf_L pl) vs hp hv sn := by
    intro m A D z hp hv hm hmi hS hD hA hR
    have v4 : vp_in (nI m) 40 := vp_in_nI (by omega) (by decide)
    have c4 : (nI m).toNatClampNeg = m := nI_clamp (by omega)
    refine ⟨v4, nm_r (e' := upd hp m (nI e.1)) (by rw [c4]) ⟨v4, nm_r (e' := upd hv m e.2) (by rw [c4]) (nm_r (nI_1 i) ?_)⟩⟩
    have := gf_QH_set e hR
    rw [hm] at this
    exact hq A D _ _ hS hD hA this
  intro m
  induction m with
  | zero =>
    intro A D z hp hv hm hmi hS hb hD hR n hn
    obtain ⟨k, rfl⟩ : ∃ k, n = k + 1 := ⟨n - 1, by omega⟩
    exact br_t (by decide) (fin 0 A D z hp hv hm hmi hS hD (Or.inl (List.eq_nil_of_length_eq_zero hm)) hR)
  | succ m ih =>
    intro A D z hp hv hm hmi hS hb hD hR n hn
    obtain ⟨k, rfl⟩ : ∃ k, n = k + 1 := ⟨n - 1, by omega⟩
    obtain ⟨A0, w, rfl⟩ : ∃ A0 w, A = A0 ++ [w] := ⟨A.dropLast, A.getLast (by intro z; rw [z] at hm; cases hm), (List.dropLast_concat_getLast _).symm⟩
    have hm0 : A0.length = m := by rw [List.length_append, List.length_cons, List.length_nil] at hm; omega
    have hw := hb w (List.mem_append_right _ (List.mem_singleton.mpr rfl))
    have hR' : gf_A (gf_QH hp hv) 0 (A0 ++ w :: (z :: (D ++ rest))) := by
      rw [List.append_assoc] at hR
      exact hR
    have hat := gf_QH_at hR'
    rw [hm0] at hat
    have e1 : nI (m + 1) - 1 = nI m := nI_pred m
    have vm : vp_in (nI (m + 1) - 1) 40 := by rw [e1]; exact vp_in_nI (by omega) (by decide)
    have vm1 : vp_in (nI (m + 1)) 40 := vp_in_nI (by omega) (by decide)
    have r1 : hp (nI (m + 1) - 1).toNatClampNeg = nI w.1 := by rw [e1, nI_clamp (by omega)]; exact hat.1
    have r2 : hv (nI (m + 1) - 1).toNatClampNeg = w.2 := by rw [e1, nI_clamp (by omega)]; exact hat.2
    have c4 : (nI (m + 1)).toNatClampNeg = m + 1 := nI_clamp (by omega)
    refine br_f (nI_nle (by omega) (by omega)) ⟨vm, ?_⟩
    rw [r1]
    refine pk_le w.1 e.1 (fun h => fin (m + 1) (A0 ++ [w]) D z hp hv hm hmi hS hD (Or.inr ⟨A0, w, rfl, h⟩) hR) (fun h => ?_)
    refine ⟨vm, vm1, nm_r (e' := upd hp (m + 1) (nI w.1)) (by rw [c4]) ⟨vm, vm1, nm_r (e' := upd hv (m + 1) w.2) (by rw [c4, r2]) (nm_r (pk_m1 m) ?_)⟩⟩
    have hR2 := gf_QH_set w hR
    rw [hm, List.append_assoc] at hR2
    refine ih A0 (w :: D) w _ _ hm0 (by omega) (by rw [hS, List.append_assoc]; rfl) (fun x hx => hb x (List.mem_append_left _ hx)) (fun x hx => ?_) hR2 k (by omega)
    rcases List.mem_cons.mp hx with rfl | hx
    · exact h
    · exact hD x hx
theorem gf_ins_sorted {S A D : List (Nat × Int32)} {e : Nat × Int32} (hS : S = A ++ D) (hs : S.Pairwise (fun x y => x.1 ≤ y.1)) (hD : ∀ x, x ∈ D → e.1 < x.1) (hA : A = [] ∨ ∃ A0 w, A = A0 ++ [w] ∧ w.1 ≤ e.1) : (A ++ e :: D).Pairwise (fun x y => x.1 ≤ y.1) := by
  rw [hS, List.pairwise_append] at hs
  obtain ⟨s1, s2, s3⟩ := hs
  have hAe : ∀ x, x ∈ A → x.1 ≤ e.1 := by
    rcases hA with rfl | ⟨A0, w, rfl, hw⟩
    · intro x hx; cases hx
    · rw [List.pairwise_append] at s1
      intro x hx
      rcases List.mem_append.mp hx with h | h
      · exact Nat.le_trans (s1.2.2 x h w (List.mem_singleton.mpr rfl)) hw
      · rw [List.mem_singleton.mp h]; exact hw
  rw [List.pairwise_append, List.pairwise_cons]
  refine ⟨s1, ⟨fun x hx => Nat.le_of_lt (hD x hx), s2⟩, fun x hx y hy => ?_⟩
  rcases List.mem_cons.mp hy with rfl | hy
  · exact hAe x hx
  · exact s3 x hx y hy
theorem gx_sort2 {post : SX → Prop} {HL : List (Nat × Int32)} (hl : HL.length ≤ 40) (hb : ∀ x, x ∈ HL → x.1 < 1024)
    (hq : ∀ HL' hp' hv', gf_A (gf_QH hp' hv') 0 HL' → HL'.Perm HL → HL'.Pairwise (fun x y => x.1 ≤ y.1) → post (nI C, nI R, nI B, nI N, nI HL.length, gf_L cx, gf_L cy, gf_L dr, gf_L sz, gf_L lf, gf_L rt, gf_L lo, gf_L hi, gf_L pl, vs, hp', hv', sn)) :
    ∀ (rest S : List (Nat × Int32)) (hp hv : Nat → Int32), gf_A (gf_QH hp hv) 0 (S ++ rest) → S.Pairwise (fun x y => x.1 ≤ y.1) → (S ++ rest).Perm HL → ∀ n, rest.length < n → wX_sortHits_2 post (nI C) (nI R) (nI B) (nI N) (nI HL.length) n (nI S.length) (gf_L cx) (gf_L cy) (gf_L dr) (gf_L sz) (gf_L lf) (gf_L rt) (gf_L lo) (gf_L hi) (gf_L pl) vs hp hv sn := by
  intro rest
  induction rest with
  | nil =>
    intro S hp hv hA hs hperm n hn
    obtain ⟨m, rfl⟩ : ∃ m, n = m + 1 := ⟨n - 1, by omega⟩
    rw [List.append_nil] at hA hperm
    have := hperm.length_eq
    exact br_t (nI_le (by omega) (by omega)) (hq S hp hv hA hperm hs)
  | cons e rest ih =>
    intro S hp hv hA hs hperm n hn
    obtain ⟨m, rfl⟩ : ∃ m, n = m + 1 := ⟨n - 1, by omega⟩
    rw [List.length_cons] at hn
    have len := hperm.length_eq
    rw [List.length_append, List.length_cons] at len
    have hat := gf_QH_at hA
    have vi : vp_in (nI S.length) 40 := vp_in_nI (by omega) (by decide)
    have cl : (nI S.length).toNatClampNeg = S.length := nI_clamp (by omega)
    refine br_f (nI_ge (by omega) (by omega)) ⟨vi, nm_r (e' := nI e.1) (by rw [cl]; exact hat.1) ⟨vi, nm_r (e' := e.2) (by rw [cl]; exact hat.2) ⟨S.length + 1, ?_⟩⟩⟩
    refine gx_sort27 (S := S) (rest := rest) (hb e (hperm.mem_iff.mp (List.mem_append_right _ (List.mem_cons_self ..)))) (by omega) (fun A1 D1 hp' hv' hS hD hA1 hA' => ?_) S.length S [] e hp hv rfl (Nat.le_refl _) (by rw [List.append_nil]) (fun x hx => hb x (hperm.mem_iff.mp (List.mem_append_left _ hx))) (fun x hx => nomatch hx) hA (S.length + 1) (by omega)
    have e1 : (A1 ++ e :: D1).length = S.length + 1 := by rw [hS, List.length_append, List.length_append, List.length_cons]; omega
    have e2 : A1 ++ e :: (D1 ++ rest) = (A1 ++ e :: D1) ++ rest := by rw [List.append_assoc]; rfl
    rw [← e1]
    rw [e2] at hA'
    refine ih (A1 ++ e :: D1) hp' hv' hA' (gf_ins_sorted hS hs hD hA1) ?_ m (by omega)
    refine List.Perm.trans ?_ hperm
    rw [← e2, hS, List.append_assoc]
    refine List.Perm.append_left A1 ?_
    exact List.perm_middle.symm
theorem gx_sortHits {post : SX → Prop} {HL : List (Nat × Int32)} (hl : HL.length ≤ 40) (hb : ∀ x, x ∈ HL → x.1 < 1024) (hA : gf_A (gf_QH hp hv) 0 HL)
    (hq : ∀ HL' hp' hv', gf_A (gf_QH hp' hv') 0 HL' → HL'.Perm HL → HL'.Pairwise (fun x y => x.1 ≤ y.1) → post (nI C, nI R, nI B, nI N, nI HL.length, gf_L cx, gf_L cy, gf_L dr, gf_L sz, gf_L lf, gf_L rt, gf_L lo, gf_L hi, gf_L pl, vs, hp', hv', sn)) : wpX_sortHits post (nI C, nI R, nI B, nI N, nI HL.length, gf_L cx, gf_L cy, gf_L dr, gf_L sz, gf_L lf, gf_L rt, gf_L lo, gf_L hi, gf_L pl, vs, hp, hv, sn) := by
  cases HL with
  | nil => exact ⟨1, br_t (by decide) (hq [] hp hv hA (List.Perm.refl _) List.Pairwise.nil)⟩
  | cons e rest =>
    have := gx_sort2 hl hb hq rest [e] hp hv hA (List.pairwise_singleton _ _) (List.Perm.refl _) (rest.length + 1) (by omega)
    exact ⟨rest.length + 1, this⟩
end XS
end
section
/-! a new cut in a scale -/
section XK
variable {C R B N : Nat} {H : Int32} {cx cy dr sz lf rt lo hi pl : Nat → Nat} {vs hp hv sn : Nat → Int32}
theorem gx_ccol73 {post : SX → Prop} {J65 : Int32 → (Nat → Int32) → (Nat → Int32) → (Nat → Int32) → (Nat → Int32) → (Nat → Int32) → (Nat → Int32) → (Nat → Int32) → (Nat → Int32) → (Nat → Int32) → (Nat → Int32) → (Nat → Int32) → (Nat → Int32) → (Nat → Int32) → Prop}
    {z2 : Int32} {k : Nat} {d0 : Nat → Nat} (hk0 : 1 ≤ k) (hk : k ≤ 31) (hR : R ≤ 32)
    (hq : ∀ cur : Nat → Nat, (∀ k' r', k' < k → r' < 32 → cur (32 * k' + r') = d0 (32 * k' + r')) → (∀ k' r', k < k' → k' ≤ C → r' < R → cur (32 * k' + r') = d0 (32 * (k' - 1) + r')) → (∀ r', r' < R → cur (32 * k + r') = d0 (32 * (k - 1) + r')) → (∀ j, cur j < 64) → J65 (nI (k - 1)) (gf_L cx) (gf_L cy) (gf_L cur) (gf_L sz) (gf_L lf) (gf_L rt) (gf_L lo) (gf_L hi) (gf_L pl) vs hp hv sn) :
    ∀ (d r : Nat) (cur : Nat → Nat), r + d = R → (∀ k' r', k' < k → r' < 32 → cur (32 * k' + r') = d0 (32 * k' + r')) → (∀ k' r', k < k' → k' ≤ C → r' < R → cur (32 * k' + r') = d0 (32 * (k' - 1) + r')) → (∀ r', r' < r → cur (32 * k + r') = d0 (32 * (k - 1) + r')) → (∀ j, cur j < 64) →
    ∀ n, d < n → wX_cutColumn_73 post J65 z2 (nI k) (nI C) (nI R) (nI B) (nI N) H n (nI r) (gf_L cx) (gf_L cy) (gf_L cur) (gf_L sz) (gf_L lf) (gf_L rt) (gf_L lo) (gf_L hi) (gf_L pl) vs hp hv sn := by
  intro d
  induction d with
  | zero =>
    intro r cur hd c1 c2 c3 c4 n hn
    obtain ⟨m, rfl⟩ : ∃ m, n = m + 1 := ⟨n - 1, by omega⟩
    exact br_t (nI_le (by omega) (by omega)) (nm_r (gf_m (by omega)) (hq cur c1 c2 (fun r' h => c3 r' (by omega)) c4))
  | succ d ih =>
    intro r cur hd c1 c2 c3 c4 n hn
    obtain ⟨m, rfl⟩ : ∃ m, n = m + 1 := ⟨n - 1, by omega⟩
    have e1 : (32 : Int32) * nI k - 32 + nI r = nI (32 * (k - 1) + r) := by
      rw [gf_m32, show (32 : Int32) = nI 32 from rfl, pk_sub (by omega), nI_add]
      exact congrArg nI (by omega)
    have e2 : (32 : Int32) * nI k + nI r = nI (32 * k + r) := gf_32a _ _
    refine br_f (nI_ge (by omega) (by omega)) ?_
    rw [e1, e2]
    refine ⟨vp_in_nI (by omega) (by decide), vp_in_nI (by omega) (by decide), nm_r (e' := gf_L (gf_u cur (32 * k + r) (cur (32 * (k - 1) + r)))) (gf_st _ _ rfl (gf_rd _ rfl (by omega)) (by omega)) (nm_r (nI_1 r) (ih (r + 1) _ (by omega) ?_ ?_ ?_ ?_ m (by omega)))⟩
    · intro k' r' h1 h2
      rw [gf_un (by omega)]
      exact c1 k' r' h1 h2
    · intro k' r' h1 h2 h3
      rw [gf_un (by omega)]
      exact c2 k' r' h1 h2 h3
    · intro r' h1
      by_cases z : r' = r
      · rw [z, gf_us]
        exact c1 (k - 1) r (by omega) (by omega)
      · rw [gf_un (by omega)]
        exact c3 r' (by omega)
    · intro j
      by_cases z : j = 32 * k + r
      · rw [z, gf_us]; exact c4 _
      · rw [gf_un z]; exact c4 j
theorem gx_ccol65 {post : SX → Prop} {c : Nat} {d0 : Nat → Nat} (hC : C ≤ 31) (hR : R ≤ 32)
    (hq : ∀ cur : Nat → Nat, (∀ k' r', r' < R → k' ≤ c → cur (32 * k' + r') = d0 (32 * k' + r')) → (∀ k' r', r' < R → c < k' → k' ≤ C → cur (32 * k' + r') = d0 (32 * (k' - 1) + r')) → (∀ j, cur j < 64) → post (nI (C + 1), nI R, nI B, nI N, H, gf_L cx, gf_L cy, gf_L cur, gf_L sz, gf_L lf, gf_L rt, gf_L lo, gf_L hi, gf_L pl, vs, hp, hv, sn)) :
    ∀ (d k : Nat) (cur : Nat → Nat), c + d = k → k ≤ C → (∀ k' r', k' ≤ k → r' < 32 → cur (32 * k' + r') = d0 (32 * k' + r')) → (∀ k' r', k < k' → k' ≤ C → r' < R → cur (32 * k' + r') = d0 (32 * (k' - 1) + r')) → (∀ j, cur j < 64) →
    ∀ n, d < n → wX_cutColumn_65 post (nI c) (nI C) (nI R) (nI B) (nI N) H n (nI k) (gf_L cx) (gf_L cy) (gf_L cur) (gf_L sz) (gf_L lf) (gf_L rt) (gf_L lo) (gf_L hi) (gf_L pl) vs hp hv sn := by
  intro d
  induction d with
  | zero =>
    intro k cur hd hk c1 c2 c4 n hn
    obtain ⟨m, rfl⟩ : ∃ m, n = m + 1 := ⟨n - 1, by omega⟩
    exact br_t (nI_le (by omega) (by omega)) (nm_r (nI_1 C) (hq cur (fun k' r' h1 h2 => c1 k' r' (by omega) (by omega)) (fun k' r' h1 h2 h3 => c2 k' r' (by omega) h3 h1) c4))
  | succ d ih =>
    intro k cur hd hk c1 c2 c4 n hn
    obtain ⟨m, rfl⟩ : ∃ m, n = m + 1 := ⟨n - 1, by omega⟩
    refine br_f (nI_ge (by omega) (by omega)) ⟨R + 1, ?_⟩
    refine gx_ccol73 (d0 := d0) (by omega) (by omega) hR (fun cur' g1 g2 g3 g4 => ?_) R 0 cur (by omega) (fun k' r' h1 h2 => c1 k' r' (by omega) h2) c2 (fun r' h => absurd h (Nat.not_lt_zero r')) c4 (R + 1) (by omega)
    refine ih (k - 1) cur' (by omega) (by omega) (fun k' r' h1 h2 => g1 k' r' (by omega) h2) (fun k' r' h1 h2 h3 => ?_) g4 m (by omega)
    by_cases z : k' = k
    · rw [z]; exact g3 r' h3
    · exact g2 k' r' (by omega) h2 h3
theorem gx_ccol24 {post : SX → Prop} {c cut : Nat} {x0 : Nat → Nat} (hc : c < C) (hC : C ≤ 31) (hcut : cut < 32)
    (hq : ∀ cur : Nat → Nat, (∀ i, i ≤ c → cur i = x0 i) → cur (c + 1) = cut → (∀ i, c + 1 < i → i ≤ C + 1 → cur i = x0 (i - 1)) → (∀ j, cur j ≤ 32) → ∃ n, wX_cutColumn_65 post (nI c) (nI C) (nI R) (nI B) (nI N) H n (nI C) (gf_L cur) (gf_L cy) (gf_L dr) (gf_L sz) (gf_L lf) (gf_L rt) (gf_L lo) (gf_L hi) (gf_L pl) vs hp hv sn) :
    ∀ (d k : Nat) (cur : Nat → Nat), c + 1 + d = k → k ≤ C + 1 → (∀ i, i ≤ k → cur i = x0 i) → (∀ i, k < i → i ≤ C + 1 → cur i = x0 (i - 1)) → (∀ j, cur j ≤ 32) →
    ∀ n, d < n → wX_cutColumn_24 post (nI cut) (nI c) (nI C) (nI R) (nI B) (nI N) H n (nI k) (gf_L cur) (gf_L cy) (gf_L dr) (gf_L sz) (gf_L lf) (gf_L rt) (gf_L lo) (gf_L hi) (gf_L pl) vs hp hv sn := by
  have ec : nI c + 1 = nI (c + 1) := nI_1 c
  intro d
  induction d with
  | zero =>
    intro k cur hd hk c1 c2 c4 n hn
    obtain ⟨m, rfl⟩ : ∃ m, n = m + 1 := ⟨n - 1, by omega⟩
    refine br_t (by rw [ec]; exact nI_le (by omega) (by omega)) ⟨by rw [ec]; exact vp_in_nI (by omega) (by decide), nm_r (e' := gf_L (gf_u cur (c + 1) cut)) (gf_st _ _ ec rfl (by omega)) (hq _ ?_ gf_us ?_ ?_)⟩
    · intro i h
      rw [gf_un (by omega)]
      exact c1 i (by omega)
    · intro i h1 h2
      rw [gf_un (by omega)]
      exact c2 i (by omega) h2
    · intro j
      by_cases z : j = c + 1
      · rw [z, gf_us]; omega
      · rw [gf_un z]; exact c4 j
  | succ d ih =>
    intro k cur hd hk c1 c2 c4 n hn
    obtain ⟨m, rfl⟩ : ∃ m, n = m + 1 := ⟨n - 1, by omega⟩
    have ek : nI k - 1 = nI (k - 1) := gf_s (by omega)
    refine br_f (by rw [ec]; exact nI_ge (by omega) (by omega)) ⟨by rw [ek]; exact vp_in_nI (by omega) (by decide), vp_in_nI (by omega) (by decide), nm_r (e' := gf_L (gf_u cur k (cur (k - 1)))) (gf_st _ _ rfl (gf_rd _ ek (by omega)) (by omega)) (nm_r (gf_m (by omega)) (ih (k - 1) _ (by omega) (by omega) ?_ ?_ ?_ m (by omega)))⟩
    · intro i h
      rw [gf_un (by omega)]
      exact c1 i (by omega)
    · intro i h1 h2
      by_cases z : i = k
      · rw [z, gf_us]
        exact c1 (k - 1) (by omega)
      · rw [gf_un z]
        exact c2 i (by omega) h2
    · intro j
      by_cases z : j = k
      · rw [z, gf_us]; exact c4 _
      · rw [gf_un z]; exact c4 j
theorem gx_cutColumn {post : SX → Prop} {cut : Nat} (hA : gf_AB cx cy dr sz lf rt lo hi pl) (hG : gf_G C R B cx cy dr lf rt lo hi) (hcut : cut < 32)
    (hq : ∀ C' cx' dr', gf_AB cx' cy dr' sz lf rt lo hi pl → gf_G C' R B cx' cy dr' lf rt lo hi → (∃ c, c < C' ∧ cx' c = cut) → post (nI C', nI R, nI B, nI N, H, gf_L cx', gf_L cy, gf_L dr', gf_L sz, gf_L lf, gf_L rt, gf_L lo, gf_L hi, gf_L pl, vs, hp, hv, sn)) : wpX_cutColumn post (nI C, nI R, nI B, nI N, H, gf_L cx, gf_L cy, gf_L dr, gf_L sz, gf_L lf, gf_L rt, gf_L lo, gf_L hi, gf_L pl, vs, hp, hv, sn) (nI cut) := by
  have hC := gf_Sc_32 hG.1
  have hR := gf_Sc_32 hG.2.1
  unfold wpX_cutColumn
  refine gx_columnOf hG.1 (fun j => (hA j).1) hcut (fun c hc => ?_)
  have hc1 := hc.1
  have b1 := (hA c).1
  refine ⟨vp_in_nI (by omega) (by decide), ?_⟩
  rw [gf_rd c rfl (by omega)]
  refine pk_eq (cx c) cut (fun q => hq C cx dr hA hG ⟨c, hc1, q⟩) (fun q => nm_r (nI_1 C) ⟨C + 1, ?_⟩)
  have hC31 : C ≤ 31 := by
    have g1 := gf_Sc_le hG.1 (i := 0) (j := c) (by omega) (by omega)
    have g2 := gf_Sc_le hG.1 (i := c + 1) (j := C) (by omega) (by omega)
    have g3 := hG.1.2.2.1
    have g4 := hc.2
    omega
  refine gx_ccol24 (x0 := cx) hc1 hC31 hcut (fun cur h1 h2 h3 h4 => ⟨C + 1, ?_⟩) (C - c) (C + 1) cx (by omega) (by omega) (fun i _ => rfl) (fun i h1 h2 => absurd h1 (by omega)) (fun j => (hA j).1) (C + 1) (by omega)
  refine gx_ccol65 (d0 := dr) hC31 hR (fun dr' d1 d2 d3 => hq (C + 1) cur dr' ?_ (gf_G_col hG hc q h1 h2 h3 d1 d2) ⟨c + 1, by omega, h2⟩) (C - c) C dr (by omega) (Nat.le_refl _) (fun k' r' _ _ => rfl) (fun k' r' h1 h2 => absurd h1 (by omega)) (fun j => (hA j).2.2.1) (C + 1) (by omega)
  intro j
  have := hA j
  exact ⟨h4 j, this.2.1, d3 j, this.2.2.2⟩
theorem gx_crow76 {post : SX → Prop} {J62 : Int32 → (Nat → Int32) → (Nat → Int32) → (Nat → Int32) → (Nat → Int32) → (Nat → Int32) → (Nat → Int32) → (Nat → Int32) → (Nat → Int32) → (Nat → Int32) → (Nat → Int32) → (Nat → Int32) → (Nat → Int32) → (Nat → Int32) → Prop}
    {r c : Nat} {d0 : Nat → Nat} (hc : c < 32) (hR : R ≤ 31)
    (hq : ∀ cur : Nat → Nat, (∀ c' k', c' ≠ c → k' < 32 → cur (32 * c' + k') = d0 (32 * c' + k')) → (∀ k', k' ≤ r → cur (32 * c + k') = d0 (32 * c + k')) → (∀ k', r < k' → k' ≤ R → cur (32 * c + k') = d0 (32 * c + (k' - 1))) → (∀ j, cur j < 64) → J62 (nI (c + 1)) (gf_L cx) (gf_L cy) (gf_L cur) (gf_L sz) (gf_L lf) (gf_L rt) (gf_L lo) (gf_L hi) (gf_L pl) vs hp hv sn) :
    ∀ (d k : Nat) (cur : Nat → Nat), r + d = k → k ≤ R → (∀ c' k', c' ≠ c → k' < 32 → cur (32 * c' + k') = d0 (32 * c' + k')) → (∀ k', k' ≤ k → cur (32 * c + k') = d0 (32 * c + k')) → (∀ k', k < k' → k' ≤ R → cur (32 * c + k') = d0 (32 * c + (k' - 1))) → (∀ j, cur j < 64) →
    ∀ n, d < n → wX_cutRow_76 post J62 (nI r) (nI c) (nI C) (nI R) (nI B) (nI N) H n (nI k) (gf_L cx) (gf_L cy) (gf_L cur) (gf_L sz) (gf_L lf) (gf_L rt) (gf_L lo) (gf_L hi) (gf_L pl) vs hp hv sn := by
  intro d
  induction d with
  | zero =>
    intro k cur hd hk c1 c2 c3 c4 n hn
    obtain ⟨m, rfl⟩ : ∃ m, n = m + 1 := ⟨n - 1, by omega⟩
    have e : k = r := by omega
    subst e
    exact br_t (nI_le (by omega) (by omega)) (nm_r (nI_1 c) (hq cur c1 c2 c3 c4))
  | succ d ih =>
    intro k cur hd hk c1 c2 c3 c4 n hn
    obtain ⟨m, rfl⟩ : ∃ m, n = m + 1 := ⟨n - 1, by omega⟩
    have e1 : (32 : Int32) * nI c + nI k - 1 = nI (32 * c + (k - 1)) := by
      rw [gf_32a, gf_s (by omega)]
      exact congrArg nI (by omega)
    have e2 : (32 : Int32) * nI c + nI k = nI (32 * c + k) := gf_32a _ _
    refine br_f (nI_ge (by omega) (by omega)) ?_
    rw [e1, e2]
    refine ⟨vp_in_nI (by omega) (by decide), vp_in_nI (by omega) (by decide), nm_r (e' := gf_L (gf_u cur (32 * c + k) (cur (32 * c + (k - 1))))) (gf_st _ _ rfl (gf_rd _ rfl (by omega)) (by omega)) (nm_r (gf_m (by omega)) (ih (k - 1) _ (by omega) (by omega) ?_ ?_ ?_ ?_ m (by omega)))⟩
    · intro c' k' h1 h2
      rw [gf_un (by omega)]
      exact c1 c' k' h1 h2
    · intro k' h1
      rw [gf_un (by omega)]
      exact c2 k' (by omega)
    · intro k' h1 h2
      by_cases z : k' = k
      · rw [z, gf_us]
        exact c2 (k - 1) (by omega)
      · rw [gf_un (by omega)]
        exact c3 k' (by omega) h2
    · intro j
      by_cases z : j = 32 * c + k
      · rw [z, gf_us]; exact c4 _
      · rw [gf_un z]; exact c4 j
theorem gx_crow62 {post : SX → Prop} {r : Nat} {d0 : Nat → Nat} (hr : r < R) (hR : R ≤ 31) (hC : C ≤ 32)
    (hq : ∀ cur : Nat → Nat, (∀ c' k', c' < C → k' ≤ r → cur (32 * c' + k') = d0 (32 * c' + k')) → (∀ c' k', c' < C → r < k' → k' ≤ R → cur (32 * c' + k') = d0 (32 * c' + (k' - 1))) → (∀ j, cur j < 64) → post (nI C, nI (R + 1), nI B, nI N, H, gf_L cx, gf_L cy, gf_L cur, gf_L sz, gf_L lf, gf_L rt, gf_L lo, gf_L hi, gf_L pl, vs, hp, hv, sn)) :
    ∀ (d c : Nat) (cur : Nat → Nat), c + d = C → (∀ c' k', c ≤ c' → k' < 32 → cur (32 * c' + k') = d0 (32 * c' + k')) → (∀ c' k', c' < c → k' ≤ r → cur (32 * c' + k') = d0 (32 * c' + k')) → (∀ c' k', c' < c → r < k' → k' ≤ R → cur (32 * c' + k') = d0 (32 * c' + (k' - 1))) → (∀ j, cur j < 64) →
    ∀ n, d < n → wX_cutRow_62 post (nI r) (nI C) (nI R) (nI B) (nI N) H n (nI c) (gf_L cx) (gf_L cy) (gf_L cur) (gf_L sz) (gf_L lf) (gf_L rt) (gf_L lo) (gf_L hi) (gf_L pl) vs hp hv sn := by
  intro d
  induction d with
  | zero =>
    intro c cur hd c1 c2 c3 c4 n hn
    obtain ⟨m, rfl⟩ : ∃ m, n = m + 1 := ⟨n - 1, by omega⟩
    exact br_t (nI_le (by omega) (by omega)) (nm_r (nI_1 R) (hq cur (fun c' k' h1 h2 => c2 c' k' (by omega) h2) (fun c' k' h1 h2 h3 => c3 c' k' (by omega) h2 h3) c4))
  | succ d ih =>
    intro c cur hd c1 c2 c3 c4 n hn
    obtain ⟨m, rfl⟩ : ∃ m, n = m + 1 := ⟨n - 1, by omega⟩
    refine br_f (nI_ge (by omega) (by omega)) ⟨R + 1, ?_⟩
    refine gx_crow76 (d0 := cur) (by omega) hR (fun cur' g1 g2 g3 g4 => ?_) (R - r) R cur (by omega) (Nat.le_refl _) (fun c' k' _ _ => rfl) (fun k' _ => rfl) (fun k' h1 h2 => absurd h1 (by omega)) c4 (R + 1) (by omega)
    refine ih (c + 1) cur' (by omega) (fun c' k' h1 h2 => ?_) (fun c' k' h1 h2 => ?_) (fun c' k' h1 h2 h3 => ?_) g4 m (by omega)
    · rw [g1 c' k' (by omega) h2]
      exact c1 c' k' (by omega) h2
    · by_cases z : c' = c
      · rw [z, g2 k' h2]
        exact c1 c k' (by omega) (by omega)
      · rw [g1 c' k' z (by omega)]
        exact c2 c' k' (by omega) h2
    · by_cases z : c' = c
      · rw [z, g3 k' h2 h3]
        exact c1 c (k' - 1) (by omega) (by omega)
      · rw [g1 c' k' z (by omega)]
        exact c3 c' k' (by omega) h2 h3
theorem gx_crow24 {post : SX → Prop} {r cut : Nat} {x0 : Nat → Nat} (hr : r < R) (hR : R ≤ 31) (hcut : cut < 32)
    (hq : ∀ cur : Nat → Nat, (∀ i, i ≤ r → cur i = x0 i) → cur (r + 1) = cut → (∀ i, r + 1 < i → i ≤ R + 1 → cur i = x0 (i - 1)) → (∀ j, cur j ≤ 32) → ∃ n, wX_cutRow_62 post (nI r) (nI C) (nI R) (nI B) (nI N) H n (nI 0) (gf_L cx) (gf_L cur) (gf_L dr) (gf_L sz) (gf_L lf) (gf_L rt) (gf_L lo) (gf_L hi) (gf_L pl) vs hp hv sn) :
    ∀ (d k : Nat) (cur : Nat → Nat), r + 1 + d = k → k ≤ R + 1 → (∀ i, i ≤ k → cur i = x0 i) → (∀ i, k < i → i ≤ R + 1 → cur i = x0 (i - 1)) → (∀ j, cur j ≤ 32) →
    ∀ n, d < n → wX_cutRow_24 post (nI cut) (nI r) (nI C) (nI R) (nI B) (nI N) H n (nI k) (gf_L cx) (gf_L cur) (gf_L dr) (gf_L sz) (gf_L lf) (gf_L rt) (gf_L lo) (gf_L hi) (gf_L pl) vs hp hv sn := by
  have ec : nI r + 1 = nI (r + 1) := nI_1 r
  intro d
  induction d with
  | zero =>
    intro k cur hd hk c1 c2 c4 n hn
    obtain ⟨m, rfl⟩ : ∃ m, n = m + 1 := ⟨n - 1, by omega⟩
    refine br_t (by rw [ec]; exact nI_le (by omega) (by omega)) ⟨by rw [ec]; exact vp_in_nI (by omega) (by decide), nm_r (e' := gf_L (gf_u cur (r + 1) cut)) (gf_st _ _ ec rfl (by omega)) (hq _ ?_ gf_us ?_ ?_)⟩
    · intro i h
      rw [gf_un (by omega)]
      exact c1 i (by omega)
    · intro i h1 h2
      rw [gf_un (by omega)]
      exact c2 i (by omega) h2
    · intro j
      by_cases z : j = r + 1
      · rw [z, gf_us]; omega
      · rw [gf_un z]; exact c4 j
  | succ d ih =>
    intro k cur hd hk c1 c2 c4 n hn
    obtain ⟨m, rfl⟩ : ∃ m, n = m + 1 := ⟨n - 1, by omega⟩
    have ek : nI k - 1 = nI (k - 1) := gf_s (by omega)
    refine br_f (by rw [ec]; exact nI_ge (by omega) (by omega)) ⟨by rw [ek]; exact vp_in_nI (by omega) (by decide), vp_in_nI (by omega) (by decide), nm_r (e' := gf_L (gf_u cur k (cur (k - 1)))) (gf_st _ _ rfl (gf_rd _ ek (by omega)) (by omega)) (nm_r (gf_m (by omega)) (ih (k - 1) _ (by omega) (by omega) ?_ ?_ ?_ m (by omega)))⟩
    · intro i h
      rw [gf_un (by omega)]
      exact c1 i (by omega)
    · intro i h1 h2
      by_cases z : i = k
      · rw [z, gf_us]
        exact c1 (k - 1) (by omega)
      · rw [gf_un z]
        exact c2 i (by omega) h2
    · intro j
      by_cases z : j = k
      · rw [z, gf_us]; exact c4 _
      · rw [gf_un z]; exact c4 j
theorem gx_cutRow {post : SX → Prop} {cut : Nat} (hA : gf_AB cx cy dr sz lf rt lo hi pl) (hG : gf_G C R B cx cy dr lf rt lo hi) (hcut : cut < 32)
    (hq : ∀ R' cy' dr', gf_AB cx cy' dr' sz lf rt lo hi pl → gf_G C R' B cx cy' dr' lf rt lo hi → (∃ r, r < R' ∧ cy' r = cut) → post (nI C, nI R', nI B, nI N, H, gf_L cx, gf_L cy', gf_L dr', gf_L sz, gf_L lf, gf_L rt, gf_L lo, gf_L hi, gf_L pl, vs, hp, hv, sn)) : wpX_cutRow post (nI C, nI R, nI B, nI N, H, gf_L cx, gf_L cy, gf_L dr, gf_L sz, gf_L lf, gf_L rt, gf_L lo, gf_L hi, gf_L pl, vs, hp, hv, sn) (nI cut) := by
  have hC := gf_Sc_32 hG.1
  have hR := gf_Sc_32 hG.2.1
  unfold wpX_cutRow
  refine gx_rowOf hG.2.1 (fun j => (hA j).2.1) hcut (fun r hr => ?_)
  have hr1 := hr.1
  have b1 := (hA r).2.1
  refine ⟨vp_in_nI (by omega) (by decide), ?_⟩
  rw [gf_rd r rfl (by omega)]
  refine pk_eq (cy r) cut (fun q => hq R cy dr hA hG ⟨r, hr1, q⟩) (fun q => nm_r (nI_1 R) ⟨R + 1, ?_⟩)
  have hR31 : R ≤ 31 := by
    have g1 := gf_Sc_le hG.2.1 (i := 0) (j := r) (by omega) (by omega)
    have g2 := gf_Sc_le hG.2.1 (i := r + 1) (j := R) (by omega) (by omega)
    have g3 := hG.2.1.2.2.1
    have g4 := hr.2
    omega
  refine gx_crow24 (x0 := cy) hr1 hR31 hcut (fun cur h1 h2 h3 h4 => ⟨C + 1, ?_⟩) (R - r) (R + 1) cy (by omega) (by omega) (fun i _ => rfl) (fun i h1 h2 => absurd h1 (by omega)) (fun j => (hA j).2.1) (R + 1) (by omega)
  refine gx_crow62 (d0 := dr) hr1 hR31 hC (fun dr' d1 d2 d3 => hq (R + 1) cur dr' ?_ (gf_G_row hG hr q h1 h2 h3 d1 d2) ⟨r + 1, by omega, h2⟩) C 0 dr (by omega) (fun c' k' _ _ => rfl) (fun c' k' h => absurd h (Nat.not_lt_zero c')) (fun c' k' h => absurd h (Nat.not_lt_zero c')) (fun j => (hA j).2.2.1) (C + 1) (by omega)
  intro j
  have := hA j
  exact ⟨this.1, h4 j, d3 j, this.2.2.2⟩
end XK
end
section
/-! claim: the bucket b enters the cells of its rectangle -/
section XL
variable {C R B N : Nat} {H : Int32} {cx cy dr sz lf rt lo hi pl : Nat → Nat} {vs hp hv sn : Nat → Int32}
/-- the cell lies in the rectangle of b -/
abbrev gf_Ci (cx cy lf rt lo hi : Nat → Nat) (b c r : Nat) : Prop := lf b ≤ cx c ∧ cx c ≤ rt b ∧ lo b ≤ cy r ∧ cy r ≤ hi b
theorem gx_claim12 {post : SX → Prop} {J2 : Int32 → (Nat → Int32) → (Nat → Int32) → (Nat → Int32) → (Nat → Int32) → (Nat → Int32) → (Nat → Int32) → (Nat → Int32) → (Nat → Int32) → (Nat → Int32) → (Nat → Int32) → (Nat → Int32) → (Nat → Int32) → (Nat → Int32) → Prop}
    {b c : Nat} {d0 : Nat → Nat} (hA : ∀ j, cx j ≤ 32 ∧ cy j ≤ 32 ∧ lf j < 32 ∧ rt j < 32 ∧ lo j < 32 ∧ hi j < 32) (hb : b < 64) (hc : c < 32) (hR : R ≤ 32)
    (hq : ∀ cur : Nat → Nat, (∀ c' r', c' ≠ c → r' < 32 → cur (32 * c' + r') = d0 (32 * c' + r')) → (∀ r', r' < R → (gf_Ci cx cy lf rt lo hi b c r' → cur (32 * c + r') = b) ∧ (¬ gf_Ci cx cy lf rt lo hi b c r' → cur (32 * c + r') = d0 (32 * c + r'))) → (∀ j, cur j < 64) → J2 (nI (c + 1)) (gf_L cx) (gf_L cy) (gf_L cur) (gf_L sz) (gf_L lf) (gf_L rt) (gf_L lo) (gf_L hi) (gf_L pl) vs hp hv sn) :
    ∀ (d r : Nat) (cur : Nat → Nat), r + d = R → (∀ c' r', c' ≠ c → r' < 32 → cur (32 * c' + r') = d0 (32 * c' + r')) → (∀ r', r ≤ r' → r' < 32 → cur (32 * c + r') = d0 (32 * c + r')) → (∀ r', r' < r → (gf_Ci cx cy lf rt lo hi b c r' → cur (32 * c + r') = b) ∧ (¬ gf_Ci cx cy lf rt lo hi b c r' → cur (32 * c + r') = d0 (32 * c + r'))) → (∀ j, cur j < 64) →
    ∀ n, d < n → wX_claim_12 post J2 (nI b) (nI c) (nI C) (nI R) (nI B) (nI N) H n (nI r) (gf_L cx) (gf_L cy) (gf_L cur) (gf_L sz) (gf_L lf) (gf_L rt) (gf_L lo) (gf_L hi) (gf_L pl) vs hp hv sn := by
  have vb : vp_in (nI b) 64 := vp_in_nI hb (by decide)
  have vc : vp_in (nI c) 33 := vp_in_nI (by omega) (by decide)
  have ecx : gf_L cx (nI c).toNatClampNeg = nI (cx c) := gf_rd c rfl (by omega)
  have elf : gf_L lf (nI b).toNatClampNeg = nI (lf b) := gf_rd b rfl (by omega)
  have ert : gf_L rt (nI b).toNatClampNeg = nI (rt b) := gf_rd b rfl (by omega)
  have elo : gf_L lo (nI b).toNatClampNeg = nI (lo b) := gf_rd b rfl (by omega)
  have ehi : gf_L hi (nI b).toNatClampNeg = nI (hi b) := gf_rd b rfl (by omega)
  obtain ⟨_, _, hb1, hb2, hb3, hb4⟩ := hA b
  have hc1 := (hA c).1
  intro d
  induction d with
  | zero =>
    intro r cur hd c1 c2 c3 c4 n hn
    obtain ⟨m, rfl⟩ : ∃ m, n = m + 1 := ⟨n - 1, by omega⟩
    exact br_t (nI_le (by omega) (by omega)) (nm_r (nI_1 c) (hq cur c1 (fun r' h => c3 r' (by omega)) c4))
  | succ d ih =>
    intro r cur hd c1 c2 c3 c4 n hn
    obtain ⟨m, rfl⟩ : ∃ m, n = m + 1 := ⟨n - 1, by omega⟩
    have ecy : gf_L cy (nI r).toNatClampNeg = nI (cy r) := gf_rd r rfl (by omega)
    have hr1 := (hA r).2.1
    have vr : vp_in (nI r) 33 := vp_in_nI (by omega) (by decide)
    have hno : ¬ gf_Ci cx cy lf rt lo hi b c r → ∀ z, z = nI r + 1 → wX_claim_12 post J2 (nI b) (nI c) (nI C) (nI R) (nI B) (nI N) H m z (gf_L cx) (gf_L cy) (gf_L cur) (gf_L sz) (gf_L lf) (gf_L rt) (gf_L lo) (gf_L hi) (gf_L pl) vs hp hv sn := by
      intro hi' z hz
      rw [hz, nI_1]
      refine ih (r + 1) cur (by omega) c1 (fun r' h1 h2 => c2 r' (by omega) h2) (fun r' h => ?_) c4 m (by omega)
      by_cases w : r' = r
      · rw [w]
        exact ⟨fun h => absurd h hi', fun _ => c2 r (by omega) (by omega)⟩
      · exact c3 r' (by omega)
    refine br_f (nI_ge (by omega) (by omega)) ⟨vc, vb, ?_⟩
    rw [ecx, elf]
    refine pk_lt (cx c) (lf b) (fun h => br_t rfl (hno (by omega))) (fun g1 => ⟨vc, vb, ?_⟩)
    rw [ert]
    refine pk_lt (rt b) (cx c) (fun h => br_t rfl (hno (by omega))) (fun g2 => br_f (by decide) ⟨vr, vb, ?_⟩)
    rw [ecy, elo]
    refine pk_lt (cy r) (lo b) (fun h => hno (by omega)) (fun g3 => ⟨vr, vb, ?_⟩)
    rw [ehi]
    refine pk_lt (hi b) (cy r) (fun h => hno (by omega)) (fun g4 => ?_)
    rw [gf_32a]
    refine ⟨vp_in_nI (by omega) (by decide), nm_r (e' := gf_L (gf_u cur (32 * c + r) b)) (gf_st _ _ rfl rfl (by omega)) (nm_r (nI_1 r) (ih (r + 1) _ (by omega) ?_ ?_ ?_ ?_ m (by omega)))⟩
    · intro c' r' h1 h2
      rw [gf_un (by omega)]
      exact c1 c' r' h1 h2
    · intro r' h1 h2
      rw [gf_un (by omega)]
      exact c2 r' (by omega) h2
    · intro r' h
      by_cases w : r' = r
      · rw [w, gf_us]
        exact ⟨fun _ => rfl, fun z => absurd ⟨g1, g2, g3, g4⟩ z⟩
      · rw [gf_un (by omega)]
        exact c3 r' (by omega)
    · intro j
      by_cases w : j = 32 * c + r
      · rw [w, gf_us]; exact hb
      · rw [gf_un w]; exact c4 j
theorem gx_claim2 {post : SX → Prop} {b : Nat} {d0 : Nat → Nat} (hA : ∀ j, cx j ≤ 32 ∧ cy j ≤ 32 ∧ lf j < 32 ∧ rt j < 32 ∧ lo j < 32 ∧ hi j < 32) (hb : b < 64) (hC : C ≤ 32) (hR : R ≤ 32)
    (hq : ∀ cur : Nat → Nat, (∀ c' r', c' < C → r' < R → (gf_Ci cx cy lf rt lo hi b c' r' → cur (32 * c' + r') = b) ∧ (¬ gf_Ci cx cy lf rt lo hi b c' r' → cur (32 * c' + r') = d0 (32 * c' + r'))) → (∀ j, cur j < 64) → post (nI C, nI R, nI B, nI N, H, gf_L cx, gf_L cy, gf_L cur, gf_L sz, gf_L lf, gf_L rt, gf_L lo, gf_L hi, gf_L pl, vs, hp, hv, sn)) :
    ∀ (d c : Nat) (cur : Nat → Nat), c + d = C → (∀ c' r', c ≤ c' → r' < 32 → cur (32 * c' + r') = d0 (32 * c' + r')) → (∀ c' r', c' < c → r' < R → (gf_Ci cx cy lf rt lo hi b c' r' → cur (32 * c' + r') = b) ∧ (¬ gf_Ci cx cy lf rt lo hi b c' r' → cur (32 * c' + r') = d0 (32 * c' + r'))) → (∀ j, cur j < 64) →
    ∀ n, d < n → wX_claim_2 post (nI b) (nI C) (nI R) (nI B) (nI N) H n (nI c) (gf_L cx) (gf_L cy) (gf_L cur) (gf_L sz) (gf_L lf) (gf_L rt) (gf_L lo) (gf_L hi) (gf_L pl) vs hp hv sn := by
  intro d
  induction d with
  | zero =>
    intro c cur hd c1 c3 c4 n hn
    obtain ⟨m, rfl⟩ : ∃ m, n = m + 1 := ⟨n - 1, by omega⟩
    exact br_t (nI_le (by omega) (by omega)) (hq cur (fun c' r' h1 h2 => c3 c' r' (by omega) h2) c4)
  | succ d ih =>
    intro c cur hd c1 c3 c4 n hn
    obtain ⟨m, rfl⟩ : ∃ m, n = m + 1 := ⟨n - 1, by omega⟩
    refine br_f (nI_ge (by omega) (by omega)) ⟨R + 1, ?_⟩
    refine gx_claim12 (d0 := cur) hA hb (by omega) hR (fun cur' g1 g2 g3 => ?_) R 0 cur (by omega) (fun c' r' _ _ => rfl) (fun r' _ _ => rfl) (fun r' h => absurd h (Nat.not_lt_zero r')) c4 (R + 1) (by omega)
    refine ih (c + 1) cur' (by omega) (fun c' r' h1 h2 => ?_) (fun c' r' h1 h2 => ?_) g3 m (by omega)
    · rw [g1 c' r' (by omega) h2]
      exact c1 c' r' (by omega) h2
    · by_cases w : c' = c
      · rw [w]
        have g := g2 r' h2
        rw [c1 c r' (by omega) (by omega)] at g
        exact g
      · rw [g1 c' r' w (by omega)]
        exact c3 c' r' (by omega) h2
theorem gx_claim {post : SX → Prop} {b : Nat} (hA : ∀ j, cx j ≤ 32 ∧ cy j ≤ 32 ∧ lf j < 32 ∧ rt j < 32 ∧ lo j < 32 ∧ hi j < 32) (hb : b < 64) (hC : C ≤ 32) (hR : R ≤ 32) (hd : ∀ j, dr j < 64)
    (hq : ∀ cur : Nat → Nat, (∀ c' r', c' < C → r' < R → (gf_Ci cx cy lf rt lo hi b c' r' → cur (32 * c' + r') = b) ∧ (¬ gf_Ci cx cy lf rt lo hi b c' r' → cur (32 * c' + r') = dr (32 * c' + r'))) → (∀ j, cur j < 64) → post (nI C, nI R, nI B, nI N, H, gf_L cx, gf_L cy, gf_L cur, gf_L sz, gf_L lf, gf_L rt, gf_L lo, gf_L hi, gf_L pl, vs, hp, hv, sn)) :
    wpX_claim post (nI C, nI R, nI B, nI N, H, gf_L cx, gf_L cy, gf_L dr, gf_L sz, gf_L lf, gf_L rt, gf_L lo, gf_L hi, gf_L pl, vs, hp, hv, sn) (nI b) :=
  ⟨C + 1, gx_claim2 (d0 := dr) hA hb hC hR hq C 0 dr (by omega) (fun c' r' _ _ => rfl) (fun c' r' h => absurd h (Nat.not_lt_zero c')) hd (C + 1) (by omega)⟩
/-! part: the points of b are parted between b and f -/
def gf_co (ax : Nat) (e : Nat × Int32) : Nat := if ax = 0 then e.1 % 32 else e.1 / 32
def gf_lt (ax cut : Nat) (e : Nat × Int32) : Bool := decide (gf_co ax e < cut)
theorem gx_part16 {post : SX → Prop} {b f ax cut : Nat} {s0 p0 : Nat → Nat} {v0 : Nat → Int32} {l : List (Nat × Int32)} (hax : ax < 2) (hb : b < 64) (hf : f < 64) (hbf : b ≠ f) (hcut : cut ≤ 32) (hl : l.length ≤ 4) (hl2 : ∀ e, e ∈ l → e.1 < 1024)
    (hq : ∀ sz' pl' vs', (∀ j, sz' j ≤ 4 ∧ pl' j < 1024) → gf_bk sz' pl' vs' b = l.filter (gf_lt ax cut) → gf_bk sz' pl' vs' f = l.filter (fun e => !gf_lt ax cut e) → (∀ b', b' ≠ b → b' ≠ f → sz' b' = s0 b' ∧ ∀ k, k < 4 → pl' (4 * b' + k) = p0 (4 * b' + k) ∧ vs' (4 * b' + k) = v0 (4 * b' + k)) → post (nI C, nI R, nI B, nI N, H, gf_L cx, gf_L cy, gf_L dr, gf_L sz', gf_L lf, gf_L rt, gf_L lo, gf_L hi, gf_L pl', vs', hp, hv, sn)) :
    ∀ (Q P : List (Nat × Int32)) (sz pl : Nat → Nat) (vs : Nat → Int32), l = P ++ Q → (∀ j, sz j ≤ 4 ∧ pl j < 1024) → sz f = (P.filter (fun e => !gf_lt ax cut e)).length →
    gf_A (gf_Q pl vs) (4 * b) (P.filter (gf_lt ax cut)) → gf_A (gf_Q pl vs) (4 * b + P.length) Q → gf_A (gf_Q pl vs) (4 * f) (P.filter (fun e => !gf_lt ax cut e)) →
    (∀ b', b' ≠ b → b' ≠ f → sz b' = s0 b' ∧ ∀ k, k < 4 → pl (4 * b' + k) = p0 (4 * b' + k) ∧ vs (4 * b' + k) = v0 (4 * b' + k)) →
    ∀ n, Q.length < n → wX_part_16 post (nI b) (nI f) (nI ax) (nI cut) (nI l.length) (nI C) (nI R) (nI B) (nI N) H n (nI (P.filter (gf_lt ax cut)).length) (nI (4 * b + P.length)) (gf_L cx) (gf_L cy) (gf_L dr) (gf_L sz) (gf_L lf) (gf_L rt) (gf_L lo) (gf_L hi) (gf_L pl) vs hp hv sn := by
  have vb : vp_in (nI b) 64 := vp_in_nI hb (by decide)
  have vf : vp_in (nI f) 64 := vp_in_nI hf (by decide)
  intro Q
  induction Q with
  | nil =>
    intro P sz pl vs hP hAB hsf k1 k2 k3 k4 n hn
    obtain ⟨m, rfl⟩ : ∃ m, n = m + 1 := ⟨n - 1, by omega⟩
    rw [List.append_nil] at hP
    have hKl := List.length_filter_le (gf_lt ax cut) P
    refine br_t (by rw [gf_4a]; exact nI_le (by rw [hP]; omega) (by rw [← hP]; omega)) ⟨vb, nm_r (e' := gf_L (gf_u sz b (P.filter (gf_lt ax cut)).length)) (gf_st _ _ rfl rfl (by omega)) (hq _ pl vs ?_ ?_ ?_ ?_)⟩
    · intro j
      refine ⟨?_, (hAB j).2⟩
      by_cases z : j = b
      · rw [z, gf_us]; rw [← hP] at hKl ⊢; omega
      · rw [gf_un z]; exact (hAB j).1
    · rw [hP]
      exact gf_bk_of k1 gf_us
    · rw [hP]
      exact gf_bk_of k3 (by rw [gf_un (fun z => hbf z.symm)]; exact hsf)
    · intro b' h1 h2
      rw [gf_un h1]
      exact k4 b' h1 h2
  | cons e Q ih =>
    intro P sz pl vs hP hAB hsf k1 k2 k3 k4 n hn
    obtain ⟨m, rfl⟩ : ∃ m, n = m + 1 := ⟨n - 1, by omega⟩
    rw [List.length_cons] at hn
    have len := gf_lenc hP
    have hKl := List.length_filter_le (gf_lt ax cut) P
    have hMl := List.length_filter_le (fun e => !gf_lt ax cut e) P
    have he := hl2 e (gf_memc hP)
    have q1 : pl (4 * b + P.length) = e.1 := k2.1.1
    have q2 : vs (4 * b + P.length) = e.2 := k2.1.2
    have k2' : gf_A (gf_Q pl vs) (4 * b + P.length + 1) Q := k2.2
    have vi : vp_in (nI (4 * b + P.length)) 256 := vp_in_nI (by omega) (by decide)
    have ep : gf_L pl (nI (4 * b + P.length)).toNatClampNeg = nI e.1 := by rw [gf_rd _ rfl (by omega), q1]
    have ev : vs (nI (4 * b + P.length)).toNatClampNeg = e.2 := by rw [nI_clamp (by omega), q2]
    have e4 : nI (4 * b + P.length) + 1 = nI (4 * b + (P ++ [e]).length) := by rw [nI_1, List.length_append]; rfl
    have l1 : 4 * b + (P ++ [e]).length = 4 * b + P.length + 1 := by rw [List.length_append]; rfl
    have hco : gf_co ax e < 32 := by
      unfold gf_co
      by_cases z : ax = 0
      · rw [if_pos z]; omega
      · rw [if_neg z]; omega
    have go : wX_part_53 post (wX_part_16 post (nI b) (nI f) (nI ax) (nI cut) (nI l.length) (nI C) (nI R) (nI B) (nI N) H m) (nI b) (nI f) (nI ax) (nI cut) (nI (P.filter (gf_lt ax cut)).length) (nI l.length) (nI (4 * b + P.length)) (nI (gf_co ax e)) (nI C) (nI R) (nI B) (nI N) H (gf_L cx) (gf_L cy) (gf_L dr) (gf_L sz) (gf_L lf) (gf_L rt) (gf_L lo) (gf_L hi) (gf_L pl) vs hp hv sn := by
      refine pk_lt (gf_co ax e) cut (fun h => ?_) (fun h => ?_)
      · have hlt : gf_lt ax cut e = true := decide_eq_true h
        have f1 : (P ++ [e]).filter (gf_lt ax cut) = P.filter (gf_lt ax cut) ++ [e] := by rw [List.filter_append, List.filter_cons_of_pos hlt, List.filter_nil]
        have f2 : (P ++ [e]).filter (fun e => !gf_lt ax cut e) = P.filter (fun e => !gf_lt ax cut e) := by rw [List.filter_append, List.filter_cons_of_neg (by rw [hlt]; decide), List.filter_nil, List.append_nil]
        have vk : vp_in (nI (4 * b + (P.filter (gf_lt ax cut)).length)) 256 := vp_in_nI (by omega) (by decide)
        rw [gf_4a]
        refine ⟨vi, vk, nm_r (e' := gf_L (gf_u pl (4 * b + (P.filter (gf_lt ax cut)).length) e.1)) (gf_st _ _ rfl ep (by omega)) ⟨vi, vk, nm_r (e' := upd vs (4 * b + (P.filter (gf_lt ax cut)).length) e.2) (by rw [ev, nI_clamp (by omega)]) (nm_r (gf_snl _ e) (nm_r e4 ?_))⟩⟩
        rw [← f1]
        refine ih (P ++ [e]) sz _ _ (gf_asc hP) ?_ (by rw [f2]; exact hsf) ?_ ?_ ?_ ?_ m (by omega)
        · intro j
          refine ⟨(hAB j).1, ?_⟩
          by_cases z : j = 4 * b + (P.filter (gf_lt ax cut)).length
          · rw [z, gf_us]; exact he
          · rw [gf_un z]; exact (hAB j).2
        · rw [f1]
          exact gf_A_snoc k1 ⟨gf_us, pk_us⟩ (fun j e hj q => ⟨(gf_un hj).trans q.1, (pk_un hj).trans q.2⟩)
        · rw [l1]
          exact gf_A_mono (fun j e h1 h2 q => ⟨(gf_un (by omega)).trans q.1, (pk_un (by omega)).trans q.2⟩) k2'
        · rw [f2]
          exact gf_A_mono (fun j e h1 h2 q => ⟨(gf_un (by omega)).trans q.1, (pk_un (by omega)).trans q.2⟩) k3
        · intro b' h1 h2
          refine ⟨(k4 b' h1 h2).1, fun k hk => ?_⟩
          have ne : 4 * b' + k ≠ 4 * b + (P.filter (gf_lt ax cut)).length := by omega
          rw [gf_un ne, pk_un ne]
          exact (k4 b' h1 h2).2 k hk
      · have hlt : gf_lt ax cut e = false := decide_eq_false (by omega)
        have f1 : (P ++ [e]).filter (gf_lt ax cut) = P.filter (gf_lt ax cut) := by rw [List.filter_append, List.filter_cons_of_neg (by rw [hlt]; decide), List.filter_nil, List.append_nil]
        have f2 : (P ++ [e]).filter (fun e => !gf_lt ax cut e) = P.filter (fun e => !gf_lt ax cut e) ++ [e] := by rw [List.filter_append, List.filter_cons_of_pos (by rw [hlt]; rfl), List.filter_nil]
        have esf : gf_L sz (nI f).toNatClampNeg = nI (P.filter (fun e => !gf_lt ax cut e)).length := by rw [gf_rd f rfl (by omega), hsf]
        have vk : vp_in (nI (4 * f + (P.filter (fun e => !gf_lt ax cut e)).length)) 256 := vp_in_nI (by omega) (by decide)
        rw [esf, gf_4a]
        refine ⟨vf, vi, vk, nm_r (e' := gf_L (gf_u pl (4 * f + (P.filter (fun e => !gf_lt ax cut e)).length) e.1)) (gf_st _ _ rfl ep (by omega)) ⟨vf, vi, vk, nm_r (e' := upd vs (4 * f + (P.filter (fun e => !gf_lt ax cut e)).length) e.2) (by rw [ev, nI_clamp (by omega)]) ⟨vf, vf, nm_r (e' := gf_L (gf_u sz f ((P.filter (fun e => !gf_lt ax cut e)).length + 1))) (gf_st _ _ rfl (nI_1 _) (by omega)) (nm_r e4 ?_)⟩⟩⟩
        rw [← f1]
        refine ih (P ++ [e]) _ _ _ (gf_asc hP) ?_ ?_ ?_ ?_ ?_ ?_ m (by omega)
        · intro j
          constructor
          · by_cases z : j = f
            · rw [z, gf_us]; omega
            · rw [gf_un z]; exact (hAB j).1
          · by_cases z : j = 4 * f + (P.filter (fun e => !gf_lt ax cut e)).length
            · rw [z, gf_us]; exact he
            · rw [gf_un z]; exact (hAB j).2
        · rw [f2, gf_us, List.length_append]; rfl
        · rw [f1]
          exact gf_A_mono (fun j e h1 h2 q => ⟨(gf_un (by omega)).trans q.1, (pk_un (by omega)).trans q.2⟩) k1
        · rw [l1]
          exact gf_A_mono (fun j e h1 h2 q => ⟨(gf_un (by omega)).trans q.1, (pk_un (by omega)).trans q.2⟩) k2'
        · rw [f2]
          exact gf_A_snoc k3 ⟨gf_us, pk_us⟩ (fun j e hj q => ⟨(gf_un hj).trans q.1, (pk_un hj).trans q.2⟩)
        · intro b' h1 h2
          refine ⟨(gf_un h2).trans (k4 b' h1 h2).1, fun k hk => ?_⟩
          have ne : 4 * b' + k ≠ 4 * f + (P.filter (fun e => !gf_lt ax cut e)).length := by omega
          rw [gf_un ne, pk_un ne]
          exact (k4 b' h1 h2).2 k hk
    refine br_f (by rw [gf_4a]; exact nI_ge (by omega) (by omega)) ?_
    rw [ep, gf_a31 (by omega), gf_sh5 (by omega)]
    refine pk_eq ax 0 (fun z => ⟨vi, ?_⟩) (fun z => ⟨vi, ?_⟩)
    · rw [gf_co, if_pos z] at go
      exact go
    · rw [gf_co, if_neg z] at go
      exact go
theorem gx_part {post : SX → Prop} {b f ax cut : Nat} (hax : ax < 2) (hb : b < 64) (hf : f < 64) (hbf : b ≠ f) (hcut : cut ≤ 32) (hAB : ∀ j, sz j ≤ 4 ∧ pl j < 1024) (hs : sz f = 0)
    (hq : ∀ sz' pl' vs', (∀ j, sz' j ≤ 4 ∧ pl' j < 1024) → gf_bk sz' pl' vs' b = (gf_bk sz pl vs b).filter (gf_lt ax cut) → gf_bk sz' pl' vs' f = (gf_bk sz pl vs b).filter (fun e => !gf_lt ax cut e) → (∀ b', b' ≠ b → b' ≠ f → gf_bk sz' pl' vs' b' = gf_bk sz pl vs b') → post (nI C, nI R, nI B, nI N, H, gf_L cx, gf_L cy, gf_L dr, gf_L sz', gf_L lf, gf_L rt, gf_L lo, gf_L hi, gf_L pl', vs', hp, hv, sn)) : wpX_part post (nI C, nI R, nI B, nI N, H, gf_L cx, gf_L cy, gf_L dr, gf_L sz, gf_L lf, gf_L rt, gf_L lo, gf_L hi, gf_L pl, vs, hp, hv, sn) (nI b) (nI f) (nI ax) (nI cut) := by
  refine ⟨vp_in_nI hb (by decide), nm_r (e' := nI (gf_bk sz pl vs b).length) (by rw [gf_rd b rfl (by omega), gf_bk_len]) (nm_r (gf_m4 b) ⟨(gf_bk sz pl vs b).length + 1, ?_⟩)⟩
  refine gx_part16 (s0 := sz) (p0 := pl) (v0 := vs) hax hb hf hbf hcut (by rw [gf_bk_len]; exact (hAB b).1) (fun e he => ?_) (fun sz' pl' vs' g1 g2 g3 g4 => hq sz' pl' vs' g1 g2 g3 (fun b' h1 h2 => ?_)) (gf_bk sz pl vs b) [] sz pl vs rfl hAB hs trivial gf_bk_A trivial (fun b' _ _ => ⟨rfl, fun k _ => ⟨rfl, rfl⟩⟩) ((gf_bk sz pl vs b).length + 1) (by omega)
  · obtain ⟨k, hk, rfl⟩ := gf_bk_mem.mp he
    exact (hAB _).2
  · exact gf_bk_eq (g4 b' h1 h2).1 (fun k hk => (g4 b' h1 h2).2 k (by have := (hAB b').1; omega))
end XL
end
section
/-! split -/
def gf_mA (co : Nat × Int32 → Nat) (P : List (Nat × Int32)) (m : Nat) : Prop := m ≤ 32 ∧ (∀ e, e ∈ P → m ≤ co e) ∧ (m = 32 ∨ ∃ e, e ∈ P ∧ co e = m)
def gf_mB (co : Nat × Int32 → Nat) (P : List (Nat × Int32)) (d : Nat) : Prop := d ≤ 32 ∧ (∀ e, e ∈ P → co e < d) ∧ (d = 0 ∨ ∃ e, e ∈ P ∧ co e + 1 = d)
theorem gf_mA_old {co : Nat × Int32 → Nat} {P : List (Nat × Int32)} {m : Nat} {e : Nat × Int32} (h : gf_mA co P m) (hm : m ≤ co e) : gf_mA co (P ++ [e]) m :=
  ⟨h.1, gf_snoc_all h.2.1 hm, h.2.2.imp id fun ⟨x, hx, he⟩ => ⟨x, List.mem_append_left _ hx, he⟩⟩
theorem gf_mA_new {co : Nat × Int32 → Nat} {P : List (Nat × Int32)} {m : Nat} {e : Nat × Int32} (h : gf_mA co P m) (hm : co e < m) : gf_mA co (P ++ [e]) (co e) :=
  ⟨by have := h.1; omega, gf_snoc_all (fun x hx => by have := h.2.1 x hx; omega) (Nat.le_refl _), Or.inr ⟨e, List.mem_append_right _ (List.mem_singleton.mpr rfl), rfl⟩⟩
theorem gf_mB_old {co : Nat × Int32 → Nat} {P : List (Nat × Int32)} {d : Nat} {e : Nat × Int32} (h : gf_mB co P d) (hm : co e < d) : gf_mB co (P ++ [e]) d :=
  ⟨h.1, gf_snoc_all h.2.1 hm, h.2.2.imp id fun ⟨x, hx, he⟩ => ⟨x, List.mem_append_left _ hx, he⟩⟩
theorem gf_mB_new {co : Nat × Int32 → Nat} {P : List (Nat × Int32)} {d : Nat} {e : Nat × Int32} (h : gf_mB co P d) (h32 : co e < 32) (hm : d ≤ co e) : gf_mB co (P ++ [e]) (co e + 1) :=
  ⟨by omega, gf_snoc_all (fun x hx => by have := h.2.1 x hx; omega) (by omega), Or.inr ⟨e, List.mem_append_right _ (List.mem_singleton.mpr rfl), rfl⟩⟩
theorem gf_leM {A B : Prop} (x d : Nat) (hx : x < 2 ^ 31) (hd : d < 2 ^ 31) (f : x < d → A) (g : d ≤ x → B) : (nI x ≤ nI d + (-1) → A) ∧ (¬ nI x ≤ nI d + (-1) → B) := by
  cases d with
  | zero =>
    refine br_f ?_ (g (Nat.zero_le _))
    rw [nI_0, Int32.zero_add, Int32.le_iff_toInt_le, nI_toInt hx, show (-1 : Int32).toInt = -1 from by decide]
    omega
  | succ d =>
    rw [pk_m1]
    exact pk_le x d (fun h => f (by omega)) (fun h => g (by omega))
section XP
variable {C R B N : Nat} {H : Int32} {cx cy dr sz lf rt lo hi pl : Nat → Nat} {vs hp hv sn : Nat → Int32}
theorem gx_split17 {post : SX → Prop} {b : Nat} (hb : b < 64) (hs : sz b ≤ 4) (hpl : ∀ j, pl j < 1024)
    (hq : ∀ m1 d1 m2 d2, gf_mA (fun e => e.1 / 32) (gf_bk sz pl vs b) m1 → gf_mB (fun e => e.1 / 32) (gf_bk sz pl vs b) d1 → gf_mA (fun e => e.1 % 32) (gf_bk sz pl vs b) m2 → gf_mB (fun e => e.1 % 32) (gf_bk sz pl vs b) d2 →
      ((nI d1 + (-1) - nI m1 < nI d2 + (-1) - nI m2 → wX_split_135 post (nI b) (nI m1) (nI d1 + (-1)) (nI m2) (nI d2 + (-1)) 0 (nI C) (nI R) (nI B) (nI N) H (gf_L cx) (gf_L cy) (gf_L dr) (gf_L sz) (gf_L lf) (gf_L rt) (gf_L lo) (gf_L hi) (gf_L pl) vs hp hv sn) ∧ (¬ nI d1 + (-1) - nI m1 < nI d2 + (-1) - nI m2 → wX_split_135 post (nI b) (nI m1) (nI d1 + (-1)) (nI m2) (nI d2 + (-1)) 1 (nI C) (nI R) (nI B) (nI N) H (gf_L cx) (gf_L cy) (gf_L dr) (gf_L sz) (gf_L lf) (gf_L rt) (gf_L lo) (gf_L hi) (gf_L pl) vs hp hv sn))) :
    ∀ (Q P : List (Nat × Int32)) (m1 d1 m2 d2 : Nat), gf_bk sz pl vs b = P ++ Q → gf_mA (fun e => e.1 / 32) P m1 → gf_mB (fun e => e.1 / 32) P d1 → gf_mA (fun e => e.1 % 32) P m2 → gf_mB (fun e => e.1 % 32) P d2 →
    ∀ n, Q.length < n → wX_split_17 post (nI b) (nI C) (nI R) (nI B) (nI N) H (gf_L cx) (gf_L cy) (gf_L dr) (gf_L sz) (gf_L lf) (gf_L rt) (gf_L lo) (gf_L hi) (gf_L pl) vs hp hv sn n (nI m1) (nI d1 + (-1)) (nI m2) (nI d2 + (-1)) (nI (4 * b + P.length)) := by
  have vb : vp_in (nI b) 64 := vp_in_nI hb (by decide)
  have es : gf_L sz (nI b).toNatClampNeg = nI (sz b) := gf_rd b rfl (by omega)
  intro Q
  induction Q with
  | nil =>
    intro P m1 d1 m2 d2 hP a1 a2 a3 a4 n hn
    obtain ⟨m, rfl⟩ : ∃ m, n = m + 1 := ⟨n - 1, by omega⟩
    rw [List.append_nil] at hP
    have len : sz b = P.length := by rw [← hP, gf_bk_len]
    refine ⟨vb, ?_⟩
    rw [es, gf_4a]
    refine br_t (nI_le (by omega) (by omega)) ?_
    rw [← hP] at a1 a2 a3 a4
    exact hq m1 d1 m2 d2 a1 a2 a3 a4
  | cons e Q ih =>
    intro P m1 d1 m2 d2 hP a1 a2 a3 a4 n hn
    obtain ⟨m, rfl⟩ : ∃ m, n = m + 1 := ⟨n - 1, by omega⟩
    rw [List.length_cons] at hn
    obtain ⟨len, vi, cl, q1, q2⟩ := gf_bat hP hb hs
    have he := hpl (4 * b + P.length)
    rw [q1] at he
    have ep : gf_L pl (nI (4 * b + P.length)).toNatClampNeg = nI e.1 := by rw [gf_rd _ rfl (by omega), q1]
    have e4 : nI (4 * b + P.length) + 1 = nI (4 * b + (P ++ [e]).length) := by rw [nI_1, List.length_append]; rfl
    have next : ∀ m1 d1 m2 d2, gf_mA (fun e => e.1 / 32) (P ++ [e]) m1 → gf_mB (fun e => e.1 / 32) (P ++ [e]) d1 → gf_mA (fun e => e.1 % 32) (P ++ [e]) m2 → gf_mB (fun e => e.1 % 32) (P ++ [e]) d2 →
        ∀ z, z = nI (4 * b + P.length) + 1 → wX_split_17 post (nI b) (nI C) (nI R) (nI B) (nI N) H (gf_L cx) (gf_L cy) (gf_L dr) (gf_L sz) (gf_L lf) (gf_L rt) (gf_L lo) (gf_L hi) (gf_L pl) vs hp hv sn m (nI m1) (nI d1 + (-1)) (nI m2) (nI d2 + (-1)) z := by
      intro m1 d1 m2 d2 g1 g2 g3 g4 z hz
      rw [hz, e4]
      exact ih (P ++ [e]) m1 d1 m2 d2 (gf_asc hP) g1 g2 g3 g4 m (by omega)
    have b1 := a1.1
    have b2 := a2.1
    have b3 := a3.1
    have b4 := a4.1
    have s95 : ∀ m1 d1 m2, gf_mA (fun e => e.1 / 32) (P ++ [e]) m1 → gf_mB (fun e => e.1 / 32) (P ++ [e]) d1 → gf_mA (fun e => e.1 % 32) (P ++ [e]) m2 →
        wX_split_95 post (wX_split_17 post (nI b) (nI C) (nI R) (nI B) (nI N) H (gf_L cx) (gf_L cy) (gf_L dr) (gf_L sz) (gf_L lf) (gf_L rt) (gf_L lo) (gf_L hi) (gf_L pl) vs hp hv sn m) (nI b) (nI m1) (nI d1 + (-1)) (nI d2 + (-1)) (nI (4 * b + P.length)) (nI (e.1 % 32)) (nI m2) (nI C) (nI R) (nI B) (nI N) H (gf_L cx) (gf_L cy) (gf_L dr) (gf_L sz) (gf_L lf) (gf_L rt) (gf_L lo) (gf_L hi) (gf_L pl) vs hp hv sn := by
      intro m1 d1 m2 g1 g2 g3
      refine gf_leM (e.1 % 32) d2 (by omega) (by omega) (fun h => next m1 d1 m2 d2 g1 g2 g3 (gf_mB_old a4 h)) (fun h => ?_)
      have := next m1 d1 m2 (e.1 % 32 + 1) g1 g2 g3 (gf_mB_new a4 (by show e.1 % 32 < 32; omega) h)
      rw [pk_m1] at this
      exact this
    have s80 : ∀ m1 d1, gf_mA (fun e => e.1 / 32) (P ++ [e]) m1 → gf_mB (fun e => e.1 / 32) (P ++ [e]) d1 →
        wX_split_80 post (wX_split_17 post (nI b) (nI C) (nI R) (nI B) (nI N) H (gf_L cx) (gf_L cy) (gf_L dr) (gf_L sz) (gf_L lf) (gf_L rt) (gf_L lo) (gf_L hi) (gf_L pl) vs hp hv sn m) (nI b) (nI m1) (nI m2) (nI d2 + (-1)) (nI (4 * b + P.length)) (nI (e.1 % 32)) (nI d1 + (-1)) (nI C) (nI R) (nI B) (nI N) H (gf_L cx) (gf_L cy) (gf_L dr) (gf_L sz) (gf_L lf) (gf_L rt) (gf_L lo) (gf_L hi) (gf_L pl) vs hp hv sn := by
      intro m1 d1 g1 g2
      exact pk_le m2 (e.1 % 32) (fun h => s95 m1 d1 m2 g1 g2 (gf_mA_old a3 h)) (fun h => s95 m1 d1 (e.1 % 32) g1 g2 (gf_mA_new a3 h))
    have s67 : ∀ m1, gf_mA (fun e => e.1 / 32) (P ++ [e]) m1 →
        wX_split_67 post (wX_split_17 post (nI b) (nI C) (nI R) (nI B) (nI N) H (gf_L cx) (gf_L cy) (gf_L dr) (gf_L sz) (gf_L lf) (gf_L rt) (gf_L lo) (gf_L hi) (gf_L pl) vs hp hv sn m) (nI b) (nI d1 + (-1)) (nI m2) (nI d2 + (-1)) (nI (4 * b + P.length)) (nI (e.1 / 32)) (nI (e.1 % 32)) (nI m1) (nI C) (nI R) (nI B) (nI N) H (gf_L cx) (gf_L cy) (gf_L dr) (gf_L sz) (gf_L lf) (gf_L rt) (gf_L lo) (gf_L hi) (gf_L pl) vs hp hv sn := by
      intro m1 g1
      refine gf_leM (e.1 / 32) d1 (by omega) (by omega) (fun h => s80 m1 d1 g1 (gf_mB_old a2 h)) (fun h => ?_)
      have := s80 m1 (e.1 / 32 + 1) g1 (gf_mB_new a2 (by show e.1 / 32 < 32; omega) h)
      rw [pk_m1] at this
      exact this
    refine ⟨vb, ?_⟩
    rw [es, gf_4a]
    refine br_f (nI_ge (by omega) (by omega)) ⟨vi, nm_r (e' := nI (e.1 / 32)) (by rw [ep]; exact gf_sh5 (by omega)) ⟨vi, nm_r (e' := nI (e.1 % 32)) (by rw [ep]; exact gf_a31 (by omega)) ?_⟩⟩
    exact pk_le m1 (e.1 / 32) (fun h => s67 m1 (gf_mA_old a1 h)) (fun h => s67 (e.1 / 32) (gf_mA_new a1 h))
/-- what a split of b leaves -/
def gf_SO (B : Nat) (sz lf rt lo hi : Nat → Nat) (b : Nat) (sz' lf' rt' lo' hi' : Nat → Nat) : Prop :=
  (∀ x y b', b' < B + 1 → gf_In lf rt lo hi b x y → gf_In lf' rt' lo' hi' b' x y → sz' b' ≤ 3) ∧ ((∀ b', b' < B → b' ≠ b → sz b' ≠ 0) → ∀ b', b' < B + 1 → sz' b' ≠ 0)
theorem gf_two {α : Type} {l : List α} {f : α → Bool} (hl : l.length = 4) (h1 : ∃ e, e ∈ l ∧ f e = true) (h2 : ∃ e, e ∈ l ∧ f e = false) : 1 ≤ (l.filter f).length ∧ 1 ≤ (l.filter (fun e => !f e)).length ∧ (l.filter f).length ≤ 3 ∧ (l.filter (fun e => !f e)).length ≤ 3 := by
  have := (List.filter_append_perm f l).length_eq
  rw [List.length_append, hl] at this
  obtain ⟨e1, g1, g2⟩ := h1
  obtain ⟨e2, g3, g4⟩ := h2
  have p1 : 0 < (l.filter f).length := List.length_pos_of_mem (List.mem_filter.mpr ⟨g1, g2⟩)
  have p2 : 0 < (l.filter (fun e => !f e)).length := List.length_pos_of_mem (List.mem_filter.mpr ⟨g3, by rw [g4]; rfl⟩)
  omega
theorem gf_bk_sz {sz' sz pl' pl : Nat → Nat} {vs' vs : Nat → Int32} {b : Nat} (h : gf_bk sz' pl' vs' b = gf_bk sz pl vs b) : sz' b = sz b := by
  rw [← gf_bk_len (sz := sz') (pl := pl') (vs := vs'), h, gf_bk_len]
theorem gx_s183x {post : SX → Prop} {b cut : Nat} {L : List (Nat × Int32)} (J : gf_J C R B cx cy dr sz lf rt lo hi pl vs L) (hb : b < B) (hB : B < 64) (hs : sz b = 4) (hcut : ∃ c, c < C ∧ cx c = cut) (hc32 : cut < 32)
    (h1 : ∃ e, e ∈ gf_bk sz pl vs b ∧ e.1 / 32 < cut) (h2 : ∃ e, e ∈ gf_bk sz pl vs b ∧ cut ≤ e.1 / 32)
    (hq : ∀ dr' sz' lf' rt' lo' hi' pl' vs', gf_J C R (B + 1) cx cy dr' sz' lf' rt' lo' hi' pl' vs' L → gf_SO B sz lf rt lo hi b sz' lf' rt' lo' hi' → post (nI C, nI R, nI (B + 1), nI N, H, gf_L cx, gf_L cy, gf_L dr', gf_L sz', gf_L lf', gf_L rt', gf_L lo', gf_L hi', gf_L pl', vs', hp, hv, sn)) :
    wX_split_183 post (nI b) 1 (nI cut) (nI C) (nI R) (nI B) (nI N) H (gf_L cx) (gf_L cy) (gf_L dr) (gf_L sz) (gf_L lf) (gf_L rt) (gf_L lo) (gf_L hi) (gf_L pl) vs hp hv sn := by
  obtain ⟨hAB, hG, hP, hct, hnd⟩ := J
  have hC := gf_Sc_32 hG.1
  have hR := gf_Sc_32 hG.2.1
  obtain ⟨e1, he1, g1⟩ := h1
  obtain ⟨e2, he2, g2⟩ := h2
  have i1 := hP b hb e1 he1
  have i2 := hP b hb e2 he2
  have hl : lf b < cut := by omega
  have hr : cut ≤ rt b := by omega
  have vb : vp_in (nI b) 64 := vp_in_nI (by omega) (by decide)
  have vB : vp_in (nI B) 64 := vp_in_nI (by omega) (by decide)
  refine nm_r (nI_1 B) ⟨vB, nm_r (e' := gf_L (gf_u sz B 0)) (gf_st B 0 rfl rfl (by omega)) (br_f (by decide) ?_)⟩
  refine ⟨vB, nm_r (e' := gf_L (gf_u lf B cut)) (gf_st B cut rfl rfl (by omega)) ⟨vb, vB, nm_r (e' := gf_L (gf_u rt B (rt b))) (gf_st B (rt b) rfl (gf_rd b rfl (by omega)) (by omega)) (br_f (by decide) ⟨vb, ?_⟩)⟩⟩
  refine ⟨vB, nm_r (e' := gf_L (gf_u lo B (lo b))) (gf_st B (lo b) rfl (gf_rd b rfl (by omega)) (by omega)) ⟨vb, vB, nm_r (e' := gf_L (gf_u hi B (hi b))) (gf_st B (hi b) rfl (gf_rd b rfl (by omega)) (by omega)) (br_f (by decide) ⟨vb, nm_r (e' := gf_L (gf_u (gf_u rt B (rt b)) b (cut - 1))) (gf_st b (cut - 1) rfl (gf_s (by omega)) (by omega)) ?_⟩)⟩⟩
  have ab : ∀ j, cx j ≤ 32 ∧ cy j ≤ 32 ∧ gf_u lf B cut j < 32 ∧ gf_u (gf_u rt B (rt b)) b (cut - 1) j < 32 ∧ gf_u lo B (lo b) j < 32 ∧ gf_u hi B (hi b) j < 32 := by
    intro j
    have a := hAB j
    have a' := hAB b
    unfold gf_u
    refine ⟨a.1, a.2.1, ?_, ?_, ?_, ?_⟩
    · split <;> omega
    · split
      · omega
      · split <;> omega
    · split <;> omega
    · split <;> omega
  unfold wX_split_307
  refine gx_claim ab hB hC hR (fun j => (hAB j).2.2.1) (fun dr' hd hd64 => ?_)
  have ab2 : ∀ j, gf_u sz B 0 j ≤ 4 ∧ pl j < 1024 := by
    intro j
    have a := hAB j
    unfold gf_u
    refine ⟨?_, a.2.2.2.2.2.2.2.2⟩
    split <;> omega
  refine gx_part (ax := 1) (by decide) (by omega) hB (by omega) (by omega) ab2 gf_us (fun sz' pl' vs' p1 p2 p3 p4 => ?_)
  have sbk : ∀ b', b' ≠ B → gf_bk (gf_u sz B 0) pl vs b' = gf_bk sz pl vs b' := fun b' h => gf_bk_eq (gf_un h) (fun k _ => ⟨rfl, rfl⟩)
  rw [sbk b (by omega)] at p2 p3
  have p5 : ∀ b', b' < B → b' ≠ b → gf_bk sz' pl' vs' b' = gf_bk sz pl vs b' := fun b' h h' => (p4 b' h' (by omega)).trans (sbk b' (by omega))
  have two := gf_two (f := gf_lt 1 cut) (by rw [gf_bk_len]; exact hs) ⟨e1, he1, decide_eq_true g1⟩ ⟨e2, he2, decide_eq_false (by show ¬ e2.1 / 32 < cut; omega)⟩
  rw [← p2, ← p3, gf_bk_len, gf_bk_len] at two
  have nb : b ≠ B := by omega
  have U : ∀ a, (a = B → gf_u lf B cut a = cut ∧ gf_u (gf_u rt B (rt b)) b (cut - 1) a = rt b ∧ gf_u lo B (lo b) a = lo b ∧ gf_u hi B (hi b) a = hi b) ∧
      (a = b → gf_u lf B cut a = lf b ∧ gf_u (gf_u rt B (rt b)) b (cut - 1) a = cut - 1 ∧ gf_u lo B (lo b) a = lo b ∧ gf_u hi B (hi b) a = hi b) ∧
      (a ≠ b → a ≠ B → gf_u lf B cut a = lf a ∧ gf_u (gf_u rt B (rt b)) b (cut - 1) a = rt a ∧ gf_u lo B (lo b) a = lo a ∧ gf_u hi B (hi b) a = hi a) := by
    intro a
    refine ⟨fun e => ?_, fun e => ?_, fun e1 e2 => ?_⟩
    · rw [e]
      exact ⟨gf_us, by rw [gf_un (by omega), gf_us], gf_us, gf_us⟩
    · rw [e]
      exact ⟨gf_un nb, gf_us, gf_un nb, gf_un nb⟩
    · exact ⟨gf_un e2, by rw [gf_un e1, gf_un e2], gf_un e2, gf_un e2⟩
  refine hq dr' sz' _ _ _ _ pl' vs' ⟨?_, ?_, ?_, ?_, hnd⟩ ⟨?_, ?_⟩
  · intro j
    have a := ab j
    exact ⟨a.1, a.2.1, hd64 j, (p1 j).1, a.2.2.1, a.2.2.2.1, a.2.2.2.2.1, a.2.2.2.2.2, (p1 j).2⟩
  · refine gf_G_spx hG hb hB hl hr hcut (fun c r hc hr' => ?_)
    have := hd c r hc hr'
    obtain ⟨l1, l2, l3, l4⟩ := (U B).1 rfl
    unfold gf_Ci at this
    rw [l1, l2, l3, l4] at this
    exact this
  · intro b' hb' e he
    by_cases z : b' = b
    · obtain ⟨l1, l2, l3, l4⟩ := (U b').2.1 z
      rw [z, p2, List.mem_filter] at he
      have i := hP b hb e he.1
      have g : e.1 / 32 < cut := of_decide_eq_true he.2
      show _ ≤ _ ∧ _ ≤ _ ∧ _ ≤ _ ∧ _ ≤ _
      rw [l1, l2, l3, l4]
      omega
    · by_cases w : b' = B
      · obtain ⟨l1, l2, l3, l4⟩ := (U b').1 w
        rw [w, p3, List.mem_filter] at he
        have i := hP b hb e he.1
        have g : ¬ e.1 / 32 < cut := fun q => by
          have g0 : gf_lt 1 cut e = true := decide_eq_true q
          have g3 := he.2
          rw [g0] at g3
          cases g3
        show _ ≤ _ ∧ _ ≤ _ ∧ _ ≤ _ ∧ _ ≤ _
        rw [l1, l2, l3, l4]
        omega
      · obtain ⟨l1, l2, l3, l4⟩ := (U b').2.2 z w
        rw [p5 b' (by omega) z] at he
        have i := hP b' (by omega) e he
        show _ ≤ _ ∧ _ ≤ _ ∧ _ ≤ _ ∧ _ ≤ _
        rw [l1, l2, l3, l4]
        exact i
  · exact (gf_ct_split hb _ p2 p3 p5).trans hct
  · intro x y b' hb' ix iy
    by_cases z : b' = b
    · rw [z]; omega
    · by_cases w : b' = B
      · rw [w]; omega
      · obtain ⟨l1, l2, l3, l4⟩ := (U b').2.2 z w
        have iy' : gf_In lf rt lo hi b' x y := by
          obtain ⟨y1, y2, y3, y4⟩ := iy
          rw [l1] at y1
          rw [l2] at y2
          rw [l3] at y3
          rw [l4] at y4
          exact ⟨y1, y2, y3, y4⟩
        exact absurd (hG.2.2.2.2.2 b' b x y (by omega) hb iy' ix) z
  · intro hne b' hb'
    by_cases z : b' = b
    · rw [z]; omega
    · by_cases w : b' = B
      · rw [w]; omega
      · rw [gf_bk_sz (p5 b' (by omega) z)]
        exact hne b' (by omega) z
theorem gx_s183y {post : SX → Prop} {b cut : Nat} {L : List (Nat × Int32)} (J : gf_J C R B cx cy dr sz lf rt lo hi pl vs L) (hb : b < B) (hB : B < 64) (hs : sz b = 4) (hcut : ∃ r, r < R ∧ cy r = cut) (hc32 : cut < 32)
    (h1 : ∃ e, e ∈ gf_bk sz pl vs b ∧ e.1 % 32 < cut) (h2 : ∃ e, e ∈ gf_bk sz pl vs b ∧ cut ≤ e.1 % 32)
    (hq : ∀ dr' sz' lf' rt' lo' hi' pl' vs', gf_J C R (B + 1) cx cy dr' sz' lf' rt' lo' hi' pl' vs' L → gf_SO B sz lf rt lo hi b sz' lf' rt' lo' hi' → post (nI C, nI R, nI (B + 1), nI N, H, gf_L cx, gf_L cy, gf_L dr', gf_L sz', gf_L lf', gf_L rt', gf_L lo', gf_L hi', gf_L pl', vs', hp, hv, sn)) :
    wX_split_183 post (nI b) 0 (nI cut) (nI C) (nI R) (nI B) (nI N) H (gf_L cx) (gf_L cy) (gf_L dr) (gf_L sz) (gf_L lf) (gf_L rt) (gf_L lo) (gf_L hi) (gf_L pl) vs hp hv sn := by
  obtain ⟨hAB, hG, hP, hct, hnd⟩ := J
  have hC := gf_Sc_32 hG.1
  have hR := gf_Sc_32 hG.2.1
  obtain ⟨e1, he1, g1⟩ := h1
  obtain ⟨e2, he2, g2⟩ := h2
  have i1 := hP b hb e1 he1
  have i2 := hP b hb e2 he2
  have hl : lo b < cut := by omega
  have hr : cut ≤ hi b := by omega
  have vb : vp_in (nI b) 64 := vp_in_nI (by omega) (by decide)
  have vB : vp_in (nI B) 64 := vp_in_nI (by omega) (by decide)
  refine nm_r (nI_1 B) ⟨vB, nm_r (e' := gf_L (gf_u sz B 0)) (gf_st B 0 rfl rfl (by omega)) (br_t rfl ⟨vb, ?_⟩)⟩
  refine ⟨vB, nm_r (e' := gf_L (gf_u lf B (lf b))) (gf_st B (lf b) rfl (gf_rd b rfl (by omega)) (by omega)) ⟨vb, vB, nm_r (e' := gf_L (gf_u rt B (rt b))) (gf_st B (rt b) rfl (gf_rd b rfl (by omega)) (by omega)) (br_t rfl ?_)⟩⟩
  refine ⟨vB, nm_r (e' := gf_L (gf_u lo B cut)) (gf_st B cut rfl rfl (by omega)) ⟨vb, vB, nm_r (e' := gf_L (gf_u hi B (hi b))) (gf_st B (hi b) rfl (gf_rd b rfl (by omega)) (by omega)) (br_t rfl ⟨vb, nm_r (e' := gf_L (gf_u (gf_u hi B (hi b)) b (cut - 1))) (gf_st b (cut - 1) rfl (gf_s (by omega)) (by omega)) ?_⟩)⟩⟩
  have ab : ∀ j, cx j ≤ 32 ∧ cy j ≤ 32 ∧ gf_u lf B (lf b) j < 32 ∧ gf_u rt B (rt b) j < 32 ∧ gf_u lo B cut j < 32 ∧ gf_u (gf_u hi B (hi b)) b (cut - 1) j < 32 := by
    intro j
    have a := hAB j
    have a' := hAB b
    unfold gf_u
    refine ⟨a.1, a.2.1, ?_, ?_, ?_, ?_⟩
    · split <;> omega
    · split <;> omega
    · split <;> omega
    · split
      · omega
      · split <;> omega
  unfold wX_split_307
  refine gx_claim ab hB hC hR (fun j => (hAB j).2.2.1) (fun dr' hd hd64 => ?_)
  have ab2 : ∀ j, gf_u sz B 0 j ≤ 4 ∧ pl j < 1024 := by
    intro j
    have a := hAB j
    unfold gf_u
    refine ⟨?_, a.2.2.2.2.2.2.2.2⟩
    split <;> omega
  refine gx_part (ax := 0) (by decide) (by omega) hB (by omega) (by omega) ab2 gf_us (fun sz' pl' vs' p1 p2 p3 p4 => ?_)
  have sbk : ∀ b', b' ≠ B → gf_bk (gf_u sz B 0) pl vs b' = gf_bk sz pl vs b' := fun b' h => gf_bk_eq (gf_un h) (fun k _ => ⟨rfl, rfl⟩)
  rw [sbk b (by omega)] at p2 p3
  have p5 : ∀ b', b' < B → b' ≠ b → gf_bk sz' pl' vs' b' = gf_bk sz pl vs b' := fun b' h h' => (p4 b' h' (by omega)).trans (sbk b' (by omega))
  have two := gf_two (f := gf_lt 0 cut) (by rw [gf_bk_len]; exact hs) ⟨e1, he1, decide_eq_true g1⟩ ⟨e2, he2, decide_eq_false (by show ¬ e2.1 % 32 < cut; omega)⟩
  rw [← p2, ← p3, gf_bk_len, gf_bk_len] at two
  have nb : b ≠ B := by omega
  have U : ∀ a, (a = B → gf_u lf B (lf b) a = lf b ∧ gf_u rt B (rt b) a = rt b ∧ gf_u lo B cut a = cut ∧ gf_u (gf_u hi B (hi b)) b (cut - 1) a = hi b) ∧
      (a = b → gf_u lf B (lf b) a = lf b ∧ gf_u rt B (rt b) a = rt b ∧ gf_u lo B cut a = lo b ∧ gf_u (gf_u hi B (hi b)) b (cut - 1) a = cut - 1) ∧
      (a ≠ b → a ≠ B → gf_u lf B (lf b) a = lf a ∧ gf_u rt B (rt b) a = rt a ∧ gf_u lo B cut a = lo a ∧ gf_u (gf_u hi B (hi b)) b (cut - 1) a = hi a) := by
    intro a
    refine ⟨fun e => ?_, fun e => ?_, fun e1 e2 => ?_⟩
    · rw [e]
      exact ⟨gf_us, gf_us, gf_us, by rw [gf_un (by omega), gf_us]⟩
    · rw [e]
      exact ⟨gf_un nb, gf_un nb, gf_un nb, gf_us⟩
    · exact ⟨gf_un e2, gf_un e2, gf_un e2, by rw [gf_un e1, gf_un e2]⟩
  refine hq dr' sz' _ _ _ _ pl' vs' ⟨?_, ?_, ?_, ?_, hnd⟩ ⟨?_, ?_⟩
  · intro j
    have a := ab j
    exact ⟨a.1, a.2.1, hd64 j, (p1 j).1, a.2.2.1, a.2.2.2.1, a.2.2.2.2.1, a.2.2.2.2.2, (p1 j).2⟩
  · refine gf_G_spy hG hb hB hl hr hcut (fun c r hc hr' => ?_)
    have := hd c r hc hr'
    obtain ⟨l1, l2, l3, l4⟩ := (U B).1 rfl
    unfold gf_Ci at this
    rw [l1, l2, l3, l4] at this
    exact this
  · intro b' hb' e he
    by_cases z : b' = b
    · obtain ⟨l1, l2, l3, l4⟩ := (U b').2.1 z
      rw [z, p2, List.mem_filter] at he
      have i := hP b hb e he.1
      have g : e.1 % 32 < cut := of_decide_eq_true he.2
      show _ ≤ _ ∧ _ ≤ _ ∧ _ ≤ _ ∧ _ ≤ _
      rw [l1, l2, l3, l4]
      omega
    · by_cases w : b' = B
      · obtain ⟨l1, l2, l3, l4⟩ := (U b').1 w
        rw [w, p3, List.mem_filter] at he
        have i := hP b hb e he.1
        have g : ¬ e.1 % 32 < cut := fun q => by
          have g0 : gf_lt 0 cut e = true := decide_eq_true q
          have g3 := he.2
          rw [g0] at g3
          cases g3
        show _ ≤ _ ∧ _ ≤ _ ∧ _ ≤ _ ∧ _ ≤ _
        rw [l1, l2, l3, l4]
        omega
      · obtain ⟨l1, l2, l3, l4⟩ := (U b').2.2 z w
        rw [p5 b' (by omega) z] at he
        have i := hP b' (by omega) e he
        show _ ≤ _ ∧ _ ≤ _ ∧ _ ≤ _ ∧ _ ≤ _
        rw [l1, l2, l3, l4]
        exact i
  · exact (gf_ct_split hb _ p2 p3 p5).trans hct
  · intro x y b' hb' ix iy
    by_cases z : b' = b
    · rw [z]; omega
    · by_cases w : b' = B
      · rw [w]; omega
      · obtain ⟨l1, l2, l3, l4⟩ := (U b').2.2 z w
        have iy' : gf_In lf rt lo hi b' x y := by
          obtain ⟨y1, y2, y3, y4⟩ := iy
          rw [l1] at y1
          rw [l2] at y2
          rw [l3] at y3
          rw [l4] at y4
          exact ⟨y1, y2, y3, y4⟩
        exact absurd (hG.2.2.2.2.2 b' b x y (by omega) hb iy' ix) z
  · intro hne b' hb'
    by_cases z : b' = b
    · rw [z]; omega
    · by_cases w : b' = B
      · rw [w]; omega
      · rw [gf_bk_sz (p5 b' (by omega) z)]
        exact hne b' (by omega) z
theorem gf_ext {b m1 d1 m2 d2 : Nat} {L : List (Nat × Int32)} (J : gf_J C R B cx cy dr sz lf rt lo hi pl vs L) (hb : b < B) (hs : sz b = 4)
    (a1 : gf_mA (fun e => e.1 / 32) (gf_bk sz pl vs b) m1) (a2 : gf_mB (fun e => e.1 / 32) (gf_bk sz pl vs b) d1) (a3 : gf_mA (fun e => e.1 % 32) (gf_bk sz pl vs b) m2) (a4 : gf_mB (fun e => e.1 % 32) (gf_bk sz pl vs b) d2) :
    m1 + 1 ≤ d1 ∧ m2 + 1 ≤ d2 ∧ (m1 + 1 < d1 ∨ m2 + 1 < d2) := by
  have g0 : (pl (4 * b + 0), vs (4 * b + 0)) ∈ gf_bk sz pl vs b := gf_bk_mem.mpr ⟨0, by omega, rfl⟩
  have g1 : (pl (4 * b + 1), vs (4 * b + 1)) ∈ gf_bk sz pl vs b := gf_bk_mem.mpr ⟨1, by omega, rfl⟩
  have x0 : m1 ≤ pl (4 * b + 0) / 32 := a1.2.1 _ g0
  have x1 : m1 ≤ pl (4 * b + 1) / 32 := a1.2.1 _ g1
  have x2 : pl (4 * b + 0) / 32 < d1 := a2.2.1 _ g0
  have x3 : pl (4 * b + 1) / 32 < d1 := a2.2.1 _ g1
  have y0 : m2 ≤ pl (4 * b + 0) % 32 := a3.2.1 _ g0
  have y1 : m2 ≤ pl (4 * b + 1) % 32 := a3.2.1 _ g1
  have y2 : pl (4 * b + 0) % 32 < d2 := a4.2.1 _ g0
  have y3 : pl (4 * b + 1) % 32 < d2 := a4.2.1 _ g1
  have ne : pl (4 * b + 0) ≠ pl (4 * b + 1) := by
    intro e
    have := gf_J_uniq J hb (by omega) hb (by omega) e
    omega
  generalize pl (4 * b + 0) = u at *
  generalize pl (4 * b + 1) = w at *
  omega
theorem gf_J_cong {C' R' : Nat} {cx' cy' dr' : Nat → Nat} {L : List (Nat × Int32)} (J : gf_J C R B cx cy dr sz lf rt lo hi pl vs L) (hA : gf_AB cx' cy' dr' sz lf rt lo hi pl) (hG : gf_G C' R' B cx' cy' dr' lf rt lo hi) : gf_J C' R' B cx' cy' dr' sz lf rt lo hi pl vs L :=
  ⟨hA, hG, J.2.2⟩
theorem gx_split {post : SX → Prop} {b : Nat} {L : List (Nat × Int32)} (J : gf_J C R B cx cy dr sz lf rt lo hi pl vs L) (hb : b < B) (hB : B < 64) (hs : sz b = 4)
    (hq : ∀ C' R' cx' cy' dr' sz' lf' rt' lo' hi' pl' vs', gf_J C' R' (B + 1) cx' cy' dr' sz' lf' rt' lo' hi' pl' vs' L → gf_SO B sz lf rt lo hi b sz' lf' rt' lo' hi' → post (nI C', nI R', nI (B + 1), nI N, H, gf_L cx', gf_L cy', gf_L dr', gf_L sz', gf_L lf', gf_L rt', gf_L lo', gf_L hi', gf_L pl', vs', hp, hv, sn)) :
    wpX_split post (nI C, nI R, nI B, nI N, H, gf_L cx, gf_L cy, gf_L dr, gf_L sz, gf_L lf, gf_L rt, gf_L lo, gf_L hi, gf_L pl, vs, hp, hv, sn) (nI b) := by
  refine nm_r (gf_m4 b) ⟨sz b + 1, ?_⟩
  refine gx_split17 (by omega) (J.1 b).2.2.2.1 (fun j => (J.1 j).2.2.2.2.2.2.2.2) (fun m1 d1 m2 d2 a1 a2 a3 a4 => ?_) (gf_bk sz pl vs b) [] 32 0 32 0 rfl ⟨by omega, (fun e h => nomatch h), Or.inl rfl⟩ ⟨by omega, (fun e h => nomatch h), Or.inl rfl⟩ ⟨by omega, (fun e h => nomatch h), Or.inl rfl⟩ ⟨by omega, (fun e h => nomatch h), Or.inl rfl⟩ (sz b + 1) (by rw [gf_bk_len]; omega)
  obtain ⟨x1, x2, x3⟩ := gf_ext J hb hs a1 a2 a3 a4
  have b1 := a2.1
  have b2 := a4.1
  have att : ∀ {co : Nat × Int32 → Nat} {m d : Nat}, gf_mA co (gf_bk sz pl vs b) m → gf_mB co (gf_bk sz pl vs b) d → m + 1 < d → d ≤ 32 → (∃ e, e ∈ gf_bk sz pl vs b ∧ co e < (m + d) / 2) ∧ (∃ e, e ∈ gf_bk sz pl vs b ∧ (m + d) / 2 ≤ co e) := by
    intro co m d g1 g2 g3 g4
    constructor
    · rcases g1.2.2 with z | ⟨e, he, z⟩
      · omega
      · exact ⟨e, he, by omega⟩
    · rcases g2.2.2 with z | ⟨e, he, z⟩
      · omega
      · exact ⟨e, he, by omega⟩
  rw [gf_m (n := d1) (by omega), gf_m (n := d2) (by omega)]
  rw [pk_sub (a := d1 - 1) (by omega), pk_sub (a := d2 - 1) (by omega)]
  refine pk_lt (d1 - 1 - m1) (d2 - 1 - m2) (fun h => br_t rfl ?_) (fun h => br_f (by decide) ?_)
  · obtain ⟨u1, u2⟩ := att a3 a4 (by omega) b2
    have ec : (nI m2 + nI (d2 - 1) + 1) >>> ((1 : Int32) &&& 31) = nI ((m2 + d2) / 2) := by
      rw [nI_add, nI_1, gf_sh1 (by omega)]
      exact congrArg nI (by omega)
    rw [ec]
    refine br_t rfl ?_
    refine gx_cutRow J.1 J.2.1 (by omega) (fun R' cy' dr' hA hG hc => ?_)
    exact gx_s183y (gf_J_cong J hA hG) hb hB hs hc (by omega) u1 u2 (fun dr' sz' lf' rt' lo' hi' pl' vs' J' S' => hq _ _ _ _ _ _ _ _ _ _ _ _ J' S')
  · obtain ⟨u1, u2⟩ := att a1 a2 (by omega) b1
    have ec : (nI m1 + nI (d1 - 1) + 1) >>> ((1 : Int32) &&& 31) = nI ((m1 + d1) / 2) := by
      rw [nI_add, nI_1, gf_sh1 (by omega)]
      exact congrArg nI (by omega)
    rw [ec]
    refine br_f (by decide) ?_
    refine gx_cutColumn J.1 J.2.1 (by omega) (fun C' cx' dr' hA hG hc => ?_)
    exact gx_s183x (gf_J_cong J hA hG) hb hB hs hc (by omega) u1 u2 (fun dr' sz' lf' rt' lo' hi' pl' vs' J' S' => hq _ _ _ _ _ _ _ _ _ _ _ _ J' S')
end XP
end
section
/-! reset, rebuild, insert -/
section XI
variable {C R B N : Nat} {H : Int32} {cx cy dr sz lf rt lo hi pl : Nat → Nat} {vs hp hv sn : Nat → Int32}
theorem gf_J_reset (hA : gf_AB cx cy dr sz lf rt lo hi pl) : gf_J 1 1 1 (gf_u (gf_u cx 0 0) 1 32) (gf_u (gf_u cy 0 0) 1 32) (gf_u dr 0 0) (gf_u sz 0 0) (gf_u lf 0 0) (gf_u rt 0 31) (gf_u lo 0 0) (gf_u hi 0 31) pl vs [] := by
  have sc : ∀ f : Nat → Nat, gf_Sc 1 (gf_u (gf_u f 0 0) 1 32) := by
    intro f
    refine ⟨by omega, by rw [gf_un (by omega), gf_us], gf_us, fun i hi => ?_⟩
    have e : i = 0 := by omega
    rw [e, gf_un (by omega), gf_us, gf_us]
    omega
  have bk0 : gf_bk (gf_u sz 0 0) pl vs 0 = [] := by rw [gf_bk, gf_us]; rfl
  refine ⟨?_, ⟨sc cx, sc cy, by omega, by omega, ?_, ?_⟩, ?_, ?_, List.nodup_nil⟩
  · intro j
    have a := hA j
    unfold gf_u
    refine ⟨?_, ?_, ?_, ?_, ?_, ?_, ?_, ?_, a.2.2.2.2.2.2.2.2⟩
    · split
      · omega
      · split <;> omega
    · split
      · omega
      · split <;> omega
    all_goals split <;> omega
  · intro c r hc hr
    have e1 : c = 0 := by omega
    have e2 : r = 0 := by omega
    subst e1
    subst e2
    have e3 : gf_u dr 0 0 (32 * 0 + 0) = 0 := gf_us
    have x0 : gf_u (gf_u cx 0 0) 1 32 0 = 0 := (sc cx).2.1
    have x1 : gf_u (gf_u cx 0 0) 1 32 (0 + 1) = 32 := (sc cx).2.2.1
    have y0 : gf_u (gf_u cy 0 0) 1 32 0 = 0 := (sc cy).2.1
    have y1 : gf_u (gf_u cy 0 0) 1 32 (0 + 1) = 32 := (sc cy).2.2.1
    have l1 : gf_u lf 0 0 0 = 0 := gf_us
    have l2 : gf_u rt 0 31 0 = 31 := gf_us
    have l3 : gf_u lo 0 0 0 = 0 := gf_us
    have l4 : gf_u hi 0 31 0 = 31 := gf_us
    rw [e3]
    show 0 < 1 ∧ _ ≤ _ ∧ _ ≤ _ ∧ _ ≤ _ ∧ _ ≤ _
    rw [x0, x1, y0, y1, l1, l2, l3, l4]
    omega
  · intro b b' x y hb hb' _ _
    omega
  · intro b hb e he
    have e1 : b = 0 := by omega
    rw [e1, bk0] at he
    cases he
  · show ([0].flatMap _).Perm []
    rw [List.flatMap_singleton, bk0]
theorem gx_reset {post : SX → Prop} (hq : post (1, 1, 1, nI N, H, gf_L (gf_u (gf_u cx 0 0) 1 32), gf_L (gf_u (gf_u cy 0 0) 1 32), gf_L (gf_u dr 0 0), gf_L (gf_u sz 0 0), gf_L (gf_u lf 0 0), gf_L (gf_u rt 0 31), gf_L (gf_u lo 0 0), gf_L (gf_u hi 0 31), gf_L pl, vs, hp, hv, sn)) : wpX_reset post (nI C, nI R, nI B, nI N, H, gf_L cx, gf_L cy, gf_L dr, gf_L sz, gf_L lf, gf_L rt, gf_L lo, gf_L hi, gf_L pl, vs, hp, hv, sn) :=
  nm_r (gf_up cx 0 0) (nm_r (gf_up _ 1 32) (nm_r (gf_up cy 0 0) (nm_r (gf_up _ 1 32) (nm_r (gf_up dr 0 0) (nm_r (gf_up sz 0 0) (nm_r (gf_up lf 0 0) (nm_r (gf_up rt 0 31) (nm_r (gf_up lo 0 0) (nm_r (gf_up hi 0 31) hq)))))))))
theorem gf_ct_len {sz pl : Nat → Nat} {vs : Nat → Int32} : ∀ B, (∀ b, b < B → sz b ≠ 0) → B ≤ (gf_ct B sz pl vs).length
  | 0, _ => Nat.zero_le _
  | B + 1, h => by
    have h1 := gf_ct_len (sz := sz) (pl := pl) (vs := vs) B (fun b hb => h b (by omega))
    have h2 := h B (by omega)
    unfold gf_ct at h1 ⊢
    rw [List.range_succ, List.flatMap_append, List.flatMap_singleton, List.length_append, gf_bk_len]
    omega
/-- all buckets are in use, or there is one -/
def gf_NE (B : Nat) (sz : Nat → Nat) : Prop := (∀ b, b < B → sz b ≠ 0) ∨ B = 1
theorem gf_NE_len {L : List (Nat × Int32)} (J : gf_J C R B cx cy dr sz lf rt lo hi pl vs L) (h : gf_NE B sz) : B ≤ L.length ∨ B = 1 := by
  rcases h with h | h
  · left
    rw [← J.2.2.2.1.length_eq]
    exact gf_ct_len B h
  · exact Or.inr h
theorem gx_r95 {post : SX → Prop} {J14 : Int32 → Int32 → Int32 → Int32 → Int32 → Int32 → (Nat → Int32) → (Nat → Int32) → (Nat → Int32) → (Nat → Int32) → (Nat → Int32) → (Nat → Int32) → (Nat → Int32) → (Nat → Int32) → (Nat → Int32) → (Nat → Int32) → (Nat → Int32) → (Nat → Int32) → (Nat → Int32) → Prop}
    {b k : Nat} {e : Nat × Int32} {L : List (Nat × Int32)} (J : gf_J C R B cx cy dr sz lf rt lo hi pl vs L) (hb : b < B) (hs : sz b < 4) (he : e.1 < 1024) (hin : gf_In lf rt lo hi b (e.1 / 32) (e.1 % 32)) (hn : ¬ gf_has L e.1) (hk : k < 40) (hp1 : hp k = nI e.1) (hv1 : hv k = e.2) (hne : gf_NE B sz)
    (hq : ∀ sz' pl' vs', gf_J C R B cx cy dr sz' lf rt lo hi pl' vs' (e :: L) → gf_NE B sz' → J14 (nI (k + 1)) (nI C) (nI R) (nI B) (nI N) H (gf_L cx) (gf_L cy) (gf_L dr) (gf_L sz') (gf_L lf) (gf_L rt) (gf_L lo) (gf_L hi) (gf_L pl') vs' hp hv sn) : wX_rebuild_95 post J14 (nI k) (nI b) (nI C) (nI R) (nI B) (nI N) H (gf_L cx) (gf_L cy) (gf_L dr) (gf_L sz) (gf_L lf) (gf_L rt) (gf_L lo) (gf_L hi) (gf_L pl) vs hp hv sn := by
  have h64 := J.2.1.2.2.2.1
  have vb : vp_in (nI b) 64 := vp_in_nI (by omega) (by decide)
  have vk : vp_in (nI k) 40 := vp_in_nI hk (by decide)
  have ck : (nI k).toNatClampNeg = k := nI_clamp (by omega)
  have es : gf_L sz (nI b).toNatClampNeg = nI (sz b) := gf_rd b rfl (by omega)
  have vi : vp_in (nI (4 * b + sz b)) 256 := vp_in_nI (by omega) (by decide)
  unfold wX_rebuild_95
  rw [es, gf_4a]
  refine ⟨vb, vk, vi, nm_r (e' := gf_L (gf_u pl (4 * b + sz b) e.1)) (gf_st _ _ rfl (by rw [ck]; exact hp1) (by omega)) ⟨vb, vk, vi, nm_r (e' := upd vs (4 * b + sz b) e.2) (by rw [ck, hv1, nI_clamp (by omega)]) ⟨vb, vb, nm_r (e' := gf_L (gf_u sz b (sz b + 1))) (gf_st _ _ rfl (nI_1 _) (by omega)) (nm_r (nI_1 k) ?_)⟩⟩⟩
  refine hq _ _ _ (gf_J_add J e.2 hb hs he hin hn) ?_
  rcases hne with h | h
  · refine Or.inl fun b' hb' => ?_
    by_cases z : b' = b
    · rw [z, gf_us]; omega
    · rw [gf_un z]; exact h b' hb'
  · exact Or.inr h
theorem gx_r46 {post : SX → Prop} {J14 : Int32 → Int32 → Int32 → Int32 → Int32 → Int32 → (Nat → Int32) → (Nat → Int32) → (Nat → Int32) → (Nat → Int32) → (Nat → Int32) → (Nat → Int32) → (Nat → Int32) → (Nat → Int32) → (Nat → Int32) → (Nat → Int32) → (Nat → Int32) → (Nat → Int32) → (Nat → Int32) → Prop}
    {b k : Nat} {e : Nat × Int32} {L : List (Nat × Int32)} (J : gf_J C R B cx cy dr sz lf rt lo hi pl vs L) (hb : b < B) (he : e.1 < 1024) (hin : gf_In lf rt lo hi b (e.1 / 32) (e.1 % 32)) (hn : ¬ gf_has L e.1) (hk : k < 40) (hp1 : hp k = nI e.1) (hv1 : hv k = e.2) (hne : gf_NE B sz) (hl : L.length < 64)
    (hq : ∀ C' R' B' cx' cy' dr' sz' lf' rt' lo' hi' pl' vs', gf_J C' R' B' cx' cy' dr' sz' lf' rt' lo' hi' pl' vs' (e :: L) → gf_NE B' sz' → J14 (nI (k + 1)) (nI C') (nI R') (nI B') (nI N) H (gf_L cx') (gf_L cy') (gf_L dr') (gf_L sz') (gf_L lf') (gf_L rt') (gf_L lo') (gf_L hi') (gf_L pl') vs' hp hv sn) : wX_rebuild_46 post J14 (nI k) 2 (nI b) (nI 0) (nI C) (nI R) (nI B) (nI N) H (gf_L cx) (gf_L cy) (gf_L dr) (gf_L sz) (gf_L lf) (gf_L rt) (gf_L lo) (gf_L hi) (gf_L pl) vs hp hv sn := by
  have h64 := J.2.1.2.2.2.1
  have hs4 := (J.1 b).2.2.2.1
  have hBl := gf_NE_len J hne
  have vb : vp_in (nI b) 64 := vp_in_nI (by omega) (by decide)
  have es : gf_L sz (nI b).toNatClampNeg = nI (sz b) := gf_rd b rfl (by omega)
  refine br_f (nI_ge (b := 40) (by omega) (by decide)) ⟨vb, ?_⟩
  rw [es]
  refine pk_eq (sz b) 4 (fun h => ?_) (fun h => gx_r95 J hb (by omega) he hin hn hk hp1 hv1 hne (fun sz' pl' vs' J' hne' => hq _ _ _ _ _ _ _ _ _ _ _ _ _ J' hne'))
  refine gx_split J hb (by omega) h (fun C' R' cx' cy' dr' sz' lf' rt' lo' hi' pl' vs' J' S' => ?_)
  have vk : vp_in (nI k) 40 := vp_in_nI hk (by decide)
  have ek : hp (nI k).toNatClampNeg = nI e.1 := by rw [nI_clamp (by omega)]; exact hp1
  refine ⟨vk, vk, ?_⟩
  rw [ek, gf_sh5 (by omega), gf_a31 (by omega)]
  refine gx_bucketAt J'.1 J'.2.1 (by omega) (by omega) (fun b' hb' hin' => nm_r (nI_1 0) ?_)
  have h3 := S'.1 _ _ b' hb' hin hin'
  have h64' := J'.2.1.2.2.2.1
  have es' : gf_L sz' (nI b').toNatClampNeg = nI (sz' b') := gf_rd b' rfl (by omega)
  refine br_f (nI_ge (b := 40) (by omega) (by decide)) ⟨vp_in_nI (by omega) (by decide), ?_⟩
  rw [es']
  have hne2 : gf_NE (B + 1) sz' := by
    refine Or.inl (S'.2 fun b'' h1 h2 => ?_)
    rcases hne with g | g
    · exact g b'' h1
    · omega
  refine pk_eq (sz' b') 4 (fun h => absurd h (by omega)) (fun h => gx_r95 J' hb' (by omega) he hin' hn hk hp1 hv1 hne2 (fun sz'' pl'' vs'' J'' hne' => hq _ _ _ _ _ _ _ _ _ _ _ _ _ J'' hne'))
theorem gf_J_perm {L M : List (Nat × Int32)} (J : gf_J C R B cx cy dr sz lf rt lo hi pl vs L) (h : L.Perm M) : gf_J C R B cx cy dr sz lf rt lo hi pl vs M :=
  ⟨J.1, J.2.1, J.2.2.1, J.2.2.2.1.trans h, (h.map Prod.fst).nodup_iff.mp J.2.2.2.2⟩
theorem gx_r14 {post : SX → Prop} {HL : List (Nat × Int32)} (hA : gf_A (gf_QH hp hv) 0 HL) (ok : gf_ok HL)
    (hq : ∀ C' R' B' cx' cy' dr' sz' lf' rt' lo' hi' pl' vs', gf_J C' R' B' cx' cy' dr' sz' lf' rt' lo' hi' pl' vs' HL → gf_NE B' sz' → post (nI C', nI R', nI B', nI N, nI HL.length, gf_L cx', gf_L cy', gf_L dr', gf_L sz', gf_L lf', gf_L rt', gf_L lo', gf_L hi', gf_L pl', vs', hp, hv, sn)) :
    ∀ (Q P M : List (Nat × Int32)) (C R B : Nat) (cx cy dr sz lf rt lo hi pl : Nat → Nat) (vs : Nat → Int32), HL = P ++ Q → M.Perm P → gf_J C R B cx cy dr sz lf rt lo hi pl vs M → gf_NE B sz → ∀ n, Q.length < n → wX_rebuild_14 post n (nI P.length) (nI C) (nI R) (nI B) (nI N) (nI HL.length) (gf_L cx) (gf_L cy) (gf_L dr) (gf_L sz) (gf_L lf) (gf_L rt) (gf_L lo) (gf_L hi) (gf_L pl) vs hp hv sn := by
  have hl := ok.2.1
  intro Q
  induction Q with
  | nil =>
    intro P M C R B cx cy dr sz lf rt lo hi pl vs hP hM J hne n hn
    obtain ⟨m, rfl⟩ : ∃ m, n = m + 1 := ⟨n - 1, by omega⟩
    rw [List.append_nil] at hP
    subst hP
    exact br_t (nI_le (Nat.le_refl _) (by omega)) (hq _ _ _ _ _ _ _ _ _ _ _ _ _ (gf_J_perm J hM) hne)
  | cons e Q ih =>
    intro P M C R B cx cy dr sz lf rt lo hi pl vs hP hM J hne n hn
    obtain ⟨m, rfl⟩ : ∃ m, n = m + 1 := ⟨n - 1, by omega⟩
    rw [List.length_cons] at hn
    have len := gf_lenc hP
    have he := ok.2.2 e (gf_memc hP)
    have hat := gf_QH_at (hP ▸ hA)
    have vk : vp_in (nI P.length) 40 := vp_in_nI (by omega) (by decide)
    have ek : hp (nI P.length).toNatClampNeg = nI e.1 := by rw [nI_clamp (by omega)]; exact hat.1
    have hno : ¬ gf_has M e.1 := by
      rintro ⟨v, hv⟩
      exact (gf_split_keys ok.1 hP).1 (e.1, v) (hM.mem_iff.mp hv) rfl
    refine br_f (nI_ge (by omega) (by omega)) ⟨vk, vk, ?_⟩
    rw [ek, gf_sh5 (by omega), gf_a31 (by omega)]
    refine gx_bucketAt J.1 J.2.1 (by omega) (by omega) (fun b hb hin => ⟨2, ?_⟩)
    have := hM.length_eq
    refine gx_r46 J hb he hin hno (by omega) hat.1 hat.2 hne (by omega) (fun C' R' B' cx' cy' dr' sz' lf' rt' lo' hi' pl' vs' J' hne' => ?_)
    rw [show P.length + 1 = (P ++ [e]).length from by rw [List.length_append]; rfl]
    exact ih (P ++ [e]) (e :: M) C' R' B' cx' cy' dr' sz' lf' rt' lo' hi' pl' vs' (gf_asc hP) ((List.Perm.cons e hM).trans (List.perm_append_singleton e P).symm) J' hne' m (by omega)
theorem gf_all {L : List (Nat × Int32)} (h : ∀ e, e ∈ L → e.1 < 1024) : L.filter (gf_ins 0 1023) = L :=
  gf_filter_all (fun e he => gf_ins_t (by have := h e he; omega))
theorem gf_J_ok {L : List (Nat × Int32)} (J : gf_J C R B cx cy dr sz lf rt lo hi pl vs L) (hl : L.length ≤ 40) : gf_ok L := ⟨J.2.2.2.2, hl, fun e he => gf_J_1024 J he⟩
theorem gf_ok_perm {L M : List (Nat × Int32)} (h : M.Perm L) (ok : gf_ok L) : gf_ok M :=
  ⟨(h.map Prod.fst).nodup_iff.mpr ok.1, by rw [h.length_eq]; exact ok.2.1, fun e he => ok.2.2 e (h.mem_iff.mp he)⟩
theorem gx_rebuild {post : SX → Prop} {L : List (Nat × Int32)} (J : gf_J C R B cx cy dr sz lf rt lo hi pl vs L) (hl : L.length ≤ 40) (hq : ∀ (C' R' B' : Nat) (H' : Int32) (cx' cy' dr' sz' lf' rt' lo' hi' pl' : Nat → Nat) (vs' hp' hv' sn' : Nat → Int32), gf_J C' R' B' cx' cy' dr' sz' lf' rt' lo' hi' pl' vs' L → B' ≤ 40 → post (nI C', nI R', nI B', nI N, H', gf_L cx', gf_L cy', gf_L dr', gf_L sz', gf_L lf', gf_L rt', gf_L lo', gf_L hi', gf_L pl', vs', hp', hv', sn')) : wpX_rebuild post (nI C, nI R, nI B, nI N, H, gf_L cx, gf_L cy, gf_L dr, gf_L sz, gf_L lf, gf_L rt, gf_L lo, gf_L hi, gf_L pl, vs, hp, hv, sn) := by
  have ok := gf_J_ok J hl
  unfold wpX_rebuild
  refine gx_collect J hl (a := 0) (k := 1023) (by decide) (by decide) (by decide) (by decide) (fun HL hp' hv' sn' hA hp1 => ?_)
  rw [gf_all ok.2.2] at hp1
  have ok' := gf_ok_perm hp1 ok
  refine gx_reset ⟨HL.length + 1, ?_⟩
  refine gx_r14 hA ok' (fun C' R' B' cx' cy' dr' sz' lf' rt' lo' hi' pl' vs' J' hne => ?_) HL [] [] 1 1 1 _ _ _ _ _ _ _ _ pl vs rfl (List.Perm.refl _) (gf_J_reset J.1) (Or.inr rfl) (HL.length + 1) (by omega)
  have J'' := gf_J_perm J' hp1
  have := gf_NE_len J'' hne
  exact hq _ _ _ _ _ _ _ _ _ _ _ _ _ _ _ _ _ J'' (by omega)
theorem gx_i71 {post : SX → Prop} {b p : Nat} {v : Int32} {L : List (Nat × Int32)} (J : gf_J C R B cx cy dr sz lf rt lo hi pl vs L) (hb : b < B) (hs : sz b < 4) (hp1 : p < 1024) (hin : gf_In lf rt lo hi b (p / 32) (p % 32)) (hn : ¬ gf_has L p)
    (hq : ∀ (C' R' B' : Nat) (H' : Int32) (cx' cy' dr' sz' lf' rt' lo' hi' pl' : Nat → Nat) (vs' hp' hv' sn' : Nat → Int32), gf_J C' R' B' cx' cy' dr' sz' lf' rt' lo' hi' pl' vs' ((p, v) :: L) → post (nI C', nI R', nI B', nI N, H', gf_L cx', gf_L cy', gf_L dr', gf_L sz', gf_L lf', gf_L rt', gf_L lo', gf_L hi', gf_L pl', vs', hp', hv', sn')) : wX_insert_71 post (nI p) v (nI b) (nI C) (nI R) (nI B) (nI N) H (gf_L cx) (gf_L cy) (gf_L dr) (gf_L sz) (gf_L lf) (gf_L rt) (gf_L lo) (gf_L hi) (gf_L pl) vs hp hv sn := by
  have h64 := J.2.1.2.2.2.1
  have vb : vp_in (nI b) 64 := vp_in_nI (by omega) (by decide)
  have es : gf_L sz (nI b).toNatClampNeg = nI (sz b) := gf_rd b rfl (by omega)
  have vi : vp_in (nI (4 * b + sz b)) 256 := vp_in_nI (by omega) (by decide)
  unfold wX_insert_71
  rw [es, gf_4a]
  refine ⟨vb, vi, nm_r (e' := gf_L (gf_u pl (4 * b + sz b) p)) (gf_st _ _ rfl rfl (by omega)) ⟨vb, vi, nm_r (e' := upd vs (4 * b + sz b) v) (by rw [nI_clamp (by omega)]) ⟨vb, vb, nm_r (e' := gf_L (gf_u sz b (sz b + 1))) (gf_st _ _ rfl (nI_1 _) (by omega)) ?_⟩⟩⟩
  exact hq _ _ _ _ _ _ _ _ _ _ _ _ _ _ _ _ _ (gf_J_add J v hb hs hp1 hin hn)
theorem gx_i15a {post : SX → Prop} {b p t : Nat} {v : Int32} {L : List (Nat × Int32)} (J : gf_J C R B cx cy dr sz lf rt lo hi pl vs L) (hb : b < B) (hB : B < 64) (hp1 : p < 1024) (hin : gf_In lf rt lo hi b (p / 32) (p % 32)) (hn : ¬ gf_has L p) (ht : t < 2)
    (hq : ∀ (C' R' B' : Nat) (H' : Int32) (cx' cy' dr' sz' lf' rt' lo' hi' pl' : Nat → Nat) (vs' hp' hv' sn' : Nat → Int32), gf_J C' R' B' cx' cy' dr' sz' lf' rt' lo' hi' pl' vs' ((p, v) :: L) → post (nI C', nI R', nI B', nI N, H', gf_L cx', gf_L cy', gf_L dr', gf_L sz', gf_L lf', gf_L rt', gf_L lo', gf_L hi', gf_L pl', vs', hp', hv', sn')) : wX_insert_15 post (nI p) v 2 (nI b) (nI t) (nI C) (nI R) (nI B) (nI N) H (gf_L cx) (gf_L cy) (gf_L dr) (gf_L sz) (gf_L lf) (gf_L rt) (gf_L lo) (gf_L hi) (gf_L pl) vs hp hv sn := by
  have hs4 := (J.1 b).2.2.2.1
  have es : gf_L sz (nI b).toNatClampNeg = nI (sz b) := gf_rd b rfl (by omega)
  refine br_f (nI_ge (b := 64) (by omega) (by decide)) ⟨vp_in_nI (by omega) (by decide), ?_⟩
  rw [es]
  refine pk_eq (sz b) 4 (fun h => ?_) (fun h => gx_i71 J hb (by omega) hp1 hin hn hq)
  refine pk_eq B 64 (fun h => absurd h (by omega)) (fun _ => ?_)
  refine gx_split J hb hB h (fun C' R' cx' cy' dr' sz' lf' rt' lo' hi' pl' vs' J' S' => ?_)
  unfold wX_insert_53
  rw [gf_sh5 (by omega), gf_a31 (by omega)]
  refine gx_bucketAt J'.1 J'.2.1 (by omega) (by omega) (fun b' hb' hin' => nm_r (nI_1 t) ?_)
  have h3 := S'.1 _ _ b' hb' hin hin'
  have es' : gf_L sz' (nI b').toNatClampNeg = nI (sz' b') := gf_rd b' rfl (by omega)
  refine br_f (nI_ge (b := 64) (by omega) (by decide)) ⟨vp_in_nI (by omega) (by decide), ?_⟩
  rw [es']
  exact pk_eq (sz' b') 4 (fun h => absurd h (by omega)) (fun h => gx_i71 J' hb' (by omega) hp1 hin' hn hq)
theorem gx_insert {post : SX → Prop} {p : Nat} {v : Int32} {L : List (Nat × Int32)} (J : gf_J C R B cx cy dr sz lf rt lo hi pl vs L) (hl : L.length ≤ 40) (hp1 : p < 1024) (hn : ¬ gf_has L p)
    (hq : ∀ (C' R' B' : Nat) (H' : Int32) (cx' cy' dr' sz' lf' rt' lo' hi' pl' : Nat → Nat) (vs' hp' hv' sn' : Nat → Int32), gf_J C' R' B' cx' cy' dr' sz' lf' rt' lo' hi' pl' vs' ((p, v) :: L) → post (nI C', nI R', nI B', nI N, H', gf_L cx', gf_L cy', gf_L dr', gf_L sz', gf_L lf', gf_L rt', gf_L lo', gf_L hi', gf_L pl', vs', hp', hv', sn')) : wpX_insert post (nI C, nI R, nI B, nI N, H, gf_L cx, gf_L cy, gf_L dr, gf_L sz, gf_L lf, gf_L rt, gf_L lo, gf_L hi, gf_L pl, vs, hp, hv, sn) (nI p) v := by
  unfold wpX_insert
  rw [gf_sh5 (by omega), gf_a31 (by omega)]
  refine gx_bucketAt J.1 J.2.1 (by omega) (by omega) (fun b hb hin => ?_)
  have h64 := J.2.1.2.2.2.1
  by_cases hB : B < 64
  · exact ⟨2, gx_i15a (t := 0) J hb hB hp1 hin hn (by omega) hq⟩
  · have hs4 := (J.1 b).2.2.2.1
    have es : gf_L sz (nI b).toNatClampNeg = nI (sz b) := gf_rd b rfl (by omega)
    refine ⟨3, br_f (by decide) ⟨vp_in_nI (by omega) (by decide), ?_⟩⟩
    rw [es]
    refine pk_eq (sz b) 4 (fun h => ?_) (fun h => gx_i71 J hb (by omega) hp1 hin hn hq)
    refine pk_eq B 64 (fun h => ?_) (fun z => absurd (by omega) z)
    refine gx_rebuild J hl (fun C' R' B' H' cx' cy' dr' sz' lf' rt' lo' hi' pl' vs' hp' hv' sn' J' hB' => ?_)
    unfold wX_insert_53
    rw [gf_sh5 (by omega), gf_a31 (by omega)]
    exact gx_bucketAt J'.1 J'.2.1 (by omega) (by omega) (fun b' hb' hin' => nm_r (nI_1 0) (gx_i15a J' hb' (by omega) hp1 hin' hn (by omega) hq))
end XI
end
section
/-! the component's methods over the list -/
def gf_XI (u : SX) (L : List (Nat × Int32)) : Prop := L.length ≤ 40 ∧ ∃ (C R B : Nat) (H : Int32) (cx cy dr sz lf rt lo hi pl : Nat → Nat) (vs hp hv sn : Nat → Int32), u = (nI C, nI R, nI B, nI L.length, H, gf_L cx, gf_L cy, gf_L dr, gf_L sz, gf_L lf, gf_L rt, gf_L lo, gf_L hi, gf_L pl, vs, hp, hv, sn) ∧ gf_J C R B cx cy dr sz lf rt lo hi pl vs L
theorem gf_XI_mk {L : List (Nat × Int32)} {C R B : Nat} {H : Int32} {cx cy dr sz lf rt lo hi pl : Nat → Nat} {vs hp hv sn : Nat → Int32} (hl : L.length ≤ 40) (J : gf_J C R B cx cy dr sz lf rt lo hi pl vs L) : gf_XI (nI C, nI R, nI B, nI L.length, H, gf_L cx, gf_L cy, gf_L dr, gf_L sz, gf_L lf, gf_L rt, gf_L lo, gf_L hi, gf_L pl, vs, hp, hv, sn) L :=
  ⟨hl, C, R, B, H, cx, cy, dr, sz, lf, rt, lo, hi, pl, vs, hp, hv, sn, rfl, J⟩
theorem gf_XI_mk' {L : List (Nat × Int32)} {C R B N : Nat} {H : Int32} {cx cy dr sz lf rt lo hi pl : Nat → Nat} {vs hp hv sn : Nat → Int32} (hl : L.length ≤ 40) (hN : N = L.length) (J : gf_J C R B cx cy dr sz lf rt lo hi pl vs L) : gf_XI (nI C, nI R, nI B, nI N, H, gf_L cx, gf_L cy, gf_L dr, gf_L sz, gf_L lf, gf_L rt, gf_L lo, gf_L hi, gf_L pl, vs, hp, hv, sn) L := by
  subst hN
  exact gf_XI_mk hl J
theorem gf_XI_el {u : SX} {L : List (Nat × Int32)} {P : SX → Prop} (I : gf_XI u L) (h : L.length ≤ 40 → ∀ (C R B : Nat) (H : Int32) (cx cy dr sz lf rt lo hi pl : Nat → Nat) (vs hp hv sn : Nat → Int32), gf_J C R B cx cy dr sz lf rt lo hi pl vs L → P (nI C, nI R, nI B, nI L.length, H, gf_L cx, gf_L cy, gf_L dr, gf_L sz, gf_L lf, gf_L rt, gf_L lo, gf_L hi, gf_L pl, vs, hp, hv, sn)) : P u := by
  obtain ⟨hl, C, R, B, H, cx, cy, dr, sz, lf, rt, lo, hi, pl, vs, hp, hv, sn, e, J⟩ := I
  rw [e]
  exact h hl C R B H cx cy dr sz lf rt lo hi pl vs hp hv sn J
theorem gf_XI_ok {u : SX} {L : List (Nat × Int32)} (I : gf_XI u L) : gf_ok L :=
  gf_XI_el (P := fun _ => gf_ok L) I (fun hl _ _ _ _ _ _ _ _ _ _ _ _ _ _ _ _ _ J => gf_J_ok J hl)
theorem gf_rm_perm {L : List (Nat × Int32)} {e : Nat × Int32} (hn : (L.map Prod.fst).Nodup) (he : e ∈ L) : L.Perm (e :: L.filter (fun x => decide (x.1 ≠ e.1))) := by
  obtain ⟨P, Q, hP⟩ := List.append_of_mem he
  rw [gf_rm hn hP, hP]
  exact List.perm_middle
section XM
variable {u : SX} {L : List (Nat × Int32)}
theorem gx_put_no {post : Int32 → SX → Prop} {x y val : Int32} (I : gf_XI u L) (h : ¬ gf_Pl x y) (hp : post (-1) u) : wpX_put post u x y val := by
  refine gf_XI_el (P := fun u => post (-1) u → wpX_put post u x y val) I (fun hl C R B H cx cy dr sz lf rt lo hi pl vs hp hv sn J hq => ?_) hp
  unfold wpX_put
  exact gx_isPlace x y (fun a b ha hb hx hy => absurd ⟨⟨a, ha, hx⟩, ⟨b, hb, hy⟩⟩ h) (fun _ => br_t rfl hq)
theorem gx_put_yes {post : Int32 → SX → Prop} {a b : Nat} {val : Int32} (I : gf_XI u L) (ha : a < 32) (hb : b < 32)
    (h0 : gf_has L (32 * a + b) → ∀ u', gf_XI u' (gf_setL L (32 * a + b) val) → post 0 u')
    (h1 : ¬ gf_has L (32 * a + b) → L.length = 40 → post (-2) u)
    (h2 : ¬ gf_has L (32 * a + b) → L.length < 40 → ∀ u', gf_XI u' (L ++ [(32 * a + b, val)]) → post 1 u') : wpX_put post u (nI a) (nI b) val := by
  refine gf_XI_el (P := fun u => (¬ gf_has L (32 * a + b) → L.length = 40 → post (-2) u) → wpX_put post u (nI a) (nI b) val) I (fun hl C R B H cx cy dr sz lf rt lo hi pl vs hp hv sn J h1 => ?_) h1
  unfold wpX_put
  refine gx_isPlace (nI a) (nI b) (fun _ _ _ _ _ _ => br_f (by decide) ?_) (fun z => absurd ⟨⟨a, ha, rfl⟩, ⟨b, hb, rfl⟩⟩ z)
  refine gx_find J ha hb (fun b' k hb' hk he => ?_) (fun hn => br_t (by decide) ?_)
  · obtain ⟨g1, g2, g3, g4⟩ := gf_J_bnd J hb' hk
    refine br_f (nI_pos (by omega)) ⟨vp_in_nI g1 (by decide), nm_r (e' := upd vs (4 * b' + k) val) (by rw [nI_clamp (by omega)]) ?_⟩
    have J' := gf_J_set J hb' hk val
    rw [he] at J'
    have hat := gf_J_at J hb' hk
    rw [he] at hat
    exact h0 ⟨_, hat⟩ _ (gf_XI_mk' (by rw [gf_setL, List.length_map]; exact hl) (by rw [gf_setL, List.length_map]) J')
  · refine pk_eq L.length 40 (fun h => h1 hn h) (fun h => ?_)
    rw [gf_32a]
    refine gx_insert J hl (by omega) hn (fun C' R' B' H' cx' cy' dr' sz' lf' rt' lo' hi' pl' vs' hp' hv' sn' J' => nm_r (nI_1 _) ?_)
    exact h2 hn (by omega) _ (gf_XI_mk' (by rw [List.length_append, List.length_cons, List.length_nil]; omega) (by rw [List.length_append]; rfl) (gf_J_perm J' (List.perm_append_singleton _ _).symm))
theorem gx_remove_no {post : Int32 → SX → Prop} {x y : Int32} (I : gf_XI u L) (h : ¬ gf_Pl x y) (hp : post (-1) u) : wpX_remove post u x y := by
  refine gf_XI_el (P := fun u => post (-1) u → wpX_remove post u x y) I (fun hl C R B H cx cy dr sz lf rt lo hi pl vs hp hv sn J hq => ?_) hp
  unfold wpX_remove
  exact gx_isPlace x y (fun a b ha hb hx hy => absurd ⟨⟨a, ha, hx⟩, ⟨b, hb, hy⟩⟩ h) (fun _ => br_t rfl hq)
theorem gx_remove_yes {post : Int32 → SX → Prop} {a b : Nat} (I : gf_XI u L) (ha : a < 32) (hb : b < 32)
    (h0 : gf_has L (32 * a + b) → ∀ u', gf_XI u' (L.filter (fun x => decide (x.1 ≠ 32 * a + b))) → post 0 u')
    (h1 : ¬ gf_has L (32 * a + b) → post (-2) u) : wpX_remove post u (nI a) (nI b) := by
  refine gf_XI_el (P := fun u => (¬ gf_has L (32 * a + b) → post (-2) u) → wpX_remove post u (nI a) (nI b)) I (fun hl C R B H cx cy dr sz lf rt lo hi pl vs hp hv sn J h1 => ?_) h1
  unfold wpX_remove
  refine gx_isPlace (nI a) (nI b) (fun _ _ _ _ _ _ => br_f (by decide) ?_) (fun z => absurd ⟨⟨a, ha, rfl⟩, ⟨b, hb, rfl⟩⟩ z)
  refine gx_find J ha hb (fun b' k hb' hk he => ?_) (fun hn => br_f (by decide) (h1 hn))
  obtain ⟨g1, g2, g3, g4⟩ := gf_J_bnd J hb' hk
  have hat := gf_J_at J hb' hk
  have pm := gf_rm_perm J.2.2.2.2 hat
  have len := pm.length_eq
  rw [List.length_cons] at len
  refine br_t (nI_pos' (by omega)) (gx_drop J hb' hk (by omega) ?_)
  have J' := gf_J_drop J hb' hk pm
  rw [he] at hat J' len
  have len' : L.length = (L.filter (fun x => decide (x.1 ≠ 32 * a + b))).length + 1 := len
  exact h0 ⟨_, hat⟩ _ (gf_XI_mk' (Nat.le_trans (List.length_filter_le ..) hl) (by omega) J')
theorem gx_has_no {post : Int32 → Prop} {x y : Int32} (I : gf_XI u L) (h : ¬ gf_Pl x y) (hp : post (-1)) : wpX_has post u x y := by
  refine gf_XI_el (P := fun u => wpX_has post u x y) I (fun hl C R B H cx cy dr sz lf rt lo hi pl vs hp hv sn J => ?_)
  unfold wpX_has
  exact gx_isPlace x y (fun a b ha hb hx hy => absurd ⟨⟨a, ha, hx⟩, ⟨b, hb, hy⟩⟩ h) (fun _ => br_t rfl ‹_›)
theorem gx_has_yes {post : Int32 → Prop} {a b : Nat} (I : gf_XI u L) (ha : a < 32) (hb : b < 32) (h0 : gf_has L (32 * a + b) → post 1) (h1 : ¬ gf_has L (32 * a + b) → post 0) : wpX_has post u (nI a) (nI b) := by
  refine gf_XI_el (P := fun u => wpX_has post u (nI a) (nI b)) I (fun hl C R B H cx cy dr sz lf rt lo hi pl vs hp hv sn J => ?_)
  unfold wpX_has
  refine gx_isPlace (nI a) (nI b) (fun _ _ _ _ _ _ => br_f (by decide) ?_) (fun z => absurd ⟨⟨a, ha, rfl⟩, ⟨b, hb, rfl⟩⟩ z)
  refine gx_find J ha hb (fun b' k hb' hk he => ?_) (fun hn => br_t (by decide) (h1 hn))
  obtain ⟨g1, g2, g3, g4⟩ := gf_J_bnd J hb' hk
  have hat := gf_J_at J hb' hk
  rw [he] at hat
  exact br_f (nI_pos (by omega)) (h0 ⟨_, hat⟩)
theorem gx_valueAt_no {post : Int32 → Prop} {x y : Int32} (I : gf_XI u L) (h : ¬ gf_Pl x y) (hp : post 0) : wpX_valueAt post u x y := by
  refine gf_XI_el (P := fun u => wpX_valueAt post u x y) I (fun hl C R B H cx cy dr sz lf rt lo hi pl vs hp hv sn J => ?_)
  unfold wpX_valueAt
  exact gx_isPlace x y (fun a b ha hb hx hy => absurd ⟨⟨a, ha, hx⟩, ⟨b, hb, hy⟩⟩ h) (fun _ => br_t rfl ‹_›)
theorem gx_valueAt_yes {post : Int32 → Prop} {a b : Nat} (I : gf_XI u L) (ha : a < 32) (hb : b < 32) (h0 : ∀ val, (32 * a + b, val) ∈ L → post val) (h1 : ¬ gf_has L (32 * a + b) → post 0) : wpX_valueAt post u (nI a) (nI b) := by
  refine gf_XI_el (P := fun u => wpX_valueAt post u (nI a) (nI b)) I (fun hl C R B H cx cy dr sz lf rt lo hi pl vs hp hv sn J => ?_)
  unfold wpX_valueAt
  refine gx_isPlace (nI a) (nI b) (fun _ _ _ _ _ _ => br_f (by decide) ?_) (fun z => absurd ⟨⟨a, ha, rfl⟩, ⟨b, hb, rfl⟩⟩ z)
  refine gx_find J ha hb (fun b' k hb' hk he => ?_) (fun hn => br_f (by decide) (h1 hn))
  obtain ⟨g1, g2, g3, g4⟩ := gf_J_bnd J hb' hk
  have hat := gf_J_at J hb' hk
  rw [he] at hat
  refine br_t (nI_pos' (by omega)) ⟨vp_in_nI g1 (by decide), ?_⟩
  rw [nI_clamp (by omega)]
  exact h0 _ hat
theorem gx_size {post : Int32 → Prop} (I : gf_XI u L) (hp : post (nI L.length)) : wpX_size post u :=
  gf_XI_el (P := fun u => wpX_size post u) I (fun hl C R B H cx cy dr sz lf rt lo hi pl vs _ hv sn J => hp)
end XM
/-! clear -/
section XCL
variable {C R B N : Nat} {H : Int32} {cx cy dr sz lf rt lo hi pl : Nat → Nat} {vs hp hv sn : Nat → Int32}
theorem gx_clear18 {post : Int32 → SX → Prop} {HL rest : List (Nat × Int32)} (hA : gf_A (gf_QH hp hv) 0 HL) (hl : HL.length ≤ 40)
    (hq : ∀ sz' pl' vs' M, gf_J C R B cx cy dr sz' lf rt lo hi pl' vs' M → M.Perm rest → post (nI HL.length) (nI C, nI R, nI B, nI M.length, nI HL.length, gf_L cx, gf_L cy, gf_L dr, gf_L sz', gf_L lf, gf_L rt, gf_L lo, gf_L hi, gf_L pl', vs', hp, hv, sn)) :
    ∀ (Q P M : List (Nat × Int32)) (sz pl : Nat → Nat) (vs : Nat → Int32), HL = P ++ Q → gf_J C R B cx cy dr sz lf rt lo hi pl vs M → M.Perm (Q ++ rest) → ∀ n, Q.length < n → wX_clear_18 post n (nI P.length) (nI C) (nI R) (nI B) (nI M.length) (nI HL.length) (gf_L cx) (gf_L cy) (gf_L dr) (gf_L sz) (gf_L lf) (gf_L rt) (gf_L lo) (gf_L hi) (gf_L pl) vs hp hv sn := by
  intro Q
  induction Q with
  | nil =>
    intro P M sz pl vs hP J hM n hn
    obtain ⟨m, rfl⟩ : ∃ m, n = m + 1 := ⟨n - 1, by omega⟩
    rw [List.append_nil] at hP
    subst hP
    exact br_t (nI_le (Nat.le_refl _) (by omega)) (hq _ _ _ M J hM)
  | cons e Q ih =>
    intro P M sz pl vs hP J hM n hn
    obtain ⟨m, rfl⟩ : ∃ m, n = m + 1 := ⟨n - 1, by omega⟩
    rw [List.length_cons] at hn
    have len := gf_lenc hP
    have heM : e ∈ M := hM.mem_iff.mpr (List.mem_append_left _ (List.mem_cons_self ..))
    have he := gf_J_1024 J heM
    have hat := gf_QH_at (hP ▸ hA)
    have vk : vp_in (nI P.length) 40 := vp_in_nI (by omega) (by decide)
    have ek : hp (nI P.length).toNatClampNeg = nI e.1 := by rw [nI_clamp (by omega)]; exact hat.1
    have ee : 32 * (e.1 / 32) + e.1 % 32 = e.1 := by omega
    refine br_f (nI_ge (by omega) (by omega)) ⟨vk, vk, ?_⟩
    rw [ek, gf_sh5 (by omega), gf_a31 (by omega)]
    refine gx_find J (by omega) (by omega) (fun b k hb hk hpl => ?_) (fun hn => absurd ⟨e.2, by rw [ee]; exact heM⟩ hn)
    rw [ee] at hpl
    have hat2 := gf_J_at J hb hk
    have e2 : (pl (4 * b + k), vs (4 * b + k)) = e := gf_key J.2.2.2.2 hat2 heM hpl
    obtain ⟨M', hM'⟩ : ∃ M', M.Perm (e :: M') := ⟨_, gf_rm_perm J.2.2.2.2 heM⟩
    have len2 := hM'.length_eq
    rw [List.length_cons] at len2
    refine gx_drop J hb hk (by omega) (nm_r (gf_snl P e) ?_)
    have J' := gf_J_drop J hb hk (M := M') (by rw [e2]; exact hM')
    have := ih (P ++ [e]) M' _ _ _ (gf_asc hP) J' (List.Perm.cons_inv (hM'.symm.trans hM)) m (by omega)
    rw [show M.length - 1 = M'.length from by omega]
    exact this
end XCL
section XM2
variable {u : SX} {L : List (Nat × Int32)}
theorem gx_clear_no {post : Int32 → SX → Prop} {x y : Int32} (I : gf_XI u L) (h : ¬ gf_Re x y) (hp : post (-1) u) : wpX_clear post u x y := by
  refine gf_XI_el (P := fun u => post (-1) u → wpX_clear post u x y) I (fun hl C R B H cx cy dr sz lf rt lo hi pl vs hp hv sn J hq => ?_) hp
  unfold wpX_clear
  exact gx_isRectangle x y (fun a b ha hb hx hy g1 g2 => absurd ⟨a, b, ha, hb, hx, hy, g1, g2⟩ h) (fun _ => br_t rfl hq)
theorem gx_clear_yes {post : Int32 → SX → Prop} {a k : Nat} (I : gf_XI u L) (ha : a < 1024) (hk : k < 1024) (g1 : a / 32 ≤ k / 32) (g2 : a % 32 ≤ k % 32)
    (h0 : ∀ u', gf_XI u' (L.filter (fun e => !gf_ins a k e)) → post (nI (L.countP (gf_ins a k))) u') : wpX_clear post u (nI a) (nI k) := by
  refine gf_XI_el (P := fun u => wpX_clear post u (nI a) (nI k)) I (fun hl C R B H cx cy dr sz lf rt lo hi pl vs hp hv sn J => ?_)
  unfold wpX_clear
  refine gx_isRectangle (nI a) (nI k) (fun _ _ _ _ _ _ _ _ => br_f (by decide) ?_) (fun z => absurd ⟨a, k, ha, hk, rfl, rfl, g1, g2⟩ z)
  refine gx_collect J hl ha hk g1 g2 (fun HL hp' hv' sn' hA hperm => ⟨HL.length + 1, ?_⟩)
  have hlen := hperm.length_eq
  rw [← List.countP_eq_length_filter] at hlen
  have hc := List.countP_le_length (p := gf_ins a k) (l := L)
  refine gx_clear18 (rest := L.filter (fun e => !gf_ins a k e)) hA (by omega) (fun sz' pl' vs' M J' hM => ?_) HL [] L sz pl vs rfl J ?_ (HL.length + 1) (by omega)
  · rw [hlen]
    exact h0 _ (gf_XI_mk' (Nat.le_trans (List.length_filter_le ..) hl) hM.length_eq (gf_J_perm J' hM))
  · exact (List.filter_append_perm (gf_ins a k) L).symm.trans (hperm.symm.append_right _)
theorem gx_move_no {post : Int32 → SX → Prop} {x y : Int32} (I : gf_XI u L) (h : ¬ (gf_Co 1024 x ∧ gf_Co 1024 y)) (hp : post (-1) u) : wpX_move post u x y := by
  refine gf_XI_el (P := fun u => post (-1) u → wpX_move post u x y) I (fun hl C R B H cx cy dr sz lf rt lo hi pl vs hp hv sn J hq => ?_) hp
  unfold wpX_move
  rcases pk_ix x (n := 1024) (by decide) with z | z | ⟨a, ha, rfl⟩
  · exact br_t z hq
  · exact br_f (gf_nneg (by decide) z) (br_t (gf_l1023 z) hq)
  · refine br_f (nI_pos (by omega)) (br_f (nI_nlt (a := 1023) (by omega) (by decide)) ?_)
    rcases pk_ix y (n := 1024) (by decide) with z | z | ⟨b, hb, rfl⟩
    · exact br_t z hq
    · exact br_f (gf_nneg (by decide) z) (br_f (gf_n1023 z) hq)
    · exact absurd ⟨⟨a, ha, rfl⟩, ⟨b, hb, rfl⟩⟩ h
theorem gx_move_yes {post : Int32 → SX → Prop} {p q : Nat} (I : gf_XI u L) (hp : p < 1024) (hq : q < 1024)
    (h1 : ¬ gf_has L p → post (-2) u) (h2 : gf_has L p → gf_has L q → post (-3) u) (h3 : gf_has L p → ¬ gf_has L q → ∀ u', gf_XI u' (gf_mvL L p q) → post 0 u') : wpX_move post u (nI p) (nI q) := by
  refine gf_XI_el (P := fun u => (¬ gf_has L p → post (-2) u) → (gf_has L p → gf_has L q → post (-3) u) → wpX_move post u (nI p) (nI q)) I (fun hl C R B H cx cy dr sz lf rt lo hi pl vs hp' hv sn J h1 h2 => ?_) h1 h2
  unfold wpX_move
  refine br_f (nI_pos (by omega)) (br_f (nI_nlt (a := 1023) (by omega) (by decide)) (br_f (nI_pos (by omega)) (br_t (nI_le (b := 1023) (by omega) (by decide)) ?_)))
  rw [gf_sh5 (n := p) (by omega), gf_a31 (n := p) (by omega), gf_sh5 (n := q) (by omega), gf_a31 (n := q) (by omega)]
  have ep : 32 * (p / 32) + p % 32 = p := by omega
  have eq : 32 * (q / 32) + q % 32 = q := by omega
  refine gx_find J (by omega) (by omega) (fun b k hb hk he => ?_) (fun hn => br_f (by decide) (h1 (by rw [ep] at hn; exact hn)))
  rw [ep] at he
  obtain ⟨g1, g2, g3, g4⟩ := gf_J_bnd J hb hk
  have hat := gf_J_at J hb hk
  have hasp : gf_has L p := ⟨_, by rw [← he]; exact hat⟩
  refine br_t (nI_pos' (by omega)) ?_
  refine gx_find J (by omega) (by omega) (fun b' k' hb' hk' he' => ?_) (fun hn => ?_)
  · rw [eq] at he'
    obtain ⟨g1', _, _, _⟩ := gf_J_bnd J hb' hk'
    exact br_f (nI_pos (by omega)) (h2 hasp ⟨_, by rw [← he']; exact gf_J_at J hb' hk'⟩)
  · rw [eq] at hn
    have pm := gf_rm_perm J.2.2.2.2 hat
    have len := pm.length_eq
    rw [List.length_cons] at len
    refine br_t (by decide) ⟨vp_in_nI g1 (by decide), nm_r (e' := vs (4 * b + k)) (by rw [nI_clamp (by omega)]) ?_⟩
    refine gx_drop J hb hk (by omega) ?_
    have J' := gf_J_drop J hb hk pm
    have hn' : ¬ gf_has (L.filter (fun x => decide (x.1 ≠ (pl (4 * b + k), vs (4 * b + k)).1))) q := fun ⟨v, hv⟩ => hn ⟨v, (List.mem_filter.mp hv).1⟩
    refine gx_insert J' (by omega) hq hn' (fun C' R' B' H' cx' cy' dr' sz' lf' rt' lo' hi' pl' vs' hp' hv' sn' J'' => nm_r (nI_1 _) ?_)
    have pm2 := gf_mvL_perm (q := q) J.2.2.2.2 hat
    have J3 := gf_J_perm J'' pm2.symm
    rw [he] at J3
    exact h3 hasp hn _ (gf_XI_mk' (by rw [gf_mvL, List.length_map]; exact hl) (by rw [gf_mvL, List.length_map]; omega) J3)
end XM2
end
section
/-! the component's methods over its hits -/
theorem gf_add_comm3 (z x y : Int32) : z + x + y = z + y + x := by rw [Int32.add_assoc, Int32.add_comm x, ← Int32.add_assoc]
theorem gf_mx_int (s v : Int32) : (gf_mx s v).toInt = if v.toInt ≤ s.toInt then s.toInt else v.toInt := by
  unfold gf_mx
  by_cases h : v ≤ s
  · rw [if_pos h, if_pos (Int32.le_iff_toInt_le.mp h)]
  · rw [if_neg h, if_neg (fun z => h (Int32.le_iff_toInt_le.mpr z))]
theorem gf_mx_comm (z x y : Int32) : gf_mx (gf_mx z x) y = gf_mx (gf_mx z y) x := by
  apply Int32.toInt_inj.mp
  rw [gf_mx_int, gf_mx_int, gf_mx_int, gf_mx_int]
  generalize x.toInt = a
  generalize y.toInt = b
  generalize z.toInt = c
  by_cases h1 : a ≤ c
  · by_cases h2 : b ≤ c
    · rw [if_pos h1, if_pos h2, if_pos h1]
    · rw [if_pos h1, if_neg h2, if_pos (by omega)]
  · by_cases h2 : b ≤ c
    · rw [if_neg h1, if_pos h2, if_pos (by omega), if_neg h1]
    · rw [if_neg h1, if_neg h2]
      by_cases h3 : b ≤ a
      · rw [if_pos h3]
        by_cases h4 : a ≤ b
        · rw [if_pos h4]; omega
        · rw [if_neg h4]
      · rw [if_neg h3, if_pos (by omega)]
section XH
variable {C R B N : Nat} {H : Int32} {cx cy dr sz lf rt lo hi pl : Nat → Nat} {vs hp hv sn : Nat → Int32}
theorem gx_sum21 {post : Int32 → SX → Prop} {HL : List (Nat × Int32)} (hA : gf_A (gf_QH hp hv) 0 HL) (hl : HL.length ≤ 40) :
    ∀ (Q P : List (Nat × Int32)) (acc : Int32), HL = P ++ Q → post (Q.foldl (fun s e => s + e.2) acc) (nI C, nI R, nI B, nI N, nI HL.length, gf_L cx, gf_L cy, gf_L dr, gf_L sz, gf_L lf, gf_L rt, gf_L lo, gf_L hi, gf_L pl, vs, hp, hv, sn) → ∀ n, Q.length < n → wX_sum_21 post (nI C) (nI R) (nI B) (nI N) (nI HL.length) (gf_L cx) (gf_L cy) (gf_L dr) (gf_L sz) (gf_L lf) (gf_L rt) (gf_L lo) (gf_L hi) (gf_L pl) vs hp hv sn n acc (nI P.length) := by
  intro Q
  induction Q with
  | nil =>
    intro P acc hP hq n hn
    obtain ⟨m, rfl⟩ : ∃ m, n = m + 1 := ⟨n - 1, by omega⟩
    rw [List.append_nil] at hP
    subst hP
    exact br_t (nI_le (Nat.le_refl _) (by omega)) hq
  | cons e Q ih =>
    intro P acc hP hq n hn
    obtain ⟨m, rfl⟩ : ∃ m, n = m + 1 := ⟨n - 1, by omega⟩
    rw [List.length_cons] at hn
    have len := gf_lenc hP
    have hat := gf_QH_at (hP ▸ hA)
    exact br_f (nI_ge (by omega) (by omega)) ⟨vp_in_nI (by omega) (by decide), nm_r (e' := acc + e.2) (by rw [nI_clamp (by omega), hat.2]) (nm_r (gf_snl P e) (ih (P ++ [e]) _ (gf_asc hP) hq m (by omega)))⟩
theorem gx_most22 {post : Int32 → SX → Prop} {HL : List (Nat × Int32)} (hA : gf_A (gf_QH hp hv) 0 HL) (hl : HL.length ≤ 40) :
    ∀ (Q P : List (Nat × Int32)) (acc : Int32), HL = P ++ Q → post (Q.foldl (fun s e => gf_mx s e.2) acc) (nI C, nI R, nI B, nI N, nI HL.length, gf_L cx, gf_L cy, gf_L dr, gf_L sz, gf_L lf, gf_L rt, gf_L lo, gf_L hi, gf_L pl, vs, hp, hv, sn) → ∀ n, Q.length < n → wX_most_22 post (nI C) (nI R) (nI B) (nI N) (nI HL.length) (gf_L cx) (gf_L cy) (gf_L dr) (gf_L sz) (gf_L lf) (gf_L rt) (gf_L lo) (gf_L hi) (gf_L pl) vs hp hv sn n acc (nI P.length) := by
  intro Q
  induction Q with
  | nil =>
    intro P acc hP hq n hn
    obtain ⟨m, rfl⟩ : ∃ m, n = m + 1 := ⟨n - 1, by omega⟩
    rw [List.append_nil] at hP
    subst hP
    exact br_t (nI_le (Nat.le_refl _) (by omega)) hq
  | cons e Q ih =>
    intro P acc hP hq n hn
    obtain ⟨m, rfl⟩ : ∃ m, n = m + 1 := ⟨n - 1, by omega⟩
    rw [List.length_cons] at hn
    have len := gf_lenc hP
    have hat := gf_QH_at (hP ▸ hA)
    have vi : vp_in (nI P.length) 40 := vp_in_nI (by omega) (by decide)
    rw [List.foldl_cons] at hq
    refine br_f (nI_ge (by omega) (by omega)) ⟨vi, ?_⟩
    rw [nI_clamp (by omega), hat.2]
    refine br_c (fun h => ?_) (fun h => ⟨vi, ?_⟩)
    · rw [gf_mx, if_pos h] at hq
      exact nm_r (gf_snl P e) (ih (P ++ [e]) acc (gf_asc hP) hq m (by omega))
    · rw [gf_mx, if_neg h] at hq
      exact nm_e (nm_r (gf_snl P e) (ih (P ++ [e]) e.2 (gf_asc hP) hq m (by omega)))
theorem gx_distance {post : Int32 → Prop} {p x y : Nat} (hp1 : p < 1024) (hq : post (nI (gf_d p x y))) : wpX_distance post (nI p) (nI x) (nI y) := by
  unfold wpX_distance
  rw [gf_sh5 (by omega), gf_a31 (by omega)]
  refine nm_e (nm_e ?_)
  rw [gf_sq, gf_sq, nI_add]
  exact hq
theorem gf_lt_of {HL P Q : List (Nat × Int32)} {e : Nat × Int32} (hs : HL.Pairwise (fun x y => x.1 < y.1)) (hP : HL = P ++ e :: Q) : (∀ x, x ∈ P → x.1 < e.1) ∧ (∀ x, x ∈ Q → e.1 < x.1) := by
  rw [hP, List.pairwise_append, List.pairwise_cons] at hs
  exact ⟨fun x hx => hs.2.2 x hx e (List.mem_cons_self ..), hs.2.1.1⟩
theorem gx_fro23 {post : Int32 → SX → Prop} {HL : List (Nat × Int32)} (hA : gf_A (gf_QH hp hv) 0 HL) (ok : gf_ok HL) (hs : HL.Pairwise (fun x y => x.1 < y.1)) (hq : post (nI (HL.countP (gf_fr HL))) (nI C, nI R, nI B, nI N, nI HL.length, gf_L cx, gf_L cy, gf_L dr, gf_L sz, gf_L lf, gf_L rt, gf_L lo, gf_L hi, gf_L pl, vs, hp, hv, sn)) :
    ∀ (m : Nat) (P Q : List (Nat × Int32)) (d : Nat), P.length = m → HL = P ++ Q → gf_mB (fun e => e.1 % 32) Q d → ∀ n, m < n → wX_frontier_23 post (nI C) (nI R) (nI B) (nI N) (nI HL.length) (gf_L cx) (gf_L cy) (gf_L dr) (gf_L sz) (gf_L lf) (gf_L rt) (gf_L lo) (gf_L hi) (gf_L pl) vs hp hv sn n (nI (Q.countP (gf_fr HL))) (nI d + (-1)) (nI m + (-1)) := by
  have hl := ok.2.1
  intro m
  induction m with
  | zero =>
    intro P Q d hm hP hd n hn
    obtain ⟨k, rfl⟩ : ∃ k, n = k + 1 := ⟨n - 1, by omega⟩
    have e1 : P = [] := List.eq_nil_of_length_eq_zero hm
    rw [e1, List.nil_append] at hP
    rw [← hP]
    exact br_t (by decide) hq
  | succ m ih =>
    intro P Q d hm hP hd n hn
    obtain ⟨k, rfl⟩ : ∃ k, n = k + 1 := ⟨n - 1, by omega⟩
    obtain ⟨P0, e, rfl⟩ : ∃ P0 e, P = P0 ++ [e] := ⟨P.dropLast, P.getLast (by intro z; rw [z] at hm; cases hm), (List.dropLast_concat_getLast _).symm⟩
    have hm0 : P0.length = m := by rw [List.length_append, List.length_cons, List.length_nil] at hm; omega
    have hP' : HL = P0 ++ e :: Q := by rw [hP, List.append_assoc]; rfl
    have len := gf_lenc hP'
    have he := ok.2.2 e (gf_memc hP')
    have hat := gf_QH_at (hP' ▸ hA)
    rw [hm0] at hat
    have vi : vp_in (nI m) 40 := vp_in_nI (by omega) (by decide)
    have ey : hp (nI m).toNatClampNeg &&& 31 = nI (e.1 % 32) := by rw [nI_clamp (by omega), hat.1]; exact gf_a31 (by omega)
    have d32 := hd.1
    obtain ⟨lt1, lt2⟩ := gf_lt_of hs hP'
    have mB : ∀ d', gf_mB (fun e => e.1 % 32) (Q ++ [e]) d' → gf_mB (fun e => e.1 % 32) (e :: Q) d' := by
      intro d' h
      have mem : ∀ x, x ∈ e :: Q ↔ x ∈ Q ++ [e] := fun x => by rw [List.mem_append, List.mem_cons, List.mem_singleton]; exact Or.comm
      exact ⟨h.1, fun x hx => h.2.1 x ((mem x).mp hx), h.2.2.imp id fun ⟨x, hx, h'⟩ => ⟨x, (mem x).mpr hx, h'⟩⟩
    rw [pk_m1]
    refine br_f (nI_pos (by omega)) ⟨vi, ?_⟩
    rw [ey]
    refine gf_leM (e.1 % 32) d (by omega) (by omega) (fun h => nm_e ?_) (fun h => ⟨vi, nm_e ?_⟩)
    · have hfr : gf_fr HL e = false := by
        rcases hd.2.2 with z | ⟨x, hx, z⟩
        · omega
        · have z' : x.1 % 32 + 1 = d := z
          have g1 := lt2 x hx
          have nf : gf_nd e x = false := decide_eq_false (fun w => by omega)
          rw [gf_fr, List.all_eq_false]
          exact ⟨x, by rw [hP']; exact List.mem_append_right _ (List.mem_cons_of_mem _ hx), by rw [nf]; decide⟩
      have := ih P0 (e :: Q) d hm0 hP' (mB d (gf_mB_old hd h)) k (by omega)
      rw [List.countP_cons_of_neg (by rw [hfr]; decide)] at this
      exact this
    · have hfr : gf_fr HL e = true := by
        rw [gf_fr, List.all_eq_true]
        intro x hx
        rw [hP'] at hx
        rcases List.mem_append.mp hx with g | g
        · have g1 := lt1 x g
          exact decide_eq_true (Or.inr (by omega))
        · rcases List.mem_cons.mp g with g | g
          · rw [g]; exact decide_eq_true (Or.inl rfl)
          · have g1 : x.1 % 32 < d := hd.2.1 x g
            exact decide_eq_true (Or.inr (by omega))
      have := ih P0 (e :: Q) (e.1 % 32 + 1) hm0 hP' (mB _ (gf_mB_new hd (by show e.1 % 32 < 32; omega) h)) k (by omega)
      rw [List.countP_cons_of_pos hfr, pk_m1] at this
      exact nm_r (nI_1 _) (nm_e this)
theorem gx_clo28 {post : Int32 → SX → Prop} {J16 : Int32 → Int32 → Prop} {HL P Q : List (Nat × Int32)} {e : Nat × Int32} (hA : gf_A (gf_QH hp hv) 0 HL) (ok : gf_ok HL) (hs : HL.Pairwise (fun x y => x.1 < y.1)) (hP : HL = P ++ e :: Q)
    (hq : ∀ o, gf_Mn (gf_PS (P ++ [e])) o → J16 (gf_om o) (nI (P ++ [e]).length)) :
    ∀ (m : Nat) (P1 P2 : List (Nat × Int32)) (o : Option Nat), P1.length = m → P = P1 ++ P2 → gf_Mn (fun d => gf_PS P d ∨ ∃ e', e' ∈ P2 ∧ d = gf_d e.1 (e'.1 / 32) (e'.1 % 32)) o → (∀ r, o = some r → r ≤ 1922) →
    ∀ n, m < n → wX_closest_28 post J16 (nI P.length) (nI C) (nI R) (nI B) (nI N) (nI HL.length) (gf_L cx) (gf_L cy) (gf_L dr) (gf_L sz) (gf_L lf) (gf_L rt) (gf_L lo) (gf_L hi) (gf_L pl) vs hp hv sn n (gf_om o) (nI m + (-1)) := by
  have hl := ok.2.1
  have len := gf_lenc hP
  have he := ok.2.2 e (gf_memc hP)
  have hat := gf_QH_at (hP ▸ hA)
  have vi : vp_in (nI P.length) 40 := vp_in_nI (by omega) (by decide)
  have ne : ¬ gf_has P e.1 := by
    rintro ⟨v, hv⟩
    exact (gf_split_keys ok.1 hP).1 (e.1, v) hv rfl
  have ep : hp (nI P.length).toNatClampNeg = nI e.1 := by rw [nI_clamp (by omega)]; exact hat.1
  obtain ⟨lt1, _⟩ := gf_lt_of hs hP
  intro m
  induction m with
  | zero =>
    intro P1 P2 o hm h1 hmn hb n hn
    obtain ⟨k, rfl⟩ : ∃ k, n = k + 1 := ⟨n - 1, by omega⟩
    have e1 : P1 = [] := List.eq_nil_of_length_eq_zero hm
    rw [e1, List.nil_append] at h1
    rw [← h1] at hmn
    exact br_t (by decide) (nm_r (gf_snl P e) (hq o (gf_Mn_iff (fun d => (gf_PS_snoc ne d).symm) hmn)))
  | succ m ih =>
    intro P1 P2 o hm h1 hmn hb n hn
    obtain ⟨k, rfl⟩ : ∃ k, n = k + 1 := ⟨n - 1, by omega⟩
    obtain ⟨P0, f, rfl⟩ : ∃ P0 f, P1 = P0 ++ [f] := ⟨P1.dropLast, P1.getLast (by intro z; rw [z] at hm; cases hm), (List.dropLast_concat_getLast _).symm⟩
    have hm0 : P0.length = m := by rw [List.length_append, List.length_cons, List.length_nil] at hm; omega
    have h1' : P = P0 ++ f :: P2 := by rw [h1, List.append_assoc]; rfl
    have hL : HL = P0 ++ f :: (P2 ++ e :: Q) := by rw [hP, h1', List.append_assoc]; rfl
    have len1 := gf_lenc h1'
    have hf := ok.2.2 f (gf_memc hL)
    have hatf := gf_QH_at (hL ▸ hA)
    rw [hm0] at hatf
    have vm : vp_in (nI m) 40 := vp_in_nI (by omega) (by decide)
    have ef : hp (nI m).toNatClampNeg = nI f.1 := by rw [nI_clamp (by omega)]; exact hatf.1
    have fe := lt1 f (by rw [h1']; exact List.mem_append_right _ (List.mem_cons_self ..))
    have hd := gf_d_lt (x := f.1 / 32) (y := f.1 % 32) he (by omega) (by omega)
    have hw31 := gf_sq_le (a := e.1 / 32 - f.1 / 32) (by omega)
    have next : ∀ o', gf_Mn (fun d => (gf_PS P d ∨ ∃ e', e' ∈ P2 ∧ d = gf_d e.1 (e'.1 / 32) (e'.1 % 32)) ∨ d = gf_d e.1 (f.1 / 32) (f.1 % 32)) o' → (∀ r, o' = some r → r ≤ 1922) → ∀ z, z = nI m + (-1) → wX_closest_28 post J16 (nI P.length) (nI C) (nI R) (nI B) (nI N) (nI HL.length) (gf_L cx) (gf_L cy) (gf_L dr) (gf_L sz) (gf_L lf) (gf_L rt) (gf_L lo) (gf_L hi) (gf_L pl) vs hp hv sn k (gf_om o') z := by
      intro o' hmn' hb' z hz
      rw [hz]
      refine ih P0 (f :: P2) o' hm0 h1' (gf_Mn_iff (fun d => ?_) hmn') hb' k (by omega)
      constructor
      · rintro ((h | ⟨e', h, h'⟩) | h)
        · exact Or.inl h
        · exact Or.inr ⟨e', List.mem_cons_of_mem _ h, h'⟩
        · exact Or.inr ⟨f, List.mem_cons_self .., h⟩
      · rintro (h | ⟨e', h, h'⟩)
        · exact Or.inl (Or.inl h)
        · rcases List.mem_cons.mp h with rfl | h2
          · exact Or.inr h'
          · exact Or.inl (Or.inr ⟨e', h2, h'⟩)
    have s67 : wX_closest_67 post J16 (wX_closest_28 post J16 (nI P.length) (nI C) (nI R) (nI B) (nI N) (nI HL.length) (gf_L cx) (gf_L cy) (gf_L dr) (gf_L sz) (gf_L lf) (gf_L rt) (gf_L lo) (gf_L hi) (gf_L pl) vs hp hv sn k) (gf_om o) (nI P.length) (nI m) (nI C) (nI R) (nI B) (nI N) (nI HL.length) (gf_L cx) (gf_L cy) (gf_L dr) (gf_L sz) (gf_L lf) (gf_L rt) (gf_L lo) (gf_L hi) (gf_L pl) vs hp hv sn := by
      refine ⟨vm, vi, vi, ?_⟩
      rw [ep, ef, gf_sh5 (by omega), gf_a31 (by omega)]
      refine gx_distance hf ?_
      rw [gf_d_comm]
      cases o with
      | none => exact br_t (by decide) (next (some _) (gf_Mn_new hmn (fun q z => nomatch z) (fun q => Iff.rfl)) (fun r hr => by cases hr; exact hd))
      | some r =>
        have hr := hb r rfl
        refine br_f (nI_pos (by omega)) (pk_le r (gf_d e.1 (f.1 / 32) (f.1 % 32)) (fun h => next (some r) ?_ hb) (fun h => next (some _) ?_ (fun r hr => by cases hr; exact hd)))
        · exact gf_Mn_old hmn (fun q z => z.imp id (fun z => by omega)) (fun q z => Or.inl z)
        · exact gf_Mn_new hmn (fun q z => by cases z; omega) (fun q => Iff.rfl)
    rw [pk_m1]
    refine br_f (nI_pos (by omega)) ⟨vi, vm, nm_r (e' := nI (e.1 / 32 - f.1 / 32)) (by rw [ep, ef, gf_sh5 (by omega), gf_sh5 (by omega)]; exact pk_sub (by omega)) ?_⟩
    rw [pk_mul]
    cases o with
    | none => exact br_t (by decide) s67
    | some r =>
      have hr := hb r rfl
      refine br_f (nI_pos (by omega)) (pk_lt ((e.1 / 32 - f.1 / 32) * (e.1 / 32 - f.1 / 32)) r (fun h => s67) (fun h => nm_r (gf_snl P e) (hq (some r) (gf_Mn_iff (fun d => (gf_PS_snoc ne d).symm) (gf_Mn_old hmn (fun q z => ?_) (fun q z => ?_))))))
      · rcases z with z | ⟨e', he', hde⟩
        · exact Or.inl (Or.inl z)
        · rw [h1'] at he'
          rcases List.mem_append.mp he' with g | g
          · right
            rw [h1', List.append_assoc] at hP
            have g1 : e'.1 < f.1 := (gf_lt_of hs hL).1 e' g
            have g2 : e.1 / 32 - f.1 / 32 ≤ gf_ad (e.1 / 32) (e'.1 / 32) := by unfold gf_ad; omega
            have g3 := Nat.mul_le_mul g2 g2
            rw [hde]
            unfold gf_d
            omega
          · rcases List.mem_cons.mp g with g | g
            · right
              have g2 : e.1 / 32 - f.1 / 32 ≤ gf_ad (e.1 / 32) (e'.1 / 32) := by rw [g]; unfold gf_ad; omega
              have g3 := Nat.mul_le_mul g2 g2
              rw [hde]
              unfold gf_d
              omega
            · exact Or.inl (Or.inr ⟨e', g, hde⟩)
      · rcases z with z | ⟨e', he', hde⟩
        · exact Or.inl z
        · exact Or.inr ⟨e', by rw [h1']; exact List.mem_append_right _ (List.mem_cons_of_mem _ he'), hde⟩
theorem gf_PS_b {P : List (Nat × Int32)} {d : Nat} (h : ∀ e, e ∈ P → e.1 < 1024) (hd : gf_PS P d) : d ≤ 1922 := by
  obtain ⟨p, q, ⟨v, hv⟩, ⟨w, hw⟩, _, rfl⟩ := hd
  have h1 : p < 1024 := h (p, v) hv
  have h2 : q < 1024 := h (q, w) hw
  exact gf_d_lt h1 (by omega) (by omega)
theorem gx_clo16 {post : Int32 → SX → Prop} {HL : List (Nat × Int32)} (hA : gf_A (gf_QH hp hv) 0 HL) (ok : gf_ok HL) (hs : HL.Pairwise (fun x y => x.1 < y.1)) (hq : ∀ o, gf_Mn (gf_PS HL) o → post (gf_om o) (nI C, nI R, nI B, nI N, nI HL.length, gf_L cx, gf_L cy, gf_L dr, gf_L sz, gf_L lf, gf_L rt, gf_L lo, gf_L hi, gf_L pl, vs, hp, hv, sn)) :
    ∀ (Q P : List (Nat × Int32)) (o : Option Nat), 1 ≤ P.length → HL = P ++ Q → gf_Mn (gf_PS P) o → ∀ n, Q.length < n → wX_closest_16 post (nI C) (nI R) (nI B) (nI N) (nI HL.length) (gf_L cx) (gf_L cy) (gf_L dr) (gf_L sz) (gf_L lf) (gf_L rt) (gf_L lo) (gf_L hi) (gf_L pl) vs hp hv sn n (gf_om o) (nI P.length) := by
  have hl := ok.2.1
  intro Q
  induction Q with
  | nil =>
    intro P o h1 hP hm n hn
    obtain ⟨m, rfl⟩ : ∃ m, n = m + 1 := ⟨n - 1, by omega⟩
    rw [List.append_nil] at hP
    subst hP
    exact br_t (nI_le (Nat.le_refl _) (by omega)) (hq o hm)
  | cons e Q ih =>
    intro P o h1 hP hm n hn
    obtain ⟨m, rfl⟩ : ∃ m, n = m + 1 := ⟨n - 1, by omega⟩
    rw [List.length_cons] at hn
    have len := gf_lenc hP
    refine br_f (nI_ge (by omega) (by omega)) (nm_r (e' := nI P.length + (-1)) (by rw [gf_s h1, gf_m h1]) ⟨P.length + 1, ?_⟩)
    refine gx_clo28 hA ok hs hP (fun o' hm' => ih (P ++ [e]) o' (by rw [List.length_append]; show 1 ≤ P.length + 1; omega) (gf_asc hP) hm' m (by omega)) P.length P [] o rfl (by rw [List.append_nil]) (gf_Mn_iff (fun d => ⟨Or.inl, fun z => ?_⟩) hm) (fun r hr => ?_) (P.length + 1) (by omega)
    · rcases z with z | ⟨e', h, _⟩
      · exact z
      · cases h
    · exact gf_PS_b (fun x hx => ok.2.2 x (by rw [hP]; exact List.mem_append_left _ hx)) (hm.1 r hr).1
end XH
end
section
/-! gap, within, nearest -/
def gf_gx (l r x : Nat) : Nat := if r < x then x - r else l - x
def gf_gap (lf rt lo hi : Nat → Nat) (b x y : Nat) : Nat := gf_gx (lf b) (rt b) x * gf_gx (lf b) (rt b) x + gf_gx (lo b) (hi b) y * gf_gx (lo b) (hi b) y
theorem gf_gx_le {l r x p : Nat} (h1 : l ≤ p) (h2 : p ≤ r) : gf_gx l r x ≤ gf_ad p x := by
  unfold gf_gx gf_ad
  by_cases h : r < x
  · rw [if_pos h]; omega
  · rw [if_neg h]; omega
theorem gf_gx_31 {l r x : Nat} (h1 : l < 32) (hx : x < 32) : gf_gx l r x ≤ 31 := by
  unfold gf_gx
  by_cases h : r < x
  · rw [if_pos h]; omega
  · rw [if_neg h]; omega
theorem gf_gap_le {lf rt lo hi : Nat → Nat} {b x y p : Nat} (h : gf_In lf rt lo hi b (p / 32) (p % 32)) : gf_gap lf rt lo hi b x y ≤ gf_d p x y := by
  obtain ⟨h1, h2, h3, h4⟩ := h
  have g1 := gf_gx_le (x := x) h1 h2
  have g2 := gf_gx_le (x := y) h3 h4
  exact Nat.add_le_add (Nat.mul_le_mul g1 g1) (Nat.mul_le_mul g2 g2)
section XN
variable {C R B N : Nat} {H : Int32} {cx cy dr sz lf rt lo hi pl : Nat → Nat} {vs hp hv sn : Nat → Int32}
theorem gf_gap_b {b x y : Nat} (hA : ∀ j, lf j < 32 ∧ rt j < 32 ∧ lo j < 32 ∧ hi j < 32) (hx : x < 32) (hy : y < 32) : gf_gap lf rt lo hi b x y ≤ 1922 := by
  have h1 := gf_sq_le (gf_gx_31 (r := rt b) (hA b).1 hx)
  have h2 := gf_sq_le (gf_gx_31 (r := hi b) (hA b).2.2.1 hy)
  unfold gf_gap
  omega
theorem gx_gap {post : Int32 → Prop} {b x y : Nat} (hA : ∀ j, lf j < 32 ∧ rt j < 32 ∧ lo j < 32 ∧ hi j < 32) (hb : b < 64) (hx : x < 32) (hy : y < 32) (hq : post (nI (gf_gap lf rt lo hi b x y))) : wpX_gap post (nI C, nI R, nI B, nI N, H, gf_L cx, gf_L cy, gf_L dr, gf_L sz, gf_L lf, gf_L rt, gf_L lo, gf_L hi, gf_L pl, vs, hp, hv, sn) (nI b) (nI x) (nI y) := by
  have vb : vp_in (nI b) 64 := vp_in_nI hb (by decide)
  obtain ⟨a1, a2, a3, a4⟩ := hA b
  have elf : gf_L lf (nI b).toNatClampNeg = nI (lf b) := gf_rd b rfl (by omega)
  have ert : gf_L rt (nI b).toNatClampNeg = nI (rt b) := gf_rd b rfl (by omega)
  have elo : gf_L lo (nI b).toNatClampNeg = nI (lo b) := gf_rd b rfl (by omega)
  have ehi : gf_L hi (nI b).toNatClampNeg = nI (hi b) := gf_rd b rfl (by omega)
  have s96 : ∀ z4 z0, z4 = gf_gx (lf b) (rt b) x → z0 = gf_gx (lo b) (hi b) y → wX_gap_96 post (nI z4) (nI z0) (nI C) (nI R) (nI B) (nI N) H (gf_L cx) (gf_L cy) (gf_L dr) (gf_L sz) (gf_L lf) (gf_L rt) (gf_L lo) (gf_L hi) (gf_L pl) vs hp hv sn := by
    intro z4 z0 h1 h2
    subst h1 h2
    unfold wX_gap_96
    rw [pk_mul, pk_mul, nI_add]
    exact hq
  have s71 : ∀ z4 z0, z4 = gf_gx (lf b) (rt b) x → z0 = lo b - y → wX_gap_71 post (nI b) (nI y) (nI z4) (nI z0) (nI C) (nI R) (nI B) (nI N) H (gf_L cx) (gf_L cy) (gf_L dr) (gf_L sz) (gf_L lf) (gf_L rt) (gf_L lo) (gf_L hi) (gf_L pl) vs hp hv sn := by
    intro z4 z0 h1 h2
    refine ⟨vb, ?_⟩
    rw [ehi]
    refine pk_le y (hi b) (fun h => s96 z4 z0 h1 ?_) (fun h => ⟨vb, ?_⟩)
    · unfold gf_gx; rw [if_neg (by omega)]; exact h2
    · rw [pk_sub (by omega)]
      exact s96 z4 _ h1 (by unfold gf_gx; rw [if_pos h])
  have s47 : ∀ z4, z4 = gf_gx (lf b) (rt b) x → wX_gap_47 post (nI b) (nI y) (nI z4) (nI C) (nI R) (nI B) (nI N) H (gf_L cx) (gf_L cy) (gf_L dr) (gf_L sz) (gf_L lf) (gf_L rt) (gf_L lo) (gf_L hi) (gf_L pl) vs hp hv sn := by
    intro z4 h1
    refine ⟨vb, ?_⟩
    rw [elo]
    refine pk_le (lo b) y (fun h => s71 z4 0 h1 (by omega)) (fun h => ⟨vb, ?_⟩)
    rw [pk_sub (by omega)]
    exact s71 z4 _ h1 rfl
  have s22 : ∀ z0, z0 = lf b - x → wX_gap_22 post (nI b) (nI x) (nI y) (nI z0) (nI C) (nI R) (nI B) (nI N) H (gf_L cx) (gf_L cy) (gf_L dr) (gf_L sz) (gf_L lf) (gf_L rt) (gf_L lo) (gf_L hi) (gf_L pl) vs hp hv sn := by
    intro z0 h2
    refine ⟨vb, ?_⟩
    rw [ert]
    refine pk_le x (rt b) (fun h => s47 z0 ?_) (fun h => ⟨vb, ?_⟩)
    · unfold gf_gx; rw [if_neg (by omega)]; exact h2
    · rw [pk_sub (by omega)]
      exact s47 _ (by unfold gf_gx; rw [if_pos h])
  refine ⟨vb, ?_⟩
  rw [elf]
  refine pk_le (lf b) x (fun h => s22 0 (by omega)) (fun h => ⟨vb, ?_⟩)
  rw [pk_sub (by omega)]
  exact s22 _ rfl
theorem gx_within43 {post : Int32 → Prop} {J16 : Int32 → Int32 → Prop} {b x y : Nat} {r : Int32} (hb : b < 64) (hs : sz b ≤ 4) (hpl : ∀ j, pl j < 1024) :
    ∀ (Q P : List (Nat × Int32)) (acc : Nat), gf_bk sz pl vs b = P ++ Q → J16 (nI (acc + Q.countP (gf_wi x y r))) (nI (b + 1)) → ∀ n, Q.length < n → wX_within_43 post J16 (nI x) (nI y) r (nI b) (nI C) (nI R) (nI B) (nI N) H (gf_L cx) (gf_L cy) (gf_L dr) (gf_L sz) (gf_L lf) (gf_L rt) (gf_L lo) (gf_L hi) (gf_L pl) vs hp hv sn n (nI acc) (nI (4 * b + P.length)) := by
  have vb : vp_in (nI b) 64 := vp_in_nI hb (by decide)
  have es : gf_L sz (nI b).toNatClampNeg = nI (sz b) := gf_rd b rfl (by omega)
  intro Q
  induction Q with
  | nil =>
    intro P acc hP hq n hn
    obtain ⟨m, rfl⟩ : ∃ m, n = m + 1 := ⟨n - 1, by omega⟩
    rw [List.append_nil] at hP
    have len : sz b = P.length := by rw [← hP, gf_bk_len]
    refine ⟨vb, ?_⟩
    rw [es, gf_4a]
    exact br_t (nI_le (by omega) (by omega)) (nm_r (nI_1 b) hq)
  | cons e Q ih =>
    intro P acc hP hq n hn
    obtain ⟨m, rfl⟩ : ∃ m, n = m + 1 := ⟨n - 1, by omega⟩
    rw [List.length_cons] at hn
    obtain ⟨len, vi, cl, q1, q2⟩ := gf_bat hP hb hs
    have he := hpl (4 * b + P.length)
    rw [q1] at he
    have ep : gf_L pl (nI (4 * b + P.length)).toNatClampNeg = nI e.1 := by rw [gf_rd _ rfl (by omega), q1]
    have e4 : nI (4 * b + P.length) + 1 = nI (4 * b + (P ++ [e]).length) := by rw [nI_1, List.length_append]; rfl
    refine ⟨vb, ?_⟩
    rw [es, gf_4a]
    refine br_f (nI_ge (by omega) (by omega)) ⟨vi, ?_⟩
    rw [ep]
    refine gx_distance he ?_
    refine br_c (fun h => ?_) (fun h => ?_)
    · rw [List.countP_cons_of_neg (by rw [gf_wi, decide_eq_true_eq]; exact fun z => z h)] at hq
      exact nm_r (Int32.add_zero _) (nm_r e4 (ih (P ++ [e]) acc (gf_asc hP) hq m (by omega)))
    · rw [List.countP_cons_of_pos (show gf_wi x y r e = true from decide_eq_true h)] at hq
      refine nm_r (nI_1 acc) (nm_r e4 (ih (P ++ [e]) (acc + 1) (gf_asc hP) ?_ m (by omega)))
      rw [show acc + 1 + Q.countP (gf_wi x y r) = acc + (Q.countP (gf_wi x y r) + 1) from by omega]
      exact hq
theorem gf_ct_succ {b : Nat} : gf_ct (b + 1) sz pl vs = gf_ct b sz pl vs ++ gf_bk sz pl vs b := by
  rw [gf_ct, gf_ct, List.range_succ, List.flatMap_append, List.flatMap_singleton]
theorem gf_ABr (hA : gf_AB cx cy dr sz lf rt lo hi pl) : ∀ j, lf j < 32 ∧ rt j < 32 ∧ lo j < 32 ∧ hi j < 32 := fun j => ⟨(hA j).2.2.2.2.1, (hA j).2.2.2.2.2.1, (hA j).2.2.2.2.2.2.1, (hA j).2.2.2.2.2.2.2.1⟩
theorem gx_within16 {post : Int32 → Prop} {x y : Nat} {r : Int32} (hA : gf_AB cx cy dr sz lf rt lo hi pl) (hB : B ≤ 64) (hP : gf_P B sz lf rt lo hi pl vs) (hx : x < 32) (hy : y < 32) (hq : post (nI ((gf_ct B sz pl vs).countP (gf_wi x y r)))) :
    ∀ (d b : Nat), b + d = B → ∀ n, d < n → wX_within_16 post (nI x) (nI y) r (nI C) (nI R) (nI B) (nI N) H (gf_L cx) (gf_L cy) (gf_L dr) (gf_L sz) (gf_L lf) (gf_L rt) (gf_L lo) (gf_L hi) (gf_L pl) vs hp hv sn n (nI ((gf_ct b sz pl vs).countP (gf_wi x y r))) (nI b) := by
  intro d
  induction d with
  | zero =>
    intro b hd n hn
    obtain ⟨m, rfl⟩ : ∃ m, n = m + 1 := ⟨n - 1, by omega⟩
    have e : b = B := by omega
    subst e
    exact br_t (nI_le (Nat.le_refl _) (by omega)) hq
  | succ d ih =>
    intro b hd n hn
    obtain ⟨m, rfl⟩ : ∃ m, n = m + 1 := ⟨n - 1, by omega⟩
    have nx := ih (b + 1) (by omega) m (by omega)
    rw [gf_ct_succ, List.countP_append] at nx
    refine br_f (nI_ge (by omega) (by omega)) ?_
    refine gx_gap (gf_ABr hA) (by omega) hx hy ?_
    have gb := gf_gap_b (b := b) (gf_ABr hA) hx hy
    refine br_c (fun h => nm_r (nI_1 b) ?_) (fun h => nm_r (gf_m4 b) ⟨sz b + 1, ?_⟩)
    · have e0 : (gf_bk sz pl vs b).countP (gf_wi x y r) = 0 := by
        rw [List.countP_eq_zero]
        intro e he
        have hin := hP b (by omega) e he
        have g := gf_gap_le (x := x) (y := y) hin
        have he4 : e.1 < 1024 := by
          obtain ⟨k, hk, rfl⟩ := gf_bk_mem.mp he
          exact (hA _).2.2.2.2.2.2.2.2
        have g2 := gf_d_lt he4 hx hy
        rw [gf_wi, decide_eq_true_eq]
        exact fun z => z (Int32.lt_of_lt_of_le h (nI_le g (by omega)))
      rw [e0, Nat.add_zero] at nx
      exact nx
    · exact gx_within43 (by omega) (hA b).2.2.2.1 (fun j => (hA j).2.2.2.2.2.2.2.2) (gf_bk sz pl vs b) [] _ rfl nx (sz b + 1) (by rw [gf_bk_len]; omega)
theorem gx_next5 {post : Int32 → Prop} {x y : Nat} (hA : ∀ j, lf j < 32 ∧ rt j < 32 ∧ lo j < 32 ∧ hi j < 32) (hB : B ≤ 64) (hx : x < 32) (hy : y < 32)
    (h1 : (∀ b, b < B → sn b ≠ 0) → post (-1)) (h2 : ∀ c, c < B → sn c = 0 → (∀ b, b < B → sn b = 0 → gf_gap lf rt lo hi c x y ≤ gf_gap lf rt lo hi b x y) → post (nI c)) :
    ∀ (d b : Nat), b + d = B →
      ((∀ b', b' < b → sn b' ≠ 0) → ∀ n, d < n → wX_nextBucket_5 post (nI x) (nI y) (nI C) (nI R) (nI B) (nI N) H (gf_L cx) (gf_L cy) (gf_L dr) (gf_L sz) (gf_L lf) (gf_L rt) (gf_L lo) (gf_L hi) (gf_L pl) vs hp hv sn n (-1) (nI b)) ∧
      (∀ c, c < b → sn c = 0 → (∀ b', b' < b → sn b' = 0 → gf_gap lf rt lo hi c x y ≤ gf_gap lf rt lo hi b' x y) → ∀ n, d < n → wX_nextBucket_5 post (nI x) (nI y) (nI C) (nI R) (nI B) (nI N) H (gf_L cx) (gf_L cy) (gf_L dr) (gf_L sz) (gf_L lf) (gf_L rt) (gf_L lo) (gf_L hi) (gf_L pl) vs hp hv sn n (nI c) (nI b)) := by
  intro d
  induction d with
  | zero =>
    intro b hd
    have e : b = B := by omega
    subst e
    refine ⟨fun h n hn => ?_, fun c hc hs hg n hn => ?_⟩
    · obtain ⟨m, rfl⟩ : ∃ m, n = m + 1 := ⟨n - 1, by omega⟩
      exact br_t (nI_le (Nat.le_refl _) (by omega)) (h1 h)
    · obtain ⟨m, rfl⟩ : ∃ m, n = m + 1 := ⟨n - 1, by omega⟩
      exact br_t (nI_le (Nat.le_refl _) (by omega)) (h2 c hc hs hg)
  | succ d ih =>
    intro b hd
    obtain ⟨i1, i2⟩ := ih (b + 1) (by omega)
    have vb : vp_in (nI b) 64 := vp_in_nI (by omega) (by decide)
    have cb : (nI b).toNatClampNeg = b := nI_clamp (by omega)
    have gb := gf_gap_b (b := b) hA hx hy
    have lts : ∀ {p : Nat → Prop}, (∀ b', b' < b → p b') → p b → ∀ b', b' < b + 1 → p b' := fun f g b' hb' => by
      by_cases z : b' = b
      · rw [z]; exact g
      · exact f b' (by omega)
    refine ⟨fun h n hn => ?_, fun c hc hs hg n hn => ?_⟩
    · obtain ⟨m, rfl⟩ : ∃ m, n = m + 1 := ⟨n - 1, by omega⟩
      refine br_f (nI_ge (by omega) (by omega)) ⟨vb, ?_⟩
      rw [cb]
      refine br_c (fun hs => br_t rfl (nm_r (nI_1 b) (i2 b (by omega) hs (lts (fun b' hb' hs' => absurd hs' (h b' hb')) (fun _ => Nat.le_refl _)) m (by omega)))) (fun hs => nm_r (nI_1 b) (i1 (lts h hs) m (by omega)))
    · obtain ⟨m, rfl⟩ : ∃ m, n = m + 1 := ⟨n - 1, by omega⟩
      have gc := gf_gap_b (b := c) hA hx hy
      refine br_f (nI_ge (by omega) (by omega)) ⟨vb, ?_⟩
      rw [cb]
      refine br_c (fun hs' => br_f (gf_ne1 (by omega)) ?_) (fun hs' => nm_r (nI_1 b) (i2 c (by omega) hs (lts hg (fun z => absurd z hs')) m (by omega)))
      refine gx_gap hA (by omega) hx hy ?_
      refine gx_gap hA (by omega) hx hy ?_
      refine pk_le (gf_gap lf rt lo hi c x y) (gf_gap lf rt lo hi b x y) (fun h => nm_r (nI_1 b) (i2 c (by omega) hs (lts hg (fun _ => h)) m (by omega))) (fun h => nm_r (nI_1 b) (i2 b (by omega) hs' (lts (fun b' hb' z => ?_) (fun _ => Nat.le_refl _)) m (by omega)))
      have := hg b' hb' z
      omega
theorem gx_nextBucket {post : Int32 → Prop} {x y : Nat} (hA : ∀ j, lf j < 32 ∧ rt j < 32 ∧ lo j < 32 ∧ hi j < 32) (hB : B ≤ 64) (hx : x < 32) (hy : y < 32)
    (h1 : (∀ b, b < B → sn b ≠ 0) → post (-1)) (h2 : ∀ c, c < B → sn c = 0 → (∀ b, b < B → sn b = 0 → gf_gap lf rt lo hi c x y ≤ gf_gap lf rt lo hi b x y) → post (nI c)) : wpX_nextBucket post (nI C, nI R, nI B, nI N, H, gf_L cx, gf_L cy, gf_L dr, gf_L sz, gf_L lf, gf_L rt, gf_L lo, gf_L hi, gf_L pl, vs, hp, hv, sn) (nI x) (nI y) :=
  ⟨B + 1, (gx_next5 hA hB hx hy h1 h2 B 0 (by omega)).1 (fun b' h => absurd h (Nat.not_lt_zero b')) (B + 1) (by omega)⟩
/-- the keys of the buckets that are seen -/
def gf_K (B : Nat) (sz pl : Nat → Nat) (vs sn : Nat → Int32) (q : Nat) : Prop := ∃ b, b < B ∧ sn b ≠ 0 ∧ gf_has (gf_bk sz pl vs b) q
theorem gx_near112 {post : Int32 → SX → Prop} {J55 : Int32 → Int32 → Int32 → (Nat → Int32) → (Nat → Int32) → (Nat → Int32) → (Nat → Int32) → (Nat → Int32) → (Nat → Int32) → (Nat → Int32) → (Nat → Int32) → (Nat → Int32) → (Nat → Int32) → (Nat → Int32) → (Nat → Int32) → (Nat → Int32) → Prop}
    {b x y t : Nat} {K : Nat → Prop} (hb : b < 64) (hs : sz b ≤ 4) (hpl : ∀ j, pl j < 1024) (hx : x < 32) (hy : y < 32) (hK : ∀ q, K q → q < 1024)
    (hq : ∀ o, gf_Mi x y (fun q => K q ∨ gf_has (gf_bk sz pl vs b) q) o → J55 (gf_ob o) (gf_ol x y o) (nI (t + 1)) (gf_L cx) (gf_L cy) (gf_L dr) (gf_L sz) (gf_L lf) (gf_L rt) (gf_L lo) (gf_L hi) (gf_L pl) vs hp hv sn) :
    ∀ (Q P : List (Nat × Int32)) (o : Option Nat), gf_bk sz pl vs b = P ++ Q → gf_Mi x y (fun q => K q ∨ gf_has P q) o → ∀ n, Q.length < n → wX_nearest_112 post J55 (nI x) (nI y) (nI t) (nI b) (nI C) (nI R) (nI B) (nI N) H (gf_L cx) (gf_L cy) (gf_L dr) (gf_L sz) (gf_L lf) (gf_L rt) (gf_L lo) (gf_L hi) (gf_L pl) vs hp hv sn n (gf_ob o) (gf_ol x y o) (nI (4 * b + P.length)) := by
  have vb : vp_in (nI b) 64 := vp_in_nI hb (by decide)
  have es : gf_L sz (nI b).toNatClampNeg = nI (sz b) := gf_rd b rfl (by omega)
  intro Q
  induction Q with
  | nil =>
    intro P o hP hm n hn
    obtain ⟨m, rfl⟩ : ∃ m, n = m + 1 := ⟨n - 1, by omega⟩
    rw [List.append_nil] at hP
    have len : sz b = P.length := by rw [← hP, gf_bk_len]
    refine ⟨vb, ?_⟩
    rw [es, gf_4a]
    rw [hP] at hq
    exact br_t (nI_le (by omega) (by omega)) (nm_r (nI_1 t) (hq o hm))
  | cons e Q ih =>
    intro P o hP hm n hn
    obtain ⟨m, rfl⟩ : ∃ m, n = m + 1 := ⟨n - 1, by omega⟩
    rw [List.length_cons] at hn
    obtain ⟨len, vi, cl, q1, q2⟩ := gf_bat hP hb hs
    have he := hpl (4 * b + P.length)
    rw [q1] at he
    have hd := gf_d_lt he hx hy
    have ep : gf_L pl (nI (4 * b + P.length)).toNatClampNeg = nI e.1 := by rw [gf_rd _ rfl (by omega), q1]
    have e4 : nI (4 * b + P.length) + 1 = nI (4 * b + (P ++ [e]).length) := by rw [nI_1, List.length_append]; rfl
    have hKK : ∀ q, (K q ∨ gf_has (P ++ [e]) q) ↔ (K q ∨ gf_has P q) ∨ q = e.1 := by
      intro q
      rw [gf_has_snoc, or_assoc]
    have new : (∀ q, o = some q → gf_k x y e.1 ≤ gf_k x y q) → wX_nearest_172 post J55 (wX_nearest_112 post J55 (nI x) (nI y) (nI t) (nI b) (nI C) (nI R) (nI B) (nI N) H (gf_L cx) (gf_L cy) (gf_L dr) (gf_L sz) (gf_L lf) (gf_L rt) (gf_L lo) (gf_L hi) (gf_L pl) vs hp hv sn m) (nI x) (nI y) (nI t) (nI b) (nI (4 * b + P.length)) (nI (gf_d e.1 x y)) (nI C) (nI R) (nI B) (nI N) H (gf_L cx) (gf_L cy) (gf_L dr) (gf_L sz) (gf_L lf) (gf_L rt) (gf_L lo) (gf_L hi) (gf_L pl) vs hp hv sn :=
      fun h => ⟨vi, nm_r ep (nm_r e4 (ih (P ++ [e]) (some e.1) (gf_asc hP) (gf_Mi_new hm h hKK) m (by omega)))⟩
    refine ⟨vb, ?_⟩
    rw [es, gf_4a]
    refine br_f (nI_ge (by omega) (by omega)) ⟨vi, ?_⟩
    rw [ep]
    refine gx_distance he ?_
    cases o with
    | none => exact br_t (by decide) (new (fun q h => nomatch h))
    | some r =>
      have hr2 : r < 1024 := by
        rcases (hm.1 r rfl).1 with z | ⟨v, z⟩
        · exact hK r z
        · have zz : (r, v) ∈ gf_bk sz pl vs b := by rw [hP]; exact List.mem_append_left _ z
          obtain ⟨k, hk, e0⟩ := gf_bk_mem.mp zz
          have e1 : pl (4 * b + k) = r := congrArg Prod.fst e0
          rw [← e1]
          exact hpl _
      have hdr := gf_d_lt hr2 hx hy
      have old : gf_k x y r ≤ gf_k x y e.1 → wX_nearest_112 post J55 (nI x) (nI y) (nI t) (nI b) (nI C) (nI R) (nI B) (nI N) H (gf_L cx) (gf_L cy) (gf_L dr) (gf_L sz) (gf_L lf) (gf_L rt) (gf_L lo) (gf_L hi) (gf_L pl) vs hp hv sn m (nI r) (nI (gf_d r x y)) (nI (4 * b + (P ++ [e]).length)) :=
        fun h => ih (P ++ [e]) (some r) (gf_asc hP) (gf_Mi_old hm h hKK) m (by omega)
      refine br_f (nI_pos (by omega)) ?_
      refine pk_lt (gf_d e.1 x y) (gf_d r x y) (fun h => new (fun q hq => ?_)) (fun h => ?_)
      · cases hq
        unfold gf_k
        omega
      refine pk_eq (gf_d e.1 x y) (gf_d r x y) (fun h2 => ⟨vi, ?_⟩) (fun h2 => nm_r e4 (old ?_))
      · refine pk_le r e.1 (fun h3 => nm_r e4 (old ?_)) (fun h3 => new (fun q hq => ?_))
        · unfold gf_k; omega
        · cases hq
          unfold gf_k; omega
      · unfold gf_k; omega
theorem gx_near55 {post : Int32 → SX → Prop} {x y : Nat} {L : List (Nat × Int32)} (J : gf_J C R B cx cy dr sz lf rt lo hi pl vs L) (hx : x < 32) (hy : y < 32)
    (hq : ∀ o sn', gf_Mi x y (gf_has L) o → post (gf_ob o) (nI C, nI R, nI B, nI N, H, gf_L cx, gf_L cy, gf_L dr, gf_L sz, gf_L lf, gf_L rt, gf_L lo, gf_L hi, gf_L pl, vs, hp, hv, sn')) :
    ∀ (d t : Nat) (sn : Nat → Int32) (o : Option Nat), t + d = B → (List.range B).countP (fun b => decide (sn b = 0)) ≤ d → gf_Mi x y (gf_K B sz pl vs sn) o → ∀ n, d < n → wX_nearest_55 post (nI x) (nI y) (nI C) (nI R) (nI B) (nI N) H n (gf_ob o) (gf_ol x y o) (nI t) (gf_L cx) (gf_L cy) (gf_L dr) (gf_L sz) (gf_L lf) (gf_L rt) (gf_L lo) (gf_L hi) (gf_L pl) vs hp hv sn := by
  have h64 := J.2.1.2.2.2.1
  have hr := gf_ABr J.1
  have hpl : ∀ j, pl j < 1024 := fun j => (J.1 j).2.2.2.2.2.2.2.2
  have kL : ∀ sn q, gf_K B sz pl vs sn q → gf_has L q := by
    rintro sn q ⟨b, hb, _, v, hv⟩
    obtain ⟨k, hk, e⟩ := gf_bk_mem.mp hv
    exact ⟨v, (gf_J_mem J).mpr ⟨b, k, hb, hk, e⟩⟩
  have bk : ∀ q, gf_has L q → ∃ b, b < B ∧ gf_has (gf_bk sz pl vs b) q := by
    rintro q ⟨v, hv⟩
    obtain ⟨b, k, hb, hk, e⟩ := (gf_J_mem J).mp hv
    exact ⟨b, hb, v, gf_bk_mem.mpr ⟨k, hk, e⟩⟩
  have fin : ∀ sn o, (∀ b, b < B → sn b ≠ 0) → gf_Mi x y (gf_K B sz pl vs sn) o → gf_Mi x y (gf_has L) o := by
    intro sn o hall hm
    have iff : ∀ q, gf_K B sz pl vs sn q ↔ gf_has L q := fun q => ⟨kL sn q, fun h => by
      obtain ⟨b, hb, h'⟩ := bk q h
      exact ⟨b, hb, hall b hb, h'⟩⟩
    exact ⟨fun p e => ⟨(iff p).mp (hm.1 p e).1, fun q hq => (hm.1 p e).2 q ((iff q).mpr hq)⟩, fun e q hq => hm.2 e q ((iff q).mpr hq)⟩
  intro d
  induction d with
  | zero =>
    intro t sn o hd hc hm n hn
    obtain ⟨m, rfl⟩ : ∃ m, n = m + 1 := ⟨n - 1, by omega⟩
    refine br_t (nI_le (by omega) (by omega)) (hq o sn (fin sn o (fun b hb z => ?_) hm))
    have h0 : (List.range B).countP (fun b => decide (sn b = 0)) = 0 := by omega
    rw [List.countP_eq_zero] at h0
    exact h0 b (List.mem_range.mpr hb) (decide_eq_true z)
  | succ d ih =>
    intro t sn o hd hc hm n hn
    obtain ⟨m, rfl⟩ : ∃ m, n = m + 1 := ⟨n - 1, by omega⟩
    refine br_f (nI_ge (by omega) (by omega)) ?_
    refine gx_nextBucket hr h64 hx hy (fun hall => br_t rfl (hq o sn (fin sn o hall hm))) (fun c hcB hsc hmin => br_f (gf_ne1 (by omega)) ?_)
    have vc : vp_in (nI c) 64 := vp_in_nI (by omega) (by decide)
    have gc := gf_gap_b (b := c) hr hx hy
    have s98 : wX_nearest_98 post (wX_nearest_55 post (nI x) (nI y) (nI C) (nI R) (nI B) (nI N) H m) (nI x) (nI y) (gf_ob o) (gf_ol x y o) (nI t) (nI c) (nI C) (nI R) (nI B) (nI N) H (gf_L cx) (gf_L cy) (gf_L dr) (gf_L sz) (gf_L lf) (gf_L rt) (gf_L lo) (gf_L hi) (gf_L pl) vs hp hv sn := by
      refine ⟨vc, nm_r (e' := upd sn c 1) (by rw [nI_clamp (by omega), gf_b1]) (nm_r (gf_m4 c) ⟨sz c + 1, ?_⟩)⟩
      refine gx_near112 (K := gf_K B sz pl vs sn) (by omega) (J.1 c).2.2.2.1 hpl hx hy (fun q hq => ?_) (fun o' hm' => ?_) (gf_bk sz pl vs c) [] o rfl ?_ (sz c + 1) (by rw [gf_bk_len]; omega)
      · obtain ⟨v, hv⟩ := kL sn q hq
        exact gf_J_1024 J hv
      · refine ih (t + 1) (upd sn c 1) o' (by omega) ?_ ?_ m (by omega)
        · have p1 : (List.range B).Perm (c :: (List.range B).erase c) := List.perm_cons_erase (List.mem_range.mpr hcB)
          rw [p1.countP_eq, List.countP_cons_of_pos (p := fun b => decide (sn b = 0)) (decide_eq_true hsc)] at hc
          rw [p1.countP_eq, List.countP_cons_of_neg (by rw [pk_us]; decide)]
          have e0 : ((List.range B).erase c).countP (fun b => decide (upd sn c 1 b = 0)) = ((List.range B).erase c).countP (fun b => decide (sn b = 0)) := by
            apply List.countP_congr
            intro b hb
            have h3 := (List.Nodup.mem_erase_iff List.nodup_range).mp hb
            rw [pk_un h3.1]
          rw [e0]
          omega
        · have iff : ∀ q, (gf_K B sz pl vs sn q ∨ gf_has (gf_bk sz pl vs c) q) ↔ gf_K B sz pl vs (upd sn c 1) q := by
            intro q
            constructor
            · rintro (⟨b, hb, hsb, h⟩ | h)
              · refine ⟨b, hb, ?_, h⟩
                by_cases z : b = c
                · rw [z, pk_us]; decide
                · rw [pk_un z]; exact hsb
              · exact ⟨c, hcB, by rw [pk_us]; decide, h⟩
            · rintro ⟨b, hb, hsb, h⟩
              by_cases z : b = c
              · rw [z] at h; exact Or.inr h
              · rw [pk_un z] at hsb
                exact Or.inl ⟨b, hb, hsb, h⟩
          exact ⟨fun p e => ⟨(iff p).mp (hm'.1 p e).1, fun q hq => (hm'.1 p e).2 q ((iff q).mpr hq)⟩, fun e q hq => hm'.2 e q ((iff q).mpr hq)⟩
      · have iff : ∀ q, gf_K B sz pl vs sn q ↔ (gf_K B sz pl vs sn q ∨ gf_has [] q) := fun q => ⟨Or.inl, fun z => z.elim id (fun z => absurd z (gf_has_nil q))⟩
        exact ⟨fun p e => ⟨(iff p).mp (hm.1 p e).1, fun q hq => (hm.1 p e).2 q ((iff q).mpr hq)⟩, fun e q hq => hm.2 e q ((iff q).mpr hq)⟩
    cases o with
    | none => exact br_t (by decide) s98
    | some r =>
      have hr2 : r < 1024 := by
        obtain ⟨v, hv⟩ := kL sn r (hm.1 r rfl).1
        exact gf_J_1024 J hv
      have hdr := gf_d_lt hr2 hx hy
      refine br_f (nI_pos (by omega)) ?_
      refine gx_gap hr (by omega) hx hy ?_
      refine pk_le (gf_gap lf rt lo hi c x y) (gf_d r x y) (fun _ => s98) (fun h => hq (some r) sn ⟨fun p e => ?_, fun e => nomatch e⟩)
      cases e
      refine ⟨kL sn r (hm.1 r rfl).1, fun q hqq => ?_⟩
      obtain ⟨b, hb, hb'⟩ := bk q hqq
      by_cases z : sn b = 0
      · obtain ⟨v, hv⟩ := hb'
        have g1 := hmin b hb z
        have g2 := gf_gap_le (x := x) (y := y) (J.2.2.1 b hb _ hv)
        have g3 : gf_gap lf rt lo hi b x y ≤ gf_d q x y := g2
        unfold gf_k
        omega
      · exact (hm.1 r rfl).2 q ⟨b, hb, z, hb'⟩
theorem gx_near12 {post : Int32 → SX → Prop} {x y : Nat} (hB : B ≤ 64) (hs4 : ∀ j, sz j ≤ 4)
    (hq : ∀ sn', (∀ b, b < B → (sn' b ≠ 0 ↔ sz b = 0)) → ∃ n, wX_nearest_55 post (nI x) (nI y) (nI C) (nI R) (nI B) (nI N) H n (-2) 0 (nI 0) (gf_L cx) (gf_L cy) (gf_L dr) (gf_L sz) (gf_L lf) (gf_L rt) (gf_L lo) (gf_L hi) (gf_L pl) vs hp hv sn') :
    ∀ (d b : Nat) (sn : Nat → Int32), b + d = B → (∀ b', b' < b → (sn b' ≠ 0 ↔ sz b' = 0)) → ∀ n, d < n → wX_nearest_12 post (nI x) (nI y) (nI C) (nI R) (nI B) (nI N) H n (nI b) (gf_L cx) (gf_L cy) (gf_L dr) (gf_L sz) (gf_L lf) (gf_L rt) (gf_L lo) (gf_L hi) (gf_L pl) vs hp hv sn := by
  intro d
  induction d with
  | zero =>
    intro b sn hd hs n hn
    obtain ⟨m, rfl⟩ : ∃ m, n = m + 1 := ⟨n - 1, by omega⟩
    exact br_t (nI_le (by omega) (by omega)) (hq sn (fun b' hb' => hs b' (by omega)))
  | succ d ih =>
    intro b sn hd hs n hn
    obtain ⟨m, rfl⟩ : ∃ m, n = m + 1 := ⟨n - 1, by omega⟩
    have vb : vp_in (nI b) 64 := vp_in_nI (by omega) (by decide)
    have es : gf_L sz (nI b).toNatClampNeg = nI (sz b) := gf_rd b rfl (by omega)
    have h4 := hs4 b
    refine br_f (nI_ge (by omega) (by omega)) ⟨vb, ?_⟩
    rw [es]
    have st : ∀ v : Int32, (v ≠ 0 ↔ sz b = 0) → ∀ b', b' < b + 1 → (upd sn b v b' ≠ 0 ↔ sz b' = 0) := by
      intro v hv b' hb'
      by_cases z : b' = b
      · rw [z, pk_us]; exact hv
      · rw [pk_un z]; exact hs b' (by omega)
    refine pk_eq (sz b) 0 (fun h => ⟨vb, nm_r (e' := upd sn b 1) (by rw [nI_clamp (by omega), gf_b1]) (nm_r (nI_1 b) (ih (b + 1) _ (by omega) (st 1 ?_) m (by omega)))⟩) (fun h => ⟨vb, nm_r (e' := upd sn b 0) (by rw [nI_clamp (by omega), gf_b0]) (nm_r (nI_1 b) (ih (b + 1) _ (by omega) (st 0 ?_) m (by omega)))⟩)
    · exact ⟨fun _ => h, fun _ => by decide⟩
    · exact ⟨fun z => absurd rfl z, fun z => absurd z h⟩
end XN
end
section
/-! the reading methods, both sides -/
section XR
variable {u : SX} {L : List (Nat × Int32)}
theorem gx_count_no {post : Int32 → SX → Prop} {x y : Int32} (I : gf_XI u L) (h : ¬ gf_Re x y) (hp : post (-1) u) : wpX_count post u x y := by
  refine gf_XI_el (P := fun u => post (-1) u → wpX_count post u x y) I (fun hl C R B H cx cy dr sz lf rt lo hi pl vs hp hv sn J hq => ?_) hp
  unfold wpX_count
  exact gx_isRectangle x y (fun a b ha hb hx hy g1 g2 => absurd ⟨a, b, ha, hb, hx, hy, g1, g2⟩ h) (fun _ => br_t rfl hq)
theorem gx_sum_no {post : Int32 → SX → Prop} {x y : Int32} (I : gf_XI u L) (h : ¬ gf_Re x y) (hp : post 0 u) : wpX_sum post u x y := by
  refine gf_XI_el (P := fun u => post 0 u → wpX_sum post u x y) I (fun hl C R B H cx cy dr sz lf rt lo hi pl vs hp hv sn J hq => ?_) hp
  unfold wpX_sum
  exact gx_isRectangle x y (fun a b ha hb hx hy g1 g2 => absurd ⟨a, b, ha, hb, hx, hy, g1, g2⟩ h) (fun _ => br_t rfl hq)
theorem gx_most_no {post : Int32 → SX → Prop} {x y : Int32} (I : gf_XI u L) (h : ¬ gf_Re x y) (hp : post (-2147483648) u) : wpX_most post u x y := by
  refine gf_XI_el (P := fun u => post (-2147483648) u → wpX_most post u x y) I (fun hl C R B H cx cy dr sz lf rt lo hi pl vs hp hv sn J hq => ?_) hp
  unfold wpX_most
  exact gx_isRectangle x y (fun a b ha hb hx hy g1 g2 => absurd ⟨a, b, ha, hb, hx, hy, g1, g2⟩ h) (fun _ => br_t rfl hq)
theorem gx_point_no {post : Int32 → SX → Prop} {x y z : Int32} (I : gf_XI u L) (h : ¬ gf_Re x y) (hp : post (-1) u) : wpX_point post u x y z := by
  refine gf_XI_el (P := fun u => post (-1) u → wpX_point post u x y z) I (fun hl C R B H cx cy dr sz lf rt lo hi pl vs hp hv sn J hq => ?_) hp
  unfold wpX_point
  exact gx_isRectangle x y (fun a b ha hb hx hy g1 g2 => absurd ⟨a, b, ha, hb, hx, hy, g1, g2⟩ h) (fun _ => br_t rfl hq)
theorem gx_count_yes {post : Int32 → SX → Prop} {a k : Nat} (I : gf_XI u L) (ha : a < 1024) (hk : k < 1024) (g1 : a / 32 ≤ k / 32) (g2 : a % 32 ≤ k % 32)
    (h0 : ∀ u', gf_XI u' L → post (nI (L.countP (gf_ins a k))) u') : wpX_count post u (nI a) (nI k) := by
  refine gf_XI_el (P := fun u => wpX_count post u (nI a) (nI k)) I (fun hl C R B H cx cy dr sz lf rt lo hi pl vs hp hv sn J => ?_)
  unfold wpX_count
  refine gx_isRectangle (nI a) (nI k) (fun _ _ _ _ _ _ _ _ => br_f (by decide) ?_) (fun z => absurd ⟨a, k, ha, hk, rfl, rfl, g1, g2⟩ z)
  refine gx_collect J hl ha hk g1 g2 (fun HL hp' hv' sn' hA hperm => ?_)
  have hlen := hperm.length_eq
  rw [← List.countP_eq_length_filter] at hlen
  have := h0 _ (gf_XI_mk (H := nI HL.length) (hp := hp') (hv := hv') (sn := sn') hl J)
  rw [← hlen] at this
  exact this
theorem gx_sum_yes {post : Int32 → SX → Prop} {a k : Nat} (I : gf_XI u L) (ha : a < 1024) (hk : k < 1024) (g1 : a / 32 ≤ k / 32) (g2 : a % 32 ≤ k % 32)
    (h0 : ∀ u', gf_XI u' L → post ((L.filter (gf_ins a k)).foldl (fun s e => s + e.2) 0) u') : wpX_sum post u (nI a) (nI k) := by
  refine gf_XI_el (P := fun u => wpX_sum post u (nI a) (nI k)) I (fun hl C R B H cx cy dr sz lf rt lo hi pl vs hp hv sn J => ?_)
  unfold wpX_sum
  refine gx_isRectangle (nI a) (nI k) (fun _ _ _ _ _ _ _ _ => br_f (by decide) ?_) (fun z => absurd ⟨a, k, ha, hk, rfl, rfl, g1, g2⟩ z)
  refine gx_collect J hl ha hk g1 g2 (fun HL hp' hv' sn' hA hperm => ⟨HL.length + 1, ?_⟩)
  have hlen := hperm.length_eq
  have hle := List.length_filter_le (gf_ins a k) L
  refine gx_sum21 hA (by omega) HL [] 0 rfl ?_ (HL.length + 1) (by omega)
  rw [hperm.foldl_eq' (fun x _ y _ z => gf_add_comm3 z x.2 y.2) 0]
  exact h0 _ (gf_XI_mk hl J)
theorem gx_most_yes {post : Int32 → SX → Prop} {a k : Nat} (I : gf_XI u L) (ha : a < 1024) (hk : k < 1024) (g1 : a / 32 ≤ k / 32) (g2 : a % 32 ≤ k % 32)
    (h0 : ∀ u', gf_XI u' L → post ((L.filter (gf_ins a k)).foldl (fun s e => gf_mx s e.2) (-2147483648)) u') : wpX_most post u (nI a) (nI k) := by
  refine gf_XI_el (P := fun u => wpX_most post u (nI a) (nI k)) I (fun hl C R B H cx cy dr sz lf rt lo hi pl vs hp hv sn J => ?_)
  unfold wpX_most
  refine gx_isRectangle (nI a) (nI k) (fun _ _ _ _ _ _ _ _ => br_f (by decide) ?_) (fun z => absurd ⟨a, k, ha, hk, rfl, rfl, g1, g2⟩ z)
  refine gx_collect J hl ha hk g1 g2 (fun HL hp' hv' sn' hA hperm => ⟨HL.length + 1, ?_⟩)
  have hlen := hperm.length_eq
  have hle := List.length_filter_le (gf_ins a k) L
  refine gx_most22 hA (by omega) HL [] _ rfl ?_ (HL.length + 1) (by omega)
  rw [hperm.foldl_eq' (fun x _ y _ z => gf_mx_comm z x.2 y.2)]
  exact h0 _ (gf_XI_mk hl J)
/-- sorted, and without equal keys: strictly sorted -/
theorem gf_strict {S : List (Nat × Int32)} (h : S.Pairwise (fun x y => x.1 ≤ y.1)) (hn : (S.map Prod.fst).Nodup) : S.Pairwise (fun x y => x.1 < y.1) := by
  induction S with
  | nil => exact List.Pairwise.nil
  | cons a l ih =>
    rw [List.pairwise_cons] at h ⊢
    rw [List.map_cons, List.nodup_cons] at hn
    refine ⟨fun x hx => ?_, ih h.2 hn.2⟩
    have g1 := h.1 x hx
    have g2 : a.1 ≠ x.1 := fun z => hn.1 (by rw [z]; exact List.mem_map_of_mem hx)
    omega
theorem gx_point_yes {post : Int32 → SX → Prop} {a k : Nat} {v3 : Int32} (I : gf_XI u L) (ha : a < 1024) (hk : k < 1024) (g1 : a / 32 ≤ k / 32) (g2 : a % 32 ≤ k % 32)
    (h0 : ∀ (S : List Nat) r u', S.Pairwise (· < ·) → (∀ p, p ∈ S ↔ ∃ v, (p, v) ∈ L ∧ gf_ins a k (p, v) = true) → (∀ S1 q S2, S = S1 ++ q :: S2 → v3 = nI S1.length → nI q = r) → ((∀ i, i < S.length → v3 ≠ nI i) → (-2) = r) → gf_XI u' L → post r u') : wpX_point post u (nI a) (nI k) v3 := by
  refine gf_XI_el (P := fun u => wpX_point post u (nI a) (nI k) v3) I (fun hl C R B H cx cy dr sz lf rt lo hi pl vs hp hv sn J => ?_)
  unfold wpX_point
  refine gx_isRectangle (nI a) (nI k) (fun _ _ _ _ _ _ _ _ => br_f (by decide) ?_) (fun z => absurd ⟨a, k, ha, hk, rfl, rfl, g1, g2⟩ z)
  refine gx_collect J hl ha hk g1 g2 (fun HL hp' hv' sn' hA hperm => ?_)
  have ok1 := gf_ok_perm hperm (gf_ok_filter (gf_J_ok J hl) _)
  refine gx_sortHits ok1.2.1 ok1.2.2 hA (fun HL' hp2 hv2 hA2 hperm2 hsort => ?_)
  have ok2 := gf_ok_perm hperm2 ok1
  have hs := gf_strict hsort ok2.1
  have len2 := hperm2.length_eq
  have X : gf_XI (nI C, nI R, nI B, nI L.length, nI HL.length, gf_L cx, gf_L cy, gf_L dr, gf_L sz, gf_L lf, gf_L rt, gf_L lo, gf_L hi, gf_L pl, vs, hp2, hv2, sn') L := gf_XI_mk hl J
  have go : ∀ r, (∀ S1 q S2, HL'.map Prod.fst = S1 ++ q :: S2 → v3 = nI S1.length → nI q = r) → ((∀ i, i < (HL'.map Prod.fst).length → v3 ≠ nI i) → (-2) = r) → post r (nI C, nI R, nI B, nI L.length, nI HL.length, gf_L cx, gf_L cy, gf_L dr, gf_L sz, gf_L lf, gf_L rt, gf_L lo, gf_L hi, gf_L pl, vs, hp2, hv2, sn') := by
    intro r c1 c2
    refine h0 (HL'.map Prod.fst) r _ (List.pairwise_map.mpr hs) (fun p => ?_) c1 c2 X
    rw [← gf_has_key, gf_has_perm (hperm2.trans hperm)]
    constructor
    · rintro ⟨v, hv⟩
      exact ⟨v, (List.mem_filter.mp hv).1, (List.mem_filter.mp hv).2⟩
    · rintro ⟨v, hv, hi'⟩
      exact ⟨v, List.mem_filter.mpr ⟨hv, hi'⟩⟩
  have hl1 := ok1.2.1
  have no : (∀ i, i < (HL'.map Prod.fst).length → v3 ≠ nI i) → post (-2) (nI C, nI R, nI B, nI L.length, nI HL.length, gf_L cx, gf_L cy, gf_L dr, gf_L sz, gf_L lf, gf_L rt, gf_L lo, gf_L hi, gf_L pl, vs, hp2, hv2, sn') := by
    intro hno
    refine go (-2) (fun S1 q S2 e e3 => absurd e3 (hno _ ?_)) (fun _ => rfl)
    rw [gf_lenc e]
    omega
  rw [List.length_map, len2] at no
  rcases pk_ix v3 (n := HL.length) (by omega) with z | z | ⟨i, hi', rfl⟩
  · exact br_t z (no (fun i hi' e => nI_pos (n := i) (by omega) (e ▸ z)))
  · exact br_f (gf_nneg (by omega) z) (br_t z (no (fun i hi' e => nI_ge hi' (by omega) (e ▸ z))))
  · refine br_f (nI_pos (by omega)) (br_f (nI_ge hi' (by omega)) ⟨vp_in_nI (by omega) (by decide), ?_⟩)
    have q := gf_A_get hA2 i (by omega)
    rw [Nat.zero_add] at q
    rw [nI_clamp (by omega), q.1]
    refine go _ (fun S1 q' S2 e e3 => ?_) (fun hno => absurd rfl (hno i (by rw [List.length_map]; omega)))
    have l1 := gf_lenc e
    rw [List.length_map] at l1
    have ei : i = S1.length := (nI_eq (by omega) (by omega)).mp e3
    have g : (HL'.map Prod.fst)[i]? = some q' := by
      rw [e, ei, List.getElem?_append_right (Nat.le_refl _), Nat.sub_self]
      rfl
    have g' : (HL'.map Prod.fst)[i]? = some (HL'[i]'(by omega)).1 := by
      rw [List.getElem?_map, List.getElem?_eq_getElem (by omega)]
      rfl
    rw [g] at g'
    cases g'
    rfl
theorem gx_sorted {post : SX → Prop} (hl : L.length ≤ 40) {C R B : Nat} {H : Int32} {cx cy dr sz lf rt lo hi pl : Nat → Nat} {vs hp hv sn : Nat → Int32} (J : gf_J C R B cx cy dr sz lf rt lo hi pl vs L)
    (hq : ∀ HL hp' hv' sn', gf_A (gf_QH hp' hv') 0 HL → HL.Perm L → HL.Pairwise (fun x y => x.1 < y.1) → post (nI C, nI R, nI B, nI L.length, nI HL.length, gf_L cx, gf_L cy, gf_L dr, gf_L sz, gf_L lf, gf_L rt, gf_L lo, gf_L hi, gf_L pl, vs, hp', hv', sn')) :
    wpX_collect (fun u => wpX_sortHits post u) (nI C, nI R, nI B, nI L.length, H, gf_L cx, gf_L cy, gf_L dr, gf_L sz, gf_L lf, gf_L rt, gf_L lo, gf_L hi, gf_L pl, vs, hp, hv, sn) 0 1023 := by
  have ok := gf_J_ok J hl
  refine gx_collect J hl (a := 0) (k := 1023) (by decide) (by decide) (by decide) (by decide) (fun HL hp' hv' sn' hA hp1 => ?_)
  rw [gf_all ok.2.2] at hp1
  have ok' := gf_ok_perm hp1 ok
  refine gx_sortHits ok'.2.1 ok'.2.2 hA (fun HL' hp2 hv2 hA2 hperm2 hsort => ?_)
  rw [← hperm2.length_eq]
  exact hq HL' hp2 hv2 sn' hA2 (hperm2.trans hp1) (gf_strict hsort (gf_ok_perm hperm2 ok').1)
theorem gf_fr_perm {M : List (Nat × Int32)} (h : M.Perm L) : M.countP (gf_fr M) = L.countP (gf_fr L) := by
  rw [h.countP_eq]
  apply List.countP_congr
  intro e _
  unfold gf_fr
  rw [h.all_eq]
theorem gf_PS_perm {M : List (Nat × Int32)} (h : M.Perm L) (d : Nat) : gf_PS M d ↔ gf_PS L d :=
  ⟨fun ⟨p, q, h1, h2, h3⟩ => ⟨p, q, (gf_has_perm h).mp h1, (gf_has_perm h).mp h2, h3⟩, fun ⟨p, q, h1, h2, h3⟩ => ⟨p, q, (gf_has_perm h).mpr h1, (gf_has_perm h).mpr h2, h3⟩⟩
theorem gx_frontier {post : Int32 → SX → Prop} (I : gf_XI u L) (h0 : ∀ u', gf_XI u' L → post (nI (L.countP (gf_fr L))) u') : wpX_frontier post u := by
  refine gf_XI_el (P := fun u => wpX_frontier post u) I (fun hl C R B H cx cy dr sz lf rt lo hi pl vs hp hv sn J => ?_)
  have ok := gf_J_ok J hl
  unfold wpX_frontier
  refine gx_sorted hl J (fun HL hp' hv' sn' hA hperm hs => ?_)
  have len := hperm.length_eq
  refine nm_r (e' := nI HL.length + (-1)) (Int32.sub_eq_add_neg _ _) ⟨HL.length + 1, ?_⟩
  refine gx_fro23 hA (gf_ok_perm hperm ok) hs ?_ HL.length HL [] 0 rfl (by rw [List.append_nil]) ⟨by omega, (fun e h => nomatch h), Or.inl rfl⟩ (HL.length + 1) (by omega)
  rw [gf_fr_perm hperm]
  exact h0 _ (gf_XI_mk hl J)
theorem gx_closest {post : Int32 → SX → Prop} (I : gf_XI u L) (h0 : ∀ o u', gf_Mn (gf_PS L) o → gf_XI u' L → post (gf_om o) u') : wpX_closest post u := by
  refine gf_XI_el (P := fun u => wpX_closest post u) I (fun hl C R B H cx cy dr sz lf rt lo hi pl vs hp hv sn J => ?_)
  have ok := gf_J_ok J hl
  unfold wpX_closest
  refine gx_sorted hl J (fun HL hp' hv' sn' hA hperm hs => ⟨HL.length + 1, ?_⟩)
  have ok' := gf_ok_perm hperm ok
  have fin : ∀ o, gf_Mn (gf_PS HL) o → post (gf_om o) (nI C, nI R, nI B, nI L.length, nI HL.length, gf_L cx, gf_L cy, gf_L dr, gf_L sz, gf_L lf, gf_L rt, gf_L lo, gf_L hi, gf_L pl, vs, hp', hv', sn') :=
    fun o ho => h0 o _ (gf_Mn_iff (gf_PS_perm hperm) ho) (gf_XI_mk hl J)
  cases HL with
  | nil =>
    refine br_t (by decide) (fin none ⟨(fun d e => nomatch e), fun _ d z => ?_⟩)
    obtain ⟨p, q, h1, _⟩ := z
    exact gf_has_nil p h1
  | cons e rest =>
    refine gx_clo16 hA ok' hs fin rest [e] none (by show 1 ≤ 1; omega) rfl ⟨(fun d e => nomatch e), fun _ d z => ?_⟩ _ (by rw [List.length_cons]; omega)
    obtain ⟨p, q, ⟨v, h1⟩, ⟨w, h2⟩, hne, _⟩ := z
    have e1 := congrArg Prod.fst (List.mem_singleton.mp h1)
    have e2 := congrArg Prod.fst (List.mem_singleton.mp h2)
    exact hne (e1.trans e2.symm)
theorem gx_within_no {post : Int32 → Prop} {x y r : Int32} (I : gf_XI u L) (h : ¬ gf_Pl x y) (hp : post (-1)) : wpX_within post u x y r := by
  refine gf_XI_el (P := fun u => wpX_within post u x y r) I (fun hl C R B H cx cy dr sz lf rt lo hi pl vs hp hv sn J => ?_)
  unfold wpX_within
  exact gx_isPlace x y (fun a b ha hb hx hy => absurd ⟨⟨a, ha, hx⟩, ⟨b, hb, hy⟩⟩ h) (fun _ => br_t rfl ‹_›)
theorem gx_within_yes {post : Int32 → Prop} {a b : Nat} {r : Int32} (I : gf_XI u L) (ha : a < 32) (hb : b < 32) (h0 : post (nI (L.countP (gf_wi a b r)))) : wpX_within post u (nI a) (nI b) r := by
  refine gf_XI_el (P := fun u => wpX_within post u (nI a) (nI b) r) I (fun hl C R B H cx cy dr sz lf rt lo hi pl vs hp hv sn J => ?_)
  unfold wpX_within
  refine gx_isPlace (nI a) (nI b) (fun _ _ _ _ _ _ => br_f (by decide) ⟨B + 1, ?_⟩) (fun z => absurd ⟨⟨a, ha, rfl⟩, ⟨b, hb, rfl⟩⟩ z)
  exact gx_within16 J.1 J.2.1.2.2.2.1 J.2.2.1 ha hb (by rw [J.2.2.2.1.countP_eq]; exact h0) B 0 (by omega) (B + 1) (by omega)
theorem gx_nearest_no {post : Int32 → SX → Prop} {x y : Int32} (I : gf_XI u L) (h : ¬ gf_Pl x y) (hp : post (-1) u) : wpX_nearest post u x y := by
  refine gf_XI_el (P := fun u => post (-1) u → wpX_nearest post u x y) I (fun hl C R B H cx cy dr sz lf rt lo hi pl vs hp hv sn J hq => ?_) hp
  unfold wpX_nearest
  exact gx_isPlace x y (fun a b ha hb hx hy => absurd ⟨⟨a, ha, hx⟩, ⟨b, hb, hy⟩⟩ h) (fun _ => br_t rfl hq)
theorem gx_nearest_yes {post : Int32 → SX → Prop} {a b : Nat} (I : gf_XI u L) (ha : a < 32) (hb : b < 32) (h0 : ∀ o u', gf_Mi a b (gf_has L) o → gf_XI u' L → post (gf_ob o) u') : wpX_nearest post u (nI a) (nI b) := by
  refine gf_XI_el (P := fun u => wpX_nearest post u (nI a) (nI b)) I (fun hl C R B H cx cy dr sz lf rt lo hi pl vs hp hv sn J => ?_)
  unfold wpX_nearest
  refine gx_isPlace (nI a) (nI b) (fun _ _ _ _ _ _ => br_f (by decide) ⟨B + 1, ?_⟩) (fun z => absurd ⟨⟨a, ha, rfl⟩, ⟨b, hb, rfl⟩⟩ z)
  refine gx_near12 J.2.1.2.2.2.1 (fun j => (J.1 j).2.2.2.1) (fun sn' hs => ⟨B + 1, ?_⟩) B 0 sn (by omega) (fun b' h => absurd h (Nat.not_lt_zero b')) (B + 1) (by omega)
  refine gx_near55 J ha hb (fun o sn'' hm => h0 o _ hm (gf_XI_mk hl J)) B 0 sn' none (by omega) ?_ ?_ (B + 1) (by omega)
  · refine Nat.le_trans List.countP_le_length ?_
    rw [List.length_range]
    exact Nat.le_refl _
  · refine ⟨(fun p e => nomatch e), fun _ q z => ?_⟩
    obtain ⟨b', hb', hs', v, hv⟩ := z
    obtain ⟨k, hk, _⟩ := gf_bk_mem.mp hv
    have := (hs b' hb').mp hs'
    omega
theorem gx_line_bad {post : Int32 → SX → Prop} {x y : Int32} (I : gf_XI u L) (h : ¬ gf_Co 2 x) (hp : post (-1) u) : wpX_line post u x y := by
  refine gf_XI_el (P := fun u => post (-1) u → wpX_line post u x y) I (fun hl C R B H cx cy dr sz lf rt lo hi pl vs hp hv sn J hq => ?_) hp
  exact br_f (fun z => h ⟨0, by decide, z⟩) (br_f (fun z => h ⟨1, by decide, z⟩) hq)
theorem gx_line11 {post : Int32 → SX → Prop} {x y : Int32} (I : gf_XI u L) (h : gf_Co 2 x) (hp : ∀ f1 f2 f3 f4 f5 a1 a2 a3 a4 a5 a6 a7 a8 a9 a10 a11 a12 a13, u = (f1, f2, f3, f4, f5, a1, a2, a3, a4, a5, a6, a7, a8, a9, a10, a11, a12, a13) → wX_line_11 post x y f1 f2 f3 f4 f5 a1 a2 a3 a4 a5 a6 a7 a8 a9 a10 a11 a12 a13) : wpX_line post u x y := by
  obtain ⟨f1, f2, f3, f4, f5, a1, a2, a3, a4, a5, a6, a7, a8, a9, a10, a11, a12, a13⟩ := u
  have g := hp f1 f2 f3 f4 f5 a1 a2 a3 a4 a5 a6 a7 a8 a9 a10 a11 a12 a13 rfl
  obtain ⟨a, ha, rfl⟩ := h
  by_cases z : a = 0
  · subst z
    exact br_t rfl g
  · have z1 : a = 1 := by omega
    subst z1
    exact br_f (by decide) (br_t rfl g)
theorem gx_line_no {post : Int32 → SX → Prop} {x y : Int32} (I : gf_XI u L) (h : gf_Co 2 x) (h2 : ¬ gf_Co 32 y) (hp : post (-2) u) : wpX_line post u x y := by
  refine gx_line11 I h (fun f1 f2 f3 f4 f5 a1 a2 a3 a4 a5 a6 a7 a8 a9 a10 a11 a12 a13 e => ?_)
  rw [e] at hp
  rcases pk_ix y (n := 32) (by decide) with z | z | ⟨b, hb, rfl⟩
  · exact br_t z hp
  · exact br_f (gf_nneg (by decide) z) (br_f (Int32.not_lt.mpr z) hp)
  · exact absurd ⟨b, hb, rfl⟩ h2
theorem gx_line_yes {post : Int32 → SX → Prop} {a b : Nat} (I : gf_XI u L) (ha : a < 2) (hb : b < 32) (h0 : ∀ u', gf_XI u' L → post (nI (L.countP (gf_ln a b))) u') : wpX_line post u (nI a) (nI b) := by
  have ok := gf_XI_ok I
  have cnt : ∀ x y, (∀ e : Nat × Int32, e.1 < 1024 → (gf_ins x y e = true ↔ gf_ln a b e = true)) → L.countP (gf_ins x y) = L.countP (gf_ln a b) :=
    fun x y h => List.countP_congr (fun e he => h e (ok.2.2 e he))
  have col : ∀ x y, x < 1024 → y < 1024 → x / 32 ≤ y / 32 → x % 32 ≤ y % 32 → (∀ e : Nat × Int32, e.1 < 1024 → (gf_ins x y e = true ↔ gf_ln a b e = true)) → wpX_collect (fun u => post u.2.2.2.2.1 u) u (nI x) (nI y) := by
    intro x y hx hy g1 g2 hc
    refine gf_XI_el (P := fun u => wpX_collect (fun u => post u.2.2.2.2.1 u) u (nI x) (nI y)) I (fun hl C R B H cx cy dr sz lf rt lo hi pl vs hp hv sn J => ?_)
    refine gx_collect J hl hx hy g1 g2 (fun HL hp' hv' sn' hA hperm => ?_)
    have hlen := hperm.length_eq
    rw [← List.countP_eq_length_filter, cnt x y hc] at hlen
    have := h0 _ (gf_XI_mk (H := nI HL.length) (hp := hp') (hv := hv') (sn := sn') hl J)
    rw [← hlen] at this
    exact this
  refine gx_line11 I ⟨a, ha, rfl⟩ (fun f1 f2 f3 f4 f5 a1 a2 a3 a4 a5 a6 a7 a8 a9 a10 a11 a12 a13 e => ?_)
  rw [e] at col
  refine br_f (nI_pos (by omega)) (br_t (nI_lt (b := 32) hb (by decide)) ?_)
  have e1 : (32 : Int32) * nI b + 31 = nI (32 * b + 31) := gf_32a b 31
  have e2 : (992 : Int32) + nI b = nI (992 + b) := nI_add 992 b
  rw [e1, e2, gf_m32]
  refine pk_eq a 0 (fun z => ?_) (fun z => ?_)
  · refine col (32 * b) (32 * b + 31) (by omega) (by omega) (by omega) (by omega) (fun e he => ?_)
    unfold gf_ins gf_ln
    rw [decide_eq_true_eq, decide_eq_true_eq, if_pos z]
    omega
  · refine col b (992 + b) (by omega) (by omega) (by omega) (by omega) (fun e he => ?_)
    unfold gf_ins gf_ln
    rw [decide_eq_true_eq, decide_eq_true_eq, if_neg z]
    omega
end XR
end
section
/-! scatter: puts in lockstep -/
theorem gf_put_both {L : List (Nat × Int32)} (ok : gf_ok L) {a b : Nat} (ha : a < 32) (hb : b < 32) (val : Int32) : ∃ L', gf_ok L' ∧
    (∀ u (post : Int32 → SX → Prop), gf_XI u L → (∀ r u', gf_XI u' L' → post r u') → wpX_put post u (nI a) (nI b) val) ∧
    (∀ v (post : Int32 → SY → Prop), gf_YI v L → (∀ r v', gf_YI v' L' → post r v') → wpY_put post v (nI a) (nI b) val) := by
  have hl := ok.2.1
  by_cases h : gf_has L (32 * a + b)
  · exact ⟨_, gf_ok_set ok (32 * a + b) (by omega) val, fun u post I hq => gx_put_yes I ha hb (fun _ u' => hq 0 u') (fun z => absurd h z) (fun z => absurd h z), fun v post I hq => gy_put_yes I ha hb (fun _ v' => hq 0 v') (fun z => absurd h z) (fun z => absurd h z)⟩
  · by_cases h4 : L.length = 40
    · exact ⟨L, ok, fun u post I hq => gx_put_yes I ha hb (fun z => absurd z h) (fun _ _ => hq _ u I) (fun _ z => absurd z (by omega)), fun v post I hq => gy_put_yes I ha hb (fun z => absurd z h) (fun _ _ => hq _ v I) (fun _ z => absurd z (by omega))⟩
    · exact ⟨_, gf_ok_snoc ok (p := 32 * a + b) (by omega) val (by omega) h, fun u post I hq => gx_put_yes I ha hb (fun z => absurd z h) (fun _ z => absurd z h4) (fun _ _ u' => hq 1 u'), fun v post I hq => gy_put_yes I ha hb (fun z => absurd z h) (fun _ z => absurd z h4) (fun _ _ v' => hq 1 v')⟩
theorem gf_XI_cnt {u : SX} {L : List (Nat × Int32)} (I : gf_XI u L) : u.2.2.2.1 = nI L.length :=
  gf_XI_el (P := fun u => u.2.2.2.1 = nI L.length) I (fun hl C R B H cx cy dr sz lf rt lo hi pl vs hp hv sn J => rfl)
theorem gf_and31 (x : Int32) : x &&& 31 = nI (x.toBitVec.toNat % 32) := pk_and x 5 (by decide)
theorem gf_step31 (z d : Int32) : ((z &&& 31) + d) &&& 31 = (z + d) &&& 31 := by
  rw [gf_and31 ((z &&& 31) + d), gf_and31 (z + d), Int32.toBitVec_add, Int32.toBitVec_add, BitVec.toNat_add, BitVec.toNat_add, gf_and31 z, pk_tn (by omega)]
  exact congrArg nI (by omega)
/-- the coordinate at step k -/
def gf_xs (c k : Nat) (d : Int32) : Int32 := (nI c + nI k * d) &&& 31
theorem gf_xs_0 {c : Nat} (hc : c < 32) (d : Int32) : gf_xs c 0 d = nI c := by
  unfold gf_xs
  rw [nI_0, Int32.zero_mul, Int32.add_zero, gf_a31 (by omega)]
  exact congrArg nI (by omega)
theorem gf_xs_s (c k : Nat) (d : Int32) : (gf_xs c k d + d) &&& 31 = gf_xs c (k + 1) d := by
  unfold gf_xs
  rw [gf_step31, nI_succ, Int32.add_mul, Int32.one_mul, Int32.add_assoc]
theorem gf_xs_c (c k : Nat) (d : Int32) : ∃ a, a < 32 ∧ gf_xs c k d = nI a := by
  obtain ⟨j, hj, e⟩ := pk_andE (nI c + nI k * d) (m := 31) 5 (by decide)
  exact ⟨j, hj, e⟩
theorem gf_scat {p st : Nat} {val dx dy : Int32} (hp : p < 1024) (hst : st ≤ 40) : ∀ (d k : Nat) (L : List (Nat × Int32)), k + d = st → gf_ok L → ∃ L',
    (∀ f1 f2 f3 f4 f5 a1 a2 a3 a4 a5 a6 a7 a8 a9 a10 a11 a12 a13 (post : Int32 → SX → Prop), gf_XI (f1, f2, f3, f4, f5, a1, a2, a3, a4, a5, a6, a7, a8, a9, a10, a11, a12, a13) L → (∀ u', gf_XI u' L' → post (nI L'.length) u') → ∀ n, d < n → wX_scatter_88 post val (nI st) dy dx n (gf_xs (p / 32) k dx) (gf_xs (p % 32) k dy) (nI k) f1 f2 f3 f4 f5 a1 a2 a3 a4 a5 a6 a7 a8 a9 a10 a11 a12 a13) ∧
    (∀ s px py wo (post : Int32 → SY → Prop), gf_YI (s, px, py, wo) L → (∀ v', gf_YI v' L' → post (nI L'.length) v') → ∀ n, d < n → wY_scatter_86 post (nI p) val (nI st) dx dy n (nI k) s px py wo) := by
  intro d
  induction d with
  | zero =>
    intro k L hk ok
    refine ⟨L, fun f1 f2 f3 f4 f5 a1 a2 a3 a4 a5 a6 a7 a8 a9 a10 a11 a12 a13 post I hq n hn => ?_, fun s px py wo post I hq n hn => ?_⟩
    · obtain ⟨m, rfl⟩ : ∃ m, n = m + 1 := ⟨n - 1, by omega⟩
      have e : f4 = nI L.length := gf_XI_cnt I
      subst e
      exact br_t (nI_le (by omega) (by omega)) (hq _ I)
    · obtain ⟨m, rfl⟩ : ∃ m, n = m + 1 := ⟨n - 1, by omega⟩
      have e : s = nI L.length := gf_YI_el (P := fun v => v.1 = nI L.length) I (fun _ _ _ _ _ => rfl)
      subst e
      exact br_t (nI_le (by omega) (by omega)) (hq _ I)
  | succ d ih =>
    intro k L hk ok
    obtain ⟨a, ha, ea⟩ := gf_xs_c (p / 32) k dx
    obtain ⟨b, hb, eb⟩ := gf_xs_c (p % 32) k dy
    obtain ⟨L1, ok1, hX, hY⟩ := gf_put_both ok ha hb (val + nI k)
    obtain ⟨L', iX, iY⟩ := ih (k + 1) L1 (by omega) ok1
    refine ⟨L', fun f1 f2 f3 f4 f5 a1 a2 a3 a4 a5 a6 a7 a8 a9 a10 a11 a12 a13 post I hq n hn => ?_, fun s px py wo post I hq n hn => ?_⟩
    · obtain ⟨m, rfl⟩ : ∃ m, n = m + 1 := ⟨n - 1, by omega⟩
      refine br_f (nI_ge (by omega) (by omega)) ?_
      rw [gf_xs_s, gf_xs_s, ea, eb]
      refine hX _ _ I (fun r u' I' => ?_)
      obtain ⟨g1, g2, g3, g4, g5, b1, b2, b3, b4, b5, b6, b7, b8, b9, b10, b11, b12, b13⟩ := u'
      exact nm_e (nm_e (nm_r (nI_1 k) (iX g1 g2 g3 g4 g5 b1 b2 b3 b4 b5 b6 b7 b8 b9 b10 b11 b12 b13 post I' hq m (by omega))))
    · obtain ⟨m, rfl⟩ : ∃ m, n = m + 1 := ⟨n - 1, by omega⟩
      have e1 : (nI p / 32 + nI k * dx) &&& 31 = nI a := by rw [gf_d32 (by omega)]; exact ea
      have e2 : (nI p - nI p / 32 * 32 + nI k * dy) &&& 31 = nI b := by rw [gf_r32 (by omega)]; exact eb
      refine br_f (nI_ge (by omega) (by omega)) ⟨by decide, nm_r e1 ⟨by decide, nm_r e2 ?_⟩⟩
      refine hY _ _ I (fun r v' I' => ?_)
      obtain ⟨s', px', py', wo'⟩ := v'
      exact nm_r (nI_1 k) (iY s' px' py' wo' post I' hq m (by omega))
theorem gf_m31 {q : Nat} (hq : q < 2 ^ 30) : (nI q - 31).toInt = (q : Int) - 31 := pk_sub_toInt (b := 31) hq (by decide)
theorem gf_31lt {q : Nat} (hq : q < 2 ^ 30) : 31 < nI q - 31 ↔ 62 < q := by
  rw [Int32.lt_iff_toInt_lt, gf_m31 hq, gf_i31]
  omega
theorem gf_le31 {q : Nat} (hq : q < 2 ^ 30) : nI q - 31 ≤ 31 ↔ q ≤ 62 := by
  rw [Int32.le_iff_toInt_le, gf_m31 hq, gf_i31]
  omega
/-- a walk's four parts are within their bounds -/
def gf_wk (w : Nat) : Prop := 1 ≤ w % 64 ∧ w % 64 ≤ 40 ∧ w / 64 % 64 ≤ 62 ∧ w / 4096 ≤ 62
section SC
variable {u : SX} {v : SY} {L : List (Nat × Int32)}
theorem gx_scatter_no1 {post : Int32 → SX → Prop} {x y z : Int32} (I : gf_XI u L) (h : ¬ gf_Co 1024 x) (hp : post (-1) u) : wpX_scatter post u x y z := by
  refine gf_XI_el (P := fun u => post (-1) u → wpX_scatter post u x y z) I (fun hl C R B H cx cy dr sz lf rt lo hi pl vs hp hv sn J hq => ?_) hp
  rcases pk_ix x (n := 1024) (by decide) with z | z | ⟨a, ha, rfl⟩
  · exact br_t z hq
  · exact br_f (gf_nneg (by decide) z) (br_f (gf_n1023 z) hq)
  · exact absurd ⟨a, ha, rfl⟩ h
theorem gx_scatter_neg {post : Int32 → SX → Prop} {p : Nat} {y z : Int32} (I : gf_XI u L) (hp : p < 1024) (h : y < 0) (hq : post (-2) u) : wpX_scatter post u (nI p) y z := by
  refine gf_XI_el (P := fun u => post (-2) u → wpX_scatter post u (nI p) y z) I (fun hl C R B H cx cy dr sz lf rt lo hi pl vs hp' hv sn J hq => ?_) hq
  exact br_f (nI_pos (by omega)) (br_t (nI_le (b := 1023) (by omega) (by decide)) (nm_e (nm_e (nm_e (br_t h hq)))))
theorem gx_scatter {post : Int32 → SX → Prop} {p w : Nat} {z : Int32} (I : gf_XI u L) (hp : p < 1024) (hw : w < 2 ^ 31) (h1 : ¬ gf_wk w → post (-2) u)
    (h2 : gf_wk w → ∀ f1 f2 f3 f4 f5 a1 a2 a3 a4 a5 a6 a7 a8 a9 a10 a11 a12 a13, u = (f1, f2, f3, f4, f5, a1, a2, a3, a4, a5, a6, a7, a8, a9, a10, a11, a12, a13) → ∃ n, wX_scatter_88 post z (nI (w % 64)) (nI (w / 64 % 64) - 31) (nI (w / 4096) - 31) n (nI (p / 32)) (nI (p % 32)) (nI 0) f1 f2 f3 f4 f5 a1 a2 a3 a4 a5 a6 a7 a8 a9 a10 a11 a12 a13) : wpX_scatter post u (nI p) (nI w) z := by
  obtain ⟨f1, f2, f3, f4, f5, a1, a2, a3, a4, a5, a6, a7, a8, a9, a10, a11, a12, a13⟩ := u
  have e4 : nI w &&& 63 = nI (w % 64) := pk_andN (by omega) 6 (by decide)
  have e5 : (nI w >>> ((6 : Int32) &&& 31)) &&& 63 = nI (w / 64 % 64) := by
    rw [pk_shrN hw _ 6 (by decide)]
    exact pk_andN (by omega) 6 (by decide)
  have e6 : nI w >>> ((12 : Int32) &&& 31) = nI (w / 4096) := pk_shrN hw _ 12 (by decide)
  refine br_f (nI_pos (by omega)) (br_t (nI_le (b := 1023) (by omega) (by decide)) (nm_r e4 (nm_r (e' := nI (w / 64 % 64) - 31) (by rw [e5]) (nm_r (e' := nI (w / 4096) - 31) (by rw [e6]) (br_f (nI_pos hw) ?_)))))
  refine pk_lt (w % 64) 1 (fun q => h1 (fun k => by have := k.1; omega)) (fun q1 => ?_)
  refine pk_lt 40 (w % 64) (fun q => h1 (fun k => by have := k.2.1; omega)) (fun q2 => ?_)
  refine ⟨fun q => h1 (fun k => by have := (gf_31lt (by omega)).mp q; have := k.2.2.1; omega), fun q3 => ?_⟩
  have q3' : w / 64 % 64 ≤ 62 := by
    apply Nat.le_of_not_lt
    exact fun k => q3 ((gf_31lt (by omega)).mpr k)
  refine ⟨fun q4 => ?_, fun q => h1 (fun k => q ((gf_le31 (by omega)).mpr k.2.2.2))⟩
  have q4' := (gf_le31 (by omega)).mp q4
  exact nm_r (gf_sh5 (by omega)) (nm_r (gf_a31 (by omega)) (h2 ⟨q1, q2, q3', q4'⟩ f1 f2 f3 f4 f5 a1 a2 a3 a4 a5 a6 a7 a8 a9 a10 a11 a12 a13 rfl))
theorem gy_scatter_no1 {post : Int32 → SY → Prop} {x y z : Int32} (h : ¬ gf_Co 1024 x) (hp : post (-1) v) : wpY_scatter post v x y z := by
  obtain ⟨s, px, py, wo⟩ := v
  unfold wpY_scatter
  exact gy_badPlace x (fun a ha e => absurd ⟨a, ha, e⟩ h) (fun _ => br_f (by decide) hp)
theorem gy_scatter_neg {post : Int32 → SY → Prop} {p : Nat} {y z : Int32} (hp : p < 1024) (h : y < 0) (hq : post (-2) v) : wpY_scatter post v (nI p) y z := by
  obtain ⟨s, px, py, wo⟩ := v
  unfold wpY_scatter
  exact gy_badPlace (nI p) (fun _ _ _ => br_t rfl (br_t h hq)) (fun k => absurd ⟨p, hp, rfl⟩ k)
theorem gy_scatter {post : Int32 → SY → Prop} {p w : Nat} {z : Int32} (hp : p < 1024) (hw : w < 2 ^ 31) (h1 : ¬ gf_wk w → post (-2) v)
    (h2 : gf_wk w → ∀ s px py wo, v = (s, px, py, wo) → ∃ n, wY_scatter_86 post (nI p) z (nI (w % 64)) (nI (w / 4096) - 31) (nI (w / 64 % 64) - 31) n (nI 0) s px py wo) : wpY_scatter post v (nI p) (nI w) z := by
  obtain ⟨s, px, py, wo⟩ := v
  have e1 : nI w / 4096 = nI (w / 4096) := pk_div (d := 4096) hw (by omega) (by omega)
  have e2 : nI w / 64 = nI (w / 64) := pk_div (d := 64) hw (by omega) (by omega)
  have e3 : nI (w / 64) - nI (w / 64) / 64 * 64 = nI (w / 64 % 64) := pk_rem (d := 64) (by omega) (by omega) (by omega)
  have e4 : nI w - nI w / 64 * 64 = nI (w % 64) := pk_rem (d := 64) hw (by omega) (by omega)
  unfold wpY_scatter
  refine gy_badPlace (nI p) (fun _ _ _ => br_t rfl (br_f (nI_pos hw) ⟨by decide, ?_⟩)) (fun k => absurd ⟨p, hp, rfl⟩ k)
  rw [e4, e1, e2, e3]
  refine pk_lt 62 (w / 4096) (fun q => h1 (fun k => by have := k.2.2.2; omega)) (fun q1 => ⟨by decide, by decide, ?_⟩)
  refine pk_le (w / 64 % 64) 62 (fun q2 => ⟨by decide, nm_e ?_⟩) (fun q => h1 (fun k => by have := k.2.2.1; omega))
  refine pk_lt (w % 64) 1 (fun q => h1 (fun k => by have := k.1; omega)) (fun q3 => ?_)
  refine pk_le (w % 64) 40 (fun q4 => ⟨by decide, nm_e ⟨by decide, by decide, nm_e ?_⟩⟩) (fun q => h1 (fun k => by have := k.2.1; omega))
  exact h2 ⟨q3, q4, q2, q1⟩ s px py wo rfl
end SC
end
section
/-! the relation, and what is owed -/
section YW
variable {v : SY} {L : List (Nat × Int32)}
theorem gy_size {post : Int32 → Prop} (I : gf_YI v L) (hp : post (nI L.length)) : wpY_size post v :=
  gf_YI_el (P := fun v => wpY_size post v) I (fun _ _ _ _ _ => hp)
theorem gy_clear_no {post : Int32 → SY → Prop} {x y : Int32} (I : gf_YI v L) (h : ¬ gf_Re x y) (hp : post (-1) v) : wpY_clear post v x y := by
  refine gf_YI_el (P := fun v => post (-1) v → wpY_clear post v x y) I (fun ok px py wo hA hq => ?_) hp
  unfold wpY_clear
  exact gy_badRectangle x y (fun a b ha hb hx hy g1 g2 => absurd ⟨a, b, ha, hb, hx, hy, g1, g2⟩ h) (fun _ => br_f (by decide) hq)
theorem gy_clear_yes {post : Int32 → SY → Prop} {a k : Nat} (I : gf_YI v L) (ha : a < 1024) (hk : k < 1024) (g1 : a / 32 ≤ k / 32) (g2 : a % 32 ≤ k % 32)
    (h0 : ∀ v', gf_YI v' (L.filter (fun e => !gf_ins a k e)) → post (nI (L.countP (gf_ins a k))) v') : wpY_clear post v (nI a) (nI k) := by
  refine gf_YI_el (P := fun v => wpY_clear post v (nI a) (nI k)) I (fun ok px py wo hA => ?_)
  have hl := ok.2.1
  unfold wpY_clear
  refine gy_badRectangle (nI a) (nI k) (fun _ _ _ _ _ _ _ _ => br_t rfl ⟨41, ?_⟩) (fun z => absurd ⟨a, k, ha, hk, rfl, rfl, g1, g2⟩ z)
  have := gy_clear17 (post := post) ha hk 40 L [] px py wo 0 (by rw [List.append_nil]; exact hA) (by rw [List.append_nil]; exact ok) (by omega) (by
    by_cases z : L.length = 40
    · exact Or.inl z
    · exact Or.inr ⟨by omega, rfl⟩) (fun px' py' wo' h1 h2 => by
      rw [List.append_nil] at h1 h2 ⊢
      rw [Nat.zero_add]
      exact h0 _ (gf_YI_mk h2 h1)) 41 (by omega)
  rw [List.append_nil] at this
  exact this
theorem gy_move_no {post : Int32 → SY → Prop} {x y : Int32} (I : gf_YI v L) (h : ¬ (gf_Co 1024 x ∧ gf_Co 1024 y)) (hp : post (-1) v) : wpY_move post v x y := by
  refine gf_YI_el (P := fun v => post (-1) v → wpY_move post v x y) I (fun ok px py wo hA hq => ?_) hp
  unfold wpY_move
  refine gy_badPlace x (fun a ha hx => br_t rfl ?_) (fun _ => br_f (by decide) hq)
  exact gy_badPlace y (fun b hb hy => absurd ⟨⟨a, ha, hx⟩, ⟨b, hb, hy⟩⟩ h) (fun _ => br_f (by decide) hq)
theorem gy_move_yes {post : Int32 → SY → Prop} {p q : Nat} (I : gf_YI v L) (hp : p < 1024) (hq : q < 1024)
    (h1 : ¬ gf_has L p → post (-2) v) (h2 : gf_has L p → gf_has L q → post (-3) v) (h3 : gf_has L p → ¬ gf_has L q → ∀ v', gf_YI v' (gf_mvL L p q) → post 0 v') : wpY_move post v (nI p) (nI q) := by
  refine gf_YI_el (P := fun v => (¬ gf_has L p → post (-2) v) → (gf_has L p → gf_has L q → post (-3) v) → wpY_move post v (nI p) (nI q)) I (fun ok px py wo hA h1 h2 => ?_) h1 h2
  have hl := ok.2.1
  have ep : 32 * (p / 32) + p % 32 = p := by omega
  have eq : 32 * (q / 32) + q % 32 = q := by omega
  have d1 : nI p / 32 = nI (p / 32) := gf_d32 (by omega)
  have d2 : nI q / 32 = nI (q / 32) := gf_d32 (by omega)
  have r1 : nI p - nI p / 32 * 32 = nI (p % 32) := gf_r32 (by omega)
  have r2 : nI q - nI q / 32 * 32 = nI (q % 32) := gf_r32 (by omega)
  unfold wpY_move
  refine gy_badPlace (nI p) (fun _ _ _ => br_t rfl ?_) (fun z => absurd ⟨p, hp, rfl⟩ z)
  refine gy_badPlace (nI q) (fun _ _ _ => br_t rfl ⟨by decide, by decide, ?_⟩) (fun z => absurd ⟨q, hq, rfl⟩ z)
  rw [r1, r2, d1, d2]
  refine gy_find (by omega) (by omega) hA ok (fun P e Q hP he => ?_) (fun hn => br_f (by decide) (h1 (by rw [ep] at hn; exact hn)))
  rw [ep] at he
  have hasp : gf_has L p := ⟨e.2, by rw [← he]; exact gf_memc hP⟩
  have len := gf_lenc hP
  refine br_t (nI_pos' (by omega)) ⟨by decide, by decide, ?_⟩
  refine gy_find (by omega) (by omega) hA ok (fun P' e' Q' hP' he' => ?_) (fun hn => ?_)
  · rw [eq] at he'
    have len' := gf_lenc hP'
    exact br_f (nI_pos (by omega)) (h2 hasp ⟨e'.2, by rw [← he']; exact gf_memc hP'⟩)
  · rw [eq] at hn
    obtain ⟨vi, cl, q1, q2, q3⟩ := gf_yat hA hP hl
    refine br_t (by decide) ⟨by decide, vi, ?_⟩
    rw [cl]
    refine nm_e ⟨by decide, vi, nm_e ?_⟩
    have es := gf_mvL_at (q := q) ok.1 hP
    rw [he] at es
    have hA' : gf_A (gf_QY (upd px P.length (nI (q / 32))) (upd py P.length (nI (q % 32))) wo) 0 (P ++ (q, e.2) :: Q) :=
      gf_A_set (hP ▸ hA) (by rw [Nat.zero_add]; exact ⟨pk_us, pk_us, q3⟩) (fun j e hj h => by
        rw [Nat.zero_add] at hj
        exact ⟨(pk_un hj).trans h.1, (pk_un hj).trans h.2.1, h.2.2⟩)
    rw [← es] at hA'
    have := h3 hasp hn _ (gf_YI_mk (gf_ok_mv ok hq hasp hn) hA')
    rw [gf_mvL, List.length_map] at this
    exact this
theorem gy_count_no {post : Int32 → Prop} {x y : Int32} (I : gf_YI v L) (h : ¬ gf_Re x y) (hp : post (-1)) : wpY_count post v x y := by
  refine gf_YI_el (P := fun v => wpY_count post v x y) I (fun ok px py wo hA => ?_)
  unfold wpY_count
  exact gy_badRectangle x y (fun a b ha hb hx hy g1 g2 => absurd ⟨a, b, ha, hb, hx, hy, g1, g2⟩ h) (fun _ => br_f (by decide) hp)
theorem gy_sum_no {post : Int32 → Prop} {x y : Int32} (I : gf_YI v L) (h : ¬ gf_Re x y) (hp : post 0) : wpY_sum post v x y := by
  refine gf_YI_el (P := fun v => wpY_sum post v x y) I (fun ok px py wo hA => ?_)
  unfold wpY_sum
  exact gy_badRectangle x y (fun a b ha hb hx hy g1 g2 => absurd ⟨a, b, ha, hb, hx, hy, g1, g2⟩ h) (fun _ => br_f (by decide) hp)
theorem gy_most_no {post : Int32 → Prop} {x y : Int32} (I : gf_YI v L) (h : ¬ gf_Re x y) (hp : post (-2147483648)) : wpY_most post v x y := by
  refine gf_YI_el (P := fun v => wpY_most post v x y) I (fun ok px py wo hA => ?_)
  unfold wpY_most
  exact gy_badRectangle x y (fun a b ha hb hx hy g1 g2 => absurd ⟨a, b, ha, hb, hx, hy, g1, g2⟩ h) (fun _ => br_f (by decide) hp)
theorem gy_point_no {post : Int32 → Prop} {x y z : Int32} (I : gf_YI v L) (h : ¬ gf_Re x y) (hp : post (-1)) : wpY_point post v x y z := by
  refine gf_YI_el (P := fun v => wpY_point post v x y z) I (fun ok px py wo hA => ?_)
  unfold wpY_point
  exact gy_badRectangle x y (fun a b ha hb hx hy g1 g2 => absurd ⟨a, b, ha, hb, hx, hy, g1, g2⟩ h) (fun _ => br_f (by decide) hp)
theorem gy_count_yes {post : Int32 → Prop} {a k : Nat} (I : gf_YI v L) (ha : a < 1024) (hk : k < 1024) (g1 : a / 32 ≤ k / 32) (g2 : a % 32 ≤ k % 32) (hp : post (nI (L.countP (gf_ins a k)))) : wpY_count post v (nI a) (nI k) := by
  refine gf_YI_el (P := fun v => wpY_count post v (nI a) (nI k)) I (fun ok px py wo hA => ?_)
  unfold wpY_count
  refine gy_badRectangle (nI a) (nI k) (fun _ _ _ _ _ _ _ _ => br_t rfl ⟨L.length + 1, ?_⟩) (fun z => absurd ⟨a, k, ha, hk, rfl, rfl, g1, g2⟩ z)
  exact gy_count16 ha hk hA ok L [] 0 rfl (by rw [Nat.zero_add]; exact hp) (L.length + 1) (by omega)
theorem gy_sum_yes {post : Int32 → Prop} {a k : Nat} (I : gf_YI v L) (ha : a < 1024) (hk : k < 1024) (g1 : a / 32 ≤ k / 32) (g2 : a % 32 ≤ k % 32) (hp : post ((L.filter (gf_ins a k)).foldl (fun s e => s + e.2) 0)) : wpY_sum post v (nI a) (nI k) := by
  refine gf_YI_el (P := fun v => wpY_sum post v (nI a) (nI k)) I (fun ok px py wo hA => ?_)
  unfold wpY_sum
  refine gy_badRectangle (nI a) (nI k) (fun _ _ _ _ _ _ _ _ => br_t rfl ⟨L.length + 1, ?_⟩) (fun z => absurd ⟨a, k, ha, hk, rfl, rfl, g1, g2⟩ z)
  exact gy_sum16 ha hk hA ok L [] 0 rfl hp (L.length + 1) (by omega)
theorem gy_most_yes {post : Int32 → Prop} {a k : Nat} (I : gf_YI v L) (ha : a < 1024) (hk : k < 1024) (g1 : a / 32 ≤ k / 32) (g2 : a % 32 ≤ k % 32) (hp : post ((L.filter (gf_ins a k)).foldl (fun s e => gf_mx s e.2) (-2147483648))) : wpY_most post v (nI a) (nI k) := by
  refine gf_YI_el (P := fun v => wpY_most post v (nI a) (nI k)) I (fun ok px py wo hA => ?_)
  unfold wpY_most
  refine gy_badRectangle (nI a) (nI k) (fun _ _ _ _ _ _ _ _ => br_t rfl ⟨L.length + 1, ?_⟩) (fun z => absurd ⟨a, k, ha, hk, rfl, rfl, g1, g2⟩ z)
  exact gy_most17 ha hk hA ok L [] _ rfl hp (L.length + 1) (by omega)
theorem gy_point_yes {post : Int32 → Prop} {a k : Nat} {v3 : Int32} {S : List Nat} (I : gf_YI v L) (ha : a < 1024) (hk : k < 1024) (g1 : a / 32 ≤ k / 32) (g2 : a % 32 ≤ k % 32) (hS : S.Pairwise (· < ·)) (hm : ∀ p, p ∈ S ↔ ∃ w, (p, w) ∈ L ∧ gf_ins a k (p, w) = true)
    (hf : ∀ S1 q S2, S = S1 ++ q :: S2 → v3 = nI S1.length → post (nI q)) (hn : (∀ i, i < S.length → v3 ≠ nI i) → post (-2)) : wpY_point post v (nI a) (nI k) v3 := by
  refine gf_YI_el (P := fun v => wpY_point post v (nI a) (nI k) v3) I (fun ok px py wo hA => ?_)
  unfold wpY_point
  refine gy_badRectangle (nI a) (nI k) (fun _ _ _ _ _ _ _ _ => br_t rfl ⟨1025, ?_⟩) (fun z => absurd ⟨a, k, ha, hk, rfl, rfl, g1, g2⟩ z)
  exact gy_pnt17 ha hk hA ok hS hm hf hn 1024 0 S [] rfl rfl (fun q h => nomatch h) (fun q _ => Nat.zero_le q) (fun i h => absurd h (Nat.not_lt_zero i)) (Nat.le_refl _) 1025 (by omega)
theorem gy_nearest_no {post : Int32 → Prop} {x y : Int32} (I : gf_YI v L) (h : ¬ gf_Pl x y) (hp : post (-1)) : wpY_nearest post v x y := by
  refine gf_YI_el (P := fun v => wpY_nearest post v x y) I (fun ok px py wo hA => ?_)
  unfold wpY_nearest
  refine gy_bad x (fun a ha hx => br_t rfl ?_) (fun z => br_f (by decide) hp)
  exact gy_bad y (fun b hb hy => absurd ⟨⟨a, ha, hx⟩, ⟨b, hb, hy⟩⟩ h) (fun z => br_f (by decide) hp)
theorem gy_nearest_yes {post : Int32 → Prop} {a b : Nat} (I : gf_YI v L) (ha : a < 32) (hb : b < 32) (hp : ∀ o, gf_Mi a b (gf_has L) o → post (gf_ob o)) : wpY_nearest post v (nI a) (nI b) := by
  refine gf_YI_el (P := fun v => wpY_nearest post v (nI a) (nI b)) I (fun ok px py wo hA => ?_)
  unfold wpY_nearest
  refine gy_bad (nI a) (fun _ _ _ => br_t rfl ?_) (fun z => absurd ⟨a, ha, rfl⟩ z)
  refine gy_bad (nI b) (fun _ _ _ => br_t rfl ⟨L.length + 1, ?_⟩) (fun z => absurd ⟨b, hb, rfl⟩ z)
  exact gy_near27 ha hb hA ok hp L [] none rfl ⟨(fun p e => nomatch e), fun _ q => gf_has_nil q⟩ (L.length + 1) (by omega)
theorem gy_within_no {post : Int32 → Prop} {x y r : Int32} (I : gf_YI v L) (h : ¬ gf_Pl x y) (hp : post (-1)) : wpY_within post v x y r := by
  refine gf_YI_el (P := fun v => wpY_within post v x y r) I (fun ok px py wo hA => ?_)
  unfold wpY_within
  refine gy_bad x (fun a ha hx => br_t rfl ?_) (fun z => br_f (by decide) hp)
  exact gy_bad y (fun b hb hy => absurd ⟨⟨a, ha, hx⟩, ⟨b, hb, hy⟩⟩ h) (fun z => br_f (by decide) hp)
theorem gy_within_yes {post : Int32 → Prop} {a b : Nat} {r : Int32} (I : gf_YI v L) (ha : a < 32) (hb : b < 32) (hp : post (nI (L.countP (gf_wi a b r)))) : wpY_within post v (nI a) (nI b) r := by
  refine gf_YI_el (P := fun v => wpY_within post v (nI a) (nI b) r) I (fun ok px py wo hA => ?_)
  unfold wpY_within
  refine gy_bad (nI a) (fun _ _ _ => br_t rfl ?_) (fun z => absurd ⟨a, ha, rfl⟩ z)
  refine gy_bad (nI b) (fun _ _ _ => br_t rfl ⟨L.length + 1, ?_⟩) (fun z => absurd ⟨b, hb, rfl⟩ z)
  exact gy_within24 hA ok L [] 0 rfl (by rw [Nat.zero_add]; exact hp) (L.length + 1) (by omega)
theorem gy_closest {post : Int32 → Prop} (I : gf_YI v L) (hp : ∀ o, gf_Mn (gf_PS L) o → post (gf_om o)) : wpY_closest post v := by
  refine gf_YI_el (P := fun v => wpY_closest post v) I (fun ok px py wo hA => ⟨L.length + 1, ?_⟩)
  exact gy_clo4 hA ok hp L [] none rfl ⟨(fun p e => nomatch e), fun _ d ⟨p, _, h, _⟩ => gf_has_nil p h⟩ (L.length + 1) (by omega)
theorem gy_frontier {post : Int32 → Prop} (I : gf_YI v L) (hp : post (nI (L.countP (gf_fr L)))) : wpY_frontier post v := by
  refine gf_YI_el (P := fun v => wpY_frontier post v) I (fun ok px py wo hA => ⟨L.length + 1, ?_⟩)
  exact gy_fro4 hA ok L [] 0 rfl (by rw [Nat.zero_add]; exact hp) (L.length + 1) (by omega)
theorem gy_line_bad {post : Int32 → Prop} {x y : Int32} (I : gf_YI v L) (h : ¬ gf_Co 2 x) (hp : post (-1)) : wpY_line post v x y := by
  refine gf_YI_el (P := fun v => wpY_line post v x y) I (fun ok px py wo hA => ?_)
  rcases pk_ix x (n := 2) (by decide) with z | z | ⟨a, ha, rfl⟩
  · exact br_t z hp
  · refine br_f (gf_nneg (by decide) z) (br_f ?_ hp)
    rw [Int32.le_iff_toInt_le, nI_toInt (by decide)] at z
    rw [Int32.le_iff_toInt_le, show (1 : Int32).toInt = 1 from by decide]
    omega
  · exact absurd ⟨a, ha, rfl⟩ h
theorem gy_line_no {post : Int32 → Prop} {x y : Int32} (I : gf_YI v L) (h : gf_Co 2 x) (h2 : ¬ gf_Co 32 y) (hp : post (-2)) : wpY_line post v x y := by
  refine gf_YI_el (P := fun v => wpY_line post v x y) I (fun ok px py wo hA => ?_)
  obtain ⟨a, ha, rfl⟩ := h
  refine br_f (nI_pos (by omega)) (br_t (nI_le (b := 1) (by omega) (by decide)) ?_)
  exact gy_bad y (fun b hb e => absurd ⟨b, hb, e⟩ h2) (fun _ => br_f (by decide) hp)
theorem gy_line_yes {post : Int32 → Prop} {a b : Nat} (I : gf_YI v L) (ha : a < 2) (hb : b < 32) (hp : post (nI (L.countP (gf_ln a b)))) : wpY_line post v (nI a) (nI b) := by
  refine gf_YI_el (P := fun v => wpY_line post v (nI a) (nI b)) I (fun ok px py wo hA => ?_)
  refine br_f (nI_pos (by omega)) (br_t (nI_le (b := 1) (by omega) (by decide)) ?_)
  refine gy_bad (nI b) (fun _ _ _ => br_t rfl ⟨L.length + 1, ?_⟩) (fun z => absurd ⟨b, hb, rfl⟩ z)
  exact gy_line27 hb ha hA ok L [] 0 rfl (by rw [Nat.zero_add]; exact hp) (L.length + 1) (by omega)
end YW
end
section
/-! what is owed -/
def i_Rel (k : Nat) (u : SX) (v : SY) : Prop := ∃ L : List (Nat × Int32), gf_XI u L ∧ gf_YI v L
theorem i_up {k : Nat} {u : SX} {v : SY} (h : i_Rel k u v) : i_Rel (k + 4) u v := h
theorem i_vc0 : wpX_init (fun u => wpY_init (fun v => i_Rel 0 u v)) := by
  refine gx_reset (C := 0) (R := 0) (B := 0) (N := 0) (H := 0) (cx := fun _ => 0) (cy := fun _ => 0) (dr := fun _ => 0) (sz := fun _ => 0) (lf := fun _ => 0) (rt := fun _ => 0) (lo := fun _ => 0) (hi := fun _ => 0) (pl := fun _ => 0) (vs := fun _ => 0) (hp := fun _ => 0) (hv := fun _ => 0) (sn := fun _ => 0) ?_
  have hA : gf_AB (fun _ => 0) (fun _ => 0) (fun _ => 0) (fun _ => 0) (fun _ => 0) (fun _ => 0) (fun _ => 0) (fun _ => 0) (fun _ => 0) := by
    intro j
    dsimp only
    omega
  exact ⟨[], gf_XI_mk (L := []) (Nat.zero_le _) (gf_J_reset hA), gf_YI_mk (L := []) ⟨List.nodup_nil, Nat.zero_le _, (fun e h => nomatch h)⟩ trivial⟩
theorem i_vc_put {k : Nat} {u : SX} {v : SY} (I : i_Rel k u v) (hk : k + 4 ≤ 2048) (v1 : Int32) (v2 : Int32) (v3 : Int32) : wpX_put (fun r u' => wpY_put (fun r' v' => r' = r ∧ i_Rel (k + 4) u' v') v v1 v2 v3) u v1 v2 v3 := by
  obtain ⟨L, X, Y⟩ := I
  by_cases h : gf_Pl v1 v2
  · obtain ⟨⟨a, ha, rfl⟩, ⟨b, hb, rfl⟩⟩ := h
    refine gx_put_yes X ha hb (fun h u' X' => gy_put_yes Y ha hb (fun _ v' Y' => ⟨rfl, _, X', Y'⟩) (fun z => absurd h z) (fun z => absurd h z)) (fun h h4 => gy_put_yes Y ha hb (fun z => absurd z h) (fun _ _ => ⟨rfl, L, X, Y⟩) (fun _ z => absurd z (by omega))) (fun h h4 u' X' => gy_put_yes Y ha hb (fun z => absurd z h) (fun _ z => absurd z (by omega)) (fun _ _ v' Y' => ⟨rfl, _, X', Y'⟩))
  · exact gx_put_no X h (gy_put_no Y h ⟨rfl, L, X, Y⟩)
theorem i_vc_remove {k : Nat} {u : SX} {v : SY} (I : i_Rel k u v) (hk : k + 4 ≤ 2048) (v1 : Int32) (v2 : Int32) : wpX_remove (fun r u' => wpY_remove (fun r' v' => r' = r ∧ i_Rel (k + 4) u' v') v v1 v2) u v1 v2 := by
  obtain ⟨L, X, Y⟩ := I
  by_cases h : gf_Pl v1 v2
  · obtain ⟨⟨a, ha, rfl⟩, ⟨b, hb, rfl⟩⟩ := h
    exact gx_remove_yes X ha hb (fun h u' X' => gy_remove_yes Y ha hb (fun _ v' Y' => ⟨rfl, _, X', Y'⟩) (fun z => absurd h z)) (fun h => gy_remove_yes Y ha hb (fun z => absurd z h) (fun _ => ⟨rfl, L, X, Y⟩))
  · exact gx_remove_no X h (gy_remove_no Y h ⟨rfl, L, X, Y⟩)
theorem i_vc_clear {k : Nat} {u : SX} {v : SY} (I : i_Rel k u v) (hk : k + 4 ≤ 2048) (v1 : Int32) (v2 : Int32) : wpX_clear (fun r u' => wpY_clear (fun r' v' => r' = r ∧ i_Rel (k + 4) u' v') v v1 v2) u v1 v2 := by
  obtain ⟨L, X, Y⟩ := I
  by_cases h : gf_Re v1 v2
  · obtain ⟨a, b, ha, hb, rfl, rfl, g1, g2⟩ := h
    exact gx_clear_yes X ha hb g1 g2 (fun u' X' => gy_clear_yes Y ha hb g1 g2 (fun v' Y' => ⟨rfl, _, X', Y'⟩))
  · exact gx_clear_no X h (gy_clear_no Y h ⟨rfl, L, X, Y⟩)
theorem i_vc_scatter {k : Nat} {u : SX} {v : SY} (I : i_Rel k u v) (hk : k + 4 ≤ 2048) (v1 : Int32) (v2 : Int32) (v3 : Int32) : wpX_scatter (fun r u' => wpY_scatter (fun r' v' => r' = r ∧ i_Rel (k + 4) u' v') v v1 v2 v3) u v1 v2 v3 := by
  obtain ⟨L, X, Y⟩ := I
  by_cases h : gf_Co 1024 v1
  · obtain ⟨p, hp, rfl⟩ := h
    by_cases h0 : v2 < 0
    · exact gx_scatter_neg X hp h0 (gy_scatter_neg hp h0 ⟨rfl, L, X, Y⟩)
    · obtain ⟨w, hw, rfl⟩ := nI_of h0
      refine gx_scatter X hp hw (fun hk' => gy_scatter hp hw (fun _ => ⟨rfl, L, X, Y⟩) (fun z => absurd z hk')) (fun hk' f1 f2 f3 f4 f5 a1 a2 a3 a4 a5 a6 a7 a8 a9 a10 a11 a12 a13 e => ?_)
      obtain ⟨L', iX, iY⟩ := gf_scat (val := v3) (dx := nI (w / 4096) - 31) (dy := nI (w / 64 % 64) - 31) hp hk'.2.1 (w % 64) 0 L (by omega) (gf_XI_ok X)
      rw [gf_xs_0 (by omega), gf_xs_0 (by omega)] at iX
      refine ⟨w % 64 + 1, iX f1 f2 f3 f4 f5 a1 a2 a3 a4 a5 a6 a7 a8 a9 a10 a11 a12 a13 _ (e ▸ X) (fun u' X' => ?_) (w % 64 + 1) (by omega)⟩
      refine gy_scatter hp hw (fun z => absurd hk' z) (fun _ s px py wo e' => ⟨w % 64 + 1, ?_⟩)
      exact iY s px py wo _ (e' ▸ Y) (fun v' Y' => ⟨rfl, L', X', Y'⟩) (w % 64 + 1) (by omega)
  · exact gx_scatter_no1 X h (gy_scatter_no1 h ⟨rfl, L, X, Y⟩)
theorem i_vc_move {k : Nat} {u : SX} {v : SY} (I : i_Rel k u v) (hk : k + 4 ≤ 2048) (v1 : Int32) (v2 : Int32) : wpX_move (fun r u' => wpY_move (fun r' v' => r' = r ∧ i_Rel (k + 4) u' v') v v1 v2) u v1 v2 := by
  obtain ⟨L, X, Y⟩ := I
  by_cases h : gf_Co 1024 v1 ∧ gf_Co 1024 v2
  · obtain ⟨⟨p, hp, rfl⟩, ⟨q, hq, rfl⟩⟩ := h
    exact gx_move_yes X hp hq (fun h => gy_move_yes Y hp hq (fun _ => ⟨rfl, L, X, Y⟩) (fun z => absurd z h) (fun z => absurd z h)) (fun h h' => gy_move_yes Y hp hq (fun z => absurd h z) (fun _ _ => ⟨rfl, L, X, Y⟩) (fun _ z => absurd h' z)) (fun h h' u' X' => gy_move_yes Y hp hq (fun z => absurd h z) (fun _ z => absurd z h') (fun _ _ v' Y' => ⟨rfl, _, X', Y'⟩))
  · exact gx_move_no X h (gy_move_no Y h ⟨rfl, L, X, Y⟩)
theorem i_vc_size {k : Nat} {u : SX} {v : SY} (I : i_Rel k u v) (hk : k + 4 ≤ 2048) : wpX_size (fun r => wpY_size (fun r' => r' = r ∧ i_Rel (k + 4) u v) v) u := by
  obtain ⟨L, X, Y⟩ := I
  exact gx_size X (gy_size Y ⟨rfl, L, X, Y⟩)
theorem i_vc_has {k : Nat} {u : SX} {v : SY} (I : i_Rel k u v) (hk : k + 4 ≤ 2048) (v1 : Int32) (v2 : Int32) : wpX_has (fun r => wpY_has (fun r' => r' = r ∧ i_Rel (k + 4) u v) v v1 v2) u v1 v2 := by
  obtain ⟨L, X, Y⟩ := I
  by_cases h : gf_Pl v1 v2
  · obtain ⟨⟨a, ha, rfl⟩, ⟨b, hb, rfl⟩⟩ := h
    exact gx_has_yes X ha hb (fun h => gy_has_yes Y ha hb (fun _ => ⟨rfl, L, X, Y⟩) (fun z => absurd h z)) (fun h => gy_has_yes Y ha hb (fun z => absurd z h) (fun _ => ⟨rfl, L, X, Y⟩))
  · exact gx_has_no X h (gy_has_no Y h ⟨rfl, L, X, Y⟩)
theorem i_vc_valueAt {k : Nat} {u : SX} {v : SY} (I : i_Rel k u v) (hk : k + 4 ≤ 2048) (v1 : Int32) (v2 : Int32) : wpX_valueAt (fun r => wpY_valueAt (fun r' => r' = r ∧ i_Rel (k + 4) u v) v v1 v2) u v1 v2 := by
  obtain ⟨L, X, Y⟩ := I
  by_cases h : gf_Pl v1 v2
  · obtain ⟨⟨a, ha, rfl⟩, ⟨b, hb, rfl⟩⟩ := h
    exact gx_valueAt_yes X ha hb (fun w hw => gy_valueAt_yes Y ha hb (fun w' hw' => ⟨congrArg Prod.snd (gf_key (gf_XI_ok X).1 hw' hw rfl), L, X, Y⟩) (fun z => absurd ⟨w, hw⟩ z)) (fun h => gy_valueAt_yes Y ha hb (fun w hw => absurd ⟨w, hw⟩ h) (fun _ => ⟨rfl, L, X, Y⟩))
  · exact gx_valueAt_no X h (gy_valueAt_no Y h ⟨rfl, L, X, Y⟩)
theorem i_vc_count {k : Nat} {u : SX} {v : SY} (I : i_Rel k u v) (hk : k + 4 ≤ 2048) (v1 : Int32) (v2 : Int32) : wpX_count (fun r u' => wpY_count (fun r' => r' = r ∧ i_Rel (k + 4) u' v) v v1 v2) u v1 v2 := by
  obtain ⟨L, X, Y⟩ := I
  by_cases h : gf_Re v1 v2
  · obtain ⟨a, b, ha, hb, rfl, rfl, g1, g2⟩ := h
    exact gx_count_yes X ha hb g1 g2 (fun u' X' => gy_count_yes Y ha hb g1 g2 ⟨rfl, L, X', Y⟩)
  · exact gx_count_no X h (gy_count_no Y h ⟨rfl, L, X, Y⟩)
theorem i_vc_sum {k : Nat} {u : SX} {v : SY} (I : i_Rel k u v) (hk : k + 4 ≤ 2048) (v1 : Int32) (v2 : Int32) : wpX_sum (fun r u' => wpY_sum (fun r' => r' = r ∧ i_Rel (k + 4) u' v) v v1 v2) u v1 v2 := by
  obtain ⟨L, X, Y⟩ := I
  by_cases h : gf_Re v1 v2
  · obtain ⟨a, b, ha, hb, rfl, rfl, g1, g2⟩ := h
    exact gx_sum_yes X ha hb g1 g2 (fun u' X' => gy_sum_yes Y ha hb g1 g2 ⟨rfl, L, X', Y⟩)
  · exact gx_sum_no X h (gy_sum_no Y h ⟨rfl, L, X, Y⟩)
theorem i_vc_most {k : Nat} {u : SX} {v : SY} (I : i_Rel k u v) (hk : k + 4 ≤ 2048) (v1 : Int32) (v2 : Int32) : wpX_most (fun r u' => wpY_most (fun r' => r' = r ∧ i_Rel (k + 4) u' v) v v1 v2) u v1 v2 := by
  obtain ⟨L, X, Y⟩ := I
  by_cases h : gf_Re v1 v2
  · obtain ⟨a, b, ha, hb, rfl, rfl, g1, g2⟩ := h
    exact gx_most_yes X ha hb g1 g2 (fun u' X' => gy_most_yes Y ha hb g1 g2 ⟨rfl, L, X', Y⟩)
  · exact gx_most_no X h (gy_most_no Y h ⟨rfl, L, X, Y⟩)
theorem i_vc_point {k : Nat} {u : SX} {v : SY} (I : i_Rel k u v) (hk : k + 4 ≤ 2048) (v1 : Int32) (v2 : Int32) (v3 : Int32) : wpX_point (fun r u' => wpY_point (fun r' => r' = r ∧ i_Rel (k + 4) u' v) v v1 v2 v3) u v1 v2 v3 := by
  obtain ⟨L, X, Y⟩ := I
  by_cases h : gf_Re v1 v2
  · obtain ⟨a, b, ha, hb, rfl, rfl, g1, g2⟩ := h
    exact gx_point_yes X ha hb g1 g2 (fun S r u' hS hm c1 c2 X' => gy_point_yes Y ha hb g1 g2 hS hm (fun S1 q S2 e e3 => ⟨c1 S1 q S2 e e3, L, X', Y⟩) (fun z => ⟨c2 z, L, X', Y⟩))
  · exact gx_point_no X h (gy_point_no Y h ⟨rfl, L, X, Y⟩)
theorem i_vc_nearest {k : Nat} {u : SX} {v : SY} (I : i_Rel k u v) (hk : k + 4 ≤ 2048) (v1 : Int32) (v2 : Int32) : wpX_nearest (fun r u' => wpY_nearest (fun r' => r' = r ∧ i_Rel (k + 4) u' v) v v1 v2) u v1 v2 := by
  obtain ⟨L, X, Y⟩ := I
  by_cases h : gf_Pl v1 v2
  · obtain ⟨⟨a, ha, rfl⟩, ⟨b, hb, rfl⟩⟩ := h
    have ok := gf_XI_ok X
    exact gx_nearest_yes X ha hb (fun o u' hm X' => gy_nearest_yes Y ha hb (fun o' hm' => ⟨congrArg gf_ob (gf_Mi_uniq (fun q hq => ok.2.2 (q, hq.choose) hq.choose_spec) hm' hm), L, X', Y⟩))
  · exact gx_nearest_no X h (gy_nearest_no Y h ⟨rfl, L, X, Y⟩)
theorem i_vc_within {k : Nat} {u : SX} {v : SY} (I : i_Rel k u v) (hk : k + 4 ≤ 2048) (v1 : Int32) (v2 : Int32) (v3 : Int32) : wpX_within (fun r => wpY_within (fun r' => r' = r ∧ i_Rel (k + 4) u v) v v1 v2 v3) u v1 v2 v3 := by
  obtain ⟨L, X, Y⟩ := I
  by_cases h : gf_Pl v1 v2
  · obtain ⟨⟨a, ha, rfl⟩, ⟨b, hb, rfl⟩⟩ := h
    exact gx_within_yes X ha hb (gy_within_yes Y ha hb ⟨rfl, L, X, Y⟩)
  · exact gx_within_no X h (gy_within_no Y h ⟨rfl, L, X, Y⟩)
theorem i_vc_closest {k : Nat} {u : SX} {v : SY} (I : i_Rel k u v) (hk : k + 4 ≤ 2048) : wpX_closest (fun r u' => wpY_closest (fun r' => r' = r ∧ i_Rel (k + 4) u' v) v) u := by
  obtain ⟨L, X, Y⟩ := I
  exact gx_closest X (fun o u' hm X' => gy_closest Y (fun o' hm' => ⟨congrArg gf_om (gf_Mn_uniq hm' hm), L, X', Y⟩))
theorem i_vc_line {k : Nat} {u : SX} {v : SY} (I : i_Rel k u v) (hk : k + 4 ≤ 2048) (v1 : Int32) (v2 : Int32) : wpX_line (fun r u' => wpY_line (fun r' => r' = r ∧ i_Rel (k + 4) u' v) v v1 v2) u v1 v2 := by
  obtain ⟨L, X, Y⟩ := I
  by_cases h : gf_Co 2 v1
  · by_cases h2 : gf_Co 32 v2
    · obtain ⟨a, ha, rfl⟩ := h
      obtain ⟨b, hb, rfl⟩ := h2
      exact gx_line_yes X ha hb (fun u' X' => gy_line_yes Y ha hb ⟨rfl, L, X', Y⟩)
    · exact gx_line_no X h h2 (gy_line_no Y h h2 ⟨rfl, L, X, Y⟩)
  · exact gx_line_bad X h (gy_line_bad Y h ⟨rfl, L, X, Y⟩)
theorem i_vc_frontier {k : Nat} {u : SX} {v : SY} (I : i_Rel k u v) (hk : k + 4 ≤ 2048) : wpX_frontier (fun r u' => wpY_frontier (fun r' => r' = r ∧ i_Rel (k + 4) u' v) v) u := by
  obtain ⟨L, X, Y⟩ := I
  exact gx_frontier X (fun u' X' => gy_frontier Y ⟨rfl, L, X', Y⟩)
end
