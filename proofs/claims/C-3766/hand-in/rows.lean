section
/-! rows taken from the rows to paste -/
theorem pk_us {f : Nat → Int32} {k : Nat} {x : Int32} : upd f k x k = x := if_pos rfl
theorem pk_un {f : Nat → Int32} {k j : Nat} {x : Int32} (h : j ≠ k) : upd f k x j = f j := if_neg h
theorem pk_sub {a b : Nat} (h : b ≤ a) : nI a - nI b = nI (a - b) := by
  obtain ⟨c, rfl⟩ : ∃ c, a = c + b := ⟨a - b, by omega⟩
  rw [← nI_add, Int32.add_sub_cancel, Nat.add_sub_cancel]
theorem pk_m1 (n : Nat) : nI (n + 1) + (-1) = nI n := by
  rw [← nI_1, Int32.add_assoc, show (1 : Int32) + (-1) = 0 from rfl, Int32.add_zero]
theorem pk_mul (a b : Nat) : nI a * nI b = nI (a * b) := (Int32.ofNat_mul a b).symm
theorem pk_div {a d : Nat} (ha : a < 2 ^ 31) (h0 : 0 < d) (hd : d < 2 ^ 31) : nI a / nI d = nI (a / d) := by
  apply Int32.toInt_inj.mp
  rw [lg_idiv_nonneg (by rw [nI_toInt ha]; omega) (by rw [nI_toInt hd]; omega), nI_toInt ha, nI_toInt hd, nI_toInt (Nat.lt_of_le_of_lt (Nat.div_le_self a d) ha)]
  first | rfl | exact (Int.natCast_ediv _ _).symm
theorem pk_rem {a d : Nat} (ha : a < 2 ^ 31) (h0 : 0 < d) (hd : d < 2 ^ 31) : nI a - nI a / nI d * nI d = nI (a % d) := by
  rw [pk_div ha h0 hd, pk_mul, pk_sub (Nat.div_mul_le_self a d)]
  exact congrArg nI (by have := Nat.div_add_mod' a d; omega)
theorem pk_sub_toInt {a b : Nat} (ha : a < 2 ^ 30) (hb : b < 2 ^ 30) : (nI a - nI b).toInt = (a : Int) - b := by
  rw [Int32.toInt_sub, nI_toInt (by omega), nI_toInt (by omega)]
  exact Int.bmod_eq_of_le (by omega) (by omega)
theorem pk_sneg {a b : Nat} (hb : b < 2 ^ 30) (h : a < b) : nI a - nI b < 0 := by
  rw [Int32.lt_iff_toInt_lt, pk_sub_toInt (by omega) hb, show (0 : Int32).toInt = 0 from by decide]
  omega
theorem pk_le {x y : Int32} {A B : Prop} (a b : Nat) (f : a ≤ b → A) (g : b < a → B) (hx : x = nI a := by rfl) (hy : y = nI b := by rfl) (ha : a < 2 ^ 31 := by omega) (hb : b < 2 ^ 31 := by omega) : (x ≤ y → A) ∧ (¬ x ≤ y → B) := by
  subst hx hy
  rw [nI_leI ha hb]
  exact ⟨f, fun z => g (by omega)⟩
theorem pk_lt {x y : Int32} {A B : Prop} (a b : Nat) (f : a < b → A) (g : b ≤ a → B) (hx : x = nI a := by rfl) (hy : y = nI b := by rfl) (ha : a < 2 ^ 31 := by omega) (hb : b < 2 ^ 31 := by omega) : (x < y → A) ∧ (¬ x < y → B) := by
  subst hx hy
  rw [nI_ltI ha hb]
  exact ⟨f, fun z => g (by omega)⟩
theorem pk_eq {x y : Int32} {A B : Prop} (a b : Nat) (f : a = b → A) (g : a ≠ b → B) (hx : x = nI a := by rfl) (hy : y = nI b := by rfl) (ha : a < 2 ^ 31 := by omega) (hb : b < 2 ^ 31 := by omega) : (x = y → A) ∧ (¬ x = y → B) := by
  subst hx hy
  rw [nI_eq ha hb]
  exact ⟨f, g⟩
theorem pk_in {x : Int32} (n N : Nat) (h : n < N) (hx : x = nI n := by rfl) (hN : N < 2 ^ 31 := by omega) : vp_in x N := by
  subst hx
  exact vp_in_nI h hN
theorem pk_cl {x : Int32} (n : Nat) (hx : x = nI n := by rfl) (h : n < 2 ^ 31 := by omega) : x.toNatClampNeg = n := by
  subst hx
  exact nI_clamp h
theorem pk_tn {n : Nat} (h : n < 2 ^ 32) : (nI n).toBitVec.toNat = n := Nat.mod_eq_of_lt h
theorem pk_and (x : Int32) {m : Int32} (k : Nat) (hm : m.toBitVec.toNat = 2 ^ k - 1) : x &&& m = nI (x.toBitVec.toNat % 2 ^ k) := by
  apply Int32.toBitVec_inj.mp
  apply BitVec.eq_of_toNat_eq
  rw [Int32.toBitVec_and, BitVec.toNat_and, hm, Nat.and_two_pow_sub_one_eq_mod]
  show _ = (BitVec.ofNat 32 _).toNat
  rw [BitVec.toNat_ofNat]
  exact (Nat.mod_eq_of_lt (Nat.lt_of_le_of_lt (Nat.mod_le _ _) x.toBitVec.isLt)).symm
theorem pk_andE (x : Int32) {m : Int32} (k : Nat) (hm : m.toBitVec.toNat = 2 ^ k - 1) : ∃ j : Nat, j < 2 ^ k ∧ x &&& m = nI j := ⟨_, Nat.mod_lt _ (Nat.two_pow_pos k), pk_and x k hm⟩
theorem pk_andIn (x : Int32) {m : Int32} (k : Nat) (hm : m.toBitVec.toNat = 2 ^ k - 1) (hk : k ≤ 30) : vp_in (x &&& m) (2 ^ k) := by
  obtain ⟨j, hj, e⟩ := pk_andE x k hm
  rw [e]
  exact vp_in_nI hj (Nat.lt_of_le_of_lt (Nat.pow_le_pow_right (by decide) hk) (by decide))
end
section
/-! lists: a line put in, a line taken out -/
def ld_ins {α : Type} (L : List α) (p : Nat) (e : α) : List α := L.take p ++ e :: L.drop p
def ld_del {α : Type} (L : List α) (p : Nat) : List α := L.take p ++ L.drop (p + 1)
theorem ld_at {α : Type} {L : List α} {p : Nat} {e : α} (h : L[p]? = some e) : ∃ A B, L = A ++ e :: B ∧ A.length = p := by
  obtain ⟨hp, rfl⟩ := List.getElem?_eq_some_iff.mp h
  exact ⟨L.take p, L.drop (p + 1), by rw [List.getElem_cons_drop, List.take_append_drop], by rw [List.length_take]; omega⟩
theorem ld_cut {α : Type} {L : List α} {p : Nat} (h : p ≤ L.length) : ∃ A B, L = A ++ B ∧ A.length = p :=
  ⟨L.take p, L.drop p, (List.take_append_drop p L).symm, by rw [List.length_take]; omega⟩
theorem ld_some {α : Type} {L : List α} {p : Nat} (h : p < L.length) : ∃ e, L[p]? = some e := ⟨L[p], List.getElem?_eq_getElem h⟩
theorem ld_lt {α : Type} {L : List α} {p : Nat} {e : α} (h : L[p]? = some e) : p < L.length := by
  obtain ⟨hp, _⟩ := List.getElem?_eq_some_iff.mp h
  exact hp
theorem ld_delA {α : Type} (A B : List α) (e : α) : ld_del (A ++ e :: B) A.length = A ++ B := by
  unfold ld_del
  rw [List.take_left, List.drop_length_add_append]
  rfl
theorem ld_insA {α : Type} (A B : List α) (e : α) : ld_ins (A ++ B) A.length e = A ++ e :: B := by
  unfold ld_ins
  rw [List.take_left, List.drop_left]
theorem ld_insdel {α : Type} {L : List α} {p : Nat} {e : α} (h : L[p]? = some e) : ld_ins (ld_del L p) p e = L := by
  obtain ⟨A, B, rfl, rfl⟩ := ld_at h
  rw [ld_delA, ld_insA]
theorem ld_delins {α : Type} {L : List α} {p : Nat} {e : α} (h : p ≤ L.length) : ld_del (ld_ins L p e) p = L := by
  obtain ⟨A, B, rfl, rfl⟩ := ld_cut h
  rw [ld_insA, ld_delA]
theorem ld_insAt {α : Type} {L : List α} {p : Nat} {e : α} (h : p ≤ L.length) : (ld_ins L p e)[p]? = some e := by
  obtain ⟨A, B, rfl, rfl⟩ := ld_cut h
  rw [ld_insA, List.getElem?_append_right (Nat.le_refl _), Nat.sub_self]
  rfl
theorem ld_insL {α : Type} {L : List α} {p : Nat} {e : α} (h : p ≤ L.length) : (ld_ins L p e).length = L.length + 1 := by
  obtain ⟨A, B, rfl, rfl⟩ := ld_cut h
  rw [ld_insA, List.length_append, List.length_append, List.length_cons]
  omega
theorem ld_delL {α : Type} {L : List α} {p : Nat} {e : α} (h : L[p]? = some e) : (ld_del L p).length + 1 = L.length := by
  obtain ⟨A, B, rfl, rfl⟩ := ld_at h
  rw [ld_delA, List.length_append, List.length_append, List.length_cons]
  omega
theorem ld_memIns {α : Type} {L : List α} {p : Nat} {e x : α} (h : p ≤ L.length) : x ∈ ld_ins L p e ↔ x = e ∨ x ∈ L := by
  obtain ⟨A, B, rfl, rfl⟩ := ld_cut h
  rw [ld_insA, List.mem_append, List.mem_append, List.mem_cons]
  constructor
  · rintro (h | h | h)
    · exact Or.inr (Or.inl h)
    · exact Or.inl h
    · exact Or.inr (Or.inr h)
  · rintro (h | h | h)
    · exact Or.inr (Or.inl h)
    · exact Or.inl h
    · exact Or.inr (Or.inr h)
theorem ld_memDel {α : Type} {L : List α} {p : Nat} {x : α} (h : x ∈ ld_del L p) : x ∈ L := by
  unfold ld_del at h
  rcases List.mem_append.mp h with h | h
  · exact List.mem_of_mem_take h
  · exact List.mem_of_mem_drop h
theorem ld_memDel' {α : Type} {L : List α} {p : Nat} {e x : α} (h : L[p]? = some e) (hx : x ∈ L) : x = e ∨ x ∈ ld_del L p := by
  obtain ⟨A, B, rfl, rfl⟩ := ld_at h
  rw [ld_delA]
  rcases List.mem_append.mp hx with h | h
  · exact Or.inr (List.mem_append.mpr (Or.inl h))
  · rcases List.mem_cons.mp h with h | h
    · exact Or.inl h
    · exact Or.inr (List.mem_append.mpr (Or.inr h))
theorem ld_ndx {α : Type} {A B : List α} {x : α} (h : (A ++ x :: B).Nodup) : x ∉ A ∧ x ∉ B ∧ (A ++ B).Nodup := by
  rw [List.nodup_append] at h
  obtain ⟨h1, h2, h3⟩ := h
  have h4 := List.nodup_cons.mp h2
  refine ⟨fun hx => h3 x hx x (List.mem_cons_self ..) rfl, h4.1, ?_⟩
  rw [List.nodup_append]
  exact ⟨h1, h4.2, fun a ha b hb => h3 a ha b (List.mem_cons_of_mem _ hb)⟩
theorem ld_ndy {α : Type} {A B : List α} {x : α} (h : (A ++ B).Nodup) (hx : x ∉ A ++ B) : (A ++ x :: B).Nodup := by
  rw [List.nodup_append] at h ⊢
  obtain ⟨h1, h2, h3⟩ := h
  rw [List.mem_append] at hx
  refine ⟨h1, List.nodup_cons.mpr ⟨fun z => hx (Or.inr z), h2⟩, ?_⟩
  intro a ha b hb
  rcases List.mem_cons.mp hb with hb | hb
  · rw [hb]
    intro z
    exact hx (Or.inl (z ▸ ha))
  · exact h3 a ha b hb
theorem ld_ndIns {α : Type} {L : List α} {p : Nat} {e : α} (h : p ≤ L.length) (hn : L.Nodup) (he : e ∉ L) : (ld_ins L p e).Nodup := by
  obtain ⟨A, B, rfl, rfl⟩ := ld_cut h
  rw [ld_insA]
  exact ld_ndy hn he
theorem ld_ndDel {α : Type} {L : List α} {p : Nat} {e : α} (h : L[p]? = some e) (hn : L.Nodup) : (ld_del L p).Nodup ∧ e ∉ ld_del L p := by
  obtain ⟨A, B, rfl, rfl⟩ := ld_at h
  rw [ld_delA]
  obtain ⟨h1, h2, h3⟩ := ld_ndx hn
  refine ⟨h3, fun z => ?_⟩
  rcases List.mem_append.mp z with z | z
  · exact h1 z
  · exact h2 z
theorem ld_mapIns {α β : Type} (f : α → β) (L : List α) (p : Nat) (e : α) : (ld_ins L p e).map f = ld_ins (L.map f) p (f e) := by
  unfold ld_ins
  rw [List.map_append, List.map_cons, List.map_take, List.map_drop]
theorem ld_mapDel {α β : Type} (f : α → β) (L : List α) (p : Nat) : (ld_del L p).map f = ld_del (L.map f) p := by
  unfold ld_del
  rw [List.map_append, List.map_take, List.map_drop]
theorem ld_insMid {α : Type} (A B : List α) {l : List α} {q : Nat} (e : α) (h : q ≤ l.length) : ld_ins (A ++ (l ++ B)) (A.length + q) e = A ++ (ld_ins l q e ++ B) := by
  obtain ⟨l1, l2, rfl, rfl⟩ := ld_cut h
  rw [ld_insA, List.append_assoc, ← List.append_assoc A l1, ← List.length_append, ld_insA, List.append_assoc, List.append_assoc, List.cons_append]
theorem ld_delMid {α : Type} (A B : List α) {l : List α} {q : Nat} {e : α} (h : l[q]? = some e) : ld_del (A ++ (l ++ B)) (A.length + q) = A ++ (ld_del l q ++ B) := by
  obtain ⟨l1, l2, rfl, rfl⟩ := ld_at h
  rw [ld_delA, List.append_assoc, List.cons_append, ← List.append_assoc A l1, ← List.length_append, ld_delA, List.append_assoc, List.append_assoc]
theorem ld_atMid {α : Type} (A B : List α) {l : List α} {q : Nat} (h : q < l.length) : (A ++ (l ++ B))[A.length + q]? = l[q]? := by
  rw [List.getElem?_append_right (by omega), List.getElem?_append_left (by omega)]
  congr 1
  omega
theorem ld_insG {α : Type} {L : List α} {p : Nat} {e : α} (h : p ≤ L.length) (i : Nat) : (ld_ins L p e)[i]? = if i < p then L[i]? else if i = p then some e else L[i - 1]? := by
  obtain ⟨A, B, rfl, rfl⟩ := ld_cut h
  rw [ld_insA]
  by_cases h1 : i < A.length
  · rw [if_pos h1, List.getElem?_append_left h1, List.getElem?_append_left h1]
  · rw [if_neg h1, List.getElem?_append_right (by omega)]
    by_cases h2 : i = A.length
    · subst h2
      rw [if_pos rfl, Nat.sub_self]
      rfl
    · rw [if_neg h2, List.getElem?_append_right (by omega)]
      obtain ⟨d, rfl⟩ : ∃ d, i = A.length + 1 + d := ⟨i - A.length - 1, by omega⟩
      rw [show A.length + 1 + d - A.length = d + 1 by omega, show A.length + 1 + d - 1 - A.length = d by omega, List.getElem?_cons_succ]
theorem ld_delG {α : Type} {L : List α} {p : Nat} {e : α} (h : L[p]? = some e) (i : Nat) : (ld_del L p)[i]? = if i < p then L[i]? else L[i + 1]? := by
  obtain ⟨A, B, rfl, rfl⟩ := ld_at h
  rw [ld_delA]
  by_cases h1 : i < A.length
  · rw [if_pos h1, List.getElem?_append_left h1, List.getElem?_append_left h1]
  · rw [if_neg h1, List.getElem?_append_right (by omega), List.getElem?_append_right (by omega)]
    rw [show i + 1 - A.length = (i - A.length) + 1 by omega, List.getElem?_cons_succ]
theorem ld_injG {α : Type} {L : List α} (hn : L.Nodup) {i j : Nat} {e : α} (hi : L[i]? = some e) (hj : L[j]? = some e) : i = j := by
  obtain ⟨A, B, rfl, rfl⟩ := ld_at hi
  obtain ⟨h1, h2, _⟩ := ld_ndx hn
  rcases Nat.lt_trichotomy j A.length with h | h | h
  · rw [List.getElem?_append_left h] at hj
    exact absurd (List.mem_of_getElem? hj) h1
  · exact h.symm
  · rw [List.getElem?_append_right (by omega), show j - A.length = (j - A.length - 1) + 1 by omega, List.getElem?_cons_succ] at hj
    exact absurd (List.mem_of_getElem? hj) h2
/-- of 128 numbers some one is not among 60 -/
theorem ld_free {T : List Nat} (h : T.length ≤ 60) : ∃ t, t < 128 ∧ t ∉ T := by
  apply Classical.byContradiction
  intro hc
  have hs : List.range 128 ⊆ T := by
    intro t ht
    apply Classical.byContradiction
    intro hm
    exact hc ⟨t, List.mem_range.mp ht, hm⟩
  have := List.Nodup.length_le_of_subset List.nodup_range hs
  rw [List.length_range] at this
  omega
/-! numbers -/
theorem ld_six (b k : Nat) : (6 : Int32) * nI b + nI k = nI (6 * b + k) := by
  rw [show (6 : Int32) = nI 6 from rfl, pk_mul, nI_add]
theorem ld_leP {r m : Nat} (hr : r < 2 ^ 30) (hm : m < 2 ^ 30) : nI r ≤ nI m - 1 ↔ r < m := by
  rw [Int32.le_iff_toInt_le, show (1 : Int32) = nI 1 from rfl, pk_sub_toInt hm (by omega), nI_toInt (by omega)]
  omega
theorem ld_m1neg : ((-1 : Int32) < 0) := by decide
theorem ld_nIm1 {n : Nat} (h : n < 2 ^ 31) : ¬ nI n = -1 := by
  intro z
  have := nI_pos (n := n) h
  rw [z] at this
  exact this (by decide)
end
section
/-! the text as a chain of blocks -/
abbrev ld_Bk : Type := Nat × List Nat
def ld_sg (be sz ce : Nat → Int32) : Int32 → List ld_Bk → Int32 → Prop
  | x, [], y => x = y
  | x, c :: C, y => x = nI c.1 ∧ c.1 < 32 ∧ c.2.length ≤ 6 ∧ sz c.1 = nI c.2.length ∧ (∀ k t, c.2[k]? = some t → ce (6 * c.1 + k) = nI t) ∧ ld_sg be sz ce (be c.1) C y
def ld_fl (be : Nat → Int32) : Int32 → List Nat → Prop
  | x, [] => x = -1
  | x, f :: F => x = nI f ∧ f < 32 ∧ ld_fl be (be f) F
def ld_nb : List ld_Bk → Prop
  | [] => True
  | [_] => True
  | c :: d :: C => 7 ≤ c.2.length + d.2.length ∧ ld_nb (d :: C)
def ld_tx (T : List Nat) (C : List ld_Bk) (F : List Nat) (fb : Int32) (bo be sz ce : Nat → Int32) : Prop :=
  ld_sg be sz ce 0 C (-1) ∧ ld_fl be fb F ∧ (C.map Prod.fst ++ F).Nodup ∧ C.length + F.length = 32 ∧ C.flatMap Prod.snd = T ∧ C ≠ [] ∧ (∀ c ∈ C, ∀ t ∈ c.2, bo t = nI c.1) ∧ T.Nodup ∧ (∀ t ∈ T, t < 128) ∧ (∀ t, t < 128 → t ∉ T → bo t = -1)
theorem ld_sgA {be sz ce : Nat → Int32} : ∀ {C1 C2 : List ld_Bk} {x y : Int32}, ld_sg be sz ce x (C1 ++ C2) y ↔ ∃ z, ld_sg be sz ce x C1 z ∧ ld_sg be sz ce z C2 y := by
  intro C1
  induction C1 with
  | nil =>
    intro C2 x y
    constructor
    · intro h
      exact ⟨x, rfl, h⟩
    · rintro ⟨z, h1, h2⟩
      have h1 : x = z := h1
      rw [List.nil_append, h1]
      exact h2
  | cons c C ih =>
    intro C2 x y
    constructor
    · rintro ⟨h1, h2, h3, h4, h5, h6⟩
      obtain ⟨z, h7, h8⟩ := ih.mp h6
      exact ⟨z, ⟨h1, h2, h3, h4, h5, h7⟩, h8⟩
    · rintro ⟨z, ⟨h1, h2, h3, h4, h5, h7⟩, h8⟩
      exact ⟨h1, h2, h3, h4, h5, ih.mpr ⟨z, h7, h8⟩⟩
theorem ld_sgF {be sz ce be' sz' ce' : Nat → Int32} : ∀ {C : List ld_Bk} {x y : Int32}, ld_sg be sz ce x C y → (∀ c ∈ C, be' c.1 = be c.1 ∧ sz' c.1 = sz c.1 ∧ ∀ k, k < 6 → ce' (6 * c.1 + k) = ce (6 * c.1 + k)) → ld_sg be' sz' ce' x C y := by
  intro C
  induction C with
  | nil =>
    intro x y h _
    exact h
  | cons c C ih =>
    intro x y h hf
    obtain ⟨h1, h2, h3, h4, h5, h6⟩ := h
    obtain ⟨f1, f2, f3⟩ := hf c (List.mem_cons_self ..)
    refine ⟨h1, h2, h3, f2.trans h4, ?_, ?_⟩
    · intro k t hk
      rw [f3 k (by have := ld_lt hk; omega)]
      exact h5 k t hk
    · rw [f1]
      exact ih h6 (fun d hd => hf d (List.mem_cons_of_mem _ hd))
theorem ld_flF {be be' : Nat → Int32} : ∀ {F : List Nat} {x : Int32}, ld_fl be x F → (∀ f ∈ F, be' f = be f) → ld_fl be' x F := by
  intro F
  induction F with
  | nil =>
    intro x h _
    exact h
  | cons f F ih =>
    intro x h hf
    obtain ⟨h1, h2, h3⟩ := h
    refine ⟨h1, h2, ?_⟩
    rw [hf f (List.mem_cons_self ..)]
    exact ih h3 (fun d hd => hf d (List.mem_cons_of_mem _ hd))
theorem ld_sgLt {be sz ce : Nat → Int32} : ∀ {C : List ld_Bk} {x y : Int32}, ld_sg be sz ce x C y → ∀ c ∈ C, c.1 < 32 ∧ c.2.length ≤ 6 := by
  intro C
  induction C with
  | nil =>
    intro x y _ c hc
    exact absurd hc (List.not_mem_nil)
  | cons d C ih =>
    intro x y h c hc
    obtain ⟨h1, h2, h3, h4, h5, h6⟩ := h
    rcases List.mem_cons.mp hc with e | e
    · rw [e]
      exact ⟨h2, h3⟩
    · exact ih h6 c e
theorem ld_dis {C1 C2 : List ld_Bk} {c : ld_Bk} {F : List Nat} (h : ((C1 ++ c :: C2).map Prod.fst ++ F).Nodup) : (∀ d ∈ C1, d.1 ≠ c.1) ∧ (∀ d ∈ C2, d.1 ≠ c.1) ∧ (∀ f ∈ F, f ≠ c.1) := by
  rw [List.map_append, List.map_cons, List.append_assoc, List.cons_append] at h
  obtain ⟨h1, h2, _⟩ := ld_ndx h
  refine ⟨fun d hd z => h1 ?_, fun d hd z => h2 ?_, fun f hf z => h2 ?_⟩
  · rw [← z]
    exact List.mem_map_of_mem hd
  · rw [← z]
    exact List.mem_append.mpr (Or.inl (List.mem_map_of_mem hd))
  · rw [← z]
    exact List.mem_append.mpr (Or.inr hf)
/-- the middle block gets new lines -/
theorem ld_sgM {be sz ce ce' : Nat → Int32} {C1 C2 : List ld_Bk} {b : Nat} {l l2 : List Nat} {x y : Int32} (h : ld_sg be sz ce x (C1 ++ (b, l) :: C2) y) (d1 : ∀ d ∈ C1, d.1 ≠ b) (d2 : ∀ d ∈ C2, d.1 ≠ b) (hl : l2.length ≤ 6) (hce : ∀ i, (i < 6 * b ∨ 6 * b + 6 ≤ i) → ce' i = ce i) (hc : ∀ k t, l2[k]? = some t → ce' (6 * b + k) = nI t) : ld_sg be (upd sz b (nI l2.length)) ce' x (C1 ++ (b, l2) :: C2) y := by
  obtain ⟨z, h1, h2, h3, h4, h5, h6, h7⟩ := ld_sgA.mp h
  have fr : ∀ d : ld_Bk, d.1 ≠ b → be d.1 = be d.1 ∧ upd sz b (nI l2.length) d.1 = sz d.1 ∧ ∀ k, k < 6 → ce' (6 * d.1 + k) = ce (6 * d.1 + k) := by
    intro d hd
    exact ⟨rfl, pk_un hd, fun k hk => hce _ (by omega)⟩
  refine ld_sgA.mpr ⟨z, ld_sgF h1 (fun d hd => fr d (d1 d hd)), h2, h3, hl, pk_us, hc, ?_⟩
  exact ld_sgF h7 (fun d hd => fr d (d2 d hd))
/-- the number of blocks is small -/
theorem ld_nbL : ∀ (n : Nat) (C : List ld_Bk), C.length ≤ n → ld_nb C → 7 * C.length ≤ 2 * (C.flatMap Prod.snd).length + 7 := by
  intro n
  induction n with
  | zero =>
    intro C h _
    rw [List.length_eq_zero_iff.mp (show C.length = 0 by omega)]
    exact Nat.zero_le _
  | succ n ih =>
    intro C h hn
    match C, h, hn with
    | [], _, _ => exact Nat.zero_le _
    | [c], _, _ =>
      rw [List.length_singleton]
      omega
    | c :: d :: C, h, hn =>
      obtain ⟨h1, h2⟩ := hn
      rw [List.length_cons, List.length_cons] at h
      have h3 : ld_nb C := by
        match C, h2 with
        | [], _ => exact True.intro
        | _ :: _, h2 => exact h2.2
      have h4 := ih C (by omega) h3
      rw [List.flatMap_cons, List.flatMap_cons, List.length_append, List.length_append, List.length_cons, List.length_cons]
      omega
theorem ld_flat (C1 C2 : List ld_Bk) (c : ld_Bk) : (C1 ++ c :: C2).flatMap Prod.snd = C1.flatMap Prod.snd ++ (c.2 ++ C2.flatMap Prod.snd) := by
  rw [List.flatMap_append, List.flatMap_cons]
end
section
/-! walks that only read: walkTo, lineAt, numberOf, listRange -/
section
variable {f_count f_firstBlock f_freeBlock f_atBlock f_atCell f_presentLine f_otherPresent f_changed f_steps f_newSteps f_listed : Int32} {a_valueOf a_blockOf a_needed a_behind a_size a_cell a_markOf a_otherMark a_stepSort a_stepPlace a_stepLine a_newSort a_newPlace a_newLine a_list : Nat → Int32}
theorem ld_walk : ∀ (C : List ld_Bk) (x : Int32) (s r : Nat), ld_sg a_behind a_size a_cell x C (-1) → C ≠ [] → s + C.length ≤ 32 → r < 1000 → ∃ (C1 : List ld_Bk) (c : ld_Bk) (C2 : List ld_Bk) (q : Nat), C = C1 ++ c :: C2 ∧ r = (C1.flatMap Prod.snd).length + q ∧ (q < c.2.length ∨ C2 = []) ∧ ∀ (post : SX → Prop) (n : Nat), C.length ≤ n → post (f_count, f_firstBlock, f_freeBlock, nI c.1, nI q, f_presentLine, f_otherPresent, f_changed, f_steps, f_newSteps, f_listed, a_valueOf, a_blockOf, a_needed, a_behind, a_size, a_cell, a_markOf, a_otherMark, a_stepSort, a_stepPlace, a_stepLine, a_newSort, a_newPlace, a_newLine, a_list) → wX_walkTo_14 post f_count f_firstBlock f_freeBlock f_atCell f_presentLine f_otherPresent f_changed f_steps f_newSteps f_listed a_valueOf a_blockOf a_needed a_behind a_size a_cell a_markOf a_otherMark a_stepSort a_stepPlace a_stepLine a_newSort a_newPlace a_newLine a_list n (nI r) (nI s) x := by
  intro C
  induction C with
  | nil =>
    intro x s r h h0
    exact absurd rfl h0
  | cons c C ih =>
    intro x s r h _ hs hr
    obtain ⟨rfl, hb, hl, hsz, hc, hn⟩ := h
    rw [List.length_cons] at hs
    have e0 : (nI c.1).toNatClampNeg = c.1 := nI_clamp (by omega)
    have e1 : a_size (nI c.1).toNatClampNeg = nI c.2.length := by rw [e0, hsz]
    have e2 : a_behind (nI c.1).toNatClampNeg = a_behind c.1 := by rw [e0]
    have hv : vp_in (nI c.1) 32 := vp_in_nI hb (by decide)
    have h32 : ¬ (32 : Int32) ≤ nI s := nI_ge (b := 32) (by omega) (by decide)
    have hlt : nI r ≤ a_size (nI c.1).toNatClampNeg - 1 ↔ r < c.2.length := by
      rw [e1]
      exact ld_leP (by omega) (by omega)
    by_cases hq : r < c.2.length
    · refine ⟨[], c, C, r, rfl, by rw [List.flatMap_nil, List.length_nil, Nat.zero_add], Or.inl hq, ?_⟩
      intro post n hn1 hp
      rw [List.length_cons] at hn1
      obtain ⟨n, rfl⟩ : ∃ m, n = m + 1 := ⟨n - 1, by omega⟩
      exact br_f h32 ⟨hv, br_t (hlt.mpr hq) hp⟩
    · have hnq : ¬ nI r ≤ a_size (nI c.1).toNatClampNeg - 1 := fun z => hq (hlt.mp z)
      cases C with
      | nil =>
        refine ⟨[], c, [], r, rfl, by rw [List.flatMap_nil, List.length_nil, Nat.zero_add], Or.inr rfl, ?_⟩
        intro post n hn1 hp
        rw [List.length_cons] at hn1
        obtain ⟨n, rfl⟩ : ∃ m, n = m + 1 := ⟨n - 1, by omega⟩
        have e3 : a_behind (nI c.1).toNatClampNeg < 0 := by
          rw [e2, show a_behind c.1 = -1 from hn]
          decide
        exact br_f h32 ⟨hv, br_f hnq ⟨hv, br_t e3 hp⟩⟩
      | cons d C =>
        have hd : a_behind c.1 = nI d.1 := hn.1
        have hd2 : d.1 < 32 := hn.2.1
        rw [List.length_cons] at hs
        obtain ⟨C1, c', C2, q, h1, h2, h3, h4⟩ := ih (a_behind c.1) (s + 1) (r - c.2.length) hn (List.cons_ne_nil _ _) (by rw [List.length_cons]; omega) (by omega)
        refine ⟨c :: C1, c', C2, q, by rw [h1]; rfl, by rw [List.flatMap_cons, List.length_append]; omega, h3, ?_⟩
        intro post n hn1 hp
        rw [List.length_cons] at hn1
        obtain ⟨n, rfl⟩ : ∃ m, n = m + 1 := ⟨n - 1, by omega⟩
        have e3 : ¬ a_behind (nI c.1).toNatClampNeg < 0 := by
          rw [e2, hd]
          exact nI_pos (by omega)
        exact br_f h32 ⟨hv, br_f hnq ⟨hv, br_f e3 ⟨hv, nm_r (e' := nI (r - c.2.length)) (by rw [e1, pk_sub (by omega)]) ⟨hv, nm_r e2 (nm_r (nI_1 s) (h4 post n (by omega) hp))⟩⟩⟩⟩
theorem ld_walkTo {T : List Nat} {C : List ld_Bk} {F : List Nat} {p : Nat} (h : ld_tx T C F f_freeBlock a_blockOf a_behind a_size a_cell) (hp : p ≤ T.length) (hT : T.length ≤ 60) : ∃ (C1 : List ld_Bk) (b : Nat) (l : List Nat) (C2 : List ld_Bk) (q : Nat), C = C1 ++ (b, l) :: C2 ∧ p = (C1.flatMap Prod.snd).length + q ∧ q ≤ l.length ∧ (q < l.length ∨ C2 = []) ∧ (p < T.length → q < l.length) ∧ ∀ (post : SX → Prop), post (f_count, 0, f_freeBlock, nI b, nI q, f_presentLine, f_otherPresent, f_changed, f_steps, f_newSteps, f_listed, a_valueOf, a_blockOf, a_needed, a_behind, a_size, a_cell, a_markOf, a_otherMark, a_stepSort, a_stepPlace, a_stepLine, a_newSort, a_newPlace, a_newLine, a_list) → wpX_walkTo post (f_count, 0, f_freeBlock, f_atBlock, f_atCell, f_presentLine, f_otherPresent, f_changed, f_steps, f_newSteps, f_listed, a_valueOf, a_blockOf, a_needed, a_behind, a_size, a_cell, a_markOf, a_otherMark, a_stepSort, a_stepPlace, a_stepLine, a_newSort, a_newPlace, a_newLine, a_list) (nI (p + 1)) := by
  obtain ⟨h1, h2, h3, h4, h5, h6, h7⟩ := h
  obtain ⟨C1, c, C2, q, e1, e2, e3, e4⟩ := ld_walk (f_count := f_count) (f_firstBlock := 0) (f_freeBlock := f_freeBlock) (f_atCell := f_atCell) (f_presentLine := f_presentLine) (f_otherPresent := f_otherPresent) (f_changed := f_changed) (f_steps := f_steps) (f_newSteps := f_newSteps) (f_listed := f_listed) (a_valueOf := a_valueOf) (a_blockOf := a_blockOf) (a_needed := a_needed) (a_markOf := a_markOf) (a_otherMark := a_otherMark) (a_stepSort := a_stepSort) (a_stepPlace := a_stepPlace) (a_stepLine := a_stepLine) (a_newSort := a_newSort) (a_newPlace := a_newPlace) (a_newLine := a_newLine) (a_list := a_list) C 0 0 p h1 h6 (by omega) (by omega)
  obtain ⟨b, l⟩ := c
  have hl : T.length = (C1.flatMap Prod.snd).length + (l.length + (C2.flatMap Prod.snd).length) := by
    rw [← h5, e1, ld_flat, List.length_append, List.length_append]
  have e3' : q < l.length ∨ C2 = [] := e3
  have hq : q ≤ l.length ∧ (p < T.length → q < l.length) := by
    rcases e3' with z | z
    · exact ⟨by omega, fun _ => z⟩
    · rw [z, List.flatMap_nil, List.length_nil] at hl
      exact ⟨by omega, fun _ => by omega⟩
  refine ⟨C1, b, l, C2, q, e1, e2, hq.1, e3', hq.2, ?_⟩
  intro post hpo
  exact nm_r (nI_pred p) ⟨C.length, e4 post C.length (Nat.le_refl _) hpo⟩
theorem ld_lineAt {T : List Nat} {C : List ld_Bk} {F : List Nat} {p t : Nat} (h : ld_tx T C F f_freeBlock a_blockOf a_behind a_size a_cell) (hT : T.length ≤ 60) (ht : T[p]? = some t) : ∃ (x y : Int32), ∀ (post : Int32 → SX → Prop), post (nI t) (f_count, 0, f_freeBlock, x, y, f_presentLine, f_otherPresent, f_changed, f_steps, f_newSteps, f_listed, a_valueOf, a_blockOf, a_needed, a_behind, a_size, a_cell, a_markOf, a_otherMark, a_stepSort, a_stepPlace, a_stepLine, a_newSort, a_newPlace, a_newLine, a_list) → wpX_lineAt post (f_count, 0, f_freeBlock, f_atBlock, f_atCell, f_presentLine, f_otherPresent, f_changed, f_steps, f_newSteps, f_listed, a_valueOf, a_blockOf, a_needed, a_behind, a_size, a_cell, a_markOf, a_otherMark, a_stepSort, a_stepPlace, a_stepLine, a_newSort, a_newPlace, a_newLine, a_list) (nI (p + 1)) := by
  have hp := ld_lt ht
  obtain ⟨C1, b, l, C2, q, e1, e2, e3, e4, e5, W⟩ := ld_walkTo (f_count := f_count) (f_atBlock := f_atBlock) (f_atCell := f_atCell) (f_presentLine := f_presentLine) (f_otherPresent := f_otherPresent) (f_changed := f_changed) (f_steps := f_steps) (f_newSteps := f_newSteps) (f_listed := f_listed) (a_valueOf := a_valueOf) (a_needed := a_needed) (a_markOf := a_markOf) (a_otherMark := a_otherMark) (a_stepSort := a_stepSort) (a_stepPlace := a_stepPlace) (a_stepLine := a_stepLine) (a_newSort := a_newSort) (a_newPlace := a_newPlace) (a_newLine := a_newLine) (a_list := a_list) h (Nat.le_of_lt hp) hT
  obtain ⟨h1, h2, h3, h4, h5, h6, h7⟩ := h
  have hq := e5 hp
  rw [e1] at h1
  obtain ⟨z, g1, g2, g3, g4, g5, g6, g7⟩ := ld_sgA.mp h1
  have hb : b < 32 := g3
  have hl : l.length ≤ 6 := g4
  have hlt : l[q]? = some t := by
    rw [← ht, ← h5, e1, ld_flat, e2, ld_atMid _ _ hq]
  have hi : (6 : Int32) * nI b + nI q = nI (6 * b + q) := ld_six b q
  refine ⟨nI b, nI q, fun post hp => W _ (And.intro ?_ ?_)⟩
  · rw [hi]
    exact vp_in_nI (by omega) (by decide)
  · rw [hi, nI_clamp (by omega), g6 q t hlt]
    exact hp
theorem ld_nof2 {l : List Nat} {b q t m : Nat} (hb : b < 32) (hl : l.length ≤ 6) (hsz : a_size b = nI l.length) (hc : ∀ k t, l[k]? = some t → a_cell (6 * b + k) = nI t) (hq : l[q]? = some t) (hn : ∀ k u, k < q → l[k]? = some u → u ≠ t) (hlt : ∀ u ∈ l, u < 128) (post : Int32 → Prop) (hp : post (nI (m + q + 1))) : ∀ d k, k + d = q → ∀ n, d < n → wX_numberOf_50 post (nI t) (nI m) (nI b) f_count f_firstBlock f_freeBlock f_atBlock f_atCell f_presentLine f_otherPresent f_changed f_steps f_newSteps f_listed a_valueOf a_blockOf a_needed a_behind a_size a_cell a_markOf a_otherMark a_stepSort a_stepPlace a_stepLine a_newSort a_newPlace a_newLine a_list n (nI k) := by
  have hql := ld_lt hq
  have e0 : (nI b).toNatClampNeg = b := nI_clamp (by omega)
  have hv : vp_in (nI b) 32 := vp_in_nI hb (by decide)
  have hs : ∀ k, k ≤ q → ¬ a_size (nI b).toNatClampNeg ≤ nI k := by
    intro k hk
    rw [e0, hsz]
    exact nI_ge (by omega) (by omega)
  have hi : ∀ k, k ≤ q → vp_in ((6 : Int32) * nI b + nI k) 192 ∧ ((6 : Int32) * nI b + nI k).toNatClampNeg = 6 * b + k := by
    intro k hk
    rw [ld_six]
    exact ⟨vp_in_nI (by omega) (by decide), nI_clamp (by omega)⟩
  intro d
  induction d with
  | zero =>
    intro k hk n hn
    obtain ⟨n, rfl⟩ : ∃ m, n = m + 1 := ⟨n - 1, by omega⟩
    have hk : k = q := by omega
    subst hk
    have hce : a_cell ((6 : Int32) * nI b + nI k).toNatClampNeg = nI t := by rw [(hi k (by omega)).2, hc k t hq]
    exact ⟨hv, br_f (hs k (by omega)) ⟨(hi k (by omega)).1, br_t hce (by rw [nI_add, nI_1]; exact hp)⟩⟩
  | succ d ih =>
    intro k hk n hn1
    obtain ⟨n, rfl⟩ : ∃ m, n = m + 1 := ⟨n - 1, by omega⟩
    obtain ⟨u, hu⟩ := ld_some (L := l) (p := k) (by omega)
    have hce : ¬ a_cell ((6 : Int32) * nI b + nI k).toNatClampNeg = nI t := by
      rw [(hi k (by omega)).2, hc k u hu, nI_eq (by have := hlt u (List.mem_of_getElem? hu); omega) (by have := hlt t (List.mem_of_getElem? hq); omega)]
      exact hn k u (by omega) hu
    exact ⟨hv, br_f (hs k (by omega)) ⟨(hi k (by omega)).1, br_f hce (nm_r (nI_1 k) (ih (k + 1) (by omega) n (by omega)))⟩⟩
theorem ld_nof1 {b t : Nat} {l : List Nat} {C2 : List ld_Bk} (ht : t < 128) (hb : b < 32) (hbo : a_blockOf t = nI b) (post : Int32 → Prop) : ∀ (C1 : List ld_Bk) (x : Int32) (m : Nat), ld_sg a_behind a_size a_cell x (C1 ++ (b, l) :: C2) (-1) → (∀ d ∈ C1, d.1 ≠ b) → ∀ n, C1.length < n → (∃ n50, wX_numberOf_50 post (nI t) (nI (m + (C1.flatMap Prod.snd).length)) (nI b) f_count f_firstBlock f_freeBlock f_atBlock f_atCell f_presentLine f_otherPresent f_changed f_steps f_newSteps f_listed a_valueOf a_blockOf a_needed a_behind a_size a_cell a_markOf a_otherMark a_stepSort a_stepPlace a_stepLine a_newSort a_newPlace a_newLine a_list n50 0) → wX_numberOf_7 post (nI t) f_count f_firstBlock f_freeBlock f_atBlock f_atCell f_presentLine f_otherPresent f_changed f_steps f_newSteps f_listed a_valueOf a_blockOf a_needed a_behind a_size a_cell a_markOf a_otherMark a_stepSort a_stepPlace a_stepLine a_newSort a_newPlace a_newLine a_list n (nI m) x := by
  have hvt : vp_in (nI t) 128 := vp_in_nI ht (by decide)
  have e0 : a_blockOf (nI t).toNatClampNeg = nI b := by rw [nI_clamp (by omega), hbo]
  intro C1
  induction C1 with
  | nil =>
    intro x m h _ n hn H
    obtain ⟨n, rfl⟩ : ∃ m, n = m + 1 := ⟨n - 1, by omega⟩
    obtain ⟨rfl, h2⟩ := h
    exact br_f (nI_pos (by omega)) ⟨hvt, br_t e0.symm ⟨hvt, nm_r e0 H⟩⟩
  | cons c C1 ih =>
    intro x m h hd n hn H
    obtain ⟨n, rfl⟩ : ∃ m, n = m + 1 := ⟨n - 1, by omega⟩
    obtain ⟨rfl, h2, h3, h4, h5, h6⟩ := h
    rw [List.length_cons] at hn
    have hne : ¬ nI c.1 = a_blockOf (nI t).toNatClampNeg := by
      rw [e0, nI_eq (by omega) (by omega)]
      exact hd c (List.mem_cons_self ..)
    have hv : vp_in (nI c.1) 32 := vp_in_nI h2 (by decide)
    have e1 : (nI c.1).toNatClampNeg = c.1 := nI_clamp (by omega)
    refine br_f (nI_pos (by omega)) ⟨hvt, br_f hne ⟨hv, nm_r (e' := nI (m + c.2.length)) (by rw [e1, h4, nI_add]) ⟨hv, nm_r (e' := a_behind c.1) (by rw [e1]) ?_⟩⟩⟩
    refine ih (a_behind c.1) (m + c.2.length) h6 (fun d hd' => hd d (List.mem_cons_of_mem _ hd')) n (by omega) ?_
    rw [List.flatMap_cons, List.length_append, ← Nat.add_assoc] at H
    exact H
theorem ld_numberOf {T : List Nat} {C : List ld_Bk} {F : List Nat} {p t : Nat} (h : ld_tx T C F f_freeBlock a_blockOf a_behind a_size a_cell) (ht : T[p]? = some t) (post : Int32 → Prop) (hp : post (nI (p + 1))) : wpX_numberOf post (f_count, 0, f_freeBlock, f_atBlock, f_atCell, f_presentLine, f_otherPresent, f_changed, f_steps, f_newSteps, f_listed, a_valueOf, a_blockOf, a_needed, a_behind, a_size, a_cell, a_markOf, a_otherMark, a_stepSort, a_stepPlace, a_stepLine, a_newSort, a_newPlace, a_newLine, a_list) (nI t) := by
  obtain ⟨h1, h2, h3, h4, h5, h6, h7, h8, h9, h10⟩ := h
  have htm : t ∈ T := List.mem_of_getElem? ht
  have hm := htm
  rw [← h5, List.mem_flatMap] at hm
  obtain ⟨c, hc, htc⟩ := hm
  obtain ⟨C1, C2, rfl⟩ := List.append_of_mem hc
  obtain ⟨b, l⟩ := c
  have htl : t ∈ l := htc
  obtain ⟨d1, d2, d3⟩ := ld_dis h3
  have h1' := h1
  obtain ⟨z, g1, g2, g3, g4, g5, g6, g7⟩ := ld_sgA.mp h1'
  have hb : b < 32 := g3
  obtain ⟨q, hq⟩ := List.getElem?_of_mem htl
  have hql := ld_lt hq
  have hfl : T = C1.flatMap Prod.snd ++ (l ++ C2.flatMap Prod.snd) := by rw [← h5, ld_flat]
  have hpq : p = (C1.flatMap Prod.snd).length + q := by
    refine ld_injG h8 ht ?_
    rw [hfl, ld_atMid _ _ hql, hq]
  have hln : l.Nodup := by
    rw [hfl, List.nodup_append, List.nodup_append] at h8
    exact h8.2.1.1
  have hlm : ∀ u ∈ l, u < 128 := by
    intro u hu
    refine h9 u ?_
    rw [hfl, List.mem_append, List.mem_append]
    exact Or.inr (Or.inl hu)
  refine ⟨C1.length + 1, ld_nof1 (m := 0) (hlm t htl) hb (h7 (b, l) hc t htl) post C1 0 h1 d1 (C1.length + 1) (by omega) ⟨q + 1, ?_⟩⟩
  refine ld_nof2 hb g4 g5 g6 hq ?_ hlm post ?_ q 0 (by omega) (q + 1) (by omega)
  · intro k u hk hu e
    subst e
    have := ld_injG hln hu hq
    omega
  · rw [Nat.zero_add, ← hpq]
    exact hp
end
end
section
/-! listRange -/
section
variable {f_count f_firstBlock f_freeBlock f_atBlock f_atCell f_presentLine f_otherPresent f_changed f_steps f_newSteps : Int32} {a_valueOf a_blockOf a_needed a_behind a_size a_cell a_markOf a_otherMark a_stepSort a_stepPlace a_stepLine a_newSort a_newPlace a_newLine : Nat → Int32}
def ld_lr (T : List Nat) (a e i : Nat) (li : Nat → Int32) : Prop := ∀ j t, j < min i e - a → T[a + j]? = some t → li j = nI t
theorem ld_lrS {T : List Nat} {a e i t : Nat} {li : Nat → Int32} (h : ld_lr T a e i li) (ha : a ≤ i) (he : i < e) (ht : T[i]? = some t) : ld_lr T a e (i + 1) (upd li (i - a) (nI t)) := by
  intro j u hj hu
  by_cases hc : j = i - a
  · subst hc
    rw [pk_us]
    rw [show a + (i - a) = i by omega, ht] at hu
    exact congrArg nI (Option.some.inj hu)
  · rw [pk_un hc]
    exact h j u (by omega) hu
theorem ld_lrK {T : List Nat} {a e i i' : Nat} {li : Nat → Int32} (h : ld_lr T a e i li) (hk : min i' e - a = min i e - a) : ld_lr T a e i' li := by
  intro j u hj hu
  exact h j u (by omega) hu
theorem ld_lr21 {T A l B : List Nat} {a e b : Nat} (hT : T = A ++ (l ++ B)) (hTl : T.length ≤ 60) (hae : a ≤ e) (heT : e ≤ T.length) (hb : b < 32) (hl : l.length ≤ 6) (hsz : a_size b = nI l.length) (hc : ∀ k t, l[k]? = some t → a_cell (6 * b + k) = nI t) : ∀ d k li, k + d = l.length → ld_lr T a e (A.length + k) li → ∃ li', ld_lr T a e (A.length + l.length) li' ∧ ∀ post J13 n, d < n → J13 (nI (A.length + l.length)) (a_behind b) (nI (min (A.length + l.length) e - a)) a_valueOf a_blockOf a_needed a_behind a_size a_cell a_markOf a_otherMark a_stepSort a_stepPlace a_stepLine a_newSort a_newPlace a_newLine li' → wX_listRange_21 post J13 (nI (a + 1)) (nI e) (nI b) f_count f_firstBlock f_freeBlock f_atBlock f_atCell f_presentLine f_otherPresent f_changed f_steps f_newSteps n (nI (A.length + k)) (nI k) (nI (min (A.length + k) e - a)) a_valueOf a_blockOf a_needed a_behind a_size a_cell a_markOf a_otherMark a_stepSort a_stepPlace a_stepLine a_newSort a_newPlace a_newLine li := by
  have e0 : (nI b).toNatClampNeg = b := nI_clamp (by omega)
  have hv : vp_in (nI b) 32 := vp_in_nI hb (by decide)
  have hAl : A.length + l.length ≤ T.length := by
    rw [hT, List.length_append, List.length_append]
    omega
  intro d
  induction d with
  | zero =>
    intro k li hk h
    have hk : k = l.length := by omega
    subst hk
    refine ⟨li, h, ?_⟩
    intro post J n hn hJ
    obtain ⟨n, rfl⟩ : ∃ m, n = m + 1 := ⟨n - 1, by omega⟩
    have h1 : a_size (nI b).toNatClampNeg ≤ nI l.length := by
      rw [e0, hsz]
      exact nI_le (Nat.le_refl _) (by omega)
    exact ⟨hv, br_t h1 ⟨hv, nm_r (e' := a_behind b) (by rw [e0]) hJ⟩⟩
  | succ d ih =>
    intro k li hk h
    have h1 : ¬ a_size (nI b).toNatClampNeg ≤ nI k := by
      rw [e0, hsz]
      exact nI_ge (by omega) (by omega)
    obtain ⟨t, ht⟩ := ld_some (L := l) (p := k) (by omega)
    have hTt : T[A.length + k]? = some t := by rw [hT, ld_atMid _ _ (by omega), ht]
    by_cases ha : A.length + k < a
    · obtain ⟨li', i1, i2⟩ := ih (k + 1) li (by omega) (ld_lrK h (by omega))
      refine ⟨li', i1, ?_⟩
      intro post J n hn hJ
      obtain ⟨n, rfl⟩ : ∃ m, n = m + 1 := ⟨n - 1, by omega⟩
      have h2 := i2 post J n (by omega) hJ
      rw [show min (A.length + (k + 1)) e - a = min (A.length + k) e - a by omega, ← Nat.add_assoc] at h2
      exact ⟨hv, br_f h1 (nm_r (nI_1 _) (br_t (nI_lt (by omega) (by omega)) (nm_r (nI_1 k) h2)))⟩
    · by_cases he : e ≤ A.length + k
      · obtain ⟨li', i1, i2⟩ := ih (k + 1) li (by omega) (ld_lrK h (by omega))
        refine ⟨li', i1, ?_⟩
        intro post J n hn hJ
        obtain ⟨n, rfl⟩ : ∃ m, n = m + 1 := ⟨n - 1, by omega⟩
        have h2 := i2 post J n (by omega) hJ
        rw [show min (A.length + (k + 1)) e - a = min (A.length + k) e - a by omega, ← Nat.add_assoc] at h2
        exact ⟨hv, br_f h1 (nm_r (nI_1 _) (br_f (nI_nlt (by omega) (by omega)) (br_t (nI_lt (by omega) (by omega)) (nm_r (nI_1 k) h2))))⟩
      · obtain ⟨li', i1, i2⟩ := ih (k + 1) (upd li (A.length + k - a) (nI t)) (by omega) (ld_lrS (i := A.length + k) h (by omega) (by omega) hTt)
        refine ⟨li', i1, ?_⟩
        intro post J n hn hJ
        obtain ⟨n, rfl⟩ : ∃ m, n = m + 1 := ⟨n - 1, by omega⟩
        have h2 := i2 post J n (by omega) hJ
        rw [show min (A.length + (k + 1)) e - a = (A.length + k - a) + 1 by omega, ← Nat.add_assoc] at h2
        rw [show min (A.length + k) e - a = A.length + k - a by omega]
        have hi : (6 : Int32) * nI b + nI k = nI (6 * b + k) := ld_six b k
        refine ⟨hv, br_f h1 (nm_r (nI_1 _) (br_f (nI_nlt (by omega) (by omega)) (br_f (nI_nlt (by omega) (by omega)) ⟨?_, ?_, ?_⟩)))⟩
        · rw [hi]
          exact vp_in_nI (by omega) (by decide)
        · exact vp_in_nI (by omega) (by decide)
        · refine nm_r (e' := upd li (A.length + k - a) (nI t)) ?_ (nm_r (nI_1 _) (nm_r (nI_1 k) h2))
          rw [hi, nI_clamp (by omega), nI_clamp (by omega), hc k t ht]
theorem ld_lr13 {T : List Nat} {a e : Nat} (hTl : T.length ≤ 60) (hae : a ≤ e) (heT : e ≤ T.length) : ∀ (C : List ld_Bk) (A : List Nat) (x : Int32) (li : Nat → Int32), ld_sg a_behind a_size a_cell x C (-1) → T = A ++ C.flatMap Prod.snd → ld_lr T a e A.length li → ∃ li', ld_lr T a e T.length li' ∧ ∀ (post : SX → Prop) n, C.length < n → post (f_count, f_firstBlock, f_freeBlock, f_atBlock, f_atCell, f_presentLine, f_otherPresent, f_changed, f_steps, f_newSteps, nI (min T.length e - a), a_valueOf, a_blockOf, a_needed, a_behind, a_size, a_cell, a_markOf, a_otherMark, a_stepSort, a_stepPlace, a_stepLine, a_newSort, a_newPlace, a_newLine, li') → wX_listRange_13 post (nI (a + 1)) (nI e) f_count f_firstBlock f_freeBlock f_atBlock f_atCell f_presentLine f_otherPresent f_changed f_steps f_newSteps n (nI A.length) x (nI (min A.length e - a)) a_valueOf a_blockOf a_needed a_behind a_size a_cell a_markOf a_otherMark a_stepSort a_stepPlace a_stepLine a_newSort a_newPlace a_newLine li := by
  intro C
  induction C with
  | nil =>
    intro A x li h hT hli
    rw [List.flatMap_nil, List.append_nil] at hT
    subst hT
    refine ⟨li, hli, ?_⟩
    intro post n hn hp
    obtain ⟨n, rfl⟩ : ∃ m, n = m + 1 := ⟨n - 1, by omega⟩
    have hx : x < 0 := by
      rw [show x = -1 from h]
      decide
    exact br_t hx hp
  | cons c C ih =>
    intro A x li h hT hli
    obtain ⟨rfl, h2, h3, h4, h5, h6⟩ := h
    rw [List.flatMap_cons] at hT
    obtain ⟨li1, j1, j2⟩ := ld_lr21 (f_count := f_count) (f_firstBlock := f_firstBlock) (f_freeBlock := f_freeBlock) (f_atBlock := f_atBlock) (f_atCell := f_atCell) (f_presentLine := f_presentLine) (f_otherPresent := f_otherPresent) (f_changed := f_changed) (f_steps := f_steps) (f_newSteps := f_newSteps) (a_valueOf := a_valueOf) (a_blockOf := a_blockOf) (a_needed := a_needed) (a_behind := a_behind) (a_markOf := a_markOf) (a_otherMark := a_otherMark) (a_stepSort := a_stepSort) (a_stepPlace := a_stepPlace) (a_stepLine := a_stepLine) (a_newSort := a_newSort) (a_newPlace := a_newPlace) (a_newLine := a_newLine) hT hTl hae heT h2 h3 h4 h5 c.2.length 0 li (by omega) hli
    obtain ⟨li', i1, i2⟩ := ih (A ++ c.2) (a_behind c.1) li1 h6 (by rw [List.append_assoc]; exact hT) (by rw [List.length_append]; exact j1)
    refine ⟨li', i1, ?_⟩
    intro post n hn hp
    rw [List.length_cons] at hn
    obtain ⟨n, rfl⟩ : ∃ m, n = m + 1 := ⟨n - 1, by omega⟩
    have h7 := i2 post n (by omega) hp
    rw [List.length_append] at h7
    exact br_f (nI_pos (by omega)) ⟨c.2.length + 1, j2 post _ _ (by omega) h7⟩
end
section
variable {f_count f_firstBlock f_freeBlock f_atBlock f_atCell f_presentLine f_otherPresent f_changed f_steps f_newSteps f_listed : Int32} {a_valueOf a_blockOf a_needed a_behind a_size a_cell a_markOf a_otherMark a_stepSort a_stepPlace a_stepLine a_newSort a_newPlace a_newLine a_list : Nat → Int32}
theorem ld_listRange {T : List Nat} {C : List ld_Bk} {F : List Nat} {a e : Nat} (h : ld_tx T C F f_freeBlock a_blockOf a_behind a_size a_cell) (hTl : T.length ≤ 60) (hae : a ≤ e) (heT : e ≤ T.length) : ∃ li', (∀ j t, j < e - a → T[a + j]? = some t → li' j = nI t) ∧ ∀ (post : SX → Prop), post (f_count, 0, f_freeBlock, f_atBlock, f_atCell, f_presentLine, f_otherPresent, f_changed, f_steps, f_newSteps, nI (e - a), a_valueOf, a_blockOf, a_needed, a_behind, a_size, a_cell, a_markOf, a_otherMark, a_stepSort, a_stepPlace, a_stepLine, a_newSort, a_newPlace, a_newLine, li') → wpX_listRange post (f_count, 0, f_freeBlock, f_atBlock, f_atCell, f_presentLine, f_otherPresent, f_changed, f_steps, f_newSteps, f_listed, a_valueOf, a_blockOf, a_needed, a_behind, a_size, a_cell, a_markOf, a_otherMark, a_stepSort, a_stepPlace, a_stepLine, a_newSort, a_newPlace, a_newLine, a_list) (nI (a + 1)) (nI e) := by
  obtain ⟨h1, h2, h3, h4, h5, h6, h7, h8, h9, h10⟩ := h
  obtain ⟨li', i1, i2⟩ := ld_lr13 (f_count := f_count) (f_firstBlock := 0) (f_freeBlock := f_freeBlock) (f_atBlock := f_atBlock) (f_atCell := f_atCell) (f_presentLine := f_presentLine) (f_otherPresent := f_otherPresent) (f_changed := f_changed) (f_steps := f_steps) (f_newSteps := f_newSteps) (a_valueOf := a_valueOf) (a_blockOf := a_blockOf) (a_needed := a_needed) (a_markOf := a_markOf) (a_otherMark := a_otherMark) (a_stepSort := a_stepSort) (a_stepPlace := a_stepPlace) (a_stepLine := a_stepLine) (a_newSort := a_newSort) (a_newPlace := a_newPlace) (a_newLine := a_newLine) hTl hae heT C [] 0 a_list h1 h5.symm (fun j t hj => absurd hj (by rw [List.length_nil]; omega))
  rw [show min T.length e - a = e - a by omega] at i2
  refine ⟨li', fun j t hj ht => i1 j t (by omega) ht, ?_⟩
  intro post hp
  have h11 := i2 post (C.length + 1) (by omega) hp
  rw [show min ([] : List Nat).length e - a = 0 by rw [List.length_nil]; omega] at h11
  exact ⟨C.length + 1, h11⟩
end
end
section
/-! join, joinSmall -/
theorem ld_nd3 {A l B : List Nat} (h : (A ++ (l ++ B)).Nodup) : l.Nodup ∧ (∀ t ∈ l, t ∉ A ∧ t ∉ B) := by
  rw [List.nodup_append] at h
  obtain ⟨h1, h2, h3⟩ := h
  rw [List.nodup_append] at h2
  obtain ⟨h4, h5, h6⟩ := h2
  refine ⟨h4, fun t ht => ⟨fun z => ?_, fun z => ?_⟩⟩
  · exact h3 t z t (List.mem_append.mpr (Or.inl ht)) rfl
  · exact h6 t ht t z rfl
theorem ld_inFlat {C : List ld_Bk} {c : ld_Bk} {t : Nat} (hc : c ∈ C) (ht : t ∈ c.2) : t ∈ C.flatMap Prod.snd := List.mem_flatMap.mpr ⟨c, hc, ht⟩
section
variable {f_count f_firstBlock f_freeBlock f_atBlock f_atCell f_presentLine f_otherPresent f_changed f_steps f_newSteps f_listed : Int32} {a_valueOf a_needed a_behind a_size a_markOf a_otherMark a_stepSort a_stepPlace a_stepLine a_newSort a_newPlace a_newLine a_list : Nat → Int32}
theorem ld_joinL {b b' m w : Nat} (hb : b < 32) (hb' : b' < 32) (hbb : b ≠ b') (hmw : m + w ≤ 6) (hsz : a_size b = nI m) (hsz' : a_size b' = nI w) : ∀ (l : List Nat) (k : Nat) (bo ce : Nat → Int32), k + l.length = w → (∀ j t, l[j]? = some t → ce (6 * b' + (k + j)) = nI t) → (∀ t ∈ l, t < 128) → ∃ bo' ce', (∀ i, (i < 6 * b + m + k ∨ 6 * b + m + w ≤ i) → ce' i = ce i) ∧ (∀ j t, l[j]? = some t → ce' (6 * b + m + (k + j)) = nI t) ∧ (∀ t, bo' t = if t ∈ l then nI b else bo t) ∧ ∀ (post : SX → Prop) n, wX_join_2 post (nI b) (nI b') f_count f_firstBlock f_freeBlock f_atBlock f_atCell f_presentLine f_otherPresent f_changed f_steps f_newSteps f_listed n (nI w) a_valueOf bo' a_needed a_behind a_size ce' a_markOf a_otherMark a_stepSort a_stepPlace a_stepLine a_newSort a_newPlace a_newLine a_list → wX_join_2 post (nI b) (nI b') f_count f_firstBlock f_freeBlock f_atBlock f_atCell f_presentLine f_otherPresent f_changed f_steps f_newSteps f_listed (n + l.length) (nI k) a_valueOf bo a_needed a_behind a_size ce a_markOf a_otherMark a_stepSort a_stepPlace a_stepLine a_newSort a_newPlace a_newLine a_list := by
  have e0 : (nI b).toNatClampNeg = b := nI_clamp (by omega)
  have e0' : (nI b').toNatClampNeg = b' := nI_clamp (by omega)
  have hv : vp_in (nI b) 32 := vp_in_nI hb (by decide)
  have hv' : vp_in (nI b') 32 := vp_in_nI hb' (by decide)
  intro l
  induction l with
  | nil =>
    intro k bo ce hk hc ht
    rw [List.length_nil] at hk
    have hk : k = w := by omega
    subst hk
    refine ⟨bo, ce, fun i _ => rfl, fun j t hj => absurd hj (by simp), fun t => by simp, fun post n h => h⟩
  | cons t l ih =>
    intro k bo ce hk hc ht
    rw [List.length_cons] at hk
    have hkc : ce (6 * b' + k) = nI t := hc 0 t rfl
    have ht1 : t < 128 := ht t (List.mem_cons_self ..)
    obtain ⟨bo', ce', i1, i2, i3, i4⟩ := ih (k + 1) (upd bo t (nI b)) (upd ce (6 * b + m + k) (nI t)) (by omega) (by
      intro j u hj
      have hjl := ld_lt hj
      rw [pk_un (by omega)]
      have := hc (j + 1) u hj
      rw [show k + (j + 1) = k + 1 + j by omega] at this
      exact this) (fun u hu => ht u (List.mem_cons_of_mem _ hu))
    refine ⟨bo', ce', ?_, ?_, ?_, ?_⟩
    · intro i hi
      rw [i1 i (by omega), pk_un (by omega)]
    · intro j u hj
      cases j with
      | zero =>
        have hu : t = u := Option.some.inj hj
        rw [i1 _ (by omega), Nat.add_zero, pk_us, hu]
      | succ j =>
        have := i2 j u hj
        rw [show k + 1 + j = k + (j + 1) by omega] at this
        exact this
    · intro u
      rw [i3 u]
      by_cases h1 : u ∈ l
      · rw [if_pos h1, if_pos (List.mem_cons_of_mem _ h1)]
      · rw [if_neg h1]
        by_cases h2 : u = t
        · subst h2
          rw [pk_us, if_pos (List.mem_cons_self ..)]
        · rw [pk_un h2, if_neg (fun z => (List.mem_cons.mp z).elim h2 h1)]
    · intro post n h
      have h1 : ¬ a_size (nI b').toNatClampNeg ≤ nI k := by
        rw [e0', hsz']
        exact nI_ge (by omega) (by omega)
      have hi1 : (6 : Int32) * nI b' + nI k = nI (6 * b' + k) := ld_six b' k
      have hi2 : (6 : Int32) * nI b + a_size (nI b).toNatClampNeg + nI k = nI (6 * b + m + k) := by rw [e0, hsz, ld_six, nI_add]
      have hx : upd ce (6 * b + m + k) (nI t) (6 * b' + k) = nI t := by rw [pk_un (by omega), hkc]
      have hce : upd ce ((6 : Int32) * nI b + a_size (nI b).toNatClampNeg + nI k).toNatClampNeg (ce ((6 : Int32) * nI b' + nI k).toNatClampNeg) = upd ce (6 * b + m + k) (nI t) := by
        rw [hi1, hi2, nI_clamp (by omega), nI_clamp (by omega), hkc]
      have hid : (upd ce (6 * b + m + k) (nI t)) ((6 : Int32) * nI b' + nI k).toNatClampNeg = nI t := by rw [hi1, nI_clamp (by omega), hx]
      have hvi : vp_in ((6 : Int32) * nI b' + nI k) 192 := by
        rw [hi1]
        exact vp_in_nI (by omega) (by decide)
      have hvj : vp_in ((6 : Int32) * nI b + a_size (nI b).toNatClampNeg + nI k) 192 := by
        rw [hi2]
        exact vp_in_nI (by omega) (by decide)
      refine ⟨hv', br_f h1 ⟨hv, hvi, hvj, nm_r hce ⟨hvi, by rw [hid]; exact vp_in_nI ht1 (by decide), nm_r (e' := upd bo t (nI b)) (by rw [hid, nI_clamp (by omega)]) (nm_r (nI_1 k) (i4 post n h))⟩⟩⟩
theorem ld_join {a_blockOf a_cell : Nat → Int32} {T : List Nat} {C1 C2 : List ld_Bk} {F l l' : List Nat} {b b' : Nat} (h : ld_tx T (C1 ++ (b, l) :: (b', l') :: C2) F f_freeBlock a_blockOf a_behind a_size a_cell) (hs : l.length + l'.length ≤ 6) : ∃ fb' bo' be' sz' ce', ld_tx T (C1 ++ (b, l ++ l') :: C2) (b' :: F) fb' bo' be' sz' ce' ∧ ∀ (post : SX → Prop), post (f_count, f_firstBlock, fb', f_atBlock, f_atCell, f_presentLine, f_otherPresent, f_changed, f_steps, f_newSteps, f_listed, a_valueOf, bo', a_needed, be', sz', ce', a_markOf, a_otherMark, a_stepSort, a_stepPlace, a_stepLine, a_newSort, a_newPlace, a_newLine, a_list) → wpX_join post (f_count, f_firstBlock, f_freeBlock, f_atBlock, f_atCell, f_presentLine, f_otherPresent, f_changed, f_steps, f_newSteps, f_listed, a_valueOf, a_blockOf, a_needed, a_behind, a_size, a_cell, a_markOf, a_otherMark, a_stepSort, a_stepPlace, a_stepLine, a_newSort, a_newPlace, a_newLine, a_list) (nI b) (nI b') := by
  obtain ⟨h1, h2, h3, h4, h5, h6, h7, h8, h9, h10⟩ := h
  obtain ⟨z, g1, g2, g3, g4, g5, g6, g7, g8, g9, g10, g11, g12⟩ := ld_sgA.mp h1
  have hb : b < 32 := g3
  have hb' : b' < 32 := g8
  have hsz : a_size b = nI l.length := g5
  have hsz' : a_size b' = nI l'.length := g10
  obtain ⟨d1, d2, d3⟩ := ld_dis h3
  have h3' : ((C1 ++ [(b, l)] ++ (b', l') :: C2).map Prod.fst ++ F).Nodup := by
    rw [List.append_assoc]
    exact h3
  obtain ⟨f1, f2, f3⟩ := ld_dis h3'
  have hbb : b ≠ b' := f1 (b, l) (List.mem_append.mpr (Or.inr (List.mem_cons_self ..)))
  have hfl : T = (C1.flatMap Prod.snd ++ l) ++ (l' ++ C2.flatMap Prod.snd) := by
    rw [← h5, ld_flat, List.flatMap_cons, List.append_assoc]
  have hnd := h8
  rw [hfl] at hnd
  obtain ⟨n1, n2⟩ := ld_nd3 hnd
  have hlm : ∀ t ∈ l', t < 128 := by
    intro t ht
    refine h9 t ?_
    rw [hfl]
    exact List.mem_append.mpr (Or.inr (List.mem_append.mpr (Or.inl ht)))
  obtain ⟨bo', ce', i1, i2, i3, i4⟩ := ld_joinL (f_count := f_count) (f_firstBlock := f_firstBlock) (f_freeBlock := f_freeBlock) (f_atBlock := f_atBlock) (f_atCell := f_atCell) (f_presentLine := f_presentLine) (f_otherPresent := f_otherPresent) (f_changed := f_changed) (f_steps := f_steps) (f_newSteps := f_newSteps) (f_listed := f_listed) (a_valueOf := a_valueOf) (a_needed := a_needed) (a_behind := a_behind) (a_markOf := a_markOf) (a_otherMark := a_otherMark) (a_stepSort := a_stepSort) (a_stepPlace := a_stepPlace) (a_stepLine := a_stepLine) (a_newSort := a_newSort) (a_newPlace := a_newPlace) (a_newLine := a_newLine) (a_list := a_list) hb hb' hbb hs hsz hsz' l' 0 a_blockOf a_cell (by omega) (fun j t hj => by rw [Nat.zero_add]; exact g11 j t hj) hlm
  have e0 : (nI b).toNatClampNeg = b := nI_clamp (by omega)
  have e0' : (nI b').toNatClampNeg = b' := nI_clamp (by omega)
  have hv : vp_in (nI b) 32 := vp_in_nI hb (by decide)
  have hv' : vp_in (nI b') 32 := vp_in_nI hb' (by decide)
  refine ⟨nI b', bo', upd (upd a_behind b (a_behind b')) b' f_freeBlock, upd a_size b (nI (l.length + l'.length)), ce', ⟨?_, ?_, ?_, ?_, ?_, ?_, ?_, h8, h9, ?_⟩, ?_⟩
  · have fr : ∀ d : ld_Bk, d.1 ≠ b → d.1 ≠ b' → upd (upd a_behind b (a_behind b')) b' f_freeBlock d.1 = a_behind d.1 ∧ upd a_size b (nI (l.length + l'.length)) d.1 = a_size d.1 ∧ ∀ k, k < 6 → ce' (6 * d.1 + k) = a_cell (6 * d.1 + k) := by
      intro d h1 h2
      exact ⟨by rw [pk_un h2, pk_un h1], pk_un h1, fun k hk => i1 _ (by omega)⟩
    refine ld_sgA.mpr ⟨z, ld_sgF g1 (fun d hd => fr d (d1 d hd) (f1 d (List.mem_append.mpr (Or.inl hd)))), g2, g3, ?_, ?_, ?_, ?_⟩
    · rw [List.length_append]
      exact hs
    · rw [List.length_append]
      exact pk_us
    · intro k t hk
      by_cases hkl : k < l.length
      · have hk : (l ++ l')[k]? = some t := hk
        rw [List.getElem?_append_left hkl] at hk
        show ce' (6 * b + k) = nI t
        rw [i1 _ (by omega)]
        exact g6 k t hk
      · have hk : (l ++ l')[k]? = some t := hk
        rw [List.getElem?_append_right (by omega)] at hk
        have := i2 _ t hk
        rw [show 6 * b + l.length + (0 + (k - l.length)) = 6 * b + k by omega] at this
        exact this
    · show ld_sg _ _ _ (upd (upd a_behind b (a_behind b')) b' f_freeBlock b) C2 (-1)
      rw [pk_un hbb, pk_us]
      exact ld_sgF g12 (fun d hd => fr d (d2 d (List.mem_cons_of_mem _ hd)) (f2 d hd))
  · refine ⟨rfl, hb', ?_⟩
    rw [pk_us]
    refine ld_flF h2 (fun f hf => ?_)
    rw [pk_un (f3 f hf), pk_un (d3 f hf)]
  · rw [List.nodup_iff_count] at h3 ⊢
    intro a
    have := h3 a
    simp only [List.map_append, List.map_cons, List.count_append, List.count_cons] at this ⊢
    omega
  · simp only [List.length_append, List.length_cons] at h4 ⊢
    omega
  · rw [hfl, ld_flat]
    show _ ++ ((l ++ l') ++ _) = _
    rw [List.append_assoc, List.append_assoc]
  · exact fun z => by simp at z
  · intro c hc t ht
    rw [i3 t]
    rcases List.mem_append.mp hc with hc | hc
    · have h11 : t ∉ l' := fun z => (n2 t z).1 (List.mem_append.mpr (Or.inl (ld_inFlat hc ht)))
      rw [if_neg h11]
      exact h7 c (List.mem_append.mpr (Or.inl hc)) t ht
    · rcases List.mem_cons.mp hc with hc | hc
      · subst hc
        by_cases h11 : t ∈ l'
        · rw [if_pos h11]
        · rw [if_neg h11]
          have ht : t ∈ l ++ l' := ht
          rcases List.mem_append.mp ht with ht | ht
          · exact h7 (b, l) (List.mem_append.mpr (Or.inr (List.mem_cons_self ..))) t ht
          · exact absurd ht h11
      · have h11 : t ∉ l' := fun z => (n2 t z).2 (ld_inFlat hc ht)
        rw [if_neg h11]
        exact h7 c (List.mem_append.mpr (Or.inr (List.mem_cons_of_mem _ (List.mem_cons_of_mem _ hc)))) t ht
  · intro t ht hn
    rw [i3 t, if_neg (fun z => hn (by rw [hfl]; exact List.mem_append.mpr (Or.inr (List.mem_append.mpr (Or.inl z)))))]
    exact h10 t ht hn
  · intro post hp
    have hle : a_size (nI b').toNatClampNeg ≤ nI l'.length := by
      rw [e0', hsz']
      exact nI_le (Nat.le_refl _) (by omega)
    refine ⟨1 + l'.length, i4 post 1 ⟨hv', br_t hle ⟨hv, hv', hv, nm_r (e' := upd a_size b (nI (l.length + l'.length))) (by rw [e0, e0', hsz, hsz', nI_add]) ⟨hv', hv, nm_r (e' := upd a_behind b (a_behind b')) (by rw [e0, e0']) ⟨hv', nm_r (e' := upd (upd a_behind b (a_behind b')) b' f_freeBlock) (by rw [e0']) hp⟩⟩⟩⟩⟩
end
theorem ld_nbS : ∀ (D : List ld_Bk) (c d : ld_Bk), ld_nb (D ++ [c]) → 7 ≤ c.2.length + d.2.length → ld_nb (D ++ [c] ++ [d]) := by
  intro D
  induction D with
  | nil =>
    intro c d _ h
    exact ⟨h, True.intro⟩
  | cons x D ih =>
    intro c d h1 h2
    cases D with
    | nil => exact ⟨h1.1, h2, True.intro⟩
    | cons y D => exact ⟨h1.1, ih c d h1.2 h2⟩
theorem ld_nbG : ∀ (D : List ld_Bk) (c d : ld_Bk), ld_nb (D ++ [c]) → c.2.length ≤ d.2.length → ld_nb (D ++ [d]) := by
  intro D
  induction D with
  | nil =>
    intro c d _ _
    exact True.intro
  | cons x D ih =>
    intro c d h1 h2
    cases D with
    | nil =>
      have h3 : 7 ≤ x.2.length + c.2.length := h1.1
      exact ⟨by omega, True.intro⟩
    | cons y D => exact ⟨h1.1, ih c d h1.2 h2⟩
section
variable {f_count f_firstBlock f_atBlock f_atCell f_presentLine f_otherPresent f_changed f_steps f_newSteps f_listed : Int32} {a_valueOf a_needed a_markOf a_otherMark a_stepSort a_stepPlace a_stepLine a_newSort a_newPlace a_newLine a_list : Nat → Int32}
theorem ld_jsL {T : List Nat} : ∀ (R D : List ld_Bk) (b : Nat) (l F : List Nat) (s : Nat) (fb : Int32) (bo be sz ce : Nat → Int32), ld_tx T (D ++ (b, l) :: R) F fb bo be sz ce → ld_nb (D ++ [(b, l)]) → s + R.length ≤ 39 → ∃ C' F' fb' bo' be' sz' ce', ld_tx T C' F' fb' bo' be' sz' ce' ∧ ld_nb C' ∧ ∀ (post : SX → Prop) n, R.length < n → post (f_count, f_firstBlock, fb', f_atBlock, f_atCell, f_presentLine, f_otherPresent, f_changed, f_steps, f_newSteps, f_listed, a_valueOf, bo', a_needed, be', sz', ce', a_markOf, a_otherMark, a_stepSort, a_stepPlace, a_stepLine, a_newSort, a_newPlace, a_newLine, a_list) → wX_joinSmall_7 post n (nI b) (nI s) f_count f_firstBlock fb f_atBlock f_atCell f_presentLine f_otherPresent f_changed f_steps f_newSteps f_listed a_valueOf bo a_needed be sz ce a_markOf a_otherMark a_stepSort a_stepPlace a_stepLine a_newSort a_newPlace a_newLine a_list := by
  intro R
  induction R with
  | nil =>
    intro D b l F s fb bo be sz ce h hn hs
    refine ⟨D ++ [(b, l)], F, fb, bo, be, sz, ce, h, hn, ?_⟩
    intro post n hn1 hp
    obtain ⟨n, rfl⟩ : ∃ m, n = m + 1 := ⟨n - 1, by omega⟩
    obtain ⟨z, g1, g2, g3, g4, g5, g6, g7⟩ := ld_sgA.mp h.1
    have hb : b < 32 := g3
    have h40 : ¬ (40 : Int32) ≤ nI s := nI_ge (b := 40) (by omega) (by decide)
    have e3 : be (nI b).toNatClampNeg < 0 := by
      rw [nI_clamp (by omega), show be b = -1 from g7]
      decide
    exact br_f h40 ⟨vp_in_nI hb (by decide), br_t e3 hp⟩
  | cons c R ih =>
    intro D b l F s fb bo be sz ce h hn hs
    obtain ⟨b', l'⟩ := c
    rw [List.length_cons] at hs
    obtain ⟨z, g1, g2, g3, g4, g5, g6, g7, g8, g9, g10, g11, g12⟩ := ld_sgA.mp h.1
    have hb : b < 32 := g3
    have hb' : b' < 32 := g8
    have hsz : sz b = nI l.length := g5
    have hsz' : sz b' = nI l'.length := g10
    have hl : l.length ≤ 6 := g4
    have hl' : l'.length ≤ 6 := g9
    have hbe : be b = nI b' := g7
    have h40 : ¬ (40 : Int32) ≤ nI s := nI_ge (b := 40) (by omega) (by decide)
    have e0 : (nI b).toNatClampNeg = b := nI_clamp (by omega)
    have e0' : (nI b').toNatClampNeg = b' := nI_clamp (by omega)
    have hv : vp_in (nI b) 32 := vp_in_nI hb (by decide)
    have hv' : vp_in (nI b') 32 := vp_in_nI hb' (by decide)
    have e1 : be (nI b).toNatClampNeg = nI b' := by rw [e0, hbe]
    have e3 : ¬ be (nI b).toNatClampNeg < 0 := by
      rw [e1]
      exact nI_pos (by omega)
    have e4 : sz (nI b).toNatClampNeg + sz (nI b').toNatClampNeg = nI (l.length + l'.length) := by rw [e0, e0', hsz, hsz', nI_add]
    by_cases h6 : 6 < l.length + l'.length
    · have h' : ld_tx T ((D ++ [(b, l)]) ++ (b', l') :: R) F fb bo be sz ce := by
        rw [List.append_assoc]
        exact h
      obtain ⟨C', F', fb', bo', be', sz', ce', i1, i2, i3⟩ := ih (D ++ [(b, l)]) b' l' F (s + 1) fb bo be sz ce h' (ld_nbS D (b, l) (b', l') hn (by show 7 ≤ l.length + l'.length; omega)) (by omega)
      refine ⟨C', F', fb', bo', be', sz', ce', i1, i2, ?_⟩
      intro post n hn1 hp
      rw [List.length_cons] at hn1
      obtain ⟨n, rfl⟩ : ∃ m, n = m + 1 := ⟨n - 1, by omega⟩
      have h66 : (6 : Int32) < sz (nI b).toNatClampNeg + sz (nI b').toNatClampNeg := by
        rw [e4]
        exact nI_lt (a := 6) h6 (by omega)
      exact br_f h40 ⟨hv, br_f e3 ⟨hv, nm_r e1 ⟨hv, hv', br_t h66 (nm_r (nI_1 s) (i3 post n (by omega) hp))⟩⟩⟩
    · obtain ⟨fb1, bo1, be1, sz1, ce1, j1, j2⟩ := ld_join (f_count := f_count) (f_firstBlock := f_firstBlock) (f_atBlock := f_atBlock) (f_atCell := f_atCell) (f_presentLine := f_presentLine) (f_otherPresent := f_otherPresent) (f_changed := f_changed) (f_steps := f_steps) (f_newSteps := f_newSteps) (f_listed := f_listed) (a_valueOf := a_valueOf) (a_needed := a_needed) (a_markOf := a_markOf) (a_otherMark := a_otherMark) (a_stepSort := a_stepSort) (a_stepPlace := a_stepPlace) (a_stepLine := a_stepLine) (a_newSort := a_newSort) (a_newPlace := a_newPlace) (a_newLine := a_newLine) (a_list := a_list) h (by omega)
      obtain ⟨C', F', fb', bo', be', sz', ce', i1, i2, i3⟩ := ih D b (l ++ l') (b' :: F) (s + 1) fb1 bo1 be1 sz1 ce1 j1 (ld_nbG D (b, l) (b, l ++ l') hn (by show l.length ≤ (l ++ l').length; rw [List.length_append]; omega)) (by omega)
      refine ⟨C', F', fb', bo', be', sz', ce', i1, i2, ?_⟩
      intro post n hn1 hp
      rw [List.length_cons] at hn1
      obtain ⟨n, rfl⟩ : ∃ m, n = m + 1 := ⟨n - 1, by omega⟩
      have h66 : ¬ (6 : Int32) < sz (nI b).toNatClampNeg + sz (nI b').toNatClampNeg := by
        rw [e4]
        exact nI_nlt (a := 6) (by omega) (by decide)
      exact br_f h40 ⟨hv, br_f e3 ⟨hv, nm_r e1 ⟨hv, hv', br_f h66 (j2 _ (nm_r (nI_1 s) (i3 post n (by omega) hp)))⟩⟩⟩
theorem ld_joinSmall {T : List Nat} {C : List ld_Bk} {F : List Nat} {fb : Int32} {bo be sz ce : Nat → Int32} (h : ld_tx T C F fb bo be sz ce) : ∃ C' F' fb' bo' be' sz' ce', ld_tx T C' F' fb' bo' be' sz' ce' ∧ ld_nb C' ∧ ∀ (post : SX → Prop), post (f_count, 0, fb', f_atBlock, f_atCell, f_presentLine, f_otherPresent, f_changed, f_steps, f_newSteps, f_listed, a_valueOf, bo', a_needed, be', sz', ce', a_markOf, a_otherMark, a_stepSort, a_stepPlace, a_stepLine, a_newSort, a_newPlace, a_newLine, a_list) → wpX_joinSmall post (f_count, 0, fb, f_atBlock, f_atCell, f_presentLine, f_otherPresent, f_changed, f_steps, f_newSteps, f_listed, a_valueOf, bo, a_needed, be, sz, ce, a_markOf, a_otherMark, a_stepSort, a_stepPlace, a_stepLine, a_newSort, a_newPlace, a_newLine, a_list) := by
  obtain ⟨h1, h2, h3, h4, h5, h6, h7⟩ := h
  cases C with
  | nil => exact absurd rfl h6
  | cons c R =>
    obtain ⟨b, l⟩ := c
    have hb0 : b = 0 := by
      have e : (0 : Int32) = nI b := h1.1
      have hb : b < 32 := h1.2.1
      rw [← nI_0, nI_eq (by omega) (by omega)] at e
      exact e.symm
    subst hb0
    rw [List.length_cons] at h4
    obtain ⟨C', F', fb', bo', be', sz', ce', i1, i2, i3⟩ := ld_jsL (f_count := f_count) (f_firstBlock := 0) (f_atBlock := f_atBlock) (f_atCell := f_atCell) (f_presentLine := f_presentLine) (f_otherPresent := f_otherPresent) (f_changed := f_changed) (f_steps := f_steps) (f_newSteps := f_newSteps) (f_listed := f_listed) (a_valueOf := a_valueOf) (a_needed := a_needed) (a_markOf := a_markOf) (a_otherMark := a_otherMark) (a_stepSort := a_stepSort) (a_stepPlace := a_stepPlace) (a_stepLine := a_stepLine) (a_newSort := a_newSort) (a_newPlace := a_newPlace) (a_newLine := a_newLine) (a_list := a_list) R [] 0 l F 0 fb bo be sz ce ⟨h1, h2, h3, by rw [List.nil_append, List.length_cons]; exact h4, h5, h6, h7⟩ True.intro (by omega)
    exact ⟨C', F', fb', bo', be', sz', ce', i1, i2, fun post hp => ⟨R.length + 1, i3 post (R.length + 1) (by omega) hp⟩⟩
end
end
section
/-! split -/
section
variable {f_count f_firstBlock f_freeBlock f_atBlock f_atCell f_presentLine f_otherPresent f_changed f_steps f_newSteps f_listed : Int32} {a_valueOf a_needed a_behind a_size a_markOf a_otherMark a_stepSort a_stepPlace a_stepLine a_newSort a_newPlace a_newLine a_list : Nat → Int32}
theorem ld_splitL {b f : Nat} (hb : b < 32) (hf : f < 32) (hbf : b ≠ f) : ∀ (l : List Nat) (k : Nat) (bo ce : Nat → Int32), k + l.length = 3 → (∀ j t, l[j]? = some t → ce (6 * b + 3 + (k + j)) = nI t) → (∀ t ∈ l, t < 128) → ∃ bo' ce', (∀ i, (i < 6 * f + k ∨ 6 * f + 3 ≤ i) → ce' i = ce i) ∧ (∀ j t, l[j]? = some t → ce' (6 * f + (k + j)) = nI t) ∧ (∀ t, bo' t = if t ∈ l then nI f else bo t) ∧ ∀ (post : SX → Prop) n, wX_split_50 post (nI b) (nI f) f_count f_firstBlock f_freeBlock f_atBlock f_atCell f_presentLine f_otherPresent f_changed f_steps f_newSteps f_listed n (nI 3) a_valueOf bo' a_needed a_behind a_size ce' a_markOf a_otherMark a_stepSort a_stepPlace a_stepLine a_newSort a_newPlace a_newLine a_list → wX_split_50 post (nI b) (nI f) f_count f_firstBlock f_freeBlock f_atBlock f_atCell f_presentLine f_otherPresent f_changed f_steps f_newSteps f_listed (n + l.length) (nI k) a_valueOf bo a_needed a_behind a_size ce a_markOf a_otherMark a_stepSort a_stepPlace a_stepLine a_newSort a_newPlace a_newLine a_list := by
  intro l
  induction l with
  | nil =>
    intro k bo ce hk hc ht
    rw [List.length_nil] at hk
    have hk : k = 3 := by omega
    subst hk
    refine ⟨bo, ce, fun i _ => rfl, fun j t hj => absurd hj (by simp), fun t => by simp, fun post n h => h⟩
  | cons t l ih =>
    intro k bo ce hk hc ht
    rw [List.length_cons] at hk
    have hkc : ce (6 * b + 3 + k) = nI t := hc 0 t rfl
    have ht1 : t < 128 := ht t (List.mem_cons_self ..)
    obtain ⟨bo', ce', i1, i2, i3, i4⟩ := ih (k + 1) (upd bo t (nI f)) (upd ce (6 * f + k) (nI t)) (by omega) (by
      intro j u hj
      have hjl := ld_lt hj
      rw [pk_un (by omega)]
      have := hc (j + 1) u hj
      rw [show k + (j + 1) = k + 1 + j by omega] at this
      exact this) (fun u hu => ht u (List.mem_cons_of_mem _ hu))
    refine ⟨bo', ce', ?_, ?_, ?_, ?_⟩
    · intro i hi
      rw [i1 i (by omega), pk_un (by omega)]
    · intro j u hj
      cases j with
      | zero =>
        have hu : t = u := Option.some.inj hj
        rw [i1 _ (by omega), Nat.add_zero, pk_us, hu]
      | succ j =>
        have := i2 j u hj
        rw [show k + 1 + j = k + (j + 1) by omega] at this
        exact this
    · intro u
      rw [i3 u]
      by_cases h1 : u ∈ l
      · rw [if_pos h1, if_pos (List.mem_cons_of_mem _ h1)]
      · rw [if_neg h1]
        by_cases h2 : u = t
        · subst h2
          rw [pk_us, if_pos (List.mem_cons_self ..)]
        · rw [pk_un h2, if_neg (fun z => (List.mem_cons.mp z).elim h2 h1)]
    · intro post n h
      have h1 : ¬ (3 : Int32) ≤ nI k := nI_ge (b := 3) (by omega) (by decide)
      have hi1 : (6 : Int32) * nI f + nI k = nI (6 * f + k) := ld_six f k
      have hi2 : (6 : Int32) * nI b + 3 + nI k = nI (6 * b + 3 + k) := by
        rw [show (3 : Int32) = nI 3 from rfl, ld_six, nI_add]
      have hce : upd ce ((6 : Int32) * nI f + nI k).toNatClampNeg (ce ((6 : Int32) * nI b + 3 + nI k).toNatClampNeg) = upd ce (6 * f + k) (nI t) := by
        rw [hi1, hi2, nI_clamp (by omega), nI_clamp (by omega), hkc]
      have hid : (upd ce (6 * f + k) (nI t)) ((6 : Int32) * nI f + nI k).toNatClampNeg = nI t := by rw [hi1, nI_clamp (by omega), pk_us]
      have hvi : vp_in ((6 : Int32) * nI f + nI k) 192 := by
        rw [hi1]
        exact vp_in_nI (by omega) (by decide)
      have hvj : vp_in ((6 : Int32) * nI b + 3 + nI k) 192 := by
        rw [hi2]
        exact vp_in_nI (by omega) (by decide)
      exact br_f h1 ⟨hvj, hvi, nm_r hce ⟨hvi, by rw [hid]; exact vp_in_nI ht1 (by decide), nm_r (e' := upd bo t (nI f)) (by rw [hid, nI_clamp (by omega)]) (nm_r (nI_1 k) (i4 post n h))⟩⟩
theorem ld_split {a_blockOf a_cell : Nat → Int32} {T : List Nat} {C1 C2 : List ld_Bk} {F l : List Nat} {b f : Nat} (h : ld_tx T (C1 ++ (b, l) :: C2) (f :: F) f_freeBlock a_blockOf a_behind a_size a_cell) (hs : l.length = 6) : ∃ fb' bo' be' sz' ce', ld_tx T (C1 ++ (b, l.take 3) :: (f, l.drop 3) :: C2) F fb' bo' be' sz' ce' ∧ ∀ (post : SX → Prop), post (f_count, f_firstBlock, fb', f_atBlock, f_atCell, f_presentLine, f_otherPresent, f_changed, f_steps, f_newSteps, f_listed, a_valueOf, bo', a_needed, be', sz', ce', a_markOf, a_otherMark, a_stepSort, a_stepPlace, a_stepLine, a_newSort, a_newPlace, a_newLine, a_list) → wpX_split post (f_count, f_firstBlock, f_freeBlock, f_atBlock, f_atCell, f_presentLine, f_otherPresent, f_changed, f_steps, f_newSteps, f_listed, a_valueOf, a_blockOf, a_needed, a_behind, a_size, a_cell, a_markOf, a_otherMark, a_stepSort, a_stepPlace, a_stepLine, a_newSort, a_newPlace, a_newLine, a_list) (nI b) := by
  obtain ⟨h1, h2, h3, h4, h5, h6, h7, h8, h9, h10⟩ := h
  obtain ⟨z, g1, g2, g3, g4, g5, g6, g7⟩ := ld_sgA.mp h1
  obtain ⟨k1, k2, k3⟩ := h2
  subst k1
  have hb : b < 32 := g3
  obtain ⟨d1, d2, d3⟩ := ld_dis h3
  have hbf : b ≠ f := fun e => d3 f (List.mem_cons_self ..) e.symm
  have hnF : ((C1 ++ (b, l) :: C2).map Prod.fst ++ f :: F).Nodup := h3
  obtain ⟨f1, f2, f3⟩ := ld_ndx hnF
  have fC1 : ∀ d ∈ C1, d.1 ≠ f := by
    intro d hd e
    refine f1 ?_
    rw [← e]
    exact List.mem_map_of_mem (List.mem_append.mpr (Or.inl hd))
  have fC2 : ∀ d ∈ C2, d.1 ≠ f := by
    intro d hd e
    refine f1 ?_
    rw [← e]
    exact List.mem_map_of_mem (List.mem_append.mpr (Or.inr (List.mem_cons_of_mem _ hd)))
  have hfl : T = (C1.flatMap Prod.snd ++ l.take 3) ++ (l.drop 3 ++ C2.flatMap Prod.snd) := by
    rw [← h5, ld_flat, List.append_assoc, ← List.append_assoc (l.take 3), List.take_append_drop]
  have hnd := h8
  rw [hfl] at hnd
  obtain ⟨n1, n2⟩ := ld_nd3 hnd
  have hlm : ∀ t ∈ l.drop 3, t < 128 := by
    intro t ht
    refine h9 t ?_
    rw [hfl]
    exact List.mem_append.mpr (Or.inr (List.mem_append.mpr (Or.inl ht)))
  have hld : (l.drop 3).length = 3 := by rw [List.length_drop, hs]
  have hlt : (l.take 3).length = 3 := by rw [List.length_take, hs]; rfl
  obtain ⟨bo', ce', i1, i2, i3, i4⟩ := ld_splitL (f_count := f_count) (f_firstBlock := f_firstBlock) (f_freeBlock := a_behind f) (f_atBlock := f_atBlock) (f_atCell := f_atCell) (f_presentLine := f_presentLine) (f_otherPresent := f_otherPresent) (f_changed := f_changed) (f_steps := f_steps) (f_newSteps := f_newSteps) (f_listed := f_listed) (a_valueOf := a_valueOf) (a_needed := a_needed) (a_behind := upd (upd a_behind f (a_behind b)) b (nI f)) (a_size := upd (upd a_size f 3) b 3) (a_markOf := a_markOf) (a_otherMark := a_otherMark) (a_stepSort := a_stepSort) (a_stepPlace := a_stepPlace) (a_stepLine := a_stepLine) (a_newSort := a_newSort) (a_newPlace := a_newPlace) (a_newLine := a_newLine) (a_list := a_list) hb k2 hbf (l.drop 3) 0 a_blockOf a_cell (by omega) (by
    intro j t hj
    rw [List.getElem?_drop] at hj
    have := g6 _ t hj
    rw [Nat.zero_add, Nat.add_assoc]
    exact this) hlm
  have e0 : (nI b).toNatClampNeg = b := nI_clamp (by omega)
  have e0' : (nI f).toNatClampNeg = f := nI_clamp (by omega)
  have hv : vp_in (nI b) 32 := vp_in_nI hb (by decide)
  have hv' : vp_in (nI f) 32 := vp_in_nI k2 (by decide)
  refine ⟨a_behind f, bo', upd (upd a_behind f (a_behind b)) b (nI f), upd (upd a_size f 3) b 3, ce', ⟨?_, ?_, ?_, ?_, ?_, ?_, ?_, h8, h9, ?_⟩, ?_⟩
  · have fr : ∀ d : ld_Bk, d.1 ≠ b → d.1 ≠ f → upd (upd a_behind f (a_behind b)) b (nI f) d.1 = a_behind d.1 ∧ upd (upd a_size f 3) b 3 d.1 = a_size d.1 ∧ ∀ k, k < 6 → ce' (6 * d.1 + k) = a_cell (6 * d.1 + k) := by
      intro d h1 h2
      exact ⟨by rw [pk_un h1, pk_un h2], by rw [pk_un h1, pk_un h2], fun k hk => i1 _ (by omega)⟩
    refine ld_sgA.mpr ⟨z, ld_sgF g1 (fun d hd => fr d (d1 d hd) (fC1 d hd)), g2, hb, ?_, ?_, ?_, ?_, k2, ?_, ?_, ?_, ?_⟩
    · show (l.take 3).length ≤ 6
      omega
    · show upd (upd a_size f 3) b 3 b = nI (l.take 3).length
      rw [pk_us, hlt]
      rfl
    · intro k t hk
      have hk : (l.take 3)[k]? = some t := hk
      have hk3 := ld_lt hk
      rw [hlt] at hk3
      rw [List.getElem?_take_of_lt hk3] at hk
      show ce' (6 * b + k) = nI t
      rw [i1 _ (by omega)]
      exact g6 k t hk
    · show upd (upd a_behind f (a_behind b)) b (nI f) b = nI f
      exact pk_us
    · show (l.drop 3).length ≤ 6
      omega
    · show upd (upd a_size f 3) b 3 f = nI (l.drop 3).length
      rw [pk_un (Ne.symm hbf), pk_us, hld]
      rfl
    · intro k t hk
      have := i2 k t hk
      rw [Nat.zero_add] at this
      exact this
    · show ld_sg _ _ _ (upd (upd a_behind f (a_behind b)) b (nI f) f) C2 (-1)
      rw [pk_un (Ne.symm hbf), pk_us]
      exact ld_sgF g7 (fun d hd => fr d (d2 d hd) (fC2 d hd))
  · refine ld_flF k3 (fun x hx => ?_)
    have hxf : x ≠ f := fun e => f2 (e ▸ hx)
    rw [pk_un (d3 x (List.mem_cons_of_mem _ hx)), pk_un hxf]
  · rw [List.nodup_iff_count] at h3 ⊢
    intro a
    have := h3 a
    simp only [List.map_append, List.map_cons, List.count_append, List.count_cons] at this ⊢
    omega
  · simp only [List.length_append, List.length_cons] at h4 ⊢
    omega
  · rw [hfl, ld_flat, List.flatMap_cons, List.append_assoc]
  · exact fun z => by simp at z
  · intro c hc t ht
    rw [i3 t]
    rcases List.mem_append.mp hc with hc | hc
    · have h11 : t ∉ l.drop 3 := fun z => (n2 t z).1 (List.mem_append.mpr (Or.inl (ld_inFlat hc ht)))
      rw [if_neg h11]
      exact h7 c (List.mem_append.mpr (Or.inl hc)) t ht
    · rcases List.mem_cons.mp hc with hc | hc
      · subst hc
        have ht : t ∈ l.take 3 := ht
        have h11 : t ∉ l.drop 3 := fun z => (n2 t z).1 (List.mem_append.mpr (Or.inr ht))
        rw [if_neg h11]
        exact h7 (b, l) (List.mem_append.mpr (Or.inr (List.mem_cons_self ..))) t (List.mem_of_mem_take ht)
      · rcases List.mem_cons.mp hc with hc | hc
        · subst hc
          exact if_pos ht
        · have h11 : t ∉ l.drop 3 := fun z => (n2 t z).2 (ld_inFlat hc ht)
          rw [if_neg h11]
          exact h7 c (List.mem_append.mpr (Or.inr (List.mem_cons_of_mem _ hc))) t ht
  · intro t ht hn
    rw [i3 t, if_neg (fun z => hn (by rw [hfl]; exact List.mem_append.mpr (Or.inr (List.mem_append.mpr (Or.inl z)))))]
    exact h10 t ht hn
  · intro post hp
    have h33 : (3 : Int32) ≤ nI 3 := by decide
    have hw := i4 post 1 (br_t h33 hp)
    exact ⟨hv', nm_r (e' := a_behind f) (by rw [e0']) ⟨hv, hv', nm_r (e' := upd a_behind f (a_behind b)) (by rw [e0, e0']) ⟨hv, nm_r (e' := upd (upd a_behind f (a_behind b)) b (nI f)) (by rw [e0]) ⟨hv', nm_r (e' := upd a_size f 3) (by rw [e0']) ⟨hv, nm_r (e' := upd (upd a_size f 3) b 3) (by rw [e0]) ⟨_, hw⟩⟩⟩⟩⟩⟩
end
/-- one place in the chain -/
theorem ld_uniq {C1 C2 D1 D2 : List ld_Bk} {c d : ld_Bk} {p q q' : Nat} (h : C1 ++ c :: C2 = D1 ++ d :: D2) (hp : p = (C1.flatMap Prod.snd).length + q) (hp' : p = (D1.flatMap Prod.snd).length + q') (hq : q < c.2.length ∨ C2 = []) (hq' : q' < d.2.length ∨ D2 = []) : c = d := by
  rcases List.append_eq_append_iff.mp h with ⟨E, e1, e2⟩ | ⟨E, e1, e2⟩
  · cases E with
    | nil =>
      rw [List.nil_append] at e2
      exact (List.cons.inj e2).1
    | cons x E =>
      rw [List.cons_append] at e2
      obtain ⟨e3, e4⟩ := List.cons.inj e2
      subst e3
      rw [e1, ld_flat, List.length_append, List.length_append] at hp'
      rcases hq with hq | hq
      · omega
      · rw [hq] at e4
        simp at e4
  · cases E with
    | nil =>
      rw [List.nil_append] at e2
      exact (List.cons.inj e2).1.symm
    | cons x E =>
      rw [List.cons_append] at e2
      obtain ⟨e3, e4⟩ := List.cons.inj e2
      subst e3
      rw [e1, ld_flat, List.length_append, List.length_append] at hp
      rcases hq' with hq' | hq'
      · omega
      · rw [hq'] at e4
        simp at e4
end
section
/-! putIn and takeOut -/
theorem ld_txIns {T : List Nat} {C1 C2 : List ld_Bk} {F l : List Nat} {b q t : Nat} {fb : Int32} {bo be sz ce ce' : Nat → Int32} (h : ld_tx T (C1 ++ (b, l) :: C2) F fb bo be sz ce) (hq : q ≤ l.length) (hl : l.length < 6) (ht : t < 128) (hn : t ∉ T) (hce : ∀ i, (i < 6 * b ∨ 6 * b + 6 ≤ i) → ce' i = ce i) (hc : ∀ k u, (ld_ins l q t)[k]? = some u → ce' (6 * b + k) = nI u) : ld_tx (ld_ins T ((C1.flatMap Prod.snd).length + q) t) (C1 ++ (b, ld_ins l q t) :: C2) F fb (upd bo t (nI b)) be (upd sz b (nI (l.length + 1))) ce' := by
  obtain ⟨h1, h2, h3, h4, h5, h6, h7, h8, h9, h10⟩ := h
  obtain ⟨d1, d2, d3⟩ := ld_dis h3
  have hfl : T = C1.flatMap Prod.snd ++ (l ++ C2.flatMap Prod.snd) := by rw [← h5, ld_flat]
  have hTl : (C1.flatMap Prod.snd).length + q ≤ T.length := by
    rw [hfl, List.length_append, List.length_append]
    omega
  have hlen : (ld_ins l q t).length = l.length + 1 := ld_insL hq
  refine ⟨?_, h2, ?_, ?_, ?_, ?_, ?_, ld_ndIns hTl h8 hn, ?_, ?_⟩
  · rw [← hlen]
    exact ld_sgM h1 d1 d2 (by omega) hce hc
  · rw [List.map_append, List.map_cons] at h3 ⊢
    exact h3
  · simp only [List.length_append, List.length_cons] at h4 ⊢
    omega
  · rw [hfl, ld_insMid _ _ _ hq, ld_flat]
  · exact fun z => by simp at z
  · intro c hc' u hu
    have key : ∀ u, u ∈ T → upd bo t (nI b) u = bo u := fun u hu => pk_un (fun e => hn (e ▸ hu))
    rcases List.mem_append.mp hc' with hm | hm
    · rw [key u (by rw [hfl]; exact List.mem_append.mpr (Or.inl (ld_inFlat hm hu)))]
      exact h7 c (List.mem_append.mpr (Or.inl hm)) u hu
    · rcases List.mem_cons.mp hm with hm | hm
      · subst hm
        rcases (ld_memIns hq).mp hu with e | e
        · rw [e]
          exact pk_us
        · rw [key u (by rw [hfl]; exact List.mem_append.mpr (Or.inr (List.mem_append.mpr (Or.inl e))))]
          exact h7 (b, l) (List.mem_append.mpr (Or.inr (List.mem_cons_self ..))) u e
      · rw [key u (by rw [hfl]; exact List.mem_append.mpr (Or.inr (List.mem_append.mpr (Or.inr (ld_inFlat hm hu)))))]
        exact h7 c (List.mem_append.mpr (Or.inr (List.mem_cons_of_mem _ hm))) u hu
  · intro u hu
    rcases (ld_memIns hTl).mp hu with e | e
    · rw [e]
      exact ht
    · exact h9 u e
  · intro u hu hnu
    have h11 : u ≠ t ∧ u ∉ T := ⟨fun e => hnu ((ld_memIns hTl).mpr (Or.inl e)), fun e => hnu ((ld_memIns hTl).mpr (Or.inr e))⟩
    rw [pk_un h11.1]
    exact h10 u hu h11.2
theorem ld_txDel {T : List Nat} {C1 C2 : List ld_Bk} {F l : List Nat} {b q t : Nat} {fb : Int32} {bo be sz ce ce' : Nat → Int32} (h : ld_tx T (C1 ++ (b, l) :: C2) F fb bo be sz ce) (hq : l[q]? = some t) (hce : ∀ i, (i < 6 * b ∨ 6 * b + 6 ≤ i) → ce' i = ce i) (hc : ∀ k u, (ld_del l q)[k]? = some u → ce' (6 * b + k) = nI u) : ld_tx (ld_del T ((C1.flatMap Prod.snd).length + q)) (C1 ++ (b, ld_del l q) :: C2) F fb (upd bo t (-1)) be (upd sz b (nI (l.length - 1))) ce' := by
  obtain ⟨h1, h2, h3, h4, h5, h6, h7, h8, h9, h10⟩ := h
  obtain ⟨d1, d2, d3⟩ := ld_dis h3
  have hfl : T = C1.flatMap Prod.snd ++ (l ++ C2.flatMap Prod.snd) := by rw [← h5, ld_flat]
  have hql := ld_lt hq
  have hTt : T[(C1.flatMap Prod.snd).length + q]? = some t := by rw [hfl, ld_atMid _ _ hql, hq]
  have hlen : (ld_del l q).length = l.length - 1 := by
    have := ld_delL hq
    omega
  have hl6 : l.length ≤ 6 := (ld_sgLt h1 (b, l) (List.mem_append.mpr (Or.inr (List.mem_cons_self ..)))).2
  obtain ⟨n1, n2⟩ := ld_ndDel hTt h8
  have hD : ld_del T ((C1.flatMap Prod.snd).length + q) = C1.flatMap Prod.snd ++ (ld_del l q ++ C2.flatMap Prod.snd) := by rw [hfl, ld_delMid _ _ hq]
  have key : ∀ u, u ∈ ld_del T ((C1.flatMap Prod.snd).length + q) → upd bo t (-1) u = bo u := fun u hu => pk_un (fun e => n2 (e ▸ hu))
  refine ⟨?_, h2, ?_, ?_, ?_, ?_, ?_, n1, ?_, ?_⟩
  · rw [← hlen]
    exact ld_sgM h1 d1 d2 (by omega) hce hc
  · rw [List.map_append, List.map_cons] at h3 ⊢
    exact h3
  · simp only [List.length_append, List.length_cons] at h4 ⊢
    omega
  · rw [hD, ld_flat]
  · exact fun z => by simp at z
  · intro c hc' u hu
    rw [key u (by rw [hD, ← ld_flat C1 C2 (b, ld_del l q)]; exact ld_inFlat hc' hu)]
    rcases List.mem_append.mp hc' with hm | hm
    · exact h7 c (List.mem_append.mpr (Or.inl hm)) u hu
    · rcases List.mem_cons.mp hm with hm | hm
      · subst hm
        exact h7 (b, l) (List.mem_append.mpr (Or.inr (List.mem_cons_self ..))) u (ld_memDel hu)
      · exact h7 c (List.mem_append.mpr (Or.inr (List.mem_cons_of_mem _ hm))) u hu
  · intro u hu
    exact h9 u (ld_memDel hu)
  · intro u hu hnu
    by_cases e : u = t
    · rw [e]
      exact pk_us
    · rw [pk_un e]
      exact h10 u hu (fun z => (ld_memDel' hTt z).elim e hnu)
section
variable {f_count f_firstBlock f_freeBlock f_atBlock f_atCell f_presentLine f_otherPresent f_changed f_steps f_newSteps f_listed : Int32} {a_valueOf a_blockOf a_needed a_behind a_size a_markOf a_otherMark a_stepSort a_stepPlace a_stepLine a_newSort a_newPlace a_newLine a_list : Nat → Int32}
theorem ld_shR {b q : Nat} (hb : b < 32) : ∀ (d k : Nat) (ce : Nat → Int32), k = q + d → k ≤ 5 → ∃ ce', (∀ i, (i ≤ 6 * b + q ∨ 6 * b + k < i) → ce' i = ce i) ∧ (∀ j, q < j → j ≤ k → ce' (6 * b + j) = ce (6 * b + j - 1)) ∧ ∀ (post : SX → Prop) x2 n, wX_putIn_52 post x2 (nI b) f_count f_firstBlock f_freeBlock f_atBlock (nI q) f_presentLine f_otherPresent f_changed f_steps f_newSteps f_listed n (nI q) a_valueOf a_blockOf a_needed a_behind a_size ce' a_markOf a_otherMark a_stepSort a_stepPlace a_stepLine a_newSort a_newPlace a_newLine a_list → wX_putIn_52 post x2 (nI b) f_count f_firstBlock f_freeBlock f_atBlock (nI q) f_presentLine f_otherPresent f_changed f_steps f_newSteps f_listed (n + d) (nI k) a_valueOf a_blockOf a_needed a_behind a_size ce a_markOf a_otherMark a_stepSort a_stepPlace a_stepLine a_newSort a_newPlace a_newLine a_list := by
  intro d
  induction d with
  | zero =>
    intro k ce hk _
    rw [Nat.add_zero] at hk
    subst hk
    exact ⟨ce, fun i _ => rfl, fun j h1 h2 => absurd h1 (by omega), fun post x2 n h => h⟩
  | succ d ih =>
    intro k ce hk hk5
    obtain ⟨ce', i1, i2, i3⟩ := ih (k - 1) (upd ce (6 * b + k) (ce (6 * b + k - 1))) (by omega) (by omega)
    refine ⟨ce', ?_, ?_, ?_⟩
    · intro i hi
      rw [i1 i (by omega), pk_un (by omega)]
    · intro j h1 h2
      by_cases hj : j = k
      · subst hj
        rw [i1 _ (by omega), pk_us]
      · rw [i2 j h1 (by omega), pk_un (by omega)]
    · intro post x2 n h
      have hnk : ¬ nI k ≤ nI q := nI_ge (by omega) (by omega)
      have hi1 : (6 : Int32) * nI b + nI k = nI (6 * b + k) := ld_six b k
      have hi2 : (6 : Int32) * nI b + nI k - 1 = nI (6 * b + k - 1) := by
        rw [hi1, show (1 : Int32) = nI 1 from rfl, pk_sub (by omega)]
      have hk1 : nI k + (-1) = nI (k - 1) := by
        obtain ⟨m, rfl⟩ : ∃ m, k = m + 1 := ⟨k - 1, by omega⟩
        exact pk_m1 m
      refine br_f hnk ⟨by rw [hi2]; exact vp_in_nI (by omega) (by decide), by rw [hi1]; exact vp_in_nI (by omega) (by decide), nm_r (e' := upd ce (6 * b + k) (ce (6 * b + k - 1))) (by rw [hi2, hi1, nI_clamp (by omega), nI_clamp (by omega)]) (nm_r hk1 (i3 post x2 n h))⟩
theorem ld_shL {b m : Nat} (hb : b < 32) (hm : m ≤ 5) (hsz : a_size b = nI m) : ∀ (d k : Nat) (ce : Nat → Int32), k + d = m → ∃ ce', (∀ i, (i < 6 * b + k ∨ 6 * b + m ≤ i) → ce' i = ce i) ∧ (∀ j, k ≤ j → j < m → ce' (6 * b + j) = ce (6 * b + j + 1)) ∧ ∀ (post : Int32 → SX → Prop) x3 n, wX_takeOut_55 post (nI b) x3 f_count f_firstBlock f_freeBlock f_atBlock f_atCell f_presentLine f_otherPresent f_changed f_steps f_newSteps f_listed n (nI m) a_valueOf a_blockOf a_needed a_behind a_size ce' a_markOf a_otherMark a_stepSort a_stepPlace a_stepLine a_newSort a_newPlace a_newLine a_list → wX_takeOut_55 post (nI b) x3 f_count f_firstBlock f_freeBlock f_atBlock f_atCell f_presentLine f_otherPresent f_changed f_steps f_newSteps f_listed (n + d) (nI k) a_valueOf a_blockOf a_needed a_behind a_size ce a_markOf a_otherMark a_stepSort a_stepPlace a_stepLine a_newSort a_newPlace a_newLine a_list := by
  intro d
  induction d with
  | zero =>
    intro k ce hk
    rw [Nat.add_zero] at hk
    subst hk
    exact ⟨ce, fun i _ => rfl, fun j h1 h2 => absurd h1 (by omega), fun post x2 n h => h⟩
  | succ d ih =>
    intro k ce hk
    obtain ⟨ce', i1, i2, i3⟩ := ih (k + 1) (upd ce (6 * b + k) (ce (6 * b + k + 1))) (by omega)
    refine ⟨ce', ?_, ?_, ?_⟩
    · intro i hi
      rw [i1 i (by omega), pk_un (by omega)]
    · intro j h1 h2
      by_cases hj : j = k
      · subst hj
        rw [i1 _ (by omega), pk_us]
      · rw [i2 j (by omega) h2, pk_un (by omega)]
    · intro post x3 n h
      have e0 : (nI b).toNatClampNeg = b := nI_clamp (by omega)
      have hnk : ¬ a_size (nI b).toNatClampNeg ≤ nI k := by
        rw [e0, hsz]
        exact nI_ge (by omega) (by omega)
      have hi1 : (6 : Int32) * nI b + nI k = nI (6 * b + k) := ld_six b k
      have hi2 : (6 : Int32) * nI b + nI k + 1 = nI (6 * b + k + 1) := by rw [hi1, nI_1]
      refine ⟨vp_in_nI hb (by decide), br_f hnk ⟨by rw [hi2]; exact vp_in_nI (by omega) (by decide), by rw [hi1]; exact vp_in_nI (by omega) (by decide), nm_r (e' := upd ce (6 * b + k) (ce (6 * b + k + 1))) (by rw [hi2, hi1, nI_clamp (by omega), nI_clamp (by omega)]) (nm_r (nI_1 k) (i3 post x3 n h))⟩⟩
end
section
variable {f_count f_firstBlock f_freeBlock f_atBlock f_atCell f_presentLine f_otherPresent f_changed f_steps f_newSteps f_listed : Int32} {a_valueOf a_blockOf a_needed a_behind a_size a_cell a_markOf a_otherMark a_stepSort a_stepPlace a_stepLine a_newSort a_newPlace a_newLine a_list : Nat → Int32}
theorem ld_note {s : Nat} {p0 p1 p2 : Int32} (hs : s < 140) (post : SX → Prop) (hp : post (f_count, f_firstBlock, f_freeBlock, f_atBlock, f_atCell, f_presentLine, f_otherPresent, f_changed, nI (s + 1), f_newSteps, f_listed, a_valueOf, a_blockOf, a_needed, a_behind, a_size, a_cell, a_markOf, a_otherMark, upd a_stepSort s p0, upd a_stepPlace s p1, upd a_stepLine s p2, a_newSort, a_newPlace, a_newLine, a_list)) : wpX_note post (f_count, f_firstBlock, f_freeBlock, f_atBlock, f_atCell, f_presentLine, f_otherPresent, f_changed, nI s, f_newSteps, f_listed, a_valueOf, a_blockOf, a_needed, a_behind, a_size, a_cell, a_markOf, a_otherMark, a_stepSort, a_stepPlace, a_stepLine, a_newSort, a_newPlace, a_newLine, a_list) p0 p1 p2 := by
  have e0 : (nI s).toNatClampNeg = s := nI_clamp (by omega)
  have hv : vp_in (nI s) 140 := vp_in_nI hs (by decide)
  exact ⟨hv, nm_r (e' := upd a_stepSort s p0) (by rw [e0]) ⟨hv, nm_r (e' := upd a_stepPlace s p1) (by rw [e0]) ⟨hv, nm_r (e' := upd a_stepLine s p2) (by rw [e0]) (nm_r (nI_1 s) hp)⟩⟩⟩
theorem ld_putT {T : List Nat} {C1 C2 : List ld_Bk} {F l : List Nat} {b q t : Nat} (h : ld_tx T (C1 ++ (b, l) :: C2) F f_freeBlock a_blockOf a_behind a_size a_cell) (hq : q ≤ l.length) (hl : l.length < 6) (ht : t < 128) (hn : t ∉ T) : ∃ C' F' fb' bo' be' sz' ce', ld_tx (ld_ins T ((C1.flatMap Prod.snd).length + q) t) C' F' fb' bo' be' sz' ce' ∧ ld_nb C' ∧ ∀ (post : SX → Prop), post (nI (T.length + 1), 0, fb', nI b, nI q, f_presentLine, f_otherPresent, f_changed, f_steps, f_newSteps, f_listed, a_valueOf, bo', a_needed, be', sz', ce', a_markOf, a_otherMark, a_stepSort, a_stepPlace, a_stepLine, a_newSort, a_newPlace, a_newLine, a_list) → wX_putIn_39 post (nI t) (nI T.length) 0 f_freeBlock (nI b) (nI q) f_presentLine f_otherPresent f_changed f_steps f_newSteps f_listed a_valueOf a_blockOf a_needed a_behind a_size a_cell a_markOf a_otherMark a_stepSort a_stepPlace a_stepLine a_newSort a_newPlace a_newLine a_list := by
  obtain ⟨z, g1, g2, g3, g4, g5, g6, g7⟩ := ld_sgA.mp h.1
  have hb : b < 32 := g3
  have hsz : a_size b = nI l.length := g5
  obtain ⟨ce1, i1, i2, i3⟩ := ld_shR (f_count := nI T.length) (f_firstBlock := 0) (f_freeBlock := f_freeBlock) (f_atBlock := nI b) (f_presentLine := f_presentLine) (f_otherPresent := f_otherPresent) (f_changed := f_changed) (f_steps := f_steps) (f_newSteps := f_newSteps) (f_listed := f_listed) (a_valueOf := a_valueOf) (a_blockOf := a_blockOf) (a_needed := a_needed) (a_behind := a_behind) (a_size := a_size) (a_markOf := a_markOf) (a_otherMark := a_otherMark) (a_stepSort := a_stepSort) (a_stepPlace := a_stepPlace) (a_stepLine := a_stepLine) (a_newSort := a_newSort) (a_newPlace := a_newPlace) (a_newLine := a_newLine) (a_list := a_list) (q := q) hb (l.length - q) l.length a_cell (by omega) (by omega)
  have htx := ld_txIns (ce' := upd ce1 (6 * b + q) (nI t)) h hq hl ht hn (by
    intro i hi
    rw [pk_un (by omega), i1 i (by omega)]) (by
    intro k u hk
    rw [ld_insG hq] at hk
    by_cases h1 : k < q
    · rw [if_pos h1] at hk
      rw [pk_un (by omega), i1 _ (by omega)]
      exact g6 k u hk
    · rw [if_neg h1] at hk
      by_cases h2 : k = q
      · subst h2
        rw [if_pos rfl] at hk
        rw [pk_us]
        exact congrArg nI (Option.some.inj hk)
      · rw [if_neg h2] at hk
        have hk2 := ld_lt hk
        rw [pk_un (by omega), i2 k (by omega) (by omega), show 6 * b + k - 1 = 6 * b + (k - 1) by omega]
        exact g6 (k - 1) u hk)
  obtain ⟨C', F', fb', bo', be', sz', ce', j1, j2, j3⟩ := ld_joinSmall (f_count := nI (T.length + 1)) (f_atBlock := nI b) (f_atCell := nI q) (f_presentLine := f_presentLine) (f_otherPresent := f_otherPresent) (f_changed := f_changed) (f_steps := f_steps) (f_newSteps := f_newSteps) (f_listed := f_listed) (a_valueOf := a_valueOf) (a_needed := a_needed) (a_markOf := a_markOf) (a_otherMark := a_otherMark) (a_stepSort := a_stepSort) (a_stepPlace := a_stepPlace) (a_stepLine := a_stepLine) (a_newSort := a_newSort) (a_newPlace := a_newPlace) (a_newLine := a_newLine) (a_list := a_list) htx
  refine ⟨C', F', fb', bo', be', sz', ce', j1, j2, ?_⟩
  intro post hp
  have e0 : (nI b).toNatClampNeg = b := nI_clamp (by omega)
  have hv : vp_in (nI b) 32 := vp_in_nI hb (by decide)
  have hi : (6 : Int32) * nI b + nI q = nI (6 * b + q) := ld_six b q
  have hle : nI q ≤ nI q := Int32.le_refl _
  have hw := i3 post (nI t) 1 (br_t hle ⟨by rw [hi]; exact vp_in_nI (by omega) (by decide), nm_r (e' := upd ce1 (6 * b + q) (nI t)) (by rw [hi, nI_clamp (by omega)]) ⟨hv, hv, nm_r (e' := upd a_size b (nI (l.length + 1))) (by rw [e0, hsz, nI_1]) ⟨vp_in_nI ht (by decide), nm_r (e' := upd a_blockOf t (nI b)) (by rw [nI_clamp (by omega)]) (nm_r (nI_1 _) (j3 _ hp))⟩⟩⟩)
  exact ⟨hv, nm_r (e' := nI l.length) (by rw [e0, hsz]) ⟨_, hw⟩⟩
theorem ld_putIn {T : List Nat} {C : List ld_Bk} {F : List Nat} {p t s : Nat} (h : ld_tx T C F f_freeBlock a_blockOf a_behind a_size a_cell) (hnb : ld_nb C) (hT : T.length < 60) (hp : p ≤ T.length) (ht : t < 128) (hn : t ∉ T) (hs : s < 140) : ∃ C' F' fb' ab' ac' bo' be' sz' ce', ld_tx (ld_ins T p t) C' F' fb' bo' be' sz' ce' ∧ ld_nb C' ∧ ∀ (post : SX → Prop), post (nI (T.length + 1), 0, fb', ab', ac', f_presentLine, f_otherPresent, f_changed, nI (s + 1), f_newSteps, f_listed, a_valueOf, bo', a_needed, be', sz', ce', a_markOf, a_otherMark, upd a_stepSort s 0, upd a_stepPlace s (nI (p + 1)), upd a_stepLine s (nI t), a_newSort, a_newPlace, a_newLine, a_list) → wpX_putIn post (nI T.length, 0, f_freeBlock, f_atBlock, f_atCell, f_presentLine, f_otherPresent, f_changed, nI s, f_newSteps, f_listed, a_valueOf, a_blockOf, a_needed, a_behind, a_size, a_cell, a_markOf, a_otherMark, a_stepSort, a_stepPlace, a_stepLine, a_newSort, a_newPlace, a_newLine, a_list) (nI (p + 1)) (nI t) := by
  obtain ⟨C1, b, l, C2, q, e1, e2, e3, e4, e5, W⟩ := ld_walkTo (f_count := nI T.length) (f_atBlock := f_atBlock) (f_atCell := f_atCell) (f_presentLine := f_presentLine) (f_otherPresent := f_otherPresent) (f_changed := f_changed) (f_steps := nI (s + 1)) (f_newSteps := f_newSteps) (f_listed := f_listed) (a_valueOf := a_valueOf) (a_needed := a_needed) (a_markOf := a_markOf) (a_otherMark := a_otherMark) (a_stepSort := upd a_stepSort s 0) (a_stepPlace := upd a_stepPlace s (nI (p + 1))) (a_stepLine := upd a_stepLine s (nI t)) (a_newSort := a_newSort) (a_newPlace := a_newPlace) (a_newLine := a_newLine) (a_list := a_list) h hp (by omega)
  subst e1
  obtain ⟨z, g1, g2, g3, g4, g5, g6, g7⟩ := ld_sgA.mp h.1
  have hb : b < 32 := g3
  have hl6 : l.length ≤ 6 := g4
  have hsz : a_size b = nI l.length := g5
  have hv : vp_in (nI b) 32 := vp_in_nI hb (by decide)
  have e0 : a_size (nI b).toNatClampNeg = nI l.length := by rw [nI_clamp (by omega), hsz]
  by_cases h6 : l.length = 6
  · have hcnt := ld_nbL _ _ (Nat.le_refl _) hnb
    rw [h.2.2.2.2.1] at hcnt
    have h32 := h.2.2.2.1
    cases F with
    | nil =>
      rw [List.length_nil] at h32
      omega
    | cons f F =>
      obtain ⟨fb1, bo1, be1, sz1, ce1, j1, j2⟩ := ld_split (f_count := nI T.length) (f_firstBlock := 0) (f_atBlock := nI b) (f_atCell := nI q) (f_presentLine := f_presentLine) (f_otherPresent := f_otherPresent) (f_changed := f_changed) (f_steps := nI (s + 1)) (f_newSteps := f_newSteps) (f_listed := f_listed) (a_valueOf := a_valueOf) (a_needed := a_needed) (a_markOf := a_markOf) (a_otherMark := a_otherMark) (a_stepSort := upd a_stepSort s 0) (a_stepPlace := upd a_stepPlace s (nI (p + 1))) (a_stepLine := upd a_stepLine s (nI t)) (a_newSort := a_newSort) (a_newPlace := a_newPlace) (a_newLine := a_newLine) (a_list := a_list) h h6
      obtain ⟨D1, b2, l2, D2, q2, k1, k2, k3, k4, k5, W2⟩ := ld_walkTo (f_count := nI T.length) (f_atBlock := nI b) (f_atCell := nI q) (f_presentLine := f_presentLine) (f_otherPresent := f_otherPresent) (f_changed := f_changed) (f_steps := nI (s + 1)) (f_newSteps := f_newSteps) (f_listed := f_listed) (a_valueOf := a_valueOf) (a_needed := a_needed) (a_markOf := a_markOf) (a_otherMark := a_otherMark) (a_stepSort := upd a_stepSort s 0) (a_stepPlace := upd a_stepPlace s (nI (p + 1))) (a_stepLine := upd a_stepLine s (nI t)) (a_newSort := a_newSort) (a_newPlace := a_newPlace) (a_newLine := a_newLine) (a_list := a_list) j1 hp (by omega)
      have hlt : (l.take 3).length = 3 := by rw [List.length_take, h6]; rfl
      have hld : (l.drop 3).length = 3 := by rw [List.length_drop, h6]
      have hl2 : l2.length < 6 := by
        by_cases h3 : q < 3
        · have := ld_uniq (c := (b, l.take 3)) (d := (b2, l2)) k1 e2 k2 (Or.inl (by show q < (l.take 3).length; omega)) k4
          have e : l.take 3 = l2 := congrArg Prod.snd this
          rw [← e]
          omega
        · have k1' : (C1 ++ [(b, l.take 3)]) ++ (f, l.drop 3) :: C2 = D1 ++ (b2, l2) :: D2 := by
            rw [List.append_assoc]
            exact k1
          have := ld_uniq (c := (f, l.drop 3)) (d := (b2, l2)) (q := q - 3) k1' (by
            rw [List.flatMap_append, List.flatMap_cons, List.flatMap_nil, List.append_nil, List.length_append]
            show p = (C1.flatMap Prod.snd).length + (l.take 3).length + (q - 3)
            omega) k2 (by
            rcases e4 with e4 | e4
            · exact Or.inl (by show q - 3 < (l.drop 3).length; omega)
            · exact Or.inr e4) k4
          have e : l.drop 3 = l2 := congrArg Prod.snd this
          rw [← e]
          omega
      rw [k1] at j1
      obtain ⟨C', F', fb', bo', be', sz', ce', m1, m2, m3⟩ := ld_putT (f_presentLine := f_presentLine) (f_otherPresent := f_otherPresent) (f_changed := f_changed) (f_steps := nI (s + 1)) (f_newSteps := f_newSteps) (f_listed := f_listed) (a_valueOf := a_valueOf) (a_needed := a_needed) (a_markOf := a_markOf) (a_otherMark := a_otherMark) (a_stepSort := upd a_stepSort s 0) (a_stepPlace := upd a_stepPlace s (nI (p + 1))) (a_stepLine := upd a_stepLine s (nI t)) (a_newSort := a_newSort) (a_newPlace := a_newPlace) (a_newLine := a_newLine) (a_list := a_list) j1 k3 hl2 ht hn
      rw [← k2] at m1
      refine ⟨C', F', fb', nI b2, nI q2, bo', be', sz', ce', m1, m2, ?_⟩
      intro post hpo
      have hs6 : a_size (nI b).toNatClampNeg = 6 := by
        rw [e0, h6]
        rfl
      unfold wpX_putIn
      refine ld_note hs _ ?_
      exact W _ (And.intro hv (br_t hs6 (j2 _ (W2 _ (m3 post hpo)))))
  · obtain ⟨C', F', fb', bo', be', sz', ce', m1, m2, m3⟩ := ld_putT (f_presentLine := f_presentLine) (f_otherPresent := f_otherPresent) (f_changed := f_changed) (f_steps := nI (s + 1)) (f_newSteps := f_newSteps) (f_listed := f_listed) (a_valueOf := a_valueOf) (a_needed := a_needed) (a_markOf := a_markOf) (a_otherMark := a_otherMark) (a_stepSort := upd a_stepSort s 0) (a_stepPlace := upd a_stepPlace s (nI (p + 1))) (a_stepLine := upd a_stepLine s (nI t)) (a_newSort := a_newSort) (a_newPlace := a_newPlace) (a_newLine := a_newLine) (a_list := a_list) h e3 (by omega) ht hn
    rw [← e2] at m1
    refine ⟨C', F', fb', nI b, nI q, bo', be', sz', ce', m1, m2, ?_⟩
    intro post hpo
    have hs6 : ¬ a_size (nI b).toNatClampNeg = 6 := by
      rw [e0]
      intro e
      have := (nI_eq (a := l.length) (b := 6) (by omega) (by omega)).mp e
      exact h6 this
    unfold wpX_putIn
    refine ld_note hs _ ?_
    exact W _ (And.intro hv (br_f hs6 (m3 post hpo)))
theorem ld_takeOut {T : List Nat} {C : List ld_Bk} {F : List Nat} {p t s : Nat} (h : ld_tx T C F f_freeBlock a_blockOf a_behind a_size a_cell) (hT : T.length ≤ 60) (htp : T[p]? = some t) (hs : s < 140) : ∃ C' F' fb' ab' ac' bo' be' sz' ce', ld_tx (ld_del T p) C' F' fb' bo' be' sz' ce' ∧ ld_nb C' ∧ ∀ (post : Int32 → SX → Prop), post (nI t) (nI (T.length - 1), 0, fb', ab', ac', f_presentLine, f_otherPresent, f_changed, nI (s + 1), f_newSteps, f_listed, a_valueOf, bo', upd a_needed t (vp_nar .boolean 1), be', sz', ce', a_markOf, a_otherMark, upd a_stepSort s 1, upd a_stepPlace s (nI (p + 1)), upd a_stepLine s (nI t), a_newSort, a_newPlace, a_newLine, a_list) → wpX_takeOut post (nI T.length, 0, f_freeBlock, f_atBlock, f_atCell, f_presentLine, f_otherPresent, f_changed, nI s, f_newSteps, f_listed, a_valueOf, a_blockOf, a_needed, a_behind, a_size, a_cell, a_markOf, a_otherMark, a_stepSort, a_stepPlace, a_stepLine, a_newSort, a_newPlace, a_newLine, a_list) (nI (p + 1)) := by
  have hp := ld_lt htp
  obtain ⟨C1, b, l, C2, q, e1, e2, e3, e4, e5, W⟩ := ld_walkTo (f_count := nI T.length) (f_atBlock := f_atBlock) (f_atCell := f_atCell) (f_presentLine := f_presentLine) (f_otherPresent := f_otherPresent) (f_changed := f_changed) (f_steps := nI s) (f_newSteps := f_newSteps) (f_listed := f_listed) (a_valueOf := a_valueOf) (a_needed := a_needed) (a_markOf := a_markOf) (a_otherMark := a_otherMark) (a_stepSort := a_stepSort) (a_stepPlace := a_stepPlace) (a_stepLine := a_stepLine) (a_newSort := a_newSort) (a_newPlace := a_newPlace) (a_newLine := a_newLine) (a_list := a_list) h (Nat.le_of_lt hp) hT
  subst e1
  have hq := e5 hp
  obtain ⟨z, g1, g2, g3, g4, g5, g6, g7⟩ := ld_sgA.mp h.1
  have hb : b < 32 := g3
  have hl6 : l.length ≤ 6 := g4
  have hsz : a_size b = nI l.length := g5
  have hv : vp_in (nI b) 32 := vp_in_nI hb (by decide)
  have e0 : (nI b).toNatClampNeg = b := nI_clamp (by omega)
  have ht : t < 128 := h.2.2.2.2.2.2.2.2.1 t (List.mem_of_getElem? htp)
  have hlq : l[q]? = some t := by
    rw [← htp, e2, ← h.2.2.2.2.1, ld_flat, ld_atMid _ _ hq]
  have hce : a_cell (6 * b + q) = nI t := g6 q t hlq
  obtain ⟨ce1, i1, i2, i3⟩ := ld_shL (f_count := nI T.length) (f_firstBlock := 0) (f_freeBlock := f_freeBlock) (f_atBlock := nI b) (f_atCell := nI q) (f_presentLine := f_presentLine) (f_otherPresent := f_otherPresent) (f_changed := f_changed) (f_steps := nI (s + 1)) (f_newSteps := f_newSteps) (f_listed := f_listed) (a_valueOf := a_valueOf) (a_blockOf := a_blockOf) (a_needed := upd a_needed t (vp_nar .boolean 1)) (a_behind := a_behind) (a_size := upd a_size b (nI (l.length - 1))) (a_markOf := a_markOf) (a_otherMark := a_otherMark) (a_stepSort := upd a_stepSort s 1) (a_stepPlace := upd a_stepPlace s (nI (p + 1))) (a_stepLine := upd a_stepLine s (nI t)) (a_newSort := a_newSort) (a_newPlace := a_newPlace) (a_newLine := a_newLine) (a_list := a_list) (m := l.length - 1) hb (by omega) pk_us (l.length - 1 - q) q a_cell (by omega)
  have htx := ld_txDel (ce' := ce1) h hlq (by
    intro i hi
    exact i1 i (by omega)) (by
    intro k u hk
    rw [ld_delG hlq] at hk
    by_cases h1 : k < q
    · rw [if_pos h1] at hk
      rw [i1 _ (by omega)]
      exact g6 k u hk
    · rw [if_neg h1] at hk
      have hk2 := ld_lt hk
      rw [i2 k (by omega) (by omega), Nat.add_assoc]
      exact g6 (k + 1) u hk)
  rw [← e2] at htx
  obtain ⟨C', F', fb', bo', be', sz', ce', j1, j2, j3⟩ := ld_joinSmall (f_count := nI (T.length - 1)) (f_atBlock := nI b) (f_atCell := nI q) (f_presentLine := f_presentLine) (f_otherPresent := f_otherPresent) (f_changed := f_changed) (f_steps := nI (s + 1)) (f_newSteps := f_newSteps) (f_listed := f_listed) (a_valueOf := a_valueOf) (a_needed := upd a_needed t (vp_nar .boolean 1)) (a_markOf := a_markOf) (a_otherMark := a_otherMark) (a_stepSort := upd a_stepSort s 1) (a_stepPlace := upd a_stepPlace s (nI (p + 1))) (a_stepLine := upd a_stepLine s (nI t)) (a_newSort := a_newSort) (a_newPlace := a_newPlace) (a_newLine := a_newLine) (a_list := a_list) htx
  refine ⟨C', F', fb', nI b, nI q, bo', be', sz', ce', j1, j2, ?_⟩
  intro post hpo
  have hi : (6 : Int32) * nI b + nI q = nI (6 * b + q) := ld_six b q
  have hvt : vp_in (nI t) 128 := vp_in_nI ht (by decide)
  have hle : (upd a_size b (nI (l.length - 1))) (nI b).toNatClampNeg ≤ nI (l.length - 1) := by
    rw [e0, pk_us]
    exact Int32.le_refl _
  have hw := i3 post (nI t) 1 ⟨hv, br_t hle ⟨hvt, nm_r (e' := upd a_blockOf t (-1)) (by rw [nI_clamp (by omega)]) (nm_r (e' := nI (T.length - 1)) (by rw [show (1 : Int32) = nI 1 from rfl, pk_sub (by omega)]) (j3 _ hpo))⟩⟩
  refine W _ (And.intro (by rw [hi]; exact vp_in_nI (by omega) (by decide)) (nm_r (e' := nI t) (by rw [hi, nI_clamp (by omega), hce]) ?_))
  refine ld_note hs _ (And.intro hvt (nm_r (e' := upd a_needed t (vp_nar .boolean 1)) (by rw [nI_clamp (by omega)]) (And.intro hv (And.intro hv (nm_r (e' := upd a_size b (nI (l.length - 1))) (by rw [e0, hsz, show (1 : Int32) = nI 1 from rfl, pk_sub (by omega)]) ⟨_, hw⟩)))))
end
end
section
/-! the small loops of the class -/
theorem ld_vn0 : vp_nar .boolean 0 = 0 := rfl
section
variable {f_count f_firstBlock f_freeBlock f_atBlock f_atCell f_presentLine f_otherPresent f_changed f_steps f_newSteps f_listed : Int32} {a_valueOf a_blockOf a_needed a_behind a_size a_cell a_markOf a_otherMark a_stepSort a_stepPlace a_stepLine a_newSort a_newPlace a_newLine a_list : Nat → Int32}
def ld_ok (bo N : Nat → Int32) (t : Nat) : Prop := ¬ 0 ≤ bo t ∧ N t = 0
theorem ld_freshL {v : Int32} : ∀ m id, m ≤ 128 → id < 128 → ((∃ t, t < m ∧ ld_ok a_blockOf a_needed t) ∨ ld_ok a_blockOf a_needed id) → ∃ id', id' < 128 ∧ ld_ok a_blockOf a_needed id' ∧ ∀ (post : Int32 → SX → Prop) n, m < n → post (nI id') (f_count, f_firstBlock, f_freeBlock, f_atBlock, f_atCell, f_presentLine, f_otherPresent, f_changed, f_steps, f_newSteps, f_listed, upd a_valueOf id' v, a_blockOf, a_needed, a_behind, a_size, a_cell, a_markOf, a_otherMark, a_stepSort, a_stepPlace, a_stepLine, a_newSort, a_newPlace, a_newLine, a_list) → wX_freshLine_5 post v f_count f_firstBlock f_freeBlock f_atBlock f_atCell f_presentLine f_otherPresent f_changed f_steps f_newSteps f_listed a_valueOf a_blockOf a_needed a_behind a_size a_cell a_markOf a_otherMark a_stepSort a_stepPlace a_stepLine a_newSort a_newPlace a_newLine a_list n (nI id) (nI m + (-1)) := by
  intro m
  induction m with
  | zero =>
    intro id _ hid h
    have hok : ld_ok a_blockOf a_needed id := by
      rcases h with ⟨t, ht, _⟩ | h
      · omega
      · exact h
    refine ⟨id, hid, hok, ?_⟩
    intro post n hn hp
    obtain ⟨n, rfl⟩ : ∃ m, n = m + 1 := ⟨n - 1, by omega⟩
    have hlt : nI 0 + (-1) < 0 := by decide
    exact br_t hlt ⟨vp_in_nI hid (by decide), nm_r (e' := upd a_valueOf id v) (by rw [nI_clamp (by omega)]) hp⟩
  | succ m ih =>
    intro id hm hid h
    have hlt : ¬ nI m < 0 := nI_pos (by omega)
    have hv : vp_in (nI m) 128 := vp_in_nI (by omega) (by decide)
    have e0 : (nI m).toNatClampNeg = m := nI_clamp (by omega)
    by_cases hk : ld_ok a_blockOf a_needed m
    · obtain ⟨id', i1, i2, i3⟩ := ih m (by omega) (by omega) (Or.inr hk)
      refine ⟨id', i1, i2, ?_⟩
      intro post n hn hp
      obtain ⟨n, rfl⟩ : ∃ m, n = m + 1 := ⟨n - 1, by omega⟩
      rw [pk_m1]
      have h1 : ¬ 0 ≤ a_blockOf (nI m).toNatClampNeg := by rw [e0]; exact hk.1
      have h2 : a_needed (nI m).toNatClampNeg = 0 := by rw [e0]; exact hk.2
      exact br_f hlt ⟨hv, br_f h1 ⟨hv, br_t h2 (nm_e (i3 post n (by omega) hp))⟩⟩
    · have h' : (∃ t, t < m ∧ ld_ok a_blockOf a_needed t) ∨ ld_ok a_blockOf a_needed id := by
        rcases h with ⟨t, ht, ho⟩ | h
        · refine Or.inl ⟨t, ?_, ho⟩
          rcases Nat.lt_or_ge t m with z | z
          · exact z
          · have : t = m := by omega
            rw [this] at ho
            exact absurd ho hk
        · exact Or.inr h
      obtain ⟨id', i1, i2, i3⟩ := ih id (by omega) hid h'
      refine ⟨id', i1, i2, ?_⟩
      intro post n hn hp
      obtain ⟨n, rfl⟩ : ∃ m, n = m + 1 := ⟨n - 1, by omega⟩
      rw [pk_m1]
      refine br_f hlt ⟨hv, br_c (fun h1 => nm_e (i3 post n (by omega) hp)) (fun h1 => ⟨hv, br_c (fun h2 => ?_) (fun h2 => nm_e (i3 post n (by omega) hp))⟩)⟩
      rw [e0] at h1 h2
      exact absurd ⟨h1, h2⟩ hk
theorem ld_freshLine {T : List Nat} {C : List ld_Bk} {F : List Nat} (v : Int32) (h : ld_tx T C F f_freeBlock a_blockOf a_behind a_size a_cell) (hT : T.length ≤ 60) (hN : ∀ t, t < 128 → a_needed t = 0) : ∃ id, id < 128 ∧ id ∉ T ∧ ∀ (post : Int32 → SX → Prop), post (nI id) (f_count, f_firstBlock, f_freeBlock, f_atBlock, f_atCell, f_presentLine, f_otherPresent, f_changed, f_steps, f_newSteps, f_listed, upd a_valueOf id v, a_blockOf, a_needed, a_behind, a_size, a_cell, a_markOf, a_otherMark, a_stepSort, a_stepPlace, a_stepLine, a_newSort, a_newPlace, a_newLine, a_list) → wpX_freshLine post (f_count, f_firstBlock, f_freeBlock, f_atBlock, f_atCell, f_presentLine, f_otherPresent, f_changed, f_steps, f_newSteps, f_listed, a_valueOf, a_blockOf, a_needed, a_behind, a_size, a_cell, a_markOf, a_otherMark, a_stepSort, a_stepPlace, a_stepLine, a_newSort, a_newPlace, a_newLine, a_list) v := by
  obtain ⟨h1, h2, h3, h4, h5, h6, h7, h8, h9, h10⟩ := h
  obtain ⟨t, ht, htn⟩ := ld_free hT
  have hok : ld_ok a_blockOf a_needed t := by
    refine ⟨?_, hN t ht⟩
    rw [h10 t ht htn]
    decide
  obtain ⟨id, i1, i2, i3⟩ := ld_freshL (f_count := f_count) (f_firstBlock := f_firstBlock) (f_freeBlock := f_freeBlock) (f_atBlock := f_atBlock) (f_atCell := f_atCell) (f_presentLine := f_presentLine) (f_otherPresent := f_otherPresent) (f_changed := f_changed) (f_steps := f_steps) (f_newSteps := f_newSteps) (f_listed := f_listed) (a_valueOf := a_valueOf) (a_behind := a_behind) (a_size := a_size) (a_cell := a_cell) (a_markOf := a_markOf) (a_otherMark := a_otherMark) (a_stepSort := a_stepSort) (a_stepPlace := a_stepPlace) (a_stepLine := a_stepLine) (a_newSort := a_newSort) (a_newPlace := a_newPlace) (a_newLine := a_newLine) (a_list := a_list) (v := v) (a_blockOf := a_blockOf) (a_needed := a_needed) 128 0 (by omega) (by omega) (Or.inl ⟨t, ht, hok⟩)
  refine ⟨id, i1, ?_, fun post hp => ⟨129, i3 post 129 (by omega) hp⟩⟩
  intro hm
  rw [← h5, List.mem_flatMap] at hm
  obtain ⟨c, hc, htc⟩ := hm
  have hlt := (ld_sgLt h1 c hc).1
  refine i2.1 ?_
  rw [h7 c hc id htc]
  exact nI_pos' (by omega)
end
section
variable {f_count f_firstBlock f_freeBlock f_atBlock f_atCell f_presentLine f_otherPresent f_changed f_steps f_newSteps f_listed : Int32} {a_valueOf a_blockOf a_needed a_behind a_size a_cell a_otherMark a_stepSort a_stepPlace a_stepLine a_newSort a_newPlace a_newLine a_list : Nat → Int32}
theorem ld_clrL {id : Int32} : ∀ d k (M : Nat → Int32), k + d = 4 → ∃ M', (∀ m, M' m = if (k ≤ m ∧ m < 4) ∧ M m = id then -1 else M m) ∧ ∀ (post : SX → Prop) n, d < n → post (f_count, f_firstBlock, f_freeBlock, f_atBlock, f_atCell, f_presentLine, f_otherPresent, f_changed, f_steps, f_newSteps, f_listed, a_valueOf, a_blockOf, a_needed, a_behind, a_size, a_cell, M', a_otherMark, a_stepSort, a_stepPlace, a_stepLine, a_newSort, a_newPlace, a_newLine, a_list) → wX_clearMarks_2 post id f_count f_firstBlock f_freeBlock f_atBlock f_atCell f_presentLine f_otherPresent f_changed f_steps f_newSteps f_listed n (nI k) a_valueOf a_blockOf a_needed a_behind a_size a_cell M a_otherMark a_stepSort a_stepPlace a_stepLine a_newSort a_newPlace a_newLine a_list := by
  intro d
  induction d with
  | zero =>
    intro k M hk
    refine ⟨M, fun m => (if_neg (by omega)).symm, ?_⟩
    intro post n hn hp
    obtain ⟨n, rfl⟩ : ∃ m, n = m + 1 := ⟨n - 1, by omega⟩
    have h4 : (4 : Int32) ≤ nI k := nI_le (a := 4) (by omega) (by omega)
    exact br_t h4 hp
  | succ d ih =>
    intro k M hk
    have h4 : ¬ (4 : Int32) ≤ nI k := nI_ge (b := 4) (by omega) (by decide)
    have hv : vp_in (nI k) 4 := vp_in_nI (by omega) (by decide)
    have e0 : (nI k).toNatClampNeg = k := nI_clamp (by omega)
    by_cases hM : M k = id
    · obtain ⟨M', i1, i2⟩ := ih (k + 1) (upd M k (-1)) (by omega)
      refine ⟨M', ?_, ?_⟩
      · intro m
        rw [i1 m]
        by_cases hm : m = k
        · subst hm
          rw [if_neg (by omega), pk_us, if_pos ⟨by omega, hM⟩]
        · rw [pk_un hm]
          by_cases hc : (k + 1 ≤ m ∧ m < 4) ∧ M m = id
          · rw [if_pos hc, if_pos ⟨by omega, hc.2⟩]
          · rw [if_neg hc, if_neg (fun z => hc ⟨by omega, z.2⟩)]
      · intro post n hn hp
        obtain ⟨n, rfl⟩ : ∃ m, n = m + 1 := ⟨n - 1, by omega⟩
        have h1 : M (nI k).toNatClampNeg = id := by rw [e0]; exact hM
        exact br_f h4 ⟨hv, br_t h1 ⟨hv, nm_r (e' := upd M k (-1)) (by rw [e0]) (nm_r (nI_1 k) (i2 post n (by omega) hp))⟩⟩
    · obtain ⟨M', i1, i2⟩ := ih (k + 1) (upd M k (M k)) (by omega)
      refine ⟨M', ?_, ?_⟩
      · intro m
        rw [i1 m]
        by_cases hm : m = k
        · subst hm
          rw [if_neg (by omega), pk_us, if_neg (fun z => hM z.2)]
        · rw [pk_un hm]
          by_cases hc : (k + 1 ≤ m ∧ m < 4) ∧ M m = id
          · rw [if_pos hc, if_pos ⟨by omega, hc.2⟩]
          · rw [if_neg hc, if_neg (fun z => hc ⟨by omega, z.2⟩)]
      · intro post n hn hp
        obtain ⟨n, rfl⟩ : ∃ m, n = m + 1 := ⟨n - 1, by omega⟩
        have h1 : ¬ M (nI k).toNatClampNeg = id := by rw [e0]; exact hM
        exact br_f h4 ⟨hv, br_f h1 ⟨hv, hv, nm_r (e' := upd M k (M k)) (by rw [e0]) (nm_r (nI_1 k) (i2 post n (by omega) hp))⟩⟩
theorem ld_clearMarks (M : Nat → Int32) (id : Int32) : ∃ M', (∀ m, m < 4 → M' m = if M m = id then -1 else M m) ∧ ∀ (post : SX → Prop), post (f_count, f_firstBlock, f_freeBlock, f_atBlock, f_atCell, f_presentLine, f_otherPresent, f_changed, f_steps, f_newSteps, f_listed, a_valueOf, a_blockOf, a_needed, a_behind, a_size, a_cell, M', a_otherMark, a_stepSort, a_stepPlace, a_stepLine, a_newSort, a_newPlace, a_newLine, a_list) → wpX_clearMarks post (f_count, f_firstBlock, f_freeBlock, f_atBlock, f_atCell, f_presentLine, f_otherPresent, f_changed, f_steps, f_newSteps, f_listed, a_valueOf, a_blockOf, a_needed, a_behind, a_size, a_cell, M, a_otherMark, a_stepSort, a_stepPlace, a_stepLine, a_newSort, a_newPlace, a_newLine, a_list) id := by
  obtain ⟨M', i1, i2⟩ := ld_clrL (f_count := f_count) (f_firstBlock := f_firstBlock) (f_freeBlock := f_freeBlock) (f_atBlock := f_atBlock) (f_atCell := f_atCell) (f_presentLine := f_presentLine) (f_otherPresent := f_otherPresent) (f_changed := f_changed) (f_steps := f_steps) (f_newSteps := f_newSteps) (f_listed := f_listed) (a_valueOf := a_valueOf) (a_blockOf := a_blockOf) (a_needed := a_needed) (a_behind := a_behind) (a_size := a_size) (a_cell := a_cell) (a_otherMark := a_otherMark) (a_stepSort := a_stepSort) (a_stepPlace := a_stepPlace) (a_stepLine := a_stepLine) (a_newSort := a_newSort) (a_newPlace := a_newPlace) (a_newLine := a_newLine) (a_list := a_list) (id := id) 4 0 M (by omega)
  refine ⟨M', ?_, fun post hp => ⟨5, i2 post 5 (by omega) hp⟩⟩
  intro m hm
  rw [i1 m]
  by_cases hc : M m = id
  · rw [if_pos ⟨by omega, hc⟩, if_pos hc]
  · rw [if_neg (fun z => hc z.2), if_neg hc]
end
section
variable {f_count f_firstBlock f_freeBlock f_atBlock f_atCell f_presentLine f_otherPresent f_changed f_steps f_newSteps f_listed : Int32} {a_valueOf a_blockOf a_behind a_size a_cell a_markOf a_stepSort a_stepPlace a_stepLine a_newSort a_newPlace a_newLine a_list : Nat → Int32}
theorem ld_bc34 {a_needed : Nat → Int32} : ∀ d k (OM : Nat → Int32), k + d = 4 → (∀ m, m < k → OM m = a_markOf m) → ∃ OM', (∀ m, m < 4 → OM' m = a_markOf m) ∧ ∀ (post : SX → Prop) n, d < n → post (f_count, f_firstBlock, f_freeBlock, f_atBlock, f_atCell, f_presentLine, f_presentLine, f_changed, f_steps, f_newSteps, f_listed, a_valueOf, a_blockOf, a_needed, a_behind, a_size, a_cell, a_markOf, OM', a_stepSort, a_stepPlace, a_stepLine, a_newSort, a_newPlace, a_newLine, a_list) → wX_beginChange_34 post f_count f_firstBlock f_freeBlock f_atBlock f_atCell f_presentLine f_otherPresent f_changed f_steps f_newSteps f_listed n (nI k) a_valueOf a_blockOf a_needed a_behind a_size a_cell a_markOf OM a_stepSort a_stepPlace a_stepLine a_newSort a_newPlace a_newLine a_list := by
  intro d
  induction d with
  | zero =>
    intro k OM hk h
    refine ⟨OM, fun m hm => h m (by omega), ?_⟩
    intro post n hn hp
    obtain ⟨n, rfl⟩ : ∃ m, n = m + 1 := ⟨n - 1, by omega⟩
    have h4 : (4 : Int32) ≤ nI k := nI_le (a := 4) (by omega) (by omega)
    exact br_t h4 hp
  | succ d ih =>
    intro k OM hk h
    have h4 : ¬ (4 : Int32) ≤ nI k := nI_ge (b := 4) (by omega) (by decide)
    have hv : vp_in (nI k) 4 := vp_in_nI (by omega) (by decide)
    have e0 : (nI k).toNatClampNeg = k := nI_clamp (by omega)
    obtain ⟨OM', i1, i2⟩ := ih (k + 1) (upd OM k (a_markOf k)) (by omega) (by
      intro m hm
      by_cases hc : m = k
      · subst hc
        exact pk_us
      · rw [pk_un hc]
        exact h m (by omega))
    refine ⟨OM', i1, ?_⟩
    intro post n hn hp
    obtain ⟨n, rfl⟩ : ∃ m, n = m + 1 := ⟨n - 1, by omega⟩
    exact br_f h4 ⟨hv, hv, nm_r (e' := upd OM k (a_markOf k)) (by rw [e0]) (nm_r (nI_1 k) (i2 post n (by omega) hp))⟩
theorem ld_bc12 {a_otherMark : Nat → Int32} : ∀ d k (N : Nat → Int32), k + d = 128 → (∀ m, m < k → N m = 0) → ∃ N', (∀ m, m < 128 → N' m = 0) ∧ ∀ (post : SX → Prop) n, d < n → (∃ n34, wX_beginChange_34 post f_count f_firstBlock f_freeBlock f_atBlock f_atCell f_presentLine f_otherPresent f_changed f_steps f_newSteps f_listed n34 0 a_valueOf a_blockOf N' a_behind a_size a_cell a_markOf a_otherMark a_stepSort a_stepPlace a_stepLine a_newSort a_newPlace a_newLine a_list) → wX_beginChange_12 post f_count f_firstBlock f_freeBlock f_atBlock f_atCell f_presentLine f_otherPresent f_changed f_steps f_newSteps f_listed n (nI k) a_valueOf a_blockOf N a_behind a_size a_cell a_markOf a_otherMark a_stepSort a_stepPlace a_stepLine a_newSort a_newPlace a_newLine a_list := by
  intro d
  induction d with
  | zero =>
    intro k N hk h
    refine ⟨N, fun m hm => h m (by omega), ?_⟩
    intro post n hn hp
    obtain ⟨n, rfl⟩ : ∃ m, n = m + 1 := ⟨n - 1, by omega⟩
    have h4 : (128 : Int32) ≤ nI k := nI_le (a := 128) (by omega) (by omega)
    exact br_t h4 hp
  | succ d ih =>
    intro k N hk h
    have h4 : ¬ (128 : Int32) ≤ nI k := nI_ge (b := 128) (by omega) (by decide)
    have hv : vp_in (nI k) 128 := vp_in_nI (by omega) (by decide)
    have e0 : (nI k).toNatClampNeg = k := nI_clamp (by omega)
    obtain ⟨N', i1, i2⟩ := ih (k + 1) (upd N k (vp_nar .boolean 0)) (by omega) (by
      intro m hm
      by_cases hc : m = k
      · subst hc
        rw [pk_us]
        exact ld_vn0
      · rw [pk_un hc]
        exact h m (by omega))
    refine ⟨N', i1, ?_⟩
    intro post n hn hp
    obtain ⟨n, rfl⟩ : ∃ m, n = m + 1 := ⟨n - 1, by omega⟩
    exact br_f h4 ⟨hv, nm_r (e' := upd N k (vp_nar .boolean 0)) (by rw [e0]) (nm_r (nI_1 k) (i2 post n (by omega) hp))⟩
theorem ld_un76 {a_otherMark : Nat → Int32} : ∀ d k (N : Nat → Int32), k + d = 128 → ∃ N', ∀ (post : Int32 → SX → Prop) n, d < n → (∀ x1_4 : Int32, x1_4 = f_newSteps - 1 → ∃ n103, wX_undo_103 post n103 x1_4 f_count f_firstBlock f_freeBlock f_atBlock f_atCell f_presentLine f_otherPresent f_changed f_steps f_newSteps f_listed a_valueOf a_blockOf N' a_behind a_size a_cell a_markOf a_otherMark a_stepSort a_stepPlace a_stepLine a_newSort a_newPlace a_newLine a_list) → wX_undo_76 post f_count f_firstBlock f_freeBlock f_atBlock f_atCell f_presentLine f_otherPresent f_changed f_steps f_newSteps f_listed n (nI k) a_valueOf a_blockOf N a_behind a_size a_cell a_markOf a_otherMark a_stepSort a_stepPlace a_stepLine a_newSort a_newPlace a_newLine a_list := by
  intro d
  induction d with
  | zero =>
    intro k N hk
    refine ⟨N, ?_⟩
    intro post n hn hp
    obtain ⟨n, rfl⟩ : ∃ m, n = m + 1 := ⟨n - 1, by omega⟩
    have h4 : (128 : Int32) ≤ nI k := nI_le (a := 128) (by omega) (by omega)
    exact br_t h4 hp
  | succ d ih =>
    intro k N hk
    have h4 : ¬ (128 : Int32) ≤ nI k := nI_ge (b := 128) (by omega) (by decide)
    have hv : vp_in (nI k) 128 := vp_in_nI (by omega) (by decide)
    have e0 : (nI k).toNatClampNeg = k := nI_clamp (by omega)
    obtain ⟨N', i2⟩ := ih (k + 1) (upd N k (vp_nar .boolean 0)) (by omega)
    refine ⟨N', ?_⟩
    intro post n hn hp
    obtain ⟨n, rfl⟩ : ∃ m, n = m + 1 := ⟨n - 1, by omega⟩
    exact br_f h4 ⟨hv, nm_r (e' := upd N k (vp_nar .boolean 0)) (by rw [e0]) (nm_r (nI_1 k) (i2 post n (by omega) hp))⟩
theorem ld_beginChange {a_needed a_otherMark : Nat → Int32} : ∃ N' OM', (∀ m, m < 128 → N' m = 0) ∧ (∀ m, m < 4 → OM' m = a_markOf m) ∧ ∀ (post : SX → Prop), post (f_count, f_firstBlock, f_freeBlock, f_atBlock, f_atCell, f_presentLine, f_presentLine, 1, 0, f_newSteps, f_listed, a_valueOf, a_blockOf, N', a_behind, a_size, a_cell, a_markOf, OM', a_stepSort, a_stepPlace, a_stepLine, a_newSort, a_newPlace, a_newLine, a_list) → wpX_beginChange post (f_count, f_firstBlock, f_freeBlock, f_atBlock, f_atCell, f_presentLine, f_otherPresent, f_changed, f_steps, f_newSteps, f_listed, a_valueOf, a_blockOf, a_needed, a_behind, a_size, a_cell, a_markOf, a_otherMark, a_stepSort, a_stepPlace, a_stepLine, a_newSort, a_newPlace, a_newLine, a_list) := by
  obtain ⟨N', i1, i2⟩ := ld_bc12 (f_count := f_count) (f_firstBlock := f_firstBlock) (f_freeBlock := f_freeBlock) (f_atBlock := f_atBlock) (f_atCell := f_atCell) (f_presentLine := f_presentLine) (f_otherPresent := f_otherPresent) (f_changed := 1) (f_steps := 0) (f_newSteps := f_newSteps) (f_listed := f_listed) (a_valueOf := a_valueOf) (a_blockOf := a_blockOf) (a_behind := a_behind) (a_size := a_size) (a_cell := a_cell) (a_markOf := a_markOf) (a_otherMark := a_otherMark) (a_stepSort := a_stepSort) (a_stepPlace := a_stepPlace) (a_stepLine := a_stepLine) (a_newSort := a_newSort) (a_newPlace := a_newPlace) (a_newLine := a_newLine) (a_list := a_list) 128 0 a_needed (by omega) (fun m hm => absurd hm (by omega))
  obtain ⟨OM', j1, j2⟩ := ld_bc34 (f_count := f_count) (f_firstBlock := f_firstBlock) (f_freeBlock := f_freeBlock) (f_atBlock := f_atBlock) (f_atCell := f_atCell) (f_presentLine := f_presentLine) (f_otherPresent := f_otherPresent) (f_changed := 1) (f_steps := 0) (f_newSteps := f_newSteps) (f_listed := f_listed) (a_valueOf := a_valueOf) (a_blockOf := a_blockOf) (a_needed := N') (a_behind := a_behind) (a_size := a_size) (a_cell := a_cell) (a_markOf := a_markOf) (a_stepSort := a_stepSort) (a_stepPlace := a_stepPlace) (a_stepLine := a_stepLine) (a_newSort := a_newSort) (a_newPlace := a_newPlace) (a_newLine := a_newLine) (a_list := a_list) 4 0 a_otherMark (by omega) (fun m hm => absurd hm (by omega))
  exact ⟨N', OM', i1, j1, fun post hp => ⟨129, i2 post 129 (by omega) ⟨5, j2 post 5 (by omega) hp⟩⟩⟩
end
section
variable {f_count f_firstBlock f_freeBlock f_atBlock f_atCell f_presentLine f_otherPresent f_changed f_steps f_newSteps f_listed : Int32} {a_valueOf a_blockOf a_needed a_behind a_size a_cell a_stepSort a_stepPlace a_stepLine a_newSort a_newPlace a_newLine a_list : Nat → Int32}
theorem ld_exL : ∀ d k (M OM : Nat → Int32), k + d = 4 → ∃ M' OM', (∀ m, m < 4 → k ≤ m → M' m = OM m ∧ OM' m = M m) ∧ (∀ m, m < k → M' m = M m ∧ OM' m = OM m) ∧ ∀ (post : SX → Prop) n, d < n → post (f_count, f_firstBlock, f_freeBlock, f_atBlock, f_atCell, f_presentLine, f_otherPresent, f_changed, f_steps, f_newSteps, f_listed, a_valueOf, a_blockOf, a_needed, a_behind, a_size, a_cell, M', OM', a_stepSort, a_stepPlace, a_stepLine, a_newSort, a_newPlace, a_newLine, a_list) → wX_exchangeMarks_20 post f_count f_firstBlock f_freeBlock f_atBlock f_atCell f_presentLine f_otherPresent f_changed f_steps f_newSteps f_listed n (nI k) a_valueOf a_blockOf a_needed a_behind a_size a_cell M OM a_stepSort a_stepPlace a_stepLine a_newSort a_newPlace a_newLine a_list := by
  intro d
  induction d with
  | zero =>
    intro k M OM hk
    refine ⟨M, OM, fun m h1 h2 => absurd h2 (by omega), fun m _ => ⟨rfl, rfl⟩, ?_⟩
    intro post n hn hp
    obtain ⟨n, rfl⟩ : ∃ m, n = m + 1 := ⟨n - 1, by omega⟩
    have h4 : (4 : Int32) ≤ nI k := nI_le (a := 4) (by omega) (by omega)
    exact br_t h4 hp
  | succ d ih =>
    intro k M OM hk
    have h4 : ¬ (4 : Int32) ≤ nI k := nI_ge (b := 4) (by omega) (by decide)
    have hv : vp_in (nI k) 4 := vp_in_nI (by omega) (by decide)
    have e0 : (nI k).toNatClampNeg = k := nI_clamp (by omega)
    obtain ⟨M', OM', i1, i2, i3⟩ := ih (k + 1) (upd M k (OM k)) (upd OM k (M k)) (by omega)
    refine ⟨M', OM', ?_, ?_, ?_⟩
    · intro m h1 h2
      by_cases hc : m = k
      · subst hc
        obtain ⟨a, b⟩ := i2 m (by omega)
        rw [a, b, pk_us, pk_us]
        exact ⟨rfl, rfl⟩
      · obtain ⟨a, b⟩ := i1 m h1 (by omega)
        rw [a, b, pk_un hc, pk_un hc]
        exact ⟨rfl, rfl⟩
    · intro m h1
      obtain ⟨a, b⟩ := i2 m (by omega)
      rw [a, b, pk_un (by omega), pk_un (by omega)]
      exact ⟨rfl, rfl⟩
    · intro post n hn hp
      obtain ⟨n, rfl⟩ : ∃ m, n = m + 1 := ⟨n - 1, by omega⟩
      exact br_f h4 ⟨hv, nm_r (e' := M k) (by rw [e0]) ⟨hv, hv, nm_r (e' := upd M k (OM k)) (by rw [e0]) ⟨hv, nm_r (e' := upd OM k (M k)) (by rw [e0]) (nm_r (nI_1 k) (i3 post n (by omega) hp))⟩⟩⟩
theorem ld_exchangeMarks (M OM : Nat → Int32) : ∃ M' OM', (∀ m, m < 4 → M' m = OM m ∧ OM' m = M m) ∧ ∀ (post : SX → Prop), post (f_count, f_firstBlock, f_freeBlock, f_atBlock, f_atCell, f_otherPresent, f_presentLine, f_changed, f_steps, f_newSteps, f_listed, a_valueOf, a_blockOf, a_needed, a_behind, a_size, a_cell, M', OM', a_stepSort, a_stepPlace, a_stepLine, a_newSort, a_newPlace, a_newLine, a_list) → wpX_exchangeMarks post (f_count, f_firstBlock, f_freeBlock, f_atBlock, f_atCell, f_presentLine, f_otherPresent, f_changed, f_steps, f_newSteps, f_listed, a_valueOf, a_blockOf, a_needed, a_behind, a_size, a_cell, M, OM, a_stepSort, a_stepPlace, a_stepLine, a_newSort, a_newPlace, a_newLine, a_list) := by
  obtain ⟨M', OM', i1, i2, i3⟩ := ld_exL (f_count := f_count) (f_firstBlock := f_firstBlock) (f_freeBlock := f_freeBlock) (f_atBlock := f_atBlock) (f_atCell := f_atCell) (f_presentLine := f_otherPresent) (f_otherPresent := f_presentLine) (f_changed := f_changed) (f_steps := f_steps) (f_newSteps := f_newSteps) (f_listed := f_listed) (a_valueOf := a_valueOf) (a_blockOf := a_blockOf) (a_needed := a_needed) (a_behind := a_behind) (a_size := a_size) (a_cell := a_cell) (a_stepSort := a_stepSort) (a_stepPlace := a_stepPlace) (a_stepLine := a_stepLine) (a_newSort := a_newSort) (a_newPlace := a_newPlace) (a_newLine := a_newLine) (a_list := a_list) 4 0 M OM (by omega)
  exact ⟨M', OM', fun m hm => i1 m hm (by omega), fun post hp => ⟨5, i3 post 5 (by omega) hp⟩⟩
end
section
variable {f_count f_firstBlock f_freeBlock f_atBlock f_atCell f_presentLine f_otherPresent f_changed f_steps f_newSteps f_listed : Int32} {a_valueOf a_blockOf a_needed a_behind a_size a_cell a_markOf a_otherMark a_stepSort a_stepPlace a_stepLine a_list : Nat → Int32}
theorem ld_un19 {s : Nat} (hs : s ≤ 140) : ∀ d k (x y z : Nat → Int32), k + d = s → (∀ m, m < k → x m = a_stepSort m ∧ y m = a_stepPlace m ∧ z m = a_stepLine m) → ∃ x' y' z', (∀ m, m < s → x' m = a_stepSort m ∧ y' m = a_stepPlace m ∧ z' m = a_stepLine m) ∧ ∀ (post : Int32 → SX → Prop) n, d < n → (∃ n76, wX_undo_76 post f_count f_firstBlock f_freeBlock f_atBlock f_atCell f_presentLine f_otherPresent f_changed 0 f_newSteps f_listed n76 0 a_valueOf a_blockOf a_needed a_behind a_size a_cell a_markOf a_otherMark a_stepSort a_stepPlace a_stepLine x' y' z' a_list) → wX_undo_19 post f_count f_firstBlock f_freeBlock f_atBlock f_atCell f_presentLine f_otherPresent f_changed (nI s) f_newSteps f_listed n (nI k) a_valueOf a_blockOf a_needed a_behind a_size a_cell a_markOf a_otherMark a_stepSort a_stepPlace a_stepLine x y z a_list := by
  intro d
  induction d with
  | zero =>
    intro k x y z hk h
    refine ⟨x, y, z, fun m hm => h m (by omega), ?_⟩
    intro post n hn hp
    obtain ⟨n, rfl⟩ : ∃ m, n = m + 1 := ⟨n - 1, by omega⟩
    have h4 : nI s ≤ nI k := nI_le (by omega) (by omega)
    exact br_t h4 hp
  | succ d ih =>
    intro k x y z hk h
    have h4 : ¬ nI s ≤ nI k := nI_ge (by omega) (by omega)
    have hv : vp_in (nI k) 140 := vp_in_nI (by omega) (by decide)
    have e0 : (nI k).toNatClampNeg = k := nI_clamp (by omega)
    obtain ⟨x', y', z', i1, i2⟩ := ih (k + 1) (upd x k (a_stepSort k)) (upd y k (a_stepPlace k)) (upd z k (a_stepLine k)) (by omega) (by
      intro m hm
      by_cases hc : m = k
      · subst hc
        exact ⟨pk_us, pk_us, pk_us⟩
      · rw [pk_un hc, pk_un hc, pk_un hc]
        exact h m (by omega))
    refine ⟨x', y', z', i1, ?_⟩
    intro post n hn hp
    obtain ⟨n, rfl⟩ : ∃ m, n = m + 1 := ⟨n - 1, by omega⟩
    exact br_f h4 ⟨hv, hv, nm_r (e' := upd x k (a_stepSort k)) (by rw [e0]) ⟨hv, hv, nm_r (e' := upd y k (a_stepPlace k)) (by rw [e0]) ⟨hv, hv, nm_r (e' := upd z k (a_stepLine k)) (by rw [e0]) (nm_r (nI_1 k) (i2 post n (by omega) hp))⟩⟩⟩
end
end
section
/-! the class over a list of lines and a list of steps -/
abbrev ld_St : Type := Int32 × Int32 × Int32
abbrev ld_GX : Type := Int32 × Int32 × Int32 × (Nat → Int32) × (Nat → Int32) × (Nat → Int32) × (Nat → Int32) × (Nat → Int32) × (Nat → Int32) × (Nat → Int32)
def ld_sl (x y z : Nat → Int32) : List ld_St → Prop
  | [] => True
  | s :: S => x S.length = s.1 ∧ y S.length = s.2.1 ∧ z S.length = s.2.2 ∧ ld_sl x y z S
theorem ld_slF {x y z x' y' z' : Nat → Int32} : ∀ {S : List ld_St}, ld_sl x y z S → (∀ i, i < S.length → x' i = x i ∧ y' i = y i ∧ z' i = z i) → ld_sl x' y' z' S := by
  intro S
  induction S with
  | nil =>
    intro _ _
    exact True.intro
  | cons s S ih =>
    intro h hf
    obtain ⟨h1, h2, h3, h4⟩ := h
    obtain ⟨f1, f2, f3⟩ := hf S.length (by rw [List.length_cons]; omega)
    exact ⟨f1.trans h1, f2.trans h2, f3.trans h3, ih h4 (fun i hi => hf i (by rw [List.length_cons]; omega))⟩
theorem ld_slC {x y z : Nat → Int32} {S : List ld_St} (a b c : Int32) (h : ld_sl x y z S) : ld_sl (upd x S.length a) (upd y S.length b) (upd z S.length c) ((a, b, c) :: S) :=
  ⟨pk_us, pk_us, pk_us, ld_slF h (fun i hi => ⟨pk_un (by omega), pk_un (by omega), pk_un (by omega)⟩)⟩
def ld_I (T : List Nat) (SR : List ld_St) (g : ld_GX) : Prop := (∃ C F, ld_tx T C F g.1 g.2.2.2.1 g.2.2.2.2.1 g.2.2.2.2.2.1 g.2.2.2.2.2.2.1 ∧ ld_nb C) ∧ T.length ≤ 60 ∧ ld_sl g.2.2.2.2.2.2.2.1 g.2.2.2.2.2.2.2.2.1 g.2.2.2.2.2.2.2.2.2 SR
theorem ld_INd {T : List Nat} {SR : List ld_St} {g : ld_GX} (h : ld_I T SR g) : T.Nodup ∧ (∀ t ∈ T, t < 128) ∧ T.length ≤ 60 := by
  obtain ⟨⟨C, F, h1, h2⟩, h3, h4⟩ := h
  exact ⟨h1.2.2.2.2.2.2.2.1, h1.2.2.2.2.2.2.2.2.1, h3⟩
theorem ld_I0 {T : List Nat} {SR : List ld_St} {g : ld_GX} (h : ld_I T SR g) : ld_I T [] g := ⟨h.1, h.2.1, True.intro⟩
section
variable (P OP ch ns ls : Int32) (V N M OM nS nP nL li : Nat → Int32) {T : List Nat} {SR : List ld_St} {g : ld_GX}
theorem ld_XtakeOut {p t : Nat} (h : ld_I T SR g) (ht : T[p]? = some t) (hs : SR.length < 140) : ∃ g', ld_I (ld_del T p) ((1, nI (p + 1), nI t) :: SR) g' ∧ ∀ (post : Int32 → SX → Prop), post (nI t) ((nI (ld_del T p).length), 0, g'.1, g'.2.1, g'.2.2.1, P, OP, ch, (nI ((1, nI (p + 1), nI t) :: SR).length), ns, ls, V, g'.2.2.2.1, upd N t (vp_nar .boolean 1), g'.2.2.2.2.1, g'.2.2.2.2.2.1, g'.2.2.2.2.2.2.1, M, OM, g'.2.2.2.2.2.2.2.1, g'.2.2.2.2.2.2.2.2.1, g'.2.2.2.2.2.2.2.2.2, nS, nP, nL, li) → wpX_takeOut post ((nI T.length), 0, g.1, g.2.1, g.2.2.1, P, OP, ch, (nI SR.length), ns, ls, V, g.2.2.2.1, N, g.2.2.2.2.1, g.2.2.2.2.2.1, g.2.2.2.2.2.2.1, M, OM, g.2.2.2.2.2.2.2.1, g.2.2.2.2.2.2.2.2.1, g.2.2.2.2.2.2.2.2.2, nS, nP, nL, li) (nI (p + 1)) := by
  obtain ⟨⟨C, F, h1, h2⟩, h3, h4⟩ := h
  obtain ⟨C', F', fb', ab', ac', bo', be', sz', ce', j1, j2, j3⟩ := ld_takeOut (f_atBlock := g.2.1) (f_atCell := g.2.2.1) (f_presentLine := P) (f_otherPresent := OP) (f_changed := ch) (f_newSteps := ns) (f_listed := ls) (a_valueOf := V) (a_needed := N) (a_markOf := M) (a_otherMark := OM) (a_stepSort := g.2.2.2.2.2.2.2.1) (a_stepPlace := g.2.2.2.2.2.2.2.2.1) (a_stepLine := g.2.2.2.2.2.2.2.2.2) (a_newSort := nS) (a_newPlace := nP) (a_newLine := nL) (a_list := li) h1 h3 ht hs
  have hlen := ld_delL ht
  refine ⟨(fb', ab', ac', bo', be', sz', ce', upd g.2.2.2.2.2.2.2.1 SR.length 1, upd g.2.2.2.2.2.2.2.2.1 SR.length (nI (p + 1)), upd g.2.2.2.2.2.2.2.2.2 SR.length (nI t)), ⟨⟨C', F', j1, j2⟩, by omega, ld_slC _ _ _ h4⟩, ?_⟩
  intro post hp
  rw [show (ld_del T p).length = T.length - 1 by omega] at hp
  exact j3 post hp
theorem ld_XputIn {p t : Nat} (h : ld_I T SR g) (hp : p ≤ T.length) (hT : T.length < 60) (ht : t < 128) (hn : t ∉ T) (hs : SR.length < 140) : ∃ g', ld_I (ld_ins T p t) ((0, nI (p + 1), nI t) :: SR) g' ∧ ∀ (post : SX → Prop), post ((nI (ld_ins T p t).length), 0, g'.1, g'.2.1, g'.2.2.1, P, OP, ch, (nI ((0, nI (p + 1), nI t) :: SR).length), ns, ls, V, g'.2.2.2.1, N, g'.2.2.2.2.1, g'.2.2.2.2.2.1, g'.2.2.2.2.2.2.1, M, OM, g'.2.2.2.2.2.2.2.1, g'.2.2.2.2.2.2.2.2.1, g'.2.2.2.2.2.2.2.2.2, nS, nP, nL, li) → wpX_putIn post ((nI T.length), 0, g.1, g.2.1, g.2.2.1, P, OP, ch, (nI SR.length), ns, ls, V, g.2.2.2.1, N, g.2.2.2.2.1, g.2.2.2.2.2.1, g.2.2.2.2.2.2.1, M, OM, g.2.2.2.2.2.2.2.1, g.2.2.2.2.2.2.2.2.1, g.2.2.2.2.2.2.2.2.2, nS, nP, nL, li) (nI (p + 1)) (nI t) := by
  obtain ⟨⟨C, F, h1, h2⟩, h3, h4⟩ := h
  obtain ⟨C', F', fb', ab', ac', bo', be', sz', ce', j1, j2, j3⟩ := ld_putIn (f_atBlock := g.2.1) (f_atCell := g.2.2.1) (f_presentLine := P) (f_otherPresent := OP) (f_changed := ch) (f_newSteps := ns) (f_listed := ls) (a_valueOf := V) (a_needed := N) (a_markOf := M) (a_otherMark := OM) (a_stepSort := g.2.2.2.2.2.2.2.1) (a_stepPlace := g.2.2.2.2.2.2.2.2.1) (a_stepLine := g.2.2.2.2.2.2.2.2.2) (a_newSort := nS) (a_newPlace := nP) (a_newLine := nL) (a_list := li) h1 h2 hT hp ht hn hs
  have hlen := ld_insL (e := t) hp
  refine ⟨(fb', ab', ac', bo', be', sz', ce', upd g.2.2.2.2.2.2.2.1 SR.length 0, upd g.2.2.2.2.2.2.2.2.1 SR.length (nI (p + 1)), upd g.2.2.2.2.2.2.2.2.2 SR.length (nI t)), ⟨⟨C', F', j1, j2⟩, by omega, ld_slC _ _ _ h4⟩, ?_⟩
  intro post hp
  rw [hlen] at hp
  exact j3 post hp
theorem ld_XlineAt {p t : Nat} (h : ld_I T SR g) (ht : T[p]? = some t) : ∃ g', ld_I T SR g' ∧ ∀ (post : Int32 → SX → Prop), post (nI t) ((nI T.length), 0, g'.1, g'.2.1, g'.2.2.1, P, OP, ch, (nI SR.length), ns, ls, V, g'.2.2.2.1, N, g'.2.2.2.2.1, g'.2.2.2.2.2.1, g'.2.2.2.2.2.2.1, M, OM, g'.2.2.2.2.2.2.2.1, g'.2.2.2.2.2.2.2.2.1, g'.2.2.2.2.2.2.2.2.2, nS, nP, nL, li) → wpX_lineAt post ((nI T.length), 0, g.1, g.2.1, g.2.2.1, P, OP, ch, (nI SR.length), ns, ls, V, g.2.2.2.1, N, g.2.2.2.2.1, g.2.2.2.2.2.1, g.2.2.2.2.2.2.1, M, OM, g.2.2.2.2.2.2.2.1, g.2.2.2.2.2.2.2.2.1, g.2.2.2.2.2.2.2.2.2, nS, nP, nL, li) (nI (p + 1)) := by
  obtain ⟨⟨C, F, h1, h2⟩, h3, h4⟩ := h
  obtain ⟨x, y, j⟩ := ld_lineAt (f_count := (nI T.length)) (f_atBlock := g.2.1) (f_atCell := g.2.2.1) (f_presentLine := P) (f_otherPresent := OP) (f_changed := ch) (f_steps := (nI SR.length)) (f_newSteps := ns) (f_listed := ls) (a_valueOf := V) (a_needed := N) (a_markOf := M) (a_otherMark := OM) (a_stepSort := g.2.2.2.2.2.2.2.1) (a_stepPlace := g.2.2.2.2.2.2.2.2.1) (a_stepLine := g.2.2.2.2.2.2.2.2.2) (a_newSort := nS) (a_newPlace := nP) (a_newLine := nL) (a_list := li) h1 h3 ht
  exact ⟨(g.1, x, y, g.2.2.2), ⟨⟨C, F, h1, h2⟩, h3, h4⟩, fun post hp => j post hp⟩
theorem ld_XnumberOf {p t : Nat} (h : ld_I T SR g) (ht : T[p]? = some t) (post : Int32 → Prop) (hp : post (nI (p + 1))) : wpX_numberOf post ((nI T.length), 0, g.1, g.2.1, g.2.2.1, P, OP, ch, (nI SR.length), ns, ls, V, g.2.2.2.1, N, g.2.2.2.2.1, g.2.2.2.2.2.1, g.2.2.2.2.2.2.1, M, OM, g.2.2.2.2.2.2.2.1, g.2.2.2.2.2.2.2.2.1, g.2.2.2.2.2.2.2.2.2, nS, nP, nL, li) (nI t) := by
  obtain ⟨⟨C, F, h1, h2⟩, h3, h4⟩ := h
  exact ld_numberOf h1 ht post hp
theorem ld_XlistRange {a e : Nat} (h : ld_I T SR g) (hae : a ≤ e) (he : e ≤ T.length) : ∃ li', (∀ j t, j < e - a → T[a + j]? = some t → li' j = nI t) ∧ ∀ (post : SX → Prop), post ((nI T.length), 0, g.1, g.2.1, g.2.2.1, P, OP, ch, (nI SR.length), ns, nI (e - a), V, g.2.2.2.1, N, g.2.2.2.2.1, g.2.2.2.2.2.1, g.2.2.2.2.2.2.1, M, OM, g.2.2.2.2.2.2.2.1, g.2.2.2.2.2.2.2.2.1, g.2.2.2.2.2.2.2.2.2, nS, nP, nL, li') → wpX_listRange post ((nI T.length), 0, g.1, g.2.1, g.2.2.1, P, OP, ch, (nI SR.length), ns, ls, V, g.2.2.2.1, N, g.2.2.2.2.1, g.2.2.2.2.2.1, g.2.2.2.2.2.2.1, M, OM, g.2.2.2.2.2.2.2.1, g.2.2.2.2.2.2.2.2.1, g.2.2.2.2.2.2.2.2.2, nS, nP, nL, li) (nI (a + 1)) (nI e) := by
  obtain ⟨⟨C, F, h1, h2⟩, h3, h4⟩ := h
  exact ld_listRange (f_count := (nI T.length)) (f_atBlock := g.2.1) (f_atCell := g.2.2.1) (f_presentLine := P) (f_otherPresent := OP) (f_changed := ch) (f_steps := (nI SR.length)) (f_newSteps := ns) (f_listed := ls) (a_valueOf := V) (a_needed := N) (a_markOf := M) (a_otherMark := OM) (a_stepSort := g.2.2.2.2.2.2.2.1) (a_stepPlace := g.2.2.2.2.2.2.2.2.1) (a_stepLine := g.2.2.2.2.2.2.2.2.2) (a_newSort := nS) (a_newPlace := nP) (a_newLine := nL) (a_list := li) h1 h3 hae he
theorem ld_XfreshLine (v : Int32) (h : ld_I T SR g) (hN : ∀ t, t < 128 → N t = 0) : ∃ id, id < 128 ∧ id ∉ T ∧ ∀ (post : Int32 → SX → Prop), post (nI id) ((nI T.length), 0, g.1, g.2.1, g.2.2.1, P, OP, ch, (nI SR.length), ns, ls, upd V id v, g.2.2.2.1, N, g.2.2.2.2.1, g.2.2.2.2.2.1, g.2.2.2.2.2.2.1, M, OM, g.2.2.2.2.2.2.2.1, g.2.2.2.2.2.2.2.2.1, g.2.2.2.2.2.2.2.2.2, nS, nP, nL, li) → wpX_freshLine post ((nI T.length), 0, g.1, g.2.1, g.2.2.1, P, OP, ch, (nI SR.length), ns, ls, V, g.2.2.2.1, N, g.2.2.2.2.1, g.2.2.2.2.2.1, g.2.2.2.2.2.2.1, M, OM, g.2.2.2.2.2.2.2.1, g.2.2.2.2.2.2.2.2.1, g.2.2.2.2.2.2.2.2.2, nS, nP, nL, li) v := by
  obtain ⟨⟨C, F, h1, h2⟩, h3, h4⟩ := h
  exact ld_freshLine (f_count := (nI T.length)) (f_firstBlock := 0) (f_atBlock := g.2.1) (f_atCell := g.2.2.1) (f_presentLine := P) (f_otherPresent := OP) (f_changed := ch) (f_steps := (nI SR.length)) (f_newSteps := ns) (f_listed := ls) (a_valueOf := V) (a_markOf := M) (a_otherMark := OM) (a_stepSort := g.2.2.2.2.2.2.2.1) (a_stepPlace := g.2.2.2.2.2.2.2.2.1) (a_stepLine := g.2.2.2.2.2.2.2.2.2) (a_newSort := nS) (a_newPlace := nP) (a_newLine := nL) (a_list := li) v h1 h3 hN
theorem ld_Xnote (a b c : Int32) (h : ld_I T SR g) (hs : SR.length < 140) : ∃ g', ld_I T ((a, b, c) :: SR) g' ∧ ∀ (post : SX → Prop), post ((nI T.length), 0, g'.1, g'.2.1, g'.2.2.1, P, OP, ch, (nI ((a, b, c) :: SR).length), ns, ls, V, g'.2.2.2.1, N, g'.2.2.2.2.1, g'.2.2.2.2.2.1, g'.2.2.2.2.2.2.1, M, OM, g'.2.2.2.2.2.2.2.1, g'.2.2.2.2.2.2.2.2.1, g'.2.2.2.2.2.2.2.2.2, nS, nP, nL, li) → wpX_note post ((nI T.length), 0, g.1, g.2.1, g.2.2.1, P, OP, ch, (nI SR.length), ns, ls, V, g.2.2.2.1, N, g.2.2.2.2.1, g.2.2.2.2.2.1, g.2.2.2.2.2.2.1, M, OM, g.2.2.2.2.2.2.2.1, g.2.2.2.2.2.2.2.2.1, g.2.2.2.2.2.2.2.2.2, nS, nP, nL, li) a b c := by
  obtain ⟨⟨C, F, h1, h2⟩, h3, h4⟩ := h
  refine ⟨(g.1, g.2.1, g.2.2.1, g.2.2.2.1, g.2.2.2.2.1, g.2.2.2.2.2.1, g.2.2.2.2.2.2.1, upd g.2.2.2.2.2.2.2.1 SR.length a, upd g.2.2.2.2.2.2.2.2.1 SR.length b, upd g.2.2.2.2.2.2.2.2.2 SR.length c), ⟨⟨C, F, h1, h2⟩, h3, ld_slC _ _ _ h4⟩, ?_⟩
  intro post hp
  exact ld_note hs post hp
theorem ld_XclearMarks (id : Int32) : ∃ M', (∀ m, m < 4 → M' m = if M m = id then -1 else M m) ∧ ∀ (post : SX → Prop), post ((nI T.length), 0, g.1, g.2.1, g.2.2.1, P, OP, ch, (nI SR.length), ns, ls, V, g.2.2.2.1, N, g.2.2.2.2.1, g.2.2.2.2.2.1, g.2.2.2.2.2.2.1, M', OM, g.2.2.2.2.2.2.2.1, g.2.2.2.2.2.2.2.2.1, g.2.2.2.2.2.2.2.2.2, nS, nP, nL, li) → wpX_clearMarks post ((nI T.length), 0, g.1, g.2.1, g.2.2.1, P, OP, ch, (nI SR.length), ns, ls, V, g.2.2.2.1, N, g.2.2.2.2.1, g.2.2.2.2.2.1, g.2.2.2.2.2.2.1, M, OM, g.2.2.2.2.2.2.2.1, g.2.2.2.2.2.2.2.2.1, g.2.2.2.2.2.2.2.2.2, nS, nP, nL, li) id :=
  ld_clearMarks (f_count := (nI T.length)) (f_firstBlock := 0) (f_freeBlock := g.1) (f_atBlock := g.2.1) (f_atCell := g.2.2.1) (f_presentLine := P) (f_otherPresent := OP) (f_changed := ch) (f_steps := (nI SR.length)) (f_newSteps := ns) (f_listed := ls) (a_valueOf := V) (a_blockOf := g.2.2.2.1) (a_needed := N) (a_behind := g.2.2.2.2.1) (a_size := g.2.2.2.2.2.1) (a_cell := g.2.2.2.2.2.2.1) (a_otherMark := OM) (a_stepSort := g.2.2.2.2.2.2.2.1) (a_stepPlace := g.2.2.2.2.2.2.2.2.1) (a_stepLine := g.2.2.2.2.2.2.2.2.2) (a_newSort := nS) (a_newPlace := nP) (a_newLine := nL) (a_list := li) M id
theorem ld_XbeginChange : ∃ N' OM', (∀ m, m < 128 → N' m = 0) ∧ (∀ m, m < 4 → OM' m = M m) ∧ ∀ (post : SX → Prop), post ((nI T.length), 0, g.1, g.2.1, g.2.2.1, P, P, 1, (nI ([] : List ld_St).length), ns, ls, V, g.2.2.2.1, N', g.2.2.2.2.1, g.2.2.2.2.2.1, g.2.2.2.2.2.2.1, M, OM', g.2.2.2.2.2.2.2.1, g.2.2.2.2.2.2.2.2.1, g.2.2.2.2.2.2.2.2.2, nS, nP, nL, li) → wpX_beginChange post ((nI T.length), 0, g.1, g.2.1, g.2.2.1, P, OP, ch, (nI SR.length), ns, ls, V, g.2.2.2.1, N, g.2.2.2.2.1, g.2.2.2.2.2.1, g.2.2.2.2.2.2.1, M, OM, g.2.2.2.2.2.2.2.1, g.2.2.2.2.2.2.2.2.1, g.2.2.2.2.2.2.2.2.2, nS, nP, nL, li) :=
  ld_beginChange (f_count := (nI T.length)) (f_firstBlock := 0) (f_freeBlock := g.1) (f_atBlock := g.2.1) (f_atCell := g.2.2.1) (f_presentLine := P) (f_otherPresent := OP) (f_changed := ch) (f_steps := (nI SR.length)) (f_newSteps := ns) (f_listed := ls) (a_valueOf := V) (a_blockOf := g.2.2.2.1) (a_needed := N) (a_behind := g.2.2.2.2.1) (a_size := g.2.2.2.2.2.1) (a_cell := g.2.2.2.2.2.2.1) (a_markOf := M) (a_otherMark := OM) (a_stepSort := g.2.2.2.2.2.2.2.1) (a_stepPlace := g.2.2.2.2.2.2.2.2.1) (a_stepLine := g.2.2.2.2.2.2.2.2.2) (a_newSort := nS) (a_newPlace := nP) (a_newLine := nL) (a_list := li)
end
end
section
/-! the step back -/
abbrev ld_Tv : Type := List Nat × (Nat → Int32)
def ld_tb (s : ld_St) (a b : ld_Tv) : Prop :=
  (∃ p t, s = (0, nI (p + 1), nI t) ∧ a.1[p]? = some t ∧ b = (ld_del a.1 p, a.2)) ∨
  (∃ p t, s = (1, nI (p + 1), nI t) ∧ p ≤ a.1.length ∧ a.1.length < 60 ∧ t < 128 ∧ t ∉ a.1 ∧ b = (ld_ins a.1 p t, a.2)) ∨
  (∃ v t, s = (2, v, nI t) ∧ t < 128 ∧ b = (a.1, upd a.2 t v))
def ld_un : List ld_St → ld_Tv → ld_Tv → Prop
  | [], a, b => a = b
  | s :: S, a, b => ∃ c, ld_tb s a c ∧ ld_un S c b
/-- no step of a value -/
def ld_nv (S : List ld_St) : Prop := ∀ s ∈ S, s.1 = 0
theorem ld_unV : ∀ {S : List ld_St} {T O : List Nat} {V W : Nat → Int32}, ld_un S (T, V) (O, W) → ld_nv S → W = V ∧ ∀ V', ld_un S (T, V') (O, V') := by
  intro S
  induction S with
  | nil =>
    intro T O V W h _
    have h : (T, V) = (O, W) := h
    injection h with h1 h2
    subst h1 h2
    exact ⟨rfl, fun V' => rfl⟩
  | cons s S ih =>
    intro T O V W h hn
    obtain ⟨⟨T1, V1⟩, h1, h2⟩ := h
    have hs : s.1 = 0 := hn s (List.mem_cons_self ..)
    have hn' : ld_nv S := fun x hx => hn x (List.mem_cons_of_mem _ hx)
    rcases h1 with ⟨p, t, e1, e2, e3⟩ | ⟨p, t, e1, _⟩ | ⟨v, t, e1, _⟩
    · injection e3 with e4 e5
      subst e4 e5
      obtain ⟨i1, i2⟩ := ih h2 hn'
      exact ⟨i1, fun V' => ⟨(ld_del T p, V'), Or.inl ⟨p, t, e1, e2, rfl⟩, i2 V'⟩⟩
    · rw [e1] at hs
      exact absurd hs (show ¬ (1 : Int32) = 0 by decide)
    · rw [e1] at hs
      exact absurd hs (show ¬ (2 : Int32) = 0 by decide)
theorem ld_updBack (V : Nat → Int32) (t : Nat) (v : Int32) : upd (upd V t v) t (V t) = V := by
  funext i
  by_cases h : i = t
  · subst h
    exact pk_us
  · rw [pk_un h, pk_un h]
section
variable (P OP ch ns ls : Int32) (V N M OM nS nP nL li : Nat → Int32) {T : List Nat} {SR : List ld_St} {g : ld_GX}
theorem ld_XtakeBack {s : ld_St} {T' : List Nat} {V' : Nat → Int32} (h : ld_I T SR g) (hb : ld_tb s (T, V) (T', V')) (hs : SR.length < 140) : ∃ g' N' s', ld_I T' (s' :: SR) g' ∧ ld_tb s' (T', V') (T, V) ∧ ∀ (post : SX → Prop), post ((nI T'.length), 0, g'.1, g'.2.1, g'.2.2.1, P, OP, ch, (nI (s' :: SR).length), ns, ls, V', g'.2.2.2.1, N', g'.2.2.2.2.1, g'.2.2.2.2.2.1, g'.2.2.2.2.2.2.1, M, OM, g'.2.2.2.2.2.2.2.1, g'.2.2.2.2.2.2.2.2.1, g'.2.2.2.2.2.2.2.2.2, nS, nP, nL, li) → wpX_takeBack post ((nI T.length), 0, g.1, g.2.1, g.2.2.1, P, OP, ch, (nI SR.length), ns, ls, V, g.2.2.2.1, N, g.2.2.2.2.1, g.2.2.2.2.2.1, g.2.2.2.2.2.2.1, M, OM, g.2.2.2.2.2.2.2.1, g.2.2.2.2.2.2.2.2.1, g.2.2.2.2.2.2.2.2.2, nS, nP, nL, li) s.1 s.2.1 s.2.2 := by
  obtain ⟨n1, n2, n3⟩ := ld_INd h
  rcases hb with ⟨p, t, e1, e2, e3⟩ | ⟨p, t, e1, e2, e3, e4, e5, e6⟩ | ⟨v, t, e1, e2, e3⟩
  · injection e3 with e4 e5
    have e5 : V = V' := e5.symm
    subst e1 e4 e5
    have e2 : T[p]? = some t := e2
    have hlen := ld_delL e2
    have hpl := ld_lt e2
    obtain ⟨d1, d2⟩ := ld_ndDel e2 n1
    obtain ⟨g', i1, i2⟩ := ld_XtakeOut P OP ch ns ls V N M OM nS nP nL li h e2 hs
    refine ⟨g', upd N t (vp_nar .boolean 1), (1, nI (p + 1), nI t), i1, Or.inr (Or.inl ⟨p, t, rfl, ?_, ?_, n2 t (List.mem_of_getElem? e2), d2, ?_⟩), ?_⟩
    · show p ≤ (ld_del T p).length
      omega
    · show (ld_del T p).length < 60
      omega
    · show (T, V) = (ld_ins (ld_del T p) p t, V)
      rw [ld_insdel e2]
    · intro post hp
      exact br_t rfl (i2 _ hp)
  · injection e6 with e7 e8
    have e8 : V = V' := e8.symm
    subst e1 e7 e8
    have e2 : p ≤ T.length := e2
    obtain ⟨g', i1, i2⟩ := ld_XputIn P OP ch ns ls V N M OM nS nP nL li h e2 e3 e4 e5 hs
    refine ⟨g', N, (0, nI (p + 1), nI t), i1, Or.inl ⟨p, t, rfl, ?_, ?_⟩, ?_⟩
    · show (ld_ins T p t)[p]? = some t
      exact ld_insAt e2
    · show (T, V) = (ld_del (ld_ins T p t) p, V)
      rw [ld_delins e2]
    · intro post hp
      have h10 : ¬ (1 : Int32) = 0 := by decide
      exact br_f h10 (br_t rfl (i2 _ hp))
  · injection e3 with e4 e5
    have e4 : T = T' := e4.symm
    subst e1 e4 e5
    have hv : vp_in (nI t) 128 := vp_in_nI e2 (by decide)
    have e0 : (nI t).toNatClampNeg = t := nI_clamp (by omega)
    obtain ⟨g', i1, i2⟩ := ld_Xnote P OP ch ns ls V N M OM nS nP nL li 2 (V t) (nI t) h hs
    refine ⟨g', N, (2, V t, nI t), i1, Or.inr (Or.inr ⟨V t, t, rfl, e2, ?_⟩), ?_⟩
    · show (T, V) = (T, upd (upd V t v) t (V t))
      rw [ld_updBack]
    · intro post hp
      have h20 : ¬ (2 : Int32) = 0 := by decide
      have h21 : ¬ (2 : Int32) = 1 := by decide
      refine br_f h20 (br_f h21 (And.intro hv ?_))
      have hk : ∀ (post : SX → Prop), post ((nI T.length), 0, g'.1, g'.2.1, g'.2.2.1, P, OP, ch, (nI ((2, V t, nI t) :: SR).length), ns, ls, V, g'.2.2.2.1, N, g'.2.2.2.2.1, g'.2.2.2.2.2.1, g'.2.2.2.2.2.2.1, M, OM, g'.2.2.2.2.2.2.2.1, g'.2.2.2.2.2.2.2.2.1, g'.2.2.2.2.2.2.2.2.2, nS, nP, nL, li) → wpX_note post ((nI T.length), 0, g.1, g.2.1, g.2.2.1, P, OP, ch, (nI SR.length), ns, ls, V, g.2.2.2.1, N, g.2.2.2.2.1, g.2.2.2.2.2.1, g.2.2.2.2.2.2.1, M, OM, g.2.2.2.2.2.2.2.1, g.2.2.2.2.2.2.2.2.1, g.2.2.2.2.2.2.2.2.2, nS, nP, nL, li) 2 (V (nI t).toNatClampNeg) (nI t) := by
        rw [e0]
        exact i2
      exact hk _ (And.intro hv (nm_r (e' := upd V t v) (by rw [e0]) hp))
end
section
variable (P OP ch ns ls : Int32) (M OM nS nP nL li : Nat → Int32)
theorem ld_unL {a b : ld_Tv} : ∀ (Rm : List ld_St) (T : List Nat) (V N : Nat → Int32) (SR : List ld_St) (g : ld_GX), ld_sl nS nP nL Rm → SR.length + Rm.length ≤ 140 → ld_I T SR g → ld_un Rm (T, V) b → ld_un SR (T, V) a → ∃ g' N' SR', ld_I b.1 SR' g' ∧ ld_un SR' b a ∧ SR'.length = SR.length + Rm.length ∧ ∀ (post : Int32 → SX → Prop) n, wX_undo_103 post n (nI 0 + (-1)) (nI b.1.length) 0 g'.1 g'.2.1 g'.2.2.1 P OP ch (nI SR'.length) ns ls b.2 g'.2.2.2.1 N' g'.2.2.2.2.1 g'.2.2.2.2.2.1 g'.2.2.2.2.2.2.1 M OM g'.2.2.2.2.2.2.2.1 g'.2.2.2.2.2.2.2.2.1 g'.2.2.2.2.2.2.2.2.2 nS nP nL li → wX_undo_103 post (n + Rm.length) (nI Rm.length + (-1)) (nI T.length) 0 g.1 g.2.1 g.2.2.1 P OP ch (nI SR.length) ns ls V g.2.2.2.1 N g.2.2.2.2.1 g.2.2.2.2.2.1 g.2.2.2.2.2.2.1 M OM g.2.2.2.2.2.2.2.1 g.2.2.2.2.2.2.2.2.1 g.2.2.2.2.2.2.2.2.2 nS nP nL li := by
  intro Rm
  induction Rm with
  | nil =>
    intro T V N SR g _ _ hI hu hw
    have hu : (T, V) = b := hu
    subst hu
    exact ⟨g, N, SR, hI, hw, rfl, fun post n h => h⟩
  | cons s Rm ih =>
    intro T V N SR g hl hs hI hu hw
    rw [List.length_cons] at hs
    obtain ⟨l1, l2, l3, l4⟩ := hl
    obtain ⟨⟨T1, V1⟩, u1, u2⟩ := hu
    obtain ⟨g1, N1, s1, i1, i2, i3⟩ := ld_XtakeBack P OP ch ns ls V N M OM nS nP nL li hI u1 (by omega)
    obtain ⟨g', N', SR', j1, j2, j3, j4⟩ := ih T1 V1 N1 (s1 :: SR) g1 l4 (by rw [List.length_cons]; omega) i1 u2 ⟨(T, V), i2, hw⟩
    refine ⟨g', N', SR', j1, j2, by rw [j3, List.length_cons, List.length_cons]; omega, ?_⟩
    intro post n h
    have hk := j4 post n h
    have e0 : (nI Rm.length).toNatClampNeg = Rm.length := nI_clamp (by omega)
    have hv : vp_in (nI Rm.length) 140 := vp_in_nI (by omega) (by decide)
    have hlt : ¬ nI Rm.length < 0 := nI_pos (by omega)
    rw [List.length_cons, pk_m1]
    refine br_f hlt (And.intro hv (And.intro hv (And.intro hv ?_)))
    rw [e0, l1, l2, l3]
    exact i3 _ (nm_e hk)
end
section
variable (P OP ch ns ls : Int32) (V N M OM nS nP nL li : Nat → Int32) {T : List Nat} {SR : List ld_St} {g : ld_GX}
theorem ld_Xundo {O : List Nat} {W : Nat → Int32} (h : ld_I T SR g) (hs : SR.length ≤ 140) (hu : ld_un SR (T, V) (O, W)) : ∃ g' N' SR' M' OM' x' y' z', ld_I O SR' g' ∧ ld_un SR' (O, W) (T, V) ∧ SR'.length = SR.length ∧ (∀ m, m < 4 → M' m = OM m ∧ OM' m = M m) ∧ ∀ (post : Int32 → SX → Prop), post 1 ((nI O.length), 0, g'.1, g'.2.1, g'.2.2.1, OP, P, 1, (nI SR'.length), nI SR.length, ls, W, g'.2.2.2.1, N', g'.2.2.2.2.1, g'.2.2.2.2.2.1, g'.2.2.2.2.2.2.1, M', OM', g'.2.2.2.2.2.2.2.1, g'.2.2.2.2.2.2.2.2.1, g'.2.2.2.2.2.2.2.2.2, x', y', z', li) → wpX_undo post ((nI T.length), 0, g.1, g.2.1, g.2.2.1, P, OP, 1, (nI SR.length), ns, ls, V, g.2.2.2.1, N, g.2.2.2.2.1, g.2.2.2.2.2.1, g.2.2.2.2.2.2.1, M, OM, g.2.2.2.2.2.2.2.1, g.2.2.2.2.2.2.2.2.1, g.2.2.2.2.2.2.2.2.2, nS, nP, nL, li) := by
  obtain ⟨x', y', z', k1, k2⟩ := ld_un19 (f_count := (nI T.length)) (f_firstBlock := 0) (f_freeBlock := g.1) (f_atBlock := g.2.1) (f_atCell := g.2.2.1) (f_presentLine := P) (f_otherPresent := OP) (f_changed := 1) (f_newSteps := nI SR.length) (f_listed := ls) (a_valueOf := V) (a_blockOf := g.2.2.2.1) (a_needed := N) (a_behind := g.2.2.2.2.1) (a_size := g.2.2.2.2.2.1) (a_cell := g.2.2.2.2.2.2.1) (a_markOf := M) (a_otherMark := OM) (a_stepSort := g.2.2.2.2.2.2.2.1) (a_stepPlace := g.2.2.2.2.2.2.2.2.1) (a_stepLine := g.2.2.2.2.2.2.2.2.2) (a_list := li) hs SR.length 0 nS nP nL (by omega) (fun m hm => absurd hm (by omega))
  obtain ⟨N1, m2⟩ := ld_un76 (f_count := (nI T.length)) (f_firstBlock := 0) (f_freeBlock := g.1) (f_atBlock := g.2.1) (f_atCell := g.2.2.1) (f_presentLine := P) (f_otherPresent := OP) (f_changed := 1) (f_steps := 0) (f_newSteps := nI SR.length) (f_listed := ls) (a_valueOf := V) (a_blockOf := g.2.2.2.1) (a_behind := g.2.2.2.2.1) (a_size := g.2.2.2.2.2.1) (a_cell := g.2.2.2.2.2.2.1) (a_markOf := M) (a_otherMark := OM) (a_stepSort := g.2.2.2.2.2.2.2.1) (a_stepPlace := g.2.2.2.2.2.2.2.2.1) (a_stepLine := g.2.2.2.2.2.2.2.2.2) (a_newSort := x') (a_newPlace := y') (a_newLine := z') (a_list := li) 128 0 N (by omega)
  have hl : ld_sl x' y' z' SR := ld_slF h.2.2 k1
  obtain ⟨g', N', SR', j1, j2, j3, j4⟩ := ld_unL P OP 1 (nI SR.length) ls M OM x' y' z' li SR T V N1 [] g hl (by rw [List.length_nil]; omega) (ld_I0 h) hu rfl
  obtain ⟨M', OM', r1, r2⟩ := ld_exchangeMarks (f_count := (nI O.length)) (f_firstBlock := 0) (f_freeBlock := g'.1) (f_atBlock := g'.2.1) (f_atCell := g'.2.2.1) (f_presentLine := P) (f_otherPresent := OP) (f_changed := 1) (f_steps := (nI SR'.length)) (f_newSteps := nI SR.length) (f_listed := ls) (a_valueOf := W) (a_blockOf := g'.2.2.2.1) (a_needed := N') (a_behind := g'.2.2.2.2.1) (a_size := g'.2.2.2.2.2.1) (a_cell := g'.2.2.2.2.2.2.1) (a_stepSort := g'.2.2.2.2.2.2.2.1) (a_stepPlace := g'.2.2.2.2.2.2.2.2.1) (a_stepLine := g'.2.2.2.2.2.2.2.2.2) (a_newSort := x') (a_newPlace := y') (a_newLine := z') (a_list := li) M OM
  refine ⟨g', N', SR', M', OM', x', y', z', j1, j2, by rw [j3, List.length_nil, Nat.zero_add], r1, ?_⟩
  intro post hp
  have h10 : ¬ (1 : Int32) = 0 := by decide
  have hlt : nI 0 + (-1) < 0 := by decide
  have hw := j4 post 1 (br_t hlt (r2 _ hp))
  refine br_f h10 ⟨SR.length + 1, k2 post (SR.length + 1) (by omega) ⟨129, m2 post 129 (by omega) (nm_r (e' := nI SR.length + (-1)) ?_ ⟨_, hw⟩)⟩⟩
  exact Int32.sub_eq_add_neg _ _
end
end
section
/-! the reference over a list of lines -/
abbrev ld_E : Type := Nat × Nat × Int32
def ld_Y (L : List ld_E) (y : (Nat → Int32) × (Nat → Int32)) : Prop := L.length ≤ 60 ∧ ∀ (i : Nat) (e : ld_E), L[i]? = some e → y.1 i = nI e.2.1 ∧ y.2 i = e.2.2
section
variable {f_count f_lastName f_now f_changed f_oldCount f_oldNow : Int32} {a_marks a_oldNames a_oldValues a_oldMarks a_list : Nat → Int32}
theorem ld_yinsL {p : Nat} {x2 x3 : Int32} : ∀ (d k : Nat) (na va : Nat → Int32), k = p + d → k ≤ 59 → ∃ na' va', (∀ i, (i ≤ p ∨ k < i) → na' i = na i ∧ va' i = va i) ∧ (∀ j, p < j → j ≤ k → na' j = na (j - 1) ∧ va' j = va (j - 1)) ∧ ∀ (post : SY → Prop) n, wY_insert_6 post (nI p) x2 x3 f_count f_lastName f_now f_changed f_oldCount f_oldNow n (nI p) na' va' a_marks a_oldNames a_oldValues a_oldMarks a_list → wY_insert_6 post (nI p) x2 x3 f_count f_lastName f_now f_changed f_oldCount f_oldNow (n + d) (nI k) na va a_marks a_oldNames a_oldValues a_oldMarks a_list := by
  intro d
  induction d with
  | zero =>
    intro k na va hk _
    rw [Nat.add_zero] at hk
    subst hk
    exact ⟨na, va, fun i _ => ⟨rfl, rfl⟩, fun j h1 h2 => absurd h1 (by omega), fun post n h => h⟩
  | succ d ih =>
    intro k na va hk hk5
    obtain ⟨na', va', i1, i2, i3⟩ := ih (k - 1) (upd na k (na (k - 1))) (upd va k (va (k - 1))) (by omega) (by omega)
    refine ⟨na', va', ?_, ?_, ?_⟩
    · intro i hi
      obtain ⟨a, b⟩ := i1 i (by omega)
      rw [a, b, pk_un (by omega), pk_un (by omega)]
      exact ⟨rfl, rfl⟩
    · intro j h1 h2
      by_cases hj : j = k
      · subst hj
        obtain ⟨a, b⟩ := i1 j (by omega)
        rw [a, b, pk_us, pk_us]
        exact ⟨rfl, rfl⟩
      · obtain ⟨a, b⟩ := i2 j h1 (by omega)
        rw [a, b, pk_un (by omega), pk_un (by omega)]
        exact ⟨rfl, rfl⟩
    · intro post n h
      have hnk : ¬ nI k ≤ nI p := nI_ge (by omega) (by omega)
      have hk1 : nI k + (-1) = nI (k - 1) := by
        obtain ⟨m, rfl⟩ : ∃ m, k = m + 1 := ⟨k - 1, by omega⟩
        exact pk_m1 m
      have hk2 : nI k - 1 = nI (k - 1) := by rw [show (1 : Int32) = nI 1 from rfl, pk_sub (by omega)]
      have hv1 : vp_in (nI k - 1) 60 := by rw [hk2]; exact vp_in_nI (by omega) (by decide)
      have hv2 : vp_in (nI k) 60 := vp_in_nI (by omega) (by decide)
      have e0 : (nI k).toNatClampNeg = k := nI_clamp (by omega)
      have e1 : (nI k - 1).toNatClampNeg = k - 1 := by rw [hk2]; exact nI_clamp (by omega)
      exact br_f hnk ⟨hv1, hv2, nm_r (e' := upd na k (na (k - 1))) (by rw [e0, e1]) ⟨hv1, hv2, nm_r (e' := upd va k (va (k - 1))) (by rw [e0, e1]) (nm_r hk1 (i3 post n h))⟩⟩
theorem ld_ytakL {m : Nat} (hm : m ≤ 59) : ∀ (d k : Nat) (na va : Nat → Int32), k + d = m → ∃ na' va', (∀ i, i < k → na' i = na i ∧ va' i = va i) ∧ (∀ j, k ≤ j → j < m → na' j = na (j + 1) ∧ va' j = va (j + 1)) ∧ ∀ (post : SY → Prop) n, d < n → post (nI m, f_lastName, f_now, f_changed, f_oldCount, f_oldNow, na', va', a_marks, a_oldNames, a_oldValues, a_oldMarks, a_list) → wY_takeOut_12 post (nI m) f_lastName f_now f_changed f_oldCount f_oldNow n (nI k) na va a_marks a_oldNames a_oldValues a_oldMarks a_list := by
  intro d
  induction d with
  | zero =>
    intro k na va hk
    refine ⟨na, va, fun i _ => ⟨rfl, rfl⟩, fun j h1 h2 => absurd h1 (by omega), ?_⟩
    intro post n hn hp
    obtain ⟨n, rfl⟩ : ∃ m, n = m + 1 := ⟨n - 1, by omega⟩
    have h1 : nI m ≤ nI k := nI_le (by omega) (by omega)
    exact br_t h1 hp
  | succ d ih =>
    intro k na va hk
    obtain ⟨na', va', i1, i2, i3⟩ := ih (k + 1) (upd na k (na (k + 1))) (upd va k (va (k + 1))) (by omega)
    refine ⟨na', va', ?_, ?_, ?_⟩
    · intro i hi
      obtain ⟨a, b⟩ := i1 i (by omega)
      rw [a, b, pk_un (by omega), pk_un (by omega)]
      exact ⟨rfl, rfl⟩
    · intro j h1 h2
      by_cases hj : j = k
      · subst hj
        obtain ⟨a, b⟩ := i1 j (by omega)
        rw [a, b, pk_us, pk_us]
        exact ⟨rfl, rfl⟩
      · obtain ⟨a, b⟩ := i2 j (by omega) h2
        rw [a, b, pk_un (by omega), pk_un (by omega)]
        exact ⟨rfl, rfl⟩
    · intro post n hn hp
      obtain ⟨n, rfl⟩ : ∃ m, n = m + 1 := ⟨n - 1, by omega⟩
      have hnk : ¬ nI m ≤ nI k := nI_ge (by omega) (by omega)
      have hv1 : vp_in (nI k + 1) 60 := by rw [nI_1]; exact vp_in_nI (by omega) (by decide)
      have hv2 : vp_in (nI k) 60 := vp_in_nI (by omega) (by decide)
      have e0 : (nI k).toNatClampNeg = k := nI_clamp (by omega)
      have e1 : (nI k + 1).toNatClampNeg = k + 1 := by rw [nI_1]; exact nI_clamp (by omega)
      exact br_f hnk ⟨hv1, hv2, nm_r (e' := upd na k (na (k + 1))) (by rw [e0, e1]) ⟨hv1, hv2, nm_r (e' := upd va k (va (k + 1))) (by rw [e0, e1]) (nm_r (nI_1 k) (i3 post n (by omega) hp))⟩⟩
end
section
variable {f_count f_lastName f_now f_changed f_oldCount f_oldNow : Int32} {a_names a_values a_oldNames a_oldValues a_oldMarks a_list : Nat → Int32}
theorem ld_fgtL {id : Int32} : ∀ d k (M : Nat → Int32), k + d = 4 → ∃ M', (∀ m, M' m = if (k ≤ m ∧ m < 4) ∧ M m = id then 0 else M m) ∧ ∀ (post : SY → Prop) n, d < n → post (f_count, f_lastName, f_now, f_changed, f_oldCount, f_oldNow, a_names, a_values, M', a_oldNames, a_oldValues, a_oldMarks, a_list) → wY_forget_2 post id f_count f_lastName f_now f_changed f_oldCount f_oldNow n (nI k) a_names a_values M a_oldNames a_oldValues a_oldMarks a_list := by
  intro d
  induction d with
  | zero =>
    intro k M hk
    refine ⟨M, fun m => (if_neg (by omega)).symm, ?_⟩
    intro post n hn hp
    obtain ⟨n, rfl⟩ : ∃ m, n = m + 1 := ⟨n - 1, by omega⟩
    have h4 : (4 : Int32) ≤ nI k := nI_le (a := 4) (by omega) (by omega)
    exact br_t h4 hp
  | succ d ih =>
    intro k M hk
    have h4 : ¬ (4 : Int32) ≤ nI k := nI_ge (b := 4) (by omega) (by decide)
    have hv : vp_in (nI k) 4 := vp_in_nI (by omega) (by decide)
    have e0 : (nI k).toNatClampNeg = k := nI_clamp (by omega)
    by_cases hM : M k = id
    · obtain ⟨M', i1, i2⟩ := ih (k + 1) (upd M k 0) (by omega)
      refine ⟨M', ?_, ?_⟩
      · intro m
        rw [i1 m]
        by_cases hm : m = k
        · subst hm
          rw [if_neg (by omega), pk_us, if_pos ⟨by omega, hM⟩]
        · rw [pk_un hm]
          by_cases hc : (k + 1 ≤ m ∧ m < 4) ∧ M m = id
          · rw [if_pos hc, if_pos ⟨by omega, hc.2⟩]
          · rw [if_neg hc, if_neg (fun z => hc ⟨by omega, z.2⟩)]
      · intro post n hn hp
        obtain ⟨n, rfl⟩ : ∃ m, n = m + 1 := ⟨n - 1, by omega⟩
        have h1 : M (nI k).toNatClampNeg = id := by rw [e0]; exact hM
        exact br_f h4 ⟨hv, br_t h1 ⟨hv, nm_r (e' := upd M k 0) (by rw [e0]) (nm_r (nI_1 k) (i2 post n (by omega) hp))⟩⟩
    · obtain ⟨M', i1, i2⟩ := ih (k + 1) M (by omega)
      refine ⟨M', ?_, ?_⟩
      · intro m
        rw [i1 m]
        by_cases hm : m = k
        · subst hm
          rw [if_neg (by omega), if_neg (fun z => hM z.2)]
        · by_cases hc : (k + 1 ≤ m ∧ m < 4) ∧ M m = id
          · rw [if_pos hc, if_pos ⟨by omega, hc.2⟩]
          · rw [if_neg hc, if_neg (fun z => hc ⟨by omega, z.2⟩)]
      · intro post n hn hp
        obtain ⟨n, rfl⟩ : ∃ m, n = m + 1 := ⟨n - 1, by omega⟩
        have h1 : ¬ M (nI k).toNatClampNeg = id := by rw [e0]; exact hM
        exact br_f h4 ⟨hv, br_f h1 (nm_r (nI_1 k) (i2 post n (by omega) hp))⟩
end
section
variable {f_count f_lastName f_now f_changed f_oldCount f_oldNow : Int32} {a_names a_values a_marks a_oldNames a_oldValues a_list : Nat → Int32}
theorem ld_sv61 : ∀ d k (OM : Nat → Int32), k + d = 4 → (∀ m, m < k → OM m = a_marks m) → ∃ OM', (∀ m, m < 4 → OM' m = a_marks m) ∧ ∀ (post : SY → Prop) n, d < n → post (f_count, f_lastName, f_now, f_changed, f_oldCount, f_oldNow, a_names, a_values, a_marks, a_oldNames, a_oldValues, OM', a_list) → wY_save_61 post f_count f_lastName f_now f_changed f_oldCount f_oldNow n (nI k) a_names a_values a_marks a_oldNames a_oldValues OM a_list := by
  intro d
  induction d with
  | zero =>
    intro k OM hk h
    refine ⟨OM, fun m hm => h m (by omega), ?_⟩
    intro post n hn hp
    obtain ⟨n, rfl⟩ : ∃ m, n = m + 1 := ⟨n - 1, by omega⟩
    have h4 : (4 : Int32) ≤ nI k := nI_le (a := 4) (by omega) (by omega)
    exact br_t h4 hp
  | succ d ih =>
    intro k OM hk h
    have h4 : ¬ (4 : Int32) ≤ nI k := nI_ge (b := 4) (by omega) (by decide)
    have hv : vp_in (nI k) 4 := vp_in_nI (by omega) (by decide)
    have e0 : (nI k).toNatClampNeg = k := nI_clamp (by omega)
    obtain ⟨OM', i1, i2⟩ := ih (k + 1) (upd OM k (a_marks k)) (by omega) (by
      intro m hm
      by_cases hc : m = k
      · subst hc
        exact pk_us
      · rw [pk_un hc]
        exact h m (by omega))
    refine ⟨OM', i1, ?_⟩
    intro post n hn hp
    obtain ⟨n, rfl⟩ : ∃ m, n = m + 1 := ⟨n - 1, by omega⟩
    exact br_f h4 ⟨hv, hv, nm_r (e' := upd OM k (a_marks k)) (by rw [e0]) (nm_r (nI_1 k) (i2 post n (by omega) hp))⟩
end
section
variable {f_count f_lastName f_now f_changed f_oldCount f_oldNow : Int32} {a_names a_values a_marks a_oldMarks a_list : Nat → Int32}
theorem ld_sv23 : ∀ d k (on ov : Nat → Int32), k + d = 60 → (∀ m, m < k → on m = a_names m ∧ ov m = a_values m) → ∃ on' ov', (∀ m, m < 60 → on' m = a_names m ∧ ov' m = a_values m) ∧ ∀ (post : SY → Prop) n, d < n → (∃ n61, wY_save_61 post f_count f_lastName f_now f_changed f_oldCount f_oldNow n61 0 a_names a_values a_marks on' ov' a_oldMarks a_list) → wY_save_23 post f_count f_lastName f_now f_changed f_oldCount f_oldNow n (nI k) a_names a_values a_marks on ov a_oldMarks a_list := by
  intro d
  induction d with
  | zero =>
    intro k on ov hk h
    refine ⟨on, ov, fun m hm => h m (by omega), ?_⟩
    intro post n hn hp
    obtain ⟨n, rfl⟩ : ∃ m, n = m + 1 := ⟨n - 1, by omega⟩
    have h4 : (60 : Int32) ≤ nI k := nI_le (a := 60) (by omega) (by omega)
    exact br_t h4 hp
  | succ d ih =>
    intro k on ov hk h
    have h4 : ¬ (60 : Int32) ≤ nI k := nI_ge (b := 60) (by omega) (by decide)
    have hv : vp_in (nI k) 60 := vp_in_nI (by omega) (by decide)
    have e0 : (nI k).toNatClampNeg = k := nI_clamp (by omega)
    obtain ⟨on', ov', i1, i2⟩ := ih (k + 1) (upd on k (a_names k)) (upd ov k (a_values k)) (by omega) (by
      intro m hm
      by_cases hc : m = k
      · subst hc
        exact ⟨pk_us, pk_us⟩
      · rw [pk_un hc, pk_un hc]
        exact h m (by omega))
    refine ⟨on', ov', i1, ?_⟩
    intro post n hn hp
    obtain ⟨n, rfl⟩ : ∃ m, n = m + 1 := ⟨n - 1, by omega⟩
    exact br_f h4 ⟨hv, hv, nm_r (e' := upd on k (a_names k)) (by rw [e0]) ⟨hv, hv, nm_r (e' := upd ov k (a_values k)) (by rw [e0]) (nm_r (nI_1 k) (i2 post n (by omega) hp))⟩⟩
end
section
variable {f_count f_lastName f_now f_changed f_oldCount f_oldNow : Int32} {a_names a_values a_oldNames a_oldValues a_list : Nat → Int32}
theorem ld_yu77 : ∀ d k (M OM : Nat → Int32), k + d = 4 → ∃ M' OM', (∀ m, m < 4 → k ≤ m → M' m = OM m ∧ OM' m = M m) ∧ (∀ m, m < k → M' m = M m ∧ OM' m = OM m) ∧ ∀ (post : Int32 → SY → Prop) n, d < n → post 1 (f_oldCount, f_lastName, f_oldNow, f_changed, f_count, f_now, a_names, a_values, M', a_oldNames, a_oldValues, OM', a_list) → wY_undo_77 post f_count f_lastName f_now f_changed f_oldCount f_oldNow n (nI k) a_names a_values M a_oldNames a_oldValues OM a_list := by
  intro d
  induction d with
  | zero =>
    intro k M OM hk
    refine ⟨M, OM, fun m h1 h2 => absurd h2 (by omega), fun m _ => ⟨rfl, rfl⟩, ?_⟩
    intro post n hn hp
    obtain ⟨n, rfl⟩ : ∃ m, n = m + 1 := ⟨n - 1, by omega⟩
    have h4 : (4 : Int32) ≤ nI k := nI_le (a := 4) (by omega) (by omega)
    exact br_t h4 hp
  | succ d ih =>
    intro k M OM hk
    have h4 : ¬ (4 : Int32) ≤ nI k := nI_ge (b := 4) (by omega) (by decide)
    have hv : vp_in (nI k) 4 := vp_in_nI (by omega) (by decide)
    have e0 : (nI k).toNatClampNeg = k := nI_clamp (by omega)
    obtain ⟨M', OM', i1, i2, i3⟩ := ih (k + 1) (upd M k (OM k)) (upd OM k (M k)) (by omega)
    refine ⟨M', OM', ?_, ?_, ?_⟩
    · intro m h1 h2
      by_cases hc : m = k
      · subst hc
        obtain ⟨a, b⟩ := i2 m (by omega)
        rw [a, b, pk_us, pk_us]
        exact ⟨rfl, rfl⟩
      · obtain ⟨a, b⟩ := i1 m h1 (by omega)
        rw [a, b, pk_un hc, pk_un hc]
        exact ⟨rfl, rfl⟩
    · intro m h1
      obtain ⟨a, b⟩ := i2 m (by omega)
      rw [a, b, pk_un (by omega), pk_un (by omega)]
      exact ⟨rfl, rfl⟩
    · intro post n hn hp
      obtain ⟨n, rfl⟩ : ∃ m, n = m + 1 := ⟨n - 1, by omega⟩
      exact br_f h4 ⟨hv, nm_r (e' := M k) (by rw [e0]) ⟨hv, hv, nm_r (e' := upd M k (OM k)) (by rw [e0]) ⟨hv, nm_r (e' := upd OM k (M k)) (by rw [e0]) (nm_r (nI_1 k) (i3 post n (by omega) hp))⟩⟩⟩
end
section
variable {f_count f_lastName f_now f_changed f_oldCount f_oldNow : Int32} {a_marks a_oldMarks a_list : Nat → Int32}
theorem ld_yu11 : ∀ d k (na va on ov : Nat → Int32), k + d = 60 → ∃ na' va' on' ov', (∀ m, m < 60 → k ≤ m → na' m = on m ∧ va' m = ov m ∧ on' m = na m ∧ ov' m = va m) ∧ (∀ m, m < k → na' m = na m ∧ va' m = va m ∧ on' m = on m ∧ ov' m = ov m) ∧ ∀ (post : Int32 → SY → Prop) n, d < n → (∃ n77, wY_undo_77 post f_count f_lastName f_now f_changed f_oldCount f_oldNow n77 0 na' va' a_marks on' ov' a_oldMarks a_list) → wY_undo_11 post f_count f_lastName f_now f_changed f_oldCount f_oldNow n (nI k) na va a_marks on ov a_oldMarks a_list := by
  intro d
  induction d with
  | zero =>
    intro k na va on ov hk
    refine ⟨na, va, on, ov, fun m h1 h2 => absurd h2 (by omega), fun m _ => ⟨rfl, rfl, rfl, rfl⟩, ?_⟩
    intro post n hn hp
    obtain ⟨n, rfl⟩ : ∃ m, n = m + 1 := ⟨n - 1, by omega⟩
    have h4 : (60 : Int32) ≤ nI k := nI_le (a := 60) (by omega) (by omega)
    exact br_t h4 hp
  | succ d ih =>
    intro k na va on ov hk
    have h4 : ¬ (60 : Int32) ≤ nI k := nI_ge (b := 60) (by omega) (by decide)
    have hv : vp_in (nI k) 60 := vp_in_nI (by omega) (by decide)
    have e0 : (nI k).toNatClampNeg = k := nI_clamp (by omega)
    obtain ⟨na', va', on', ov', i1, i2, i3⟩ := ih (k + 1) (upd na k (on k)) (upd va k (ov k)) (upd on k (na k)) (upd ov k (va k)) (by omega)
    refine ⟨na', va', on', ov', ?_, ?_, ?_⟩
    · intro m h1 h2
      by_cases hc : m = k
      · subst hc
        obtain ⟨a, b, c, d⟩ := i2 m (by omega)
        rw [a, b, c, d, pk_us, pk_us, pk_us, pk_us]
        exact ⟨rfl, rfl, rfl, rfl⟩
      · obtain ⟨a, b, c, d⟩ := i1 m h1 (by omega)
        rw [a, b, c, d, pk_un hc, pk_un hc, pk_un hc, pk_un hc]
        exact ⟨rfl, rfl, rfl, rfl⟩
    · intro m h1
      obtain ⟨a, b, c, d⟩ := i2 m (by omega)
      rw [a, b, c, d, pk_un (by omega), pk_un (by omega), pk_un (by omega), pk_un (by omega)]
      exact ⟨rfl, rfl, rfl, rfl⟩
    · intro post n hn hp
      obtain ⟨n, rfl⟩ : ∃ m, n = m + 1 := ⟨n - 1, by omega⟩
      exact br_f h4 ⟨hv, nm_r (e' := na k) (by rw [e0]) ⟨hv, nm_r (e' := va k) (by rw [e0]) ⟨hv, hv, nm_r (e' := upd na k (on k)) (by rw [e0]) ⟨hv, hv, nm_r (e' := upd va k (ov k)) (by rw [e0]) ⟨hv, nm_r (e' := upd on k (na k)) (by rw [e0]) ⟨hv, nm_r (e' := upd ov k (va k)) (by rw [e0]) (nm_r (nI_1 k) (i3 post n (by omega) hp))⟩⟩⟩⟩⟩⟩
end
section
variable (ln : Nat) (now ych oc onow : Int32) (ms on ov oms yl : Nat → Int32) {L : List ld_E} {y : (Nat → Int32) × (Nat → Int32)}
theorem ld_Yinsert {p nm : Nat} {v : Int32} (id : Nat) (h : ld_Y L y) (hp : p ≤ L.length) (hL : L.length < 60) : ∃ y', ld_Y (ld_ins L p (id, nm, v)) y' ∧ ∀ (post : SY → Prop), post ((nI (ld_ins L p (id, nm, v)).length), (nI ln), now, ych, oc, onow, y'.1, y'.2, ms, on, ov, oms, yl) → wpY_insert post ((nI L.length), (nI ln), now, ych, oc, onow, y.1, y.2, ms, on, ov, oms, yl) (nI p) (nI nm) v := by
  obtain ⟨na', va', i1, i2, i3⟩ := ld_yinsL (f_count := (nI L.length)) (f_lastName := (nI ln)) (f_now := now) (f_changed := ych) (f_oldCount := oc) (f_oldNow := onow) (a_marks := ms) (a_oldNames := on) (a_oldValues := ov) (a_oldMarks := oms) (a_list := yl) (p := p) (x2 := nI nm) (x3 := v) (L.length - p) L.length y.1 y.2 (by omega) (by omega)
  have hlen := ld_insL (e := ((id, nm, v) : ld_E)) hp
  refine ⟨(upd na' p (nI nm), upd va' p v), ⟨by omega, ?_⟩, ?_⟩
  · intro i e he
    rw [ld_insG hp] at he
    show upd na' p (nI nm) i = nI e.2.1 ∧ upd va' p v i = e.2.2
    by_cases h1 : i < p
    · rw [if_pos h1] at he
      obtain ⟨a, b⟩ := i1 i (by omega)
      rw [pk_un (by omega), pk_un (by omega), a, b]
      exact h.2 i e he
    · rw [if_neg h1] at he
      by_cases h2 : i = p
      · subst h2
        rw [if_pos rfl] at he
        have he := Option.some.inj he
        subst he
        exact ⟨pk_us, pk_us⟩
      · rw [if_neg h2] at he
        have hlt := ld_lt he
        obtain ⟨a, b⟩ := i2 i (by omega) (by omega)
        rw [pk_un h2, pk_un h2, a, b]
        exact h.2 (i - 1) e he
  · intro post hpo
    rw [hlen] at hpo
    have hv : vp_in (nI p) 60 := vp_in_nI (by omega) (by decide)
    have e0 : (nI p).toNatClampNeg = p := nI_clamp (by omega)
    exact ⟨_, i3 post 1 (br_t (Int32.le_refl _) ⟨hv, nm_r (e' := upd na' p (nI nm)) (by rw [e0]) ⟨hv, nm_r (e' := upd va' p v) (by rw [e0]) (nm_r (nI_1 _) hpo)⟩⟩)⟩
theorem ld_YtakeOut {p : Nat} {e : ld_E} (h : ld_Y L y) (he : L[p]? = some e) : ∃ y', ld_Y (ld_del L p) y' ∧ ∀ (post : SY → Prop), post ((nI (ld_del L p).length), (nI ln), now, ych, oc, onow, y'.1, y'.2, ms, on, ov, oms, yl) → wpY_takeOut post ((nI L.length), (nI ln), now, ych, oc, onow, y.1, y.2, ms, on, ov, oms, yl) (nI p) := by
  have hlen := ld_delL he
  have hpl := ld_lt he
  have h60 := h.1
  obtain ⟨na', va', i1, i2, i3⟩ := ld_ytakL (f_lastName := (nI ln)) (f_now := now) (f_changed := ych) (f_oldCount := oc) (f_oldNow := onow) (a_marks := ms) (a_oldNames := on) (a_oldValues := ov) (a_oldMarks := oms) (a_list := yl) (m := L.length - 1) (by omega) (L.length - 1 - p) p y.1 y.2 (by omega)
  refine ⟨(na', va'), ⟨by omega, ?_⟩, ?_⟩
  · intro i e' he'
    rw [ld_delG he] at he'
    show na' i = nI e'.2.1 ∧ va' i = e'.2.2
    by_cases h1 : i < p
    · rw [if_pos h1] at he'
      obtain ⟨a, b⟩ := i1 i h1
      rw [a, b]
      exact h.2 i e' he'
    · rw [if_neg h1] at he'
      have hlt := ld_lt he'
      obtain ⟨a, b⟩ := i2 i (by omega) (by omega)
      rw [a, b]
      exact h.2 (i + 1) e' he'
  · intro post hpo
    rw [show (ld_del L p).length = L.length - 1 by omega] at hpo
    exact nm_r (e' := nI (L.length - 1)) (by rw [show (1 : Int32) = nI 1 from rfl, pk_sub (by omega)]) ⟨L.length - 1 - p + 1, i3 post _ (by omega) hpo⟩
theorem ld_Yforget (id : Int32) : ∃ ms', (∀ m, m < 4 → ms' m = if ms m = id then 0 else ms m) ∧ ∀ (post : SY → Prop), post ((nI L.length), (nI ln), now, ych, oc, onow, y.1, y.2, ms', on, ov, oms, yl) → wpY_forget post ((nI L.length), (nI ln), now, ych, oc, onow, y.1, y.2, ms, on, ov, oms, yl) id := by
  obtain ⟨M', i1, i2⟩ := ld_fgtL (f_count := (nI L.length)) (f_lastName := (nI ln)) (f_now := now) (f_changed := ych) (f_oldCount := oc) (f_oldNow := onow) (a_names := y.1) (a_values := y.2) (a_oldNames := on) (a_oldValues := ov) (a_oldMarks := oms) (a_list := yl) (id := id) 4 0 ms (by omega)
  refine ⟨M', ?_, fun post hp => ⟨5, i2 post 5 (by omega) hp⟩⟩
  intro m hm
  rw [i1 m]
  by_cases hc : ms m = id
  · rw [if_pos ⟨by omega, hc⟩, if_pos hc]
  · rw [if_neg (fun z => hc z.2), if_neg hc]
theorem ld_YplaceOf {p : Nat} {e : ld_E} (h : ld_Y L y) (he : L[p]? = some e) (hb : ∀ d ∈ L, d.2.1 < 2 ^ 31) (hn : (L.map (fun d => d.2.1)).Nodup) (post : Int32 → Prop) (hp : post (nI p)) : wpY_placeOf post ((nI L.length), (nI ln), now, ych, oc, onow, y.1, y.2, ms, on, ov, oms, yl) (nI e.2.1) := by
  have hpl := ld_lt he
  have h60 := h.1
  have key : ∀ d k, k + d = p → wY_placeOf_2 post (nI e.2.1) (nI L.length) (nI ln) now ych oc onow y.1 y.2 ms on ov oms yl (d + 1) (nI k) := by
    intro d
    induction d with
    | zero =>
      intro k hk
      have hk : k = p := by omega
      subst hk
      have h1 : ¬ nI L.length ≤ nI k := nI_ge (by omega) (by omega)
      have e0 : (nI k).toNatClampNeg = k := nI_clamp (by omega)
      have h2 : y.1 (nI k).toNatClampNeg = nI e.2.1 := by rw [e0]; exact (h.2 k e he).1
      exact br_f h1 ⟨vp_in_nI (by omega) (by decide), br_t h2 hp⟩
    | succ d ih =>
      intro k hk
      have h1 : ¬ nI L.length ≤ nI k := nI_ge (by omega) (by omega)
      have e0 : (nI k).toNatClampNeg = k := nI_clamp (by omega)
      obtain ⟨u, hu⟩ := ld_some (L := L) (p := k) (by omega)
      have h2 : ¬ y.1 (nI k).toNatClampNeg = nI e.2.1 := by
        rw [e0, (h.2 k u hu).1, nI_eq (hb u (List.mem_of_getElem? hu)) (hb e (List.mem_of_getElem? he))]
        intro z
        have hk2 : (L.map (fun d => d.2.1))[k]? = some e.2.1 := by rw [List.getElem?_map, hu, Option.map_some, z]
        have hp2 : (L.map (fun d => d.2.1))[p]? = some e.2.1 := by rw [List.getElem?_map, he, Option.map_some]
        have := ld_injG hn hk2 hp2
        omega
      exact br_f h1 ⟨vp_in_nI (by omega) (by decide), br_f h2 (nm_r (nI_1 k) (ih (k + 1) (by omega)))⟩
  exact ⟨p + 1, key p 0 (by omega)⟩
theorem ld_Ysave : ∃ on' ov' oms', (∀ m, m < 60 → on' m = y.1 m ∧ ov' m = y.2 m) ∧ (∀ m, m < 4 → oms' m = ms m) ∧ ∀ (post : SY → Prop), post ((nI L.length), (nI ln), now, 1, nI L.length, now, y.1, y.2, ms, on', ov', oms', yl) → wpY_save post ((nI L.length), (nI ln), now, ych, oc, onow, y.1, y.2, ms, on, ov, oms, yl) := by
  obtain ⟨on', ov', i1, i2⟩ := ld_sv23 (f_count := (nI L.length)) (f_lastName := (nI ln)) (f_now := now) (f_changed := 1) (f_oldCount := nI L.length) (f_oldNow := now) (a_names := y.1) (a_values := y.2) (a_marks := ms) (a_oldMarks := oms) (a_list := yl) 60 0 on ov (by omega) (fun m hm => absurd hm (by omega))
  obtain ⟨oms', j1, j2⟩ := ld_sv61 (f_count := (nI L.length)) (f_lastName := (nI ln)) (f_now := now) (f_changed := 1) (f_oldCount := nI L.length) (f_oldNow := now) (a_names := y.1) (a_values := y.2) (a_marks := ms) (a_oldNames := on') (a_oldValues := ov') (a_list := yl) 4 0 oms (by omega) (fun m hm => absurd hm (by omega))
  exact ⟨on', ov', oms', i1, j1, fun post hp => ⟨61, i2 post 61 (by omega) ⟨5, j2 post 5 (by omega) hp⟩⟩⟩
theorem ld_Yundo : ∃ na' va' on' ov' ms' oms', (∀ m, m < 60 → na' m = on m ∧ va' m = ov m ∧ on' m = y.1 m ∧ ov' m = y.2 m) ∧ (∀ m, m < 4 → ms' m = oms m ∧ oms' m = ms m) ∧ ∀ (post : Int32 → SY → Prop), post 1 (oc, (nI ln), onow, 1, nI L.length, now, na', va', ms', on', ov', oms', yl) → wpY_undo post ((nI L.length), (nI ln), now, 1, oc, onow, y.1, y.2, ms, on, ov, oms, yl) := by
  obtain ⟨na', va', on', ov', i1, _, i3⟩ := ld_yu11 (f_count := (nI L.length)) (f_lastName := (nI ln)) (f_now := now) (f_changed := 1) (f_oldCount := oc) (f_oldNow := onow) (a_marks := ms) (a_oldMarks := oms) (a_list := yl) 60 0 y.1 y.2 on ov (by omega)
  obtain ⟨ms', oms', j1, _, j3⟩ := ld_yu77 (f_count := (nI L.length)) (f_lastName := (nI ln)) (f_now := now) (f_changed := 1) (f_oldCount := oc) (f_oldNow := onow) (a_names := na') (a_values := va') (a_oldNames := on') (a_oldValues := ov') (a_list := yl) 4 0 ms oms (by omega)
  refine ⟨na', va', on', ov', ms', oms', fun m hm => i1 m hm (by omega), fun m hm => j1 m hm (by omega), ?_⟩
  intro post hp
  have h10 : ¬ (1 : Int32) = 0 := by decide
  exact br_f h10 ⟨61, i3 post 61 (by omega) ⟨5, j3 post 5 (by omega) hp⟩⟩
end
end
section
/-! the relation -/
def ld_ids (L : List ld_E) : List Nat := L.map (fun e => e.1)
def ld_nms (L : List ld_E) : List Nat := L.map (fun e => e.2.1)
def ld_vl (V : Nat → Int32) (L : List ld_E) : Prop := ∀ e ∈ L, V e.1 = e.2.2
def ld_nm (L : List ld_E) (ln : Nat) : Prop := (ld_nms L).Nodup ∧ ∀ e ∈ L, 0 < e.2.1 ∧ e.2.1 ≤ ln
def ld_mk (L : List ld_E) (x y : Int32) : Prop := (x = -1 ∧ y = 0) ∨ ∃ e ∈ L, x = nI e.1 ∧ y = nI e.2.1
def ld_mks (L : List ld_E) (M ms : Nat → Int32) : Prop := ∀ m, m < 4 → ld_mk L (M m) (ms m)
def ld_pr (L : List ld_E) (P now : Int32) : Prop := (L = [] ∧ P = -1 ∧ now = 0) ∨ ∃ e ∈ L, P = nI e.1 ∧ now = nI e.2.1
/-- the state on the other side of the step back -/
def ld_Ot (O : List ld_E) (ln : Nat) (OM oms : Nat → Int32) (OP onow oc : Int32) (on ov : Nat → Int32) : Prop := oc = nI O.length ∧ ld_Y O (on, ov) ∧ ld_nm O ln ∧ ld_mks O OM oms ∧ ld_pr O OP onow
/-- within a change -/
def ld_D (O : List ld_E) (W : Nat → Int32) (L : List ld_E) (SR : List ld_St) (g : ld_GX) (V M : Nat → Int32) (y : (Nat → Int32) × (Nat → Int32)) (ln : Nat) (ms : Nat → Int32) : Prop := ld_I (ld_ids L) SR g ∧ ld_Y L y ∧ ld_vl V L ∧ ld_nm L ln ∧ ld_mks L M ms ∧ ld_un SR (ld_ids L, V) (ld_ids O, W) ∧ ld_vl W O
def ld_R (k : Nat) (L : List ld_E) (SR : List ld_St) (g : ld_GX) (P OP ch : Int32) (V M OM : Nat → Int32) (y : (Nat → Int32) × (Nat → Int32)) (ln : Nat) (now oc onow : Int32) (ms on ov oms : Nat → Int32) : Prop :=
  ld_I (ld_ids L) SR g ∧ ld_Y L y ∧ ld_vl V L ∧ ld_nm L ln ∧ ld_mks L M ms ∧ ld_pr L P now ∧ ln ≤ 12 * k ∧ (ch = 0 ∨ (ch = 1 ∧ SR.length ≤ 120 ∧ ∃ O W, ld_un SR (ld_ids L, V) (ld_ids O, W) ∧ ld_vl W O ∧ ld_Ot O ln OM oms OP onow oc on ov))
/-- the relation at the head of a turn -/
def i_Rel (k : Nat) (u : SX) (v : SY) : Prop := ∃ (L : List ld_E) (SR : List ld_St) (g : ld_GX) (P OP ch ns ls : Int32) (V N M OM nS nP nL li : Nat → Int32) (y : (Nat → Int32) × (Nat → Int32)) (ln : Nat) (now oc onow : Int32) (ms on ov oms yl : Nat → Int32), u = ((nI (ld_ids L).length), 0, g.1, g.2.1, g.2.2.1, P, OP, ch, (nI SR.length), ns, ls, V, g.2.2.2.1, N, g.2.2.2.2.1, g.2.2.2.2.2.1, g.2.2.2.2.2.2.1, M, OM, g.2.2.2.2.2.2.2.1, g.2.2.2.2.2.2.2.2.1, g.2.2.2.2.2.2.2.2.2, nS, nP, nL, li) ∧ v = ((nI L.length), (nI ln), now, ch, oc, onow, y.1, y.2, ms, on, ov, oms, yl) ∧ ld_R k L SR g P OP ch V M OM y ln now oc onow ms on ov oms
theorem ld_mkRel {k : Nat} {L : List ld_E} {SR : List ld_St} {g : ld_GX} {P OP ch ns ls : Int32} {V N M OM nS nP nL li : Nat → Int32} {y : (Nat → Int32) × (Nat → Int32)} {ln : Nat} {now oc onow : Int32} {ms on ov oms yl : Nat → Int32} (h : ld_R k L SR g P OP ch V M OM y ln now oc onow ms on ov oms) : i_Rel k ((nI (ld_ids L).length), 0, g.1, g.2.1, g.2.2.1, P, OP, ch, (nI SR.length), ns, ls, V, g.2.2.2.1, N, g.2.2.2.2.1, g.2.2.2.2.2.1, g.2.2.2.2.2.2.1, M, OM, g.2.2.2.2.2.2.2.1, g.2.2.2.2.2.2.2.2.1, g.2.2.2.2.2.2.2.2.2, nS, nP, nL, li) ((nI L.length), (nI ln), now, ch, oc, onow, y.1, y.2, ms, on, ov, oms, yl) :=
  ⟨L, SR, g, P, OP, ch, ns, ls, V, N, M, OM, nS, nP, nL, li, y, ln, now, oc, onow, ms, on, ov, oms, yl, rfl, rfl, h⟩
theorem ld_el {k : Nat} {Q : SX → SY → Prop} (hQ : ∀ (L : List ld_E) (SR : List ld_St) (g : ld_GX) (P OP ch ns ls : Int32) (V N M OM nS nP nL li : Nat → Int32) (y : (Nat → Int32) × (Nat → Int32)) (ln : Nat) (now oc onow : Int32) (ms on ov oms yl : Nat → Int32), ld_R k L SR g P OP ch V M OM y ln now oc onow ms on ov oms → Q ((nI (ld_ids L).length), 0, g.1, g.2.1, g.2.2.1, P, OP, ch, (nI SR.length), ns, ls, V, g.2.2.2.1, N, g.2.2.2.2.1, g.2.2.2.2.2.1, g.2.2.2.2.2.2.1, M, OM, g.2.2.2.2.2.2.2.1, g.2.2.2.2.2.2.2.2.1, g.2.2.2.2.2.2.2.2.2, nS, nP, nL, li) ((nI L.length), (nI ln), now, ch, oc, onow, y.1, y.2, ms, on, ov, oms, yl)) {u : SX} {v : SY} (h : i_Rel k u v) : Q u v := by
  obtain ⟨L, SR, g, P, OP, ch, ns, ls, V, N, M, OM, nS, nP, nL, li, y, ln, now, oc, onow, ms, on, ov, oms, yl, rfl, rfl, h⟩ := h
  exact hQ L SR g P OP ch ns ls V N M OM nS nP nL li y ln now oc onow ms on ov oms yl h
theorem ld_Rup {k k' : Nat} {L : List ld_E} {SR : List ld_St} {g : ld_GX} {P OP ch : Int32} {V M OM : Nat → Int32} {y : (Nat → Int32) × (Nat → Int32)} {ln : Nat} {now oc onow : Int32} {ms on ov oms : Nat → Int32} (h : ld_R k L SR g P OP ch V M OM y ln now oc onow ms on ov oms) (hk : k ≤ k') : ld_R k' L SR g P OP ch V M OM y ln now oc onow ms on ov oms := by
  obtain ⟨h1, h2, h3, h4, h5, h6, h7, h8⟩ := h
  exact ⟨h1, h2, h3, h4, h5, h6, by omega, h8⟩
theorem i_up {k : Nat} {u : SX} {v : SY} (h : i_Rel k u v) : i_Rel (k + 5) u v := by
  refine ld_el (Q := fun u v => i_Rel (k + 5) u v) ?_ h
  intro L SR g P OP ch ns ls V N M OM nS nP nL li y ln now oc onow ms on ov oms yl h
  exact ld_mkRel (ld_Rup h (by omega))
theorem ld_idsL (L : List ld_E) : (ld_ids L).length = L.length := List.length_map ..
theorem ld_idsG {L : List ld_E} {i : Nat} {e : ld_E} (h : L[i]? = some e) : (ld_ids L)[i]? = some e.1 := by
  unfold ld_ids
  rw [List.getElem?_map, h, Option.map_some]
theorem ld_nmsG {L : List ld_E} {i : Nat} {e : ld_E} (h : L[i]? = some e) : (ld_nms L)[i]? = some e.2.1 := by
  unfold ld_nms
  rw [List.getElem?_map, h, Option.map_some]
theorem ld_idsM {L : List ld_E} {e : ld_E} (h : e ∈ L) : e.1 ∈ ld_ids L := List.mem_map_of_mem (f := fun e : ld_E => e.1) h
theorem ld_nmsM {L : List ld_E} {e : ld_E} (h : e ∈ L) : e.2.1 ∈ ld_nms L := List.mem_map_of_mem (f := fun e : ld_E => e.2.1) h
theorem ld_idsIns (L : List ld_E) (p : Nat) (e : ld_E) : ld_ids (ld_ins L p e) = ld_ins (ld_ids L) p e.1 := ld_mapIns _ _ _ _
theorem ld_idsDel (L : List ld_E) (p : Nat) : ld_ids (ld_del L p) = ld_del (ld_ids L) p := ld_mapDel _ _ _
theorem ld_nmsIns (L : List ld_E) (p : Nat) (e : ld_E) : ld_nms (ld_ins L p e) = ld_ins (ld_nms L) p e.2.1 := ld_mapIns _ _ _ _
theorem ld_nmsDel (L : List ld_E) (p : Nat) : ld_nms (ld_del L p) = ld_del (ld_nms L) p := ld_mapDel _ _ _
/-- equal ids, equal lines -/
theorem ld_idInj {L : List ld_E} (hn : (ld_ids L).Nodup) {d e : ld_E} (hd : d ∈ L) (he : e ∈ L) (h : d.1 = e.1) : d = e := by
  obtain ⟨i, hi⟩ := List.getElem?_of_mem hd
  obtain ⟨j, hj⟩ := List.getElem?_of_mem he
  have h1 := ld_idsG hi
  have h2 := ld_idsG hj
  rw [h] at h1
  have := ld_injG hn h1 h2
  subst this
  rw [hi] at hj
  exact Option.some.inj hj
theorem ld_nmInj {L : List ld_E} (hn : (ld_nms L).Nodup) {d e : ld_E} (hd : d ∈ L) (he : e ∈ L) (h : d.2.1 = e.2.1) : d = e := by
  obtain ⟨i, hi⟩ := List.getElem?_of_mem hd
  obtain ⟨j, hj⟩ := List.getElem?_of_mem he
  have h1 := ld_nmsG hi
  have h2 := ld_nmsG hj
  rw [h] at h1
  have := ld_injG hn h1 h2
  subst this
  rw [hi] at hj
  exact Option.some.inj hj
theorem ld_mkMono {L L' : List ld_E} (h : ∀ e ∈ L, ∃ e' ∈ L', e'.1 = e.1 ∧ e'.2.1 = e.2.1) {x y : Int32} (hm : ld_mk L x y) : ld_mk L' x y := by
  rcases hm with hm | ⟨e, he, h1, h2⟩
  · exact Or.inl hm
  · obtain ⟨e', he', h3, h4⟩ := h e he
    exact Or.inr ⟨e', he', by rw [h3]; exact h1, by rw [h4]; exact h2⟩
theorem ld_mksMono {L L' : List ld_E} (h : ∀ e ∈ L, ∃ e' ∈ L', e'.1 = e.1 ∧ e'.2.1 = e.2.1) {M ms : Nat → Int32} (hm : ld_mks L M ms) : ld_mks L' M ms := fun m hl => ld_mkMono h (hm m hl)
theorem ld_mksEq {L : List ld_E} {M ms M' ms' : Nat → Int32} (hm : ld_mks L M ms) (h1 : ∀ m, m < 4 → M' m = M m) (h2 : ∀ m, m < 4 → ms' m = ms m) : ld_mks L M' ms' := by
  intro m hl
  rw [h1 m hl, h2 m hl]
  exact hm m hl
theorem ld_YEq {L : List ld_E} {y : (Nat → Int32) × (Nat → Int32)} {on ov : Nat → Int32} (h : ld_Y L y) (he : ∀ m, m < 60 → on m = y.1 m ∧ ov m = y.2 m) : ld_Y L (on, ov) := by
  refine ⟨h.1, ?_⟩
  intro i e hi
  have hlt := ld_lt hi
  have h60 := h.1
  obtain ⟨a, b⟩ := he i (by omega)
  show on i = nI e.2.1 ∧ ov i = e.2.2
  rw [a, b]
  exact h.2 i e hi
theorem ld_nmUp {L : List ld_E} {ln ln' : Nat} (h : ld_nm L ln) (hl : ln ≤ ln') : ld_nm L ln' := ⟨h.1, fun e he => ⟨(h.2 e he).1, by have := (h.2 e he).2; omega⟩⟩
theorem ld_OtUp {O : List ld_E} {ln ln' : Nat} {OM oms : Nat → Int32} {OP onow oc : Int32} {on ov : Nat → Int32} (h : ld_Ot O ln OM oms OP onow oc on ov) (hl : ln ≤ ln') : ld_Ot O ln' OM oms OP onow oc on ov := ⟨h.1, h.2.1, ld_nmUp h.2.2.1 hl, h.2.2.2⟩
/-- a change begins -/
theorem ld_Dbegin {k : Nat} {L : List ld_E} {SR : List ld_St} {g : ld_GX} {P OP ch : Int32} {V M OM : Nat → Int32} {y : (Nat → Int32) × (Nat → Int32)} {ln : Nat} {now oc onow : Int32} {ms on ov oms OM' on' ov' oms' : Nat → Int32} (h : ld_R k L SR g P OP ch V M OM y ln now oc onow ms on ov oms) (h1 : ∀ m, m < 4 → OM' m = M m) (h2 : ∀ m, m < 60 → on' m = y.1 m ∧ ov' m = y.2 m) (h3 : ∀ m, m < 4 → oms' m = ms m) : ld_D L V L [] g V M y ln ms ∧ ld_Ot L ln OM' oms' P now (nI L.length) on' ov' := by
  obtain ⟨r1, r2, r3, r4, r5, r6, r7, r8⟩ := h
  exact ⟨⟨ld_I0 r1, r2, r3, r4, r5, rfl, r3⟩, rfl, ld_YEq r2 h2, r4, ld_mksEq r5 h1 h3, r6⟩
/-- a change ends -/
theorem ld_Dend {k : Nat} {O L : List ld_E} {W : Nat → Int32} {SR : List ld_St} {g : ld_GX} {P OP : Int32} {V M OM : Nat → Int32} {y : (Nat → Int32) × (Nat → Int32)} {ln : Nat} {now oc onow : Int32} {ms on ov oms : Nat → Int32} (h : ld_D O W L SR g V M y ln ms) (ho : ld_Ot O ln OM oms OP onow oc on ov) (hp : ld_pr L P now) (hs : SR.length ≤ 120) (hl : ln ≤ 12 * k) : ld_R k L SR g P OP 1 V M OM y ln now oc onow ms on ov oms := by
  obtain ⟨d1, d2, d3, d4, d5, d6, d7⟩ := h
  exact ⟨d1, d2, d3, d4, d5, hp, hl, Or.inr ⟨rfl, hs, O, W, d6, d7, ho⟩⟩
end
section
/-! calls that read or set a mark, and the step back -/
theorem ld_pos {x : Int32} (h : ¬ x < 1) : ∃ p, p + 1 < 2 ^ 31 ∧ x = nI (p + 1) := by
  have h0 : ¬ x < 0 := by
    intro z
    apply h
    rw [Int32.lt_iff_toInt_lt] at z ⊢
    have e0 : (0 : Int32).toInt = 0 := by decide
    have e1 : (1 : Int32).toInt = 1 := by decide
    omega
  obtain ⟨j, hj, rfl⟩ := nI_of h0
  cases j with
  | zero => exact absurd (by decide) h
  | succ j => exact ⟨j, hj, rfl⟩
/-- the number of a marked line -/
theorem ld_num {P OP ch ns ls : Int32} {V N M OM nS nP nL li : Nat → Int32} {ln : Nat} {now ych oc onow : Int32} {ms on ov oms yl : Nat → Int32} {L : List ld_E} {SR : List ld_St} {g : ld_GX} {y : (Nat → Int32) × (Nat → Int32)} (hI : ld_I (ld_ids L) SR g) (hY : ld_Y L y) (hn : ld_nm L ln) (hl : ln ≤ 1000000) {x z : Int32} {e : ld_E} (he : e ∈ L) (hx : x = nI e.1) (hz : z = nI e.2.1) : ∃ p, L[p]? = some e ∧ (0 ≤ x) ∧ (¬ z = 0) ∧ (∀ (post : Int32 → Prop), post (nI (p + 1)) → wpX_numberOf post ((nI (ld_ids L).length), 0, g.1, g.2.1, g.2.2.1, P, OP, ch, (nI SR.length), ns, ls, V, g.2.2.2.1, N, g.2.2.2.2.1, g.2.2.2.2.2.1, g.2.2.2.2.2.2.1, M, OM, g.2.2.2.2.2.2.2.1, g.2.2.2.2.2.2.2.2.1, g.2.2.2.2.2.2.2.2.2, nS, nP, nL, li) x) ∧ (∀ (post : Int32 → Prop), post (nI p) → wpY_placeOf post ((nI L.length), (nI ln), now, ych, oc, onow, y.1, y.2, ms, on, ov, oms, yl) z) := by
  obtain ⟨p, hp⟩ := List.getElem?_of_mem he
  obtain ⟨n1, n2, n3⟩ := ld_INd hI
  have h128 := n2 e.1 (ld_idsM he)
  have hnm := hn.2 e he
  subst hx hz
  refine ⟨p, hp, nI_pos' (by omega), nI_ne0 (by omega) (by omega), fun post hpo => ld_XnumberOf P OP ch ns ls V N M OM nS nP nL li hI (ld_idsG hp) post hpo, fun post hpo => ld_YplaceOf ln now ych oc onow ms on ov oms yl hY hp (fun d hd => by have := (hn.2 d hd).2; omega) hn.1 post hpo⟩
theorem i_vc_lines {k : Nat} {u : SX} {v : SY} (I : i_Rel k u v) (hk : k + 5 ≤ 2560) : wpX_lines (fun r => wpY_lines (fun r' => r' = r ∧ i_Rel (k + 5) u v) v) u := by
  refine ld_el (Q := fun u v => wpX_lines (fun r => wpY_lines (fun r' => r' = r ∧ i_Rel (k + 5) u v) v) u) ?_ I
  intro L SR g P OP ch ns ls V N M OM nS nP nL li y ln now oc onow ms on ov oms yl h
  exact ⟨congrArg nI (ld_idsL L).symm, ld_mkRel (ld_Rup h (by omega))⟩
theorem i_vc_present {k : Nat} {u : SX} {v : SY} (I : i_Rel k u v) (hk : k + 5 ≤ 2560) : wpX_present (fun r => wpY_present (fun r' => r' = r ∧ i_Rel (k + 5) u v) v) u := by
  refine ld_el (Q := fun u v => wpX_present (fun r => wpY_present (fun r' => r' = r ∧ i_Rel (k + 5) u v) v) u) ?_ I
  intro L SR g P OP ch ns ls V N M OM nS nP nL li y ln now oc onow ms on ov oms yl h
  have hr := ld_mkRel (ns := ns) (ls := ls) (N := N) (nS := nS) (nP := nP) (nL := nL) (li := li) (yl := yl) (ld_Rup (k' := k + 5) h (by omega))
  obtain ⟨r1, r2, r3, r4, r5, r6, r7, r8⟩ := h
  rcases r6 with ⟨q1, q2, q3⟩ | ⟨e, q1, q2, q3⟩
  · have hx : ¬ 0 ≤ P := by
      rw [q2]
      decide
    exact br_f hx (br_t q3 ⟨rfl, hr⟩)
  · obtain ⟨p, p1, p2, p3, p4, p5⟩ := ld_num (P := P) (OP := OP) (ch := ch) (ns := ns) (ls := ls) (V := V) (N := N) (M := M) (OM := OM) (nS := nS) (nP := nP) (nL := nL) (li := li) (now := now) (ych := ch) (oc := oc) (onow := onow) (ms := ms) (on := on) (ov := ov) (oms := oms) (yl := yl) r1 r2 r4 (by omega) q1 q2 q3
    exact br_t p2 (p4 _ (br_f p3 (p5 _ ⟨nI_1 p, hr⟩)))
theorem i_vc_marked {k : Nat} {u : SX} {v : SY} (I : i_Rel k u v) (hk : k + 5 ≤ 2560) (v1 : Int32) : wpX_marked (fun r => wpY_marked (fun r' => r' = r ∧ i_Rel (k + 5) u v) v v1) u v1 := by
  refine ld_el (Q := fun u v => wpX_marked (fun r => wpY_marked (fun r' => r' = r ∧ i_Rel (k + 5) u v) v v1) u v1) ?_ I
  intro L SR g P OP ch ns ls V N M OM nS nP nL li y ln now oc onow ms on ov oms yl h
  have hr := ld_mkRel (ns := ns) (ls := ls) (N := N) (nS := nS) (nP := nP) (nL := nL) (li := li) (yl := yl) (ld_Rup (k' := k + 5) h (by omega))
  obtain ⟨r1, r2, r3, r4, r5, r6, r7, r8⟩ := h
  obtain ⟨j, hj, ej⟩ := pk_andE v1 (m := 3) 2 (by decide)
  have hj : j < 4 := hj
  have hv : vp_in (v1 &&& 3) 4 := by
    rw [ej]
    exact vp_in_nI hj (by decide)
  have ec : (v1 &&& 3).toNatClampNeg = j := by
    rw [ej]
    exact nI_clamp (by omega)
  rcases r5 j hj with ⟨q2, q3⟩ | ⟨e, q1, q2, q3⟩
  · have hx : ¬ (0 : Int32) ≤ -1 := by decide
    exact ⟨hv, nm_r (e' := -1) (by rw [ec, q2]) (br_f hx ⟨hv, nm_r (e' := 0) (by rw [ec, q3]) (br_t rfl ⟨rfl, hr⟩)⟩)⟩
  · obtain ⟨p, p1, p2, p3, p4, p5⟩ := ld_num (P := P) (OP := OP) (ch := ch) (ns := ns) (ls := ls) (V := V) (N := N) (M := M) (OM := OM) (nS := nS) (nP := nP) (nL := nL) (li := li) (now := now) (ych := ch) (oc := oc) (onow := onow) (ms := ms) (on := on) (ov := ov) (oms := oms) (yl := yl) r1 r2 r4 (by omega) q1 q2 q3
    exact ⟨hv, nm_r (e' := M j) (by rw [ec]) (br_t p2 (p4 _ ⟨hv, nm_r (e' := ms j) (by rw [ec]) (br_f p3 (p5 _ ⟨nI_1 p, hr⟩))⟩))⟩
theorem i_vc_mark {k : Nat} {u : SX} {v : SY} (I : i_Rel k u v) (hk : k + 5 ≤ 2560) (v1 : Int32) (v2 : Int32) : wpX_mark (fun r u' => wpY_mark (fun r' v' => r' = r ∧ i_Rel (k + 5) u' v') v v1 v2) u v1 v2 := by
  refine ld_el (Q := fun u v => wpX_mark (fun r u' => wpY_mark (fun r' v' => r' = r ∧ i_Rel (k + 5) u' v') v v1 v2) u v1 v2) ?_ I
  intro L SR g P OP ch ns ls V N M OM nS nP nL li y ln now oc onow ms on ov oms yl h
  have hR := ld_Rup (k' := k + 5) h (by omega)
  have hR' := hR
  obtain ⟨r1, r2, r3, r4, r5, r6, r7, r8⟩ := hR'
  obtain ⟨j, hj, ej⟩ := pk_andE v1 (m := 3) 2 (by decide)
  have hj : j < 4 := hj
  have hv : vp_in (v1 &&& 3) 4 := by
    rw [ej]
    exact vp_in_nI hj (by decide)
  have ec : (v1 &&& 3).toNatClampNeg = j := by
    rw [ej]
    exact nI_clamp (by omega)
  have h60 := r2.1
  have hmk : ∀ x z, ld_mk L x z → ld_mks L (upd M j x) (upd ms j z) := by
    intro x z hm m hl
    by_cases hc : m = j
    · rw [hc, pk_us, pk_us]
      exact hm
    · rw [pk_un hc, pk_un hc]
      exact r5 m hl
  by_cases h0 : v2 < 0
  · exact br_t h0 (br_t h0 ⟨rfl, ld_mkRel hR⟩)
  · obtain ⟨n, hn, rfl⟩ := nI_of h0
    by_cases hc : n ≤ L.length
    · have hx1 : nI n ≤ nI (ld_ids L).length := by
        rw [ld_idsL]
        exact nI_le hc (by omega)
      have hy1 : nI n ≤ nI L.length := nI_le hc (by omega)
      cases n with
      | zero =>
        refine br_f h0 (br_t hx1 (br_t rfl ⟨hv, nm_r (e' := upd M j (-1)) (by rw [ec]) (br_f h0 (br_t hy1 (br_t rfl ⟨hv, nm_r (e' := upd ms j 0) (by rw [ec]) ⟨rfl, ld_mkRel ?_⟩⟩)))⟩))
        exact ⟨r1, r2, r3, r4, hmk _ _ (Or.inl ⟨rfl, rfl⟩), r6, r7, r8⟩
      | succ p =>
        obtain ⟨e, he⟩ := ld_some (L := L) (p := p) (by omega)
        obtain ⟨g', i1, i2⟩ := ld_XlineAt P OP ch ns ls V N M OM nS nP nL li r1 (ld_idsG he)
        have hne : ¬ nI (p + 1) = 0 := nI_ne0 (by omega) hn
        have hvp : vp_in (nI (p + 1) - 1) 60 := by
          rw [nI_pred]
          exact vp_in_nI (by omega) (by decide)
        refine br_f h0 (br_t hx1 (br_f hne (i2 _ ⟨hv, nm_r (e' := upd M j (nI e.1)) (by rw [ec]) (br_f h0 (br_t hy1 (br_f hne ⟨hvp, hv, nm_r (e' := upd ms j (nI e.2.1)) ?_ ⟨rfl, ld_mkRel ?_⟩⟩)))⟩)))
        · rw [ec, nI_pred, nI_clamp (by omega), (r2.2 p e he).1]
        · exact ⟨i1, r2, r3, r4, hmk _ _ (Or.inr ⟨e, List.mem_of_getElem? he, rfl, rfl⟩), r6, r7, r8⟩
    · have hx1 : ¬ nI n ≤ nI (ld_ids L).length := by
        rw [ld_idsL]
        exact nI_ge (by omega) hn
      have hy1 : ¬ nI n ≤ nI L.length := nI_ge (by omega) hn
      exact br_f h0 (br_f hx1 (br_f h0 (br_f hy1 ⟨rfl, ld_mkRel hR⟩)))
theorem i_vc_go {k : Nat} {u : SX} {v : SY} (I : i_Rel k u v) (hk : k + 5 ≤ 2560) (v1 : Int32) : wpX_go (fun r u' => wpY_go (fun r' v' => r' = r ∧ i_Rel (k + 5) u' v') v v1) u v1 := by
  refine ld_el (Q := fun u v => wpX_go (fun r u' => wpY_go (fun r' v' => r' = r ∧ i_Rel (k + 5) u' v') v v1) u v1) ?_ I
  intro L SR g P OP ch ns ls V N M OM nS nP nL li y ln now oc onow ms on ov oms yl h
  have hR := ld_Rup (k' := k + 5) h (by omega)
  have hR' := hR
  obtain ⟨r1, r2, r3, r4, r5, r6, r7, r8⟩ := hR'
  have h60 := r2.1
  by_cases h0 : v1 < 1
  · exact br_t h0 (br_t h0 ⟨rfl, ld_mkRel hR⟩)
  · obtain ⟨p, hp, rfl⟩ := ld_pos h0
    by_cases hc : p + 1 ≤ L.length
    · have hx1 : nI (p + 1) ≤ nI (ld_ids L).length := by
        rw [ld_idsL]
        exact nI_le hc (by omega)
      have hy1 : nI (p + 1) ≤ nI L.length := nI_le hc (by omega)
      obtain ⟨e, he⟩ := ld_some (L := L) (p := p) (by omega)
      have hem := List.mem_of_getElem? he
      obtain ⟨g', i1, i2⟩ := ld_XlineAt P OP ch ns ls V N M OM nS nP nL li r1 (ld_idsG he)
      obtain ⟨n1, n2, n3⟩ := ld_INd r1
      have h128 := n2 e.1 (ld_idsM hem)
      have hvp : vp_in (nI (p + 1) - 1) 60 := by
        rw [nI_pred]
        exact vp_in_nI (by omega) (by decide)
      have hvi : vp_in (nI e.1) 128 := vp_in_nI h128 (by decide)
      refine br_f h0 (br_t hx1 (i2 _ ⟨hvi, br_f h0 (br_t hy1 ⟨hvp, nm_r (e' := nI e.2.1) ?_ ⟨hvp, ?_, ld_mkRel ?_⟩⟩)⟩))
      · rw [nI_pred, nI_clamp (by omega), (r2.2 p e he).1]
      · rw [nI_pred, nI_clamp (by omega), nI_clamp (by omega), (r2.2 p e he).2, r3 e hem]
      · exact ⟨i1, r2, r3, r4, r5, Or.inr ⟨e, hem, rfl, rfl⟩, r7, r8⟩
    · have hx1 : ¬ nI (p + 1) ≤ nI (ld_ids L).length := by
        rw [ld_idsL]
        exact nI_ge (by omega) hp
      have hy1 : ¬ nI (p + 1) ≤ nI L.length := nI_ge (by omega) hp
      exact br_f h0 (br_f hx1 (br_f h0 (br_f hy1 ⟨rfl, ld_mkRel hR⟩)))
theorem i_vc_line {k : Nat} {u : SX} {v : SY} (I : i_Rel k u v) (hk : k + 5 ≤ 2560) (v1 : Int32) : wpX_line (fun r u' => wpY_line (fun r' => r' = r ∧ i_Rel (k + 5) u' v) v v1) u v1 := by
  refine ld_el (Q := fun u v => wpX_line (fun r u' => wpY_line (fun r' => r' = r ∧ i_Rel (k + 5) u' v) v v1) u v1) ?_ I
  intro L SR g P OP ch ns ls V N M OM nS nP nL li y ln now oc onow ms on ov oms yl h
  have hR := ld_Rup (k' := k + 5) h (by omega)
  have hR' := hR
  obtain ⟨r1, r2, r3, r4, r5, r6, r7, r8⟩ := hR'
  have h60 := r2.1
  by_cases h0 : v1 < 1
  · exact br_t h0 (br_t h0 ⟨rfl, ld_mkRel hR⟩)
  · obtain ⟨p, hp, rfl⟩ := ld_pos h0
    by_cases hc : p + 1 ≤ L.length
    · have hx1 : nI (p + 1) ≤ nI (ld_ids L).length := by
        rw [ld_idsL]
        exact nI_le hc (by omega)
      have hy1 : nI (p + 1) ≤ nI L.length := nI_le hc (by omega)
      obtain ⟨e, he⟩ := ld_some (L := L) (p := p) (by omega)
      have hem := List.mem_of_getElem? he
      obtain ⟨g', i1, i2⟩ := ld_XlineAt P OP ch ns ls V N M OM nS nP nL li r1 (ld_idsG he)
      obtain ⟨n1, n2, n3⟩ := ld_INd r1
      have h128 := n2 e.1 (ld_idsM hem)
      have hvp : vp_in (nI (p + 1) - 1) 60 := by
        rw [nI_pred]
        exact vp_in_nI (by omega) (by decide)
      have hvi : vp_in (nI e.1) 128 := vp_in_nI h128 (by decide)
      refine br_f h0 (br_t hx1 (i2 _ ⟨hvi, br_f h0 (br_t hy1 ⟨hvp, ?_, ld_mkRel ?_⟩)⟩))
      · rw [nI_pred, nI_clamp (by omega), nI_clamp (by omega), (r2.2 p e he).2, r3 e hem]
      · exact ⟨i1, r2, r3, r4, r5, r6, r7, r8⟩
    · have hx1 : ¬ nI (p + 1) ≤ nI (ld_ids L).length := by
        rw [ld_idsL]
        exact nI_ge (by omega) hp
      have hy1 : ¬ nI (p + 1) ≤ nI L.length := nI_ge (by omega) hp
      exact br_f h0 (br_f hx1 (br_f h0 (br_f hy1 ⟨rfl, ld_mkRel hR⟩)))
theorem i_vc_undo {k : Nat} {u : SX} {v : SY} (I : i_Rel k u v) (hk : k + 5 ≤ 2560) : wpX_undo (fun r u' => wpY_undo (fun r' v' => r' = r ∧ i_Rel (k + 5) u' v') v) u := by
  refine ld_el (Q := fun u v => wpX_undo (fun r u' => wpY_undo (fun r' v' => r' = r ∧ i_Rel (k + 5) u' v') v) u) ?_ I
  intro L SR g P OP ch ns ls V N M OM nS nP nL li y ln now oc onow ms on ov oms yl h
  have hR := ld_Rup (k' := k + 5) h (by omega)
  have hR' := hR
  obtain ⟨r1, r2, r3, r4, r5, r6, r7, r8⟩ := hR'
  rcases r8 with r8 | ⟨rfl, s1, O, W, s2, s3, rfl, t2, t3, t4, t5⟩
  · exact br_t r8 (br_t r8 ⟨rfl, ld_mkRel hR⟩)
  · obtain ⟨g', N', SR', M', OM', x', y', z', i1, i2, i3, i4, i5⟩ := ld_Xundo P OP ns ls V N M OM nS nP nL li r1 (by omega) s2
    obtain ⟨na', va', on', ov', ms', oms', j1, j2, j3⟩ := ld_Yundo (L := L) (y := y) ln now (nI O.length) onow ms on ov oms yl
    refine i5 _ (j3 _ ⟨rfl, ld_mkRel (L := O) (y := (na', va')) ?_⟩)
    refine ⟨i1, ld_YEq t2 (fun m hm => ⟨(j1 m hm).1, (j1 m hm).2.1⟩), s3, t3, ld_mksEq t4 (fun m hm => (i4 m hm).1) (fun m hm => (j2 m hm).1), t5, r7, Or.inr ⟨rfl, by omega, L, V, i2, r3, rfl, ld_YEq r2 (fun m hm => ⟨(j1 m hm).2.2.1, (j1 m hm).2.2.2⟩), r4, ld_mksEq r5 (fun m hm => (i4 m hm).2) (fun m hm => (j2 m hm).2), r6⟩⟩
end
section
/-! find, and the beginning -/
section
variable (P OP ch ns ls : Int32) (V N M OM nS nP nL li : Nat → Int32) {L : List ld_E} {SR : List ld_St} {g : ld_GX} {y : (Nat → Int32) × (Nat → Int32)} (ln : Nat) (now ych oc onow : Int32) (ms on ov oms yl : Nat → Int32)
theorem ld_findL {f : Nat} {v1 : Int32} (hI : ld_I (ld_ids L) SR g) (hY : ld_Y L y) (hV : ld_vl V L) (hl : ∀ j t, j < L.length → (ld_ids L)[j]? = some t → li j = nI t) (h0 : 0 < L.length) (hf : f ≤ L.length) : ∀ d k, k + d = L.length → ∃ r, (∀ (post : Int32 → SX → Prop), post r ((nI (ld_ids L).length), 0, g.1, g.2.1, g.2.2.1, P, OP, ch, (nI SR.length), ns, ls, V, g.2.2.2.1, N, g.2.2.2.2.1, g.2.2.2.2.2.1, g.2.2.2.2.2.2.1, M, OM, g.2.2.2.2.2.2.2.1, g.2.2.2.2.2.2.2.2.1, g.2.2.2.2.2.2.2.2.2, nS, nP, nL, li) → wX_find_29 post v1 (nI f) (nI (ld_ids L).length) 0 g.1 g.2.1 g.2.2.1 P OP ch (nI SR.length) ns ls V g.2.2.2.1 N g.2.2.2.2.1 g.2.2.2.2.2.1 g.2.2.2.2.2.2.1 M OM g.2.2.2.2.2.2.2.1 g.2.2.2.2.2.2.2.2.1 g.2.2.2.2.2.2.2.2.2 nS nP nL li (d + 1) (nI k)) ∧ (∀ (post : Int32 → Prop), post r → wY_find_7 post v1 (nI f) (nI L.length) (nI ln) now ych oc onow y.1 y.2 ms on ov oms yl (d + 1) (nI k)) := by
  have h60 := hY.1
  obtain ⟨n1, n2, n3⟩ := ld_INd hI
  intro d
  induction d with
  | zero =>
    intro k hk
    have hx : nI (ld_ids L).length ≤ nI k := by
      rw [ld_idsL]
      exact nI_le (by omega) (by omega)
    have hy : nI L.length ≤ nI k := nI_le (by omega) (by omega)
    exact ⟨0, fun post hp => br_t hx hp, fun post hp => br_t hy hp⟩
  | succ d ih =>
    intro k hk
    obtain ⟨w, hw⟩ : ∃ w, w = (f + k) % L.length := ⟨_, rfl⟩
    have hwl : w < L.length := by
      rw [hw]
      exact Nat.mod_lt _ h0
    obtain ⟨e, he⟩ := ld_some hwl
    have hem := List.mem_of_getElem? he
    have h128 := n2 e.1 (ld_idsM hem)
    have hx : ¬ nI (ld_ids L).length ≤ nI k := by
      rw [ld_idsL]
      exact nI_ge (by omega) (by omega)
    have hy : ¬ nI L.length ≤ nI k := nI_ge (by omega) (by omega)
    have hne : ¬ nI L.length = 0 := nI_ne0 h0 (by omega)
    have hc : (nI w).toNatClampNeg = w := nI_clamp (by omega)
    have hli : li (nI w).toNatClampNeg = nI e.1 := by
      rw [hc]
      exact hl w e.1 hwl (ld_idsG he)
    have hval : V (li (nI w).toNatClampNeg).toNatClampNeg = e.2.2 := by
      rw [hli, nI_clamp (by omega)]
      exact hV e hem
    have hvw : vp_in (nI w) 60 := vp_in_nI (by omega) (by decide)
    have hvi : vp_in (li (nI w).toNatClampNeg) 128 := by
      rw [hli]
      exact vp_in_nI h128 (by decide)
    have hyv : y.2 (nI w).toNatClampNeg = e.2.2 := by
      rw [hc]
      exact (hY.2 w e he).2
    have key : (∀ (post : Int32 → SX → Prop) (J29 : Int32 → Prop), (e.2.2 = v1 → post (nI (w + 1)) ((nI (ld_ids L).length), 0, g.1, g.2.1, g.2.2.1, P, OP, ch, (nI SR.length), ns, ls, V, g.2.2.2.1, N, g.2.2.2.2.1, g.2.2.2.2.2.1, g.2.2.2.2.2.2.1, M, OM, g.2.2.2.2.2.2.2.1, g.2.2.2.2.2.2.2.2.1, g.2.2.2.2.2.2.2.2.2, nS, nP, nL, li)) → (¬ e.2.2 = v1 → J29 (nI (k + 1))) → wX_find_61 post J29 v1 (nI f) (nI k) (nI w) (nI (ld_ids L).length) 0 g.1 g.2.1 g.2.2.1 P OP ch (nI SR.length) ns ls V g.2.2.2.1 N g.2.2.2.2.1 g.2.2.2.2.2.1 g.2.2.2.2.2.2.1 M OM g.2.2.2.2.2.2.2.1 g.2.2.2.2.2.2.2.2.1 g.2.2.2.2.2.2.2.2.2 nS nP nL li) := by
      intro post J h1 h2
      refine ⟨hvw, hvi, br_c (fun z => ?_) (fun z => nm_r (nI_1 k) (h2 (by rw [← hval]; exact z)))⟩
      rw [nI_1]
      exact h1 (by rw [← hval]; exact z)
    have hX : ∀ (post : Int32 → SX → Prop) n, (e.2.2 = v1 → post (nI (w + 1)) ((nI (ld_ids L).length), 0, g.1, g.2.1, g.2.2.1, P, OP, ch, (nI SR.length), ns, ls, V, g.2.2.2.1, N, g.2.2.2.2.1, g.2.2.2.2.2.1, g.2.2.2.2.2.2.1, M, OM, g.2.2.2.2.2.2.2.1, g.2.2.2.2.2.2.2.2.1, g.2.2.2.2.2.2.2.2.2, nS, nP, nL, li)) → (¬ e.2.2 = v1 → wX_find_29 post v1 (nI f) (nI (ld_ids L).length) 0 g.1 g.2.1 g.2.2.1 P OP ch (nI SR.length) ns ls V g.2.2.2.1 N g.2.2.2.2.1 g.2.2.2.2.2.1 g.2.2.2.2.2.2.1 M OM g.2.2.2.2.2.2.2.1 g.2.2.2.2.2.2.2.2.1 g.2.2.2.2.2.2.2.2.2 nS nP nL li n (nI (k + 1))) → wX_find_29 post v1 (nI f) (nI (ld_ids L).length) 0 g.1 g.2.1 g.2.2.1 P OP ch (nI SR.length) ns ls V g.2.2.2.1 N g.2.2.2.2.1 g.2.2.2.2.2.1 g.2.2.2.2.2.2.1 M OM g.2.2.2.2.2.2.2.1 g.2.2.2.2.2.2.2.2.1 g.2.2.2.2.2.2.2.2.2 nS nP nL li (n + 1) (nI k) := by
      intro post n h1 h2
      have hw1 := key post (fun x => wX_find_29 post v1 (nI f) (nI (ld_ids L).length) 0 g.1 g.2.1 g.2.2.1 P OP ch (nI SR.length) ns ls V g.2.2.2.1 N g.2.2.2.2.1 g.2.2.2.2.2.1 g.2.2.2.2.2.2.1 M OM g.2.2.2.2.2.2.2.1 g.2.2.2.2.2.2.2.2.1 g.2.2.2.2.2.2.2.2.2 nS nP nL li n x) h1 h2
      by_cases hlt : f + k < L.length
      · have e1 : w = f + k := by
          rw [hw]
          exact Nat.mod_eq_of_lt hlt
        have hcmp : ¬ nI (ld_ids L).length ≤ nI f + nI k := by
          rw [ld_idsL, nI_add]
          exact nI_ge hlt (by omega)
        have ez : nI f + nI k = nI w := by rw [nI_add, e1]
        refine br_f hx (br_f hcmp ?_)
        rw [ez]
        exact hw1
      · have e1 : w = f + k - L.length := by
          rw [hw, Nat.mod_eq_sub_mod (by omega)]
          exact Nat.mod_eq_of_lt (by omega)
        have hcmp : nI (ld_ids L).length ≤ nI f + nI k := by
          rw [ld_idsL, nI_add]
          exact nI_le (by omega) (by omega)
        have ez : nI f + nI k - nI (ld_ids L).length = nI w := by rw [nI_add, ld_idsL, pk_sub (by omega), e1]
        refine br_f hx (br_t hcmp ?_)
        rw [ez]
        exact hw1
    have hY : ∀ (post : Int32 → Prop) n, (e.2.2 = v1 → post (nI (w + 1))) → (¬ e.2.2 = v1 → wY_find_7 post v1 (nI f) (nI L.length) (nI ln) now ych oc onow y.1 y.2 ms on ov oms yl n (nI (k + 1))) → wY_find_7 post v1 (nI f) (nI L.length) (nI ln) now ych oc onow y.1 y.2 ms on ov oms yl (n + 1) (nI k) := by
      intro post n h1 h2
      have ez : nI f + nI k - (nI f + nI k) / nI L.length * nI L.length = nI w := by
        rw [nI_add, pk_rem (by omega) h0 (by omega), hw]
      refine br_f hy ⟨hne, nm_r ez ⟨hvw, br_c (fun z => ?_) (fun z => nm_r (nI_1 k) (h2 (by rw [← hyv]; exact z)))⟩⟩
      rw [nI_1]
      exact h1 (by rw [← hyv]; exact z)
    by_cases hv : e.2.2 = v1
    · exact ⟨nI (w + 1), fun post hp => hX post (d + 1) (fun _ => hp) (fun z => absurd hv z), fun post hp => hY post (d + 1) (fun _ => hp) (fun z => absurd hv z)⟩
    · obtain ⟨r, i1, i2⟩ := ih (k + 1) (by omega)
      exact ⟨r, fun post hp => hX post (d + 1) (fun z => absurd z hv) (fun _ => i1 post hp), fun post hp => hY post (d + 1) (fun z => absurd z hv) (fun _ => i2 post hp)⟩
end
theorem i_vc_find {k : Nat} {u : SX} {v : SY} (I : i_Rel k u v) (hk : k + 5 ≤ 2560) (v1 : Int32) : wpX_find (fun r u' => wpY_find (fun r' => r' = r ∧ i_Rel (k + 5) u' v) v v1) u v1 := by
  refine ld_el (Q := fun u v => wpX_find (fun r u' => wpY_find (fun r' => r' = r ∧ i_Rel (k + 5) u' v) v v1) u v1) ?_ I
  intro L SR g P OP ch ns ls V N M OM nS nP nL li y ln now oc onow ms on ov oms yl h
  have hR := ld_Rup (k' := k + 5) h (by omega)
  have hR' := hR
  obtain ⟨r1, r2, r3, r4, r5, r6, r7, r8⟩ := hR'
  have h60 := r2.1
  by_cases h0 : L.length = 0
  · have hL : L = [] := List.length_eq_zero_iff.mp h0
    have hx : nI (ld_ids L).length = 0 := by
      rw [ld_idsL, h0]
      rfl
    have hy : nI L.length ≤ 0 := by
      rw [h0]
      decide
    have hn : now = 0 := by
      rcases r6 with ⟨_, _, q⟩ | ⟨e, q, _⟩
      · exact q
      · rw [hL] at q
        exact absurd q (List.not_mem_nil)
    refine br_t hx ?_
    unfold wpY_find
    exact br_t hn ⟨1, br_t hy ⟨rfl, ld_mkRel hR⟩⟩
  · rcases r6 with ⟨q, _, _⟩ | ⟨e, q1, q2, q3⟩
    · rw [q] at h0
      exact absurd rfl h0
    · obtain ⟨p, p1, p2, p3, p4, p5⟩ := ld_num (P := P) (OP := OP) (ch := ch) (ns := ns) (ls := ls) (V := V) (N := N) (M := M) (OM := OM) (nS := nS) (nP := nP) (nL := nL) (li := li) (now := now) (ych := ch) (oc := oc) (onow := onow) (ms := ms) (on := on) (ov := ov) (oms := oms) (yl := yl) r1 r2 r4 (by omega) q1 q2 q3
      have hpl := ld_lt p1
      have hx : ¬ nI (ld_ids L).length = 0 := by
        rw [ld_idsL]
        exact nI_ne0 (by omega) (by omega)
      obtain ⟨li', l1, l2⟩ := ld_XlistRange P OP ch ns ls V N M OM nS nP nL li (a := 0) (e := (ld_ids L).length) r1 (by omega) (Nat.le_refl _)
      obtain ⟨r, f1, f2⟩ := ld_findL P OP ch ns (nI ((ld_ids L).length - 0)) V N M OM nS nP nL li' ln now ch oc onow ms on ov oms yl (f := p + 1) (v1 := v1) r1 r2 r3 (by
        intro j t hj ht
        refine l1 j t (by rw [ld_idsL]; omega) ?_
        rw [Nat.zero_add]
        exact ht) (by omega) (by omega) L.length 0 (by omega)
      refine br_f hx (p4 _ (l2 _ ⟨L.length + 1, f1 _ ?_⟩))
      unfold wpY_find
      refine br_f p3 (p5 _ ?_)
      rw [nI_1]
      exact ⟨L.length + 1, f2 _ ⟨rfl, ld_mkRel hR⟩⟩
end
section
/-! the beginning -/
section
variable {f_count f_firstBlock f_freeBlock f_atBlock f_atCell f_presentLine f_otherPresent f_changed f_steps f_newSteps f_listed : Int32} {a_valueOf a_blockOf a_needed a_behind a_size a_cell a_otherMark a_stepSort a_stepPlace a_stepLine a_newSort a_newPlace a_newLine a_list : Nat → Int32}
theorem ld_in201 : ∀ d k (M : Nat → Int32), k + d = 4 → (∀ m, m < k → M m = -1) → ∃ M', (∀ m, m < 4 → M' m = -1) ∧ ∀ (post : SX → Prop) n, d < n → post (f_count, f_firstBlock, f_freeBlock, f_atBlock, f_atCell, -1, f_otherPresent, f_changed, f_steps, f_newSteps, f_listed, a_valueOf, a_blockOf, a_needed, a_behind, a_size, a_cell, M', a_otherMark, a_stepSort, a_stepPlace, a_stepLine, a_newSort, a_newPlace, a_newLine, a_list) → wX_init_201 post f_count f_firstBlock f_freeBlock f_atBlock f_atCell f_presentLine f_otherPresent f_changed f_steps f_newSteps f_listed n (nI k) a_valueOf a_blockOf a_needed a_behind a_size a_cell M a_otherMark a_stepSort a_stepPlace a_stepLine a_newSort a_newPlace a_newLine a_list := by
  intro d
  induction d with
  | zero =>
    intro k M hk h
    refine ⟨M, fun m hm => h m (by omega), ?_⟩
    intro post n hn hp
    obtain ⟨n, rfl⟩ : ∃ m, n = m + 1 := ⟨n - 1, by omega⟩
    have h4 : (4 : Int32) ≤ nI k := nI_le (a := 4) (by omega) (by omega)
    exact br_t h4 hp
  | succ d ih =>
    intro k M hk h
    have h4 : ¬ (4 : Int32) ≤ nI k := nI_ge (b := 4) (by omega) (by decide)
    have hv : vp_in (nI k) 4 := vp_in_nI (by omega) (by decide)
    have e0 : (nI k).toNatClampNeg = k := nI_clamp (by omega)
    obtain ⟨M', i1, i2⟩ := ih (k + 1) (upd M k (-1)) (by omega) (by
      intro m hm
      by_cases hc : m = k
      · subst hc
        exact pk_us
      · rw [pk_un hc]
        exact h m (by omega))
    refine ⟨M', i1, ?_⟩
    intro post n hn hp
    obtain ⟨n, rfl⟩ : ∃ m, n = m + 1 := ⟨n - 1, by omega⟩
    exact br_f h4 ⟨hv, nm_r (e' := upd M k (-1)) (by rw [e0]) (nm_r (nI_1 k) (i2 post n (by omega) hp))⟩
end
section
variable {f_count f_firstBlock f_freeBlock f_atBlock f_atCell f_presentLine f_otherPresent f_changed f_steps f_newSteps f_listed : Int32} {a_valueOf a_blockOf a_needed a_size a_cell a_markOf a_otherMark a_stepSort a_stepPlace a_stepLine a_newSort a_newPlace a_newLine a_list : Nat → Int32}
theorem ld_in156 : ∀ d k (be : Nat → Int32), k + d = 32 → (∀ m, 1 ≤ m → m < k → be m = if m = 31 then -1 else nI (m + 1)) → ∃ be', (∀ m, 1 ≤ m → m < 32 → be' m = if m = 31 then -1 else nI (m + 1)) ∧ ∀ (post : SX → Prop) n, d < n → (∀ b4 : Nat → Int32, b4 = upd be' 0 (-1) → ∃ n201, wX_init_201 post f_count f_firstBlock 1 f_atBlock f_atCell f_presentLine f_otherPresent f_changed f_steps f_newSteps f_listed n201 0 a_valueOf a_blockOf a_needed b4 a_size a_cell a_markOf a_otherMark a_stepSort a_stepPlace a_stepLine a_newSort a_newPlace a_newLine a_list) → wX_init_156 post f_count f_firstBlock f_freeBlock f_atBlock f_atCell f_presentLine f_otherPresent f_changed f_steps f_newSteps f_listed n (nI k) a_valueOf a_blockOf a_needed be a_size a_cell a_markOf a_otherMark a_stepSort a_stepPlace a_stepLine a_newSort a_newPlace a_newLine a_list := by
  intro d
  induction d with
  | zero =>
    intro k be hk h
    refine ⟨be, fun m h1 h2 => h m h1 (by omega), ?_⟩
    intro post n hn hp
    obtain ⟨n, rfl⟩ : ∃ m, n = m + 1 := ⟨n - 1, by omega⟩
    have h4 : (32 : Int32) ≤ nI k := nI_le (a := 32) (by omega) (by omega)
    exact br_t h4 hp
  | succ d ih =>
    intro k be hk h
    have h4 : ¬ (32 : Int32) ≤ nI k := nI_ge (b := 32) (by omega) (by decide)
    have hv : vp_in (nI k) 32 := vp_in_nI (by omega) (by decide)
    have e0 : (nI k).toNatClampNeg = k := nI_clamp (by omega)
    obtain ⟨be', i1, i2⟩ := ih (k + 1) (upd be k (if k = 31 then -1 else nI (k + 1))) (by omega) (by
      intro m h1 hm
      by_cases hc : m = k
      · subst hc
        exact pk_us
      · rw [pk_un hc]
        exact h m h1 (by omega))
    refine ⟨be', i1, ?_⟩
    intro post n hn hp
    obtain ⟨n, rfl⟩ : ∃ m, n = m + 1 := ⟨n - 1, by omega⟩
    have hw := i2 post n (by omega) hp
    by_cases h31 : k = 31
    · have hx : nI k = 31 := by
        rw [h31]
        rfl
      refine br_f h4 (br_t hx ⟨hv, nm_r (e' := upd be k (if k = 31 then -1 else nI (k + 1))) ?_ (nm_r (nI_1 k) hw)⟩)
      rw [e0, if_pos h31]
    · have hx : ¬ nI k = 31 := by
        intro z
        exact h31 ((nI_eq (a := k) (b := 31) (by omega) (by omega)).mp z)
      refine br_f h4 (br_f hx ⟨hv, nm_r (e' := upd be k (if k = 31 then -1 else nI (k + 1))) ?_ (nm_r (nI_1 k) hw)⟩)
      rw [e0, if_neg h31, nI_1]
end
section
variable {f_count f_firstBlock f_freeBlock f_atBlock f_atCell f_presentLine f_otherPresent f_changed f_steps f_newSteps f_listed : Int32} {a_valueOf a_needed a_behind a_size a_cell a_markOf a_otherMark a_stepSort a_stepPlace a_stepLine a_newSort a_newPlace a_newLine a_list : Nat → Int32}
theorem ld_in134 : ∀ d k (bo : Nat → Int32), k + d = 128 → (∀ m, m < k → bo m = -1) → ∃ bo', (∀ m, m < 128 → bo' m = -1) ∧ ∀ (post : SX → Prop) n, d < n → (∃ n156, wX_init_156 post f_count f_firstBlock f_freeBlock f_atBlock f_atCell f_presentLine f_otherPresent f_changed f_steps f_newSteps f_listed n156 1 a_valueOf bo' a_needed a_behind a_size a_cell a_markOf a_otherMark a_stepSort a_stepPlace a_stepLine a_newSort a_newPlace a_newLine a_list) → wX_init_134 post f_count f_firstBlock f_freeBlock f_atBlock f_atCell f_presentLine f_otherPresent f_changed f_steps f_newSteps f_listed n (nI k) a_valueOf bo a_needed a_behind a_size a_cell a_markOf a_otherMark a_stepSort a_stepPlace a_stepLine a_newSort a_newPlace a_newLine a_list := by
  intro d
  induction d with
  | zero =>
    intro k bo hk h
    refine ⟨bo, fun m hm => h m (by omega), ?_⟩
    intro post n hn hp
    obtain ⟨n, rfl⟩ : ∃ m, n = m + 1 := ⟨n - 1, by omega⟩
    have h4 : (128 : Int32) ≤ nI k := nI_le (a := 128) (by omega) (by omega)
    exact br_t h4 hp
  | succ d ih =>
    intro k bo hk h
    have h4 : ¬ (128 : Int32) ≤ nI k := nI_ge (b := 128) (by omega) (by decide)
    have hv : vp_in (nI k) 128 := vp_in_nI (by omega) (by decide)
    have e0 : (nI k).toNatClampNeg = k := nI_clamp (by omega)
    obtain ⟨bo', i1, i2⟩ := ih (k + 1) (upd bo k (-1)) (by omega) (by
      intro m hm
      by_cases hc : m = k
      · subst hc
        exact pk_us
      · rw [pk_un hc]
        exact h m (by omega))
    refine ⟨bo', i1, ?_⟩
    intro post n hn hp
    obtain ⟨n, rfl⟩ : ∃ m, n = m + 1 := ⟨n - 1, by omega⟩
    exact br_f h4 ⟨hv, nm_r (e' := upd bo k (-1)) (by rw [e0]) (nm_r (nI_1 k) (i2 post n (by omega) hp))⟩
end
theorem ld_in0 {be : Nat → Int32} (h : ∀ m, 1 ≤ m → m < 32 → be m = if m = 31 then -1 else nI (m + 1)) : ∀ d s, 1 ≤ s → s + d = 32 → ld_fl be (if s = 32 then -1 else nI s) (List.range' s d) := by
  intro d
  induction d with
  | zero =>
    intro s _ hs
    exact if_pos (by omega)
  | succ d ih =>
    intro s h1 hs
    refine ⟨if_neg (by omega), by omega, ?_⟩
    rw [h s h1 (by omega)]
    have := ih (s + 1) (by omega) (by omega)
    by_cases h31 : s = 31
    · rw [if_pos (by omega)] at this
      rw [if_pos h31]
      exact this
    · rw [if_neg (by omega)] at this
      rw [if_neg h31]
      exact this
theorem i_vc0 : wpX_init (fun u => wpY_init (fun v => i_Rel 0 u v)) := by
  obtain ⟨bo', a1, a2⟩ := ld_in134 (f_count := 0) (f_firstBlock := 0) (f_freeBlock := 0) (f_atBlock := 0) (f_atCell := 0) (f_presentLine := 0) (f_otherPresent := 0) (f_changed := 0) (f_steps := 0) (f_newSteps := 0) (f_listed := 0) (a_valueOf := fun _ => 0) (a_needed := fun _ => 0) (a_behind := fun _ => 0) (a_size := fun _ => 0) (a_cell := fun _ => 0) (a_markOf := fun _ => 0) (a_otherMark := fun _ => 0) (a_stepSort := fun _ => 0) (a_stepPlace := fun _ => 0) (a_stepLine := fun _ => 0) (a_newSort := fun _ => 0) (a_newPlace := fun _ => 0) (a_newLine := fun _ => 0) (a_list := fun _ => 0) 128 0 (fun _ => 0) (by omega) (fun m hm => absurd hm (by omega))
  obtain ⟨be', b1, b2⟩ := ld_in156 (f_count := 0) (f_firstBlock := 0) (f_freeBlock := 0) (f_atBlock := 0) (f_atCell := 0) (f_presentLine := 0) (f_otherPresent := 0) (f_changed := 0) (f_steps := 0) (f_newSteps := 0) (f_listed := 0) (a_valueOf := fun _ => 0) (a_blockOf := bo') (a_needed := fun _ => 0) (a_size := fun _ => 0) (a_cell := fun _ => 0) (a_markOf := fun _ => 0) (a_otherMark := fun _ => 0) (a_stepSort := fun _ => 0) (a_stepPlace := fun _ => 0) (a_stepLine := fun _ => 0) (a_newSort := fun _ => 0) (a_newPlace := fun _ => 0) (a_newLine := fun _ => 0) (a_list := fun _ => 0) 31 1 (fun _ => 0) (by omega) (fun m h1 hm => absurd hm (by omega))
  obtain ⟨M', c1, c2⟩ := ld_in201 (f_count := 0) (f_firstBlock := 0) (f_freeBlock := 1) (f_atBlock := 0) (f_atCell := 0) (f_presentLine := 0) (f_otherPresent := 0) (f_changed := 0) (f_steps := 0) (f_newSteps := 0) (f_listed := 0) (a_valueOf := fun _ => 0) (a_blockOf := bo') (a_needed := fun _ => 0) (a_behind := upd be' 0 (-1)) (a_size := fun _ => 0) (a_cell := fun _ => 0) (a_otherMark := fun _ => 0) (a_stepSort := fun _ => 0) (a_stepPlace := fun _ => 0) (a_stepLine := fun _ => 0) (a_newSort := fun _ => 0) (a_newPlace := fun _ => 0) (a_newLine := fun _ => 0) (a_list := fun _ => 0) 4 0 (fun _ => 0) (by omega) (fun m hm => absurd hm (by omega))
  refine ⟨129, a2 _ 129 (by omega) ⟨32, b2 _ 32 (by omega) (nm_e ⟨5, c2 _ 5 (by omega) ?_⟩)⟩⟩
  refine ld_mkRel (L := []) (SR := []) (g := (1, 0, 0, bo', upd be' 0 (-1), fun _ => 0, fun _ => 0, fun _ => 0, fun _ => 0, fun _ => 0)) (y := (fun _ => 0, fun _ => 0)) (ln := 0) ?_
  refine ⟨⟨⟨[(0, [])], List.range' 1 31, ⟨⟨rfl, by decide, by decide, rfl, fun k t hk => absurd hk (by simp), ?_⟩, ?_, by decide, by decide, rfl, by simp, ?_, List.nodup_nil, ?_, ?_⟩, True.intro⟩, by decide, True.intro⟩, ⟨by decide, fun i e he => absurd he (by simp)⟩, fun e he => absurd he (List.not_mem_nil), ⟨List.nodup_nil, fun e he => absurd he (List.not_mem_nil)⟩, fun m hm => Or.inl ⟨c1 m hm, rfl⟩, Or.inl ⟨rfl, rfl, rfl⟩, by decide, Or.inl rfl⟩
  · show upd be' 0 (-1) 0 = -1
    exact pk_us
  · have := ld_in0 (be := upd be' 0 (-1)) (fun m h1 h2 => by rw [pk_un (by omega)]; exact b1 m h1 h2) 31 1 (by omega) (by omega)
    exact this
  · intro c hc t ht
    rw [List.mem_singleton.mp hc] at ht
    exact absurd ht (List.not_mem_nil)
  · intro t ht
    exact absurd ht (List.not_mem_nil)
  · intro t ht _
    exact a1 t ht
end
section
/-! one line taken out, moved, put in: both sides -/
theorem ld_inIns {L : List ld_E} {p : Nat} {e : ld_E} (hp : p ≤ L.length) : ∀ d ∈ L, ∃ d' ∈ ld_ins L p e, d'.1 = d.1 ∧ d'.2.1 = d.2.1 := fun d hd => ⟨d, (ld_memIns hp).mpr (Or.inr hd), rfl, rfl⟩
section
variable (P OP ch ns ls : Int32) (V N M OM nS nP nL li : Nat → Int32) {L O : List ld_E} {W : Nat → Int32} {SR : List ld_St} {g : ld_GX} {y : (Nat → Int32) × (Nat → Int32)} (ln : Nat) (now ych oc onow : Int32) (ms on ov oms yl : Nat → Int32)
theorem ld_Dtake {p : Nat} {e : ld_E} (hD : ld_D O W L SR g V M y ln ms) (he : L[p]? = some e) (hs : SR.length < 140) (hl : ln ≤ 1000000) : ∃ g' M' y' ms', ld_D O W (ld_del L p) ((1, nI (p + 1), nI e.1) :: SR) g' V M' y' ln ms' ∧ (∀ (post : Int32 → SX → Prop), post (nI e.1) ((nI (ld_ids (ld_del L p)).length), 0, g'.1, g'.2.1, g'.2.2.1, P, OP, ch, (nI ((1, nI (p + 1), nI e.1) :: SR).length), ns, ls, V, g'.2.2.2.1, upd N e.1 (vp_nar .boolean 1), g'.2.2.2.2.1, g'.2.2.2.2.2.1, g'.2.2.2.2.2.2.1, M, OM, g'.2.2.2.2.2.2.2.1, g'.2.2.2.2.2.2.2.2.1, g'.2.2.2.2.2.2.2.2.2, nS, nP, nL, li) → wpX_takeOut post ((nI (ld_ids L).length), 0, g.1, g.2.1, g.2.2.1, P, OP, ch, (nI SR.length), ns, ls, V, g.2.2.2.1, N, g.2.2.2.2.1, g.2.2.2.2.2.1, g.2.2.2.2.2.2.1, M, OM, g.2.2.2.2.2.2.2.1, g.2.2.2.2.2.2.2.2.1, g.2.2.2.2.2.2.2.2.2, nS, nP, nL, li) (nI (p + 1))) ∧ (∀ (post : SX → Prop), post ((nI (ld_ids (ld_del L p)).length), 0, g'.1, g'.2.1, g'.2.2.1, P, OP, ch, (nI ((1, nI (p + 1), nI e.1) :: SR).length), ns, ls, V, g'.2.2.2.1, upd N e.1 (vp_nar .boolean 1), g'.2.2.2.2.1, g'.2.2.2.2.2.1, g'.2.2.2.2.2.2.1, M', OM, g'.2.2.2.2.2.2.2.1, g'.2.2.2.2.2.2.2.2.1, g'.2.2.2.2.2.2.2.2.2, nS, nP, nL, li) → wpX_clearMarks post ((nI (ld_ids (ld_del L p)).length), 0, g'.1, g'.2.1, g'.2.2.1, P, OP, ch, (nI ((1, nI (p + 1), nI e.1) :: SR).length), ns, ls, V, g'.2.2.2.1, upd N e.1 (vp_nar .boolean 1), g'.2.2.2.2.1, g'.2.2.2.2.2.1, g'.2.2.2.2.2.2.1, M, OM, g'.2.2.2.2.2.2.2.1, g'.2.2.2.2.2.2.2.2.1, g'.2.2.2.2.2.2.2.2.2, nS, nP, nL, li) (nI e.1)) ∧ (∀ (post : SY → Prop), post ((nI L.length), (nI ln), now, ych, oc, onow, y.1, y.2, ms', on, ov, oms, yl) → wpY_forget post ((nI L.length), (nI ln), now, ych, oc, onow, y.1, y.2, ms, on, ov, oms, yl) (nI e.2.1)) ∧ (∀ (post : SY → Prop), post ((nI (ld_del L p).length), (nI ln), now, ych, oc, onow, y'.1, y'.2, ms', on, ov, oms, yl) → wpY_takeOut post ((nI L.length), (nI ln), now, ych, oc, onow, y.1, y.2, ms', on, ov, oms, yl) (nI p)) := by
  obtain ⟨d1, d2, d3, d4, d5, d6, d7⟩ := hD
  obtain ⟨n1, n2, n3⟩ := ld_INd d1
  have hem := List.mem_of_getElem? he
  have hie := ld_idsG he
  have hne := ld_nmsG he
  have hlen := ld_delL hie
  have hplt := ld_lt hie
  obtain ⟨nd1, nd2⟩ := ld_ndDel hie n1
  obtain ⟨nn1, nn2⟩ := ld_ndDel hne d4.1
  obtain ⟨g', i1, i2⟩ := ld_XtakeOut P OP ch ns ls V N M OM nS nP nL li d1 hie hs
  rw [← ld_idsDel] at i1 i2
  obtain ⟨M', j1, j2⟩ := ld_XclearMarks P OP ch ns ls V (upd N e.1 (vp_nar .boolean 1)) M OM nS nP nL li (T := ld_ids (ld_del L p)) (SR := (1, nI (p + 1), nI e.1) :: SR) (g := g') (nI e.1)
  obtain ⟨ms', k1, k2⟩ := ld_Yforget ln now ych oc onow ms on ov oms yl (L := L) (y := y) (nI e.2.1)
  obtain ⟨y', l1, l2⟩ := ld_YtakeOut ln now ych oc onow ms' on ov oms yl d2 he
  have h128 := n2 e.1 (ld_idsM hem)
  have hnm := d4.2 e hem
  refine ⟨g', M', y', ms', ⟨i1, l1, ?_, ?_, ?_, ?_, d7⟩, i2, j2, k2, l2⟩
  · intro d hd
    exact d3 d (ld_memDel hd)
  · refine ⟨?_, fun d hd => d4.2 d (ld_memDel hd)⟩
    rw [ld_nmsDel]
    exact nn1
  · intro m hm
    rw [j1 m hm, k1 m hm]
    rcases d5 m hm with ⟨q1, q2⟩ | ⟨d, q1, q2, q3⟩
    · rw [q1, q2, if_neg (fun z => ld_nIm1 (n := e.1) (by omega) z.symm), if_neg (fun z => nI_ne0 hnm.1 (by omega) z.symm)]
      exact Or.inl ⟨rfl, rfl⟩
    · have b1 := n2 d.1 (ld_idsM q1)
      have b2 := d4.2 d q1
      by_cases hde : d = e
      · subst hde
        rw [q2, q3, if_pos rfl, if_pos rfl]
        exact Or.inl ⟨rfl, rfl⟩
      · have c1 : ¬ nI d.1 = nI e.1 := by
          rw [nI_eq (by omega) (by omega)]
          exact fun z => hde (ld_idInj n1 q1 hem z)
        have c2 : ¬ nI d.2.1 = nI e.2.1 := by
          rw [nI_eq (by omega) (by omega)]
          exact fun z => hde (ld_nmInj d4.1 q1 hem z)
        rw [q2, q3, if_neg c1, if_neg c2]
        rcases ld_memDel' he q1 with z | z
        · exact absurd z hde
        · exact Or.inr ⟨d, z, rfl, rfl⟩
  · refine ⟨(ld_ids L, V), Or.inr (Or.inl ⟨p, e.1, rfl, ?_, ?_, h128, ?_, ?_⟩), d6⟩
    · show p ≤ (ld_ids (ld_del L p)).length
      rw [ld_idsDel]
      omega
    · show (ld_ids (ld_del L p)).length < 60
      rw [ld_idsDel]
      omega
    · show e.1 ∉ ld_ids (ld_del L p)
      rw [ld_idsDel]
      exact nd2
    · show (ld_ids L, V) = (ld_ins (ld_ids (ld_del L p)) p e.1, V)
      rw [ld_idsDel, ld_insdel hie]
theorem ld_Dshift {p q : Nat} {e : ld_E} (hD : ld_D O W L SR g V M y ln ms) (he : L[p]? = some e) (hq : q < L.length) (hs : SR.length + 1 < 140) : ∃ (g1 g' : ld_GX) (y1 y' : (Nat → Int32) × (Nat → Int32)), ld_D O W (ld_ins (ld_del L p) q e) ((0, nI (q + 1), nI e.1) :: (1, nI (p + 1), nI e.1) :: SR) g' V M y' ln ms ∧ (∀ (post : Int32 → SX → Prop), post (nI e.1) ((nI (ld_ids (ld_del L p)).length), 0, g1.1, g1.2.1, g1.2.2.1, P, OP, ch, (nI ((1, nI (p + 1), nI e.1) :: SR).length), ns, ls, V, g1.2.2.2.1, upd N e.1 (vp_nar .boolean 1), g1.2.2.2.2.1, g1.2.2.2.2.2.1, g1.2.2.2.2.2.2.1, M, OM, g1.2.2.2.2.2.2.2.1, g1.2.2.2.2.2.2.2.2.1, g1.2.2.2.2.2.2.2.2.2, nS, nP, nL, li) → wpX_takeOut post ((nI (ld_ids L).length), 0, g.1, g.2.1, g.2.2.1, P, OP, ch, (nI SR.length), ns, ls, V, g.2.2.2.1, N, g.2.2.2.2.1, g.2.2.2.2.2.1, g.2.2.2.2.2.2.1, M, OM, g.2.2.2.2.2.2.2.1, g.2.2.2.2.2.2.2.2.1, g.2.2.2.2.2.2.2.2.2, nS, nP, nL, li) (nI (p + 1))) ∧ (∀ (post : SX → Prop), post ((nI (ld_ids (ld_ins (ld_del L p) q e)).length), 0, g'.1, g'.2.1, g'.2.2.1, P, OP, ch, (nI ((0, nI (q + 1), nI e.1) :: (1, nI (p + 1), nI e.1) :: SR).length), ns, ls, V, g'.2.2.2.1, upd N e.1 (vp_nar .boolean 1), g'.2.2.2.2.1, g'.2.2.2.2.2.1, g'.2.2.2.2.2.2.1, M, OM, g'.2.2.2.2.2.2.2.1, g'.2.2.2.2.2.2.2.2.1, g'.2.2.2.2.2.2.2.2.2, nS, nP, nL, li) → wpX_putIn post ((nI (ld_ids (ld_del L p)).length), 0, g1.1, g1.2.1, g1.2.2.1, P, OP, ch, (nI ((1, nI (p + 1), nI e.1) :: SR).length), ns, ls, V, g1.2.2.2.1, upd N e.1 (vp_nar .boolean 1), g1.2.2.2.2.1, g1.2.2.2.2.2.1, g1.2.2.2.2.2.2.1, M, OM, g1.2.2.2.2.2.2.2.1, g1.2.2.2.2.2.2.2.2.1, g1.2.2.2.2.2.2.2.2.2, nS, nP, nL, li) (nI (q + 1)) (nI e.1)) ∧ (∀ (post : SY → Prop), post ((nI (ld_del L p).length), (nI ln), now, ych, oc, onow, y1.1, y1.2, ms, on, ov, oms, yl) → wpY_takeOut post ((nI L.length), (nI ln), now, ych, oc, onow, y.1, y.2, ms, on, ov, oms, yl) (nI p)) ∧ (∀ (post : SY → Prop), post ((nI (ld_ins (ld_del L p) q e).length), (nI ln), now, ych, oc, onow, y'.1, y'.2, ms, on, ov, oms, yl) → wpY_insert post ((nI (ld_del L p).length), (nI ln), now, ych, oc, onow, y1.1, y1.2, ms, on, ov, oms, yl) (nI q) (nI e.2.1) e.2.2) := by
  obtain ⟨d1, d2, d3, d4, d5, d6, d7⟩ := hD
  obtain ⟨n1, n2, n3⟩ := ld_INd d1
  have hem := List.mem_of_getElem? he
  have hie := ld_idsG he
  have hne := ld_nmsG he
  have hlenE := ld_delL he
  have hlen := ld_delL hie
  have hplt := ld_lt he
  have hidl := ld_idsL L
  have hL60 := d2.1
  have h128 := n2 e.1 (ld_idsM hem)
  obtain ⟨nd1, nd2⟩ := ld_ndDel hie n1
  obtain ⟨nn1, nn2⟩ := ld_ndDel hne d4.1
  obtain ⟨g1, i1, i2⟩ := ld_XtakeOut P OP ch ns ls V N M OM nS nP nL li d1 hie (by omega)
  obtain ⟨g', j1, j2⟩ := ld_XputIn P OP ch ns ls V (upd N e.1 (vp_nar .boolean 1)) M OM nS nP nL li (p := q) (t := e.1) i1 (by omega) (by omega) h128 nd2 (by rw [List.length_cons]; omega)
  rw [← ld_idsDel] at i2
  rw [← ld_idsDel, ← ld_idsIns] at j1 j2
  obtain ⟨y1, k1, k2⟩ := ld_YtakeOut ln now ych oc onow ms on ov oms yl d2 he
  obtain ⟨y', l1, l2⟩ := ld_Yinsert ln now ych oc onow ms on ov oms yl (p := q) (nm := e.2.1) (v := e.2.2) e.1 k1 (by omega) (by omega)
  have hmem : ∀ d, d ∈ ld_ins (ld_del L p) q e ↔ d ∈ L := by
    intro d
    rw [ld_memIns (by omega)]
    constructor
    · rintro (z | z)
      · rw [z]
        exact hem
      · exact ld_memDel z
    · exact fun z => ld_memDel' he z
  refine ⟨g1, g', y1, y', ⟨j1, l1, ?_, ?_, ?_, ?_, d7⟩, i2, j2, k2, l2⟩
  · intro d hd
    exact d3 d ((hmem d).mp hd)
  · refine ⟨?_, fun d hd => d4.2 d ((hmem d).mp hd)⟩
    rw [ld_nmsIns, ld_nmsDel]
    have hnl : (ld_del (ld_nms L) p).length = (ld_del L p).length := by
      rw [← ld_nmsDel]
      exact List.length_map ..
    exact ld_ndIns (by omega) nn1 nn2
  · exact ld_mksMono (fun d hd => ⟨d, (hmem d).mpr hd, rfl, rfl⟩) d5
  · have hil : (ld_ids (ld_del L p)).length = (ld_del L p).length := ld_idsL _
    refine ⟨(ld_ids (ld_del L p), V), Or.inl ⟨q, e.1, rfl, ?_, ?_⟩, (ld_ids L, V), Or.inr (Or.inl ⟨p, e.1, rfl, ?_, ?_, h128, ?_, ?_⟩), d6⟩
    · show (ld_ids (ld_ins (ld_del L p) q e))[q]? = some e.1
      rw [ld_idsIns]
      exact ld_insAt (by omega)
    · show (ld_ids (ld_del L p), V) = (ld_del (ld_ids (ld_ins (ld_del L p) q e)) q, V)
      rw [ld_idsIns, ld_delins (by omega)]
    · show p ≤ (ld_ids (ld_del L p)).length
      omega
    · show (ld_ids (ld_del L p)).length < 60
      omega
    · show e.1 ∉ ld_ids (ld_del L p)
      rw [ld_idsDel]
      exact nd2
    · show (ld_ids L, V) = (ld_ins (ld_ids (ld_del L p)) p e.1, V)
      rw [ld_idsDel, ld_insdel hie]
theorem ld_Dput {p : Nat} (v : Int32) (hD : ld_D O V L SR g V M y ln ms) (hv : ld_nv SR) (hO : ∀ t ∈ ld_ids O, t ∈ ld_ids L) (hN : ∀ t, t < 128 → N t = 0) (hp : p ≤ L.length) (hL : L.length < 60) (hs : SR.length < 140) : ∃ id g' y', ld_D O (upd V id v) (ld_ins L p (id, ln + 1, v)) ((0, nI (p + 1), nI id) :: SR) g' (upd V id v) M y' (ln + 1) ms ∧ ld_nv ((0, nI (p + 1), nI id) :: SR) ∧ (∀ t ∈ ld_ids O, t ∈ ld_ids (ld_ins L p (id, ln + 1, v))) ∧ (∀ (post : Int32 → SX → Prop), post (nI id) ((nI (ld_ids L).length), 0, g.1, g.2.1, g.2.2.1, P, OP, ch, (nI SR.length), ns, ls, upd V id v, g.2.2.2.1, N, g.2.2.2.2.1, g.2.2.2.2.2.1, g.2.2.2.2.2.2.1, M, OM, g.2.2.2.2.2.2.2.1, g.2.2.2.2.2.2.2.2.1, g.2.2.2.2.2.2.2.2.2, nS, nP, nL, li) → wpX_freshLine post ((nI (ld_ids L).length), 0, g.1, g.2.1, g.2.2.1, P, OP, ch, (nI SR.length), ns, ls, V, g.2.2.2.1, N, g.2.2.2.2.1, g.2.2.2.2.2.1, g.2.2.2.2.2.2.1, M, OM, g.2.2.2.2.2.2.2.1, g.2.2.2.2.2.2.2.2.1, g.2.2.2.2.2.2.2.2.2, nS, nP, nL, li) v) ∧ (∀ (post : SX → Prop), post ((nI (ld_ids (ld_ins L p (id, ln + 1, v))).length), 0, g'.1, g'.2.1, g'.2.2.1, P, OP, ch, (nI ((0, nI (p + 1), nI id) :: SR).length), ns, ls, upd V id v, g'.2.2.2.1, N, g'.2.2.2.2.1, g'.2.2.2.2.2.1, g'.2.2.2.2.2.2.1, M, OM, g'.2.2.2.2.2.2.2.1, g'.2.2.2.2.2.2.2.2.1, g'.2.2.2.2.2.2.2.2.2, nS, nP, nL, li) → wpX_putIn post ((nI (ld_ids L).length), 0, g.1, g.2.1, g.2.2.1, P, OP, ch, (nI SR.length), ns, ls, upd V id v, g.2.2.2.1, N, g.2.2.2.2.1, g.2.2.2.2.2.1, g.2.2.2.2.2.2.1, M, OM, g.2.2.2.2.2.2.2.1, g.2.2.2.2.2.2.2.2.1, g.2.2.2.2.2.2.2.2.2, nS, nP, nL, li) (nI (p + 1)) (nI id)) ∧ (∀ (post : SY → Prop), post ((nI (ld_ins L p (id, ln + 1, v)).length), nI (ln + 1), now, ych, oc, onow, y'.1, y'.2, ms, on, ov, oms, yl) → wpY_insert post ((nI L.length), nI (ln + 1), now, ych, oc, onow, y.1, y.2, ms, on, ov, oms, yl) (nI p) (nI (ln + 1)) v) := by
  obtain ⟨d1, d2, d3, d4, d5, d6, d7⟩ := hD
  obtain ⟨n1, n2, n3⟩ := ld_INd d1
  have hidl := ld_idsL L
  obtain ⟨id, f1, f2, f3⟩ := ld_XfreshLine P OP ch ns ls V N M OM nS nP nL li v d1 hN
  obtain ⟨g', j1, j2⟩ := ld_XputIn P OP ch ns ls (upd V id v) N M OM nS nP nL li (p := p) (t := id) d1 (by omega) (by omega) f1 f2 hs
  have hidi : ld_ids (ld_ins L p (id, ln + 1, v)) = ld_ins (ld_ids L) p id := ld_idsIns L p (id, ln + 1, v)
  have hnmi : ld_nms (ld_ins L p (id, ln + 1, v)) = ld_ins (ld_nms L) p (ln + 1) := ld_nmsIns L p (id, ln + 1, v)
  have hnl : (ld_nms L).length = L.length := List.length_map ..
  rw [← hidi] at j1 j2
  obtain ⟨y', l1, l2⟩ := ld_Yinsert (ln + 1) now ych oc onow ms on ov oms yl (p := p) (nm := ln + 1) (v := v) id d2 hp hL
  have hne : ∀ t, t ∈ ld_ids L → upd V id v t = V t := fun t ht => pk_un (fun z => f2 (z ▸ ht))
  refine ⟨id, g', y', ⟨j1, l1, ?_, ?_, ld_mksMono (ld_inIns hp) d5, ?_, ?_⟩, ?_, ?_, f3, j2, l2⟩
  · intro d hd
    rcases (ld_memIns hp).mp hd with z | z
    · rw [z]
      exact pk_us
    · rw [hne d.1 (ld_idsM z)]
      exact d3 d z
  · refine ⟨?_, ?_⟩
    · rw [hnmi]
      refine ld_ndIns (by omega) d4.1 ?_
      intro z
      obtain ⟨d, hd, hd2⟩ := List.mem_map.mp z
      have := (d4.2 d hd).2
      have hd2 : d.2.1 = ln + 1 := hd2
      omega
    · intro d hd
      rcases (ld_memIns hp).mp hd with z | z
      · rw [z]
        exact ⟨Nat.succ_pos _, Nat.le_refl _⟩
      · have := d4.2 d z
        exact ⟨this.1, by omega⟩
  · refine ⟨(ld_ids L, upd V id v), Or.inl ⟨p, id, rfl, ?_, ?_⟩, (ld_unV d6 hv).2 _⟩
    · show (ld_ids (ld_ins L p (id, ln + 1, v)))[p]? = some id
      rw [hidi]
      exact ld_insAt (by omega)
    · show (ld_ids L, upd V id v) = (ld_del (ld_ids (ld_ins L p (id, ln + 1, v))) p, upd V id v)
      rw [hidi, ld_delins (by omega)]
  · intro d hd
    rw [hne d.1 (hO d.1 (ld_idsM hd))]
    exact d7 d hd
  · intro s hs
    rcases List.mem_cons.mp hs with z | z
    · rw [z]
    · exact hv s z
  · intro t ht
    rw [hidi, ld_memIns (by omega)]
    exact Or.inr (hO t ht)
end
end
section
/-! put and remove -/
theorem ld_range (P OP ch ns ls : Int32) (V N M OM nS nP nL li : Nat → Int32) {L : List ld_E} {SR : List ld_St} {g : ld_GX} {y : (Nat → Int32) × (Nat → Int32)} (ln : Nat) (now ych oc onow : Int32) (ms on ov oms yl : Nat → Int32) (h60 : L.length ≤ 60) (v1 v2 : Int32) : ((∀ (post : Int32 → Prop), post 0 → wpX_isRange post ((nI (ld_ids L).length), 0, g.1, g.2.1, g.2.2.1, P, OP, ch, (nI SR.length), ns, ls, V, g.2.2.2.1, N, g.2.2.2.2.1, g.2.2.2.2.2.1, g.2.2.2.2.2.2.1, M, OM, g.2.2.2.2.2.2.2.1, g.2.2.2.2.2.2.2.2.1, g.2.2.2.2.2.2.2.2.2, nS, nP, nL, li) v1 v2) ∧ (∀ (post : Int32 → Prop), post 1 → wpY_badRange post ((nI L.length), (nI ln), now, ych, oc, onow, y.1, y.2, ms, on, ov, oms, yl) v1 v2)) ∨ (∃ a b, v1 = nI (a + 1) ∧ v2 = nI b ∧ a < b ∧ b ≤ L.length ∧ (∀ (post : Int32 → Prop), post 1 → wpX_isRange post ((nI (ld_ids L).length), 0, g.1, g.2.1, g.2.2.1, P, OP, ch, (nI SR.length), ns, ls, V, g.2.2.2.1, N, g.2.2.2.2.1, g.2.2.2.2.2.1, g.2.2.2.2.2.2.1, M, OM, g.2.2.2.2.2.2.2.1, g.2.2.2.2.2.2.2.2.1, g.2.2.2.2.2.2.2.2.2, nS, nP, nL, li) v1 v2) ∧ (∀ (post : Int32 → Prop), post 0 → wpY_badRange post ((nI L.length), (nI ln), now, ych, oc, onow, y.1, y.2, ms, on, ov, oms, yl) v1 v2)) := by
  by_cases h0 : v1 < 1
  · exact Or.inl ⟨fun post hp => br_t h0 hp, fun post hp => br_t h0 hp⟩
  · by_cases h1 : v2 < v1
    · exact Or.inl ⟨fun post hp => br_f h0 (br_t h1 hp), fun post hp => br_f h0 (br_t h1 hp)⟩
    · have h00 := h0
      obtain ⟨a, ha, rfl⟩ := ld_pos h0
      have h2 : ¬ v2 < 0 := by
        intro z
        apply h1
        have := nI_pos' (n := a + 1) ha
        rw [Int32.lt_iff_toInt_lt] at z ⊢
        rw [Int32.le_iff_toInt_le] at this
        omega
      obtain ⟨b, hb, rfl⟩ := nI_of h2
      have hab : a < b := by
        apply Classical.byContradiction
        intro z
        exact h1 (nI_lt (by omega) ha)
      by_cases h3 : b ≤ L.length
      · have hx : ¬ nI (ld_ids L).length < nI b := by
          rw [ld_idsL]
          exact nI_nlt h3 (by omega)
        have hy : nI b ≤ nI L.length := nI_le h3 (by omega)
        exact Or.inr ⟨a, b, rfl, rfl, hab, h3, fun post hp => br_f h0 (br_f h1 (br_f hx hp)), fun post hp => br_f h0 (br_f h1 (br_t hy hp))⟩
      · have hx : nI (ld_ids L).length < nI b := by
          rw [ld_idsL]
          exact nI_lt (by omega) hb
        have hy : ¬ nI b ≤ nI L.length := nI_ge (by omega) hb
        exact Or.inl ⟨fun post hp => br_f h0 (br_f h1 (br_t hx hp)), fun post hp => br_f h0 (br_f h1 (br_f hy hp))⟩
theorem i_vc_put {k : Nat} {u : SX} {v : SY} (I : i_Rel k u v) (hk : k + 5 ≤ 2560) (v1 : Int32) (v2 : Int32) : wpX_put (fun r u' => wpY_put (fun r' v' => r' = r ∧ i_Rel (k + 5) u' v') v v1 v2) u v1 v2 := by
  refine ld_el (Q := fun u v => wpX_put (fun r u' => wpY_put (fun r' v' => r' = r ∧ i_Rel (k + 5) u' v') v v1 v2) u v1 v2) ?_ I
  intro L SR g P OP ch ns ls V N M OM nS nP nL li y ln now oc onow ms on ov oms yl h
  have hR := ld_Rup (k' := k + 5) h (by omega)
  have h60 : L.length ≤ 60 := h.2.1.1
  have hln : ln ≤ 12 * k := h.2.2.2.2.2.2.1
  by_cases h0 : v1 < 0
  · exact br_t h0 (br_t h0 ⟨rfl, ld_mkRel hR⟩)
  · obtain ⟨a, ha, rfl⟩ := nI_of h0
    by_cases h1 : L.length < a
    · have hx1 : nI (ld_ids L).length < nI a := by
        rw [ld_idsL]
        exact nI_lt h1 ha
      have hy1 : nI L.length < nI a := nI_lt h1 ha
      exact br_f h0 (br_t hx1 (br_f h0 (br_t hy1 ⟨rfl, ld_mkRel hR⟩)))
    · have hx1 : ¬ nI (ld_ids L).length < nI a := by
        rw [ld_idsL]
        exact nI_nlt (by omega) (by omega)
      have hy1 : ¬ nI L.length < nI a := nI_nlt (by omega) (by omega)
      by_cases h2 : L.length < 60
      · have hx2 : nI (ld_ids L).length < 60 := by
          rw [ld_idsL]
          exact nI_lt (b := 60) h2 (by decide)
        have hy2 : ¬ nI L.length = 60 := by
          intro z
          have := (nI_eq (a := L.length) (b := 60) (by omega) (by omega)).mp z
          omega
        obtain ⟨N', OM', b1, b2, b3⟩ := ld_XbeginChange P OP ch ns ls V N M OM nS nP nL li (T := ld_ids L) (SR := SR) (g := g)
        obtain ⟨on', ov', oms', s1, s2, s3⟩ := ld_Ysave ln now ch oc onow ms on ov oms yl (L := L) (y := y)
        obtain ⟨hD, hO⟩ := ld_Dbegin h b2 s1 s2
        obtain ⟨id, g', y', p1, p2, p3, p4, p5, p6⟩ := ld_Dput P P 1 ns ls V N' M OM' nS nP nL li ln now 1 (nI L.length) now ms on' ov' oms' yl (p := a) v2 hD (fun s hs => absurd hs (List.not_mem_nil)) (fun t ht => ht) b1 (by omega) h2 (by rw [List.length_nil]; omega)
        have p5' : ∀ (post : SX → Prop), post ((nI (ld_ids (ld_ins L a (id, ln + 1, v2))).length), 0, g'.1, g'.2.1, g'.2.2.1, P, P, 1, (nI ([(0, nI (a + 1), nI id)]).length), ns, ls, upd V id v2, g'.2.2.2.1, N', g'.2.2.2.2.1, g'.2.2.2.2.2.1, g'.2.2.2.2.2.2.1, M, OM', g'.2.2.2.2.2.2.2.1, g'.2.2.2.2.2.2.2.2.1, g'.2.2.2.2.2.2.2.2.2, nS, nP, nL, li) → wpX_putIn post ((nI (ld_ids L).length), 0, g.1, g.2.1, g.2.2.1, P, P, 1, (nI ([] : List ld_St).length), ns, ls, upd V id v2, g.2.2.2.1, N', g.2.2.2.2.1, g.2.2.2.2.2.1, g.2.2.2.2.2.2.1, M, OM', g.2.2.2.2.2.2.2.1, g.2.2.2.2.2.2.2.2.1, g.2.2.2.2.2.2.2.2.2, nS, nP, nL, li) (nI a + 1) (nI id) := by
          rw [nI_1]
          exact p5
        refine br_f h0 (br_f hx1 (br_t hx2 (b3 _ (p4 _ (p5' _ (br_f h0 (br_f hy1 (br_f hy2 (s3 _ (nm_r (nI_1 ln) (p6 _ ⟨rfl, ld_mkRel (L := ld_ins L a (id, ln + 1, v2)) (SR := [(0, nI (a + 1), nI id)]) (g := g') (y := y') (ln := ln + 1) ?_⟩)))))))))))
        exact ld_Dend p1 (ld_OtUp hO (by omega)) (Or.inr ⟨(id, ln + 1, v2), (ld_memIns (by omega)).mpr (Or.inl rfl), rfl, rfl⟩) (by rw [List.length_singleton]; omega) (by omega)
      · have hx2 : ¬ nI (ld_ids L).length < 60 := by
          rw [ld_idsL]
          exact nI_nlt (b := 60) (by omega) (by omega)
        have hy2 : nI L.length = 60 := by
          rw [show L.length = 60 by omega]
          rfl
        exact br_f h0 (br_f hx1 (br_f hx2 (br_f h0 (br_f hy1 (br_t hy2 ⟨rfl, ld_mkRel hR⟩)))))
section
variable (P OP ch ns ls : Int32) (V OM nS nP nL li : Nat → Int32) {O : List ld_E} {W : Nat → Int32} (ln : Nat) (now ych oc onow : Int32) (on ov oms yl : Nat → Int32)
theorem ld_rmL {a b : Nat} (hb : b ≤ 60) (hl : ln ≤ 1000000) : ∀ (d k : Nat) (L : List ld_E) (SR : List ld_St) (g : ld_GX) (N M : Nat → Int32) (y : (Nat → Int32) × (Nat → Int32)) (ms : Nat → Int32), ld_D O W L SR g V M y ln ms → k + d = b + 1 → a + d ≤ L.length → SR.length + d ≤ 140 → ∃ (L' : List ld_E) (SR' : List ld_St) (g' : ld_GX) (N' M' : Nat → Int32) (y' : (Nat → Int32) × (Nat → Int32)) (ms' : Nat → Int32), ld_D O W L' SR' g' V M' y' ln ms' ∧ L'.length + d = L.length ∧ SR'.length = SR.length + d ∧ (∀ (post : Int32 → SX → Prop) n, wX_remove_17 post (nI (a + 1)) (nI b) n (nI (b + 1)) (nI (ld_ids L').length) 0 g'.1 g'.2.1 g'.2.2.1 P OP ch (nI SR'.length) ns ls V g'.2.2.2.1 N' g'.2.2.2.2.1 g'.2.2.2.2.2.1 g'.2.2.2.2.2.2.1 M' OM g'.2.2.2.2.2.2.2.1 g'.2.2.2.2.2.2.2.2.1 g'.2.2.2.2.2.2.2.2.2 nS nP nL li → wX_remove_17 post (nI (a + 1)) (nI b) (n + d) (nI k) (nI (ld_ids L).length) 0 g.1 g.2.1 g.2.2.1 P OP ch (nI SR.length) ns ls V g.2.2.2.1 N g.2.2.2.2.1 g.2.2.2.2.2.1 g.2.2.2.2.2.2.1 M OM g.2.2.2.2.2.2.2.1 g.2.2.2.2.2.2.2.2.1 g.2.2.2.2.2.2.2.2.2 nS nP nL li) ∧ (∀ (post : Int32 → SY → Prop) n, wY_remove_17 post (nI (a + 1)) (nI b) n (nI (b + 1)) (nI L'.length) (nI ln) now ych oc onow y'.1 y'.2 ms' on ov oms yl → wY_remove_17 post (nI (a + 1)) (nI b) (n + d) (nI k) (nI L.length) (nI ln) now ych oc onow y.1 y.2 ms on ov oms yl) := by
  intro d
  induction d with
  | zero =>
    intro k L SR g N M y ms hD hk _ _
    have hk : k = b + 1 := by omega
    subst hk
    exact ⟨L, SR, g, N, M, y, ms, hD, rfl, rfl, fun post n h => h, fun post n h => h⟩
  | succ d ih =>
    intro k L SR g N M y ms hD hk hL hs
    obtain ⟨e, he⟩ := ld_some (L := L) (p := a) (by omega)
    have hlen := ld_delL he
    have h60 := hD.2.1.1
    have hye := (hD.2.1.2 a e he).1
    obtain ⟨g1, M1, y1, ms1, t0, t1, t2, t3, t4⟩ := ld_Dtake P OP ch ns ls V N M OM nS nP nL li ln now ych oc onow ms on ov oms yl hD he (by omega) hl
    obtain ⟨L', SR', g', N', M', y', ms', i1, i2, i3, i4, i5⟩ := ih (k + 1) (ld_del L a) ((1, nI (a + 1), nI e.1) :: SR) g1 (upd N e.1 (vp_nar .boolean 1)) M1 y1 ms1 t0 (by omega) (by omega) (by rw [List.length_cons]; omega)
    rw [List.length_cons] at i3
    refine ⟨L', SR', g', N', M', y', ms', i1, by omega, by omega, ?_, ?_⟩
    · intro post n hn
      have hlt : ¬ nI b < nI k := nI_nlt (by omega) (by omega)
      exact br_f hlt (t1 _ (t2 _ (nm_r (nI_1 k) (i4 post n hn))))
    · intro post n hn
      have hlt : ¬ nI b < nI k := nI_nlt (by omega) (by omega)
      have hvp : vp_in (nI (a + 1) - 1) 60 := by
        rw [nI_pred]
        exact vp_in_nI (by omega) (by decide)
      have t3' : ∀ (post : SY → Prop), post ((nI L.length), (nI ln), now, ych, oc, onow, y.1, y.2, ms1, on, ov, oms, yl) → wpY_forget post ((nI L.length), (nI ln), now, ych, oc, onow, y.1, y.2, ms, on, ov, oms, yl) (y.1 (nI (a + 1) - 1).toNatClampNeg) := by
        rw [nI_pred, nI_clamp (by omega), hye]
        exact t3
      have t4' : ∀ (post : SY → Prop), post ((nI (ld_del L a).length), (nI ln), now, ych, oc, onow, y1.1, y1.2, ms1, on, ov, oms, yl) → wpY_takeOut post ((nI L.length), (nI ln), now, ych, oc, onow, y.1, y.2, ms1, on, ov, oms, yl) (nI (a + 1) - 1) := by
        rw [nI_pred]
        exact t4
      exact br_f hlt ⟨hvp, t3' _ (t4' _ (nm_r (nI_1 k) (i5 post n hn)))⟩
end
section
variable (P OP ch ns ls : Int32) (V N M OM nS nP nL li : Nat → Int32) {L O : List ld_E} {W : Nat → Int32} {SR : List ld_St} {g : ld_GX} {y : (Nat → Int32) × (Nat → Int32)} (ln : Nat) (now ych oc onow : Int32) (ms on ov oms yl : Nat → Int32)
/-- the end of remove -/
theorem ld_rmE {a b : Nat} (hI : ld_I (ld_ids L) SR g) (hY : ld_Y L y) (ha : a + 1 < 1000) (hb : b ≤ 60) : ∃ g' P' now', ld_I (ld_ids L) SR g' ∧ ld_pr L P' now' ∧ (∀ (post : Int32 → SX → Prop), post (nI b - nI (a + 1) + 1) ((nI (ld_ids L).length), 0, g'.1, g'.2.1, g'.2.2.1, P', OP, ch, (nI SR.length), ns, ls, V, g'.2.2.2.1, N, g'.2.2.2.2.1, g'.2.2.2.2.2.1, g'.2.2.2.2.2.2.1, M, OM, g'.2.2.2.2.2.2.2.1, g'.2.2.2.2.2.2.2.2.1, g'.2.2.2.2.2.2.2.2.2, nS, nP, nL, li) → wX_remove_17 post (nI (a + 1)) (nI b) 1 (nI (b + 1)) (nI (ld_ids L).length) 0 g.1 g.2.1 g.2.2.1 P OP ch (nI SR.length) ns ls V g.2.2.2.1 N g.2.2.2.2.1 g.2.2.2.2.2.1 g.2.2.2.2.2.2.1 M OM g.2.2.2.2.2.2.2.1 g.2.2.2.2.2.2.2.2.1 g.2.2.2.2.2.2.2.2.2 nS nP nL li) ∧ (∀ (post : Int32 → SY → Prop), post (nI b - nI (a + 1) + 1) ((nI L.length), (nI ln), now', ych, oc, onow, y.1, y.2, ms, on, ov, oms, yl) → wY_remove_17 post (nI (a + 1)) (nI b) 1 (nI (b + 1)) (nI L.length) (nI ln) now ych oc onow y.1 y.2 ms on ov oms yl) := by
  have h60 := hY.1
  have hlt : nI b < nI (b + 1) := nI_lt (by omega) (by omega)
  have hil := ld_idsL L
  by_cases h0 : L.length = 0
  · have hL : L = [] := List.length_eq_zero_iff.mp h0
    subst hL
    have hx1 : nI (ld_ids ([] : List ld_E)).length < nI (a + 1) := nI_lt (a := 0) (by omega) (by omega)
    have hx2 : nI (ld_ids ([] : List ld_E)).length = 0 := rfl
    have hy1 : nI ([] : List ld_E).length = 0 := rfl
    exact ⟨g, -1, 0, hI, Or.inl ⟨rfl, rfl, rfl⟩, fun post hp => br_t hlt (br_t hx1 (br_t hx2 hp)), fun post hp => br_t hlt (br_t hy1 hp)⟩
  · have hy1 : ¬ nI L.length = 0 := nI_ne0 (by omega) (by omega)
    by_cases h1 : L.length < a + 1
    · obtain ⟨e, he⟩ := ld_some (L := L) (p := L.length - 1) (by omega)
      obtain ⟨g', i1, i2⟩ := ld_XlineAt P OP ch ns ls V N M OM nS nP nL li hI (ld_idsG he)
      have hx1 : nI (ld_ids L).length < nI (a + 1) := by
        rw [hil]
        exact nI_lt h1 (by omega)
      have hx2 : ¬ nI (ld_ids L).length = 0 := by
        rw [hil]
        exact hy1
      have hy2 : nI L.length < nI (a + 1) := nI_lt h1 (by omega)
      have i2' : ∀ (post : Int32 → SX → Prop), post (nI e.1) ((nI (ld_ids L).length), 0, g'.1, g'.2.1, g'.2.2.1, P, OP, ch, (nI SR.length), ns, ls, V, g'.2.2.2.1, N, g'.2.2.2.2.1, g'.2.2.2.2.2.1, g'.2.2.2.2.2.2.1, M, OM, g'.2.2.2.2.2.2.2.1, g'.2.2.2.2.2.2.2.2.1, g'.2.2.2.2.2.2.2.2.2, nS, nP, nL, li) → wpX_lineAt post ((nI (ld_ids L).length), 0, g.1, g.2.1, g.2.2.1, P, OP, ch, (nI SR.length), ns, ls, V, g.2.2.2.1, N, g.2.2.2.2.1, g.2.2.2.2.2.1, g.2.2.2.2.2.2.1, M, OM, g.2.2.2.2.2.2.2.1, g.2.2.2.2.2.2.2.2.1, g.2.2.2.2.2.2.2.2.2, nS, nP, nL, li) (nI (ld_ids L).length) := by
        intro post hp
        have := i2 post hp
        rw [show nI (L.length - 1 + 1) = nI (ld_ids L).length by rw [hil, Nat.sub_add_cancel (by omega)]] at this
        exact this
      have ep : nI L.length - 1 = nI (L.length - 1) := by rw [show (1 : Int32) = nI 1 from rfl, pk_sub (by omega)]
      refine ⟨g', nI e.1, nI e.2.1, i1, Or.inr ⟨e, List.mem_of_getElem? he, rfl, rfl⟩, fun post hp => br_t hlt (br_t hx1 (br_f hx2 (i2' _ hp))), fun post hp => br_t hlt (br_f hy1 (br_t hy2 ⟨?_, nm_r (e' := nI e.2.1) ?_ hp⟩))⟩
      · rw [ep]
        exact vp_in_nI (by omega) (by decide)
      · rw [ep, nI_clamp (by omega)]
        exact (hY.2 _ e he).1
    · obtain ⟨e, he⟩ := ld_some (L := L) (p := a) (by omega)
      obtain ⟨g', i1, i2⟩ := ld_XlineAt P OP ch ns ls V N M OM nS nP nL li hI (ld_idsG he)
      have hx1 : ¬ nI (ld_ids L).length < nI (a + 1) := by
        rw [hil]
        exact nI_nlt (by omega) (by omega)
      have hx2 : ¬ nI (a + 1) = 0 := nI_ne0 (by omega) (by omega)
      have hy2 : ¬ nI L.length < nI (a + 1) := nI_nlt (by omega) (by omega)
      refine ⟨g', nI e.1, nI e.2.1, i1, Or.inr ⟨e, List.mem_of_getElem? he, rfl, rfl⟩, fun post hp => br_t hlt (br_f hx1 (br_f hx2 (i2 _ hp))), fun post hp => br_t hlt (br_f hy1 (br_f hy2 ⟨?_, nm_r (e' := nI e.2.1) ?_ hp⟩))⟩
      · rw [nI_pred]
        exact vp_in_nI (by omega) (by decide)
      · rw [nI_pred, nI_clamp (by omega)]
        exact (hY.2 _ e he).1
end
theorem i_vc_remove {k : Nat} {u : SX} {v : SY} (I : i_Rel k u v) (hk : k + 5 ≤ 2560) (v1 : Int32) (v2 : Int32) : wpX_remove (fun r u' => wpY_remove (fun r' v' => r' = r ∧ i_Rel (k + 5) u' v') v v1 v2) u v1 v2 := by
  refine ld_el (Q := fun u v => wpX_remove (fun r u' => wpY_remove (fun r' v' => r' = r ∧ i_Rel (k + 5) u' v') v v1 v2) u v1 v2) ?_ I
  intro L SR g P OP ch ns ls V N M OM nS nP nL li y ln now oc onow ms on ov oms yl h
  have hR := ld_Rup (k' := k + 5) h (by omega)
  have h60 : L.length ≤ 60 := h.2.1.1
  have hln : ln ≤ 12 * k := h.2.2.2.2.2.2.1
  have h10 : ¬ (1 : Int32) = 0 := by decide
  rcases ld_range P OP ch ns ls V N M OM nS nP nL li ln now ch oc onow ms on ov oms yl (L := L) (SR := SR) (g := g) (y := y) h60 v1 v2 with ⟨hx, hy⟩ | ⟨a, b, rfl, rfl, hab, hbL, hx, hy⟩
  · unfold wpX_remove
    refine hx _ (br_t rfl ?_)
    unfold wpY_remove
    exact hy _ (br_f h10 ⟨rfl, ld_mkRel hR⟩)
  · obtain ⟨N', OM', b1, b2, b3⟩ := ld_XbeginChange P OP ch ns ls V N M OM nS nP nL li (T := ld_ids L) (SR := SR) (g := g)
    obtain ⟨on', ov', oms', s1, s2, s3⟩ := ld_Ysave ln now ch oc onow ms on ov oms yl (L := L) (y := y)
    obtain ⟨hD, hO⟩ := ld_Dbegin h b2 s1 s2
    obtain ⟨L1, SR1, g1, N1, M1, y1, ms1, i1, i2, i3, i4, i5⟩ := ld_rmL P P 1 ns ls V OM' nS nP nL li ln now 1 (nI L.length) now on' ov' oms' yl (a := a) (b := b) (by omega) (by omega) (b - a) (a + 1) L [] g N' M y ms hD (by omega) (by omega) (by rw [List.length_nil]; omega)
    rw [List.length_nil] at i3
    obtain ⟨g2, P2, now2, e1, e2, e3, e4⟩ := ld_rmE P P 1 ns ls V N1 M1 OM' nS nP nL li ln now 1 (nI L.length) now ms1 on' ov' oms' yl (a := a) (b := b) i1.1 i1.2.1 (by omega) (by omega)
    unfold wpX_remove
    refine hx _ (br_f h10 (b3 _ ⟨1 + (b - a), i4 _ 1 (e3 _ ?_)⟩))
    unfold wpY_remove
    refine hy _ (br_t rfl (s3 _ ⟨1 + (b - a), i5 _ 1 (e4 _ ⟨rfl, ld_mkRel ?_⟩)⟩))
    exact ld_Dend ⟨e1, i1.2⟩ hO e2 (by omega) (by omega)
end
section
/-! move -/
section
variable (OP ch ns ls : Int32) (V M OM nS nP nL li : Nat → Int32) {O : List ld_E} {W : Nat → Int32} (ln : Nat) (now ych oc onow : Int32) (ms on ov oms yl : Nat → Int32)
/-- one line up -/
theorem ld_mvU {a b dst k : Nat} {L : List ld_E} {SR : List ld_St} {g : ld_GX} {y : (Nat → Int32) × (Nat → Int32)} (P : Int32) (N : Nat → Int32) (x4 : Int32) {e : ld_E} (hD : ld_D O W L SR g V M y ln ms) (he : L[k]? = some e) (hak : a ≤ k) (hkb : k < b) (hb : b ≤ L.length) (hd : dst ≤ a) (hs : SR.length + 1 < 140) : ∃ (SR' : List ld_St) (g' : ld_GX) (N' : Nat → Int32) (y' : (Nat → Int32) × (Nat → Int32)), ld_D O W (ld_ins (ld_del L k) (dst + (k - a)) e) SR' g' V M y' ln ms ∧ SR'.length = SR.length + 2 ∧ (∀ (post : Int32 → SX → Prop) n, wX_move_43 post (nI (a + 1)) (nI b) (nI dst) n (nI (dst + (k - a) + 1)) (nI (k + 1 + 1)) (nI (ld_ids (ld_ins (ld_del L k) (dst + (k - a)) e)).length) 0 g'.1 g'.2.1 g'.2.2.1 (nI e.1) OP ch (nI SR'.length) ns ls V g'.2.2.2.1 N' g'.2.2.2.2.1 g'.2.2.2.2.2.1 g'.2.2.2.2.2.2.1 M OM g'.2.2.2.2.2.2.2.1 g'.2.2.2.2.2.2.2.2.1 g'.2.2.2.2.2.2.2.2.2 nS nP nL li → wX_move_43 post (nI (a + 1)) (nI b) (nI dst) (n + 1) x4 (nI (k + 1)) (nI (ld_ids L).length) 0 g.1 g.2.1 g.2.2.1 P OP ch (nI SR.length) ns ls V g.2.2.2.1 N g.2.2.2.2.1 g.2.2.2.2.2.1 g.2.2.2.2.2.2.1 M OM g.2.2.2.2.2.2.2.1 g.2.2.2.2.2.2.2.2.1 g.2.2.2.2.2.2.2.2.2 nS nP nL li) ∧ (∀ (post : Int32 → SY → Prop) z n, wY_move_50 post (nI (a + 1)) (nI b) (nI dst) z n (nI (k + 1 - a)) (nI (ld_ins (ld_del L k) (dst + (k - a)) e).length) (nI ln) now ych oc onow y'.1 y'.2 ms on ov oms yl → wY_move_50 post (nI (a + 1)) (nI b) (nI dst) z (n + 1) (nI (k - a)) (nI L.length) (nI ln) now ych oc onow y.1 y.2 ms on ov oms yl) := by
  have h60 := hD.2.1.1
  have hye := hD.2.1.2 k e he
  obtain ⟨g1, g', y1, y', t0, t1, t2, t3, t4⟩ := ld_Dshift P OP ch ns ls V N M OM nS nP nL li ln now ych oc onow ms on ov oms yl hD he (q := dst + (k - a)) (by omega) hs
  refine ⟨_, g', upd N e.1 (vp_nar .boolean 1), y', t0, rfl, ?_, ?_⟩
  · intro post n hn
    have c1 : ¬ nI b < nI (k + 1) := nI_nlt (by omega) (by omega)
    have c2 : nI dst < nI b := nI_lt (by omega) (by omega)
    have eq : nI dst + 1 + nI (k + 1) - nI (a + 1) = nI (dst + (k - a) + 1) := by
      rw [nI_1, nI_add, pk_sub (by omega)]
      exact congrArg nI (by omega)
    have t2' : ∀ (post : SX → Prop), post ((nI (ld_ids (ld_ins (ld_del L k) (dst + (k - a)) e)).length), 0, g'.1, g'.2.1, g'.2.2.1, P, OP, ch, (nI ((0, nI (dst + (k - a) + 1), nI e.1) :: (1, nI (k + 1), nI e.1) :: SR).length), ns, ls, V, g'.2.2.2.1, upd N e.1 (vp_nar .boolean 1), g'.2.2.2.2.1, g'.2.2.2.2.2.1, g'.2.2.2.2.2.2.1, M, OM, g'.2.2.2.2.2.2.2.1, g'.2.2.2.2.2.2.2.2.1, g'.2.2.2.2.2.2.2.2.2, nS, nP, nL, li) → wpX_putIn post ((nI (ld_ids (ld_del L k)).length), 0, g1.1, g1.2.1, g1.2.2.1, P, OP, ch, (nI ((1, nI (k + 1), nI e.1) :: SR).length), ns, ls, V, g1.2.2.2.1, upd N e.1 (vp_nar .boolean 1), g1.2.2.2.2.1, g1.2.2.2.2.2.1, g1.2.2.2.2.2.2.1, M, OM, g1.2.2.2.2.2.2.2.1, g1.2.2.2.2.2.2.2.2.1, g1.2.2.2.2.2.2.2.2.2, nS, nP, nL, li) (nI dst + 1 + nI (k + 1) - nI (a + 1)) (nI e.1) := by
      rw [eq]
      exact t2
    rw [← eq] at hn
    refine br_f c1 (br_t c2 (br_t rfl ?_))
    unfold wX_move_73
    refine t1 _ (br_t rfl ?_)
    unfold wX_move_95
    exact t2' _ (nm_r (nI_1 (k + 1)) hn)
  · intro post z n hn
    have ex : nI b - nI (a + 1) = nI (b - (a + 1)) := pk_sub (by omega)
    have c1 : ¬ nI b - nI (a + 1) < nI (k - a) := by
      rw [ex]
      exact nI_nlt (by omega) (by omega)
    have c2 : ¬ nI (a + 1) ≤ nI dst := nI_ge (by omega) (by omega)
    have es : nI (a + 1) - 1 + nI (k - a) = nI k := by
      rw [nI_pred, nI_add]
      exact congrArg nI (by omega)
    have hvk : vp_in (nI (a + 1) - 1 + nI (k - a)) 60 := by
      rw [es]
      exact vp_in_nI (by omega) (by decide)
    have t3' : ∀ (post : SY → Prop), post ((nI (ld_del L k).length), (nI ln), now, ych, oc, onow, y1.1, y1.2, ms, on, ov, oms, yl) → wpY_takeOut post ((nI L.length), (nI ln), now, ych, oc, onow, y.1, y.2, ms, on, ov, oms, yl) (nI (a + 1) - 1 + nI (k - a)) := by
      rw [es]
      exact t3
    have t4' : ∀ (post : SY → Prop), post ((nI (ld_ins (ld_del L k) (dst + (k - a)) e).length), (nI ln), now, ych, oc, onow, y'.1, y'.2, ms, on, ov, oms, yl) → wpY_insert post ((nI (ld_del L k).length), (nI ln), now, ych, oc, onow, y1.1, y1.2, ms, on, ov, oms, yl) (nI dst + nI (k - a)) (nI e.2.1) e.2.2 := by
      rw [nI_add]
      exact t4
    have ek : nI (k - a) + 1 = nI (k + 1 - a) := by
      rw [nI_1]
      exact congrArg nI (by omega)
    refine br_f c1 (br_f c2 ⟨hvk, nm_r (e' := nI e.2.1) (by rw [es, nI_clamp (by omega)]; exact hye.1) ⟨hvk, nm_r (e' := e.2.2) (by rw [es, nI_clamp (by omega)]; exact hye.2) (t3' _ (br_f c2 ?_))⟩⟩)
    unfold wY_move_117
    exact t4' _ (nm_r ek hn)
/-- one line down -/
theorem ld_mvD {a b dst k : Nat} {L : List ld_E} {SR : List ld_St} {g : ld_GX} {y : (Nat → Int32) × (Nat → Int32)} (P : Int32) (N : Nat → Int32) (x4 : Int32) {e : ld_E} (hD : ld_D O W L SR g V M y ln ms) (he : L[a]? = some e) (hak : a ≤ k) (hkb : k < b) (hb : b ≤ dst) (hd : dst ≤ L.length) (hs : SR.length + 1 < 140) : ∃ (SR' : List ld_St) (g' : ld_GX) (N' : Nat → Int32) (y' : (Nat → Int32) × (Nat → Int32)), ld_D O W (ld_ins (ld_del L a) (dst - 1) e) SR' g' V M y' ln ms ∧ SR'.length = SR.length + 2 ∧ (∀ (post : Int32 → SX → Prop) n, wX_move_43 post (nI (a + 1)) (nI b) (nI dst) n (nI dst) (nI (k + 1 + 1)) (nI (ld_ids (ld_ins (ld_del L a) (dst - 1) e)).length) 0 g'.1 g'.2.1 g'.2.2.1 (nI e.1) OP ch (nI SR'.length) ns ls V g'.2.2.2.1 N' g'.2.2.2.2.1 g'.2.2.2.2.2.1 g'.2.2.2.2.2.2.1 M OM g'.2.2.2.2.2.2.2.1 g'.2.2.2.2.2.2.2.2.1 g'.2.2.2.2.2.2.2.2.2 nS nP nL li → wX_move_43 post (nI (a + 1)) (nI b) (nI dst) (n + 1) x4 (nI (k + 1)) (nI (ld_ids L).length) 0 g.1 g.2.1 g.2.2.1 P OP ch (nI SR.length) ns ls V g.2.2.2.1 N g.2.2.2.2.1 g.2.2.2.2.2.1 g.2.2.2.2.2.2.1 M OM g.2.2.2.2.2.2.2.1 g.2.2.2.2.2.2.2.2.1 g.2.2.2.2.2.2.2.2.2 nS nP nL li) ∧ (∀ (post : Int32 → SY → Prop) z n, wY_move_50 post (nI (a + 1)) (nI b) (nI dst) z n (nI (k + 1 - a)) (nI (ld_ins (ld_del L a) (dst - 1) e).length) (nI ln) now ych oc onow y'.1 y'.2 ms on ov oms yl → wY_move_50 post (nI (a + 1)) (nI b) (nI dst) z (n + 1) (nI (k - a)) (nI L.length) (nI ln) now ych oc onow y.1 y.2 ms on ov oms yl) := by
  have h60 := hD.2.1.1
  have hye := hD.2.1.2 a e he
  obtain ⟨g1, g', y1, y', t0, t1, t2, t3, t4⟩ := ld_Dshift P OP ch ns ls V N M OM nS nP nL li ln now ych oc onow ms on ov oms yl hD he (q := dst - 1) (by omega) hs
  refine ⟨_, g', upd N e.1 (vp_nar .boolean 1), y', t0, rfl, ?_, ?_⟩
  · intro post n hn
    have c1 : ¬ nI b < nI (k + 1) := nI_nlt (by omega) (by omega)
    have c2 : ¬ nI dst < nI b := nI_nlt (by omega) (by omega)
    have h10 : ¬ (1 : Int32) = 0 := by decide
    have eq : nI (dst - 1 + 1) = nI dst := congrArg nI (by omega)
    have t2' : ∀ (post : SX → Prop), post ((nI (ld_ids (ld_ins (ld_del L a) (dst - 1) e)).length), 0, g'.1, g'.2.1, g'.2.2.1, P, OP, ch, (nI ((0, nI (dst - 1 + 1), nI e.1) :: (1, nI (a + 1), nI e.1) :: SR).length), ns, ls, V, g'.2.2.2.1, upd N e.1 (vp_nar .boolean 1), g'.2.2.2.2.1, g'.2.2.2.2.2.1, g'.2.2.2.2.2.2.1, M, OM, g'.2.2.2.2.2.2.2.1, g'.2.2.2.2.2.2.2.2.1, g'.2.2.2.2.2.2.2.2.2, nS, nP, nL, li) → wpX_putIn post ((nI (ld_ids (ld_del L a)).length), 0, g1.1, g1.2.1, g1.2.2.1, P, OP, ch, (nI ((1, nI (a + 1), nI e.1) :: SR).length), ns, ls, V, g1.2.2.2.1, upd N e.1 (vp_nar .boolean 1), g1.2.2.2.2.1, g1.2.2.2.2.2.1, g1.2.2.2.2.2.2.1, M, OM, g1.2.2.2.2.2.2.2.1, g1.2.2.2.2.2.2.2.2.1, g1.2.2.2.2.2.2.2.2.2, nS, nP, nL, li) (nI dst) (nI e.1) := by
      rw [← eq]
      exact t2
    refine br_f c1 (br_f c2 (br_f h10 ?_))
    unfold wX_move_73
    refine t1 _ (br_f h10 ?_)
    unfold wX_move_95
    exact t2' _ (nm_r (nI_1 (k + 1)) hn)
  · intro post z n hn
    have ex : nI b - nI (a + 1) = nI (b - (a + 1)) := pk_sub (by omega)
    have c1 : ¬ nI b - nI (a + 1) < nI (k - a) := by
      rw [ex]
      exact nI_nlt (by omega) (by omega)
    have c2 : nI (a + 1) ≤ nI dst := nI_le (by omega) (by omega)
    have es : nI (a + 1) - 1 = nI a := nI_pred a
    have hvk : vp_in (nI (a + 1) - 1) 60 := by
      rw [es]
      exact vp_in_nI (by omega) (by decide)
    have t3' : ∀ (post : SY → Prop), post ((nI (ld_del L a).length), (nI ln), now, ych, oc, onow, y1.1, y1.2, ms, on, ov, oms, yl) → wpY_takeOut post ((nI L.length), (nI ln), now, ych, oc, onow, y.1, y.2, ms, on, ov, oms, yl) (nI (a + 1) - 1) := by
      rw [es]
      exact t3
    have t4' : ∀ (post : SY → Prop), post ((nI (ld_ins (ld_del L a) (dst - 1) e).length), (nI ln), now, ych, oc, onow, y'.1, y'.2, ms, on, ov, oms, yl) → wpY_insert post ((nI (ld_del L a).length), (nI ln), now, ych, oc, onow, y1.1, y1.2, ms, on, ov, oms, yl) (nI dst - 1) (nI e.2.1) e.2.2 := by
      rw [show (1 : Int32) = nI 1 from rfl, pk_sub (by omega)]
      exact t4
    have ek : nI (k - a) + 1 = nI (k + 1 - a) := by
      rw [nI_1]
      exact congrArg nI (by omega)
    refine br_f c1 (br_t c2 ⟨hvk, nm_r (e' := nI e.2.1) (by rw [es, nI_clamp (by omega)]; exact hye.1) ⟨hvk, nm_r (e' := e.2.2) (by rw [es, nI_clamp (by omega)]; exact hye.2) (t3' _ (br_t c2 ?_))⟩⟩)
    unfold wY_move_117
    exact t4' _ (nm_r ek hn)
theorem ld_mvUL {a b dst : Nat} (hd : dst ≤ a) : ∀ (d k : Nat) (L : List ld_E) (SR : List ld_St) (g : ld_GX) (P : Int32) (N : Nat → Int32) (y : (Nat → Int32) × (Nat → Int32)) (x4 : Int32), ld_D O W L SR g V M y ln ms → k + (d + 1) = b → a ≤ k → b ≤ L.length → SR.length + 2 * (d + 1) ≤ 140 → ∃ (L' : List ld_E) (SR' : List ld_St) (g' : ld_GX) (N' : Nat → Int32) (y' : (Nat → Int32) × (Nat → Int32)) (e : ld_E), ld_D O W L' SR' g' V M y' ln ms ∧ SR'.length = SR.length + 2 * (d + 1) ∧ L[b - 1]? = some e ∧ L'[dst + (b - 1 - a)]? = some e ∧ (∀ (post : Int32 → SX → Prop) n, wX_move_43 post (nI (a + 1)) (nI b) (nI dst) n (nI (dst + (b - 1 - a) + 1)) (nI (b + 1)) (nI (ld_ids L').length) 0 g'.1 g'.2.1 g'.2.2.1 (nI e.1) OP ch (nI SR'.length) ns ls V g'.2.2.2.1 N' g'.2.2.2.2.1 g'.2.2.2.2.2.1 g'.2.2.2.2.2.2.1 M OM g'.2.2.2.2.2.2.2.1 g'.2.2.2.2.2.2.2.2.1 g'.2.2.2.2.2.2.2.2.2 nS nP nL li → wX_move_43 post (nI (a + 1)) (nI b) (nI dst) (n + (d + 1)) x4 (nI (k + 1)) (nI (ld_ids L).length) 0 g.1 g.2.1 g.2.2.1 P OP ch (nI SR.length) ns ls V g.2.2.2.1 N g.2.2.2.2.1 g.2.2.2.2.2.1 g.2.2.2.2.2.2.1 M OM g.2.2.2.2.2.2.2.1 g.2.2.2.2.2.2.2.2.1 g.2.2.2.2.2.2.2.2.2 nS nP nL li) ∧ (∀ (post : Int32 → SY → Prop) z n, wY_move_50 post (nI (a + 1)) (nI b) (nI dst) z n (nI (b - a)) (nI L'.length) (nI ln) now ych oc onow y'.1 y'.2 ms on ov oms yl → wY_move_50 post (nI (a + 1)) (nI b) (nI dst) z (n + (d + 1)) (nI (k - a)) (nI L.length) (nI ln) now ych oc onow y.1 y.2 ms on ov oms yl) := by
  intro d
  induction d with
  | zero =>
    intro k L SR g P N y x4 hD hk hak hb hs
    obtain ⟨e, he⟩ := ld_some (L := L) (p := k) (by omega)
    have hlen := ld_delL he
    obtain ⟨SR', g', N', y', i1, i2, i3, i4⟩ := ld_mvU OP ch ns ls V M OM nS nP nL li ln now ych oc onow ms on ov oms yl P N x4 hD he hak (b := b) (by omega) hb hd (by omega)
    have hbk : b - 1 = k := by omega
    refine ⟨_, SR', g', N', y', e, i1, by omega, by rw [hbk]; exact he, by rw [hbk]; exact ld_insAt (by omega), ?_, ?_⟩
    · intro post n hn
      refine i3 post n ?_
      rw [hbk, show b + 1 = k + 1 + 1 by omega] at hn
      exact hn
    · intro post z n hn
      refine i4 post z n ?_
      rw [show b - a = k + 1 - a by omega] at hn
      exact hn
  | succ d ih =>
    intro k L SR g P N y x4 hD hk hak hb hs
    obtain ⟨e, he⟩ := ld_some (L := L) (p := k) (by omega)
    have hlen := ld_delL he
    have hli := ld_insL (L := ld_del L k) (p := dst + (k - a)) (e := e) (by omega)
    obtain ⟨SR1, g1, N1, y1, i1, i2, i3, i4⟩ := ld_mvU OP ch ns ls V M OM nS nP nL li ln now ych oc onow ms on ov oms yl P N x4 hD he hak (b := b) (by omega) hb hd (by omega)
    obtain ⟨L', SR', g', N', y', e', j1, j2, j3, j4, j5, j6⟩ := ih (k + 1) _ SR1 g1 (nI e.1) N1 y1 (nI (dst + (k - a) + 1)) i1 (by omega) (by omega) (by omega) (by omega)
    refine ⟨L', SR', g', N', y', e', j1, by omega, ?_, j4, ?_, ?_⟩
    · rw [← j3, ld_insG (by omega), if_neg (by omega), if_neg (by omega), ld_delG he, if_neg (by omega)]
      exact congrArg (fun i => L[i]?) (by omega)
    · intro post n hn
      exact i3 post (n + (d + 1)) (j5 post n hn)
    · intro post z n hn
      exact i4 post z (n + (d + 1)) (j6 post z n hn)
theorem ld_mvDL {a b dst : Nat} (hd : b ≤ dst) : ∀ (d k : Nat) (L : List ld_E) (SR : List ld_St) (g : ld_GX) (P : Int32) (N : Nat → Int32) (y : (Nat → Int32) × (Nat → Int32)) (x4 : Int32), ld_D O W L SR g V M y ln ms → k + (d + 1) = b → a ≤ k → dst ≤ L.length → SR.length + 2 * (d + 1) ≤ 140 → ∃ (L' : List ld_E) (SR' : List ld_St) (g' : ld_GX) (N' : Nat → Int32) (y' : (Nat → Int32) × (Nat → Int32)) (e : ld_E), ld_D O W L' SR' g' V M y' ln ms ∧ SR'.length = SR.length + 2 * (d + 1) ∧ L[a + d]? = some e ∧ L'[dst - 1]? = some e ∧ (∀ (post : Int32 → SX → Prop) n, wX_move_43 post (nI (a + 1)) (nI b) (nI dst) n (nI dst) (nI (b + 1)) (nI (ld_ids L').length) 0 g'.1 g'.2.1 g'.2.2.1 (nI e.1) OP ch (nI SR'.length) ns ls V g'.2.2.2.1 N' g'.2.2.2.2.1 g'.2.2.2.2.2.1 g'.2.2.2.2.2.2.1 M OM g'.2.2.2.2.2.2.2.1 g'.2.2.2.2.2.2.2.2.1 g'.2.2.2.2.2.2.2.2.2 nS nP nL li → wX_move_43 post (nI (a + 1)) (nI b) (nI dst) (n + (d + 1)) x4 (nI (k + 1)) (nI (ld_ids L).length) 0 g.1 g.2.1 g.2.2.1 P OP ch (nI SR.length) ns ls V g.2.2.2.1 N g.2.2.2.2.1 g.2.2.2.2.2.1 g.2.2.2.2.2.2.1 M OM g.2.2.2.2.2.2.2.1 g.2.2.2.2.2.2.2.2.1 g.2.2.2.2.2.2.2.2.2 nS nP nL li) ∧ (∀ (post : Int32 → SY → Prop) z n, wY_move_50 post (nI (a + 1)) (nI b) (nI dst) z n (nI (b - a)) (nI L'.length) (nI ln) now ych oc onow y'.1 y'.2 ms on ov oms yl → wY_move_50 post (nI (a + 1)) (nI b) (nI dst) z (n + (d + 1)) (nI (k - a)) (nI L.length) (nI ln) now ych oc onow y.1 y.2 ms on ov oms yl) := by
  intro d
  induction d with
  | zero =>
    intro k L SR g P N y x4 hD hk hak hb hs
    obtain ⟨e, he⟩ := ld_some (L := L) (p := a) (by omega)
    have hlen := ld_delL he
    obtain ⟨SR', g', N', y', i1, i2, i3, i4⟩ := ld_mvD OP ch ns ls V M OM nS nP nL li ln now ych oc onow ms on ov oms yl P N x4 hD he hak (b := b) (by omega) hd hb (by omega)
    refine ⟨_, SR', g', N', y', e, i1, by omega, he, ld_insAt (by omega), ?_, ?_⟩
    · intro post n hn
      refine i3 post n ?_
      rw [show b + 1 = k + 1 + 1 by omega] at hn
      exact hn
    · intro post z n hn
      refine i4 post z n ?_
      rw [show b - a = k + 1 - a by omega] at hn
      exact hn
  | succ d ih =>
    intro k L SR g P N y x4 hD hk hak hb hs
    obtain ⟨e, he⟩ := ld_some (L := L) (p := a) (by omega)
    have hlen := ld_delL he
    have hli := ld_insL (L := ld_del L a) (p := dst - 1) (e := e) (by omega)
    obtain ⟨SR1, g1, N1, y1, i1, i2, i3, i4⟩ := ld_mvD OP ch ns ls V M OM nS nP nL li ln now ych oc onow ms on ov oms yl P N x4 hD he hak (b := b) (by omega) hd hb (by omega)
    obtain ⟨L', SR', g', N', y', e', j1, j2, j3, j4, j5, j6⟩ := ih (k + 1) _ SR1 g1 (nI e.1) N1 y1 (nI dst) i1 (by omega) (by omega) (by omega) (by omega)
    refine ⟨L', SR', g', N', y', e', j1, by omega, ?_, j4, ?_, ?_⟩
    · rw [← j3, ld_insG (by omega), if_pos (by omega), ld_delG he, if_neg (by omega)]
      rfl
    · intro post n hn
      exact i3 post (n + (d + 1)) (j5 post n hn)
    · intro post z n hn
      exact i4 post z (n + (d + 1)) (j6 post z n hn)
/-- the whole loop -/
theorem ld_mvA {a b dst : Nat} {L : List ld_E} {SR : List ld_St} {g : ld_GX} {y : (Nat → Int32) × (Nat → Int32)} (P : Int32) (N : Nat → Int32) (hD : ld_D O W L [] g V M y ln ms) (hab : a < b) (hb : b ≤ L.length) (hd : dst ≤ L.length) (hc : dst ≤ a ∨ b ≤ dst) : ∃ (L' : List ld_E) (SR' : List ld_St) (g' : ld_GX) (N' : Nat → Int32) (y' : (Nat → Int32) × (Nat → Int32)) (e : ld_E) (q : Nat), ld_D O W L' SR' g' V M y' ln ms ∧ SR'.length ≤ 120 ∧ L[b - 1]? = some e ∧ L'[q]? = some e ∧ (∀ (post : Int32 → SX → Prop) n, wX_move_43 post (nI (a + 1)) (nI b) (nI dst) n (nI (q + 1)) (nI (b + 1)) (nI (ld_ids L').length) 0 g'.1 g'.2.1 g'.2.2.1 (nI e.1) OP ch (nI SR'.length) ns ls V g'.2.2.2.1 N' g'.2.2.2.2.1 g'.2.2.2.2.2.1 g'.2.2.2.2.2.2.1 M OM g'.2.2.2.2.2.2.2.1 g'.2.2.2.2.2.2.2.2.1 g'.2.2.2.2.2.2.2.2.2 nS nP nL li → wX_move_43 post (nI (a + 1)) (nI b) (nI dst) (n + (b - a)) (nI dst) (nI (a + 1)) (nI (ld_ids L).length) 0 g.1 g.2.1 g.2.2.1 P OP ch (nI ([] : List ld_St).length) ns ls V g.2.2.2.1 N g.2.2.2.2.1 g.2.2.2.2.2.1 g.2.2.2.2.2.2.1 M OM g.2.2.2.2.2.2.2.1 g.2.2.2.2.2.2.2.2.1 g.2.2.2.2.2.2.2.2.2 nS nP nL li) ∧ (∀ (post : Int32 → SY → Prop) z n, wY_move_50 post (nI (a + 1)) (nI b) (nI dst) z n (nI (b - a)) (nI L'.length) (nI ln) now ych oc onow y'.1 y'.2 ms on ov oms yl → wY_move_50 post (nI (a + 1)) (nI b) (nI dst) z (n + (b - a)) (nI 0) (nI L.length) (nI ln) now ych oc onow y.1 y.2 ms on ov oms yl) := by
  have h60 := hD.2.1.1
  have eb : b - a = b - 1 - a + 1 := by omega
  rcases hc with hc | hc
  · obtain ⟨L', SR', g', N', y', e, j1, j2, j3, j4, j5, j6⟩ := ld_mvUL OP ch ns ls V M OM nS nP nL li ln now ych oc onow ms on ov oms yl (b := b) hc (b - 1 - a) a L [] g P N y (nI dst) hD (by omega) (by omega) hb (by rw [List.length_nil]; omega)
    rw [List.length_nil] at j2
    refine ⟨L', SR', g', N', y', e, _, j1, by omega, j3, j4, ?_, ?_⟩
    · rw [eb]
      exact j5
    · rw [Nat.sub_self, ← eb] at j6
      exact j6
  · obtain ⟨L', SR', g', N', y', e, j1, j2, j3, j4, j5, j6⟩ := ld_mvDL OP ch ns ls V M OM nS nP nL li ln now ych oc onow ms on ov oms yl (a := a) hc (b - 1 - a) a L [] g P N y (nI dst) hD (by omega) (by omega) hd (by rw [List.length_nil]; omega)
    rw [List.length_nil] at j2
    refine ⟨L', SR', g', N', y', e, _, j1, by omega, by rw [← j3]; exact congrArg (fun i => L[i]?) (by omega), j4, ?_, ?_⟩
    · rw [eb, show dst - 1 + 1 = dst by omega]
      exact j5
    · rw [Nat.sub_self, ← eb] at j6
      exact j6
end
theorem i_vc_move {k : Nat} {u : SX} {v : SY} (I : i_Rel k u v) (hk : k + 5 ≤ 2560) (v1 : Int32) (v2 : Int32) (v3 : Int32) : wpX_move (fun r u' => wpY_move (fun r' v' => r' = r ∧ i_Rel (k + 5) u' v') v v1 v2 v3) u v1 v2 v3 := by
  refine ld_el (Q := fun u v => wpX_move (fun r u' => wpY_move (fun r' v' => r' = r ∧ i_Rel (k + 5) u' v') v v1 v2 v3) u v1 v2 v3) ?_ I
  intro L SR g P OP ch ns ls V N M OM nS nP nL li y ln now oc onow ms on ov oms yl h
  have hR := ld_Rup (k' := k + 5) h (by omega)
  have h60 : L.length ≤ 60 := h.2.1.1
  have hln : ln ≤ 12 * k := h.2.2.2.2.2.2.1
  have h10 : ¬ (1 : Int32) = 0 := by decide
  rcases ld_range P OP ch ns ls V N M OM nS nP nL li ln now ch oc onow ms on ov oms yl (L := L) (SR := SR) (g := g) (y := y) h60 v1 v2 with ⟨hx, hy⟩ | ⟨a, b, rfl, rfl, hab, hbL, hx, hy⟩
  · unfold wpX_move
    refine hx _ (br_t rfl ?_)
    unfold wpY_move
    exact hy _ (br_f h10 ⟨rfl, ld_mkRel hR⟩)
  · unfold wpX_move
    refine hx _ (br_f h10 ?_)
    by_cases h0 : v3 < 0
    · refine br_t h0 ?_
      unfold wpY_move
      exact hy _ (br_t rfl (br_t h0 ⟨rfl, ld_mkRel hR⟩))
    · refine br_f h0 ?_
      obtain ⟨dst, hds, rfl⟩ := nI_of h0
      by_cases h1 : L.length < dst
      · have hx1 : nI (ld_ids L).length < nI dst := by
          rw [ld_idsL]
          exact nI_lt h1 hds
        have hy1 : nI L.length < nI dst := nI_lt h1 hds
        refine br_t hx1 ?_
        unfold wpY_move
        exact hy _ (br_t rfl (br_f h0 (br_t hy1 ⟨rfl, ld_mkRel hR⟩)))
      · have hx1 : ¬ nI (ld_ids L).length < nI dst := by
          rw [ld_idsL]
          exact nI_nlt (by omega) (by omega)
        have hy1 : ¬ nI L.length < nI dst := nI_nlt (by omega) (by omega)
        refine br_f hx1 ?_
        by_cases hc : dst ≤ a ∨ b ≤ dst
        · obtain ⟨N', OM', b1, b2, b3⟩ := ld_XbeginChange P OP ch ns ls V N M OM nS nP nL li (T := ld_ids L) (SR := SR) (g := g)
          obtain ⟨on', ov', oms', s1, s2, s3⟩ := ld_Ysave ln now ch oc onow ms on ov oms yl (L := L) (y := y)
          obtain ⟨hD, hO⟩ := ld_Dbegin h b2 s1 s2
          obtain ⟨L', SR', g', N2, y', e, q, j1, j2, j3, j4, j5, j6⟩ := ld_mvA P 1 ns ls V M OM' nS nP nL li ln now 1 (nI L.length) now ms on' ov' oms' yl (SR := []) P N' hD hab hbL (by omega) hc
          have hem' := List.mem_of_getElem? j4
          have hblt : nI b < nI (b + 1) := nI_lt (by omega) (by omega)
          have hx33 : ∀ (post : Int32 → SX → Prop), post (nI (q + 1)) ((nI (ld_ids L').length), 0, g'.1, g'.2.1, g'.2.2.1, nI e.1, P, 1, (nI SR'.length), ns, ls, V, g'.2.2.2.1, N2, g'.2.2.2.2.1, g'.2.2.2.2.2.1, g'.2.2.2.2.2.2.1, M, OM', g'.2.2.2.2.2.2.2.1, g'.2.2.2.2.2.2.2.2.1, g'.2.2.2.2.2.2.2.2.2, nS, nP, nL, li) → wX_move_33 post (nI (a + 1)) (nI b) (nI dst) (nI (ld_ids L).length) 0 g.1 g.2.1 g.2.2.1 P OP ch (nI SR.length) ns ls V g.2.2.2.1 N g.2.2.2.2.1 g.2.2.2.2.2.1 g.2.2.2.2.2.2.1 M OM g.2.2.2.2.2.2.2.1 g.2.2.2.2.2.2.2.2.1 g.2.2.2.2.2.2.2.2.2 nS nP nL li := by
            intro post hp
            unfold wX_move_33
            exact b3 _ ⟨1 + (b - a), j5 _ 1 (br_t hblt hp)⟩
          have hy33 : ∀ (post : Int32 → SY → Prop), post (nI (q + 1)) ((nI L'.length), (nI ln), nI e.2.1, 1, nI L.length, now, y'.1, y'.2, ms, on', ov', oms', yl) → wY_move_33 post (nI (a + 1)) (nI b) (nI dst) (nI L.length) (nI ln) now ch oc onow y.1 y.2 ms on ov oms yl := by
            intro post hp
            have ep : nI b - 1 = nI (b - 1) := by rw [show (1 : Int32) = nI 1 from rfl, pk_sub (by omega)]
            have c1 : nI b - nI (a + 1) < nI (b - a) := by
              rw [pk_sub (by omega)]
              exact nI_lt (by omega) (by omega)
            have hpl := ld_YplaceOf ln (nI e.2.1) 1 (nI L.length) now ms on' ov' oms' yl j1.2.1 j4 (fun d hd => by have := (j1.2.2.2.1.2 d hd).2; omega) j1.2.2.2.1.1 (fun r => post (r + 1) ((nI L'.length), (nI ln), nI e.2.1, 1, nI L.length, now, y'.1, y'.2, ms, on', ov', oms', yl)) (by rw [nI_1]; exact hp)
            unfold wY_move_33
            refine s3 _ (And.intro ?_ (nm_r (e' := nI e.2.1) ?_ ⟨1 + (b - a), j6 _ _ 1 (br_t c1 hpl)⟩))
            · rw [ep]
              exact vp_in_nI (by omega) (by decide)
            · rw [ep, nI_clamp (by omega)]
              exact (h.2.1.2 _ e j3).1
          have hfin := hx33 (fun r u' => wpY_move (fun r' v' => r' = r ∧ i_Rel (k + 5) u' v') ((nI L.length), (nI ln), now, ch, oc, onow, y.1, y.2, ms, on, ov, oms, yl) (nI (a + 1)) (nI b) (nI dst))
          have hrel : i_Rel (k + 5) ((nI (ld_ids L').length), 0, g'.1, g'.2.1, g'.2.2.1, nI e.1, P, 1, (nI SR'.length), ns, ls, V, g'.2.2.2.1, N2, g'.2.2.2.2.1, g'.2.2.2.2.2.1, g'.2.2.2.2.2.2.1, M, OM', g'.2.2.2.2.2.2.2.1, g'.2.2.2.2.2.2.2.2.1, g'.2.2.2.2.2.2.2.2.2, nS, nP, nL, li) ((nI L'.length), (nI ln), nI e.2.1, 1, nI L.length, now, y'.1, y'.2, ms, on', ov', oms', yl) :=
            ld_mkRel (ld_Dend j1 hO (Or.inr ⟨e, hem', rfl, rfl⟩) j2 (by omega))
          by_cases hda : dst ≤ a
          · have c1 : nI dst < nI (a + 1) := nI_lt (by omega) (by omega)
            refine br_t c1 (hfin ?_)
            unfold wpY_move
            exact hy _ (br_t rfl (br_f h0 (br_f hy1 (br_t c1 (hy33 _ ⟨rfl, hrel⟩)))))
          · have c1 : ¬ nI dst < nI (a + 1) := nI_nlt (by omega) (by omega)
            have c2 : nI b ≤ nI dst := nI_le (by omega) (by omega)
            refine br_f c1 (br_t c2 (hfin ?_))
            unfold wpY_move
            exact hy _ (br_t rfl (br_f h0 (br_f hy1 (br_f c1 (br_t c2 (hy33 _ ⟨rfl, hrel⟩))))))
        · have c1 : ¬ nI dst < nI (a + 1) := nI_nlt (by omega) (by omega)
          have c2 : ¬ nI b ≤ nI dst := nI_ge (by omega) (by omega)
          refine br_f c1 (br_f c2 ?_)
          unfold wpY_move
          exact hy _ (br_t rfl (br_f h0 (br_f hy1 (br_f c1 (br_f c2 ⟨rfl, ld_mkRel hR⟩)))))
end
section
/-! copy -/
section
variable (OP ch ns : Int32) (N M OM nS nP nL li : Nat → Int32) {O L0 : List ld_E} (now ych oc onow : Int32) (ms on ov oms yl : Nat → Int32)
theorem ld_cpL {a b dst m : Nat} (hN : ∀ t, t < 128 → N t = 0) (hm : m = b - a) (hab : a < b) (hb : b ≤ 60) (hd : dst ≤ 60) (hli : ∀ j t, j < m → (ld_ids L0)[a + j]? = some t → li j = nI t) (hyl : ∀ j (e : ld_E), j < m → L0[a + j]? = some e → yl j = e.2.2) (hL0 : a + m ≤ L0.length) : ∀ (d i : Nat) (L : List ld_E) (SR : List ld_St) (g : ld_GX) (V : Nat → Int32) (y : (Nat → Int32) × (Nat → Int32)) (ln : Nat) (P : Int32), ld_D O V L SR g V M y ln ms → ld_nv SR → (∀ t ∈ ld_ids O, t ∈ ld_ids L) → (∀ e ∈ L0, e ∈ L) → i + d = m → L.length + d ≤ 60 → dst + i ≤ L.length → SR.length + d ≤ 140 → (i = 0 ∨ ∃ e ∈ L, P = nI e.1 ∧ e.2.1 = ln) → ∃ (L' : List ld_E) (SR' : List ld_St) (g' : ld_GX) (V' : Nat → Int32) (y' : (Nat → Int32) × (Nat → Int32)) (P' : Int32), ld_D O V' L' SR' g' V' M y' (ln + d) ms ∧ SR'.length = SR.length + d ∧ (m = 0 ∨ ∃ e ∈ L', P' = nI e.1 ∧ e.2.1 = ln + d) ∧ (∀ (post : Int32 → SX → Prop) n, wX_copy_51 post (nI dst) n (nI m) (nI (ld_ids L').length) 0 g'.1 g'.2.1 g'.2.2.1 P' OP ch (nI SR'.length) ns (nI m) V' g'.2.2.2.1 N g'.2.2.2.2.1 g'.2.2.2.2.2.1 g'.2.2.2.2.2.2.1 M OM g'.2.2.2.2.2.2.2.1 g'.2.2.2.2.2.2.2.2.1 g'.2.2.2.2.2.2.2.2.2 nS nP nL li → wX_copy_51 post (nI dst) (n + d) (nI i) (nI (ld_ids L).length) 0 g.1 g.2.1 g.2.2.1 P OP ch (nI SR.length) ns (nI m) V g.2.2.2.1 N g.2.2.2.2.1 g.2.2.2.2.2.1 g.2.2.2.2.2.2.1 M OM g.2.2.2.2.2.2.2.1 g.2.2.2.2.2.2.2.2.1 g.2.2.2.2.2.2.2.2.2 nS nP nL li) ∧ (∀ (post : Int32 → SY → Prop) n, wY_copy_78 post (nI (a + 1)) (nI b) (nI dst) n (nI m) (nI L'.length) (nI (ln + d)) now ych oc onow y'.1 y'.2 ms on ov oms yl → wY_copy_78 post (nI (a + 1)) (nI b) (nI dst) (n + d) (nI i) (nI L.length) (nI ln) now ych oc onow y.1 y.2 ms on ov oms yl) := by
  intro d
  induction d with
  | zero =>
    intro i L SR g V y ln P hD hv hO hs0 hi _ _ _ hP
    have hi : i = m := by omega
    subst hi
    exact ⟨L, SR, g, V, y, P, hD, rfl, hP, fun post n h => h, fun post n h => h⟩
  | succ d ih =>
    intro i L SR g V y ln P hD hv hO hs0 hi hL hdi hs hP
    obtain ⟨e, he⟩ := ld_some (L := L0) (p := a + i) (by omega)
    have heL := hs0 e (List.mem_of_getElem? he)
    have hI := ld_INd hD.1
    have h128 := hI.2.1 e.1 (ld_idsM heL)
    have hVe : V e.1 = e.2.2 := hD.2.2.1 e heL
    have hlie : li i = nI e.1 := hli i e.1 (by omega) (ld_idsG he)
    have hyle : yl i = e.2.2 := hyl i e (by omega) he
    obtain ⟨id, g1, y1, p1, p2, p3, p4, p5, p6⟩ := ld_Dput P OP ch ns (nI m) V N M OM nS nP nL li ln now ych oc onow ms on ov oms yl (p := dst + i) e.2.2 hD hv hO hN (by omega) (by omega) (by omega)
    have hil := ld_insL (L := L) (p := dst + i) (e := (id, ln + 1, e.2.2)) (by omega)
    obtain ⟨L', SR', g', V', y', P', j1, j2, j3, j4, j5⟩ := ih (i + 1) _ _ g1 _ y1 (ln + 1) (nI id) p1 p2 p3 (fun x hx => (ld_memIns (by omega)).mpr (Or.inr (hs0 x hx))) (by omega) (by omega) (by omega) (by rw [List.length_cons]; omega) (Or.inr ⟨(id, ln + 1, e.2.2), (ld_memIns (by omega)).mpr (Or.inl rfl), rfl, rfl⟩)
    rw [List.length_cons] at j2
    rw [show ln + 1 + d = ln + (d + 1) by omega] at j1 j3 j5
    refine ⟨L', SR', g', V', y', P', j1, by omega, j3, ?_, ?_⟩
    · intro post n hn
      have c1 : ¬ nI m ≤ nI i := nI_ge (by omega) (by omega)
      have e0 : (nI i).toNatClampNeg = i := nI_clamp (by omega)
      have hv1 : vp_in (nI i) 60 := vp_in_nI (by omega) (by decide)
      have hv2 : vp_in (li (nI i).toNatClampNeg) 128 := by
        rw [e0, hlie]
        exact vp_in_nI h128 (by decide)
      have hval : V (li (nI i).toNatClampNeg).toNatClampNeg = e.2.2 := by
        rw [e0, hlie, nI_clamp (by omega), hVe]
      have p4' : ∀ (post : Int32 → SX → Prop), post (nI id) ((nI (ld_ids L).length), 0, g.1, g.2.1, g.2.2.1, P, OP, ch, (nI SR.length), ns, nI m, upd V id e.2.2, g.2.2.2.1, N, g.2.2.2.2.1, g.2.2.2.2.2.1, g.2.2.2.2.2.2.1, M, OM, g.2.2.2.2.2.2.2.1, g.2.2.2.2.2.2.2.2.1, g.2.2.2.2.2.2.2.2.2, nS, nP, nL, li) → wpX_freshLine post ((nI (ld_ids L).length), 0, g.1, g.2.1, g.2.2.1, P, OP, ch, (nI SR.length), ns, nI m, V, g.2.2.2.1, N, g.2.2.2.2.1, g.2.2.2.2.2.1, g.2.2.2.2.2.2.1, M, OM, g.2.2.2.2.2.2.2.1, g.2.2.2.2.2.2.2.2.1, g.2.2.2.2.2.2.2.2.2, nS, nP, nL, li) (V (li (nI i).toNatClampNeg).toNatClampNeg) := by
        rw [hval]
        exact p4
      have eq : nI dst + 1 + nI i = nI (dst + i + 1) := by
        rw [nI_1, nI_add]
        exact congrArg nI (by omega)
      have p5' : ∀ (post : SX → Prop), post ((nI (ld_ids (ld_ins L (dst + i) (id, ln + 1, e.2.2))).length), 0, g1.1, g1.2.1, g1.2.2.1, P, OP, ch, (nI ((0, nI (dst + i + 1), nI id) :: SR).length), ns, nI m, upd V id e.2.2, g1.2.2.2.1, N, g1.2.2.2.2.1, g1.2.2.2.2.2.1, g1.2.2.2.2.2.2.1, M, OM, g1.2.2.2.2.2.2.2.1, g1.2.2.2.2.2.2.2.2.1, g1.2.2.2.2.2.2.2.2.2, nS, nP, nL, li) → wpX_putIn post ((nI (ld_ids L).length), 0, g.1, g.2.1, g.2.2.1, P, OP, ch, (nI SR.length), ns, nI m, upd V id e.2.2, g.2.2.2.1, N, g.2.2.2.2.1, g.2.2.2.2.2.1, g.2.2.2.2.2.2.1, M, OM, g.2.2.2.2.2.2.2.1, g.2.2.2.2.2.2.2.2.1, g.2.2.2.2.2.2.2.2.2, nS, nP, nL, li) (nI dst + 1 + nI i) (nI id) := by
        rw [eq]
        exact p5
      exact br_f c1 ⟨hv1, hv2, p4' _ (p5' _ (nm_r (nI_1 i) (j4 post n hn)))⟩
    · intro post n hn
      have c1 : ¬ nI b - nI (a + 1) < nI i := by
        rw [pk_sub (by omega)]
        exact nI_nlt (by omega) (by omega)
      have e0 : (nI i).toNatClampNeg = i := nI_clamp (by omega)
      have hv1 : vp_in (nI i) 60 := vp_in_nI (by omega) (by decide)
      have p6' : ∀ (post : SY → Prop), post ((nI (ld_ins L (dst + i) (id, ln + 1, e.2.2)).length), nI (ln + 1), now, ych, oc, onow, y1.1, y1.2, ms, on, ov, oms, yl) → wpY_insert post ((nI L.length), nI (ln + 1), now, ych, oc, onow, y.1, y.2, ms, on, ov, oms, yl) (nI dst + nI i) (nI (ln + 1)) (yl (nI i).toNatClampNeg) := by
        rw [nI_add, e0, hyle]
        exact p6
      exact br_f c1 (nm_r (nI_1 ln) ⟨hv1, p6' _ (nm_r (nI_1 i) (j5 post n hn))⟩)
end
section
variable (now ych oc onow : Int32) (ms on ov oms : Nat → Int32) (ln : Nat) {L : List ld_E} {y : (Nat → Int32) × (Nat → Int32)}
theorem ld_cp45 {a b : Nat} {x3 : Int32} (hY : ld_Y L y) (hab : a < b) (hb : b ≤ L.length) : ∀ (d k : Nat) (yl : Nat → Int32), k + d = b → a ≤ k → (∀ j (e : ld_E), j < k - a → L[a + j]? = some e → yl j = e.2.2) → ∃ yl', (∀ j (e : ld_E), j < b - a → L[a + j]? = some e → yl' j = e.2.2) ∧ ∀ (post : Int32 → SY → Prop) n, d < n → (∃ n78, wY_copy_78 post (nI (a + 1)) (nI b) x3 n78 0 (nI L.length) (nI ln) now ych oc onow y.1 y.2 ms on ov oms yl') → wY_copy_45 post (nI (a + 1)) (nI b) x3 (nI L.length) (nI ln) now ych oc onow n (nI (k + 1)) y.1 y.2 ms on ov oms yl := by
  have h60 := hY.1
  intro d
  induction d with
  | zero =>
    intro k yl hk _ h
    have hk : k = b := by omega
    subst hk
    refine ⟨yl, h, ?_⟩
    intro post n hn hp
    obtain ⟨n, rfl⟩ : ∃ m, n = m + 1 := ⟨n - 1, by omega⟩
    have c1 : nI k < nI (k + 1) := nI_lt (by omega) (by omega)
    exact br_t c1 hp
  | succ d ih =>
    intro k yl hk hak h
    obtain ⟨e, he⟩ := ld_some (L := L) (p := k) (by omega)
    obtain ⟨yl', i1, i2⟩ := ih (k + 1) (upd yl (k - a) e.2.2) (by omega) (by omega) (by
      intro j e' hj he'
      by_cases hc : j = k - a
      · subst hc
        rw [pk_us]
        rw [show a + (k - a) = k by omega, he] at he'
        rw [Option.some.inj he']
      · rw [pk_un hc]
        exact h j e' (by omega) he')
    refine ⟨yl', i1, ?_⟩
    intro post n hn hp
    obtain ⟨n, rfl⟩ : ∃ m, n = m + 1 := ⟨n - 1, by omega⟩
    have c1 : ¬ nI b < nI (k + 1) := nI_nlt (by omega) (by omega)
    have e1 : nI (k + 1) - nI (a + 1) = nI (k - a) := by
      rw [pk_sub (by omega)]
      exact congrArg nI (by omega)
    refine br_f c1 ⟨?_, ?_, nm_r (e' := upd yl (k - a) e.2.2) ?_ (nm_r (nI_1 (k + 1)) (i2 post n (by omega) hp))⟩
    · rw [nI_pred]
      exact vp_in_nI (by omega) (by decide)
    · rw [e1]
      exact vp_in_nI (by omega) (by decide)
    · rw [e1, nI_pred, nI_clamp (by omega), nI_clamp (by omega), (hY.2 k e he).2]
end
theorem i_vc_copy {k : Nat} {u : SX} {v : SY} (I : i_Rel k u v) (hk : k + 5 ≤ 2560) (v1 : Int32) (v2 : Int32) (v3 : Int32) : wpX_copy (fun r u' => wpY_copy (fun r' v' => r' = r ∧ i_Rel (k + 5) u' v') v v1 v2 v3) u v1 v2 v3 := by
  refine ld_el (Q := fun u v => wpX_copy (fun r u' => wpY_copy (fun r' v' => r' = r ∧ i_Rel (k + 5) u' v') v v1 v2 v3) u v1 v2 v3) ?_ I
  intro L SR g P OP ch ns ls V N M OM nS nP nL li y ln now oc onow ms on ov oms yl h
  have hR := ld_Rup (k' := k + 5) h (by omega)
  have h60 : L.length ≤ 60 := h.2.1.1
  have hln : ln ≤ 12 * k := h.2.2.2.2.2.2.1
  have h10 : ¬ (1 : Int32) = 0 := by decide
  rcases ld_range P OP ch ns ls V N M OM nS nP nL li ln now ch oc onow ms on ov oms yl (L := L) (SR := SR) (g := g) (y := y) h60 v1 v2 with ⟨hx, hy⟩ | ⟨a, b, rfl, rfl, hab, hbL, hx, hy⟩
  · unfold wpX_copy
    refine hx _ (br_t rfl ?_)
    unfold wpY_copy
    exact hy _ (br_f h10 ⟨rfl, ld_mkRel hR⟩)
  · unfold wpX_copy
    refine hx _ (br_f h10 ?_)
    by_cases h0 : v3 < 0
    · refine br_t h0 ?_
      unfold wpY_copy
      exact hy _ (br_t rfl (br_t h0 ⟨rfl, ld_mkRel hR⟩))
    · refine br_f h0 ?_
      obtain ⟨dst, hds, rfl⟩ := nI_of h0
      by_cases h1 : L.length < dst
      · have hx1 : nI (ld_ids L).length < nI dst := by
          rw [ld_idsL]
          exact nI_lt h1 hds
        have hy1 : nI L.length < nI dst := nI_lt h1 hds
        refine br_t hx1 ?_
        unfold wpY_copy
        exact hy _ (br_t rfl (br_f h0 (br_t hy1 ⟨rfl, ld_mkRel hR⟩)))
      · have hx1 : ¬ nI (ld_ids L).length < nI dst := by
          rw [ld_idsL]
          exact nI_nlt (by omega) (by omega)
        have hy1 : ¬ nI L.length < nI dst := nI_nlt (by omega) (by omega)
        have es : nI L.length + nI b - nI (a + 1) + 1 = nI (L.length + (b - a)) := by
          rw [nI_add, pk_sub (by omega), nI_1]
          exact congrArg nI (by omega)
        have es' : nI (ld_ids L).length + nI b - nI (a + 1) + 1 = nI (L.length + (b - a)) := by
          rw [ld_idsL]
          exact es
        refine br_f hx1 ?_
        by_cases hc : L.length + (b - a) ≤ 60
        · have hx2 : nI (ld_ids L).length + nI b - nI (a + 1) + 1 ≤ 60 := by
            rw [es']
            exact nI_le (b := 60) hc (by decide)
          have hy2 : nI L.length + nI b - nI (a + 1) + 1 ≤ 60 := by
            rw [es]
            exact nI_le (b := 60) hc (by decide)
          obtain ⟨N', OM', b1, b2, b3⟩ := ld_XbeginChange P OP ch ns ls V N M OM nS nP nL li (T := ld_ids L) (SR := SR) (g := g)
          obtain ⟨on', ov', oms', s1, s2, s3⟩ := ld_Ysave ln now ch oc onow ms on ov oms yl (L := L) (y := y)
          obtain ⟨hD, hO⟩ := ld_Dbegin h b2 s1 s2
          obtain ⟨li', l1, l2⟩ := ld_XlistRange P P 1 ns ls V N' M OM' nS nP nL li (a := a) (e := b) hD.1 (by omega) (by rw [ld_idsL]; omega)
          obtain ⟨yl', m1, m2⟩ := ld_cp45 now 1 (nI L.length) now ms on' ov' oms' ln (x3 := nI dst) hD.2.1 hab hbL (b - a) a yl (by omega) (by omega) (fun j e hj => absurd hj (by omega))
          obtain ⟨L', SR', g', V', y', P', j1, j2, j3, j4, j5⟩ := ld_cpL P 1 ns N' M OM' nS nP nL li' (L0 := L) now 1 (nI L.length) now ms on' ov' oms' yl' (a := a) (b := b) (dst := dst) (m := b - a) b1 rfl hab (by omega) (by omega) l1 m1 (by omega) (b - a) 0 L [] g V y ln P hD (fun s hs => absurd hs (List.not_mem_nil)) (fun t ht => ht) (fun e he => he) (by omega) (by omega) (by omega) (by rw [List.length_nil]; omega) (Or.inl rfl)
          rw [List.length_nil] at j2
          have hpr : ld_pr L' P' (nI (ln + (b - a))) := by
            rcases j3 with z | ⟨e, z1, z2, z3⟩
            · omega
            · exact Or.inr ⟨e, z1, z2, by rw [z3]⟩
          clear j3
          have cx : nI (b - a) ≤ nI (b - a) := Int32.le_refl _
          have cy : nI b - nI (a + 1) < nI (b - a) := by
            rw [pk_sub (by omega)]
            exact nI_lt (by omega) (by omega)
          have er : nI dst + nI b - nI (a + 1) + 1 = nI dst + nI (b - a) := by
            rw [nI_add, pk_sub (by omega), nI_1, nI_add]
            exact congrArg nI (by omega)
          refine br_t hx2 (b3 _ (l2 _ ⟨1 + (b - a), j4 _ 1 (br_t cx ?_)⟩))
          unfold wpY_copy
          refine hy _ (br_t rfl (br_f h0 (br_f hy1 (br_t hy2 (s3 _ ⟨b - a + 1, m2 _ (b - a + 1) (by omega) ⟨1 + (b - a), j5 _ 1 (br_t cy ⟨er, ld_mkRel ?_⟩)⟩⟩)))))
          exact ld_Dend j1 (ld_OtUp hO (by omega)) hpr (by omega) (by omega)
        · have hx2 : ¬ nI (ld_ids L).length + nI b - nI (a + 1) + 1 ≤ 60 := by
            rw [es']
            exact nI_ge (a := 60) (by omega) (by omega)
          have hy2 : ¬ nI L.length + nI b - nI (a + 1) + 1 ≤ 60 := by
            rw [es]
            exact nI_ge (a := 60) (by omega) (by omega)
          refine br_f hx2 ?_
          unfold wpY_copy
          exact hy _ (br_t rfl (br_f h0 (br_f hy1 (br_f hy2 ⟨rfl, ld_mkRel hR⟩))))
end
section
/-! replace -/
section
variable (P OP ch ns ls : Int32) (V N M OM nS nP nL li : Nat → Int32) {L O : List ld_E} {W : Nat → Int32} {SR : List ld_St} {g : ld_GX} {y : (Nat → Int32) × (Nat → Int32)} {ln : Nat} {ms : Nat → Int32}
theorem ld_Dset {p : Nat} {e : ld_E} (v : Int32) (hD : ld_D O W L SR g V M y ln ms) (he : L[p]? = some e) (hs : SR.length < 140) : ∃ g', ld_D O W (ld_ins (ld_del L p) p (e.1, e.2.1, v)) ((2, e.2.2, nI e.1) :: SR) g' (upd V e.1 v) M (y.1, upd y.2 p v) ln ms ∧ ld_ids (ld_ins (ld_del L p) p (e.1, e.2.1, v)) = ld_ids L ∧ (∀ d ∈ L, ∃ d' ∈ ld_ins (ld_del L p) p (e.1, e.2.1, v), d'.1 = d.1 ∧ d'.2.1 = d.2.1) ∧ (∀ (post : SX → Prop), post ((nI (ld_ids (ld_ins (ld_del L p) p (e.1, e.2.1, v))).length), 0, g'.1, g'.2.1, g'.2.2.1, P, OP, ch, (nI ((2, e.2.2, nI e.1) :: SR).length), ns, ls, V, g'.2.2.2.1, N, g'.2.2.2.2.1, g'.2.2.2.2.2.1, g'.2.2.2.2.2.2.1, M, OM, g'.2.2.2.2.2.2.2.1, g'.2.2.2.2.2.2.2.2.1, g'.2.2.2.2.2.2.2.2.2, nS, nP, nL, li) → wpX_note post ((nI (ld_ids L).length), 0, g.1, g.2.1, g.2.2.1, P, OP, ch, (nI SR.length), ns, ls, V, g.2.2.2.1, N, g.2.2.2.2.1, g.2.2.2.2.2.1, g.2.2.2.2.2.2.1, M, OM, g.2.2.2.2.2.2.2.1, g.2.2.2.2.2.2.2.2.1, g.2.2.2.2.2.2.2.2.2, nS, nP, nL, li) 2 e.2.2 (nI e.1)) := by
  obtain ⟨d1, d2, d3, d4, d5, d6, d7⟩ := hD
  obtain ⟨n1, n2, n3⟩ := ld_INd d1
  have hem := List.mem_of_getElem? he
  have hie := ld_idsG he
  have hne := ld_nmsG he
  have hlen := ld_delL he
  have hplt := ld_lt he
  have h128 := n2 e.1 (ld_idsM hem)
  have hVe : V e.1 = e.2.2 := d3 e hem
  obtain ⟨nd1, nd2⟩ := ld_ndDel hie n1
  have hids : ld_ids (ld_ins (ld_del L p) p (e.1, e.2.1, v)) = ld_ids L := by
    rw [ld_idsIns, ld_idsDel]
    exact ld_insdel hie
  have hnms : ld_nms (ld_ins (ld_del L p) p (e.1, e.2.1, v)) = ld_nms L := by
    rw [ld_nmsIns, ld_nmsDel]
    exact ld_insdel hne
  have hmem : ∀ d ∈ L, ∃ d' ∈ ld_ins (ld_del L p) p (e.1, e.2.1, v), d'.1 = d.1 ∧ d'.2.1 = d.2.1 := by
    intro d hd
    rcases ld_memDel' he hd with z | z
    · rw [z]
      exact ⟨(e.1, e.2.1, v), (ld_memIns (by omega)).mpr (Or.inl rfl), rfl, rfl⟩
    · exact ⟨d, (ld_memIns (by omega)).mpr (Or.inr z), rfl, rfl⟩
  obtain ⟨g', i1, i2⟩ := ld_Xnote P OP ch ns ls V N M OM nS nP nL li 2 e.2.2 (nI e.1) d1 hs
  have hli := ld_insL (L := ld_del L p) (p := p) (e := (e.1, e.2.1, v)) (by omega)
  have h60 := d2.1
  refine ⟨g', ⟨?_, ⟨by omega, ?_⟩, ?_, ⟨?_, ?_⟩, ld_mksMono hmem d5, ?_, d7⟩, hids, hmem, ?_⟩
  · rw [hids]
    exact i1
  · intro i d hi
    rw [ld_insG (by omega)] at hi
    show y.1 i = nI d.2.1 ∧ upd y.2 p v i = d.2.2
    by_cases c1 : i < p
    · rw [if_pos c1, ld_delG he, if_pos c1] at hi
      rw [pk_un (by omega)]
      exact d2.2 i d hi
    · rw [if_neg c1] at hi
      by_cases c2 : i = p
      · subst c2
        rw [if_pos rfl] at hi
        have hi := Option.some.inj hi
        subst hi
        exact ⟨(d2.2 i e he).1, pk_us⟩
      · rw [if_neg c2, ld_delG he, if_neg (by omega), show i - 1 + 1 = i by omega] at hi
        rw [pk_un c2]
        exact d2.2 i d hi
  · intro d hd
    rcases (ld_memIns (by omega)).mp hd with z | z
    · rw [z]
      exact pk_us
    · have hdn : d.1 ≠ e.1 := by
        intro z2
        refine nd2 ?_
        rw [← ld_idsDel, ← z2]
        exact ld_idsM z
      rw [pk_un hdn]
      exact d3 d (ld_memDel z)
  · rw [hnms]
    exact d4.1
  · intro d hd
    rcases (ld_memIns (by omega)).mp hd with z | z
    · rw [z]
      exact d4.2 e hem
    · exact d4.2 d (ld_memDel z)
  · refine ⟨(ld_ids L, V), Or.inr (Or.inr ⟨e.2.2, e.1, rfl, h128, ?_⟩), d6⟩
    show (ld_ids L, V) = (ld_ids (ld_ins (ld_del L p) p (e.1, e.2.1, v)), upd (upd V e.1 v) e.1 e.2.2)
    rw [hids, ← hVe, ld_updBack]
  · rw [hids]
    exact i2
end
theorem ld_prMono {L L' : List ld_E} (h : ∀ e ∈ L, ∃ e' ∈ L', e'.1 = e.1 ∧ e'.2.1 = e.2.1) (h0 : L = [] → L' = []) {x y : Int32} (hm : ld_pr L x y) : ld_pr L' x y := by
  rcases hm with ⟨h1, h2, h3⟩ | ⟨e, he, h1, h2⟩
  · exact Or.inl ⟨h0 h1, h2, h3⟩
  · obtain ⟨e', he', h3, h4⟩ := h e he
    exact Or.inr ⟨e', he', by rw [h3]; exact h1, by rw [h4]; exact h2⟩
section
variable (OP ch ns : Int32) (N M OM nS nP nL li : Nat → Int32) {O : List ld_E} {W : Nat → Int32} (ln : Nat) (ych oc onow : Int32) (ms on ov oms yl : Nat → Int32)
theorem ld_rpL {a b m : Nat} {x3 x4 : Int32} (hm : m = b - a) (hab : a < b) (hb : b ≤ 60) : ∀ (d i : Nat) (L : List ld_E) (SR : List ld_St) (g : ld_GX) (V : Nat → Int32) (y : (Nat → Int32) × (Nat → Int32)) (P now x5 : Int32), ld_D O W L SR g V M y ln ms → ld_pr L P now → i + d = m → b ≤ L.length → SR.length + d ≤ 140 → (∀ j t, j < m → (ld_ids L)[a + j]? = some t → li j = nI t) → ∃ (L' : List ld_E) (SR' : List ld_St) (g' : ld_GX) (V' : Nat → Int32) (y' : (Nat → Int32) × (Nat → Int32)) (P' now' x5' : Int32), ld_D O W L' SR' g' V' M y' ln ms ∧ ld_pr L' P' now' ∧ SR'.length ≤ SR.length + d ∧ (∀ (post : Int32 → SX → Prop) n, wX_replace_27 post x3 x4 n x5' (nI m) (nI (ld_ids L').length) 0 g'.1 g'.2.1 g'.2.2.1 P' OP ch (nI SR'.length) ns (nI m) V' g'.2.2.2.1 N g'.2.2.2.2.1 g'.2.2.2.2.2.1 g'.2.2.2.2.2.2.1 M OM g'.2.2.2.2.2.2.2.1 g'.2.2.2.2.2.2.2.2.1 g'.2.2.2.2.2.2.2.2.2 nS nP nL li → wX_replace_27 post x3 x4 (n + d) x5 (nI i) (nI (ld_ids L).length) 0 g.1 g.2.1 g.2.2.1 P OP ch (nI SR.length) ns (nI m) V g.2.2.2.1 N g.2.2.2.2.1 g.2.2.2.2.2.1 g.2.2.2.2.2.2.1 M OM g.2.2.2.2.2.2.2.1 g.2.2.2.2.2.2.2.2.1 g.2.2.2.2.2.2.2.2.2 nS nP nL li) ∧ (∀ (post : Int32 → SY → Prop) n, wY_replace_23 post (nI b) x3 x4 (nI L'.length) (nI ln) ych oc onow n x5' (nI b) now' y'.1 y'.2 ms on ov oms yl → wY_replace_23 post (nI b) x3 x4 (nI L.length) (nI ln) ych oc onow (n + d) x5 (nI (a + i)) now y.1 y.2 ms on ov oms yl) := by
  intro d
  induction d with
  | zero =>
    intro i L SR g V y P now x5 hD hP hi _ _ _
    have hi : i = m := by omega
    subst hi
    have hb2 : a + i = b := by omega
    rw [hb2]
    exact ⟨L, SR, g, V, y, P, now, x5, hD, hP, Nat.le_refl _, fun post n h => h, fun post n h => h⟩
  | succ d ih =>
    intro i L SR g V y P now x5 hD hP hi hbL hs hli
    obtain ⟨e, he⟩ := ld_some (L := L) (p := a + i) (by omega)
    have hem := List.mem_of_getElem? he
    have hI := ld_INd hD.1
    have h128 := hI.2.1 e.1 (ld_idsM hem)
    have h60 := hD.2.1.1
    have hVe : V e.1 = e.2.2 := hD.2.2.1 e hem
    have hye := hD.2.1.2 (a + i) e he
    have hlie : li i = nI e.1 := hli i e.1 (by omega) (ld_idsG he)
    have e0 : (nI i).toNatClampNeg = i := nI_clamp (by omega)
    have c1 : ¬ nI m ≤ nI i := nI_ge (by omega) (by omega)
    have c2 : ¬ nI b ≤ nI (a + i) := nI_ge (by omega) (by omega)
    have hv1 : vp_in (nI i) 60 := vp_in_nI (by omega) (by decide)
    have hl0 : li (nI i).toNatClampNeg = nI e.1 := by rw [e0, hlie]
    have hv2 : vp_in (li (nI i).toNatClampNeg) 128 := by
      rw [hl0]
      exact vp_in_nI h128 (by decide)
    have hval : V (li (nI i).toNatClampNeg).toNatClampNeg = e.2.2 := by
      rw [hl0, nI_clamp (by omega), hVe]
    have hv3 : vp_in (nI (a + i)) 60 := vp_in_nI (by omega) (by decide)
    have e3 : (nI (a + i)).toNatClampNeg = a + i := nI_clamp (by omega)
    have hyv : y.2 (nI (a + i)).toNatClampNeg = e.2.2 := by rw [e3]; exact hye.2
    by_cases hc : e.2.2 = x3
    · obtain ⟨g1, t0, t1, t2, t3⟩ := ld_Dset P OP ch ns (nI m) V N M OM nS nP nL li x4 hD he (by omega)
      have hlen := ld_delL he
      have hil := ld_insL (L := ld_del L (a + i)) (p := a + i) (e := (e.1, e.2.1, x4)) (by omega)
      obtain ⟨L', SR', g', V', y', P', now', x5', j1, j2, j3, j4, j5⟩ := ih (i + 1) _ _ g1 _ _ (nI e.1) (nI e.2.1) (x5 + 1) t0 (Or.inr ⟨(e.1, e.2.1, x4), (ld_memIns (by omega)).mpr (Or.inl rfl), rfl, rfl⟩) (by omega) (by omega) (by rw [List.length_cons]; omega) (by rw [t1]; exact hli)
      rw [List.length_cons] at j3
      refine ⟨L', SR', g', V', y', P', now', x5', j1, j2, by omega, ?_, ?_⟩
      · intro post n hn
        have hx : V (li (nI i).toNatClampNeg).toNatClampNeg = x3 := by rw [hval, hc]
        have t3' : ∀ (post : SX → Prop), post ((nI (ld_ids (ld_ins (ld_del L (a + i)) (a + i) (e.1, e.2.1, x4))).length), 0, g1.1, g1.2.1, g1.2.2.1, P, OP, ch, (nI ((2, e.2.2, nI e.1) :: SR).length), ns, nI m, V, g1.2.2.2.1, N, g1.2.2.2.2.1, g1.2.2.2.2.2.1, g1.2.2.2.2.2.2.1, M, OM, g1.2.2.2.2.2.2.2.1, g1.2.2.2.2.2.2.2.2.1, g1.2.2.2.2.2.2.2.2.2, nS, nP, nL, li) → wpX_note post ((nI (ld_ids L).length), 0, g.1, g.2.1, g.2.2.1, P, OP, ch, (nI SR.length), ns, nI m, V, g.2.2.2.1, N, g.2.2.2.2.1, g.2.2.2.2.2.1, g.2.2.2.2.2.2.1, M, OM, g.2.2.2.2.2.2.2.1, g.2.2.2.2.2.2.2.2.1, g.2.2.2.2.2.2.2.2.2, nS, nP, nL, li) 2 (V (li (nI i).toNatClampNeg).toNatClampNeg) (li (nI i).toNatClampNeg) := by
          rw [hval, hl0]
          exact t3
        refine br_f c1 ⟨hv1, hv2, br_t hx ⟨hv1, hv2, hv1, t3' _ (And.intro hv1 (And.intro hv2 (nm_r (e' := upd V e.1 x4) (by rw [hl0, nI_clamp (by omega)]) (And.intro hv1 (nm_r hl0 (nm_e (nm_r (nI_1 i) (j4 post n hn))))))))⟩⟩
      · intro post n hn
        have hy : y.2 (nI (a + i)).toNatClampNeg = x3 := by rw [hyv, hc]
        have hw := j5 post n hn
        rw [show (ld_ins (ld_del L (a + i)) (a + i) (e.1, e.2.1, x4)).length = L.length by omega] at hw
        refine br_f c2 ⟨hv3, br_t hy ⟨hv3, nm_r (e' := upd y.2 (a + i) x4) (by rw [e3]) ⟨hv3, nm_r (e' := nI e.2.1) (by rw [e3]; exact hye.1) (nm_e (nm_r (nI_1 (a + i)) hw))⟩⟩⟩
    · obtain ⟨L', SR', g', V', y', P', now', x5', j1, j2, j3, j4, j5⟩ := ih (i + 1) L SR g V y P now x5 hD hP (by omega) hbL (by omega) hli
      refine ⟨L', SR', g', V', y', P', now', x5', j1, j2, by omega, ?_, ?_⟩
      · intro post n hn
        have hx : ¬ V (li (nI i).toNatClampNeg).toNatClampNeg = x3 := by rw [hval]; exact hc
        exact br_f c1 ⟨hv1, hv2, br_f hx (nm_r (nI_1 i) (j4 post n hn))⟩
      · intro post n hn
        have hy : ¬ y.2 (nI (a + i)).toNatClampNeg = x3 := by rw [hyv]; exact hc
        exact br_f c2 ⟨hv3, br_f hy (nm_r (nI_1 (a + i)) (j5 post n hn))⟩
end
theorem i_vc_replace {k : Nat} {u : SX} {v : SY} (I : i_Rel k u v) (hk : k + 5 ≤ 2560) (v1 : Int32) (v2 : Int32) (v3 : Int32) (v4 : Int32) : wpX_replace (fun r u' => wpY_replace (fun r' v' => r' = r ∧ i_Rel (k + 5) u' v') v v1 v2 v3 v4) u v1 v2 v3 v4 := by
  refine ld_el (Q := fun u v => wpX_replace (fun r u' => wpY_replace (fun r' v' => r' = r ∧ i_Rel (k + 5) u' v') v v1 v2 v3 v4) u v1 v2 v3 v4) ?_ I
  intro L SR g P OP ch ns ls V N M OM nS nP nL li y ln now oc onow ms on ov oms yl h
  have hR := ld_Rup (k' := k + 5) h (by omega)
  have h60 : L.length ≤ 60 := h.2.1.1
  have hln : ln ≤ 12 * k := h.2.2.2.2.2.2.1
  have hpr : ld_pr L P now := h.2.2.2.2.2.1
  have h10 : ¬ (1 : Int32) = 0 := by decide
  rcases ld_range P OP ch ns ls V N M OM nS nP nL li ln now ch oc onow ms on ov oms yl (L := L) (SR := SR) (g := g) (y := y) h60 v1 v2 with ⟨hx, hy⟩ | ⟨a, b, rfl, rfl, hab, hbL, hx, hy⟩
  · unfold wpX_replace
    refine hx _ (br_t rfl ?_)
    unfold wpY_replace
    exact hy _ (br_f h10 ⟨rfl, ld_mkRel hR⟩)
  · obtain ⟨N', OM', b1, b2, b3⟩ := ld_XbeginChange P OP ch ns ls V N M OM nS nP nL li (T := ld_ids L) (SR := SR) (g := g)
    obtain ⟨on', ov', oms', s1, s2, s3⟩ := ld_Ysave ln now ch oc onow ms on ov oms yl (L := L) (y := y)
    obtain ⟨hD, hO⟩ := ld_Dbegin h b2 s1 s2
    obtain ⟨li', l1, l2⟩ := ld_XlistRange P P 1 ns ls V N' M OM' nS nP nL li (a := a) (e := b) hD.1 (by omega) (by rw [ld_idsL]; omega)
    obtain ⟨L', SR', g', V', y', P', now', x5', j1, j2, j3, j4, j5⟩ := ld_rpL P 1 ns N' M OM' nS nP nL li' ln 1 (nI L.length) now ms on' ov' oms' yl (a := a) (b := b) (m := b - a) (x3 := v3) (x4 := v4) rfl hab (by omega) (b - a) 0 L [] g V y P now 0 hD hpr (by omega) hbL (by rw [List.length_nil]; omega) l1
    rw [List.length_nil] at j3
    have cx : nI (b - a) ≤ nI (b - a) := Int32.le_refl _
    have cy : nI b ≤ nI b := Int32.le_refl _
    unfold wpX_replace
    refine hx _ (br_f h10 (b3 _ (l2 _ ⟨1 + (b - a), j4 _ 1 (br_t cx ?_)⟩)))
    unfold wpY_replace
    refine hy _ (br_t rfl (s3 _ (nm_r (e' := nI (a + 0)) (nI_pred a) ⟨1 + (b - a), j5 _ 1 (br_t cy ⟨rfl, ld_mkRel ?_⟩)⟩)))
    exact ld_Dend j1 hO j2 (by omega) (by omega)
end
section
/-! all: one line -/
section
variable (P OP ch ns ls : Int32) (V N M OM nS nP nL li : Nat → Int32) {L O : List ld_E} {W : Nat → Int32} {SR : List ld_St} {g : ld_GX} {y : (Nat → Int32) × (Nat → Int32)} (ln : Nat) (now ych oc onow : Int32) (ms on ov oms yl : Nat → Int32)
theorem ld_Yshift {p q : Nat} {x1 : Int32} {e : ld_E} {y1 y' : (Nat → Int32) × (Nat → Int32)} (hY : ld_Y L y) (he : L[p]? = some e) (hx : x1 = nI q) (t3 : ∀ (post : SY → Prop), post ((nI (ld_del L p).length), (nI ln), now, ych, oc, onow, y1.1, y1.2, ms, on, ov, oms, yl) → wpY_takeOut post ((nI L.length), (nI ln), now, ych, oc, onow, y.1, y.2, ms, on, ov, oms, yl) (nI p)) (t4 : ∀ (post : SY → Prop), post ((nI (ld_ins (ld_del L p) q e).length), (nI ln), now, ych, oc, onow, y'.1, y'.2, ms, on, ov, oms, yl) → wpY_insert post ((nI (ld_del L p).length), (nI ln), now, ych, oc, onow, y1.1, y1.2, ms, on, ov, oms, yl) (nI q) (nI e.2.1) e.2.2) (post : SY → Prop) (hp : post ((nI (ld_ins (ld_del L p) q e).length), (nI ln), now, ych, oc, onow, y'.1, y'.2, ms, on, ov, oms, yl)) : wpY_shift post ((nI L.length), (nI ln), now, ych, oc, onow, y.1, y.2, ms, on, ov, oms, yl) (nI p) x1 := by
  subst hx
  have hlt := ld_lt he
  have h60 := hY.1
  have hv : vp_in (nI p) 60 := vp_in_nI (by omega) (by decide)
  have e0 : (nI p).toNatClampNeg = p := nI_clamp (by omega)
  exact ⟨hv, nm_r (e' := nI e.2.1) (by rw [e0]; exact (hY.2 p e he).1) ⟨hv, nm_r (e' := e.2.2) (by rw [e0]; exact (hY.2 p e he).2) (t3 _ (t4 _ hp))⟩⟩
theorem ld_allS {κ : Int32} (hκ : κ = 0 ∨ κ = 1 ∨ κ = 2 ∨ κ = 3 ∨ κ = 4) {e : ld_E} (hD : ld_D O W L SR g V M y ln ms) (h3 : κ = 3 → W = V ∧ ld_nv SR ∧ (∀ t ∈ ld_ids O, t ∈ ld_ids L) ∧ ∀ t, t < 128 → N t = 0) (he : e ∈ L) (hs : SR.length + 2 ≤ 140) (hl : ln ≤ 1000000) : ∃ (L' : List ld_E) (SR' : List ld_St) (g' : ld_GX) (V' N' M' : Nat → Int32) (y' : (Nat → Int32) × (Nat → Int32)) (ln' : Nat) (ms' W' : Nat → Int32), ld_D O W' L' SR' g' V' M' y' ln' ms' ∧ (κ = 3 → W' = V' ∧ ld_nv SR' ∧ (∀ t ∈ ld_ids O, t ∈ ld_ids L') ∧ ∀ t, t < 128 → N' t = 0) ∧ SR'.length ≤ SR.length + 2 ∧ ln ≤ ln' ∧ ln' ≤ ln + 1 ∧ (∀ d ∈ L, d ≠ e → d ∈ L') ∧ (κ ≠ 0 → e ∈ L') ∧ (∀ (post : SX → Prop), post ((nI (ld_ids L').length), 0, g'.1, g'.2.1, g'.2.2.1, P, OP, ch, (nI SR'.length), ns, ls, V', g'.2.2.2.1, N', g'.2.2.2.2.1, g'.2.2.2.2.2.1, g'.2.2.2.2.2.2.1, M', OM, g'.2.2.2.2.2.2.2.1, g'.2.2.2.2.2.2.2.2.1, g'.2.2.2.2.2.2.2.2.2, nS, nP, nL, li) → wpX_carryOut post ((nI (ld_ids L).length), 0, g.1, g.2.1, g.2.2.1, P, OP, ch, (nI SR.length), ns, ls, V, g.2.2.2.1, N, g.2.2.2.2.1, g.2.2.2.2.2.1, g.2.2.2.2.2.2.1, M, OM, g.2.2.2.2.2.2.2.1, g.2.2.2.2.2.2.2.2.1, g.2.2.2.2.2.2.2.2.2, nS, nP, nL, li) (nI e.1) κ) ∧ (∀ (post : SY → Prop), post ((nI L'.length), nI ln', now, ych, oc, onow, y'.1, y'.2, ms', on, ov, oms, yl) → wpY_placeOf (fun r => wpY_one post ((nI L.length), (nI ln), now, ych, oc, onow, y.1, y.2, ms, on, ov, oms, yl) r κ) ((nI L.length), (nI ln), now, ych, oc, onow, y.1, y.2, ms, on, ov, oms, yl) (nI e.2.1)) := by
  obtain ⟨p, p1, p2, p3, p4, p5⟩ := ld_num (P := P) (OP := OP) (ch := ch) (ns := ns) (ls := ls) (V := V) (N := N) (M := M) (OM := OM) (nS := nS) (nP := nP) (nL := nL) (li := li) (now := now) (ych := ych) (oc := oc) (onow := onow) (ms := ms) (on := on) (ov := ov) (oms := oms) (yl := yl) hD.1 hD.2.1 hD.2.2.2.1 hl he rfl rfl
  have hplt := ld_lt p1
  have h60 := hD.2.1.1
  have hye := hD.2.1.2 p e p1
  have hlen := ld_delL p1
  have hidl := ld_idsL L
  have hidl1 := ld_idsL (ld_del L p)
  have hmem : ∀ q, q < L.length → ∀ d ∈ L, d ∈ ld_ins (ld_del L p) q e := fun q hq d hd => (ld_memIns (by omega)).mpr (ld_memDel' p1 hd)
  have hv : vp_in (nI p) 60 := vp_in_nI (by omega) (by decide)
  have e0 : (nI p).toNatClampNeg = p := nI_clamp (by omega)
  have c01 : ¬ (0 : Int32) = 1 := by decide
  have c02 : ¬ (0 : Int32) = 2 := by decide
  have c03 : ¬ (0 : Int32) = 3 := by decide
  have c04 : ¬ (0 : Int32) = 4 := by decide
  have c10 : ¬ (1 : Int32) = 0 := by decide
  have c12 : ¬ (1 : Int32) = 2 := by decide
  have c13 : ¬ (1 : Int32) = 3 := by decide
  have c14 : ¬ (1 : Int32) = 4 := by decide
  have c20 : ¬ (2 : Int32) = 0 := by decide
  have c21 : ¬ (2 : Int32) = 1 := by decide
  have c23 : ¬ (2 : Int32) = 3 := by decide
  have c24 : ¬ (2 : Int32) = 4 := by decide
  have c30 : ¬ (3 : Int32) = 0 := by decide
  have c31 : ¬ (3 : Int32) = 1 := by decide
  have c32 : ¬ (3 : Int32) = 2 := by decide
  have c34 : ¬ (3 : Int32) = 4 := by decide
  have c40 : ¬ (4 : Int32) = 0 := by decide
  have c41 : ¬ (4 : Int32) = 1 := by decide
  have c42 : ¬ (4 : Int32) = 2 := by decide
  have c43 : ¬ (4 : Int32) = 3 := by decide
  rcases hκ with rfl | rfl | rfl | rfl | rfl
  · obtain ⟨g1, M1, y1, ms1, t0, t1, t2, t3, t4⟩ := ld_Dtake P OP ch ns ls V N M OM nS nP nL li ln now ych oc onow ms on ov oms yl hD p1 (by omega) hl
    refine ⟨_, _, g1, V, upd N e.1 (vp_nar .boolean 1), M1, y1, ln, ms1, W, t0, fun z => absurd z c03, by rw [List.length_cons]; omega, Nat.le_refl _, by omega, ?_, fun z => absurd rfl z, ?_, ?_⟩
    · intro d hd hde
      exact (ld_memDel' p1 hd).elim (fun z => absurd z hde) id
    · intro post hp
      unfold wpX_carryOut
      exact p4 _ (br_t rfl (t1 _ (t2 _ hp)))
    · intro post hp
      have t3' : ∀ (post : SY → Prop), post ((nI L.length), (nI ln), now, ych, oc, onow, y.1, y.2, ms1, on, ov, oms, yl) → wpY_forget post ((nI L.length), (nI ln), now, ych, oc, onow, y.1, y.2, ms, on, ov, oms, yl) (y.1 (nI p).toNatClampNeg) := by
        rw [e0, hye.1]
        exact t3
      exact p5 _ (br_t rfl ⟨hv, t3' _ (t4 _ (br_f c01 (br_f c02 (br_f c03 (br_f c04 hp)))))⟩)
  · obtain ⟨g1, g', y1, y', t0, t1, t2, t3, t4⟩ := ld_Dshift P OP ch ns ls V N M OM nS nP nL li ln now ych oc onow ms on ov oms yl hD p1 (q := 0) (by omega) (by omega)
    refine ⟨_, _, g', V, upd N e.1 (vp_nar .boolean 1), M, y', ln, ms, W, t0, fun z => absurd z c13, by rw [List.length_cons, List.length_cons]; omega, Nat.le_refl _, by omega, fun d hd _ => hmem 0 (by omega) d hd, fun _ => hmem 0 (by omega) e he, ?_, ?_⟩
    · intro post hp
      unfold wpX_carryOut
      refine p4 _ (br_f c10 (br_f c13 (br_f c14 ?_)))
      unfold wX_carryOut_75
      refine t1 _ (br_t rfl ?_)
      unfold wX_carryOut_108
      exact t2 _ hp
    · intro post hp
      exact p5 _ (br_f c10 (br_t rfl (ld_Yshift ln now ych oc onow ms on ov oms yl hD.2.1 p1 rfl t3 t4 _ (br_f c12 (br_f c13 (br_f c14 hp))))))
  · obtain ⟨g1, g', y1, y', t0, t1, t2, t3, t4⟩ := ld_Dshift P OP ch ns ls V N M OM nS nP nL li ln now ych oc onow ms on ov oms yl hD p1 (q := L.length - 1) (by omega) (by omega)
    refine ⟨_, _, g', V, upd N e.1 (vp_nar .boolean 1), M, y', ln, ms, W, t0, fun z => absurd z c23, by rw [List.length_cons, List.length_cons]; omega, Nat.le_refl _, by omega, fun d hd _ => hmem _ (by omega) d hd, fun _ => hmem _ (by omega) e he, ?_, ?_⟩
    · intro post hp
      have eq : nI (ld_ids (ld_del L p)).length + 1 = nI (L.length - 1 + 1) := by
        rw [nI_1]
        exact congrArg nI (by omega)
      have t2' : ∀ (post : SX → Prop), post ((nI (ld_ids (ld_ins (ld_del L p) (L.length - 1) e)).length), 0, g'.1, g'.2.1, g'.2.2.1, P, OP, ch, (nI ((0, nI (L.length - 1 + 1), nI e.1) :: (1, nI (p + 1), nI e.1) :: SR).length), ns, ls, V, g'.2.2.2.1, upd N e.1 (vp_nar .boolean 1), g'.2.2.2.2.1, g'.2.2.2.2.2.1, g'.2.2.2.2.2.2.1, M, OM, g'.2.2.2.2.2.2.2.1, g'.2.2.2.2.2.2.2.2.1, g'.2.2.2.2.2.2.2.2.2, nS, nP, nL, li) → wpX_putIn post ((nI (ld_ids (ld_del L p)).length), 0, g1.1, g1.2.1, g1.2.2.1, P, OP, ch, (nI ((1, nI (p + 1), nI e.1) :: SR).length), ns, ls, V, g1.2.2.2.1, upd N e.1 (vp_nar .boolean 1), g1.2.2.2.2.1, g1.2.2.2.2.2.1, g1.2.2.2.2.2.2.1, M, OM, g1.2.2.2.2.2.2.2.1, g1.2.2.2.2.2.2.2.2.1, g1.2.2.2.2.2.2.2.2.2, nS, nP, nL, li) (nI (ld_ids (ld_del L p)).length + 1) (nI e.1) := by
        rw [eq]
        exact t2
      unfold wpX_carryOut
      refine p4 _ (br_f c20 (br_f c23 (br_f c24 ?_)))
      unfold wX_carryOut_75
      refine t1 _ (br_f c21 (br_t rfl ?_))
      unfold wX_carryOut_108
      exact t2' _ hp
    · intro post hp
      have ex : nI L.length - 1 = nI (L.length - 1) := by rw [show (1 : Int32) = nI 1 from rfl, pk_sub (by omega)]
      exact p5 _ (br_f c20 (br_f c21 (br_t rfl (ld_Yshift ln now ych oc onow ms on ov oms yl hD.2.1 p1 ex t3 t4 _ (br_f c23 (br_f c24 hp))))))
  · obtain ⟨rfl, hnv, hsub, hN⟩ := h3 rfl
    by_cases h6 : L.length < 60
    · obtain ⟨id, g1, y1, q1, q2, q3, q4, q5, q6⟩ := ld_Dput P OP ch ns ls W N M OM nS nP nL li ln now ych oc onow ms on ov oms yl (p := p + 1) e.2.2 hD hnv hsub hN (by omega) h6 (by omega)
      have hI := ld_INd hD.1
      have h128 := hI.2.1 e.1 (ld_idsM he)
      have hVe : W e.1 = e.2.2 := hD.2.2.1 e he
      refine ⟨_, _, g1, _, N, M, y1, ln + 1, ms, _, q1, fun _ => ⟨rfl, q2, q3, hN⟩, by rw [List.length_cons]; omega, by omega, by omega, fun d hd _ => (ld_memIns (by omega)).mpr (Or.inr hd), fun _ => (ld_memIns (by omega)).mpr (Or.inr he), ?_, ?_⟩
      · intro post hp
        have cx : ¬ (60 : Int32) ≤ nI (ld_ids L).length := by
          rw [hidl]
          exact nI_ge (b := 60) h6 (by decide)
        have hval : W (nI e.1).toNatClampNeg = e.2.2 := by rw [nI_clamp (by omega), hVe]
        have q4' : ∀ (post : Int32 → SX → Prop), post (nI id) ((nI (ld_ids L).length), 0, g.1, g.2.1, g.2.2.1, P, OP, ch, (nI SR.length), ns, ls, upd W id e.2.2, g.2.2.2.1, N, g.2.2.2.2.1, g.2.2.2.2.2.1, g.2.2.2.2.2.2.1, M, OM, g.2.2.2.2.2.2.2.1, g.2.2.2.2.2.2.2.2.1, g.2.2.2.2.2.2.2.2.2, nS, nP, nL, li) → wpX_freshLine post ((nI (ld_ids L).length), 0, g.1, g.2.1, g.2.2.1, P, OP, ch, (nI SR.length), ns, ls, W, g.2.2.2.1, N, g.2.2.2.2.1, g.2.2.2.2.2.1, g.2.2.2.2.2.2.1, M, OM, g.2.2.2.2.2.2.2.1, g.2.2.2.2.2.2.2.2.1, g.2.2.2.2.2.2.2.2.2, nS, nP, nL, li) (W (nI e.1).toNatClampNeg) := by
          rw [hval]
          exact q4
        have q5' : ∀ (post : SX → Prop), post ((nI (ld_ids (ld_ins L (p + 1) (id, ln + 1, e.2.2))).length), 0, g1.1, g1.2.1, g1.2.2.1, P, OP, ch, (nI ((0, nI (p + 1 + 1), nI id) :: SR).length), ns, ls, upd W id e.2.2, g1.2.2.2.1, N, g1.2.2.2.2.1, g1.2.2.2.2.2.1, g1.2.2.2.2.2.2.1, M, OM, g1.2.2.2.2.2.2.2.1, g1.2.2.2.2.2.2.2.2.1, g1.2.2.2.2.2.2.2.2.2, nS, nP, nL, li) → wpX_putIn post ((nI (ld_ids L).length), 0, g.1, g.2.1, g.2.2.1, P, OP, ch, (nI SR.length), ns, ls, upd W id e.2.2, g.2.2.2.1, N, g.2.2.2.2.1, g.2.2.2.2.2.1, g.2.2.2.2.2.2.1, M, OM, g.2.2.2.2.2.2.2.1, g.2.2.2.2.2.2.2.2.1, g.2.2.2.2.2.2.2.2.2, nS, nP, nL, li) (nI (p + 1) + 1) (nI id) := by
          rw [nI_1]
          exact q5
        unfold wpX_carryOut
        exact p4 _ (br_f c30 (br_t rfl (br_f cx ⟨vp_in_nI h128 (by decide), q4' _ (q5' _ hp)⟩)))
      · intro post hp
        have cy : ¬ (60 : Int32) ≤ nI L.length := nI_ge (b := 60) h6 (by decide)
        have q6' : ∀ (post : SY → Prop), post ((nI (ld_ins L (p + 1) (id, ln + 1, e.2.2)).length), nI (ln + 1), now, ych, oc, onow, y1.1, y1.2, ms, on, ov, oms, yl) → wpY_insert post ((nI L.length), nI (ln + 1), now, ych, oc, onow, y.1, y.2, ms, on, ov, oms, yl) (nI p + 1) (nI (ln + 1)) (y.2 (nI p).toNatClampNeg) := by
          rw [nI_1, e0, hye.2]
          exact q6
        exact p5 _ (br_f c30 (br_f c31 (br_f c32 (br_t rfl (br_f cy (nm_r (nI_1 ln) ⟨hv, q6' _ (br_f c34 hp)⟩))))))
    · have cx : (60 : Int32) ≤ nI (ld_ids L).length := by
        rw [hidl]
        exact nI_le (a := 60) (by omega) (by omega)
      have cy : (60 : Int32) ≤ nI L.length := nI_le (a := 60) (by omega) (by omega)
      refine ⟨L, SR, g, W, N, M, y, ln, ms, W, hD, fun _ => ⟨rfl, hnv, hsub, hN⟩, by omega, Nat.le_refl _, by omega, fun d hd _ => hd, fun _ => he, ?_, ?_⟩
      · intro post hp
        unfold wpX_carryOut
        exact p4 _ (br_f c30 (br_t rfl (br_t cx hp)))
      · intro post hp
        exact p5 _ (br_f c30 (br_f c31 (br_f c32 (br_t rfl (br_t cy (br_f c34 hp))))))
  · by_cases h6 : L.length ≤ p + 1
    · have cx : nI (ld_ids L).length ≤ nI (p + 1) := by
        rw [hidl]
        exact nI_le h6 (by omega)
      have cy : nI L.length ≤ nI p + 1 := by
        rw [nI_1]
        exact nI_le h6 (by omega)
      refine ⟨L, SR, g, V, N, M, y, ln, ms, W, hD, fun z => absurd z c43, by omega, Nat.le_refl _, by omega, fun d hd _ => hd, fun _ => he, ?_, ?_⟩
      · intro post hp
        unfold wpX_carryOut
        exact p4 _ (br_f c40 (br_f c43 (br_t rfl (br_t cx hp))))
      · intro post hp
        exact p5 _ (br_f c40 (br_f c41 (br_f c42 (br_f c43 (br_t rfl (br_t cy hp))))))
    · have cx : ¬ nI (ld_ids L).length ≤ nI (p + 1) := by
        rw [hidl]
        exact nI_ge (by omega) (by omega)
      have cy : ¬ nI L.length ≤ nI p + 1 := by
        rw [nI_1]
        exact nI_ge (by omega) (by omega)
      obtain ⟨g1, g', y1, y', t0, t1, t2, t3, t4⟩ := ld_Dshift P OP ch ns ls V N M OM nS nP nL li ln now ych oc onow ms on ov oms yl hD p1 (q := p + 1) (by omega) (by omega)
      refine ⟨_, _, g', V, upd N e.1 (vp_nar .boolean 1), M, y', ln, ms, W, t0, fun z => absurd z c43, by rw [List.length_cons, List.length_cons]; omega, Nat.le_refl _, by omega, fun d hd _ => hmem _ (by omega) d hd, fun _ => hmem _ (by omega) e he, ?_, ?_⟩
      · intro post hp
        have t2' : ∀ (post : SX → Prop), post ((nI (ld_ids (ld_ins (ld_del L p) (p + 1) e)).length), 0, g'.1, g'.2.1, g'.2.2.1, P, OP, ch, (nI ((0, nI (p + 1 + 1), nI e.1) :: (1, nI (p + 1), nI e.1) :: SR).length), ns, ls, V, g'.2.2.2.1, upd N e.1 (vp_nar .boolean 1), g'.2.2.2.2.1, g'.2.2.2.2.2.1, g'.2.2.2.2.2.2.1, M, OM, g'.2.2.2.2.2.2.2.1, g'.2.2.2.2.2.2.2.2.1, g'.2.2.2.2.2.2.2.2.2, nS, nP, nL, li) → wpX_putIn post ((nI (ld_ids (ld_del L p)).length), 0, g1.1, g1.2.1, g1.2.2.1, P, OP, ch, (nI ((1, nI (p + 1), nI e.1) :: SR).length), ns, ls, V, g1.2.2.2.1, upd N e.1 (vp_nar .boolean 1), g1.2.2.2.2.1, g1.2.2.2.2.2.1, g1.2.2.2.2.2.2.1, M, OM, g1.2.2.2.2.2.2.2.1, g1.2.2.2.2.2.2.2.2.1, g1.2.2.2.2.2.2.2.2.2, nS, nP, nL, li) (nI (p + 1) + 1) (nI e.1) := by
          rw [nI_1 (p + 1)]
          exact t2
        unfold wpX_carryOut
        refine p4 _ (br_f c40 (br_f c43 (br_t rfl (br_f cx ?_))))
        unfold wX_carryOut_75
        refine t1 _ (br_f c41 (br_f c42 ?_))
        unfold wX_carryOut_108
        exact t2' _ hp
      · intro post hp
        exact p5 _ (br_f c40 (br_f c41 (br_f c42 (br_f c43 (br_t rfl (br_f cy (ld_Yshift ln now ych oc onow ms on ov oms yl hD.2.1 p1 (nI_1 p) t3 t4 _ hp)))))))
end
end
section
/-! all: the lists, the loop -/
def ld_fv (v : Int32) (L : List ld_E) : List ld_E := L.filter (fun e => decide (e.2.2 = v))
theorem ld_fvL (v : Int32) (L : List ld_E) : (ld_fv v L).length ≤ L.length := List.length_filter_le ..
theorem ld_fvM {v : Int32} {L : List ld_E} {e : ld_E} (h : e ∈ ld_fv v L) : e ∈ L := (List.mem_filter.mp h).1
theorem ld_fvT {v : Int32} (A : List ld_E) {e : ld_E} (h : e.2.2 = v) : ld_fv v (A ++ [e]) = ld_fv v A ++ [e] := by
  unfold ld_fv
  rw [List.filter_append, List.filter_cons, if_pos (decide_eq_true h), List.filter_nil]
theorem ld_fvF {v : Int32} (A : List ld_E) {e : ld_E} (h : ¬ e.2.2 = v) : ld_fv v (A ++ [e]) = ld_fv v A := by
  unfold ld_fv
  rw [List.filter_append, List.filter_cons, if_neg (by rw [decide_eq_true_eq]; exact h), List.filter_nil, List.append_nil]
theorem ld_fvN {v : Int32} {L : List ld_E} (h : (ld_ids L).Nodup) : (ld_ids (ld_fv v L)).Nodup := by
  refine List.Nodup.sublist ?_ h
  exact List.Sublist.map _ (List.filter_sublist)
theorem ld_snoc {l : List ld_E} {f : ld_E → Int32} {li : Nat → Int32} {e : ld_E} (h : ∀ j d, l[j]? = some d → li j = f d) : ∀ j d, (l ++ [e])[j]? = some d → upd li l.length (f e) j = f d := by
  intro j d hj
  by_cases h1 : j < l.length
  · rw [List.getElem?_append_left h1] at hj
    rw [pk_un (by omega)]
    exact h j d hj
  · have h2 := ld_lt hj
    rw [List.length_append, List.length_singleton] at h2
    have h3 : j = l.length := by omega
    subst h3
    rw [List.getElem?_append_right (Nat.le_refl _), Nat.sub_self] at hj
    have hj : e = d := Option.some.inj hj
    rw [pk_us, hj]
section
variable (P OP ch ns : Int32) (V N M OM nS nP nL : Nat → Int32) {L : List ld_E} {SR : List ld_St} {g : ld_GX}
theorem ld_lwL {v : Int32} (hI : ld_I (ld_ids L) SR g) (hV : ld_vl V L) : ∀ (B A : List ld_E) (li : Nat → Int32), L = A ++ B → (∀ j t, A.length ≤ j → (ld_ids L)[j]? = some t → li j = nI t) → (∀ j (e : ld_E), (ld_fv v A)[j]? = some e → li j = nI e.1) → ∃ li', (∀ j (e : ld_E), (ld_fv v L)[j]? = some e → li' j = nI e.1) ∧ ∀ (post : SX → Prop) n, B.length < n → post ((nI (ld_ids L).length), 0, g.1, g.2.1, g.2.2.1, P, OP, ch, (nI SR.length), ns, nI (ld_fv v L).length, V, g.2.2.2.1, N, g.2.2.2.2.1, g.2.2.2.2.2.1, g.2.2.2.2.2.2.1, M, OM, g.2.2.2.2.2.2.2.1, g.2.2.2.2.2.2.2.2.1, g.2.2.2.2.2.2.2.2.2, nS, nP, nL, li') → wX_listWith_13 post v (nI (ld_ids L).length) 0 g.1 g.2.1 g.2.2.1 P OP ch (nI SR.length) ns (nI L.length) n (nI (ld_fv v A).length) (nI A.length) V g.2.2.2.1 N g.2.2.2.2.1 g.2.2.2.2.2.1 g.2.2.2.2.2.2.1 M OM g.2.2.2.2.2.2.2.1 g.2.2.2.2.2.2.2.2.1 g.2.2.2.2.2.2.2.2.2 nS nP nL li := by
  obtain ⟨n1, n2, n3⟩ := ld_INd hI
  rw [ld_idsL] at n3
  intro B
  induction B with
  | nil =>
    intro A li hL _ h2
    rw [List.append_nil] at hL
    subst hL
    refine ⟨li, h2, ?_⟩
    intro post n hn hp
    obtain ⟨n, rfl⟩ : ∃ m, n = m + 1 := ⟨n - 1, by omega⟩
    exact br_t (Int32.le_refl _) hp
  | cons e B ih =>
    intro A li hL h1 h2
    have hLa : L[A.length]? = some e := by
      rw [hL, List.getElem?_append_right (Nat.le_refl _), Nat.sub_self]
      rfl
    have hem := List.mem_of_getElem? hLa
    have hlt := ld_lt hLa
    have h128 := n2 e.1 (ld_idsM hem)
    have hfl := ld_fvL v A
    have hli : li A.length = nI e.1 := h1 A.length e.1 (Nat.le_refl _) (ld_idsG hLa)
    have e0 : (nI A.length).toNatClampNeg = A.length := nI_clamp (by omega)
    have hl0 : li (nI A.length).toNatClampNeg = nI e.1 := by rw [e0, hli]
    have hval : V (li (nI A.length).toNatClampNeg).toNatClampNeg = e.2.2 := by
      rw [hl0, nI_clamp (by omega)]
      exact hV e hem
    have c1 : ¬ nI L.length ≤ nI A.length := nI_ge hlt (by omega)
    have hv1 : vp_in (nI A.length) 60 := vp_in_nI (by omega) (by decide)
    have hv2 : vp_in (li (nI A.length).toNatClampNeg) 128 := by
      rw [hl0]
      exact vp_in_nI h128 (by decide)
    have hL' : L = (A ++ [e]) ++ B := by
      rw [List.append_assoc]
      exact hL
    have hAl : (A ++ [e]).length = A.length + 1 := by rw [List.length_append, List.length_singleton]
    by_cases hc : e.2.2 = v
    · obtain ⟨li', i1, i2⟩ := ih (A ++ [e]) (upd li (ld_fv v A).length (nI e.1)) hL' (by
        intro j t hj ht
        rw [pk_un (by omega)]
        exact h1 j t (by omega) ht) (by
        rw [ld_fvT A hc]
        exact ld_snoc (f := fun d => nI d.1) h2)
      refine ⟨li', i1, ?_⟩
      intro post n hn hp
      rw [List.length_cons] at hn
      obtain ⟨n, rfl⟩ : ∃ m, n = m + 1 := ⟨n - 1, by omega⟩
      have hw := i2 post n (by omega) hp
      rw [ld_fvT A hc, hAl, List.length_append, List.length_singleton] at hw
      have hx : V (li (nI A.length).toNatClampNeg).toNatClampNeg = v := by rw [hval, hc]
      exact br_f c1 ⟨hv1, hv2, br_t hx ⟨hv1, vp_in_nI (by omega) (by decide), nm_r (e' := upd li (ld_fv v A).length (nI e.1)) (by rw [hl0, nI_clamp (by omega)]) (nm_r (nI_1 _) (nm_r (nI_1 _) hw))⟩⟩
    · obtain ⟨li', i1, i2⟩ := ih (A ++ [e]) li hL' (by
        intro j t hj ht
        exact h1 j t (by omega) ht) (by
        rw [ld_fvF A hc]
        exact h2)
      refine ⟨li', i1, ?_⟩
      intro post n hn hp
      rw [List.length_cons] at hn
      obtain ⟨n, rfl⟩ : ∃ m, n = m + 1 := ⟨n - 1, by omega⟩
      have hw := i2 post n (by omega) hp
      rw [ld_fvF A hc, hAl] at hw
      have hx : ¬ V (li (nI A.length).toNatClampNeg).toNatClampNeg = v := by rw [hval]; exact hc
      exact br_f c1 ⟨hv1, hv2, br_f hx (nm_r (nI_1 _) hw)⟩
end
section
variable (ln : Nat) (now ych oc onow : Int32) (ms on ov oms : Nat → Int32) {L : List ld_E} {y : (Nat → Int32) × (Nat → Int32)}
theorem ld_ylL {v κ : Int32} (hY : ld_Y L y) : ∀ (B A : List ld_E) (yl : Nat → Int32), L = A ++ B → (∀ j (e : ld_E), (ld_fv v A)[j]? = some e → yl j = nI e.2.1) → ∃ yl', (∀ j (e : ld_E), (ld_fv v L)[j]? = some e → yl' j = nI e.2.1) ∧ ∀ (post : Int32 → SY → Prop) n, B.length < n → (∃ n65, wY_all_65 post κ (nI (ld_fv v L).length) n65 0 (nI L.length) (nI ln) now ych oc onow y.1 y.2 ms on ov oms yl') → wY_all_20 post v κ (nI L.length) (nI ln) now ych oc onow n (nI (ld_fv v A).length) (nI A.length) y.1 y.2 ms on ov oms yl := by
  have h60 := hY.1
  intro B
  induction B with
  | nil =>
    intro A yl hL h2
    rw [List.append_nil] at hL
    subst hL
    refine ⟨yl, h2, ?_⟩
    intro post n hn hp
    obtain ⟨n, rfl⟩ : ∃ m, n = m + 1 := ⟨n - 1, by omega⟩
    exact br_t (Int32.le_refl _) hp
  | cons e B ih =>
    intro A yl hL h2
    have hLa : L[A.length]? = some e := by
      rw [hL, List.getElem?_append_right (Nat.le_refl _), Nat.sub_self]
      rfl
    have hlt := ld_lt hLa
    have hfl := ld_fvL v A
    have hye := hY.2 A.length e hLa
    have e0 : (nI A.length).toNatClampNeg = A.length := nI_clamp (by omega)
    have c1 : ¬ nI L.length ≤ nI A.length := nI_ge hlt (by omega)
    have hv1 : vp_in (nI A.length) 60 := vp_in_nI (by omega) (by decide)
    have hL' : L = (A ++ [e]) ++ B := by
      rw [List.append_assoc]
      exact hL
    have hAl : (A ++ [e]).length = A.length + 1 := by rw [List.length_append, List.length_singleton]
    by_cases hc : e.2.2 = v
    · obtain ⟨yl', i1, i2⟩ := ih (A ++ [e]) (upd yl (ld_fv v A).length (nI e.2.1)) hL' (by
        rw [ld_fvT A hc]
        exact ld_snoc (f := fun d => nI d.2.1) h2)
      refine ⟨yl', i1, ?_⟩
      intro post n hn hp
      rw [List.length_cons] at hn
      obtain ⟨n, rfl⟩ : ∃ m, n = m + 1 := ⟨n - 1, by omega⟩
      have hw := i2 post n (by omega) hp
      rw [ld_fvT A hc, hAl, List.length_append, List.length_singleton] at hw
      have hx : y.2 (nI A.length).toNatClampNeg = v := by rw [e0, hye.2, hc]
      exact br_f c1 ⟨hv1, br_t hx ⟨hv1, vp_in_nI (by omega) (by decide), nm_r (e' := upd yl (ld_fv v A).length (nI e.2.1)) (by rw [e0, hye.1, nI_clamp (by omega)]) (nm_r (nI_1 _) (nm_r (nI_1 _) hw))⟩⟩
    · obtain ⟨yl', i1, i2⟩ := ih (A ++ [e]) yl hL' (by
        rw [ld_fvF A hc]
        exact h2)
      refine ⟨yl', i1, ?_⟩
      intro post n hn hp
      rw [List.length_cons] at hn
      obtain ⟨n, rfl⟩ : ∃ m, n = m + 1 := ⟨n - 1, by omega⟩
      have hw := i2 post n (by omega) hp
      rw [ld_fvF A hc, hAl] at hw
      have hx : ¬ y.2 (nI A.length).toNatClampNeg = v := by rw [e0, hye.2]; exact hc
      exact br_f c1 ⟨hv1, br_f hx (nm_r (nI_1 _) hw)⟩
end
section
variable (P OP ch ns : Int32) (OM nS nP nL li : Nat → Int32) {O : List ld_E} (now ych oc onow : Int32) (on ov oms yl : Nat → Int32)
theorem ld_allL {κ : Int32} (hκ : κ = 0 ∨ κ = 1 ∨ κ = 2 ∨ κ = 3 ∨ κ = 4) {ES : List ld_E} (hnd : (ld_ids ES).Nodup) (hES : ES.length ≤ 60) (hli : ∀ j (e : ld_E), ES[j]? = some e → li j = nI e.1) (hyl : ∀ j (e : ld_E), ES[j]? = some e → yl j = nI e.2.1) : ∀ (d i : Nat) (L : List ld_E) (SR : List ld_St) (g : ld_GX) (V N M : Nat → Int32) (y : (Nat → Int32) × (Nat → Int32)) (ln : Nat) (ms W : Nat → Int32), ld_D O W L SR g V M y ln ms → (κ = 3 → W = V ∧ ld_nv SR ∧ (∀ t ∈ ld_ids O, t ∈ ld_ids L) ∧ ∀ t, t < 128 → N t = 0) → i + d = ES.length → (∀ j (e : ld_E), i ≤ j → ES[j]? = some e → e ∈ L) → SR.length + 2 * d ≤ 140 → ln + d ≤ 1000000 → ∃ (L' : List ld_E) (SR' : List ld_St) (g' : ld_GX) (V' N' M' : Nat → Int32) (y' : (Nat → Int32) × (Nat → Int32)) (ln' : Nat) (ms' W' : Nat → Int32), ld_D O W' L' SR' g' V' M' y' ln' ms' ∧ SR'.length ≤ SR.length + 2 * d ∧ ln ≤ ln' ∧ ln' ≤ ln + d ∧ (κ ≠ 0 → ∀ e ∈ L, e ∈ L') ∧ (∀ (post : Int32 → SX → Prop) n, wX_all_22 post κ n (nI ES.length) (nI (ld_ids L').length) 0 g'.1 g'.2.1 g'.2.2.1 P OP ch (nI SR'.length) ns (nI ES.length) V' g'.2.2.2.1 N' g'.2.2.2.2.1 g'.2.2.2.2.2.1 g'.2.2.2.2.2.2.1 M' OM g'.2.2.2.2.2.2.2.1 g'.2.2.2.2.2.2.2.2.1 g'.2.2.2.2.2.2.2.2.2 nS nP nL li → wX_all_22 post κ (n + d) (nI i) (nI (ld_ids L).length) 0 g.1 g.2.1 g.2.2.1 P OP ch (nI SR.length) ns (nI ES.length) V g.2.2.2.1 N g.2.2.2.2.1 g.2.2.2.2.2.1 g.2.2.2.2.2.2.1 M OM g.2.2.2.2.2.2.2.1 g.2.2.2.2.2.2.2.2.1 g.2.2.2.2.2.2.2.2.2 nS nP nL li) ∧ (∀ (post : Int32 → SY → Prop) n, wY_all_65 post κ (nI ES.length) n (nI ES.length) (nI L'.length) (nI ln') now ych oc onow y'.1 y'.2 ms' on ov oms yl → wY_all_65 post κ (nI ES.length) (n + d) (nI i) (nI L.length) (nI ln) now ych oc onow y.1 y.2 ms on ov oms yl) := by
  intro d
  induction d with
  | zero =>
    intro i L SR g V N M y ln ms W hD _ hi _ _ _
    have hi : i = ES.length := by omega
    subst hi
    exact ⟨L, SR, g, V, N, M, y, ln, ms, W, hD, Nat.le_refl _, Nat.le_refl _, Nat.le_refl _, fun _ e he => he, fun post n h => h, fun post n h => h⟩
  | succ d ih =>
    intro i L SR g V N M y ln ms W hD h3 hi hin hs hl
    obtain ⟨e, he⟩ := ld_some (L := ES) (p := i) (by omega)
    obtain ⟨L1, SR1, g1, V1, N1, M1, y1, ln1, ms1, W1, a1, a2, a3, a4, a5, a6, a7, a8, a9⟩ := ld_allS P OP ch ns (nI ES.length) V N M OM nS nP nL li ln now ych oc onow ms on ov oms yl hκ hD h3 (hin i e (Nat.le_refl _) he) (by omega) (by omega)
    obtain ⟨L', SR', g', V', N', M', y', ln', ms', W', b1, b2, b3, b4, b5, b6, b7⟩ := ih (i + 1) L1 SR1 g1 V1 N1 M1 y1 ln1 ms1 W1 a1 a2 (by omega) (by
      intro j e' hj he'
      refine a6 e' (hin j e' (by omega) he') ?_
      intro z
      subst z
      have := ld_injG hnd (ld_idsG he) (ld_idsG he')
      omega) (by omega) (by omega)
    have e0 : (nI i).toNatClampNeg = i := nI_clamp (by omega)
    have c1 : ¬ nI ES.length ≤ nI i := nI_ge (by omega) (by omega)
    have hv : vp_in (nI i) 60 := vp_in_nI (by omega) (by decide)
    refine ⟨L', SR', g', V', N', M', y', ln', ms', W', b1, by omega, by omega, by omega, ?_, ?_, ?_⟩
    · intro hk x hx
      refine b5 hk x ?_
      by_cases hxe : x = e
      · rw [hxe]
        exact a7 hk
      · exact a6 x hx hxe
    · intro post n hn
      have a8' : ∀ (post : SX → Prop), post ((nI (ld_ids L1).length), 0, g1.1, g1.2.1, g1.2.2.1, P, OP, ch, (nI SR1.length), ns, nI ES.length, V1, g1.2.2.2.1, N1, g1.2.2.2.2.1, g1.2.2.2.2.2.1, g1.2.2.2.2.2.2.1, M1, OM, g1.2.2.2.2.2.2.2.1, g1.2.2.2.2.2.2.2.2.1, g1.2.2.2.2.2.2.2.2.2, nS, nP, nL, li) → wpX_carryOut post ((nI (ld_ids L).length), 0, g.1, g.2.1, g.2.2.1, P, OP, ch, (nI SR.length), ns, nI ES.length, V, g.2.2.2.1, N, g.2.2.2.2.1, g.2.2.2.2.2.1, g.2.2.2.2.2.2.1, M, OM, g.2.2.2.2.2.2.2.1, g.2.2.2.2.2.2.2.2.1, g.2.2.2.2.2.2.2.2.2, nS, nP, nL, li) (li (nI i).toNatClampNeg) κ := by
        rw [e0, hli i e he]
        exact a8
      exact br_f c1 ⟨hv, a8' _ (nm_r (nI_1 i) (b6 post n hn))⟩
    · intro post n hn
      have a9' : ∀ (post : SY → Prop), post ((nI L1.length), nI ln1, now, ych, oc, onow, y1.1, y1.2, ms1, on, ov, oms, yl) → wpY_placeOf (fun r => wpY_one post ((nI L.length), (nI ln), now, ych, oc, onow, y.1, y.2, ms, on, ov, oms, yl) r κ) ((nI L.length), (nI ln), now, ych, oc, onow, y.1, y.2, ms, on, ov, oms, yl) (yl (nI i).toNatClampNeg) := by
        rw [e0, hyl i e he]
        exact a9
      exact br_f c1 ⟨hv, a9' _ (nm_r (nI_1 i) (b7 post n hn))⟩
end
section
variable (P OP ch ns ls : Int32) (V N M OM nS nP nL li : Nat → Int32) {L : List ld_E} {SR : List ld_St} {g : ld_GX} {y : (Nat → Int32) × (Nat → Int32)} (ln : Nat) (now ych oc onow : Int32) (ms on ov oms yl : Nat → Int32)
theorem ld_allE {κ : Int32} {ES : List ld_E} (hI : ld_I (ld_ids L) SR g) (hY : ld_Y L y) (h0 : 0 < ES.length) (hES : ES.length ≤ 60) (hli : ∀ j (e : ld_E), ES[j]? = some e → li j = nI e.1) (hyl : ∀ j (e : ld_E), ES[j]? = some e → yl j = nI e.2.1) (hin : κ ≠ 0 → ∀ e ∈ ES, e ∈ L) : ∃ (g' : ld_GX) (P' now' : Int32), ld_I (ld_ids L) SR g' ∧ ld_pr L P' now' ∧ (∀ (post : Int32 → SX → Prop), post (nI ES.length) ((nI (ld_ids L).length), 0, g'.1, g'.2.1, g'.2.2.1, P', OP, ch, (nI SR.length), ns, nI ES.length, V, g'.2.2.2.1, N, g'.2.2.2.2.1, g'.2.2.2.2.2.1, g'.2.2.2.2.2.2.1, M, OM, g'.2.2.2.2.2.2.2.1, g'.2.2.2.2.2.2.2.2.1, g'.2.2.2.2.2.2.2.2.2, nS, nP, nL, li) → wX_all_22 post κ 1 (nI ES.length) (nI (ld_ids L).length) 0 g.1 g.2.1 g.2.2.1 P OP ch (nI SR.length) ns (nI ES.length) V g.2.2.2.1 N g.2.2.2.2.1 g.2.2.2.2.2.1 g.2.2.2.2.2.2.1 M OM g.2.2.2.2.2.2.2.1 g.2.2.2.2.2.2.2.2.1 g.2.2.2.2.2.2.2.2.2 nS nP nL li) ∧ (∀ (post : Int32 → SY → Prop), post (nI ES.length) ((nI L.length), (nI ln), now', ych, oc, onow, y.1, y.2, ms, on, ov, oms, yl) → wY_all_65 post κ (nI ES.length) 1 (nI ES.length) (nI L.length) (nI ln) now ych oc onow y.1 y.2 ms on ov oms yl) := by
  have h60 := hY.1
  have hil := ld_idsL L
  have c1 : nI ES.length ≤ nI ES.length := Int32.le_refl _
  have c2 : ¬ nI ES.length ≤ 0 := nI_nle h0 (by omega)
  by_cases hk : κ = 0
  · by_cases hL0 : L.length = 0
    · have hL : L = [] := List.length_eq_zero_iff.mp hL0
      subst hL
      have hx2 : nI (ld_ids ([] : List ld_E)).length = 0 := rfl
      have hy1 : nI ([] : List ld_E).length = 0 := rfl
      exact ⟨g, -1, 0, hI, Or.inl ⟨rfl, rfl, rfl⟩, fun post hp => br_t c1 (br_f c2 (br_t hk (br_t hx2 hp))), fun post hp => br_t c1 (br_f c2 (br_t hk (br_t hy1 hp)))⟩
    · have hy1 : ¬ nI L.length = 0 := nI_ne0 (by omega) (by omega)
      obtain ⟨e, he⟩ := ld_some (L := L) (p := L.length - 1) (by omega)
      obtain ⟨g', i1, i2⟩ := ld_XlineAt P OP ch ns (nI ES.length) V N M OM nS nP nL li hI (ld_idsG he)
      have hx2 : ¬ nI (ld_ids L).length = 0 := by
        rw [hil]
        exact hy1
      have i2' : ∀ (post : Int32 → SX → Prop), post (nI e.1) ((nI (ld_ids L).length), 0, g'.1, g'.2.1, g'.2.2.1, P, OP, ch, (nI SR.length), ns, nI ES.length, V, g'.2.2.2.1, N, g'.2.2.2.2.1, g'.2.2.2.2.2.1, g'.2.2.2.2.2.2.1, M, OM, g'.2.2.2.2.2.2.2.1, g'.2.2.2.2.2.2.2.2.1, g'.2.2.2.2.2.2.2.2.2, nS, nP, nL, li) → wpX_lineAt post ((nI (ld_ids L).length), 0, g.1, g.2.1, g.2.2.1, P, OP, ch, (nI SR.length), ns, nI ES.length, V, g.2.2.2.1, N, g.2.2.2.2.1, g.2.2.2.2.2.1, g.2.2.2.2.2.2.1, M, OM, g.2.2.2.2.2.2.2.1, g.2.2.2.2.2.2.2.2.1, g.2.2.2.2.2.2.2.2.2, nS, nP, nL, li) (nI (ld_ids L).length) := by
        intro post hp
        have := i2 post hp
        rw [show nI (L.length - 1 + 1) = nI (ld_ids L).length by rw [hil, Nat.sub_add_cancel (by omega)]] at this
        exact this
      have ep : nI L.length - 1 = nI (L.length - 1) := by rw [show (1 : Int32) = nI 1 from rfl, pk_sub (by omega)]
      refine ⟨g', nI e.1, nI e.2.1, i1, Or.inr ⟨e, List.mem_of_getElem? he, rfl, rfl⟩, fun post hp => br_t c1 (br_f c2 (br_t hk (br_f hx2 (i2' _ hp)))), fun post hp => br_t c1 (br_f c2 (br_t hk (br_f hy1 ⟨?_, nm_r (e' := nI e.2.1) ?_ hp⟩)))⟩
      · rw [ep]
        exact vp_in_nI (by omega) (by decide)
      · rw [ep, nI_clamp (by omega)]
        exact (hY.2 _ e he).1
  · obtain ⟨e, he⟩ := ld_some (L := ES) (p := ES.length - 1) (by omega)
    have ep : nI ES.length - 1 = nI (ES.length - 1) := by rw [show (1 : Int32) = nI 1 from rfl, pk_sub (by omega)]
    have hv : vp_in (nI ES.length - 1) 60 := by
      rw [ep]
      exact vp_in_nI (by omega) (by decide)
    have ec : (nI ES.length - 1).toNatClampNeg = ES.length - 1 := by
      rw [ep]
      exact nI_clamp (by omega)
    exact ⟨g, nI e.1, nI e.2.1, hI, Or.inr ⟨e, hin hk e (List.mem_of_getElem? he), rfl, rfl⟩, fun post hp => br_t c1 (br_f c2 (br_f hk ⟨hv, nm_r (e' := nI e.1) (by rw [ec]; exact hli _ e he) hp⟩)), fun post hp => br_t c1 (br_f c2 (br_f hk ⟨hv, nm_r (e' := nI e.2.1) (by rw [ec]; exact hyl _ e he) hp⟩))⟩
end
end
section
/-! all -/
theorem i_vc_all {k : Nat} {u : SX} {v : SY} (I : i_Rel k u v) (hk : k + 5 ≤ 2560) (v1 : Int32) (v2 : Int32) : wpX_all (fun r u' => wpY_all (fun r' v' => r' = r ∧ i_Rel (k + 5) u' v') v v1 v2) u v1 v2 := by
  refine ld_el (Q := fun u v => wpX_all (fun r u' => wpY_all (fun r' v' => r' = r ∧ i_Rel (k + 5) u' v') v v1 v2) u v1 v2) ?_ I
  intro L SR g P OP ch ns ls V N M OM nS nP nL li y ln now oc onow ms on ov oms yl h
  have hR := ld_Rup (k' := k + 5) h (by omega)
  have h60 : L.length ≤ 60 := h.2.1.1
  have hln : ln ≤ 12 * k := h.2.2.2.2.2.2.1
  have hpr : ld_pr L P now := h.2.2.2.2.2.1
  by_cases h0 : v2 < 0
  · exact br_t h0 (br_t h0 ⟨rfl, ld_mkRel hR⟩)
  · by_cases h4 : v2 ≤ 4
    · have hκ : v2 = 0 ∨ v2 = 1 ∨ v2 = 2 ∨ v2 = 3 ∨ v2 = 4 := by
        obtain ⟨c, hc, rfl⟩ := nI_of2 (M := 4) (n := 4) (by decide) h0 h4
        have hc5 : c = 0 ∨ c = 1 ∨ c = 2 ∨ c = 3 ∨ c = 4 := by omega
        rcases hc5 with rfl | rfl | rfl | rfl | rfl
        · exact Or.inl rfl
        · exact Or.inr (Or.inl rfl)
        · exact Or.inr (Or.inr (Or.inl rfl))
        · exact Or.inr (Or.inr (Or.inr (Or.inl rfl)))
        · exact Or.inr (Or.inr (Or.inr (Or.inr rfl)))
      obtain ⟨N', OM', b1, b2, b3⟩ := ld_XbeginChange P OP ch ns ls V N M OM nS nP nL li (T := ld_ids L) (SR := SR) (g := g)
      obtain ⟨on', ov', oms', s1, s2, s3⟩ := ld_Ysave ln now ch oc onow ms on ov oms yl (L := L) (y := y)
      obtain ⟨hD, hO⟩ := ld_Dbegin h b2 s1 s2
      have hnd := (ld_INd hD.1).1
      have hfl := ld_fvL v1 L
      obtain ⟨li', l1, l2⟩ := ld_XlistRange P P 1 ns ls V N' M OM' nS nP nL li (a := 0) (e := (ld_ids L).length) hD.1 (by omega) (Nat.le_refl _)
      obtain ⟨li2, w1, w2⟩ := ld_lwL P P 1 ns V N' M OM' nS nP nL (v := v1) hD.1 hD.2.2.1 L [] li' rfl (by
        intro j t _ ht
        refine l1 j t ?_ (by rw [Nat.zero_add]; exact ht)
        have := ld_lt ht
        omega) (fun j e hj => absurd hj (by simp [ld_fv]))
      obtain ⟨yl2, z1, z2⟩ := ld_ylL ln now 1 (nI L.length) now ms on' ov' oms' (v := v1) (κ := v2) hD.2.1 L [] yl rfl (fun j e hj => absurd hj (by simp [ld_fv]))
      have hlist : ∀ (post : SX → Prop), post ((nI (ld_ids L).length), 0, g.1, g.2.1, g.2.2.1, P, P, 1, (nI ([] : List ld_St).length), ns, nI (ld_fv v1 L).length, V, g.2.2.2.1, N', g.2.2.2.2.1, g.2.2.2.2.2.1, g.2.2.2.2.2.2.1, M, OM', g.2.2.2.2.2.2.2.1, g.2.2.2.2.2.2.2.2.1, g.2.2.2.2.2.2.2.2.2, nS, nP, nL, li2) → wpX_listWith post ((nI (ld_ids L).length), 0, g.1, g.2.1, g.2.2.1, P, P, 1, (nI ([] : List ld_St).length), ns, ls, V, g.2.2.2.1, N', g.2.2.2.2.1, g.2.2.2.2.2.1, g.2.2.2.2.2.2.1, M, OM', g.2.2.2.2.2.2.2.1, g.2.2.2.2.2.2.2.2.1, g.2.2.2.2.2.2.2.2.2, nS, nP, nL, li) v1 := by
        intro post hp
        have hw := w2 post (L.length + 1) (by omega) hp
        rw [show nI L.length = nI ((ld_ids L).length - 0) by rw [ld_idsL, Nat.sub_zero]] at hw
        unfold wpX_listWith
        exact l2 _ ⟨L.length + 1, hw⟩
      by_cases hm : (ld_fv v1 L).length = 0
      · have c1 : nI (ld_fv v1 L).length ≤ 0 := by
          rw [hm]
          decide
        have hrel : i_Rel (k + 5) ((nI (ld_ids L).length), 0, g.1, g.2.1, g.2.2.1, P, P, 1, (nI ([] : List ld_St).length), ns, nI (ld_fv v1 L).length, V, g.2.2.2.1, N', g.2.2.2.2.1, g.2.2.2.2.2.1, g.2.2.2.2.2.2.1, M, OM', g.2.2.2.2.2.2.2.1, g.2.2.2.2.2.2.2.2.1, g.2.2.2.2.2.2.2.2.2, nS, nP, nL, li2) ((nI L.length), (nI ln), now, 1, nI L.length, now, y.1, y.2, ms, on', ov', oms', yl2) :=
          ld_mkRel (ld_Dend hD hO hpr (by rw [List.length_nil]; omega) (by omega))
        refine br_f h0 (br_t h4 (b3 _ (hlist _ ⟨1, br_t c1 (br_t c1 ?_)⟩)))
        exact br_f h0 (br_t h4 (s3 _ ⟨L.length + 1, z2 _ (L.length + 1) (by omega) ⟨1, br_t c1 (br_t c1 ⟨rfl, hrel⟩)⟩⟩))
      · obtain ⟨L', SR', g', V', N2, M', y', ln', ms', W', j1, j2, j3, j4, j5, j6, j7⟩ := ld_allL P P 1 ns OM' nS nP nL li2 now 1 (nI L.length) now on' ov' oms' yl2 hκ (ES := ld_fv v1 L) (ld_fvN hnd) (by omega) w1 z1 (ld_fv v1 L).length 0 L [] g V N' M y ln ms V hD (fun _ => ⟨rfl, fun s hs => absurd hs (List.not_mem_nil), fun t ht => ht, b1⟩) (by omega) (fun j e _ he => ld_fvM (List.mem_of_getElem? he)) (by rw [List.length_nil]; omega) (by omega)
        rw [List.length_nil] at j2
        obtain ⟨g2, P2, now2, e1, e2, e3, e4⟩ := ld_allE P P 1 ns V' N2 M' OM' nS nP nL li2 ln' now 1 (nI L.length) now ms' on' ov' oms' yl2 (κ := v2) (ES := ld_fv v1 L) j1.1 j1.2.1 (by omega) (by omega) w1 z1 (fun hne e he => j5 hne e (ld_fvM he))
        have hrel : i_Rel (k + 5) ((nI (ld_ids L').length), 0, g2.1, g2.2.1, g2.2.2.1, P2, P, 1, (nI SR'.length), ns, nI (ld_fv v1 L).length, V', g2.2.2.2.1, N2, g2.2.2.2.2.1, g2.2.2.2.2.2.1, g2.2.2.2.2.2.2.1, M', OM', g2.2.2.2.2.2.2.2.1, g2.2.2.2.2.2.2.2.2.1, g2.2.2.2.2.2.2.2.2.2, nS, nP, nL, li2) ((nI L'.length), nI ln', now2, 1, nI L.length, now, y'.1, y'.2, ms', on', ov', oms', yl2) :=
          ld_mkRel (ld_Dend ⟨e1, j1.2⟩ (ld_OtUp hO j3) e2 (by omega) (by omega))
        refine br_f h0 (br_t h4 (b3 _ (hlist _ ⟨1 + (ld_fv v1 L).length, j6 _ 1 (e3 _ ?_)⟩)))
        exact br_f h0 (br_t h4 (s3 _ ⟨L.length + 1, z2 _ (L.length + 1) (by omega) ⟨1 + (ld_fv v1 L).length, j7 _ 1 (e4 _ ⟨rfl, hrel⟩)⟩⟩))
    · exact br_f h0 (br_f h4 (br_f h0 (br_f h4 ⟨rfl, ld_mkRel hR⟩)))
end
