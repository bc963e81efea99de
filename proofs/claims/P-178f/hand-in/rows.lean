section
/-! rows taken from the kit (kit/rows) -/
theorem pk_us {f : Nat → Int32} {k : Nat} {x : Int32} : upd f k x k = x := if_pos rfl
theorem pk_un {f : Nat → Int32} {k j : Nat} {x : Int32} (h : j ≠ k) : upd f k x j = f j := if_neg h
theorem pk_uLs {f : Nat → Int64} {k : Nat} {x : Int64} : vp_updL f k x k = x := if_pos rfl
theorem pk_uLn {f : Nat → Int64} {k j : Nat} {x : Int64} (h : j ≠ k) : vp_updL f k x j = f j := if_neg h
theorem pk_m1 (n : Nat) : nI (n + 1) + (-1) = nI n := by
  rw [← nI_1, Int32.add_assoc, show (1 : Int32) + (-1) = 0 from rfl, Int32.add_zero]
theorem pk_ix (x : Int32) {n : Nat} (hn : n < 2 ^ 31) : x < 0 ∨ nI n ≤ x ∨ ∃ j : Nat, j < n ∧ x = nI j := by
  by_cases h : x < 0
  · exact Or.inl h
  · obtain ⟨j, hj, rfl⟩ := nI_of h
    by_cases h2 : j < n
    · exact Or.inr (Or.inr ⟨j, h2, rfl⟩)
    · exact Or.inr (Or.inl (nI_le (by omega) hj))
theorem pk_le {x y : Int32} {A B : Prop} (a b : Nat) (f : a ≤ b → A) (g : b < a → B) (hx : x = nI a := by rfl) (hy : y = nI b := by rfl) (ha : a < 2 ^ 31 := by omega) (hb : b < 2 ^ 31 := by omega) : (x ≤ y → A) ∧ (¬ x ≤ y → B) := by
  subst hx hy
  rw [nI_leI ha hb]
  exact ⟨f, fun z => g (by omega)⟩
theorem pk_lt {x y : Int32} {A B : Prop} (a b : Nat) (f : a < b → A) (g : b ≤ a → B) (hx : x = nI a := by rfl) (hy : y = nI b := by rfl) (ha : a < 2 ^ 31 := by omega) (hb : b < 2 ^ 31 := by omega) : (x < y → A) ∧ (¬ x < y → B) := by
  subst hx hy
  rw [nI_ltI ha hb]
  exact ⟨f, fun z => g (by omega)⟩
theorem pk_eq {x y : Int32} {A B : Prop} (a b : Nat) (f : a = b → A) (g : a ≠ b → B) (hx : x = nI a := by rfl) (hy : y = nI b := by rfl) (ha : a < 2 ^ 31 := by omega) (hb : b < 2 ^ 31 := by omega) : (x = y → A) ∧ (¬ x = y → B) := by
  subst hx hy
  rw [nI_eq ha hb]
  exact ⟨f, g⟩
theorem pk_in {x : Int32} (n N : Nat) (h : n < N) (hx : x = nI n := by rfl) (hN : N < 2 ^ 31 := by omega) : vp_in x N := by
  subst hx
  exact vp_in_nI h hN
theorem pk_cl {x : Int32} (n : Nat) (hx : x = nI n := by rfl) (h : n < 2 ^ 31 := by omega) : x.toNatClampNeg = n := by
  subst hx
  exact nI_clamp h
theorem pk_tn {n : Nat} (h : n < 2 ^ 32) : (nI n).toBitVec.toNat = n := Nat.mod_eq_of_lt h
theorem pk_charN {q : Nat} (hq : q < 65536) : narrow .char (.int (nI q)) = .int (nI q) ∧ fits .char (.int (nI q)) = true := by
  constructor
  · have e : (nI q).toUInt32.toUInt16.toUInt32.toInt32 = nI q := by
      apply Int32.toBitVec_inj.mp
      apply BitVec.eq_of_toNat_eq
      show (nI q).toUInt32.toUInt16.toUInt32.toNat = q % 2 ^ 32
      rw [UInt16.toNat_toUInt32, UInt32.toNat_toUInt16, show (nI q).toUInt32.toNat = q % 2 ^ 32 from rfl]
      omega
    exact congrArg Value.int e
  · have a : (0 : Int32) ≤ nI q := nI_pos' (by omega)
    have b : nI q ≤ 65535 := nI_le (b := 65535) (by omega) (by decide)
    show (decide ((0 : Int32) ≤ nI q) && decide (nI q ≤ 65535)) = true
    rw [decide_eq_true a, decide_eq_true b]
    rfl
theorem pk_char (x : Int32) : (x.toUInt32 % 65536).toInt32 = nI (x.toBitVec.toNat % 65536) := by
  apply Int32.toBitVec_inj.mp
  apply BitVec.eq_of_toNat_eq
  rw [pk_tn (by omega)]
  show (x.toUInt32 % 65536).toNat = _
  rw [UInt32.toNat_mod]
  rfl
theorem pk_nc (x : Int32) : narrow .char (.int (x.toUInt32 % 65536).toInt32) = .int (x.toUInt32 % 65536).toInt32 := by
  rw [pk_char]
  exact (pk_charN (Nat.mod_lt _ (by decide))).1
theorem pk_vb (z : Int32) : vp_nar .byte z.toInt8.toInt32 = z.toInt8.toInt32 := by rw [vp_nar_byte]; simp
theorem pk_vs (z : Int32) : vp_nar .short z.toInt16.toInt32 = z.toInt16.toInt32 := by rw [vp_nar_short]; simp
theorem pk_vc (z : Int32) : vp_nar .char (z.toUInt32 % 65536).toInt32 = (z.toUInt32 % 65536).toInt32 := Value.int.inj (pk_nc z)
theorem sb_m1 {p : Nat} (h : 0 < p) : nI p + (-1) = nI (p - 1) := by
  obtain ⟨q, rfl⟩ : ∃ q, p = q + 1 := ⟨p - 1, by omega⟩
  exact pk_m1 q
def bt (x : Int32) (i : Nat) : Bool := x.toBitVec.getLsbD i
theorem b_ext {x y : Int32} (h : ∀ i, i < 32 → bt x i = bt y i) : x = y := Int32.toBitVec_inj.mp (BitVec.eq_of_getLsbD_eq (fun i hi => h i hi))
theorem b_or (x y : Int32) (i : Nat) : bt (x ||| y) i = (bt x i || bt y i) := by unfold bt; rw [Int32.toBitVec_or, BitVec.getLsbD_or]
theorem b_and (x y : Int32) (i : Nat) : bt (x &&& y) i = (bt x i && bt y i) := by unfold bt; rw [Int32.toBitVec_and, BitVec.getLsbD_and]
theorem b_big {x : Int32} {i : Nat} (h : 32 ≤ i) : bt x i = false := BitVec.getLsbD_of_ge _ _ h
theorem b_0 (i : Nat) : bt 0 i = false := BitVec.getLsbD_zero
theorem wb_tb (n : Nat) : (lN n).toBitVec = BitVec.ofNat 64 n := rfl
theorem wb_inj {a b : Int64} (h : a.toBitVec = b.toBitVec) : a = b := Int64.toBitVec_inj.mp h
theorem wb_c : ∀ k, k < 64 → ((nI k).toInt64 &&& 63) = lN k := by decide +kernel
theorem wb_cu : ∀ k, k < 64 → ((nI k).toInt64.toUInt64 &&& Int64.toUInt64 63) = UInt64.ofNat k := by decide +kernel
theorem wb_sm : ∀ k, k < 64 → (BitVec.ofNat 64 k).smod 64 = BitVec.ofNat 64 k := by decide +kernel
end
section
/-! the tree, with no program in sight -/
/-- the parent of j as a number below j (0 for the root) -/
def ea_pr (P : Nat → Int32) (j : Nat) : Nat := if (P j).toNatClampNeg < j then (P j).toNatClampNeg else 0
theorem ea_pr_lt {P : Nat → Int32} {j : Nat} (h : 0 < j) : ea_pr P j < j := by
  unfold ea_pr
  split
  · assumption
  · exact h
theorem ea_pr_le (P : Nat → Int32) (j : Nat) : ea_pr P j ≤ j := by
  unfold ea_pr
  split <;> omega
theorem ea_pr_of {P : Nat → Int32} {j p : Nat} (h : P j = nI p) (hp : p < j) (hj : j < 2 ^ 31) : ea_pr P j = p := by
  unfold ea_pr
  rw [h, nI_clamp (by omega), if_pos hp]
theorem ea_pr_cg {P P' : Nat → Int32} {j : Nat} (h : P' j = P j) : ea_pr P' j = ea_pr P j := by
  unfold ea_pr
  rw [h]
def ea_it (P : Nat → Int32) : Nat → Nat → Nat
  | 0, m => m
  | k + 1, m => ea_it P k (ea_pr P m)
theorem ea_it_le (P : Nat → Int32) : ∀ k m, ea_it P k m ≤ m
  | 0, m => Nat.le_refl m
  | k + 1, m => Nat.le_trans (ea_it_le P k (ea_pr P m)) (ea_pr_le P m)
/-- q is m or an ancestor of m -/
def ea_an (P : Nat → Int32) (m q : Nat) : Prop := ∃ k, ea_it P k m = q
theorem ea_an_s (P : Nat → Int32) (m : Nat) : ea_an P m m := ⟨0, rfl⟩
theorem ea_an_le {P : Nat → Int32} {m q : Nat} (h : ea_an P m q) : q ≤ m := by
  obtain ⟨k, rfl⟩ := h
  exact ea_it_le P k m
theorem ea_an_st {P : Nat → Int32} {m q : Nat} (h : m ≠ q) : ea_an P m q ↔ ea_an P (ea_pr P m) q := by
  constructor
  · intro ⟨k, e⟩
    cases k with
    | zero => exact absurd e h
    | succ k => exact ⟨k, e⟩
  · intro ⟨k, e⟩
    exact ⟨k + 1, e⟩
theorem ea_it_cg {P P' : Nat → Int32} : ∀ (k m : Nat), (∀ j, j ≤ m → P' j = P j) → ea_it P' k m = ea_it P k m
  | 0, _, _ => rfl
  | k + 1, m, h => by
    show ea_it P' k (ea_pr P' m) = ea_it P k (ea_pr P m)
    rw [ea_pr_cg (h m (Nat.le_refl m))]
    exact ea_it_cg k _ (fun j hj => h j (Nat.le_trans hj (ea_pr_le P m)))
theorem ea_an_cg {P P' : Nat → Int32} {m q : Nat} (h : ∀ j, j ≤ m → P' j = P j) (z : ea_an P m q) : ea_an P' m q := by
  obtain ⟨k, e⟩ := z
  exact ⟨k, (ea_it_cg k m h).trans e⟩
/-- some node of the path from m upwards, strictly below t, has G -/
def ea_Z (P : Nat → Int32) (t m : Nat) (G : Nat → Prop) : Prop := ∃ q, t < q ∧ ea_an P m q ∧ G q
theorem ea_Z_e {P : Nat → Int32} {t : Nat} {G : Nat → Prop} : ¬ ea_Z P t t G := fun ⟨_, h, a, _⟩ => absurd (ea_an_le a) (Nat.not_le.mpr h)
theorem ea_Z_s {P : Nat → Int32} {t m : Nat} {G : Nat → Prop} (h : t < m) : ea_Z P t m G ↔ G m ∨ ea_Z P t (ea_pr P m) G := by
  constructor
  · intro ⟨q, h1, h2, h3⟩
    by_cases e : m = q
    · subst e
      exact Or.inl h3
    · exact Or.inr ⟨q, h1, (ea_an_st e).mp h2, h3⟩
  · intro z
    rcases z with z | ⟨q, h1, h2, h3⟩
    · exact ⟨m, h, ea_an_s P m, z⟩
    · have := ea_an_le h2
      have := ea_pr_lt (P := P) (j := m) (by omega)
      exact ⟨q, h1, (ea_an_st (by omega)).mpr h2, h3⟩
/-- the path from e's parent up to its target, without it, holds a node of kind x -/
def ea_cr (K P T : Nat → Int32) (e : Nat) (x : Int32) : Prop := ea_Z P (T e).toNatClampNeg (ea_pr P e) (fun q => K q = x)
/-- the kinds that want a target -/
def ea_wk (x : Int32) : Prop := x = 2 ∨ x = 4 ∨ x = 6 ∨ x = 7
def ea_ex (x : Int32) : Prop := x = 2 ∨ x = 4
def ea_rf (x : Int32) : Prop := x = 6 ∨ x = 7
def ea_bl (x : Int32) : Prop := x = 1 ∨ x = 3
theorem ea_ex_wk {x : Int32} (h : ea_ex x) : ea_wk x := h.elim Or.inl (fun e => Or.inr (Or.inl e))
theorem ea_rf_wk {x : Int32} (h : ea_rf x) : ea_wk x := h.elim (fun e => Or.inr (Or.inr (Or.inl e))) (fun e => Or.inr (Or.inr (Or.inr e)))
def ea_TR (c : Nat) (K P T TY : Nat → Int32) : Prop :=
  1 ≤ c ∧ c ≤ 16 ∧ K 0 = 0 ∧ P 0 = -1 ∧ (∀ j, 1 ≤ j → j < c → P j = nI (ea_pr P j)) ∧ (∀ j, 1 ≤ j → TY j = T j) ∧
  (∀ j, j < c → ea_wk (K j) → ∃ t, T j = nI t ∧ t < j ∧ ea_an P (ea_pr P j) t)
theorem ea_R16 {c : Nat} {K P T TY : Nat → Int32} (R : ea_TR c K P T TY) : c ≤ 16 := R.2.1
theorem ea_Rp {c : Nat} {K P T TY : Nat → Int32} (R : ea_TR c K P T TY) {j : Nat} (h0 : 1 ≤ j) (h : j < c) : P (nI j).toNatClampNeg = nI (ea_pr P j) := by
  have := R.2.1
  rw [nI_clamp (by omega)]
  exact R.2.2.2.2.1 j h0 h
theorem ea_Rt {c : Nat} {K P T TY : Nat → Int32} (R : ea_TR c K P T TY) {j : Nat} (h : 1 ≤ j) : TY j = T j := R.2.2.2.2.2.1 j h
theorem ea_Rw {c : Nat} {K P T TY : Nat → Int32} (R : ea_TR c K P T TY) {j : Nat} (h : j < c) (w : ea_wk (K j)) : ∃ t, T j = nI t ∧ t < j ∧ ea_an P (ea_pr P j) t := R.2.2.2.2.2.2 j h w
/-- an exit below i that leaves the block j and crosses a lambda or a cleanup -/
def ea_ctA (K P T : Nat → Int32) (j e : Nat) : Prop := ea_ex (K e) ∧ T e = nI j ∧ (ea_cr K P T e 0 ∨ ea_cr K P T e 8)
def ea_clA (K P T : Nat → Int32) (j e : Nat) : Prop := ea_rf (K e) ∧ T e = nI j ∧ ea_cr K P T e 0
def ea_wrA (K T : Nat → Int32) (j e : Nat) : Prop := K e = 7 ∧ T e = nI j
/-- some e below i has A -/
def ea_E (A : Nat → Prop) (i : Nat) : Prop := ∃ e, e < i ∧ A e
theorem ea_E0 {A : Nat → Prop} : ¬ ea_E A 0 := fun ⟨_, h, _⟩ => absurd h (Nat.not_lt_zero _)
theorem ea_Es {A : Nat → Prop} {i : Nat} : ea_E A (i + 1) ↔ ea_E A i ∨ A i := by
  constructor
  · intro ⟨e, h, a⟩
    by_cases z : e = i
    · exact Or.inr (z ▸ a)
    · exact Or.inl ⟨e, by omega, a⟩
  · intro z
    rcases z with ⟨e, h, a⟩ | a
    · exact ⟨e, by omega, a⟩
    · exact ⟨i, by omega, a⟩
theorem ea_Eu {A : Nat → Prop} {i : Nat} (h : ∀ e, e < i → ¬ A e) : ¬ ea_E A i := fun ⟨e, he, a⟩ => h e he a
theorem ea_nj {c : Nat} {K P T TY : Nat → Int32} (R : ea_TR c K P T TY) {e j : Nat} (he : e < c) (hj : j < 16) (w : ea_wk (K e)) (ht : T e = nI j) : j < e := by
  obtain ⟨t, h1, h2, _⟩ := ea_Rw R he w
  have := R.2.1
  have q := (nI_eq (by omega) (by omega)).mp (h1.symm.trans ht)
  omega
/-! the marks, bit by bit -/
def ea_MS (a : Nat) (K P T M : Nat → Int32) : Prop := ∀ j, j < 16 →
  (bt (M j) 0 = true ↔ j < a ∧ ea_wk (K j) ∧ ea_cr K P T j 0) ∧
  (bt (M j) 1 = true ↔ j < a ∧ ea_wk (K j) ∧ ea_cr K P T j 8) ∧
  (bt (M j) 2 = true ↔ j < a ∧ ea_wk (K j) ∧ ea_cr K P T j 9) ∧
  (bt (M j) 3 = true ↔ ea_E (ea_ctA K P T j) a) ∧
  (bt (M j) 4 = true ↔ ea_E (ea_clA K P T j) a) ∧
  (bt (M j) 5 = true ↔ ea_E (ea_wrA K T j) a)
/-- agreement below a -/
def ea_ag (a : Nat) (K P T K' P' T' : Nat → Int32) : Prop := ∀ j, j < a → K' j = K j ∧ P' j = P j ∧ T' j = T j
theorem ea_ag_s {a : Nat} {K P T K' P' T' : Nat → Int32} (h : ea_ag a K P T K' P' T') : ea_ag a K' P' T' K P T := fun j hj => ⟨(h j hj).1.symm, (h j hj).2.1.symm, (h j hj).2.2.symm⟩
theorem ea_cr_cg {a : Nat} {K P T K' P' T' : Nat → Int32} (h : ea_ag a K P T K' P' T') {e : Nat} (he : e < a) {x : Int32} (z : ea_cr K P T e x) : ea_cr K' P' T' e x := by
  obtain ⟨q, h1, h2, h3⟩ := z
  have l1 := ea_an_le h2
  have l2 := ea_pr_le P e
  refine ⟨q, ?_, ?_, ?_⟩
  · rw [(h e he).2.2]; exact h1
  · rw [ea_pr_cg (h e he).2.1]
    exact ea_an_cg (fun j hj => (h j (by omega)).2.1) h2
  · exact ((h q (by omega)).1).trans h3
theorem ea_ct_cg {a : Nat} {K P T K' P' T' : Nat → Int32} (h : ea_ag a K P T K' P' T') {j : Nat} (z : ea_E (ea_ctA K P T j) a) : ea_E (ea_ctA K' P' T' j) a := by
  obtain ⟨e, he, h1, h2, h3⟩ := z
  refine ⟨e, he, ?_, ?_, h3.elim (fun q => Or.inl (ea_cr_cg h he q)) (fun q => Or.inr (ea_cr_cg h he q))⟩
  · rw [(h e he).1]; exact h1
  · rw [(h e he).2.2]; exact h2
theorem ea_cl_cg {a : Nat} {K P T K' P' T' : Nat → Int32} (h : ea_ag a K P T K' P' T') {j : Nat} (z : ea_E (ea_clA K P T j) a) : ea_E (ea_clA K' P' T' j) a := by
  obtain ⟨e, he, h1, h2, h3⟩ := z
  refine ⟨e, he, ?_, ?_, ea_cr_cg h he h3⟩
  · rw [(h e he).1]; exact h1
  · rw [(h e he).2.2]; exact h2
theorem ea_wr_cg {a : Nat} {K P T K' P' T' : Nat → Int32} (h : ea_ag a K P T K' P' T') {j : Nat} (z : ea_E (ea_wrA K T j) a) : ea_E (ea_wrA K' T' j) a := by
  obtain ⟨e, he, h1, h2⟩ := z
  refine ⟨e, he, ?_, ?_⟩
  · rw [(h e he).1]; exact h1
  · rw [(h e he).2.2]; exact h2
theorem ea_mw_cg {a : Nat} {K P T K' P' T' : Nat → Int32} (h : ea_ag a K P T K' P' T') {j : Nat} {x : Int32} (z : j < a ∧ ea_wk (K j) ∧ ea_cr K P T j x) : j < a ∧ ea_wk (K' j) ∧ ea_cr K' P' T' j x :=
  ⟨z.1, by rw [(h j z.1).1]; exact z.2.1, ea_cr_cg h z.1 z.2.2⟩
theorem ea_MS_cg {a : Nat} {K P T K' P' T' M : Nat → Int32} (h : ea_ag a K P T K' P' T') (m : ea_MS a K P T M) : ea_MS a K' P' T' M := by
  intro j hj
  obtain ⟨m0, m1, m2, m3, m4, m5⟩ := m j hj
  have s := ea_ag_s h
  exact ⟨m0.trans ⟨ea_mw_cg h, ea_mw_cg s⟩, m1.trans ⟨ea_mw_cg h, ea_mw_cg s⟩, m2.trans ⟨ea_mw_cg h, ea_mw_cg s⟩, m3.trans ⟨ea_ct_cg h, ea_ct_cg s⟩, m4.trans ⟨ea_cl_cg h, ea_cl_cg s⟩, m5.trans ⟨ea_wr_cg h, ea_wr_cg s⟩⟩
end
section
/-! one step of the marks; a new node -/
theorem ea_MS0 {K P T M : Nat → Int32} (h : ∀ j, j < 16 → M j = 0) : ea_MS 0 K P T M := by
  intro j hj
  have z : ∀ (b : Nat) (A : Prop), ¬ A → (bt (M j) b = true ↔ A) := by
    intro b A hA
    rw [h j hj, b_0]
    exact ⟨fun q => absurd q (by decide), fun q => absurd q hA⟩
  exact ⟨z 0 _ (fun q => absurd q.1 (Nat.not_lt_zero j)), z 1 _ (fun q => absurd q.1 (Nat.not_lt_zero j)), z 2 _ (fun q => absurd q.1 (Nat.not_lt_zero j)), z 3 _ ea_E0, z 4 _ ea_E0, z 5 _ ea_E0⟩
theorem ea_mw_s {i j : Nat} {W C : Nat → Prop} : (j < i + 1 ∧ W j ∧ C j) ↔ (j < i ∧ W j ∧ C j) ∨ (j = i ∧ W i ∧ C i) := by
  constructor
  · intro ⟨h, a⟩
    by_cases e : j = i
    · subst e; exact Or.inr ⟨rfl, a⟩
    · exact Or.inl ⟨by omega, a⟩
  · intro z
    rcases z with ⟨h, a⟩ | ⟨h, a⟩
    · exact ⟨by omega, a⟩
    · subst h; exact ⟨by omega, a⟩
theorem ea_MS_step {i t : Nat} {K P T M M' : Nat → Int32} {w : Nat → Prop} {v : Nat → Prop} (hi : i < 16) (ht : t < 16) (hT : T i = nI t) (m : ea_MS i K P T M)
    (hb : ∀ j b, bt (M' j) b = true ↔ (bt (M j) b = true ∨ (j = i ∧ w b)) ∨ (j = t ∧ v b))
    (hw : ea_wk (K i)) (w0 : w 0 ↔ ea_cr K P T i 0) (w1 : w 1 ↔ ea_cr K P T i 8) (w2 : w 2 ↔ ea_cr K P T i 9) (w3 : ¬ w 3) (w4 : ¬ w 4) (w5 : ¬ w 5)
    (v0 : ¬ v 0) (v1 : ¬ v 1) (v2 : ¬ v 2) (v3 : v 3 ↔ ea_ex (K i) ∧ (ea_cr K P T i 0 ∨ ea_cr K P T i 8)) (v4 : v 4 ↔ ea_rf (K i) ∧ ea_cr K P T i 0) (v5 : v 5 ↔ K i = 7) : ea_MS (i + 1) K P T M' := by
  intro j hj
  obtain ⟨m0, m1, m2, m3, m4, m5⟩ := m j hj
  have ej : T i = nI j ↔ j = t := by
    rw [hT, nI_eq (by omega) (by omega)]
    exact ⟨Eq.symm, Eq.symm⟩
  have lo : ∀ (b : Nat) (x : Int32), ¬ v b → (w b ↔ ea_cr K P T i x) → (bt (M j) b = true ↔ j < i ∧ ea_wk (K j) ∧ ea_cr K P T j x) → (bt (M' j) b = true ↔ j < i + 1 ∧ ea_wk (K j) ∧ ea_cr K P T j x) := by
    intro b x nv hw' hm
    rw [hb j b, hm, hw', ea_mw_s (W := fun j => ea_wk (K j)) (C := fun j => ea_cr K P T j x)]
    constructor
    · intro z
      rcases z with (z | z) | z
      · exact Or.inl z
      · exact Or.inr ⟨z.1, hw, z.2⟩
      · exact absurd z.2 nv
    · intro z
      rcases z with z | z
      · exact Or.inl (Or.inl z)
      · exact Or.inl (Or.inr ⟨z.1, z.2.2⟩)
  have up : ∀ (b : Nat) (A : Nat → Prop), ¬ w b → (j = t ∧ v b ↔ A i) → (bt (M j) b = true ↔ ea_E A i) → (bt (M' j) b = true ↔ ea_E A (i + 1)) := by
    intro b A nw hv hm
    rw [hb j b, hm, ea_Es, hv]
    constructor
    · intro z
      rcases z with (z | z) | z
      · exact Or.inl z
      · exact absurd z.2 nw
      · exact Or.inr z
    · intro z
      rcases z with z | z
      · exact Or.inl (Or.inl z)
      · exact Or.inr z
  refine ⟨lo 0 0 v0 w0 m0, lo 1 8 v1 w1 m1, lo 2 9 v2 w2 m2, up 3 _ w3 ?_ m3, up 4 _ w4 ?_ m4, up 5 _ w5 ?_ m5⟩
  · rw [v3]
    exact ⟨fun z => ⟨z.2.1, ej.mpr z.1, z.2.2⟩, fun z => ⟨ej.mp z.2.1, z.1, z.2.2⟩⟩
  · rw [v4]
    exact ⟨fun z => ⟨z.2.1, ej.mpr z.1, z.2.2⟩, fun z => ⟨ej.mp z.2.1, z.1, z.2.2⟩⟩
  · rw [v5]
    exact ⟨fun z => ⟨z.2, ej.mpr z.1⟩, fun z => ⟨ej.mp z.2, z.1⟩⟩
theorem ea_MS_skip {i : Nat} {K P T M : Nat → Int32} (m : ea_MS i K P T M) (hw : ¬ ea_wk (K i)) : ea_MS (i + 1) K P T M := by
  intro j hj
  obtain ⟨m0, m1, m2, m3, m4, m5⟩ := m j hj
  have lo : ∀ (x : Int32), (j < i ∧ ea_wk (K j) ∧ ea_cr K P T j x) ↔ (j < i + 1 ∧ ea_wk (K j) ∧ ea_cr K P T j x) := by
    intro x
    rw [ea_mw_s (W := fun j => ea_wk (K j)) (C := fun j => ea_cr K P T j x)]
    exact ⟨Or.inl, fun z => z.elim id (fun q => absurd q.2.1 hw)⟩
  have up : ∀ (A : Nat → Prop), ¬ A i → (ea_E A i ↔ ea_E A (i + 1)) := by
    intro A nA
    rw [ea_Es]
    exact ⟨Or.inl, fun z => z.elim id (fun q => absurd q nA)⟩
  exact ⟨m0.trans (lo 0), m1.trans (lo 8), m2.trans (lo 9), m3.trans (up _ (fun z => hw (ea_ex_wk z.1))), m4.trans (up _ (fun z => hw (ea_rf_wk z.1))), m5.trans (up _ (fun z => hw (ea_rf_wk (Or.inr z.1))))⟩
theorem ea_bt_upd (M : Nat → Int32) (k : Nat) (w : Int32) (j b : Nat) : bt (upd M k (M k ||| w) j) b = true ↔ bt (M j) b = true ∨ (j = k ∧ bt w b = true) := by
  by_cases e : j = k
  · subst e
    rw [pk_us, b_or, Bool.or_eq_true]
    exact ⟨fun z => z.elim Or.inl (fun q => Or.inr ⟨rfl, q⟩), fun z => z.elim Or.inl (fun q => Or.inr q.2)⟩
  · rw [pk_un e]
    exact ⟨Or.inl, fun z => z.elim id (fun q => absurd q.1 e)⟩
theorem ea_add {a c par : Nat} {K P T TY M : Nat → Int32} {kd y : Int32} (R : ea_TR c K P T TY) (m : ea_MS a K P T M) (ha : a ≤ c) (hc : c < 16) (hp : par < c)
    (hw : ea_wk kd → ∃ t, y = nI t ∧ t < c ∧ ea_an P par t) :
    ea_TR (c + 1) (upd K c kd) (upd P c (nI par)) (upd T c y) (upd TY c y) ∧ ea_MS a (upd K c kd) (upd P c (nI par)) (upd T c y) M := by
  obtain ⟨r1, r2, r3, r4, r5, r6, r7⟩ := R
  have hpr : ∀ j, j < c → ea_pr (upd P c (nI par)) j = ea_pr P j := fun j hj => ea_pr_cg (pk_un (by omega))
  have hpc : ea_pr (upd P c (nI par)) c = par := ea_pr_of pk_us hp (by omega)
  have han : ∀ g t, g < c → ea_an P g t → ea_an (upd P c (nI par)) g t := fun g t hg h => ea_an_cg (fun j hj => pk_un (by omega)) h
  constructor
  · refine ⟨by omega, by omega, ?_, ?_, ?_, ?_, ?_⟩
    · rw [pk_un (by omega)]; exact r3
    · rw [pk_un (by omega)]; exact r4
    · intro j h0 h
      by_cases e : j = c
      · subst e
        rw [hpc, pk_us]
      · rw [hpr j (by omega), pk_un e]
        exact r5 j h0 (by omega)
    · intro j h0
      by_cases e : j = c
      · subst e
        rw [pk_us, pk_us]
      · rw [pk_un e, pk_un e]
        exact r6 j h0
    · intro j h hk
      by_cases e : j = c
      · subst e
        rw [pk_us] at hk
        obtain ⟨t, h1, h2, h3⟩ := hw hk
        rw [hpc, pk_us]
        exact ⟨t, h1, h2, han par t hp h3⟩
      · rw [pk_un e] at hk
        obtain ⟨t, h1, h2, h3⟩ := r7 j (by omega) hk
        rw [hpr j (by omega), pk_un e]
        have := ea_pr_le P j
        exact ⟨t, h1, h2, han _ t (by omega) h3⟩
  · exact ea_MS_cg (fun j hj => ⟨pk_un (by omega), pk_un (by omega), pk_un (by omega)⟩) m
end
section
/-! the reference's queries -/
def ea_h (x : Int32) (A : Prop) : Prop := (x = 1 ∧ A) ∨ (x = 0 ∧ ¬ A)
theorem ea_h1 {A : Prop} (h : A) : ea_h 1 A := Or.inl ⟨rfl, h⟩
theorem ea_h0 {A : Prop} (h : ¬ A) : ea_h 0 A := Or.inr ⟨rfl, h⟩
theorem ea_hc {x : Int32} {A B : Prop} (h : ea_h x A) (e : A ↔ B) : ea_h x B :=
  h.elim (fun z => Or.inl ⟨z.1, e.mp z.2⟩) (fun z => Or.inr ⟨z.1, fun q => z.2 (e.mpr q)⟩)
theorem ea_one : ¬ (1 : Int32) = 0 := by decide
section
variable {fc fn fa : Int32} {D : Int64} {K P T TY : Nat → Int32} {S : Nat → Int64}
theorem ea_yab_l {c q : Nat} (R : ea_TR c K P T TY) (hq : q < 2 ^ 31) {post : Int32 → Prop} : ∀ n m i, i < n → i < c → m ≤ i → (ea_an P m q → post 1) → (¬ ea_an P m q → post 0) → wY_above_11 post (nI q) fc fn fa D K P TY S n (nI m) (nI i) := by
  intro n
  induction n with
  | zero => intro m i h; omega
  | succ n ih =>
    intro m i hi hc hm h1 h0
    have h16 := ea_R16 R
    refine pk_le i q (fun hiq => ?_) (fun hiq => ?_)
    · refine pk_eq m q (fun e => ?_) (fun e => ?_)
      · exact h1 (e ▸ ea_an_s P m)
      · exact h0 (fun z => e (by have := ea_an_le z; omega))
    · refine pk_eq i m (fun e => ?_) (fun e => ?_)
      · subst e
        have st := ea_an_st (P := P) (m := i) (q := q) (by omega)
        have hl := ea_pr_lt (P := P) (j := i) (by omega)
        exact ⟨pk_in i 16 (by omega), nm_r (ea_Rp R (by omega) hc) (nm_r (sb_m1 (by omega)) (ih (ea_pr P i) (i - 1) (by omega) (by omega) (by omega) (fun z => h1 (st.mpr z)) (fun z => h0 (fun y => z (st.mp y)))))⟩
      · exact nm_r (sb_m1 (by omega)) (ih m (i - 1) (by omega) (by omega) (by omega) h1 h0)
theorem ea_yab {c p q : Nat} {x y : Int32} (R : ea_TR c K P T TY) (hp : p < c) (hq : q < 2 ^ 31) (hx : x = nI p) (hy : y = nI q) {post : Int32 → Prop} (h1 : ea_an P p q → post 1) (h0 : ¬ ea_an P p q → post 0) : wpY_above post (fc, fn, fa, D, K, P, TY, S) x y := by
  subst hx hy
  exact br_t (nI_pos' hq) ⟨p + 1, ea_yab_l R hq (p + 1) p p (by omega) hp (by omega) h1 h0⟩
theorem ea_yab_n {x y : Int32} (hy : y < 0) {post : Int32 → Prop} (h0 : post 0) : wpY_above post (fc, fn, fa, D, K, P, TY, S) x y :=
  br_f (Int32.not_le.mpr hy) h0
def ea_X (P K : Nat → Int32) (g t : Nat) (A B : Int32) (i : Nat) : Prop := ∃ p, t < p ∧ p < i ∧ ea_an P g p ∧ (K p = A ∨ K p = B)
theorem ea_X0 {g t : Nat} {A B : Int32} : ¬ ea_X P K g t A B (t + 1) := fun ⟨p, h1, h2, _⟩ => by omega
theorem ea_Xs {g t i : Nat} {A B : Int32} (h : t < i) : ea_X P K g t A B i ∨ (ea_an P g i ∧ (K i = A ∨ K i = B)) ↔ ea_X P K g t A B (i + 1) := by
  constructor
  · intro z
    rcases z with ⟨p, h1, h2, h3⟩ | z
    · exact ⟨p, h1, by omega, h3⟩
    · exact ⟨i, h, by omega, z⟩
  · intro ⟨p, h1, h2, h3⟩
    by_cases e : p = i
    · subst e; exact Or.inr h3
    · exact Or.inl ⟨p, h1, by omega, h3⟩
theorem ea_Xn {g t i : Nat} {A B : Int32} (h : t < i) (n : ¬ (ea_an P g i ∧ (K i = A ∨ K i = B))) : ea_X P K g t A B i ↔ ea_X P K g t A B (i + 1) := by
  rw [← ea_Xs h]
  exact ⟨Or.inl, fun z => z.elim id (fun q => absurd q n)⟩
theorem ea_Xc {e t : Nat} {A B : Int32} (he : 0 < e) (ht : (T e).toNatClampNeg = t) : ea_X P K (ea_pr P e) t A B e ↔ ea_cr K P T e A ∨ ea_cr K P T e B := by
  unfold ea_cr
  rw [ht]
  have hl := ea_pr_lt (P := P) he
  constructor
  · intro ⟨p, h1, h2, h3, h4⟩
    exact h4.elim (fun z => Or.inl ⟨p, h1, h3, z⟩) (fun z => Or.inr ⟨p, h1, h3, z⟩)
  · intro z
    rcases z with ⟨p, h1, h3, z⟩ | ⟨p, h1, h3, z⟩
    · exact ⟨p, h1, by have := ea_an_le h3; omega, h3, Or.inl z⟩
    · exact ⟨p, h1, by have := ea_an_le h3; omega, h3, Or.inr z⟩
theorem ea_ycr_l {c e t : Nat} {A B : Int32} (R : ea_TR c K P T TY) (he : e < c) (h0 : 0 < e) {post : Int32 → Prop} (hp : ∀ x, ea_h x (ea_X P K (ea_pr P e) t A B e) → post x) : ∀ n i x, e < n + i → t < i → i ≤ e → ea_h x (ea_X P K (ea_pr P e) t A B i) → wY_crosses_13 post (nI e) A B fc fn fa D K P TY S n x (nI i) := by
  intro n
  induction n with
  | zero => intro i x h; omega
  | succ n ih =>
    intro i x hn hi hie hx
    have h16 := ea_R16 R
    have hl := ea_pr_lt (P := P) h0
    refine pk_le e i (fun hei => ?_) (fun hei => ?_)
    · have e1 : i = e := by omega
      subst e1
      refine ⟨?_, hp x hx⟩
      rcases hx with ⟨rfl, _⟩ | ⟨rfl, _⟩
      · exact narrow_b1
      · exact narrow_b0
    · refine ⟨pk_in e 16 (by omega), ?_⟩
      refine ea_yab R (p := ea_pr P e) (q := i) (by omega) (by omega) (ea_Rp R h0 he) rfl (fun ha => ?_) (fun ha => ?_)
      · have hK : (nI i).toNatClampNeg = i := nI_clamp (by omega)
        refine br_f ea_one ⟨pk_in i 16 (by omega), ?_⟩
        rw [hK]
        refine br_c (fun z => ?_) (fun z => ⟨pk_in i 16 (by omega), br_c (fun z' => ?_) (fun z' => ?_)⟩)
        · exact nm_r (nI_1 i) (ih (i + 1) 1 (by omega) (by omega) (by omega) (ea_h1 ((ea_Xs hi).mp (Or.inr ⟨ha, Or.inl z⟩))))
        · exact nm_r (nI_1 i) (ih (i + 1) 1 (by omega) (by omega) (by omega) (ea_h1 ((ea_Xs hi).mp (Or.inr ⟨ha, Or.inr z'⟩))))
        · exact nm_r (nI_1 i) (ih (i + 1) x (by omega) (by omega) (by omega) (ea_hc hx (ea_Xn hi (fun q => q.2.elim z z'))))
      · exact br_t rfl (nm_r (nI_1 i) (ih (i + 1) x (by omega) (by omega) (by omega) (ea_hc hx (ea_Xn hi (fun q => ha q.1)))))
theorem ea_ycr {c e : Nat} {A B : Int32} (R : ea_TR c K P T TY) (he : e < c) (hw : ea_wk (K e)) {post : Int32 → Prop} (h1 : ea_cr K P T e A ∨ ea_cr K P T e B → post 1) (h0 : ¬ (ea_cr K P T e A ∨ ea_cr K P T e B) → post 0) : wpY_crosses post (fc, fn, fa, D, K, P, TY, S) (nI e) A B := by
  obtain ⟨t, ht, hte, _⟩ := ea_Rw R he hw
  have h16 := ea_R16 R
  have hc : (T e).toNatClampNeg = t := by rw [ht, nI_clamp (by omega)]
  have ey : TY (nI e).toNatClampNeg + 1 = nI (t + 1) := by rw [nI_clamp (by omega), ea_Rt R (by omega), ht, nI_1]
  refine And.intro (pk_in e 16 (by omega)) (nm_r ey ⟨e + 1, ea_ycr_l R he (by omega) ?_ (e + 1) (t + 1) 0 (by omega) (by omega) (by omega) (ea_h0 ea_X0)⟩)
  intro x hx
  rcases ea_hc hx (ea_Xc (by omega) hc) with ⟨rfl, z⟩ | ⟨rfl, z⟩
  · exact h1 z
  · exact h0 z
theorem ea_ykn {x : Int32} (h : x < 0 ∨ fa ≤ x) {post : Int32 → Prop} (hp : post (-1)) : wpY_kindAt post (fc, fn, fa, D, K, P, TY, S) x := by
  by_cases z : x < 0
  · exact br_t z hp
  · exact br_f z (br_f (Int32.not_lt.mpr (h.resolve_left z)) hp)
theorem ea_yk {a e : Nat} (he : e < a) (ha : a ≤ 16) {post : Int32 → Prop} (hp : post (K e)) : wpY_kindAt post (fc, fn, nI a, D, K, P, TY, S) (nI e) := by
  have hK : (nI e).toNatClampNeg = e := nI_clamp (by omega)
  refine br_f (nI_pos (by omega)) (br_t (nI_lt he (by omega)) ⟨pk_in e 16 (by omega), ?_⟩)
  rw [hK]
  exact hp
theorem ea_yel {a c e : Nat} (R : ea_TR c K P T TY) (hac : a ≤ c) (he : e < a) {post : Int32 → Prop} (h1 : ea_ex (K e) → ¬ (ea_cr K P T e 0 ∨ ea_cr K P T e 8) → post 1) (h0 : ea_ex (K e) → (ea_cr K P T e 0 ∨ ea_cr K P T e 8) → post 0) (hm : ¬ ea_ex (K e) → post (-1)) : wpY_exitIsLocal post (fc, fn, nI a, D, K, P, TY, S) (nI e) := by
  have h16 := ea_R16 R
  unfold wpY_exitIsLocal
  refine ea_yk he (by omega) ?_
  have g : ea_ex (K e) → wY_exitIsLocal_20 post (nI e) fc fn (nI a) D K P TY S := fun k => by
    unfold wY_exitIsLocal_20
    exact ea_ycr R (by omega) (ea_ex_wk k) (fun z => br_f ea_one (h0 k z)) (fun z => br_t rfl (h1 k z))
  exact br_c (fun z => g (Or.inl z)) (fun z => br_c (fun z' => g (Or.inr z')) (fun z' => hm (fun q => q.elim z z')))
theorem ea_yel_n {x : Int32} (h : x < 0 ∨ fa ≤ x) {post : Int32 → Prop} (hp : post (-1)) : wpY_exitIsLocal post (fc, fn, fa, D, K, P, TY, S) x := by
  unfold wpY_exitIsLocal
  exact ea_ykn h (br_f (by decide) (br_f (by decide) hp))
theorem ea_yec {a c e : Nat} (R : ea_TR c K P T TY) (hac : a ≤ c) (he : e < a) {post : Int32 → Prop} (h1 : ea_ex (K e) → (ea_cr K P T e 8 ∨ ea_cr K P T e 9) → post 1) (h0 : ea_ex (K e) → ¬ (ea_cr K P T e 8 ∨ ea_cr K P T e 9) → post 0) (hm : ¬ ea_ex (K e) → post (-1)) : wpY_exitCrossesCleanup post (fc, fn, nI a, D, K, P, TY, S) (nI e) := by
  have h16 := ea_R16 R
  unfold wpY_exitCrossesCleanup
  refine ea_yk he (by omega) ?_
  have g : ea_ex (K e) → wY_exitCrossesCleanup_20 post (nI e) fc fn (nI a) D K P TY S := fun k => by
    unfold wY_exitCrossesCleanup_20
    exact ea_ycr R (by omega) (ea_ex_wk k) (fun z => br_f ea_one (h1 k z)) (fun z => br_t rfl (h0 k z))
  exact br_c (fun z => g (Or.inl z)) (fun z => br_c (fun z' => g (Or.inr z')) (fun z' => hm (fun q => q.elim z z')))
theorem ea_yec_n {x : Int32} (h : x < 0 ∨ fa ≤ x) {post : Int32 → Prop} (hp : post (-1)) : wpY_exitCrossesCleanup post (fc, fn, fa, D, K, P, TY, S) x := by
  unfold wpY_exitCrossesCleanup
  exact ea_ykn h (br_f (by decide) (br_f (by decide) hp))
theorem ea_En {A : Nat → Prop} {i : Nat} (n : ¬ A i) : ea_E A i ↔ ea_E A (i + 1) := by
  rw [ea_Es]
  exact ⟨Or.inl, fun z => z.elim id (fun q => absurd q n)⟩
theorem ea_ybn_l {a c j : Nat} (R : ea_TR c K P T TY) (hac : a ≤ c) {post : Int32 → Prop} (hp : ∀ x, ea_h x (ea_E (ea_ctA K P T j) a) → post x) : ∀ n i x, a < n + i → j < i → i ≤ a → ea_h x (ea_E (ea_ctA K P T j) i) → wY_blockNeedsCatch_25 post (nI j) fc fn (nI a) D K P TY S n x (nI i) := by
  intro n
  induction n with
  | zero => intro i x h; omega
  | succ n ih =>
    intro i x hn hj hi hx
    have h16 := ea_R16 R
    refine pk_le a i (fun hai => ?_) (fun hai => ?_)
    · have e1 : i = a := by omega
      subst e1
      exact hp x hx
    · have hK : (nI i).toNatClampNeg = i := nI_clamp (by omega)
      have hT : TY (nI i).toNatClampNeg = T i := by rw [hK, ea_Rt R (by omega)]
      refine ⟨pk_in i 16 (by omega), ?_⟩
      rw [hT]
      refine br_c (fun z => ?_) (fun z => ?_)
      · refine ea_yel R hac hai (fun k g => ?_) (fun k g => ?_) (fun k => ?_)
        · exact br_f ea_one (nm_r (nI_1 i) (ih (i + 1) x (by omega) (by omega) (by omega) (ea_hc hx (ea_En (fun q => g q.2.2)))))
        · exact br_t rfl (nm_r (nI_1 i) (ih (i + 1) 1 (by omega) (by omega) (by omega) (ea_h1 (ea_Es.mpr (Or.inr ⟨k, z, g⟩)))))
        · exact br_f (by decide) (nm_r (nI_1 i) (ih (i + 1) x (by omega) (by omega) (by omega) (ea_hc hx (ea_En (fun q => k q.1)))))
      · exact nm_r (nI_1 i) (ih (i + 1) x (by omega) (by omega) (by omega) (ea_hc hx (ea_En (fun q => z q.2.1))))
theorem ea_ybn {a c j : Nat} (R : ea_TR c K P T TY) (hac : a ≤ c) (hj : j < a) {post : Int32 → Prop} (h1 : ea_bl (K j) → ea_E (ea_ctA K P T j) a → post 1) (h0 : ea_bl (K j) → ¬ ea_E (ea_ctA K P T j) a → post 0) (hm : ¬ ea_bl (K j) → post (-1)) : wpY_blockNeedsCatch post (fc, fn, nI a, D, K, P, TY, S) (nI j) := by
  have h16 := ea_R16 R
  unfold wpY_blockNeedsCatch
  refine ea_yk hj (by omega) ?_
  have g : ea_bl (K j) → ∃ n, wY_blockNeedsCatch_25 post (nI j) fc fn (nI a) D K P TY S n 0 (nI (j + 1)) := fun k =>
    ⟨a + 1, ea_ybn_l R hac (fun x hx => by
      rcases hx with ⟨rfl, z⟩ | ⟨rfl, z⟩
      · exact h1 k z
      · exact h0 k z) (a + 1) (j + 1) 0 (by omega) (by omega) (by omega) (ea_h0 (ea_Eu (fun e he q => by
        have := ea_nj R (show e < c by omega) (show j < 16 by omega) (ea_ex_wk q.1) q.2.1
        omega)))⟩
  exact br_c (fun z => nm_r (nI_1 j) (g (Or.inl z))) (fun z => br_c (fun z' => nm_r (nI_1 j) (g (Or.inr z'))) (fun z' => hm (fun q => q.elim z z')))
theorem ea_ybn_n {x : Int32} (h : x < 0 ∨ fa ≤ x) {post : Int32 → Prop} (hp : post (-1)) : wpY_blockNeedsCatch post (fc, fn, fa, D, K, P, TY, S) x := by
  unfold wpY_blockNeedsCatch
  exact ea_ykn h (br_f (by decide) (br_f (by decide) hp))
theorem ea_yvc_l {a c j : Nat} (R : ea_TR c K P T TY) (hac : a ≤ c) {post : Int32 → Prop} (hp : ∀ x y, ea_h x (ea_E (ea_clA K P T j) a) → ea_h y (ea_E (ea_wrA K T j) a) → (x = 0 → post 0) ∧ (¬ x = 0 → (y = 0 → post 1) ∧ (¬ y = 0 → post 2))) : ∀ n i x y, a < n + i → j < i → i ≤ a → ea_h x (ea_E (ea_clA K P T j) i) → ea_h y (ea_E (ea_wrA K T j) i) → wY_varClass_20 post (nI j) fc fn (nI a) D K P TY S n x y (nI i) := by
  intro n
  induction n with
  | zero => intro i x y h; omega
  | succ n ih =>
    intro i x y hn hj hi hx hy
    have h16 := ea_R16 R
    refine pk_le a i (fun hai => ?_) (fun hai => ?_)
    · have e1 : i = a := by omega
      subst e1
      exact hp x y hx hy
    · have hK : (nI i).toNatClampNeg = i := nI_clamp (by omega)
      have hT : TY (nI i).toNatClampNeg = T i := by rw [hK, ea_Rt R (by omega)]
      have go : ∀ x y, ea_h x (ea_E (ea_clA K P T j) (i + 1)) → ea_h y (ea_E (ea_wrA K T j) (i + 1)) → wY_varClass_20 post (nI j) fc fn (nI a) D K P TY S n x y (nI (i + 1)) := fun x y hx hy => ih (i + 1) x y (by omega) (by omega) (by omega) hx hy
      have g80 : ∀ x, ea_h x (ea_E (ea_clA K P T j) (i + 1)) → T i = nI j → wY_varClass_80 post (wY_varClass_20 post (nI j) fc fn (nI a) D K P TY S n) (nI j) x y (nI i) fc fn (nI a) D K P TY S := by
        intro x hx ht
        unfold wY_varClass_80
        refine ⟨pk_in i 16 (by omega), ?_⟩
        rw [hK]
        refine br_c (fun z => nm_r (nI_1 i) (go x 1 hx (ea_h1 (ea_Es.mpr (Or.inr ⟨z, ht⟩))))) (fun z => nm_r (nI_1 i) (go x y hx (ea_hc hy (ea_En (fun q => z q.1)))))
      have g53 : ea_rf (K i) → wY_varClass_53 post (wY_varClass_20 post (nI j) fc fn (nI a) D K P TY S n) (nI j) x y (nI i) fc fn (nI a) D K P TY S := by
        intro k
        unfold wY_varClass_53
        refine ⟨pk_in i 16 (by omega), ?_⟩
        rw [hT]
        refine br_c (fun z => ?_) (fun z => ?_)
        · refine ea_ycr R (by omega) (ea_rf_wk k) (fun g => ?_) (fun g => ?_)
          · exact br_f ea_one (g80 1 (ea_h1 (ea_Es.mpr (Or.inr ⟨k, z, g.elim id id⟩))) z)
          · exact br_t rfl (g80 x (ea_hc hx (ea_En (fun q => g (Or.inl q.2.2)))) z)
        · exact nm_r (nI_1 i) (go x y (ea_hc hx (ea_En (fun q => z q.2.1))) (ea_hc hy (ea_En (fun q => z q.2))))
      refine ⟨pk_in i 16 (by omega), ?_⟩
      rw [hK]
      refine br_c (fun z => g53 (Or.inl z)) (fun z => ⟨pk_in i 16 (by omega), br_c (fun z' => g53 (Or.inr z')) (fun z' => ?_)⟩)
      exact nm_r (nI_1 i) (go x y (ea_hc hx (ea_En (fun q => q.1.elim z z'))) (ea_hc hy (ea_En (fun q => z' q.1))))
theorem ea_yvc {a c j : Nat} (R : ea_TR c K P T TY) (hac : a ≤ c) (hj : j < a) {post : Int32 → Prop} (h0 : K j = 5 → ¬ ea_E (ea_clA K P T j) a → post 0) (h1 : K j = 5 → ea_E (ea_clA K P T j) a → ¬ ea_E (ea_wrA K T j) a → post 1) (h2 : K j = 5 → ea_E (ea_clA K P T j) a → ea_E (ea_wrA K T j) a → post 2) (hm : ¬ K j = 5 → post (-1)) : wpY_varClass post (fc, fn, nI a, D, K, P, TY, S) (nI j) := by
  have h16 := ea_R16 R
  unfold wpY_varClass
  refine ea_yk hj (by omega) ?_
  refine br_c (fun k => nm_r (nI_1 j) ⟨a + 1, ea_yvc_l R hac ?_ (a + 1) (j + 1) 0 0 (by omega) (by omega) (by omega) (ea_h0 (ea_Eu (fun e he q => ?_))) (ea_h0 (ea_Eu (fun e he q => ?_)))⟩) hm
  · intro x y hx hy
    rcases hx with ⟨rfl, z⟩ | ⟨rfl, z⟩
    · refine br_f ea_one ?_
      rcases hy with ⟨rfl, z'⟩ | ⟨rfl, z'⟩
      · exact br_f ea_one (h2 k z z')
      · exact br_t rfl (h1 k z z')
    · exact br_t rfl (h0 k z)
  · have := ea_nj R (show e < c by omega) (show j < 16 by omega) (ea_rf_wk q.1) q.2.1
    omega
  · have := ea_nj R (show e < c by omega) (show j < 16 by omega) (ea_rf_wk (Or.inr q.1)) q.2
    omega
theorem ea_yvc_n {x : Int32} (h : x < 0 ∨ fa ≤ x) {post : Int32 → Prop} (hp : post (-1)) : wpY_varClass post (fc, fn, fa, D, K, P, TY, S) x := by
  unfold wpY_varClass
  exact ea_ykn h (br_f (by decide) hp)
end
end
section
/-! bits of ints and longs -/
theorem ea_and0 (x m : Int32) : x &&& m = 0 ↔ ∀ i, i < 32 → bt m i = true → ¬ bt x i = true := by
  constructor
  · intro h i hi hm hx
    have e : bt (x &&& m) i = bt 0 i := by rw [h]
    rw [b_and, hm, hx, b_0] at e
    exact absurd e (by decide)
  · intro h
    apply b_ext
    intro i hi
    rw [b_and, b_0]
    have hh := h i hi
    revert hh
    cases bt m i <;> cases bt x i <;> simp
theorem ea_and_1 {x m : Int32} (k : Nat) (hk : k < 32) (h : bt m k = true) (hu : ∀ i, i < 32 → bt m i = true → i = k) : x &&& m = 0 ↔ ¬ bt x k = true := by
  rw [ea_and0]
  exact ⟨fun z => z k hk h, fun z i hi hm => (hu i hi hm) ▸ z⟩
theorem ea_and_2 {x m : Int32} (k l : Nat) (hk : k < 32) (hl : l < 32) (h : bt m k = true) (h' : bt m l = true) (hu : ∀ i, i < 32 → bt m i = true → i = k ∨ i = l) : x &&& m = 0 ↔ ¬ (bt x k = true ∨ bt x l = true) := by
  rw [ea_and0]
  constructor
  · intro z q
    exact q.elim (z k hk h) (z l hl h')
  · intro z i hi hm q
    rcases hu i hi hm with e | e
    · exact z (Or.inl (e ▸ q))
    · exact z (Or.inr (e ▸ q))
theorem ea_u1 : ∀ i, i < 32 → bt 1 i = true → i = 0 := by decide +kernel
theorem ea_u3 : ∀ i, i < 32 → bt 3 i = true → i = 0 ∨ i = 1 := by decide +kernel
theorem ea_u6 : ∀ i, i < 32 → bt 6 i = true → i = 1 ∨ i = 2 := by decide +kernel
theorem ea_u8 : ∀ i, i < 32 → bt 8 i = true → i = 3 := by decide +kernel
theorem ea_u16 : ∀ i, i < 32 → bt 16 i = true → i = 4 := by decide +kernel
theorem ea_u32 : ∀ i, i < 32 → bt 32 i = true → i = 5 := by decide +kernel
theorem ea_and1 (x : Int32) : x &&& 1 = 0 ↔ ¬ bt x 0 = true := ea_and_1 0 (by decide) (by decide +kernel) ea_u1
theorem ea_and3 (x : Int32) : x &&& 3 = 0 ↔ ¬ (bt x 0 = true ∨ bt x 1 = true) := ea_and_2 0 1 (by decide) (by decide) (by decide +kernel) (by decide +kernel) ea_u3
theorem ea_and6 (x : Int32) : x &&& 6 = 0 ↔ ¬ (bt x 1 = true ∨ bt x 2 = true) := ea_and_2 1 2 (by decide) (by decide) (by decide +kernel) (by decide +kernel) ea_u6
theorem ea_and8 (x : Int32) : x &&& 8 = 0 ↔ ¬ bt x 3 = true := ea_and_1 3 (by decide) (by decide +kernel) ea_u8
theorem ea_and16 (x : Int32) : x &&& 16 = 0 ↔ ¬ bt x 4 = true := ea_and_1 4 (by decide) (by decide +kernel) ea_u16
theorem ea_and32 (x : Int32) : x &&& 32 = 0 ↔ ¬ bt x 5 = true := ea_and_1 5 (by decide) (by decide +kernel) ea_u32
/-- the three low bits of w say A, B, C; the others are off -/
def ea_w (w : Int32) (A B C : Prop) : Prop := (bt w 0 = true ↔ A) ∧ (bt w 1 = true ↔ B) ∧ (bt w 2 = true ↔ C) ∧ ∀ i, 3 ≤ i → bt w i = false
theorem ea_wc {w : Int32} {A B C A' B' C' : Prop} (h : ea_w w A B C) (a : A ↔ A') (b : B ↔ B') (c : C ↔ C') : ea_w w A' B' C' := ⟨h.1.trans a, h.2.1.trans b, h.2.2.1.trans c, h.2.2.2⟩
theorem ea_wo {w v : Int32} {A B C A' B' C' : Prop} (h : ea_w w A B C) (g : ea_w v A' B' C') : ea_w (w ||| v) (A ∨ A') (B ∨ B') (C ∨ C') := by
  refine ⟨?_, ?_, ?_, ?_⟩
  · rw [b_or, Bool.or_eq_true, h.1, g.1]
  · rw [b_or, Bool.or_eq_true, h.2.1, g.2.1]
  · rw [b_or, Bool.or_eq_true, h.2.2.1, g.2.2.1]
  · intro i hi
    rw [b_or, h.2.2.2 i hi, g.2.2.2 i hi]
    rfl
theorem ea_wl {v : Int32} (hv : ∀ i, i < 32 → 3 ≤ i → bt v i = false) : ∀ i, 3 ≤ i → bt v i = false := by
  intro i hi
  rcases Nat.lt_or_ge i 32 with z | z
  · exact hv i z hi
  · exact b_big z
theorem ea_w_0 {A B C : Prop} (a : ¬ A) (b : ¬ B) (c : ¬ C) : ea_w 0 A B C := by
  have z : ∀ (i : Nat) (A : Prop), ¬ A → (bt 0 i = true ↔ A) := fun i A h => by
    rw [b_0]
    exact ⟨fun q => absurd q (by decide), fun q => absurd q h⟩
  exact ⟨z 0 A a, z 1 B b, z 2 C c, fun i _ => b_0 i⟩
theorem ea_bt_t {v : Int32} {i : Nat} {A : Prop} (h : bt v i = true) (a : A) : bt v i = true ↔ A := ⟨fun _ => a, fun _ => h⟩
theorem ea_bt_f {v : Int32} {i : Nat} {A : Prop} (h : bt v i = false) (a : ¬ A) : bt v i = true ↔ A := ⟨fun q => absurd (h.symm.trans q) (by decide), fun q => absurd q a⟩
theorem ea_w_1 {A B C : Prop} (a : A) (b : ¬ B) (c : ¬ C) : ea_w 1 A B C := ⟨ea_bt_t (by decide +kernel) a, ea_bt_f (by decide +kernel) b, ea_bt_f (by decide +kernel) c, ea_wl (by decide +kernel)⟩
theorem ea_w_2 {A B C : Prop} (a : ¬ A) (b : B) (c : ¬ C) : ea_w 2 A B C := ⟨ea_bt_f (by decide +kernel) a, ea_bt_t (by decide +kernel) b, ea_bt_f (by decide +kernel) c, ea_wl (by decide +kernel)⟩
theorem ea_w_4 {A B C : Prop} (a : ¬ A) (b : ¬ B) (c : C) : ea_w 4 A B C := ⟨ea_bt_f (by decide +kernel) a, ea_bt_f (by decide +kernel) b, ea_bt_t (by decide +kernel) c, ea_wl (by decide +kernel)⟩
/-! longs -/
def ea_lb (x : Int64) (b : Nat) : Bool := x.toBitVec.getLsbD b
theorem ea_lb_ext {x y : Int64} (h : ∀ b, b < 64 → ea_lb x b = ea_lb y b) : x = y := Int64.toBitVec_inj.mp (BitVec.eq_of_getLsbD_eq (fun i hi => h i hi))
theorem ea_lb_or (x y : Int64) (b : Nat) : ea_lb (x ||| y) b = (ea_lb x b || ea_lb y b) := by unfold ea_lb; rw [Int64.toBitVec_or, BitVec.getLsbD_or]
theorem ea_lb_and (x y : Int64) (b : Nat) : ea_lb (x &&& y) b = (ea_lb x b && ea_lb y b) := by unfold ea_lb; rw [Int64.toBitVec_and, BitVec.getLsbD_and]
theorem ea_lb_0 (b : Nat) : ea_lb 0 b = false := BitVec.getLsbD_zero
theorem ea_lb_shl (x : Int64) {k b : Nat} (hk : k < 64) (hb : b < 64) : ea_lb (x <<< ((nI k).toInt64 &&& 63)) b = (decide (k ≤ b) && ea_lb x (b - k)) := by
  unfold ea_lb
  rw [wb_c k hk, Int64.toBitVec_shiftLeft, wb_tb, wb_sm k hk, BitVec.shiftLeft_eq', BitVec.toNat_ofNat, Nat.mod_eq_of_lt (show k < 2 ^ 64 by omega), BitVec.getLsbD_shiftLeft]
  rcases Nat.lt_or_ge b k with h | h
  · simp [h, Nat.not_le.mpr h]
  · simp [hb, h, Nat.not_lt.mpr h]
theorem ea_lb_1 : ∀ b, b < 64 → ea_lb 1 b = decide (b = 0) := by decide +kernel
theorem ea_lb_bit {k b : Nat} (hk : k < 64) (hb : b < 64) : ea_lb ((1 : Int64) <<< ((nI k).toInt64 &&& 63)) b = true ↔ b = k := by
  rw [ea_lb_shl 1 hk hb, ea_lb_1 (b - k) (by omega), Bool.and_eq_true, decide_eq_true_eq, decide_eq_true_eq]
  omega
/-- the bits of d below 64 are those of Q -/
def ea_lbs (d : Int64) (Q : Nat → Prop) : Prop := ∀ b, b < 64 → (ea_lb d b = true ↔ Q b)
theorem ea_lbs_u {d d' : Int64} {Q : Nat → Prop} (h : ea_lbs d Q) (h' : ea_lbs d' Q) : d = d' := by
  apply ea_lb_ext
  intro b hb
  have e := (h b hb).trans (h' b hb).symm
  revert e
  cases ea_lb d b <;> cases ea_lb d' b <;> simp
theorem ea_lbs_c {d : Int64} {Q Q' : Nat → Prop} (h : ea_lbs d Q) (e : ∀ b, b < 64 → (Q b ↔ Q' b)) : ea_lbs d Q' := fun b hb => (h b hb).trans (e b hb)
theorem ea_lbs_0 {Q : Nat → Prop} (h : ∀ b, b < 64 → ¬ Q b) : ea_lbs 0 Q := fun b hb => by
  rw [ea_lb_0]
  exact ⟨fun q => absurd q (by decide), fun q => absurd q (h b hb)⟩
theorem ea_lbs_s {d : Int64} {Q Q' : Nat → Prop} {k : Nat} (hk : k < 64) (h : ea_lbs d Q) (e : ∀ b, b < 64 → (Q b ∨ b = k ↔ Q' b)) : ea_lbs (d ||| ((1 : Int64) <<< ((nI k).toInt64 &&& 63))) Q' := fun b hb => by
  rw [ea_lb_or, Bool.or_eq_true, h b hb, ea_lb_bit hk hb]
  exact e b hb
/-- v holds of b's place in the slot that begins at o, and that place is below i -/
def ea_sl (v : Nat → Prop) (o i b : Nat) : Prop := o ≤ b ∧ b - o < i ∧ v (b - o)
theorem ea_sl_y {v : Nat → Prop} {o i b : Nat} (h : v i) : ea_sl v o i b ∨ b = o + i ↔ ea_sl v o (i + 1) b := by
  constructor
  · intro z
    rcases z with ⟨h1, h2, h3⟩ | z
    · exact ⟨h1, by omega, h3⟩
    · refine ⟨by omega, by omega, ?_⟩
      rw [show b - o = i by omega]
      exact h
  · intro ⟨h1, h2, h3⟩
    by_cases e : b = o + i
    · exact Or.inr e
    · exact Or.inl ⟨h1, by omega, h3⟩
theorem ea_sl_n {v : Nat → Prop} {o i b : Nat} (h : ¬ v i) : ea_sl v o i b ↔ ea_sl v o (i + 1) b := by
  constructor
  · intro ⟨h1, h2, h3⟩
    exact ⟨h1, by omega, h3⟩
  · intro ⟨h1, h2, h3⟩
    by_cases e : b - o = i
    · exact absurd (e ▸ h3) h
    · exact ⟨h1, by omega, h3⟩
def ea_Q (vA vB vC vD : Nat → Prop) (i j k l b : Nat) : Prop := ea_sl vA 0 i b ∨ ea_sl vB 16 j b ∨ ea_sl vC 32 k b ∨ ea_sl vD 48 l b
section
variable {vA vB vC vD : Nat → Prop} {i j k l : Nat} {d : Int64}
theorem ea_QA_n (h : ¬ vA i) (g : ea_lbs d (ea_Q vA vB vC vD i j k l)) : ea_lbs d (ea_Q vA vB vC vD (i + 1) j k l) := ea_lbs_c g (fun b _ => by unfold ea_Q; rw [ea_sl_n h])
theorem ea_QB_n (h : ¬ vB j) (g : ea_lbs d (ea_Q vA vB vC vD i j k l)) : ea_lbs d (ea_Q vA vB vC vD i (j + 1) k l) := ea_lbs_c g (fun b _ => by unfold ea_Q; rw [ea_sl_n h])
theorem ea_QC_n (h : ¬ vC k) (g : ea_lbs d (ea_Q vA vB vC vD i j k l)) : ea_lbs d (ea_Q vA vB vC vD i j (k + 1) l) := ea_lbs_c g (fun b _ => by unfold ea_Q; rw [ea_sl_n h])
theorem ea_QD_n (h : ¬ vD l) (g : ea_lbs d (ea_Q vA vB vC vD i j k l)) : ea_lbs d (ea_Q vA vB vC vD i j k (l + 1)) := ea_lbs_c g (fun b _ => by unfold ea_Q; rw [ea_sl_n h])
theorem ea_QA_y (hi : i < 16) (h : vA i) (g : ea_lbs d (ea_Q vA vB vC vD i j k l)) : ea_lbs (d ||| ((1 : Int64) <<< ((nI i).toInt64 &&& 63))) (ea_Q vA vB vC vD (i + 1) j k l) :=
  ea_lbs_s (by omega) g (fun b _ => by
    unfold ea_Q
    rw [← ea_sl_y h, Nat.zero_add]
    constructor
    · intro z; rcases z with (z | z) | z <;> simp [z]
    · intro z; rcases z with (z | z) | z <;> simp [z])
theorem ea_QB_y (hj : j < 16) (h : vB j) (g : ea_lbs d (ea_Q vA vB vC vD i j k l)) : ea_lbs (d ||| ((1 : Int64) <<< ((16 + nI j).toInt64 &&& 63))) (ea_Q vA vB vC vD i (j + 1) k l) := by
  rw [show (16 : Int32) + nI j = nI (16 + j) from nI_add 16 j]
  refine ea_lbs_s (by omega) g (fun b _ => ?_)
  unfold ea_Q
  rw [← ea_sl_y h]
  constructor
  · intro z; rcases z with (z | z | z | z) | z <;> simp [z]
  · intro z; rcases z with z | (z | z) | z | z <;> simp [z]
theorem ea_QC_y (hk : k < 16) (h : vC k) (g : ea_lbs d (ea_Q vA vB vC vD i j k l)) : ea_lbs (d ||| ((1 : Int64) <<< ((32 + nI k).toInt64 &&& 63))) (ea_Q vA vB vC vD i j (k + 1) l) := by
  rw [show (32 : Int32) + nI k = nI (32 + k) from nI_add 32 k]
  refine ea_lbs_s (by omega) g (fun b _ => ?_)
  unfold ea_Q
  rw [← ea_sl_y h]
  constructor
  · intro z; rcases z with (z | z | z | z) | z <;> simp [z]
  · intro z; rcases z with z | z | (z | z) | z <;> simp [z]
theorem ea_QD_y (hl : l < 16) (h : vD l) (g : ea_lbs d (ea_Q vA vB vC vD i j k l)) : ea_lbs (d ||| ((1 : Int64) <<< ((48 + nI l).toInt64 &&& 63))) (ea_Q vA vB vC vD i j k (l + 1)) := by
  rw [show (48 : Int32) + nI l = nI (48 + l) from nI_add 48 l]
  refine ea_lbs_s (by omega) g (fun b _ => ?_)
  unfold ea_Q
  rw [← ea_sl_y h]
  constructor
  · intro z; rcases z with (z | z | z | z) | z <;> simp [z]
  · intro z; rcases z with z | z | z | (z | z) <;> simp [z]
theorem ea_Q_0 : ea_lbs 0 (ea_Q vA vB vC vD 0 0 0 0) := ea_lbs_0 (fun b _ z => by
  rcases z with z | z | z | z <;> exact absurd z.2.1 (Nat.not_lt_zero _))
theorem ea_Q_j {c : Nat} (hc : c ≤ 16) {s0 s1 s2 s3 : Int64} (h0 : ea_lbs s0 (ea_sl vA 0 c)) (h1 : ea_lbs s1 (ea_sl vB 0 c)) (h2 : ea_lbs s2 (ea_sl vC 0 c)) (h3 : ea_lbs s3 (ea_sl vD 0 c)) : ea_lbs ((((s3 <<< ((48 : Int32).toInt64 &&& 63)) ||| (s2 <<< ((32 : Int32).toInt64 &&& 63))) ||| (s1 <<< ((16 : Int32).toInt64 &&& 63))) ||| s0) (ea_Q vA vB vC vD c c c c) := by
  have mv : ∀ (v : Nat → Prop) (o b : Nat), (o ≤ b ∧ ea_sl v 0 c (b - o)) ↔ ea_sl v o c b := by
    intro v o b
    unfold ea_sl
    rw [Nat.sub_zero]
    exact ⟨fun z => ⟨z.1, z.2.2⟩, fun z => ⟨z.1, Nat.zero_le _, z.2⟩⟩
  intro b hb
  rw [show (48 : Int32) = nI 48 from rfl, show (32 : Int32) = nI 32 from rfl, show (16 : Int32) = nI 16 from rfl]
  rw [ea_lb_or, ea_lb_or, ea_lb_or, ea_lb_shl s3 (by omega) hb, ea_lb_shl s2 (by omega) hb, ea_lb_shl s1 (by omega) hb]
  simp only [Bool.or_eq_true, Bool.and_eq_true, decide_eq_true_eq]
  rw [h3 (b - 48) (by omega), h2 (b - 32) (by omega), h1 (b - 16) (by omega), h0 b hb, mv vD 48 b, mv vC 32 b, mv vB 16 b]
  unfold ea_Q
  constructor
  · intro z; rcases z with ((z | z) | z) | z <;> simp [z]
  · intro z; rcases z with z | z | z | z <;> simp [z]
end
end
section
/-! the component's analyse -/
theorem ea_xwk {x : Int32} {post : Int32 → Prop} (h1 : x = 2 → post 1) (h3 : x = 4 → post 3) (h5 : ea_rf x → post 5) (hn : ¬ ea_wk x → post (-1)) : wpX_wantedKind post x :=
  br_c h1 (fun z2 => br_c h3 (fun z4 => br_c (fun z6 => h5 (Or.inl z6)) (fun z6 => br_c (fun z7 => h5 (Or.inr z7)) (fun z7 => hn (fun q => q.elim z2 (fun q => q.elim z4 (fun q => q.elim z6 z7)))))))
theorem ea_ex_nrf {x : Int32} (h : ea_ex x) : ¬ ea_rf x := by
  rcases h with rfl | rfl <;> intro z <;> rcases z with z | z <;> exact absurd z (by decide)
theorem ea_ex_n7 {x : Int32} (h : ea_ex x) : ¬ x = 7 := fun z => ea_ex_nrf h (Or.inr z)
theorem ea_wk_rf {x : Int32} (h : ea_wk x) (n : ¬ ea_ex x) : ea_rf x := by
  rcases h with h | h | h
  · exact absurd (Or.inl h) n
  · exact absurd (Or.inr h) n
  · exact h
theorem ea_bt_nf {v : Int32} {i : Nat} (h : bt v i = false) : ¬ bt v i = true := fun q => absurd (h.symm.trans q) (by decide)
section
variable {fc fn fa : Int32} {D : Int64} {K P T TY M : Nat → Int32}
theorem ea_x72 {c t : Nat} (R : ea_TR c K P T TY) {post : Int64 → SX → Prop} {J : Int32 → (Nat → Int32) → (Nat → Int32) → (Nat → Int32) → (Nat → Int32) → Prop} {x1 x2 x3 : Int32} : ∀ (n m s : Nat) (w : Int32) (A B C : Prop), m < n → m + s ≤ 15 → m < c → ea_an P m t → ea_w w A B C →
    (∀ w', ea_w w' (A ∨ ea_Z P t m (fun q => K q = 0)) (B ∨ ea_Z P t m (fun q => K q = 8)) (C ∨ ea_Z P t m (fun q => K q = 9)) → wX_analyse_161 post J x1 x2 x3 (nI t) w' fc fn fa D K P T M) →
    wX_analyse_72 post J x1 x2 x3 (nI t) fc fn fa D K P T M n w (nI m) (nI s) := by
  intro n
  induction n with
  | zero => intro m s w A B C h; omega
  | succ n ih =>
    intro m s w A B C hn hs hc ha hw hk
    have h16 := ea_R16 R
    have htm := ea_an_le ha
    refine br_f (nI_ge (a := s) (b := 16) (by omega) (by decide)) (br_f (nI_pos (by omega)) (pk_eq m t (fun e => ?_) (fun e => ?_)))
    · subst e
      have f : ∀ (A : Prop) (G : Nat → Prop), A ↔ A ∨ ea_Z P m m G := fun A G => ⟨Or.inl, fun z => z.elim id (fun q => absurd q ea_Z_e)⟩
      exact hk w (ea_wc hw (f A _) (f B _) (f C _))
    · have hl := ea_pr_lt (P := P) (j := m) (by omega)
      have hK : K (nI m).toNatClampNeg = K m := by rw [nI_clamp (by omega)]
      have hP := ea_Rp R (show 1 ≤ m by omega) hc
      have f : ∀ (A : Prop) (G : Nat → Prop), (A ∨ G m) ∨ ea_Z P t (ea_pr P m) G ↔ A ∨ ea_Z P t m G := fun A G => or_assoc.trans (or_congr Iff.rfl (ea_Z_s (by omega)).symm)
      have go : ∀ w', ea_w w' (A ∨ K m = 0) (B ∨ K m = 8) (C ∨ K m = 9) → wX_analyse_72 post J x1 x2 x3 (nI t) fc fn fa D K P T M n w' (nI (ea_pr P m)) (nI (s + 1)) := fun w' hw' =>
        ih (ea_pr P m) (s + 1) w' _ _ _ (by omega) (by omega) (by omega) ((ea_an_st e).mp ha) hw' (fun w'' h'' => hk w'' (ea_wc h'' (f A (fun q => K q = 0)) (f B (fun q => K q = 8)) (f C (fun q => K q = 9))))
      have n08 : ∀ {x y z : Int32}, x = y → ¬ y = z → ¬ x = z := fun h g q => g (h.symm.trans q)
      refine ⟨pk_in m 16 (by omega), nm_r hK (br_c (fun z => ?_) (fun z => br_c (fun z' => ?_) (fun z' => br_c (fun z'' => ?_) (fun z'' => ?_))))⟩
      · exact nm_e ⟨pk_in m 16 (by omega), nm_r hP (nm_r (nI_1 s) (go _ (ea_wo hw (ea_w_1 z (n08 z (by decide)) (n08 z (by decide))))))⟩
      · exact nm_e ⟨pk_in m 16 (by omega), nm_r hP (nm_r (nI_1 s) (go _ (ea_wo hw (ea_w_2 z z' (n08 z' (by decide))))))⟩
      · exact nm_e ⟨pk_in m 16 (by omega), nm_r hP (nm_r (nI_1 s) (go _ (ea_wo hw (ea_w_4 z z' z''))))⟩
      · have f' : ∀ {A B : Prop}, ¬ B → (A ↔ A ∨ B) := fun h => ⟨Or.inl, fun q => q.elim id (fun y => absurd y h)⟩
        exact ⟨pk_in m 16 (by omega), nm_r hP (nm_r (nI_1 s) (go _ (ea_wc hw (f' z) (f' z') (f' z''))))⟩
theorem ea_x161 {c i t : Nat} (R : ea_TR c K P T TY) (hi : i < c) (hT : T i = nI t) (ht : t < i) (hk : ea_wk (K i)) {w x1 : Int32} (hw : ea_w w (ea_cr K P T i 0) (ea_cr K P T i 8) (ea_cr K P T i 9)) (m : ea_MS i K P T M)
    {post : Int64 → SX → Prop} {J : Int32 → (Nat → Int32) → (Nat → Int32) → (Nat → Int32) → (Nat → Int32) → Prop} (hJ : ∀ M', ea_MS (i + 1) K P T M' → J (nI (i + 1)) K P T M') :
    wX_analyse_161 post J x1 (nI i) (K i) (nI t) w fc fn fa D K P T M := by
  have h16 := ea_R16 R
  have ci : (nI i).toNatClampNeg = i := nI_clamp (by omega)
  have ct : (nI t).toNatClampNeg = t := nI_clamp (by omega)
  have st : ∀ (M' : Nat → Int32) (v : Nat → Prop), (∀ j b, bt (M' j) b = true ↔ bt (upd M i (M i ||| w) j) b = true ∨ (j = t ∧ v b)) → ¬ v 0 → ¬ v 1 → ¬ v 2 → (v 3 ↔ ea_ex (K i) ∧ (ea_cr K P T i 0 ∨ ea_cr K P T i 8)) → (v 4 ↔ ea_rf (K i) ∧ ea_cr K P T i 0) → (v 5 ↔ K i = 7) → ea_MS (i + 1) K P T M' := by
    intro M' v hb v0 v1 v2 v3 v4 v5
    exact ea_MS_step (w := fun b => bt w b = true) (by omega) (by omega) hT m (fun j b => by rw [hb j b, ea_bt_upd]) hk hw.1 hw.2.1 hw.2.2.1 (ea_bt_nf (hw.2.2.2 3 (by decide))) (ea_bt_nf (hw.2.2.2 4 (by decide))) (ea_bt_nf (hw.2.2.2 5 (by decide))) v0 v1 v2 v3 v4 v5
  have same : ∀ (M1 : Nat → Int32) (j b : Nat), bt (M1 j) b = true ↔ bt (M1 j) b = true ∨ (j = t ∧ False) := fun M1 j b => ⟨Or.inl, fun z => z.elim id (fun q => q.2.elim)⟩
  refine And.intro (pk_in i 16 (by omega)) ⟨pk_in i 16 (by omega), nm_r (e' := upd M i (M i ||| w)) (by rw [ci]) ?_⟩
  have g182 : ea_ex (K i) → wX_analyse_182 post J x1 (nI i) (nI t) w fc fn fa D K P T (upd M i (M i ||| w)) := by
    intro k
    refine br_c (fun z => ?_) (fun z => ?_)
    · have nz : ¬ (ea_cr K P T i 0 ∨ ea_cr K P T i 8) := by
        rw [← hw.1, ← hw.2.1]
        exact (ea_and3 w).mp z
      exact nm_r (nI_1 i) (hJ _ (st _ (fun _ => False) (same _) id id id ⟨False.elim, fun q => nz q.2⟩ ⟨False.elim, fun q => ea_ex_nrf k q.1⟩ ⟨False.elim, fun q => ea_ex_n7 k q⟩))
    · have nz : ea_cr K P T i 0 ∨ ea_cr K P T i 8 := by
        rw [← hw.1, ← hw.2.1]
        exact Classical.byContradiction (fun q => z ((ea_and3 w).mpr q))
      refine ⟨pk_in t 16 (by omega), pk_in t 16 (by omega), nm_r (e' := upd (upd M i (M i ||| w)) t (upd M i (M i ||| w) t ||| 8)) (by rw [ct]) ?_⟩
      exact nm_r (nI_1 i) (hJ _ (st _ (fun b => bt 8 b = true) (fun j b => ea_bt_upd _ t 8 j b) (by decide +kernel) (by decide +kernel) (by decide +kernel) (ea_bt_t (by decide +kernel) ⟨k, nz⟩) (ea_bt_f (by decide +kernel) (fun q => ea_ex_nrf k q.1)) (ea_bt_f (by decide +kernel) (ea_ex_n7 k))))
  have g223 : ¬ ea_ex (K i) → ∀ (M2 : Nat → Int32) (v : Nat → Prop), (∀ j b, bt (M2 j) b = true ↔ bt (upd M i (M i ||| w) j) b = true ∨ (j = t ∧ v b)) → ¬ v 0 → ¬ v 1 → ¬ v 2 → ¬ v 3 → (v 4 ↔ ea_cr K P T i 0) → ¬ v 5 → wX_analyse_223 post J x1 (nI i) (K i) (nI t) fc fn fa D K P T M2 := by
    intro k M2 v hb v0 v1 v2 v3 v4 v5
    have r := ea_wk_rf hk k
    refine br_c (fun z => ?_) (fun z => ?_)
    · refine ⟨pk_in t 16 (by omega), pk_in t 16 (by omega), nm_r (e' := upd M2 t (M2 t ||| 32)) (by rw [ct]) ?_⟩
      refine nm_r (nI_1 i) (hJ _ (st _ (fun b => v b ∨ bt 32 b = true) ?_ ?_ ?_ ?_ ?_ ?_ ?_))
      · intro j b
        rw [ea_bt_upd, hb j b]
        constructor
        · intro q
          rcases q with (q | q) | q
          · exact Or.inl q
          · exact Or.inr ⟨q.1, Or.inl q.2⟩
          · exact Or.inr ⟨q.1, Or.inr q.2⟩
        · intro q
          rcases q with q | ⟨q, q' | q'⟩
          · exact Or.inl (Or.inl q)
          · exact Or.inl (Or.inr ⟨q, q'⟩)
          · exact Or.inr ⟨q, q'⟩
      · exact fun q => q.elim v0 (ea_bt_nf (by decide +kernel))
      · exact fun q => q.elim v1 (ea_bt_nf (by decide +kernel))
      · exact fun q => q.elim v2 (ea_bt_nf (by decide +kernel))
      · exact ⟨fun q => absurd q (fun q => q.elim v3 (ea_bt_nf (by decide +kernel))), fun q => absurd q.1 k⟩
      · exact ⟨fun q => ⟨r, q.elim v4.mp (fun y => absurd y (ea_bt_nf (by decide +kernel)))⟩, fun q => Or.inl (v4.mpr q.2)⟩
      · exact ⟨fun _ => z, fun _ => Or.inr (by decide +kernel)⟩
    · exact nm_r (nI_1 i) (hJ _ (st _ v hb v0 v1 v2 ⟨fun q => absurd q v3, fun q => absurd q.1 k⟩ ⟨fun q => ⟨r, v4.mp q⟩, fun q => v4.mpr q.2⟩ ⟨fun q => absurd q v5, fun q => absurd q z⟩))
  refine br_c (fun z => g182 (Or.inl z)) (fun z2 => br_c (fun z => g182 (Or.inr z)) (fun z4 => ?_))
  have k : ¬ ea_ex (K i) := fun q => q.elim z2 z4
  refine br_c (fun z => ?_) (fun z => ?_)
  · have nz : ¬ ea_cr K P T i 0 := by
      rw [← hw.1]
      exact (ea_and1 w).mp z
    exact g223 k _ (fun _ => False) (same _) id id id id ⟨False.elim, nz⟩ id
  · have nz : ea_cr K P T i 0 := by
      rw [← hw.1]
      exact Classical.byContradiction (fun q => z ((ea_and1 w).mpr q))
    refine ⟨pk_in t 16 (by omega), pk_in t 16 (by omega), nm_r (e' := upd (upd M i (M i ||| w)) t (upd M i (M i ||| w) t ||| 16)) (by rw [ct]) ?_⟩
    exact g223 k _ (fun b => bt 16 b = true) (fun j b => ea_bt_upd _ t 16 j b) (by decide +kernel) (by decide +kernel) (by decide +kernel) (by decide +kernel) (ea_bt_t (by decide +kernel) nz) (by decide +kernel)
theorem ea_x28 {c : Nat} (R : ea_TR c K P T TY) {post : Int64 → SX → Prop} (hE : ∀ M', ea_MS c K P T M' → ∃ n, wX_analyse_252 post (nI c) fc fn fa D K P T M' n 0 0) : ∀ (n i : Nat) (M : Nat → Int32), c < n + i → i ≤ c → ea_MS i K P T M → wX_analyse_28 post (nI c) fc fn fa D n (nI i) K P T M := by
  intro n
  induction n with
  | zero => intro i M h; omega
  | succ n ih =>
    intro i M hn hi m
    have h16 := ea_R16 R
    refine pk_le c i (fun h => ?_) (fun h => ?_)
    · have e : i = c := by omega
      subst e
      exact hE M m
    · have ci : (nI i).toNatClampNeg = i := nI_clamp (by omega)
      have gw : ea_wk (K i) → ∀ r : Int32, 0 ≤ r → ((0 ≤ r → (vp_in (nI i) 16 ∧ (∀ x4_33 : Int32, x4_33 = T (nI i).toNatClampNeg → (vp_in (nI i) 16 ∧ (∀ x6_35 : Int32, x6_35 = P (nI i).toNatClampNeg → (∃ n72 : Nat, wX_analyse_72 post (wX_analyse_28 post (nI c) fc fn fa D n) (nI c) (nI i) (K i) x4_33 fc fn fa D K P T M n72 0 x6_35 0)))))) ∧ (¬ 0 ≤ r → (∀ x2_80 : Int32, x2_80 = nI i + 1 → (wX_analyse_28 post (nI c) fc fn fa D n x2_80 K P T M)))) := by
        intro k r hr
        obtain ⟨t, hT, ht, ha⟩ := ea_Rw R h k
        have hl := ea_pr_lt (P := P) (j := i) (by omega)
        have hT' : T (nI i).toNatClampNeg = nI t := by rw [ci]; exact hT
        have cT : (T i).toNatClampNeg = t := by rw [hT, nI_clamp (by omega)]
        refine br_t hr ⟨pk_in i 16 (by omega), nm_r hT' ⟨pk_in i 16 (by omega), nm_r (ea_Rp R (by omega) h) ⟨17, ?_⟩⟩⟩
        refine ea_x72 R 17 (ea_pr P i) 0 0 False False False (by omega) (by omega) (by omega) ha (ea_w_0 id id id) (fun w hw => ?_)
        refine ea_x161 R h hT ht k ?_ m (fun M' m' => ih (i + 1) M' (by omega) (by omega) m')
        have f : ∀ x : Int32, False ∨ ea_Z P t (ea_pr P i) (fun q => K q = x) ↔ ea_cr K P T i x := by
          intro x
          unfold ea_cr
          rw [cT]
          exact ⟨fun q => q.elim False.elim id, Or.inr⟩
        exact ea_wc hw (f 0) (f 8) (f 9)
      refine ⟨pk_in i 16 (by omega), nm_r (e' := K i) (by rw [ci]) ?_⟩
      refine ea_xwk (fun k => gw (Or.inl k) 1 (by decide)) (fun k => gw (Or.inr (Or.inl k)) 3 (by decide)) (fun k => gw (ea_rf_wk k) 5 (by decide)) (fun k => ?_)
      exact br_f (by decide) (nm_r (nI_1 i) (ih (i + 1) M (by omega) (by omega) (ea_MS_skip m k)))
theorem ea_x7 {x1 : Int32} {post : Int64 → SX → Prop} (hE : ∀ M' : Nat → Int32, (∀ j, j < 16 → M' j = 0) → ∃ n, wX_analyse_28 post x1 fc fn fa D n 0 K P T M') : ∀ (n i : Nat) (M : Nat → Int32), 16 < n + i → i ≤ 16 → (∀ j, j < i → M j = 0) → wX_analyse_7 post x1 fc fn fa D n (nI i) K P T M := by
  intro n
  induction n with
  | zero => intro i M h; omega
  | succ n ih =>
    intro i M hn hi m
    refine pk_le 16 i (fun h => ?_) (fun h => ?_)
    · exact hE M (fun j hj => m j (by omega))
    · refine ⟨pk_in i 16 (by omega), nm_r (e' := upd M i 0) (by rw [nI_clamp (by omega)]) (nm_r (nI_1 i) (ih (i + 1) _ (by omega) (by omega) (fun j hj => ?_)))⟩
      by_cases e : j = i
      · subst e; exact pk_us
      · rw [pk_un e]; exact m j (by omega)
theorem ea_x252 {c : Nat} {vA vB vC vD : Nat → Prop} (hc : c ≤ 16) (hA : ∀ i, i < c → (vA i ↔ K i = 5 ∧ bt (M i) 4 = true)) (hB : ∀ i, i < c → (vB i ↔ ea_bl (K i) ∧ bt (M i) 3 = true)) (hC : ∀ i, i < c → (vC i ↔ ea_ex (K i) ∧ (bt (M i) 1 = true ∨ bt (M i) 2 = true))) (hD : ∀ i, i < c → (vD i ↔ ea_ex (K i) ∧ (bt (M i) 0 = true ∨ bt (M i) 1 = true)))
    {post : Int64 → SX → Prop} (hp : ∀ d, ea_lbs d (ea_Q vA vB vC vD c c c c) → post d (fc, fn, nI c, d, K, P, T, M)) : ∀ (n i : Nat) (d : Int64), c < n + i → i ≤ c → ea_lbs d (ea_Q vA vB vC vD i i i i) → wX_analyse_252 post (nI c) fc fn fa D K P T M n d (nI i) := by
  intro n
  induction n with
  | zero => intro i d h; omega
  | succ n ih =>
    intro i d hn hi q
    refine pk_le c i (fun h => ?_) (fun h => ?_)
    · have e : i = c := by omega
      subst e
      exact hp d q
    · have ci : (nI i).toNatClampNeg = i := nI_clamp (by omega)
      have go : ∀ d, ea_lbs d (ea_Q vA vB vC vD (i + 1) (i + 1) (i + 1) (i + 1)) → wX_analyse_252 post (nI c) fc fn fa D K P T M n d (nI (i + 1)) := fun d q => ih (i + 1) d (by omega) (by omega) q
      have nA : ¬ K i = 5 → ¬ vA i := fun z y => z ((hA i h).mp y).1
      have nB : ¬ ea_bl (K i) → ¬ vB i := fun z y => z ((hB i h).mp y).1
      have nC : ¬ ea_ex (K i) → ¬ vC i := fun z y => z ((hC i h).mp y).1
      have nD : ¬ ea_ex (K i) → ¬ vD i := fun z y => z ((hD i h).mp y).1
      have ne : ∀ {x y z : Int32}, x = y → ¬ y = z → ¬ x = z := fun h g q => g (h.symm.trans q)
      have g312 : ea_bl (K i) → wX_analyse_312 post (wX_analyse_252 post (nI c) fc fn fa D K P T M n) (nI c) d (nI i) (M i) fc fn fa D K P T M := by
        intro k
        have k5 : ¬ K i = 5 := k.elim (fun z => ne z (by decide)) (fun z => ne z (by decide))
        have ke : ¬ ea_ex (K i) := by
          intro y
          rcases k with k | k <;> rcases y with y | y <;> exact absurd (k.symm.trans y) (by decide)
        refine br_c (fun z => ?_) (fun z => ?_)
        · have nb : ¬ vB i := fun y => (ea_and8 _).mp z ((hB i h).mp y).2
          exact nm_r (nI_1 i) (go _ (ea_QA_n (nA k5) (ea_QB_n nb (ea_QC_n (nC ke) (ea_QD_n (nD ke) q)))))
        · have yb : vB i := (hB i h).mpr ⟨k, Classical.byContradiction (fun y => z ((ea_and8 _).mpr y))⟩
          exact nm_e (nm_r (nI_1 i) (go _ (ea_QA_n (nA k5) (ea_QB_y (by omega) yb (ea_QC_n (nC ke) (ea_QD_n (nD ke) q))))))
      have g363 : ea_ex (K i) → ∀ d, ea_lbs d (ea_Q vA vB vC vD (i + 1) (i + 1) (i + 1) i) → wX_analyse_363 post (wX_analyse_252 post (nI c) fc fn fa D K P T M n) (nI c) d (nI i) (M i) fc fn fa D K P T M := by
        intro k d q
        refine br_c (fun z => ?_) (fun z => ?_)
        · have nb : ¬ vD i := fun y => (ea_and3 _).mp z ((hD i h).mp y).2
          exact nm_r (nI_1 i) (go _ (ea_QD_n nb q))
        · have yb : vD i := (hD i h).mpr ⟨k, Classical.byContradiction (fun y => z ((ea_and3 _).mpr y))⟩
          exact nm_e (nm_r (nI_1 i) (go _ (ea_QD_y (by omega) yb q)))
      have g345 : ea_ex (K i) → wX_analyse_345 post (wX_analyse_252 post (nI c) fc fn fa D K P T M n) (nI c) d (nI i) (M i) fc fn fa D K P T M := by
        intro k
        have k5 : ¬ K i = 5 := k.elim (fun z => ne z (by decide)) (fun z => ne z (by decide))
        have kb : ¬ ea_bl (K i) := by
          intro y
          rcases k with k | k <;> rcases y with y | y <;> exact absurd (k.symm.trans y) (by decide)
        refine br_c (fun z => ?_) (fun z => ?_)
        · have nb : ¬ vC i := fun y => (ea_and6 _).mp z ((hC i h).mp y).2
          exact g363 k _ (ea_QA_n (nA k5) (ea_QB_n (nB kb) (ea_QC_n nb q)))
        · have yb : vC i := (hC i h).mpr ⟨k, Classical.byContradiction (fun y => z ((ea_and6 _).mpr y))⟩
          exact nm_e (g363 k _ (ea_QA_n (nA k5) (ea_QB_n (nB kb) (ea_QC_y (by omega) yb q))))
      refine ⟨pk_in i 16 (by omega), nm_r (e' := K i) (by rw [ci]) ⟨pk_in i 16 (by omega), nm_r (e' := M i) (by rw [ci]) ?_⟩⟩
      refine br_c (fun z => ?_) (fun z5 => br_c (fun z => g312 (Or.inl z)) (fun z1 => br_c (fun z => g312 (Or.inr z)) (fun z3 => br_c (fun z => g345 (Or.inl z)) (fun z2 => br_c (fun z => g345 (Or.inr z)) (fun z4 => ?_)))))
      · have ke : ¬ ea_ex (K i) := fun y => y.elim (fun y => absurd (z.symm.trans y) (by decide)) (fun y => absurd (z.symm.trans y) (by decide))
        have kb : ¬ ea_bl (K i) := fun y => y.elim (fun y => absurd (z.symm.trans y) (by decide)) (fun y => absurd (z.symm.trans y) (by decide))
        refine br_c (fun y => ?_) (fun y => ?_)
        · have nb : ¬ vA i := fun x => (ea_and16 _).mp y ((hA i h).mp x).2
          exact nm_r (nI_1 i) (go _ (ea_QA_n nb (ea_QB_n (nB kb) (ea_QC_n (nC ke) (ea_QD_n (nD ke) q)))))
        · have yb : vA i := (hA i h).mpr ⟨z, Classical.byContradiction (fun x => y ((ea_and16 _).mpr x))⟩
          exact nm_e (nm_r (nI_1 i) (go _ (ea_QA_y (by omega) yb (ea_QB_n (nB kb) (ea_QC_n (nC ke) (ea_QD_n (nD ke) q))))))
      · have ke : ¬ ea_ex (K i) := fun y => y.elim z2 z4
        have kb : ¬ ea_bl (K i) := fun y => y.elim z1 z3
        exact nm_r (nI_1 i) (go _ (ea_QA_n (nA z5) (ea_QB_n (nB kb) (ea_QC_n (nC ke) (ea_QD_n (nD ke) q)))))
end
/-! what the digest's four slots say -/
def ea_vA (c : Nat) (K P T : Nat → Int32) (i : Nat) : Prop := K i = 5 ∧ ea_E (ea_clA K P T i) c
def ea_vB (c : Nat) (K P T : Nat → Int32) (i : Nat) : Prop := ea_bl (K i) ∧ ea_E (ea_ctA K P T i) c
def ea_vC (K P T : Nat → Int32) (i : Nat) : Prop := ea_ex (K i) ∧ (ea_cr K P T i 8 ∨ ea_cr K P T i 9)
def ea_vD (K P T : Nat → Int32) (i : Nat) : Prop := ea_ex (K i) ∧ (ea_cr K P T i 0 ∨ ea_cr K P T i 8)
def ea_DS (c : Nat) (K P T : Nat → Int32) (d : Int64) : Prop := ea_lbs d (ea_Q (ea_vA c K P T) (ea_vB c K P T) (ea_vC K P T) (ea_vD K P T) c c c c)
theorem ea_M_ex {a i : Nat} {K P T M : Nat → Int32} (m : ea_MS a K P T M) (hi : i < a) (ha : a ≤ 16) (k : ea_ex (K i)) : (bt (M i) 0 = true ↔ ea_cr K P T i 0) ∧ (bt (M i) 1 = true ↔ ea_cr K P T i 8) ∧ (bt (M i) 2 = true ↔ ea_cr K P T i 9) := by
  obtain ⟨m0, m1, m2, _⟩ := m i (by omega)
  have f : ∀ x : Int32, (i < a ∧ ea_wk (K i) ∧ ea_cr K P T i x) ↔ ea_cr K P T i x := fun x => ⟨fun z => z.2.2, fun z => ⟨hi, ea_ex_wk k, z⟩⟩
  exact ⟨m0.trans (f 0), m1.trans (f 8), m2.trans (f 9)⟩
section
variable {fc fa : Int32} {D : Int64} {K P T TY M : Nat → Int32}
theorem ea_xan {c : Nat} (R : ea_TR c K P T TY) {post : Int64 → SX → Prop} (h : ∀ d M', ea_DS c K P T d → ea_MS c K P T M' → post d (fc, nI c, nI c, d, K, P, T, M')) : wpX_analyse post (fc, nI c, fa, D, K, P, T, M) := by
  have h16 := ea_R16 R
  refine ⟨17, ea_x7 (fun M0 h0 => ⟨c + 1, ea_x28 R (fun M1 m => ⟨c + 1, ?_⟩) (c + 1) 0 M0 (by omega) (by omega) (ea_MS0 h0)⟩) 17 0 M (by omega) (by omega) (fun j hj => absurd hj (Nat.not_lt_zero j))⟩
  refine ea_x252 (vA := ea_vA c K P T) (vB := ea_vB c K P T) (vC := ea_vC K P T) (vD := ea_vD K P T) h16 ?_ ?_ ?_ ?_ (fun d hd => h d M1 hd m) (c + 1) 0 0 (by omega) (by omega) ea_Q_0
  · intro i hi
    rw [(m i (by omega)).2.2.2.2.1]
    exact Iff.rfl
  · intro i hi
    rw [(m i (by omega)).2.2.2.1]
    exact Iff.rfl
  · intro i hi
    unfold ea_vC
    constructor
    · intro ⟨k, z⟩
      have f := ea_M_ex m hi h16 k
      rw [f.2.1, f.2.2]
      exact ⟨k, z⟩
    · intro ⟨k, z⟩
      have f := ea_M_ex m hi h16 k
      rw [f.2.1, f.2.2] at z
      exact ⟨k, z⟩
  · intro i hi
    unfold ea_vD
    constructor
    · intro ⟨k, z⟩
      have f := ea_M_ex m hi h16 k
      rw [f.1, f.2.1]
      exact ⟨k, z⟩
    · intro ⟨k, z⟩
      have f := ea_M_ex m hi h16 k
      rw [f.1, f.2.1] at z
      exact ⟨k, z⟩
end
end
section
/-! the reference's analyse -/
def ea_SS (vA vB vC vD : Nat → Prop) (i j k l : Nat) (S : Nat → Int64) : Prop := ea_lbs (S 0) (ea_sl vA 0 i) ∧ ea_lbs (S 1) (ea_sl vB 0 j) ∧ ea_lbs (S 2) (ea_sl vC 0 k) ∧ ea_lbs (S 3) (ea_sl vD 0 l)
theorem ea_sy {v : Nat → Prop} {i : Nat} {d : Int64} (hi : i < 64) (h : v i) (g : ea_lbs d (ea_sl v 0 i)) : ea_lbs (d ||| ((1 : Int64) <<< ((nI i).toInt64 &&& 63))) (ea_sl v 0 (i + 1)) :=
  ea_lbs_s hi g (fun b _ => by rw [← ea_sl_y h, Nat.zero_add])
theorem ea_sn {v : Nat → Prop} {i : Nat} {d : Int64} (h : ¬ v i) (g : ea_lbs d (ea_sl v 0 i)) : ea_lbs d (ea_sl v 0 (i + 1)) := ea_lbs_c g (fun _ _ => ea_sl_n h)
section
variable {fc fn fa : Int32} {D : Int64} {K P T TY : Nat → Int32}
theorem ea_y38 {c : Nat} (R : ea_TR c K P T TY) {post : Int64 → SY → Prop} (hp : ∀ d S', ea_DS c K P T d → post d (fc, fn, nI c, d, K, P, TY, S')) : ∀ (n i : Nat) (S : Nat → Int64), c < n + i → i ≤ c → ea_SS (ea_vA c K P T) (ea_vB c K P T) (ea_vC K P T) (ea_vD K P T) i i i i S → wY_analyse_38 post fc fn (nI c) D n (nI i) K P TY S := by
  intro n
  induction n with
  | zero => intro i S h; omega
  | succ n ih =>
    intro i S hn hi q
    have h16 := ea_R16 R
    refine pk_le c i (fun h => ?_) (fun h => ?_)
    · have e : i = c := by omega
      subst e
      exact nm_e (hp _ S (ea_Q_j h16 q.1 q.2.1 q.2.2.1 q.2.2.2))
    · have hl := Nat.le_refl c
      have g106 : ∀ S, ea_SS (ea_vA c K P T) (ea_vB c K P T) (ea_vC K P T) (ea_vD K P T) (i + 1) (i + 1) (i + 1) i S → wY_analyse_106 post (wY_analyse_38 post fc fn (nI c) D n) (nI i) ((1 : Int64) <<< ((nI i).toInt64 &&& 63)) fc fn (nI c) D K P TY S := by
        intro S q
        unfold wY_analyse_106
        refine ea_yel R hl h (fun k z => ?_) (fun k z => ?_) (fun k => ?_)
        · exact br_f ea_one (nm_r (nI_1 i) (ih (i + 1) S (by omega) (by omega) ⟨q.1, q.2.1, q.2.2.1, ea_sn (fun y => z y.2) q.2.2.2⟩))
        · exact br_t rfl (nm_e (nm_r (nI_1 i) (ih (i + 1) _ (by omega) (by omega) ⟨q.1, q.2.1, q.2.2.1, ea_sy (by omega) ⟨k, z⟩ q.2.2.2⟩)))
        · exact br_f (by decide) (nm_r (nI_1 i) (ih (i + 1) S (by omega) (by omega) ⟨q.1, q.2.1, q.2.2.1, ea_sn (fun y => k y.1) q.2.2.2⟩))
      have g87 : ∀ S, ea_SS (ea_vA c K P T) (ea_vB c K P T) (ea_vC K P T) (ea_vD K P T) (i + 1) (i + 1) i i S → wY_analyse_87 post (wY_analyse_38 post fc fn (nI c) D n) (nI i) ((1 : Int64) <<< ((nI i).toInt64 &&& 63)) fc fn (nI c) D K P TY S := by
        intro S q
        unfold wY_analyse_87
        refine ea_yec R hl h (fun k z => ?_) (fun k z => ?_) (fun k => ?_)
        · exact br_t rfl (nm_e (g106 _ ⟨q.1, q.2.1, ea_sy (by omega) ⟨k, z⟩ q.2.2.1, q.2.2.2⟩))
        · exact br_f (by decide) (g106 S ⟨q.1, q.2.1, ea_sn (fun y => z y.2) q.2.2.1, q.2.2.2⟩)
        · exact br_f (by decide) (g106 S ⟨q.1, q.2.1, ea_sn (fun y => k y.1) q.2.2.1, q.2.2.2⟩)
      have g68 : ∀ S, ea_SS (ea_vA c K P T) (ea_vB c K P T) (ea_vC K P T) (ea_vD K P T) (i + 1) i i i S → wY_analyse_68 post (wY_analyse_38 post fc fn (nI c) D n) (nI i) ((1 : Int64) <<< ((nI i).toInt64 &&& 63)) fc fn (nI c) D K P TY S := by
        intro S q
        unfold wY_analyse_68
        refine ea_ybn R hl h (fun k z => ?_) (fun k z => ?_) (fun k => ?_)
        · exact br_t rfl (nm_e (g87 _ ⟨q.1, ea_sy (by omega) ⟨k, z⟩ q.2.1, q.2.2.1, q.2.2.2⟩))
        · exact br_f (by decide) (g87 S ⟨q.1, ea_sn (fun y => z y.2) q.2.1, q.2.2.1, q.2.2.2⟩)
        · exact br_f (by decide) (g87 S ⟨q.1, ea_sn (fun y => k y.1) q.2.1, q.2.2.1, q.2.2.2⟩)
      refine nm_e ?_
      refine ea_yvc R hl h (fun k z => ?_) (fun k z z' => ?_) (fun k z z' => ?_) (fun k => ?_)
      · exact br_t (by decide) (g68 S ⟨ea_sn (fun y => z y.2) q.1, q.2.1, q.2.2.1, q.2.2.2⟩)
      · exact br_f (by decide) (nm_e (g68 _ ⟨ea_sy (by omega) ⟨k, z⟩ q.1, q.2.1, q.2.2.1, q.2.2.2⟩))
      · exact br_f (by decide) (nm_e (g68 _ ⟨ea_sy (by omega) ⟨k, z⟩ q.1, q.2.1, q.2.2.1, q.2.2.2⟩))
      · exact br_t (by decide) (g68 S ⟨ea_sn (fun y => k y.1) q.1, q.2.1, q.2.2.1, q.2.2.2⟩)
theorem ea_yan {c : Nat} {S : Nat → Int64} (R : ea_TR c K P T TY) {post : Int64 → SY → Prop} (hp : ∀ d S', ea_DS c K P T d → post d (fc, nI c, nI c, d, K, P, TY, S')) : wpY_analyse post (fc, nI c, fa, D, K, P, TY, S) := by
  have z : ∀ (v : Nat → Prop), ea_lbs 0 (ea_sl v 0 0) := fun v => ea_lbs_0 (fun b _ y => absurd y.2.1 (Nat.not_lt_zero _))
  exact nm_e (nm_e (nm_e (nm_e ⟨c + 1, ea_y38 R hp (c + 1) 0 _ (by omega) (by omega) ⟨z _, z _, z _, z _⟩⟩)))
end
end
section
/-! countMarks -/
def ea_S (v : Int64) : Nat → Int32
  | 0 => 0
  | n + 1 => ea_S v n + (if ea_lb v n = true then 1 else 0)
theorem ea_S_s (v : Int64) (n : Nat) : ea_S v (n + 1) = ea_S v n + (if ea_lb v n = true then 1 else 0) := rfl
theorem ea_low (x : Int64) : (x &&& 1).toInt32 = if ea_lb x 0 = true then 1 else 0 := by
  have h : x &&& 1 = if ea_lb x 0 = true then 1 else 0 := by
    apply ea_lb_ext
    intro b hb
    rw [ea_lb_and, ea_lb_1 b hb]
    by_cases e : b = 0
    · subst e
      cases z : ea_lb x 0
      · simp [ea_lb_0]
      · simp [ea_lb_1]
    · cases z : ea_lb x 0
      · simp [ea_lb_0, e]
      · simp [ea_lb_1 b hb, e]
  rw [h]
  split <;> rfl
theorem ea_shr (v : Int64) {i : Nat} (hi : i < 64) : ea_lb ((v.toUInt64 >>> ((nI i).toInt64.toUInt64 &&& Int64.toUInt64 63)).toInt64) 0 = ea_lb v i := by
  rw [wb_cu i hi]
  have hs : (UInt64.ofNat i).toNat = i := by
    show (BitVec.ofNat 64 i).toNat = i
    rw [BitVec.toNat_ofNat, Nat.mod_eq_of_lt (by omega)]
  have e : (v.toUInt64 >>> UInt64.ofNat i).toInt64.toBitVec = v.toBitVec >>> i := by
    apply BitVec.eq_of_toNat_eq
    show (v.toUInt64 >>> UInt64.ofNat i).toNat = _
    rw [UInt64.toNat_shiftRight, hs, Nat.mod_eq_of_lt hi, BitVec.toNat_ushiftRight]
    rfl
  unfold ea_lb
  rw [e, BitVec.getLsbD_ushiftRight, Nat.add_zero]
theorem ea_sgn (x : Int64) : 0 ≤ x ↔ ¬ ea_lb x 63 = true := by
  have e : ea_lb x 63 = decide (x.toBitVec.toInt < 0) := by
    rw [← BitVec.msb_eq_toInt, BitVec.msb_eq_getLsbD_last]
    rfl
  have h0 : (0 : Int64).toInt = 0 := by decide
  have hx : x.toInt = x.toBitVec.toInt := rfl
  rw [e, decide_eq_true_eq, Int64.le_iff_toInt_le, h0, hx]
  omega
section
variable {fc fn fa : Int32} {D : Int64} {K P T M TY : Nat → Int32} {S : Nat → Int64}
theorem ea_xcm {v : Int64} {post : Int32 → Prop} (hp : post (ea_S v 64)) : ∀ (n i : Nat), 64 < n + i → i ≤ 64 → wX_countMarks_13 post v fc fn fa D K P T M n (ea_S v i) (nI i) := by
  intro n
  induction n with
  | zero => intro i h; omega
  | succ n ih =>
    intro i hn hi
    refine pk_le 64 i (fun h => ?_) (fun h => ?_)
    · have e : i = 64 := by omega
      subst e
      exact hp
    · refine nm_r (e' := ea_S v (i + 1)) ?_ (nm_r (nI_1 i) (ih (i + 1) (by omega) (by omega)))
      rw [ea_S_s, ea_low, ea_shr v h]
theorem ea_ycm {v : Int64} {post : Int32 → Prop} (hp : post (ea_S v 64)) : ∀ (n i : Nat) (m : Int64) (x : Int32), 64 < n + i → i ≤ 64 → (∀ b, b < 64 → ea_lb m b = (decide (i ≤ b) && ea_lb v (b - i))) → x + ea_S v (64 - i) = ea_S v 64 → wY_countMarks_13 post fc fn fa D K P TY S n m x (nI i) := by
  intro n
  induction n with
  | zero => intro i m x h; omega
  | succ n ih =>
    intro i m x hn hi hm hx
    refine pk_le 64 i (fun h => ?_) (fun h => ?_)
    · have e : i = 64 := by omega
      subst e
      have e2 : x = ea_S v 64 := by
        rw [← hx]
        show x = x + 0
        rw [Int32.add_zero]
      rw [e2]
      exact hp
    · have hm' : ∀ b, b < 64 → ea_lb (m <<< ((1 : Int32).toInt64 &&& 63)) b = (decide (i + 1 ≤ b) && ea_lb v (b - (i + 1))) := by
        intro b hb
        rw [show (1 : Int32) = nI 1 from rfl, ea_lb_shl m (by omega) hb, hm (b - 1) (by omega), show b - 1 - i = b - (i + 1) by omega]
        by_cases z : i + 1 ≤ b
        · rw [decide_eq_true z, decide_eq_true (show 1 ≤ b by omega), decide_eq_true (show i ≤ b - 1 by omega)]
          rfl
        · rw [decide_eq_false z]
          by_cases z1 : 1 ≤ b
          · rw [decide_eq_true z1, decide_eq_false (show ¬ i ≤ b - 1 by omega)]
            rfl
          · rw [decide_eq_false z1]
            rfl
      have h63 : ea_lb m 63 = ea_lb v (63 - i) := by
        rw [hm 63 (by omega), decide_eq_true (show i ≤ 63 by omega), Bool.true_and]
      rw [show 64 - i = (63 - i) + 1 by omega, ea_S_s, ← h63] at hx
      refine br_c (fun z => ?_) (fun z => ?_)
      · rw [if_neg ((ea_sgn m).mp z), Int32.add_zero] at hx
        exact nm_r (nI_1 i) (nm_e (ih (i + 1) _ x (by omega) (by omega) hm' (by rw [show 64 - (i + 1) = 63 - i by omega]; exact hx)))
      · rw [if_pos (Classical.byContradiction (fun y => z ((ea_sgn m).mpr y)))] at hx
        exact nm_e (nm_r (nI_1 i) (nm_e (ih (i + 1) _ (x + 1) (by omega) (by omega) hm' (by rw [show 64 - (i + 1) = 63 - i by omega, Int32.add_assoc, Int32.add_comm 1]; exact hx))))
theorem ea_xcount {s : Int64} {post : Int32 → Prop} (hp : post (ea_S (D &&& s) 64)) : wpX_countMarks post (fc, fn, fa, D, K, P, T, M) s :=
  nm_e ⟨65, ea_xcm hp 65 0 (by omega) (by omega)⟩
theorem ea_ycount {s : Int64} {post : Int32 → Prop} (hp : post (ea_S (D &&& s) 64)) : wpY_countMarks post (fc, fn, fa, D, K, P, TY, S) s :=
  nm_e ⟨65, ea_ycm hp 65 0 (D &&& s) 0 (by omega) (by omega) (fun b _ => by rw [decide_eq_true (Nat.zero_le b), Bool.true_and]; rfl) (Int32.zero_add _)⟩
end
end
section
/-! addNode -/
def ea_G (K T : Nat → Int32) (w : Int32) (t q : Nat) : Prop := T q = T t ∧ (K q = w ∨ (w = 5 ∧ K q = 9))
def ea_ok (c : Nat) (K P : Nat → Int32) (par : Nat) (w x3 : Int32) (t : Nat) : Prop := x3 = nI t ∧ t < c ∧ ea_an P par t ∧ K t = w
theorem ea_nb {j : Nat} (h : j < 10) : vp_nar .byte (nI j).toInt8.toInt32 = nI j := by
  rw [vp_nar_byte]
  exact (by decide +kernel : ∀ j, j < 10 → (nI j).toInt8.toInt32.toInt8.toInt32 = nI j) j h
theorem ea_ns {j : Nat} (h : j < 16) : vp_nar .short (nI j).toInt16.toInt32 = nI j := by
  rw [vp_nar_short]
  exact (by decide +kernel : ∀ j, j < 16 → (nI j).toInt16.toInt32.toInt16.toInt32 = nI j) j h
theorem ea_nc {j : Nat} (h : j < 10) : vp_nar .char ((nI j).toUInt32 % 65536).toInt32 = nI j := by
  rw [pk_vc]
  exact (by decide +kernel : ∀ j, j < 10 → ((nI j).toUInt32 % 65536).toInt32 = nI j) j h
section
variable {fc fa : Int32} {D : Int64} {K P T TY M : Nat → Int32} {S : Nat → Int64}
theorem ea_x237 {c : Nat} {x1 x2 x3 : Int32} (hc : c < 16) (h1 : vp_nar .byte x1.toInt8.toInt32 = x1) (h2 : vp_nar .short x2.toInt16.toInt32 = x2) {post : Int32 → SX → Prop} (h : post (nI c) (fc, nI (c + 1), fa, D, upd K c x1, upd P c x2, upd T c (vp_nar .short x3.toInt16.toInt32), M)) : wX_addNode_237 post x1 x2 x3 fc (nI c) fa D K P T M := by
  have ci : (nI c).toNatClampNeg = c := nI_clamp (by omega)
  exact And.intro (pk_in c 16 hc) (nm_r (by rw [ci, h1]) ⟨pk_in c 16 hc, nm_r (by rw [ci, h2]) ⟨pk_in c 16 hc, nm_r (by rw [ci]) (nm_r (nI_1 c) h)⟩⟩)
theorem ea_y182 {c : Nat} {x1 x2 x3 : Int32} (hc : c < 16) (h1 : vp_nar .char (x1.toUInt32 % 65536).toInt32 = x1) (h2 : vp_nar .short x2.toInt16.toInt32 = x2) {post : Int32 → SY → Prop} (h : post (nI c) (fc, nI (c + 1), fa, D, upd K c x1, upd P c x2, upd TY c (vp_nar .short x3.toInt16.toInt32), S)) : wY_addNode_182 post x1 x2 x3 fc (nI c) fa D K P TY S := by
  have ci : (nI c).toNatClampNeg = c := nI_clamp (by omega)
  exact And.intro (pk_in c 16 hc) (nm_r (by rw [ci, h1]) ⟨pk_in c 16 hc, nm_r (by rw [ci, h2]) ⟨pk_in c 16 hc, nm_r (by rw [ci]) (nm_r (nI_1 c) h)⟩⟩)
theorem ea_x76 {c t : Nat} {x1 x2 x4 fn : Int32} (R : ea_TR c K P T TY) (ht : t < c) {post : Int32 → SX → Prop} : ∀ (n m s : Nat), m + 1 < n → m + s ≤ 15 → m < c → (ea_an P m t → wX_addNode_118 post x1 x2 (nI t) x4 1 fc fn fa D K P T M) → (¬ ea_an P m t → wX_addNode_118 post x1 x2 (nI t) x4 0 fc fn fa D K P T M) → wX_addNode_76 post x1 x2 (nI t) x4 0 fc fn fa D K P T M n (nI m) (nI s) := by
  intro n
  induction n with
  | zero => intro m s h; omega
  | succ n ih =>
    intro m s hn hs hc h1 h0
    have h16 := ea_R16 R
    refine br_f (nI_ge (a := s) (b := 16) (by omega) (by decide)) (br_t (nI_pos' (by omega)) (pk_eq m t (fun e => h1 (e ▸ ea_an_s P m)) (fun e => ⟨pk_in m 16 (by omega), ?_⟩)))
    by_cases e0 : m = 0
    · subst e0
      obtain ⟨n', rfl⟩ : ∃ n', n = n' + 1 := ⟨n - 1, by omega⟩
      have hz : ¬ ea_an P 0 t := fun z => by have := ea_an_le z; omega
      exact nm_r (e' := (-1 : Int32)) R.2.2.2.1 (nm_r (nI_1 s) (br_c (fun _ => h0 hz) (fun _ => br_f (by decide) (h0 hz))))
    · have hl := ea_pr_lt (P := P) (j := m) (by omega)
      have st := ea_an_st (P := P) e
      exact nm_r (ea_Rp R (by omega) hc) (nm_r (nI_1 s) (ih (ea_pr P m) (s + 1) (by omega) (by omega) (by omega) (fun z => h1 (st.mpr z)) (fun z => h0 (fun y => z (st.mp y)))))
theorem ea_x154 {c t : Nat} {x1 x2 w fn : Int32} (R : ea_TR c K P T TY) {post : Int32 → SX → Prop} : ∀ (n m s : Nat), m < n → m + s ≤ 15 → m < c → ea_an P m t → (ea_Z P t m (ea_G K T w t) → post (-5) (fc, fn, fa, D, K, P, T, M)) → (¬ ea_Z P t m (ea_G K T w t) → wX_addNode_237 post x1 x2 (nI t) fc fn fa D K P T M) → wX_addNode_154 post x1 x2 (nI t) w (T t) fc fn fa D K P T M n (nI m) (nI s) := by
  intro n
  induction n with
  | zero => intro m s h; omega
  | succ n ih =>
    intro m s hn hs hc ha h5 h0
    have h16 := ea_R16 R
    have hle := ea_an_le ha
    refine br_f (nI_ge (a := s) (b := 16) (by omega) (by decide)) (br_f (nI_pos (by omega)) (pk_eq m t (fun e => ?_) (fun e => ⟨pk_in m 16 (by omega), ?_⟩)))
    · subst e
      exact h0 ea_Z_e
    · have hl := ea_pr_lt (P := P) (j := m) (by omega)
      have ci : (nI m).toNatClampNeg = m := nI_clamp (by omega)
      have hP := ea_Rp R (show 1 ≤ m by omega) hc
      rw [ci] at hP
      have zs := ea_Z_s (P := P) (t := t) (m := m) (G := ea_G K T w t) (by omega)
      have go : ¬ ea_G K T w t m → (vp_in (nI m) 16 ∧ (∀ y : Int32, y = P m → (∀ z : Int32, z = nI s + 1 → wX_addNode_154 post x1 x2 (nI t) w (T t) fc fn fa D K P T M n y z))) := fun ng =>
        ⟨pk_in m 16 (by omega), nm_r hP (nm_r (nI_1 s) (ih (ea_pr P m) (s + 1) (by omega) (by omega) (by omega) ((ea_an_st e).mp ha) (fun z => h5 (zs.mpr (Or.inr z))) (fun z => h0 (fun y => (zs.mp y).elim ng z))))⟩
      rw [ci]
      refine br_c (fun zt => ⟨pk_in m 16 (by omega), nm_e ?_⟩) (fun zt => go (fun y => zt y.1))
      refine br_c (fun zk => h5 (zs.mpr (Or.inl ⟨zt, Or.inl zk⟩))) (fun zk => br_c (fun z5 => br_c (fun z9 => h5 (zs.mpr (Or.inl ⟨zt, Or.inr ⟨z5, z9⟩⟩))) (fun z9 => ?_)) (fun z5 => ?_))
      · exact go (fun y => y.2.elim zk (fun q => z9 q.2))
      · exact go (fun y => y.2.elim zk (fun q => z5 q.1))
theorem ea_xw {c par : Nat} {x1 x3 w : Int32} (R : ea_TR c K P T TY) (hp : par < c) {post : Int32 → SX → Prop} (hb : (¬ ∃ t, ea_ok c K P par w x3 t) → post (-4) (fc, nI c, fa, D, K, P, T, M)) (hs : ∀ t, ea_ok c K P par w x3 t → ea_Z P t par (ea_G K T w t) → post (-5) (fc, nI c, fa, D, K, P, T, M)) (ho : ∀ t, ea_ok c K P par w x3 t → ¬ ea_Z P t par (ea_G K T w t) → wX_addNode_237 post x1 (nI par) x3 fc (nI c) fa D K P T M) :
    ((x3 < 0 → (post (-4) (fc, nI c, fa, D, K, P, T, M))) ∧ (¬ x3 < 0 → (((x3 < nI c → (∃ n76 : Nat, wX_addNode_76 post x1 (nI par) x3 w 0 fc (nI c) fa D K P T M n76 (nI par) 0)) ∧ (¬ x3 < nI c → (post (-4) (fc, nI c, fa, D, K, P, T, M))))))) := by
  have h16 := ea_R16 R
  refine br_c (fun z => hb (fun ⟨t, e, h, _⟩ => ?_)) (fun z => ?_)
  · rw [e] at z
    exact nI_pos (by omega) z
  · obtain ⟨t, ht, rfl⟩ := nI_of z
    have uq : ∀ t', t' < c → nI t = nI t' → t = t' := fun t' h e => (nI_eq ht (by omega)).mp e
    refine pk_lt t c (fun h => ⟨18, ea_x76 R h 18 par 0 (by omega) (by omega) hp (fun ha => ?_) (fun ha => ?_)⟩) (fun h => hb (fun ⟨t', e, h', _⟩ => ?_))
    · have ct : (nI t).toNatClampNeg = t := nI_clamp ht
      refine br_f ea_one ⟨pk_in t 16 (by omega), ?_⟩
      rw [ct]
      refine br_c (fun zk => ⟨pk_in t 16 (by omega), nm_e ⟨17, ?_⟩⟩) (fun zk => hb (fun ⟨t', e, h', ha', hk'⟩ => ?_))
      · exact ea_x154 R 17 par 0 (by omega) (by omega) hp ha (hs t ⟨rfl, h, ha, zk⟩) (ho t ⟨rfl, h, ha, zk⟩)
      · exact zk (uq t' h' e ▸ hk')
    · refine br_t rfl (hb (fun ⟨t', e, h', ha', hk'⟩ => ?_))
      exact ha (uq t' h' e ▸ ha')
    · have := uq t' h' e
      omega
theorem ea_y111 {c par t : Nat} {x1 w fn : Int32} (R : ea_TR c K P T TY) (hp : par < c) (h1 : 1 ≤ t) (htp : t ≤ par) {post : Int32 → SY → Prop} (hs : ea_Z P t par (ea_G K T w t) → post (-5) (fc, fn, fa, D, K, P, TY, S)) (ho : ¬ ea_Z P t par (ea_G K T w t) → wY_addNode_182 post x1 (nI par) (nI t) fc fn fa D K P TY S) : ∀ (n i : Nat), par + 1 < n + i → t < i → i ≤ par + 1 → (∀ q, t < q → q < i → ea_an P par q → ¬ ea_G K T w t q) → wY_addNode_111 post x1 (nI par) (nI t) w fc fn fa D K P TY S n (nI i) := by
  intro n
  induction n with
  | zero => intro i h; omega
  | succ n ih =>
    intro i hn hti hi hq
    have h16 := ea_R16 R
    refine pk_lt par i (fun h => ?_) (fun h => ?_)
    · refine ho (fun ⟨q, a, b, g⟩ => hq q a ?_ b g)
      have := ea_an_le b
      omega
    · have ci : (nI i).toNatClampNeg = i := nI_clamp (by omega)
      have ct : (nI t).toNatClampNeg = t := nI_clamp (by omega)
      have step : ¬ (ea_an P par i ∧ ea_G K T w t i) → ∀ y : Int32, y = nI i + 1 → wY_addNode_111 post x1 (nI par) (nI t) w fc fn fa D K P TY S n y := fun ng =>
        nm_r (nI_1 i) (ih (i + 1) (by omega) (by omega) (by omega) (fun q a b d g => by
          by_cases e : q = i
          · subst e
            exact ng ⟨d, g⟩
          · exact hq q a (by omega) d g))
      have g157 : ea_an P par i → (K i = w ∨ (w = 5 ∧ K i = 9)) → wY_addNode_157 post (wY_addNode_111 post x1 (nI par) (nI t) w fc fn fa D K P TY S n) x1 (nI par) (nI t) w (nI i) fc fn fa D K P TY S := by
        intro ha hk
        refine And.intro (pk_in i 16 (by omega)) ⟨pk_in t 16 (by omega), ?_⟩
        rw [ci, ct, ea_Rt R h1, ea_Rt R (show 1 ≤ i by omega)]
        exact br_c (fun z => hs ⟨i, hti, ha, z, hk⟩) (fun z => step (fun y => z y.2.1))
      refine ea_yab R hp (show i < 2 ^ 31 by omega) rfl rfl (fun ha => br_f ea_one ⟨pk_in i 16 (by omega), ?_⟩) (fun ha => br_t rfl (step (fun y => ha y.1)))
      rw [ci]
      refine br_c (fun zk => g157 ha (Or.inl zk)) (fun zk => br_c (fun z5 => ⟨pk_in i 16 (by omega), br_c (fun z9 => g157 ha (Or.inr ⟨z5, z9⟩)) (fun z9 => ?_)⟩) (fun z5 => ?_))
      · exact step (fun y => y.2.2.elim zk (fun q => z9 q.2))
      · exact step (fun y => y.2.2.elim zk (fun q => z5 q.1))
theorem ea_yw {c par : Nat} {x1 x3 w : Int32} (R : ea_TR c K P T TY) (hp : par < c) (hw0 : ¬ w < 0) (hwz : ¬ 0 = w) {post : Int32 → SY → Prop} (hb : (¬ ∃ t, ea_ok c K P par w x3 t) → post (-4) (fc, nI c, fa, D, K, P, TY, S)) (hs : ∀ t, ea_ok c K P par w x3 t → ea_Z P t par (ea_G K T w t) → post (-5) (fc, nI c, fa, D, K, P, TY, S)) (ho : ∀ t, ea_ok c K P par w x3 t → ¬ ea_Z P t par (ea_G K T w t) → wY_addNode_182 post x1 (nI par) x3 fc (nI c) fa D K P TY S) : wY_addNode_76 post x1 (nI par) x3 w fc (nI c) fa D K P TY S := by
  have h16 := ea_R16 R
  refine br_f hw0 ?_
  by_cases z : x3 < 0
  · refine ea_yab_n z (br_t rfl (hb (fun ⟨t, e, h, _⟩ => ?_)))
    rw [e] at z
    exact nI_pos (by omega) z
  · obtain ⟨t, ht, rfl⟩ := nI_of z
    have uq : ∀ t', t' < c → nI t = nI t' → t = t' := fun t' h e => (nI_eq ht (by omega)).mp e
    refine ea_yab R hp ht rfl rfl (fun ha => ?_) (fun ha => br_t rfl (hb (fun ⟨t', e, h', ha', hk'⟩ => ?_)))
    · have ct : (nI t).toNatClampNeg = t := nI_clamp ht
      have hle := ea_an_le ha
      refine br_f ea_one ⟨pk_in t 16 (by omega), ?_⟩
      rw [ct]
      refine br_c (fun zk => nm_r (nI_1 t) ⟨par + 2, ?_⟩) (fun zk => hb (fun ⟨t', e, h', ha', hk'⟩ => ?_))
      · have t1 : 1 ≤ t := by
          by_cases e : t = 0
          · subst e
            exact absurd (R.2.2.1.symm.trans zk) hwz
          · omega
        exact ea_y111 R hp t1 hle (hs t ⟨rfl, by omega, ha, zk⟩) (ho t ⟨rfl, by omega, ha, zk⟩) (par + 2) (t + 1) (by omega) (by omega) (by omega) (fun q a b => by omega)
      · exact zk (uq t' h' e ▸ hk')
    · exact ha (uq t' h' e ▸ ha')
end
end
section
/-! the relation and what is owed -/
/-- the relation at the head of a turn whose first cell is k -/
def i_Rel (k : Nat) (u : SX) (v : SY) : Prop :=
  ∃ (cap c a : Nat) (D : Int64) (K P T TY M : Nat → Int32) (S : Nat → Int64), u = (nI cap, nI c, nI a, D, K, P, T, M) ∧ v = (nI cap, nI c, nI a, D, K, P, TY, S) ∧ cap ≤ 16 ∧ a ≤ c ∧ ea_TR c K P T TY ∧ ea_MS a K P T M
theorem i_up {k : Nat} {u : SX} {v : SY} (h : i_Rel k u v) : i_Rel (k + 4) u v := h
theorem ea_e0 {x : Int32} (h : x = 0) : upd (fun _ => 0) 0 x = fun _ => 0 := by
  funext j
  unfold upd
  rw [h]
  split <;> rfl
theorem ea_n0 : vp_nar .byte 0 = 0 := by rw [vp_nar_byte]; decide
theorem ea_s0 : vp_nar .short 0 = 0 := by rw [vp_nar_short]; decide
theorem ea_sm : vp_nar .short (-1) = -1 := by rw [vp_nar_short]; decide
theorem ea_nw0 : ¬ ea_wk 0 := by unfold ea_wk; decide
theorem ea_nb0 : ¬ ea_bl 0 := by unfold ea_bl; decide
theorem ea_nx0 : ¬ ea_ex 0 := by unfold ea_ex; decide
theorem ea_n05 : ¬ (0 : Int32) = 5 := by decide
theorem ea_R0 : ea_TR 1 (fun _ => 0) (upd (fun _ => 0) 0 (-1)) (fun _ => 0) (upd (fun _ => 0) 0 (-1)) := by
  refine ⟨by omega, by omega, rfl, pk_us, fun j h h' => by omega, fun j h => pk_un (by omega), fun j _ h => ?_⟩
  exact absurd h ea_nw0
theorem ea_M0 : ea_MS 1 (fun _ => 0) (upd (fun _ => 0) 0 (-1)) (fun _ => 0) (fun _ => 0) := ea_MS_skip (ea_MS0 (fun _ _ => rfl)) ea_nw0
theorem ea_D0 {d : Int64} (h : ea_DS 1 (fun _ => 0) (upd (fun _ => 0) 0 (-1)) (fun _ => 0) d) : d = 0 := by
  refine ea_lbs_u h (ea_lbs_0 (fun b _ z => ?_))
  rcases z with ⟨_, _, z, _⟩ | ⟨_, _, z, _⟩ | ⟨_, _, z, _⟩ | ⟨_, _, z, _⟩
  · exact ea_n05 z
  · exact ea_nb0 z
  · exact ea_nx0 z
  · exact ea_nx0 z
theorem ea_x54 {x : Int32} {post : SX → Prop} (h : post (x, 1, 1, 0, (fun _ => 0), upd (fun _ => 0) 0 (-1), (fun _ => 0), (fun _ => 0))) : wX_init_54 post x 0 0 0 0 (fun _ => 0) (fun _ => 0) (fun _ => 0) (fun _ => 0) :=
  nm_r (ea_e0 ea_n0) (nm_r (congrArg (upd (fun _ => 0) 0) ea_sm) (nm_r (ea_e0 ea_s0) h))
theorem ea_y57 {x : Int32} {post : SY → Prop} (h : ∀ S, post (x, nI 1, nI 1, 0, (fun _ => 0), upd (fun _ => 0) 0 (-1), upd (fun _ => 0) 0 (-1), S)) : wY_init_57 post x 0 0 0 0 (fun _ => 0) (fun _ => 0) (fun _ => 0) (fun _ => 0) := by
  refine nm_r (congrArg (upd (fun _ => 0) 0) ea_sm) (nm_r (congrArg (upd (fun _ => 0) 0) ea_sm) ?_)
  refine ea_yan (c := 1) ea_R0 (fun d S' hd => ?_)
  have e := ea_D0 hd
  subst e
  exact h S'
theorem ea_i0 {cap : Nat} (h : cap ≤ 16) (S : Nat → Int64) : i_Rel 1 (nI cap, 1, 1, 0, (fun _ => 0), upd (fun _ => 0) 0 (-1), (fun _ => 0), (fun _ => 0)) (nI cap, nI 1, nI 1, 0, (fun _ => 0), upd (fun _ => 0) 0 (-1), upd (fun _ => 0) 0 (-1), S) :=
  ⟨cap, 1, 1, 0, _, _, _, _, _, _, rfl, rfl, h, by omega, ea_R0, ea_M0⟩
theorem i_vc0 (k0 : Int32) : wpX_init (fun u => wpY_init (fun v => i_Rel 1 u v) k0) k0 := by
  by_cases h1 : 1 ≤ k0
  · by_cases h2 : k0 ≤ 16
    · have h0 : ¬ k0 < 0 := fun z => by
        have a := Int32.le_iff_toInt_le.mp h1
        have b := Int32.lt_iff_toInt_lt.mp z
        have c1 : (1 : Int32).toInt = 1 := by decide
        have c0 : (0 : Int32).toInt = 0 := by decide
        omega
      obtain ⟨j, hj, e⟩ := nI_of2 (M := 16) (n := 16) (by decide) h0 h2
      refine br_t h1 (br_t h2 (ea_x54 (br_t h1 (br_t h2 (ea_y57 (fun S => ?_))))))
      rw [e]
      exact ea_i0 hj S
    · exact br_t h1 (br_f h2 (ea_x54 (br_t h1 (br_f h2 (ea_y57 (fun S => ea_i0 (cap := 16) (by omega) S))))))
  · exact br_f h1 (br_t (by decide) (ea_x54 (br_f h1 (ea_y57 (fun S => ea_i0 (cap := 1) (by omega) S)))))
section
variable {cap c a par : Nat} {D : Int64} {K P T TY M : Nat → Int32} {S : Nat → Int64}
theorem ea_fin {k kd : Nat} {v3 : Int32} (R : ea_TR c K P T TY) (m : ea_MS a K P T M) (hcap : cap ≤ 16) (ha : a ≤ c) (hc : c < cap) (hk : kd < 10) (hp : par < c) (hw : ea_wk (nI kd) → ∃ t, v3 = nI t ∧ t < c ∧ ea_an P par t) :
    i_Rel k (nI cap, nI (c + 1), nI a, D, upd K c (nI kd), upd P c (nI par), upd T c (vp_nar .short v3.toInt16.toInt32), M) (nI cap, nI (c + 1), nI a, D, upd K c (nI kd), upd P c (nI par), upd TY c (vp_nar .short v3.toInt16.toInt32), S) := by
  have g := ea_add (kd := nI kd) (y := vp_nar .short v3.toInt16.toInt32) R m ha (by omega) hp (fun w => by
    obtain ⟨t, e, h1, h2⟩ := hw w
    exact ⟨t, by rw [e]; exact ea_ns (by omega), h1, h2⟩)
  exact ⟨cap, c + 1, a, D, _, _, _, _, _, _, rfl, rfl, hcap, by omega, g.1, g.2⟩
theorem ea_join {k kd : Nat} {v3 w : Int32} (R : ea_TR c K P T TY) (m : ea_MS a K P T M) (hcap : cap ≤ 16) (ha : a ≤ c) (hc : c < cap) (hk : kd < 10) (hp : par < c) (hw0 : ¬ w < 0) (hwz : ¬ 0 = w)
    (hY : ∀ post : Int32 → SY → Prop, wY_addNode_76 post (nI kd) (nI par) v3 w (nI cap) (nI c) (nI a) D K P TY S → wpY_addNode post (nI cap, nI c, nI a, D, K, P, TY, S) (nI kd) (nI par) v3) {Z : Prop} :
    (w < 0 → Z) ∧ (¬ w < 0 → ((v3 < 0 → wpY_addNode (fun r' v' => r' = -4 ∧ i_Rel k (nI cap, nI c, nI a, D, K, P, T, M) v') (nI cap, nI c, nI a, D, K, P, TY, S) (nI kd) (nI par) v3) ∧ (¬ v3 < 0 → (((v3 < nI c → (∃ n76 : Nat, wX_addNode_76 (fun r u' => wpY_addNode (fun r' v' => r' = r ∧ i_Rel k u' v') (nI cap, nI c, nI a, D, K, P, TY, S) (nI kd) (nI par) v3) (nI kd) (nI par) v3 w 0 (nI cap) (nI c) (nI a) D K P T M n76 (nI par) 0)) ∧ (¬ v3 < nI c → wpY_addNode (fun r' v' => r' = -4 ∧ i_Rel k (nI cap, nI c, nI a, D, K, P, T, M) v') (nI cap, nI c, nI a, D, K, P, TY, S) (nI kd) (nI par) v3)))))) := by
  have h16 := ea_R16 R
  have stay : i_Rel k (nI cap, nI c, nI a, D, K, P, T, M) (nI cap, nI c, nI a, D, K, P, TY, S) := ⟨cap, c, a, D, _, _, _, _, _, _, rfl, rfl, hcap, ha, R, m⟩
  have uq : ∀ {t t' : Nat}, ea_ok c K P par w v3 t → ea_ok c K P par w v3 t' → t = t' := fun {t t'} h h' => (nI_eq (by have := h.2.1; omega) (by have := h'.2.1; omega)).mp (h.1.symm.trans h'.1)
  refine br_f hw0 (ea_xw (post := fun r u' => wpY_addNode (fun r' v' => r' = r ∧ i_Rel k u' v') (nI cap, nI c, nI a, D, K, P, TY, S) (nI kd) (nI par) v3) R hp (fun nb => ?_) (fun t o z => ?_) (fun t o z => ?_))
  · exact hY _ (ea_yw R hp hw0 hwz (fun _ => ⟨rfl, stay⟩) (fun t o _ => absurd ⟨t, o⟩ nb) (fun t o _ => absurd ⟨t, o⟩ nb))
  · exact hY _ (ea_yw R hp hw0 hwz (fun nb => absurd ⟨t, o⟩ nb) (fun _ _ _ => ⟨rfl, stay⟩) (fun t' o' z' => absurd z (uq o' o ▸ z')))
  · refine ea_x237 (by omega) (ea_nb hk) (ea_ns (by omega)) (hY _ (ea_yw R hp hw0 hwz (fun nb => absurd ⟨t, o⟩ nb) (fun t' o' z' => absurd (uq o' o ▸ z') z) (fun t' o' z' => ?_)))
    exact ea_y182 (by omega) (ea_nc hk) (ea_ns (by omega)) ⟨rfl, ea_fin R m hcap ha hc hk hp (fun _ => ⟨t, o.1, o.2.1, o.2.2.1⟩)⟩
end
theorem i_vc_addNode {k : Nat} {u : SX} {v : SY} (I : i_Rel k u v) (hk : k + 4 ≤ 2049) (v1 : Int32) (v2 : Int32) (v3 : Int32) : wpX_addNode (fun r u' => wpY_addNode (fun r' v' => r' = r ∧ i_Rel (k + 4) u' v') v v1 v2 v3) u v1 v2 v3 := by
  have stay := i_up I
  obtain ⟨cap, c, a, D, K, P, T, TY, M, S, rfl, rfl, hcap, ha, R, m⟩ := I
  have h16 := ea_R16 R
  by_cases h1 : nI c < nI cap
  · by_cases h2 : v1 < 0
    · exact br_t h1 (br_t h2 (br_t h1 (br_t h2 ⟨rfl, stay⟩)))
    · by_cases h3 : v1 ≤ 9
      · by_cases h4 : v2 < 0
        · exact br_t h1 (br_f h2 (br_t h3 (br_t h4 (br_t h1 (br_f h2 (br_t h3 (br_t h4 ⟨rfl, stay⟩)))))))
        · by_cases h5 : v2 < nI c
          · obtain ⟨kd, hkd, rfl⟩ := nI_of2 (M := 9) (n := 9) (by decide) h2 h3
            obtain ⟨par, hpar, rfl⟩ := nI_of h4
            have hp : par < c := (nI_ltI hpar (by omega)).mp h5
            have hc : c < cap := (nI_ltI (by omega) (by omega)).mp h1
            have pre : ∀ (post : Int32 → SY → Prop), ((nI kd = 2 → (wY_addNode_76 post (nI kd) (nI par) v3 1 (nI cap) (nI c) (nI a) D K P TY S)) ∧ (¬ nI kd = 2 → (((nI kd = 4 → (wY_addNode_76 post (nI kd) (nI par) v3 3 (nI cap) (nI c) (nI a) D K P TY S)) ∧ (¬ nI kd = 4 → (((nI kd = 6 → (wY_addNode_71 post (nI kd) (nI par) v3 (nI cap) (nI c) (nI a) D K P TY S)) ∧ (¬ nI kd = 6 → (((nI kd = 7 → (wY_addNode_71 post (nI kd) (nI par) v3 (nI cap) (nI c) (nI a) D K P TY S)) ∧ (¬ nI kd = 7 → (wY_addNode_76 post (nI kd) (nI par) v3 (-1) (nI cap) (nI c) (nI a) D K P TY S)))))))))))) → wpY_addNode post (nI cap, nI c, nI a, D, K, P, TY, S) (nI kd) (nI par) v3 :=
              fun post h => br_t h1 (br_f h2 (br_t h3 (br_f h4 (br_t h5 h))))
            have ne : ∀ {x y z : Int32}, x = y → ¬ y = z → ¬ x = z := fun h g q => g (h.symm.trans q)
            refine br_t h1 (br_f h2 (br_t h3 (br_f h4 (br_t h5 (ea_xwk (fun e => ?_) (fun e => ?_) (fun e => ?_) (fun e => ?_))))))
            · exact ea_join R m hcap ha hc (by omega) hp (by decide) (by decide) (fun post h => pre post (br_t e h))
            · exact ea_join R m hcap ha hc (by omega) hp (by decide) (by decide) (fun post h => pre post (br_f (ne e (by decide)) (br_t e h)))
            · refine ea_join R m hcap ha hc (by omega) hp (by decide) (by decide) (fun post h => pre post ?_)
              rcases e with e | e
              · exact br_f (ne e (by decide)) (br_f (ne e (by decide)) (br_t e h))
              · exact br_f (ne e (by decide)) (br_f (ne e (by decide)) (br_f (ne e (by decide)) (br_t e h)))
            · refine br_t (by decide) (ea_x237 (by omega) (ea_nb (by omega)) (ea_ns (by omega)) (pre _ ?_))
              refine br_f (fun q => e (Or.inl q)) (br_f (fun q => e (Or.inr (Or.inl q))) (br_f (fun q => e (Or.inr (Or.inr (Or.inl q)))) (br_f (fun q => e (Or.inr (Or.inr (Or.inr q)))) (br_t (by decide) ?_))))
              exact ea_y182 (by omega) (ea_nc (by omega)) (ea_ns (by omega)) ⟨rfl, ea_fin R m hcap ha hc (by omega) hp (fun q => absurd q e)⟩
          · exact br_t h1 (br_f h2 (br_t h3 (br_f h4 (br_f h5 (br_t h1 (br_f h2 (br_t h3 (br_f h4 (br_f h5 ⟨rfl, stay⟩)))))))))
      · exact br_t h1 (br_f h2 (br_f h3 (br_t h1 (br_f h2 (br_f h3 ⟨rfl, stay⟩)))))
  · exact br_f h1 (br_f h1 ⟨rfl, stay⟩)
theorem i_vc_analyse {k : Nat} {u : SX} {v : SY} (I : i_Rel k u v) (hk : k + 4 ≤ 2049) : wpX_analyse (fun r u' => wpY_analyse (fun r' v' => r' = r ∧ i_Rel (k + 4) u' v') v) u := by
  obtain ⟨cap, c, a, D, K, P, T, TY, M, S, rfl, rfl, hcap, ha, R, m⟩ := I
  refine ea_xan R (fun d M' hd m' => ?_)
  refine ea_yan R (fun d' S' hd' => ?_)
  have e := ea_lbs_u hd' hd
  subst e
  exact ⟨rfl, cap, c, c, d', _, _, _, _, _, _, rfl, rfl, hcap, Nat.le_refl c, R, m'⟩
theorem ea_cut {a : Nat} (ha : a ≤ 16) (x : Int32) {A : Prop} (h1 : (x < 0 ∨ nI a ≤ x) → A) (h2 : ∀ j, j < a → x = nI j → A) : A := by
  rcases pk_ix x (show a < 2 ^ 31 by omega) with z | z | ⟨j, hj, e⟩
  · exact h1 (Or.inl z)
  · exact h1 (Or.inr z)
  · exact h2 j hj e
theorem ea_out {a x : Int32} {A B : Prop} (h : x < 0 ∨ a ≤ x) (hA : A) : (x < 0 → A) ∧ (¬ x < 0 → ((x < a → B) ∧ (¬ x < a → A))) := by
  by_cases z : x < 0
  · exact br_t z hA
  · exact br_f z (br_f (Int32.not_lt.mpr (h.resolve_left z)) hA)
theorem i_vc_exitIsLocal {k : Nat} {u : SX} {v : SY} (I : i_Rel k u v) (hk : k + 4 ≤ 2049) (v1 : Int32) : wpX_exitIsLocal (fun r => wpY_exitIsLocal (fun r' => r' = r ∧ i_Rel (k + 4) u v) v v1) u v1 := by
  have stay := i_up I
  obtain ⟨cap, c, a, D, K, P, T, TY, M, S, rfl, rfl, hcap, ha, R, m⟩ := I
  have h16 := ea_R16 R
  refine ea_cut (a := a) (by omega) v1 (fun h => ea_out h (ea_yel_n h ⟨rfl, stay⟩)) (fun j hj e => ?_)
  subst e
  have cj : (nI j).toNatClampNeg = j := nI_clamp (by omega)
  refine br_f (nI_pos (by omega)) (br_t (nI_lt hj (by omega)) ⟨pk_in j 16 (by omega), nm_r (e' := K j) (by rw [cj]) ?_⟩)
  have g : ea_ex (K j) → wX_exitIsLocal_33 (fun r => wpY_exitIsLocal (fun r' => r' = r ∧ i_Rel (k + 4) (nI cap, nI c, nI a, D, K, P, T, M) (nI cap, nI c, nI a, D, K, P, TY, S)) (nI cap, nI c, nI a, D, K, P, TY, S) (nI j)) (nI j) (nI cap) (nI c) (nI a) D K P T M := by
    intro kx
    have f := ea_M_ex m hj (by omega) kx
    refine And.intro (pk_in j 16 (by omega)) ?_
    rw [cj]
    refine br_c (fun z => ?_) (fun z => ?_)
    · rw [ea_and3, f.1, f.2.1] at z
      exact ea_yel R ha hj (fun _ _ => ⟨rfl, stay⟩) (fun _ y => absurd y z) (fun y => absurd kx y)
    · rw [ea_and3, f.1, f.2.1] at z
      exact ea_yel R ha hj (fun _ y => absurd y z) (fun _ _ => ⟨rfl, stay⟩) (fun y => absurd kx y)
  refine br_c (fun z => g (Or.inl z)) (fun z => br_c (fun z' => g (Or.inr z')) (fun z' => ?_))
  have ne : ¬ ea_ex (K j) := fun y => y.elim z z'
  exact ea_yel R ha hj (fun y _ => absurd y ne) (fun y _ => absurd y ne) (fun _ => ⟨rfl, stay⟩)
theorem i_vc_exitCrossesCleanup {k : Nat} {u : SX} {v : SY} (I : i_Rel k u v) (hk : k + 4 ≤ 2049) (v1 : Int32) : wpX_exitCrossesCleanup (fun r => wpY_exitCrossesCleanup (fun r' => r' = r ∧ i_Rel (k + 4) u v) v v1) u v1 := by
  have stay := i_up I
  obtain ⟨cap, c, a, D, K, P, T, TY, M, S, rfl, rfl, hcap, ha, R, m⟩ := I
  have h16 := ea_R16 R
  refine ea_cut (a := a) (by omega) v1 (fun h => ea_out h (ea_yec_n h ⟨rfl, stay⟩)) (fun j hj e => ?_)
  subst e
  have cj : (nI j).toNatClampNeg = j := nI_clamp (by omega)
  refine br_f (nI_pos (by omega)) (br_t (nI_lt hj (by omega)) ⟨pk_in j 16 (by omega), nm_r (e' := K j) (by rw [cj]) ?_⟩)
  have g : ea_ex (K j) → wX_exitCrossesCleanup_33 (fun r => wpY_exitCrossesCleanup (fun r' => r' = r ∧ i_Rel (k + 4) (nI cap, nI c, nI a, D, K, P, T, M) (nI cap, nI c, nI a, D, K, P, TY, S)) (nI cap, nI c, nI a, D, K, P, TY, S) (nI j)) (nI j) (nI cap) (nI c) (nI a) D K P T M := by
    intro kx
    have f := ea_M_ex m hj (by omega) kx
    refine And.intro (pk_in j 16 (by omega)) ?_
    rw [cj]
    refine br_c (fun z => ?_) (fun z => ?_)
    · rw [ea_and6, f.2.1, f.2.2] at z
      exact ea_yec R ha hj (fun _ y => absurd y z) (fun _ _ => ⟨rfl, stay⟩) (fun y => absurd kx y)
    · rw [ea_and6, f.2.1, f.2.2] at z
      exact ea_yec R ha hj (fun _ _ => ⟨rfl, stay⟩) (fun _ y => absurd y z) (fun y => absurd kx y)
  refine br_c (fun z => g (Or.inl z)) (fun z => br_c (fun z' => g (Or.inr z')) (fun z' => ?_))
  have ne : ¬ ea_ex (K j) := fun y => y.elim z z'
  exact ea_yec R ha hj (fun y _ => absurd y ne) (fun y _ => absurd y ne) (fun _ => ⟨rfl, stay⟩)
theorem i_vc_blockNeedsCatch {k : Nat} {u : SX} {v : SY} (I : i_Rel k u v) (hk : k + 4 ≤ 2049) (v1 : Int32) : wpX_blockNeedsCatch (fun r => wpY_blockNeedsCatch (fun r' => r' = r ∧ i_Rel (k + 4) u v) v v1) u v1 := by
  have stay := i_up I
  obtain ⟨cap, c, a, D, K, P, T, TY, M, S, rfl, rfl, hcap, ha, R, m⟩ := I
  have h16 := ea_R16 R
  refine ea_cut (a := a) (by omega) v1 (fun h => ea_out h (ea_ybn_n h ⟨rfl, stay⟩)) (fun j hj e => ?_)
  subst e
  have cj : (nI j).toNatClampNeg = j := nI_clamp (by omega)
  refine br_f (nI_pos (by omega)) (br_t (nI_lt hj (by omega)) ⟨pk_in j 16 (by omega), nm_r (e' := K j) (by rw [cj]) ?_⟩)
  have g : ea_bl (K j) → wX_blockNeedsCatch_33 (fun r => wpY_blockNeedsCatch (fun r' => r' = r ∧ i_Rel (k + 4) (nI cap, nI c, nI a, D, K, P, T, M) (nI cap, nI c, nI a, D, K, P, TY, S)) (nI cap, nI c, nI a, D, K, P, TY, S) (nI j)) (nI j) (nI cap) (nI c) (nI a) D K P T M := by
    intro kx
    have f := (m j (by omega)).2.2.2.1
    refine And.intro (pk_in j 16 (by omega)) ?_
    rw [cj]
    refine br_c (fun z => ?_) (fun z => ?_)
    · rw [ea_and8, f] at z
      exact ea_ybn R ha hj (fun _ y => absurd y z) (fun _ _ => ⟨rfl, stay⟩) (fun y => absurd kx y)
    · rw [ea_and8, f] at z
      exact ea_ybn R ha hj (fun _ _ => ⟨rfl, stay⟩) (fun _ y => absurd y z) (fun y => absurd kx y)
  refine br_c (fun z => g (Or.inl z)) (fun z => br_c (fun z' => g (Or.inr z')) (fun z' => ?_))
  have ne : ¬ ea_bl (K j) := fun y => y.elim z z'
  exact ea_ybn R ha hj (fun y _ => absurd y ne) (fun y _ => absurd y ne) (fun _ => ⟨rfl, stay⟩)
theorem i_vc_varClass {k : Nat} {u : SX} {v : SY} (I : i_Rel k u v) (hk : k + 4 ≤ 2049) (v1 : Int32) : wpX_varClass (fun r => wpY_varClass (fun r' => r' = r ∧ i_Rel (k + 4) u v) v v1) u v1 := by
  have stay := i_up I
  obtain ⟨cap, c, a, D, K, P, T, TY, M, S, rfl, rfl, hcap, ha, R, m⟩ := I
  have h16 := ea_R16 R
  refine ea_cut (a := a) (by omega) v1 (fun h => ea_out h (ea_yvc_n h ⟨rfl, stay⟩)) (fun j hj e => ?_)
  subst e
  have cj : (nI j).toNatClampNeg = j := nI_clamp (by omega)
  refine br_f (nI_pos (by omega)) (br_t (nI_lt hj (by omega)) ⟨pk_in j 16 (by omega), ?_⟩)
  rw [cj]
  have f4 := (m j (by omega)).2.2.2.2.1
  have f5 := (m j (by omega)).2.2.2.2.2
  refine br_c (fun kx => ⟨pk_in j 16 (by omega), nm_e ?_⟩) (fun kx => ?_)
  · refine br_c (fun z => ?_) (fun z => br_c (fun z' => ?_) (fun z' => ?_))
    · rw [ea_and16, f4] at z
      exact ea_yvc R ha hj (fun _ _ => ⟨rfl, stay⟩) (fun _ y _ => absurd y z) (fun _ y _ => absurd y z) (fun y => absurd kx y)
    · rw [ea_and16, f4] at z
      rw [ea_and32, f5] at z'
      exact ea_yvc R ha hj (fun _ y => absurd y z) (fun _ _ _ => ⟨rfl, stay⟩) (fun _ _ y => absurd y z') (fun y => absurd kx y)
    · rw [ea_and16, f4] at z
      rw [ea_and32, f5] at z'
      exact ea_yvc R ha hj (fun _ y => absurd y z) (fun _ _ y => absurd y z') (fun _ _ _ => ⟨rfl, stay⟩) (fun y => absurd kx y)
  · exact ea_yvc R ha hj (fun y _ => absurd y kx) (fun y _ _ => absurd y kx) (fun y _ _ => absurd y kx) (fun _ => ⟨rfl, stay⟩)
theorem i_vc_countMarks {k : Nat} {u : SX} {v : SY} (I : i_Rel k u v) (hk : k + 4 ≤ 2049) (a0 : Int64) : wpX_countMarks (fun r => wpY_countMarks (fun r' => r' = r ∧ i_Rel (k + 4) u v) v a0) u a0 := by
  have stay := i_up I
  obtain ⟨cap, c, a, D, K, P, T, TY, M, S, rfl, rfl, hcap, ha, R, m⟩ := I
  exact ea_xcount (ea_ycount ⟨rfl, stay⟩)
end
