section
/-! rows pk_us .. pk_cl: pasted from kit/rows/PURE-ROWS -/
theorem pk_us {f : Nat → Int32} {k : Nat} {x : Int32} : upd f k x k = x := if_pos rfl
theorem pk_un {f : Nat → Int32} {k j : Nat} {x : Int32} (h : j ≠ k) : upd f k x j = f j := if_neg h
theorem pk_sub {a b : Nat} (h : b ≤ a) : nI a - nI b = nI (a - b) := by
  obtain ⟨c, rfl⟩ : ∃ c, a = c + b := ⟨a - b, by omega⟩
  rw [← nI_add, Int32.add_sub_cancel, Nat.add_sub_cancel]
theorem pk_m1 (n : Nat) : nI (n + 1) + (-1) = nI n := by
  rw [← nI_1, Int32.add_assoc, show (1 : Int32) + (-1) = 0 from rfl, Int32.add_zero]
theorem pk_mul (a b : Nat) : nI a * nI b = nI (a * b) := (Int32.ofNat_mul a b).symm
theorem pk_div {a d : Nat} (ha : a < 2 ^ 31) (h0 : 0 < d) (hd : d < 2 ^ 31) : nI a / nI d = nI (a / d) := by
  apply Int32.toInt_inj.mp
  rw [lg_idiv_nonneg (by rw [nI_toInt ha]; omega) (by rw [nI_toInt hd]; omega), nI_toInt ha, nI_toInt hd, nI_toInt (Nat.lt_of_le_of_lt (Nat.div_le_self a d) ha)]
  first | rfl | exact (Int.natCast_ediv _ _).symm
theorem pk_rem {a d : Nat} (ha : a < 2 ^ 31) (h0 : 0 < d) (hd : d < 2 ^ 31) : nI a - nI a / nI d * nI d = nI (a % d) := by
  rw [pk_div ha h0 hd, pk_mul, pk_sub (Nat.div_mul_le_self a d)]
  exact congrArg nI (by have := Nat.div_add_mod' a d; omega)
theorem pk_ix (x : Int32) {n : Nat} (hn : n < 2 ^ 31) : x < 0 ∨ nI n ≤ x ∨ ∃ j : Nat, j < n ∧ x = nI j := by
  by_cases h : x < 0
  · exact Or.inl h
  · obtain ⟨j, hj, rfl⟩ := nI_of h
    by_cases h2 : j < n
    · exact Or.inr (Or.inr ⟨j, h2, rfl⟩)
    · exact Or.inr (Or.inl (nI_le (by omega) hj))
theorem pk_le {x y : Int32} {A B : Prop} (a b : Nat) (f : a ≤ b → A) (g : b < a → B) (hx : x = nI a := by rfl) (hy : y = nI b := by rfl) (ha : a < 2 ^ 31 := by omega) (hb : b < 2 ^ 31 := by omega) : (x ≤ y → A) ∧ (¬ x ≤ y → B) := by
  subst hx hy
  rw [nI_leI ha hb]
  exact ⟨f, fun z => g (by omega)⟩
theorem pk_lt {x y : Int32} {A B : Prop} (a b : Nat) (f : a < b → A) (g : b ≤ a → B) (hx : x = nI a := by rfl) (hy : y = nI b := by rfl) (ha : a < 2 ^ 31 := by omega) (hb : b < 2 ^ 31 := by omega) : (x < y → A) ∧ (¬ x < y → B) := by
  subst hx hy
  rw [nI_ltI ha hb]
  exact ⟨f, fun z => g (by omega)⟩
theorem pk_eq {x y : Int32} {A B : Prop} (a b : Nat) (f : a = b → A) (g : a ≠ b → B) (hx : x = nI a := by rfl) (hy : y = nI b := by rfl) (ha : a < 2 ^ 31 := by omega) (hb : b < 2 ^ 31 := by omega) : (x = y → A) ∧ (¬ x = y → B) := by
  subst hx hy
  rw [nI_eq ha hb]
  exact ⟨f, g⟩
theorem pk_in {x : Int32} (n N : Nat) (h : n < N) (hx : x = nI n := by rfl) (hN : N < 2 ^ 31 := by omega) : vp_in x N := by
  subst hx
  exact vp_in_nI h hN
theorem pk_cl {x : Int32} (n : Nat) (hx : x = nI n := by rfl) (h : n < 2 ^ 31 := by omega) : x.toNatClampNeg = n := by
  subst hx
  exact nI_clamp h
/-! own basics -/
abbrev mv_En : Type := Int32 × Int32 × Int32 × Int32
abbrev mv_KV : Type := Int32 × Int32
def mv_lvb (x : mv_En) : Bool := decide (x.2.2.2 = 2147483647)
def mv_lvs (l : List mv_En) : List mv_En := l.filter mv_lvb
def mv_al (v : Int32) (x : mv_En) : Bool := decide (x.2.2.1 ≤ v) && decide (v < x.2.2.2)
def mv_alv (v : Int32) (l : List mv_En) : List mv_En := l.filter (mv_al v)
def mv_kv (x : mv_En) : mv_KV := (x.1, x.2.1)
def mv_gu (G : Nat → List mv_En) (n : Nat) (l : List mv_En) : Nat → List mv_En := fun m => if m = n then l else G m
theorem mv_gu_s {G : Nat → List mv_En} {n : Nat} {l : List mv_En} : mv_gu G n l n = l := if_pos rfl
theorem mv_gu_n {G : Nat → List mv_En} {n m : Nat} {l : List mv_En} (h : m ≠ n) : mv_gu G n l m = G m := if_neg h
/-- the five arrays of the entries hold the lists G -/
def mv_Rep (G : Nat → List mv_En) (us ke va bo di : Nat → Int32) : Prop :=
  ∀ n, n < 128 → (G n).length ≤ 12 ∧ us n = nI (G n).length ∧
    ∀ i x, (G n)[i]? = some x → ke (n * 12 + i) = x.1 ∧ va (n * 12 + i) = x.2.1 ∧ bo (n * 12 + i) = x.2.2.1 ∧ di (n * 12 + i) = x.2.2.2
theorem mv_n12 (n i : Nat) : nI n * 12 + nI i = nI (n * 12 + i) := by
  rw [← nI_add, ← pk_mul]; rfl
theorem mv_n120 (n : Nat) : nI n * 12 = nI (n * 12 + 0) := pk_mul n 12
theorem mv_hd {n i len : Nat} {us : Nat → Int32} {A B : Prop} (hn : n < 128) (hl : len ≤ 12) (hu : us n = nI len) (hi : i ≤ 12) (f : len ≤ i → A) (g : i < len → B) :
    vp_in (nI n) 128 ∧ ((nI n * 12 + us (nI n).toNatClampNeg ≤ nI (n * 12 + i) → A) ∧ (¬ nI n * 12 + us (nI n).toNatClampNeg ≤ nI (n * 12 + i) → B)) := by
  refine ⟨vp_in_nI hn (by decide), ?_⟩
  rw [nI_clamp (by omega), hu, mv_n12]
  exact pk_le (n * 12 + len) (n * 12 + i) (fun h => f (by omega)) (fun h => g (by omega))
theorem mv_ix {n i : Nat} (hn : n < 128) (hi : i < 12) : vp_in (nI (n * 12 + i)) 1536 := vp_in_nI (by omega) (by decide)
theorem mv_cl {n i : Nat} (hn : n < 128) (hi : i < 12) : (nI (n * 12 + i)).toNatClampNeg = n * 12 + i := nI_clamp (by omega)
theorem mv_s1 (n i : Nat) : nI (n * 12 + i) + 1 = nI (n * 12 + (i + 1)) := nI_1 (n * 12 + i)
theorem mv_lit {a : Int32} {b : Nat} (h : a = nI b) : a = nI b := h
theorem mv_get_lt {α : Type} {l : List α} {i : Nat} {x : α} (h : l[i]? = some x) : i < l.length := by
  rcases Nat.lt_or_ge i l.length with h1 | h1
  · exact h1
  · rw [List.getElem?_eq_none h1] at h; cases h
theorem mv_get_mem {α : Type} {l : List α} {i : Nat} {x : α} (h : l[i]? = some x) : x ∈ l := List.mem_of_getElem? h
/-- a loop over the entries of a node, with what has been passed as the measure -/
theorem mv_loop {σ α : Type} (l : List α) (W : Nat → Nat → σ → Prop) (I : List α → σ → Prop)
    (hx : ∀ n s, I l s → W (n + 1) l.length s)
    (hs : ∀ n p x q s, l = p ++ x :: q → l[p.length]? = some x → I p s → (∀ s', I (p ++ [x]) s' → W n (p.length + 1) s') → W (n + 1) p.length s)
    (s : σ) (h0 : I [] s) : W (l.length + 1) 0 s := by
  have H : ∀ q p s n, l = p ++ q → I p s → q.length < n → W n p.length s := by
    intro q
    induction q with
    | nil =>
      intro p s n hl hI hn
      obtain ⟨m, rfl⟩ : ∃ m, n = m + 1 := ⟨n - 1, by omega⟩
      rw [List.append_nil] at hl
      subst hl
      exact hx m s hI
    | cons x q ih =>
      intro p s n hl hI hn
      obtain ⟨m, rfl⟩ : ∃ m, n = m + 1 := ⟨n - 1, by omega⟩
      refine hs m p x q s hl ?_ hI ?_
      · rw [hl]; simp
      · intro s' hI'
        have := ih (p ++ [x]) s' m (by rw [hl]; simp) hI' (by simp at hn; omega)
        simpa using this
  exact H l [] s _ rfl h0 (Nat.lt_succ_self _)
theorem mv_i32le {a b : Int32} : a ≤ b ↔ a.toInt ≤ b.toInt := Int32.le_iff_toInt_le
theorem mv_i32lt {a b : Int32} : a < b ↔ a.toInt < b.toInt := Int32.lt_iff_toInt_lt
theorem mv_i32eq {a b : Int32} : a = b ↔ a.toInt = b.toInt := Int32.toInt_inj.symm
theorem mv_t1 : (-2000 : Int32).toInt = -2000 := by decide
theorem mv_t2 : (-2001 : Int32).toInt = -2001 := by decide
theorem mv_t3 : (-1000 : Int32).toInt = -1000 := by decide
theorem mv_t4 : (1000 : Int32).toInt = 1000 := by decide
theorem mv_t5 : (100000 : Int32).toInt = 100000 := by decide
theorem mv_t6 : (2147483647 : Int32).toInt = 2147483647 := by decide
theorem mv_t7 : (0 : Int32).toInt = 0 := by decide
theorem mv_t8 : (1 : Int32).toInt = 1 := by decide
theorem mv_t9 : (-1 : Int32).toInt = -1 := by decide
theorem mv_nar1 : vp_nar .boolean 1 = 1 := by decide
theorem mv_nar0 : vp_nar .boolean 0 = 0 := by decide
theorem mv_sub1 (x : Int32) (h : -2000 ≤ x) : (x - 1).toInt = x.toInt - 1 := by
  have h1 : -2000 ≤ x.toInt := by rw [mv_i32le, mv_t1] at h; exact h
  have h2 := x.toInt_lt
  rw [Int32.toInt_sub, mv_t8]
  exact Int.bmod_eq_of_le (by omega) (by omega)
theorem mv_irr (a : Int32) : ¬ a < a := Int32.lt_irrefl
end
section
/-! plain lists: sorted insertion into cells, routing tables -/
def mv_Srt (l : List mv_KV) : Prop := l.Pairwise (fun a b => a.1 < b.1)
def mv_Dis (l : List mv_KV) : Prop := l.Pairwise (fun a b => a.1 ≠ b.1)
theorem mv_lt_ne {a b : Int32} (h : a < b) : a ≠ b := by
  intro e; rw [e] at h; exact mv_irr _ h
theorem mv_srt_dis {l : List mv_KV} (h : mv_Srt l) : mv_Dis l := List.Pairwise.imp (fun h => mv_lt_ne h) h
theorem mv_dis_perm {l l' : List mv_KV} (p : l.Perm l') (h : mv_Dis l) : mv_Dis l' :=
  (p.pairwise_iff (fun h e => h e.symm)).mp h
/-- the cells from b on hold the list -/
def mv_WL (wk wv : Nat → Int32) (b : Nat) (l : List mv_KV) : Prop := ∀ i x, l[i]? = some x → wk (b + i) = x.1 ∧ wv (b + i) = x.2
def mv_SH (wk wv : Nat → Int32) (b : Nat) (l : List mv_KV) (j : Nat) : Prop :=
  (∀ i x, i < j → l[i]? = some x → wk (b + i) = x.1 ∧ wv (b + i) = x.2) ∧ (∀ i x, j ≤ i → l[i]? = some x → wk (b + i + 1) = x.1 ∧ wv (b + i + 1) = x.2)
theorem mv_sh0 {wk wv : Nat → Int32} {b : Nat} {l : List mv_KV} (h : mv_WL wk wv b l) : mv_SH wk wv b l l.length :=
  ⟨fun i x _ hx => h i x hx, fun i x hi hx => absurd (mv_get_lt hx) (by omega)⟩
theorem mv_sh1 {wk wv : Nat → Int32} {b j : Nat} {l : List mv_KV} (h : mv_SH wk wv b l (j + 1)) :
    mv_SH (upd wk (b + (j + 1)) (wk (b + j))) (upd wv (b + (j + 1)) (wv (b + j))) b l j := by
  refine ⟨fun i x hi hx => ?_, fun i x hi hx => ?_⟩
  · rw [pk_un (by omega), pk_un (by omega)]; exact h.1 i x (by omega) hx
  · by_cases e : i = j
    · subst e; rw [Nat.add_assoc, pk_us, pk_us]; exact h.1 i x (by omega) hx
    · rw [pk_un (by omega), pk_un (by omega)]; exact h.2 i x (by omega) hx
theorem mv_ins_get {α : Type} (l : List α) (j : Nat) (y : α) (hj : j ≤ l.length) (i : Nat) :
    (l.take j ++ y :: l.drop j)[i]? = if i < j then l[i]? else if i = j then some y else l[i - 1]? := by
  have e : (l.take j).length = j := by rw [List.length_take]; omega
  rw [List.getElem?_append, e]
  by_cases h : i < j
  · rw [if_pos h, if_pos h, List.getElem?_take, if_pos h]
  · rw [if_neg h, if_neg h]
    by_cases h2 : i = j
    · subst h2; simp
    · obtain ⟨m, rfl⟩ : ∃ m, i = j + 1 + m := ⟨i - j - 1, by omega⟩
      have e2 : j + 1 + m - j = m + 1 := by omega
      rw [e2, List.getElem?_cons_succ, List.getElem?_drop, if_neg h2]
      congr 1; omega
theorem mv_sh2 {wk wv : Nat → Int32} {b j : Nat} {l : List mv_KV} {k v : Int32} (h : mv_SH wk wv b l j) (hj : j ≤ l.length) :
    mv_WL (upd wk (b + j) k) (upd wv (b + j) v) b (l.take j ++ (k, v) :: l.drop j) := by
  intro i x hx
  rw [mv_ins_get l j (k, v) hj] at hx
  by_cases h1 : i < j
  · rw [if_pos h1] at hx
    rw [pk_un (by omega), pk_un (by omega)]; exact h.1 i x h1 hx
  · rw [if_neg h1] at hx
    by_cases h2 : i = j
    · subst h2
      rw [if_pos rfl] at hx
      cases hx
      exact ⟨pk_us, pk_us⟩
    · rw [if_neg h2] at hx
      have := h.2 (i - 1) x (by omega) hx
      have e : b + (i - 1) + 1 = b + i := by omega
      rw [e] at this
      rw [pk_un (by omega), pk_un (by omega)]; exact this
theorem mv_ins_perm {α : Type} (l : List α) (j : Nat) (y : α) : (l.take j ++ y :: l.drop j).Perm (y :: l) := by
  have := @List.perm_middle α y (l.take j) (l.drop j)
  rwa [List.take_append_drop] at this
theorem mv_ins_srt {l : List mv_KV} {k v : Int32} {j : Nat} (hs : mv_Srt l) (hk : ∀ x ∈ l, x.1 ≠ k)
    (hd : ∀ i x, j ≤ i → l[i]? = some x → k < x.1) (ht : j = 0 ∨ ∃ x, l[j - 1]? = some x ∧ x.1 ≤ k) :
    mv_Srt (l.take j ++ (k, v) :: l.drop j) := by
  unfold mv_Srt at *
  have hd' : ∀ x ∈ l.drop j, k < x.1 := by
    intro x hx
    obtain ⟨i, hi⟩ := List.mem_iff_getElem?.mp hx
    rw [List.getElem?_drop] at hi
    exact hd _ x (Nat.le_add_right _ _) hi
  have ht' : ∀ x ∈ l.take j, x.1 < k := by
    intro x hx
    have hx' : x ∈ l := List.mem_of_mem_take hx
    have hne := hk x hx'
    rcases ht with rfl | ⟨y, hy, hyk⟩
    · rw [List.take_zero] at hx; exact absurd hx List.not_mem_nil
    · rcases Nat.eq_zero_or_pos j with rfl | hj
      · rw [List.take_zero] at hx; exact absurd hx List.not_mem_nil
      · obtain ⟨i, hi⟩ := List.mem_iff_getElem?.mp hx
        rw [List.getElem?_take] at hi
        have hij : i < j := by
          by_cases c : i < j
          · exact c
          · rw [if_neg c] at hi; cases hi
        rw [if_pos hij] at hi
        have hle : x.1 ≤ y.1 := by
          by_cases c : i = j - 1
          · rw [← c, hi] at hy; cases hy; exact Int32.le_refl _
          · have h1 := mv_get_lt hi
            have h2 := mv_get_lt hy
            have := List.pairwise_iff_getElem.mp hs i (j - 1) h1 h2 (by omega)
            rw [List.getElem?_eq_getElem h1] at hi
            rw [List.getElem?_eq_getElem h2] at hy
            cases hi; cases hy
            exact Int32.le_of_lt this
        rw [mv_i32le] at hle hyk
        rw [ne_eq, mv_i32eq] at hne
        rw [mv_i32lt]
        omega
  rw [List.pairwise_append]
  refine ⟨hs.take, List.pairwise_cons.mpr ⟨fun x hx => hd' x hx, hs.drop⟩, ?_⟩
  intro a ha b hb
  rcases List.mem_cons.mp hb with rfl | hb
  · exact ht' a ha
  · exact Int32.lt_trans (ht' a ha) (hd' b hb)
/-- a routing table: lowest keys with the contents below them -/
def mv_RT (T : List (Int32 × List mv_KV)) : Prop :=
  (∃ c, ((-2000 : Int32), c) ∈ T) ∧ T.Pairwise (fun p q => p.1 ≠ q.1) ∧
    ∀ p ∈ T, -2000 ≤ p.1 ∧ p.1 ≤ 1000 ∧ mv_Dis p.2 ∧ ∀ x ∈ p.2, p.1 ≤ x.1 ∧ -1000 ≤ x.1 ∧ x.1 ≤ 1000 ∧ ∀ q ∈ T, p.1 < q.1 → x.1 < q.1
theorem mv_pw_inj {α β : Type} {f : α → β} : ∀ {l : List α}, l.Pairwise (fun a b => f a ≠ f b) → ∀ {a b : α}, a ∈ l → b ∈ l → f a = f b → a = b := by
  intro l
  induction l with
  | nil => intro _ a b ha; exact absurd ha List.not_mem_nil
  | cons y l ih =>
    intro h a b ha hb e
    rw [List.pairwise_cons] at h
    rcases List.mem_cons.mp ha with h1 | h1
    · rcases List.mem_cons.mp hb with h2 | h2
      · rw [h1, h2]
      · rw [h1] at e; exact absurd e (h.1 b h2)
    · rcases List.mem_cons.mp hb with h2 | h2
      · rw [h2] at e; exact absurd e.symm (h.1 a h1)
      · exact ih h.2 h1 h2 e
theorem mv_RT_perm {T T' : List (Int32 × List mv_KV)} (p : T.Perm T') (h : mv_RT T) : mv_RT T' := by
  obtain ⟨⟨c, h1⟩, h2, h3⟩ := h
  refine ⟨⟨c, p.mem_iff.mp h1⟩, (p.pairwise_iff (fun h e => h e.symm)).mp h2, fun q hq => ?_⟩
  obtain ⟨a1, a2, a3, a4⟩ := h3 q (p.mem_iff.mpr hq)
  refine ⟨a1, a2, a3, fun x hx => ?_⟩
  obtain ⟨b1, b2, b3, b4⟩ := a4 x hx
  exact ⟨b1, b2, b3, fun t ht => b4 t (p.mem_iff.mpr ht)⟩
theorem mv_RT_rep {r : Int32} {c c' : List mv_KV} {R : List (Int32 × List mv_KV)} (h : mv_RT ((r, c) :: R)) (hd : mv_Dis c')
    (hx : ∀ x ∈ c', r ≤ x.1 ∧ -1000 ≤ x.1 ∧ x.1 ≤ 1000 ∧ ∀ q ∈ R, r < q.1 → x.1 < q.1) : mv_RT ((r, c') :: R) := by
  obtain ⟨⟨c0, h1⟩, h2, h3⟩ := h
  rw [List.pairwise_cons] at h2
  refine ⟨?_, ?_, ?_⟩
  · rcases List.mem_cons.mp h1 with e | h
    · rw [Prod.mk.injEq] at e
      exact ⟨c', by rw [e.1]; exact List.mem_cons_self⟩
    · exact ⟨c0, List.mem_cons_of_mem _ h⟩
  · exact List.pairwise_cons.mpr ⟨fun q hq => h2.1 q hq, h2.2⟩
  · intro p hp
    rcases List.mem_cons.mp hp with rfl | hp
    · obtain ⟨a1, a2, _, _⟩ := h3 (r, c) List.mem_cons_self
      refine ⟨a1, a2, hd, fun x hxx => ?_⟩
      obtain ⟨b1, b2, b3, b4⟩ := hx x hxx
      refine ⟨b1, b2, b3, fun q hq hlt => ?_⟩
      rcases List.mem_cons.mp hq with rfl | hq
      · exact absurd hlt (mv_irr _)
      · exact b4 q hq hlt
    · obtain ⟨a1, a2, a3, a4⟩ := h3 p (List.mem_cons_of_mem _ hp)
      refine ⟨a1, a2, a3, fun x hxx => ?_⟩
      obtain ⟨b1, b2, b3, b4⟩ := a4 x hxx
      refine ⟨b1, b2, b3, fun q hq hlt => ?_⟩
      rcases List.mem_cons.mp hq with rfl | hq
      · exact b4 (r, c) List.mem_cons_self hlt
      · exact b4 q (List.mem_cons_of_mem _ hq) hlt
theorem mv_RT_merge {r r' : Int32} {c c' m : List mv_KV} {R : List (Int32 × List mv_KV)} (h : mv_RT ((r, c) :: (r', c') :: R))
    (hlt : r < r') (hadj : ∀ q ∈ R, r < q.1 → q.1 < r' → False) (hm : m.Perm (c ++ c')) : mv_RT ((r, m) :: R) := by
  obtain ⟨⟨c0, h1⟩, h2, h3⟩ := h
  rw [List.pairwise_cons, List.pairwise_cons] at h2
  obtain ⟨g1, g2, g3⟩ := h2
  have A := h3 (r, c) List.mem_cons_self
  have B := h3 (r', c') (List.mem_cons_of_mem _ List.mem_cons_self)
  refine ⟨?_, ?_, ?_⟩
  · rcases List.mem_cons.mp h1 with e | h
    · rw [Prod.mk.injEq] at e
      exact ⟨m, by rw [e.1]; exact List.mem_cons_self⟩
    · rcases List.mem_cons.mp h with e | h
      · exfalso
        rw [Prod.mk.injEq] at e
        have a1 : -2000 ≤ r := A.1
        have e1 := e.1
        rw [← e1] at hlt
        rw [mv_i32le] at a1
        rw [mv_i32lt] at hlt
        omega
      · exact ⟨c0, List.mem_cons_of_mem _ h⟩
  · exact List.pairwise_cons.mpr ⟨fun q hq => g1 q (List.mem_cons_of_mem _ hq), g3⟩
  · intro p hp
    rcases List.mem_cons.mp hp with rfl | hp
    · refine ⟨A.1, A.2.1, ?_, fun x hxx => ?_⟩
      · refine mv_dis_perm hm.symm ?_
        refine List.pairwise_append.mpr ⟨A.2.2.1, B.2.2.1, fun x hx y hy => ?_⟩
        have h4 := (A.2.2.2 x hx).2.2.2 (r', c') (List.mem_cons_of_mem _ List.mem_cons_self) hlt
        have h5 := (B.2.2.2 y hy).1
        exact mv_lt_ne (Int32.lt_of_lt_of_le h4 h5)
      · rcases List.mem_append.mp (hm.mem_iff.mp hxx) with hx | hx
        · obtain ⟨b1, b2, b3, b4⟩ := A.2.2.2 x hx
          refine ⟨b1, b2, b3, fun q hq hlq => ?_⟩
          rcases List.mem_cons.mp hq with rfl | hq
          · exact absurd hlq (mv_irr _)
          · exact b4 q (List.mem_cons_of_mem _ (List.mem_cons_of_mem _ hq)) hlq
        · obtain ⟨b1, b2, b3, b4⟩ := B.2.2.2 x hx
          refine ⟨Int32.le_of_lt (Int32.lt_of_lt_of_le hlt b1), b2, b3, fun q hq hlq => ?_⟩
          rcases List.mem_cons.mp hq with rfl | hq
          · exact absurd hlq (mv_irr _)
          · refine b4 q (List.mem_cons_of_mem _ (List.mem_cons_of_mem _ hq)) ?_
            have n1 : ¬ q.1 < r' := hadj q hq hlq
            have n2 : r' ≠ q.1 := g2 q hq
            show r' < q.1
            rw [ne_eq, mv_i32eq] at n2
            rw [mv_i32lt] at n1 ⊢
            omega
    · obtain ⟨a1, a2, a3, a4⟩ := h3 p (List.mem_cons_of_mem _ (List.mem_cons_of_mem _ hp))
      refine ⟨a1, a2, a3, fun x hxx => ?_⟩
      obtain ⟨b1, b2, b3, b4⟩ := a4 x hxx
      refine ⟨b1, b2, b3, fun q hq hlq => ?_⟩
      rcases List.mem_cons.mp hq with rfl | hq
      · exact b4 (r, c) List.mem_cons_self hlq
      · exact b4 q (List.mem_cons_of_mem _ (List.mem_cons_of_mem _ hq)) hlq
theorem mv_RT_split {r k1 : Int32} {s0 s1 : List mv_KV} {R : List (Int32 × List mv_KV)} (h : mv_RT ((r, s0 ++ s1) :: R))
    (h0 : s0 ≠ []) (hc : ∀ x ∈ s0, x.1 < k1) (hge : ∀ y ∈ s1, k1 ≤ y.1) (hk : ∃ y ∈ s1, y.1 = k1) : mv_RT ((r, s0) :: (k1, s1) :: R) := by
  obtain ⟨⟨c0, h1⟩, h2, h3⟩ := h
  rw [List.pairwise_cons] at h2
  obtain ⟨g1, g3⟩ := h2
  have A := h3 (r, s0 ++ s1) List.mem_cons_self
  obtain ⟨y, hy, rfl⟩ := hk
  have Y := A.2.2.2 y (List.mem_append_right _ hy)
  obtain ⟨z, hz⟩ := List.exists_mem_of_ne_nil s0 h0
  have Z := A.2.2.2 z (List.mem_append_left _ hz)
  have hrk : r < y.1 := Int32.lt_of_le_of_lt Z.1 (hc z hz)
  have D := List.pairwise_append.mp A.2.2.1
  have hfar : ∀ q ∈ R, y.1 < q.1 ∨ q.1 < r := by
    intro q hq
    have n := g1 q hq
    have t := Y.2.2.2 q (List.mem_cons_of_mem _ hq)
    rw [ne_eq, mv_i32eq] at n
    simp only [mv_i32lt] at t ⊢
    have n' : ¬ r.toInt = q.1.toInt := n
    have t' : r.toInt < q.1.toInt → y.1.toInt < q.1.toInt := t
    omega
  refine ⟨?_, ?_, ?_⟩
  · rcases List.mem_cons.mp h1 with e | h
    · rw [Prod.mk.injEq] at e
      exact ⟨s0, by rw [e.1]; exact List.mem_cons_self⟩
    · exact ⟨c0, List.mem_cons_of_mem _ (List.mem_cons_of_mem _ h)⟩
  · refine List.pairwise_cons.mpr ⟨fun q hq => ?_, List.pairwise_cons.mpr ⟨fun q hq => ?_, g3⟩⟩
    · rcases List.mem_cons.mp hq with rfl | hq
      · exact mv_lt_ne hrk
      · exact g1 q hq
    · rcases hfar q hq with t | t
      · exact mv_lt_ne t
      · exact (mv_lt_ne (Int32.lt_trans t hrk)).symm
  · intro p hp
    rcases List.mem_cons.mp hp with rfl | hp
    · refine ⟨A.1, A.2.1, D.1, fun x hxx => ?_⟩
      obtain ⟨b1, b2, b3, b4⟩ := A.2.2.2 x (List.mem_append_left _ hxx)
      refine ⟨b1, b2, b3, fun q hq hlq => ?_⟩
      rcases List.mem_cons.mp hq with rfl | hq
      · exact absurd hlq (mv_irr _)
      · rcases List.mem_cons.mp hq with rfl | hq
        · exact hc x hxx
        · exact b4 q (List.mem_cons_of_mem _ hq) hlq
    · rcases List.mem_cons.mp hp with rfl | hp
      · refine ⟨Int32.le_trans A.1 (Int32.le_of_lt hrk), Y.2.2.1, D.2.1, fun x hxx => ?_⟩
        obtain ⟨b1, b2, b3, b4⟩ := A.2.2.2 x (List.mem_append_right _ hxx)
        refine ⟨hge x hxx, b2, b3, fun q hq hlq => ?_⟩
        rcases List.mem_cons.mp hq with rfl | hq
        · exact absurd (Int32.lt_trans hlq hrk) (mv_irr _)
        · rcases List.mem_cons.mp hq with rfl | hq
          · exact absurd hlq (mv_irr _)
          · exact b4 q (List.mem_cons_of_mem _ hq) (Int32.lt_trans hrk hlq)
      · obtain ⟨a1, a2, a3, a4⟩ := h3 p (List.mem_cons_of_mem _ hp)
        refine ⟨a1, a2, a3, fun x hxx => ?_⟩
        obtain ⟨b1, b2, b3, b4⟩ := a4 x hxx
        refine ⟨b1, b2, b3, fun q hq hlq => ?_⟩
        rcases List.mem_cons.mp hq with rfl | hq
        · exact b4 (r, s0 ++ s1) List.mem_cons_self hlq
        · rcases List.mem_cons.mp hq with rfl | hq
          · rcases hfar p hp with t | t
            · exact absurd (Int32.lt_trans t hlq) (mv_irr _)
            · exact Int32.lt_trans (b4 (r, s0 ++ s1) List.mem_cons_self t) hrk
          · exact b4 q (List.mem_cons_of_mem _ hq) hlq
theorem mv_RT_dis {T : List (Int32 × List mv_KV)} (h : mv_RT T) : mv_Dis (T.flatMap (fun p => p.2)) := by
  obtain ⟨_, h2, h3⟩ := h
  refine List.pairwise_flatMap.mpr ⟨fun p hp => (h3 p hp).2.2.1, ?_⟩
  refine List.Pairwise.imp_of_mem ?_ h2
  intro p q hp hq hne x hx y hy e
  have X := (h3 p hp).2.2.2 x hx
  have Y := (h3 q hq).2.2.2 y hy
  have X4 := X.2.2.2 q hq
  have Y4 := Y.2.2.2 p hp
  have X1 := X.1
  have Y1 := Y.1
  rw [mv_i32eq] at e
  rw [ne_eq, mv_i32eq] at hne
  rw [mv_i32le] at X1 Y1
  simp only [mv_i32lt] at X4 Y4
  omega
theorem mv_RT_find {T : List (Int32 × List mv_KV)} (h : mv_RT T) {p : Int32 × List mv_KV} {k : Int32} (hp : p ∈ T) (hk : p.1 ≤ k)
    (hmax : ∀ q ∈ T, q.1 ≤ k → q.1 ≤ p.1) {x : mv_KV} (hx : x ∈ T.flatMap (fun p => p.2)) (e : x.1 = k) : x ∈ p.2 := by
  obtain ⟨_, h2, h3⟩ := h
  obtain ⟨q, hq, hxq⟩ := List.mem_flatMap.mp hx
  have X := (h3 q hq).2.2.2 x hxq
  have q1 := hmax q hq (e ▸ X.1)
  have X4 := X.2.2.2 p hp
  have : q.1 = p.1 := by
    rw [mv_i32eq] at e ⊢
    rw [mv_i32le] at hk q1
    simp only [mv_i32lt] at X4
    omega
  rw [← mv_pw_inj (f := fun p : Int32 × List mv_KV => p.1) h2 hq hp this]
  exact hxq
theorem mv_lvs_t {p : List mv_En} {x : mv_En} (h : x.2.2.2 = 2147483647) : mv_lvs (p ++ [x]) = mv_lvs p ++ [x] := by
  have : mv_lvb x = true := decide_eq_true h
  unfold mv_lvs; rw [List.filter_append, List.filter_cons_of_pos this]; rfl
theorem mv_lvs_f {p : List mv_En} {x : mv_En} (h : ¬ x.2.2.2 = 2147483647) : mv_lvs (p ++ [x]) = mv_lvs p := by
  have : ¬ mv_lvb x = true := fun c => h (of_decide_eq_true c)
  unfold mv_lvs; rw [List.filter_append, List.filter_cons_of_neg this]; simp
theorem mv_alv_t {v : Int32} {p : List mv_En} {x : mv_En} (h : mv_al v x = true) : mv_alv v (p ++ [x]) = mv_alv v p ++ [x] := by
  unfold mv_alv; rw [List.filter_append, List.filter_cons_of_pos h]; rfl
theorem mv_alv_f {v : Int32} {p : List mv_En} {x : mv_En} (h : mv_al v x = false) : mv_alv v (p ++ [x]) = mv_alv v p := by
  have : ¬ mv_al v x = true := by rw [h]; decide
  unfold mv_alv; rw [List.filter_append, List.filter_cons_of_neg this]; simp
theorem mv_mem_snoc {α : Type} {p : List α} {x y : α} (h : y ∈ p ++ [x]) : y ∈ p ∨ y = x := by
  rcases List.mem_append.mp h with h | h
  · exact Or.inl h
  · exact Or.inr (List.mem_singleton.mp h)
theorem mv_get_snoc {α : Type} {p : List α} {x : α} {i : Nat} {y : α} (h : p[i]? = some y) : (p ++ [x])[i]? = some y := by
  rw [List.getElem?_append_left (mv_get_lt h)]; exact h
theorem mv_get_end {α : Type} {p : List α} {x : α} : (p ++ [x])[p.length]? = some x := by simp
end
section
/-! walks of X's small reading methods over a node's list -/
section
variable {f_now f_first f_keys f_depth f_pending f_work : Int32} {a_rootAt a_inUse a_leaf a_used a_nodeDied a_key a_val a_born a_died a_pathNode a_pathEntry a_pendKey a_pendVal a_workKey a_workVal a_foundKey a_foundVal a_stack : Nat → Int32} {G : Nat → List mv_En} {n : Nat} {post : Int32 → Prop} {k v low : Int32}
theorem mx_aliveAt {e : Nat} {x : mv_En} (he : e < 1536) (hb : a_born e = x.2.2.1) (hd : a_died e = x.2.2.2)
    (h0 : mv_al v x = false → post 0) (h1 : mv_al v x = true → post 1) : wpX_aliveAt post (f_now, f_first, f_keys, f_depth, f_pending, f_work, a_rootAt, a_inUse, a_leaf, a_used, a_nodeDied, a_key, a_val, a_born, a_died, a_pathNode, a_pathEntry, a_pendKey, a_pendVal, a_workKey, a_workVal, a_foundKey, a_foundVal, a_stack) (nI e) v := by
  have hi : vp_in (nI e) 1536 := vp_in_nI he (by decide)
  have hc : (nI e).toNatClampNeg = e := nI_clamp (by omega)
  unfold wpX_aliveAt
  dsimp only
  rw [hc, hb, hd]
  refine And.intro hi (br_c (fun h => h0 ?_) (fun h => And.intro hi (br_c (fun h' => h0 ?_) (fun h' => h1 ?_))))
  · unfold mv_al; rw [decide_eq_false (Int32.not_le.mpr h)]; rfl
  · unfold mv_al; rw [decide_eq_false (Int32.not_lt.mpr h'), Bool.and_false]
  · unfold mv_al; rw [decide_eq_true (Int32.not_lt.mp h), decide_eq_true (Int32.not_le.mp h')]; rfl
theorem mx_liveEntries (hR : mv_Rep G a_used a_key a_val a_born a_died) (hn : n < 128) (hp : post (nI (mv_lvs (G n)).length)) :
    wpX_liveEntries post (f_now, f_first, f_keys, f_depth, f_pending, f_work, a_rootAt, a_inUse, a_leaf, a_used, a_nodeDied, a_key, a_val, a_born, a_died, a_pathNode, a_pathEntry, a_pendKey, a_pendVal, a_workKey, a_workVal, a_foundKey, a_foundVal, a_stack) (nI n) := by
  obtain ⟨hl, hu, hg⟩ := hR n hn
  intro x0 e0
  subst e0
  rw [mv_n120]
  refine ⟨_, mv_loop (G n) (fun m i (s : Nat) => wX_liveEntries_7 post (nI n) f_now f_first f_keys f_depth f_pending f_work a_rootAt a_inUse a_leaf a_used a_nodeDied a_key a_val a_born a_died a_pathNode a_pathEntry a_pendKey a_pendVal a_workKey a_workVal a_foundKey a_foundVal a_stack m (nI s) (nI (n * 12 + i))) (fun p s => s = (mv_lvs p).length) ?_ ?_ 0 rfl⟩
  · intro m s hs
    exact mv_hd hn hl hu hl (fun _ => hs ▸ hp) (fun h => absurd h (Nat.lt_irrefl _))
  · intro m p x q s hl' hx hs ih
    have hi := mv_get_lt hx
    obtain ⟨hk, hv, hb, hd⟩ := hg _ _ hx
    refine mv_hd hn hl hu (by omega) (fun h => absurd h (by omega)) (fun _ => And.intro (mv_ix hn (by omega)) ?_)
    rw [mv_cl hn (by omega), hd]
    refine br_c (fun h => nm_r (nI_1 s) (nm_r (mv_s1 n _) (ih (s + 1) ?_))) (fun h => nm_r (mv_s1 n _) (ih s ?_))
    · rw [mv_lvs_t h, List.length_append, hs]; rfl
    · rw [mv_lvs_f h, hs]
theorem mx_liveKey (hR : mv_Rep G a_used a_key a_val a_born a_died) (hn : n < 128)
    (h0 : (∀ x ∈ G n, mv_lvb x = true → x.1 ≠ k) → post (-1))
    (h1 : ∀ i x, (G n)[i]? = some x → mv_lvb x = true → x.1 = k → post (nI (n * 12 + i))) : wpX_liveKey post (f_now, f_first, f_keys, f_depth, f_pending, f_work, a_rootAt, a_inUse, a_leaf, a_used, a_nodeDied, a_key, a_val, a_born, a_died, a_pathNode, a_pathEntry, a_pendKey, a_pendVal, a_workKey, a_workVal, a_foundKey, a_foundVal, a_stack) (nI n) k := by
  obtain ⟨hl, hu, hg⟩ := hR n hn
  intro x0 e0
  subst e0
  rw [mv_n120]
  refine ⟨_, mv_loop (G n) (fun m i (s : Unit) => wX_liveKey_5 post (nI n) k f_now f_first f_keys f_depth f_pending f_work a_rootAt a_inUse a_leaf a_used a_nodeDied a_key a_val a_born a_died a_pathNode a_pathEntry a_pendKey a_pendVal a_workKey a_workVal a_foundKey a_foundVal a_stack m (nI (n * 12 + i))) (fun p s => ∀ x ∈ p, mv_lvb x = true → x.1 ≠ k) ?_ ?_ () (fun x hx => absurd hx List.not_mem_nil)⟩
  · intro m s hs
    exact mv_hd hn hl hu hl (fun _ => h0 hs) (fun h => absurd h (Nat.lt_irrefl _))
  · intro m p x q s hl' hx hs ih
    have hi := mv_get_lt hx
    obtain ⟨hk, hv, hb, hd⟩ := hg _ _ hx
    refine mv_hd hn hl hu (by omega) (fun h => absurd h (by omega)) (fun _ => And.intro (mv_ix hn (by omega)) ?_)
    rw [mv_cl hn (by omega), hd, hk]
    refine br_c (fun h => And.intro (mv_ix hn (by omega)) (br_c (fun h2 => h1 _ x hx (decide_eq_true h) h2) (fun h2 => nm_r (mv_s1 n _) (ih () ?_)))) (fun h => nm_r (mv_s1 n _) (ih () ?_))
    · intro y hy hb
      rcases mv_mem_snoc hy with hy | rfl
      · exact hs y hy hb
      · exact h2
    · intro y hy hlb
      rcases mv_mem_snoc hy with hy | rfl
      · exact hs y hy hlb
      · exact absurd (of_decide_eq_true hlb) h
/-- what childEntry's loop holds behind the entries p -/
def mv_CE (n : Nat) (v k : Int32) (p : List mv_En) (s : Nat × Int32) : Prop :=
  (s.2 = -2001 ∧ ∀ y ∈ p, mv_al v y = true → y.1 ≤ k → y.1 ≤ -2001) ∨
    ∃ i x, s.1 = n * 12 + i ∧ p[i]? = some x ∧ s.2 = x.1 ∧ mv_al v x = true ∧ x.1 ≤ k ∧ ∀ y ∈ p, mv_al v y = true → y.1 ≤ k → y.1 ≤ x.1
theorem mv_CE_keep {p : List mv_En} {x : mv_En} {s : Nat × Int32} (h : mv_CE n v k p s) (hx : mv_al v x = true → x.1 ≤ k → x.1 ≤ s.2) :
    mv_CE n v k (p ++ [x]) s := by
  rcases h with ⟨h1, h2⟩ | ⟨i, y, h1, h2, h3, h4, h5, h6⟩
  · refine Or.inl ⟨h1, fun y hy ha hk => ?_⟩
    rcases mv_mem_snoc hy with hy | rfl
    · exact h2 y hy ha hk
    · rw [← h1]; exact hx ha hk
  · refine Or.inr ⟨i, y, h1, mv_get_snoc h2, h3, h4, h5, fun z hz ha hk => ?_⟩
    rcases mv_mem_snoc hz with hz | rfl
    · exact h6 z hz ha hk
    · rw [← h3]; exact hx ha hk
theorem mv_CE_new {p : List mv_En} {x : mv_En} {s : Nat × Int32} (h : mv_CE n v k p s) (ha : mv_al v x = true) (hk : x.1 ≤ k) (hs : ¬ x.1 ≤ s.2) :
    mv_CE n v k (p ++ [x]) (n * 12 + p.length, x.1) := by
  have hs' : s.2 ≤ x.1 := Int32.le_of_lt (Int32.not_le.mp hs)
  refine Or.inr ⟨p.length, x, rfl, mv_get_end, rfl, ha, hk, fun z hz ha' hk' => ?_⟩
  rcases mv_mem_snoc hz with hz | rfl
  · rcases h with ⟨h1, h2⟩ | ⟨i, y, h1, h2, h3, h4, h5, h6⟩
    · exact Int32.le_trans (h2 z hz ha' hk') (h1 ▸ hs')
    · exact Int32.le_trans (h6 z hz ha' hk') (h3 ▸ hs')
  · exact Int32.le_refl _
theorem mx_childEntry (hR : mv_Rep G a_used a_key a_val a_born a_died) (hn : n < 128)
    (hex : ∃ x ∈ G n, mv_al v x = true ∧ x.1 ≤ k ∧ (-2001 : Int32) < x.1)
    (hp : ∀ i x, (G n)[i]? = some x → mv_al v x = true → x.1 ≤ k → (∀ y ∈ G n, mv_al v y = true → y.1 ≤ k → y.1 ≤ x.1) → post (nI (n * 12 + i))) :
    wpX_childEntry post (f_now, f_first, f_keys, f_depth, f_pending, f_work, a_rootAt, a_inUse, a_leaf, a_used, a_nodeDied, a_key, a_val, a_born, a_died, a_pathNode, a_pathEntry, a_pendKey, a_pendVal, a_workKey, a_workVal, a_foundKey, a_foundVal, a_stack) (nI n) k v := by
  obtain ⟨hl, hu, hg⟩ := hR n hn
  intro x4 e4 x6 e6
  subst e4 e6
  rw [mv_n120]
  refine ⟨_, mv_loop (G n) (fun m i (s : Nat × Int32) => wX_childEntry_17 post (nI n) k v f_now f_first f_keys f_depth f_pending f_work a_rootAt a_inUse a_leaf a_used a_nodeDied a_key a_val a_born a_died a_pathNode a_pathEntry a_pendKey a_pendVal a_workKey a_workVal a_foundKey a_foundVal a_stack m (nI s.1) s.2 (nI (n * 12 + i))) (fun p s => mv_CE n v k p s) ?_ ?_ (n * 12 + 0, -2001) (Or.inl ⟨rfl, fun y hy => absurd hy List.not_mem_nil⟩)⟩
  · intro m s hs
    refine mv_hd hn hl hu hl (fun _ => ?_) (fun h => absurd h (Nat.lt_irrefl _))
    rcases hs with ⟨h1, h2⟩ | ⟨i, y, h1, h2, h3, h4, h5, h6⟩
    · obtain ⟨x, hx, ha, hk, hlo⟩ := hex
      exact absurd (Int32.lt_of_lt_of_le hlo (h2 x hx ha hk)) (mv_irr _)
    · rw [h1]
      exact hp i y h2 h4 h5 h6
  · intro m p x q s hl' hx hs ih
    have hi := mv_get_lt hx
    obtain ⟨hk, hv, hb, hd⟩ := hg _ _ hx
    refine mv_hd hn hl hu (by omega) (fun h => absurd h (by omega)) (fun _ => mx_aliveAt (x := x) (by omega) hb hd (fun h => ?_) (fun h => ?_))
    · exact br_t rfl (nm_r (mv_s1 n _) (ih s (mv_CE_keep hs (fun c => by rw [h] at c; cases c))))
    · refine br_f (by decide) (And.intro (mv_ix hn (by omega)) ?_)
      rw [mv_cl hn (by omega), hk]
      refine br_c (fun h2 => nm_r (mv_s1 n _) (ih s (mv_CE_keep hs (fun _ c => absurd (Int32.lt_of_lt_of_le h2 c) (mv_irr _))))) (fun h2 => And.intro (mv_ix hn (by omega)) ?_)
      refine br_c (fun h3 => nm_r (mv_s1 n _) (ih s (mv_CE_keep hs (fun _ _ => h3)))) (fun h3 => And.intro (mv_ix hn (by omega)) ?_)
      exact nm_e (nm_r (mv_s1 n _) (ih (n * 12 + p.length, x.1) (mv_CE_new hs h (Int32.not_lt.mp h2) h3)))
def mv_nr (v low : Int32) (l : List mv_En) : Int32 := l.foldl (fun b x => if mv_al v x = true ∧ low < x.1 ∧ x.1 < b then x.1 else b) 100000
theorem mv_nr_snoc (p : List mv_En) (x : mv_En) : mv_nr v low (p ++ [x]) = if mv_al v x = true ∧ low < x.1 ∧ x.1 < mv_nr v low p then x.1 else mv_nr v low p := by
  unfold mv_nr; rw [List.foldl_append]; rfl
theorem mx_nextRouter (hR : mv_Rep G a_used a_key a_val a_born a_died) (hn : n < 128) (hp : post (mv_nr v low (G n))) :
    wpX_nextRouter post (f_now, f_first, f_keys, f_depth, f_pending, f_work, a_rootAt, a_inUse, a_leaf, a_used, a_nodeDied, a_key, a_val, a_born, a_died, a_pathNode, a_pathEntry, a_pendKey, a_pendVal, a_workKey, a_workVal, a_foundKey, a_foundVal, a_stack) (nI n) low v := by
  obtain ⟨hl, hu, hg⟩ := hR n hn
  intro x0 e0
  subst e0
  rw [mv_n120]
  refine ⟨_, mv_loop (G n) (fun m i (s : Int32) => wX_nextRouter_10 post (nI n) low v f_now f_first f_keys f_depth f_pending f_work a_rootAt a_inUse a_leaf a_used a_nodeDied a_key a_val a_born a_died a_pathNode a_pathEntry a_pendKey a_pendVal a_workKey a_workVal a_foundKey a_foundVal a_stack m s (nI (n * 12 + i))) (fun p s => s = mv_nr v low p) ?_ ?_ 100000 rfl⟩
  · intro m s hs
    exact mv_hd hn hl hu hl (fun _ => hs ▸ hp) (fun h => absurd h (Nat.lt_irrefl _))
  · intro m p x q s hl' hx hs ih
    have hi := mv_get_lt hx
    obtain ⟨hk, hv, hb, hd⟩ := hg _ _ hx
    refine mv_hd hn hl hu (by omega) (fun h => absurd h (by omega)) (fun _ => mx_aliveAt (x := x) (by omega) hb hd (fun h => ?_) (fun h => ?_))
    · refine br_t rfl (nm_r (mv_s1 n _) (ih s ?_))
      rw [mv_nr_snoc, if_neg (fun c => by rw [h] at c; cases c.1)]; exact hs
    · refine br_f (by decide) (And.intro (mv_ix hn (by omega)) ?_)
      rw [mv_cl hn (by omega), hk]
      refine br_c (fun h2 => nm_r (mv_s1 n _) (ih s ?_)) (fun h2 => And.intro (mv_ix hn (by omega)) (br_c (fun h3 => nm_r (mv_s1 n _) (ih s ?_)) (fun h3 => And.intro (mv_ix hn (by omega)) (nm_e (nm_r (mv_s1 n _) (ih x.1 ?_))))))
      · rw [mv_nr_snoc, if_neg (fun c => absurd (Int32.lt_of_lt_of_le c.2.1 h2) (mv_irr _))]; exact hs
      · rw [mv_nr_snoc, if_neg (fun c => absurd (Int32.lt_of_lt_of_le c.2.2 (hs ▸ h3)) (mv_irr _))]; exact hs
      · rw [mv_nr_snoc, if_pos ⟨h, Int32.not_le.mp h2, hs ▸ Int32.not_le.mp h3⟩]
theorem mv_nr_gen (v low : Int32) : ∀ (l : List mv_En) (b : Int32),
    l.foldl (fun b x => if mv_al v x = true ∧ low < x.1 ∧ x.1 < b then x.1 else b) b ≤ b ∧
    (l.foldl (fun b x => if mv_al v x = true ∧ low < x.1 ∧ x.1 < b then x.1 else b) b = b ∨ ∃ x ∈ l, mv_al v x = true ∧ low < x.1 ∧ l.foldl (fun b x => if mv_al v x = true ∧ low < x.1 ∧ x.1 < b then x.1 else b) b = x.1) ∧
    ∀ x ∈ l, mv_al v x = true → low < x.1 → l.foldl (fun b x => if mv_al v x = true ∧ low < x.1 ∧ x.1 < b then x.1 else b) b ≤ x.1 := by
  intro l
  induction l with
  | nil => intro b; exact ⟨Int32.le_refl _, Or.inl rfl, fun x hx => absurd hx List.not_mem_nil⟩
  | cons y l ih =>
    intro b
    rw [List.foldl_cons]
    by_cases c : mv_al v y = true ∧ low < y.1 ∧ y.1 < b
    · rw [if_pos c]
      obtain ⟨h1, h2, h3⟩ := ih y.1
      refine ⟨Int32.le_trans h1 (Int32.le_of_lt c.2.2), ?_, fun x hx ha hl => ?_⟩
      · rcases h2 with h2 | ⟨x, hx, ha, hl, he⟩
        · exact Or.inr ⟨y, List.mem_cons_self, c.1, c.2.1, h2⟩
        · exact Or.inr ⟨x, List.mem_cons_of_mem _ hx, ha, hl, he⟩
      · rcases List.mem_cons.mp hx with rfl | hx
        · exact h1
        · exact h3 x hx ha hl
    · rw [if_neg c]
      obtain ⟨h1, h2, h3⟩ := ih b
      refine ⟨h1, ?_, fun x hx ha hl => ?_⟩
      · rcases h2 with h2 | ⟨x, hx, ha, hl, he⟩
        · exact Or.inl h2
        · exact Or.inr ⟨x, List.mem_cons_of_mem _ hx, ha, hl, he⟩
      · rcases List.mem_cons.mp hx with rfl | hx
        · have : ¬ x.1 < b := fun t => c ⟨ha, hl, t⟩
          exact Int32.le_trans h1 (Int32.not_lt.mp this)
        · exact h3 x hx ha hl
theorem mv_nr_spec (v low : Int32) (l : List mv_En) : mv_nr v low l ≤ 100000 ∧ (mv_nr v low l = 100000 ∨ ∃ x ∈ l, mv_al v x = true ∧ low < x.1 ∧ mv_nr v low l = x.1) ∧
    ∀ x ∈ l, mv_al v x = true → low < x.1 → mv_nr v low l ≤ x.1 := mv_nr_gen v low l 100000
/-- what sibling's loop holds: below and above -/
def mv_SB (n : Nat) (low : Int32) (p : List mv_En) (b : Int32) : Prop :=
  (b = -1 ∧ ∀ y ∈ p, mv_lvb y = true → ¬ y.1 < low) ∨
    ∃ i x, b = nI (n * 12 + i) ∧ p[i]? = some x ∧ mv_lvb x = true ∧ x.1 < low ∧ ∀ y ∈ p, mv_lvb y = true → y.1 < low → y.1 ≤ x.1
def mv_SA (n : Nat) (low : Int32) (p : List mv_En) (b : Int32) : Prop :=
  (b = -1 ∧ ∀ y ∈ p, mv_lvb y = true → ¬ low < y.1) ∨
    ∃ i x, b = nI (n * 12 + i) ∧ p[i]? = some x ∧ mv_lvb x = true ∧ low < x.1 ∧ ∀ y ∈ p, mv_lvb y = true → low < y.1 → x.1 ≤ y.1
theorem mv_SB_keep {p : List mv_En} {x : mv_En} {b : Int32} (h : mv_SB n low p b)
    (hx : mv_lvb x = true → x.1 < low → ∃ i y, b = nI (n * 12 + i) ∧ p[i]? = some y ∧ x.1 ≤ y.1) (hn : n < 128) (hp : p.length ≤ 12) : mv_SB n low (p ++ [x]) b := by
  rcases h with ⟨h1, h2⟩ | ⟨i, y, h1, h2, h3, h4, h5⟩
  · refine Or.inl ⟨h1, fun y hy ha hk => ?_⟩
    rcases mv_mem_snoc hy with hy | rfl
    · exact h2 y hy ha hk
    · obtain ⟨i, z, e, hz, _⟩ := hx ha hk
      have hi := mv_get_lt hz
      have := nI_pos (n := n * 12 + i) (by omega)
      rw [← e, h1] at this
      exact this (by decide)
  · refine Or.inr ⟨i, y, h1, mv_get_snoc h2, h3, h4, fun z hz ha hk => ?_⟩
    rcases mv_mem_snoc hz with hz | rfl
    · exact h5 z hz ha hk
    · obtain ⟨j, t, e, ht, hle⟩ := hx ha hk
      have hi := mv_get_lt h2
      have hj := mv_get_lt ht
      rw [h1, nI_eq (by omega) (by omega)] at e
      have : i = j := by omega
      subst this
      rw [h2] at ht
      cases ht
      exact hle
theorem mv_SA_keep {p : List mv_En} {x : mv_En} {b : Int32} (h : mv_SA n low p b)
    (hx : mv_lvb x = true → low < x.1 → ∃ i y, b = nI (n * 12 + i) ∧ p[i]? = some y ∧ y.1 ≤ x.1) (hn : n < 128) (hp : p.length ≤ 12) : mv_SA n low (p ++ [x]) b := by
  rcases h with ⟨h1, h2⟩ | ⟨i, y, h1, h2, h3, h4, h5⟩
  · refine Or.inl ⟨h1, fun y hy ha hk => ?_⟩
    rcases mv_mem_snoc hy with hy | rfl
    · exact h2 y hy ha hk
    · obtain ⟨i, z, e, hz, _⟩ := hx ha hk
      have hi := mv_get_lt hz
      have := nI_pos (n := n * 12 + i) (by omega)
      rw [← e, h1] at this
      exact this (by decide)
  · refine Or.inr ⟨i, y, h1, mv_get_snoc h2, h3, h4, fun z hz ha hk => ?_⟩
    rcases mv_mem_snoc hz with hz | rfl
    · exact h5 z hz ha hk
    · obtain ⟨j, t, e, ht, hle⟩ := hx ha hk
      have hi := mv_get_lt h2
      have hj := mv_get_lt ht
      rw [h1, nI_eq (by omega) (by omega)] at e
      have : i = j := by omega
      subst this
      rw [h2] at ht
      cases ht
      exact hle
theorem mv_SB_new {p : List mv_En} {x : mv_En} {b : Int32} (h : mv_SB n low p b) (ha : mv_lvb x = true) (hk : x.1 < low)
    (hx : ∀ y ∈ p, mv_lvb y = true → y.1 < low → y.1 ≤ x.1) : mv_SB n low (p ++ [x]) (nI (n * 12 + p.length)) := by
  refine Or.inr ⟨p.length, x, rfl, mv_get_end, ha, hk, fun z hz ha' hk' => ?_⟩
  rcases mv_mem_snoc hz with hz | rfl
  · exact hx z hz ha' hk'
  · exact Int32.le_refl _
theorem mv_SA_new {p : List mv_En} {x : mv_En} {b : Int32} (h : mv_SA n low p b) (ha : mv_lvb x = true) (hk : low < x.1)
    (hx : ∀ y ∈ p, mv_lvb y = true → low < y.1 → x.1 ≤ y.1) : mv_SA n low (p ++ [x]) (nI (n * 12 + p.length)) := by
  refine Or.inr ⟨p.length, x, rfl, mv_get_end, ha, hk, fun z hz ha' hk' => ?_⟩
  rcases mv_mem_snoc hz with hz | rfl
  · exact hx z hz ha' hk'
  · exact Int32.le_refl _
end
end
section
/-! sibling; the small storing methods -/
section
variable {f_now f_first f_keys f_depth f_pending f_work : Int32} {a_rootAt a_inUse a_leaf a_used a_nodeDied a_key a_val a_born a_died a_pathNode a_pathEntry a_pendKey a_pendVal a_workKey a_workVal a_foundKey a_foundVal a_stack : Nat → Int32} {G : Nat → List mv_En} {n : Nat} {post : Int32 → Prop} {k v low b3 b4 : Int32}
theorem mx_sib76 {J : Int32 → Int32 → Int32 → Prop} {p : List mv_En} {x : mv_En} (hn : n < 128) (hp : p.length < 12)
    (hk : a_key (n * 12 + p.length) = x.1) (hlv : mv_lvb x = true) (hA : mv_SA n low p b4) (hold : ∀ i y, p[i]? = some y → a_key (n * 12 + i) = y.1)
    (hJ : ∀ b, mv_SA n low (p ++ [x]) b → J b3 b (nI (n * 12 + (p.length + 1)))) :
    wX_sibling_76 post J (nI n) low b3 b4 (nI (n * 12 + p.length)) f_now f_first f_keys f_depth f_pending f_work a_rootAt a_inUse a_leaf a_used a_nodeDied a_key a_val a_born a_died a_pathNode a_pathEntry a_pendKey a_pendVal a_workKey a_workVal a_foundKey a_foundVal a_stack := by
  have hi := mv_ix hn hp
  unfold wX_sibling_76
  rw [mv_cl hn hp, hk]
  refine And.intro hi (br_c (fun h => nm_r (mv_s1 n _) (hJ _ (mv_SA_keep hA (fun _ c => absurd (Int32.lt_of_lt_of_le c h) (mv_irr _)) hn (by omega)))) (fun h => ?_))
  have hlo := Int32.not_le.mp h
  rcases id hA with ⟨h1, h2⟩ | ⟨i, y, h1, h2, h3, h4, h5⟩
  · refine br_t (by rw [h1]; decide) (nm_r (mv_s1 n _) (hJ _ (mv_SA_new hA hlv hlo (fun y hy hb hl => absurd hl (h2 y hy hb)))))
  · have hip := mv_get_lt h2
    have hi4 : vp_in b4 1536 := by rw [h1]; exact mv_ix hn (by omega)
    have hc4 : b4.toNatClampNeg = n * 12 + i := by rw [h1]; exact mv_cl hn (by omega)
    refine br_f (by rw [h1]; exact nI_pos (by omega)) (And.intro hi (And.intro hi4 ?_))
    rw [hc4, hold i y h2]
    refine br_c (fun h6 => nm_r (mv_s1 n _) (hJ _ (mv_SA_keep hA (fun _ _ => ⟨i, y, h1, h2, h6⟩) hn (by omega)))) (fun h6 => nm_r (mv_s1 n _) (hJ _ (mv_SA_new hA hlv hlo (fun z hz hb hl => ?_))))
    exact Int32.le_trans (Int32.le_of_lt (Int32.not_le.mp h6)) (h5 z hz hb hl)
theorem mx_sibling (hR : mv_Rep G a_used a_key a_val a_born a_died) (hn : n < 128)
    (h0 : (∀ y ∈ G n, mv_lvb y = true → ¬ y.1 < low) → (∀ y ∈ G n, mv_lvb y = true → ¬ low < y.1) → post (-1))
    (h1 : ∀ i x, (G n)[i]? = some x → mv_lvb x = true → ((x.1 < low ∧ ∀ y ∈ G n, mv_lvb y = true → y.1 < low → y.1 ≤ x.1) ∨
      ((∀ y ∈ G n, mv_lvb y = true → ¬ y.1 < low) ∧ low < x.1 ∧ ∀ y ∈ G n, mv_lvb y = true → low < y.1 → x.1 ≤ y.1)) → post (nI (n * 12 + i))) :
    wpX_sibling post (f_now, f_first, f_keys, f_depth, f_pending, f_work, a_rootAt, a_inUse, a_leaf, a_used, a_nodeDied, a_key, a_val, a_born, a_died, a_pathNode, a_pathEntry, a_pendKey, a_pendVal, a_workKey, a_workVal, a_foundKey, a_foundVal, a_stack) (nI n) low := by
  obtain ⟨hl, hu, hg⟩ := hR n hn
  intro x0 e0
  subst e0
  rw [mv_n120]
  refine ⟨_, mv_loop (G n) (fun m i (s : Int32 × Int32) => wX_sibling_11 post (nI n) low f_now f_first f_keys f_depth f_pending f_work a_rootAt a_inUse a_leaf a_used a_nodeDied a_key a_val a_born a_died a_pathNode a_pathEntry a_pendKey a_pendVal a_workKey a_workVal a_foundKey a_foundVal a_stack m s.1 s.2 (nI (n * 12 + i))) (fun p s => mv_SB n low p s.1 ∧ mv_SA n low p s.2) ?_ ?_ (-1, -1) ⟨Or.inl ⟨rfl, fun y hy => absurd hy List.not_mem_nil⟩, Or.inl ⟨rfl, fun y hy => absurd hy List.not_mem_nil⟩⟩⟩
  · intro m s hs
    refine mv_hd hn hl hu hl (fun _ => ?_) (fun h => absurd h (Nat.lt_irrefl _))
    obtain ⟨hB, hA⟩ := hs
    rcases hB with ⟨b1, b2⟩ | ⟨i, y, b1, b2, b3, b4, b5⟩
    · refine br_t (by rw [b1]; decide) ?_
      rcases hA with ⟨a1, a2⟩ | ⟨i, y, a1, a2, a3, a4, a5⟩
      · rw [a1]; exact h0 b2 a2
      · rw [a1]; exact h1 i y a2 a3 (Or.inr ⟨b2, a4, a5⟩)
    · have := mv_get_lt b2
      refine br_f (by rw [b1]; exact nI_pos (by omega)) ?_
      rw [b1]; exact h1 i y b2 b3 (Or.inl ⟨b4, b5⟩)
  · intro m p x q s hl' hx hs ih
    have hi := mv_get_lt hx
    obtain ⟨hk, hv, hb, hd⟩ := hg _ _ hx
    obtain ⟨hB, hA⟩ := hs
    have hold : ∀ i y, p[i]? = some y → a_key (n * 12 + i) = y.1 := by
      intro i y hy
      refine (hg i y ?_).1
      rw [hl', List.getElem?_append_left (mv_get_lt hy)]; exact hy
    refine mv_hd hn hl hu (by omega) (fun h => absurd h (by omega)) (fun _ => And.intro (mv_ix hn (by omega)) ?_)
    rw [mv_cl hn (by omega), hd, hk]
    refine br_c (fun h => And.intro (mv_ix hn (by omega)) (br_c (fun h2 => ?_) (fun h2 => ?_))) (fun h => nm_r (mv_s1 n _) (ih s ⟨mv_SB_keep hB (fun c => absurd (of_decide_eq_true c) h) hn (by omega), mv_SA_keep hA (fun c => absurd (of_decide_eq_true c) h) hn (by omega)⟩))
    · refine mx_sib76 hn (by omega) hk (decide_eq_true h) hA hold (fun b hb => ih (s.1, b) ⟨mv_SB_keep hB (fun _ c => absurd (Int32.lt_of_lt_of_le c h2) (mv_irr _)) hn (by omega), hb⟩)
    · have hlo := Int32.not_le.mp h2
      rcases id hB with ⟨b1, b2⟩ | ⟨i, y, b1, b2, b3, b4, b5⟩
      · refine br_t (by rw [b1]; decide) ?_
        exact mx_sib76 hn (by omega) hk (decide_eq_true h) hA hold (fun b hb => ih (nI (n * 12 + p.length), b) ⟨mv_SB_new hB (decide_eq_true h) hlo (fun y hy hb hl => absurd hl (b2 y hy hb)), hb⟩)
      · have hip := mv_get_lt b2
        have hi3 : vp_in s.1 1536 := by rw [b1]; exact mv_ix hn (by omega)
        have hc3 : s.1.toNatClampNeg = n * 12 + i := by rw [b1]; exact mv_cl hn (by omega)
        refine br_f (by rw [b1]; exact nI_pos (by omega)) (And.intro (mv_ix hn (by omega)) (And.intro hi3 ?_))
        rw [hc3, hold i y b2]
        refine br_c (fun h6 => ?_) (fun h6 => ?_)
        · exact mx_sib76 hn (by omega) hk (decide_eq_true h) hA hold (fun b hb => ih (s.1, b) ⟨mv_SB_keep hB (fun _ _ => ⟨i, y, b1, b2, h6⟩) hn (by omega), hb⟩)
        · refine mx_sib76 hn (by omega) hk (decide_eq_true h) hA hold (fun b hb => ih (nI (n * 12 + p.length), b) ⟨mv_SB_new hB (decide_eq_true h) hlo (fun z hz hb hl => ?_), hb⟩)
          exact Int32.le_trans (b5 z hz hb hl) (Int32.le_of_lt (Int32.not_le.mp h6))
end
/-! stores into the lists -/
def mv_fr (w : Int32) (x : mv_KV) : mv_En := (x.1, x.2, w, 2147483647)
theorem mv_gu_gu {G : Nat → List mv_En} {n : Nat} {l l' : List mv_En} : mv_gu (mv_gu G n l) n l' = mv_gu G n l' := by
  funext m
  by_cases h : m = n
  · subst h; rw [mv_gu_s, mv_gu_s]
  · rw [mv_gu_n h, mv_gu_n h, mv_gu_n h]
theorem mv_rep_app {G : Nat → List mv_En} {us ke va bo di : Nat → Int32} {n : Nat} {k v w d : Int32} (hR : mv_Rep G us ke va bo di) (hn : n < 128) (hl : (G n).length < 12) :
    mv_Rep (mv_gu G n (G n ++ [(k, v, w, d)])) (upd us n (nI (G n).length + 1)) (upd ke (n * 12 + (G n).length) k) (upd va (n * 12 + (G n).length) v) (upd bo (n * 12 + (G n).length) w) (upd di (n * 12 + (G n).length) d) := by
  intro m hm
  obtain ⟨h1, h2, h3⟩ := hR m hm
  by_cases e : m = n
  · subst e
    rw [mv_gu_s, pk_us, nI_1]
    refine ⟨by rw [List.length_append]; simp; omega, by rw [List.length_append]; rfl, fun i x hx => ?_⟩
    by_cases c : i < (G m).length
    · rw [List.getElem?_append_left c] at hx
      rw [pk_un (by omega), pk_un (by omega), pk_un (by omega), pk_un (by omega)]
      exact h3 i x hx
    · have hlt := mv_get_lt hx
      rw [List.length_append] at hlt
      have : i = (G m).length := by simp at hlt; omega
      subst this
      rw [mv_get_end] at hx
      cases hx
      exact ⟨pk_us, pk_us, pk_us, pk_us⟩
  · rw [mv_gu_n e, pk_un e]
    refine ⟨h1, h2, fun i x hx => ?_⟩
    have hlt := mv_get_lt hx
    rw [pk_un (by omega), pk_un (by omega), pk_un (by omega), pk_un (by omega)]
    exact h3 i x hx
theorem mv_rep_kill {G : Nat → List mv_En} {us ke va bo di : Nat → Int32} {n i : Nat} {w : Int32} {x : mv_En} (hR : mv_Rep G us ke va bo di) (hn : n < 128) (hx : (G n)[i]? = some x) :
    mv_Rep (mv_gu G n ((G n).set i (x.1, x.2.1, x.2.2.1, w))) us ke va bo (upd di (n * 12 + i) w) := by
  intro m hm
  obtain ⟨h1, h2, h3⟩ := hR m hm
  by_cases e : m = n
  · subst e
    rw [mv_gu_s, List.length_set]
    refine ⟨h1, h2, fun j y hy => ?_⟩
    have hi := mv_get_lt hx
    by_cases c : j = i
    · subst c
      rw [List.getElem?_set_self hi] at hy
      cases hy
      obtain ⟨a1, a2, a3, a4⟩ := h3 j x hx
      exact ⟨a1, a2, a3, pk_us⟩
    · rw [List.getElem?_set_ne (Ne.symm c)] at hy
      rw [pk_un (by omega)]
      exact h3 j y hy
  · rw [mv_gu_n e]
    refine ⟨h1, h2, fun j y hy => ?_⟩
    have hlt := mv_get_lt hy
    have hi := mv_get_lt hx
    have hn12 := (hR n hn).1
    rw [pk_un (by omega)]
    exact h3 j y hy
theorem mv_rep_new {G : Nat → List mv_En} {us ke va bo di : Nat → Int32} {n : Nat} (hR : mv_Rep G us ke va bo di) (hn : n < 128) :
    mv_Rep (mv_gu G n []) (upd us n 0) ke va bo di := by
  intro m hm
  obtain ⟨h1, h2, h3⟩ := hR m hm
  by_cases e : m = n
  · subst e
    rw [mv_gu_s, pk_us]
    exact ⟨by decide, rfl, fun i x hx => absurd hx (by simp)⟩
  · rw [mv_gu_n e, pk_un e]
    exact ⟨h1, h2, h3⟩
section
variable {f_now f_first f_keys f_depth f_pending f_work : Int32} {a_rootAt a_inUse a_leaf a_used a_nodeDied a_key a_val a_born a_died a_pathNode a_pathEntry a_pendKey a_pendVal a_workKey a_workVal a_foundKey a_foundVal a_stack : Nat → Int32} {G : Nat → List mv_En} {n : Nat} {post : SX → Prop} {k v w lf : Int32}
theorem mx_append (hR : mv_Rep G a_used a_key a_val a_born a_died) (hn : n < 128) (hl : (G n).length < 12)
    (hp : ∀ us ke va bo di, mv_Rep (mv_gu G n (G n ++ [(k, v, w, 2147483647)])) us ke va bo di → post (f_now, f_first, f_keys, f_depth, f_pending, f_work, a_rootAt, a_inUse, a_leaf, us, a_nodeDied, ke, va, bo, di, a_pathNode, a_pathEntry, a_pendKey, a_pendVal, a_workKey, a_workVal, a_foundKey, a_foundVal, a_stack)) :
    wpX_append post (f_now, f_first, f_keys, f_depth, f_pending, f_work, a_rootAt, a_inUse, a_leaf, a_used, a_nodeDied, a_key, a_val, a_born, a_died, a_pathNode, a_pathEntry, a_pendKey, a_pendVal, a_workKey, a_workVal, a_foundKey, a_foundVal, a_stack) (nI n) k v w := by
  obtain ⟨h12, hu, hg⟩ := hR n hn
  have hc : (nI n).toNatClampNeg = n := nI_clamp (by omega)
  have hin : vp_in (nI n) 128 := vp_in_nI hn (by decide)
  have hi := mv_ix hn hl
  have hcl := mv_cl hn hl
  unfold wpX_append
  dsimp only
  rw [hc, hu, mv_n12]
  refine And.intro hin (br_t (nI_lt (b := 12) hl (by decide)) (And.intro hin (nm_e ?_)))
  rw [hcl]
  exact And.intro hi (nm_e (And.intro hi (nm_e (And.intro hi (nm_e (And.intro hi (nm_e (And.intro hin (And.intro hin (nm_e (hp _ _ _ _ _ (mv_rep_app hR hn hl)))))))))))) 
theorem mx_addWork {l : List mv_KV} (hW : mv_WL a_workKey a_workVal 0 l) (hs : mv_Srt l) (hk : ∀ x ∈ l, x.1 ≠ k) (hw : f_work = nI l.length) (hl : l.length < 40)
    (hp : ∀ l' wk wv, mv_Srt l' → l'.Perm ((k, v) :: l) → mv_WL wk wv 0 l' → post (f_now, f_first, f_keys, f_depth, f_pending, nI (l.length + 1), a_rootAt, a_inUse, a_leaf, a_used, a_nodeDied, a_key, a_val, a_born, a_died, a_pathNode, a_pathEntry, a_pendKey, a_pendVal, wk, wv, a_foundKey, a_foundVal, a_stack)) :
    wpX_addWork post (f_now, f_first, f_keys, f_depth, f_pending, f_work, a_rootAt, a_inUse, a_leaf, a_used, a_nodeDied, a_key, a_val, a_born, a_died, a_pathNode, a_pathEntry, a_pendKey, a_pendVal, a_workKey, a_workVal, a_foundKey, a_foundVal, a_stack) k v := by
  subst hw
  have hend : ∀ j wk wv, j ≤ l.length → mv_SH wk wv 0 l j → (∀ i x, j ≤ i → l[i]? = some x → k < x.1) → (j = 0 ∨ ∃ x, l[j - 1]? = some x ∧ x.1 ≤ k) →
      wX_addWork_65 post k v (nI j) f_now f_first f_keys f_depth f_pending (nI l.length) a_rootAt a_inUse a_leaf a_used a_nodeDied a_key a_val a_born a_died a_pathNode a_pathEntry a_pendKey a_pendVal wk wv a_foundKey a_foundVal a_stack := by
    intro j wk wv hj hSH hd ht
    have hi : vp_in (nI j) 40 := vp_in_nI (by omega) (by decide)
    unfold wX_addWork_65
    rw [nI_clamp (n := j) (by omega), nI_1]
    refine And.intro hi (nm_e (And.intro hi (nm_e (nm_e (hp _ _ _ (mv_ins_srt hs hk hd ht) (mv_ins_perm l j (k, v)) ?_)))))
    have := mv_sh2 (k := k) (v := v) hSH hj
    rwa [Nat.zero_add] at this
  have hloop : ∀ j wk wv m, j ≤ l.length → mv_SH wk wv 0 l j → (∀ i x, j ≤ i → l[i]? = some x → k < x.1) → j < m →
      wX_addWork_15 post k v f_now f_first f_keys f_depth f_pending (nI l.length) m (nI j) a_rootAt a_inUse a_leaf a_used a_nodeDied a_key a_val a_born a_died a_pathNode a_pathEntry a_pendKey a_pendVal wk wv a_foundKey a_foundVal a_stack := by
    intro j
    induction j with
    | zero =>
      intro wk wv m hj hSH hd hm
      obtain ⟨m, rfl⟩ : ∃ m', m = m' + 1 := ⟨m - 1, by omega⟩
      exact br_t (by decide) (hend 0 wk wv hj hSH hd (Or.inl rfl))
    | succ j ih =>
      intro wk wv m hj hSH hd hm
      obtain ⟨m, rfl⟩ : ∃ m', m = m' + 1 := ⟨m - 1, by omega⟩
      obtain ⟨y, hy⟩ : ∃ y, l[j]? = some y := ⟨_, List.getElem?_eq_getElem (by omega)⟩
      have hwy := hSH.1 j y (Nat.lt_succ_self _) hy
      rw [Nat.zero_add] at hwy
      have hij : vp_in (nI j) 40 := vp_in_nI (by omega) (by decide)
      have hij1 : vp_in (nI (j + 1)) 40 := vp_in_nI (by omega) (by decide)
      refine br_f (nI_nle (by omega) (by omega)) ?_
      rw [nI_pred, nI_clamp (n := j) (by omega), nI_clamp (n := j + 1) (by omega)]
      refine And.intro hij (br_c (fun h => hend (j + 1) wk wv hj hSH hd (Or.inr ⟨y, hy, hwy.1 ▸ h⟩)) (fun h => And.intro hij (And.intro hij1 (nm_e (And.intro hij (And.intro hij1 (nm_e (nm_r (pk_m1 j) ?_))))))))
      refine ih _ _ m (by omega) ?_ ?_ (by omega)
      · have := mv_sh1 hSH
        rwa [Nat.zero_add, Nat.zero_add] at this
      · intro i x hi hx
        by_cases c : i = j
        · subst c
          rw [hy] at hx
          cases hx
          rw [hwy.1] at h
          exact Int32.not_le.mp h
        · exact hd i x (by omega) hx
  refine br_t (nI_lt (b := 40) hl (by decide)) ⟨l.length + 1, ?_⟩
  exact hloop l.length a_workKey a_workVal _ (Nat.le_refl _) (mv_sh0 hW) (fun i x hi hx => absurd (mv_get_lt hx) (by omega)) (Nat.lt_succ_self _)
theorem mx_gather {l : List mv_KV} (hR : mv_Rep G a_used a_key a_val a_born a_died) (hn : n < 128) (hW : mv_WL a_workKey a_workVal 0 l) (hs : mv_Srt l)
    (hw : f_work = nI l.length) (hl : l.length + (mv_lvs (G n)).length ≤ 40) (hd : mv_Dis ((mv_lvs (G n)).map mv_kv ++ l))
    (hp : ∀ l' wk wv, mv_Srt l' → l'.Perm ((mv_lvs (G n)).map mv_kv ++ l) → mv_WL wk wv 0 l' → post (f_now, f_first, f_keys, f_depth, f_pending, nI l'.length, a_rootAt, a_inUse, a_leaf, a_used, a_nodeDied, a_key, a_val, a_born, a_died, a_pathNode, a_pathEntry, a_pendKey, a_pendVal, wk, wv, a_foundKey, a_foundVal, a_stack)) :
    wpX_gather post (f_now, f_first, f_keys, f_depth, f_pending, f_work, a_rootAt, a_inUse, a_leaf, a_used, a_nodeDied, a_key, a_val, a_born, a_died, a_pathNode, a_pathEntry, a_pendKey, a_pendVal, a_workKey, a_workVal, a_foundKey, a_foundVal, a_stack) (nI n) := by
  subst hw
  obtain ⟨hl12, hu, hg⟩ := hR n hn
  intro x0 e0
  subst e0
  rw [mv_n120]
  refine ⟨_, mv_loop (G n) (fun m i (s : Nat × (Nat → Int32) × (Nat → Int32)) => wX_gather_5 post (nI n) m (nI (n * 12 + i)) f_now f_first f_keys f_depth f_pending (nI s.1) a_rootAt a_inUse a_leaf a_used a_nodeDied a_key a_val a_born a_died a_pathNode a_pathEntry a_pendKey a_pendVal s.2.1 s.2.2 a_foundKey a_foundVal a_stack)
    (fun p s => ∃ l', mv_Srt l' ∧ l'.Perm ((mv_lvs p).map mv_kv ++ l) ∧ mv_WL s.2.1 s.2.2 0 l' ∧ s.1 = l'.length) ?_ ?_ (l.length, a_workKey, a_workVal) ⟨l, hs, List.Perm.refl _, hW, rfl⟩⟩
  · intro m s hs
    obtain ⟨l', s1, s2, s3, s4⟩ := hs
    refine mv_hd hn hl12 hu hl12 (fun _ => ?_) (fun h => absurd h (Nat.lt_irrefl _))
    rw [s4]
    exact hp l' _ _ s1 s2 s3
  · intro m p x q s hl' hx hs ih
    have hi := mv_get_lt hx
    obtain ⟨hk, hv, hb, hdd⟩ := hg _ _ hx
    obtain ⟨l', s1, s2, s3, s4⟩ := hs
    refine mv_hd hn hl12 hu (by omega) (fun h => absurd h (by omega)) (fun _ => And.intro (mv_ix hn (by omega)) ?_)
    rw [mv_cl hn (by omega), hdd, hk, hv]
    have hlv : mv_lvs (G n) = mv_lvs (p ++ [x]) ++ mv_lvs q := by
      rw [hl']; unfold mv_lvs; rw [← List.filter_append, List.append_assoc]; rfl
    refine br_c (fun h => And.intro (mv_ix hn (by omega)) (And.intro (mv_ix hn (by omega)) ?_)) (fun h => nm_r (mv_s1 n _) (ih s ⟨l', s1, ?_, s3, s4⟩))
    · have hx1 : mv_lvs (p ++ [x]) = mv_lvs p ++ [x] := mv_lvs_t h
      rw [hlv, hx1] at hl hd
      have hlen := s2.length_eq
      simp only [List.length_append, List.length_map, List.length_cons, List.length_nil] at hl hlen
      refine mx_addWork (l := l') s3 s1 ?_ (congrArg nI s4) (by omega) (fun l2 wk wv t1 t2 t3 => nm_r (mv_s1 n _) (ih (l'.length + 1, wk, wv) ⟨l2, t1, ?_, t3, ?_⟩))
      · intro y hy e
        have hy' := s2.mem_iff.mp hy
        rw [List.map_append, List.map_append, List.append_assoc, List.append_assoc] at hd
        have hd2 := List.pairwise_append.mp hd
        rcases List.mem_append.mp hy' with hy' | hy'
        · exact hd2.2.2 y hy' (mv_kv x) (by simp) e
        · have hd3 := (List.pairwise_append.mp hd2.2.1).2.2
          exact hd3 (mv_kv x) (by simp) y (by simp [hy']) e.symm
      · rw [hx1, List.map_append, List.append_assoc]
        refine t2.trans ?_
        refine (List.Perm.cons _ s2).trans ?_
        exact List.perm_middle.symm
      · have := t2.length_eq
        simp only [List.length_cons] at this
        exact this.symm
    · rw [mv_lvs_f h]; exact s2
end
end
section
/-! newNode, fill, takePending, remake -/
theorem mv_gu_self {G : Nat → List mv_En} {n : Nat} : mv_gu G n (G n) = G := by
  funext m
  by_cases h : m = n
  · subst h; rw [mv_gu_s]
  · rw [mv_gu_n h]
def mv_Free (c : Nat) (iu : Nat → Int32) : Prop := ∃ l : List Nat, l.Nodup ∧ c ≤ l.length ∧ ∀ m ∈ l, m < 128 ∧ iu m = 0
theorem mv_free_ex {c : Nat} {iu : Nat → Int32} (h : mv_Free (c + 1) iu) : ∃ m, m < 128 ∧ iu m = 0 := by
  obtain ⟨l, _, h2, h3⟩ := h
  match l, h2, h3 with
  | [], h2, _ => exact absurd h2 (by simp)
  | m :: l, _, h3 => exact ⟨m, h3 m List.mem_cons_self⟩
theorem mv_free_upd {c m : Nat} {iu : Nat → Int32} (h : mv_Free (c + 1) iu) : mv_Free c (upd iu m 1) := by
  obtain ⟨l, h1, h2, h3⟩ := h
  refine ⟨l.erase m, h1.erase m, ?_, fun j hj => ?_⟩
  · rw [List.length_erase]; split <;> omega
  · have hj' := (h1.mem_erase_iff).mp hj
    rw [pk_un hj'.1]
    exact h3 j hj'.2
theorem mv_free_mono {c d : Nat} {iu : Nat → Int32} (h : mv_Free c iu) (hd : d ≤ c) : mv_Free d iu := by
  obtain ⟨l, h1, h2, h3⟩ := h
  exact ⟨l, h1, by omega, h3⟩
section
variable {f_now f_first f_keys f_depth f_pending f_work : Int32} {a_rootAt a_inUse a_leaf a_used a_nodeDied a_key a_val a_born a_died a_pathNode a_pathEntry a_pendKey a_pendVal a_workKey a_workVal a_foundKey a_foundVal a_stack : Nat → Int32} {G : Nat → List mv_En} {n : Nat} {k v w lf low : Int32}
theorem mx_newNode {post : Int32 → SX → Prop} (hb : lf = 0 ∨ lf = 1) (hfree : ∃ m, m < 128 ∧ a_inUse m = 0)
    (hp : ∀ m, m < 128 → a_inUse m = 0 → post (nI m) (f_now, f_first, f_keys, f_depth, f_pending, f_work, a_rootAt, upd a_inUse m 1, upd a_leaf m lf, upd a_used m 0, upd a_nodeDied m 2147483647, a_key, a_val, a_born, a_died, a_pathNode, a_pathEntry, a_pendKey, a_pendVal, a_workKey, a_workVal, a_foundKey, a_foundVal, a_stack)) :
    wpX_newNode post (f_now, f_first, f_keys, f_depth, f_pending, f_work, a_rootAt, a_inUse, a_leaf, a_used, a_nodeDied, a_key, a_val, a_born, a_died, a_pathNode, a_pathEntry, a_pendKey, a_pendVal, a_workKey, a_workVal, a_foundKey, a_foundVal, a_stack) lf := by
  have hlf : vp_nar .boolean lf = lf := by
    rcases hb with rfl | rfl
    · exact mv_nar0
    · exact mv_nar1
  have hend : ∀ m, m < 128 → a_inUse m = 0 → wX_newNode_23 post lf (nI m) f_now f_first f_keys f_depth f_pending f_work a_rootAt a_inUse a_leaf a_used a_nodeDied a_key a_val a_born a_died a_pathNode a_pathEntry a_pendKey a_pendVal a_workKey a_workVal a_foundKey a_foundVal a_stack := by
    intro m hm hi
    have hin : vp_in (nI m) 128 := vp_in_nI hm (by decide)
    unfold wX_newNode_23
    rw [nI_clamp (n := m) (by omega), hlf, mv_nar1]
    exact And.intro hin (nm_e (And.intro hin (nm_e (And.intro hin (nm_e (And.intro hin (nm_e (hp m hm hi))))))))
  have hloop : ∀ d j, j + d = 127 → (∀ i, i < j → a_inUse i ≠ 0) → wX_newNode_2 post lf f_now f_first f_keys f_depth f_pending f_work a_rootAt a_inUse a_leaf a_used a_nodeDied a_key a_val a_born a_died a_pathNode a_pathEntry a_pendKey a_pendVal a_workKey a_workVal a_foundKey a_foundVal a_stack (d + 1) (nI j) := by
    intro d
    induction d with
    | zero =>
      intro j hj hu
      have : j = 127 := by omega
      subst this
      refine br_t (by decide) (hend 127 (by omega) ?_)
      obtain ⟨m, hm, h0⟩ := hfree
      by_cases c : m = 127
      · rw [← c]; exact h0
      · exact absurd h0 (hu m (by omega))
    | succ d ih =>
      intro j hj hu
      refine br_f (nI_ge (b := 127) (by omega) (by decide)) (And.intro (vp_in_nI (by omega) (by decide)) ?_)
      rw [nI_clamp (n := j) (by omega)]
      refine br_c (fun h => hend j (by omega) h) (fun h => nm_r (nI_1 j) (ih (j + 1) (by omega) ?_))
      intro i hi
      by_cases c : i = j
      · subst c; exact h
      · exact hu i (by omega)
  exact Exists.intro 128 (hloop 127 0 rfl (fun i hi => absurd hi (Nat.not_lt_zero _)))
theorem mx_fill {post : Int32 → SX → Prop} {s : List mv_KV} {a b : Nat} (hR : mv_Rep G a_used a_key a_val a_born a_died)
    (hW : mv_WL a_workKey a_workVal 0 s) (hab : a ≤ b) (hbs : b ≤ s.length) (hba : b ≤ a + 12) (hs40 : s.length ≤ 40)
    (hb : lf = 0 ∨ lf = 1) (hfree : ∃ m, m < 128 ∧ a_inUse m = 0)
    (hp : ∀ m us ke va bo di, m < 128 → a_inUse m = 0 → mv_Rep (mv_gu G m (((s.drop a).take (b - a)).map (mv_fr w))) us ke va bo di →
      post (nI m) (f_now, f_first, f_keys, f_depth, f_pending, f_work, a_rootAt, upd a_inUse m 1, upd a_leaf m lf, us, upd a_nodeDied m 2147483647, ke, va, bo, di, a_pathNode, a_pathEntry, a_pendKey, a_pendVal, a_workKey, a_workVal, a_foundKey, a_foundVal, a_stack)) :
    wpX_fill post (f_now, f_first, f_keys, f_depth, f_pending, f_work, a_rootAt, a_inUse, a_leaf, a_used, a_nodeDied, a_key, a_val, a_born, a_died, a_pathNode, a_pathEntry, a_pendKey, a_pendVal, a_workKey, a_workVal, a_foundKey, a_foundVal, a_stack) lf (nI a) (nI b) w := by
  unfold wpX_fill
  dsimp only
  refine mx_newNode hb hfree (fun m hm hi => ?_)
  dsimp only
  have hR1 := mv_rep_new (n := m) hR hm
  have hlen : ((s.drop a).take (b - a)).length = b - a := by rw [List.length_take, List.length_drop]; omega
  have hget : ∀ i x, ((s.drop a).take (b - a))[i]? = some x → s[a + i]? = some x := by
    intro i x hx
    have hlt := mv_get_lt hx
    rw [List.getElem?_take, if_pos (by omega), List.getElem?_drop] at hx
    exact hx
  have hp' := hp m
  generalize (s.drop a).take (b - a) = l at hlen hget hp'
  refine ⟨_, mv_loop l (fun f i (st : (Nat → Int32) × (Nat → Int32) × (Nat → Int32) × (Nat → Int32) × (Nat → Int32)) => wX_fill_10 post (nI b) w (nI m) f (nI (a + i)) f_now f_first f_keys f_depth f_pending f_work a_rootAt (upd a_inUse m 1) (upd a_leaf m lf) st.1 (upd a_nodeDied m 2147483647) st.2.1 st.2.2.1 st.2.2.2.1 st.2.2.2.2 a_pathNode a_pathEntry a_pendKey a_pendVal a_workKey a_workVal a_foundKey a_foundVal a_stack)
    (fun p st => mv_Rep (mv_gu G m (p.map (mv_fr w))) st.1 st.2.1 st.2.2.1 st.2.2.2.1 st.2.2.2.2) ?_ ?_ (upd a_used m 0, a_key, a_val, a_born, a_died) hR1⟩
  · intro f st hI
    exact pk_le b (a + l.length) (fun _ => hp' _ _ _ _ _ hm hi hI) (fun h => absurd h (by omega))
  · intro f p x q st hl hx hI ih
    have hlt := mv_get_lt hx
    have hwx := hW _ x (hget _ x hx)
    rw [Nat.zero_add] at hwx
    have hi40 : vp_in (nI (a + p.length)) 40 := vp_in_nI (by omega) (by decide)
    refine pk_le b (a + p.length) (fun h => absurd h (by omega)) (fun _ => And.intro hi40 (And.intro hi40 ?_))
    rw [nI_clamp (n := a + p.length) (by omega), hwx.1, hwx.2]
    refine mx_append hI hm ?_ (fun us ke va bo di hR2 => ?_)
    · rw [mv_gu_s, List.length_map]; omega
    · dsimp only
      refine nm_r (nI_1 (a + p.length)) (ih (us, ke, va, bo, di) ?_)
      rw [mv_gu_s, mv_gu_gu] at hR2
      rw [List.map_append]
      exact hR2
theorem mx_takePending {post : SX → Prop} {P : List mv_KV} (hR : mv_Rep G a_used a_key a_val a_born a_died) (hn : n < 128)
    (hW : mv_WL a_pendKey a_pendVal 0 P) (hP : P.length ≤ 2) (hfp : f_pending = nI P.length) (hl : (G n).length + P.length ≤ 12)
    (hp : ∀ us ke va bo di, mv_Rep (mv_gu G n (G n ++ P.map (mv_fr w))) us ke va bo di → post (f_now, f_first, f_keys, f_depth, 0, f_work, a_rootAt, a_inUse, a_leaf, us, a_nodeDied, ke, va, bo, di, a_pathNode, a_pathEntry, a_pendKey, a_pendVal, a_workKey, a_workVal, a_foundKey, a_foundVal, a_stack)) :
    wpX_takePending post (f_now, f_first, f_keys, f_depth, f_pending, f_work, a_rootAt, a_inUse, a_leaf, a_used, a_nodeDied, a_key, a_val, a_born, a_died, a_pathNode, a_pathEntry, a_pendKey, a_pendVal, a_workKey, a_workVal, a_foundKey, a_foundVal, a_stack) (nI n) w := by
  subst hfp
  unfold wpX_takePending
  dsimp only
  refine ⟨_, mv_loop P (fun f i (st : (Nat → Int32) × (Nat → Int32) × (Nat → Int32) × (Nat → Int32) × (Nat → Int32)) => wX_takePending_2 post (nI n) w f (nI i) f_now f_first f_keys f_depth (nI P.length) f_work a_rootAt a_inUse a_leaf st.1 a_nodeDied st.2.1 st.2.2.1 st.2.2.2.1 st.2.2.2.2 a_pathNode a_pathEntry a_pendKey a_pendVal a_workKey a_workVal a_foundKey a_foundVal a_stack)
    (fun p st => mv_Rep (mv_gu G n (G n ++ p.map (mv_fr w))) st.1 st.2.1 st.2.2.1 st.2.2.2.1 st.2.2.2.2) ?_ ?_ (a_used, a_key, a_val, a_born, a_died) ?_⟩
  · intro f st hI
    exact pk_le P.length P.length (fun _ => hp _ _ _ _ _ hI) (fun h => absurd h (by omega))
  · intro f p x q st hl' hx hI ih
    have hlt := mv_get_lt hx
    have hwx := hW _ x hx
    rw [Nat.zero_add] at hwx
    have hi2 : vp_in (nI p.length) 2 := vp_in_nI (by omega) (by decide)
    refine pk_le P.length p.length (fun h => absurd h (by omega)) (fun _ => And.intro hi2 (And.intro hi2 ?_))
    rw [nI_clamp (n := p.length) (by omega), hwx.1, hwx.2]
    refine mx_append hI hn ?_ (fun us ke va bo di hR2 => ?_)
    · rw [mv_gu_s, List.length_append, List.length_map]; omega
    · dsimp only
      refine nm_r (nI_1 p.length) (ih (us, ke, va, bo, di) ?_)
      rw [mv_gu_s, mv_gu_gu] at hR2
      rw [List.map_append, ← List.append_assoc]
      exact hR2
  · rw [List.map_nil, List.append_nil, mv_gu_self]; exact hR
theorem mx_remake208 {post : SX → Prop} {s : List mv_KV} {h : Nat} (hR : mv_Rep G a_used a_key a_val a_born a_died)
    (hW : mv_WL a_workKey a_workVal 0 s) (hw : f_work = nI s.length) (hb : lf = 0 ∨ lf = 1) (hh : h ≤ s.length) (h12 : h ≤ 12) (hs12 : s.length ≤ h + 12)
    (hs40 : s.length ≤ 40) (hfree : mv_Free 2 a_inUse)
    (hp1 : s.length = h → ∀ m us ke va bo di pk pv, m < 128 → a_inUse m = 0 → mv_Rep (mv_gu G m (s.map (mv_fr w))) us ke va bo di → mv_WL pk pv 0 [(low, nI m)] →
      post (f_now, f_first, f_keys, f_depth, 1, f_work, a_rootAt, upd a_inUse m 1, upd a_leaf m lf, us, upd a_nodeDied m 2147483647, ke, va, bo, di, a_pathNode, a_pathEntry, pk, pv, a_workKey, a_workVal, a_foundKey, a_foundVal, a_stack))
    (hp2 : h < s.length → ∀ m m' x us ke va bo di pk pv, m < 128 → a_inUse m = 0 → m' < 128 → a_inUse m' = 0 → m' ≠ m → s[h]? = some x →
      mv_Rep (mv_gu (mv_gu G m ((s.take h).map (mv_fr w))) m' ((s.drop h).map (mv_fr w))) us ke va bo di → mv_WL pk pv 0 [(low, nI m), (x.1, nI m')] →
      post (f_now, f_first, f_keys, f_depth, 2, f_work, a_rootAt, upd (upd a_inUse m 1) m' 1, upd (upd a_leaf m lf) m' lf, us, upd (upd a_nodeDied m 2147483647) m' 2147483647, ke, va, bo, di, a_pathNode, a_pathEntry, pk, pv, a_workKey, a_workVal, a_foundKey, a_foundVal, a_stack)) :
    wX_remake_208 post w low lf (nI h) f_now f_first f_keys f_depth f_pending f_work a_rootAt a_inUse a_leaf a_used a_nodeDied a_key a_val a_born a_died a_pathNode a_pathEntry a_pendKey a_pendVal a_workKey a_workVal a_foundKey a_foundVal a_stack := by
  subst hw
  refine nm_e ?_
  refine mx_fill (a := 0) (b := h) hR hW (Nat.zero_le _) hh (by omega) hs40 hb (mv_free_ex hfree) (fun m us ke va bo di hm hi hR1 => ?_)
  dsimp only
  refine nm_e ?_
  rw [Nat.sub_zero, List.drop_zero] at hR1
  refine pk_le s.length h (fun hle => ?_) (fun hlt => ?_)
  · have e : s.length = h := by omega
    rw [List.take_of_length_le (by omega)] at hR1
    refine hp1 e m us ke va bo di _ _ hm hi hR1 ?_
    intro i x hx
    match i, hx with
    | 0, hx => cases hx; exact ⟨pk_us, pk_us⟩
  · have hih : vp_in (nI h) 40 := vp_in_nI (by omega) (by decide)
    obtain ⟨x, hx⟩ : ∃ x, s[h]? = some x := ⟨_, List.getElem?_eq_getElem hlt⟩
    have hwx := hW h x hx
    rw [Nat.zero_add] at hwx
    rw [nI_clamp (n := h) (by omega), hwx.1]
    refine And.intro hih (nm_e ?_)
    refine mx_fill (a := h) (b := s.length) hR1 hW (by omega) (Nat.le_refl _) (by omega) hs40 hb (mv_free_ex (c := 0) (mv_free_upd hfree)) (fun m' us' ke' va' bo' di' hm' hi' hR2 => ?_)
    dsimp only
    refine nm_e ?_
    have hne : m' ≠ m := by
      intro e
      rw [e, pk_us] at hi'
      exact absurd hi' (by decide)
    rw [pk_un hne] at hi'
    have e3 : (s.drop h).take (s.length - h) = s.drop h := List.take_of_length_le (by rw [List.length_drop]; omega)
    rw [e3] at hR2
    refine hp2 hlt m m' x us' ke' va' bo' di' _ _ hm hi hm' hi' hne hx hR2 ?_
    intro i y hy
    match i, hy with
    | 0, hy => cases hy; exact ⟨(pk_un (by decide)).trans pk_us, (pk_un (by decide)).trans pk_us⟩
    | 1, hy => cases hy; exact ⟨pk_us, pk_us⟩
theorem mx_remake178 {post : SX → Prop} {s : List mv_KV} (hR : mv_Rep G a_used a_key a_val a_born a_died) (hn : n < 128)
    (hW : mv_WL a_workKey a_workVal 0 s) (hw : f_work = nI s.length) (hlf : a_leaf n = lf) (hb : lf = 0 ∨ lf = 1) (hs18 : s.length ≤ 18) (hfree : mv_Free 2 a_inUse)
    (hp1 : s.length ≤ 9 → ∀ m us ke va bo di pk pv, m < 128 → a_inUse m = 0 → mv_Rep (mv_gu G m (s.map (mv_fr w))) us ke va bo di → mv_WL pk pv 0 [(low, nI m)] →
      post (f_now, f_first, f_keys, f_depth, 1, f_work, a_rootAt, upd a_inUse m 1, upd a_leaf m lf, us, upd a_nodeDied m 2147483647, ke, va, bo, di, a_pathNode, a_pathEntry, pk, pv, a_workKey, a_workVal, a_foundKey, a_foundVal, a_stack))
    (hp2 : 10 ≤ s.length → ∀ m m' x us ke va bo di pk pv, m < 128 → a_inUse m = 0 → m' < 128 → a_inUse m' = 0 → m' ≠ m → s[s.length / 2]? = some x →
      mv_Rep (mv_gu (mv_gu G m ((s.take (s.length / 2)).map (mv_fr w))) m' ((s.drop (s.length / 2)).map (mv_fr w))) us ke va bo di → mv_WL pk pv 0 [(low, nI m), (x.1, nI m')] →
      post (f_now, f_first, f_keys, f_depth, 2, f_work, a_rootAt, upd (upd a_inUse m 1) m' 1, upd (upd a_leaf m lf) m' lf, us, upd (upd a_nodeDied m 2147483647) m' 2147483647, ke, va, bo, di, a_pathNode, a_pathEntry, pk, pv, a_workKey, a_workVal, a_foundKey, a_foundVal, a_stack)) :
    wX_remake_178 post w (nI n) low f_now f_first f_keys f_depth f_pending f_work a_rootAt a_inUse a_leaf a_used a_nodeDied a_key a_val a_born a_died a_pathNode a_pathEntry a_pendKey a_pendVal a_workKey a_workVal a_foundKey a_foundVal a_stack := by
  subst hw
  unfold wX_remake_178
  rw [nI_clamp (n := n) (by omega), hlf]
  refine And.intro (vp_in_nI hn (by decide)) (nm_e ?_)
  refine pk_le s.length 9 (fun hle => ?_) (fun hlt => And.intro (by decide) ?_)
  · exact mx_remake208 hR hW rfl hb (Nat.le_refl _) (by omega) (by omega) (by omega) hfree (fun _ => hp1 hle) (fun h => absurd h (Nat.lt_irrefl _))
  · have e : nI s.length / 2 = nI (s.length / 2) := pk_div (d := 2) (by omega) (by decide) (by decide)
    rw [e]
    exact mx_remake208 hR hW rfl hb (by omega) (by omega) (by omega) (by omega) hfree (fun h => absurd h (by omega)) (fun _ => hp2 (by omega))
theorem mx_remakeA {post : SX → Prop} {P : List mv_KV} {lev N : Nat} (hR : mv_Rep G a_used a_key a_val a_born a_died) (hlev : lev < 16)
    (hpn : a_pathNode lev = nI N) (hN : N < 128) (hW : mv_WL a_pendKey a_pendVal 0 P) (hfp : f_pending = nI P.length) (hP : P.length ≤ 2)
    (hd : mv_Dis ((mv_lvs (G N)).map mv_kv ++ P))
    (hk : ∀ f s wk wv, mv_Srt s → s.Perm ((mv_lvs (G N)).map mv_kv ++ P) → mv_WL wk wv 0 s →
      wX_remake_25 post (nI lev) w (nI N) (-2000) (f + 1) (nI P.length) f_now f_first f_keys f_depth (nI P.length) (nI s.length) a_rootAt a_inUse a_leaf a_used a_nodeDied a_key a_val a_born a_died a_pathNode a_pathEntry a_pendKey a_pendVal wk wv a_foundKey a_foundVal a_stack) :
    wpX_remake post (f_now, f_first, f_keys, f_depth, f_pending, f_work, a_rootAt, a_inUse, a_leaf, a_used, a_nodeDied, a_key, a_val, a_born, a_died, a_pathNode, a_pathEntry, a_pendKey, a_pendVal, a_workKey, a_workVal, a_foundKey, a_foundVal, a_stack) (nI lev) w := by
  subst hfp
  have hlen12 : (mv_lvs (G N)).length ≤ 12 := Nat.le_trans (List.length_filter_le _ _) (hR N hN).1
  unfold wpX_remake
  dsimp only
  rw [nI_clamp (n := lev) (by omega), hpn]
  refine And.intro (vp_in_nI hlev (by decide)) (nm_e ?_)
  refine mx_gather (l := []) hR hN (fun i x hx => absurd hx (by simp)) List.Pairwise.nil rfl (by simp; omega) ?_ (fun l wk wv t1 t2 t3 => ?_)
  · rw [List.append_nil]; exact (List.pairwise_append.mp hd).1
  dsimp only
  rw [List.append_nil] at t2
  refine ⟨_, mv_loop P (fun f i (st : Nat × (Nat → Int32) × (Nat → Int32)) => wX_remake_25 post (nI lev) w (nI N) (-2000) f (nI i) f_now f_first f_keys f_depth (nI P.length) (nI st.1) a_rootAt a_inUse a_leaf a_used a_nodeDied a_key a_val a_born a_died a_pathNode a_pathEntry a_pendKey a_pendVal st.2.1 st.2.2 a_foundKey a_foundVal a_stack)
    (fun p st => ∃ s, mv_Srt s ∧ s.Perm ((mv_lvs (G N)).map mv_kv ++ p) ∧ mv_WL st.2.1 st.2.2 0 s ∧ st.1 = s.length) ?_ ?_ (l.length, wk, wv) ⟨l, t1, by rw [List.append_nil]; exact t2, t3, rfl⟩⟩
  · intro f st hI
    obtain ⟨s, s1, s2, s3, s4⟩ := hI
    have := hk f s st.2.1 st.2.2 s1 s2 s3
    rw [← s4] at this
    exact this
  · intro f p x q st hl hx hI ih
    obtain ⟨s, s1, s2, s3, s4⟩ := hI
    have hlt := mv_get_lt hx
    have hwx := hW _ x hx
    rw [Nat.zero_add] at hwx
    have hi2 : vp_in (nI p.length) 2 := vp_in_nI (by omega) (by decide)
    have hlen := s2.length_eq
    rw [List.length_append, List.length_map] at hlen
    refine pk_le P.length p.length (fun h => absurd h (by omega)) (fun _ => And.intro hi2 (And.intro hi2 ?_))
    rw [nI_clamp (n := p.length) (by omega), hwx.1, hwx.2]
    refine mx_addWork (l := s) s3 s1 ?_ (congrArg nI s4) (by omega) (fun l2 wk wv t1 t2 t3 => ?_)
    · intro y hy e
      have hy' := s2.mem_iff.mp hy
      rw [hl, ← List.append_assoc] at hd
      exact (List.pairwise_append.mp hd).2.2 y hy' x (by simp) e
    · dsimp only
      refine nm_r (nI_1 p.length) (ih (s.length + 1, wk, wv) ⟨l2, t1, ?_, t3, ?_⟩)
      · refine t2.trans ((List.Perm.cons _ s2).trans ?_)
        rw [← List.append_assoc]
        exact (List.perm_append_singleton _ _).symm
      · have := t2.length_eq
        simp only [List.length_cons] at this
        exact this.symm
theorem mx_remake0 {post : SX → Prop} {P : List mv_KV} {N : Nat} (hR : mv_Rep G a_used a_key a_val a_born a_died)
    (hpn : a_pathNode 0 = nI N) (hN : N < 128) (hW : mv_WL a_pendKey a_pendVal 0 P) (hfp : f_pending = nI P.length) (hP : P.length ≤ 2)
    (hd : mv_Dis ((mv_lvs (G N)).map mv_kv ++ P))
    (hk : ∀ s wk wv, mv_Srt s → s.Perm ((mv_lvs (G N)).map mv_kv ++ P) → mv_WL wk wv 0 s →
      wX_remake_178 post w (nI N) (-2000) f_now f_first f_keys f_depth (nI P.length) (nI s.length) a_rootAt a_inUse a_leaf a_used (upd a_nodeDied N w) a_key a_val a_born a_died a_pathNode a_pathEntry a_pendKey a_pendVal wk wv a_foundKey a_foundVal a_stack) :
    wpX_remake post (f_now, f_first, f_keys, f_depth, f_pending, f_work, a_rootAt, a_inUse, a_leaf, a_used, a_nodeDied, a_key, a_val, a_born, a_died, a_pathNode, a_pathEntry, a_pendKey, a_pendVal, a_workKey, a_workVal, a_foundKey, a_foundVal, a_stack) 0 w := by
  refine mx_remakeA (lev := 0) hR (by decide) hpn hN hW hfp hP hd (fun f s wk wv t1 t2 t3 => ?_)
  refine pk_le P.length P.length (fun _ => ?_) (fun h => absurd h (by omega))
  rw [nI_clamp (n := N) (by omega)]
  exact And.intro (vp_in_nI hN (by decide)) (nm_e (br_t (by decide) (hk s wk wv t1 t2 t3)))
theorem mx_remake1 {post : SX → Prop} {P : List mv_KV} {N r i : Nat} {x : mv_En} (hR : mv_Rep G a_used a_key a_val a_born a_died)
    (hpn : a_pathNode 1 = nI N) (hN : N < 128) (hpr : a_pathNode 0 = nI r) (hr : r < 128) (hpe : a_pathEntry 0 = nI (r * 12 + i)) (hx : (G r)[i]? = some x)
    (hW : mv_WL a_pendKey a_pendVal 0 P) (hfp : f_pending = nI P.length) (hP : P.length ≤ 2)
    (hd : mv_Dis ((mv_lvs (G N)).map mv_kv ++ P))
    (hk1 : ∀ s wk wv di, 5 ≤ s.length → mv_Srt s → s.Perm ((mv_lvs (G N)).map mv_kv ++ P) → mv_WL wk wv 0 s →
      mv_Rep (mv_gu G r ((G r).set i (x.1, x.2.1, x.2.2.1, w))) a_used a_key a_val a_born di →
      wX_remake_178 post w (nI N) x.1 f_now f_first f_keys f_depth (nI P.length) (nI s.length) a_rootAt a_inUse a_leaf a_used (upd a_nodeDied N w) a_key a_val a_born di a_pathNode a_pathEntry a_pendKey a_pendVal wk wv a_foundKey a_foundVal a_stack)
    (hex : ∃ y ∈ (G r).set i (x.1, x.2.1, x.2.2.1, w), mv_lvb y = true ∧ y.1 ≠ x.1)
    (hsib : ∀ (j : Nat) (y : mv_En), ((G r).set i (x.1, x.2.1, x.2.2.1, w))[j]? = some y → mv_lvb y = true → y.1 ≠ x.1 → ∃ S, S < 128 ∧ S ≠ r ∧ y.2.1 = nI S ∧ mv_Dis ((mv_lvs (G S)).map mv_kv ++ ((mv_lvs (G N)).map mv_kv ++ P)))
    (hk2 : ∀ s wk wv di (j : Nat) (y : mv_En) S, mv_Srt s → ((mv_lvs (G N)).map mv_kv ++ P).length < 5 → s.Perm ((mv_lvs (G S)).map mv_kv ++ ((mv_lvs (G N)).map mv_kv ++ P)) → mv_WL wk wv 0 s → S < 128 → y.2.1 = nI S →
      ((G r).set i (x.1, x.2.1, x.2.2.1, w))[j]? = some y → mv_lvb y = true →
      ((y.1 < x.1 ∧ ∀ z ∈ (G r).set i (x.1, x.2.1, x.2.2.1, w), mv_lvb z = true → z.1 < x.1 → z.1 ≤ y.1) ∨
        (x.1 < y.1 ∧ ∀ z ∈ (G r).set i (x.1, x.2.1, x.2.2.1, w), mv_lvb z = true → x.1 < z.1 → y.1 ≤ z.1)) →
      mv_Rep (mv_gu G r (((G r).set i (x.1, x.2.1, x.2.2.1, w)).set j (y.1, y.2.1, y.2.2.1, w))) a_used a_key a_val a_born di →
      wX_remake_178 post w (nI N) (if x.1 ≤ y.1 then x.1 else y.1) f_now f_first f_keys f_depth (nI P.length) (nI s.length) a_rootAt a_inUse a_leaf a_used (upd (upd a_nodeDied N w) S w) a_key a_val a_born di a_pathNode a_pathEntry a_pendKey a_pendVal wk wv a_foundKey a_foundVal a_stack) :
    wpX_remake post (f_now, f_first, f_keys, f_depth, f_pending, f_work, a_rootAt, a_inUse, a_leaf, a_used, a_nodeDied, a_key, a_val, a_born, a_died, a_pathNode, a_pathEntry, a_pendKey, a_pendVal, a_workKey, a_workVal, a_foundKey, a_foundVal, a_stack) 1 w := by
  refine mx_remakeA (lev := 1) hR (by decide) hpn hN hW hfp hP hd (fun f s wk wv t1 t2 t3 => ?_)
  have hi := mv_get_lt hx
  have hr12 := (hR r hr).1
  have hkx := ((hR r hr).2.2 i x hx).1
  have hix : vp_in (nI (r * 12 + i)) 1536 := mv_ix hr (by omega)
  have hin : vp_in ((1 : Int32) - 1) 16 := vp_in_iff.mpr (by decide)
  have hc0 : ((1 : Int32) - 1).toNatClampNeg = 0 := by decide
  have hR1 := mv_rep_kill (w := w) hR hr hx
  refine pk_le P.length P.length (fun _ => ?_) (fun h => absurd h (by omega))
  rw [nI_clamp (n := N) (by omega)]
  refine And.intro (vp_in_nI hN (by decide)) (nm_e (br_f (by decide) ?_))
  show vp_in ((1 : Int32) - 1) 16 ∧ _
  refine And.intro hin (nm_r (e' := nI (r * 12 + i)) (by show a_pathEntry ((1 : Int32) - 1).toNatClampNeg = _; rw [hc0]; exact hpe) ?_)
  rw [mv_cl hr (by omega), hkx]
  refine And.intro hix (nm_e (And.intro hix (nm_e ?_)))
  have hlen := t2.length_eq
  have hlen2 := hlen
  rw [List.length_append, List.length_map] at hlen2
  have hN12 : (mv_lvs (G N)).length ≤ 12 := Nat.le_trans (List.length_filter_le _ _) (hR N hN).1
  refine pk_le 5 s.length (fun h5 => hk1 s wk wv _ h5 t1 t2 t3 hR1) (fun h5 => And.intro hin ?_)
  have hpr' : a_pathNode (nI 1 - 1).toNatClampNeg = nI r := by
    show a_pathNode ((1 : Int32) - 1).toNatClampNeg = nI r
    rw [hc0]; exact hpr
  rw [hpr']
  have hG1 : mv_gu G r ((G r).set i (x.1, x.2.1, x.2.2.1, w)) r = (G r).set i (x.1, x.2.1, x.2.2.1, w) := mv_gu_s
  refine mx_sibling hR1 hr (fun c1 c2 => ?_) (fun j y hy hly hcase => ?_)
  · exfalso
    obtain ⟨y, hy, hl, hne⟩ := hex
    rw [hG1] at c1 c2
    have d1 := c1 y hy hl
    have d2 := c2 y hy hl
    rw [mv_i32lt] at d1 d2
    rw [ne_eq, mv_i32eq] at hne
    omega
  · rw [hG1] at hy hcase
    have hne : y.1 ≠ x.1 := by
      rcases hcase with h | h
      · exact mv_lt_ne h.1
      · exact (mv_lt_ne h.2.1).symm
    obtain ⟨S, hS, hSr, hyS, hdS⟩ := hsib j y hy hly hne
    have hj := mv_get_lt hy
    rw [List.length_set] at hj
    have hijx : vp_in (nI (r * 12 + j)) 1536 := mv_ix hr (by omega)
    obtain ⟨gk, gv, _, _⟩ := (hR1 r hr).2.2 j y (by rw [hG1]; exact hy)
    refine br_f (nI_pos (by omega)) (And.intro hijx ?_)
    rw [mv_cl hr (by omega), gv, hyS]
    have hGS : mv_gu G r ((G r).set i (x.1, x.2.1, x.2.2.1, w)) S = G S := mv_gu_n hSr
    have hS12 : (mv_lvs (G S)).length ≤ 12 := Nat.le_trans (List.length_filter_le _ _) (hR S hS).1
    refine mx_gather (l := s) hR1 hS t3 t1 rfl (by rw [hGS]; omega) ?_ (fun l2 wk2 wv2 u1 u2 u3 => ?_)
    · rw [hGS]
      exact mv_dis_perm (List.Perm.append_left _ t2.symm) hdS
    · dsimp only
      rw [hGS] at u2
      rw [gv, hyS, gk, nI_clamp (n := S) (by omega)]
      have hR2 := mv_rep_kill (w := w) hR1 hr (by rw [hG1]; exact hy)
      rw [hG1, mv_gu_gu] at hR2
      have K := hk2 l2 wk2 wv2 _ j y S u1 (by rw [← hlen]; exact h5) (u2.trans (List.Perm.append_left _ t2)) u3 hS hyS hy hly (hcase.imp id (fun h => h.2)) hR2
      refine And.intro hijx (And.intro (vp_in_nI hS (by decide)) (nm_e (And.intro hijx (nm_e (And.intro hijx (br_c (fun hle => ?_) (fun hle => And.intro hijx (nm_e ?_))))))))
      · rw [if_pos hle] at K; exact K
      · rw [if_neg hle] at K; exact K
end
end
section
/-! the pure side: worlds, frames, counts -/
abbrev mv_ct (l : List mv_En) : List mv_KV := (mv_lvs l).map mv_kv
abbrev mv_av (v : Int32) (l : List mv_En) : List mv_KV := (mv_alv v l).map mv_kv
def mv_cnt (v : Int32) (nd : Nat → Int32) : Nat := (List.range 128).countP (fun n => decide (v < nd n))
def mv_Wd (first : Nat) (w : Int32) (G : Nat → List mv_En) (lf nd iu : Nat → Int32) : Prop :=
  ∀ n, n < 128 → (iu n = 0 ↔ nd n ≤ nI first) ∧ (lf n = 0 ∨ lf n = 1) ∧ (nd n ≤ w ∨ nd n = 2147483647) ∧
    ∀ x ∈ G n, x.2.2.1 ≤ w ∧ (x.2.2.2 ≤ w ∨ x.2.2.2 = 2147483647)
/-- what the change leaves of the older versions, with at most c new nodes -/
def mv_Ev (first : Nat) (w : Int32) (G0 : Nat → List mv_En) (lf0 nd0 : Nat → Int32) (G : Nat → List mv_En) (lf nd : Nat → Int32) (c : Nat) : Prop :=
  (∀ n v, n < 128 → nI first ≤ v → v < w → v < nd0 n → mv_av v (G n) = mv_av v (G0 n) ∧ lf n = lf0 n ∧ v < nd n) ∧
    ∀ v, nI first ≤ v → v < w → mv_cnt v nd ≤ mv_cnt v nd0 + c
theorem mv_ev_refl {first : Nat} {w : Int32} {G0 : Nat → List mv_En} {lf0 nd0 : Nat → Int32} : mv_Ev first w G0 lf0 nd0 G0 lf0 nd0 0 :=
  ⟨fun _ _ _ _ _ h => ⟨rfl, rfl, h⟩, fun _ _ _ => Nat.le_refl _⟩
theorem mv_wd_mono {first : Nat} {w w' : Int32} {G : Nat → List mv_En} {lf nd iu : Nat → Int32} (h : mv_Wd first w G lf nd iu) (hw : w ≤ w') : mv_Wd first w' G lf nd iu := by
  intro n hn
  obtain ⟨h1, h2, h3, h4⟩ := h n hn
  refine ⟨h1, h2, h3.imp (fun t => Int32.le_trans t hw) id, fun x hx => ?_⟩
  obtain ⟨a, b⟩ := h4 x hx
  exact ⟨Int32.le_trans a hw, b.imp (fun t => Int32.le_trans t hw) id⟩
theorem mv_al_iff {v : Int32} {x : mv_En} : mv_al v x = true ↔ x.2.2.1 ≤ v ∧ v < x.2.2.2 := by
  unfold mv_al
  rw [Bool.and_eq_true, decide_eq_true_eq, decide_eq_true_eq]
theorem mv_lvb_iff {x : mv_En} : mv_lvb x = true ↔ x.2.2.2 = 2147483647 := by
  unfold mv_lvb
  rw [decide_eq_true_eq]
theorem mv_set_split {α : Type} {l : List α} {i : Nat} {x : α} (h : l[i]? = some x) (y : α) :
    l = l.take i ++ x :: l.drop (i + 1) ∧ l.set i y = l.take i ++ y :: l.drop (i + 1) := by
  have hi := mv_get_lt h
  have hx : l[i] = x := by rw [List.getElem?_eq_getElem hi] at h; exact Option.some.inj h
  constructor
  · rw [← hx, List.getElem_cons_drop, List.take_append_drop]
  · exact List.set_eq_take_append_cons_drop.trans (by rw [if_pos hi])
theorem mv_av_kill {v w : Int32} {l : List mv_En} {i : Nat} {x : mv_En} (h : l[i]? = some x) (hx : x.2.2.2 = 2147483647) (hv : v < w) :
    mv_av v (l.set i (x.1, x.2.1, x.2.2.1, w)) = mv_av v l := by
  obtain ⟨e1, e2⟩ := mv_set_split h (x.1, x.2.1, x.2.2.1, w)
  have hb := w.toInt_lt
  have hal : mv_al v (x.1, x.2.1, x.2.2.1, w) = mv_al v x := by
    rw [Bool.eq_iff_iff, mv_al_iff, mv_al_iff, hx]
    refine and_congr_right (fun _ => ⟨fun _ => ?_, fun _ => hv⟩)
    rw [mv_i32lt] at hv ⊢
    rw [mv_t6]
    omega
  show (List.filter (mv_al v) (l.set i _)).map mv_kv = (List.filter (mv_al v) l).map mv_kv
  rw [e2]
  conv => rhs; rw [e1]
  rw [List.filter_append, List.filter_append, List.filter_cons, List.filter_cons, hal]
  cases mv_al v x <;> simp [mv_kv]
theorem mv_av_app {v w : Int32} {l : List mv_En} {P : List mv_KV} (hv : v < w) : mv_av v (l ++ P.map (mv_fr w)) = mv_av v l := by
  show (List.filter (mv_al v) (l ++ P.map (mv_fr w))).map mv_kv = (List.filter (mv_al v) l).map mv_kv
  rw [List.filter_append]
  have : List.filter (mv_al v) (P.map (mv_fr w)) = [] := by
    rw [List.filter_eq_nil_iff]
    intro x hx ha
    obtain ⟨p, _, rfl⟩ := List.mem_map.mp hx
    have := (mv_al_iff.mp ha).1
    exact absurd (Int32.lt_of_le_of_lt this hv) (mv_irr _)
  rw [this, List.append_nil]
theorem mv_ct_fr (w : Int32) (s : List mv_KV) : mv_ct (s.map (mv_fr w)) = s := by
  show (List.filter mv_lvb (s.map (mv_fr w))).map mv_kv = s
  rw [List.filter_eq_self.mpr]
  · rw [List.map_map]
    have : (mv_kv ∘ mv_fr w) = id := rfl
    rw [this, List.map_id]
  · intro x hx
    obtain ⟨p, _, rfl⟩ := List.mem_map.mp hx
    exact mv_lvb_iff.mpr rfl
theorem mv_ct_app (w : Int32) (l : List mv_En) (P : List mv_KV) : mv_ct (l ++ P.map (mv_fr w)) = mv_ct l ++ P := by
  have := mv_ct_fr w P
  show (List.filter mv_lvb (l ++ P.map (mv_fr w))).map mv_kv = _
  rw [List.filter_append, List.map_append]
  exact congrArg _ this
/-- killing one live entry takes its pair out of the live list -/
theorem mv_ct_kill {w : Int32} {l : List mv_En} {i : Nat} {x : mv_En} (h : l[i]? = some x) (hx : mv_lvb x = true) (hw : w < 2147483647) :
    ∃ A B, mv_ct l = A ++ mv_kv x :: B ∧ mv_ct (l.set i (x.1, x.2.1, x.2.2.1, w)) = A ++ B := by
  obtain ⟨e1, e2⟩ := mv_set_split h (x.1, x.2.1, x.2.2.1, w)
  have hd : mv_lvb (x.1, x.2.1, x.2.2.1, w) = false := by
    cases c : mv_lvb (x.1, x.2.1, x.2.2.1, w) with
    | false => rfl
    | true => exact absurd (mv_lvb_iff.mp c) (mv_lt_ne hw)
  refine ⟨mv_ct (l.take i), mv_ct (l.drop (i + 1)), ?_, ?_⟩
  · show (List.filter mv_lvb l).map mv_kv = _
    conv => lhs; rw [e1]
    rw [List.filter_append, List.filter_cons, hx, List.map_append]
    rfl
  · show (List.filter mv_lvb (l.set i _)).map mv_kv = _
    rw [e2, List.filter_append, List.filter_cons, hd, List.map_append]
    rfl
theorem mv_av_now {w : Int32} {l : List mv_En} (hw : w < 2147483647) (h : ∀ x ∈ l, x.2.2.1 ≤ w ∧ (x.2.2.2 ≤ w ∨ x.2.2.2 = 2147483647)) : mv_av w l = mv_ct l := by
  show (List.filter (mv_al w) l).map mv_kv = (List.filter mv_lvb l).map mv_kv
  congr 1
  apply List.filter_congr
  intro x hx
  obtain ⟨h1, h2⟩ := h x hx
  rw [Bool.eq_iff_iff, mv_al_iff, mv_lvb_iff]
  constructor
  · intro t
    rcases h2 with h2 | h2
    · exact absurd (Int32.lt_of_lt_of_le t.2 h2) (mv_irr _)
    · exact h2
  · intro t
    exact ⟨h1, by rw [t]; exact hw⟩
theorem mv_countP_upd {p q : Nat → Bool} {m : Nat} (h : ∀ n, n ≠ m → q n = true → p n = true) : ∀ l : List Nat, l.Nodup → l.countP q ≤ l.countP p + 1 := by
  intro l
  induction l with
  | nil => intro _; simp
  | cons a l ih =>
    intro hn
    rw [List.nodup_cons] at hn
    rw [List.countP_cons, List.countP_cons]
    by_cases e : a = m
    · subst e
      have : l.countP q ≤ l.countP p := List.countP_mono_left (fun x hx hq => h x (fun c => hn.1 (c ▸ hx)) hq)
      split <;> split <;> omega
    · have := ih hn.2
      have h' := h a e
      cases hq : q a with
      | false => simp; split <;> omega
      | true => rw [h' hq]; simp; omega
theorem mv_cnt_upd {v d : Int32} {nd : Nat → Int32} {m : Nat} : mv_cnt v (upd nd m d) ≤ mv_cnt v nd + 1 := by
  refine mv_countP_upd (m := m) (fun n hn h => ?_) _ List.nodup_range
  rw [pk_un hn] at h
  exact h
theorem mv_cnt_mono {v : Int32} {nd nd' : Nat → Int32} (h : ∀ n, n < 128 → v < nd' n → v < nd n) : mv_cnt v nd' ≤ mv_cnt v nd := by
  refine List.countP_mono_left (fun n hn hq => ?_)
  have := List.mem_range.mp hn
  exact decide_eq_true (h n this (of_decide_eq_true hq))
section
variable {first c : Nat} {w : Int32} {G0 G : Nat → List mv_En} {lf0 nd0 lf nd iu : Nat → Int32}
theorem mv_ev_gu {n : Nat} {l : List mv_En} (hE : mv_Ev first w G0 lf0 nd0 G lf nd c) (hl : ∀ v, v < w → mv_av v l = mv_av v (G n)) :
    mv_Ev first w G0 lf0 nd0 (mv_gu G n l) lf nd c := by
  refine ⟨fun m v hm h1 h2 h3 => ?_, hE.2⟩
  obtain ⟨a, b, d⟩ := hE.1 m v hm h1 h2 h3
  refine ⟨?_, b, d⟩
  by_cases e : m = n
  · subst e; rw [mv_gu_s, hl v h2]; exact a
  · rw [mv_gu_n e]; exact a
theorem mv_wd_gu {n : Nat} {l : List mv_En} (hW : mv_Wd first w G lf nd iu) (hl : ∀ x ∈ l, x.2.2.1 ≤ w ∧ (x.2.2.2 ≤ w ∨ x.2.2.2 = 2147483647)) :
    mv_Wd first w (mv_gu G n l) lf nd iu := by
  intro m hm
  obtain ⟨a, b, d, e⟩ := hW m hm
  refine ⟨a, b, d, ?_⟩
  by_cases t : m = n
  · subst t; rw [mv_gu_s]; exact hl
  · rw [mv_gu_n t]; exact e
theorem mv_wd_kill {n i : Nat} {x : mv_En} (hW : mv_Wd first w G lf nd iu) (hn : n < 128) (hx : (G n)[i]? = some x) :
    mv_Wd first w (mv_gu G n ((G n).set i (x.1, x.2.1, x.2.2.1, w))) lf nd iu := by
  refine mv_wd_gu hW (fun y hy => ?_)
  obtain ⟨_, _, _, e⟩ := hW n hn
  rcases List.mem_or_eq_of_mem_set hy with hy | rfl
  · exact e y hy
  · exact ⟨(e x (mv_get_mem hx)).1, Or.inl (Int32.le_refl _)⟩
theorem mv_wd_app {n : Nat} {P : List mv_KV} (hW : mv_Wd first w G lf nd iu) (hn : n < 128) :
    mv_Wd first w (mv_gu G n (G n ++ P.map (mv_fr w))) lf nd iu := by
  refine mv_wd_gu hW (fun y hy => ?_)
  obtain ⟨_, _, _, e⟩ := hW n hn
  rcases List.mem_append.mp hy with hy | hy
  · exact e y hy
  · obtain ⟨p, _, rfl⟩ := List.mem_map.mp hy
    exact ⟨Int32.le_refl _, Or.inr rfl⟩
theorem mv_wd_new {m : Nat} {b : Int32} {s : List mv_KV} (hW : mv_Wd first w G lf nd iu) (hb : b = 0 ∨ b = 1) (hf : nI first < 2147483647) :
    mv_Wd first w (mv_gu G m (s.map (mv_fr w))) (upd lf m b) (upd nd m 2147483647) (upd iu m 1) := by
  intro n hn
  obtain ⟨a, b', d, e⟩ := hW n hn
  by_cases t : n = m
  · subst t
    rw [pk_us, pk_us, pk_us, mv_gu_s]
    refine ⟨⟨fun h => absurd h (by decide), fun h => absurd (Int32.lt_of_lt_of_le hf h) (mv_irr _)⟩, hb, Or.inr rfl, fun y hy => ?_⟩
    obtain ⟨p, _, rfl⟩ := List.mem_map.mp hy
    exact ⟨Int32.le_refl _, Or.inr rfl⟩
  · rw [pk_un t, pk_un t, pk_un t, mv_gu_n t]
    exact ⟨a, b', d, e⟩
theorem mv_ev_new {m : Nat} {b : Int32} {s : List mv_En} (hE : mv_Ev first w G0 lf0 nd0 G lf nd c) (hW : mv_Wd first w G lf nd iu) (hm : m < 128) (hi : iu m = 0) :
    mv_Ev first w G0 lf0 nd0 (mv_gu G m s) (upd lf m b) (upd nd m 2147483647) (c + 1) := by
  refine ⟨fun n v hn h1 h2 h3 => ?_, fun v h1 h2 => ?_⟩
  · obtain ⟨a, b', d⟩ := hE.1 n v hn h1 h2 h3
    by_cases t : n = m
    · subst t
      have := (hW n hn).1.mp hi
      exact absurd (Int32.lt_of_lt_of_le d (Int32.le_trans this h1)) (mv_irr _)
    · rw [pk_un t, pk_un t, mv_gu_n t]
      exact ⟨a, b', d⟩
  · have := hE.2 v h1 h2
    have := mv_cnt_upd (v := v) (d := 2147483647) (nd := nd) (m := m)
    omega
theorem mv_wd_die {n : Nat} (hW : mv_Wd first w G lf nd iu) (hn : n < 128) (hd : nd n = 2147483647) (hf : nI first < w) (hf' : nI first < 2147483647) :
    mv_Wd first w G lf (upd nd n w) iu := by
  intro m hm
  obtain ⟨a, b, d, e⟩ := hW m hm
  by_cases t : m = n
  · subst t
    rw [pk_us]
    refine ⟨⟨fun h => ?_, fun h => absurd (Int32.lt_of_lt_of_le hf h) (mv_irr _)⟩, b, Or.inl (Int32.le_refl _), e⟩
    have := a.mp h
    rw [hd] at this
    exact absurd (Int32.lt_of_lt_of_le hf' this) (mv_irr _)
  · rw [pk_un t]; exact ⟨a, b, d, e⟩
theorem mv_ev_die {n : Nat} (hE : mv_Ev first w G0 lf0 nd0 G lf nd c) (hd : nd n = 2147483647) (hw : w ≤ 2147483647) :
    mv_Ev first w G0 lf0 nd0 G lf (upd nd n w) c := by
  refine ⟨fun m v hm h1 h2 h3 => ?_, fun v h1 h2 => ?_⟩
  · obtain ⟨a, b', d⟩ := hE.1 m v hm h1 h2 h3
    by_cases t : m = n
    · subst t; rw [pk_us]; exact ⟨a, b', h2⟩
    · rw [pk_un t]; exact ⟨a, b', d⟩
  · refine Nat.le_trans (mv_cnt_mono (fun m hm h => ?_)) (hE.2 v h1 h2)
    by_cases t : m = n
    · subst t; rw [hd]; exact Int32.lt_of_lt_of_le h2 hw
    · rw [pk_un t] at h; exact h
theorem mv_free_of {d : Nat} (hW : mv_Wd first w G lf nd iu) (h : mv_cnt (nI first) nd + d ≤ 128) : mv_Free d iu := by
  refine ⟨(List.range 128).filter (fun n => decide (¬ decide (nI first < nd n) = true)), List.Nodup.sublist List.filter_sublist List.nodup_range, ?_, fun m hm => ?_⟩
  · have := List.length_eq_countP_add_countP (fun n => decide (nI first < nd n)) (l := List.range 128)
    rw [List.length_range] at this
    rw [← List.countP_eq_length_filter]
    unfold mv_cnt at h
    omega
  · have hm' := List.mem_filter.mp hm
    have h1 := List.mem_range.mp hm'.1
    refine ⟨h1, (hW m h1).1.mpr ?_⟩
    have := of_decide_eq_true hm'.2
    rw [decide_eq_true_eq] at this
    exact Int32.not_lt.mp this
end
end
section
/-! the pure side: the current tree -/
def mv_nc (p : Int32 × Nat) : mv_KV := (p.1, nI p.2)
def mv_TT (G : Nat → List mv_En) (Ch : List (Int32 × Nat)) : List (Int32 × List mv_KV) := Ch.map (fun p => (p.1, mv_ct (G p.2)))
abbrev mv_fl (T : List (Int32 × List mv_KV)) : List mv_KV := T.flatMap (fun p => p.2)
def mv_Tr (G : Nat → List mv_En) (lf nd : Nat → Int32) (Ch : List (Int32 × Nat)) (h : List mv_KV) : Prop :=
  (∀ p ∈ Ch, p.2 < 128 ∧ lf p.2 = 1 ∧ nd p.2 = 2147483647) ∧ (Ch.map (fun p => p.2)).Nodup ∧ mv_RT (mv_TT G Ch) ∧
    (mv_fl (mv_TT G Ch)).Perm h ∧ (2 ≤ Ch.length → ∀ p ∈ Ch, 3 ≤ (mv_ct (G p.2)).length)
abbrev mv_nk (k : Int32) (l : List mv_KV) : List mv_KV := l.filter (fun x => decide (x.1 ≠ k))
theorem mv_Tr_perm {G : Nat → List mv_En} {lf nd : Nat → Int32} {Ch Ch' : List (Int32 × Nat)} {h : List mv_KV} (p : Ch.Perm Ch') (t : mv_Tr G lf nd Ch h) : mv_Tr G lf nd Ch' h := by
  obtain ⟨t1, t2, t3, t4, t5⟩ := t
  have pT : (mv_TT G Ch).Perm (mv_TT G Ch') := p.map _
  refine ⟨fun q hq => t1 q (p.mem_iff.mpr hq), (p.map _).nodup t2, mv_RT_perm pT t3, (List.Perm.flatMap_right _ pT.symm).trans t4, fun h q hq => t5 ?_ q (p.mem_iff.mpr hq)⟩
  rw [p.length_eq]; exact h
theorem mv_Tr_h {G : Nat → List mv_En} {lf nd : Nat → Int32} {Ch : List (Int32 × Nat)} {h h' : List mv_KV} (p : h.Perm h') (t : mv_Tr G lf nd Ch h) : mv_Tr G lf nd Ch h' := by
  obtain ⟨t1, t2, t3, t4, t5⟩ := t
  exact ⟨t1, t2, t3, t4.trans p, t5⟩
theorem mv_len3 : ∀ T : List (Int32 × List mv_KV), (∀ p ∈ T, 3 ≤ p.2.length) → 3 * T.length ≤ (mv_fl T).length := by
  intro T
  induction T with
  | nil => intro _; exact Nat.le_refl _
  | cons a T ih =>
    intro h
    have h1 := h a List.mem_cons_self
    have h2 := ih (fun p hp => h p (List.mem_cons_of_mem _ hp))
    show 3 * (T.length + 1) ≤ (List.flatMap _ (a :: T)).length
    rw [List.flatMap_cons, List.length_append]
    have h3 : 3 * T.length ≤ (List.flatMap (fun p => p.2) T).length := h2
    omega
theorem mv_Tr_9 {G : Nat → List mv_En} {lf nd : Nat → Int32} {Ch : List (Int32 × Nat)} {h : List mv_KV} (t : mv_Tr G lf nd Ch h) (hh : h.length ≤ 28) : Ch.length ≤ 9 := by
  obtain ⟨t1, t2, t3, t4, t5⟩ := t
  by_cases c : 2 ≤ Ch.length
  · have := mv_len3 (mv_TT G Ch) (fun p hp => by
      obtain ⟨q, hq, rfl⟩ := List.mem_map.mp hp
      exact t5 c q hq)
    rw [t4.length_eq] at this
    unfold mv_TT at this
    rw [List.length_map] at this
    omega
  · omega
theorem mv_key_change {q k : Int32} {c c' P : List mv_KV} {R : List (Int32 × List mv_KV)} {h : List mv_KV} (hRT : mv_RT ((q, c) :: R))
    (hf : (mv_fl ((q, c) :: R)).Perm h) (hq : q ≤ k) (hmax : ∀ p ∈ R, p.1 ≤ k → p.1 ≤ q) (hk1 : -1000 ≤ k) (hk2 : k ≤ 1000)
    (hc' : c'.Perm (mv_nk k c ++ P)) (hP : P = [] ∨ ∃ x, P = [(k, x)]) :
    mv_RT ((q, c') :: R) ∧ (mv_fl ((q, c') :: R)).Perm (mv_nk k h ++ P) := by
  have A := hRT.2.2 (q, c) List.mem_cons_self
  have hPk : ∀ x ∈ P, x.1 = k := by
    intro x hx
    rcases hP with rfl | ⟨y, rfl⟩
    · exact absurd hx List.not_mem_nil
    · rw [List.mem_singleton.mp hx]
  have hPd : mv_Dis P := by
    rcases hP with rfl | ⟨y, rfl⟩
    · exact List.Pairwise.nil
    · exact List.pairwise_singleton _ _
  constructor
  · refine mv_RT_rep hRT ?_ ?_
    · refine mv_dis_perm hc'.symm (List.pairwise_append.mpr ⟨List.Pairwise.sublist List.filter_sublist A.2.2.1, hPd, fun x hx y hy e => ?_⟩)
      have := of_decide_eq_true (List.mem_filter.mp hx).2
      exact this (e.trans (hPk y hy))
    · intro x hx
      rcases List.mem_append.mp (hc'.mem_iff.mp hx) with hx | hx
      · obtain ⟨b1, b2, b3, b4⟩ := A.2.2.2 x (List.mem_filter.mp hx).1
        exact ⟨b1, b2, b3, fun p hp hl => b4 p (List.mem_cons_of_mem _ hp) hl⟩
      · have e := hPk x hx
        refine ⟨e ▸ hq, e ▸ hk1, e ▸ hk2, fun p hp hl => ?_⟩
        rw [e]
        by_cases t : p.1 ≤ k
        · exact absurd (Int32.lt_of_lt_of_le hl (hmax p hp t)) (mv_irr _)
        · exact Int32.not_le.mp t
  · have hR : mv_nk k (mv_fl R) = mv_fl R := by
      refine List.filter_eq_self.mpr (fun x hx => decide_eq_true (fun e => ?_))
      obtain ⟨p, hp, hxp⟩ := List.mem_flatMap.mp hx
      have B := (hRT.2.2 p (List.mem_cons_of_mem _ hp)).2.2.2 x hxp
      have h1 := hmax p hp (e ▸ B.1)
      have h2 := (List.pairwise_cons.mp hRT.2.1).1 p hp
      have h3 := B.2.2.2 (q, c) List.mem_cons_self
      rw [mv_i32le] at h1 hq
      rw [ne_eq, mv_i32eq] at h2
      simp only [mv_i32lt] at h3
      rw [mv_i32eq] at e
      have h2' : ¬ q.toInt = p.1.toInt := h2
      omega
    have e1 : mv_fl ((q, c') :: R) = c' ++ mv_fl R := List.flatMap_cons
    have e2 : mv_fl ((q, c) :: R) = c ++ mv_fl R := List.flatMap_cons
    rw [e1]
    rw [e2] at hf
    have hf' := hf.filter (fun x => decide (x.1 ≠ k))
    rw [List.filter_append] at hf'
    have hR' : List.filter (fun x => decide (x.1 ≠ k)) (mv_fl R) = mv_fl R := hR
    rw [hR'] at hf'
    refine (hc'.append_right _).trans ?_
    refine List.Perm.trans ?_ (hf'.append_right P)
    rw [List.append_assoc, List.append_assoc]
    exact List.Perm.append_left _ List.perm_append_comm
theorem mv_TT_congr {G G' : Nat → List mv_En} {R : List (Int32 × Nat)} (h : ∀ p ∈ R, mv_ct (G' p.2) = mv_ct (G p.2)) : mv_TT G' R = mv_TT G R := by
  unfold mv_TT
  exact List.map_congr_left (fun p hp => by rw [h p hp])
theorem mv_mk1 {G G' : Nat → List mv_En} {lf nd : Nat → Int32} {low : Int32} {m : Nat} {s h : List mv_KV} {R : List (Int32 × Nat)}
    (hRT : mv_RT ((low, s) :: mv_TT G R)) (hf : (mv_fl ((low, s) :: mv_TT G R)).Perm h) (hG : ∀ p ∈ R, mv_ct (G' p.2) = mv_ct (G p.2))
    (hN : ∀ p ∈ R, p.2 < 128 ∧ lf p.2 = 1 ∧ nd p.2 = 2147483647) (hD : (R.map (fun p => p.2)).Nodup) (hm : m < 128) (hm' : ∀ p ∈ R, p.2 ≠ m)
    (hGm : (mv_ct (G' m)).Perm s) (hl : lf m = 1) (hn : nd m = 2147483647) (h3 : R ≠ [] → 3 ≤ s.length ∧ ∀ p ∈ R, 3 ≤ (mv_ct (G p.2)).length) :
    mv_Tr G' lf nd ((low, m) :: R) h := by
  have e : mv_TT G' ((low, m) :: R) = (low, mv_ct (G' m)) :: mv_TT G R := by
    show (low, mv_ct (G' m)) :: mv_TT G' R = _
    rw [mv_TT_congr hG]
  have A := hRT.2.2 (low, s) List.mem_cons_self
  refine ⟨?_, ?_, ?_, ?_, ?_⟩
  · intro p hp
    rcases List.mem_cons.mp hp with rfl | hp
    · exact ⟨hm, hl, hn⟩
    · exact hN p hp
  · show (m :: R.map (fun p => p.2)).Nodup
    refine List.nodup_cons.mpr ⟨fun c => ?_, hD⟩
    obtain ⟨p, hp, e⟩ := List.mem_map.mp c
    exact hm' p hp e
  · rw [e]
    refine mv_RT_rep hRT (mv_dis_perm hGm.symm A.2.2.1) (fun x hx => ?_)
    obtain ⟨b1, b2, b3, b4⟩ := A.2.2.2 x (hGm.mem_iff.mp hx)
    exact ⟨b1, b2, b3, fun p hp hl => b4 p (List.mem_cons_of_mem _ hp) hl⟩
  · rw [e]
    refine List.Perm.trans ?_ hf
    show (List.flatMap _ (_ :: _)).Perm (List.flatMap _ (_ :: _))
    rw [List.flatMap_cons, List.flatMap_cons]
    exact hGm.append_right _
  · intro h2 p hp
    have hR : R ≠ [] := by
      intro c
      rw [c] at h2
      exact absurd h2 (by simp)
    obtain ⟨b1, b2⟩ := h3 hR
    rcases List.mem_cons.mp hp with rfl | hp
    · rw [hGm.length_eq]; exact b1
    · rw [hG p hp]; exact b2 p hp
theorem mv_mk2 {G G' : Nat → List mv_En} {lf nd : Nat → Int32} {low : Int32} {m m' hh : Nat} {x : mv_KV} {s h : List mv_KV} {R : List (Int32 × Nat)}
    (hRT : mv_RT ((low, s) :: mv_TT G R)) (hf : (mv_fl ((low, s) :: mv_TT G R)).Perm h) (hS : mv_Srt s) (hx : s[hh]? = some x) (hh3 : 3 ≤ hh) (hh3' : hh + 3 ≤ s.length)
    (hG : ∀ p ∈ R, mv_ct (G' p.2) = mv_ct (G p.2))
    (hN : ∀ p ∈ R, p.2 < 128 ∧ lf p.2 = 1 ∧ nd p.2 = 2147483647) (hD : (R.map (fun p => p.2)).Nodup) (hm : m < 128) (hm' : ∀ p ∈ R, p.2 ≠ m)
    (km : m' < 128) (km' : ∀ p ∈ R, p.2 ≠ m') (kmm : m' ≠ m)
    (hGm : mv_ct (G' m) = s.take hh) (hl : lf m = 1) (hn : nd m = 2147483647)
    (kGm : mv_ct (G' m') = s.drop hh) (kl : lf m' = 1) (kn : nd m' = 2147483647) (h3 : ∀ p ∈ R, 3 ≤ (mv_ct (G p.2)).length) :
    mv_Tr G' lf nd ((low, m) :: (x.1, m') :: R) h := by
  have hlt := mv_get_lt hx
  have es : s.take hh ++ s.drop hh = s := List.take_append_drop hh s
  have hxd : s.drop hh = x :: s.drop (hh + 1) := by
    rw [List.getElem?_eq_getElem hlt] at hx
    rw [← Option.some.inj hx]
    exact List.drop_eq_getElem_cons hlt
  have hpw : mv_Srt (s.take hh ++ s.drop hh) := by rw [es]; exact hS
  have hpw' := List.pairwise_append.mp hpw
  have hRT2 : mv_RT ((low, s.take hh) :: (x.1, s.drop hh) :: mv_TT G R) := by
    refine mv_RT_split (by rw [es]; exact hRT) ?_ ?_ ?_ ⟨x, by rw [hxd]; exact List.mem_cons_self, rfl⟩
    · intro c
      have := congrArg List.length c
      rw [List.length_take, List.length_nil] at this
      omega
    · intro y hy
      exact hpw'.2.2 y hy x (by rw [hxd]; exact List.mem_cons_self)
    · intro y hy
      rw [hxd] at hy
      rcases List.mem_cons.mp hy with rfl | hy
      · exact Int32.le_refl _
      · have := hpw'.2.1
        rw [hxd] at this
        exact Int32.le_of_lt ((List.pairwise_cons.mp this).1 y hy)
  have e : mv_TT G' ((low, m) :: (x.1, m') :: R) = (low, s.take hh) :: (x.1, s.drop hh) :: mv_TT G R := by
    show (low, mv_ct (G' m)) :: (x.1, mv_ct (G' m')) :: mv_TT G' R = _
    rw [mv_TT_congr hG, hGm, kGm]
  refine ⟨?_, ?_, ?_, ?_, ?_⟩
  · intro p hp
    rcases List.mem_cons.mp hp with rfl | hp
    · exact ⟨hm, hl, hn⟩
    · rcases List.mem_cons.mp hp with rfl | hp
      · exact ⟨km, kl, kn⟩
      · exact hN p hp
  · show (m :: m' :: R.map (fun p => p.2)).Nodup
    refine List.nodup_cons.mpr ⟨fun c => ?_, List.nodup_cons.mpr ⟨fun c => ?_, hD⟩⟩
    · rcases List.mem_cons.mp c with c | c
      · exact kmm c.symm
      · obtain ⟨p, hp, e⟩ := List.mem_map.mp c
        exact hm' p hp e
    · obtain ⟨p, hp, e⟩ := List.mem_map.mp c
      exact km' p hp e
  · rw [e]; exact hRT2
  · rw [e]
    refine List.Perm.trans ?_ hf
    show (List.flatMap _ (_ :: _ :: _)).Perm (List.flatMap _ (_ :: _))
    rw [List.flatMap_cons, List.flatMap_cons, List.flatMap_cons, ← List.append_assoc]
    show (s.take hh ++ s.drop hh ++ _).Perm _
    rw [es]
  · intro _ p hp
    rcases List.mem_cons.mp hp with rfl | hp
    · rw [hGm, List.length_take]; omega
    · rcases List.mem_cons.mp hp with rfl | hp
      · rw [kGm, List.length_drop]; omega
      · rw [hG p hp]; exact h3 p hp
/-- the place of a live entry of the root among the children -/
theorem mv_place {Ch : List (Int32 × Nat)} {A B : List mv_KV} {y : mv_KV} (h : A ++ y :: B = Ch.map mv_nc) :
    ∃ C1 p C2, Ch = C1 ++ p :: C2 ∧ C1.map mv_nc = A ∧ mv_nc p = y ∧ C2.map mv_nc = B := by
  obtain ⟨l1, l2, e1, e2, e3⟩ := List.map_eq_append_iff.mp h.symm
  obtain ⟨p, l3, e4, e5, e6⟩ := List.map_eq_cons_iff.mp e3
  exact ⟨l1, p, l3, by rw [e1, e4], e2, e5, e6⟩
end
section
/-! the invariants of X's state -/
def mv_TV (G : Nat → List mv_En) (lf : Nat → Int32) (v : Int32) (r : Nat) : List (Int32 × List mv_KV) :=
  if lf r = 1 then [((-2000 : Int32), mv_av v (G r))] else (mv_av v (G r)).map (fun p => (p.1, mv_av v (G p.2.toNatClampNeg)))
def mv_VOK (G : Nat → List mv_En) (lf nd : Nat → Int32) (v : Int32) (r : Nat) (h : List mv_KV) : Prop :=
  r < 128 ∧ v < nd r ∧ (lf r = 0 ∨ lf r = 1) ∧ mv_RT (mv_TV G lf v r) ∧ (mv_fl (mv_TV G lf v r)).Perm h ∧
    (lf r = 0 → ∀ p ∈ mv_av v (G r), ∃ c, c < 128 ∧ p.2 = nI c ∧ lf c = 1 ∧ v < nd c)
def mv_Cur (first now : Nat) (G : Nat → List mv_En) (lf nd : Nat → Int32) (r : Nat) (Ch : List (Int32 × Nat)) (h : List mv_KV) : Prop :=
  r < 128 ∧ nd r = 2147483647 ∧ mv_Tr G lf nd Ch h ∧ ((lf r = 1 ∧ Ch = [((-2000 : Int32), r)]) ∨ (lf r = 0 ∧ 2 ≤ Ch.length ∧ mv_ct (G r) = Ch.map mv_nc)) ∧
    (∀ n, n < 128 → nd n = 2147483647 → n = r ∨ n ∈ Ch.map (fun p => p.2)) ∧
    (∀ v, first ≤ v → v ≤ now → 4 * mv_cnt (nI v) nd + (if Ch.length = 1 then 4 else (G r).length) ≤ 52 + 10 * (now - v))
def mv_XR (first now : Nat) (H : Nat → List mv_KV) (u : SX) : Prop := match u with
  | (f_now, f_first, f_keys, f_depth, f_pending, f_work, a_rootAt, a_inUse, a_leaf, a_used, a_nodeDied, a_key, a_val, a_born, a_died, a_pathNode, a_pathEntry, a_pendKey, a_pendVal, a_workKey, a_workVal, a_foundKey, a_foundVal, a_stack) => ∃ G r Ch, f_now = nI now ∧ f_first = nI first ∧ f_keys = nI (H now).length ∧ mv_Rep G a_used a_key a_val a_born a_died ∧
      mv_Wd first (nI now) G a_leaf a_nodeDied a_inUse ∧
      (∀ v, first ≤ v → v ≤ now → ∃ rv, a_rootAt (v % 41) = nI rv ∧ mv_VOK G a_leaf a_nodeDied (nI v) rv (H v)) ∧
      a_rootAt (now % 41) = nI r ∧ mv_Cur first now G a_leaf a_nodeDied r Ch (H now)
/-- the state behind settle: the version now + 1 with the contents h -/
def mv_Dn (first now : Nat) (h : List mv_KV) (ks : Int32) (ra : Nat → Int32) (G0 : Nat → List mv_En) (lf0 nd0 : Nat → Int32) (u : SX) : Prop := match u with
  | (f_now, f_first, f_keys, f_depth, f_pending, f_work, a_rootAt, a_inUse, a_leaf, a_used, a_nodeDied, a_key, a_val, a_born, a_died, a_pathNode, a_pathEntry, a_pendKey, a_pendVal, a_workKey, a_workVal, a_foundKey, a_foundVal, a_stack) => ∃ G r Ch c, f_now = nI (now + 1) ∧ f_first = nI first ∧ f_keys = ks ∧ mv_Rep G a_used a_key a_val a_born a_died ∧
      mv_Wd first (nI (now + 1)) G a_leaf a_nodeDied a_inUse ∧ mv_Ev first (nI (now + 1)) G0 lf0 nd0 G a_leaf a_nodeDied c ∧
      a_rootAt = upd ra ((now + 1) % 41) (nI r) ∧ mv_Cur first (now + 1) G a_leaf a_nodeDied r Ch h
theorem mv_VOK_frame {G0 G : Nat → List mv_En} {lf0 nd0 lf nd : Nat → Int32} {v : Int32} {r : Nat} {h : List mv_KV} (hV : mv_VOK G0 lf0 nd0 v r h)
    (hE : ∀ n, n < 128 → v < nd0 n → mv_av v (G n) = mv_av v (G0 n) ∧ lf n = lf0 n ∧ v < nd n) : mv_VOK G lf nd v r h := by
  obtain ⟨h1, h2, h3, h4, h5, h6⟩ := hV
  obtain ⟨e1, e2, e3⟩ := hE r h1 h2
  have eT : mv_TV G lf v r = mv_TV G0 lf0 v r := by
    unfold mv_TV
    rw [e2, e1]
    by_cases c : lf0 r = 1
    · rw [if_pos c, if_pos c]
    · rw [if_neg c, if_neg c]
      refine List.map_congr_left (fun p hp => ?_)
      obtain ⟨d, d1, d2, d3, d4⟩ := h6 (h3.resolve_right c) p hp
      rw [d2, nI_clamp (by omega), (hE d d1 d4).1]
  refine ⟨h1, e3, by rw [e2]; exact h3, by rw [eT]; exact h4, by rw [eT]; exact h5, fun hl p hp => ?_⟩
  rw [e1] at hp
  rw [e2] at hl
  obtain ⟨d, d1, d2, d3, d4⟩ := h6 hl p hp
  obtain ⟨_, f2, f3⟩ := hE d d1 d4
  exact ⟨d, d1, d2, by rw [f2]; exact d3, f3⟩
theorem mv_VOK_cur {first now : Nat} {G : Nat → List mv_En} {lf nd iu : Nat → Int32} {r : Nat} {Ch : List (Int32 × Nat)} {h : List mv_KV} {w : Int32}
    (hW : mv_Wd first w G lf nd iu) (hw : w < 2147483647) (hC : mv_Cur first now G lf nd r Ch h) : mv_VOK G lf nd w r h := by
  obtain ⟨c1, c2, c3, c4, c5, c6⟩ := hC
  obtain ⟨t1, t2, t3, t4, t5⟩ := c3
  have hav : ∀ n, n < 128 → mv_av w (G n) = mv_ct (G n) := fun n hn => mv_av_now hw (hW n hn).2.2.2
  have eT : mv_TV G lf w r = mv_TT G Ch := by
    unfold mv_TV
    rcases c4 with ⟨l1, l2⟩ | ⟨l1, l2, l3⟩
    · rw [if_pos l1, l2, hav r c1]; rfl
    · rw [if_neg (by rw [l1]; decide), hav r c1, l3, List.map_map]
      refine List.map_congr_left (fun p hp => ?_)
      have hp' := (t1 p hp).1
      show (p.1, mv_av w (G (nI p.2).toNatClampNeg)) = (p.1, mv_ct (G p.2))
      rw [nI_clamp (by omega), hav p.2 hp']
  refine ⟨c1, by rw [c2]; exact hw, (hW r c1).2.1, by rw [eT]; exact t3, by rw [eT]; exact t4, fun hl p hp => ?_⟩
  rcases c4 with ⟨l1, l2⟩ | ⟨l1, l2, l3⟩
  · rw [l1] at hl; exact absurd hl (by decide)
  · rw [hav r c1, l3] at hp
    obtain ⟨q, hq, rfl⟩ := List.mem_map.mp hp
    obtain ⟨b1, b2, b3⟩ := t1 q hq
    exact ⟨q.2, b1, rfl, b2, by rw [b3]; exact hw⟩
theorem mv_nI_lt_al {n : Nat} (h : n < 5000) : nI n < 2147483647 := nI_lt (b := 2147483647) (by omega) (by decide)
theorem mv_Dn_XR {first now : Nat} {H : Nat → List mv_KV} {h : List mv_KV} {ks : Int32} {ra : Nat → Int32} {G0 : Nat → List mv_En} {lf0 nd0 : Nat → Int32} {u : SX}
    (hfn : first ≤ now) (hn40 : now < first + 40) (hnow : now < 4000) (hks : ks = nI h.length)
    (hV : ∀ v, first ≤ v → v ≤ now → ∃ rv, ra (v % 41) = nI rv ∧ mv_VOK G0 lf0 nd0 (nI v) rv (H v))
    (hD : mv_Dn first now h ks ra G0 lf0 nd0 u) : mv_XR first (now + 1) (fun v => if v = now + 1 then h else H v) u := by
  obtain ⟨f_now, f_first, f_keys, f_depth, f_pending, f_work, a_rootAt, a_inUse, a_leaf, a_used, a_nodeDied, a_key, a_val, a_born, a_died, a_pathNode, a_pathEntry, a_pendKey, a_pendVal, a_workKey, a_workVal, a_foundKey, a_foundVal, a_stack⟩ := u
  obtain ⟨G, r, Ch, c, d1, d2, d3, d4, d5, d6, d7, d8⟩ := hD
  have eH : (if now + 1 = now + 1 then h else H (now + 1)) = h := if_pos rfl
  refine ⟨G, r, Ch, d1, d2, ?_, d4, d5, fun v hv1 hv2 => ?_, by rw [d7]; exact pk_us, ?_⟩
  · rw [d3, hks]; exact congrArg (fun l : List mv_KV => nI l.length) eH.symm
  · by_cases e : v = now + 1
    · subst e
      refine ⟨r, by rw [d7]; exact pk_us, ?_⟩
      show mv_VOK G a_leaf a_nodeDied (nI (now + 1)) r (if now + 1 = now + 1 then h else H (now + 1))
      rw [eH]
      exact mv_VOK_cur d5 (mv_nI_lt_al (by omega)) d8
    · obtain ⟨rv, e1, e2⟩ := hV v hv1 (by omega)
      refine ⟨rv, by rw [d7, pk_un (by omega)]; exact e1, ?_⟩
      show mv_VOK G a_leaf a_nodeDied (nI v) rv (if v = now + 1 then h else H v)
      rw [if_neg e]
      exact mv_VOK_frame e2 (fun n hn hl => d6.1 n (nI v) hn (nI_le hv1 (by omega)) (nI_lt (by omega) (by omega)) hl)
  · show mv_Cur first (now + 1) G a_leaf a_nodeDied r Ch (if now + 1 = now + 1 then h else H (now + 1))
    rw [eH]
    exact d8
theorem mv_cnt_in {v : Int32} {nd : Nat → Int32} {l : List Nat} (h : ∀ n, n < 128 → v < nd n → n ∈ l) : mv_cnt v nd ≤ l.length := by
  unfold mv_cnt
  rw [List.countP_eq_length_filter]
  refine List.Nodup.length_le_of_subset (List.Nodup.sublist List.filter_sublist List.nodup_range) (fun n hn => ?_)
  have hn' := List.mem_filter.mp hn
  exact h n (List.mem_range.mp hn'.1) (of_decide_eq_true hn'.2)
/-- the potential at the new version's own count -/
theorem mv_pot_new {first : Nat} {w : Int32} {G : Nat → List mv_En} {lf nd iu : Nat → Int32} {Ch : List (Int32 × Nat)} {r : Nat} (hW : mv_Wd first w G lf nd iu)
    (hal : ∀ n, n < 128 → nd n = 2147483647 → n = r ∨ n ∈ Ch.map (fun p => p.2)) (h9 : Ch.length ≤ 9) (h12 : (G r).length ≤ 12) :
    4 * mv_cnt w nd + (if Ch.length = 1 then 4 else (G r).length) ≤ 52 := by
  have h1 : mv_cnt w nd ≤ (r :: Ch.map (fun p => p.2)).length := by
    refine mv_cnt_in (fun n hn hl => ?_)
    have hnd : nd n = 2147483647 := by
      rcases (hW n hn).2.2.1 with t | t
      · exact absurd (Int32.lt_of_lt_of_le hl t) (mv_irr _)
      · exact t
    rcases hal n hn hnd with t | t
    · rw [t]; exact List.mem_cons_self
    · exact List.mem_cons_of_mem _ t
  rw [List.length_cons, List.length_map] at h1
  split <;> omega
end
section
/-! shrink and the end of settle -/
theorem mv_cur_mk {first now r : Nat} {G : Nat → List mv_En} {lf nd iu : Nat → Int32} {Ch : List (Int32 × Nat)} {h : List mv_KV}
    (hW : mv_Wd first (nI (now + 1)) G lf nd iu) (hr : r < 128) (hnd : nd r = 2147483647) (hT : mv_Tr G lf nd Ch h)
    (hroot : (lf r = 1 ∧ Ch = [((-2000 : Int32), r)]) ∨ (lf r = 0 ∧ 2 ≤ Ch.length ∧ mv_ct (G r) = Ch.map mv_nc))
    (hal : ∀ n, n < 128 → nd n = 2147483647 → n = r ∨ n ∈ Ch.map (fun p => p.2))
    (hpot : ∀ v, first ≤ v → v ≤ now → 4 * mv_cnt (nI v) nd + (if Ch.length = 1 then 4 else (G r).length) ≤ 52 + 10 * (now + 1 - v))
    (h28 : h.length ≤ 28) (h12 : (G r).length ≤ 12) : mv_Cur first (now + 1) G lf nd r Ch h := by
  refine ⟨hr, hnd, hT, hroot, hal, fun v h1 h2 => ?_⟩
  by_cases e : v = now + 1
  · subst e
    rw [Nat.sub_self]
    exact mv_pot_new hW hal (mv_Tr_9 hT h28) h12
  · exact hpot v h1 (by omega)
section
variable {f_now f_first f_keys f_depth f_pending f_work : Int32} {a_rootAt a_inUse a_leaf a_used a_nodeDied a_key a_val a_born a_died a_pathNode a_pathEntry a_pendKey a_pendVal a_workKey a_workVal a_foundKey a_foundVal a_stack : Nat → Int32} {G G0 : Nat → List mv_En} {lf0 nd0 ra : Nat → Int32} {r first now c : Nat} {Ch : List (Int32 × Nat)} {h : List mv_KV} {w x2 : Int32}
theorem mx_shrink33 {post : Int32 → SX → Prop} {J : Int32 → Int32 → (Nat → Int32) → (Nat → Int32) → (Nat → Int32) → (Nat → Int32) → (Nat → Int32) → (Nat → Int32) → (Nat → Int32) → (Nat → Int32) → (Nat → Int32) → (Nat → Int32) → (Nat → Int32) → (Nat → Int32) → (Nat → Int32) → (Nat → Int32) → (Nat → Int32) → (Nat → Int32) → (Nat → Int32) → (Nat → Int32) → Prop} {x4 : Int32} (hR : mv_Rep G a_used a_key a_val a_born a_died) (hr : r < 128)
    (h1 : ∀ (i : Nat) (x : mv_En), (G r)[i]? = some x → mv_lvs (G r) = [x] → J x.2.1 (x4 + 1) a_rootAt a_inUse a_leaf a_used (upd a_nodeDied r w) a_key a_val a_born a_died a_pathNode a_pathEntry a_pendKey a_pendVal a_workKey a_workVal a_foundKey a_foundVal a_stack)
    (h2 : (mv_lvs (G r)).length ≠ 1 → post (nI r) (f_now, f_first, f_keys, f_depth, f_pending, f_work, a_rootAt, a_inUse, a_leaf, a_used, a_nodeDied, a_key, a_val, a_born, a_died, a_pathNode, a_pathEntry, a_pendKey, a_pendVal, a_workKey, a_workVal, a_foundKey, a_foundVal, a_stack)) : ∃ f, wX_shrink_33 post J w (nI r) x4 f_now f_first f_keys f_depth f_pending f_work a_rootAt a_inUse a_leaf a_used a_nodeDied a_key a_val a_born a_died a_pathNode a_pathEntry a_pendKey a_pendVal a_workKey a_workVal a_foundKey a_foundVal a_stack f (-1) 0 (nI r * 12) := by
  obtain ⟨hl, hu, hg⟩ := hR r hr
  rw [mv_n120]
  refine ⟨_, mv_loop (G r) (fun f i (s : Int32 × Nat) => wX_shrink_33 post J w (nI r) x4 f_now f_first f_keys f_depth f_pending f_work a_rootAt a_inUse a_leaf a_used a_nodeDied a_key a_val a_born a_died a_pathNode a_pathEntry a_pendKey a_pendVal a_workKey a_workVal a_foundKey a_foundVal a_stack f s.1 (nI s.2) (nI (r * 12 + i)))
    (fun p s => s.2 = (mv_lvs p).length ∧ ∀ x, mv_lvs p = [x] → ∃ i, s.1 = nI (r * 12 + i) ∧ p[i]? = some x) ?_ ?_ (-1, 0) ⟨rfl, fun x hx => absurd hx (by simp [mv_lvs])⟩⟩
  · intro f s hs
    obtain ⟨s1, s2⟩ := hs
    have hlen : (mv_lvs (G r)).length ≤ 12 := Nat.le_trans (List.length_filter_le _ _) hl
    refine mv_hd hr hl hu hl (fun _ => ?_) (fun h => absurd h (Nat.lt_irrefl _))
    rw [nI_clamp (n := r) (by omega)]
    refine pk_eq s.2 1 (fun e => And.intro (vp_in_nI hr (by decide)) (nm_e ?_)) (fun e => h2 (by omega))
    obtain ⟨x, hx⟩ := List.length_eq_one_iff.mp (s1.symm.trans e)
    obtain ⟨i, e1, e2⟩ := s2 x hx
    have hi := mv_get_lt e2
    have hv := (hg i x e2).2.1
    rw [e1, mv_cl hr (by omega), hv]
    exact And.intro (mv_ix hr (by omega)) (nm_e (nm_e (h1 i x e2 hx)))
  · intro f p x q s hl' hx hs ih
    have hi := mv_get_lt hx
    obtain ⟨hk, hv, hb, hd⟩ := hg _ _ hx
    obtain ⟨s1, s2⟩ := hs
    refine mv_hd hr hl hu (by omega) (fun h => absurd h (by omega)) (fun _ => And.intro (mv_ix hr (by omega)) ?_)
    rw [mv_cl hr (by omega), hd]
    refine br_c (fun h => nm_r (nI_1 s.2) (nm_r (mv_s1 r _) (ih (nI (r * 12 + p.length), s.2 + 1) ⟨?_, fun y hy => ⟨p.length, rfl, ?_⟩⟩))) (fun h => nm_r (mv_s1 r _) (ih s ⟨?_, fun y hy => ?_⟩))
    · rw [mv_lvs_t h, List.length_append, s1]; rfl
    · rw [mv_lvs_t h] at hy
      have : mv_lvs p = [] := by
        cases e : mv_lvs p with
        | nil => rfl
        | cons a l => rw [e] at hy; exact absurd (congrArg List.length hy) (by simp)
      rw [this] at hy
      have e : x = y := by simpa using hy
      rw [← e]
      exact mv_get_end
    · rw [mv_lvs_f h]; exact s1
    · rw [mv_lvs_f h] at hy
      obtain ⟨i, e1, e2⟩ := s2 y hy
      exact ⟨i, e1, mv_get_snoc e2⟩
theorem mx_shrink {post : Int32 → SX → Prop} (hR : mv_Rep G a_used a_key a_val a_born a_died) (hr : r < 128) (hlf : a_leaf r = 0 ∨ a_leaf r = 1)
    (h1 : a_leaf r = 1 → post (nI r) (f_now, f_first, f_keys, f_depth, f_pending, f_work, a_rootAt, a_inUse, a_leaf, a_used, a_nodeDied, a_key, a_val, a_born, a_died, a_pathNode, a_pathEntry, a_pendKey, a_pendVal, a_workKey, a_workVal, a_foundKey, a_foundVal, a_stack)) (h2 : a_leaf r = 0 → (mv_lvs (G r)).length ≠ 1 → post (nI r) (f_now, f_first, f_keys, f_depth, f_pending, f_work, a_rootAt, a_inUse, a_leaf, a_used, a_nodeDied, a_key, a_val, a_born, a_died, a_pathNode, a_pathEntry, a_pendKey, a_pendVal, a_workKey, a_workVal, a_foundKey, a_foundVal, a_stack))
    (h3 : a_leaf r = 0 → ∀ x, mv_lvs (G r) = [x] → ∃ c, c < 128 ∧ x.2.1 = nI c ∧ a_leaf c = 1 ∧ post (nI c) (f_now, f_first, f_keys, f_depth, f_pending, f_work, a_rootAt, a_inUse, a_leaf, a_used, upd a_nodeDied r w, a_key, a_val, a_born, a_died, a_pathNode, a_pathEntry, a_pendKey, a_pendVal, a_workKey, a_workVal, a_foundKey, a_foundVal, a_stack)) :
    wpX_shrink post (f_now, f_first, f_keys, f_depth, f_pending, f_work, a_rootAt, a_inUse, a_leaf, a_used, a_nodeDied, a_key, a_val, a_born, a_died, a_pathNode, a_pathEntry, a_pendKey, a_pendVal, a_workKey, a_workVal, a_foundKey, a_foundVal, a_stack) (nI r) w := by
  refine Exists.intro 2 (br_f (by decide) (And.intro (vp_in_nI hr (by decide)) ?_))
  rw [nI_clamp (n := r) (by omega)]
  rcases hlf with e | e
  · refine br_t e (nm_e (mx_shrink33 hR hr (fun i x hx hl => ?_) (h2 e)))
    obtain ⟨c, c1, c2, c3, c4⟩ := h3 e x hl
    rw [c2]
    refine br_f (by decide) (And.intro (vp_in_nI c1 (by decide)) ?_)
    rw [nI_clamp (n := c) (by omega)]
    exact br_f (by rw [c3]; decide) c4
  · exact br_f (by rw [e]; decide) (h1 e)
theorem mx_settle128 {post : SX → Prop} (hnow : now < 4000) (hfn : first ≤ now) (hR : mv_Rep G a_used a_key a_val a_born a_died)
    (hW : mv_Wd first (nI (now + 1)) G a_leaf a_nodeDied a_inUse) (hE : mv_Ev first (nI (now + 1)) G0 lf0 nd0 G a_leaf a_nodeDied c) (hr : r < 128)
    (hnd : a_nodeDied r = 2147483647) (hT : mv_Tr G a_leaf a_nodeDied Ch h)
    (hroot : (a_leaf r = 1 ∧ Ch = [((-2000 : Int32), r)]) ∨ (a_leaf r = 0 ∧ 1 ≤ Ch.length ∧ mv_ct (G r) = Ch.map mv_nc))
    (hal : ∀ n, n < 128 → a_nodeDied n = 2147483647 → n = r ∨ n ∈ Ch.map (fun p => p.2))
    (hpot : ∀ v, first ≤ v → v ≤ now → 4 * mv_cnt (nI v) a_nodeDied + (if Ch.length = 1 then 4 else (G r).length) ≤ 52 + 10 * (now + 1 - v))
    (h28 : h.length ≤ 28) (hff : f_first = nI first) (hp : ∀ u, mv_Dn first now h f_keys a_rootAt G0 lf0 nd0 u → post u) :
    wX_settle_128 post (nI (now + 1)) (nI r) f_now f_first f_keys f_depth f_pending f_work a_rootAt a_inUse a_leaf a_used a_nodeDied a_key a_val a_born a_died a_pathNode a_pathEntry a_pendKey a_pendVal a_workKey a_workVal a_foundKey a_foundVal a_stack := by
  have h12 := (hR r hr).1
  have hlf := (hW r hr).2.1
  have e41 : nI (now + 1) - nI (now + 1) / 41 * 41 = nI ((now + 1) % 41) := pk_rem (d := 41) (by omega) (by decide) (by decide)
  have hin : vp_in (nI ((now + 1) % 41)) 41 := vp_in_nI (Nat.mod_lt _ (by decide)) (by decide)
  have hlen : a_leaf r = 0 → mv_ct (G r) = Ch.map mv_nc → (mv_lvs (G r)).length = Ch.length := by
    intro _ e
    have := congrArg List.length e
    rw [List.length_map, List.length_map] at this
    exact this
  have hstay : ((a_leaf r = 1 ∧ Ch = [((-2000 : Int32), r)]) ∨ (a_leaf r = 0 ∧ 2 ≤ Ch.length ∧ mv_ct (G r) = Ch.map mv_nc)) →
      ¬ (41 : Int32) = 0 ∧ (vp_in (nI (now + 1) - nI (now + 1) / 41 * 41) 41 ∧ ∀ a_rootAt_32 : Nat → Int32, a_rootAt_32 = upd a_rootAt (nI (now + 1) - nI (now + 1) / 41 * 41).toNatClampNeg (nI r) → (post (nI (now + 1), f_first, f_keys, f_depth, f_pending, f_work, a_rootAt_32, a_inUse, a_leaf, a_used, a_nodeDied, a_key, a_val, a_born, a_died, a_pathNode, a_pathEntry, a_pendKey, a_pendVal, a_workKey, a_workVal, a_foundKey, a_foundVal, a_stack))) := by
    intro hrt
    rw [e41, nI_clamp (n := (now + 1) % 41) (by omega)]
    refine ⟨by decide, hin, nm_e (hp _ ?_)⟩
    exact ⟨G, r, Ch, c, rfl, hff, rfl, hR, hW, hE, rfl, mv_cur_mk hW hr hnd hT hrt hal hpot h28 h12⟩
  unfold wX_settle_128
  refine mx_shrink hR hr hlf (fun e => ?_) (fun e hne => ?_) (fun e x hx => ?_)
  · refine hstay ?_
    rcases hroot with t | t
    · exact Or.inl t
    · rw [e] at t; exact absurd t.1 (by decide)
  · refine hstay ?_
    rcases hroot with t | t
    · rw [e] at t; exact absurd t.1 (by decide)
    · have := hlen e t.2.2
      have := t.2.1
      exact Or.inr ⟨t.1, by omega, t.2.2⟩
  · rcases hroot with t | t
    · rw [e] at t; exact absurd t.1 (by decide)
    · have hc := t.2.2
      rw [show mv_ct (G r) = [mv_kv x] from by show (mv_lvs (G r)).map mv_kv = _; rw [hx]; rfl] at hc
      obtain ⟨p, l3, e4, e5, e6⟩ := List.map_eq_cons_iff.mp hc.symm
      have e7 : l3 = [] := List.map_eq_nil_iff.mp e6
      subst e7
      obtain ⟨t1, t2, t3, t4, t5⟩ := id hT
      obtain ⟨p1, p2, p3⟩ := t1 p (by rw [e4]; exact List.mem_cons_self)
      have hp0 : p.1 = -2000 := by
        obtain ⟨⟨d, hd⟩, _⟩ := t3
        rw [e4] at hd
        have := List.mem_singleton.mp hd
        exact (congrArg Prod.fst this).symm
      have hpr : p.2 ≠ r := by
        intro d
        rw [d, e] at p2
        exact absurd p2 (by decide)
      have hCh : Ch = [((-2000 : Int32), p.2)] := by rw [e4, ← hp0]
      refine ⟨p.2, p1, (congrArg Prod.snd e5).symm, p2, ?_⟩
      dsimp only
      rw [e41, nI_clamp (n := (now + 1) % 41) (by omega)]
      refine ⟨by decide, hin, nm_e (hp _ ?_)⟩
      have hwal : nI (now + 1) < 2147483647 := mv_nI_lt_al (by omega)
      have hW' : mv_Wd first (nI (now + 1)) G a_leaf (upd a_nodeDied r (nI (now + 1))) a_inUse :=
        mv_wd_die hW hr hnd (nI_lt (by omega) (by omega)) (mv_nI_lt_al (by omega))
      have hE' := mv_ev_die hE hnd (Int32.le_of_lt hwal)
      refine ⟨G, p.2, Ch, c, rfl, hff, rfl, hR, hW', hE', rfl, mv_cur_mk hW' p1 (by rw [pk_un hpr]; exact p3) ⟨fun q hq => ?_, t2, t3, t4, t5⟩ (Or.inl ⟨p2, hCh⟩) (fun n hn hnn => ?_) (fun v h1 h2 => ?_) h28 (hR p.2 p1).1⟩
      · rw [hCh] at hq
        rw [List.mem_singleton.mp hq]
        exact ⟨p1, p2, by rw [pk_un hpr]; exact p3⟩
      · by_cases d : n = r
        · subst d
          rw [pk_us] at hnn
          exact absurd hnn (mv_lt_ne hwal)
        · rw [pk_un d] at hnn
          exact Or.inr ((hal n hn hnn).resolve_left d)
      · have hq := hpot v h1 h2
        rw [if_pos (by rw [hCh]; rfl)] at hq ⊢
        have : mv_cnt (nI v) (upd a_nodeDied r (nI (now + 1))) ≤ mv_cnt (nI v) a_nodeDied := by
          refine mv_cnt_mono (fun m hm hl => ?_)
          by_cases d : m = r
          · subst d; rw [hnd]; exact mv_nI_lt_al (by omega)
          · rw [pk_un d] at hl; exact hl
        omega
theorem mx_step {post : SX → Prop} {P : List mv_KV} {lev N f : Nat} (hR : mv_Rep G a_used a_key a_val a_born a_died) (hlev : lev < 16)
    (hpn : a_pathNode lev = nI N) (hN : N < 128) (hfp : f_pending = nI P.length) (hP : P.length ≤ 2)
    (hA : (G N).length + P.length ≤ 12 → (lev = 0 ∨ 3 ≤ (mv_lvs (G N)).length + P.length) → wX_settle_89 post (wX_settle_17 post w x2 f) w x2 (nI lev) (nI N) f_now f_first f_keys f_depth f_pending f_work a_rootAt a_inUse a_leaf a_used a_nodeDied a_key a_val a_born a_died a_pathNode a_pathEntry a_pendKey a_pendVal a_workKey a_workVal a_foundKey a_foundVal a_stack)
    (hB : (12 < (G N).length + P.length ∨ (0 < lev ∧ (mv_lvs (G N)).length + P.length < 3)) → wX_settle_76 post (wX_settle_17 post w x2 f) w x2 1 (nI lev) f_now f_first f_keys f_depth f_pending f_work a_rootAt a_inUse a_leaf a_used a_nodeDied a_key a_val a_born a_died a_pathNode a_pathEntry a_pendKey a_pendVal a_workKey a_workVal a_foundKey a_foundVal a_stack) :
    wX_settle_17 post w x2 (f + 1) 1 (nI lev) f_now f_first f_keys f_depth f_pending f_work a_rootAt a_inUse a_leaf a_used a_nodeDied a_key a_val a_born a_died a_pathNode a_pathEntry a_pendKey a_pendVal a_workKey a_workVal a_foundKey a_foundVal a_stack := by
  subst hfp
  obtain ⟨hl, hu, hg⟩ := hR N hN
  have hlen : (mv_lvs (G N)).length ≤ 12 := Nat.le_trans (List.length_filter_le _ _) hl
  refine br_f (nI_pos (by omega)) (br_f (by decide) (And.intro (vp_in_nI hlev (by decide)) ?_))
  rw [nI_clamp (n := lev) (by omega), hpn]
  refine nm_e (mx_liveEntries hR hN (nm_r (nI_add _ _) (And.intro (vp_in_nI hN (by decide)) ?_)))
  rw [nI_clamp (n := N) (by omega), hu, nI_add]
  refine pk_lt 12 ((G N).length + P.length) (fun h => hB (Or.inl h)) (fun h => ?_)
  refine pk_le lev 0 (fun h0 => hA h (Or.inl (by omega))) (fun h0 => ?_)
  exact pk_le 3 ((mv_lvs (G N)).length + P.length) (fun h3 => hA h (Or.inr h3)) (fun h3 => hB (Or.inr ⟨h0, h3⟩))
theorem mx_exit0 {post : SX → Prop} {lev f : Nat} (hlev : lev < 16) (hp : wX_settle_128 post w x2 f_now f_first f_keys f_depth f_pending f_work a_rootAt a_inUse a_leaf a_used a_nodeDied a_key a_val a_born a_died a_pathNode a_pathEntry a_pendKey a_pendVal a_workKey a_workVal a_foundKey a_foundVal a_stack) : wX_settle_17 post w x2 (f + 1) 0 (nI lev) f_now f_first f_keys f_depth f_pending f_work a_rootAt a_inUse a_leaf a_used a_nodeDied a_key a_val a_born a_died a_pathNode a_pathEntry a_pendKey a_pendVal a_workKey a_workVal a_foundKey a_foundVal a_stack :=
  br_f (nI_pos (by omega)) (br_t rfl (br_t rfl hp))
theorem mx_exit1 {post : SX → Prop} {f m : Nat} (hpv : a_pendVal 0 = nI m) (hfp : f_pending = 1) (hp : wX_settle_128 post w (nI m) f_now f_first f_keys f_depth f_pending f_work a_rootAt a_inUse a_leaf a_used a_nodeDied a_key a_val a_born a_died a_pathNode a_pathEntry a_pendKey a_pendVal a_workKey a_workVal a_foundKey a_foundVal a_stack) : wX_settle_17 post w x2 (f + 1) 1 (-1) f_now f_first f_keys f_depth f_pending f_work a_rootAt a_inUse a_leaf a_used a_nodeDied a_key a_val a_born a_died a_pathNode a_pathEntry a_pendKey a_pendVal a_workKey a_workVal a_foundKey a_foundVal a_stack := by
  refine br_t (by decide) (br_f (by decide) (br_t hfp ?_))
  rw [hpv]
  exact hp
end
end
section
/-! newRoot; the root's turn behind a remade leaf -/
theorem mv_Tr_congr {G G' : Nat → List mv_En} {lf nd lf' nd' : Nat → Int32} {Ch : List (Int32 × Nat)} {h : List mv_KV} (t : mv_Tr G lf nd Ch h)
    (hc : ∀ p ∈ Ch, mv_ct (G' p.2) = mv_ct (G p.2) ∧ lf' p.2 = lf p.2 ∧ nd' p.2 = nd p.2) : mv_Tr G' lf' nd' Ch h := by
  obtain ⟨t1, t2, t3, t4, t5⟩ := t
  have e : mv_TT G' Ch = mv_TT G Ch := mv_TT_congr (fun p hp => (hc p hp).1)
  refine ⟨fun p hp => ?_, t2, by rw [e]; exact t3, by rw [e]; exact t4, fun h2 p hp => ?_⟩
  · obtain ⟨_, c2, c3⟩ := hc p hp
    rw [c2, c3]; exact t1 p hp
  · rw [(hc p hp).1]; exact t5 h2 p hp
theorem mv_nc_back {s : List mv_KV} {Ch : List (Int32 × Nat)} (h : s.Perm (Ch.map mv_nc)) (hb : ∀ p ∈ Ch, p.2 < 128) :
    ∃ Ch' : List (Int32 × Nat), s = Ch'.map mv_nc ∧ Ch'.Perm Ch := by
  refine ⟨s.map (fun y => (y.1, y.2.toNatClampNeg)), ?_, ?_⟩
  · rw [List.map_map]
    refine (List.map_id s).symm.trans (List.map_congr_left (fun y hy => ?_))
    obtain ⟨p, hp, rfl⟩ := List.mem_map.mp (h.mem_iff.mp hy)
    show (p.1, nI p.2) = (p.1, nI (nI p.2).toNatClampNeg)
    rw [nI_clamp (Nat.lt_trans (hb p hp) (by decide))]
  · refine (h.map _).trans ?_
    rw [List.map_map]
    refine List.Perm.of_eq ((List.map_congr_left (fun p hp => ?_)).trans (List.map_id Ch))
    show (p.1, (nI p.2).toNatClampNeg) = p
    rw [nI_clamp (Nat.lt_trans (hb p hp) (by decide))]
theorem mv_nc_dis {G : Nat → List mv_En} {lf nd : Nat → Int32} {Ch : List (Int32 × Nat)} {h : List mv_KV} (t : mv_Tr G lf nd Ch h) : mv_Dis (Ch.map mv_nc) := by
  have := t.2.2.1.2.1
  unfold mv_TT at this
  rw [List.pairwise_map] at this
  exact List.pairwise_map.mpr this
section
variable {f_now f_first f_keys f_depth f_pending f_work : Int32} {a_rootAt a_inUse a_leaf a_used a_nodeDied a_key a_val a_born a_died a_pathNode a_pathEntry a_pendKey a_pendVal a_workKey a_workVal a_foundKey a_foundVal a_stack : Nat → Int32} {G G0 : Nat → List mv_En} {lf0 nd0 : Nat → Int32} {r first now c : Nat} {h : List mv_KV} {w : Int32}
theorem mx_newRoot {post : Int32 → SX → Prop} {P : List mv_KV} (hR : mv_Rep G a_used a_key a_val a_born a_died) (hfree : ∃ m, m < 128 ∧ a_inUse m = 0)
    (hW : mv_WL a_pendKey a_pendVal 0 P) (hP : P.length ≤ 2) (hfp : f_pending = nI P.length)
    (hp : ∀ m us ke va bo di, m < 128 → a_inUse m = 0 → mv_Rep (mv_gu G m (P.map (mv_fr w))) us ke va bo di →
      post (nI m) (f_now, f_first, f_keys, f_depth, 0, f_work, a_rootAt, upd a_inUse m 1, upd a_leaf m 0, us, upd a_nodeDied m 2147483647, ke, va, bo, di, a_pathNode, a_pathEntry, a_pendKey, a_pendVal, a_workKey, a_workVal, a_foundKey, a_foundVal, a_stack)) :
    wpX_newRoot post (f_now, f_first, f_keys, f_depth, f_pending, f_work, a_rootAt, a_inUse, a_leaf, a_used, a_nodeDied, a_key, a_val, a_born, a_died, a_pathNode, a_pathEntry, a_pendKey, a_pendVal, a_workKey, a_workVal, a_foundKey, a_foundVal, a_stack) w := by
  unfold wpX_newRoot
  dsimp only
  refine mx_newNode (Or.inl rfl) hfree (fun m hm hi => ?_)
  dsimp only
  refine mx_takePending (mv_rep_new (n := m) hR hm) hm hW hP hfp (by rw [mv_gu_s, List.length_nil]; omega) (fun us ke va bo di hR2 => ?_)
  dsimp only
  rw [mv_gu_s, mv_gu_gu, List.nil_append] at hR2
  exact hp m us ke va bo di hm hi hR2
theorem mx_stage2 {post : SX → Prop} {Pl Rest : List (Int32 × Nat)} {f : Nat} (hnow : now < 4000) (hfn : first ≤ now)
    (hR : mv_Rep G a_used a_key a_val a_born a_died) (hW : mv_Wd first (nI (now + 1)) G a_leaf a_nodeDied a_inUse)
    (hE : mv_Ev first (nI (now + 1)) G0 lf0 nd0 G a_leaf a_nodeDied c) (hc : c = Pl.length) (hP1 : 1 ≤ Pl.length) (hP2 : Pl.length ≤ 2) (hr : r < 128) (hlf : a_leaf r = 0)
    (hnd : a_nodeDied r = 2147483647) (hct : mv_ct (G r) = Rest.map mv_nc) (hT : mv_Tr G a_leaf a_nodeDied (Pl ++ Rest) h)
    (hpk : mv_WL a_pendKey a_pendVal 0 (Pl.map mv_nc)) (hfp : f_pending = nI Pl.length)
    (hal : ∀ n, n < 128 → a_nodeDied n = 2147483647 → n = r ∨ n ∈ (Pl ++ Rest).map (fun p => p.2)) (hpn : a_pathNode 0 = nI r) (hfree : mv_Free 3 a_inUse)
    (hpot : ∀ v, first ≤ v → v ≤ now → 4 * mv_cnt (nI v) nd0 + (G r).length ≤ 52 + 10 * (now - v)) (h28 : h.length ≤ 28) (hff : f_first = nI first)
    (hp : ∀ u, mv_Dn first now h f_keys a_rootAt G0 lf0 nd0 u → post u) : wX_settle_17 post (nI (now + 1)) (nI r) (f + 2) 1 0 f_now f_first f_keys f_depth f_pending f_work a_rootAt a_inUse a_leaf a_used a_nodeDied a_key a_val a_born a_died a_pathNode a_pathEntry a_pendKey a_pendVal a_workKey a_workVal a_foundKey a_foundVal a_stack := by
  have hT2 : mv_Tr G a_leaf a_nodeDied (Rest ++ Pl) h := mv_Tr_perm List.perm_append_comm hT
  have hal2 : ∀ n, n < 128 → a_nodeDied n = 2147483647 → n = r ∨ n ∈ (Rest ++ Pl).map (fun p => p.2) := by
    intro n hn e
    refine (hal n hn e).imp id (fun t => ?_)
    exact ((List.perm_append_comm (l₁ := Pl) (l₂ := Rest)).map _).mem_iff.mp t
  have hne : ∀ p ∈ Rest ++ Pl, p.2 ≠ r := by
    intro p hp e
    have := (hT2.1 p hp).2.1
    rw [e, hlf] at this
    exact absurd this (by decide)
  have h9 := mv_Tr_9 hT2 h28
  rw [List.length_append] at h9
  have hwal : nI (now + 1) < 2147483647 := mv_nI_lt_al (by omega)
  have hfw : nI first < nI (now + 1) := nI_lt (by omega) (by omega)
  have hfal : nI first < 2147483647 := mv_nI_lt_al (by omega)
  have hlenR : (mv_lvs (G r)).length = Rest.length := by
    have := congrArg List.length hct
    rw [List.length_map, List.length_map] at this
    exact this
  refine mx_step (lev := 0) (P := Pl.map mv_nc) hR (by decide) hpn hr (by rw [List.length_map]; exact hfp) (by rw [List.length_map]; exact hP2) (fun hA _ => ?_) (fun hB => ?_)
  · rw [List.length_map] at hA
    unfold wX_settle_89
    refine mx_takePending hR hr hpk (by rw [List.length_map]; exact hP2) (by rw [List.length_map]; exact hfp) (by rw [List.length_map]; exact hA) (fun us ke va bo di hR2 => ?_)
    dsimp only
    refine mx_exit0 (lev := 0) (by decide) (mx_settle128 (Ch := Rest ++ Pl) (c := c) hnow hfn hR2 (mv_wd_app hW hr) (mv_ev_gu hE (fun v hv => mv_av_app hv)) hr hnd ?_ (Or.inr ⟨hlf, ?_, ?_⟩) hal2 ?_ h28 hff hp)
    · exact mv_Tr_congr hT2 (fun p hp => ⟨by rw [mv_gu_n (hne p hp)], rfl, rfl⟩)
    · rw [List.length_append]; omega
    · rw [mv_gu_s, mv_ct_app, hct, List.map_append]
    · intro v h1 h2
      have b1 := hpot v h1 h2
      have b2 := hE.2 (nI v) (nI_le h1 (by omega)) (nI_lt (by omega) (by omega))
      rw [mv_gu_s, List.length_append, List.length_append, List.length_map, List.length_map]
      split <;> omega
  · have hB : 12 < (G r).length + Pl.length := by
      rw [List.length_map] at hB
      rcases hB with t | t
      · exact t
      · exact absurd t.1 (by decide)
    unfold wX_settle_76
    refine mx_remake0 (N := r) (P := Pl.map mv_nc) hR hpn hr hpk (by rw [List.length_map]; exact hfp) (by rw [List.length_map]; exact hP2) ?_ (fun s wk wv t1 t2 t3 => ?_)
    · show mv_Dis (mv_ct (G r) ++ Pl.map mv_nc)
      rw [hct, ← List.map_append]
      exact mv_nc_dis hT2
    · have t2' : s.Perm ((Rest ++ Pl).map mv_nc) := by
        rw [List.map_append, ← hct]; exact t2
      have hslen := t2'.length_eq
      rw [List.length_map, List.length_append] at hslen
      obtain ⟨Ch', e1, e2⟩ := mv_nc_back t2' (fun p hp => (hT2.1 p hp).1)
      refine mx_remake178 (lf := 0) hR hr t3 rfl hlf (Or.inl rfl) (by omega) (mv_free_mono hfree (by decide)) (fun hs9 m us ke va bo di pk pv hm hi hR2 hpkv => ?_) (fun h10 => absurd h10 (by omega))
      have hmr : m ≠ r := by
        intro e
        have := (hW r hr).1.mp (e ▸ hi)
        rw [hnd] at this
        exact absurd (Int32.lt_of_lt_of_le hfal this) (mv_irr _)
      have hmn : ∀ p ∈ Rest ++ Pl, p.2 ≠ m := by
        intro p hp e
        have q := hT2.1 p hp
        have := (hW m hm).1.mp hi
        rw [← e, q.2.2] at this
        exact absurd (Int32.lt_of_lt_of_le hfal this) (mv_irr _)
      have hW1 := mv_wd_die hW hr hnd hfw hfal
      have hE1 := mv_ev_die hE hnd (Int32.le_of_lt hwal)
      have hW2 := mv_wd_new (m := m) (b := 0) (s := s) hW1 (Or.inl rfl) hfal
      have hE2 := mv_ev_new (m := m) (b := 0) (s := s.map (mv_fr (nI (now + 1)))) hE1 hW1 hm hi
      refine nm_r (e' := -1) (by decide) (mx_exit1 (f := f) (m := m) ?_ rfl ?_)
      · have := (hpkv 0 _ rfl).2
        exact this
      · refine mx_settle128 (Ch := Ch') (c := c + 1) hnow hfn hR2 hW2 hE2 hm pk_us ?_ (Or.inr ⟨pk_us, ?_, ?_⟩) ?_ ?_ h28 hff hp
        · refine mv_Tr_perm e2.symm (mv_Tr_congr hT2 (fun p hp => ⟨by rw [mv_gu_n (hmn p hp)], pk_un (hmn p hp), ?_⟩))
          rw [pk_un (hmn p hp), pk_un (hne p hp)]
        · rw [e2.length_eq, List.length_append]; omega
        · rw [mv_gu_s, mv_ct_fr, e1]
        · intro n hn e
          by_cases c1 : n = m
          · exact Or.inl c1
          · rw [pk_un c1] at e
            by_cases c2 : n = r
            · rw [c2, pk_us] at e
              exact absurd e (mv_lt_ne hwal)
            · rw [pk_un c2] at e
              exact Or.inr ((e2.symm.map _).mem_iff.mp ((hal2 n hn e).resolve_left c2))
        · intro v h1 h2
          have b1 := hpot v h1 h2
          have b2 := hE2.2 (nI v) (nI_le h1 (by omega)) (nI_lt (by omega) (by omega))
          rw [mv_gu_s, List.length_map, hslen]
          split <;> omega
end
end
section
/-! settle from a leaf that is the root -/
theorem mv_l1 (a : Int32 × Nat) : [a].length = 1 := rfl
section
variable {f_now f_first f_keys f_depth f_pending f_work : Int32} {a_rootAt a_inUse a_leaf a_used a_nodeDied a_key a_val a_born a_died a_pathNode a_pathEntry a_pendKey a_pendVal a_workKey a_workVal a_foundKey a_foundVal a_stack : Nat → Int32} {G G0 : Nat → List mv_En} {r first now : Nat} {h h0 P : List mv_KV} {Ch : List (Int32 × Nat)} {k : Int32}
theorem mx_settle1 {post : SX → Prop} (hnow : now < 4000) (hfn : first ≤ now) (hn40 : now < first + 40)
    (hR : mv_Rep G a_used a_key a_val a_born a_died) (hW : mv_Wd first (nI (now + 1)) G a_leaf a_nodeDied a_inUse)
    (hE : mv_Ev first (nI (now + 1)) G0 a_leaf a_nodeDied G a_leaf a_nodeDied 0) (hC : mv_Cur first now G0 a_leaf a_nodeDied r Ch h0) (hlf : a_leaf r = 1)
    (hdep : f_depth = nI 1) (hpr : a_pathNode 0 = nI r) (hpk : mv_WL a_pendKey a_pendVal 0 P) (hfp : f_pending = nI P.length)
    (hP : P = [] ∨ ∃ x, P = [(k, x)]) (hc : (mv_ct (G r)).Perm (mv_nk k (mv_ct (G0 r)))) (hk1 : -1000 ≤ k) (hk2 : k ≤ 1000)
    (hh : (mv_nk k h0 ++ P).Perm h) (h28 : h.length ≤ 28) (hff : f_first = nI first)
    (hp : ∀ u, mv_Dn first now h f_keys a_rootAt G0 a_leaf a_nodeDied u → post u) : wpX_settle post (f_now, f_first, f_keys, f_depth, f_pending, f_work, a_rootAt, a_inUse, a_leaf, a_used, a_nodeDied, a_key, a_val, a_born, a_died, a_pathNode, a_pathEntry, a_pendKey, a_pendVal, a_workKey, a_workVal, a_foundKey, a_foundVal, a_stack) (nI (now + 1)) := by
  obtain ⟨hr, hnd, hT, hroot, hal, hpot⟩ := hC
  have hCh : Ch = [((-2000 : Int32), r)] := by
    rcases hroot with t | t
    · exact t.2
    · rw [hlf] at t; exact absurd t.1 (by decide)
  subst hCh
  have hPl : P.length ≤ 1 := by
    rcases hP with rfl | ⟨x, rfl⟩
    · exact Nat.zero_le _
    · exact Nat.le_refl _
  have hwal : nI (now + 1) < 2147483647 := mv_nI_lt_al (by omega)
  have hfw : nI first < nI (now + 1) := nI_lt (by omega) (by omega)
  have hfal : nI first < 2147483647 := mv_nI_lt_al (by omega)
  have hkey : ∀ c', c'.Perm (mv_nk k (mv_ct (G0 r)) ++ P) → mv_RT [((-2000 : Int32), c')] ∧ (mv_fl [((-2000 : Int32), c')]).Perm h := by
    intro c' hc'
    have hq : (-2000 : Int32) ≤ k := Int32.le_trans (by decide) hk1
    have K := mv_key_change (q := -2000) (c := mv_ct (G0 r)) (R := []) (h := h0) hT.2.2.1 hT.2.2.2.1 hq (fun p hp => absurd hp List.not_mem_nil) hk1 hk2 hc' hP
    exact ⟨K.1, K.2.trans hh⟩
  have hcP : (mv_ct (G r) ++ P).Perm (mv_nk k (mv_ct (G0 r)) ++ P) := hc.append_right P
  have hfree : mv_Free 10 a_inUse := by
    refine mv_free_of hW ?_
    have := hpot first (Nat.le_refl _) hfn
    rw [if_pos (mv_l1 _)] at this
    omega
  have hr12 := (hR r hr).1
  have hlv12 : (mv_lvs (G r)).length ≤ 12 := Nat.le_trans (List.length_filter_le _ _) hr12
  unfold wpX_settle
  dsimp only
  rw [hpr, hdep]
  refine nm_e (nm_r (nI_pred 0) (Exists.intro 3 ?_))
  refine mx_step (lev := 0) (f := 2) hR (by decide) hpr hr hfp (by omega) (fun hA _ => ?_) (fun hB => ?_)
  · unfold wX_settle_89
    refine mx_takePending hR hr hpk (by omega) hfp hA (fun us ke va bo di hR2 => ?_)
    dsimp only
    refine mx_exit0 (lev := 0) (by decide) (mx_settle128 (Ch := [((-2000 : Int32), r)]) (c := 0) hnow hfn hR2 (mv_wd_app hW hr) (mv_ev_gu hE (fun v hv => mv_av_app hv)) hr hnd ?_ (Or.inl ⟨hlf, rfl⟩) hal ?_ h28 hff hp)
    · have K := hkey _ hcP
      refine mv_mk1 (G := G) (R := []) (s := mv_ct (G r) ++ P) K.1 K.2 (fun p hp => absurd hp List.not_mem_nil) (fun p hp => absurd hp List.not_mem_nil) List.nodup_nil hr (fun p hp => absurd hp List.not_mem_nil) ?_ hlf hnd (fun t => absurd rfl t)
      rw [mv_gu_s, mv_ct_app]
    · intro v h1 h2
      have := hpot v h1 h2
      rw [if_pos (mv_l1 _)] at this ⊢
      omega
  · unfold wX_settle_76
    refine mx_remake0 (N := r) (P := P) hR hpr hr hpk hfp (by omega) ?_ (fun s wk wv t1 t2 t3 => ?_)
    · have K := hkey _ hcP
      exact (K.1.2.2 _ List.mem_cons_self).2.2.1
    · have hslen := t2.length_eq
      rw [List.length_append, List.length_map] at hslen
      have K := hkey s (t2.trans hcP)
      have hW1 := mv_wd_die hW hr hnd hfw hfal
      have hE1 := mv_ev_die hE hnd (Int32.le_of_lt hwal)
      have hmr : ∀ m, m < 128 → a_inUse m = 0 → m ≠ r := by
        intro m hm hi e
        have := (hW r hr).1.mp (e ▸ hi)
        rw [hnd] at this
        exact absurd (Int32.lt_of_lt_of_le hfal this) (mv_irr _)
      refine mx_remake178 (lf := 1) hR hr t3 rfl hlf (Or.inr rfl) (by omega) (mv_free_mono hfree (by decide)) (fun hs9 m us ke va bo di pk pv hm hi hR2 hpkv => ?_) (fun hs10 m m' x us ke va bo di pk pv hm hi hm' hi' hne hx hR2 hpkv => ?_)
      · have hW2 := mv_wd_new (m := m) (b := 1) (s := s) hW1 (Or.inr rfl) hfal
        have hE2 := mv_ev_new (m := m) (b := 1) (s := s.map (mv_fr (nI (now + 1)))) hE1 hW1 hm hi
        refine nm_r (e' := -1) (by decide) (mx_exit1 (f := 1) (m := m) (hpkv 0 _ rfl).2 rfl ?_)
        refine mx_settle128 (Ch := [((-2000 : Int32), m)]) (c := 0 + 1) hnow hfn hR2 hW2 hE2 hm pk_us ?_ (Or.inl ⟨pk_us, rfl⟩) ?_ ?_ h28 hff hp
        · refine mv_mk1 (G := G) (R := []) (s := s) K.1 K.2 (fun p hp => absurd hp List.not_mem_nil) (fun p hp => absurd hp List.not_mem_nil) List.nodup_nil hm (fun p hp => absurd hp List.not_mem_nil) ?_ pk_us pk_us (fun t => absurd rfl t)
          rw [mv_gu_s, mv_ct_fr]
        · intro n hn e
          by_cases c1 : n = m
          · exact Or.inl c1
          · rw [pk_un c1] at e
            by_cases c2 : n = r
            · rw [c2, pk_us] at e
              exact absurd e (mv_lt_ne hwal)
            · rw [pk_un c2] at e
              rcases hal n hn e with t | t
              · exact absurd t c2
              · exact absurd (List.mem_singleton.mp t) c2
        · intro v h1 h2
          have b1 := hpot v h1 h2
          have b2 := hE2.2 (nI v) (nI_le h1 (by omega)) (nI_lt (by omega) (by omega))
          rw [if_pos (mv_l1 _)] at b1 ⊢
          omega
      · have hW2 := mv_wd_new (m := m) (b := 1) (s := s.take (s.length / 2)) hW1 (Or.inr rfl) hfal
        have hE2 := mv_ev_new (m := m) (b := 1) (s := (s.take (s.length / 2)).map (mv_fr (nI (now + 1)))) hE1 hW1 hm hi
        have hi2 : upd a_inUse m 1 m' = 0 := (pk_un hne).trans hi'
        have hW3 := mv_wd_new (m := m') (b := 1) (s := s.drop (s.length / 2)) hW2 (Or.inr rfl) hfal
        have hE3 := mv_ev_new (m := m') (b := 1) (s := (s.drop (s.length / 2)).map (mv_fr (nI (now + 1)))) hE2 hW2 hm' hi2
        refine nm_r (e' := -1) (by decide) ?_
        refine br_t (by decide) (br_f (by decide) (br_f (by decide) ?_))
        refine mx_newRoot hR2 (mv_free_ex (c := 0) (mv_free_mono (mv_free_upd (c := 8) (mv_free_upd (c := 9) hfree)) (by decide))) hpkv (Nat.le_refl 2) rfl (fun n us2 ke2 va2 bo2 di2 hn hi3 hR3 => ?_)
        dsimp only
        have hnm' : n ≠ m' := by
          intro e
          rw [e, pk_us] at hi3
          exact absurd hi3 (by decide)
        rw [pk_un hnm'] at hi3
        have hnm : n ≠ m := by
          intro e
          rw [e, pk_us] at hi3
          exact absurd hi3 (by decide)
        have hi4 : upd (upd a_inUse m 1) m' 1 n = 0 := by rw [pk_un hnm']; exact hi3
        have hW4 := mv_wd_new (m := n) (b := 0) (s := [((-2000 : Int32), nI m), (x.1, nI m')]) hW3 (Or.inl rfl) hfal
        have hE4 := mv_ev_new (m := n) (b := 0) (s := [((-2000 : Int32), nI m), (x.1, nI m')].map (mv_fr (nI (now + 1)))) hE3 hW3 hn hi4
        refine mx_settle128 (Ch := [((-2000 : Int32), m), (x.1, m')]) (c := 0 + 1 + 1 + 1) hnow hfn hR3 hW4 hE4 hn pk_us ?_ (Or.inr ⟨pk_us, by simp, ?_⟩) ?_ ?_ h28 hff hp
        · refine mv_mk2 (G := G) (R := []) (s := s) (hh := s.length / 2) K.1 K.2 t1 hx (by omega) (by omega) (fun p hp => absurd hp List.not_mem_nil) (fun p hp => absurd hp List.not_mem_nil) List.nodup_nil hm (fun p hp => absurd hp List.not_mem_nil) hm' (fun p hp => absurd hp List.not_mem_nil) hne ?_ ?_ ?_ ?_ ?_ ?_ (fun p hp => absurd hp List.not_mem_nil)
          · rw [mv_gu_n (Ne.symm hnm), mv_gu_n (Ne.symm hne), mv_gu_s, mv_ct_fr]
          · rw [pk_un (Ne.symm hnm), pk_un (Ne.symm hne), pk_us]
          · rw [pk_un (Ne.symm hnm), pk_un (Ne.symm hne), pk_us]
          · rw [mv_gu_n (Ne.symm hnm'), mv_gu_s, mv_ct_fr]
          · rw [pk_un (Ne.symm hnm'), pk_us]
          · rw [pk_un (Ne.symm hnm'), pk_us]
        · rw [mv_gu_s, mv_ct_fr]; rfl
        · intro j hj e
          by_cases c0 : j = n
          · exact Or.inl c0
          · rw [pk_un c0] at e
            by_cases c1 : j = m'
            · refine Or.inr ?_
              rw [c1]
              exact List.mem_cons_of_mem _ List.mem_cons_self
            · rw [pk_un c1] at e
              by_cases c3 : j = m
              · refine Or.inr ?_
                rw [c3]
                exact List.mem_cons_self
              · rw [pk_un c3] at e
                by_cases c2 : j = r
                · rw [c2, pk_us] at e
                  exact absurd e (mv_lt_ne hwal)
                · rw [pk_un c2] at e
                  rcases hal j hj e with t | t
                  · exact absurd t c2
                  · exact absurd (List.mem_singleton.mp t) c2
        · intro v h1 h2
          have b1 := hpot v h1 h2
          have b2 := hE4.2 (nI v) (nI_le h1 (by omega)) (nI_lt (by omega) (by omega))
          rw [if_pos (mv_l1 _)] at b1
          rw [mv_gu_s, if_neg (by simp)]
          simp only [List.length_map, List.length_cons, List.length_nil]
          omega
end
end
section
/-! settle from a leaf below an inner root -/
theorem mv_ct_mem {l : List mv_En} {y : mv_KV} (h : y ∈ mv_ct l) : ∃ z ∈ l, mv_lvb z = true ∧ mv_kv z = y := by
  obtain ⟨z, hz, e⟩ := List.mem_map.mp h
  have := List.mem_filter.mp hz
  exact ⟨z, this.1, this.2, e⟩
theorem mv_mem_ct {l : List mv_En} {z : mv_En} (h : z ∈ l) (hl : mv_lvb z = true) : mv_kv z ∈ mv_ct l :=
  List.mem_map.mpr ⟨z, List.mem_filter.mpr ⟨h, hl⟩, rfl⟩
section
variable {f_now f_first f_keys f_depth f_pending f_work : Int32} {a_rootAt a_inUse a_leaf a_used a_nodeDied a_key a_val a_born a_died a_pathNode a_pathEntry a_pendKey a_pendVal a_workKey a_workVal a_foundKey a_foundVal a_stack : Nat → Int32} {G G0 G1 : Nat → List mv_En} {lf0 nd0 : Nat → Int32} {r L first now : Nat} {h s : List mv_KV} {Rest : List (Int32 × Nat)} {low : Int32}
theorem mx_split2 {post post' : SX → Prop} {f : Nat} (hnow : now < 4000) (hfn : first ≤ now) (hR : mv_Rep G a_used a_key a_val a_born a_died)
    (hW : mv_Wd first (nI (now + 1)) G a_leaf a_nodeDied a_inUse) (hE : mv_Ev first (nI (now + 1)) G0 lf0 nd0 G a_leaf a_nodeDied 0)
    (hL : L < 128) (hlL : a_leaf L = 1) (hr : r < 128) (hlf : a_leaf r = 0) (hnd : a_nodeDied r = 2147483647)
    (hwl : mv_WL a_workKey a_workVal 0 s) (hfw : f_work = nI s.length) (hs : mv_Srt s) (hs5 : 5 ≤ s.length) (hs18 : s.length ≤ 18)
    (hRT : mv_RT ((low, s) :: mv_TT G Rest)) (hf : (mv_fl ((low, s) :: mv_TT G Rest)).Perm h)
    (hN : ∀ p ∈ Rest, p.2 < 128 ∧ a_leaf p.2 = 1 ∧ a_nodeDied p.2 = 2147483647) (hD : (Rest.map (fun p => p.2)).Nodup)
    (h3 : ∀ p ∈ Rest, 3 ≤ (mv_ct (G p.2)).length) (hct : mv_ct (G r) = Rest.map mv_nc)
    (hal : ∀ n, n < 128 → a_nodeDied n = 2147483647 → n = r ∨ n ∈ Rest.map (fun p => p.2)) (hpn : a_pathNode 0 = nI r) (hfree : mv_Free 5 a_inUse)
    (hpot : ∀ v, first ≤ v → v ≤ now → 4 * mv_cnt (nI v) nd0 + (G r).length ≤ 52 + 10 * (now - v)) (h28 : h.length ≤ 28) (hff : f_first = nI first)
    (hp : ∀ u, mv_Dn first now h f_keys a_rootAt G0 lf0 nd0 u → post u)
    (hk : ∀ (f_now f_first f_keys f_depth f_pending f_work : Int32) (a_rootAt a_inUse a_leaf a_used a_nodeDied a_key a_val a_born a_died a_pathNode a_pathEntry a_pendKey a_pendVal a_workKey a_workVal a_foundKey a_foundVal a_stack : Nat → Int32), wX_settle_17 post (nI (now + 1)) (nI r) (f + 2) 1 0 f_now f_first f_keys f_depth f_pending f_work a_rootAt a_inUse a_leaf a_used a_nodeDied a_key a_val a_born a_died a_pathNode a_pathEntry a_pendKey a_pendVal a_workKey a_workVal a_foundKey a_foundVal a_stack → post' (f_now, f_first, f_keys, f_depth, f_pending, f_work, a_rootAt, a_inUse, a_leaf, a_used, a_nodeDied, a_key, a_val, a_born, a_died, a_pathNode, a_pathEntry, a_pendKey, a_pendVal, a_workKey, a_workVal, a_foundKey, a_foundVal, a_stack)) :
    wX_remake_178 post' (nI (now + 1)) (nI L) low f_now f_first f_keys f_depth f_pending f_work a_rootAt a_inUse a_leaf a_used a_nodeDied a_key a_val a_born a_died a_pathNode a_pathEntry a_pendKey a_pendVal a_workKey a_workVal a_foundKey a_foundVal a_stack := by
  have hfal : nI first < 2147483647 := mv_nI_lt_al (by omega)
  have hfr : ∀ m, m < 128 → a_inUse m = 0 → ¬ a_nodeDied m = 2147483647 := by
    intro m hm hi e
    have := (hW m hm).1.mp hi
    rw [e] at this
    exact absurd (Int32.lt_of_lt_of_le hfal this) (mv_irr _)
  have hmR : ∀ m, m < 128 → a_inUse m = 0 → ∀ p ∈ Rest, p.2 ≠ m := by
    intro m hm hi p hp e
    exact hfr m hm hi (e ▸ (hN p hp).2.2)
  have hmr : ∀ m, m < 128 → a_inUse m = 0 → r ≠ m := by
    intro m hm hi e
    exact hfr m hm hi (e ▸ hnd)
  refine mx_remake178 (lf := 1) hR hL hwl hfw hlL (Or.inr rfl) hs18 (mv_free_mono hfree (by decide)) (fun hs9 m us ke va bo di pk pv hm hi hR2 hpkv => ?_) (fun hs10 m m' x us ke va bo di pk pv hm hi hm' hi' hne hx hR2 hpkv => ?_)
  · have hW2 := mv_wd_new (m := m) (b := 1) (s := s) hW (Or.inr rfl) hfal
    have hE2 := mv_ev_new (m := m) (b := 1) (s := s.map (mv_fr (nI (now + 1)))) hE hW hm hi
    have q := hmR m hm hi
    have qr := hmr m hm hi
    refine hk _ _ _ _ _ _ _ _ _ _ _ _ _ _ _ _ _ _ _ _ _ _ _ _ ?_
    refine mx_stage2 (c := 0 + 1) (Pl := [(low, m)]) (Rest := Rest) hnow hfn hR2 hW2 hE2 rfl (Nat.le_refl 1) (by simp) hr (by rw [pk_un qr]; exact hlf) (by rw [pk_un qr]; exact hnd) (by rw [mv_gu_n qr]; exact hct) ?_ hpkv rfl ?_ hpn (mv_free_mono (mv_free_upd (c := 4) hfree) (by decide)) (by rw [mv_gu_n qr]; exact hpot) h28 hff hp
    · refine mv_mk1 (G := G) (R := Rest) (s := s) hRT hf (fun p hp => by rw [mv_gu_n (q p hp)]) (fun p hp => ?_) hD hm q (by rw [mv_gu_s, mv_ct_fr]) pk_us pk_us (fun _ => ⟨by omega, h3⟩)
      rw [pk_un (q p hp), pk_un (q p hp)]; exact hN p hp
    · intro n hn e
      by_cases c1 : n = m
      · exact Or.inr (by rw [c1]; exact List.mem_cons_self)
      · rw [pk_un c1] at e
        exact (hal n hn e).imp id (fun t => List.mem_cons_of_mem _ t)
  · have hW2 := mv_wd_new (m := m) (b := 1) (s := s.take (s.length / 2)) hW (Or.inr rfl) hfal
    have hE2 := mv_ev_new (m := m) (b := 1) (s := (s.take (s.length / 2)).map (mv_fr (nI (now + 1)))) hE hW hm hi
    have hi2 : upd a_inUse m 1 m' = 0 := (pk_un hne).trans hi'
    have hW3 := mv_wd_new (m := m') (b := 1) (s := s.drop (s.length / 2)) hW2 (Or.inr rfl) hfal
    have hE3 := mv_ev_new (m := m') (b := 1) (s := (s.drop (s.length / 2)).map (mv_fr (nI (now + 1)))) hE2 hW2 hm' hi2
    have q := hmR m hm hi
    have q' := hmR m' hm' hi'
    have qr := hmr m hm hi
    have qr' := hmr m' hm' hi'
    refine hk _ _ _ _ _ _ _ _ _ _ _ _ _ _ _ _ _ _ _ _ _ _ _ _ ?_
    refine mx_stage2 (c := 0 + 1 + 1) (Pl := [(low, m), (x.1, m')]) (Rest := Rest) hnow hfn hR2 hW3 hE3 rfl (by simp) (Nat.le_refl 2) hr (by rw [pk_un qr', pk_un qr]; exact hlf) (by rw [pk_un qr', pk_un qr]; exact hnd) (by rw [mv_gu_n qr', mv_gu_n qr]; exact hct) ?_ hpkv rfl ?_ hpn (mv_free_upd (c := 3) (mv_free_upd (c := 4) hfree)) (by rw [mv_gu_n qr', mv_gu_n qr]; exact hpot) h28 hff hp
    · refine mv_mk2 (G := G) (R := Rest) (s := s) (hh := s.length / 2) hRT hf hs hx (by omega) (by omega) (fun p hp => by rw [mv_gu_n (q' p hp), mv_gu_n (q p hp)]) (fun p hp => ?_) hD hm q hm' q' hne ?_ ?_ ?_ ?_ ?_ ?_ h3
      · rw [pk_un (q' p hp), pk_un (q p hp), pk_un (q' p hp), pk_un (q p hp)]; exact hN p hp
      · rw [mv_gu_n (Ne.symm hne), mv_gu_s, mv_ct_fr]
      · rw [pk_un (Ne.symm hne), pk_us]
      · rw [pk_un (Ne.symm hne), pk_us]
      · rw [mv_gu_s, mv_ct_fr]
      · exact pk_us
      · exact pk_us
    · intro n hn e
      by_cases c1 : n = m'
      · exact Or.inr (by rw [c1]; exact List.mem_cons_of_mem _ List.mem_cons_self)
      · rw [pk_un c1] at e
        by_cases c2 : n = m
        · exact Or.inr (by rw [c2]; exact List.mem_cons_self)
        · rw [pk_un c2] at e
          exact (hal n hn e).imp id (fun t => List.mem_cons_of_mem _ (List.mem_cons_of_mem _ t))
end
end
section
/-! settle from a leaf below an inner root: the whole -/
section
variable {f_now f_first f_keys f_depth f_pending f_work : Int32} {a_rootAt a_inUse a_leaf a_used a_nodeDied a_key a_val a_born a_died a_pathNode a_pathEntry a_pendKey a_pendVal a_workKey a_workVal a_foundKey a_foundVal a_stack : Nat → Int32} {G G0 : Nat → List mv_En} {r L first now : Nat} {h h0 P : List mv_KV} {Ch : List (Int32 × Nat)} {k : Int32}
theorem mx_settle2 {post : SX → Prop} {x : mv_En} {i : Nat} (hnow : now < 4000) (hfn : first ≤ now) (hn40 : now < first + 40)
    (hR : mv_Rep G a_used a_key a_val a_born a_died) (hW : mv_Wd first (nI (now + 1)) G a_leaf a_nodeDied a_inUse)
    (hE : mv_Ev first (nI (now + 1)) G0 a_leaf a_nodeDied G a_leaf a_nodeDied 0) (hC : mv_Cur first now G0 a_leaf a_nodeDied r Ch h0) (hlf : a_leaf r = 0)
    (hdep : f_depth = nI 2) (hpr : a_pathNode 0 = nI r) (hpn : a_pathNode 1 = nI L) (hpe : a_pathEntry 0 = nI (r * 12 + i)) (hx : (G0 r)[i]? = some x)
    (hxl : mv_lvb x = true) (hxL : x.2.1 = nI L) (hL : L < 128) (hGn : ∀ n, n ≠ L → G n = G0 n)
    (hpk : mv_WL a_pendKey a_pendVal 0 P) (hfp : f_pending = nI P.length)
    (hP : P = [] ∨ ∃ x, P = [(k, x)]) (hc : (mv_ct (G L)).Perm (mv_nk k (mv_ct (G0 L)))) (hlen : (mv_ct (G0 L)).length ≤ (mv_ct (G L)).length + 1)
    (hk1 : -1000 ≤ k) (hk2 : k ≤ 1000) (hq : x.1 ≤ k) (hmax : ∀ p ∈ Ch, p.1 ≤ k → p.1 ≤ x.1)
    (hh : (mv_nk k h0 ++ P).Perm h) (h28 : h.length ≤ 28) (hff : f_first = nI first)
    (hp : ∀ u, mv_Dn first now h f_keys a_rootAt G0 a_leaf a_nodeDied u → post u) : wpX_settle post (f_now, f_first, f_keys, f_depth, f_pending, f_work, a_rootAt, a_inUse, a_leaf, a_used, a_nodeDied, a_key, a_val, a_born, a_died, a_pathNode, a_pathEntry, a_pendKey, a_pendVal, a_workKey, a_workVal, a_foundKey, a_foundVal, a_stack) (nI (now + 1)) := by
  obtain ⟨hr, hnd, hT, hroot, hal, hpot⟩ := hC
  obtain ⟨_, hCh2, hctr⟩ := hroot.resolve_left (fun t => by rw [hlf] at t; exact absurd t.1 (by decide))
  have hwal : nI (now + 1) < 2147483647 := mv_nI_lt_al (by omega)
  have hfw : nI first < nI (now + 1) := nI_lt (by omega) (by omega)
  have hfal : nI first < 2147483647 := mv_nI_lt_al (by omega)
  obtain ⟨A, B, eA, eB⟩ := mv_ct_kill (w := nI (now + 1)) hx hxl hwal
  obtain ⟨C1, p, C2, e1, e2, e3, e4⟩ := mv_place (eA.symm.trans hctr)
  have hpp : p = (x.1, L) := by
    have hb := (hT.1 p (by rw [e1]; exact List.mem_append_right _ List.mem_cons_self)).1
    have e5 : nI p.2 = nI L := (congrArg Prod.snd e3).trans hxL
    have e6 : p.1 = x.1 := congrArg Prod.fst e3
    exact Prod.ext e6 ((nI_eq (by omega) (by omega)).mp e5)
  subst hpp
  have hperm : Ch.Perm ((x.1, L) :: (C1 ++ C2)) := by rw [e1]; exact List.perm_middle
  have hctS : mv_ct ((G0 r).set i (x.1, x.2.1, x.2.2.1, nI (now + 1))) = (C1 ++ C2).map mv_nc := by rw [eB, List.map_append, e2, e4]
  clear e1 e2 e4 eA eB
  generalize C1 ++ C2 = R at hperm hctS
  obtain ⟨t1, t2, t3, t4, t5⟩ := mv_Tr_perm hperm hT
  have hRN : ∀ p ∈ R, p.2 < 128 ∧ a_leaf p.2 = 1 ∧ a_nodeDied p.2 = 2147483647 := fun p hp => t1 p (List.mem_cons_of_mem _ hp)
  have hLN := t1 (x.1, L) List.mem_cons_self
  have hLl : a_leaf L = 1 := hLN.2.1
  have hLd : a_nodeDied L = 2147483647 := hLN.2.2
  have hLr : L ≠ r := by
    intro e
    rw [e, hlf] at hLl
    exact absurd hLl (by decide)
  have hnod : L ∉ R.map (fun p => p.2) ∧ (R.map (fun p => p.2)).Nodup := List.nodup_cons.mp t2
  have hRL : ∀ p ∈ R, p.2 ≠ L := fun p hp e => hnod.1 (List.mem_map.mpr ⟨p, hp, e⟩)
  have hRr : ∀ p ∈ R, p.2 ≠ r := by
    intro p hp e
    have := (hRN p hp).2.1
    rw [e, hlf] at this
    exact absurd this (by decide)
  have hGr : G r = G0 r := hGn r (Ne.symm hLr)
  have hGR : ∀ p ∈ R, G p.2 = G0 p.2 := fun p hp => hGn _ (hRL p hp)
  have hRlen : R.length + 1 = Ch.length := by
    have := hperm.length_eq
    rw [List.length_cons] at this
    omega
  have h3 : ∀ p ∈ (x.1, L) :: R, 3 ≤ (mv_ct (G0 p.2)).length := t5 (by rw [List.length_cons]; omega)
  have h3L : 3 ≤ (mv_ct (G0 L)).length := h3 (x.1, L) List.mem_cons_self
  have hmaxR : ∀ p ∈ mv_TT G0 R, p.1 ≤ k → p.1 ≤ x.1 := by
    intro p hp hk
    obtain ⟨q, hq, rfl⟩ := List.mem_map.mp hp
    exact hmax q (hperm.mem_iff.mpr (List.mem_cons_of_mem _ hq)) hk
  have hkey : ∀ c', c'.Perm (mv_nk k (mv_ct (G0 L)) ++ P) → mv_RT ((x.1, c') :: mv_TT G0 R) ∧ (mv_fl ((x.1, c') :: mv_TT G0 R)).Perm h := by
    intro c' hc'
    have K := mv_key_change (q := x.1) (c := mv_ct (G0 L)) (R := mv_TT G0 R) (h := h0) t3 t4 hq hmaxR hk1 hk2 hc' hP
    exact ⟨K.1, K.2.trans hh⟩
  have hPl : P.length ≤ 1 := by
    rcases hP with rfl | ⟨x, rfl⟩
    · exact Nat.zero_le _
    · exact Nat.le_refl _
  have hcP : (mv_ct (G L) ++ P).Perm (mv_nk k (mv_ct (G0 L)) ++ P) := hc.append_right P
  have KP := hkey _ hcP
  have hCh1 : ¬ Ch.length = 1 := by omega
  have hpot' : ∀ v, first ≤ v → v ≤ now → 4 * mv_cnt (nI v) a_nodeDied + (G0 r).length ≤ 52 + 10 * (now - v) := by
    intro v h1 h2
    have := hpot v h1 h2
    rw [if_neg hCh1] at this
    exact this
  have hfree : mv_Free 10 a_inUse := by
    refine mv_free_of hW ?_
    have := hpot' first (Nat.le_refl _) hfn
    omega
  have halR : ∀ n, n < 128 → a_nodeDied n = 2147483647 → n ≠ L → n = r ∨ n ∈ R.map (fun p => p.2) := by
    intro n hn e hne
    refine (hal n hn e).imp id (fun t => ?_)
    rcases List.mem_cons.mp ((hperm.map _).mem_iff.mp t) with t | t
    · exact absurd t hne
    · exact t
  have hL12 := (hR L hL).1
  have hlvL : (mv_lvs (G L)).length = (mv_ct (G L)).length := (List.length_map mv_kv).symm
  have hlvL12 : (mv_lvs (G L)).length ≤ 12 := Nat.le_trans (List.length_filter_le _ _) hL12
  unfold wpX_settle
  dsimp only
  rw [hpr, hdep]
  refine nm_e (nm_r (nI_pred 1) (Exists.intro 4 ?_))
  refine mx_step (lev := 1) (f := 3) hR (by decide) hpn hL hfp (by omega) (fun hA hA2 => ?_) (fun hB => ?_)
  · unfold wX_settle_89
    refine mx_takePending hR hL hpk (by omega) hfp hA (fun us ke va bo di hR2 => ?_)
    dsimp only
    refine mx_exit0 (lev := 1) (by decide) (mx_settle128 (Ch := Ch) (c := 0) hnow hfn hR2 (mv_wd_app hW hL) (mv_ev_gu hE (fun v hv => mv_av_app hv)) hr hnd ?_ (Or.inr ⟨hlf, by omega, ?_⟩) hal ?_ h28 hff hp)
    · refine mv_Tr_perm hperm.symm (mv_mk1 (G := G0) (R := R) (s := mv_ct (G L) ++ P) KP.1 KP.2 (fun p hp => ?_) hRN hnod.2 hL hRL ?_ hLl hLd (fun _ => ⟨?_, fun p hp => h3 p (List.mem_cons_of_mem _ hp)⟩))
      · rw [mv_gu_n (hRL p hp), hGR p hp]
      · rw [mv_gu_s, mv_ct_app]
      · rw [List.length_append]
        rcases hA2 with t | t
        · exact absurd t (by decide)
        · omega
    · rw [mv_gu_n (Ne.symm hLr), hGr]; exact hctr
    · intro v h1 h2
      have := hpot' v h1 h2
      rw [if_neg hCh1, mv_gu_n (Ne.symm hLr), hGr]
      omega
  · have hxG : (G r)[i]? = some x := by rw [hGr]; exact hx
    have hW1 := mv_wd_kill hW hr hxG
    have hE1 : mv_Ev first (nI (now + 1)) G0 a_leaf a_nodeDied (mv_gu G r ((G r).set i (x.1, x.2.1, x.2.2.1, nI (now + 1)))) a_leaf a_nodeDied 0 :=
      mv_ev_gu hE (fun v hv => mv_av_kill hxG (mv_lvb_iff.mp hxl) hv)
    have hctG : mv_ct ((G r).set i (x.1, x.2.1, x.2.2.1, nI (now + 1))) = R.map mv_nc := by rw [hGr]; exact hctS
    have hlenS : ((G r).set i (x.1, x.2.1, x.2.2.1, nI (now + 1))).length = (G0 r).length := by rw [List.length_set, hGr]
    have hpick : ∀ y ∈ (G r).set i (x.1, x.2.1, x.2.2.1, nI (now + 1)), mv_lvb y = true → ∃ p ∈ R, p.1 = y.1 ∧ nI p.2 = y.2.1 := by
      intro y hy hl
      have := mv_mem_ct hy hl
      rw [hctG] at this
      obtain ⟨p, hp, e⟩ := List.mem_map.mp this
      exact ⟨p, hp, congrArg Prod.fst e, congrArg Prod.snd e⟩
    have hback : ∀ p ∈ R, ∃ y ∈ (G r).set i (x.1, x.2.1, x.2.2.1, nI (now + 1)), mv_lvb y = true ∧ y.1 = p.1 := by
      intro p hp
      have : mv_nc p ∈ mv_ct ((G r).set i (x.1, x.2.1, x.2.2.1, nI (now + 1))) := by rw [hctG]; exact List.mem_map.mpr ⟨p, hp, rfl⟩
      obtain ⟨z, z1, z2, z3⟩ := mv_ct_mem this
      exact ⟨z, z1, z2, congrArg Prod.fst z3⟩
    have hrne : ∀ p ∈ R, p.1 ≠ x.1 := by
      intro p hp e
      have := (List.pairwise_cons.mp t3.2.1).1 (p.1, mv_ct (G0 p.2)) (List.mem_map.mpr ⟨p, hp, rfl⟩)
      exact this e.symm
    have hnd1 : upd a_nodeDied L (nI (now + 1)) r = 2147483647 := by rw [pk_un (Ne.symm hLr)]; exact hnd
    unfold wX_settle_76
    refine mx_remake1 (N := L) (r := r) (i := i) (x := x) (P := P) hR hpn hL hpr hr hpe hxG hpk hfp (by omega) ?_ (fun s wk wv di h5 s1 s2 s3 hR1 => ?_) ?_ (fun j y hy hl hne => ?_) (fun s wk wv di j y S s1 hs5 s2 s3 hS hyS hy hl hcase hR1 => ?_)
    · exact (KP.1.2.2 _ List.mem_cons_self).2.2.1
    · have hslen := s2.length_eq
      rw [List.length_append, List.length_map] at hslen
      have K := hkey s (s2.trans hcP)
      have eTT : mv_TT (mv_gu G r ((G r).set i (x.1, x.2.1, x.2.2.1, nI (now + 1)))) R = mv_TT G0 R :=
        mv_TT_congr (fun p hp => by rw [mv_gu_n (hRr p hp), hGR p hp])
      refine mx_split2 (G := mv_gu G r ((G r).set i (x.1, x.2.1, x.2.2.1, nI (now + 1)))) (G0 := G0) (lf0 := a_leaf) (nd0 := a_nodeDied) (Rest := R) (s := s) (h := h) (f := 1) (post := post) hnow hfn hR1 (mv_wd_die hW1 hL hLd hfw hfal) (mv_ev_die hE1 hLd (Int32.le_of_lt hwal)) hL hLl hr hlf hnd1 s3 rfl s1 h5 (by omega) (by rw [eTT]; exact K.1) (by rw [eTT]; exact K.2) (fun p hp => ?_) hnod.2 (fun p hp => ?_) ?_ (fun n hn e => ?_) hpr (mv_free_mono hfree (by decide)) ?_ h28 hff hp (fun _ _ _ _ _ _ _ _ _ _ _ _ _ _ _ _ _ _ _ _ _ _ _ _ hyp => nm_r (e' := 0) (by decide) hyp)
      · rw [pk_un (hRL p hp)]; exact hRN p hp
      · rw [mv_gu_n (hRr p hp), hGR p hp]; exact h3 p (List.mem_cons_of_mem _ hp)
      · rw [mv_gu_s]; exact hctG
      · by_cases c1 : n = L
        · rw [c1, pk_us] at e
          exact absurd e (mv_lt_ne hwal)
        · rw [pk_un c1] at e
          exact halR n hn e c1
      · intro v h1 h2
        rw [mv_gu_s, hlenS]; exact hpot' v h1 h2
    · have hRne : R ≠ [] := by
        intro e
        rw [e] at hRlen
        have : ([] : List (Int32 × Nat)).length = 0 := rfl
        omega
      obtain ⟨p, hp⟩ := List.exists_mem_of_ne_nil R hRne
      obtain ⟨y, y1, y2, y3⟩ := hback p hp
      exact ⟨y, y1, y2, by rw [y3]; exact hrne p hp⟩
    · obtain ⟨p, hp, p1, p2⟩ := hpick y (mv_get_mem hy) hl
      refine ⟨p.2, (hRN p hp).1, hRr p hp, p2.symm, ?_⟩
      rw [hGR p hp]
      obtain ⟨D1, D2, eD⟩ := List.append_of_mem hp
      have hpR : R.Perm (p :: (D1 ++ D2)) := by rw [eD]; exact List.perm_middle
      have hTp : (mv_TT G0 R).Perm ((p.1, mv_ct (G0 p.2)) :: mv_TT G0 (D1 ++ D2)) := hpR.map _
      have hTq := (List.Perm.cons (x.1, mv_ct (G L) ++ P) hTp).trans (List.Perm.swap _ _ _)
      have hdis := mv_RT_dis (mv_RT_perm hTq KP.1)
      rw [List.flatMap_cons, List.flatMap_cons, ← List.append_assoc] at hdis
      exact (List.pairwise_append.mp hdis).1
    · obtain ⟨A2, B2, f1, f2⟩ := mv_ct_kill (w := nI (now + 1)) hy hl hwal
      obtain ⟨D1, p, D2, g1, g2, g3, g4⟩ := mv_place (f1.symm.trans hctG)
      have hpR0 : p ∈ R := by rw [g1]; exact List.mem_append_right _ List.mem_cons_self
      have hpp : p = (y.1, S) := by
        have hb := (hRN p hpR0).1
        have e5 : nI p.2 = nI S := (congrArg Prod.snd g3).trans hyS
        have e6 : p.1 = y.1 := congrArg Prod.fst g3
        exact Prod.ext e6 ((nI_eq (by omega) (by omega)).mp e5)
      subst hpp
      have hpR : R.Perm ((y.1, S) :: (D1 ++ D2)) := by rw [g1]; exact List.perm_middle
      have hctD : mv_ct (((G r).set i (x.1, x.2.1, x.2.2.1, nI (now + 1))).set j (y.1, y.2.1, y.2.2.1, nI (now + 1))) = (D1 ++ D2).map mv_nc := by rw [f2, List.map_append, g2, g4]
      clear g1 g2 g4 f1 f2
      generalize D1 ++ D2 = D at hpR hctD
      have hDR : ∀ p ∈ D, p ∈ R := fun p hp => hpR.mem_iff.mpr (List.mem_cons_of_mem _ hp)
      have hSL : S ≠ L := hRL _ hpR0
      have hSr : S ≠ r := hRr _ hpR0
      have hSd : a_nodeDied S = 2147483647 := (hRN _ hpR0).2.2
      have hGS : G S = G0 S := hGR _ hpR0
      have hnodE : (((y.1, S) :: D).map (fun p : Int32 × Nat => p.2)).Nodup := (hpR.map _).nodup hnod.2
      have hnodD : S ∉ D.map (fun p => p.2) ∧ (D.map (fun p => p.2)).Nodup := List.nodup_cons.mp hnodE
      have hDS : ∀ p ∈ D, p.2 ≠ S := fun p hp e => hnodD.1 (List.mem_map.mpr ⟨p, hp, e⟩)
      have hS3 : 3 ≤ (mv_ct (G0 S)).length := h3 _ (List.mem_cons_of_mem _ hpR0)
      have hS12 : (mv_ct (G S)).length ≤ 12 := by
        show ((mv_lvs (G S)).map mv_kv).length ≤ 12
        rw [List.length_map]
        exact Nat.le_trans (List.length_filter_le _ _) (hR S hS).1
      have hslen := s2.length_eq
      rw [List.length_append] at hslen
      rw [List.length_append] at hs5
      have hsl2 : ((mv_lvs (G L)).map mv_kv ++ P).length = (mv_ct (G L)).length + P.length := List.length_append
      rw [hsl2] at hslen
      have hcL : (List.map mv_kv (mv_lvs (G L))).length = (mv_ct (G L)).length := rfl
      have hcS : (List.map mv_kv (mv_lvs (G S))).length = (mv_ct (G S)).length := rfl
      rw [hcL] at hs5
      rw [hcS] at hslen
      rw [← hGS] at hS3
      have hTp : (mv_TT G0 R).Perm ((y.1, mv_ct (G0 S)) :: mv_TT G0 D) := hpR.map _
      have hTq : ((x.1, mv_ct (G L) ++ P) :: mv_TT G0 R).Perm ((x.1, mv_ct (G L) ++ P) :: (y.1, mv_ct (G0 S)) :: mv_TT G0 D) := List.Perm.cons _ hTp
      have hRT1 := mv_RT_perm hTq KP.1
      have hfl1 := (List.Perm.flatMap_right (fun p : Int32 × List mv_KV => p.2) hTq.symm).trans KP.2
      rw [List.flatMap_cons, List.flatMap_cons] at hfl1
      have hmid : ∀ q ∈ mv_TT G0 D, (x.1 < q.1 → q.1 < y.1 → False) ∧ (y.1 < q.1 → q.1 < x.1 → False) := by
        intro q hq
        obtain ⟨p, hp, rfl⟩ := List.mem_map.mp hq
        obtain ⟨z, z1, z2, z3⟩ := hback p (hDR p hp)
        constructor
        · intro u1 u2
          rcases hcase with ⟨v1, v2⟩ | ⟨v1, v2⟩
          · exact mv_irr _ (Int32.lt_trans (Int32.lt_trans v1 u1) u2)
          · exact mv_irr _ (Int32.lt_of_lt_of_le u2 (z3 ▸ v2 z z1 z2 (z3 ▸ u1)))
        · intro u1 u2
          rcases hcase with ⟨v1, v2⟩ | ⟨v1, v2⟩
          · exact mv_irr _ (Int32.lt_of_lt_of_le u1 (z3 ▸ v2 z z1 z2 (z3 ▸ u2)))
          · exact mv_irr _ (Int32.lt_trans (Int32.lt_trans u1 u2) v1)
      have s2' : s.Perm (mv_ct (G0 S) ++ (mv_ct (G L) ++ P)) := by rw [← hGS]; exact s2
      have hRT2 : mv_RT ((if x.1 ≤ y.1 then x.1 else y.1, s) :: mv_TT G0 D) := by
        rcases hcase with ⟨v1, v2⟩ | ⟨v1, v2⟩
        · rw [if_neg (Int32.not_le.mpr v1)]
          exact mv_RT_merge (mv_RT_perm (List.Perm.swap _ _ _) hRT1) v1 (fun q hq => (hmid q hq).2) s2'
        · rw [if_pos (Int32.le_of_lt v1)]
          exact mv_RT_merge hRT1 v1 (fun q hq => (hmid q hq).1) (s2'.trans List.perm_append_comm)
      have hfl2 : (mv_fl ((if x.1 ≤ y.1 then x.1 else y.1, s) :: mv_TT G0 D)).Perm h := by
        show (List.flatMap _ (_ :: _)).Perm h
        rw [List.flatMap_cons]
        refine List.Perm.trans ?_ hfl1
        rw [← List.append_assoc]
        exact (s2'.trans List.perm_append_comm).append_right _
      have eTT : mv_TT (mv_gu G r (((G r).set i (x.1, x.2.1, x.2.2.1, nI (now + 1))).set j (y.1, y.2.1, y.2.2.1, nI (now + 1)))) D = mv_TT G0 D :=
        mv_TT_congr (fun p hp => by rw [mv_gu_n (hRr p (hDR p hp)), hGR p (hDR p hp)])
      have hyG : (mv_gu G r ((G r).set i (x.1, x.2.1, x.2.2.1, nI (now + 1))) r)[j]? = some y := by rw [mv_gu_s]; exact hy
      have hW2 := mv_wd_kill hW1 hr hyG
      have hE2 := mv_ev_gu (n := r) hE1 (fun v hv => mv_av_kill hyG (mv_lvb_iff.mp hl) hv)
      rw [mv_gu_s, mv_gu_gu] at hW2 hE2
      have hSd1 : upd a_nodeDied L (nI (now + 1)) S = 2147483647 := by rw [pk_un hSL]; exact hSd
      have hW3 := mv_wd_die (mv_wd_die hW2 hL hLd hfw hfal) hS hSd1 hfw hfal
      have hE3 := mv_ev_die (mv_ev_die hE2 hLd (Int32.le_of_lt hwal)) hSd1 (Int32.le_of_lt hwal)
      refine mx_split2 (G := mv_gu G r (((G r).set i (x.1, x.2.1, x.2.2.1, nI (now + 1))).set j (y.1, y.2.1, y.2.2.1, nI (now + 1)))) (G0 := G0) (lf0 := a_leaf) (nd0 := a_nodeDied) (Rest := D) (s := s) (h := h) (f := 1) (post := post) hnow hfn hR1 hW3 hE3 hL hLl hr hlf (by rw [pk_un (Ne.symm hSr)]; exact hnd1) s3 rfl s1 (by omega) (by omega) (by rw [eTT]; exact hRT2) (by rw [eTT]; exact hfl2) (fun p hp => ?_) hnodD.2 (fun p hp => ?_) ?_ (fun n hn e => ?_) hpr (mv_free_mono hfree (by decide)) ?_ h28 hff hp (fun _ _ _ _ _ _ _ _ _ _ _ _ _ _ _ _ _ _ _ _ _ _ _ _ hyp => nm_r (e' := 0) (by decide) hyp)
      · rw [pk_un (hDS p hp), pk_un (hRL p (hDR p hp))]; exact hRN p (hDR p hp)
      · rw [mv_gu_n (hRr p (hDR p hp)), hGR p (hDR p hp)]; exact h3 p (List.mem_cons_of_mem _ (hDR p hp))
      · rw [mv_gu_s]; exact hctD
      · by_cases c2 : n = S
        · rw [c2, pk_us] at e
          exact absurd e (mv_lt_ne hwal)
        · rw [pk_un c2] at e
          by_cases c1 : n = L
          · rw [c1, pk_us] at e
            exact absurd e (mv_lt_ne hwal)
          · rw [pk_un c1] at e
            refine (halR n hn e c1).imp id (fun t => ?_)
            rcases List.mem_cons.mp ((hpR.map (fun p => p.2)).mem_iff.mp t) with t | t
            · exact absurd t c2
            · exact t
      · intro v h1 h2
        rw [mv_gu_s, List.length_set, hlenS]; exact hpot' v h1 h2
end
end
section
/-! walkDown; settle from any path -/
theorem mv_nk_kill {k : Int32} {A B : List mv_KV} {y : mv_KV} (hd : mv_Dis (A ++ y :: B)) (e : y.1 = k) : mv_nk k (A ++ y :: B) = A ++ B := by
  have hd' := List.pairwise_append.mp hd
  have hc := List.pairwise_cons.mp hd'.2.1
  show List.filter _ (A ++ y :: B) = _
  rw [List.filter_append, List.filter_cons_of_neg (by rw [decide_eq_true_eq]; exact fun t => t e)]
  congr 1
  · refine List.filter_eq_self.mpr (fun a ha => decide_eq_true (fun t => ?_))
    exact hd'.2.2 a ha y List.mem_cons_self (t.trans e.symm)
  · refine List.filter_eq_self.mpr (fun a ha => decide_eq_true (fun t => ?_))
    exact hc.1 a ha (e.trans t.symm)
theorem mv_nk_none {k : Int32} {l : List mv_KV} (h : ∀ y ∈ l, y.1 ≠ k) : mv_nk k l = l :=
  List.filter_eq_self.mpr (fun a ha => decide_eq_true (h a ha))
theorem mv_nk_len {k : Int32} {l : List mv_KV} (hd : mv_Dis l) (h : ∃ y ∈ l, y.1 = k) : (mv_nk k l).length + 1 = l.length := by
  obtain ⟨y, hy, e⟩ := h
  obtain ⟨A, B, rfl⟩ := List.append_of_mem hy
  rw [mv_nk_kill hd e]
  simp only [List.length_append, List.length_cons]
  omega
/-- the path to the leaf L of the key k -/
def mv_Pa (G : Nat → List mv_En) (lf : Nat → Int32) (r : Nat) (Ch : List (Int32 × Nat)) (k dep : Int32) (pn pe : Nat → Int32) (L : Nat) : Prop :=
  (lf r = 1 ∧ dep = nI 1 ∧ pn 0 = nI r ∧ L = r ∧ Ch = [((-2000 : Int32), r)]) ∨
    (lf r = 0 ∧ dep = nI 2 ∧ pn 0 = nI r ∧ pn 1 = nI L ∧ L < 128 ∧ ∃ (i : Nat) (x : mv_En), pe 0 = nI (r * 12 + i) ∧ (G r)[i]? = some x ∧ mv_lvb x = true ∧ x.2.1 = nI L ∧
      x.1 ≤ k ∧ (x.1, L) ∈ Ch ∧ ∀ p ∈ Ch, p.1 ≤ k → p.1 ≤ x.1)
theorem mv_Pa_cov {G : Nat → List mv_En} {lf : Nat → Int32} {r : Nat} {Ch : List (Int32 × Nat)} {k dep : Int32} {pn pe : Nat → Int32} {L : Nat} (h : mv_Pa G lf r Ch k dep pn pe L)
    (hr : r < 128) (hk : -1000 ≤ k) : L < 128 ∧ (∃ d, d < 2 ∧ dep - 1 = nI d ∧ pn d = nI L) ∧ ∃ q, (q, L) ∈ Ch ∧ q ≤ k ∧ ∀ p ∈ Ch, p.1 ≤ k → p.1 ≤ q := by
  rcases h with ⟨h1, h2, h3, h4, h5⟩ | ⟨h1, h2, h3, h4, h5, i, x, h6, h7, h8, h9, h10, h11, h12⟩
  · refine ⟨by rw [h4]; exact hr, ⟨0, by decide, by rw [h2]; exact nI_pred 0, by rw [h4]; exact h3⟩, -2000, by rw [h5, h4]; exact List.mem_cons_self, Int32.le_trans (by decide) hk, fun p hp _ => ?_⟩
    rw [h5] at hp
    rw [List.mem_singleton.mp hp]
    exact Int32.le_refl _
  · exact ⟨h5, ⟨1, by decide, by rw [h2]; exact nI_pred 1, h4⟩, x.1, h11, h10, h12⟩
theorem mv_in_leaf {G : Nat → List mv_En} {lf nd : Nat → Int32} {Ch : List (Int32 × Nat)} {h : List mv_KV} {q k : Int32} {L : Nat} (hT : mv_Tr G lf nd Ch h) (hm : (q, L) ∈ Ch) (hq : q ≤ k)
    (hmax : ∀ p ∈ Ch, p.1 ≤ k → p.1 ≤ q) : (∃ y ∈ h, y.1 = k) ↔ ∃ z ∈ G L, mv_lvb z = true ∧ z.1 = k := by
  obtain ⟨t1, t2, t3, t4, t5⟩ := hT
  have hm' : (q, mv_ct (G L)) ∈ mv_TT G Ch := List.mem_map.mpr ⟨(q, L), hm, rfl⟩
  constructor
  · rintro ⟨y, hy, e⟩
    have hy' := t4.mem_iff.mpr hy
    have := mv_RT_find t3 (p := (q, mv_ct (G L))) (k := k) hm' hq (fun p hp hk => by
      obtain ⟨c, hc, rfl⟩ := List.mem_map.mp hp
      exact hmax c hc hk) hy' e
    obtain ⟨z, z1, z2, z3⟩ := mv_ct_mem this
    exact ⟨z, z1, z2, by rw [← e, ← z3]; rfl⟩
  · rintro ⟨z, z1, z2, z3⟩
    exact ⟨mv_kv z, t4.mem_iff.mp (List.mem_flatMap.mpr ⟨_, hm', mv_mem_ct z1 z2⟩), z3⟩
section
variable {f_now f_first f_keys f_depth f_pending f_work : Int32} {a_rootAt a_inUse a_leaf a_used a_nodeDied a_key a_val a_born a_died a_pathNode a_pathEntry a_pendKey a_pendVal a_workKey a_workVal a_foundKey a_foundVal a_stack : Nat → Int32} {G G0 : Nat → List mv_En} {r L first now : Nat} {h h0 P : List mv_KV} {Ch : List (Int32 × Nat)} {k : Int32}
theorem mx_badKey {post : Int32 → Prop} (h1 : (k < -1000 ∨ 1000 < k) → post 1) (h0 : -1000 ≤ k → k ≤ 1000 → post 0) : wpX_badKey post k :=
  br_c (fun h => h1 (Or.inl h)) (fun h => br_c (fun h' => h0 (Int32.not_lt.mp h) h') (fun h' => h1 (Or.inr (Int32.not_le.mp h'))))
theorem mx_walk92 {post : SX → Prop} {d N : Nat} (hd : d < 16) (hdep : f_depth = nI d) (hp : ∀ pn pe, pn = upd a_pathNode d (nI N) → pe = upd a_pathEntry d (-1) → post (f_now, f_first, f_keys, nI (d + 1), f_pending, f_work, a_rootAt, a_inUse, a_leaf, a_used, a_nodeDied, a_key, a_val, a_born, a_died, pn, pe, a_pendKey, a_pendVal, a_workKey, a_workVal, a_foundKey, a_foundVal, a_stack)) :
    wX_walkDown_92 post (nI N) f_now f_first f_keys f_depth f_pending f_work a_rootAt a_inUse a_leaf a_used a_nodeDied a_key a_val a_born a_died a_pathNode a_pathEntry a_pendKey a_pendVal a_workKey a_workVal a_foundKey a_foundVal a_stack := by
  subst hdep
  have hin : vp_in (nI d) 16 := vp_in_nI hd (by decide)
  unfold wX_walkDown_92
  rw [nI_clamp (n := d) (by omega), nI_1]
  exact And.intro hin (nm_e (And.intro hin (nm_e (nm_e (hp _ _ rfl rfl)))))
theorem mx_walkDown {post : SX → Prop} (hR : mv_Rep G a_used a_key a_val a_born a_died) (hW : mv_Wd first (nI now) G a_leaf a_nodeDied a_inUse)
    (hC : mv_Cur first now G a_leaf a_nodeDied r Ch h) (hfnow : f_now = nI now) (hnow : now < 4000) (hra : a_rootAt (now % 41) = nI r) (hk1 : -1000 ≤ k)
    (hp : ∀ dep pn pe L, mv_Pa G a_leaf r Ch k dep pn pe L → post (f_now, f_first, f_keys, dep, f_pending, f_work, a_rootAt, a_inUse, a_leaf, a_used, a_nodeDied, a_key, a_val, a_born, a_died, pn, pe, a_pendKey, a_pendVal, a_workKey, a_workVal, a_foundKey, a_foundVal, a_stack)) : wpX_walkDown post (f_now, f_first, f_keys, f_depth, f_pending, f_work, a_rootAt, a_inUse, a_leaf, a_used, a_nodeDied, a_key, a_val, a_born, a_died, a_pathNode, a_pathEntry, a_pendKey, a_pendVal, a_workKey, a_workVal, a_foundKey, a_foundVal, a_stack) k := by
  subst hfnow
  obtain ⟨hr, hnd, hT, hroot, hal, hpot⟩ := hC
  have e41 : nI now - nI now / 41 * 41 = nI (now % 41) := pk_rem (d := 41) (by omega) (by decide) (by decide)
  have hin : vp_in (nI (now % 41)) 41 := vp_in_nI (Nat.mod_lt _ (by decide)) (by decide)
  have hav : mv_av (nI now) (G r) = mv_ct (G r) := mv_av_now (mv_nI_lt_al (by omega)) (hW r hr).2.2.2
  have hal1 : ∀ x ∈ G r, (mv_al (nI now) x = true ↔ mv_lvb x = true) := by
    intro x hx
    obtain ⟨b1, b2⟩ := (hW r hr).2.2.2 x hx
    rw [mv_al_iff, mv_lvb_iff]
    constructor
    · intro t
      rcases b2 with b2 | b2
      · exact absurd (Int32.lt_of_lt_of_le t.2 b2) (mv_irr _)
      · exact b2
    · intro t
      exact ⟨b1, by rw [t]; exact mv_nI_lt_al (by omega)⟩
  unfold wpX_walkDown
  dsimp only
  rw [e41, nI_clamp (n := now % 41) (by omega), hra]
  refine ⟨by decide, hin, nm_e (Exists.intro 2 ?_)⟩
  refine br_f (by decide) (And.intro (vp_in_nI hr (by decide)) ?_)
  rw [nI_clamp (n := r) (by omega)]
  rcases hroot with ⟨l1, l2⟩ | ⟨l1, l2, l3⟩
  · refine br_f (by rw [l1]; decide) (mx_walk92 (d := 0) (by decide) rfl (fun pn pe e1 e2 => hp _ pn pe r (Or.inl ⟨l1, rfl, by rw [e1]; exact pk_us, rfl, l2⟩)))
  · refine br_t l1 ?_
    obtain ⟨t1, t2, t3, t4, t5⟩ := hT
    have hpick : ∀ y ∈ G r, mv_lvb y = true → ∃ p ∈ Ch, p.1 = y.1 ∧ nI p.2 = y.2.1 := by
      intro y hy hl
      have := mv_mem_ct hy hl
      rw [l3] at this
      obtain ⟨p, hp, e⟩ := List.mem_map.mp this
      exact ⟨p, hp, congrArg Prod.fst e, congrArg Prod.snd e⟩
    have hback : ∀ p ∈ Ch, ∃ y ∈ G r, mv_lvb y = true ∧ y.1 = p.1 := by
      intro p hp
      have : mv_nc p ∈ mv_ct (G r) := by rw [l3]; exact List.mem_map.mpr ⟨p, hp, rfl⟩
      obtain ⟨z, z1, z2, z3⟩ := mv_ct_mem this
      exact ⟨z, z1, z2, congrArg Prod.fst z3⟩
    refine mx_childEntry hR hr ?_ (fun i x hx ha hk hm => ?_)
    · obtain ⟨⟨c, hc⟩, _⟩ := t3
      obtain ⟨p, hp, e⟩ := List.mem_map.mp hc
      obtain ⟨y, y1, y2, y3⟩ := hback p hp
      have e1 : y.1 = -2000 := y3.trans (congrArg Prod.fst e)
      exact ⟨y, y1, (hal1 y y1).mpr y2, by rw [e1]; exact Int32.le_trans (by decide) hk1, by rw [e1]; decide⟩
    · have hxm := mv_get_mem hx
      have hxl := (hal1 x hxm).mp ha
      have hi := mv_get_lt hx
      have hr12 := (hR r hr).1
      obtain ⟨p, hpC, p1, p2⟩ := hpick x hxm hxl
      obtain ⟨q1, q2, q3⟩ := t1 p hpC
      have hxv := ((hR r hr).2.2 i x hx).2.1
      have h016 : vp_in (0 : Int32) 16 := vp_in_iff.mpr (by decide)
      refine And.intro h016 (nm_e (And.intro h016 (nm_e (nm_e (And.intro (mv_ix hr (by omega)) ?_)))))
      rw [mv_cl hr (by omega), hxv, ← p2]
      refine nm_e (nm_e ?_)
      refine br_f (by decide) (And.intro (vp_in_nI q1 (by decide)) ?_)
      rw [nI_clamp (n := p.2) (by omega)]
      refine br_f (by rw [q2]; decide) (mx_walk92 (d := 1) (by decide) rfl (fun pn pe e1 e2 => hp _ pn pe p.2 (Or.inr ⟨l1, rfl, ?_, ?_, q1, i, x, ?_, hx, hxl, p2.symm, hk, ?_, ?_⟩)))
      · rw [e1, pk_un (by decide)]; exact pk_us
      · rw [e1]; exact pk_us
      · rw [e2, pk_un (by decide)]; exact pk_us
      · rw [← p1]; exact hpC
      · intro q hq hqk
        obtain ⟨y, y1, y2, y3⟩ := hback q hq
        rw [← y3]
        exact hm y y1 ((hal1 y y1).mpr y2) (by rw [y3]; exact hqk)
theorem mx_settle {post : SX → Prop} (hnow : now < 4000) (hfn : first ≤ now) (hn40 : now < first + 40)
    (hR : mv_Rep G a_used a_key a_val a_born a_died) (hW : mv_Wd first (nI (now + 1)) G a_leaf a_nodeDied a_inUse)
    (hE : mv_Ev first (nI (now + 1)) G0 a_leaf a_nodeDied G a_leaf a_nodeDied 0) (hC : mv_Cur first now G0 a_leaf a_nodeDied r Ch h0)
    (hPa : mv_Pa G0 a_leaf r Ch k f_depth a_pathNode a_pathEntry L) (hGn : ∀ n, n ≠ L → G n = G0 n)
    (hpk : mv_WL a_pendKey a_pendVal 0 P) (hfp : f_pending = nI P.length)
    (hP : P = [] ∨ ∃ x, P = [(k, x)]) (hc : (mv_ct (G L)).Perm (mv_nk k (mv_ct (G0 L)))) (hlen : (mv_ct (G0 L)).length ≤ (mv_ct (G L)).length + 1)
    (hk1 : -1000 ≤ k) (hk2 : k ≤ 1000) (hh : (mv_nk k h0 ++ P).Perm h) (h28 : h.length ≤ 28) (hff : f_first = nI first)
    (hp : ∀ u, mv_Dn first now h f_keys a_rootAt G0 a_leaf a_nodeDied u → post u) : wpX_settle post (f_now, f_first, f_keys, f_depth, f_pending, f_work, a_rootAt, a_inUse, a_leaf, a_used, a_nodeDied, a_key, a_val, a_born, a_died, a_pathNode, a_pathEntry, a_pendKey, a_pendVal, a_workKey, a_workVal, a_foundKey, a_foundVal, a_stack) (nI (now + 1)) := by
  rcases hPa with ⟨h1, h2, h3, h4, h5⟩ | ⟨h1, h2, h3, h4, h5, i, x, h6, h7, h8, h9, h10, h11, h12⟩
  · subst h4
    exact mx_settle1 hnow hfn hn40 hR hW hE hC h1 h2 h3 hpk hfp hP hc hk1 hk2 hh h28 hff hp
  · exact mx_settle2 hnow hfn hn40 hR hW hE hC h1 h2 h3 h4 h6 h7 h8 h9 h5 hGn hpk hfp hP hc hlen hk1 hk2 h10 h12 hh h28 hff hp
end
end
section
/-! X's put, erase, forget -/
theorem mv_Dn_post {post : Int32 → SX → Prop} {first now : Nat} {H : Nat → List mv_KV} {h : List mv_KV} {ks : Int32} {ra : Nat → Int32} {G0 : Nat → List mv_En} {lf0 nd0 : Nat → Int32} {u : SX}
    (hfn : first ≤ now) (hn40 : now < first + 40) (hnow : now < 4000) (hks : ks = nI h.length)
    (hV : ∀ v, first ≤ v → v ≤ now → ∃ rv, ra (v % 41) = nI rv ∧ mv_VOK G0 lf0 nd0 (nI v) rv (H v))
    (hok : ∀ u', mv_XR first (now + 1) (fun v => if v = now + 1 then h else H v) u' → post (nI (now + 1)) u')
    (hD : mv_Dn first now h ks ra G0 lf0 nd0 u) : post u.1 u := by
  have hX := mv_Dn_XR hfn hn40 hnow hks hV hD
  obtain ⟨f_now, f_first, f_keys, f_depth, f_pending, f_work, a_rootAt, a_inUse, a_leaf, a_used, a_nodeDied, a_key, a_val, a_born, a_died, a_pathNode, a_pathEntry, a_pendKey, a_pendVal, a_workKey, a_workVal, a_foundKey, a_foundVal, a_stack⟩ := u
  obtain ⟨_, _, _, _, e, _⟩ := hD
  have h2 := hok _ hX
  rw [← e] at h2
  exact h2
/-- a version that is kept -/
def mv_Kp (first now : Nat) (v : Int32) : Prop := ∃ j, v = nI j ∧ first ≤ j ∧ j ≤ now
section
variable {post : Int32 → SX → Prop} {u : SX} {first now : Nat} {H : Nat → List mv_KV} {k x : Int32} {h : List mv_KV}
theorem mx_put (hX : mv_XR first now H u) (hfn : first ≤ now) (hnow : now < 4000) (hn40 : now ≤ first + 40) (hdis : mv_Dis (H now))
    (h28 : (H now).length ≤ 28) (hh : (mv_nk k (H now) ++ [(k, x)]).Perm h)
    (hb : (k < -1000 ∨ 1000 < k) → post (-1) u)
    (hf : -1000 ≤ k → k ≤ 1000 → now = first + 40 → post (-3) u)
    (hfull : -1000 ≤ k → k ≤ 1000 → now < first + 40 → (∀ y ∈ H now, y.1 ≠ k) → (H now).length = 28 → ∀ u', mv_XR first now H u' → post (-4) u')
    (hok : -1000 ≤ k → k ≤ 1000 → now < first + 40 → ((∃ y ∈ H now, y.1 = k) ∨ (∀ y ∈ H now, y.1 ≠ k) ∧ (H now).length < 28) → ∀ u', mv_XR first (now + 1) (fun v => if v = now + 1 then h else H v) u' → post (nI (now + 1)) u') :
    wpX_put post u k x := by
  obtain ⟨f_now, f_first, f_keys, f_depth, f_pending, f_work, a_rootAt, a_inUse, a_leaf, a_used, a_nodeDied, a_key, a_val, a_born, a_died, a_pathNode, a_pathEntry, a_pendKey, a_pendVal, a_workKey, a_workVal, a_foundKey, a_foundVal, a_stack⟩ := u
  obtain ⟨G, r, Ch, x1, x2, x3, hR, hW, hV, hra, hC⟩ := hX
  subst x1 x2 x3
  unfold wpX_put
  dsimp only
  refine mx_badKey (fun hbad => br_f (by decide) (hb hbad)) (fun hk1 hk2 => br_t rfl ?_)
  rw [pk_sub hfn]
  refine pk_lt (now - first) 40 (fun hlt => ?_) (fun hge => hf hk1 hk2 (by omega))
  have hn40' : now < first + 40 := by omega
  refine mx_walkDown hR hW hC rfl hnow hra hk1 (fun dep pn pe L hPa => ?_)
  dsimp only
  obtain ⟨hL, ⟨d, hd, ed, ep⟩, q, hq1, hq2, hq3⟩ := mv_Pa_cov hPa hC.1 hk1
  have hin := mv_in_leaf hC.2.2.1 hq1 hq2 hq3
  have hW1 : mv_Wd first (nI (now + 1)) G a_leaf a_nodeDied a_inUse := mv_wd_mono hW (nI_le (by omega) (by omega))
  have hlenk : h.length = (mv_nk k (H now)).length + 1 := by rw [← hh.length_eq, List.length_append]; rfl
  rw [ed, nI_clamp (n := d) (by omega), ep]
  refine And.intro (vp_in_nI (by omega) (by decide)) ?_
  refine mx_liveKey hR hL (fun hno => ?_) (fun i y hy hyl hyk => ?_)
  · have hno' : ∀ y ∈ H now, y.1 ≠ k := by
      intro y hy e
      obtain ⟨z, z1, z2, z3⟩ := hin.mp ⟨y, hy, e⟩
      exact hno z z1 z2 z3
    rw [mv_nk_none hno'] at hlenk
    refine br_f (by decide) (pk_lt (H now).length 28 (fun hl => ?_) (fun hl => hfull hk1 hk2 hn40' hno' (by omega) _ ⟨G, r, Ch, rfl, rfl, rfl, hR, hW, hV, hra, hC⟩))
    refine br_f (by decide) (nm_r (nI_1 _) (nm_e (nm_e ?_)))
    rw [nI_1 now]
    refine mx_settle (G := G) (G0 := G) (P := [(k, x)]) (h := h) (h0 := H now) hnow hfn hn40' hR hW1 mv_ev_refl hC hPa (fun _ _ => rfl) ?_ rfl (Or.inr ⟨x, rfl⟩) ?_ (by omega) hk1 hk2 hh (by omega) rfl (fun u hD => ?_)
    · intro i y hy
      match i, hy with
      | 0, hy => cases hy; exact ⟨pk_us, pk_us⟩
    · rw [mv_nk_none (fun y hy e => ?_)]
      obtain ⟨z, z1, z2, z3⟩ := mv_ct_mem hy
      exact hno z z1 z2 (by rw [← e, ← z3]; rfl)
    · exact mv_Dn_post (u := u) hfn hn40' hnow (by rw [hlenk]) hV (hok hk1 hk2 hn40' (Or.inr ⟨hno', hl⟩)) hD
  · have hi := mv_get_lt hy
    have hL12 := (hR L hL).1
    have hyes : ∃ y ∈ H now, y.1 = k := hin.mpr ⟨y, mv_get_mem hy, hyl, hyk⟩
    have hkl := mv_nk_len hdis hyes
    have hnn : (0 : Int32) ≤ nI (L * 12 + i) := nI_pos' (by omega)
    refine br_t hnn (br_t hnn (And.intro (mv_ix hL (by omega)) (nm_e (nm_e (nm_e ?_)))))
    rw [mv_cl hL (by omega), nI_1 now]
    have hwal : nI (now + 1) < 2147483647 := mv_nI_lt_al (by omega)
    obtain ⟨A, B, eA, eB⟩ := mv_ct_kill (w := nI (now + 1)) hy hyl hwal
    have hdisL : mv_Dis (mv_ct (G L)) := (hC.2.2.1.2.2.1.2.2 (q, mv_ct (G L)) (List.mem_map.mpr ⟨(q, L), hq1, rfl⟩)).2.2.1
    refine mx_settle (G := mv_gu G L ((G L).set i (y.1, y.2.1, y.2.2.1, nI (now + 1)))) (G0 := G) (P := [(k, x)]) (h := h) (h0 := H now) hnow hfn hn40' (mv_rep_kill hR hL hy) (mv_wd_kill hW1 hL hy) (mv_ev_gu mv_ev_refl (fun v hv => mv_av_kill hy (mv_lvb_iff.mp hyl) hv)) hC hPa (fun _ hn => mv_gu_n hn) ?_ rfl (Or.inr ⟨x, rfl⟩) ?_ ?_ hk1 hk2 hh (by omega) rfl (fun u hD => ?_)
    · intro i y hy
      match i, hy with
      | 0, hy => cases hy; exact ⟨pk_us, pk_us⟩
    · rw [mv_gu_s, eB, eA]
      rw [eA] at hdisL
      rw [mv_nk_kill hdisL hyk]
    · rw [mv_gu_s, eB, eA]
      simp only [List.length_append, List.length_cons]
      omega
    · exact mv_Dn_post (u := u) hfn hn40' hnow (by rw [hlenk, hkl]) hV (hok hk1 hk2 hn40' (Or.inl hyes)) hD
theorem mx_erase (hX : mv_XR first now H u) (hfn : first ≤ now) (hnow : now < 4000) (hn40 : now ≤ first + 40) (hdis : mv_Dis (H now))
    (h28 : (H now).length ≤ 28) (hh : (mv_nk k (H now)).Perm h)
    (hb : (k < -1000 ∨ 1000 < k) → post (-1) u)
    (hno : -1000 ≤ k → k ≤ 1000 → (∀ y ∈ H now, y.1 ≠ k) → ∀ u', mv_XR first now H u' → post (-2) u')
    (hf : -1000 ≤ k → k ≤ 1000 → (∃ y ∈ H now, y.1 = k) → now = first + 40 → ∀ u', mv_XR first now H u' → post (-3) u')
    (hok : -1000 ≤ k → k ≤ 1000 → now < first + 40 → (∃ y ∈ H now, y.1 = k) → ∀ u', mv_XR first (now + 1) (fun v => if v = now + 1 then h else H v) u' → post (nI (now + 1)) u') :
    wpX_erase post u k := by
  obtain ⟨f_now, f_first, f_keys, f_depth, f_pending, f_work, a_rootAt, a_inUse, a_leaf, a_used, a_nodeDied, a_key, a_val, a_born, a_died, a_pathNode, a_pathEntry, a_pendKey, a_pendVal, a_workKey, a_workVal, a_foundKey, a_foundVal, a_stack⟩ := u
  obtain ⟨G, r, Ch, x1, x2, x3, hR, hW, hV, hra, hC⟩ := hX
  subst x1 x2 x3
  unfold wpX_erase
  dsimp only
  refine mx_badKey (fun hbad => br_f (by decide) (hb hbad)) (fun hk1 hk2 => br_t rfl ?_)
  refine mx_walkDown hR hW hC rfl hnow hra hk1 (fun dep pn pe L hPa => ?_)
  dsimp only
  obtain ⟨hL, ⟨d, hd, ed, ep⟩, q, hq1, hq2, hq3⟩ := mv_Pa_cov hPa hC.1 hk1
  have hin := mv_in_leaf hC.2.2.1 hq1 hq2 hq3
  have hW1 : mv_Wd first (nI (now + 1)) G a_leaf a_nodeDied a_inUse := mv_wd_mono hW (nI_le (by omega) (by omega))
  have hX' : mv_XR first now H (nI now, nI first, nI (H now).length, dep, f_pending, f_work, a_rootAt, a_inUse, a_leaf, a_used, a_nodeDied, a_key, a_val, a_born, a_died, pn, pe, a_pendKey, a_pendVal, a_workKey, a_workVal, a_foundKey, a_foundVal, a_stack) := ⟨G, r, Ch, rfl, rfl, rfl, hR, hW, hV, hra, hC⟩
  rw [ed, nI_clamp (n := d) (by omega), ep]
  refine And.intro (vp_in_nI (by omega) (by decide)) ?_
  refine mx_liveKey hR hL (fun hnot => ?_) (fun i y hy hyl hyk => ?_)
  · have hno' : ∀ y ∈ H now, y.1 ≠ k := by
      intro y hy e
      obtain ⟨z, z1, z2, z3⟩ := hin.mp ⟨y, hy, e⟩
      exact hnot z z1 z2 z3
    exact br_f (by decide) (hno hk1 hk2 hno' _ hX')
  · have hi := mv_get_lt hy
    have hL12 := (hR L hL).1
    have hyes : ∃ y ∈ H now, y.1 = k := hin.mpr ⟨y, mv_get_mem hy, hyl, hyk⟩
    have hkl := mv_nk_len hdis hyes
    have hnn : (0 : Int32) ≤ nI (L * 12 + i) := nI_pos' (by omega)
    refine br_t hnn ?_
    rw [pk_sub hfn]
    refine pk_lt (now - first) 40 (fun hlt => ?_) (fun hge => hf hk1 hk2 hyes (by omega) _ hX')
    have hn40' : now < first + 40 := by omega
    have ekeys : nI (H now).length - 1 = nI h.length := by
      rw [← hh.length_eq, ← hkl]; exact nI_pred _
    refine And.intro (mv_ix hL (by omega)) (nm_e (nm_r ekeys ?_))
    rw [mv_cl hL (by omega), nI_1 now]
    have hwal : nI (now + 1) < 2147483647 := mv_nI_lt_al (by omega)
    obtain ⟨A, B, eA, eB⟩ := mv_ct_kill (w := nI (now + 1)) hy hyl hwal
    have hdisL : mv_Dis (mv_ct (G L)) := (hC.2.2.1.2.2.1.2.2 (q, mv_ct (G L)) (List.mem_map.mpr ⟨(q, L), hq1, rfl⟩)).2.2.1
    have hhl := hh.length_eq
    refine mx_settle (G := mv_gu G L ((G L).set i (y.1, y.2.1, y.2.2.1, nI (now + 1)))) (G0 := G) (P := []) (h := h) (h0 := H now) hnow hfn hn40' (mv_rep_kill hR hL hy) (mv_wd_kill hW1 hL hy) (mv_ev_gu mv_ev_refl (fun v hv => mv_av_kill hy (mv_lvb_iff.mp hyl) hv)) hC hPa (fun _ hn => mv_gu_n hn) (fun i x hx => absurd hx (by simp)) rfl (Or.inl rfl) ?_ ?_ hk1 hk2 (by rw [List.append_nil]; exact hh) (by omega) rfl (fun u hD => ?_)
    · rw [mv_gu_s, eB, eA]
      rw [eA] at hdisL
      rw [mv_nk_kill hdisL hyk]
    · rw [mv_gu_s, eB, eA]
      simp only [List.length_append, List.length_cons]
      omega
    · exact mv_Dn_post (u := u) hfn hn40' hnow rfl hV (hok hk1 hk2 hn40' hyes) hD
end
section
variable {f_now f_first f_keys f_depth f_pending f_work : Int32} {a_rootAt a_inUse a_leaf a_used a_nodeDied a_key a_val a_born a_died a_pathNode a_pathEntry a_pendKey a_pendVal a_workKey a_workVal a_foundKey a_foundVal a_stack : Nat → Int32} {first now : Nat} {H : Nat → List mv_KV} {v : Int32}
theorem mx_kept {post : Int32 → Prop} (h1 : f_first = nI first) (h2 : f_now = nI now) (hfn : first ≤ now) (hnow : now < 4000)
    (hy : ∀ j, v = nI j → first ≤ j → j ≤ now → post 1) (hn : ¬ mv_Kp first now v → post 0) : wpX_kept post (f_now, f_first, f_keys, f_depth, f_pending, f_work, a_rootAt, a_inUse, a_leaf, a_used, a_nodeDied, a_key, a_val, a_born, a_died, a_pathNode, a_pathEntry, a_pendKey, a_pendVal, a_workKey, a_workVal, a_foundKey, a_foundVal, a_stack) v := by
  subst h1 h2
  refine br_c (fun h => hn ?_) (fun h => br_c (fun h' => hn ?_) (fun h' => ?_))
  · rintro ⟨j, rfl, a, b⟩
    exact nI_nlt (a := j) (b := first) a (by omega) h
  · rintro ⟨j, rfl, a, b⟩
    exact nI_nlt (a := now) (b := j) b (by omega) h'
  · have h0 : ¬ v < 0 := by
      intro t
      have := nI_pos' (n := first) (by omega)
      exact h (Int32.lt_of_lt_of_le t this)
    obtain ⟨j, hj, rfl⟩ := nI_of h0
    rw [nI_ltI hj (by omega)] at h
    rw [nI_ltI (by omega) hj] at h'
    exact hy j rfl (by omega) (by omega)
theorem mx_forget18 {post : Int32 → SX → Prop} {j : Nat} (hj : j < 4000) (hff : f_first = nI j) (h0 : ∀ n, n < 128 → a_inUse n = 0 → a_nodeDied n ≤ nI j)
    (hp : ∀ iu, (∀ n, n < 128 → (iu n = 0 ↔ a_nodeDied n ≤ nI j)) → post (f_now - nI j) (f_now, nI j, f_keys, f_depth, f_pending, f_work, a_rootAt, iu, a_leaf, a_used, a_nodeDied, a_key, a_val, a_born, a_died, a_pathNode, a_pathEntry, a_pendKey, a_pendVal, a_workKey, a_workVal, a_foundKey, a_foundVal, a_stack)) :
    ∃ m, wX_forget_18 post f_now f_first f_keys f_depth f_pending f_work m 0 a_rootAt a_inUse a_leaf a_used a_nodeDied a_key a_val a_born a_died a_pathNode a_pathEntry a_pendKey a_pendVal a_workKey a_workVal a_foundKey a_foundVal a_stack := by
  subst hff
  have hl : ∀ d i iu, i + d = 128 → (∀ n, n < 128 → (n < i → (iu n = 0 ↔ a_nodeDied n ≤ nI j)) ∧ (i ≤ n → iu n = a_inUse n)) →
      wX_forget_18 post f_now (nI j) f_keys f_depth f_pending f_work (d + 1) (nI i) a_rootAt iu a_leaf a_used a_nodeDied a_key a_val a_born a_died a_pathNode a_pathEntry a_pendKey a_pendVal a_workKey a_workVal a_foundKey a_foundVal a_stack := by
    intro d
    induction d with
    | zero =>
      intro i iu hi hI
      exact pk_le 128 i (fun _ => hp iu (fun n hn => (hI n hn).1 (by omega))) (fun t => absurd t (by omega))
    | succ d ih =>
      intro i iu hi hI
      refine pk_le 128 i (fun t => absurd t (by omega)) (fun _ => And.intro (vp_in_nI (by omega) (by decide)) ?_)
      rw [nI_clamp (n := i) (by omega)]
      have ei := (hI i (by omega)).2 (Nat.le_refl _)
      have key : ∀ iu', (∀ n, n ≠ i → iu' n = iu n) → (iu' i = 0 ↔ a_nodeDied i ≤ nI j) → wX_forget_18 post f_now (nI j) f_keys f_depth f_pending f_work (d + 1) (nI (i + 1)) a_rootAt iu' a_leaf a_used a_nodeDied a_key a_val a_born a_died a_pathNode a_pathEntry a_pendKey a_pendVal a_workKey a_workVal a_foundKey a_foundVal a_stack := by
        intro iu' g1 g2
        refine ih (i + 1) iu' (by omega) (fun n hn => ⟨fun hlt => ?_, fun hle => ?_⟩)
        · by_cases e : n = i
          · subst e; exact g2
          · rw [g1 n e]; exact (hI n hn).1 (by omega)
        · rw [g1 n (by omega)]; exact (hI n hn).2 (by omega)
      refine br_c (fun t => nm_r (nI_1 i) (key iu (fun _ _ => rfl) ⟨fun _ => h0 i (by omega) (ei ▸ t), fun _ => t⟩)) (fun t => And.intro (vp_in_nI (by omega) (by decide)) (br_c (fun t2 => nm_r (nI_1 i) (key iu (fun _ _ => rfl) ⟨fun c => absurd c t, fun c => absurd (Int32.lt_of_lt_of_le t2 c) (mv_irr _)⟩)) (fun t2 => And.intro (vp_in_nI (by omega) (by decide)) (nm_e (nm_r (nI_1 i) (key _ (fun n hn => pk_un hn) ?_))))))
      rw [pk_us, mv_nar0]
      exact ⟨fun _ => Int32.not_lt.mp t2, fun _ => rfl⟩
  exact ⟨129, hl 128 0 a_inUse rfl (fun n hn => ⟨fun t => absurd t (Nat.not_lt_zero _), fun _ => rfl⟩)⟩
end
theorem mx_forget {post : Int32 → SX → Prop} {u : SX} {first now : Nat} {H : Nat → List mv_KV} {v : Int32} (hX : mv_XR first now H u) (hfn : first ≤ now) (hnow : now < 4000)
    (hn : ¬ mv_Kp first now v → post (-5) u) (hy : ∀ j, v = nI j → first ≤ j → j ≤ now → ∀ u', mv_XR j now H u' → post (nI (now - j)) u') : wpX_forget post u v := by
  obtain ⟨f_now, f_first, f_keys, f_depth, f_pending, f_work, a_rootAt, a_inUse, a_leaf, a_used, a_nodeDied, a_key, a_val, a_born, a_died, a_pathNode, a_pathEntry, a_pendKey, a_pendVal, a_workKey, a_workVal, a_foundKey, a_foundVal, a_stack⟩ := u
  obtain ⟨G, r, Ch, x1, x2, x3, hR, hW, hV, hra, hC⟩ := hX
  subst x1 x2 x3
  unfold wpX_forget
  dsimp only
  refine mx_kept rfl rfl hfn hnow (fun j e hj1 hj2 => br_f (by decide) ?_) (fun h => br_t rfl (hn h))
  subst e
  refine mx_forget18 (j := j) (by omega) rfl (fun n hn hi => Int32.le_trans ((hW n hn).1.mp hi) (nI_le hj1 (by omega))) (fun iu hiu => ?_)
  rw [pk_sub hj2]
  refine hy j rfl hj1 hj2 _ ⟨G, r, Ch, rfl, rfl, rfl, hR, fun n hn => ?_, fun v hv1 hv2 => hV v (by omega) hv2, hra, ?_⟩
  · obtain ⟨_, b, c, d⟩ := hW n hn
    exact ⟨hiu n hn, b, c, d⟩
  · obtain ⟨c1, c2, c3, c4, c5, c6⟩ := hC
    exact ⟨c1, c2, c3, c4, c5, fun v hv1 hv2 => c6 v (by omega) hv2⟩
end
section
/-! X's lookUp, has, get, since -/
theorem mv_mem_av {v : Int32} {l : List mv_En} {z : mv_En} (h : z ∈ l) (ha : mv_al v z = true) : mv_kv z ∈ mv_av v l :=
  List.mem_map.mpr ⟨z, List.mem_filter.mpr ⟨h, ha⟩, rfl⟩
theorem mv_av_mem {v : Int32} {l : List mv_En} {y : mv_KV} (h : y ∈ mv_av v l) : ∃ z ∈ l, mv_al v z = true ∧ mv_kv z = y := by
  obtain ⟨z, hz, e⟩ := List.mem_map.mp h
  have := List.mem_filter.mp hz
  exact ⟨z, this.1, this.2, e⟩
theorem mv_VOK_rng {G : Nat → List mv_En} {lf nd : Nat → Int32} {v : Int32} {r : Nat} {h : List mv_KV} (hV : mv_VOK G lf nd v r h) : ∀ y ∈ h, -1000 ≤ y.1 ∧ y.1 ≤ 1000 := by
  obtain ⟨h1, h2, h3, h4, h5, h6⟩ := hV
  intro y hy
  obtain ⟨p, hp, hyp⟩ := List.mem_flatMap.mp (h5.mem_iff.mpr hy)
  have := (h4.2.2 p hp).2.2.2 y hyp
  exact ⟨this.2.1, this.2.2.1⟩
theorem mv_VOK_dis {G : Nat → List mv_En} {lf nd : Nat → Int32} {v : Int32} {r : Nat} {h : List mv_KV} (hV : mv_VOK G lf nd v r h) : mv_Dis h :=
  mv_dis_perm hV.2.2.2.2.1 (mv_RT_dis hV.2.2.2.1)
theorem mv_dis_uniq {l : List mv_KV} (hd : mv_Dis l) {k a b : Int32} (ha : (k, a) ∈ l) (hb : (k, b) ∈ l) : a = b := by
  have := mv_pw_inj (f := fun p : mv_KV => p.1) hd ha hb rfl
  exact congrArg Prod.snd this
/-- what a version's routing says at an inner root -/
theorem mv_TV_in {G : Nat → List mv_En} {lf : Nat → Int32} {v : Int32} {r : Nat} (hl : lf r = 0) : mv_TV G lf v r = (mv_av v (G r)).map (fun p => (p.1, mv_av v (G p.2.toNatClampNeg))) := by
  unfold mv_TV
  rw [if_neg (by rw [hl]; decide)]
theorem mv_TV_lf {G : Nat → List mv_En} {lf : Nat → Int32} {v : Int32} {r : Nat} (hl : lf r = 1) : mv_TV G lf v r = [((-2000 : Int32), mv_av v (G r))] := by
  unfold mv_TV
  rw [if_pos hl]
section
variable {f_now f_first f_keys f_depth f_pending f_work : Int32} {a_rootAt a_inUse a_leaf a_used a_nodeDied a_key a_val a_born a_died a_pathNode a_pathEntry a_pendKey a_pendVal a_workKey a_workVal a_foundKey a_foundVal a_stack : Nat → Int32} {G : Nat → List mv_En} {r n v : Nat} {h : List mv_KV} {k w : Int32} {post : Int32 → Prop}
theorem mx_look58 (hR : mv_Rep G a_used a_key a_val a_born a_died) (hn : n < 128)
    (h0 : (∀ x ∈ G n, mv_al w x = true → x.1 ≠ k) → post (-1))
    (h1 : ∀ (i : Nat) (x : mv_En), (G n)[i]? = some x → mv_al w x = true → x.1 = k → post (nI (n * 12 + i))) : ∃ m, wX_lookUp_58 post k w (nI n) f_now f_first f_keys f_depth f_pending f_work a_rootAt a_inUse a_leaf a_used a_nodeDied a_key a_val a_born a_died a_pathNode a_pathEntry a_pendKey a_pendVal a_workKey a_workVal a_foundKey a_foundVal a_stack m (nI n * 12) := by
  obtain ⟨hl, hu, hg⟩ := hR n hn
  rw [mv_n120]
  refine ⟨_, mv_loop (G n) (fun m i (s : Unit) => wX_lookUp_58 post k w (nI n) f_now f_first f_keys f_depth f_pending f_work a_rootAt a_inUse a_leaf a_used a_nodeDied a_key a_val a_born a_died a_pathNode a_pathEntry a_pendKey a_pendVal a_workKey a_workVal a_foundKey a_foundVal a_stack m (nI (n * 12 + i))) (fun p s => ∀ x ∈ p, mv_al w x = true → x.1 ≠ k) ?_ ?_ () (fun x hx => absurd hx List.not_mem_nil)⟩
  · intro m s hs
    exact mv_hd hn hl hu hl (fun _ => h0 hs) (fun h => absurd h (Nat.lt_irrefl _))
  · intro m p x q s hl' hx hs ih
    have hi := mv_get_lt hx
    obtain ⟨hk, hv, hb, hd⟩ := hg _ _ hx
    have hnext : (mv_al w x = true → x.1 ≠ k) → ∀ y ∈ p ++ [x], mv_al w y = true → y.1 ≠ k := by
      intro c y hy ha
      rcases mv_mem_snoc hy with hy | rfl
      · exact hs y hy ha
      · exact c ha
    refine mv_hd hn hl hu (by omega) (fun h => absurd h (by omega)) (fun _ => And.intro (mv_ix hn (by omega)) ?_)
    rw [mv_cl hn (by omega), hk]
    refine br_c (fun e => mx_aliveAt (x := x) (by omega) hb hd (fun t => br_t rfl (nm_r (mv_s1 n _) (ih () (hnext (fun c => by rw [t] at c; cases c))))) (fun t => br_f (by decide) (h1 _ x hx t e))) (fun e => nm_r (mv_s1 n _) (ih () (hnext (fun _ => e))))
theorem mx_lookUp (hR : mv_Rep G a_used a_key a_val a_born a_died) (hV : mv_VOK G a_leaf a_nodeDied (nI v) r h) (hra : a_rootAt (v % 41) = nI r) (hv : v < 4000) (hk : -1000 ≤ k)
    (h0 : (∀ y ∈ h, y.1 ≠ k) → post (-1)) (h1 : ∀ e, e < 1536 → (k, a_val e) ∈ h → post (nI e)) : wpX_lookUp post (f_now, f_first, f_keys, f_depth, f_pending, f_work, a_rootAt, a_inUse, a_leaf, a_used, a_nodeDied, a_key, a_val, a_born, a_died, a_pathNode, a_pathEntry, a_pendKey, a_pendVal, a_workKey, a_workVal, a_foundKey, a_foundVal, a_stack) k (nI v) := by
  obtain ⟨hr, hnd, hlf, hRT, hpm, hin⟩ := hV
  have e41 : nI v - nI v / 41 * 41 = nI (v % 41) := pk_rem (d := 41) (by omega) (by decide) (by decide)
  have hin41 : vp_in (nI (v % 41)) 41 := vp_in_nI (Nat.mod_lt _ (by decide)) (by decide)
  unfold wpX_lookUp
  dsimp only
  rw [e41, nI_clamp (n := v % 41) (by omega), hra]
  refine ⟨by decide, hin41, nm_e (Exists.intro 2 ?_)⟩
  refine br_f (by decide) (And.intro (vp_in_nI hr (by decide)) ?_)
  rw [nI_clamp (n := r) (by omega)]
  rcases hlf with hl | hl
  · refine br_t hl ?_
    rw [mv_TV_in hl] at hRT hpm
    refine mx_childEntry hR hr ?_ (fun i x hx ha hxk hm => ?_)
    · obtain ⟨⟨c, hc⟩, _⟩ := hRT
      obtain ⟨p, hp, e⟩ := List.mem_map.mp hc
      obtain ⟨y, y1, y2, y3⟩ := mv_av_mem hp
      have e1 : y.1 = -2000 := (congrArg Prod.fst y3).trans (congrArg Prod.fst e)
      exact ⟨y, y1, y2, by rw [e1]; exact Int32.le_trans (by decide) hk, by rw [e1]; decide⟩
    · have hi := mv_get_lt hx
      have hr12 := (hR r hr).1
      have hxm := mv_mem_av (mv_get_mem hx) ha
      obtain ⟨c, c1, c2, c3, c4⟩ := hin hl _ hxm
      have c2' : x.2.1 = nI c := c2
      have hxv := ((hR r hr).2.2 i x hx).2.1
      refine And.intro (mv_ix hr (by omega)) ?_
      rw [mv_cl hr (by omega), hxv, c2']
      refine nm_e (nm_e ?_)
      refine br_f (by decide) (And.intro (vp_in_nI c1 (by decide)) ?_)
      rw [nI_clamp (n := c) (by omega)]
      have hent : (x.1, mv_av (nI v) (G c)) ∈ (mv_av (nI v) (G r)).map (fun p => (p.1, mv_av (nI v) (G p.2.toNatClampNeg))) := by
        refine List.mem_map.mpr ⟨mv_kv x, hxm, ?_⟩
        show (x.1, mv_av (nI v) (G x.2.1.toNatClampNeg)) = _
        rw [c2', nI_clamp (by omega)]
      refine br_f (by rw [c3]; decide) (nm_e (mx_look58 hR c1 (fun hno => h0 (fun y hy e => ?_)) (fun j z hz hza hzk => h1 _ ?_ ?_)))
      · have := mv_RT_find hRT hent hxk (fun q hq hqk => by
          obtain ⟨q', hq', rfl⟩ := List.mem_map.mp hq
          obtain ⟨w, w1, w2, w3⟩ := mv_av_mem hq'
          have e5 : w.1 = q'.1 := congrArg Prod.fst w3
          have := hm w w1 w2 (by rw [e5]; exact hqk)
          rw [e5] at this
          exact this) (hpm.mem_iff.mpr hy) e
        obtain ⟨z, z1, z2, z3⟩ := mv_av_mem this
        exact hno z z1 z2 (by rw [← e, ← z3]; rfl)
      · have := mv_get_lt hz
        have := (hR c c1).1
        omega
      · rw [((hR c c1).2.2 j z hz).2.1, ← hzk]
        exact hpm.mem_iff.mp (List.mem_flatMap.mpr ⟨_, hent, mv_mem_av (mv_get_mem hz) hza⟩)
  · rw [mv_TV_lf hl] at hRT hpm
    have hpm' : (mv_av (nI v) (G r)).Perm h := by
      have e : mv_fl [((-2000 : Int32), mv_av (nI v) (G r))] = mv_av (nI v) (G r) ++ [] := rfl
      rw [e, List.append_nil] at hpm
      exact hpm
    refine br_f (by rw [hl]; decide) (nm_e (mx_look58 hR hr (fun hno => h0 (fun y hy e => ?_)) (fun j z hz hza hzk => h1 _ ?_ ?_)))
    · obtain ⟨z, z1, z2, z3⟩ := mv_av_mem (hpm'.mem_iff.mpr hy)
      exact hno z z1 z2 (by rw [← e, ← z3]; rfl)
    · have := mv_get_lt hz
      have := (hR r hr).1
      omega
    · rw [((hR r hr).2.2 j z hz).2.1, ← hzk]
      exact hpm'.mem_iff.mp (mv_mem_av (mv_get_mem hz) hza)
end
section
variable {post : Int32 → Prop} {u : SX} {first now : Nat} {H : Nat → List mv_KV} {k v : Int32}
theorem mx_has (hX : mv_XR first now H u) (hfn : first ≤ now) (hnow : now < 4000)
    (hy : ∀ j, v = nI j → first ≤ j → j ≤ now → (∃ y, (k, y) ∈ H j) → post 1)
    (hn : ¬ mv_Kp first now v → post 0) (hn2 : ∀ j, v = nI j → first ≤ j → j ≤ now → (∀ y ∈ H j, y.1 ≠ k) → post 0) : wpX_has post u k v := by
  obtain ⟨f_now, f_first, f_keys, f_depth, f_pending, f_work, a_rootAt, a_inUse, a_leaf, a_used, a_nodeDied, a_key, a_val, a_born, a_died, a_pathNode, a_pathEntry, a_pendKey, a_pendVal, a_workKey, a_workVal, a_foundKey, a_foundVal, a_stack⟩ := u
  obtain ⟨G, r, Ch, x1, x2, x3, hR, hW, hV, hra, hC⟩ := hX
  unfold wpX_has
  dsimp only
  refine mx_kept x2 x1 hfn hnow (fun j e hj1 hj2 => br_f (by decide) ?_) (fun h => br_t rfl (hn h))
  obtain ⟨rv, hrv, hVj⟩ := hV j hj1 hj2
  have hrng := mv_VOK_rng hVj
  refine mx_badKey (fun hb => br_f (by decide) (hn2 j e hj1 hj2 (fun y hy c => ?_))) (fun hk1 hk2 => br_t rfl ?_)
  · obtain ⟨a, b⟩ := hrng y hy
    rw [c] at a b
    rcases hb with hb | hb
    · exact mv_irr _ (Int32.lt_of_lt_of_le hb a)
    · exact mv_irr _ (Int32.lt_of_lt_of_le hb b)
  · rw [e]
    exact mx_lookUp hR hVj hrv (by omega) hk1 (fun hno => br_t (by decide) (hn2 j e hj1 hj2 hno)) (fun i hi hm => br_f (nI_pos (by omega)) (hy j e hj1 hj2 ⟨_, hm⟩))
theorem mx_get (hX : mv_XR first now H u) (hfn : first ≤ now) (hnow : now < 4000)
    (hy : ∀ j y, v = nI j → first ≤ j → j ≤ now → (k, y) ∈ H j → post y)
    (hn : ¬ mv_Kp first now v → post 0) (hn2 : ∀ j, v = nI j → first ≤ j → j ≤ now → (∀ y ∈ H j, y.1 ≠ k) → post 0) : wpX_get post u k v := by
  obtain ⟨f_now, f_first, f_keys, f_depth, f_pending, f_work, a_rootAt, a_inUse, a_leaf, a_used, a_nodeDied, a_key, a_val, a_born, a_died, a_pathNode, a_pathEntry, a_pendKey, a_pendVal, a_workKey, a_workVal, a_foundKey, a_foundVal, a_stack⟩ := u
  obtain ⟨G, r, Ch, x1, x2, x3, hR, hW, hV, hra, hC⟩ := hX
  unfold wpX_get
  dsimp only
  refine mx_kept x2 x1 hfn hnow (fun j e hj1 hj2 => br_f (by decide) ?_) (fun h => br_t rfl (hn h))
  obtain ⟨rv, hrv, hVj⟩ := hV j hj1 hj2
  have hrng := mv_VOK_rng hVj
  refine mx_badKey (fun hb => br_f (by decide) (hn2 j e hj1 hj2 (fun y hy c => ?_))) (fun hk1 hk2 => br_t rfl ?_)
  · obtain ⟨a, b⟩ := hrng y hy
    rw [c] at a b
    rcases hb with hb | hb
    · exact mv_irr _ (Int32.lt_of_lt_of_le hb a)
    · exact mv_irr _ (Int32.lt_of_lt_of_le hb b)
  · rw [e]
    refine mx_lookUp hR hVj hrv (by omega) hk1 (fun hno => br_f (by decide) (hn2 j e hj1 hj2 hno)) (fun i hi hm => br_t (nI_pos' (by omega)) (And.intro (vp_in_nI hi (by decide)) ?_))
    rw [nI_clamp (n := i) (by omega)]
    exact hy j _ e hj1 hj2 hm
theorem mx_since (hX : mv_XR first now H u) (hfn : first ≤ now) (hnow : now < 4000)
    (hn : (∀ y ∈ H now, y.1 ≠ k) → post (-2))
    (hy : ∀ y a, (k, y) ∈ H now → first ≤ a → a ≤ now → (∀ j, a ≤ j → j ≤ now → (k, y) ∈ H j) → (a = first ∨ (k, y) ∉ H (a - 1)) → post (nI a)) : wpX_since post u k := by
  obtain ⟨f_now, f_first, f_keys, f_depth, f_pending, f_work, a_rootAt, a_inUse, a_leaf, a_used, a_nodeDied, a_key, a_val, a_born, a_died, a_pathNode, a_pathEntry, a_pendKey, a_pendVal, a_workKey, a_workVal, a_foundKey, a_foundVal, a_stack⟩ := u
  obtain ⟨G, r, Ch, x1, x2, x3, hR, hW, hV, hra, hC⟩ := hX
  subst x1 x2
  obtain ⟨rv, hrv, hVj⟩ := hV now hfn (Nat.le_refl _)
  have hrng := mv_VOK_rng hVj
  unfold wpX_since
  dsimp only
  refine mx_badKey (fun hb => br_f (by decide) (hn (fun y hy c => ?_))) (fun hk1 hk2 => br_t rfl ?_)
  · obtain ⟨a, b⟩ := hrng y hy
    rw [c] at a b
    rcases hb with hb | hb
    · exact mv_irr _ (Int32.lt_of_lt_of_le hb a)
    · exact mv_irr _ (Int32.lt_of_lt_of_le hb b)
  · refine mx_lookUp hR hVj hrv (by omega) hk1 (fun hno => br_f (by decide) (hn hno)) (fun i hi hm => br_t (nI_pos' (by omega)) (And.intro (vp_in_nI hi (by decide)) ?_))
    rw [nI_clamp (n := i) (by omega)]
    refine nm_e (Exists.intro (now + 1 - first + 1) ?_)
    generalize a_val i = y at hm
    have hl : ∀ d m a, m = first + d → m ≤ now + 1 → (∀ j, m ≤ j → j ≤ now → (k, y) ∈ H j) → (a = m ∨ m = now + 1) → (m = now + 1 → a = now) →
        wX_since_46 post k y (nI now) (nI first) f_keys f_depth f_pending f_work a_rootAt a_inUse a_leaf a_used a_nodeDied a_key a_val a_born a_died a_pathNode a_pathEntry a_pendKey a_pendVal a_workKey a_workVal a_foundKey a_foundVal a_stack (d + 1) (nI a) (nI m + (-1)) := by
      intro d
      induction d with
      | zero =>
        intro m a e1 e2 e3 e4 e5
        have e1' : m = first := e1
        subst e1'
        have ea : a = m := by
          rcases e4 with t | t
          · exact t
          · exact absurd t (by omega)
        subst ea
        refine br_t ?_ (hy y a hm (Nat.le_refl _) hfn e3 (Or.inl rfl))
        rcases Nat.eq_zero_or_pos a with t | t
        · rw [t]; decide
        · obtain ⟨b, rfl⟩ : ∃ b, a = b + 1 := ⟨a - 1, by omega⟩
          rw [pk_m1]
          exact nI_lt (by omega) (by omega)
      | succ d ih =>
        intro m a e1 e2 e3 e4 e5
        obtain ⟨b, rfl⟩ : ∃ b, m = b + 1 := ⟨m - 1, by omega⟩
        rw [pk_m1]
        obtain ⟨rb, hrb, hVb⟩ := hV b (by omega) (by omega)
        refine br_f (nI_nlt (by omega) (by omega)) (mx_lookUp hR hVb hrb (by omega) hk1 (fun hno => br_t (by decide) ?_) (fun i2 hi2 hm2 => br_f (nI_pos (by omega)) (And.intro (vp_in_nI hi2 (by decide)) ?_)))
        · by_cases t : b = now
          · subst t
            exact absurd rfl (hno (k, y) hm)
          · have ea : a = b + 1 := by
              rcases e4 with c | c
              · exact c
              · exact absurd c (by omega)
            subst ea
            exact hy y _ hm (by omega) (by omega) e3 (Or.inr (fun c => hno (k, y) c rfl))
        · rw [nI_clamp (n := i2) (by omega)]
          refine br_c (fun e => nm_e ?_) (fun e => ?_)
          · refine ih b b (by omega) (by omega) (fun j j1 j2 => ?_) (Or.inl rfl) (fun c => absurd c (by omega))
            by_cases t : j = b
            · subst t; rw [← e]; exact hm2
            · exact e3 j (by omega) j2
          · by_cases t : b = now
            · subst t
              exact absurd (mv_dis_uniq (mv_VOK_dis hVb) hm2 hm) e
            · have ea : a = b + 1 := by
                rcases e4 with c | c
                · exact c
                · exact absurd c (by omega)
              subst ea
              exact hy y _ hm (by omega) (by omega) e3 (Or.inr (fun c => e (mv_dis_uniq (mv_VOK_dis hVb) hm2 c)))
    have := hl (now + 1 - first) (now + 1) now (by omega) (Nat.le_refl _) (fun j j1 j2 => absurd j1 (by omega)) (Or.inr rfl) (fun _ => rfl)
    rw [pk_m1] at this
    exact this
end
end
section
/-! X's scan -/
def mv_rng (lo hi : Int32) (x : mv_KV) : Bool := decide (lo ≤ x.1) && decide (x.1 ≤ hi)
theorem mv_rng_iff {lo hi : Int32} {x : mv_KV} : mv_rng lo hi x = true ↔ lo ≤ x.1 ∧ x.1 ≤ hi := by
  unfold mv_rng
  rw [Bool.and_eq_true, decide_eq_true_eq, decide_eq_true_eq]
abbrev mv_fi (lo hi : Int32) (l : List mv_KV) : List mv_KV := l.filter (mv_rng lo hi)
def mv_ST (st : Nat → Int32) (l : List Int32) : Prop := ∀ i y, l[i]? = some y → st i = y
def mv_pu (v lo hi : Int32) (l0 l : List mv_En) : List Int32 := (l.filter (fun x => mv_al v x && decide (x.1 ≤ hi) && decide (lo < mv_nr v x.1 l0))).map (fun x => x.2.1)
section
variable {f_now f_first f_keys f_depth f_pending f_work : Int32} {a_rootAt a_inUse a_leaf a_used a_nodeDied a_key a_val a_born a_died a_pathNode a_pathEntry a_pendKey a_pendVal a_workKey a_workVal a_foundKey a_foundVal a_stack : Nat → Int32} {G : Nat → List mv_En} {n b : Nat} {v lo hi : Int32}
theorem mx_ins73 {post : Int32 → SX → Prop} {J : Int32 → Int32 → (Nat → Int32) → (Nat → Int32) → (Nat → Int32) → (Nat → Int32) → (Nat → Int32) → (Nat → Int32) → (Nat → Int32) → (Nat → Int32) → (Nat → Int32) → (Nat → Int32) → (Nat → Int32) → (Nat → Int32) → (Nat → Int32) → (Nat → Int32) → (Nat → Int32) → (Nat → Int32) → (Nat → Int32) → (Nat → Int32) → Prop} {l : List mv_KV} {e : Nat} {x y1 y2 y3 y4 : Int32} {kx vx : Int32} (he : e < 1536) (hkx : a_key e = kx) (hvx : a_val e = vx)
    (hW : mv_WL a_foundKey a_foundVal b l) (hs : mv_Srt l) (hk : ∀ x ∈ l, x.1 ≠ kx) (hl : l.length < 32) (hb : b ≤ 32)
    (hJ : ∀ l' fk fv, mv_Srt l' → l'.Perm ((kx, vx) :: l) → mv_WL fk fv b l' → (∀ i, i < b → fk i = a_foundKey i ∧ fv i = a_foundVal i) →
      J (nI (l.length + 1)) (nI (e + 1)) a_rootAt a_inUse a_leaf a_used a_nodeDied a_key a_val a_born a_died a_pathNode a_pathEntry a_pendKey a_pendVal a_workKey a_workVal fk fv a_stack) :
    ∃ m, wX_scanLeaf_73 post J y1 y2 y3 y4 (nI b) (nI l.length) (nI e) f_now f_first f_keys f_depth f_pending f_work m (nI (b + l.length)) a_rootAt a_inUse a_leaf a_used a_nodeDied a_key a_val a_born a_died a_pathNode a_pathEntry a_pendKey a_pendVal a_workKey a_workVal a_foundKey a_foundVal a_stack := by
  have hie : vp_in (nI e) 1536 := vp_in_nI he (by decide)
  have hend : ∀ j fk fv, j ≤ l.length → mv_SH fk fv b l j → (∀ i, i < b → fk i = a_foundKey i ∧ fv i = a_foundVal i) → (∀ i x, j ≤ i → l[i]? = some x → kx < x.1) → (j = 0 ∨ ∃ x, l[j - 1]? = some x ∧ x.1 ≤ kx) →
      wX_scanLeaf_137 post J y1 y2 y3 y4 (nI b) (nI l.length) (nI e) (nI (b + j)) f_now f_first f_keys f_depth f_pending f_work a_rootAt a_inUse a_leaf a_used a_nodeDied a_key a_val a_born a_died a_pathNode a_pathEntry a_pendKey a_pendVal a_workKey a_workVal fk fv a_stack := by
    intro j fk fv hj hSH hlow hd ht
    have hi : vp_in (nI (b + j)) 64 := vp_in_nI (by omega) (by decide)
    unfold wX_scanLeaf_137
    rw [nI_clamp (n := b + j) (by omega), nI_clamp (n := e) (by omega), hkx, hvx, nI_1 l.length, nI_1 e]
    refine And.intro hie (And.intro hi (nm_e (And.intro hie (And.intro hi (nm_e (nm_e (nm_e (hJ _ _ _ (mv_ins_srt hs hk hd ht) (mv_ins_perm l j (kx, vx)) (mv_sh2 hSH hj) ?_))))))))
    intro i hib
    rw [pk_un (by omega), pk_un (by omega)]
    exact hlow i hib
  have hloop : ∀ j fk fv m, j ≤ l.length → mv_SH fk fv b l j → (∀ i, i < b → fk i = a_foundKey i ∧ fv i = a_foundVal i) → (∀ i x, j ≤ i → l[i]? = some x → kx < x.1) → j < m →
      wX_scanLeaf_73 post J y1 y2 y3 y4 (nI b) (nI l.length) (nI e) f_now f_first f_keys f_depth f_pending f_work m (nI (b + j)) a_rootAt a_inUse a_leaf a_used a_nodeDied a_key a_val a_born a_died a_pathNode a_pathEntry a_pendKey a_pendVal a_workKey a_workVal fk fv a_stack := by
    intro j
    induction j with
    | zero =>
      intro fk fv m hj hSH hlow hd hm
      obtain ⟨m, rfl⟩ : ∃ m', m = m' + 1 := ⟨m - 1, by omega⟩
      exact pk_le (b + 0) b (fun _ => hend 0 fk fv hj hSH hlow hd (Or.inl rfl)) (fun t => absurd t (by omega))
    | succ j ih =>
      intro fk fv m hj hSH hlow hd hm
      obtain ⟨m, rfl⟩ : ∃ m', m = m' + 1 := ⟨m - 1, by omega⟩
      obtain ⟨y, hy⟩ : ∃ y, l[j]? = some y := ⟨_, List.getElem?_eq_getElem (by omega)⟩
      have hwy := hSH.1 j y (Nat.lt_succ_self _) hy
      have hij : vp_in (nI (b + j)) 64 := vp_in_nI (by omega) (by decide)
      have hij1 : vp_in (nI (b + (j + 1))) 64 := vp_in_nI (by omega) (by decide)
      have epred : nI (b + (j + 1)) - 1 = nI (b + j) := nI_pred (b + j)
      refine pk_le (b + (j + 1)) b (fun t => absurd t (by omega)) (fun _ => ?_)
      rw [epred, nI_clamp (n := b + j) (by omega), nI_clamp (n := b + (j + 1)) (by omega), nI_clamp (n := e) (by omega), hkx]
      refine And.intro hij (And.intro hie (br_c (fun h => hend (j + 1) fk fv hj hSH hlow hd (Or.inr ⟨y, hy, hwy.1 ▸ h⟩)) (fun h => And.intro hij (And.intro hij1 (nm_e (And.intro hij (And.intro hij1 (nm_e (nm_r (pk_m1 (b + j)) ?_)))))))))
      refine ih _ _ m (by omega) (mv_sh1 hSH) ?_ ?_ (by omega)
      · intro i hib
        rw [pk_un (by omega), pk_un (by omega)]
        exact hlow i hib
      · intro i x hi hx
        by_cases c : i = j
        · subst c
          rw [hy] at hx
          cases hx
          rw [hwy.1] at h
          exact Int32.not_le.mp h
        · exact hd i x (by omega) hx
  exact ⟨l.length + 1, hloop l.length a_foundKey a_foundVal _ (Nat.le_refl _) (mv_sh0 hW) (fun _ _ => ⟨rfl, rfl⟩) (fun i x hi hx => absurd (mv_get_lt hx) (by omega)) (Nat.lt_succ_self _)⟩
theorem mx_scanLeaf {post : Int32 → SX → Prop} {l : List mv_KV} (hR : mv_Rep G a_used a_key a_val a_born a_died) (hn : n < 128)
    (hW : mv_WL a_foundKey a_foundVal b l) (hs : mv_Srt l) (hb : b ≤ 32) (hl : l.length + (mv_fi lo hi (mv_av v (G n))).length ≤ 32)
    (hd : mv_Dis (mv_fi lo hi (mv_av v (G n)) ++ l))
    (hp : ∀ l' fk fv, mv_Srt l' → l'.Perm (mv_fi lo hi (mv_av v (G n)) ++ l) → mv_WL fk fv b l' → (∀ i, i < b → fk i = a_foundKey i ∧ fv i = a_foundVal i) →
      post (nI l'.length) (f_now, f_first, f_keys, f_depth, f_pending, f_work, a_rootAt, a_inUse, a_leaf, a_used, a_nodeDied, a_key, a_val, a_born, a_died, a_pathNode, a_pathEntry, a_pendKey, a_pendVal, a_workKey, a_workVal, fk, fv, a_stack)) : wpX_scanLeaf post (f_now, f_first, f_keys, f_depth, f_pending, f_work, a_rootAt, a_inUse, a_leaf, a_used, a_nodeDied, a_key, a_val, a_born, a_died, a_pathNode, a_pathEntry, a_pendKey, a_pendVal, a_workKey, a_workVal, a_foundKey, a_foundVal, a_stack) (nI n) lo hi v (nI b) (nI l.length) := by
  obtain ⟨hl12, hu, hg⟩ := hR n hn
  intro x0 e0
  subst e0
  rw [mv_n120]
  refine ⟨_, mv_loop (G n) (fun f i (s : Nat × (Nat → Int32) × (Nat → Int32)) => wX_scanLeaf_10 post (nI n) lo hi v (nI b) f_now f_first f_keys f_depth f_pending f_work f (nI s.1) (nI (n * 12 + i)) a_rootAt a_inUse a_leaf a_used a_nodeDied a_key a_val a_born a_died a_pathNode a_pathEntry a_pendKey a_pendVal a_workKey a_workVal s.2.1 s.2.2 a_stack)
    (fun p s => ∃ l', mv_Srt l' ∧ l'.Perm (mv_fi lo hi (mv_av v p) ++ l) ∧ mv_WL s.2.1 s.2.2 b l' ∧ s.1 = l'.length ∧ ∀ i, i < b → s.2.1 i = a_foundKey i ∧ s.2.2 i = a_foundVal i) ?_ ?_ (l.length, a_foundKey, a_foundVal) ⟨l, hs, List.Perm.refl _, hW, rfl, fun _ _ => ⟨rfl, rfl⟩⟩⟩
  · intro f s hI
    obtain ⟨l', s1, s2, s3, s4, s5⟩ := hI
    refine mv_hd hn hl12 hu hl12 (fun _ => ?_) (fun h => absurd h (Nat.lt_irrefl _))
    rw [s4]
    exact hp l' _ _ s1 s2 s3 s5
  · intro f p x q s hl' hx hI ih
    have hi' := mv_get_lt hx
    obtain ⟨hk, hv, hbo, hdd⟩ := hg _ _ hx
    obtain ⟨l', s1, s2, s3, s4, s5⟩ := hI
    have hskip : (mv_al v x = true → mv_rng lo hi (mv_kv x) = true → False) → wX_scanLeaf_10 post (nI n) lo hi v (nI b) f_now f_first f_keys f_depth f_pending f_work f (nI s.1) (nI (n * 12 + (p.length + 1))) a_rootAt a_inUse a_leaf a_used a_nodeDied a_key a_val a_born a_died a_pathNode a_pathEntry a_pendKey a_pendVal a_workKey a_workVal s.2.1 s.2.2 a_stack := by
      intro c
      refine ih s ⟨l', s1, ?_, s3, s4, s5⟩
      cases ha : mv_al v x with
      | false =>
        have : mv_av v (p ++ [x]) = mv_av v p := congrArg (List.map mv_kv) (mv_alv_f ha)
        rw [this]; exact s2
      | true =>
        have e1 : mv_av v (p ++ [x]) = mv_av v p ++ [mv_kv x] := (congrArg (List.map mv_kv) (mv_alv_t ha)).trans List.map_append
        have e2 : mv_fi lo hi (mv_av v p ++ [mv_kv x]) = mv_fi lo hi (mv_av v p) := by
          show List.filter _ _ = _
          rw [List.filter_append, List.filter_cons_of_neg (fun t => c ha t), List.filter_nil, List.append_nil]
        rw [e1, e2]; exact s2
    refine mv_hd hn hl12 hu (by omega) (fun h => absurd h (by omega)) (fun _ => mx_aliveAt (x := x) (by omega) hbo hdd (fun h => ?_) (fun h => ?_))
    · exact br_t rfl (nm_r (mv_s1 n _) (hskip (fun t _ => by rw [h] at t; cases t)))
    · refine br_f (by decide) (And.intro (mv_ix hn (by omega)) ?_)
      rw [mv_cl hn (by omega), hk]
      refine br_c (fun h2 => nm_r (mv_s1 n _) (hskip (fun _ t => mv_irr _ (Int32.lt_of_lt_of_le h2 (mv_rng_iff.mp t).1)))) (fun h2 => And.intro (mv_ix hn (by omega)) (br_c (fun h3 => nm_r (mv_s1 n _) (hskip (fun _ t => mv_irr _ (Int32.lt_of_lt_of_le h3 (mv_rng_iff.mp t).2)))) (fun h3 => ?_)))
      have hr : mv_rng lo hi (mv_kv x) = true := mv_rng_iff.mpr ⟨Int32.not_lt.mp h2, Int32.not_lt.mp h3⟩
      have e1 : mv_av v (p ++ [x]) = mv_av v p ++ [mv_kv x] := (congrArg (List.map mv_kv) (mv_alv_t h)).trans List.map_append
      have e2 : mv_fi lo hi (mv_av v (p ++ [x])) = mv_fi lo hi (mv_av v p) ++ [mv_kv x] := by
        rw [e1]
        show List.filter _ _ = _
        rw [List.filter_append, List.filter_cons_of_pos hr, List.filter_nil]
      have e3 : mv_fi lo hi (mv_av v (G n)) = mv_fi lo hi (mv_av v (p ++ [x])) ++ mv_fi lo hi (mv_av v q) := by
        have : G n = (p ++ [x]) ++ q := by rw [hl', List.append_assoc]; rfl
        rw [this]
        show List.filter _ (List.map _ (List.filter _ _)) = _
        rw [List.filter_append, List.map_append, List.filter_append]
        rfl
      rw [e3, e2] at hl hd
      have hlen := s2.length_eq
      simp only [List.length_append, List.length_cons, List.length_nil] at hl hlen
      refine pk_le 32 s.1 (fun t => absurd t (by omega)) (fun _ => nm_r (nI_add b s.1) ?_)
      rw [s4]
      refine mx_ins73 (l := l') (e := n * 12 + p.length) (kx := x.1) (vx := x.2.1) (x := 0) (by omega) hk hv s3 s1 ?_ (by omega) hb (fun l2 fk fv t1 t2 t3 t4 => ih (l'.length + 1, fk, fv) ⟨l2, t1, ?_, t3, ?_, fun i hib => ?_⟩)
      · intro y hy e
        have hy' := s2.mem_iff.mp hy
        rw [List.append_assoc, List.append_assoc] at hd
        have hd2 := List.pairwise_append.mp hd
        rcases List.mem_append.mp hy' with hy' | hy'
        · exact hd2.2.2 y hy' (mv_kv x) (by simp) e
        · have hd3 := (List.pairwise_append.mp hd2.2.1).2.2
          exact hd3 (mv_kv x) (by simp) y (by simp [hy']) e.symm
      · rw [e2, List.append_assoc]
        refine t2.trans ((List.Perm.cons _ s2).trans ?_)
        exact List.perm_middle.symm
      · have := t2.length_eq
        simp only [List.length_cons] at this
        exact this.symm
      · exact ⟨(t4 i hib).1.trans (s5 i hib).1, (t4 i hib).2.trans (s5 i hib).2⟩
theorem mv_pu_t {l0 p : List mv_En} {x : mv_En} (h1 : mv_al v x = true) (h2 : x.1 ≤ hi) (h3 : lo < mv_nr v x.1 l0) : mv_pu v lo hi l0 (p ++ [x]) = mv_pu v lo hi l0 p ++ [x.2.1] := by
  unfold mv_pu
  rw [List.filter_append, List.filter_cons_of_pos (by rw [h1, decide_eq_true h2, decide_eq_true h3]; rfl), List.map_append]
  rfl
theorem mv_pu_f {l0 p : List mv_En} {x : mv_En} (h : mv_al v x = true → x.1 ≤ hi → lo < mv_nr v x.1 l0 → False) : mv_pu v lo hi l0 (p ++ [x]) = mv_pu v lo hi l0 p := by
  unfold mv_pu
  rw [List.filter_append, List.filter_cons_of_neg, List.filter_nil, List.append_nil]
  intro t
  rw [Bool.and_eq_true, Bool.and_eq_true, decide_eq_true_eq, decide_eq_true_eq] at t
  exact h t.1.1 t.1.2 t.2
theorem mx_pushChildren {post : Int32 → SX → Prop} (hR : mv_Rep G a_used a_key a_val a_born a_died) (hn : n < 128)
    (hp : ∀ st, mv_ST st (mv_pu v lo hi (G n) (G n)) → post (nI (mv_pu v lo hi (G n) (G n)).length) (f_now, f_first, f_keys, f_depth, f_pending, f_work, a_rootAt, a_inUse, a_leaf, a_used, a_nodeDied, a_key, a_val, a_born, a_died, a_pathNode, a_pathEntry, a_pendKey, a_pendVal, a_workKey, a_workVal, a_foundKey, a_foundVal, st)) :
    wpX_pushChildren post (f_now, f_first, f_keys, f_depth, f_pending, f_work, a_rootAt, a_inUse, a_leaf, a_used, a_nodeDied, a_key, a_val, a_born, a_died, a_pathNode, a_pathEntry, a_pendKey, a_pendVal, a_workKey, a_workVal, a_foundKey, a_foundVal, a_stack) (nI n) lo hi v 0 := by
  obtain ⟨hl12, hu, hg⟩ := hR n hn
  intro x0 e0
  subst e0
  rw [mv_n120]
  refine ⟨_, mv_loop (G n) (fun f i (s : Nat × (Nat → Int32)) => wX_pushChildren_10 post (nI n) lo hi v f_now f_first f_keys f_depth f_pending f_work f (nI s.1) (nI (n * 12 + i)) a_rootAt a_inUse a_leaf a_used a_nodeDied a_key a_val a_born a_died a_pathNode a_pathEntry a_pendKey a_pendVal a_workKey a_workVal a_foundKey a_foundVal s.2)
    (fun p s => s.1 = (mv_pu v lo hi (G n) p).length ∧ mv_ST s.2 (mv_pu v lo hi (G n) p)) ?_ ?_ (0, a_stack) ⟨rfl, fun i y hy => absurd hy (by simp [mv_pu])⟩⟩
  · intro f s hI
    refine mv_hd hn hl12 hu hl12 (fun _ => ?_) (fun h => absurd h (Nat.lt_irrefl _))
    rw [hI.1]
    exact hp _ hI.2
  · intro f p x q s hl' hx hI ih
    have hi' := mv_get_lt hx
    obtain ⟨hk, hv, hbo, hdd⟩ := hg _ _ hx
    obtain ⟨s1, s2⟩ := hI
    have hplen : (mv_pu v lo hi (G n) p).length ≤ p.length := by
      unfold mv_pu
      rw [List.length_map]
      exact List.length_filter_le _ _
    have hskip : (mv_al v x = true → x.1 ≤ hi → lo < mv_nr v x.1 (G n) → False) → wX_pushChildren_10 post (nI n) lo hi v f_now f_first f_keys f_depth f_pending f_work f (nI s.1) (nI (n * 12 + (p.length + 1))) a_rootAt a_inUse a_leaf a_used a_nodeDied a_key a_val a_born a_died a_pathNode a_pathEntry a_pendKey a_pendVal a_workKey a_workVal a_foundKey a_foundVal s.2 := by
      intro c
      refine ih s ?_
      rw [mv_pu_f c]
      exact ⟨s1, s2⟩
    refine mv_hd hn hl12 hu (by omega) (fun h => absurd h (by omega)) (fun _ => mx_aliveAt (x := x) (by omega) hbo hdd (fun h => ?_) (fun h => ?_))
    · exact br_t rfl (nm_r (mv_s1 n _) (hskip (fun t _ _ => by rw [h] at t; cases t)))
    · refine br_f (by decide) (And.intro (mv_ix hn (by omega)) ?_)
      rw [mv_cl hn (by omega), hk]
      refine br_c (fun h2 => And.intro (mv_ix hn (by omega)) (mx_nextRouter hR hn ?_)) (fun h2 => nm_r (mv_s1 n _) (hskip (fun _ t _ => h2 t)))
      refine br_c (fun h3 => nm_r (mv_s1 n _) (hskip (fun _ _ t => mv_irr _ (Int32.lt_of_lt_of_le t h3)))) (fun h3 => ?_)
      refine pk_le 128 s.1 (fun t => absurd t (by omega)) (fun _ => And.intro (mv_ix hn (by omega)) (And.intro (vp_in_nI (by omega) (by decide)) ?_))
      rw [nI_clamp (n := s.1) (by omega), hv]
      refine nm_e (nm_r (nI_1 s.1) (nm_r (mv_s1 n _) (ih (s.1 + 1, upd s.2 s.1 x.2.1) ?_)))
      rw [mv_pu_t h h2 (Int32.not_le.mp h3)]
      refine ⟨by rw [List.length_append, s1]; rfl, fun i y hy => ?_⟩
      by_cases c : i < (mv_pu v lo hi (G n) p).length
      · rw [List.getElem?_append_left c] at hy
        show upd s.2 s.1 x.2.1 i = y
        rw [pk_un (by omega)]
        exact s2 i y hy
      · have hlt := mv_get_lt hy
        rw [List.length_append, List.length_singleton] at hlt
        have ei : i = (mv_pu v lo hi (G n) p).length := by omega
        rw [ei, mv_get_end] at hy
        cases hy
        show upd s.2 s.1 x.2.1 i = x.2.1
        rw [s1, ei]; exact pk_us
end
end
section
/-! X's scan: the whole -/
theorem mv_fm_filter {α β : Type} {p : α → Bool} {f : α → List β} : ∀ {l : List α}, (∀ x ∈ l, p x = false → f x = []) → (l.filter p).flatMap f = l.flatMap f := by
  intro l
  induction l with
  | nil => intro _; rfl
  | cons a l ih =>
    intro h
    have h2 := ih (fun x hx => h x (List.mem_cons_of_mem _ hx))
    cases hp : p a with
    | true => rw [List.filter_cons_of_pos hp, List.flatMap_cons, List.flatMap_cons, h2]
    | false => rw [List.filter_cons_of_neg (by rw [hp]; decide), List.flatMap_cons, h a List.mem_cons_self hp, h2]; rfl
theorem mv_filter_fm {α β : Type} {p : β → Bool} {f : α → List β} : ∀ {l : List α}, (l.flatMap f).filter p = l.flatMap (fun x => (f x).filter p) := by
  intro l
  induction l with
  | nil => rfl
  | cons a l ih => rw [List.flatMap_cons, List.flatMap_cons, List.filter_append, ih]
theorem mv_fm_map {α β γ : Type} {g : α → β} {f : β → List γ} : ∀ {l : List α}, (l.map g).flatMap f = l.flatMap (fun x => f (g x)) := by
  intro l
  induction l with
  | nil => rfl
  | cons a l ih => rw [List.map_cons, List.flatMap_cons, List.flatMap_cons, ih]
theorem mv_fm_congr {α β : Type} {f g : α → List β} : ∀ {l : List α}, (∀ x ∈ l, f x = g x) → l.flatMap f = l.flatMap g := by
  intro l
  induction l with
  | nil => intro _; rfl
  | cons a l ih =>
    intro h
    rw [List.flatMap_cons, List.flatMap_cons, h a List.mem_cons_self, ih (fun x hx => h x (List.mem_cons_of_mem _ hx))]
section
variable {f_now f_first f_keys f_depth f_pending f_work : Int32} {a_rootAt a_inUse a_leaf a_used a_nodeDied a_key a_val a_born a_died a_pathNode a_pathEntry a_pendKey a_pendVal a_workKey a_workVal a_foundKey a_foundVal a_stack : Nat → Int32} {G : Nat → List mv_En} {r v b : Nat} {h : List mv_KV} {lo hi w : Int32}
theorem mx_leaves {post : Int32 → SX → Prop} {FK FV : Nat → Int32} (hR : mv_Rep G a_used a_key a_val a_born a_died) (hb : b ≤ 32) :
    ∀ (d : Nat) (S : List Nat) (l : List mv_KV) (fk fv : Nat → Int32) (g f : Nat), S.length = d → (∀ c ∈ S, c < 128 ∧ a_leaf c = 1) → mv_ST a_stack (S.map nI) → g + S.length ≤ 127 → S.length < f →
      mv_WL fk fv b l → mv_Srt l → l.length + (S.flatMap (fun c => mv_fi lo hi (mv_av w (G c)))).length ≤ 32 → mv_Dis (S.flatMap (fun c => mv_fi lo hi (mv_av w (G c))) ++ l) →
      (∀ i, i < b → fk i = FK i ∧ fv i = FV i) →
      (∀ l' fk' fv', mv_Srt l' → l'.Perm (S.flatMap (fun c => mv_fi lo hi (mv_av w (G c))) ++ l) → mv_WL fk' fv' b l' → (∀ i, i < b → fk' i = FK i ∧ fv' i = FV i) → post (nI l'.length) (f_now, f_first, f_keys, f_depth, f_pending, f_work, a_rootAt, a_inUse, a_leaf, a_used, a_nodeDied, a_key, a_val, a_born, a_died, a_pathNode, a_pathEntry, a_pendKey, a_pendVal, a_workKey, a_workVal, fk', fv', a_stack)) →
      wX_scan_24 post lo hi w (nI b) f (nI l.length) (nI S.length) (nI g) f_now f_first f_keys f_depth f_pending f_work a_rootAt a_inUse a_leaf a_used a_nodeDied a_key a_val a_born a_died a_pathNode a_pathEntry a_pendKey a_pendVal a_workKey a_workVal fk fv a_stack := by
  intro d
  induction d with
  | zero =>
    intro S l fk fv g f hd hS hST hg hf hW hs hl hdis hlow hp
    obtain ⟨f, rfl⟩ : ∃ f', f = f' + 1 := ⟨f - 1, by omega⟩
    have : S = [] := List.eq_nil_of_length_eq_zero hd
    subst this
    refine pk_le 128 g (fun t => absurd t (by omega)) (fun _ => pk_le 0 0 (fun _ => ?_) (fun t => absurd t (by omega)))
    exact hp l fk fv hs (List.Perm.refl _) hW hlow
  | succ d ih =>
    intro S l fk fv g f hd hS hST hg hf hW hs hl hdis hlow hp
    obtain ⟨f, rfl⟩ : ∃ f', f = f' + 1 := ⟨f - 1, by omega⟩
    obtain ⟨S0, c, rfl⟩ : ∃ S0 c, S = S0 ++ [c] := by
      rcases List.eq_nil_or_concat S with t | ⟨S0, c, t⟩
      · rw [t] at hd; exact absurd hd (by simp)
      · exact ⟨S0, c, by rw [t, List.concat_eq_append]⟩
    have hlen : (S0 ++ [c]).length = S0.length + 1 := by rw [List.length_append]; rfl
    rw [hlen] at hd hg hf ⊢
    obtain ⟨c1, c2⟩ := hS c (List.mem_append_right _ List.mem_cons_self)
    have hfm : (S0 ++ [c]).flatMap (fun c => mv_fi lo hi (mv_av w (G c))) = S0.flatMap (fun c => mv_fi lo hi (mv_av w (G c))) ++ mv_fi lo hi (mv_av w (G c)) := by
      rw [List.flatMap_append, List.flatMap_singleton]
    rw [hfm] at hl hdis hp
    rw [List.length_append] at hl
    have hstc : a_stack S0.length = nI c := by
      refine hST S0.length (nI c) ?_
      rw [List.map_append, List.map_singleton]
      have := mv_get_end (p := S0.map nI) (x := nI c)
      rwa [List.length_map] at this
    refine pk_le 128 g (fun t => absurd t (by omega)) (fun _ => pk_le (S0.length + 1) 0 (fun t => absurd t (by omega)) (fun _ => nm_r (pk_m1 S0.length) (And.intro (vp_in_nI (by omega) (by decide)) ?_)))
    rw [nI_clamp (n := S0.length) (by omega), hstc]
    refine nm_e (And.intro (vp_in_nI c1 (by decide)) ?_)
    rw [nI_clamp (n := c) (by omega)]
    rw [List.append_assoc] at hdis
    have hd2 := List.pairwise_append.mp hdis
    refine br_f (by rw [c2]; decide) (mx_scanLeaf (l := l) hR c1 hW hs hb (by omega) hd2.2.1 (fun l2 fk2 fv2 t1 t2 t3 t4 => ?_))
    dsimp only
    have hl2 := t2.length_eq
    rw [List.length_append] at hl2
    refine nm_r (nI_1 g) (ih S0 l2 fk2 fv2 (g + 1) f (by omega) (fun c hc => hS c (List.mem_append_left _ hc)) (fun i y hy => hST i y ?_) (by omega) (by omega) t3 t1 (by omega) ?_ (fun i hi => ⟨(t4 i hi).1.trans (hlow i hi).1, (t4 i hi).2.trans (hlow i hi).2⟩) (fun l3 fk3 fv3 u1 u2 u3 u4 => hp l3 fk3 fv3 u1 ?_ u3 u4))
    · rw [List.map_append, List.getElem?_append_left (mv_get_lt hy)]; exact hy
    · exact mv_dis_perm (List.Perm.append_left _ t2.symm) hdis
    · refine u2.trans ?_
      rw [List.append_assoc]
      exact List.Perm.append_left _ t2
theorem mx_scan {post : Int32 → SX → Prop} (hR : mv_Rep G a_used a_key a_val a_born a_died) (hV : mv_VOK G a_leaf a_nodeDied (nI v) r h) (hra : a_rootAt (v % 41) = nI r) (hv : v < 4000)
    (hb : b ≤ 32) (h28 : h.length ≤ 28)
    (hp : ∀ s fk fv st, mv_Srt s → s.Perm (mv_fi lo hi h) → mv_WL fk fv b s → (∀ i, i < b → fk i = a_foundKey i ∧ fv i = a_foundVal i) → post (nI s.length) (f_now, f_first, f_keys, f_depth, f_pending, f_work, a_rootAt, a_inUse, a_leaf, a_used, a_nodeDied, a_key, a_val, a_born, a_died, a_pathNode, a_pathEntry, a_pendKey, a_pendVal, a_workKey, a_workVal, fk, fv, st)) :
    wpX_scan post (f_now, f_first, f_keys, f_depth, f_pending, f_work, a_rootAt, a_inUse, a_leaf, a_used, a_nodeDied, a_key, a_val, a_born, a_died, a_pathNode, a_pathEntry, a_pendKey, a_pendVal, a_workKey, a_workVal, a_foundKey, a_foundVal, a_stack) lo hi (nI v) (nI b) := by
  have hdish := mv_VOK_dis hV
  obtain ⟨hr, hnd, hlf, hRT, hpm, hin⟩ := hV
  have e41 : nI v - nI v / 41 * 41 = nI (v % 41) := pk_rem (d := 41) (by omega) (by decide) (by decide)
  have hin41 : vp_in (nI (v % 41)) 41 := vp_in_nI (Nat.mod_lt _ (by decide)) (by decide)
  have hlenf : (mv_fi lo hi h).length ≤ 28 := Nat.le_trans (List.length_filter_le _ _) h28
  have hdisf : mv_Dis (mv_fi lo hi h) := List.Pairwise.sublist List.filter_sublist hdish
  unfold wpX_scan
  dsimp only
  rw [e41, nI_clamp (n := v % 41) (by omega), hra]
  refine ⟨by decide, hin41, nm_e ?_⟩
  rcases hlf with hl | hl
  · rw [mv_TV_in hl] at hRT hpm
    refine Exists.intro 130 ?_
    refine br_f (by decide) (br_f (by decide) (nm_r (e' := 0) (by decide) (And.intro (vp_in_iff.mpr (by decide)) (nm_r (e' := nI r) pk_us (And.intro (vp_in_nI hr (by decide)) ?_)))))
    rw [nI_clamp (n := r) (by omega)]
    refine br_t hl (mx_pushChildren hR hr (fun st hst => ?_))
    dsimp only
    have hval : ∀ x ∈ G r, mv_al (nI v) x = true → ∃ c, c < 128 ∧ x.2.1 = nI c ∧ a_leaf c = 1 := by
      intro x hx ha
      obtain ⟨c, c1, c2, c3, c4⟩ := hin hl _ (mv_mem_av hx ha)
      exact ⟨c, c1, c2, c3⟩
    have hpus : ∀ y ∈ mv_pu (nI v) lo hi (G r) (G r), ∃ c, c < 128 ∧ y = nI c ∧ a_leaf c = 1 := by
      intro y hy
      unfold mv_pu at hy
      obtain ⟨x, hx, rfl⟩ := List.mem_map.mp hy
      have hx' := List.mem_filter.mp hx
      have hc := hx'.2
      rw [Bool.and_eq_true, Bool.and_eq_true] at hc
      exact hval x hx'.1 hc.1.1
    have hSeq : ((mv_pu (nI v) lo hi (G r) (G r)).map (fun y => y.toNatClampNeg)).map nI = mv_pu (nI v) lo hi (G r) (G r) := by
      rw [List.map_map]
      refine (List.map_congr_left (fun y hy => ?_)).trans (List.map_id _)
      obtain ⟨c, c1, c2, c3⟩ := hpus y hy
      show nI y.toNatClampNeg = y
      rw [c2, nI_clamp (by omega)]
    have hfl : mv_fi lo hi (mv_fl ((mv_av (nI v) (G r)).map (fun p => (p.1, mv_av (nI v) (G p.2.toNatClampNeg))))) =
        ((mv_pu (nI v) lo hi (G r) (G r)).map (fun y => y.toNatClampNeg)).flatMap (fun c => mv_fi lo hi (mv_av (nI v) (G c))) := by
      show List.filter _ (List.flatMap _ _) = _
      rw [mv_filter_fm, mv_fm_map]
      unfold mv_pu
      rw [mv_fm_map, mv_fm_map, mv_fm_map]
      have e1 : List.filter (fun x : mv_En => mv_al (nI v) x && decide (x.1 ≤ hi) && decide (lo < mv_nr (nI v) x.1 (G r))) (G r) =
          List.filter (fun x : mv_En => decide (x.1 ≤ hi) && decide (lo < mv_nr (nI v) x.1 (G r))) (mv_alv (nI v) (G r)) := by
        unfold mv_alv
        rw [List.filter_filter]
        refine List.filter_congr (fun x _ => ?_)
        cases mv_al (nI v) x <;> simp
      rw [e1]
      refine (mv_fm_filter (fun x hx hf => ?_)).symm
      have hx' := List.mem_filter.mp hx
      refine List.filter_eq_nil_iff.mpr (fun y hy ht => ?_)
      have hy2 : y ∈ mv_av (nI v) (G x.2.1.toNatClampNeg) := hy
      have hrg := mv_rng_iff.mp ht
      have hent : (x.1, mv_av (nI v) (G x.2.1.toNatClampNeg)) ∈ (mv_av (nI v) (G r)).map (fun p => (p.1, mv_av (nI v) (G p.2.toNatClampNeg))) :=
        List.mem_map.mpr ⟨mv_kv x, mv_mem_av hx'.1 hx'.2, rfl⟩
      have hrule := (hRT.2.2 _ hent).2.2.2 y hy2
      have hx1 : x.1 ≤ y.1 := hrule.1
      by_cases c1 : x.1 ≤ hi
      · rw [decide_eq_true c1, Bool.true_and] at hf
        have c2 : ¬ lo < mv_nr (nI v) x.1 (G r) := of_decide_eq_false hf
        obtain ⟨n1, n2, n3⟩ := mv_nr_spec (nI v) x.1 (G r)
        rcases n2 with n2 | ⟨z, z1, z2, z3, z4⟩
        · rw [n2] at c2
          have y3 := hrule.2.2.1
          have y4 := hrg.1
          rw [mv_i32le] at y3 y4
          rw [mv_i32lt] at c2
          rw [mv_t4] at y3
          rw [mv_t5] at c2
          omega
        · have hz : (z.1, mv_av (nI v) (G z.2.1.toNatClampNeg)) ∈ (mv_av (nI v) (G r)).map (fun p => (p.1, mv_av (nI v) (G p.2.toNatClampNeg))) :=
            List.mem_map.mpr ⟨mv_kv z, mv_mem_av z1 z2, rfl⟩
          have := hrule.2.2.2 _ hz z3
          rw [z4] at c2
          exact c2 (Int32.lt_of_le_of_lt hrg.1 this)
      · exact c1 (Int32.le_trans hx1 hrg.2)
    have hpmf := hpm.filter (mv_rng lo hi)
    have hpmf' : (((mv_pu (nI v) lo hi (G r) (G r)).map (fun y => y.toNatClampNeg)).flatMap (fun c => mv_fi lo hi (mv_av (nI v) (G c)))).Perm (mv_fi lo hi h) := by
      rw [← hfl]; exact hpmf
    have hplen : (mv_pu (nI v) lo hi (G r) (G r)).length ≤ 12 := by
      unfold mv_pu
      rw [List.length_map]
      exact Nat.le_trans (List.length_filter_le _ _) (hR r hr).1
    refine nm_r (e' := nI 1) (by decide) ?_
    have key := mx_leaves (post := post) (FK := a_foundKey) (FV := a_foundVal) (w := nI v) (lo := lo) (hi := hi) (b := b) (f_now := f_now) (f_first := f_first) (f_keys := f_keys) (f_depth := f_depth) (f_pending := f_pending) (f_work := f_work) (a_rootAt := a_rootAt) (a_inUse := a_inUse) (a_leaf := a_leaf) (a_nodeDied := a_nodeDied) (a_pathNode := a_pathNode) (a_pathEntry := a_pathEntry) (a_pendKey := a_pendKey) (a_pendVal := a_pendVal) (a_workKey := a_workKey) (a_workVal := a_workVal) (a_stack := st) hR hb _ ((mv_pu (nI v) lo hi (G r) (G r)).map (fun y => y.toNatClampNeg)) [] a_foundKey a_foundVal 1 129 rfl ?_ ?_ ?_ ?_ (fun i x hx => absurd hx (by simp)) List.Pairwise.nil ?_ ?_ (fun _ _ => ⟨rfl, rfl⟩) ?_
    · rw [List.length_map] at key
      exact key
    · intro c hc
      obtain ⟨y, hy, rfl⟩ := List.mem_map.mp hc
      obtain ⟨c, c1, c2, c3⟩ := hpus y hy
      rw [c2, nI_clamp (by omega)]
      exact ⟨c1, c3⟩
    · rw [hSeq]; exact hst
    · rw [List.length_map]; omega
    · rw [List.length_map]; omega
    · rw [hpmf'.length_eq]; simp; omega
    · rw [List.append_nil]; exact mv_dis_perm hpmf'.symm hdisf
    · intro l' fk fv u1 u2 u3 u4
      rw [List.append_nil] at u2
      exact hp l' fk fv st u1 (u2.trans hpmf') u3 u4
  · rw [mv_TV_lf hl] at hRT hpm
    have hpm' : (mv_av (nI v) (G r)).Perm h := by
      have e : mv_fl [((-2000 : Int32), mv_av (nI v) (G r))] = mv_av (nI v) (G r) ++ [] := rfl
      rw [e, List.append_nil] at hpm
      exact hpm
    have hpmf := hpm'.filter (mv_rng lo hi)
    refine Exists.intro 130 ?_
    have hst : mv_ST (upd a_stack 0 (nI r)) ([r].map nI) := by
      intro i y hy
      match i, hy with
      | 0, hy => cases hy; exact pk_us
    exact mx_leaves (post := post) (FK := a_foundKey) (FV := a_foundVal) hR hb 1 [r] [] a_foundKey a_foundVal 0 130 rfl (fun c hc => by rw [List.mem_singleton.mp hc]; exact ⟨hr, hl⟩) hst (by simp) (by simp) (fun i x hx => absurd hx (by simp)) List.Pairwise.nil (by
      have h9 : (List.filter (mv_rng lo hi) h).length ≤ 28 := hlenf
      rw [List.flatMap_singleton, hpmf.length_eq, List.length_nil]; omega) (by rw [List.append_nil, List.flatMap_singleton]; exact mv_dis_perm hpmf.symm hdisf) (fun _ _ => ⟨rfl, rfl⟩) (fun l' fk fv u1 u2 u3 u4 => by
      rw [List.append_nil, List.flatMap_singleton] at u2
      exact hp l' fk fv _ u1 (u2.trans hpmf) u3 u4)
end
end
section
/-! X's count, sum, keyAt, differ -/
def mv_sm (l : List mv_KV) : Int32 := l.foldl (fun a x => a + x.2) 0
theorem mv_sm_perm {l l' : List mv_KV} (p : l.Perm l') : mv_sm l = mv_sm l' := by
  refine p.foldl_eq' (fun x _ y _ z => ?_) 0
  rw [Int32.add_assoc, Int32.add_comm x.2, ← Int32.add_assoc]
theorem mv_sm_snoc (p : List mv_KV) (x : mv_KV) : mv_sm (p ++ [x]) = mv_sm p + x.2 := by
  unfold mv_sm; rw [List.foldl_append]; rfl
abbrev mv_sml (l : List mv_KV) (k : Int32) : Nat := l.countP (fun z => decide (z.1 < k))
def mv_KA (i : Int32) (h : List mv_KV) (r : Int32) : Prop :=
  (∃ y ∈ h, i = nI (mv_sml h y.1) ∧ r = y.1) ∨ ((∀ y ∈ h, i ≠ nI (mv_sml h y.1)) ∧ r = 100000)
theorem mv_sml_srt {s : List mv_KV} (hs : mv_Srt s) {m : Nat} {y : mv_KV} (hy : s[m]? = some y) : mv_sml s y.1 = m := by
  obtain ⟨e1, _⟩ := mv_set_split hy y
  have hlt := mv_get_lt hy
  have hlen : (s.take m).length = m := by rw [List.length_take]; omega
  have hs' : mv_Srt (s.take m ++ y :: s.drop (m + 1)) := by rw [← e1]; exact hs
  have hp := List.pairwise_append.mp hs'
  have hc := List.pairwise_cons.mp hp.2.1
  show s.countP _ = m
  conv => lhs; rw [e1]
  rw [List.countP_append, List.countP_cons]
  have c1 : (s.take m).countP (fun z => decide (z.1 < y.1)) = m := by
    rw [List.countP_eq_length.mpr (fun z hz => decide_eq_true (hp.2.2 z hz y List.mem_cons_self)), hlen]
  have c2 : (s.drop (m + 1)).countP (fun z => decide (z.1 < y.1)) = 0 := by
    refine List.countP_eq_zero.mpr (fun z hz t => ?_)
    exact mv_irr _ (Int32.lt_trans (hc.1 z hz) (of_decide_eq_true t))
  rw [c1, c2, if_neg (by rw [decide_eq_true_eq]; exact mv_irr _)]
  rfl
/-- how many keys of a stand in b; how many pairs -/
def mv_bo (a b : List mv_KV) : Nat := a.countP (fun x => b.any (fun y => decide (y.1 = x.1)))
def mv_se (a b : List mv_KV) : Nat := a.countP (fun x => b.any (fun y => decide (y.1 = x.1) && decide (y.2 = x.2)))
theorem mv_any_perm {b b' : List mv_KV} (p : b.Perm b') (f : mv_KV → Bool) : b.any f = b'.any f := p.any_eq
theorem mv_bo_perm {a a' b b' : List mv_KV} (p : a.Perm a') (q : b.Perm b') : mv_bo a b = mv_bo a' b' := by
  unfold mv_bo
  rw [p.countP_eq]
  refine List.countP_congr (fun x _ => ?_)
  rw [mv_any_perm q]
theorem mv_se_perm {a a' b b' : List mv_KV} (p : a.Perm a') (q : b.Perm b') : mv_se a b = mv_se a' b' := by
  unfold mv_se
  rw [p.countP_eq]
  refine List.countP_congr (fun x _ => ?_)
  rw [mv_any_perm q]
theorem mv_any_far {b : List mv_KV} {k : Int32} {g : mv_KV → Bool} (h : ∀ y ∈ b, y.1 ≠ k) : b.any (fun y => decide (y.1 = k) && g y) = false := by
  rw [List.any_eq_false]
  intro y hy t
  rw [Bool.and_eq_true, decide_eq_true_eq] at t
  exact h y hy t.1
theorem mv_any_far' {b : List mv_KV} {k : Int32} (h : ∀ y ∈ b, y.1 ≠ k) : b.any (fun y => decide (y.1 = k)) = false := by
  rw [List.any_eq_false]
  intro y hy t
  exact h y hy (of_decide_eq_true t)
theorem mv_bs_eq {x y : mv_KV} {a b : List mv_KV} (ha : mv_Srt (x :: a)) (hb : mv_Srt (y :: b)) (e : x.1 = y.1) :
    mv_bo (x :: a) (y :: b) = mv_bo a b + 1 ∧ mv_se (x :: a) (y :: b) = mv_se a b + (if x.2 = y.2 then 1 else 0) := by
  have ha' := List.pairwise_cons.mp ha
  have hb' := List.pairwise_cons.mp hb
  have hfar : ∀ z ∈ b, z.1 ≠ x.1 := by
    intro z hz t
    have := hb'.1 z hz
    rw [t, e] at this
    exact mv_irr _ this
  have hfar2 : ∀ z ∈ a, y.1 ≠ z.1 := by
    intro z hz t
    have := ha'.1 z hz
    rw [← t, e] at this
    exact mv_irr _ this
  unfold mv_bo mv_se
  rw [List.countP_cons, List.countP_cons]
  refine ⟨?_, ?_⟩
  · rw [if_pos (by rw [List.any_cons, decide_eq_true e.symm]; rfl)]
    congr 1
    refine List.countP_congr (fun z hz => ?_)
    rw [List.any_cons, decide_eq_false (hfar2 z hz), Bool.false_or]
  · have e1 : a.countP (fun x => (y :: b).any (fun y => decide (y.1 = x.1) && decide (y.2 = x.2))) = a.countP (fun x => b.any (fun y => decide (y.1 = x.1) && decide (y.2 = x.2))) := by
      refine List.countP_congr (fun z hz => ?_)
      rw [List.any_cons, decide_eq_false (hfar2 z hz), Bool.false_and, Bool.false_or]
    rw [e1]
    congr 1
    rw [List.any_cons, decide_eq_true e.symm, Bool.true_and, mv_any_far hfar, Bool.or_false]
    by_cases c : x.2 = y.2
    · rw [if_pos (decide_eq_true c.symm), if_pos c]
    · rw [if_neg (by rw [decide_eq_true_eq]; exact fun t => c t.symm), if_neg c]
theorem mv_bs_lt {x y : mv_KV} {a b : List mv_KV} (hb : mv_Srt (y :: b)) (e : x.1 < y.1) :
    mv_bo (x :: a) (y :: b) = mv_bo a (y :: b) ∧ mv_se (x :: a) (y :: b) = mv_se a (y :: b) := by
  have hb' := List.pairwise_cons.mp hb
  have hfar : ∀ z ∈ y :: b, z.1 ≠ x.1 := by
    intro z hz t
    rcases List.mem_cons.mp hz with rfl | hz
    · rw [t] at e; exact mv_irr _ e
    · have := Int32.lt_trans e (hb'.1 z hz)
      rw [t] at this
      exact mv_irr _ this
  unfold mv_bo mv_se
  rw [List.countP_cons, List.countP_cons, mv_any_far' hfar, mv_any_far hfar]
  exact ⟨rfl, rfl⟩
theorem mv_bs_gt {x y : mv_KV} {a b : List mv_KV} (ha : mv_Srt (x :: a)) (e : y.1 < x.1) :
    mv_bo (x :: a) (y :: b) = mv_bo (x :: a) b ∧ mv_se (x :: a) (y :: b) = mv_se (x :: a) b := by
  have ha' := List.pairwise_cons.mp ha
  have hfar : ∀ z ∈ x :: a, y.1 ≠ z.1 := by
    intro z hz t
    rcases List.mem_cons.mp hz with rfl | hz
    · rw [t] at e; exact mv_irr _ e
    · have := Int32.lt_trans e (ha'.1 z hz)
      rw [t] at this
      exact mv_irr _ this
  unfold mv_bo mv_se
  constructor
  · refine List.countP_congr (fun z hz => ?_)
    rw [List.any_cons, decide_eq_false (hfar z hz), Bool.false_or]
  · refine List.countP_congr (fun z hz => ?_)
    rw [List.any_cons, decide_eq_false (hfar z hz), Bool.false_and, Bool.false_or]
theorem mv_bo_nil (a : List mv_KV) : mv_bo a [] = 0 ∧ mv_se a [] = 0 := by
  unfold mv_bo mv_se
  exact ⟨List.countP_eq_zero.mpr (fun _ _ t => by simp at t), List.countP_eq_zero.mpr (fun _ _ t => by simp at t)⟩
theorem mv_drop_cons {α : Type} {l : List α} {i : Nat} (h : i < l.length) : ∃ x, l[i]? = some x ∧ l.drop i = x :: l.drop (i + 1) :=
  ⟨l[i], List.getElem?_eq_getElem h, List.drop_eq_getElem_cons h⟩
section
variable {f_now f_first f_keys f_depth f_pending f_work : Int32} {a_rootAt a_inUse a_leaf a_used a_nodeDied a_key a_val a_born a_died a_pathNode a_pathEntry a_pendKey a_pendVal a_workKey a_workVal a_foundKey a_foundVal a_stack : Nat → Int32} {post : Int32 → SX → Prop}
theorem mx_differ54 {A B : List mv_KV} (hA : mv_Srt A) (hB : mv_Srt B) (hAl : A.length ≤ 28) (hBl : B.length ≤ 28) (wA : mv_WL a_foundKey a_foundVal 0 A) (wB : mv_WL a_foundKey a_foundVal 32 B)
    (hp : post (((nI A.length + nI B.length) - nI (mv_bo A B)) - nI (mv_se A B)) (f_now, f_first, f_keys, f_depth, f_pending, f_work, a_rootAt, a_inUse, a_leaf, a_used, a_nodeDied, a_key, a_val, a_born, a_died, a_pathNode, a_pathEntry, a_pendKey, a_pendVal, a_workKey, a_workVal, a_foundKey, a_foundVal, a_stack)) :
    ∀ (N i j sm bo : Nat), i ≤ A.length → j ≤ B.length → A.length + B.length < N + i + j → bo + mv_bo (A.drop i) (B.drop j) = mv_bo A B → sm + mv_se (A.drop i) (B.drop j) = mv_se A B →
      wX_differ_54 post (nI A.length) (nI B.length) f_now f_first f_keys f_depth f_pending f_work a_rootAt a_inUse a_leaf a_used a_nodeDied a_key a_val a_born a_died a_pathNode a_pathEntry a_pendKey a_pendVal a_workKey a_workVal a_foundKey a_foundVal a_stack N (nI i) (nI j) (nI sm) (nI bo) := by
  intro N
  induction N with
  | zero => intro i j sm bo h1 h2 h3; exact absurd h3 (by omega)
  | succ N ih =>
    intro i j sm bo h1 h2 h3 h4 h5
    have hend : mv_bo (A.drop i) (B.drop j) = 0 → mv_se (A.drop i) (B.drop j) = 0 → wX_differ_145 post (nI A.length) (nI B.length) (nI sm) (nI bo) f_now f_first f_keys f_depth f_pending f_work a_rootAt a_inUse a_leaf a_used a_nodeDied a_key a_val a_born a_died a_pathNode a_pathEntry a_pendKey a_pendVal a_workKey a_workVal a_foundKey a_foundVal a_stack := by
      intro z1 z2
      rw [z1, Nat.add_zero] at h4
      rw [z2, Nat.add_zero] at h5
      rw [h4, h5]
      exact hp
    refine pk_le A.length i (fun t => hend ?_ ?_) (fun t => pk_le B.length j (fun t2 => hend ?_ ?_) (fun t2 => ?_))
    · rw [List.drop_eq_nil_of_le t]; rfl
    · rw [List.drop_eq_nil_of_le t]; rfl
    · rw [List.drop_eq_nil_of_le t2]; exact (mv_bo_nil _).1
    · rw [List.drop_eq_nil_of_le t2]; exact (mv_bo_nil _).2
    · obtain ⟨x, x1, x2⟩ := mv_drop_cons t
      obtain ⟨y, y1, y2⟩ := mv_drop_cons t2
      have wx := wA i x x1
      have wy := wB j y y1
      rw [Nat.zero_add] at wx
      have hsA : mv_Srt (x :: A.drop (i + 1)) := by rw [← x2]; exact List.Pairwise.drop hA
      have hsB : mv_Srt (y :: B.drop (j + 1)) := by rw [← y2]; exact List.Pairwise.drop hB
      have e32 : (32 : Int32) + nI j = nI (32 + j) := nI_add 32 j
      have hi1 : vp_in (nI i) 64 := vp_in_nI (by omega) (by decide)
      have hi2 : vp_in (nI (32 + j)) 64 := vp_in_nI (by omega) (by decide)
      rw [x2, y2] at h4 h5
      rw [e32, nI_clamp (n := i) (by omega), nI_clamp (n := 32 + j) (by omega), wx.1, wx.2, wy.1, wy.2]
      refine And.intro hi1 (nm_e (And.intro hi2 (nm_e (br_c (fun e => ?_) (fun e => ?_)))))
      · obtain ⟨b1, b2⟩ := mv_bs_eq hsA hsB e
        have hgo : ∀ sm', sm' = sm + (if x.2 = y.2 then 1 else 0) → wX_differ_122 post (wX_differ_54 post (nI A.length) (nI B.length) f_now f_first f_keys f_depth f_pending f_work a_rootAt a_inUse a_leaf a_used a_nodeDied a_key a_val a_born a_died a_pathNode a_pathEntry a_pendKey a_pendVal a_workKey a_workVal a_foundKey a_foundVal a_stack N) (nI A.length) (nI B.length) (nI i) (nI j) (nI sm') (nI (bo + 1)) x.1 y.1 f_now f_first f_keys f_depth f_pending f_work a_rootAt a_inUse a_leaf a_used a_nodeDied a_key a_val a_born a_died a_pathNode a_pathEntry a_pendKey a_pendVal a_workKey a_workVal a_foundKey a_foundVal a_stack := by
          intro sm' hsm
          refine br_f (by rw [e]; exact mv_irr _) (nm_r (nI_1 i) (br_f (by rw [e]; exact mv_irr _) (nm_r (nI_1 j) (ih (i + 1) (j + 1) sm' (bo + 1) (by omega) (by omega) (by omega) (by omega) (by omega)))))
        refine nm_r (nI_1 bo) (And.intro hi1 (And.intro hi2 (br_c (fun e2 => nm_r (nI_1 sm) (hgo (sm + 1) (by rw [if_pos e2]))) (fun e2 => hgo sm (by rw [if_neg e2]; rfl)))))
      · by_cases c : x.1 < y.1
        · obtain ⟨b1, b2⟩ := mv_bs_lt (x := x) (a := A.drop (i + 1)) hsB c
          have nb : ¬ y.1 < x.1 := fun t => mv_irr _ (Int32.lt_trans t c)
          refine br_f nb (nm_r (nI_1 i) (br_t c (ih (i + 1) j sm bo (by omega) (by omega) (by omega) ?_ ?_)))
          · rw [y2]; omega
          · rw [y2]; omega
        · have c' : y.1 < x.1 := by
            rw [mv_i32lt] at c ⊢
            rw [mv_i32eq] at e
            omega
          obtain ⟨b1, b2⟩ := mv_bs_gt (y := y) (b := B.drop (j + 1)) hsA c'
          refine br_t c' (br_f c (nm_r (nI_1 j) (ih i (j + 1) sm bo (by omega) (by omega) (by omega) ?_ ?_)))
          · rw [x2]; omega
          · rw [x2]; omega
end
section
variable {post : Int32 → SX → Prop} {u : SX} {first now : Nat} {H : Nat → List mv_KV} {lo hi v : Int32}
theorem mx_count (hX : mv_XR first now H u) (hfn : first ≤ now) (hnow : now < 4000) (h28 : ∀ j, first ≤ j → j ≤ now → (H j).length ≤ 28)
    (hn : ¬ mv_Kp first now v → post (-5) u)
    (hy : ∀ j u', v = nI j → first ≤ j → j ≤ now → mv_XR first now H u' → post (nI (mv_fi lo hi (H j)).length) u') : wpX_count post u lo hi v := by
  obtain ⟨f_now, f_first, f_keys, f_depth, f_pending, f_work, a_rootAt, a_inUse, a_leaf, a_used, a_nodeDied, a_key, a_val, a_born, a_died, a_pathNode, a_pathEntry, a_pendKey, a_pendVal, a_workKey, a_workVal, a_foundKey, a_foundVal, a_stack⟩ := u
  obtain ⟨G, r, Ch, x1, x2, x3, hR, hW, hV, hra, hC⟩ := hX
  unfold wpX_count
  dsimp only
  refine mx_kept x2 x1 hfn hnow (fun j e hj1 hj2 => br_f (by decide) ?_) (fun h => br_t rfl (hn h))
  obtain ⟨rv, hrv, hVj⟩ := hV j hj1 hj2
  rw [e]
  refine mx_scan (b := 0) hR hVj hrv (by omega) (by decide) (h28 j hj1 hj2) (fun s fk fv st s1 s2 s3 s4 => ?_)
  dsimp only
  rw [s2.length_eq]
  exact hy j _ e hj1 hj2 ⟨G, r, Ch, x1, x2, x3, hR, hW, hV, hra, hC⟩
theorem mx_sum (hX : mv_XR first now H u) (hfn : first ≤ now) (hnow : now < 4000) (h28 : ∀ j, first ≤ j → j ≤ now → (H j).length ≤ 28)
    (hn : ¬ mv_Kp first now v → post 0 u)
    (hy : ∀ j u', v = nI j → first ≤ j → j ≤ now → mv_XR first now H u' → post (mv_sm (mv_fi lo hi (H j))) u') : wpX_sum post u lo hi v := by
  obtain ⟨f_now, f_first, f_keys, f_depth, f_pending, f_work, a_rootAt, a_inUse, a_leaf, a_used, a_nodeDied, a_key, a_val, a_born, a_died, a_pathNode, a_pathEntry, a_pendKey, a_pendVal, a_workKey, a_workVal, a_foundKey, a_foundVal, a_stack⟩ := u
  obtain ⟨G, r, Ch, x1, x2, x3, hR, hW, hV, hra, hC⟩ := hX
  unfold wpX_sum
  dsimp only
  refine mx_kept x2 x1 hfn hnow (fun j e hj1 hj2 => br_f (by decide) ?_) (fun h => br_t rfl (hn h))
  obtain ⟨rv, hrv, hVj⟩ := hV j hj1 hj2
  have hj28 := h28 j hj1 hj2
  rw [e]
  refine mx_scan (b := 0) hR hVj hrv (by omega) (by decide) hj28 (fun s fk fv st s1 s2 s3 s4 => ?_)
  dsimp only
  have hsl : s.length ≤ 28 := by rw [s2.length_eq]; exact Nat.le_trans (List.length_filter_le _ _) hj28
  refine ⟨_, mv_loop s (fun f i (a : Int32) => wX_sum_26 post (nI s.length) f_now f_first f_keys f_depth f_pending f_work a_rootAt a_inUse a_leaf a_used a_nodeDied a_key a_val a_born a_died a_pathNode a_pathEntry a_pendKey a_pendVal a_workKey a_workVal fk fv st f a (nI i)) (fun p a => a = mv_sm p) ?_ ?_ 0 rfl⟩
  · intro f a ha
    refine pk_le s.length s.length (fun _ => ?_) (fun t => absurd t (by omega))
    rw [ha, mv_sm_perm s2]
    exact hy j _ e hj1 hj2 ⟨G, r, Ch, x1, x2, x3, hR, hW, hV, hra, hC⟩
  · intro f p x q a hl hx ha ih
    have hlt := mv_get_lt hx
    have hwx := s3 _ x hx
    rw [Nat.zero_add] at hwx
    refine pk_le s.length p.length (fun t => absurd t (by omega)) (fun _ => And.intro (vp_in_nI (by omega) (by decide)) ?_)
    rw [nI_clamp (n := p.length) (by omega), hwx.2]
    refine nm_e (nm_r (nI_1 p.length) (ih _ ?_))
    rw [mv_sm_snoc, ha]
theorem mx_keyAt {i : Int32} (hX : mv_XR first now H u) (hfn : first ≤ now) (hnow : now < 4000) (h28 : ∀ j, first ≤ j → j ≤ now → (H j).length ≤ 28)
    (hn : ¬ mv_Kp first now v → post 100000 u)
    (hy : ∀ j r u', v = nI j → first ≤ j → j ≤ now → mv_KA i (H j) r → mv_XR first now H u' → post r u') : wpX_keyAt post u i v := by
  obtain ⟨f_now, f_first, f_keys, f_depth, f_pending, f_work, a_rootAt, a_inUse, a_leaf, a_used, a_nodeDied, a_key, a_val, a_born, a_died, a_pathNode, a_pathEntry, a_pendKey, a_pendVal, a_workKey, a_workVal, a_foundKey, a_foundVal, a_stack⟩ := u
  obtain ⟨G, r, Ch, x1, x2, x3, hR, hW, hV, hra, hC⟩ := hX
  unfold wpX_keyAt
  dsimp only
  refine mx_kept x2 x1 hfn hnow (fun j e hj1 hj2 => br_f (by decide) ?_) (fun h => br_t rfl (hn h))
  obtain ⟨rv, hrv, hVj⟩ := hV j hj1 hj2
  have hj28 := h28 j hj1 hj2
  have hrng := mv_VOK_rng hVj
  rw [e]
  refine mx_scan (b := 0) hR hVj hrv (by omega) (by decide) hj28 (fun s fk fv st s1 s2 s3 s4 => ?_)
  dsimp only
  have hfi : mv_fi (-1000) 1000 (H j) = H j := List.filter_eq_self.mpr (fun y hy => mv_rng_iff.mpr (hrng y hy))
  rw [hfi] at s2
  have hsl : s.length ≤ 28 := by rw [s2.length_eq]; exact hj28
  have hcnt : ∀ k, mv_sml s k = mv_sml (H j) k := fun k => s2.countP_eq _
  have hX' : ∀ fk fv st, mv_XR first now H (f_now, f_first, f_keys, f_depth, f_pending, f_work, a_rootAt, a_inUse, a_leaf, a_used, a_nodeDied, a_key, a_val, a_born, a_died, a_pathNode, a_pathEntry, a_pendKey, a_pendVal, a_workKey, a_workVal, fk, fv, st) := fun fk fv st => ⟨G, r, Ch, x1, x2, x3, hR, hW, hV, hra, hC⟩
  have hnone : (∀ m, m < s.length → i ≠ nI m) → mv_KA i (H j) 100000 := by
    intro hm
    refine Or.inr ⟨fun y hy => ?_, rfl⟩
    obtain ⟨m, hm'⟩ := List.mem_iff_getElem?.mp (s2.mem_iff.mpr hy)
    rw [← hcnt, mv_sml_srt s1 hm']
    exact hm m (mv_get_lt hm')
  refine br_c (fun h0 => hy j _ _ e hj1 hj2 (hnone (fun m hm t => ?_)) (hX' _ _ _)) (fun h0 => br_c (fun h1 => ?_) (fun h1 => hy j _ _ e hj1 hj2 (hnone (fun m hm t => ?_)) (hX' _ _ _)))
  · rw [t] at h0
    exact nI_pos (by omega) h0
  · obtain ⟨m, hm, rfl⟩ := nI_of h0
    rw [nI_ltI hm (by omega)] at h1
    obtain ⟨y, hy'⟩ : ∃ y, s[m]? = some y := ⟨_, List.getElem?_eq_getElem h1⟩
    have hwx := s3 _ y hy'
    rw [Nat.zero_add] at hwx
    refine And.intro (vp_in_nI (by omega) (by decide)) ?_
    rw [nI_clamp (n := m) hm, hwx.1]
    refine hy j _ _ e hj1 hj2 (Or.inl ⟨y, s2.mem_iff.mp (mv_get_mem hy'), ?_, rfl⟩) (hX' _ _ _)
    rw [← hcnt, mv_sml_srt s1 hy']
  · rw [t] at h1
    exact h1 (nI_lt hm (by omega))
theorem mx_differ {v2 : Int32} (hX : mv_XR first now H u) (hfn : first ≤ now) (hnow : now < 4000) (h28 : ∀ j, first ≤ j → j ≤ now → (H j).length ≤ 28)
    (hn : ¬ (mv_Kp first now v ∧ mv_Kp first now v2) → post (-5) u)
    (hy : ∀ j j2 u', v = nI j → first ≤ j → j ≤ now → v2 = nI j2 → first ≤ j2 → j2 ≤ now → mv_XR first now H u' →
      post (((nI (mv_fi lo hi (H j)).length + nI (mv_fi lo hi (H j2)).length) - nI (mv_bo (mv_fi lo hi (H j)) (mv_fi lo hi (H j2)))) - nI (mv_se (mv_fi lo hi (H j)) (mv_fi lo hi (H j2)))) u') : wpX_differ post u lo hi v v2 := by
  obtain ⟨f_now, f_first, f_keys, f_depth, f_pending, f_work, a_rootAt, a_inUse, a_leaf, a_used, a_nodeDied, a_key, a_val, a_born, a_died, a_pathNode, a_pathEntry, a_pendKey, a_pendVal, a_workKey, a_workVal, a_foundKey, a_foundVal, a_stack⟩ := u
  obtain ⟨G, r, Ch, x1, x2, x3, hR, hW, hV, hra, hC⟩ := hX
  unfold wpX_differ
  dsimp only
  refine mx_kept x2 x1 hfn hnow (fun j e hj1 hj2 => br_f (by decide) ?_) (fun h => br_t rfl (hn (fun t => h t.1)))
  refine mx_kept x2 x1 hfn hnow (fun k e' hk1 hk2 => br_f (by decide) ?_) (fun h => br_t rfl (hn (fun t => h t.2)))
  obtain ⟨rv, hrv, hVj⟩ := hV j hj1 hj2
  obtain ⟨rk, hrk, hVk⟩ := hV k hk1 hk2
  have hj28 := h28 j hj1 hj2
  have hk28 := h28 k hk1 hk2
  rw [e, e']
  refine mx_scan (b := 0) hR hVj hrv (by omega) (by decide) hj28 (fun s fk fv st s1 s2 s3 s4 => ?_)
  dsimp only
  refine mx_scan (b := 32) hR hVk hrk (by omega) (by decide) hk28 (fun s' fk' fv' st' t1 t2 t3 t4 => ?_)
  dsimp only
  have hsl : s.length ≤ 28 := by rw [s2.length_eq]; exact Nat.le_trans (List.length_filter_le _ _) hj28
  have htl : s'.length ≤ 28 := by rw [t2.length_eq]; exact Nat.le_trans (List.length_filter_le _ _) hk28
  have wA : mv_WL fk' fv' 0 s := by
    intro i x hx
    have hlt := mv_get_lt hx
    obtain ⟨q1, q2⟩ := t4 (0 + i) (by omega)
    rw [q1, q2]
    exact s3 i x hx
  refine Exists.intro 60 (mx_differ54 (A := s) (B := s') s1 t1 hsl htl wA t3 ?_ 60 0 0 0 0 (by omega) (by omega) (by omega) (Nat.zero_add _) (Nat.zero_add _))
  rw [mv_bo_perm s2 t2, mv_se_perm s2 t2, s2.length_eq, t2.length_eq]
  exact hy j k _ e hj1 hj2 e' hk1 hk2 ⟨G, r, Ch, x1, x2, x3, hR, hW, hV, hra, hC⟩
end
end
section
/-! X's next -/
def mv_Nx (k : Int32) (h : List mv_KV) (r : Int32) : Prop :=
  (r = 100000 ∧ ∀ y ∈ h, ¬ k < y.1) ∨ ∃ y ∈ h, k < y.1 ∧ r = y.1 ∧ ∀ z ∈ h, k < z.1 → y.1 ≤ z.1
theorem mv_Nx_uniq {k a b : Int32} {h : List mv_KV} (ha : mv_Nx k h a) (hb : mv_Nx k h b) : a = b := by
  rcases ha with ⟨a1, a2⟩ | ⟨y, y1, y2, y3, y4⟩
  · rcases hb with ⟨b1, b2⟩ | ⟨z, z1, z2, z3, z4⟩
    · rw [a1, b1]
    · exact absurd z2 (a2 z z1)
  · rcases hb with ⟨b1, b2⟩ | ⟨z, z1, z2, z3, z4⟩
    · exact absurd y2 (b2 y y1)
    · have h1 := y4 z z1 z2
      have h2 := z4 y y1 y2
      rw [y3, z3, mv_i32eq]
      rw [mv_i32le] at h1 h2
      omega
/-- how many alive routers lie above t -/
def mv_cr (v : Int32) (l : List mv_En) (t : Int32) : Nat := l.countP (fun x => mv_al v x && decide (t < x.1))
theorem mv_cr_lt {v : Int32} {l : List mv_En} {t t' : Int32} {z : mv_En} (hz : z ∈ l) (ha : mv_al v z = true) (e : z.1 = t') (h : t < t') : mv_cr v l t' < mv_cr v l t := by
  obtain ⟨A, B, rfl⟩ := List.append_of_mem hz
  unfold mv_cr
  rw [List.countP_append, List.countP_append, List.countP_cons, List.countP_cons]
  have hm : ∀ l : List mv_En, l.countP (fun x => mv_al v x && decide (t' < x.1)) ≤ l.countP (fun x => mv_al v x && decide (t < x.1)) := by
    intro l
    refine List.countP_mono_left (fun x _ hx => ?_)
    rw [Bool.and_eq_true, decide_eq_true_eq] at hx ⊢
    exact ⟨hx.1, Int32.lt_trans h hx.2⟩
  have h1 := hm A
  have h2 := hm B
  rw [if_neg (by rw [ha, e, decide_eq_false (mv_irr _)]; decide), if_pos (by rw [ha, e, decide_eq_true h]; rfl)]
  omega
section
variable {f_now f_first f_keys f_depth f_pending f_work : Int32} {a_rootAt a_inUse a_leaf a_used a_nodeDied a_key a_val a_born a_died a_pathNode a_pathEntry a_pendKey a_pendVal a_workKey a_workVal a_foundKey a_foundVal a_stack : Nat → Int32} {G : Nat → List mv_En} {r v : Nat} {h : List mv_KV} {k : Int32} {post : Int32 → Prop}
theorem mx_next138 {J : Int32 → Int32 → Prop} {n : Nat} {t x4 x6 : Int32} {w : Int32} (hR : mv_Rep G a_used a_key a_val a_born a_died) (hn : n < 128)
    (h1 : mv_nr w (t - 1) (G n) = 100000 → J x6 (x4 + 1)) (h2 : mv_nr w (t - 1) (G n) ≠ 100000 → post (mv_nr w (t - 1) (G n))) : wX_next_138 post J w t x4 (nI n) x6 f_now f_first f_keys f_depth f_pending f_work a_rootAt a_inUse a_leaf a_used a_nodeDied a_key a_val a_born a_died a_pathNode a_pathEntry a_pendKey a_pendVal a_workKey a_workVal a_foundKey a_foundVal a_stack := by
  unfold wX_next_138
  exact mx_nextRouter hR hn (br_c (fun e => nm_e (h1 e)) (fun e => h2 e))
theorem mx_next38 (hR : mv_Rep G a_used a_key a_val a_born a_died) (hV : mv_VOK G a_leaf a_nodeDied (nI v) r h) (hra : a_rootAt (v % 41) = nI r) (hv : v < 4000)
    (hp : ∀ a, mv_Nx k h a → post a) : ∀ (c f g : Nat) (t : Int32), mv_cr (nI v) (G r) t < c → g + c ≤ 14 → c < f → -2000 ≤ t → t ≤ 1000 → k < t → (∀ y ∈ h, k < y.1 → t ≤ y.1) →
      wX_next_38 post (nI v) f_now f_first f_keys f_depth f_pending f_work a_rootAt a_inUse a_leaf a_used a_nodeDied a_key a_val a_born a_died a_pathNode a_pathEntry a_pendKey a_pendVal a_workKey a_workVal a_foundKey a_foundVal a_stack f t (nI g) := by
  have hrngh := mv_VOK_rng hV
  obtain ⟨hr, hnd, hlf, hRT, hpm, hin⟩ := hV
  have e41 : nI v - nI v / 41 * 41 = nI (v % 41) := pk_rem (d := 41) (by omega) (by decide) (by decide)
  have hin41 : vp_in (nI (v % 41)) 41 := vp_in_nI (Nat.mod_lt _ (by decide)) (by decide)
  have hnone : ∀ f g, 0 < f → g < 32 → (∀ y ∈ h, ¬ k < y.1) → wX_next_38 post (nI v) f_now f_first f_keys f_depth f_pending f_work a_rootAt a_inUse a_leaf a_used a_nodeDied a_key a_val a_born a_died a_pathNode a_pathEntry a_pendKey a_pendVal a_workKey a_workVal a_foundKey a_foundVal a_stack f 100000 (nI g) := by
    intro f g hf hg hno
    obtain ⟨f, rfl⟩ : ∃ f', f = f' + 1 := ⟨f - 1, by omega⟩
    exact pk_le 32 g (fun t => absurd t (by omega)) (fun _ => br_t rfl (hp _ (Or.inl ⟨rfl, hno⟩)))
  have hbig : ∀ y ∈ h, ∀ a : Int32, a = 100000 → ¬ a ≤ y.1 := by
    intro y hy a ha hle
    have := (hrngh y hy).2
    rw [ha] at hle
    rw [mv_i32le] at this hle
    rw [mv_t4] at this
    rw [mv_t5] at hle
    omega
  intro c
  induction c with
  | zero => intro f g t hc; exact absurd hc (Nat.not_lt_zero _)
  | succ c ih =>
    intro f g t hc hg hf ht1 ht2 hkt hmin
    obtain ⟨f, rfl⟩ : ∃ f', f = f' + 1 := ⟨f - 1, by omega⟩
    have hsub : ∀ a : Int32, t ≤ a → t - 1 < a := by
      intro a ha
      rw [mv_i32lt, mv_sub1 t ht1]
      rw [mv_i32le] at ha
      omega
    have hsub' : ∀ a : Int32, t - 1 < a → t ≤ a := by
      intro a ha
      rw [mv_i32lt, mv_sub1 t ht1] at ha
      rw [mv_i32le]
      omega
    have htn : ¬ t = 100000 := by
      intro e
      rw [e, mv_i32le, mv_t4, mv_t5] at ht2
      omega
    refine pk_le 32 g (fun u => absurd u (by omega)) (fun _ => br_f htn ?_)
    rw [e41, nI_clamp (n := v % 41) (by omega), hra]
    refine ⟨by decide, hin41, nm_e (Exists.intro 2 ?_)⟩
    refine br_f (by decide) (And.intro (vp_in_nI hr (by decide)) ?_)
    rw [nI_clamp (n := r) (by omega)]
    rcases hlf with hl | hl
    · rw [mv_TV_in hl] at hRT hpm
      have hent : ∀ x ∈ G r, mv_al (nI v) x = true → (x.1, mv_av (nI v) (G x.2.1.toNatClampNeg)) ∈ (mv_av (nI v) (G r)).map (fun p => (p.1, mv_av (nI v) (G p.2.toNatClampNeg))) :=
        fun x hx ha => List.mem_map.mpr ⟨mv_kv x, mv_mem_av hx ha, rfl⟩
      have hpick : ∀ y ∈ h, ∃ x ∈ G r, mv_al (nI v) x = true ∧ y ∈ mv_av (nI v) (G x.2.1.toNatClampNeg) := by
        intro y hy
        obtain ⟨p, hp1, hp2⟩ := List.mem_flatMap.mp (hpm.mem_iff.mpr hy)
        obtain ⟨q, hq, rfl⟩ := List.mem_map.mp hp1
        obtain ⟨x, x1, x2, x3⟩ := mv_av_mem hq
        have e2 : x.2.1 = q.2 := congrArg Prod.snd x3
        exact ⟨x, x1, x2, by rw [e2]; exact hp2⟩
      refine br_t hl (mx_childEntry hR hr ?_ (fun i x hx ha hxt hm => ?_))
      · obtain ⟨⟨d, hd⟩, _⟩ := hRT
        obtain ⟨p, hp', e⟩ := List.mem_map.mp hd
        obtain ⟨y, y1, y2, y3⟩ := mv_av_mem hp'
        have e1 : y.1 = -2000 := (congrArg Prod.fst y3).trans (congrArg Prod.fst e)
        exact ⟨y, y1, y2, by rw [e1]; exact ht1, by rw [e1]; decide⟩
      · have hi := mv_get_lt hx
        have hr12 := (hR r hr).1
        have hxm := mv_get_mem hx
        obtain ⟨d, d1, d2, d3, d4⟩ := hin hl _ (mv_mem_av hxm ha)
        have d2' : x.2.1 = nI d := d2
        have hxk := ((hR r hr).2.2 i x hx).1
        have hxv := ((hR r hr).2.2 i x hx).2.1
        have hdc : x.2.1.toNatClampNeg = d := by rw [d2', nI_clamp (by omega)]
        have hE := hent x hxm ha
        rw [hdc] at hE
        have hER := (hRT.2.2 _ hE).2.2.2
        obtain ⟨n1, n2, n3⟩ := mv_nr_spec (nI v) x.1 (G r)
        obtain ⟨m1, m2, m3⟩ := mv_nr_spec (nI v) (t - 1) (G d)
        have hcase : ∀ y ∈ h, k < y.1 → y ∈ mv_av (nI v) (G d) ∨ ∃ z ∈ G r, mv_al (nI v) z = true ∧ x.1 < z.1 ∧ t < z.1 ∧ z.1 ≤ y.1 := by
          intro y hy hky
          have hty := hmin y hy hky
          obtain ⟨q, q1, q2, q3⟩ := hpick y hy
          have hQ := hent q q1 q2
          have hQR := (hRT.2.2 _ hQ).2.2.2 y q3
          have hq1 : q.1 ≤ y.1 := hQR.1
          by_cases cq : q.1 ≤ t
          · have hqx := hm q q1 q2 cq
            by_cases cx : q.1 < x.1
            · have := hQR.2.2.2 _ hE cx
              have this' : y.1 < x.1 := this
              exact absurd (Int32.lt_of_lt_of_le this' (Int32.le_trans hxt hty)) (mv_irr _)
            · have e : q.1 = x.1 := by
                rw [mv_i32eq]
                rw [mv_i32lt] at cx
                rw [mv_i32le] at hqx
                omega
              have := mv_pw_inj (f := fun p : Int32 × List mv_KV => p.1) hRT.2.1 hQ hE e
              have e2 : mv_av (nI v) (G q.2.1.toNatClampNeg) = mv_av (nI v) (G d) := congrArg Prod.snd this
              rw [e2] at q3
              exact Or.inl q3
          · have cq' := Int32.not_le.mp cq
            exact Or.inr ⟨q, q1, q2, Int32.lt_of_le_of_lt hxt cq', cq', hq1⟩
        have hdh : ∀ z ∈ G d, mv_al (nI v) z = true → mv_kv z ∈ h := fun z hz hza => hpm.mem_iff.mp (List.mem_flatMap.mpr ⟨_, hE, mv_mem_av hz hza⟩)
        have hfin : ∀ x6, x6 = mv_nr (nI v) x.1 (G r) → wX_next_69 post (wX_next_38 post (nI v) f_now f_first f_keys f_depth f_pending f_work a_rootAt a_inUse a_leaf a_used a_nodeDied a_key a_val a_born a_died a_pathNode a_pathEntry a_pendKey a_pendVal a_workKey a_workVal a_foundKey a_foundVal a_stack f) (nI v) t (nI g) f_now f_first f_keys f_depth f_pending f_work a_rootAt a_inUse a_leaf a_used a_nodeDied a_key a_val a_born a_died a_pathNode a_pathEntry a_pendKey a_pendVal a_workKey a_workVal a_foundKey a_foundVal a_stack 1 (nI d) x6 1 := by
          intro x6 hx6
          subst hx6
          refine br_f (by decide) (And.intro (vp_in_nI d1 (by decide)) ?_)
          rw [nI_clamp (n := d) (by omega)]
          refine br_f (by rw [d3]; decide) (mx_next138 hR d1 (fun e => ?_) (fun e => ?_))
          · rw [nI_1]
            have hK : ∀ y ∈ h, k < y.1 → ∃ z ∈ G r, mv_al (nI v) z = true ∧ x.1 < z.1 ∧ t < z.1 ∧ z.1 ≤ y.1 := by
              intro y hy hky
              rcases hcase y hy hky with u | u
              · obtain ⟨z, z1, z2, z3⟩ := mv_av_mem u
                have e3 : z.1 = y.1 := congrArg Prod.fst z3
                have := m3 z z1 z2 (hsub _ (by rw [e3]; exact hmin y hy hky))
                rw [e3] at this
                exact absurd this (hbig y hy _ e)
              · exact u
            rcases n2 with n2 | ⟨z, z1, z2, z3, z4⟩
            · rw [n2]
              refine hnone f (g + 1) (by omega) (by omega) (fun y hy hky => ?_)
              obtain ⟨z, z1, z2, z3, z4, z5⟩ := hK y hy hky
              exact hbig y hy _ n2 (Int32.le_trans (n3 z z1 z2 z3) z5)
            · have htz : t < z.1 := by
                by_cases u : z.1 ≤ t
                · exact absurd (Int32.lt_of_lt_of_le z3 (hm z z1 z2 u)) (mv_irr _)
                · exact Int32.not_le.mp u
              have hZ := hRT.2.2 _ (hent z z1 z2)
              have hcl := mv_cr_lt (v := nI v) (t := t) z1 z2 rfl htz
              rw [z4]
              refine ih f (g + 1) z.1 (by omega) (by omega) (by omega) hZ.1 hZ.2.1 (Int32.lt_trans hkt htz) (fun y hy hky => ?_)
              obtain ⟨q, q1, q2, q3, q4, q5⟩ := hK y hy hky
              rw [← z4]
              exact Int32.le_trans (n3 q q1 q2 q3) q5
          · rcases m2 with m2 | ⟨z, z1, z2, z3, z4⟩
            · exact absurd m2 e
            · refine hp _ (Or.inr ⟨mv_kv z, hdh z z1 z2, Int32.lt_of_lt_of_le hkt (hsub' _ z3), z4, fun y hy hky => ?_⟩)
              rcases hcase y hy hky with u | ⟨q, q1, q2, q3, q4, q5⟩
              · obtain ⟨y0, y1, y2, y3⟩ := mv_av_mem u
                have e3 : y0.1 = y.1 := congrArg Prod.fst y3
                have := m3 y0 y1 y2 (hsub _ (by rw [e3]; exact hmin y hy hky))
                rw [e3, z4] at this
                exact this
              · have := (hER _ (mv_mem_av z1 z2)).2.2.2 _ (hent q q1 q2) q3
                have this' : z.1 < q.1 := this
                exact Int32.le_trans (Int32.le_of_lt this') q5
        refine And.intro (mv_ix hr (by omega)) ?_
        rw [mv_cl hr (by omega), hxk, hxv, d2']
        refine mx_nextRouter hR hr (br_c (fun u => And.intro (mv_ix hr (by omega)) (nm_e (nm_r (e' := 1) (by decide) (hfin _ ?_)))) (fun u => And.intro (mv_ix hr (by omega)) (nm_e (nm_r (e' := 1) (by decide) (hfin _ rfl)))))
        rw [mv_i32eq]
        rw [mv_i32le] at u n1
        omega
    · rw [mv_TV_lf hl] at hRT hpm
      have hpm' : (mv_av (nI v) (G r)).Perm h := by
        have e : mv_fl [((-2000 : Int32), mv_av (nI v) (G r))] = mv_av (nI v) (G r) ++ [] := rfl
        rw [e, List.append_nil] at hpm
        exact hpm
      obtain ⟨m1, m2, m3⟩ := mv_nr_spec (nI v) (t - 1) (G r)
      have hle : ∀ y ∈ h, k < y.1 → mv_nr (nI v) (t - 1) (G r) ≤ y.1 := by
        intro y hy hky
        obtain ⟨z, z1, z2, z3⟩ := mv_av_mem (hpm'.mem_iff.mpr hy)
        have e3 : z.1 = y.1 := congrArg Prod.fst z3
        have := m3 z z1 z2 (hsub _ (by rw [e3]; exact hmin y hy hky))
        rw [e3] at this
        exact this
      refine br_f (by rw [hl]; decide) (mx_next138 hR hr (fun e => ?_) (fun e => ?_))
      · rw [nI_1]
        exact hnone f (g + 1) (by omega) (by omega) (fun y hy hky => hbig y hy _ e (hle y hy hky))
      · rcases m2 with m2 | ⟨z, z1, z2, z3, z4⟩
        · exact absurd m2 e
        · refine hp _ (Or.inr ⟨mv_kv z, hpm'.mem_iff.mp (mv_mem_av z1 z2), Int32.lt_of_lt_of_le hkt (hsub' _ z3), z4, fun y hy hky => ?_⟩)
          have := hle y hy hky
          rw [z4] at this
          exact this
end
theorem mx_next {post : Int32 → Prop} {u : SX} {first now : Nat} {H : Nat → List mv_KV} {k v : Int32} (hX : mv_XR first now H u) (hfn : first ≤ now) (hnow : now < 4000)
    (hn : ¬ mv_Kp first now v → post 100000) (hy : ∀ j a, v = nI j → first ≤ j → j ≤ now → mv_Nx k (H j) a → post a) : wpX_next post u k v := by
  obtain ⟨f_now, f_first, f_keys, f_depth, f_pending, f_work, a_rootAt, a_inUse, a_leaf, a_used, a_nodeDied, a_key, a_val, a_born, a_died, a_pathNode, a_pathEntry, a_pendKey, a_pendVal, a_workKey, a_workVal, a_foundKey, a_foundVal, a_stack⟩ := u
  obtain ⟨G, r, Ch, x1, x2, x3, hR, hW, hV, hra, hC⟩ := hX
  unfold wpX_next
  dsimp only
  refine mx_kept x2 x1 hfn hnow (fun j e hj1 hj2 => br_f (by decide) ?_) (fun h => br_t rfl (hn h))
  obtain ⟨rv, hrv, hVj⟩ := hV j hj1 hj2
  have hrng := mv_VOK_rng hVj
  have hr := hVj.1
  rw [e]
  have hcr : ∀ t, mv_cr (nI j) (G rv) t < 13 := by
    intro t
    have h1 : mv_cr (nI j) (G rv) t ≤ (G rv).length := List.countP_le_length
    have h2 := (hR rv hr).1
    omega
  refine br_c (fun h1 => br_c (fun h2 => nm_e (Exists.intro 14 ?_)) (fun h2 => Exists.intro 14 ?_)) (fun h1 => hy j _ e hj1 hj2 (Or.inl ⟨rfl, fun y hy' hk => ?_⟩))
  · have ek : (k + 1).toInt = k.toInt + 1 := by
      rw [mv_i32lt, mv_t4] at h1
      rw [mv_i32le, mv_t3] at h2
      rw [Int32.toInt_add, mv_t8]
      exact Int.bmod_eq_of_le (by omega) (by omega)
    refine mx_next38 (k := k) hR hVj hrv (by omega) (fun a ha => hy j a e hj1 hj2 ha) 13 14 0 (k + 1) (hcr _) (by decide) (by decide) ?_ ?_ ?_ (fun y _ hk => ?_)
    · rw [mv_i32le, ek, mv_t1]
      rw [mv_i32le, mv_t3] at h2
      omega
    · rw [mv_i32le, ek, mv_t4]
      rw [mv_i32lt, mv_t4] at h1
      omega
    · rw [mv_i32lt, ek]; omega
    · rw [mv_i32le, ek]
      rw [mv_i32lt] at hk
      omega
  · refine mx_next38 (k := k) hR hVj hrv (by omega) (fun a ha => hy j a e hj1 hj2 ha) 13 14 0 (-1000) (hcr _) (by decide) (by decide) (by decide) (by decide) (Int32.not_le.mp h2) (fun y hy' _ => (hrng y hy').1)
  · exact h1 (Int32.lt_of_lt_of_le hk (hrng y hy').2)
end
section
/-! Y's side: the lists, find, copy, has, get -/
def mv_YL (ks vs sz : Nat → Int32) (s : Nat) (l : List mv_KV) : Prop :=
  l.length ≤ 28 ∧ sz s = nI l.length ∧ ∀ i x, l[i]? = some x → ks (s * 28 + i) = x.1 ∧ vs (s * 28 + i) = x.2
def mv_YR (first now : Nat) (H : Nat → List mv_KV) (v : SY) : Prop := match v with
  | (f_oldest, f_current, a_keys, a_vals, a_sizes) => f_oldest = nI first ∧ f_current = nI now ∧ ∀ s, s ≤ now - first → mv_YL a_keys a_vals a_sizes s (H (first + s))
theorem mv_n28 (s i : Nat) : nI s * 28 + nI i = nI (s * 28 + i) := by
  rw [← nI_add, ← pk_mul]; rfl
theorem my_hd {s i len : Nat} {sz : Nat → Int32} {A B : Prop} (hs : s < 41) (hu : sz s = nI len) (hl : len ≤ 28) (hi : i ≤ 28) (f : len ≤ i → A) (g : i < len → B) :
    vp_in (nI s) 41 ∧ ((sz (nI s).toNatClampNeg ≤ nI i → A) ∧ (¬ sz (nI s).toNatClampNeg ≤ nI i → B)) := by
  refine ⟨vp_in_nI hs (by decide), ?_⟩
  rw [nI_clamp (by omega), hu]
  exact pk_le len i f g
theorem my_ix {s i : Nat} (hs : s < 41) (hi : i < 28) : vp_in (nI s * 28 + nI i) 1148 := by
  rw [mv_n28]; exact vp_in_nI (by omega) (by decide)
theorem my_cl {s i : Nat} (hs : s < 41) (hi : i < 28) : (nI s * 28 + nI i).toNatClampNeg = s * 28 + i := by
  rw [mv_n28]; exact nI_clamp (by omega)
section
variable {f_oldest f_current : Int32} {a_keys a_vals a_sizes : Nat → Int32} {s : Nat} {l : List mv_KV} {k : Int32} {first now : Nat} {H : Nat → List mv_KV} {v : Int32}
theorem my_badKey {post : Int32 → Prop} {u : SY} (h1 : (k < -1000 ∨ 1000 < k) → post 1) (h0 : -1000 ≤ k → k ≤ 1000 → post 0) : wpY_badKey post u k := by
  obtain ⟨f_oldest, f_current, a_keys, a_vals, a_sizes⟩ := u
  exact br_c (fun h => h1 (Or.inl h)) (fun h => br_c (fun h' => h0 (Int32.not_lt.mp h) h') (fun h' => h1 (Or.inr (Int32.not_le.mp h'))))
theorem my_kept {post : Int32 → Prop} (h1 : f_oldest = nI first) (h2 : f_current = nI now) (hfn : first ≤ now) (hnow : now < 4000)
    (hy : ∀ j, v = nI j → first ≤ j → j ≤ now → post 1) (hn : ¬ mv_Kp first now v → post 0) : wpY_kept post (f_oldest, f_current, a_keys, a_vals, a_sizes) v := by
  subst h1 h2
  refine br_c (fun h => hn ?_) (fun h => br_c (fun h' => hn ?_) (fun h' => ?_))
  · rintro ⟨j, rfl, a, b⟩
    exact nI_nlt (a := j) (b := first) a (by omega) h
  · rintro ⟨j, rfl, a, b⟩
    exact nI_nlt (a := now) (b := j) b (by omega) h'
  · have h0 : ¬ v < 0 := by
      intro t
      have := nI_pos' (n := first) (by omega)
      exact h (Int32.lt_of_lt_of_le t this)
    obtain ⟨j, hj, rfl⟩ := nI_of h0
    rw [nI_ltI hj (by omega)] at h
    rw [nI_ltI (by omega) hj] at h'
    exact hy j rfl (by omega) (by omega)
theorem my_find {post : Int32 → Prop} (hs : s < 41) (hL : mv_YL a_keys a_vals a_sizes s l) (h0 : (∀ y ∈ l, y.1 ≠ k) → post (-1))
    (h1 : ∀ (i : Nat) (y : mv_KV), l[i]? = some y → y.1 = k → post (nI (s * 28 + i))) : wpY_find post (f_oldest, f_current, a_keys, a_vals, a_sizes) k (nI s) := by
  obtain ⟨hl, hu, hg⟩ := hL
  refine Exists.intro _ (mv_loop l (fun m i (_ : Unit) => wY_find_2 post k (nI s) f_oldest f_current a_keys a_vals a_sizes m (nI i)) (fun p _ => ∀ x ∈ p, x.1 ≠ k) ?_ ?_ () (fun x hx => absurd hx List.not_mem_nil))
  · intro m _ hI
    exact my_hd hs hu hl hl (fun _ => h0 hI) (fun h => absurd h (Nat.lt_irrefl _))
  · intro m p x q _ hl' hx hI ih
    have hi := mv_get_lt hx
    obtain ⟨hk, hv⟩ := hg _ _ hx
    refine my_hd hs hu hl (by omega) (fun h => absurd h (by omega)) (fun _ => And.intro (my_ix hs (by omega)) ?_)
    rw [my_cl hs (by omega), hk, mv_n28]
    refine br_c (fun e => h1 _ x hx e) (fun e => nm_r (nI_1 _) (ih () (fun y hy => ?_)))
    rcases mv_mem_snoc hy with hy | rfl
    · exact hI y hy
    · exact e
theorem my_copy {post : SY → Prop} {a b : Nat} (ha : a < 41) (hb : b < 41)
    (hp : ∀ ks vs, (∀ j, (j < b * 28 ∨ b * 28 + 28 ≤ j) → ks j = a_keys j ∧ vs j = a_vals j) → (∀ i, i < 28 → ks (b * 28 + i) = a_keys (a * 28 + i) ∧ vs (b * 28 + i) = a_vals (a * 28 + i)) →
      post (f_oldest, f_current, ks, vs, upd a_sizes b (a_sizes a))) : wpY_copy post (f_oldest, f_current, a_keys, a_vals, a_sizes) (nI a) (nI b) := by
  have hl : ∀ d i ks vs, i + d = 28 → (∀ j, (j < b * 28 ∨ b * 28 + i ≤ j) → ks j = a_keys j ∧ vs j = a_vals j) → (∀ j, j < i → ks (b * 28 + j) = a_keys (a * 28 + j) ∧ vs (b * 28 + j) = a_vals (a * 28 + j)) →
      wY_copy_2 post (nI a) (nI b) f_oldest f_current (d + 1) (nI i) ks vs a_sizes := by
    intro d
    induction d with
    | zero =>
      intro i ks vs hi h1 h2
      have : i = 28 := by omega
      subst this
      refine br_t (by decide) (And.intro (vp_in_nI ha (by decide)) (And.intro (vp_in_nI hb (by decide)) ?_))
      rw [nI_clamp (n := a) (by omega), nI_clamp (n := b) (by omega)]
      exact nm_e (hp ks vs h1 h2)
    | succ d ih =>
      intro i ks vs hi h1 h2
      have ra := h1 (a * 28 + i) (by omega)
      refine pk_le 28 i (fun t => absurd t (by omega)) (fun _ => And.intro (my_ix ha (by omega)) (And.intro (my_ix hb (by omega)) ?_))
      rw [my_cl ha (by omega), my_cl hb (by omega), ra.1, ra.2]
      refine nm_e (And.intro (my_ix ha (by omega)) (And.intro (my_ix hb (by omega)) (nm_e (nm_r (nI_1 i) (ih (i + 1) _ _ (by omega) (fun j hj => ?_) (fun j hj => ?_))))))
      · rw [pk_un (by omega), pk_un (by omega)]
        exact h1 j (by omega)
      · by_cases e : j = i
        · subst e; exact ⟨pk_us, pk_us⟩
        · rw [pk_un (by omega), pk_un (by omega)]
          exact h2 j (by omega)
  exact Exists.intro 29 (hl 28 0 a_keys a_vals rfl (fun j _ => ⟨rfl, rfl⟩) (fun j hj => absurd hj (Nat.not_lt_zero _)))
end
/-- copies: what a block keeps, what a copied block holds -/
theorem mv_YL_keep {ks vs sz ks' vs' sz' : Nat → Int32} {s b : Nat} {l : List mv_KV} (h : mv_YL ks vs sz s l) (hne : s ≠ b)
    (h1 : ∀ j, (j < b * 28 ∨ b * 28 + 28 ≤ j) → ks' j = ks j ∧ vs' j = vs j) (h2 : ∀ j, j ≠ b → sz' j = sz j) : mv_YL ks' vs' sz' s l := by
  obtain ⟨a1, a2, a3⟩ := h
  refine ⟨a1, by rw [h2 s hne]; exact a2, fun i x hx => ?_⟩
  have := mv_get_lt hx
  obtain ⟨b1, b2⟩ := h1 (s * 28 + i) (by omega)
  rw [b1, b2]
  exact a3 i x hx
theorem mv_YL_copy {ks vs sz ks' vs' : Nat → Int32} {a b : Nat} {l : List mv_KV} (h : mv_YL ks vs sz a l)
    (h1 : ∀ i, i < 28 → ks' (b * 28 + i) = ks (a * 28 + i) ∧ vs' (b * 28 + i) = vs (a * 28 + i)) : mv_YL ks' vs' (upd sz b (sz a)) b l := by
  obtain ⟨a1, a2, a3⟩ := h
  refine ⟨a1, by rw [pk_us]; exact a2, fun i x hx => ?_⟩
  have := mv_get_lt hx
  obtain ⟨b1, b2⟩ := h1 i (by omega)
  rw [b1, b2]
  exact a3 i x hx
section
variable {post : Int32 → Prop} {u : SY} {first now : Nat} {H : Nat → List mv_KV} {k v : Int32}
theorem my_has (hY : mv_YR first now H u) (hfn : first ≤ now) (hnow : now < 4000) (hn40 : now ≤ first + 40)
    (hy : ∀ j, v = nI j → first ≤ j → j ≤ now → (∃ y, (k, y) ∈ H j) → post 1)
    (hn : ¬ mv_Kp first now v → post 0) (hn2 : ∀ j, v = nI j → first ≤ j → j ≤ now → (∀ y ∈ H j, y.1 ≠ k) → post 0) : wpY_has post u k v := by
  obtain ⟨f_oldest, f_current, a_keys, a_vals, a_sizes⟩ := u
  obtain ⟨x1, x2, hL⟩ := hY
  subst x1 x2
  unfold wpY_has
  dsimp only
  refine my_kept rfl rfl hfn hnow (fun j e hj1 hj2 => br_f (by decide) ?_) (fun h => br_t rfl (hn h))
  have hLj := hL (j - first) (by omega)
  rw [show first + (j - first) = j from by omega] at hLj
  rw [e, pk_sub hj1]
  refine my_find (by omega) hLj (fun hno => br_t (by decide) (hn2 j e hj1 hj2 hno)) (fun i y hy' hyk => br_f (nI_pos ?_) (hy j e hj1 hj2 ⟨y.2, ?_⟩))
  · have := mv_get_lt hy'
    have := hLj.1
    omega
  · rw [← hyk]; exact mv_get_mem hy'
theorem my_get (hY : mv_YR first now H u) (hfn : first ≤ now) (hnow : now < 4000) (hn40 : now ≤ first + 40)
    (hy : ∀ j y, v = nI j → first ≤ j → j ≤ now → (k, y) ∈ H j → post y)
    (hn : ¬ mv_Kp first now v → post 0) (hn2 : ∀ j, v = nI j → first ≤ j → j ≤ now → (∀ y ∈ H j, y.1 ≠ k) → post 0) : wpY_get post u k v := by
  obtain ⟨f_oldest, f_current, a_keys, a_vals, a_sizes⟩ := u
  obtain ⟨x1, x2, hL⟩ := id hY
  subst x1 x2
  unfold wpY_get
  dsimp only
  refine my_has hY hfn hnow hn40 (fun j e hj1 hj2 hex => br_f (by decide) ?_) (fun h => br_t rfl (hn h)) (fun j e hj1 hj2 hno => br_t rfl (hn2 j e hj1 hj2 hno))
  have hLj := hL (j - first) (by omega)
  rw [show first + (j - first) = j from by omega] at hLj
  rw [e, pk_sub hj1]
  refine my_find (by omega) hLj (fun hno => ?_) (fun i y hy' hyk => ?_)
  · obtain ⟨y, hy'⟩ := hex
    exact absurd rfl (hno _ hy')
  · have hlt := mv_get_lt hy'
    have hl28 := hLj.1
    refine And.intro (vp_in_nI (by omega) (by decide)) ?_
    rw [nI_clamp (by omega), (hLj.2.2 i y hy').2]
    exact hy j _ e hj1 hj2 (by rw [← hyk]; exact mv_get_mem hy')
end
end
section
/-! Y's put, erase, forget -/
theorem mv_YL_set {ks vs sz : Nat → Int32} {s i : Nat} {l : List mv_KV} {k x : Int32} (h : mv_YL ks vs sz s l) :
    mv_YL (upd ks (s * 28 + i) k) (upd vs (s * 28 + i) x) sz s (l.set i (k, x)) := by
  obtain ⟨a1, a2, a3⟩ := h
  refine ⟨by rw [List.length_set]; exact a1, by rw [List.length_set]; exact a2, fun j z hz => ?_⟩
  by_cases e : j = i
  · subst e
    have hlt := mv_get_lt hz
    rw [List.length_set] at hlt
    rw [List.getElem?_set_self hlt] at hz
    cases hz
    exact ⟨pk_us, pk_us⟩
  · rw [List.getElem?_set_ne (Ne.symm e)] at hz
    rw [pk_un (by omega), pk_un (by omega)]
    exact a3 j z hz
theorem mv_YL_app {ks vs sz : Nat → Int32} {s : Nat} {l : List mv_KV} {k x : Int32} (h : mv_YL ks vs sz s l) (hl : l.length < 28) :
    mv_YL (upd ks (s * 28 + l.length) k) (upd vs (s * 28 + l.length) x) (upd sz s (nI (l.length + 1))) s (l ++ [(k, x)]) := by
  obtain ⟨a1, a2, a3⟩ := h
  refine ⟨by rw [List.length_append]; exact hl, by rw [pk_us, List.length_append]; rfl, fun j z hz => ?_⟩
  by_cases c : j < l.length
  · rw [List.getElem?_append_left c] at hz
    rw [pk_un (by omega), pk_un (by omega)]
    exact a3 j z hz
  · have hlt := mv_get_lt hz
    rw [List.length_append, List.length_singleton] at hlt
    have e : j = l.length := by omega
    subst e
    rw [mv_get_end] at hz
    cases hz
    exact ⟨pk_us, pk_us⟩
theorem mv_YL_del {ks vs sz : Nat → Int32} {s i m : Nat} {l : List mv_KV} {z : mv_KV} (h : mv_YL ks vs sz s l) (hm : l.length = m + 1) :
    mv_YL (upd ks (s * 28 + i) z.1) (upd vs (s * 28 + i) z.2) (upd sz s (nI m)) s ((l.set i z).take m) := by
  obtain ⟨a1, a2, a3⟩ := h
  have hlen : ((l.set i z).take m).length = m := by rw [List.length_take, List.length_set]; omega
  refine ⟨by rw [hlen]; omega, by rw [pk_us, hlen], fun j y hy => ?_⟩
  have hlt := mv_get_lt hy
  rw [hlen] at hlt
  rw [List.getElem?_take, if_pos hlt] at hy
  by_cases e : j = i
  · subst e
    rw [List.getElem?_set_self (by omega)] at hy
    cases hy
    exact ⟨pk_us, pk_us⟩
  · rw [List.getElem?_set_ne (Ne.symm e)] at hy
    rw [pk_un (by omega), pk_un (by omega)]
    exact a3 j y hy
theorem mv_put_perm {k x : Int32} {l : List mv_KV} {i : Nat} {y : mv_KV} (hd : mv_Dis l) (hy : l[i]? = some y) (e : y.1 = k) : (mv_nk k l ++ [(k, x)]).Perm (l.set i (k, x)) := by
  obtain ⟨e1, e2⟩ := mv_set_split hy (k, x)
  rw [e2]
  have hd' : mv_Dis (l.take i ++ y :: l.drop (i + 1)) := by rw [← e1]; exact hd
  have e3 : mv_nk k l = l.take i ++ l.drop (i + 1) := by
    conv => lhs; rw [e1]
    exact mv_nk_kill hd' e
  rw [e3]
  exact (List.perm_append_singleton _ _).trans List.perm_middle.symm
theorem mv_del_perm {k : Int32} {l : List mv_KV} {i m : Nat} {y z : mv_KV} (hd : mv_Dis l) (hy : l[i]? = some y) (e : y.1 = k) (hm : l.length = m + 1) (hz : l[m]? = some z) :
    (mv_nk k l).Perm ((l.set i z).take m) := by
  obtain ⟨e1, e2⟩ := mv_set_split hy z
  have hi := mv_get_lt hy
  have hd' : mv_Dis (l.take i ++ y :: l.drop (i + 1)) := by rw [← e1]; exact hd
  have e3 : mv_nk k l = l.take i ++ l.drop (i + 1) := by
    conv => lhs; rw [e1]
    exact mv_nk_kill hd' e
  rw [e3]
  have hset : (l.set i z).length = m + 1 := by rw [List.length_set]; exact hm
  have hlast : (l.set i z)[m]? = some z := by
    by_cases c : m = i
    · subst c; exact List.getElem?_set_self hi
    · rw [List.getElem?_set_ne (Ne.symm c)]; exact hz
  have hsplit : l.set i z = (l.set i z).take m ++ [z] := by
    obtain ⟨f1, _⟩ := mv_set_split hlast z
    have : (l.set i z).drop (m + 1) = [] := List.drop_eq_nil_of_le (by omega)
    rw [this] at f1
    exact f1
  have hp : ((l.set i z).take m ++ [z]).Perm (l.take i ++ z :: l.drop (i + 1)) := by rw [← hsplit, e2]
  have hp2 := (List.perm_append_singleton z _).symm.trans (hp.trans List.perm_middle)
  exact (List.Perm.cons_inv hp2).symm
section
variable {post : Int32 → SY → Prop} {u : SY} {first now : Nat} {H : Nat → List mv_KV} {k x v : Int32}
theorem mv_YR_new {ks vs sz ks' vs' sz' : Nat → Int32} {h : List mv_KV} (hfn : first ≤ now) (hL : ∀ s, s ≤ now - first → mv_YL ks vs sz s (H (first + s)))
    (h1 : ∀ j, (j < (now - first + 1) * 28 ∨ (now - first + 1) * 28 + 28 ≤ j) → ks' j = ks j ∧ vs' j = vs j) (h2 : ∀ j, j ≠ now - first + 1 → sz' j = sz j)
    (h3 : mv_YL ks' vs' sz' (now - first + 1) h) : mv_YR first (now + 1) (fun v => if v = now + 1 then h else H v) (nI first, nI (now + 1), ks', vs', sz') := by
  refine ⟨rfl, rfl, fun s hs => ?_⟩
  show mv_YL ks' vs' sz' s (if first + s = now + 1 then h else H (first + s))
  by_cases e : s = now - first + 1
  · subst e
    rw [if_pos (by omega)]
    exact h3
  · rw [if_neg (by omega)]
    exact mv_YL_keep (hL s (by omega)) e h1 h2
theorem my_put (hY : mv_YR first now H u) (hfn : first ≤ now) (hnow : now < 4000) (hn40 : now ≤ first + 40) (hdis : mv_Dis (H now))
    (hb : (k < -1000 ∨ 1000 < k) → post (-1) u)
    (hf : -1000 ≤ k → k ≤ 1000 → now = first + 40 → post (-3) u)
    (hfull : -1000 ≤ k → k ≤ 1000 → now < first + 40 → (∀ y ∈ H now, y.1 ≠ k) → (H now).length = 28 → post (-4) u)
    (hok : -1000 ≤ k → k ≤ 1000 → now < first + 40 → ((∃ y ∈ H now, y.1 = k) ∨ (∀ y ∈ H now, y.1 ≠ k) ∧ (H now).length < 28) → ∀ h v', (mv_nk k (H now) ++ [(k, x)]).Perm h → mv_YR first (now + 1) (fun v => if v = now + 1 then h else H v) v' → post (nI (now + 1)) v') :
    wpY_put post u k x := by
  obtain ⟨f_oldest, f_current, a_keys, a_vals, a_sizes⟩ := u
  obtain ⟨x1, x2, hL⟩ := hY
  subst x1 x2
  have hLn := hL (now - first) (Nat.le_refl _)
  rw [show first + (now - first) = now from by omega] at hLn
  have h28 := hLn.1
  unfold wpY_put
  dsimp only
  refine my_badKey (fun hbad => br_f (by decide) (hb hbad)) (fun hk1 hk2 => br_t rfl (nm_r (pk_sub hfn) ?_))
  refine pk_lt (now - first) 40 (fun hlt => ?_) (fun hge => hf hk1 hk2 (by omega))
  have hn40' : now < first + 40 := by omega
  have hgo : ((∃ y ∈ H now, y.1 = k) ∨ (∀ y ∈ H now, y.1 ≠ k) ∧ (H now).length < 28) → wY_put_52 post k x (nI (now - first)) (nI first) (nI now) a_keys a_vals a_sizes := by
    intro hc
    unfold wY_put_52
    rw [nI_1 (now - first)]
    refine my_copy (by omega) (by omega) (fun ks vs c1 c2 => ?_)
    dsimp only
    refine nm_r (nI_1 now) ?_
    have hLc := mv_YL_copy hLn c2
    have hin1 : vp_in (nI (now - first + 1)) 41 := vp_in_nI (by omega) (by decide)
    refine my_find (by omega) hLc (fun hno => ?_) (fun i y hy hyk => ?_)
    · have hl28 : (H now).length < 28 := by
        rcases hc with ⟨y, hy, e⟩ | t
        · exact absurd e (hno y hy)
        · exact t.2
      refine br_f (by decide) (And.intro hin1 ?_)
      rw [nI_clamp (n := now - first + 1) (by omega), hLc.2.1, nI_1, mv_n28]
      refine nm_e (And.intro hin1 (And.intro hin1 (nm_e ?_)))
      unfold wY_put_120
      rw [nI_clamp (n := (now - first + 1) * 28 + (H now).length) (by omega)]
      have hi1148 : vp_in (nI ((now - first + 1) * 28 + (H now).length)) 1148 := vp_in_nI (by omega) (by decide)
      refine And.intro hi1148 (nm_e (And.intro hi1148 (nm_e ?_)))
      refine hok hk1 hk2 hn40' hc (H now ++ [(k, x)]) _ (by rw [mv_nk_none hno]) (mv_YR_new hfn hL (fun j hj => ?_) (fun j hj => ?_) (mv_YL_app hLc hl28))
      · rw [pk_un (by omega), pk_un (by omega)]; exact c1 j hj
      · rw [pk_un hj, pk_un hj]
    · have hlt2 := mv_get_lt hy
      have hi1148 : vp_in (nI ((now - first + 1) * 28 + i)) 1148 := vp_in_nI (by omega) (by decide)
      refine br_t (nI_pos' (by omega)) ?_
      unfold wY_put_120
      rw [nI_clamp (n := (now - first + 1) * 28 + i) (by omega)]
      refine And.intro hi1148 (nm_e (And.intro hi1148 (nm_e ?_)))
      refine hok hk1 hk2 hn40' hc ((H now).set i (k, x)) _ (mv_put_perm hdis hy hyk) (mv_YR_new hfn hL (fun j hj => ?_) (fun j hj => ?_) (mv_YL_set hLc))
      · rw [pk_un (by omega), pk_un (by omega)]; exact c1 j hj
      · rw [pk_un hj]
  refine my_find (by omega) hLn (fun hno => br_f (by decide) (And.intro (vp_in_nI (by omega) (by decide)) ?_)) (fun i y hy hyk => br_t (nI_pos' ?_) (hgo (Or.inl ⟨y, mv_get_mem hy, hyk⟩)))
  · rw [nI_clamp (n := now - first) (by omega), hLn.2.1]
    exact pk_eq (H now).length 28 (fun e => hfull hk1 hk2 hn40' hno e) (fun e => hgo (Or.inr ⟨hno, by omega⟩))
  · have := mv_get_lt hy
    omega
theorem my_erase (hY : mv_YR first now H u) (hfn : first ≤ now) (hnow : now < 4000) (hn40 : now ≤ first + 40) (hdis : mv_Dis (H now))
    (hb : (k < -1000 ∨ 1000 < k) → post (-1) u)
    (hno : -1000 ≤ k → k ≤ 1000 → (∀ y ∈ H now, y.1 ≠ k) → post (-2) u)
    (hf : -1000 ≤ k → k ≤ 1000 → (∃ y ∈ H now, y.1 = k) → now = first + 40 → post (-3) u)
    (hok : -1000 ≤ k → k ≤ 1000 → now < first + 40 → (∃ y ∈ H now, y.1 = k) → ∀ h v', (mv_nk k (H now)).Perm h → mv_YR first (now + 1) (fun v => if v = now + 1 then h else H v) v' → post (nI (now + 1)) v') :
    wpY_erase post u k := by
  obtain ⟨f_oldest, f_current, a_keys, a_vals, a_sizes⟩ := u
  obtain ⟨x1, x2, hL⟩ := hY
  subst x1 x2
  have hLn := hL (now - first) (Nat.le_refl _)
  rw [show first + (now - first) = now from by omega] at hLn
  have h28 := hLn.1
  unfold wpY_erase
  dsimp only
  refine my_badKey (fun hbad => br_f (by decide) (hb hbad)) (fun hk1 hk2 => br_t rfl (nm_r (pk_sub hfn) ?_))
  refine my_find (by omega) hLn (fun hnot => br_f (by decide) (hno hk1 hk2 hnot)) (fun i0 y0 hy0 hyk0 => ?_)
  have hlt0 := mv_get_lt hy0
  have hyes : ∃ y ∈ H now, y.1 = k := ⟨y0, mv_get_mem hy0, hyk0⟩
  refine br_t (nI_pos' (by omega)) (pk_lt (now - first) 40 (fun hlt => ?_) (fun hge => hf hk1 hk2 hyes (by omega)))
  have hn40' : now < first + 40 := by omega
  rw [nI_1 (now - first)]
  refine my_copy (by omega) (by omega) (fun ks vs c1 c2 => ?_)
  dsimp only
  refine nm_r (nI_1 now) ?_
  have hLc := mv_YL_copy hLn c2
  have hin1 : vp_in (nI (now - first + 1)) 41 := vp_in_nI (by omega) (by decide)
  refine my_find (by omega) hLc (fun hnot => absurd hyk0 (hnot y0 (mv_get_mem hy0))) (fun i y hy hyk => ?_)
  have hlt2 := mv_get_lt hy
  obtain ⟨m, hm⟩ : ∃ m, (H now).length = m + 1 := ⟨(H now).length - 1, by omega⟩
  obtain ⟨z, hz⟩ : ∃ z, (H now)[m]? = some z := ⟨_, List.getElem?_eq_getElem (by omega)⟩
  have hzc := hLc.2.2 m z hz
  refine And.intro hin1 ?_
  have elast : nI (now - first + 1) * 28 + nI (H now).length - 1 = nI ((now - first + 1) * 28 + m) := by
    rw [mv_n28, hm]; exact nI_pred _
  rw [nI_clamp (n := now - first + 1) (by omega), hLc.2.1, elast]
  have hil : vp_in (nI ((now - first + 1) * 28 + m)) 1148 := vp_in_nI (by omega) (by decide)
  have hii : vp_in (nI ((now - first + 1) * 28 + i)) 1148 := vp_in_nI (by omega) (by decide)
  refine nm_e (And.intro hil (And.intro hii ?_))
  rw [nI_clamp (n := (now - first + 1) * 28 + m) (by omega), nI_clamp (n := (now - first + 1) * 28 + i) (by omega), hzc.1, hzc.2]
  refine nm_e (And.intro hil (And.intro hii (nm_e (And.intro hin1 (And.intro hin1 (nm_e ?_))))))
  have esz : nI (H now).length - 1 = nI m := by rw [hm]; exact nI_pred _
  rw [esz]
  refine hok hk1 hk2 hn40' hyes (((H now).set i z).take m) _ (mv_del_perm hdis hy hyk hm hz) (mv_YR_new hfn hL (fun j hj => ?_) (fun j hj => ?_) (mv_YL_del hLc hm))
  · rw [pk_un (by omega), pk_un (by omega)]; exact c1 j hj
  · rw [pk_un hj, pk_un hj]
theorem my_forget (hY : mv_YR first now H u) (hfn : first ≤ now) (hnow : now < 4000) (hn40 : now ≤ first + 40)
    (hn : ¬ mv_Kp first now v → post (-5) u) (hy : ∀ j, v = nI j → first ≤ j → j ≤ now → ∀ u', mv_YR j now H u' → post (nI (now - j)) u') : wpY_forget post u v := by
  obtain ⟨f_oldest, f_current, a_keys, a_vals, a_sizes⟩ := u
  obtain ⟨x1, x2, hL⟩ := hY
  subst x1 x2
  unfold wpY_forget
  dsimp only
  refine my_kept rfl rfl hfn hnow (fun j e hj1 hj2 => br_f (by decide) ?_) (fun h => br_t rfl (hn h))
  subst e
  refine nm_r (pk_sub hj1) (Exists.intro (now - j + 2) ?_)
  have hl : ∀ d s ks vs sz, s + d = now - j + 1 → (∀ t, t < s → mv_YL ks vs sz t (H (j + t))) → (∀ t, s ≤ t → t ≤ now - first → mv_YL ks vs sz t (H (first + t))) →
      wY_forget_20 post (nI j) (nI (j - first)) (d + 1) (nI s) (nI first) (nI now) ks vs sz := by
    intro d
    induction d with
    | zero =>
      intro s ks vs sz hs h1 h2
      have e1 : nI now - nI first = nI (now - first) := pk_sub hfn
      have e2 : nI s + nI (j - first) = nI (s + (j - first)) := nI_add _ _
      have e3 : nI now - nI j = nI (now - j) := pk_sub hj2
      unfold wY_forget_20
      rw [e1, e2, e3]
      exact pk_lt (now - first) (s + (j - first)) (fun _ => hy j rfl hj1 hj2 _ ⟨rfl, rfl, fun t ht => h1 t (by omega)⟩) (fun t => absurd t (by omega))
    | succ d ih =>
      intro s ks vs sz hs h1 h2
      have e1 : nI now - nI first = nI (now - first) := pk_sub hfn
      have e2 : nI s + nI (j - first) = nI (s + (j - first)) := nI_add _ _
      unfold wY_forget_20
      rw [e1, e2]
      refine pk_lt (now - first) (s + (j - first)) (fun t => absurd t (by omega)) (fun _ => my_copy (by omega) (by omega) (fun ks' vs' c1 c2 => ?_))
      dsimp only
      refine nm_r (nI_1 s) (ih (s + 1) _ _ _ (by omega) (fun t ht => ?_) (fun t ht1 ht2 => ?_))
      · by_cases e : t = s
        · subst e
          have := mv_YL_copy (b := t) (h2 (t + (j - first)) (by omega) (by omega)) c2
          rw [show first + (t + (j - first)) = j + t from by omega] at this
          exact this
        · exact mv_YL_keep (h1 t (by omega)) e c1 (fun i hi => pk_un hi)
      · exact mv_YL_keep (h2 t (by omega) ht2) (by omega) c1 (fun i hi => pk_un hi)
  exact hl (now - j + 1) 0 a_keys a_vals a_sizes (by omega) (fun t ht => absurd ht (Nat.not_lt_zero _)) (fun t _ ht => hL t ht)
end
end
section
/-! Y's count, sum, next, keyAt, differ, since -/
theorem mv_fi_t {lo hi : Int32} {p : List mv_KV} {x : mv_KV} (h1 : ¬ x.1 < lo) (h2 : ¬ hi < x.1) : mv_fi lo hi (p ++ [x]) = mv_fi lo hi p ++ [x] := by
  show List.filter _ _ = _
  rw [List.filter_append, List.filter_cons_of_pos (mv_rng_iff.mpr ⟨Int32.not_lt.mp h1, Int32.not_lt.mp h2⟩), List.filter_nil]
theorem mv_fi_f {lo hi : Int32} {p : List mv_KV} {x : mv_KV} (h : x.1 < lo ∨ hi < x.1) : mv_fi lo hi (p ++ [x]) = mv_fi lo hi p := by
  show List.filter _ _ = _
  rw [List.filter_append, List.filter_cons_of_neg, List.filter_nil, List.append_nil]
  intro t
  have := mv_rng_iff.mp t
  rcases h with h | h
  · exact mv_irr _ (Int32.lt_of_lt_of_le h this.1)
  · exact mv_irr _ (Int32.lt_of_lt_of_le h this.2)
theorem mv_bo_snoc (q b : List mv_KV) (x : mv_KV) : mv_bo (q ++ [x]) b = mv_bo q b + (if b.any (fun y => decide (y.1 = x.1)) = true then 1 else 0) := by
  unfold mv_bo; rw [List.countP_append, List.countP_singleton]
theorem mv_se_snoc (q b : List mv_KV) (x : mv_KV) : mv_se (q ++ [x]) b = mv_se q b + (if b.any (fun y => decide (y.1 = x.1) && decide (y.2 = x.2)) = true then 1 else 0) := by
  unfold mv_se; rw [List.countP_append, List.countP_singleton]
section
variable {f_oldest f_current : Int32} {a_keys a_vals a_sizes : Nat → Int32} {s : Nat} {l : List mv_KV} {lo hi k : Int32} {post : Int32 → Prop}
theorem my_count25 (hs : s < 41) (hL : mv_YL a_keys a_vals a_sizes s l) (hp : post (nI (mv_fi lo hi l).length)) : ∃ m, wY_count_25 post lo hi (nI s) f_oldest f_current a_keys a_vals a_sizes m 0 0 := by
  obtain ⟨hl, hu, hg⟩ := hL
  refine ⟨_, mv_loop l (fun m i (a : Nat) => wY_count_25 post lo hi (nI s) f_oldest f_current a_keys a_vals a_sizes m (nI a) (nI i)) (fun p a => a = (mv_fi lo hi p).length) ?_ ?_ 0 rfl⟩
  · intro m a ha
    exact my_hd hs hu hl hl (fun _ => ha ▸ hp) (fun h => absurd h (Nat.lt_irrefl _))
  · intro m p x q a hl' hx ha ih
    have hi' := mv_get_lt hx
    obtain ⟨hk, hv⟩ := hg _ _ hx
    refine my_hd hs hu hl (by omega) (fun h => absurd h (by omega)) (fun _ => And.intro (my_ix hs (by omega)) ?_)
    rw [my_cl hs (by omega), hk]
    refine br_c (fun e => nm_r (nI_1 _) (ih a ?_)) (fun e => And.intro (my_ix hs (by omega)) (br_c (fun e2 => nm_r (nI_1 _) (ih a ?_)) (fun e2 => nm_r (nI_1 a) (nm_r (nI_1 _) (ih (a + 1) ?_)))))
    · rw [mv_fi_f (Or.inl e)]; exact ha
    · rw [mv_fi_f (Or.inr e2)]; exact ha
    · rw [mv_fi_t e e2, List.length_append, ha]; rfl
theorem my_sum24 (hs : s < 41) (hL : mv_YL a_keys a_vals a_sizes s l) (hp : post (mv_sm (mv_fi lo hi l))) : ∃ m, wY_sum_24 post lo hi (nI s) f_oldest f_current a_keys a_vals a_sizes m 0 0 := by
  obtain ⟨hl, hu, hg⟩ := hL
  refine ⟨_, mv_loop l (fun m i (a : Int32) => wY_sum_24 post lo hi (nI s) f_oldest f_current a_keys a_vals a_sizes m a (nI i)) (fun p a => a = mv_sm (mv_fi lo hi p)) ?_ ?_ 0 rfl⟩
  · intro m a ha
    exact my_hd hs hu hl hl (fun _ => ha ▸ hp) (fun h => absurd h (Nat.lt_irrefl _))
  · intro m p x q a hl' hx ha ih
    have hi' := mv_get_lt hx
    obtain ⟨hk, hv⟩ := hg _ _ hx
    refine my_hd hs hu hl (by omega) (fun h => absurd h (by omega)) (fun _ => And.intro (my_ix hs (by omega)) ?_)
    rw [my_cl hs (by omega), hk, hv]
    refine br_c (fun e => nm_r (nI_1 _) (ih a ?_)) (fun e => And.intro (my_ix hs (by omega)) (br_c (fun e2 => nm_r (nI_1 _) (ih a ?_)) (fun e2 => And.intro (my_ix hs (by omega)) (nm_e (nm_r (nI_1 _) (ih (a + x.2) ?_))))))
    · rw [mv_fi_f (Or.inl e)]; exact ha
    · rw [mv_fi_f (Or.inr e2)]; exact ha
    · rw [mv_fi_t e e2, mv_sm_snoc, ha]
theorem my_next25 (hs : s < 41) (hL : mv_YL a_keys a_vals a_sizes s l) (hr : ∀ y ∈ l, y.1 ≤ 1000) (hp : ∀ a, mv_Nx k l a → post a) : ∃ m, wY_next_25 post k (nI s) f_oldest f_current a_keys a_vals a_sizes m 100000 0 := by
  obtain ⟨hl, hu, hg⟩ := hL
  refine ⟨_, mv_loop l (fun m i (a : Int32) => wY_next_25 post k (nI s) f_oldest f_current a_keys a_vals a_sizes m a (nI i)) (fun p a => (a = 100000 ∨ ∃ y ∈ p, k < y.1 ∧ a = y.1) ∧ ∀ y ∈ p, k < y.1 → a ≤ y.1) ?_ ?_ 100000 ⟨Or.inl rfl, fun y hy => absurd hy List.not_mem_nil⟩⟩
  · intro m a ha
    refine my_hd hs hu hl hl (fun _ => hp a ?_) (fun h => absurd h (Nat.lt_irrefl _))
    rcases ha.1 with e | ⟨y, y1, y2, y3⟩
    · refine Or.inl ⟨e, fun y hy hky => ?_⟩
      have h1 := ha.2 y hy hky
      have h2 := hr y hy
      rw [e] at h1
      rw [mv_i32le] at h1 h2
      rw [mv_t5] at h1
      rw [mv_t4] at h2
      omega
    · exact Or.inr ⟨y, y1, y2, y3, fun z hz hkz => y3 ▸ ha.2 z hz hkz⟩
  · intro m p x q a hl' hx ha ih
    have hi' := mv_get_lt hx
    obtain ⟨hk, hv⟩ := hg _ _ hx
    refine my_hd hs hu hl (by omega) (fun h => absurd h (by omega)) (fun _ => And.intro (my_ix hs (by omega)) ?_)
    rw [my_cl hs (by omega), hk]
    have hkeep : (k < x.1 → a ≤ x.1) → (a = 100000 ∨ ∃ y ∈ p ++ [x], k < y.1 ∧ a = y.1) ∧ ∀ y ∈ p ++ [x], k < y.1 → a ≤ y.1 := by
      intro c
      refine ⟨ha.1.imp id (fun ⟨y, y1, y2⟩ => ⟨y, List.mem_append_left _ y1, y2⟩), fun y hy hky => ?_⟩
      rcases mv_mem_snoc hy with hy | rfl
      · exact ha.2 y hy hky
      · exact c hky
    refine br_c (fun e => nm_r (nI_1 _) (ih a (hkeep (fun c => absurd (Int32.lt_of_lt_of_le c e) (mv_irr _))))) (fun e => And.intro (my_ix hs (by omega)) (br_c (fun e2 => nm_r (nI_1 _) (ih a (hkeep (fun _ => e2)))) (fun e2 => And.intro (my_ix hs (by omega)) (nm_e (nm_r (nI_1 _) (ih x.1 ⟨?_, fun y hy hky => ?_⟩))))))
    · exact Or.inr ⟨x, List.mem_append_right _ List.mem_cons_self, Int32.not_le.mp e, rfl⟩
    · rcases mv_mem_snoc hy with hy | rfl
      · exact Int32.le_trans (Int32.le_of_lt (Int32.not_le.mp e2)) (ha.2 y hy hky)
      · exact Int32.le_refl _
theorem my_keyAt38 {J : Int32 → Prop} {a : Nat} {x : mv_KV} (hs : s < 41) (hL : mv_YL a_keys a_vals a_sizes s l) (hx : l[a]? = some x)
    (h1 : nI (mv_sml l x.1) = k → post x.1) (h2 : ¬ nI (mv_sml l x.1) = k → J (nI (a + 1))) : ∃ m, wY_keyAt_38 post J k (nI s) (nI a) f_oldest f_current a_keys a_vals a_sizes m 0 0 := by
  obtain ⟨hl, hu, hg⟩ := hL
  have hxa := mv_get_lt hx
  have hkx := (hg a x hx).1
  refine ⟨_, mv_loop l (fun m i (c : Nat) => wY_keyAt_38 post J k (nI s) (nI a) f_oldest f_current a_keys a_vals a_sizes m (nI c) (nI i)) (fun p c => c = mv_sml p x.1) ?_ ?_ 0 rfl⟩
  · intro m c hc
    refine my_hd hs hu hl hl (fun _ => ?_) (fun h => absurd h (Nat.lt_irrefl _))
    rw [hc]
    refine br_c (fun e => And.intro (my_ix hs (by omega)) ?_) (fun e => nm_r (nI_1 a) (h2 e))
    rw [my_cl hs (by omega), hkx]
    exact h1 e
  · intro m p y q c hl' hy hc ih
    have hi' := mv_get_lt hy
    obtain ⟨hk, hv⟩ := hg _ _ hy
    refine my_hd hs hu hl (by omega) (fun h => absurd h (by omega)) (fun _ => And.intro (my_ix hs (by omega)) (And.intro (my_ix hs (by omega)) ?_))
    rw [my_cl hs (i := p.length) (by omega), my_cl hs (i := a) (by omega), hk, hkx]
    refine br_c (fun e => nm_r (nI_1 _) (ih c ?_)) (fun e => nm_r (nI_1 c) (nm_r (nI_1 _) (ih (c + 1) ?_)))
    · show c = (p ++ [y]).countP _
      rw [List.countP_append, List.countP_singleton, if_neg (by rw [decide_eq_true_eq]; exact fun t => mv_irr _ (Int32.lt_of_lt_of_le t e))]
      exact hc
    · show c + 1 = (p ++ [y]).countP _
      rw [List.countP_append, List.countP_singleton, if_pos (decide_eq_true (Int32.not_le.mp e)), hc]
theorem my_keyAt21 (hs : s < 41) (hL : mv_YL a_keys a_vals a_sizes s l) (hp : ∀ r, mv_KA k l r → post r) : ∃ m, wY_keyAt_21 post k (nI s) f_oldest f_current a_keys a_vals a_sizes m 0 := by
  obtain ⟨hl, hu, hg⟩ := id hL
  refine ⟨_, mv_loop l (fun m i (_ : Unit) => wY_keyAt_21 post k (nI s) f_oldest f_current a_keys a_vals a_sizes m (nI i)) (fun p _ => ∀ y ∈ p, k ≠ nI (mv_sml l y.1)) ?_ ?_ () (fun x hx => absurd hx List.not_mem_nil)⟩
  · intro m _ hI
    exact my_hd hs hu hl hl (fun _ => hp _ (Or.inr ⟨hI, rfl⟩)) (fun h => absurd h (Nat.lt_irrefl _))
  · intro m p x q _ hl' hx hI ih
    have hi' := mv_get_lt hx
    refine my_hd hs hu hl (by omega) (fun h => absurd h (by omega)) (fun _ => my_keyAt38 hs hL hx (fun e => hp _ (Or.inl ⟨x, mv_get_mem hx, e.symm, rfl⟩)) (fun e => ih () (fun y hy => ?_)))
    rcases mv_mem_snoc hy with hy | rfl
    · exact hI y hy
    · exact fun t => e t.symm
end
section
variable {post : Int32 → Prop} {u : SY} {first now : Nat} {H : Nat → List mv_KV} {lo hi k v : Int32}
theorem my_count (hY : mv_YR first now H u) (hfn : first ≤ now) (hnow : now < 4000) (hn40 : now ≤ first + 40)
    (hn : ¬ mv_Kp first now v → post (-5)) (hy : ∀ j, v = nI j → first ≤ j → j ≤ now → post (nI (mv_fi lo hi (H j)).length)) : wpY_count post u lo hi v := by
  obtain ⟨f_oldest, f_current, a_keys, a_vals, a_sizes⟩ := u
  obtain ⟨x1, x2, hL⟩ := hY
  subst x1 x2
  unfold wpY_count
  dsimp only
  refine my_kept rfl rfl hfn hnow (fun j e hj1 hj2 => br_f (by decide) ?_) (fun h => br_t rfl (hn h))
  have hLj := hL (j - first) (by omega)
  rw [show first + (j - first) = j from by omega] at hLj
  rw [e, pk_sub hj1]
  exact nm_e (my_count25 (by omega) hLj (hy j e hj1 hj2))
theorem my_sum (hY : mv_YR first now H u) (hfn : first ≤ now) (hnow : now < 4000) (hn40 : now ≤ first + 40)
    (hn : ¬ mv_Kp first now v → post 0) (hy : ∀ j, v = nI j → first ≤ j → j ≤ now → post (mv_sm (mv_fi lo hi (H j)))) : wpY_sum post u lo hi v := by
  obtain ⟨f_oldest, f_current, a_keys, a_vals, a_sizes⟩ := u
  obtain ⟨x1, x2, hL⟩ := hY
  subst x1 x2
  unfold wpY_sum
  dsimp only
  refine my_kept rfl rfl hfn hnow (fun j e hj1 hj2 => br_f (by decide) ?_) (fun h => br_t rfl (hn h))
  have hLj := hL (j - first) (by omega)
  rw [show first + (j - first) = j from by omega] at hLj
  rw [e, pk_sub hj1]
  exact nm_e (my_sum24 (by omega) hLj (hy j e hj1 hj2))
theorem my_next (hY : mv_YR first now H u) (hfn : first ≤ now) (hnow : now < 4000) (hn40 : now ≤ first + 40) (hr : ∀ j, first ≤ j → j ≤ now → ∀ y ∈ H j, y.1 ≤ 1000)
    (hn : ¬ mv_Kp first now v → post 100000) (hy : ∀ j a, v = nI j → first ≤ j → j ≤ now → mv_Nx k (H j) a → post a) : wpY_next post u k v := by
  obtain ⟨f_oldest, f_current, a_keys, a_vals, a_sizes⟩ := u
  obtain ⟨x1, x2, hL⟩ := hY
  subst x1 x2
  unfold wpY_next
  dsimp only
  refine my_kept rfl rfl hfn hnow (fun j e hj1 hj2 => br_f (by decide) ?_) (fun h => br_t rfl (hn h))
  have hLj := hL (j - first) (by omega)
  rw [show first + (j - first) = j from by omega] at hLj
  rw [e, pk_sub hj1]
  exact nm_e (my_next25 (by omega) hLj (hr j hj1 hj2) (fun a ha => hy j a e hj1 hj2 ha))
theorem my_keyAt (hY : mv_YR first now H u) (hfn : first ≤ now) (hnow : now < 4000) (hn40 : now ≤ first + 40)
    (hn : ¬ mv_Kp first now v → post 100000) (hy : ∀ j r, v = nI j → first ≤ j → j ≤ now → mv_KA k (H j) r → post r) : wpY_keyAt post u k v := by
  obtain ⟨f_oldest, f_current, a_keys, a_vals, a_sizes⟩ := u
  obtain ⟨x1, x2, hL⟩ := hY
  subst x1 x2
  unfold wpY_keyAt
  dsimp only
  refine my_kept rfl rfl hfn hnow (fun j e hj1 hj2 => br_f (by decide) ?_) (fun h => br_t rfl (hn h))
  have hLj := hL (j - first) (by omega)
  rw [show first + (j - first) = j from by omega] at hLj
  rw [e, pk_sub hj1]
  exact nm_e (my_keyAt21 (by omega) hLj (fun r hr => hy j r e hj1 hj2 hr))
theorem my_differ {v2 : Int32} (hY : mv_YR first now H u) (hfn : first ≤ now) (hnow : now < 4000) (hn40 : now ≤ first + 40) (hdis : ∀ j, first ≤ j → j ≤ now → mv_Dis (H j))
    (hn : ¬ (mv_Kp first now v ∧ mv_Kp first now v2) → post (-5))
    (hy : ∀ j j2, v = nI j → first ≤ j → j ≤ now → v2 = nI j2 → first ≤ j2 → j2 ≤ now →
      post (((nI (mv_fi lo hi (H j)).length + nI (mv_fi lo hi (H j2)).length) - nI (mv_bo (mv_fi lo hi (H j)) (mv_fi lo hi (H j2)))) - nI (mv_se (mv_fi lo hi (H j)) (mv_fi lo hi (H j2))))) : wpY_differ post u lo hi v v2 := by
  obtain ⟨f_oldest, f_current, a_keys, a_vals, a_sizes⟩ := u
  obtain ⟨x1, x2, hL⟩ := id hY
  subst x1 x2
  unfold wpY_differ
  dsimp only
  refine my_kept rfl rfl hfn hnow (fun j e hj1 hj2 => br_f (by decide) ?_) (fun h => br_t rfl (hn (fun t => h t.1)))
  refine my_kept rfl rfl hfn hnow (fun j2 e2 hk1 hk2 => br_f (by decide) ?_) (fun h => br_t rfl (hn (fun t => h t.2)))
  refine my_count hY hfn hnow hn40 (fun h => absurd ⟨j2, e2, hk1, hk2⟩ h) (fun j3 e3 hm1 hm2 => ?_)
  have ej : j3 = j2 := by
    rw [e2, nI_eq (by omega) (by omega)] at e3
    exact e3.symm
  subst ej
  have hLj := hL (j - first) (by omega)
  rw [show first + (j - first) = j from by omega] at hLj
  obtain ⟨hl, hu, hg⟩ := id hLj
  have hd3 := hdis j3 hm1 hm2
  have hs : j - first < 41 := by omega
  rw [e, pk_sub hj1]
  refine nm_e ⟨_, mv_loop (H j) (fun m i (a : Int32) => wY_differ_41 post lo hi v2 (nI (j - first)) (nI first) (nI now) a_keys a_vals a_sizes m a (nI i))
    (fun p a => a = ((nI (mv_fi lo hi p).length + nI (mv_fi lo hi (H j3)).length) - nI (mv_bo (mv_fi lo hi p) (mv_fi lo hi (H j3)))) - nI (mv_se (mv_fi lo hi p) (mv_fi lo hi (H j3)))) ?_ ?_ (nI (mv_fi lo hi (H j3)).length) ?_⟩
  · intro m a ha
    refine my_hd hs hu hl hl (fun _ => ?_) (fun h => absurd h (Nat.lt_irrefl _))
    rw [ha]
    exact hy j j3 e hj1 hj2 e2 hk1 hk2
  · intro m p x q a hl' hx ha ih
    have hi' := mv_get_lt hx
    obtain ⟨hk, hv⟩ := hg _ _ hx
    refine my_hd hs hu hl (by omega) (fun h => absurd h (by omega)) (fun _ => And.intro (my_ix hs (by omega)) ?_)
    rw [my_cl hs (by omega), hk, hv]
    refine nm_e (br_c (fun c1 => nm_r (nI_1 _) (ih a (by rw [mv_fi_f (Or.inl c1)]; exact ha))) (fun c1 => br_c (fun c2 => nm_r (nI_1 _) (ih a (by rw [mv_fi_f (Or.inr c2)]; exact ha))) (fun c2 => ?_)))
    have efi := mv_fi_t (p := p) c1 c2
    have hxr : mv_rng lo hi x = true := mv_rng_iff.mpr ⟨Int32.not_lt.mp c1, Int32.not_lt.mp c2⟩
    have hlen : ((mv_fi lo hi p) ++ [x]).length = (mv_fi lo hi p).length + 1 := by rw [List.length_append]; rfl
    have hnone : (∀ y ∈ H j3, y.1 ≠ x.1) → ∀ y ∈ mv_fi lo hi (H j3), y.1 ≠ x.1 := fun c y hy => c y (List.mem_filter.mp hy).1
    refine my_has hY hfn hnow hn40 (fun j4 e4 hp1 hp2 hex => br_f (by decide) ?_) (fun h => absurd ⟨j3, e2, hk1, hk2⟩ h) (fun j4 e4 hp1 hp2 hno => br_t rfl (nm_e (nm_r (nI_1 _) (ih (a + 1) ?_))))
    · have ej : j4 = j3 := by
        rw [e2, nI_eq (by omega) (by omega)] at e4
        exact e4.symm
      subst ej
      obtain ⟨y0, hy0⟩ := hex
      have hin : (x.1, y0) ∈ mv_fi lo hi (H j4) := List.mem_filter.mpr ⟨hy0, hxr⟩
      have b1 : (mv_fi lo hi (H j4)).any (fun y => decide (y.1 = x.1)) = true := List.any_eq_true.mpr ⟨_, hin, decide_eq_true rfl⟩
      refine my_get hY hfn hnow hn40 (fun j5 y e5 hq1 hq2 hyy => And.intro (my_ix hs (by omega)) (br_c (fun c => nm_e (nm_r (nI_1 _) (ih (a - 1) ?_))) (fun c => nm_r (nI_1 _) (ih a ?_)))) (fun h => absurd ⟨j4, e2, hk1, hk2⟩ h) (fun j5 e5 hq1 hq2 hno => ?_)
      · have ej : j5 = j4 := by
          rw [e2, nI_eq (by omega) (by omega)] at e5
          exact e5.symm
        subst ej
        have b2 : (mv_fi lo hi (H j5)).any (fun y => decide (y.1 = x.1) && decide (y.2 = x.2)) = true := by
          refine List.any_eq_true.mpr ⟨(x.1, y), List.mem_filter.mpr ⟨hyy, hxr⟩, ?_⟩
          rw [decide_eq_true c]
          simp
        rw [efi, hlen, mv_bo_snoc, mv_se_snoc, if_pos b1, if_pos b2, nI_succ, nI_succ, nI_succ, ha]
        grind
      · have ej : j5 = j4 := by
          rw [e2, nI_eq (by omega) (by omega)] at e5
          exact e5.symm
        subst ej
        have b2 : ¬ (mv_fi lo hi (H j5)).any (fun y => decide (y.1 = x.1) && decide (y.2 = x.2)) = true := by
          intro t
          obtain ⟨z, z1, z2⟩ := List.any_eq_true.mp t
          rw [Bool.and_eq_true, decide_eq_true_eq, decide_eq_true_eq] at z2
          have z3 := (List.mem_filter.mp z1).1
          have z4 : (x.1, x.2) ∈ H j5 := by
            have : z = (x.1, x.2) := Prod.ext z2.1 z2.2
            rw [← this]; exact z3
          exact c (mv_dis_uniq hd3 hyy z4)
        rw [efi, hlen, mv_bo_snoc, mv_se_snoc, if_pos b1, if_neg b2, nI_succ, nI_succ, ha]
        grind
      · have ej : j5 = j4 := by
          rw [e2, nI_eq (by omega) (by omega)] at e5
          exact e5.symm
        subst ej
        exact absurd rfl (hno (x.1, y0) hy0)
    · have ej : j4 = j3 := by
        rw [e2, nI_eq (by omega) (by omega)] at e4
        exact e4.symm
      subst ej
      have b1 : ¬ (mv_fi lo hi (H j4)).any (fun y => decide (y.1 = x.1)) = true := by rw [mv_any_far' (hnone hno)]; decide
      have b2 : ¬ (mv_fi lo hi (H j4)).any (fun y => decide (y.1 = x.1) && decide (y.2 = x.2)) = true := by rw [mv_any_far (hnone hno)]; decide
      rw [efi, hlen, mv_bo_snoc, mv_se_snoc, if_neg b1, if_neg b2, nI_succ, ha]
      grind
  · show nI _ = ((nI 0 + nI (mv_fi lo hi (H j3)).length) - nI 0) - nI 0
    rw [nI_0]
    grind
theorem my_since (hY : mv_YR first now H u) (hfn : first ≤ now) (hnow : now < 4000) (hn40 : now ≤ first + 40) (hdis : ∀ j, first ≤ j → j ≤ now → mv_Dis (H j))
    (hn : (∀ y ∈ H now, y.1 ≠ k) → post (-2))
    (hy : ∀ y a, (k, y) ∈ H now → first ≤ a → a ≤ now → (∀ j, a ≤ j → j ≤ now → (k, y) ∈ H j) → (a = first ∨ (k, y) ∉ H (a - 1)) → post (nI a)) : wpY_since post u k := by
  obtain ⟨f_oldest, f_current, a_keys, a_vals, a_sizes⟩ := u
  obtain ⟨x1, x2, hL⟩ := id hY
  subst x1 x2
  have hKn : mv_Kp first now (nI now) := ⟨now, rfl, hfn, Nat.le_refl _⟩
  unfold wpY_since
  dsimp only
  refine my_has hY hfn hnow hn40 (fun j e hj1 hj2 hex => br_f (by decide) ?_) (fun h => absurd hKn h) (fun j e hj1 hj2 hno => br_t rfl (hn ?_))
  · obtain ⟨y, hy0⟩ := hex
    have ej : now = j := (nI_eq (by omega) (by omega)).mp e
    subst ej
    refine Exists.intro 41 ?_
    have hl : ∀ d t a, t + d = 40 → first ≤ a → a ≤ now → (∀ j, a ≤ j → j ≤ now → (k, y) ∈ H j) → (now - a = t ∨ a = first ∨ (k, y) ∉ H (a - 1)) →
        wY_since_22 post k (nI first) (nI now) a_keys a_vals a_sizes (d + 1) (nI a) (nI t) := by
      intro d
      induction d with
      | zero =>
        intro t a ht h1 h2 h3 h4
        refine pk_le 40 t (fun _ => hy y a hy0 h1 h2 h3 ?_) (fun c => absurd c (by omega))
        rcases h4 with c | c
        · exact Or.inl (by omega)
        · exact c
      | succ d ih =>
        intro t a ht h1 h2 h3 h4
        refine pk_le 40 t (fun c => absurd c (by omega)) (fun _ => ?_)
        have hstuck : (a = first ∨ (k, y) ∉ H (a - 1)) → wY_since_22 post k (nI first) (nI now) a_keys a_vals a_sizes (d + 1) (nI a) (nI (t + 1)) :=
          fun c => ih (t + 1) a (by omega) h1 h2 h3 (Or.inr c)
        have hprev : ∀ b, nI a - 1 = nI b → first ≤ b → b ≤ now → a = b + 1 := by
          intro b eb hb1 hb2
          rcases Nat.eq_zero_or_pos a with c | c
          · subst c
            have : (nI 0 - 1 : Int32) < 0 := by decide
            rw [eb] at this
            exact absurd this (nI_pos (by omega))
          · obtain ⟨a', rfl⟩ : ∃ a', a = a' + 1 := ⟨a - 1, by omega⟩
            rw [nI_pred, nI_eq (by omega) (by omega)] at eb
            omega
        refine my_has hY hfn hnow hn40 (fun b eb hb1 hb2 hexb => br_f (by decide) ?_) (fun h => br_t rfl (nm_r (nI_1 t) (hstuck ?_))) (fun b eb hb1 hb2 hnob => br_t rfl (nm_r (nI_1 t) (hstuck ?_)))
        · have ea := hprev b eb hb1 hb2
          subst ea
          obtain ⟨yb, hyb⟩ := hexb
          refine my_get hY hfn hnow hn40 (fun b2 y2 eb2 hc1 hc2 hy2 => ?_) (fun h => absurd ⟨b, eb, hb1, hb2⟩ h) (fun b2 eb2 hc1 hc2 hno2 => ?_)
          · have e2 : b2 = b := by
              rw [eb, nI_eq (by omega) (by omega)] at eb2
              exact eb2.symm
            subst e2
            refine my_get hY hfn hnow hn40 (fun b3 y3 eb3 hd1 hd2 hy3 => ?_) (fun h => absurd hKn h) (fun b3 eb3 hd1 hd2 hno3 => ?_)
            · have e3 : now = b3 := (nI_eq (by omega) (by omega)).mp eb3
              subst e3
              have ey : y3 = y := mv_dis_uniq (hdis now hfn (Nat.le_refl _)) hy3 hy0
              subst ey
              refine br_c (fun c => nm_r (nI_pred b2) (nm_r (nI_1 t) (ih (t + 1) b2 (by omega) hb1 (by omega) (fun j j1 j2 => ?_) ?_))) (fun c => nm_r (nI_1 t) (hstuck (Or.inr (fun h => c (mv_dis_uniq (hdis b2 hb1 hb2) hy2 h)))))
              · by_cases cj : j = b2
                · rw [cj, ← c]; exact hy2
                · exact h3 j (by omega) j2
              · rcases h4 with h4 | h4 | h4
                · exact Or.inl (by omega)
                · exact absurd h4 (by omega)
                · rw [← c] at h4
                  exact absurd hy2 h4
            · have e3 : now = b3 := (nI_eq (by omega) (by omega)).mp eb3
              subst e3
              exact absurd rfl (hno3 _ hy0)
          · have e2 : b2 = b := by
              rw [eb, nI_eq (by omega) (by omega)] at eb2
              exact eb2.symm
            subst e2
            exact absurd rfl (hno2 _ hyb)
        · by_cases c : a = first
          · exact Or.inl c
          · obtain ⟨a', rfl⟩ : ∃ a', a = a' + 1 := ⟨a - 1, by omega⟩
            exact absurd ⟨a', nI_pred a', by omega, by omega⟩ h
        · have ea := hprev b eb hb1 hb2
          subst ea
          exact Or.inr (fun h => hnob _ h rfl)
    exact hl 40 0 now rfl hfn (Nat.le_refl _) (fun j j1 j2 => by
      have : j = now := by omega
      rw [this]; exact hy0) (Or.inl (by omega))
  · have ej : now = j := (nI_eq (by omega) (by omega)).mp e
    rw [ej]
    exact hno
end
end
section
/-! the relation; the start -/
theorem mv_XR_perm {first now : Nat} {H H' : Nat → List mv_KV} {u : SX} (hX : mv_XR first now H u) (hp : ∀ v, (H v).Perm (H' v)) : mv_XR first now H' u := by
  obtain ⟨f_now, f_first, f_keys, f_depth, f_pending, f_work, a_rootAt, a_inUse, a_leaf, a_used, a_nodeDied, a_key, a_val, a_born, a_died, a_pathNode, a_pathEntry, a_pendKey, a_pendVal, a_workKey, a_workVal, a_foundKey, a_foundVal, a_stack⟩ := u
  obtain ⟨G, r, Ch, x1, x2, x3, hR, hW, hV, hra, hC⟩ := hX
  refine ⟨G, r, Ch, x1, x2, by rw [x3, (hp now).length_eq], hR, hW, fun v hv1 hv2 => ?_, hra, ?_⟩
  · obtain ⟨rv, e1, b1, b2, b3, b4, b5, b6⟩ := hV v hv1 hv2
    exact ⟨rv, e1, b1, b2, b3, b4, b5.trans (hp v), b6⟩
  · obtain ⟨c1, c2, c3, c4, c5, c6⟩ := hC
    exact ⟨c1, c2, mv_Tr_h (hp now) c3, c4, c5, c6⟩
theorem mv_XR_facts {first now : Nat} {H : Nat → List mv_KV} {u : SX} (hX : mv_XR first now H u) : ∀ j, first ≤ j → j ≤ now → mv_Dis (H j) ∧ ∀ y ∈ H j, -1000 ≤ y.1 ∧ y.1 ≤ 1000 := by
  obtain ⟨f_now, f_first, f_keys, f_depth, f_pending, f_work, a_rootAt, a_inUse, a_leaf, a_used, a_nodeDied, a_key, a_val, a_born, a_died, a_pathNode, a_pathEntry, a_pendKey, a_pendVal, a_workKey, a_workVal, a_foundKey, a_foundVal, a_stack⟩ := u
  obtain ⟨G, r, Ch, x1, x2, x3, hR, hW, hV, hra, hC⟩ := hX
  intro j hj1 hj2
  obtain ⟨rv, e1, hVj⟩ := hV j hj1 hj2
  exact ⟨mv_VOK_dis hVj, mv_VOK_rng hVj⟩
theorem mv_YR_28 {first now : Nat} {H : Nat → List mv_KV} {v : SY} (hY : mv_YR first now H v) : ∀ j, first ≤ j → j ≤ now → (H j).length ≤ 28 := by
  obtain ⟨f_oldest, f_current, a_keys, a_vals, a_sizes⟩ := v
  obtain ⟨x1, x2, hL⟩ := hY
  intro j hj1 hj2
  have := (hL (j - first) (by omega)).1
  rw [show first + (j - first) = j from by omega] at this
  exact this
theorem mv_sml_lt {h : List mv_KV} {y z : mv_KV} (hy : y ∈ h) (e : y.1 < z.1) : mv_sml h y.1 < mv_sml h z.1 := by
  obtain ⟨A, B, rfl⟩ := List.append_of_mem hy
  show List.countP _ _ < List.countP _ _
  rw [List.countP_append, List.countP_append, List.countP_cons, List.countP_cons]
  have hm : ∀ l : List mv_KV, l.countP (fun x => decide (x.1 < y.1)) ≤ l.countP (fun x => decide (x.1 < z.1)) := by
    intro l
    refine List.countP_mono_left (fun x _ hx => ?_)
    rw [decide_eq_true_eq] at hx ⊢
    exact Int32.lt_trans hx e
  have h1 := hm A
  have h2 := hm B
  rw [if_neg (by rw [decide_eq_false (mv_irr _)]; decide), if_pos (decide_eq_true e)]
  omega
theorem mv_KA_uniq {i a b : Int32} {h : List mv_KV} (h28 : h.length ≤ 28) (ha : mv_KA i h a) (hb : mv_KA i h b) : a = b := by
  have hc : ∀ k, mv_sml h k ≤ 28 := fun k => Nat.le_trans List.countP_le_length h28
  rcases ha with ⟨y, y1, y2, y3⟩ | ⟨a1, a2⟩
  · rcases hb with ⟨z, z1, z2, z3⟩ | ⟨b1, b2⟩
    · have b1 := hc y.1
      have b2 := hc z.1
      rw [y2, nI_eq (by omega) (by omega)] at z2
      rw [y3, z3, mv_i32eq]
      by_cases c : y.1 < z.1
      · have := mv_sml_lt y1 c; omega
      · by_cases c' : z.1 < y.1
        · have := mv_sml_lt z1 c'; omega
        · rw [mv_i32lt] at c c'
          omega
    · exact absurd y2 (b1 y y1)
  · rcases hb with ⟨z, z1, z2, z3⟩ | ⟨b1, b2⟩
    · exact absurd z2 (a1 z z1)
    · rw [a2, b2]
theorem mv_inj {a b : Nat} {v : Int32} (h1 : v = nI a) (h2 : v = nI b) (ha : a < 4000) (hb : b < 4000) : a = b := by
  rw [h1, nI_eq (by omega) (by omega)] at h2
  exact h2
theorem mv_bad {k : Int32} {P : Prop} (h : k < -1000 ∨ 1000 < k) (h1 : -1000 ≤ k) (h2 : k ≤ 1000) : P := by
  rcases h with h | h
  · exact absurd (Int32.lt_of_lt_of_le h h1) (mv_irr _)
  · exact absurd (Int32.lt_of_lt_of_le h h2) (mv_irr _)
/-- both sides hold the same history H of the versions first .. now -/
def i_Rel (k : Nat) (u : SX) (v : SY) : Prop :=
  ∃ first now H, first ≤ now ∧ now ≤ first + 40 ∧ now ≤ k ∧ mv_XR first now H u ∧ mv_YR first now H v
theorem i_up {k : Nat} {u : SX} {v : SY} (h : i_Rel k u v) : i_Rel (k + 5) u v := by
  obtain ⟨first, now, H, h1, h2, h3, h4, h5⟩ := h
  exact ⟨first, now, H, h1, h2, by omega, h4, h5⟩
theorem i_vc0 : wpX_init (fun u => wpY_init (fun v => i_Rel 0 u v)) := by
  intro iu eiu lf elf nd ed
  have hal : ¬ (2147483647 : Int32) ≤ nI 0 := by decide
  have hlf0 : lf 0 = 1 := by rw [elf, pk_us, mv_nar1]
  have hnd0 : nd 0 = 2147483647 := by rw [ed, pk_us]
  have hW : mv_Wd 0 (nI 0) (fun _ => []) lf nd iu := by
    intro n hn
    by_cases e : n = 0
    · subst e
      rw [eiu, pk_us, mv_nar1, hnd0, hlf0]
      exact ⟨⟨fun c => absurd c (by decide), fun c => absurd c hal⟩, Or.inr rfl, Or.inr rfl, fun x hx => absurd hx List.not_mem_nil⟩
    · rw [eiu, pk_un e, elf, pk_un e, ed, pk_un e]
      exact ⟨⟨fun _ => by decide, fun _ => rfl⟩, Or.inl rfl, Or.inl (by decide), fun x hx => absurd hx List.not_mem_nil⟩
  have hRT : mv_RT [((-2000 : Int32), ([] : List mv_KV))] := by
    refine ⟨⟨[], List.mem_cons_self⟩, List.pairwise_singleton _ _, fun p hp => ?_⟩
    rw [List.mem_singleton.mp hp]
    exact ⟨by decide, by decide, List.Pairwise.nil, fun x hx => absurd hx List.not_mem_nil⟩
  have hcnt : mv_cnt (nI 0) nd ≤ 1 := by
    refine mv_cnt_in (l := [0]) (fun n hn hl => ?_)
    by_cases e : n = 0
    · rw [e]; exact List.mem_cons_self
    · rw [ed, pk_un e] at hl
      exact absurd hl (by decide)
  have hC : mv_Cur 0 0 (fun _ => []) lf nd 0 [((-2000 : Int32), 0)] [] := by
    refine ⟨by decide, hnd0, ⟨fun p hp => ?_, by simp, hRT, List.Perm.refl _, fun t => absurd t (by simp)⟩, Or.inl ⟨hlf0, rfl⟩, fun n hn e => ?_, fun v h1 h2 => ?_⟩
    · rw [List.mem_singleton.mp hp]
      exact ⟨by decide, hlf0, hnd0⟩
    · by_cases t : n = 0
      · exact Or.inl t
      · rw [ed, pk_un t] at e
        exact absurd e (by decide)
    · have : v = 0 := by omega
      subst this
      rw [if_pos (mv_l1 _)]
      omega
  refine ⟨0, 0, fun _ => [], Nat.le_refl _, by decide, Nat.le_refl _, ⟨fun _ => [], 0, [((-2000 : Int32), 0)], rfl, rfl, rfl, fun n hn => ⟨Nat.zero_le _, rfl, fun i x hx => absurd hx (by simp)⟩, hW, fun v h1 h2 => ?_, rfl, hC⟩, rfl, rfl, fun s hs => ⟨Nat.zero_le _, rfl, fun i x hx => absurd hx (by simp)⟩⟩
  have : v = 0 := by omega
  subst this
  exact ⟨0, rfl, mv_VOK_cur hW (by decide) hC⟩
end
section
/-! what is owed, a method each -/
theorem i_vc_put {k : Nat} {u : SX} {v : SY} (I : i_Rel k u v) (hk : k + 5 ≤ 2560) (v1 : Int32) (v2 : Int32) : wpX_put (fun r u' => wpY_put (fun r' v' => r' = r ∧ i_Rel (k + 5) u' v') v v1 v2) u v1 v2 := by
  obtain ⟨first, now, H, hfn, hn40, hnk, hX, hY⟩ := I
  have hnow : now < 4000 := by omega
  have hdis := (mv_XR_facts hX now hfn (Nat.le_refl _)).1
  have h28 := mv_YR_28 hY now hfn (Nat.le_refl _)
  have hrel : ∀ u', mv_XR first now H u' → i_Rel (k + 5) u' v := fun u' h => ⟨first, now, H, hfn, hn40, by omega, h, hY⟩
  refine mx_put (h := mv_nk v1 (H now) ++ [(v1, v2)]) hX hfn hnow hn40 hdis h28 (List.Perm.refl _) (fun hb => ?_) (fun a1 a2 hf => ?_) (fun a1 a2 hlt hno hl u' hX' => ?_) (fun a1 a2 hlt hc u' hX' => ?_)
  · exact my_put hY hfn hnow hn40 hdis (fun _ => ⟨rfl, hrel u hX⟩) (fun b1 b2 _ => mv_bad hb b1 b2) (fun b1 b2 _ _ _ => mv_bad hb b1 b2) (fun b1 b2 _ _ _ _ _ _ => mv_bad hb b1 b2)
  · exact my_put hY hfn hnow hn40 hdis (fun b => mv_bad b a1 a2) (fun _ _ _ => ⟨rfl, hrel u hX⟩) (fun _ _ c _ _ => absurd c (by omega)) (fun _ _ c _ _ _ _ _ => absurd c (by omega))
  · refine my_put hY hfn hnow hn40 hdis (fun b => mv_bad b a1 a2) (fun _ _ c => absurd c (by omega)) (fun _ _ _ _ _ => ⟨rfl, hrel u' hX'⟩) (fun _ _ _ c _ _ _ _ => ?_)
    rcases c with ⟨y, hy, e⟩ | c
    · exact absurd e (hno y hy)
    · exact absurd c.2 (by omega)
  · refine my_put hY hfn hnow hn40 hdis (fun b => mv_bad b a1 a2) (fun _ _ c => absurd c (by omega)) (fun _ _ _ hno hl => ?_) (fun _ _ _ _ h v' hp hY' => ⟨rfl, first, now + 1, _, by omega, by omega, by omega, mv_XR_perm hX' (fun w => ?_), hY'⟩)
    · rcases hc with ⟨y, hy, e⟩ | c
      · exact absurd e (hno y hy)
      · exact absurd c.2 (by omega)
    · by_cases e : w = now + 1
      · rw [if_pos e, if_pos e]; exact hp
      · rw [if_neg e, if_neg e]
theorem i_vc_erase {k : Nat} {u : SX} {v : SY} (I : i_Rel k u v) (hk : k + 5 ≤ 2560) (v1 : Int32) : wpX_erase (fun r u' => wpY_erase (fun r' v' => r' = r ∧ i_Rel (k + 5) u' v') v v1) u v1 := by
  obtain ⟨first, now, H, hfn, hn40, hnk, hX, hY⟩ := I
  have hnow : now < 4000 := by omega
  have hdis := (mv_XR_facts hX now hfn (Nat.le_refl _)).1
  have h28 := mv_YR_28 hY now hfn (Nat.le_refl _)
  have hrel : ∀ u', mv_XR first now H u' → i_Rel (k + 5) u' v := fun u' h => ⟨first, now, H, hfn, hn40, by omega, h, hY⟩
  have hcon : ∀ {P : Prop}, (∀ y ∈ H now, y.1 ≠ v1) → (∃ y ∈ H now, y.1 = v1) → P := fun h ⟨y, hy, e⟩ => absurd e (h y hy)
  refine mx_erase (h := mv_nk v1 (H now)) hX hfn hnow hn40 hdis h28 (List.Perm.refl _) (fun hb => ?_) (fun a1 a2 hno u' hX' => ?_) (fun a1 a2 hyes hf u' hX' => ?_) (fun a1 a2 hlt hyes u' hX' => ?_)
  · exact my_erase hY hfn hnow hn40 hdis (fun _ => ⟨rfl, hrel u hX⟩) (fun b1 b2 _ => mv_bad hb b1 b2) (fun b1 b2 _ _ => mv_bad hb b1 b2) (fun b1 b2 _ _ _ _ _ _ => mv_bad hb b1 b2)
  · exact my_erase hY hfn hnow hn40 hdis (fun b => mv_bad b a1 a2) (fun _ _ _ => ⟨rfl, hrel u' hX'⟩) (fun _ _ c _ => hcon hno c) (fun _ _ _ c _ _ _ _ => hcon hno c)
  · exact my_erase hY hfn hnow hn40 hdis (fun b => mv_bad b a1 a2) (fun _ _ c => hcon c hyes) (fun _ _ _ _ => ⟨rfl, hrel u' hX'⟩) (fun _ _ c _ _ _ _ _ => absurd c (by omega))
  · refine my_erase hY hfn hnow hn40 hdis (fun b => mv_bad b a1 a2) (fun _ _ c => hcon c hyes) (fun _ _ _ c => absurd c (by omega)) (fun _ _ _ _ h v' hp hY' => ⟨rfl, first, now + 1, _, by omega, by omega, by omega, mv_XR_perm hX' (fun w => ?_), hY'⟩)
    by_cases e : w = now + 1
    · rw [if_pos e, if_pos e]; exact hp
    · rw [if_neg e, if_neg e]
theorem i_vc_forget {k : Nat} {u : SX} {v : SY} (I : i_Rel k u v) (hk : k + 5 ≤ 2560) (v1 : Int32) : wpX_forget (fun r u' => wpY_forget (fun r' v' => r' = r ∧ i_Rel (k + 5) u' v') v v1) u v1 := by
  obtain ⟨first, now, H, hfn, hn40, hnk, hX, hY⟩ := I
  have hnow : now < 4000 := by omega
  refine mx_forget hX hfn hnow (fun hn => ?_) (fun j e h1 h2 u' hX' => ?_)
  · exact my_forget hY hfn hnow hn40 (fun _ => ⟨rfl, first, now, H, hfn, hn40, by omega, hX, hY⟩) (fun j e h1 h2 _ _ => absurd ⟨j, e, h1, h2⟩ hn)
  · refine my_forget hY hfn hnow hn40 (fun hn => absurd ⟨j, e, h1, h2⟩ hn) (fun j' e' h1' h2' v' hY' => ?_)
    have ej := mv_inj e e' (by omega) (by omega)
    subst ej
    exact ⟨rfl, j, now, H, h2, by omega, by omega, hX', hY'⟩
theorem i_vc_current {k : Nat} {u : SX} {v : SY} (I : i_Rel k u v) (hk : k + 5 ≤ 2560) : wpX_current (fun r => wpY_current (fun r' => r' = r ∧ i_Rel (k + 5) u v) v) u := by
  have I' := i_up I
  obtain ⟨first, now, H, hfn, hn40, hnk, hX, hY⟩ := I
  obtain ⟨f_now, f_first, f_keys, f_depth, f_pending, f_work, a_rootAt, a_inUse, a_leaf, a_used, a_nodeDied, a_key, a_val, a_born, a_died, a_pathNode, a_pathEntry, a_pendKey, a_pendVal, a_workKey, a_workVal, a_foundKey, a_foundVal, a_stack⟩ := u
  obtain ⟨f_oldest, f_current, a_keys, a_vals, a_sizes⟩ := v
  obtain ⟨G, r, Ch, x1, x2, x3, _⟩ := hX
  obtain ⟨y1, y2, _⟩ := hY
  exact And.intro (y2.trans x1.symm) I'
theorem i_vc_oldest {k : Nat} {u : SX} {v : SY} (I : i_Rel k u v) (hk : k + 5 ≤ 2560) : wpX_oldest (fun r => wpY_oldest (fun r' => r' = r ∧ i_Rel (k + 5) u v) v) u := by
  have I' := i_up I
  obtain ⟨first, now, H, hfn, hn40, hnk, hX, hY⟩ := I
  obtain ⟨f_now, f_first, f_keys, f_depth, f_pending, f_work, a_rootAt, a_inUse, a_leaf, a_used, a_nodeDied, a_key, a_val, a_born, a_died, a_pathNode, a_pathEntry, a_pendKey, a_pendVal, a_workKey, a_workVal, a_foundKey, a_foundVal, a_stack⟩ := u
  obtain ⟨f_oldest, f_current, a_keys, a_vals, a_sizes⟩ := v
  obtain ⟨G, r, Ch, x1, x2, x3, _⟩ := hX
  obtain ⟨y1, y2, _⟩ := hY
  exact And.intro (y1.trans x2.symm) I'
theorem i_vc_has {k : Nat} {u : SX} {v : SY} (I : i_Rel k u v) (hk : k + 5 ≤ 2560) (v1 : Int32) (v2 : Int32) : wpX_has (fun r => wpY_has (fun r' => r' = r ∧ i_Rel (k + 5) u v) v v1 v2) u v1 v2 := by
  have I' := i_up I
  obtain ⟨first, now, H, hfn, hn40, hnk, hX, hY⟩ := I
  have hnow : now < 4000 := by omega
  refine mx_has hX hfn hnow (fun j e h1 h2 hex => ?_) (fun hn => ?_) (fun j e h1 h2 hno => ?_)
  · refine my_has hY hfn hnow hn40 (fun _ _ _ _ _ => ⟨rfl, I'⟩) (fun hn => absurd ⟨j, e, h1, h2⟩ hn) (fun j' e' h1' h2' hno => ?_)
    have ej := mv_inj e e' (by omega) (by omega)
    subst ej
    obtain ⟨y, hy⟩ := hex
    exact absurd rfl (hno (v1, y) hy)
  · exact my_has hY hfn hnow hn40 (fun j e h1 h2 _ => absurd ⟨j, e, h1, h2⟩ hn) (fun _ => ⟨rfl, I'⟩) (fun _ _ _ _ _ => ⟨rfl, I'⟩)
  · refine my_has hY hfn hnow hn40 (fun j' e' h1' h2' hex => ?_) (fun _ => ⟨rfl, I'⟩) (fun _ _ _ _ _ => ⟨rfl, I'⟩)
    have ej := mv_inj e e' (by omega) (by omega)
    subst ej
    obtain ⟨y, hy⟩ := hex
    exact absurd rfl (hno (v1, y) hy)
theorem i_vc_get {k : Nat} {u : SX} {v : SY} (I : i_Rel k u v) (hk : k + 5 ≤ 2560) (v1 : Int32) (v2 : Int32) : wpX_get (fun r => wpY_get (fun r' => r' = r ∧ i_Rel (k + 5) u v) v v1 v2) u v1 v2 := by
  have I' := i_up I
  obtain ⟨first, now, H, hfn, hn40, hnk, hX, hY⟩ := I
  have hnow : now < 4000 := by omega
  refine mx_get hX hfn hnow (fun j y e h1 h2 hy => ?_) (fun hn => ?_) (fun j e h1 h2 hno => ?_)
  · refine my_get hY hfn hnow hn40 (fun j' y' e' h1' h2' hy' => ?_) (fun hn => absurd ⟨j, e, h1, h2⟩ hn) (fun j' e' h1' h2' hno => ?_)
    · have ej := mv_inj e e' (by omega) (by omega)
      subst ej
      exact ⟨mv_dis_uniq (mv_XR_facts hX j h1 h2).1 hy' hy, I'⟩
    · have ej := mv_inj e e' (by omega) (by omega)
      subst ej
      exact absurd rfl (hno (v1, y) hy)
  · exact my_get hY hfn hnow hn40 (fun j _ e h1 h2 _ => absurd ⟨j, e, h1, h2⟩ hn) (fun _ => ⟨rfl, I'⟩) (fun _ _ _ _ _ => ⟨rfl, I'⟩)
  · refine my_get hY hfn hnow hn40 (fun j' y' e' h1' h2' hy' => ?_) (fun _ => ⟨rfl, I'⟩) (fun _ _ _ _ _ => ⟨rfl, I'⟩)
    have ej := mv_inj e e' (by omega) (by omega)
    subst ej
    exact absurd rfl (hno (v1, y') hy')
theorem i_vc_count {k : Nat} {u : SX} {v : SY} (I : i_Rel k u v) (hk : k + 5 ≤ 2560) (v1 : Int32) (v2 : Int32) (v3 : Int32) : wpX_count (fun r u' => wpY_count (fun r' => r' = r ∧ i_Rel (k + 5) u' v) v v1 v2 v3) u v1 v2 v3 := by
  obtain ⟨first, now, H, hfn, hn40, hnk, hX, hY⟩ := I
  have hnow : now < 4000 := by omega
  have hrel : ∀ u', mv_XR first now H u' → i_Rel (k + 5) u' v := fun u' h => ⟨first, now, H, hfn, hn40, by omega, h, hY⟩
  refine mx_count hX hfn hnow (mv_YR_28 hY) (fun hn => ?_) (fun j u' e h1 h2 hX' => ?_)
  · exact my_count hY hfn hnow hn40 (fun _ => ⟨rfl, hrel u hX⟩) (fun j e h1 h2 => absurd ⟨j, e, h1, h2⟩ hn)
  · refine my_count hY hfn hnow hn40 (fun hn => absurd ⟨j, e, h1, h2⟩ hn) (fun j' e' h1' h2' => ?_)
    have ej := mv_inj e e' (by omega) (by omega)
    subst ej
    exact ⟨rfl, hrel u' hX'⟩
theorem i_vc_sum {k : Nat} {u : SX} {v : SY} (I : i_Rel k u v) (hk : k + 5 ≤ 2560) (v1 : Int32) (v2 : Int32) (v3 : Int32) : wpX_sum (fun r u' => wpY_sum (fun r' => r' = r ∧ i_Rel (k + 5) u' v) v v1 v2 v3) u v1 v2 v3 := by
  obtain ⟨first, now, H, hfn, hn40, hnk, hX, hY⟩ := I
  have hnow : now < 4000 := by omega
  have hrel : ∀ u', mv_XR first now H u' → i_Rel (k + 5) u' v := fun u' h => ⟨first, now, H, hfn, hn40, by omega, h, hY⟩
  refine mx_sum hX hfn hnow (mv_YR_28 hY) (fun hn => ?_) (fun j u' e h1 h2 hX' => ?_)
  · exact my_sum hY hfn hnow hn40 (fun _ => ⟨rfl, hrel u hX⟩) (fun j e h1 h2 => absurd ⟨j, e, h1, h2⟩ hn)
  · refine my_sum hY hfn hnow hn40 (fun hn => absurd ⟨j, e, h1, h2⟩ hn) (fun j' e' h1' h2' => ?_)
    have ej := mv_inj e e' (by omega) (by omega)
    subst ej
    exact ⟨rfl, hrel u' hX'⟩
theorem i_vc_next {k : Nat} {u : SX} {v : SY} (I : i_Rel k u v) (hk : k + 5 ≤ 2560) (v1 : Int32) (v2 : Int32) : wpX_next (fun r => wpY_next (fun r' => r' = r ∧ i_Rel (k + 5) u v) v v1 v2) u v1 v2 := by
  have I' := i_up I
  obtain ⟨first, now, H, hfn, hn40, hnk, hX, hY⟩ := I
  have hnow : now < 4000 := by omega
  have hr : ∀ j, first ≤ j → j ≤ now → ∀ y ∈ H j, y.1 ≤ 1000 := fun j h1 h2 y hy => ((mv_XR_facts hX j h1 h2).2 y hy).2
  refine mx_next hX hfn hnow (fun hn => ?_) (fun j a e h1 h2 ha => ?_)
  · exact my_next hY hfn hnow hn40 hr (fun _ => ⟨rfl, I'⟩) (fun j _ e h1 h2 _ => absurd ⟨j, e, h1, h2⟩ hn)
  · refine my_next hY hfn hnow hn40 hr (fun hn => absurd ⟨j, e, h1, h2⟩ hn) (fun j' a' e' h1' h2' ha' => ?_)
    have ej := mv_inj e e' (by omega) (by omega)
    subst ej
    exact ⟨mv_Nx_uniq ha' ha, I'⟩
theorem i_vc_keyAt {k : Nat} {u : SX} {v : SY} (I : i_Rel k u v) (hk : k + 5 ≤ 2560) (v1 : Int32) (v2 : Int32) : wpX_keyAt (fun r u' => wpY_keyAt (fun r' => r' = r ∧ i_Rel (k + 5) u' v) v v1 v2) u v1 v2 := by
  obtain ⟨first, now, H, hfn, hn40, hnk, hX, hY⟩ := I
  have hnow : now < 4000 := by omega
  have hrel : ∀ u', mv_XR first now H u' → i_Rel (k + 5) u' v := fun u' h => ⟨first, now, H, hfn, hn40, by omega, h, hY⟩
  refine mx_keyAt hX hfn hnow (mv_YR_28 hY) (fun hn => ?_) (fun j r u' e h1 h2 hr hX' => ?_)
  · exact my_keyAt hY hfn hnow hn40 (fun _ => ⟨rfl, hrel u hX⟩) (fun j _ e h1 h2 _ => absurd ⟨j, e, h1, h2⟩ hn)
  · refine my_keyAt hY hfn hnow hn40 (fun hn => absurd ⟨j, e, h1, h2⟩ hn) (fun j' r' e' h1' h2' hr' => ?_)
    have ej := mv_inj e e' (by omega) (by omega)
    subst ej
    exact ⟨mv_KA_uniq (mv_YR_28 hY j h1 h2) hr' hr, hrel u' hX'⟩
theorem i_vc_differ {k : Nat} {u : SX} {v : SY} (I : i_Rel k u v) (hk : k + 5 ≤ 2560) (v1 : Int32) (v2 : Int32) (v3 : Int32) (v4 : Int32) : wpX_differ (fun r u' => wpY_differ (fun r' => r' = r ∧ i_Rel (k + 5) u' v) v v1 v2 v3 v4) u v1 v2 v3 v4 := by
  obtain ⟨first, now, H, hfn, hn40, hnk, hX, hY⟩ := I
  have hnow : now < 4000 := by omega
  have hrel : ∀ u', mv_XR first now H u' → i_Rel (k + 5) u' v := fun u' h => ⟨first, now, H, hfn, hn40, by omega, h, hY⟩
  have hdis : ∀ j, first ≤ j → j ≤ now → mv_Dis (H j) := fun j h1 h2 => (mv_XR_facts hX j h1 h2).1
  refine mx_differ hX hfn hnow (mv_YR_28 hY) (fun hn => ?_) (fun j j2 u' e h1 h2 e2 h3 h4 hX' => ?_)
  · exact my_differ hY hfn hnow hn40 hdis (fun _ => ⟨rfl, hrel u hX⟩) (fun j j2 e h1 h2 e2 h3 h4 => absurd ⟨⟨j, e, h1, h2⟩, ⟨j2, e2, h3, h4⟩⟩ hn)
  · refine my_differ hY hfn hnow hn40 hdis (fun hn => absurd ⟨⟨j, e, h1, h2⟩, ⟨j2, e2, h3, h4⟩⟩ hn) (fun j' j2' e' h1' h2' e2' h3' h4' => ?_)
    have ej := mv_inj e e' (by omega) (by omega)
    have ej2 := mv_inj e2 e2' (by omega) (by omega)
    subst ej ej2
    exact ⟨rfl, hrel u' hX'⟩
theorem i_vc_since {k : Nat} {u : SX} {v : SY} (I : i_Rel k u v) (hk : k + 5 ≤ 2560) (v1 : Int32) : wpX_since (fun r => wpY_since (fun r' => r' = r ∧ i_Rel (k + 5) u v) v v1) u v1 := by
  have I' := i_up I
  obtain ⟨first, now, H, hfn, hn40, hnk, hX, hY⟩ := I
  have hnow : now < 4000 := by omega
  have hdis : ∀ j, first ≤ j → j ≤ now → mv_Dis (H j) := fun j h1 h2 => (mv_XR_facts hX j h1 h2).1
  refine mx_since hX hfn hnow (fun hno => ?_) (fun y a hy h1 h2 h3 h4 => ?_)
  · exact my_since hY hfn hnow hn40 hdis (fun _ => ⟨rfl, I'⟩) (fun y _ hy _ _ _ _ => absurd rfl (hno (v1, y) hy))
  · refine my_since hY hfn hnow hn40 hdis (fun hno => absurd rfl (hno (v1, y) hy)) (fun y' a' hy' h1' h2' h3' h4' => ?_)
    have ey : y' = y := mv_dis_uniq (hdis now hfn (Nat.le_refl _)) hy' hy
    subst ey
    have ea : a' = a := by
      rcases Nat.lt_trichotomy a a' with c | c | c
      · rcases h4' with t | t
        · omega
        · exact absurd (h3 (a' - 1) (by omega) (by omega)) t
      · exact c.symm
      · rcases h4 with t | t
        · omega
        · exact absurd (h3' (a - 1) (by omega) (by omega)) t
    subst ea
    exact ⟨rfl, I'⟩
end
