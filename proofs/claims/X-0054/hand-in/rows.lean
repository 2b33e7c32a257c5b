section
/-! numbers and stores (the first rows are pasted from the rows to paste) -/
theorem pk_us {f : Nat → Int32} {k : Nat} {x : Int32} : upd f k x k = x := if_pos rfl
theorem pk_un {f : Nat → Int32} {k j : Nat} {x : Int32} (h : j ≠ k) : upd f k x j = f j := if_neg h
theorem pk_sub {a b : Nat} (h : b ≤ a) : nI a - nI b = nI (a - b) := by
  obtain ⟨c, rfl⟩ : ∃ c, a = c + b := ⟨a - b, by omega⟩
  rw [← nI_add, Int32.add_sub_cancel, Nat.add_sub_cancel]
theorem pk_mul (a b : Nat) : nI a * nI b = nI (a * b) := (Int32.ofNat_mul a b).symm
theorem pk_div {a d : Nat} (ha : a < 2 ^ 31) (h0 : 0 < d) (hd : d < 2 ^ 31) : nI a / nI d = nI (a / d) := by
  apply Int32.toInt_inj.mp
  rw [lg_idiv_nonneg (by rw [nI_toInt ha]; omega) (by rw [nI_toInt hd]; omega), nI_toInt ha, nI_toInt hd, nI_toInt (Nat.lt_of_le_of_lt (Nat.div_le_self a d) ha)]
  first | rfl | exact (Int.natCast_ediv _ _).symm
theorem pk_rem {a d : Nat} (ha : a < 2 ^ 31) (h0 : 0 < d) (hd : d < 2 ^ 31) : nI a - nI a / nI d * nI d = nI (a % d) := by
  rw [pk_div ha h0 hd, pk_mul, pk_sub (Nat.div_mul_le_self a d)]
  exact congrArg nI (by have := Nat.div_add_mod' a d; omega)
theorem pk_ix (x : Int32) {n : Nat} (hn : n < 2 ^ 31) : x < 0 ∨ nI n ≤ x ∨ ∃ j : Nat, j < n ∧ x = nI j := by
  by_cases h : x < 0
  · exact Or.inl h
  · obtain ⟨j, hj, rfl⟩ := nI_of h
    by_cases h2 : j < n
    · exact Or.inr (Or.inr ⟨j, h2, rfl⟩)
    · exact Or.inr (Or.inl (nI_le (by omega) hj))
theorem pk_le {x y : Int32} {A B : Prop} (a b : Nat) (f : a ≤ b → A) (g : b < a → B) (hx : x = nI a := by rfl) (hy : y = nI b := by rfl) (ha : a < 2 ^ 31 := by omega) (hb : b < 2 ^ 31 := by omega) : (x ≤ y → A) ∧ (¬ x ≤ y → B) := by
  subst hx hy
  rw [nI_leI ha hb]
  exact ⟨f, fun z => g (by omega)⟩
theorem pk_lt {x y : Int32} {A B : Prop} (a b : Nat) (f : a < b → A) (g : b ≤ a → B) (hx : x = nI a := by rfl) (hy : y = nI b := by rfl) (ha : a < 2 ^ 31 := by omega) (hb : b < 2 ^ 31 := by omega) : (x < y → A) ∧ (¬ x < y → B) := by
  subst hx hy
  rw [nI_ltI ha hb]
  exact ⟨f, fun z => g (by omega)⟩
theorem pk_eq {x y : Int32} {A B : Prop} (a b : Nat) (f : a = b → A) (g : a ≠ b → B) (hx : x = nI a := by rfl) (hy : y = nI b := by rfl) (ha : a < 2 ^ 31 := by omega) (hb : b < 2 ^ 31 := by omega) : (x = y → A) ∧ (¬ x = y → B) := by
  subst hx hy
  rw [nI_eq ha hb]
  exact ⟨f, g⟩
theorem pk_in {x : Int32} (n N : Nat) (h : n < N) (hx : x = nI n := by rfl) (hN : N < 2 ^ 31 := by omega) : vp_in x N := by
  subst hx
  exact vp_in_nI h hN
theorem pk_cl {x : Int32} (n : Nat) (hx : x = nI n := by rfl) (h : n < 2 ^ 31 := by omega) : x.toNatClampNeg = n := by
  subst hx
  exact nI_clamp h
/-! own rows -/
theorem po_b0 : vp_nar .boolean 0 = 0 := by decide
theorem po_b1 : vp_nar .boolean 1 = 1 := by decide
theorem po_n4 : ¬ (4 : Int32) = 0 := by decide
theorem po_n3 : ¬ (3 : Int32) = 0 := by decide
theorem po_n16 : ¬ (16 : Int32) = 0 := by decide
theorem po_n10 : ¬ (1 : Int32) = 0 := by decide
theorem po_m1 : ¬ (0 : Int32) ≤ -1 := by decide
theorem po_m1l : (-1 : Int32) < 0 := by decide
theorem po_m4 (a : Nat) : nI a * 4 = nI (a * 4) := pk_mul a 4
theorem po_m3 (a : Nat) : nI a * 3 = nI (a * 3) := pk_mul a 3
theorem po_m6 (a : Nat) : nI a * 6 = nI (a * 6) := pk_mul a 6
theorem po_m8 (a : Nat) : nI a * 8 = nI (a * 8) := pk_mul a 8
theorem po_m2 (a : Nat) : nI a * 2 = nI (a * 2) := pk_mul a 2
theorem po_4m (a : Nat) : 4 * nI a = nI (4 * a) := pk_mul 4 a
theorem po_16m (a : Nat) : 16 * nI a = nI (16 * a) := pk_mul 16 a
theorem po_2m (a : Nat) : 2 * nI a = nI (2 * a) := pk_mul 2 a
theorem po_3m (a : Nat) : 3 * nI a = nI (3 * a) := pk_mul 3 a
theorem po_6m (a : Nat) : 6 * nI a = nI (6 * a) := pk_mul 6 a
theorem po_a0 (a : Nat) : nI a + 0 = nI a := nI_add a 0
theorem po_a1 (a : Nat) : nI a + 1 = nI (a + 1) := nI_add a 1
theorem po_a2 (a : Nat) : nI a + 2 = nI (a + 2) := nI_add a 2
theorem po_a3 (a : Nat) : nI a + 3 = nI (a + 3) := nI_add a 3
theorem po_4a (a : Nat) : 4 + nI a = nI (4 + a) := nI_add 4 a
theorem po_20a (a : Nat) : 20 + nI a = nI (20 + a) := nI_add 20 a
theorem po_d4 {a : Nat} (h : a < 2 ^ 31) : nI a / 4 = nI (a / 4) := pk_div h (d := 4) (by decide) (by decide)
theorem po_d16 {a : Nat} (h : a < 2 ^ 31) : nI a / 16 = nI (a / 16) := pk_div h (d := 16) (by decide) (by decide)
theorem po_d3 {a : Nat} (h : a < 2 ^ 31) : nI a / 3 = nI (a / 3) := pk_div h (d := 3) (by decide) (by decide)
theorem po_r16 {a : Nat} (h : a < 2 ^ 31) : nI a - nI a / 16 * 16 = nI (a % 16) := pk_rem h (d := 16) (by decide) (by decide)
theorem po_r3 {a : Nat} (h : a < 2 ^ 31) : nI a - nI a / 3 * 3 = nI (a % 3) := pk_rem h (d := 3) (by decide) (by decide)
theorem po_nm {a : Nat} (h : a < 2 ^ 31) : ¬ nI a = -1 := by
  intro e
  have := nI_pos (n := a) h
  rw [e] at this
  exact this po_m1l
theorem po_e0 {a : Nat} (h : a < 2 ^ 31) : nI a = 0 ↔ a = 0 := nI_eq (b := 0) h (by decide)
theorem po_e1 {a : Nat} (h : a < 2 ^ 31) : nI a = 1 ↔ a = 1 := nI_eq (b := 1) h (by decide)
theorem po_e2 {a : Nat} (h : a < 2 ^ 31) : nI a = 2 ↔ a = 2 := nI_eq (b := 2) h (by decide)
theorem po_e3 {a : Nat} (h : a < 2 ^ 31) : nI a = 3 ↔ a = 3 := nI_eq (b := 3) h (by decide)
theorem po_in {v : Int32} {n : Nat} (hn : n < 2 ^ 31) : (∃ j, j < n ∧ v = nI j) ∨ (v < 0 ∨ ¬ v < nI n) := by
  rcases pk_ix v hn with h | h | h
  · exact Or.inr (Or.inl h)
  · exact Or.inr (Or.inr (Int32.not_lt.mpr h))
  · exact Or.inl h
/-! runs of writes -/
def po_wr (f : Nat → Int32) (a : Nat) (g : Nat → Int32) (l : Nat) : Nat → Int32 := fun j => if a ≤ j ∧ j < a + l then g (j - a) else f j
theorem po_wr0 {f g : Nat → Int32} {a : Nat} : po_wr f a g 0 = f := by
  funext j
  exact if_neg (by omega)
theorem po_wrs {f g : Nat → Int32} {a k : Nat} : upd (po_wr f a g k) (a + k) (g k) = po_wr f a g (k + 1) := by
  funext j
  unfold upd po_wr
  by_cases h : j = a + k
  · rw [if_pos h, if_pos (by omega), h, Nat.add_sub_cancel_left]
  · rw [if_neg h]
    by_cases h2 : a ≤ j ∧ j < a + k
    · rw [if_pos h2, if_pos (by omega)]
    · rw [if_neg h2, if_neg (by omega)]
theorem po_wrc {f g g' : Nat → Int32} {a l : Nat} (h : ∀ k, k < l → g k = g' k) : po_wr f a g l = po_wr f a g' l := by
  funext j
  unfold po_wr
  by_cases h2 : a ≤ j ∧ j < a + l
  · rw [if_pos h2, if_pos h2, h _ (by omega)]
  · rw [if_neg h2, if_neg h2]
theorem po_wri {f g : Nat → Int32} {a k l : Nat} (h : k < l) : po_wr f a g l (a + k) = g k := by
  unfold po_wr
  rw [if_pos (by omega), Nat.add_sub_cancel_left]
theorem po_wro {f g : Nat → Int32} {a j l : Nat} (h : j < a ∨ a + l ≤ j) : po_wr f a g l j = f j := if_neg (by omega)
/-! sums -/
def po_zs (f : Nat → Int32) : Nat → Int32
  | 0 => 0
  | n + 1 => po_zs f n + f n
theorem po_zc {f g : Nat → Int32} : ∀ n, (∀ x, x < n → f x = g x) → po_zs f n = po_zs g n
  | 0, _ => rfl
  | n + 1, h => by
    show po_zs f n + f n = po_zs g n + g n
    rw [po_zc n (fun x hx => h x (by omega)), h n (by omega)]
theorem po_zu {f g : Nat → Int32} {s : Nat} {c : Int32} (h : ∀ x, x ≠ s → g x = f x) (hc : g s = f s + c) : ∀ n, s < n → po_zs g n = po_zs f n + c
  | 0, hn => by omega
  | n + 1, hn => by
    show po_zs g n + g n = po_zs f n + f n + c
    by_cases e : n = s
    · subst e
      rw [hc, po_zc n (fun x hx => h x (by omega))]
      grind
    · rw [po_zu h hc n (by omega), h n e]
      grind
theorem po_zu' {f g : Nat → Int32} {s : Nat} {c : Int32} (h : ∀ x, x ≠ s → g x = f x) (hc : f s = g s + c) {n : Nat} (hn : s < n) : po_zs g n = po_zs f n - c := by
  have := po_zu (f := g) (g := f) (s := s) (c := c) (fun x hx => (h x hx).symm) hc n hn
  grind
/-! lists -/
def po_hI : List Nat → Int32
  | [] => -1
  | x :: _ => nI x
def po_lI (l : List Nat) : Int32 := po_hI l.reverse
theorem po_lI0 : po_lI [] = -1 := rfl
theorem po_lIc (l : List Nat) (x : Nat) : po_lI (l ++ [x]) = nI x := by
  unfold po_lI
  rw [List.reverse_append]
  rfl
theorem po_hIa (l m : List Nat) (x : Nat) : po_hI (x :: l ++ m) = nI x := rfl
theorem po_lIa (l m : List Nat) (x : Nat) : po_lI (l ++ (m ++ [x])) = nI x := by
  rw [← List.append_assoc]; exact po_lIc _ _
theorem po_lIe {A C : List Nat} (h : C ≠ []) : po_lI (A ++ C) = po_lI C := by
  rcases List.eq_nil_or_concat C with e | ⟨C', b, e⟩
  · exact absurd e h
  · rw [List.concat_eq_append] at e
    rw [e, po_lIa, po_lIc]
theorem po_hIe {A C : List Nat} (h : A ≠ []) : po_hI (A ++ C) = po_hI A := by
  cases A with
  | nil => exact absurd rfl h
  | cons x A => rfl
theorem po_len {L : List Nat} {n : Nat} (hd : L.Nodup) (h : ∀ x, x ∈ L → x < n) : L.length ≤ n := by
  have h2 : L ⊆ List.range n := fun x hx => List.mem_range.mpr (h x hx)
  have := List.Nodup.length_le_of_subset hd h2
  rw [List.length_range] at this
  exact this
theorem po_len' {L : List Nat} {n s : Nat} (hd : L.Nodup) (h : ∀ x, x ∈ L → x < n) (hs : s < n) (hn : s ∉ L) : L.length < n := by
  have h1 : (s :: L).Nodup := List.nodup_cons.mpr ⟨hn, hd⟩
  have := po_len (L := s :: L) (n := n) h1 (by
    intro x hx
    rcases List.mem_cons.mp hx with e | e
    · omega
    · exact h x e)
  exact this
def po_rm (s : Nat) (L : List Nat) : List Nat := L.filter (fun x => decide (x ≠ s))
theorem po_rm_m {s x : Nat} {L : List Nat} : x ∈ po_rm s L ↔ x ∈ L ∧ x ≠ s := by
  unfold po_rm
  rw [List.mem_filter, decide_eq_true_eq]
theorem po_rm_n {s : Nat} {L : List Nat} (h : s ∉ L) : po_rm s L = L := by
  unfold po_rm
  refine List.filter_eq_self.mpr fun a ha => ?_
  exact decide_eq_true (fun e => h (e ▸ ha))
theorem po_rm_a {s : Nat} {A C : List Nat} : po_rm s (A ++ C) = po_rm s A ++ po_rm s C := List.filter_append ..
theorem po_rm_c {s : Nat} {C : List Nat} : po_rm s (s :: C) = po_rm s C := by
  unfold po_rm
  exact List.filter_cons_of_neg (by simp)
theorem po_rm_c' {s x : Nat} {C : List Nat} (h : x ≠ s) : po_rm s (x :: C) = x :: po_rm s C := by
  unfold po_rm
  exact List.filter_cons_of_pos (decide_eq_true h)
theorem po_rm_l {s : Nat} {A : List Nat} : (po_rm s A).length ≤ A.length := List.length_filter_le ..
theorem po_rm_s {s : Nat} {A C : List Nat} (hA : s ∉ A) (hC : s ∉ C) : po_rm s (A ++ s :: C) = A ++ C := by
  rw [po_rm_a, po_rm_c, po_rm_n hA, po_rm_n hC]
theorem po_nd {A C : List Nat} {s : Nat} (h : (A ++ s :: C).Nodup) : s ∉ A ∧ s ∉ C ∧ A.Nodup ∧ C.Nodup ∧ (A ++ C).Nodup := by
  have h1 := List.nodup_append.mp h
  have h2 := List.nodup_cons.mp h1.2.1
  refine ⟨fun hm => h1.2.2 s hm s (List.mem_cons_self ..) rfl, h2.1, h1.1, h2.2, ?_⟩
  exact List.nodup_append.mpr ⟨h1.1, h2.2, fun a ha b hb => h1.2.2 a ha b (List.mem_cons_of_mem _ hb)⟩
end
section
/-! the doubly linked queues, pure -/
def po_DL (qu nx pv hd tl : Nat → Int32) (Q : Nat → List Nat) : Prop :=
  (∀ q, q < 24 → (Q q).Nodup ∧ hd q = po_hI (Q q) ∧ tl q = po_lI (Q q) ∧ (∀ x, x ∈ Q q → x < 24 ∧ qu x = nI q) ∧ ∀ A x C, Q q = A ++ x :: C → nx x = po_hI C ∧ pv x = po_lI A)
  ∧ ∀ x, x < 24 → (∀ q, q < 24 → x ∉ Q q) → qu x = -1
section QU
variable {qu nx pv hd tl qu' nx' pv' hd' tl' : Nat → Int32} {Q Q' : Nat → List Nat} {q s : Nat}
theorem po_DLq (D : po_DL qu nx pv hd tl Q) {k x : Nat} (hk : k < 24) (hx : x ∈ Q k) (hq : q < 24) (hy : x ∈ Q q) : k = q := by
  have h1 := ((D.1 k hk).2.2.2.1 x hx).2
  have h2 := ((D.1 q hq).2.2.2.1 x hy).2
  exact (nI_eq (by omega) (by omega)).mp (h1.symm.trans h2)
theorem po_DLc (D : po_DL qu nx pv hd tl Q) (h : ∀ q, q < 24 → Q' q = Q q) : po_DL qu nx pv hd tl Q' := by
  refine ⟨fun q hq => ?_, fun x hx hn => D.2 x hx fun q hq => ?_⟩
  · rw [h q hq]; exact D.1 q hq
  · rw [← h q hq]; exact hn q hq
/-- a slot is put at the end of a queue -/
theorem po_DLe (D : po_DL qu nx pv hd tl Q) (hs : s < 24) (hq : q < 24) (hn : ∀ k, k < 24 → s ∉ Q k)
    (eq1 : qu' s = nI q) (eq2 : ∀ x, x ≠ s → qu' x = qu x)
    (eh1 : hd' q = po_hI (Q q ++ [s])) (eh2 : ∀ k, k ≠ q → hd' k = hd k)
    (et1 : tl' q = nI s) (et2 : ∀ k, k ≠ q → tl' k = tl k)
    (ep1 : pv' s = po_lI (Q q)) (ep2 : ∀ x, x ≠ s → pv' x = pv x)
    (en1 : nx' s = -1) (en2 : ∀ A x, Q q = A ++ [x] → nx' x = nI s) (en3 : ∀ x, x ≠ s → (∀ A, Q q ≠ A ++ [x]) → nx' x = nx x) :
    po_DL qu' nx' pv' hd' tl' (fun k => if k = q then Q k ++ [s] else Q k) := by
  refine ⟨fun k hk => ?_, fun x hx hn' => ?_⟩
  · by_cases e : k = q
    · subst e
      dsimp only
      rw [if_pos rfl]
      obtain ⟨d1, d2, d3, d4, d5⟩ := D.1 k hk
      refine ⟨?_, eh1, ?_, ?_, ?_⟩
      · refine List.nodup_append.mpr ⟨d1, by simp, fun a ha b hb => ?_⟩
        intro e
        have : b = s := by simpa using hb
        exact hn k hk (this ▸ e ▸ ha)
      · rw [et1, po_lIc]
      · intro x hx
        rcases List.mem_append.mp hx with h | h
        · have hne : x ≠ s := fun e => hn k hk (e ▸ h)
          exact ⟨(d4 x h).1, (eq2 x hne).trans (d4 x h).2⟩
        · have : x = s := by simpa using h
          subst this
          exact ⟨hs, eq1⟩
      · intro A x C hE
        rcases List.eq_nil_or_concat C with e | ⟨C', b, e⟩
        · subst e
          have h2 := List.append_inj' hE rfl
          have hx : s = x := by simpa using h2.2
          subst hx
          rw [← h2.1]
          exact ⟨en1, ep1⟩
        · rw [List.concat_eq_append] at e
          subst e
          have h1 : Q k ++ [s] = (A ++ x :: C') ++ [b] := by rw [hE]; simp
          have h2 := List.append_inj' h1 rfl
          have hb : s = b := by simpa using h2.2
          subst hb
          have hxm : x ∈ Q k := by rw [h2.1]; simp
          have hne : x ≠ s := fun e => hn k hk (e ▸ hxm)
          obtain ⟨f1, f2⟩ := d5 A x C' h2.1
          refine ⟨?_, (ep2 x hne).trans f2⟩
          cases C' with
          | nil => exact en2 A x h2.1
          | cons c C' =>
            rw [en3 x hne, f1]
            · rfl
            · intro A' hA
              have h3 := h2.1.symm.trans hA
              have h4 : (A ++ x :: c :: C').Nodup := h2.1 ▸ d1
              have h5 := po_nd h4
              have h6 : x ∈ c :: C' := by
                rcases List.eq_nil_or_concat (c :: C') with e | ⟨C2, z, e⟩
                · simp at e
                · rw [List.concat_eq_append] at e
                  rw [e, ← List.cons_append, ← List.append_assoc] at h3
                  have h7 := (List.append_inj' h3 rfl).2
                  have h8 : z = x := by simpa using h7
                  rw [e, h8]; simp
              exact h5.2.1 h6
    · dsimp only
      rw [if_neg e]
      obtain ⟨d1, d2, d3, d4, d5⟩ := D.1 k hk
      have hne : ∀ x, x ∈ Q k → x ≠ s := fun x hx e => hn k hk (e ▸ hx)
      refine ⟨d1, (eh2 k e).trans d2, (et2 k e).trans d3, fun x hx => ⟨(d4 x hx).1, (eq2 x (hne x hx)).trans (d4 x hx).2⟩, fun A x C hE => ?_⟩
      have hx : x ∈ Q k := by rw [hE]; simp
      rw [en3 x (hne x hx), ep2 x (hne x hx)]
      · exact d5 A x C hE
      · intro A' hA
        exact e (po_DLq D hk hx hq (by rw [hA]; simp))
  · have h1 := hn' q hq
    simp only [if_true] at h1
    have hne : x ≠ s := fun e => h1 (by rw [e]; simp)
    rw [eq2 x hne]
    refine D.2 x hx fun k hk hm => ?_
    have h2 := hn' k hk
    dsimp only at h2
    by_cases e : k = q
    · rw [if_pos e] at h2
      exact h2 (List.mem_append.mpr (Or.inl hm))
    · rw [if_neg e] at h2
      exact h2 hm
/-- a slot is taken out of its queue -/
theorem po_DLd {A C : List Nat} (D : po_DL qu nx pv hd tl Q) (hs : s < 24) (hq : q < 24) (hE : Q q = A ++ s :: C)
    (eq1 : qu' s = -1) (eq2 : ∀ x, x ≠ s → qu' x = qu x)
    (eh1 : hd' q = po_hI (A ++ C)) (eh2 : ∀ k, k ≠ q → hd' k = hd k)
    (et1 : tl' q = po_lI (A ++ C)) (et2 : ∀ k, k ≠ q → tl' k = tl k)
    (en1 : ∀ A' x, A = A' ++ [x] → nx' x = po_hI C) (en2 : ∀ x, x ≠ s → (∀ A', A ≠ A' ++ [x]) → nx' x = nx x)
    (ep1 : ∀ C' x, C = x :: C' → pv' x = po_lI A) (ep2 : ∀ x, x ≠ s → (∀ C', C ≠ x :: C') → pv' x = pv x) :
    po_DL qu' nx' pv' hd' tl' (fun k => if k = q then A ++ C else Q k) := by
  obtain ⟨d1, d2, d3, d4, d5⟩ := D.1 q hq
  have hnd := po_nd (hE ▸ d1)
  obtain ⟨n1, n2, n3, n4, n5⟩ := hnd
  have hin : ∀ x, x ∈ A ++ C → x ∈ Q q ∧ x ≠ s := by
    intro x hx
    rcases List.mem_append.mp hx with h | h
    · exact ⟨by rw [hE]; simp [h], fun e => n1 (e ▸ h)⟩
    · exact ⟨by rw [hE]; simp [h], fun e => n2 (e ▸ h)⟩
  refine ⟨fun k hk => ?_, fun x hx hn' => ?_⟩
  · by_cases e : k = q
    · subst e
      dsimp only
      rw [if_pos rfl]
      refine ⟨n5, eh1, et1, fun x hx => ?_, fun A1 x C1 h => ?_⟩
      · have := hin x hx
        exact ⟨(d4 x this.1).1, (eq2 x this.2).trans (d4 x this.1).2⟩
      · have hx : x ∈ A ++ C := by rw [h]; simp
        have hxs := (hin x hx).2
        rcases List.append_eq_append_iff.mp h with ⟨T, h1, h2⟩ | ⟨T, h1, h2⟩
        · -- A1 = A ++ T, C = T ++ x :: C1
          have g := d5 (A ++ s :: T) x C1 (by rw [hE, h2]; simp)
          have hxC : x ∈ C := by rw [h2]; simp
          have hxA : ∀ A', A ≠ A' ++ [x] := by
            intro A' hA
            have hm : x ∈ A := by rw [hA]; simp
            have := (List.nodup_append.mp n5).2.2 x hm x hxC
            exact this rfl
          refine ⟨(en2 x hxs hxA).trans g.1, ?_⟩
          cases T with
          | nil =>
            rw [h1, List.append_nil]
            exact ep1 C1 x h2
          | cons t T =>
            have hxt : ∀ C', C ≠ x :: C' := by
              intro C' hC
              rw [hC] at h2
              have h3 : x = t := (List.cons.inj h2).1
              have h4 : C' = T ++ x :: C1 := (List.cons.inj h2).2
              have h5 : (x :: C').Nodup := hC ▸ n4
              exact (List.nodup_cons.mp h5).1 (by rw [h4]; simp)
            rw [ep2 x hxs hxt, g.2, h1]
            rw [po_lIe (by simp), po_lIe (by simp)]
            exact (po_lIe (A := [s]) (C := t :: T) (by simp))
        · -- A = A1 ++ T, x :: C1 = T ++ C
          cases T with
          | nil =>
            rw [List.append_nil] at h1
            rw [List.nil_append] at h2
            have hC : C = x :: C1 := h2.symm
            have g := d5 (A ++ [s]) x C1 (by rw [hE, hC]; simp)
            have hxA : ∀ A', A ≠ A' ++ [x] := by
              intro A' hA
              have hm : x ∈ A := by rw [hA]; simp
              exact (List.nodup_append.mp n5).2.2 x hm x (by rw [hC]; simp) rfl
            refine ⟨(en2 x hxs hxA).trans g.1, ?_⟩
            rw [← h1]
            exact ep1 C1 x hC
          | cons t T =>
            have ht : x = t := (List.cons.inj h2).1
            have hT : C1 = T ++ C := (List.cons.inj h2).2
            subst ht
            have g := d5 A1 x (T ++ s :: C) (by rw [hE, h1]; simp)
            have hxC : ∀ C', C ≠ x :: C' := by
              intro C' hC
              have hm : x ∈ A := by rw [h1]; simp
              exact (List.nodup_append.mp n5).2.2 x hm x (by rw [hC]; simp) rfl
            refine ⟨?_, (ep2 x hxs hxC).trans g.2⟩
            cases T with
            | nil =>
              rw [hT, List.nil_append]
              exact en1 A1 x h1
            | cons t T =>
              have hxA : ∀ A', A ≠ A' ++ [x] := by
                intro A' hA
                rw [h1] at hA
                rcases List.eq_nil_or_concat (t :: T) with e | ⟨C2, z, e⟩
                · simp at e
                · rw [List.concat_eq_append] at e
                  have hA2 : (A1 ++ x :: C2) ++ [z] = A' ++ [x] := by rw [← hA, e]; simp
                  have h8 : z = x := by simpa using (List.append_inj' hA2 rfl).2
                  have h9 : (A1 ++ x :: (t :: T)).Nodup := h1 ▸ n3
                  exact (po_nd h9).2.1 (by rw [e, h8]; simp)
              rw [en2 x hxs hxA, g.1, hT]
              rfl
    · dsimp only
      rw [if_neg e]
      obtain ⟨c1, c2, c3, c4, c5⟩ := D.1 k hk
      have hne : ∀ x, x ∈ Q k → x ∉ Q q := fun x hx hy => e (po_DLq D hk hx hq hy)
      have hns : ∀ x, x ∈ Q k → x ≠ s := fun x hx e' => hne x hx (by rw [hE, e']; simp)
      refine ⟨c1, (eh2 k e).trans c2, (et2 k e).trans c3, fun x hx => ⟨(c4 x hx).1, (eq2 x (hns x hx)).trans (c4 x hx).2⟩, fun A1 x C1 h => ?_⟩
      have hx : x ∈ Q k := by rw [h]; simp
      rw [en2 x (hns x hx), ep2 x (hns x hx)]
      · exact c5 A1 x C1 h
      · intro C' hC
        exact hne x hx (by rw [hE, hC]; simp)
      · intro A' hA
        exact hne x hx (by rw [hE, hA]; simp)
  · by_cases e : x = s
    · rw [e]; exact eq1
    · rw [eq2 x e]
      refine D.2 x hx fun k hk hm => ?_
      have h2 := hn' k hk
      dsimp only at h2
      by_cases e2 : k = q
      · rw [if_pos e2] at h2
        rw [e2, hE] at hm
        apply h2
        rcases List.mem_append.mp hm with h | h
        · exact List.mem_append.mpr (Or.inl h)
        · rcases List.mem_cons.mp h with h | h
          · exact absurd h e
          · exact List.mem_append.mpr (Or.inr h)
      · rw [if_neg e2] at h2
        exact h2 hm
end QU
end
section
/-! the relation's parts -/
def po_pk1 (P : Nat) (k p i t g a l : Int32) : Prop := ∃ k' p' i' t' g' a' l' : Nat, k = nI k' ∧ p = nI p' ∧ i = nI i' ∧ t = nI t' ∧ g = nI g' ∧ a = nI a' ∧ l = nI l' ∧ k' < 3 ∧ p' < 4 ∧ i' < 4 * P ∧ t' < P ∧ g' < 4 ∧ a' + l' ≤ 64 ∧ 1 ≤ l' ∧ l' ≤ 8 ∧ (k' ≠ 1 → l' ≤ 4) ∧ (p' = 3 → k' = 1)
def po_PK (P : Nat) (us kd pl ii tg ta st ln : Nat → Int32) : Prop := ∀ s, s < 24 → us s ≠ 0 → po_pk1 P (kd s) (pl s) (ii s) (tg s) (ta s) (st s) (ln s)
def po_q (pl ii tg : Nat → Int32) (x : Nat) : Nat := if pl x = 0 then (ii x).toNatClampNeg / 4 else if pl x = 1 then 4 + (ii x).toNatClampNeg / 4 * 4 + (tg x).toNatClampNeg else 20 + (tg x).toNatClampNeg
def po_Qf (pl ii tg : Nat → Int32) (L : List Nat) : Nat → List Nat := fun q => L.filter (fun x => decide (po_q pl ii tg x = q))
def po_lk (li : Nat → Int32) (L : List Nat) : Prop := ∀ i x, L[i]? = some x → li i = nI x
def po_LN (us pl li : Nat → Int32) (L : List Nat) : Prop := L.Nodup ∧ (∀ x, x ∈ L ↔ x < 24 ∧ us x ≠ 0 ∧ pl x ≠ 3) ∧ po_lk li L
def po_SV (P : Nat) (us pl tg sv : Nat → Int32) : Prop := ∀ p, p < P → (sv p = -1 ∧ ∀ s, s < 24 → us s ≠ 0 → pl s = 3 → tg s ≠ nI p) ∨ ∃ s, s < 24 ∧ sv p = nI s ∧ us s ≠ 0 ∧ pl s = 3 ∧ tg s = nI p ∧ ∀ x, x < 24 → us x ≠ 0 → pl x = 3 → tg x = nI p → x = s
def po_co (u : Nat) (kd ln : Nat → Int32) (s : Nat) : Int32 := if u = 0 then 1 else if kd s = 1 then 0 else ln s
def po_ct (P : Nat) (us kd pl ii tg ln : Nat → Int32) (l k u : Nat) (s : Nat) : Int32 := if us s ≠ 0 ∧ kd s = nI k ∧ ((pl s = 1 ∧ ii s / 4 = nI l) ∨ (pl s = 2 ∧ nI P + tg s = nI l)) then po_co u kd ln s else 0
def po_gr (hh ww : Int32) (k u : Nat) : Int32 := if u = 0 then hh else if k = 1 then 0 else ww
def po_ix (l k u w : Nat) : Nat := (l * 3 + k) * 6 + 3 * u + w
def po_CS (P : Nat) (hh ww : Int32) (cs : Nat → Nat → Nat → Int32) (cr rt : Nat → Int32) : Prop := ∀ l k u, l < 2 * P → k < 3 → u < 2 → cr (po_ix l k u 1) = cs l k u ∧ cr (po_ix l k u 2) = rt ((l * 3 + k) * 2 + u) ∧ cr (po_ix l k u 0) = (po_gr hh ww k u - cs l k u) - rt ((l * 3 + k) * 2 + u)
def po_CR (P : Nat) (hh ww : Int32) (us kd pl ii tg ln cr rt : Nat → Int32) : Prop := po_CS P hh ww (fun l k u => po_zs (po_ct P us kd pl ii tg ln l k u) 24) cr rt
def po_en (kd ii tg ta : Nat → Int32) (s : Nat) : Nat := (if kd s = 1 then (ii s).toNatClampNeg / 4 else (tg s).toNatClampNeg) * 4 + (ta s).toNatClampNeg
def po_cn (go : Nat → Int32) (b : Nat) : Nat → Nat
  | 0 => 0
  | n + 1 => po_cn go b n + (if go (b + n) = 0 then 1 else 0)
def po_T1 (tu tm te tf tw go gw : Nat → Int32) : Prop := ∀ e, e < 16 → tu e ≠ 0 → ∃ l f : Nat, te e = nI l ∧ l ≤ 8 ∧ tf e = nI f ∧ f ≤ 64 ∧ tm e = nI (po_cn go (e * 8) l) ∧ ∀ i, i < 8 → tw (e * 8 + i) = if go (e * 8 + i) = 0 then 0 else gw (e * 8 + i)
def po_fi (st tf : Nat → Int32) (s e : Nat) : Nat := (st s).toNatClampNeg - (tf e).toNatClampNeg
def po_t2 (tu te tf go : Nat → Int32) (e a l : Nat) : Prop := tu e ≠ 0 ∧ (tf e).toNatClampNeg ≤ a ∧ a + l ≤ (tf e).toNatClampNeg + (te e).toNatClampNeg ∧ ∀ j, j < l → go (e * 8 + (a - (tf e).toNatClampNeg + j)) = 0
def po_T2 (us kd ii tg ta st ln tu te tf go : Nat → Int32) : Prop := ∀ s, s < 24 → us s ≠ 0 → kd s ≠ 0 → po_t2 tu te tf go (po_en kd ii tg ta s) (st s).toNatClampNeg (ln s).toNatClampNeg
def po_T3 (us kd ii tg ta st ln : Nat → Int32) : Prop := ∀ s t, s < 24 → t < 24 → s ≠ t → us s ≠ 0 → us t ≠ 0 → kd s ≠ 0 → kd t ≠ 0 → po_en kd ii tg ta s = po_en kd ii tg ta t → (st s).toNatClampNeg + (ln s).toNatClampNeg ≤ (st t).toNatClampNeg ∨ (st t).toNatClampNeg + (ln t).toNatClampNeg ≤ (st s).toNatClampNeg
def po_DT (us kd ln dx dy : Nat → Int32) : Prop := ∀ s, s < 24 → us s ≠ 0 → kd s ≠ 1 → ∀ j, j < (ln s).toNatClampNeg → dx (s * 4 + j) = dy (s * 4 + j)
def po_R (P B : Nat) (hh ww : Int32) (mw fn us kd pl ii tg tr ta st ln dx qu nx pv hd tl sv cr tu tm te tf tw dy li rt go gw : Nat → Int32) (L : List Nat) : Prop :=
  (2 ≤ P ∧ P ≤ 4 ∧ 1 ≤ B ∧ B ≤ 4) ∧ po_PK P us kd pl ii tg ta st ln ∧ po_LN us pl li L ∧ po_DL qu nx pv hd tl (po_Qf pl ii tg L) ∧ po_SV P us pl tg sv ∧ po_CR P hh ww us kd pl ii tg ln cr rt ∧ po_T1 tu tm te tf tw go gw ∧ po_T2 us kd ii tg ta st ln tu te tf go ∧ po_T3 us kd ii tg ta st ln ∧ po_DT us kd ln dx dy
def po_Rel (u : SX) (v : SY) : Prop := ∃ (P B : Nat) (hh ww : Int32) (mw fn us kd pl ii tg tr ta st ln dx qu nx pv hd tl sv cr tu tm te tf tw dy li rt go gw : Nat → Int32) (L : List Nat), po_R P B hh ww mw fn us kd pl ii tg tr ta st ln dx qu nx pv hd tl sv cr tu tm te tf tw dy li rt go gw L ∧ u = (0, 1, 2, 3, 0, 1, 2, nI P, nI B, mw, fn, us, kd, pl, ii, tg, tr, ta, st, ln, dx, qu, nx, pv, hd, tl, sv, cr, tu, tm, te, tf, tw) ∧ v = (nI P, hh, ww, nI B, nI L.length, mw, fn, us, kd, pl, ii, tg, tr, ta, st, ln, dy, li, rt, tu, te, tf, go, gw)
theorem po_mk {P B : Nat} {hh ww : Int32} {mw fn us kd pl ii tg tr ta st ln dx qu nx pv hd tl sv cr tu tm te tf tw dy li rt go gw : Nat → Int32} {L : List Nat} (h : po_R P B hh ww mw fn us kd pl ii tg tr ta st ln dx qu nx pv hd tl sv cr tu tm te tf tw dy li rt go gw L) : po_Rel (0, 1, 2, 3, 0, 1, 2, nI P, nI B, mw, fn, us, kd, pl, ii, tg, tr, ta, st, ln, dx, qu, nx, pv, hd, tl, sv, cr, tu, tm, te, tf, tw) (nI P, hh, ww, nI B, nI L.length, mw, fn, us, kd, pl, ii, tg, tr, ta, st, ln, dy, li, rt, tu, te, tf, go, gw) := ⟨P, B, hh, ww, mw, fn, us, kd, pl, ii, tg, tr, ta, st, ln, dx, qu, nx, pv, hd, tl, sv, cr, tu, tm, te, tf, tw, dy, li, rt, go, gw, L, h, rfl, rfl⟩
theorem po_el {Pr : SX → SY → Prop} {u : SX} {v : SY} (I : po_Rel u v) (h : ∀ (P B : Nat) (hh ww : Int32) (mw fn us kd pl ii tg tr ta st ln dx qu nx pv hd tl sv cr tu tm te tf tw dy li rt go gw : Nat → Int32) (L : List Nat), po_R P B hh ww mw fn us kd pl ii tg tr ta st ln dx qu nx pv hd tl sv cr tu tm te tf tw dy li rt go gw L → Pr (0, 1, 2, 3, 0, 1, 2, nI P, nI B, mw, fn, us, kd, pl, ii, tg, tr, ta, st, ln, dx, qu, nx, pv, hd, tl, sv, cr, tu, tm, te, tf, tw) (nI P, hh, ww, nI B, nI L.length, mw, fn, us, kd, pl, ii, tg, tr, ta, st, ln, dy, li, rt, tu, te, tf, go, gw)) : Pr u v :=
  Exists.elim I fun P I0 => Exists.elim I0 fun B I1 => Exists.elim I1 fun hh I2 => Exists.elim I2 fun ww I3 => Exists.elim I3 fun mw I4 => Exists.elim I4 fun fn I5 => Exists.elim I5 fun us I6 => Exists.elim I6 fun kd I7 => Exists.elim I7 fun pl I8 => Exists.elim I8 fun ii I9 => Exists.elim I9 fun tg I10 => Exists.elim I10 fun tr I11 => Exists.elim I11 fun ta I12 => Exists.elim I12 fun st I13 => Exists.elim I13 fun ln I14 => Exists.elim I14 fun dx I15 => Exists.elim I15 fun qu I16 => Exists.elim I16 fun nx I17 => Exists.elim I17 fun pv I18 => Exists.elim I18 fun hd I19 => Exists.elim I19 fun tl I20 => Exists.elim I20 fun sv I21 => Exists.elim I21 fun cr I22 => Exists.elim I22 fun tu I23 => Exists.elim I23 fun tm I24 => Exists.elim I24 fun te I25 => Exists.elim I25 fun tf I26 => Exists.elim I26 fun tw I27 => Exists.elim I27 fun dy I28 => Exists.elim I28 fun li I29 => Exists.elim I29 fun rt I30 => Exists.elim I30 fun go I31 => Exists.elim I31 fun gw I32 => Exists.elim I32 fun L I33 => Eq.substr (p := fun u => Pr u v) I33.2.1 (Eq.substr (p := fun v => Pr _ v) I33.2.2 (h P B hh ww mw fn us kd pl ii tg tr ta st ln dx qu nx pv hd tl sv cr tu tm te tf tw dy li rt go gw L I33.1))
end
section
/-! X: ranges, free slot, queues -/
section XW
variable {k1 k2 k3 k4 k5 k6 k7 hh ww lc : Int32} {P B : Nat} {mw fn us kd pl ii tg tr ta st ln dx qu nx pv hd tl sv cr tu tm te tf tw dy li rt go gw : Nat → Int32}
theorem xo_in {post : Int32 → Prop} {j n : Nat} (hj : j < n) (hn : n < 2 ^ 31) (h : post 0) : wpX_outside post (k1, k2, k3, k4, k5, k6, k7, nI P, nI B, mw, fn, us, kd, pl, ii, tg, tr, ta, st, ln, dx, qu, nx, pv, hd, tl, sv, cr, tu, tm, te, tf, tw) (nI j) (nI n) := br_f (nI_pos (by omega)) (br_t (nI_lt hj hn) h)
theorem xo_out {post : Int32 → Prop} {v w : Int32} (hv : v < 0 ∨ ¬ v < w) (h : post 1) : wpX_outside post (k1, k2, k3, k4, k5, k6, k7, nI P, nI B, mw, fn, us, kd, pl, ii, tg, tr, ta, st, ln, dx, qu, nx, pv, hd, tl, sv, cr, tu, tm, te, tf, tw) v w := by
  by_cases e : v < 0
  · exact br_t e h
  · exact br_f e (br_f (hv.resolve_left e) h)
theorem xe_slot {post : Int32 → Prop} {s : Nat} (hs : s < 24) (h0 : us s = 0) (hl : ∀ x, x < s → us x ≠ 0) (h : post (nI s)) : ∀ n k, k ≤ s → s - k < n → wX_emptySlot_2 post k1 k2 k3 k4 k5 k6 k7 (nI P) (nI B) mw fn us kd pl ii tg tr ta st ln dx qu nx pv hd tl sv cr tu tm te tf tw n (nI k) := by
  intro n
  induction n with
  | zero => intro k h1 h2; omega
  | succ n ih =>
    intro k h1 h2
    have hc : (nI k).toNatClampNeg = k := nI_clamp (by omega)
    refine br_f (nI_ge (b := 24) (by omega) (by decide)) (And.intro (vp_in_nI (by omega) (by decide)) ?_)
    rw [hc]
    by_cases e : k = s
    · subst e
      exact br_t h0 h
    · exact br_f (hl k (by omega)) (nm_r (nI_1 k) (ih (k + 1) (by omega) (by omega)))
theorem xe_full {post : Int32 → Prop} (hl : ∀ x, x < 24 → us x ≠ 0) (h : post (-1)) : ∀ n k, k ≤ 24 → 24 - k < n → wX_emptySlot_2 post k1 k2 k3 k4 k5 k6 k7 (nI P) (nI B) mw fn us kd pl ii tg tr ta st ln dx qu nx pv hd tl sv cr tu tm te tf tw n (nI k) := by
  intro n
  induction n with
  | zero => intro k h1 h2; omega
  | succ n ih =>
    intro k h1 h2
    have hc : (nI k).toNatClampNeg = k := nI_clamp (by omega)
    by_cases e : k = 24
    · subst e
      exact br_t (nI_le (a := 24) (by omega) (by decide)) h
    · refine br_f (nI_ge (b := 24) (by omega) (by decide)) (And.intro (vp_in_nI (by omega) (by decide)) ?_)
      rw [hc]
      exact br_f (hl k (by omega)) (nm_r (nI_1 k) (ih (k + 1) (by omega) (by omega)))
theorem xe_slotW {post : Int32 → Prop} {s : Nat} (hs : s < 24) (h0 : us s = 0) (hl : ∀ x, x < s → us x ≠ 0) (h : post (nI s)) : wpX_emptySlot post (k1, k2, k3, k4, k5, k6, k7, nI P, nI B, mw, fn, us, kd, pl, ii, tg, tr, ta, st, ln, dx, qu, nx, pv, hd, tl, sv, cr, tu, tm, te, tf, tw) := ⟨s + 1, xe_slot hs h0 hl h (s + 1) 0 (by omega) (by omega)⟩
theorem xe_fullW {post : Int32 → Prop} (hl : ∀ x, x < 24 → us x ≠ 0) (h : post (-1)) : wpX_emptySlot post (k1, k2, k3, k4, k5, k6, k7, nI P, nI B, mw, fn, us, kd, pl, ii, tg, tr, ta, st, ln, dx, qu, nx, pv, hd, tl, sv, cr, tu, tm, te, tf, tw) := ⟨25, xe_full hl h 25 0 (by omega) (by omega)⟩
theorem xe_enq {Q : Nat → List Nat} {s q : Nat} (D : po_DL qu nx pv hd tl Q) (hs : s < 24) (hq : q < 24) (hn : ∀ k, k < 24 → s ∉ Q k) :
    ∃ qu' nx' pv' hd' tl' : Nat → Int32, po_DL qu' nx' pv' hd' tl' (fun k => if k = q then Q k ++ [s] else Q k) ∧ ∀ post : SX → Prop, post (k1, k2, k3, k4, k5, k6, k7, nI P, nI B, mw, fn, us, kd, pl, ii, tg, tr, ta, st, ln, dx, qu', nx', pv', hd', tl', sv, cr, tu, tm, te, tf, tw) → wpX_enqueue post (k1, k2, k3, k4, k5, k6, k7, nI P, nI B, mw, fn, us, kd, pl, ii, tg, tr, ta, st, ln, dx, qu, nx, pv, hd, tl, sv, cr, tu, tm, te, tf, tw) (nI s) (nI q) := by
  have hvs : vp_in (nI s) 24 := vp_in_nI hs (by decide)
  have hvq : vp_in (nI q) 24 := vp_in_nI hq (by decide)
  have cs : (nI s).toNatClampNeg = s := nI_clamp (by omega)
  have cq : (nI q).toNatClampNeg = q := nI_clamp (by omega)
  obtain ⟨d1, d2, ht, d4, d5⟩ := D.1 q hq
  rcases List.eq_nil_or_concat (Q q) with e | ⟨A, z, e⟩
  · rw [e, po_lI0] at ht
    refine ⟨upd qu s (nI q), upd nx s (-1), upd pv s (-1), upd hd q (nI s), upd tl q (nI s), po_DLe D hs hq hn pk_us (fun _ => pk_un) (by rw [e]; exact pk_us) (fun _ => pk_un) pk_us (fun _ => pk_un) (by rw [e]; exact pk_us) (fun _ => pk_un) pk_us (fun A x h => by rw [e] at h; simp at h) (fun x hx _ => pk_un hx), fun post h => ?_⟩
    simp only [wpX_enqueue, cs, cq, ht, hvs, hvq, true_and, forall_eq, po_m1, false_implies, not_false_eq_true, true_implies]
    exact h
  · rw [List.concat_eq_append] at e
    rw [e, po_lIc] at ht
    have hz : z < 24 := (d4 z (by rw [e]; simp)).1
    have hzs : z ≠ s := fun e' => hn q hq (by rw [e, e']; simp)
    have hvz : vp_in (nI z) 24 := vp_in_nI hz (by decide)
    have cz : (nI z).toNatClampNeg = z := nI_clamp (by omega)
    have hz0 : (0 : Int32) ≤ nI z := nI_pos' (by omega)
    refine ⟨upd qu s (nI q), upd (upd nx s (-1)) z (nI s), upd pv s (nI z), hd, upd tl q (nI s), po_DLe D hs hq hn pk_us (fun _ => pk_un) (by rw [d2, po_hIe (by rw [e]; simp)]) (fun _ _ => rfl) pk_us (fun _ => pk_un) (by rw [e, po_lIc]; exact pk_us) (fun _ => pk_un) (by rw [pk_un (fun h => hzs h.symm)]; exact pk_us) ?_ ?_, fun post h => ?_⟩
    · intro A' x h
      rw [e] at h
      have h2 := (List.append_inj' h rfl).2
      have h3 : z = x := by simpa using h2
      rw [← h3]; exact pk_us
    · intro x hx h
      have hxz : x ≠ z := fun h' => h A (by rw [e, h'])
      rw [pk_un hxz, pk_un hx]
    · simp only [wpX_enqueue, cs, cq, cz, ht, hvs, hvq, hvz, hz0, true_and, forall_eq, false_implies, not_true_eq_false, true_implies, and_true]
      exact h
theorem xe_deq {Q : Nat → List Nat} {s q : Nat} {A C : List Nat} (D : po_DL qu nx pv hd tl Q) (hs : s < 24) (hq : q < 24) (hE : Q q = A ++ s :: C) :
    ∃ qu' nx' pv' hd' tl' : Nat → Int32, po_DL qu' nx' pv' hd' tl' (fun k => if k = q then A ++ C else Q k) ∧ ∀ post : SX → Prop, post (k1, k2, k3, k4, k5, k6, k7, nI P, nI B, mw, fn, us, kd, pl, ii, tg, tr, ta, st, ln, dx, qu', nx', pv', hd', tl', sv, cr, tu, tm, te, tf, tw) → wpX_dequeue post (k1, k2, k3, k4, k5, k6, k7, nI P, nI B, mw, fn, us, kd, pl, ii, tg, tr, ta, st, ln, dx, qu, nx, pv, hd, tl, sv, cr, tu, tm, te, tf, tw) (nI s) := by
  have hvs : vp_in (nI s) 24 := vp_in_nI hs (by decide)
  have hvq : vp_in (nI q) 24 := vp_in_nI hq (by decide)
  have cs : (nI s).toNatClampNeg = s := nI_clamp (by omega)
  have cq : (nI q).toNatClampNeg = q := nI_clamp (by omega)
  obtain ⟨d1, d2, d3, d4, d5⟩ := D.1 q hq
  obtain ⟨g1, g2⟩ := d5 A s C hE
  have g3 : qu s = nI q := (d4 s (by rw [hE]; simp)).2
  obtain ⟨n1, n2, n3, n4, n5⟩ := po_nd (hE ▸ d1)
  rcases List.eq_nil_or_concat A with eA | ⟨A0, a, eA⟩
  · subst eA
    rw [po_lI0] at g2
    cases C with
    | nil =>
      refine ⟨upd qu s (-1), upd nx s (-1), upd pv s (-1), upd hd q (-1), upd tl q (-1), po_DLd D hs hq hE pk_us (fun _ => pk_un) pk_us (fun _ => pk_un) pk_us (fun _ => pk_un) (fun A' x h => by simp at h) (fun x hx _ => pk_un hx) (fun A' x h => by simp at h) (fun x hx _ => pk_un hx), fun post h => ?_⟩
      have g1' : nx s = -1 := g1
      simp only [wpX_dequeue, wX_dequeue_45, wX_dequeue_68, cs, cq, g1', g2, g3, hvs, hvq, true_and, forall_eq, po_m1, false_implies, not_false_eq_true, true_implies]
      exact h
    | cons c C =>
      have hc : c < 24 := (d4 c (by rw [hE]; simp)).1
      have hcs : c ≠ s := fun e => n2 (by rw [e]; simp)
      have hvc : vp_in (nI c) 24 := vp_in_nI hc (by decide)
      have cc : (nI c).toNatClampNeg = c := nI_clamp (by omega)
      have hc0 : (0 : Int32) ≤ nI c := nI_pos' (by omega)
      have g1' : nx s = nI c := g1
      refine ⟨upd qu s (-1), upd nx s (-1), upd (upd pv c (-1)) s (-1), upd hd q (nI c), tl, po_DLd D hs hq hE pk_us (fun _ => pk_un) pk_us (fun _ => pk_un) (by rw [d3, hE]; exact po_lIe (A := [s]) (by simp)) (fun _ _ => rfl) (fun A' x h => by simp at h) (fun x hx _ => pk_un hx) ?_ ?_, fun post h => ?_⟩
      · intro C' x h
        have hx : c = x := (List.cons.inj h).1
        subst hx
        rw [pk_un hcs]; exact pk_us
      · intro x hx h
        have hxc : x ≠ c := fun e => h C (by rw [e])
        rw [pk_un hx, pk_un hxc]
      · simp only [wpX_dequeue, wX_dequeue_45, wX_dequeue_68, cs, cq, cc, g1', g2, g3, hvs, hvq, hvc, hc0, true_and, forall_eq, po_m1, false_implies, not_false_eq_true, not_true_eq_false, true_implies, and_true]
        exact h
  · rw [List.concat_eq_append] at eA
    have haA : a ∈ A := by rw [eA]; simp
    have ha : a < 24 := (d4 a (by rw [hE, eA]; simp)).1
    have has : a ≠ s := fun e => n1 (e ▸ haA)
    have hva : vp_in (nI a) 24 := vp_in_nI ha (by decide)
    have ca : (nI a).toNatClampNeg = a := nI_clamp (by omega)
    have ha0 : (0 : Int32) ≤ nI a := nI_pos' (by omega)
    have g2' : pv s = nI a := by rw [g2, eA, po_lIc]
    have hAne : A ≠ [] := by rw [eA]; simp
    cases C with
    | nil =>
      have g1' : nx s = -1 := g1
      refine ⟨upd qu s (-1), upd (upd nx a (-1)) s (-1), upd pv s (-1), hd, upd tl q (nI a), po_DLd D hs hq hE pk_us (fun _ => pk_un) (by rw [d2, hE, po_hIe hAne, List.append_nil]) (fun _ _ => rfl) (by rw [List.append_nil, eA, po_lIc]; exact pk_us) (fun _ => pk_un) ?_ ?_ (fun A' x h => by simp at h) (fun x hx _ => pk_un hx), fun post h => ?_⟩
      · intro A' x h
        rw [eA] at h
        have h2 := (List.append_inj' h rfl).2
        have h3 : a = x := by simpa using h2
        rw [← h3, pk_un has]; exact pk_us
      · intro x hx h
        have hxa : x ≠ a := fun e => h A0 (by rw [eA, e])
        rw [pk_un hx, pk_un hxa]
      · simp only [wpX_dequeue, wX_dequeue_45, wX_dequeue_68, cs, cq, ca, g1', g2', g3, hvs, hvq, hva, ha0, true_and, forall_eq, po_m1, false_implies, not_false_eq_true, not_true_eq_false, true_implies, and_true]
        exact h
    | cons c C =>
      have hc : c < 24 := (d4 c (by rw [hE]; simp)).1
      have hcs : c ≠ s := fun e => n2 (by rw [e]; simp)
      have hvc : vp_in (nI c) 24 := vp_in_nI hc (by decide)
      have cc : (nI c).toNatClampNeg = c := nI_clamp (by omega)
      have hc0 : (0 : Int32) ≤ nI c := nI_pos' (by omega)
      have g1' : nx s = nI c := g1
      refine ⟨upd qu s (-1), upd (upd nx a (nI c)) s (-1), upd (upd pv c (nI a)) s (-1), hd, tl, po_DLd D hs hq hE pk_us (fun _ => pk_un) (by rw [d2, hE, po_hIe hAne, po_hIe hAne]) (fun _ _ => rfl) (by rw [d3, hE, po_lIe (by simp), po_lIe (by simp)]; exact po_lIe (A := [s]) (by simp)) (fun _ _ => rfl) ?_ ?_ ?_ ?_, fun post h => ?_⟩
      · intro A' x h
        rw [eA] at h
        have h2 := (List.append_inj' h rfl).2
        have h3 : a = x := by simpa using h2
        rw [← h3, pk_un has]; exact pk_us
      · intro x hx h
        have hxa : x ≠ a := fun e => h A0 (by rw [eA, e])
        rw [pk_un hx, pk_un hxa]
      · intro C' x h
        have hx : c = x := (List.cons.inj h).1
        subst hx
        rw [pk_un hcs, eA, po_lIc]; exact pk_us
      · intro x hx h
        have hxc : x ≠ c := fun e => h C (by rw [e])
        rw [pk_un hx, pk_un hxc]
      · simp only [wpX_dequeue, wX_dequeue_45, wX_dequeue_68, cs, cq, ca, cc, g1', g2', g3, hvs, hvq, hva, hvc, ha0, hc0, true_and, forall_eq, po_m1, false_implies, not_false_eq_true, not_true_eq_false, true_implies, and_true]
        exact h
end XW
end
section
/-! blocking, being ahead: X -/
def po_bk (kd tr ii tg ta : Nat → Int32) (y x : Nat) : Bool := decide ((kd y = 2 ∧ kd x = 2 ∧ tg x = tg y ∧ ta x = ta y) ∨ (kd y = 0 ∧ ((tr x &&& 1) = 0 ∨ kd x = 1) ∧ ((tr x &&& 2) = 0 ∨ ii x = ii y)))
def po_fb (d : Int32) (f : Nat → Bool) : List Nat → Int32
  | [] => d
  | x :: l => if f x = true then nI x else po_fb d f l
theorem po_fb_t {d : Int32} {f : Nat → Bool} {x : Nat} {l : List Nat} (h : f x = true) : po_fb d f (x :: l) = nI x := if_pos h
theorem po_fb_f {d : Int32} {f : Nat → Bool} {x : Nat} {l : List Nat} (h : ¬ f x = true) : po_fb d f (x :: l) = po_fb d f l := if_neg h
theorem po_fb_a {d : Int32} {f : Nat → Bool} {C : List Nat} (h : ∀ c, c ∈ C → f c = false) : ∀ A : List Nat, po_fb d f (A ++ C) = po_fb d f A
  | [] => by
    induction C with
    | nil => rfl
    | cons c C ih =>
      rw [List.nil_append, po_fb_f (by rw [h c (by simp)]; decide)]
      exact ih (fun x hx => h x (by simp [hx]))
  | a :: A => by
    by_cases e : f a = true
    · rw [List.cons_append, po_fb_t e, po_fb_t e]
    · rw [List.cons_append, po_fb_f e, po_fb_f e, po_fb_a h A]
theorem po_fb_c {d : Int32} {f g : Nat → Bool} : ∀ A : List Nat, (∀ x, x ∈ A → f x = g x) → po_fb d f A = po_fb d g A
  | [], _ => rfl
  | a :: A, h => by
    have h1 := h a (by simp)
    have h2 := po_fb_c (d := d) A (fun x hx => h x (by simp [hx]))
    show (if f a = true then nI a else po_fb d f A) = (if g a = true then nI a else po_fb d g A)
    rw [h1, h2]
theorem po_fb_p {d : Int32} {f p : Nat → Bool} : ∀ A : List Nat, po_fb d (fun y => p y && f y) A = po_fb d f (A.filter p)
  | [] => rfl
  | a :: A => by
    have ih := po_fb_p (d := d) (f := f) (p := p) A
    cases hp : p a with
    | true =>
      rw [List.filter_cons_of_pos hp]
      show (if (p a && f a) = true then nI a else po_fb d (fun y => p y && f y) A) = (if f a = true then nI a else po_fb d f (A.filter p))
      rw [hp, Bool.true_and, ih]
    | false =>
      rw [List.filter_cons_of_neg (by rw [hp]; decide), ← ih]
      show (if (p a && f a) = true then nI a else po_fb d (fun y => p y && f y) A) = _
      rw [hp, Bool.false_and]
      rfl
theorem po_fb_v {f : Nat → Bool} : ∀ A : List Nat, (∃ x, x ∈ A ∧ ∀ d, po_fb d f A = nI x) ∨ ∀ d, po_fb d f A = d
  | [] => Or.inr fun _ => rfl
  | a :: A => by
    by_cases e : f a = true
    · exact Or.inl ⟨a, by simp, fun d => po_fb_t e⟩
    · rcases po_fb_v (f := f) A with ⟨x, hx, h⟩ | h
      · exact Or.inl ⟨x, by simp [hx], fun d => (po_fb_f e).trans (h d)⟩
      · exact Or.inr fun d => (po_fb_f e).trans (h d)
section XB
variable {k1 k2 k3 k4 k5 k6 k7 hh ww lc : Int32} {P B : Nat} {mw fn us kd pl ii tg tr ta st ln dx qu nx pv hd tl sv cr tu tm te tf tw dy li rt go gw : Nat → Int32}
theorem xb_blk {post : Int32 → Prop} {y x : Nat} (hy : y < 24) (hx : x < 24) (h : post (if po_bk kd tr ii tg ta y x = true then 1 else 0)) : wpX_blocks post (k1, k2, k3, k4, k5, k6, k7, nI P, nI B, mw, fn, us, kd, pl, ii, tg, tr, ta, st, ln, dx, qu, nx, pv, hd, tl, sv, cr, tu, tm, te, tf, tw) (nI y) (nI x) := by
  have cy : (nI y).toNatClampNeg = y := nI_clamp (by omega)
  have cx : (nI x).toNatClampNeg = x := nI_clamp (by omega)
  have vy : vp_in (nI y) 24 := vp_in_nI hy (by decide)
  have vx : vp_in (nI x) 24 := vp_in_nI hx (by decide)
  have h1 : ((kd y = 2 ∧ kd x = 2 ∧ tg x = tg y ∧ ta x = ta y) ∨ (kd y = 0 ∧ ((tr x &&& 1) = 0 ∨ kd x = 1) ∧ ((tr x &&& 2) = 0 ∨ ii x = ii y))) → post 1 := fun c => by
    rw [if_pos (show po_bk kd tr ii tg ta y x = true from decide_eq_true c)] at h; exact h
  have h0 : ¬ ((kd y = 2 ∧ kd x = 2 ∧ tg x = tg y ∧ ta x = ta y) ∨ (kd y = 0 ∧ ((tr x &&& 1) = 0 ∨ kd x = 1) ∧ ((tr x &&& 2) = 0 ∨ ii x = ii y))) → post 0 := fun c => by
    rw [if_neg (show ¬ po_bk kd tr ii tg ta y x = true from fun e => c (of_decide_eq_true e))] at h; exact h
  clear h
  simp only [wpX_blocks, wX_blocks_92, wX_blocks_93, wX_blocks_124, wX_blocks_125, cy, cx, vy, vx, true_and, po_n10, false_implies, not_false_eq_true, not_true_eq_false, true_implies, and_true]
  by_cases a1 : kd y = 2
  · have a0 : ¬ kd y = 0 := by rw [a1]; decide
    refine br_t a1 ?_
    by_cases a2 : kd x = 2
    · refine br_t a2 ?_
      by_cases a3 : tg x = tg y
      · refine br_t a3 ?_
        by_cases a4 : ta x = ta y
        · exact br_t a4 (h1 (Or.inl ⟨a1, a2, a3, a4⟩))
        · exact br_f a4 (h0 (by simp only [a0, a4, and_false, false_and, or_false, not_false_eq_true]))
      · exact br_f a3 (h0 (by simp only [a0, a3, and_false, false_and, or_false, not_false_eq_true]))
    · exact br_f a2 (h0 (by simp only [a0, a2, and_false, false_and, or_false, not_false_eq_true]))
  · refine br_f a1 ?_
    by_cases a0 : kd y = 0
    · refine br_t a0 ?_
      have key : (tr x &&& 1 = 0 ∨ kd x = 1) → (((tr x &&& 2) = 0 → post 1) ∧ (¬ (tr x &&& 2) = 0 → ((ii x = ii y → post 1) ∧ (¬ ii x = ii y → post 0)))) := by
        intro hk
        by_cases a5 : (tr x &&& 2) = 0
        · exact br_t a5 (h1 (Or.inr ⟨a0, hk, Or.inl a5⟩))
        · refine br_f a5 ?_
          by_cases a6 : ii x = ii y
          · exact br_t a6 (h1 (Or.inr ⟨a0, hk, Or.inr a6⟩))
          · exact br_f a6 (h0 (by simp only [a1, a5, a6, false_and, and_false, or_false, not_false_eq_true]))
      by_cases a7 : (tr x &&& 1) = 0
      · exact br_t a7 (key (Or.inl a7))
      · refine br_f a7 ?_
        by_cases a8 : kd x = 1
        · exact br_t a8 (key (Or.inr a8))
        · have hz : post 0 := h0 (by simp only [a1, a7, a8, false_and, and_false, or_false, not_false_eq_true])
          refine br_f a8 ?_
          first | exact br_c (fun _ => hz) (fun _ => br_c (fun _ => hz) (fun _ => hz)) | simp [hz]
    · exact br_f a0 (h0 (by simp only [a0, a1, false_and, or_false, not_false_eq_true]))
theorem xf_walk {post : Int32 → Prop} {Q : Nat → List Nat} {s q : Nat} {E : List Nat} (D : po_DL qu nx pv hd tl Q) (hs : s < 24) (hq : q < 24) :
    ∀ (C A : List Nat) (n : Nat), Q q = A ++ (C ++ s :: E) → C.length < n → post (po_fb (-1) (fun y => po_bk kd tr ii tg ta y s) C) → wX_firstBlocker_25 post (nI s) k1 k2 k3 k4 k5 k6 k7 (nI P) (nI B) mw fn us kd pl ii tg tr ta st ln dx qu nx pv hd tl sv cr tu tm te tf tw n (po_hI (C ++ s :: E)) (nI A.length) := by
  obtain ⟨d1, d2, d3, d4, d5⟩ := D.1 q hq
  have hlen : (Q q).length ≤ 24 := po_len d1 (fun x hx => (d4 x hx).1)
  intro C
  induction C with
  | nil =>
    intro A n hE hn h
    have hA : A.length < 24 := by rw [hE] at hlen; simp at hlen; omega
    obtain ⟨m, rfl⟩ : ∃ m, n = m + 1 := ⟨n - 1, by omega⟩
    exact br_f (nI_ge (b := 24) hA (by decide)) (br_f (nI_pos (by omega)) (br_t rfl h))
  | cons c C ih =>
    intro A n hE hn h
    have hA : A.length < 24 := by rw [hE] at hlen; simp at hlen; omega
    have hcm : c ∈ Q q := by rw [hE]; simp
    have hc : c < 24 := (d4 c hcm).1
    have hcs : c ≠ s := by
      intro e
      have := po_nd (A := A) (s := c) (C := C ++ s :: E) (by have h' := d1; rw [hE] at h'; exact h')
      exact this.2.1 (by rw [e]; simp)
    have cc : (nI c).toNatClampNeg = c := nI_clamp (by omega)
    obtain ⟨m, rfl⟩ : ∃ m, n = m + 1 := ⟨n - 1, by simp at hn; omega⟩
    have hx := (d5 A c (C ++ s :: E) hE).1
    refine br_f (nI_ge (b := 24) hA (by decide)) (br_f (nI_pos (n := c) (by omega)) (br_f (fun e => hcs ((nI_eq (a := c) (by omega) (by omega)).mp e)) ?_))
    refine xb_blk hc hs ?_
    by_cases b : po_bk kd tr ii tg ta c s = true
    · rw [if_pos b]
      rw [po_fb_t (f := fun y => po_bk kd tr ii tg ta y s) b] at h
      exact br_f po_n10 h
    · rw [if_neg b]
      rw [po_fb_f (f := fun y => po_bk kd tr ii tg ta y s) b] at h
      refine br_t rfl (And.intro (vp_in_nI (n := c) hc (by decide)) (nm_r (e' := po_hI (C ++ s :: E)) ?_ (nm_r (e' := nI (A ++ [c]).length) ?_ (ih (A ++ [c]) m ?_ ?_ h))))
      · show nx (nI c).toNatClampNeg = _
        rw [cc]; exact hx
      · rw [nI_1]; simp
      · rw [hE]; simp
      · simp at hn; omega
theorem xf_in {post : Int32 → Prop} {Q : Nat → List Nat} {s q : Nat} {A E : List Nat} (D : po_DL qu nx pv hd tl Q) (hs : s < 24) (hq : q < 24) (hE : Q q = A ++ s :: E) (h : post (po_fb (-1) (fun y => po_bk kd tr ii tg ta y s) A)) : wpX_firstBlocker post (k1, k2, k3, k4, k5, k6, k7, nI P, nI B, mw, fn, us, kd, pl, ii, tg, tr, ta, st, ln, dx, qu, nx, pv, hd, tl, sv, cr, tu, tm, te, tf, tw) (nI s) := by
  obtain ⟨d1, d2, d3, d4, d5⟩ := D.1 q hq
  have g3 : qu s = nI q := (d4 s (by rw [hE]; simp)).2
  have cs : (nI s).toNatClampNeg = s := nI_clamp (by omega)
  have cq : (nI q).toNatClampNeg = q := nI_clamp (by omega)
  have hvs : vp_in (nI s) 24 := vp_in_nI hs (by decide)
  have hvq : vp_in (nI q) 24 := vp_in_nI hq (by decide)
  have hq0 : (0 : Int32) ≤ nI q := nI_pos' (by omega)
  unfold wpX_firstBlocker
  simp only [cs, g3, cq]
  refine And.intro hvs (br_t hq0 (And.intro hvs (And.intro hvq (nm_r (e' := po_hI (A ++ s :: E)) (by rw [d2, hE]) ⟨A.length + 1, ?_⟩))))
  exact xf_walk D hs hq A [] (A.length + 1) hE (by omega) h
theorem xf_no {post : Int32 → Prop} {s : Nat} (hs : s < 24) (g3 : qu s = -1) (h : post (-1)) : wpX_firstBlocker post (k1, k2, k3, k4, k5, k6, k7, nI P, nI B, mw, fn, us, kd, pl, ii, tg, tr, ta, st, ln, dx, qu, nx, pv, hd, tl, sv, cr, tu, tm, te, tf, tw) (nI s) := by
  have cs : (nI s).toNatClampNeg = s := nI_clamp (by omega)
  have hvs : vp_in (nI s) 24 := vp_in_nI hs (by decide)
  unfold wpX_firstBlocker
  simp only [cs, g3]
  exact And.intro hvs (br_f po_m1 h)
theorem xa_walk {post : Int32 → Prop} {Q : Nat → List Nat} {s q : Nat} (D : po_DL qu nx pv hd tl Q) (hs : s < 24) (hq : q < 24) :
    ∀ (C A : List Nat) (k n : Nat), Q q = A ++ C → k < A.length → C.length < n → post (if s ∈ C then 1 else 0) → wX_ahead_63 post (nI s) k1 k2 k3 k4 k5 k6 k7 (nI P) (nI B) mw fn us kd pl ii tg tr ta st ln dx qu nx pv hd tl sv cr tu tm te tf tw n (po_hI C) (nI k) := by
  obtain ⟨d1, d2, d3, d4, d5⟩ := D.1 q hq
  have hlen : (Q q).length ≤ 24 := po_len d1 (fun x hx => (d4 x hx).1)
  intro C
  induction C with
  | nil =>
    intro A k n hE hk hn h
    have hA : k < 24 := by rw [hE] at hlen; simp at hlen; omega
    obtain ⟨m, rfl⟩ : ∃ m, n = m + 1 := ⟨n - 1, by omega⟩
    exact br_f (nI_ge (b := 24) hA (by decide)) (br_t po_m1l h)
  | cons c C ih =>
    intro A k n hE hk hn h
    have hA : k < 24 := by rw [hE] at hlen; simp at hlen; omega
    have hcm : c ∈ Q q := by rw [hE]; simp
    have hc : c < 24 := (d4 c hcm).1
    have cc : (nI c).toNatClampNeg = c := nI_clamp (by omega)
    obtain ⟨m, rfl⟩ : ∃ m, n = m + 1 := ⟨n - 1, by simp at hn; omega⟩
    have hx := (d5 A c C hE).1
    refine br_f (nI_ge (b := 24) hA (by decide)) (br_f (nI_pos (n := c) (by omega)) ?_)
    by_cases e : c = s
    · subst e
      rw [if_pos (by simp)] at h
      exact br_t rfl h
    · have e2 : (s ∈ c :: C) ↔ s ∈ C := ⟨fun h => (List.mem_cons.mp h).resolve_left (fun h' => e h'.symm), List.mem_cons_of_mem _⟩
      simp only [e2] at h
      refine br_f (fun e' => e ((nI_eq (a := c) (by omega) (by omega)).mp e')) (And.intro (vp_in_nI (n := c) hc (by decide)) (nm_r (e' := po_hI C) ?_ (nm_r (nI_1 k) (ih (A ++ [c]) (k + 1) m ?_ ?_ ?_ h))))
      · show nx (nI c).toNatClampNeg = _
        rw [cc]; exact hx
      · rw [hE]; simp
      · simp; omega
      · simp at hn; omega
end XB
end
section
/-! Y: ranges, blocking, being ahead -/
def po_bf (x s : Nat) : List Nat → Int32
  | [] => 0
  | y :: C => if y = x then 1 else if y = s then 0 else po_bf x s C
def po_ah (us pl ii tg : Nat → Int32) (x s : Nat) : Prop := us x ≠ 0 ∧ us s ≠ 0 ∧ pl x = pl s ∧ pl x ≠ 3 ∧ (pl x = 2 ∨ ii x / 4 = ii s / 4) ∧ (pl x = 0 ∨ tg x = tg s)
theorem po_bf1 {x s : Nat} {C : List Nat} : ∀ {A : List Nat}, s ∉ A → x ∈ A → po_bf x s (A ++ C) = 1
  | [], _, h => by simp at h
  | a :: A, hs, h => by
    show (if a = x then (1 : Int32) else if a = s then 0 else po_bf x s (A ++ C)) = 1
    by_cases e : a = x
    · rw [if_pos e]
    · rw [if_neg e, if_neg (fun e' => hs (by simp [e'])), po_bf1 (fun h' => hs (by simp [h'])) ((List.mem_cons.mp h).resolve_left (fun e' => e e'.symm))]
theorem po_bf0 {x s : Nat} {C : List Nat} (hne : x ≠ s) : ∀ {A : List Nat}, x ∉ A → po_bf x s (A ++ s :: C) = 0
  | [], _ => by
    show (if s = x then (1 : Int32) else if s = s then 0 else po_bf x s C) = 0
    rw [if_neg (fun e => hne e.symm), if_pos rfl]
  | a :: A, h => by
    show (if a = x then (1 : Int32) else if a = s then 0 else po_bf x s (A ++ s :: C)) = 0
    rw [if_neg (fun e => h (by simp [e])), po_bf0 hne (fun h' => h (by simp [h']))]
    split <;> rfl
section YW
variable {k1 k2 k3 k4 k5 k6 k7 hh ww lc : Int32} {P B : Nat} {mw fn us kd pl ii tg tr ta st ln dx qu nx pv hd tl sv cr tu tm te tf tw dy li rt go gw : Nat → Int32}
theorem yo_in {post : Int32 → Prop} {j n : Nat} (hj : j < n) (hn : n < 2 ^ 31) (h : post 0) : wpY_outside post (nI P, hh, ww, nI B, lc, mw, fn, us, kd, pl, ii, tg, tr, ta, st, ln, dy, li, rt, tu, te, tf, go, gw) (nI j) (nI n) := br_f (nI_pos (by omega)) (br_t (nI_lt hj hn) h)
theorem yo_out {post : Int32 → Prop} {v w : Int32} (hv : v < 0 ∨ ¬ v < w) (h : post 1) : wpY_outside post (nI P, hh, ww, nI B, lc, mw, fn, us, kd, pl, ii, tg, tr, ta, st, ln, dy, li, rt, tu, te, tf, go, gw) v w := by
  by_cases e : v < 0
  · exact br_t e h
  · exact br_f e (br_f (hv.resolve_left e) h)
theorem yb_blk {post : Int32 → Prop} {y x : Nat} (hy : y < 24) (hx : x < 24) (h : post (if po_bk kd tr ii tg ta y x = true then 1 else 0)) : wpY_blocks post (nI P, hh, ww, nI B, lc, mw, fn, us, kd, pl, ii, tg, tr, ta, st, ln, dy, li, rt, tu, te, tf, go, gw) (nI y) (nI x) := by
  have cy : (nI y).toNatClampNeg = y := nI_clamp (by omega)
  have cx : (nI x).toNatClampNeg = x := nI_clamp (by omega)
  have vy : vp_in (nI y) 24 := vp_in_nI hy (by decide)
  have vx : vp_in (nI x) 24 := vp_in_nI hx (by decide)
  have h1 : ((kd y = 2 ∧ kd x = 2 ∧ tg x = tg y ∧ ta x = ta y) ∨ (kd y = 0 ∧ ((tr x &&& 1) = 0 ∨ kd x = 1) ∧ ((tr x &&& 2) = 0 ∨ ii x = ii y))) → post 1 := fun c => by
    rw [if_pos (show po_bk kd tr ii tg ta y x = true from decide_eq_true c)] at h; exact h
  have h0 : ¬ ((kd y = 2 ∧ kd x = 2 ∧ tg x = tg y ∧ ta x = ta y) ∨ (kd y = 0 ∧ ((tr x &&& 1) = 0 ∨ kd x = 1) ∧ ((tr x &&& 2) = 0 ∨ ii x = ii y))) → post 0 := fun c => by
    rw [if_neg (show ¬ po_bk kd tr ii tg ta y x = true from fun e => c (of_decide_eq_true e))] at h; exact h
  clear h
  -- the join at 61 for a given apart
  have j61 : ∀ z : Int32, (z = 0 ↔ ((tr x &&& 2) = 0 ∨ ii x = ii y)) → ¬ (kd y = 0 ∧ kd x = 1) → wY_blocks_61 post (nI y) (nI x) z (nI P) hh ww (nI B) lc mw fn us kd pl ii tg tr ta st ln dy li rt tu te tf go gw := by
    intro z hz hn
    simp only [wY_blocks_61, cy, cx, vy, vx, true_and]
    by_cases a0 : kd y = 0
    · have a1 : ¬ kd y = 2 := by rw [a0]; decide
      have a8 : ¬ kd x = 1 := fun e => hn ⟨a0, e⟩
      refine br_t a0 ?_
      by_cases a7 : (tr x &&& 1) = 0
      · refine br_t a7 ?_
        by_cases e : z = 0
        · exact br_t e (h1 (Or.inr ⟨a0, Or.inl a7, hz.mp e⟩))
        · exact br_f e (h0 (by
            intro c
            rcases c with c | c
            · exact a1 c.1
            · exact e (hz.mpr c.2.2)))
      · exact br_f a7 (h0 (by simp only [a1, a7, a8, false_and, and_false, or_false, not_false_eq_true]))
    · refine br_f a0 ?_
      by_cases a1 : kd y = 2
      · refine br_t a1 ?_
        by_cases a2 : kd x = 2
        · refine br_t a2 ?_
          by_cases a3 : tg x = tg y
          · refine br_t a3 ?_
            by_cases a4 : ta x = ta y
            · exact br_t a4 (h1 (Or.inl ⟨a1, a2, a3, a4⟩))
            · exact br_f a4 (h0 (by simp only [a0, a4, and_false, false_and, or_false, not_false_eq_true]))
          · exact br_f a3 (h0 (by simp only [a0, a3, and_false, false_and, or_false, not_false_eq_true]))
        · exact br_f a2 (h0 (by simp only [a0, a2, and_false, false_and, or_false, not_false_eq_true]))
      · exact br_f a1 (h0 (by simp only [a0, a1, false_and, or_false, not_false_eq_true]))
  have j31 : ∀ z : Int32, (z = 0 ↔ ((tr x &&& 2) = 0 ∨ ii x = ii y)) → wY_blocks_31 post (nI y) (nI x) z (nI P) hh ww (nI B) lc mw fn us kd pl ii tg tr ta st ln dy li rt tu te tf go gw := by
    intro z hz
    simp only [wY_blocks_31, cy, cx, vy, vx, true_and]
    by_cases a0 : kd y = 0
    · have a1 : ¬ kd y = 2 := by rw [a0]; decide
      refine br_t a0 ?_
      by_cases a8 : kd x = 1
      · refine br_t a8 ?_
        by_cases e : z = 0
        · exact br_t e (h1 (Or.inr ⟨a0, Or.inr a8, hz.mp e⟩))
        · exact br_f e (h0 (by
            intro c
            rcases c with c | c
            · exact a1 c.1
            · exact e (hz.mpr c.2.2)))
      · exact br_f a8 (j61 z hz (fun c => a8 c.2))
    · exact br_f a0 (j61 z hz (fun c => a0 c.1))
  simp only [wpY_blocks, wY_blocks_30, cy, cx, vy, vx, true_and]
  by_cases a5 : (tr x &&& 2) = 0
  · exact br_t a5 (j31 0 ⟨fun _ => Or.inl a5, fun _ => rfl⟩)
  · refine br_f a5 ?_
    by_cases a6 : ii x = ii y
    · exact br_t a6 (j31 0 ⟨fun _ => Or.inr a6, fun _ => rfl⟩)
    · exact br_f a6 (j31 1 ⟨fun e => absurd e po_n10, fun c => (c.elim a5 a6).elim⟩)
theorem ya_walk {post : Int32 → Prop} {x s : Nat} {L : List Nat} (hl : po_lk li L) (hL : L.length ≤ 24) (hb : ∀ y, y ∈ L → y < 24) (hx : x < 24) (hs : s < 24) :
    ∀ (C A : List Nat) (n : Nat), L = A ++ C → C.length < n → post (po_bf x s C) → wY_ahead_131 post (nI x) (nI s) (nI P) hh ww (nI B) (nI L.length) mw fn us kd pl ii tg tr ta st ln dy li rt tu te tf go gw n (nI A.length) := by
  intro C
  induction C with
  | nil =>
    intro A n hE hn h
    obtain ⟨m, rfl⟩ : ∃ m, n = m + 1 := ⟨n - 1, by omega⟩
    have e : L.length = A.length := by rw [hE]; simp
    rw [e] at hL ⊢
    exact br_t (nI_le (Nat.le_refl _) (by omega)) h
  | cons c C ih =>
    intro A n hE hn h
    have hA : A.length < L.length := by rw [hE]; simp
    have hcm : c ∈ L := by rw [hE]; simp
    have hc : c < 24 := hb c hcm
    have cA : (nI A.length).toNatClampNeg = A.length := nI_clamp (by omega)
    obtain ⟨m, rfl⟩ : ∃ m, n = m + 1 := ⟨n - 1, by simp at hn; omega⟩
    have hlc : li A.length = nI c := hl A.length c (by rw [hE, List.getElem?_append_right (Nat.le_refl _)]; simp)
    have hv : vp_in (nI A.length) 24 := vp_in_nI (by omega) (by decide)
    refine br_f (nI_ge hA (by omega)) (And.intro hv ?_)
    rw [cA, hlc]
    by_cases e : c = x
    · subst e
      refine br_t rfl ?_
      unfold wY_ahead_159
      rw [cA, hlc]
      exact And.intro hv (br_t rfl (by
        have : po_bf c s (c :: C) = 1 := if_pos rfl
        rw [this] at h; exact h))
    · have e' : ¬ nI c = nI x := fun h' => e ((nI_eq (by omega) (by omega)).mp h')
      refine br_f e' (And.intro hv ?_)
      have h2 : post (if c = s then 0 else po_bf x s C) := by
        have : po_bf x s (c :: C) = if c = s then 0 else po_bf x s C := if_neg e
        rw [this] at h; exact h
      by_cases e2 : c = s
      · rw [if_pos e2] at h2
        refine br_t (by rw [e2]) ?_
        unfold wY_ahead_159
        rw [cA, hlc]
        exact And.intro hv (br_f e' h2)
      · rw [if_neg e2] at h2
        refine br_f (fun h' => e2 ((nI_eq (by omega) (by omega)).mp h')) (nm_r (e' := nI (A ++ [c]).length) (by rw [nI_1]; simp) (ih (A ++ [c]) m (by rw [hE]; simp) (by simp at hn; omega) h2))
theorem ya_eq {post : Int32 → Prop} {s : Nat} (hs : s < 24) (h : post 0) : wpY_ahead post (nI P, hh, ww, nI B, lc, mw, fn, us, kd, pl, ii, tg, tr, ta, st, ln, dy, li, rt, tu, te, tf, go, gw) (nI s) (nI s) := by
  unfold wpY_ahead
  refine yo_in (n := 24) hs (by decide) (br_t rfl ?_)
  refine yo_in (n := 24) hs (by decide) (br_t rfl ?_)
  exact br_t rfl h
theorem ya_ahead {post : Int32 → Prop} {x s : Nat} {L : List Nat} (hl : po_lk li L) (hL : L.length ≤ 24) (hb : ∀ y, y ∈ L → y < 24) (hx : x < 24) (hs : s < 24) (hne : x ≠ s) (h1 : po_ah us pl ii tg x s → post (po_bf x s L)) (h0 : ¬ po_ah us pl ii tg x s → post 0) : wpY_ahead post (nI P, hh, ww, nI B, nI L.length, mw, fn, us, kd, pl, ii, tg, tr, ta, st, ln, dy, li, rt, tu, te, tf, go, gw) (nI x) (nI s) := by
  have cx : (nI x).toNatClampNeg = x := nI_clamp (by omega)
  have cs : (nI s).toNatClampNeg = s := nI_clamp (by omega)
  have vx : vp_in (nI x) 24 := vp_in_nI hx (by decide)
  have vs : vp_in (nI s) 24 := vp_in_nI hs (by decide)
  unfold wpY_ahead
  refine yo_in (n := 24) hx (by decide) (br_t rfl ?_)
  refine yo_in (n := 24) hs (by decide) (br_t rfl ?_)
  refine br_f (fun e => hne ((nI_eq (by omega) (by omega)).mp e)) ?_
  rw [cx, cs]
  refine And.intro vx ?_
  by_cases a1 : us x = 0
  · exact br_t a1 (h0 (fun c => c.1 a1))
  refine br_f a1 (And.intro vs ?_)
  by_cases a2 : us s = 0
  · exact br_t a2 (h0 (fun c => c.2.1 a2))
  refine br_f a2 (And.intro vx (And.intro vs ?_))
  by_cases a3 : pl x = pl s
  · refine br_t a3 (And.intro vx ?_)
    by_cases a4 : pl x = 3
    · exact br_t a4 (h0 (fun c => c.2.2.2.1 a4))
    refine br_f a4 (And.intro vx ?_)
    have key : (pl x = 2 ∨ ii x / 4 = ii s / 4) → wY_ahead_103 post (nI x) (nI s) (nI P) hh ww (nI B) (nI L.length) mw fn us kd pl ii tg tr ta st ln dy li rt tu te tf go gw := by
      intro a5
      unfold wY_ahead_103
      rw [cx, cs]
      refine And.intro vx ?_
      have hw : po_ah us pl ii tg x s → ∃ n, wY_ahead_131 post (nI x) (nI s) (nI P) hh ww (nI B) (nI L.length) mw fn us kd pl ii tg tr ta st ln dy li rt tu te tf go gw n 0 := fun c => ⟨L.length + 1, ya_walk hl hL hb hx hs L [] (L.length + 1) rfl (by omega) (h1 c)⟩
      by_cases a6 : pl x = 0
      · exact br_t a6 (hw ⟨a1, a2, a3, a4, a5, Or.inl a6⟩)
      · refine br_f a6 (And.intro vx (And.intro vs ?_))
        by_cases a7 : tg x = tg s
        · exact br_t a7 (hw ⟨a1, a2, a3, a4, a5, Or.inr a7⟩)
        · exact br_f a7 (h0 (fun c => c.2.2.2.2.2.elim a6 a7))
    by_cases a5 : pl x = 2
    · exact br_t a5 (key (Or.inl a5))
    · refine br_f a5 (And.intro vx (And.intro po_n4 (And.intro vs (And.intro po_n4 ?_))))
      by_cases a6 : ii x / 4 = ii s / 4
      · exact br_t a6 (key (Or.inr a6))
      · exact br_f a6 (h0 (fun c => c.2.2.2.2.1.elim a5 a6))
  · exact br_f a3 (h0 (fun c => a3 c.2.2.1))
theorem yk_walk {post : Int32 → Prop} {s : Nat} {L : List Nat} {av : Nat → Bool} (hl : po_lk li L) (hL : L.length ≤ 24) (hb : ∀ y, y ∈ L → y < 24) (hs : s < 24)
    (hav : ∀ y, y ∈ L → ∀ post : Int32 → Prop, post (if av y = true then 1 else 0) → wpY_ahead post (nI P, hh, ww, nI B, nI L.length, mw, fn, us, kd, pl, ii, tg, tr, ta, st, ln, dy, li, rt, tu, te, tf, go, gw) (nI y) (nI s)) :
    ∀ (C A : List Nat) (n : Nat), L = A ++ C → C.length < n → post (po_fb (-13) (fun y => av y && po_bk kd tr ii tg ta y s) C) → wY_blocker_26 post (nI s) (nI P) hh ww (nI B) (nI L.length) mw fn us kd pl ii tg tr ta st ln dy li rt tu te tf go gw n (nI A.length) := by
  intro C
  induction C with
  | nil =>
    intro A n hE hn h
    obtain ⟨m, rfl⟩ : ∃ m, n = m + 1 := ⟨n - 1, by omega⟩
    have e : L.length = A.length := by rw [hE]; simp
    rw [e] at hL ⊢
    exact br_t (nI_le (Nat.le_refl _) (by omega)) h
  | cons c C ih =>
    intro A n hE hn h
    have hA : A.length < L.length := by rw [hE]; simp
    have hcm : c ∈ L := by rw [hE]; simp
    have hc : c < 24 := hb c hcm
    have cA : (nI A.length).toNatClampNeg = A.length := nI_clamp (by omega)
    obtain ⟨m, rfl⟩ : ∃ m, n = m + 1 := ⟨n - 1, by simp at hn; omega⟩
    have hlc : li A.length = nI c := hl A.length c (by rw [hE, List.getElem?_append_right (Nat.le_refl _)]; simp)
    have hv : vp_in (nI A.length) 24 := vp_in_nI (by omega) (by decide)
    have hnext : ∀ h2 : post (po_fb (-13) (fun y => av y && po_bk kd tr ii tg ta y s) C), ∀ x2 : Int32, x2 = nI A.length + 1 → wY_blocker_26 post (nI s) (nI P) hh ww (nI B) (nI L.length) mw fn us kd pl ii tg tr ta st ln dy li rt tu te tf go gw m x2 := fun h2 => nm_r (e' := nI (A ++ [c]).length) (by rw [nI_1]; simp) (ih (A ++ [c]) m (by rw [hE]; simp) (by simp at hn; omega) h2)
    refine br_f (nI_ge hA (by omega)) (And.intro hv ?_)
    rw [cA, hlc]
    refine hav c hcm _ ?_
    cases hac : av c with
    | false =>
      rw [po_fb_f (by simp [hac])] at h
      exact br_t rfl (hnext h)
    | true =>
      refine br_f po_n10 (And.intro hv ?_)
      refine yb_blk hc hs ?_
      by_cases b : po_bk kd tr ii tg ta c s = true
      · rw [if_pos b]
        rw [po_fb_t (by simp [hac, b])] at h
        exact br_f po_n10 (And.intro hv h)
      · rw [if_neg b]
        rw [po_fb_f (by simp [b])] at h
        exact br_t rfl (hnext h)
end YW
end
section
/-! the line and the queues, pure; Y's leave, enter, make; X's create -/
theorem po_lk_s {l : Nat → Int32} {L : List Nat} {c : Nat} (h : po_lk l L) : po_lk (upd l L.length (nI c)) (L ++ [c]) := by
  intro i x hi
  by_cases e : i = L.length
  · subst e
    rw [List.getElem?_append_right (Nat.le_refl _)] at hi
    simp at hi
    rw [hi]; exact pk_us
  · have hlt : i < L.length := by
      have := (List.getElem?_eq_some_iff.mp hi).1
      simp at this
      omega
    rw [List.getElem?_append_left hlt] at hi
    rw [pk_un e]; exact h i x hi
theorem po_Qf_a {pl ii tg pl' ii' tg' : Nat → Int32} {L : List Nat} {s : Nat} (h : ∀ x, x ≠ s → po_q pl' ii' tg' x = po_q pl ii tg x) (hs : s ∉ L) (k : Nat) : po_Qf pl' ii' tg' (L ++ [s]) k = if k = po_q pl' ii' tg' s then po_Qf pl ii tg L k ++ [s] else po_Qf pl ii tg L k := by
  have h1 : L.filter (fun x => decide (po_q pl' ii' tg' x = k)) = L.filter (fun x => decide (po_q pl ii tg x = k)) := List.filter_congr (fun x hx => by rw [h x (fun e => hs (e ▸ hx))])
  unfold po_Qf
  rw [List.filter_append, h1]
  by_cases e : k = po_q pl' ii' tg' s
  · rw [if_pos e, List.filter_cons_of_pos (p := fun x => decide (po_q pl' ii' tg' x = k)) (decide_eq_true e.symm)]; rfl
  · rw [if_neg e, List.filter_cons_of_neg (by rw [decide_eq_true_eq]; exact fun e' => e e'.symm)]; simp
theorem po_Qf_r {pl ii tg : Nat → Int32} {L1 L2 : List Nat} {s : Nat} (k : Nat) : po_Qf pl ii tg (L1 ++ L2) k = if k = po_q pl ii tg s then po_Qf pl ii tg L1 (po_q pl ii tg s) ++ po_Qf pl ii tg L2 (po_q pl ii tg s) else po_Qf pl ii tg (L1 ++ s :: L2) k := by
  unfold po_Qf
  by_cases e : k = po_q pl ii tg s
  · rw [if_pos e, List.filter_append, e]
  · rw [if_neg e, List.filter_append, List.filter_append, List.filter_cons_of_neg (by rw [decide_eq_true_eq]; exact fun e' => e e'.symm)]
theorem po_Qf_s {pl ii tg : Nat → Int32} {L1 L2 : List Nat} {s : Nat} : po_Qf pl ii tg (L1 ++ s :: L2) (po_q pl ii tg s) = po_Qf pl ii tg L1 (po_q pl ii tg s) ++ s :: po_Qf pl ii tg L2 (po_q pl ii tg s) := by
  unfold po_Qf
  rw [List.filter_append, List.filter_cons_of_pos (p := fun x => decide (po_q pl ii tg x = po_q pl ii tg s)) (decide_eq_true rfl)]
theorem po_Qf_m {pl ii tg : Nat → Int32} {L : List Nat} {x k : Nat} : x ∈ po_Qf pl ii tg L k ↔ x ∈ L ∧ po_q pl ii tg x = k := by
  unfold po_Qf
  rw [List.mem_filter, decide_eq_true_eq]
section YM
variable {k1 k2 k3 k4 k5 k6 k7 hh ww lc : Int32} {P B : Nat} {mw fn us kd pl ii tg tr ta st ln dx qu nx pv hd tl sv cr tu tm te tf tw dy li rt go gw : Nat → Int32}
theorem yl_walk {s : Nat} {L : List Nat} (hL : L.length ≤ 24) (hb : ∀ y, y ∈ L → y < 24) (hs : s < 24) :
    ∀ (C A : List Nat) (l' : Nat → Int32), L = A ++ C → po_lk l' (po_rm s A) → (∀ j x, C[j]? = some x → l' (A.length + j) = nI x) →
    ∃ li' : Nat → Int32, po_lk li' (po_rm s L) ∧ ∀ post : SY → Prop, post (nI P, hh, ww, nI B, nI (po_rm s L).length, mw, fn, us, kd, pl, ii, tg, tr, ta, st, ln, dy, li', rt, tu, te, tf, go, gw) → ∀ n, C.length < n → wY_leave_4 post (nI s) (nI P) hh ww (nI B) (nI L.length) n (nI (po_rm s A).length) (nI A.length) mw fn us kd pl ii tg tr ta st ln dy l' rt tu te tf go gw := by
  intro C
  induction C with
  | nil =>
    intro A l' hE h1 h2
    have e : L = A := by simpa using hE
    subst e
    refine ⟨l', h1, fun post h n hn => ?_⟩
    obtain ⟨m, rfl⟩ : ∃ m, n = m + 1 := ⟨n - 1, by omega⟩
    exact br_t (nI_le (Nat.le_refl _) (by omega)) h
  | cons c C ih =>
    intro A l' hE h1 h2
    have hA : A.length < L.length := by rw [hE]; simp
    have hcm : c ∈ L := by rw [hE]; simp
    have hc : c < 24 := hb c hcm
    have cA : (nI A.length).toNatClampNeg = A.length := nI_clamp (by omega)
    have hlc : l' A.length = nI c := h2 0 c rfl
    have hv : vp_in (nI A.length) 24 := vp_in_nI (by omega) (by decide)
    have eA : (A ++ [c]).length = A.length + 1 := by simp
    by_cases e : c = s
    · have er : po_rm s (A ++ [c]) = po_rm s A := by
        rw [po_rm_a, e, po_rm_c]; simp [po_rm]
      obtain ⟨li', g1, g2⟩ := ih (A ++ [c]) l' (by rw [hE]; simp) (by rw [er]; exact h1) (fun j x hj => by
        rw [eA, Nat.add_assoc, Nat.add_comm 1 j]
        exact h2 (j + 1) x hj)
      refine ⟨li', g1, fun post h n hn => ?_⟩
      obtain ⟨m, rfl⟩ : ∃ m, n = m + 1 := ⟨n - 1, by simp at hn; omega⟩
      have g3 := g2 post h m (by simp at hn; omega)
      rw [er, eA] at g3
      refine br_f (nI_ge hA (by omega)) (And.intro hv ?_)
      rw [cA, hlc]
      exact br_t (by rw [e]) (nm_r (nI_1 _) g3)
    · have er : po_rm s (A ++ [c]) = po_rm s A ++ [c] := by
        rw [po_rm_a, po_rm_c' e]; simp [po_rm]
      have hk : (po_rm s A).length ≤ A.length := po_rm_l
      have ck : (nI (po_rm s A).length).toNatClampNeg = (po_rm s A).length := nI_clamp (by omega)
      obtain ⟨li', g1, g2⟩ := ih (A ++ [c]) (upd l' (po_rm s A).length (nI c)) (by rw [hE]; simp) (by rw [er]; exact po_lk_s h1) (fun j x hj => by
        rw [eA, Nat.add_assoc, Nat.add_comm 1 j, pk_un (by omega)]
        exact h2 (j + 1) x hj)
      refine ⟨li', g1, fun post h n hn => ?_⟩
      obtain ⟨m, rfl⟩ : ∃ m, n = m + 1 := ⟨n - 1, by simp at hn; omega⟩
      have g3 := g2 post h m (by simp at hn; omega)
      have e3 : (po_rm s (A ++ [c])).length = (po_rm s A).length + 1 := by rw [er]; simp
      rw [e3, eA] at g3
      refine br_f (nI_ge hA (by omega)) (And.intro hv ?_)
      rw [cA, hlc, ck]
      exact br_f (fun h' => e ((nI_eq (by omega) (by omega)).mp h')) (And.intro hv (And.intro (vp_in_nI (by omega) (by decide)) (nm_e (nm_r (nI_1 _) (nm_r (nI_1 _) g3)))))
theorem yl_leave {s : Nat} {L : List Nat} (hl : po_lk li L) (hL : L.length ≤ 24) (hb : ∀ y, y ∈ L → y < 24) (hs : s < 24) :
    ∃ li' : Nat → Int32, po_lk li' (po_rm s L) ∧ ∀ post : SY → Prop, post (nI P, hh, ww, nI B, nI (po_rm s L).length, mw, fn, us, kd, pl, ii, tg, tr, ta, st, ln, dy, li', rt, tu, te, tf, go, gw) → wpY_leave post (nI P, hh, ww, nI B, nI L.length, mw, fn, us, kd, pl, ii, tg, tr, ta, st, ln, dy, li, rt, tu, te, tf, go, gw) (nI s) := by
  obtain ⟨li', g1, g2⟩ := yl_walk (P := P) (B := B) (hh := hh) (ww := ww) (mw := mw) (fn := fn) (us := us) (kd := kd) (pl := pl) (ii := ii) (tg := tg) (tr := tr) (ta := ta) (st := st) (ln := ln) (dy := dy) (rt := rt) (tu := tu) (te := te) (tf := tf) (go := go) (gw := gw) hL hb hs L [] li rfl (fun i x h => by simp [po_rm] at h) (fun j x h => by
    rw [List.length_nil, Nat.zero_add]; exact hl j x h)
  exact ⟨li', g1, fun post h => ⟨L.length + 1, g2 post h (L.length + 1) (by omega)⟩⟩
theorem yl_enter {s : Nat} {L : List Nat} {p : Int32} (hl : po_lk li L) (hd : L.Nodup) (hb : ∀ y, y ∈ L → y < 24) (hs : s < 24) :
    ∃ li' : Nat → Int32, po_lk li' (po_rm s L ++ [s]) ∧ ∀ post : SY → Prop, post (nI P, hh, ww, nI B, nI (po_rm s L ++ [s]).length, mw, fn, us, kd, upd pl s p, ii, tg, tr, ta, st, ln, dy, li', rt, tu, te, tf, go, gw) → wpY_enter post (nI P, hh, ww, nI B, nI L.length, mw, fn, us, kd, pl, ii, tg, tr, ta, st, ln, dy, li, rt, tu, te, tf, go, gw) (nI s) p := by
  obtain ⟨li', g1, g2⟩ := yl_leave (P := P) (B := B) (hh := hh) (ww := ww) (mw := mw) (fn := fn) (us := us) (kd := kd) (pl := pl) (ii := ii) (tg := tg) (tr := tr) (ta := ta) (st := st) (ln := ln) (dy := dy) (rt := rt) (tu := tu) (te := te) (tf := tf) (go := go) (gw := gw) hl (po_len hd hb) hb hs
  have hlen : (po_rm s L).length < 24 := po_len' (List.Nodup.sublist List.filter_sublist hd) (fun x hx => hb x (po_rm_m.mp hx).1) hs (fun hx => (po_rm_m.mp hx).2 rfl)
  have cs : (nI s).toNatClampNeg = s := nI_clamp (by omega)
  have vs : vp_in (nI s) 24 := vp_in_nI hs (by decide)
  have ck : (nI (po_rm s L).length).toNatClampNeg = (po_rm s L).length := nI_clamp (by omega)
  refine ⟨upd li' (po_rm s L).length (nI s), po_lk_s g1, fun post h => ?_⟩
  unfold wpY_enter
  refine g2 _ ?_
  refine And.intro vs (nm_r (e' := upd pl s p) (by rw [cs]) (br_f (nI_ge (b := 24) hlen (by decide)) (And.intro (vp_in_nI hlen (by decide)) (nm_r (e' := upd li' (po_rm s L).length (nI s)) (by rw [ck]) (nm_r (e' := nI (po_rm s L ++ [s]).length) (by rw [nI_1]; simp) h)))))
theorem ym_107 {post : Int32 → SY → Prop} {s : Nat} (hs : s < 24) (h : wpY_enter (fun u => post (nI s) u) (nI P, hh, ww, nI B, lc, mw, fn, us, kd, pl, ii, tg, tr, ta, st, ln, po_wr dy (s * 4) (fun _ => 0) 4, li, rt, tu, te, tf, go, gw) (nI s) 0) : ∀ n k, k ≤ 4 → 4 - k < n → wY_make_107 post (nI s) (nI P) hh ww (nI B) lc n (nI k) mw fn us kd pl ii tg tr ta st ln (po_wr dy (s * 4) (fun _ => 0) k) li rt tu te tf go gw := by
  intro n
  induction n with
  | zero => intro k h1 h2; omega
  | succ n ih =>
    intro k h1 h2
    by_cases e : k = 4
    · subst e
      exact br_t (nI_le (a := 4) (by omega) (by decide)) h
    · have ek : nI s * 4 + nI k = nI (s * 4 + k) := by rw [po_m4, nI_add]
      refine br_f (nI_ge (b := 4) (by omega) (by decide)) ?_
      rw [ek, nI_clamp (by omega)]
      exact And.intro (vp_in_nI (by omega) (by decide)) (nm_r po_wrs (nm_r (nI_1 k) (ih (k + 1) (by omega) (by omega))))
theorem ym_26 {s : Nat} {L : List Nat} {p0 p1 p2 p3 p4 p5 p6 : Int32} (hl : po_lk li L) (hd : L.Nodup) (hb : ∀ y, y ∈ L → y < 24) (hs : s < 24) (hn : s ∉ L) :
    ∃ li' : Nat → Int32, po_lk li' (L ++ [s]) ∧ ∀ post : Int32 → SY → Prop, post (nI s) (nI P, hh, ww, nI B, nI (L ++ [s]).length, mw, fn, upd us s 1, upd kd s p0, upd pl s 0, upd ii s p1, upd tg s p2, upd tr s p3, upd ta s p4, upd st s p5, upd ln s p6, po_wr dy (s * 4) (fun _ => 0) 4, li', rt, tu, te, tf, go, gw) → wY_make_26 post p0 p1 p2 p3 p4 p5 p6 (nI s) (nI P) hh ww (nI B) (nI L.length) mw fn us kd pl ii tg tr ta st ln dy li rt tu te tf go gw := by
  obtain ⟨li', g1, g2⟩ := yl_enter (hh := hh) (ww := ww) (P := P) (B := B) (mw := mw) (fn := fn) (us := upd us s 1) (kd := upd kd s p0) (pl := pl) (ii := upd ii s p1) (tg := upd tg s p2) (tr := upd tr s p3) (ta := upd ta s p4) (st := upd st s p5) (ln := upd ln s p6) (dy := po_wr dy (s * 4) (fun _ => 0) 4) (rt := rt) (tu := tu) (te := te) (tf := tf) (go := go) (gw := gw) (p := 0) hl hd hb hs
  rw [po_rm_n hn] at g1 g2
  refine ⟨li', g1, fun post h => ?_⟩
  have cs : (nI s).toNatClampNeg = s := nI_clamp (by omega)
  have vs : vp_in (nI s) 24 := vp_in_nI hs (by decide)
  have w := ym_107 (lc := nI L.length) (post := post) (s := s) (dy := dy) hs (g2 (fun u => post (nI s) u) h) 5 0 (by omega) (by omega)
  rw [po_wr0] at w
  unfold wY_make_26
  rw [cs, po_b1]
  exact br_t (nI_lt (b := 24) hs (by decide)) (And.intro vs (nm_e (And.intro vs (nm_e (And.intro vs (nm_e (And.intro vs (nm_e (And.intro vs (nm_e (And.intro vs (nm_e (And.intro vs (nm_e (And.intro vs (nm_e ⟨5, w⟩))))))))))))))))
theorem ym_slot {s : Nat} {L : List Nat} {p0 p1 p2 p3 p4 p5 p6 : Int32} (hl : po_lk li L) (hd : L.Nodup) (hb : ∀ y, y ∈ L → y < 24) (hs : s < 24) (hn : s ∉ L) (h0 : us s = 0) (hx : ∀ x, x < s → us x ≠ 0) :
    ∃ li' : Nat → Int32, po_lk li' (L ++ [s]) ∧ ∀ post : Int32 → SY → Prop, post (nI s) (nI P, hh, ww, nI B, nI (L ++ [s]).length, mw, fn, upd us s 1, upd kd s p0, upd pl s 0, upd ii s p1, upd tg s p2, upd tr s p3, upd ta s p4, upd st s p5, upd ln s p6, po_wr dy (s * 4) (fun _ => 0) 4, li', rt, tu, te, tf, go, gw) → wpY_make post (nI P, hh, ww, nI B, nI L.length, mw, fn, us, kd, pl, ii, tg, tr, ta, st, ln, dy, li, rt, tu, te, tf, go, gw) p0 p1 p2 p3 p4 p5 p6 := by
  obtain ⟨li', g1, g2⟩ := ym_26 (P := P) (B := B) (hh := hh) (ww := ww) (mw := mw) (fn := fn) (us := us) (kd := kd) (pl := pl) (ii := ii) (tg := tg) (tr := tr) (ta := ta) (st := st) (ln := ln) (dy := dy) (rt := rt) (tu := tu) (te := te) (tf := tf) (go := go) (gw := gw) (p0 := p0) (p1 := p1) (p2 := p2) (p3 := p3) (p4 := p4) (p5 := p5) (p6 := p6) hl hd hb hs hn
  refine ⟨li', g1, fun post h => ?_⟩
  have w : ∀ n k, k ≤ s → s - k < n → wY_make_3 post p0 p1 p2 p3 p4 p5 p6 (nI P) hh ww (nI B) (nI L.length) mw fn us kd pl ii tg tr ta st ln dy li rt tu te tf go gw n (nI k) := by
    intro n
    induction n with
    | zero => intro k h1 h2; omega
    | succ n ih =>
      intro k h1 h2
      have hc : (nI k).toNatClampNeg = k := nI_clamp (by omega)
      refine br_f (nI_ge (b := 24) (by omega) (by decide)) (And.intro (vp_in_nI (by omega) (by decide)) ?_)
      rw [hc]
      by_cases e : k = s
      · subst e
        exact br_t h0 (g2 post h)
      · exact br_f (hx k (by omega)) (nm_r (nI_1 k) (ih (k + 1) (by omega) (by omega)))
  exact ⟨s + 1, w (s + 1) 0 (by omega) (by omega)⟩
theorem ym_full {post : Int32 → SY → Prop} {p0 p1 p2 p3 p4 p5 p6 : Int32} (hx : ∀ x, x < 24 → us x ≠ 0) (h : post (-3) (nI P, hh, ww, nI B, lc, mw, fn, us, kd, pl, ii, tg, tr, ta, st, ln, dy, li, rt, tu, te, tf, go, gw)) : wpY_make post (nI P, hh, ww, nI B, lc, mw, fn, us, kd, pl, ii, tg, tr, ta, st, ln, dy, li, rt, tu, te, tf, go, gw) p0 p1 p2 p3 p4 p5 p6 := by
  have w : ∀ n k, k ≤ 24 → 24 - k < n → wY_make_3 post p0 p1 p2 p3 p4 p5 p6 (nI P) hh ww (nI B) lc mw fn us kd pl ii tg tr ta st ln dy li rt tu te tf go gw n (nI k) := by
    intro n
    induction n with
    | zero => intro k h1 h2; omega
    | succ n ih =>
      intro k h1 h2
      have hc : (nI k).toNatClampNeg = k := nI_clamp (by omega)
      by_cases e : k = 24
      · subst e
        exact br_t (nI_le (a := 24) (by omega) (by decide)) (br_f (nI_nlt (b := 24) (by omega) (by decide)) h)
      · refine br_f (nI_ge (b := 24) (by omega) (by decide)) (And.intro (vp_in_nI (by omega) (by decide)) ?_)
        rw [hc]
        exact br_f (hx k (by omega)) (nm_r (nI_1 k) (ih (k + 1) (by omega) (by omega)))
  exact ⟨25, w 25 0 (by omega) (by omega)⟩
theorem xc_full {post : Int32 → SX → Prop} {p0 p1 p2 p3 p4 p5 p6 : Int32} (hx : ∀ x, x < 24 → us x ≠ 0) (h : post (-3) (k1, k2, k3, k4, k5, k6, k7, nI P, nI B, mw, fn, us, kd, pl, ii, tg, tr, ta, st, ln, dx, qu, nx, pv, hd, tl, sv, cr, tu, tm, te, tf, tw)) : wpX_create post (k1, k2, k3, k4, k5, k6, k7, nI P, nI B, mw, fn, us, kd, pl, ii, tg, tr, ta, st, ln, dx, qu, nx, pv, hd, tl, sv, cr, tu, tm, te, tf, tw) p0 p1 p2 p3 p4 p5 p6 := by
  unfold wpX_create
  exact xe_fullW hx (br_f po_m1 h)
theorem xc_slot {Q : Nat → List Nat} {s i : Nat} {p0 p2 p3 p4 p5 p6 : Int32} (D : po_DL qu nx pv hd tl Q) (hs : s < 24) (h0 : us s = 0) (hx : ∀ x, x < s → us x ≠ 0) (hi : i < 16) (hn : ∀ k, k < 24 → s ∉ Q k) :
    ∃ qu' nx' pv' hd' tl' : Nat → Int32, po_DL qu' nx' pv' hd' tl' (fun k => if k = i / 4 then Q k ++ [s] else Q k) ∧ ∀ post : Int32 → SX → Prop, post (nI s) (k1, k2, k3, k4, k5, k6, k7, nI P, nI B, mw, fn, upd us s 1, upd kd s p0, upd pl s 0, upd ii s (nI i), upd tg s p2, upd tr s p3, upd ta s p4, upd st s p5, upd ln s p6, dx, qu', nx', pv', hd', tl', sv, cr, tu, tm, te, tf, tw) → wpX_create post (k1, k2, k3, k4, k5, k6, k7, nI P, nI B, mw, fn, us, kd, pl, ii, tg, tr, ta, st, ln, dx, qu, nx, pv, hd, tl, sv, cr, tu, tm, te, tf, tw) p0 (nI i) p2 p3 p4 p5 p6 := by
  obtain ⟨qu', nx', pv', hd', tl', g1, g2⟩ := xe_enq (k1 := k1) (k2 := k2) (k3 := k3) (k4 := k4) (k5 := k5) (k6 := k6) (k7 := k7) (P := P) (B := B) (mw := mw) (fn := fn) (us := upd us s 1) (kd := upd kd s p0) (pl := upd pl s 0) (ii := upd ii s (nI i)) (tg := upd tg s p2) (tr := upd tr s p3) (ta := upd ta s p4) (st := upd st s p5) (ln := upd ln s p6) (dx := dx) (sv := sv) (cr := cr) (tu := tu) (tm := tm) (te := te) (tf := tf) (tw := tw) D hs (q := i / 4) (by omega) hn
  refine ⟨qu', nx', pv', hd', tl', g1, fun post h => ?_⟩
  have cs : (nI s).toNatClampNeg = s := nI_clamp (by omega)
  have vs : vp_in (nI s) 24 := vp_in_nI hs (by decide)
  have e4 : nI i / 4 = nI (i / 4) := po_d4 (by omega)
  unfold wpX_create
  refine xe_slotW hs h0 hx (br_t (nI_pos' (by omega)) ?_)
  rw [cs, po_b1, e4]
  exact And.intro vs (nm_e (And.intro vs (nm_e (And.intro vs (nm_e (And.intro vs (nm_e (And.intro vs (nm_e (And.intro vs (nm_e (And.intro vs (nm_e (And.intro vs (nm_e (And.intro vs (nm_e (And.intro po_n4 (g2 _ h)))))))))))))))))))
end YM
end
section
/-! credits -/
def po_sh (cr : Nat → Int32) (l k w1 w2 : Nat) (co : Int32) : Nat → Int32 :=
  let f1 := upd cr (po_ix l k 0 w1) (cr (po_ix l k 0 w1) - 1)
  let f2 := upd f1 (po_ix l k 0 w2) (f1 (po_ix l k 0 w2) + 1)
  let f3 := upd f2 (po_ix l k 1 w1) (f2 (po_ix l k 1 w1) - co)
  upd f3 (po_ix l k 1 w2) (f3 (po_ix l k 1 w2) + co)
def po_gb (rt : Nat → Int32) (l k : Nat) (co : Int32) : Nat → Int32 :=
  let f1 := upd rt ((l * 3 + k) * 2) (rt ((l * 3 + k) * 2) + 1)
  upd f1 ((l * 3 + k) * 2 + 1) (f1 ((l * 3 + k) * 2 + 1) + co)
def po_rc (cr : Nat → Int32) (l k : Nat) : Nat → Int32 :=
  let f1 := upd cr (po_ix l k 0 0) (cr (po_ix l k 0 0) + cr (po_ix l k 0 2))
  let f2 := upd f1 (po_ix l k 0 2) 0
  let f3 := upd f2 (po_ix l k 1 0) (f2 (po_ix l k 1 0) + f2 (po_ix l k 1 2))
  upd f3 (po_ix l k 1 2) 0
theorem po_ix_n {l k u w l' k' u' w' : Nat} (hk : k < 3) (hu : u < 2) (hw : w < 3) (hk' : k' < 3) (hu' : u' < 2) (hw' : w' < 3) (h : ¬ (l' = l ∧ k' = k ∧ u' = u ∧ w' = w)) : po_ix l' k' u' w' ≠ po_ix l k u w := by
  unfold po_ix
  omega
theorem po_sh_o {cr : Nat → Int32} {l k w1 w2 l' k' u' w' : Nat} {co : Int32} (hk : k < 3) (h1 : w1 < 3) (h2 : w2 < 3) (hk' : k' < 3) (hu' : u' < 2) (hw' : w' < 3) (h : ¬ (l' = l ∧ k' = k) ∨ (w' ≠ w1 ∧ w' ≠ w2)) : po_sh cr l k w1 w2 co (po_ix l' k' u' w') = cr (po_ix l' k' u' w') := by
  unfold po_sh
  rw [pk_un (po_ix_n hk (by omega) h2 hk' hu' hw' (by omega)), pk_un (po_ix_n hk (by omega) h1 hk' hu' hw' (by omega)), pk_un (po_ix_n hk (by omega) h2 hk' hu' hw' (by omega)), pk_un (po_ix_n hk (by omega) h1 hk' hu' hw' (by omega))]
theorem po_sh_1 {cr : Nat → Int32} {l k w1 w2 u : Nat} {co : Int32} (hk : k < 3) (h1 : w1 < 3) (h2 : w2 < 3) (hw : w1 ≠ w2) (hu : u < 2) : po_sh cr l k w1 w2 co (po_ix l k u w1) = cr (po_ix l k u w1) - (if u = 0 then 1 else co) := by
  unfold po_sh
  rcases (by omega : u = 0 ∨ u = 1) with rfl | rfl
  · rw [pk_un (po_ix_n hk (by omega) h2 hk hu h1 (by omega)), pk_un (po_ix_n hk (by omega) h1 hk hu h1 (by omega)), pk_un (po_ix_n hk (by omega) h2 hk hu h1 (by omega)), pk_us]
    rfl
  · rw [pk_un (po_ix_n hk (by omega) h2 hk hu h1 (by omega)), pk_us, pk_un (po_ix_n hk (by omega) h2 hk hu h1 (by omega)), pk_un (po_ix_n hk (by omega) h1 hk hu h1 (by omega))]
    rfl
theorem po_sh_2 {cr : Nat → Int32} {l k w1 w2 u : Nat} {co : Int32} (hk : k < 3) (h1 : w1 < 3) (h2 : w2 < 3) (hw : w1 ≠ w2) (hu : u < 2) : po_sh cr l k w1 w2 co (po_ix l k u w2) = cr (po_ix l k u w2) + (if u = 0 then 1 else co) := by
  unfold po_sh
  rcases (by omega : u = 0 ∨ u = 1) with rfl | rfl
  · rw [pk_un (po_ix_n hk (by omega) h2 hk hu h2 (by omega)), pk_un (po_ix_n hk (by omega) h1 hk hu h2 (by omega)), pk_us, pk_un (po_ix_n hk (by omega) h1 hk hu h2 (by omega))]
    rfl
  · rw [pk_us, pk_un (po_ix_n hk (by omega) h1 hk hu h2 (by omega)), pk_un (po_ix_n hk (by omega) h2 hk hu h2 (by omega)), pk_un (po_ix_n hk (by omega) h1 hk hu h2 (by omega))]
    rfl
theorem po_gb_o {rt : Nat → Int32} {l k l' k' u' : Nat} {co : Int32} (hk : k < 3) (hk' : k' < 3) (hu' : u' < 2) (h : ¬ (l' = l ∧ k' = k)) : po_gb rt l k co ((l' * 3 + k') * 2 + u') = rt ((l' * 3 + k') * 2 + u') := by
  unfold po_gb
  rw [pk_un (by omega), pk_un (by omega)]
theorem po_gb_s {rt : Nat → Int32} {l k u : Nat} {co : Int32} (hu : u < 2) : po_gb rt l k co ((l * 3 + k) * 2 + u) = rt ((l * 3 + k) * 2 + u) + (if u = 0 then 1 else co) := by
  unfold po_gb
  rcases (by omega : u = 0 ∨ u = 1) with rfl | rfl
  · rw [pk_un (by omega)]
    show upd rt ((l * 3 + k) * 2) _ ((l * 3 + k) * 2) = _
    rw [pk_us]
    rfl
  · rw [pk_us, pk_un (by omega)]
    rfl
theorem po_CSc {P : Nat} {hh ww : Int32} {cs cs' : Nat → Nat → Nat → Int32} {cr rt : Nat → Int32} (h : po_CS P hh ww cs cr rt) (e : ∀ l k u, l < 2 * P → k < 3 → u < 2 → cs' l k u = cs l k u) : po_CS P hh ww cs' cr rt := by
  intro l k u hl hk hu
  rw [e l k u hl hk hu]
  exact h l k u hl hk hu
theorem po_CS1 {P : Nat} {hh ww : Int32} {cs : Nat → Nat → Nat → Int32} {cr rt : Nat → Int32} {l k : Nat} {co : Int32} (h : po_CS P hh ww cs cr rt) (hk : k < 3) : po_CS P hh ww (fun l' k' u' => if l' = l ∧ k' = k then cs l' k' u' + (if u' = 0 then 1 else co) else cs l' k' u') (po_sh cr l k 0 1 co) rt := by
  intro l' k' u' hl' hk' hu'
  obtain ⟨h1, h2, h3⟩ := h l' k' u' hl' hk' hu'
  by_cases e : l' = l ∧ k' = k
  · obtain ⟨rfl, rfl⟩ := e
    dsimp only
    rw [if_pos ⟨rfl, rfl⟩, po_sh_2 hk (by omega) (by omega) (by omega) hu', po_sh_o hk (by omega) (by omega) hk hu' (by omega) (Or.inr (by omega)), po_sh_1 hk (by omega) (by omega) (by omega) hu', h1, h2, h3]
    refine ⟨rfl, rfl, ?_⟩
    grind
  · dsimp only
    rw [if_neg e, po_sh_o hk (by omega) (by omega) hk' hu' (by omega) (Or.inl e), po_sh_o hk (by omega) (by omega) hk' hu' (by omega) (Or.inl e), po_sh_o hk (by omega) (by omega) hk' hu' (by omega) (Or.inl e)]
    exact ⟨h1, h2, h3⟩
theorem po_CS2 {P : Nat} {hh ww : Int32} {cs : Nat → Nat → Nat → Int32} {cr rt : Nat → Int32} {l k : Nat} {co : Int32} (h : po_CS P hh ww cs cr rt) (hk : k < 3) : po_CS P hh ww (fun l' k' u' => if l' = l ∧ k' = k then cs l' k' u' - (if u' = 0 then 1 else co) else cs l' k' u') (po_sh cr l k 1 2 co) (po_gb rt l k co) := by
  intro l' k' u' hl' hk' hu'
  obtain ⟨h1, h2, h3⟩ := h l' k' u' hl' hk' hu'
  by_cases e : l' = l ∧ k' = k
  · obtain ⟨rfl, rfl⟩ := e
    dsimp only
    rw [if_pos ⟨rfl, rfl⟩, po_gb_s hu', po_sh_1 hk (by omega) (by omega) (by omega) hu', po_sh_2 hk (by omega) (by omega) (by omega) hu', po_sh_o hk (by omega) (by omega) hk hu' (by omega) (Or.inr (by omega)), h1, h2, h3]
    refine ⟨rfl, rfl, ?_⟩
    grind
  · dsimp only
    rw [if_neg e, po_gb_o hk hk' hu' e, po_sh_o hk (by omega) (by omega) hk' hu' (by omega) (Or.inl e), po_sh_o hk (by omega) (by omega) hk' hu' (by omega) (Or.inl e), po_sh_o hk (by omega) (by omega) hk' hu' (by omega) (Or.inl e)]
    exact ⟨h1, h2, h3⟩
theorem po_CS3 {P : Nat} {hh ww : Int32} {cs : Nat → Nat → Nat → Int32} {cr rt : Nat → Int32} {l k : Nat} (h : po_CS P hh ww cs cr rt) (hk : k < 3) : po_CS P hh ww cs (po_rc cr l k) (upd (upd rt ((l * 3 + k) * 2) 0) ((l * 3 + k) * 2 + 1) 0) := by
  intro l' k' u' hl' hk' hu'
  obtain ⟨h1, h2, h3⟩ := h l' k' u' hl' hk' hu'
  by_cases e : l' = l ∧ k' = k
  · obtain ⟨rfl, rfl⟩ := e
    have r0 : upd (upd rt ((l' * 3 + k') * 2) 0) ((l' * 3 + k') * 2 + 1) 0 ((l' * 3 + k') * 2 + u') = 0 := by
      unfold upd
      split
      · rfl
      · rw [if_pos (by omega)]
    rw [r0]
    unfold po_rc
    rcases (by omega : u' = 0 ∨ u' = 1) with rfl | rfl
    · rw [pk_un (po_ix_n hk (by omega) (by omega) hk (by omega) (by omega) (by omega)), pk_un (po_ix_n hk (by omega) (by omega) hk (by omega) (by omega) (by omega)), pk_un (po_ix_n hk (by omega) (by omega) hk (by omega) (by omega) (by omega)), pk_un (po_ix_n hk (by omega) (by omega) hk (by omega) (by omega) (by omega))]
      rw [pk_un (po_ix_n (w' := 2) (u' := 0) hk (by omega) (by omega) hk (by omega) (by omega) (by omega)), pk_un (po_ix_n (w' := 2) (u' := 0) hk (by omega) (by omega) hk (by omega) (by omega) (by omega)), pk_us]
      rw [pk_un (po_ix_n (w' := 0) (u' := 0) hk (by omega) (by omega) hk (by omega) (by omega) (by omega)), pk_un (po_ix_n (w' := 0) (u' := 0) hk (by omega) (by omega) hk (by omega) (by omega) (by omega)), pk_un (po_ix_n (w' := 0) (u' := 0) hk (by omega) (by omega) hk (by omega) (by omega) (by omega)), pk_us]
      refine ⟨h1, rfl, ?_⟩
      rw [h2, h3]
      grind
    · rw [pk_un (po_ix_n (w' := 1) (u' := 1) hk (by omega) (by omega) hk (by omega) (by omega) (by omega)), pk_un (po_ix_n (w' := 1) (u' := 1) hk (by omega) (by omega) hk (by omega) (by omega) (by omega)), pk_un (po_ix_n (w' := 1) (u' := 1) hk (by omega) (by omega) hk (by omega) (by omega) (by omega)), pk_un (po_ix_n (w' := 1) (u' := 1) hk (by omega) (by omega) hk (by omega) (by omega) (by omega))]
      rw [pk_us]
      rw [pk_un (po_ix_n (w' := 0) (u' := 1) hk (by omega) (by omega) hk (by omega) (by omega) (by omega)), pk_us]
      rw [pk_un (po_ix_n (w' := 0) (u' := 1) hk (by omega) (by omega) hk (by omega) (by omega) (by omega)), pk_un (po_ix_n (w' := 0) (u' := 1) hk (by omega) (by omega) hk (by omega) (by omega) (by omega))]
      rw [pk_un (po_ix_n (w' := 2) (u' := 1) hk (by omega) (by omega) hk (by omega) (by omega) (by omega)), pk_un (po_ix_n (w' := 2) (u' := 1) hk (by omega) (by omega) hk (by omega) (by omega) (by omega))]
      refine ⟨h1, rfl, ?_⟩
      rw [h2, h3]
      grind
  · have r0 : upd (upd rt ((l * 3 + k) * 2) 0) ((l * 3 + k) * 2 + 1) 0 ((l' * 3 + k') * 2 + u') = rt ((l' * 3 + k') * 2 + u') := by
      rw [pk_un (by omega), pk_un (by omega)]
    have o : ∀ w', w' < 3 → po_rc cr l k (po_ix l' k' u' w') = cr (po_ix l' k' u' w') := by
      intro w' hw'
      unfold po_rc
      rw [pk_un (po_ix_n hk (by omega) (by omega) hk' hu' hw' (by omega)), pk_un (po_ix_n hk (by omega) (by omega) hk' hu' hw' (by omega)), pk_un (po_ix_n hk (by omega) (by omega) hk' hu' hw' (by omega)), pk_un (po_ix_n hk (by omega) (by omega) hk' hu' hw' (by omega))]
    rw [r0, o 1 (by omega), o 2 (by omega), o 0 (by omega)]
    exact ⟨h1, h2, h3⟩
theorem po_co0 {kd ln : Nat → Int32} {s : Nat} : po_co 0 kd ln s = 1 := rfl
theorem po_co_i {kd ln : Nat → Int32} {s u : Nat} (hu : u < 2) : (if u = 0 then (1 : Int32) else po_co 1 kd ln s) = po_co u kd ln s := by
  rcases (by omega : u = 0 ∨ u = 1) with rfl | rfl <;> rfl
section CX
variable {k1 k2 k3 k4 k5 k6 k7 hh ww lc : Int32} {P B : Nat} {mw fn us kd pl ii tg tr ta st ln dx qu nx pv hd tl sv cr tu tm te tf tw dy li rt go gw : Nat → Int32}
theorem xd_cost {post : Int32 → Prop} {s : Nat} (hs : s < 24) (h : post (po_co 1 kd ln s)) : wpX_dataCost post (k1, k2, k3, k4, k5, k6, k7, nI P, nI B, mw, fn, us, kd, pl, ii, tg, tr, ta, st, ln, dx, qu, nx, pv, hd, tl, sv, cr, tu, tm, te, tf, tw) (nI s) := by
  have cs : (nI s).toNatClampNeg = s := nI_clamp (by omega)
  have vs : vp_in (nI s) 24 := vp_in_nI hs (by decide)
  unfold wpX_dataCost
  dsimp only
  rw [cs]
  refine And.intro vs ?_
  by_cases e : kd s = 1
  · have : po_co 1 kd ln s = 0 := by unfold po_co; rw [if_neg (by decide), if_pos e]
    rw [this] at h
    exact br_t e h
  · have : po_co 1 kd ln s = ln s := by unfold po_co; rw [if_neg (by decide), if_neg e]
    rw [this] at h
    exact br_f e (And.intro vs h)
theorem xs_ix (l k : Nat) : (nI l * 3 + nI k) * 6 = nI ((l * 3 + k) * 6) := by rw [po_m3, nI_add, po_m6]
theorem xs_shift {post : SX → Prop} {l k s w1 w2 : Nat} (hs : s < 24) (hl : l < 8) (hk : k < 3) (h1 : w1 < 3) (h2 : w2 < 3) (ek : kd s = nI k) (h : post (k1, k2, k3, k4, k5, k6, k7, nI P, nI B, mw, fn, us, kd, pl, ii, tg, tr, ta, st, ln, dx, qu, nx, pv, hd, tl, sv, po_sh cr l k w1 w2 (po_co 1 kd ln s), tu, tm, te, tf, tw)) : wpX_shift post (k1, k2, k3, k4, k5, k6, k7, nI P, nI B, mw, fn, us, kd, pl, ii, tg, tr, ta, st, ln, dx, qu, nx, pv, hd, tl, sv, cr, tu, tm, te, tf, tw) (nI l) (nI s) (nI w1) (nI w2) := by
  have cs : (nI s).toNatClampNeg = s := nI_clamp (by omega)
  have vs : vp_in (nI s) 24 := vp_in_nI hs (by decide)
  have i1 : nI ((l * 3 + k) * 6) + nI w1 = nI (po_ix l k 0 w1) := nI_add _ _
  have i2 : nI ((l * 3 + k) * 6) + nI w2 = nI (po_ix l k 0 w2) := nI_add _ _
  have i3 : nI ((l * 3 + k) * 6) + 3 + nI w1 = nI (po_ix l k 1 w1) := by rw [po_a3, nI_add]; rfl
  have i4 : nI ((l * 3 + k) * 6) + 3 + nI w2 = nI (po_ix l k 1 w2) := by rw [po_a3, nI_add]; rfl
  have b1 : po_ix l k 0 w1 < 144 := by unfold po_ix; omega
  have b2 : po_ix l k 0 w2 < 144 := by unfold po_ix; omega
  have b3 : po_ix l k 1 w1 < 144 := by unfold po_ix; omega
  have b4 : po_ix l k 1 w2 < 144 := by unfold po_ix; omega
  have v1 := vp_in_nI b1 (by decide)
  have v2 := vp_in_nI b2 (by decide)
  have v3 := vp_in_nI b3 (by decide)
  have v4 := vp_in_nI b4 (by decide)
  unfold wpX_shift
  dsimp only
  rw [cs, ek]
  refine And.intro vs ?_
  unfold wpX_creditIndex
  dsimp only
  rw [xs_ix]
  refine xd_cost hs ?_
  rw [i1, i2, i3, i4, nI_clamp (n := po_ix l k 0 w1) (by omega), nI_clamp (n := po_ix l k 0 w2) (by omega), nI_clamp (n := po_ix l k 1 w1) (by omega), nI_clamp (n := po_ix l k 1 w2) (by omega)]
  exact And.intro v1 (And.intro v1 (nm_e (And.intro v2 (And.intro v2 (nm_e (And.intro v3 (And.intro v3 (nm_e (And.intro v4 (And.intro v4 (nm_e h)))))))))))
theorem xk_claim {post : Int32 → SX → Prop} {l k s : Nat} (hs : s < 24) (hl : l < 8) (hk : k < 3) (ek : kd s = nI k)
    (h0 : 1 ≤ cr (po_ix l k 0 0) → po_co 1 kd ln s ≤ cr (po_ix l k 1 0) → post 0 (k1, k2, k3, k4, k5, k6, k7, nI P, nI B, mw, fn, us, kd, pl, ii, tg, tr, ta, st, ln, dx, qu, nx, pv, hd, tl, sv, po_sh cr l k 0 1 (po_co 1 kd ln s), tu, tm, te, tf, tw))
    (h7 : ¬ 1 ≤ cr (po_ix l k 0 0) → post (-7) (k1, k2, k3, k4, k5, k6, k7, nI P, nI B, mw, fn, us, kd, pl, ii, tg, tr, ta, st, ln, dx, qu, nx, pv, hd, tl, sv, cr, tu, tm, te, tf, tw))
    (h8 : 1 ≤ cr (po_ix l k 0 0) → ¬ po_co 1 kd ln s ≤ cr (po_ix l k 1 0) → post (-8) (k1, k2, k3, k4, k5, k6, k7, nI P, nI B, mw, fn, us, kd, pl, ii, tg, tr, ta, st, ln, dx, qu, nx, pv, hd, tl, sv, cr, tu, tm, te, tf, tw)) : wpX_claim post (k1, k2, k3, k4, k5, k6, k7, nI P, nI B, mw, fn, us, kd, pl, ii, tg, tr, ta, st, ln, dx, qu, nx, pv, hd, tl, sv, cr, tu, tm, te, tf, tw) (nI l) (nI s) := by
  have cs : (nI s).toNatClampNeg = s := nI_clamp (by omega)
  have vs : vp_in (nI s) 24 := vp_in_nI hs (by decide)
  have i1 : nI ((l * 3 + k) * 6) + 0 = nI (po_ix l k 0 0) := nI_add _ 0
  have i3 : nI ((l * 3 + k) * 6) + 3 + 0 = nI (po_ix l k 1 0) := by rw [po_a3, po_a0]; rfl
  have b1 : po_ix l k 0 0 < 144 := by unfold po_ix; omega
  have b3 : po_ix l k 1 0 < 144 := by unfold po_ix; omega
  have v1 := vp_in_nI b1 (by decide)
  have v3 := vp_in_nI b3 (by decide)
  unfold wpX_claim
  dsimp only
  rw [cs, ek]
  refine And.intro vs ?_
  unfold wpX_creditIndex
  dsimp only
  rw [xs_ix, i1, i3, nI_clamp (n := po_ix l k 0 0) (by omega), nI_clamp (n := po_ix l k 1 0) (by omega)]
  refine And.intro v1 (br_c (fun c1 => And.intro v3 ?_) h7)
  refine xd_cost hs ?_
  refine br_c (fun c2 => ?_) (h8 c1)
  exact xs_shift (w1 := 0) (w2 := 1) hs hl hk (by omega) (by omega) ek (h0 c1 c2)
theorem yd_cost {post : Int32 → Prop} {s u : Nat} (hs : s < 24) (hu : u < 2) (h : post (po_co u kd ln s)) : wpY_cost post (nI P, hh, ww, nI B, lc, mw, fn, us, kd, pl, ii, tg, tr, ta, st, ln, dy, li, rt, tu, te, tf, go, gw) (nI s) (nI u) := by
  have cs : (nI s).toNatClampNeg = s := nI_clamp (by omega)
  have vs : vp_in (nI s) 24 := vp_in_nI hs (by decide)
  unfold wpY_cost
  dsimp only
  rw [cs]
  rcases (by omega : u = 0 ∨ u = 1) with rfl | rfl
  · exact br_t nI_0 h
  · refine br_f (nI_ne0 (by omega) (by omega)) (And.intro vs ?_)
    by_cases e : kd s = 1
    · have : po_co 1 kd ln s = 0 := by unfold po_co; rw [if_neg (by decide), if_pos e]
      rw [this] at h
      exact br_t e h
    · have : po_co 1 kd ln s = ln s := by unfold po_co; rw [if_neg (by decide), if_neg e]
      rw [this] at h
      exact br_f e (And.intro vs h)
theorem yc_113 {post : Int32 → Prop} {J : Int32 → Int32 → Prop} {x k u : Nat} {x1 x4 x5 z : Int32} (hx : x < 24) (hu : u < 2) (h1 : (us x ≠ 0 ∧ kd x = nI k ∧ z ≠ 0) → J (x5 + po_co u kd ln x) (nI (x + 1))) (h0 : ¬ (us x ≠ 0 ∧ kd x = nI k ∧ z ≠ 0) → J x5 (nI (x + 1))) : wY_credits_113 post J x1 (nI k) (nI u) x4 x5 (nI x) z (nI P) hh ww (nI B) lc mw fn us kd pl ii tg tr ta st ln dy li rt tu te tf go gw := by
  have cx : (nI x).toNatClampNeg = x := nI_clamp (by omega)
  have vx : vp_in (nI x) 24 := vp_in_nI hx (by decide)
  unfold wY_credits_113
  rw [cx, nI_1]
  refine And.intro vx ?_
  by_cases a1 : us x = 0
  · exact br_t a1 (nm_e (h0 (fun c => c.1 a1)))
  refine br_f a1 (And.intro vx ?_)
  by_cases a2 : kd x = nI k
  · refine br_t a2 ?_
    by_cases a3 : z = 0
    · exact br_t a3 (nm_e (h0 (fun c => c.2.2 a3)))
    · exact br_f a3 (yd_cost hx hu (nm_e (nm_e (h1 ⟨a1, a2, a3⟩))))
  · exact br_f a2 (nm_e (h0 (fun c => a2 c.2.1)))
theorem yc_walk {post : Int32 → Prop} {l k u w : Nat} (hl : l < 8) (hk : k < 3) (hu : u < 2) (hw : w < 3)
    (h : post (if w = 0 then (po_gr hh ww k u - po_zs (po_ct P us kd pl ii tg ln l k u) 24) - rt ((l * 3 + k) * 2 + u) else if w = 1 then po_zs (po_ct P us kd pl ii tg ln l k u) 24 else rt ((l * 3 + k) * 2 + u))) :
    ∀ n x, x ≤ 24 → 24 - x < n → wY_credits_50 post (nI l) (nI k) (nI u) (nI w) (nI P) hh ww (nI B) lc mw fn us kd pl ii tg tr ta st ln dy li rt tu te tf go gw n (po_zs (po_ct P us kd pl ii tg ln l k u) x) (nI x) := by
  intro n
  induction n with
  | zero => intro x h1 h2; omega
  | succ n ih =>
    intro x h1 h2
    by_cases e : x = 24
    · subst e
      have ei : (nI l * 3 + nI k) * 2 + nI u = nI ((l * 3 + k) * 2 + u) := by rw [po_m3, nI_add, po_m2, nI_add]
      have hb : (l * 3 + k) * 2 + u < 48 := by omega
      have key : wY_credits_199 post (nI w) (po_zs (po_ct P us kd pl ii tg ln l k u) 24) (rt ((l * 3 + k) * 2 + u)) (po_gr hh ww k u) (nI P) hh ww (nI B) lc mw fn us kd pl ii tg tr ta st ln dy li rt tu te tf go gw := by
        unfold wY_credits_199
        rcases (by omega : w = 0 ∨ w = 1 ∨ w = 2) with rfl | rfl | rfl
        · exact br_t nI_0 h
        · exact br_f (nI_ne0 (by omega) (by omega)) (br_t rfl h)
        · exact br_f (nI_ne0 (by omega) (by omega)) (br_f (by decide) h)
      refine br_t (nI_le (a := 24) (by omega) (by decide)) ?_
      rw [ei, nI_clamp (by omega)]
      refine And.intro (vp_in_nI hb (by decide)) (nm_e ?_)
      rcases (by omega : u = 0 ∨ u = 1) with rfl | rfl
      · exact br_t nI_0 key
      · refine br_f (nI_ne0 (by omega) (by omega)) ?_
        by_cases ek : k = 1
        · subst ek
          exact br_t rfl key
        · have : po_gr hh ww k 1 = ww := by unfold po_gr; rw [if_neg (by decide), if_neg ek]
          rw [this] at key
          exact br_f (fun c => ek ((po_e1 (by omega)).mp c)) key
    · have hx : x < 24 := by omega
      have cx : (nI x).toNatClampNeg = x := nI_clamp (by omega)
      have vx : vp_in (nI x) 24 := vp_in_nI hx (by decide)
      have ih' := ih (x + 1) (by omega) (by omega)
      have ez : po_zs (po_ct P us kd pl ii tg ln l k u) (x + 1) = po_zs (po_ct P us kd pl ii tg ln l k u) x + po_ct P us kd pl ii tg ln l k u x := rfl
      rw [ez] at ih'
      have j1 : ((pl x = 1 ∧ ii x / 4 = nI l) ∨ (pl x = 2 ∧ nI P + tg x = nI l)) → wY_credits_113 post (wY_credits_50 post (nI l) (nI k) (nI u) (nI w) (nI P) hh ww (nI B) lc mw fn us kd pl ii tg tr ta st ln dy li rt tu te tf go gw n) (nI l) (nI k) (nI u) (nI w) (po_zs (po_ct P us kd pl ii tg ln l k u) x) (nI x) 1 (nI P) hh ww (nI B) lc mw fn us kd pl ii tg tr ta st ln dy li rt tu te tf go gw := by
        intro hc
        refine yc_113 hx hu (fun c => ?_) (fun c => ?_)
        · have : po_ct P us kd pl ii tg ln l k u x = po_co u kd ln x := if_pos ⟨c.1, c.2.1, hc⟩
          rw [this] at ih'
          exact ih'
        · have : po_ct P us kd pl ii tg ln l k u x = 0 := if_neg (fun c' => c ⟨c'.1, c'.2.1, po_n10⟩)
          rw [this, Int32.add_zero] at ih'
          exact ih'
      have j0 : ¬ ((pl x = 1 ∧ ii x / 4 = nI l) ∨ (pl x = 2 ∧ nI P + tg x = nI l)) → wY_credits_113 post (wY_credits_50 post (nI l) (nI k) (nI u) (nI w) (nI P) hh ww (nI B) lc mw fn us kd pl ii tg tr ta st ln dy li rt tu te tf go gw n) (nI l) (nI k) (nI u) (nI w) (po_zs (po_ct P us kd pl ii tg ln l k u) x) (nI x) 0 (nI P) hh ww (nI B) lc mw fn us kd pl ii tg tr ta st ln dy li rt tu te tf go gw := by
        intro hc
        have : po_ct P us kd pl ii tg ln l k u x = 0 := if_neg (fun c' => hc c'.2.2)
        rw [this, Int32.add_zero] at ih'
        exact yc_113 hx hu (fun c => absurd rfl c.2.2) (fun _ => ih')
      have j81 : ¬ (pl x = 1 ∧ ii x / 4 = nI l) → wY_credits_81 post (wY_credits_50 post (nI l) (nI k) (nI u) (nI w) (nI P) hh ww (nI B) lc mw fn us kd pl ii tg tr ta st ln dy li rt tu te tf go gw n) (nI l) (nI k) (nI u) (nI w) (po_zs (po_ct P us kd pl ii tg ln l k u) x) (nI x) (nI P) hh ww (nI B) lc mw fn us kd pl ii tg tr ta st ln dy li rt tu te tf go gw := by
        intro hc
        unfold wY_credits_81
        rw [cx]
        refine And.intro vx ?_
        by_cases a1 : pl x = 2
        · refine br_t a1 (And.intro vx ?_)
          by_cases a2 : nI P + tg x = nI l
          · exact br_t a2 (j1 (Or.inr ⟨a1, a2⟩))
          · exact br_f a2 (j0 (fun c => c.elim hc (fun c => a2 c.2)))
        · exact br_f a1 (j0 (fun c => c.elim hc (fun c => a1 c.1)))
      refine br_f (nI_ge (b := 24) hx (by decide)) ?_
      rw [cx]
      refine And.intro vx ?_
      by_cases a1 : pl x = 1
      · refine br_t a1 (And.intro vx (And.intro po_n4 ?_))
        by_cases a2 : ii x / 4 = nI l
        · exact br_t a2 (j1 (Or.inl ⟨a1, a2⟩))
        · exact br_f a2 (j81 (fun c => a2 c.2))
      · exact br_f a1 (j81 (fun c => a1 c.1))
theorem yc_credits {post : Int32 → Prop} {l k u w : Nat} (hP : P ≤ 4) (hl : l < 2 * P) (hk : k < 3) (hu : u < 2) (hw : w < 3)
    (h : post (if w = 0 then (po_gr hh ww k u - po_zs (po_ct P us kd pl ii tg ln l k u) 24) - rt ((l * 3 + k) * 2 + u) else if w = 1 then po_zs (po_ct P us kd pl ii tg ln l k u) 24 else rt ((l * 3 + k) * 2 + u))) :
    wpY_credits post (nI P, hh, ww, nI B, lc, mw, fn, us, kd, pl, ii, tg, tr, ta, st, ln, dy, li, rt, tu, te, tf, go, gw) (nI l) (nI k) (nI u) (nI w) := by
  unfold wpY_credits
  dsimp only
  rw [po_2m]
  refine yo_in hl (by omega) (br_t rfl ?_)
  refine yo_in (n := 3) hk (by decide) (br_t rfl ?_)
  refine yo_in (n := 2) hu (by decide) (br_t rfl ?_)
  refine yo_in (n := 3) hw (by decide) (br_t rfl ?_)
  exact ⟨25, yc_walk (by omega) hk hu hw h 25 0 (by omega) (by omega)⟩
theorem yk_check {post : Int32 → Prop} {l k s : Nat} (hP : P ≤ 4) (hs : s < 24) (hl : l < 2 * P) (hk : k < 3) (ek : kd s = nI k) (C : po_CR P hh ww us kd pl ii tg ln cr rt)
    (h0 : 1 ≤ cr (po_ix l k 0 0) → po_co 1 kd ln s ≤ cr (po_ix l k 1 0) → post 0)
    (h7 : ¬ 1 ≤ cr (po_ix l k 0 0) → post (-7))
    (h8 : 1 ≤ cr (po_ix l k 0 0) → ¬ po_co 1 kd ln s ≤ cr (po_ix l k 1 0) → post (-8)) : wpY_check post (nI P, hh, ww, nI B, lc, mw, fn, us, kd, pl, ii, tg, tr, ta, st, ln, dy, li, rt, tu, te, tf, go, gw) (nI s) (nI l) := by
  have cs : (nI s).toNatClampNeg = s := nI_clamp (by omega)
  have vs : vp_in (nI s) 24 := vp_in_nI hs (by decide)
  have e0 := (C l k 0 hl hk (by omega)).2.2
  have e1 := (C l k 1 hl hk (by omega)).2.2
  unfold wpY_check
  dsimp only
  rw [cs, ek]
  refine And.intro vs ?_
  refine yc_credits (u := 0) (w := 0) hP hl hk (by omega) (by omega) ?_
  rw [if_pos rfl, ← e0]
  refine yd_cost (u := 0) hs (by omega) ?_
  refine br_c (fun c1 => And.intro vs ?_) h7
  refine yc_credits (u := 1) (w := 0) hP hl hk (by omega) (by omega) ?_
  rw [if_pos rfl, ← e1]
  refine yd_cost (u := 1) hs (by omega) ?_
  exact br_c (h0 c1) (h8 c1)
theorem yg_back {post : SY → Prop} {l k s : Nat} (hs : s < 24) (hl : l < 8) (hk : k < 3) (ek : kd s = nI k) (h : post (nI P, hh, ww, nI B, lc, mw, fn, us, kd, pl, ii, tg, tr, ta, st, ln, dy, li, po_gb rt l k (po_co 1 kd ln s), tu, te, tf, go, gw)) : wpY_giveBack post (nI P, hh, ww, nI B, lc, mw, fn, us, kd, pl, ii, tg, tr, ta, st, ln, dy, li, rt, tu, te, tf, go, gw) (nI s) (nI l) := by
  have cs : (nI s).toNatClampNeg = s := nI_clamp (by omega)
  have vs : vp_in (nI s) 24 := vp_in_nI hs (by decide)
  have i0 : (nI l * 3 + nI k) * 2 + 0 = nI ((l * 3 + k) * 2) := by rw [po_m3, nI_add, po_m2, po_a0]
  have i1 : (nI l * 3 + nI k) * 2 + nI 1 = nI ((l * 3 + k) * 2 + 1) := by rw [po_m3, nI_add, po_m2, nI_add]
  have v0 : vp_in (nI ((l * 3 + k) * 2)) 48 := vp_in_nI (by omega) (by decide)
  have v1 : vp_in (nI ((l * 3 + k) * 2 + 1)) 48 := vp_in_nI (by omega) (by decide)
  refine ⟨3, ?_⟩
  refine br_f (nI_ge (a := 0) (b := 2) (by decide) (by decide)) ?_
  rw [cs, ek, i0, nI_clamp (n := (l * 3 + k) * 2) (by omega)]
  refine And.intro vs (And.intro v0 ?_)
  refine yd_cost (u := 0) hs (by omega) (And.intro v0 (nm_e (nm_r (e' := nI 1) rfl ?_)))
  refine br_f (nI_ge (a := 1) (b := 2) (by decide) (by decide)) ?_
  rw [cs, ek, i1, nI_clamp (n := (l * 3 + k) * 2 + 1) (by omega)]
  refine And.intro vs (And.intro v1 ?_)
  refine yd_cost (u := 1) hs (by omega) (And.intro v1 (nm_e (nm_r (e' := nI 2) rfl ?_)))
  exact br_t (nI_le (a := 2) (b := 2) (by decide) (by decide)) h
end CX
end
section
/-! what a call keeps: pure -/
section PU
variable {k1 k2 k3 k4 k5 k6 k7 hh ww lc : Int32} {P B : Nat} {mw fn us kd pl ii tg tr ta st ln dx qu nx pv hd tl sv cr tu tm te tf tw dy li rt go gw : Nat → Int32}
variable {s k p i t g a l : Nat}
theorem po_en_u {x : Nat} {vk vi vt vg : Int32} (hx : x ≠ s) : po_en (upd kd s vk) (upd ii s vi) (upd tg s vt) (upd ta s vg) x = po_en kd ii tg ta x := by
  unfold po_en
  rw [pk_un hx, pk_un hx, pk_un hx, pk_un hx]
theorem po_q_u {x : Nat} {vp vi vt : Int32} (hx : x ≠ s) : po_q (upd pl s vp) (upd ii s vi) (upd tg s vt) x = po_q pl ii tg x := by
  unfold po_q
  rw [pk_un hx, pk_un hx, pk_un hx]
theorem po_q_p {x : Nat} {vp : Int32} (hx : x ≠ s) : po_q (upd pl s vp) ii tg x = po_q pl ii tg x := by
  unfold po_q
  rw [pk_un hx]
theorem po_u1 {x : Nat} (h : upd us s 1 x ≠ 0) (hx : x ≠ s) : us x ≠ 0 := by
  rw [pk_un hx] at h; exact h
theorem po_u1s : upd us s 1 s ≠ 0 := by
  rw [pk_us]; exact po_n10
theorem po_u0 {x : Nat} (h : upd us s 0 x ≠ 0) : x ≠ s ∧ us x ≠ 0 := by
  by_cases e : x = s
  · subst e
    rw [pk_us] at h
    exact absurd rfl h
  · rw [pk_un e] at h
    exact ⟨e, h⟩
/-! a new packet -/
theorem po_PKn {vk vp vi vt vg va vl : Int32} (h : po_PK P us kd pl ii tg ta st ln) (hn : po_pk1 P vk vp vi vt vg va vl) : po_PK P (upd us s 1) (upd kd s vk) (upd pl s vp) (upd ii s vi) (upd tg s vt) (upd ta s vg) (upd st s va) (upd ln s vl) := by
  intro x hx hu
  by_cases e : x = s
  · subst e
    rw [pk_us, pk_us, pk_us, pk_us, pk_us, pk_us, pk_us]
    exact hn
  · rw [pk_un e, pk_un e, pk_un e, pk_un e, pk_un e, pk_un e, pk_un e]
    exact h x hx (po_u1 hu e)
theorem po_LNn {li' : Nat → Int32} {L : List Nat} (h : po_LN us pl li L) (hs : s < 24) (h0 : us s = 0) (hl : po_lk li' (L ++ [s])) : po_LN (upd us s 1) (upd pl s 0) li' (L ++ [s]) := by
  have hn : s ∉ L := fun hm => ((h.2.1 s).mp hm).2.1 h0
  refine ⟨List.nodup_append.mpr ⟨h.1, by simp, fun a ha b hb e => ?_⟩, fun x => ?_, hl⟩
  · have hb' : b = s := by simpa using hb
    rw [e, hb'] at ha
    exact hn ha
  by_cases e : x = s
  · subst e
    rw [pk_us, pk_us]
    exact ⟨fun _ => ⟨hs, po_n10, by decide⟩, fun _ => by simp⟩
  · rw [pk_un e, pk_un e, ← h.2.1 x]
    simp [e]
theorem po_DLn {qu' nx' pv' hd' tl' : Nat → Int32} {L : List Nat} {vt : Int32} (hn : s ∉ L) (hi : i < 2 ^ 31) (h : po_DL qu' nx' pv' hd' tl' (fun k => if k = i / 4 then po_Qf pl ii tg L k ++ [s] else po_Qf pl ii tg L k)) : po_DL qu' nx' pv' hd' tl' (po_Qf (upd pl s 0) (upd ii s (nI i)) (upd tg s vt) (L ++ [s])) := by
  refine po_DLc h fun q hq => ?_
  rw [po_Qf_a (pl := pl) (ii := ii) (tg := tg) (fun x hx => po_q_u hx) hn]
  have : po_q (upd pl s 0) (upd ii s (nI i)) (upd tg s vt) s = i / 4 := by
    unfold po_q
    rw [pk_us, pk_us, if_pos rfl, nI_clamp hi]
  rw [this]
theorem po_SVn {vt : Int32} (h : po_SV P us pl tg sv) (h0 : us s = 0) : po_SV P (upd us s 1) (upd pl s 0) (upd tg s vt) sv := by
  intro q hq
  have key : ∀ x, x < 24 → upd us s 1 x ≠ 0 → upd pl s 0 x = 3 → upd tg s vt x = nI q → x ≠ s ∧ us x ≠ 0 ∧ pl x = 3 ∧ tg x = nI q := by
    intro x hx h1 h2 h3
    have e : x ≠ s := by
      intro e
      rw [e, pk_us] at h2
      exact absurd h2 (by decide)
    rw [pk_un e] at h1 h2 h3
    exact ⟨e, h1, h2, h3⟩
  rcases h q hq with ⟨h1, h2⟩ | ⟨x, h1, h2, h3, h4, h5, h6⟩
  · refine Or.inl ⟨h1, fun x hx a b c => ?_⟩
    obtain ⟨_, b1, b2, b3⟩ := key x hx a b c
    exact h2 x hx b1 b2 b3
  · have e : x ≠ s := fun e => h3 (by rw [e]; exact h0)
    refine Or.inr ⟨x, h1, h2, by rw [pk_un e]; exact h3, by rw [pk_un e]; exact h4, by rw [pk_un e]; exact h5, fun y hy a b c => ?_⟩
    obtain ⟨_, b1, b2, b3⟩ := key y hy a b c
    exact h6 y hy b1 b2 b3
theorem po_CRn {vk vi vt vl : Int32} (h : po_CR P hh ww us kd pl ii tg ln cr rt) (h0 : us s = 0) : po_CR P hh ww (upd us s 1) (upd kd s vk) (upd pl s 0) (upd ii s vi) (upd tg s vt) (upd ln s vl) cr rt := by
  refine po_CSc h fun l k u _ _ _ => po_zc 24 fun x _ => ?_
  unfold po_ct
  by_cases e : x = s
  · subst e
    rw [if_neg, if_neg]
    · exact fun c => c.1 h0
    · rw [pk_us (f := pl)]
      exact fun c => c.2.2.elim (fun c => absurd c.1 (by decide)) (fun c => absurd c.1 (by decide))
  · unfold po_co
    rw [pk_un e, pk_un e, pk_un e, pk_un e, pk_un e, pk_un e]
/-! what a place gives to a count -/
theorem po_ctv {l' k' u : Nat} (hu : us s ≠ 0) (ek : kd s = nI k) (ep : pl s = nI p) (ei : ii s = nI i) (et : tg s = nI t) (hk : k < 3) (hp : p < 4) (hi : i < 16) (ht : t < 4) (hP : P ≤ 4) (hl : l' < 8) (hk' : k' < 3) :
    po_ct P us kd pl ii tg ln l' k' u s = if k' = k ∧ ((p = 1 ∧ l' = i / 4) ∨ (p = 2 ∧ l' = P + t)) then po_co u kd ln s else 0 := by
  have e1 : (pl s = 1) ↔ p = 1 := by rw [ep]; exact po_e1 (by omega)
  have e2 : (pl s = 2) ↔ p = 2 := by rw [ep]; exact po_e2 (by omega)
  have e3 : (ii s / 4 = nI l') ↔ l' = i / 4 := by
    rw [ei, po_d4 (by omega), nI_eq (by omega) (by omega)]
    exact ⟨Eq.symm, Eq.symm⟩
  have e4 : (nI P + tg s = nI l') ↔ l' = P + t := by
    rw [et, nI_add, nI_eq (by omega) (by omega)]
    exact ⟨Eq.symm, Eq.symm⟩
  have e5 : (kd s = nI k') ↔ k' = k := by
    rw [ek, nI_eq (by omega) (by omega)]
    exact ⟨Eq.symm, Eq.symm⟩
  unfold po_ct
  simp only [e1, e2, e3, e4, e5, hu, ne_eq, not_false_eq_true, true_and]
theorem po_ctp {x l' k' u : Nat} {v : Int32} (hx : x ≠ s) : po_ct P us kd (upd pl s v) ii tg ln l' k' u x = po_ct P us kd pl ii tg ln l' k' u x := by
  unfold po_ct
  rw [pk_un hx]
theorem po_ctu {x l' k' u : Nat} {v : Int32} (hx : x ≠ s) : po_ct P (upd us s v) kd pl ii tg ln l' k' u x = po_ct P us kd pl ii tg ln l' k' u x := by
  unfold po_ct
  rw [pk_un hx]
theorem po_cts {l' k' u : Nat} : po_ct P (upd us s 0) kd pl ii tg ln l' k' u s = 0 := by
  unfold po_ct
  rw [pk_us]
  exact if_neg (fun c => c.1 rfl)
theorem po_CR01 (h : po_CR P hh ww us kd pl ii tg ln cr rt) (hs : s < 24) (hu : us s ≠ 0) (ek : kd s = nI k) (ep : pl s = nI 0) (ei : ii s = nI i) (et : tg s = nI t) (hk : k < 3) (hi : i < 16) (ht : t < 4) (hP : P ≤ 4) :
    po_CR P hh ww us kd (upd pl s 1) ii tg ln (po_sh cr (i / 4) k 0 1 (po_co 1 kd ln s)) rt := by
  refine po_CSc (po_CS1 (l := i / 4) (k := k) (co := po_co 1 kd ln s) h hk) fun l' k' u' hl' hk' hu' => ?_
  rw [po_co_i hu']
  have e0 := po_ctv (ln := ln) (l' := l') (k' := k') (u := u') hu ek ep ei et hk (by omega) hi ht hP (by omega) hk'
  have e1 := po_ctv (pl := upd pl s 1) (p := 1) (ln := ln) (l' := l') (k' := k') (u := u') hu ek pk_us ei et hk (by omega) hi ht hP (by omega) hk'
  rw [if_neg (by omega)] at e0
  by_cases e : l' = i / 4 ∧ k' = k
  · rw [if_pos e]
    rw [if_pos ⟨e.2, Or.inl ⟨rfl, e.1⟩⟩] at e1
    exact po_zu (fun x hx => po_ctp hx) (by rw [e0, e1, Int32.zero_add]) 24 hs
  · rw [if_neg e]
    rw [if_neg (by omega)] at e1
    refine po_zc 24 fun x _ => ?_
    by_cases hx : x = s
    · rw [hx, e0, e1]
    · exact po_ctp hx
theorem po_CR12 (h : po_CR P hh ww us kd pl ii tg ln cr rt) (hs : s < 24) (hu : us s ≠ 0) (ek : kd s = nI k) (ep : pl s = nI 1) (ei : ii s = nI i) (et : tg s = nI t) (hk : k < 3) (hi : i < 4 * P) (ht : t < P) (hP : P ≤ 4) :
    po_CR P hh ww us kd (upd pl s 2) ii tg ln (po_sh (po_sh cr (P + t) k 0 1 (po_co 1 kd ln s)) (i / 4) k 1 2 (po_co 1 kd ln s)) (po_gb rt (i / 4) k (po_co 1 kd ln s)) := by
  refine po_CSc (po_CS2 (l := i / 4) (k := k) (co := po_co 1 kd ln s) (po_CS1 (l := P + t) (k := k) (co := po_co 1 kd ln s) h hk) hk) fun l' k' u' hl' hk' hu' => ?_
  rw [po_co_i hu']
  have e0 := po_ctv (ln := ln) (l' := l') (k' := k') (u := u') hu ek ep ei et hk (by omega) (by omega) (by omega) hP (by omega) hk'
  have e1 := po_ctv (pl := upd pl s 2) (p := 2) (ln := ln) (l' := l') (k' := k') (u := u') hu ek pk_us ei et hk (by omega) (by omega) (by omega) hP (by omega) hk'
  have hne : i / 4 ≠ P + t := by omega
  by_cases e : l' = i / 4 ∧ k' = k
  · rw [if_pos e, if_neg (by omega)]
    rw [if_pos ⟨e.2, Or.inl ⟨rfl, e.1⟩⟩] at e0
    rw [if_neg (by omega)] at e1
    exact po_zu' (fun x hx => po_ctp hx) (by rw [e0, e1, Int32.zero_add]) hs
  · rw [if_neg e]
    rw [if_neg (by omega)] at e0
    by_cases e' : l' = P + t ∧ k' = k
    · rw [if_pos e']
      rw [if_pos ⟨e'.2, Or.inr ⟨rfl, e'.1⟩⟩] at e1
      exact po_zu (fun x hx => po_ctp hx) (by rw [e0, e1, Int32.zero_add]) 24 hs
    · rw [if_neg e']
      rw [if_neg (by omega)] at e1
      refine po_zc 24 fun x _ => ?_
      by_cases hx : x = s
      · rw [hx, e0, e1]
      · exact po_ctp hx
theorem po_CR2x {us' pl' : Nat → Int32} (h : po_CR P hh ww us kd pl ii tg ln cr rt) (hs : s < 24) (hu : us s ≠ 0) (ek : kd s = nI k) (ep : pl s = nI 2) (ei : ii s = nI i) (et : tg s = nI t) (hk : k < 3) (hi : i < 4 * P) (ht : t < P) (hP : P ≤ 4)
    (hx : ∀ l k u x, x ≠ s → po_ct P us' kd pl' ii tg ln l k u x = po_ct P us kd pl ii tg ln l k u x) (h0 : ∀ l k u, l < 8 → k < 3 → po_ct P us' kd pl' ii tg ln l k u s = 0) :
    po_CR P hh ww us' kd pl' ii tg ln (po_sh cr (P + t) k 1 2 (po_co 1 kd ln s)) (po_gb rt (P + t) k (po_co 1 kd ln s)) := by
  refine po_CSc (po_CS2 (l := P + t) (k := k) (co := po_co 1 kd ln s) h hk) fun l' k' u' hl' hk' hu' => ?_
  rw [po_co_i hu']
  have e0 := po_ctv (ln := ln) (l' := l') (k' := k') (u := u') hu ek ep ei et hk (by omega) (by omega) (by omega) hP (by omega) hk'
  have e1 := h0 l' k' u' (by omega) hk'
  by_cases e : l' = P + t ∧ k' = k
  · rw [if_pos e]
    rw [if_pos ⟨e.2, Or.inr ⟨rfl, e.1⟩⟩] at e0
    exact po_zu' (fun x hx' => hx _ _ _ x hx') (by rw [e0, e1, Int32.zero_add]) hs
  · rw [if_neg e]
    rw [if_neg (by omega)] at e0
    refine po_zc 24 fun x _ => ?_
    by_cases hx' : x = s
    · rw [hx', e0, e1]
    · exact hx _ _ _ x hx'
/-! a packet's place changes, or it goes -/
theorem po_PKp {vp : Int32} (h : po_PK P us kd pl ii tg ta st ln) (hn : us s ≠ 0 → po_pk1 P (kd s) vp (ii s) (tg s) (ta s) (st s) (ln s)) : po_PK P us kd (upd pl s vp) ii tg ta st ln := by
  intro x hx hu
  by_cases e : x = s
  · subst e
    rw [pk_us]
    exact hn hu
  · rw [pk_un e]
    exact h x hx hu
theorem po_PK0 (h : po_PK P us kd pl ii tg ta st ln) : po_PK P (upd us s 0) kd pl ii tg ta st ln := fun x hx hu => h x hx (po_u0 hu).2
theorem po_SVp {v : Int32} (h : po_SV P us pl tg sv) (h3 : pl s ≠ 3) (hv : v ≠ 3) : po_SV P us (upd pl s v) tg sv := by
  have key : ∀ x, upd pl s v x = 3 ↔ pl x = 3 := by
    intro x
    by_cases e : x = s
    · subst e
      rw [pk_us]
      exact ⟨fun c => absurd c hv, fun c => absurd c h3⟩
    · rw [pk_un e]
  intro q hq
  rcases h q hq with ⟨h1, h2⟩ | ⟨x, h1, h2, h3, h4, h5, h6⟩
  · exact Or.inl ⟨h1, fun x hx a b c => h2 x hx a ((key x).mp b) c⟩
  · exact Or.inr ⟨x, h1, h2, h3, (key x).mpr h4, h5, fun y hy a b c => h6 y hy a ((key y).mp b) c⟩
theorem po_SV0 (h : po_SV P us pl tg sv) (h3 : pl s ≠ 3) : po_SV P (upd us s 0) pl tg sv := by
  intro q hq
  rcases h q hq with ⟨h1, h2⟩ | ⟨x, h1, h2, h3', h4, h5, h6⟩
  · exact Or.inl ⟨h1, fun x hx a b c => h2 x hx (po_u0 a).2 b c⟩
  · have e : x ≠ s := fun e => h3 (by rw [← e]; exact h4)
    exact Or.inr ⟨x, h1, h2, by rw [pk_un e]; exact h3', h4, h5, fun y hy a b c => h6 y hy (po_u0 a).2 b c⟩
theorem po_SVt (h : po_SV P us pl tg sv) (hs : s < 24) (hu : us s ≠ 0) (et : tg s = nI t) (htP : t < P) (hP : P ≤ 4) (hf : sv t = -1) (h3 : pl s ≠ 3) : po_SV P us (upd pl s 3) tg (upd sv t (nI s)) := by
  intro q hq
  by_cases e : q = t
  · subst e
    refine Or.inr ⟨s, hs, pk_us, hu, pk_us, et, fun x hx a b c => ?_⟩
    by_cases e : x = s
    · exact e
    · rw [pk_un e] at b
      rcases h q hq with ⟨h1, h2⟩ | ⟨y, h1, h2, _⟩
      · exact absurd c (h2 x hx a b)
      · rw [hf] at h2
        exact absurd h2.symm (po_nm (by omega))
  · have key : ∀ x, upd pl s 3 x = 3 → tg x = nI q → x ≠ s ∧ pl x = 3 := by
      intro x a c
      have e2 : x ≠ s := by
        intro e2
        rw [e2, et] at c
        exact e ((nI_eq (by omega) (by omega)).mp c).symm
      rw [pk_un e2] at a
      exact ⟨e2, a⟩
    rw [pk_un e]
    rcases h q hq with ⟨h1, h2⟩ | ⟨x, h1, h2, h3', h4, h5, h6⟩
    · exact Or.inl ⟨h1, fun x hx a b c => h2 x hx a (key x b c).2 c⟩
    · have e2 : x ≠ s := fun e2 => h3 (by rw [← e2]; exact h4)
      exact Or.inr ⟨x, h1, h2, h3', by rw [pk_un e2]; exact h4, h5, fun y hy a b c => h6 y hy a (key y b c).2 c⟩
theorem po_DT0 (h : po_DT us kd ln dx dy) : po_DT (upd us s 0) kd ln dx dy := fun x hx hu => h x hx (po_u0 hu).2
theorem po_T20 (h : po_T2 us kd ii tg ta st ln tu te tf go) : po_T2 (upd us s 0) kd ii tg ta st ln tu te tf go := fun x hx hu => h x hx (po_u0 hu).2
theorem po_T30 (h : po_T3 us kd ii tg ta st ln) : po_T3 (upd us s 0) kd ii tg ta st ln := fun x y hx hy hn hu hv => h x y hx hy hn (po_u0 hu).2 (po_u0 hv).2
/-! the line: a slot goes, or goes to the end -/
theorem po_LNg {L1 L2 : List Nat} {us' pl' li' : Nat → Int32} (h : po_LN us pl li (L1 ++ s :: L2)) (hl : po_lk li' (L1 ++ L2)) (hx : ∀ x, x ≠ s → us' x = us x ∧ pl' x = pl x) (hs : us' s = 0 ∨ pl' s = 3) : po_LN us' pl' li' (L1 ++ L2) := by
  obtain ⟨n1, n2, n3, n4, n5⟩ := po_nd h.1
  refine ⟨n5, fun x => ?_, hl⟩
  by_cases e : x = s
  · subst e
    refine ⟨fun hm => ?_, fun c => ?_⟩
    · rcases List.mem_append.mp hm with h | h
      · exact absurd h n1
      · exact absurd h n2
    · exact hs.elim (fun e => absurd e c.2.1) (fun e => absurd e c.2.2)
  · rw [(hx x e).1, (hx x e).2, ← h.2.1 x]
    simp [e]
theorem po_LNm {L1 L2 : List Nat} {li' : Nat → Int32} {v : Int32} (h : po_LN us pl li (L1 ++ s :: L2)) (hl : po_lk li' (L1 ++ L2 ++ [s])) (hv : v ≠ 3) : po_LN us (upd pl s v) li' (L1 ++ L2 ++ [s]) := by
  obtain ⟨n1, n2, n3, n4, n5⟩ := po_nd h.1
  have hs := (h.2.1 s).mp (by simp)
  refine ⟨?_, fun x => ?_, hl⟩
  · refine List.nodup_append.mpr ⟨n5, by simp, fun a ha b hb e => ?_⟩
    have hb' : b = s := by simpa using hb
    rw [e, hb'] at ha
    rcases List.mem_append.mp ha with h | h
    · exact n1 h
    · exact n2 h
  · by_cases e : x = s
    · subst e
      rw [pk_us]
      exact ⟨fun _ => ⟨hs.1, hs.2.1, hv⟩, fun _ => by simp⟩
    · rw [pk_un e, ← h.2.1 x]
      simp [e]
theorem po_DLm {qu' nx' pv' hd' tl' : Nat → Int32} {L1 L2 : List Nat} {v : Int32} {q1 : Nat} (hnd : (L1 ++ s :: L2).Nodup) (hq : po_q (upd pl s v) ii tg s = q1)
    (h : po_DL qu' nx' pv' hd' tl' (fun k => if k = q1 then (if k = po_q pl ii tg s then po_Qf pl ii tg L1 (po_q pl ii tg s) ++ po_Qf pl ii tg L2 (po_q pl ii tg s) else po_Qf pl ii tg (L1 ++ s :: L2) k) ++ [s] else (if k = po_q pl ii tg s then po_Qf pl ii tg L1 (po_q pl ii tg s) ++ po_Qf pl ii tg L2 (po_q pl ii tg s) else po_Qf pl ii tg (L1 ++ s :: L2) k))) : po_DL qu' nx' pv' hd' tl' (po_Qf (upd pl s v) ii tg (L1 ++ L2 ++ [s])) := by
  obtain ⟨n1, n2, _⟩ := po_nd hnd
  refine po_DLc h fun q _ => ?_
  rw [po_Qf_a (pl := pl) (ii := ii) (tg := tg) (fun x hx => po_q_p hx) (fun hm => (List.mem_append.mp hm).elim n1 n2), hq, po_Qf_r (s := s)]
end PU
end
section
/-! tags and data: pure -/
theorem po_cn_c {f h : Nat → Int32} {b : Nat} : ∀ n, (∀ j, j < n → f (b + j) = h (b + j)) → po_cn f b n = po_cn h b n
  | 0, _ => rfl
  | n + 1, e => by
    show po_cn f b n + (if f (b + n) = 0 then 1 else 0) = po_cn h b n + (if h (b + n) = 0 then 1 else 0)
    rw [po_cn_c n (fun j hj => e j (by omega)), e n (by omega)]
theorem po_cn_le {f : Nat → Int32} {b : Nat} : ∀ n, po_cn f b n ≤ n
  | 0 => Nat.le_refl 0
  | n + 1 => by
    have := po_cn_le (f := f) (b := b) n
    show po_cn f b n + (if f (b + n) = 0 then 1 else 0) ≤ n + 1
    split <;> omega
theorem po_cn_0 {f : Nat → Int32} {b : Nat} : ∀ n, (∀ j, j < n → f (b + j) = 0) → po_cn f b n = n
  | 0, _ => rfl
  | n + 1, e => by
    show po_cn f b n + (if f (b + n) = 0 then 1 else 0) = n + 1
    rw [po_cn_0 n (fun j hj => e j (by omega)), if_pos (e n (by omega))]
theorem po_cn_p {f : Nat → Int32} {b m : Nat} (h : f (b + m) = 0) : ∀ n, m < n → 0 < po_cn f b n
  | 0, hn => by omega
  | n + 1, hn => by
    show 0 < po_cn f b n + (if f (b + n) = 0 then 1 else 0)
    by_cases e : m = n
    · subst e
      rw [if_pos h]; omega
    · have := po_cn_p h n (by omega)
      omega
theorem po_cn_u {f : Nat → Int32} {b m : Nat} (h : f (b + m) = 0) : ∀ n, m < n → po_cn (upd f (b + m) 1) b n + 1 = po_cn f b n
  | 0, hn => by omega
  | n + 1, hn => by
    show po_cn (upd f (b + m) 1) b n + (if upd f (b + m) 1 (b + n) = 0 then 1 else 0) + 1 = po_cn f b n + (if f (b + n) = 0 then 1 else 0)
    by_cases e : m = n
    · subst e
      rw [pk_us, if_neg po_n10, if_pos h, po_cn_c (h := f) m (fun j hj => pk_un (by omega))]
    · have := po_cn_u h n (by omega)
      rw [pk_un (by omega)]
      omega
theorem po_cn_w {f : Nat → Int32} {b o : Nat} {n : Nat} : ∀ l, o + l ≤ n → (∀ j, j < l → f (b + o + j) = 0) → po_cn (po_wr f (b + o) (fun _ => 1) l) b n + l = po_cn f b n
  | 0, _, _ => by rw [po_wr0]; rfl
  | l + 1, hn, h => by
    have ih := po_cn_w (f := f) (b := b) (o := o) (n := n) l (by omega) (fun j hj => h j (by omega))
    rw [← po_wrs]
    have e : b + o + l = b + (o + l) := by omega
    have h2 : po_wr f (b + o) (fun _ => 1) l (b + (o + l)) = 0 := by
      rw [po_wro (by omega), ← e]; exact h l (by omega)
    have := po_cn_u h2 n (by omega)
    rw [e]
    omega
section TG
variable {k1 k2 k3 k4 k5 k6 k7 hh ww lc : Int32} {P B : Nat} {mw fn us kd pl ii tg tr ta st ln dx qu nx pv hd tl sv cr tu tm te tf tw dy li rt go gw : Nat → Int32}
variable {s k p i t g a l e : Nat}
/-- a packet's entry and numbers -/
theorem po_enR (ek : kd s = 1) (ei : ii s = nI i) (eg : ta s = nI g) (hi : i < 16) (hg : g < 4) : po_en kd ii tg ta s = i / 4 * 4 + g := by
  unfold po_en
  rw [if_pos ek, ei, eg, nI_clamp (by omega), nI_clamp (by omega)]
theorem po_enC (ek : kd s ≠ 1) (et : tg s = nI t) (eg : ta s = nI g) (ht : t < 4) (hg : g < 4) : po_en kd ii tg ta s = t * 4 + g := by
  unfold po_en
  rw [if_neg ek, et, eg, nI_clamp (by omega), nI_clamp (by omega)]
theorem po_en16 (h : po_pk1 P (kd s) (pl s) (ii s) (tg s) (ta s) (st s) (ln s)) (hP : P ≤ 4) : po_en kd ii tg ta s < 16 := by
  obtain ⟨k', p', i', t', g', a', l', e1, e2, e3, e4, e5, e6, e7, b⟩ := h
  unfold po_en
  rw [e3, e4, e5, nI_clamp (by omega), nI_clamp (by omega), nI_clamp (by omega)]
  split <;> omega
/-- where a packet's words lie -/
theorem po_T2b (h1 : po_T1 tu tm te tf tw go gw) {e a l : Nat} (h2 : po_t2 tu te tf go e a l) (he : e < 16) : ∀ j, j < l → a - (tf e).toNatClampNeg + j < 8 := by
  obtain ⟨q1, q2, q3, _⟩ := h2
  obtain ⟨L, f, e1, b1, e2, b2, _⟩ := h1 e he q1
  rw [e1, nI_clamp (by omega), e2, nI_clamp (by omega)] at q3
  rw [e2, nI_clamp (by omega)] at q2 ⊢
  intro j hj
  omega
/-! a posted packet -/
theorem po_T2P {vi vt vg va vl : Int32} (h : po_T2 us kd ii tg ta st ln tu te tf go) : po_T2 (upd us s 1) (upd kd s 0) (upd ii s vi) (upd tg s vt) (upd ta s vg) (upd st s va) (upd ln s vl) tu te tf go := by
  intro x hx hu hk
  have e : x ≠ s := by
    intro e
    rw [e, pk_us] at hk
    exact hk rfl
  rw [po_en_u e, pk_un e, pk_un e]
  rw [pk_un e] at hu hk
  exact h x hx hu hk
theorem po_T3P {vi vt vg va vl : Int32} (h : po_T3 us kd ii tg ta st ln) : po_T3 (upd us s 1) (upd kd s 0) (upd ii s vi) (upd tg s vt) (upd ta s vg) (upd st s va) (upd ln s vl) := by
  intro x y hx hy hn hu hv hk hm he
  have e1 : x ≠ s := by
    intro e
    rw [e, pk_us] at hk
    exact hk rfl
  have e2 : y ≠ s := by
    intro e
    rw [e, pk_us] at hm
    exact hm rfl
  rw [po_en_u e1, po_en_u e2] at he
  rw [pk_un e1, pk_un e1, pk_un e2, pk_un e2]
  rw [pk_un e1] at hu hk
  rw [pk_un e2] at hv hm
  exact h x y hx hy hn hu hv hk hm he
theorem po_l4 (h : po_PK P us kd pl ii tg ta st ln) (hs : s < 24) (hu : us s ≠ 0) (hk : kd s ≠ 1) : (ln s).toNatClampNeg ≤ 4 := by
  obtain ⟨k', p', i', t', g', a', l', e1, e2, e3, e4, e5, e6, e7, b⟩ := h s hs hu
  rw [e7, nI_clamp (by omega)]
  have : k' ≠ 1 := fun c => hk (by rw [e1, c]; rfl)
  omega
/-- data of a new packet -/
theorem po_DTn {vk : Int32} {f : Nat → Int32} (h : po_DT us kd ln dx dy) (hp : po_PK P us kd pl ii tg ta st ln) (hl : l ≤ 4) : po_DT (upd us s 1) (upd kd s vk) (upd ln s (nI l)) (po_wr dx (s * 4) f l) (po_wr (po_wr dy (s * 4) (fun _ => 0) 4) (s * 4) f l) := by
  intro x hx hu hk j hj
  by_cases e : x = s
  · subst e
    rw [pk_us, nI_clamp (by omega)] at hj
    rw [po_wri hj, po_wri hj]
  · rw [pk_un e] at hu hk hj
    have := po_l4 hp hx hu hk
    rw [po_wro (by omega), po_wro (by omega), po_wro (by omega)]
    exact h x hx hu hk j hj
theorem po_DTr {vl : Int32} (h : po_DT us kd ln dx dy) (hp : po_PK P us kd pl ii tg ta st ln) : po_DT (upd us s 1) (upd kd s 1) (upd ln s vl) dx (po_wr dy (s * 4) (fun _ => 0) 4) := by
  intro x hx hu hk j hj
  have e : x ≠ s := by
    intro e
    rw [e, pk_us] at hk
    exact hk rfl
  rw [pk_un e] at hu hk hj
  have := po_l4 hp hx hu hk
  rw [po_wro (by omega)]
  exact h x hx hu hk j hj
/-! a read -/
theorem po_T1R (h : po_T1 tu tm te tf tw go gw) (hl : l ≤ 8) (ha : a ≤ 64) : po_T1 (upd tu e 1) (upd tm e (nI l)) (upd te e (nI l)) (upd tf e (nI a)) (po_wr tw (e * 8) (fun _ => 0) 8) (po_wr go (e * 8) (fun _ => 0) 8) gw := by
  intro x hx hu
  by_cases c : x = e
  · subst c
    refine ⟨l, a, pk_us, hl, pk_us, ha, ?_, fun j hj => ?_⟩
    · rw [pk_us, po_cn_0 l (fun j hj => po_wri (by omega))]
    · rw [po_wri hj, po_wri hj, if_pos rfl]
  · rw [pk_un c] at hu
    obtain ⟨L, f, e1, b1, e2, b2, e3, h3⟩ := h x hx hu
    refine ⟨L, f, by rw [pk_un c]; exact e1, b1, by rw [pk_un c]; exact e2, b2, ?_, fun j hj => ?_⟩
    · rw [pk_un c, e3, po_cn_c L (fun j hj => po_wro (by omega))]
    · rw [po_wro (by omega), po_wro (by omega)]
      exact h3 j hj
theorem po_T2R {vt : Int32} (h : po_T2 us kd ii tg ta st ln tu te tf go) (h1 : po_T1 tu tm te tf tw go gw) (hp : po_PK P us kd pl ii tg ta st ln) (hP : P ≤ 4) (h0 : tu (i / 4 * 4 + g) = 0) (hi : i < 16) (hg : g < 4) (ha : a ≤ 64) (hl : l ≤ 8) :
    po_T2 (upd us s 1) (upd kd s 1) (upd ii s (nI i)) (upd tg s vt) (upd ta s (nI g)) (upd st s (nI a)) (upd ln s (nI l)) (upd tu (i / 4 * 4 + g) 1) (upd te (i / 4 * 4 + g) (nI l)) (upd tf (i / 4 * 4 + g) (nI a)) (po_wr go ((i / 4 * 4 + g) * 8) (fun _ => 0) 8) := by
  intro x hx hu hk
  by_cases c : x = s
  · subst c
    rw [po_enR (i := i) (g := g) pk_us pk_us pk_us hi hg, pk_us, pk_us, nI_clamp (by omega), nI_clamp (by omega)]
    refine ⟨by rw [pk_us]; exact po_n10, by rw [pk_us, nI_clamp (by omega)]; omega, by rw [pk_us, pk_us, nI_clamp (by omega), nI_clamp (by omega)]; omega, fun j hj => ?_⟩
    rw [pk_us, nI_clamp (by omega), Nat.sub_self, Nat.zero_add]
    exact po_wri (by omega)
  · rw [po_en_u c, pk_un c, pk_un c]
    rw [pk_un c] at hu hk
    have h2 := h x hx hu hk
    have h16 := po_en16 (hp x hx hu) hP
    have hb := po_T2b h1 h2 h16
    obtain ⟨q1, q2, q3, q4⟩ := h2
    have ne : po_en kd ii tg ta x ≠ i / 4 * 4 + g := fun c => q1 (by rw [c]; exact h0)
    refine ⟨by rw [pk_un ne]; exact q1, by rw [pk_un ne]; exact q2, by rw [pk_un ne, pk_un ne]; exact q3, fun j hj => ?_⟩
    rw [pk_un ne, po_wro (by have := hb j hj; omega)]
    exact q4 j hj
theorem po_T3R {vt va vl : Int32} (h : po_T3 us kd ii tg ta st ln) (h2 : po_T2 us kd ii tg ta st ln tu te tf go) (h0 : tu (i / 4 * 4 + g) = 0) (hi : i < 16) (hg : g < 4) :
    po_T3 (upd us s 1) (upd kd s 1) (upd ii s (nI i)) (upd tg s vt) (upd ta s (nI g)) (upd st s va) (upd ln s vl) := by
  have key : ∀ x, x < 24 → x ≠ s → us x ≠ 0 → kd x ≠ 0 → po_en kd ii tg ta x ≠ i / 4 * 4 + g := fun x hx _ hu hk c => (h2 x hx hu hk).1 (by rw [c]; exact h0)
  intro x y hx hy hn hu hv hk hm he
  by_cases c : x = s
  · subst c
    have c2 : y ≠ x := fun c => hn c.symm
    rw [pk_un c2] at hv hm
    rw [po_enR (i := i) (g := g) pk_us pk_us pk_us hi hg, po_en_u c2] at he
    exact absurd he.symm (key y hy c2 hv hm)
  · by_cases c2 : y = s
    · subst c2
      rw [pk_un c] at hu hk
      rw [po_enR (s := y) (i := i) (g := g) pk_us pk_us pk_us hi hg, po_en_u c] at he
      exact absurd he (key x hx c hu hk)
    · rw [po_en_u c, po_en_u c2] at he
      rw [pk_un c, pk_un c, pk_un c2, pk_un c2]
      rw [pk_un c] at hu hk
      rw [pk_un c2] at hv hm
      exact h x y hx hy hn hu hv hk hm he
/-! a completion s cut off the read r: us' is the slots' use afterwards -/
theorem po_T2S {us' : Nat → Int32} {r n : Nat} {vi : Int32} (h : po_T2 us kd ii tg ta st ln tu te tf go) (hu' : ∀ x, x ≠ s → us' x ≠ 0 → us x ≠ 0) (hr : r < 24) (hsr : s ≠ r) (hur : us r ≠ 0) (ek : kd r = 1) (ei : ii r = nI i) (eg : ta r = nI g) (ea : st r = nI a) (el : ln r = nI l) (hi : i < 16) (hg : g < 4) (ha : a + l ≤ 64) (hn : n ≤ l) :
    po_T2 us' (upd kd s 2) (upd ii s vi) (upd tg s (nI (i / 4))) (upd ta s (nI g)) (upd (upd st s (nI a)) r (nI (a + n))) (upd (upd ln s (nI n)) r (nI (l - n))) tu te tf go := by
  have hr2 := h r hr hur (by rw [ek]; exact po_n10)
  rw [po_enR ek ei eg hi hg, ea, el, nI_clamp (by omega), nI_clamp (by omega)] at hr2
  obtain ⟨q1, q2, q3, q4⟩ := hr2
  intro x hx hu hk
  by_cases c : x = s
  · subst c
    have en : po_en (upd kd x 2) (upd ii x vi) (upd tg x (nI (i / 4))) (upd ta x (nI g)) x = i / 4 * 4 + g := po_enC (t := i / 4) (by rw [pk_us]; decide) pk_us pk_us (by omega) hg
    rw [en, pk_un hsr, pk_us, pk_un hsr, pk_us, nI_clamp (by omega), nI_clamp (by omega)]
    exact ⟨q1, q2, by omega, fun j hj => q4 j (by omega)⟩
  · by_cases c2 : x = r
    · subst c2
      rw [po_en_u c, po_enR ek ei eg hi hg, pk_us, pk_us, nI_clamp (by omega), nI_clamp (by omega)]
      refine ⟨q1, by omega, by omega, fun j hj => ?_⟩
      have := q4 (n + j) (by omega)
      rw [show a + n - (tf (i / 4 * 4 + g)).toNatClampNeg + j = a - (tf (i / 4 * 4 + g)).toNatClampNeg + (n + j) by omega]
      exact this
    · rw [po_en_u c, pk_un c2, pk_un c, pk_un c2, pk_un c]
      rw [pk_un c] at hk
      exact h x hx (hu' x c hu) hk
theorem po_T3S {us' : Nat → Int32} {r n : Nat} {vi : Int32} (h : po_T3 us kd ii tg ta st ln) (hu' : ∀ x, x ≠ s → us' x ≠ 0 → us x ≠ 0) (hr : r < 24) (hsr : s ≠ r) (hur : us r ≠ 0) (ek : kd r = 1) (ei : ii r = nI i) (eg : ta r = nI g) (ea : st r = nI a) (el : ln r = nI l) (hi : i < 16) (hg : g < 4) (ha : a + l ≤ 64) (hn : n ≤ l) :
    po_T3 us' (upd kd s 2) (upd ii s vi) (upd tg s (nI (i / 4))) (upd ta s (nI g)) (upd (upd st s (nI a)) r (nI (a + n))) (upd (upd ln s (nI n)) r (nI (l - n))) := by
  have en : po_en (upd kd s 2) (upd ii s vi) (upd tg s (nI (i / 4))) (upd ta s (nI g)) s = i / 4 * 4 + g := po_enC (t := i / 4) (by rw [pk_us]; decide) pk_us pk_us (by omega) hg
  have er : po_en kd ii tg ta r = i / 4 * 4 + g := po_enR ek ei eg hi hg
  have hkr : kd r ≠ 0 := by rw [ek]; exact po_n10
  -- the rows about an old packet y
  have old : ∀ y, y < 24 → y ≠ s → y ≠ r → us' y ≠ 0 → upd kd s 2 y ≠ 0 → po_en (upd kd s 2) (upd ii s vi) (upd tg s (nI (i / 4))) (upd ta s (nI g)) y = i / 4 * 4 + g → a + l ≤ (st y).toNatClampNeg ∨ (st y).toNatClampNeg + (ln y).toNatClampNeg ≤ a := by
    intro y hy c1 c2 hu hk he
    rw [po_en_u c1] at he
    rw [pk_un c1] at hk
    have := h r y hr hy (fun c => c2 c.symm) hur (hu' y c1 hu) hkr hk (er.trans he.symm)
    rw [ea, el, nI_clamp (by omega), nI_clamp (by omega)] at this
    exact this
  have vs : (upd (upd st s (nI a)) r (nI (a + n)) s).toNatClampNeg = a := by rw [pk_un hsr, pk_us, nI_clamp (by omega)]
  have ws : (upd (upd ln s (nI n)) r (nI (l - n)) s).toNatClampNeg = n := by rw [pk_un hsr, pk_us, nI_clamp (by omega)]
  have vr : (upd (upd st s (nI a)) r (nI (a + n)) r).toNatClampNeg = a + n := by rw [pk_us, nI_clamp (by omega)]
  have wr : (upd (upd ln s (nI n)) r (nI (l - n)) r).toNatClampNeg = l - n := by rw [pk_us, nI_clamp (by omega)]
  have vo : ∀ y, y ≠ s → y ≠ r → upd (upd st s (nI a)) r (nI (a + n)) y = st y := fun y c1 c2 => by rw [pk_un c2, pk_un c1]
  have wo : ∀ y, y ≠ s → y ≠ r → upd (upd ln s (nI n)) r (nI (l - n)) y = ln y := fun y c1 c2 => by rw [pk_un c2, pk_un c1]
  have er' : po_en (upd kd s 2) (upd ii s vi) (upd tg s (nI (i / 4))) (upd ta s (nI g)) r = i / 4 * 4 + g := (po_en_u (fun c => hsr c.symm)).trans er
  intro x y hx hy hne hu hv hk hm he
  by_cases c1 : x = s
  · subst c1
    rw [vs, ws]
    by_cases c2 : y = r
    · subst c2
      rw [vr, wr]; omega
    · have c3 : y ≠ x := fun c => hne c.symm
      rw [vo y c3 c2, wo y c3 c2]
      have := old y hy c3 c2 hv hm (he.symm.trans en)
      omega
  · by_cases c2 : x = r
    · subst c2
      rw [vr, wr]
      by_cases c3 : y = s
      · subst c3
        rw [vs, ws]; omega
      · have c4 : y ≠ x := fun c => hne c.symm
        rw [vo y c3 c4, wo y c3 c4]
        have := old y hy c3 c4 hv hm (he.symm.trans er')
        omega
    · rw [vo x c1 c2, wo x c1 c2]
      by_cases c3 : y = s
      · subst c3
        rw [vs, ws]
        have := old x hx c1 c2 hu hk (he.trans en)
        omega
      · by_cases c4 : y = r
        · subst c4
          rw [vr, wr]
          have := old x hx c1 c2 hu hk (he.trans er')
          omega
        · rw [vo y c3 c4, wo y c3 c4]
          rw [po_en_u c1, po_en_u c3] at he
          rw [pk_un c1] at hk
          rw [pk_un c3] at hm
          exact h x y hx hy hne (hu' x c1 hu) (hu' y c3 hv) hk hm he
/-! a delivery: the packet s of entry e, its words at offset o -/
theorem po_T1D {f : Nat → Int32} {o : Nat} (h : po_T1 tu tm te tf tw go gw) (he : e < 16) (h2 : po_t2 tu te tf go e a l) (eo : o = a - (tf e).toNatClampNeg) :
    po_T1 tu (upd tm e (tm e - nI l)) te tf (po_wr tw (e * 8 + o) f l) (po_wr go (e * 8 + o) (fun _ => 1) l) (po_wr gw (e * 8 + o) f l) := by
  have hb := po_T2b h h2 he
  obtain ⟨q1, q2, q3, q4⟩ := h2
  intro x hx hu
  obtain ⟨L, F, e1, b1, e2, b2, e3, h3⟩ := h x hx hu
  refine ⟨L, F, e1, b1, e2, b2, ?_, fun j hj => ?_⟩
  · by_cases c : x = e
    · subst c
      rw [e1, nI_clamp (by omega), e2, nI_clamp (by omega)] at q3
      rw [e2, nI_clamp (by omega)] at q2 eo
      have w := po_cn_w (f := go) (b := x * 8) (o := o) (n := L) l (by omega) (fun j hj => by
        have := q4 j hj
        rw [e2, nI_clamp (by omega), ← eo] at this
        rw [Nat.add_assoc]; exact this)
      rw [pk_us, e3, pk_sub (by omega)]
      exact congrArg nI (by omega)
    · rw [pk_un c, e3]
      refine congrArg nI (po_cn_c L (fun j hj => ?_)).symm
      by_cases hl : 0 < l
      · have := hb (l - 1) (by omega)
        rw [← eo] at this
        exact po_wro (by omega)
      · exact po_wro (by omega)
  · by_cases c : x * 8 + j < e * 8 + o ∨ e * 8 + o + l ≤ x * 8 + j
    · rw [po_wro c, po_wro c, po_wro c]
      exact h3 j hj
    · obtain ⟨m, hm, em⟩ : ∃ m, m < l ∧ x * 8 + j = e * 8 + o + m := ⟨x * 8 + j - (e * 8 + o), by omega, by omega⟩
      rw [em, po_wri hm, po_wri hm, po_wri hm, if_neg po_n10]
theorem po_T2D {o : Nat} (h : po_T2 us kd ii tg ta st ln tu te tf go) (h3 : po_T3 us kd ii tg ta st ln) (h1 : po_T1 tu tm te tf tw go gw) (hp : po_PK P us kd pl ii tg ta st ln) (hP : P ≤ 4) (hs : s < 24) (hu : us s ≠ 0) (hk : kd s ≠ 0) (ee : po_en kd ii tg ta s = e) (ea : st s = nI a) (el : ln s = nI l) (ha : a + l ≤ 64) (eo : o = a - (tf e).toNatClampNeg) :
    po_T2 (upd us s 0) kd ii tg ta st ln tu te tf (po_wr go (e * 8 + o) (fun _ => 1) l) := by
  have hes : e < 16 := ee ▸ po_en16 (hp s hs hu) hP
  have hs2 := h s hs hu hk
  rw [ee, ea, el, nI_clamp (by omega), nI_clamp (by omega)] at hs2
  have hb := po_T2b h1 hs2 hes
  obtain ⟨r1, r2, r3, r4⟩ := hs2
  intro x hx hux hkx
  obtain ⟨c, hux⟩ := po_u0 hux
  have h16 := po_en16 (hp x hx hux) hP
  have hx2 := h x hx hux hkx
  have hbx := po_T2b h1 hx2 h16
  obtain ⟨q1, q2, q3, q4⟩ := hx2
  refine ⟨q1, q2, q3, fun j hj => ?_⟩
  rw [po_wro]
  · exact q4 j hj
  · have hj8 := hbx j hj
    by_cases c2 : po_en kd ii tg ta x = e
    · have := h3 s x hs hx (fun c' => c c'.symm) hu hux hk hkx (ee.trans c2.symm)
      rw [ea, el, nI_clamp (by omega), nI_clamp (by omega)] at this
      rw [c2] at q2 hj8 ⊢
      omega
    · by_cases hl : 0 < l
      · have := hb (l - 1) (by omega)
        rw [← eo] at this
        omega
      · omega
/-! a tag is given back -/
theorem po_T1L (h : po_T1 tu tm te tf tw go gw) : po_T1 (upd tu e 0) tm te tf tw go gw := fun x hx hu => h x hx (po_u0 hu).2
theorem po_T2L (h : po_T2 us kd ii tg ta st ln tu te tf go) (h1 : po_T1 tu tm te tf tw go gw) (hp : po_PK P us kd pl ii tg ta st ln) (hP : P ≤ 4) (hz : ∀ L : Nat, te e = nI L → L ≤ 8 → po_cn go (e * 8) L = 0) : po_T2 us kd ii tg ta st ln (upd tu e 0) te tf go := by
  intro x hx hu hk
  have h2 := h x hx hu hk
  have h16 := po_en16 (hp x hx hu) hP
  obtain ⟨k', p', i', t', g', a', l', e1, e2, e3, e4, e5, e6, e7, b⟩ := hp x hx hu
  obtain ⟨q1, q2, q3, q4⟩ := h2
  refine ⟨?_, q2, q3, q4⟩
  have c : po_en kd ii tg ta x ≠ e := by
    intro c
    rw [c] at q1 q2 q3 q4 h16
    obtain ⟨L, F, d1, b1, d2, b2, d3, _⟩ := h1 e h16 q1
    have hz' := hz L d1 b1
    rw [e6, nI_clamp (by omega), d2, nI_clamp (by omega)] at q2
    rw [e6, nI_clamp (by omega), e7, nI_clamp (by omega), d2, nI_clamp (by omega), d1, nI_clamp (by omega)] at q3
    have q := q4 0 (by rw [e7, nI_clamp (by omega)]; omega)
    rw [e6, nI_clamp (by omega), d2, nI_clamp (by omega)] at q
    have := po_cn_p q L (by omega)
    omega
  rw [pk_un c]
  exact q1
end TG
end
section
/-! calls that only read, and small stores -/
def po_Lk (WX : (Int32 → SX → Prop) → Prop) (WY : (Int32 → SY → Prop) → Prop) : Prop := ∃ (r : Int32) (u' : SX) (v' : SY), po_Rel u' v' ∧ (∀ post : Int32 → SX → Prop, post r u' → WX post) ∧ (∀ post : Int32 → SY → Prop, post r v' → WY post)
def po_Lr (WX : (Int32 → Prop) → Prop) (WY : (Int32 → Prop) → Prop) : Prop := ∃ r : Int32, (∀ post : Int32 → Prop, post r → WX post) ∧ (∀ post : Int32 → Prop, post r → WY post)
section RD
variable {k1 k2 k3 k4 k5 k6 k7 hh ww lc : Int32} {P B : Nat} {mw fn us kd pl ii tg tr ta st ln dx qu nx pv hd tl sv cr tu tm te tf tw dy li rt go gw : Nat → Int32}
variable {L : List Nat}
theorem lk_attributes (H : po_R P B hh ww mw fn us kd pl ii tg tr ta st ln dx qu nx pv hd tl sv cr tu tm te tf tw dy li rt go gw L) (v1 v2 : Int32) : po_Lk (fun post => wpX_attributes post (0, 1, 2, 3, 0, 1, 2, nI P, nI B, mw, fn, us, kd, pl, ii, tg, tr, ta, st, ln, dx, qu, nx, pv, hd, tl, sv, cr, tu, tm, te, tf, tw) v1 v2) (fun post => wpY_attributes post (nI P, hh, ww, nI B, nI L.length, mw, fn, us, kd, pl, ii, tg, tr, ta, st, ln, dy, li, rt, tu, te, tf, go, gw) v1 v2) := by
  obtain ⟨hP1, hP2, hB1, hB2⟩ := H.1
  rcases po_in (v := v1) (n := 4 * P) (by omega) with ⟨i, hi, rfl⟩ | ho
  · have vi : vp_in (nI i) 16 := vp_in_nI (by omega) (by decide)
    have ci : (nI i).toNatClampNeg = i := nI_clamp (by omega)
    rcases po_in (v := v2) (n := 4) (by decide) with ⟨b, hb, rfl⟩ | ho
    · refine ⟨fn i, (0, 1, 2, 3, 0, 1, 2, nI P, nI B, mw, upd fn i (nI b), us, kd, pl, ii, tg, tr, ta, st, ln, dx, qu, nx, pv, hd, tl, sv, cr, tu, tm, te, tf, tw), (nI P, hh, ww, nI B, nI L.length, mw, upd fn i (nI b), us, kd, pl, ii, tg, tr, ta, st, ln, dy, li, rt, tu, te, tf, go, gw), po_mk (fn := upd fn i (nI b)) H, fun post h => ?_, fun post h => ?_⟩
      · unfold wpX_attributes
        dsimp only
        rw [po_4m, ci]
        refine xo_in hi (by omega) (br_t rfl (And.intro vi (nm_e ?_)))
        exact xo_in (n := 4) hb (by decide) (br_t rfl (And.intro vi (nm_e h)))
      · unfold wpY_attributes
        dsimp only
        rw [po_4m, ci]
        refine yo_in hi (by omega) (br_t rfl (And.intro vi (nm_e ?_)))
        exact yo_in (n := 4) hb (by decide) (br_t rfl (And.intro vi (nm_e h)))
    · refine ⟨fn i, (0, 1, 2, 3, 0, 1, 2, nI P, nI B, mw, fn, us, kd, pl, ii, tg, tr, ta, st, ln, dx, qu, nx, pv, hd, tl, sv, cr, tu, tm, te, tf, tw), (nI P, hh, ww, nI B, nI L.length, mw, fn, us, kd, pl, ii, tg, tr, ta, st, ln, dy, li, rt, tu, te, tf, go, gw), po_mk H, fun post h => ?_, fun post h => ?_⟩
      · unfold wpX_attributes
        dsimp only
        rw [po_4m, ci]
        refine xo_in hi (by omega) (br_t rfl (And.intro vi (nm_e ?_)))
        exact xo_out ho (br_f po_n10 h)
      · unfold wpY_attributes
        dsimp only
        rw [po_4m, ci]
        refine yo_in hi (by omega) (br_t rfl (And.intro vi (nm_e ?_)))
        exact yo_out ho (br_f po_n10 h)
  · refine ⟨-1, (0, 1, 2, 3, 0, 1, 2, nI P, nI B, mw, fn, us, kd, pl, ii, tg, tr, ta, st, ln, dx, qu, nx, pv, hd, tl, sv, cr, tu, tm, te, tf, tw), (nI P, hh, ww, nI B, nI L.length, mw, fn, us, kd, pl, ii, tg, tr, ta, st, ln, dy, li, rt, tu, te, tf, go, gw), po_mk H, fun post h => ?_, fun post h => ?_⟩
    · unfold wpX_attributes
      dsimp only
      rw [po_4m]
      exact xo_out ho (br_f po_n10 h)
    · unfold wpY_attributes
      dsimp only
      rw [po_4m]
      exact yo_out ho (br_f po_n10 h)
theorem lk_store (H : po_R P B hh ww mw fn us kd pl ii tg tr ta st ln dx qu nx pv hd tl sv cr tu tm te tf tw dy li rt go gw L) (v1 v2 : Int32) : po_Lk (fun post => wpX_store post (0, 1, 2, 3, 0, 1, 2, nI P, nI B, mw, fn, us, kd, pl, ii, tg, tr, ta, st, ln, dx, qu, nx, pv, hd, tl, sv, cr, tu, tm, te, tf, tw) v1 v2) (fun post => wpY_store post (nI P, hh, ww, nI B, nI L.length, mw, fn, us, kd, pl, ii, tg, tr, ta, st, ln, dy, li, rt, tu, te, tf, go, gw) v1 v2) := by
  obtain ⟨hP1, hP2, hB1, hB2⟩ := H.1
  rcases po_in (v := v1) (n := 16 * P) (by omega) with ⟨i, hi, rfl⟩ | ho
  · have vi : vp_in (nI i) 64 := vp_in_nI (by omega) (by decide)
    have ci : (nI i).toNatClampNeg = i := nI_clamp (by omega)
    refine ⟨0, (0, 1, 2, 3, 0, 1, 2, nI P, nI B, upd mw i v2, fn, us, kd, pl, ii, tg, tr, ta, st, ln, dx, qu, nx, pv, hd, tl, sv, cr, tu, tm, te, tf, tw), (nI P, hh, ww, nI B, nI L.length, upd mw i v2, fn, us, kd, pl, ii, tg, tr, ta, st, ln, dy, li, rt, tu, te, tf, go, gw), po_mk (mw := upd mw i v2) H, fun post h => ?_, fun post h => ?_⟩
    · unfold wpX_store
      dsimp only
      rw [po_16m, ci]
      exact xo_in hi (by omega) (br_t rfl (And.intro vi (nm_e h)))
    · unfold wpY_store
      dsimp only
      rw [po_16m, ci]
      exact yo_in hi (by omega) (br_t rfl (And.intro vi (nm_e h)))
  · refine ⟨-1, (0, 1, 2, 3, 0, 1, 2, nI P, nI B, mw, fn, us, kd, pl, ii, tg, tr, ta, st, ln, dx, qu, nx, pv, hd, tl, sv, cr, tu, tm, te, tf, tw), (nI P, hh, ww, nI B, nI L.length, mw, fn, us, kd, pl, ii, tg, tr, ta, st, ln, dy, li, rt, tu, te, tf, go, gw), po_mk H, fun post h => ?_, fun post h => ?_⟩
    · unfold wpX_store
      dsimp only
      rw [po_16m]
      exact xo_out ho (br_f po_n10 h)
    · unfold wpY_store
      dsimp only
      rw [po_16m]
      exact yo_out ho (br_f po_n10 h)
theorem lk_memory (H : po_R P B hh ww mw fn us kd pl ii tg tr ta st ln dx qu nx pv hd tl sv cr tu tm te tf tw dy li rt go gw L) (v1 : Int32) : po_Lr (fun post => wpX_memory post (0, 1, 2, 3, 0, 1, 2, nI P, nI B, mw, fn, us, kd, pl, ii, tg, tr, ta, st, ln, dx, qu, nx, pv, hd, tl, sv, cr, tu, tm, te, tf, tw) v1) (fun post => wpY_memory post (nI P, hh, ww, nI B, nI L.length, mw, fn, us, kd, pl, ii, tg, tr, ta, st, ln, dy, li, rt, tu, te, tf, go, gw) v1) := by
  obtain ⟨hP1, hP2, hB1, hB2⟩ := H.1
  rcases po_in (v := v1) (n := 16 * P) (by omega) with ⟨i, hi, rfl⟩ | ho
  · have vi : vp_in (nI i) 64 := vp_in_nI (by omega) (by decide)
    have ci : (nI i).toNatClampNeg = i := nI_clamp (by omega)
    refine ⟨mw i, fun post h => ?_, fun post h => ?_⟩
    · unfold wpX_memory
      dsimp only
      rw [po_16m, ci]
      exact xo_in hi (by omega) (br_t rfl (And.intro vi h))
    · unfold wpY_memory
      dsimp only
      rw [po_16m, ci]
      exact yo_in hi (by omega) (br_t rfl (And.intro vi h))
  · refine ⟨0, fun post h => ?_, fun post h => ?_⟩
    · unfold wpX_memory
      dsimp only
      rw [po_16m]
      exact xo_out ho (br_f po_n10 h)
    · unfold wpY_memory
      dsimp only
      rw [po_16m]
      exact yo_out ho (br_f po_n10 h)
theorem ym_walk {post : Int32 → Prop} {e l : Nat} (he : e < 16) (hl : l ≤ 8) (el : te e = nI l) (h : post (nI (po_cn go (e * 8) l))) : ∀ n j, j ≤ l → l - j < n → wY_missing_4 post (nI e) (nI P) hh ww (nI B) lc mw fn us kd pl ii tg tr ta st ln dy li rt tu te tf go gw n (nI (po_cn go (e * 8) j)) (nI j) := by
  have ce : (nI e).toNatClampNeg = e := nI_clamp (by omega)
  have ve : vp_in (nI e) 16 := vp_in_nI he (by decide)
  intro n
  induction n with
  | zero => intro j h1 h2; omega
  | succ n ih =>
    intro j h1 h2
    have ei : nI e * 8 + nI j = nI (e * 8 + j) := by rw [po_m8, nI_add]
    rw [wY_missing_4, ce, el]
    by_cases c : j = l
    · subst c
      exact And.intro ve (br_t (nI_le (Nat.le_refl _) (by omega)) h)
    · refine And.intro ve (br_f (nI_ge (by omega) (by omega)) ?_)
      rw [ei, nI_clamp (by omega), nI_1 j]
      refine And.intro (vp_in_nI (by omega) (by decide)) ?_
      have ih' := ih (j + 1) (by omega) (by omega)
      have ez : po_cn go (e * 8) (j + 1) = po_cn go (e * 8) j + (if go (e * 8 + j) = 0 then 1 else 0) := rfl
      rw [ez] at ih'
      by_cases z : go (e * 8 + j) = 0
      · rw [if_pos z] at ih'
        exact br_t z (nm_r (nI_1 _) (nm_e ih'))
      · rw [if_neg z] at ih'
        exact br_f z (nm_e ih')
theorem ym_miss {post : Int32 → Prop} {e l : Nat} (he : e < 16) (hl : l ≤ 8) (el : te e = nI l) (h : post (nI (po_cn go (e * 8) l))) : wpY_missing post (nI P, hh, ww, nI B, lc, mw, fn, us, kd, pl, ii, tg, tr, ta, st, ln, dy, li, rt, tu, te, tf, go, gw) (nI e) := ⟨l + 1, ym_walk he hl el h (l + 1) 0 (by omega) (by omega)⟩
theorem lk_request (H : po_R P B hh ww mw fn us kd pl ii tg tr ta st ln dx qu nx pv hd tl sv cr tu tm te tf tw dy li rt go gw L) (v1 v2 v3 : Int32) : po_Lr (fun post => wpX_request post (0, 1, 2, 3, 0, 1, 2, nI P, nI B, mw, fn, us, kd, pl, ii, tg, tr, ta, st, ln, dx, qu, nx, pv, hd, tl, sv, cr, tu, tm, te, tf, tw) v1 v2 v3) (fun post => wpY_request post (nI P, hh, ww, nI B, nI L.length, mw, fn, us, kd, pl, ii, tg, tr, ta, st, ln, dy, li, rt, tu, te, tf, go, gw) v1 v2 v3) := by
  obtain ⟨⟨hP1, hP2, hB1, hB2⟩, _, _, _, _, _, hT1, _⟩ := H
  rcases po_in (v := v1) (n := P) (by omega) with ⟨p, hp, rfl⟩ | ho
  · rcases po_in (v := v2) (n := 4) (by omega) with ⟨g, hg, rfl⟩ | ho
    · rcases po_in (v := v3) (n := 3) (by omega) with ⟨w, hw, rfl⟩ | ho
      · have ee : nI p * 4 + nI g = nI (p * 4 + g) := by rw [po_m4, nI_add]
        have he : p * 4 + g < 16 := by omega
        have ve : vp_in (nI (p * 4 + g)) 16 := vp_in_nI he (by decide)
        have ce : (nI (p * 4 + g)).toNatClampNeg = p * 4 + g := nI_clamp (by omega)
        by_cases z : tu (p * 4 + g) = 0
        · refine ⟨-12, fun post h => ?_, fun post h => ?_⟩
          · unfold wpX_request
            dsimp only
            refine xo_in hp (by omega) (br_t rfl ?_)
            refine xo_in (n := 4) hg (by omega) (br_t rfl ?_)
            refine xo_in (n := 3) hw (by omega) (br_t rfl (nm_r ee (And.intro ve ?_)))
            rw [ce]
            exact br_t z h
          · unfold wpY_request
            dsimp only
            refine yo_in hp (by omega) (br_t rfl ?_)
            refine yo_in (n := 4) hg (by omega) (br_t rfl ?_)
            refine yo_in (n := 3) hw (by omega) (br_t rfl (nm_r ee (And.intro ve ?_)))
            rw [ce]
            exact br_t z h
        · obtain ⟨l, f, e1, b1, e2, b2, e3, e4⟩ := hT1 _ he z
          have hX : ∀ post : Int32 → Prop, post (if w = 0 then tm (p * 4 + g) else if w = 1 then te (p * 4 + g) else tf (p * 4 + g)) → wpX_request post (0, 1, 2, 3, 0, 1, 2, nI P, nI B, mw, fn, us, kd, pl, ii, tg, tr, ta, st, ln, dx, qu, nx, pv, hd, tl, sv, cr, tu, tm, te, tf, tw) (nI p) (nI g) (nI w) := by
            intro post h
            unfold wpX_request
            dsimp only
            refine xo_in hp (by omega) (br_t rfl ?_)
            refine xo_in (n := 4) hg (by omega) (br_t rfl ?_)
            refine xo_in (n := 3) hw (by omega) (br_t rfl (nm_r ee (And.intro ve ?_)))
            rw [ce]
            refine br_f z ?_
            by_cases w0 : w = 0
            · rw [if_pos w0] at h
              exact br_t (by rw [w0]; rfl) (And.intro ve h)
            · rw [if_neg w0] at h
              refine br_f (fun c => w0 ((po_e0 (by omega)).mp c)) ?_
              by_cases w1 : w = 1
              · rw [if_pos w1] at h
                exact br_t (by rw [w1]; rfl) (And.intro ve h)
              · rw [if_neg w1] at h
                exact br_f (fun c => w1 ((po_e1 (by omega)).mp c)) (And.intro ve h)
          refine ⟨_, hX, fun post h => ?_⟩
          unfold wpY_request
          dsimp only
          refine yo_in hp (by omega) (br_t rfl ?_)
          refine yo_in (n := 4) hg (by omega) (br_t rfl ?_)
          refine yo_in (n := 3) hw (by omega) (br_t rfl (nm_r ee (And.intro ve ?_)))
          rw [ce]
          refine br_f z ?_
          by_cases w0 : w = 0
          · rw [if_pos w0, e3] at h
            exact br_t (by rw [w0]; rfl) (ym_miss he b1 e1 h)
          · rw [if_neg w0] at h
            refine br_f (fun c => w0 ((po_e0 (by omega)).mp c)) ?_
            by_cases w1 : w = 1
            · rw [if_pos w1] at h
              exact br_t (by rw [w1]; rfl) (And.intro ve h)
            · rw [if_neg w1] at h
              exact br_f (fun c => w1 ((po_e1 (by omega)).mp c)) (And.intro ve h)
      · refine ⟨-1, fun post h => ?_, fun post h => ?_⟩
        · unfold wpX_request
          dsimp only
          refine xo_in hp (by omega) (br_t rfl ?_)
          refine xo_in (n := 4) hg (by omega) (br_t rfl ?_)
          exact xo_out ho (br_f po_n10 h)
        · unfold wpY_request
          dsimp only
          refine yo_in hp (by omega) (br_t rfl ?_)
          refine yo_in (n := 4) hg (by omega) (br_t rfl ?_)
          exact yo_out ho (br_f po_n10 h)
    · refine ⟨-1, fun post h => ?_, fun post h => ?_⟩
      · unfold wpX_request
        dsimp only
        refine xo_in hp (by omega) (br_t rfl ?_)
        exact xo_out ho (br_f po_n10 h)
      · unfold wpY_request
        dsimp only
        refine yo_in hp (by omega) (br_t rfl ?_)
        exact yo_out ho (br_f po_n10 h)
  · refine ⟨-1, fun post h => ?_, fun post h => ?_⟩
    · unfold wpX_request
      dsimp only
      exact xo_out ho (br_f po_n10 h)
    · unfold wpY_request
      dsimp only
      exact yo_out ho (br_f po_n10 h)
theorem lk_received (H : po_R P B hh ww mw fn us kd pl ii tg tr ta st ln dx qu nx pv hd tl sv cr tu tm te tf tw dy li rt go gw L) (v1 v2 v3 : Int32) : po_Lr (fun post => wpX_received post (0, 1, 2, 3, 0, 1, 2, nI P, nI B, mw, fn, us, kd, pl, ii, tg, tr, ta, st, ln, dx, qu, nx, pv, hd, tl, sv, cr, tu, tm, te, tf, tw) v1 v2 v3) (fun post => wpY_received post (nI P, hh, ww, nI B, nI L.length, mw, fn, us, kd, pl, ii, tg, tr, ta, st, ln, dy, li, rt, tu, te, tf, go, gw) v1 v2 v3) := by
  obtain ⟨⟨hP1, hP2, hB1, hB2⟩, _, _, _, _, _, hT1, _⟩ := H
  rcases po_in (v := v1) (n := P) (by omega) with ⟨p, hp, rfl⟩ | ho
  · rcases po_in (v := v2) (n := 4) (by omega) with ⟨g, hg, rfl⟩ | ho
    · rcases po_in (v := v3) (n := 8) (by omega) with ⟨w, hw, rfl⟩ | ho
      · have ee : nI p * 4 + nI g = nI (p * 4 + g) := by rw [po_m4, nI_add]
        have he : p * 4 + g < 16 := by omega
        have ve : vp_in (nI (p * 4 + g)) 16 := vp_in_nI he (by decide)
        have ce : (nI (p * 4 + g)).toNatClampNeg = p * 4 + g := nI_clamp (by omega)
        have ei : nI (p * 4 + g) * 8 + nI w = nI ((p * 4 + g) * 8 + w) := by rw [po_m8, nI_add]
        have vi : vp_in (nI ((p * 4 + g) * 8 + w)) 128 := vp_in_nI (by omega) (by decide)
        have ci : (nI ((p * 4 + g) * 8 + w)).toNatClampNeg = (p * 4 + g) * 8 + w := nI_clamp (by omega)
        by_cases z : tu (p * 4 + g) = 0
        · refine ⟨0, fun post h => ?_, fun post h => ?_⟩
          · unfold wpX_received
            dsimp only
            refine xo_in hp (by omega) (br_t rfl ?_)
            refine xo_in (n := 4) hg (by omega) (br_t rfl ?_)
            refine xo_in (n := 8) hw (by omega) (br_t rfl (nm_r ee (And.intro ve ?_)))
            rw [ce]
            exact br_t z h
          · unfold wpY_received
            dsimp only
            refine yo_in hp (by omega) (br_t rfl ?_)
            refine yo_in (n := 4) hg (by omega) (br_t rfl ?_)
            refine yo_in (n := 8) hw (by omega) (br_t rfl (nm_r ee (And.intro ve ?_)))
            rw [ce]
            exact br_t z h
        · obtain ⟨l, f, e1, b1, e2, b2, e3, e4⟩ := hT1 _ he z
          have e5 := e4 w hw
          refine ⟨tw ((p * 4 + g) * 8 + w), fun post h => ?_, fun post h => ?_⟩
          · unfold wpX_received
            dsimp only
            refine xo_in hp (by omega) (br_t rfl ?_)
            refine xo_in (n := 4) hg (by omega) (br_t rfl ?_)
            refine xo_in (n := 8) hw (by omega) (br_t rfl (nm_r ee (And.intro ve ?_)))
            rw [ce, ei, ci]
            exact br_f z (And.intro vi h)
          · unfold wpY_received
            dsimp only
            refine yo_in hp (by omega) (br_t rfl ?_)
            refine yo_in (n := 4) hg (by omega) (br_t rfl ?_)
            refine yo_in (n := 8) hw (by omega) (br_t rfl (nm_r ee (And.intro ve ?_)))
            rw [ce, ei, ci]
            refine br_f z (And.intro vi ?_)
            rw [e5] at h
            by_cases z2 : go ((p * 4 + g) * 8 + w) = 0
            · rw [if_pos z2] at h
              exact br_t z2 h
            · rw [if_neg z2] at h
              exact br_f z2 (And.intro vi h)
      · refine ⟨0, fun post h => ?_, fun post h => ?_⟩
        · unfold wpX_received
          dsimp only
          refine xo_in hp (by omega) (br_t rfl ?_)
          refine xo_in (n := 4) hg (by omega) (br_t rfl ?_)
          exact xo_out ho (br_f po_n10 h)
        · unfold wpY_received
          dsimp only
          refine yo_in hp (by omega) (br_t rfl ?_)
          refine yo_in (n := 4) hg (by omega) (br_t rfl ?_)
          exact yo_out ho (br_f po_n10 h)
    · refine ⟨0, fun post h => ?_, fun post h => ?_⟩
      · unfold wpX_received
        dsimp only
        refine xo_in hp (by omega) (br_t rfl ?_)
        exact xo_out ho (br_f po_n10 h)
      · unfold wpY_received
        dsimp only
        refine yo_in hp (by omega) (br_t rfl ?_)
        exact yo_out ho (br_f po_n10 h)
  · refine ⟨0, fun post h => ?_, fun post h => ?_⟩
    · unfold wpX_received
      dsimp only
      exact xo_out ho (br_f po_n10 h)
    · unfold wpY_received
      dsimp only
      exact yo_out ho (br_f po_n10 h)
theorem lk_release (H : po_R P B hh ww mw fn us kd pl ii tg tr ta st ln dx qu nx pv hd tl sv cr tu tm te tf tw dy li rt go gw L) (v1 v2 : Int32) : po_Lk (fun post => wpX_release post (0, 1, 2, 3, 0, 1, 2, nI P, nI B, mw, fn, us, kd, pl, ii, tg, tr, ta, st, ln, dx, qu, nx, pv, hd, tl, sv, cr, tu, tm, te, tf, tw) v1 v2) (fun post => wpY_release post (nI P, hh, ww, nI B, nI L.length, mw, fn, us, kd, pl, ii, tg, tr, ta, st, ln, dy, li, rt, tu, te, tf, go, gw) v1 v2) := by
  have HH := H
  obtain ⟨⟨hP1, hP2, hB1, hB2⟩, hPK, hLN, hDL, hSV, hCR, hT1, hT2, hT3, hDT⟩ := H
  rcases po_in (v := v1) (n := P) (by omega) with ⟨p, hp, rfl⟩ | ho
  · rcases po_in (v := v2) (n := 4) (by omega) with ⟨g, hg, rfl⟩ | ho
    · have ee : nI p * 4 + nI g = nI (p * 4 + g) := by rw [po_m4, nI_add]
      have he : p * 4 + g < 16 := by omega
      have ve : vp_in (nI (p * 4 + g)) 16 := vp_in_nI he (by decide)
      have ce : (nI (p * 4 + g)).toNatClampNeg = p * 4 + g := nI_clamp (by omega)
      by_cases z : tu (p * 4 + g) = 0
      · refine ⟨-12, (0, 1, 2, 3, 0, 1, 2, nI P, nI B, mw, fn, us, kd, pl, ii, tg, tr, ta, st, ln, dx, qu, nx, pv, hd, tl, sv, cr, tu, tm, te, tf, tw), (nI P, hh, ww, nI B, nI L.length, mw, fn, us, kd, pl, ii, tg, tr, ta, st, ln, dy, li, rt, tu, te, tf, go, gw), po_mk HH, fun post h => ?_, fun post h => ?_⟩
        · unfold wpX_release
          dsimp only
          refine xo_in hp (by omega) (br_t rfl ?_)
          refine xo_in (n := 4) hg (by omega) (br_t rfl (nm_r ee (And.intro ve ?_)))
          rw [ce]
          exact br_t z h
        · unfold wpY_release wpY_request
          dsimp only
          refine yo_in hp (by omega) (br_t rfl ?_)
          refine yo_in (n := 4) hg (by omega) (br_t rfl ?_)
          refine yo_in (j := 0) (n := 3) (by omega) (by omega) (br_t rfl (nm_r ee (And.intro ve ?_)))
          rw [ce]
          exact br_t z (br_f (by decide) (br_f (by decide) h))
      · obtain ⟨l, f, e1, b1, e2, b2, e3, e4⟩ := hT1 _ he z
        have hcn : po_cn go ((p * 4 + g) * 8) l ≤ l := po_cn_le l
        have hX : ∀ post : Int32 → SX → Prop, (((tm (p * 4 + g)) ≤ 0 → post 0 (0, 1, 2, 3, 0, 1, 2, nI P, nI B, mw, fn, us, kd, pl, ii, tg, tr, ta, st, ln, dx, qu, nx, pv, hd, tl, sv, cr, upd tu (p * 4 + g) 0, tm, te, tf, tw)) ∧ (¬ (tm (p * 4 + g)) ≤ 0 → post (-11) (0, 1, 2, 3, 0, 1, 2, nI P, nI B, mw, fn, us, kd, pl, ii, tg, tr, ta, st, ln, dx, qu, nx, pv, hd, tl, sv, cr, tu, tm, te, tf, tw))) → wpX_release post (0, 1, 2, 3, 0, 1, 2, nI P, nI B, mw, fn, us, kd, pl, ii, tg, tr, ta, st, ln, dx, qu, nx, pv, hd, tl, sv, cr, tu, tm, te, tf, tw) (nI p) (nI g) := by
          intro post h
          unfold wpX_release
          dsimp only
          refine xo_in hp (by omega) (br_t rfl ?_)
          refine xo_in (n := 4) hg (by omega) (br_t rfl (nm_r ee (And.intro ve ?_)))
          rw [ce, po_b0]
          exact br_f z (And.intro ve (br_c (fun c => And.intro ve (nm_e (h.1 c))) h.2))
        have hY : ∀ post : Int32 → SY → Prop, (((tm (p * 4 + g)) ≤ 0 → post 0 (nI P, hh, ww, nI B, nI L.length, mw, fn, us, kd, pl, ii, tg, tr, ta, st, ln, dy, li, rt, upd tu (p * 4 + g) 0, te, tf, go, gw)) ∧ (¬ (tm (p * 4 + g)) ≤ 0 → post (-11) (nI P, hh, ww, nI B, nI L.length, mw, fn, us, kd, pl, ii, tg, tr, ta, st, ln, dy, li, rt, tu, te, tf, go, gw))) → wpY_release post (nI P, hh, ww, nI B, nI L.length, mw, fn, us, kd, pl, ii, tg, tr, ta, st, ln, dy, li, rt, tu, te, tf, go, gw) (nI p) (nI g) := by
          intro post h
          unfold wpY_release wpY_request
          dsimp only
          refine yo_in hp (by omega) (br_t rfl ?_)
          refine yo_in (n := 4) hg (by omega) (br_t rfl ?_)
          refine yo_in (j := 0) (n := 3) (by omega) (by omega) (br_t rfl (nm_r ee (And.intro ve ?_)))
          rw [ce]
          refine br_f z (br_t rfl ?_)
          refine ym_miss he b1 e1 ?_
          rw [e3] at h
          by_cases c : po_cn go ((p * 4 + g) * 8) l = 0
          · rw [c] at h ⊢
            refine br_t rfl ?_
            rw [ee, ce, po_b0]
            exact And.intro ve (nm_e (h.1 (by decide)))
          · refine br_f (nI_ne0 (by omega) (by omega)) (br_t (nI_pos' (by omega)) (h.2 (nI_nle (by omega) (by omega))))
        by_cases c : tm (p * 4 + g) ≤ 0
        · refine ⟨0, (0, 1, 2, 3, 0, 1, 2, nI P, nI B, mw, fn, us, kd, pl, ii, tg, tr, ta, st, ln, dx, qu, nx, pv, hd, tl, sv, cr, upd tu (p * 4 + g) 0, tm, te, tf, tw), (nI P, hh, ww, nI B, nI L.length, mw, fn, us, kd, pl, ii, tg, tr, ta, st, ln, dy, li, rt, upd tu (p * 4 + g) 0, te, tf, go, gw), po_mk ⟨⟨hP1, hP2, hB1, hB2⟩, hPK, hLN, hDL, hSV, hCR, po_T1L hT1, po_T2L hT2 hT1 hPK hP2 ?_, hT3, hDT⟩, fun post h => hX post ⟨fun _ => h, fun n => absurd c n⟩, fun post h => hY post ⟨fun _ => h, fun n => absurd c n⟩⟩
          intro l' el' hl'
          have : l' = l := (nI_eq (by omega) (by omega)).mp (el'.symm.trans e1)
          rw [this]
          rw [e3] at c
          by_cases c0 : po_cn go ((p * 4 + g) * 8) l = 0
          · exact c0
          · exact absurd c (nI_nle (by omega) (by omega))
        · exact ⟨-11, (0, 1, 2, 3, 0, 1, 2, nI P, nI B, mw, fn, us, kd, pl, ii, tg, tr, ta, st, ln, dx, qu, nx, pv, hd, tl, sv, cr, tu, tm, te, tf, tw), (nI P, hh, ww, nI B, nI L.length, mw, fn, us, kd, pl, ii, tg, tr, ta, st, ln, dy, li, rt, tu, te, tf, go, gw), po_mk HH, fun post h => hX post ⟨fun n => absurd n c, fun _ => h⟩, fun post h => hY post ⟨fun n => absurd n c, fun _ => h⟩⟩
    · refine ⟨-1, (0, 1, 2, 3, 0, 1, 2, nI P, nI B, mw, fn, us, kd, pl, ii, tg, tr, ta, st, ln, dx, qu, nx, pv, hd, tl, sv, cr, tu, tm, te, tf, tw), (nI P, hh, ww, nI B, nI L.length, mw, fn, us, kd, pl, ii, tg, tr, ta, st, ln, dy, li, rt, tu, te, tf, go, gw), po_mk HH, fun post h => ?_, fun post h => ?_⟩
      · unfold wpX_release
        dsimp only
        refine xo_in hp (by omega) (br_t rfl ?_)
        exact xo_out ho (br_f po_n10 h)
      · unfold wpY_release wpY_request
        dsimp only
        refine yo_in hp (by omega) (br_t rfl ?_)
        exact yo_out ho (br_f po_n10 (br_f (by decide) (br_f (by decide) h)))
  · refine ⟨-1, (0, 1, 2, 3, 0, 1, 2, nI P, nI B, mw, fn, us, kd, pl, ii, tg, tr, ta, st, ln, dx, qu, nx, pv, hd, tl, sv, cr, tu, tm, te, tf, tw), (nI P, hh, ww, nI B, nI L.length, mw, fn, us, kd, pl, ii, tg, tr, ta, st, ln, dy, li, rt, tu, te, tf, go, gw), po_mk HH, fun post h => ?_, fun post h => ?_⟩
    · unfold wpX_release
      dsimp only
      exact xo_out ho (br_f po_n10 h)
    · unfold wpY_release wpY_request
      dsimp only
      exact yo_out ho (br_f po_n10 (br_f (by decide) (br_f (by decide) h)))
end RD
end
section
/-! credits, packet, returnCredits, blocker, ahead -/
section RE
variable {k1 k2 k3 k4 k5 k6 k7 hh ww lc : Int32} {P B : Nat} {mw fn us kd pl ii tg tr ta st ln dx qu nx pv hd tl sv cr tu tm te tf tw dy li rt go gw : Nat → Int32}
variable {L : List Nat}
theorem lk_credits (H : po_R P B hh ww mw fn us kd pl ii tg tr ta st ln dx qu nx pv hd tl sv cr tu tm te tf tw dy li rt go gw L) (v1 v2 v3 v4 : Int32) : po_Lr (fun post => wpX_credits post (0, 1, 2, 3, 0, 1, 2, nI P, nI B, mw, fn, us, kd, pl, ii, tg, tr, ta, st, ln, dx, qu, nx, pv, hd, tl, sv, cr, tu, tm, te, tf, tw) v1 v2 v3 v4) (fun post => wpY_credits post (nI P, hh, ww, nI B, nI L.length, mw, fn, us, kd, pl, ii, tg, tr, ta, st, ln, dy, li, rt, tu, te, tf, go, gw) v1 v2 v3 v4) := by
  obtain ⟨⟨hP1, hP2, hB1, hB2⟩, _, _, _, _, hCR, _⟩ := H
  rcases po_in (v := v1) (n := 2 * P) (by omega) with ⟨l, hl, rfl⟩ | ho
  · rcases po_in (v := v2) (n := 3) (by omega) with ⟨k, hk, rfl⟩ | ho
    · rcases po_in (v := v3) (n := 2) (by omega) with ⟨u, hu, rfl⟩ | ho
      · rcases po_in (v := v4) (n := 3) (by omega) with ⟨w, hw, rfl⟩ | ho
        · have ei : (nI l * 3 + nI k) * 6 + 3 * nI u + nI w = nI (po_ix l k u w) := by rw [xs_ix, po_3m, nI_add, nI_add]; rfl
          have hb : po_ix l k u w < 144 := by unfold po_ix; omega
          refine ⟨cr (po_ix l k u w), fun post h => ?_, fun post h => ?_⟩
          · unfold wpX_credits
            dsimp only
            rw [po_2m]
            refine xo_in hl (by omega) (br_t rfl ?_)
            refine xo_in (n := 3) hk (by omega) (br_t rfl ?_)
            refine xo_in (n := 2) hu (by omega) (br_t rfl ?_)
            refine xo_in (n := 3) hw (by omega) (br_t rfl ?_)
            unfold wpX_creditIndex
            dsimp only
            rw [ei, nI_clamp (by omega)]
            exact And.intro (vp_in_nI hb (by decide)) h
          · refine yc_credits hP2 hl hk hu hw ?_
            obtain ⟨c1, c2, c3⟩ := hCR l k u hl hk hu
            rcases (by omega : w = 0 ∨ w = 1 ∨ w = 2) with rfl | rfl | rfl
            · rw [if_pos rfl]
              rw [c3] at h
              exact h
            · rw [if_neg (by decide), if_pos rfl]
              rw [c1] at h
              exact h
            · rw [if_neg (by decide), if_neg (by decide)]
              rw [c2] at h
              exact h
        · refine ⟨-1, fun post h => ?_, fun post h => ?_⟩
          · unfold wpX_credits
            dsimp only
            rw [po_2m]
            refine xo_in hl (by omega) (br_t rfl ?_)
            refine xo_in (n := 3) hk (by omega) (br_t rfl ?_)
            refine xo_in (n := 2) hu (by omega) (br_t rfl ?_)
            exact xo_out ho (br_f po_n10 h)
          · unfold wpY_credits
            dsimp only
            rw [po_2m]
            refine yo_in hl (by omega) (br_t rfl ?_)
            refine yo_in (n := 3) hk (by omega) (br_t rfl ?_)
            refine yo_in (n := 2) hu (by omega) (br_t rfl ?_)
            exact yo_out ho (br_f po_n10 h)
      · refine ⟨-1, fun post h => ?_, fun post h => ?_⟩
        · unfold wpX_credits
          dsimp only
          rw [po_2m]
          refine xo_in hl (by omega) (br_t rfl ?_)
          refine xo_in (n := 3) hk (by omega) (br_t rfl ?_)
          exact xo_out ho (br_f po_n10 h)
        · unfold wpY_credits
          dsimp only
          rw [po_2m]
          refine yo_in hl (by omega) (br_t rfl ?_)
          refine yo_in (n := 3) hk (by omega) (br_t rfl ?_)
          exact yo_out ho (br_f po_n10 h)
    · refine ⟨-1, fun post h => ?_, fun post h => ?_⟩
      · unfold wpX_credits
        dsimp only
        rw [po_2m]
        refine xo_in hl (by omega) (br_t rfl ?_)
        exact xo_out ho (br_f po_n10 h)
      · unfold wpY_credits
        dsimp only
        rw [po_2m]
        refine yo_in hl (by omega) (br_t rfl ?_)
        exact yo_out ho (br_f po_n10 h)
  · refine ⟨-1, fun post h => ?_, fun post h => ?_⟩
    · unfold wpX_credits
      dsimp only
      rw [po_2m]
      exact xo_out ho (br_f po_n10 h)
    · unfold wpY_credits
      dsimp only
      rw [po_2m]
      exact yo_out ho (br_f po_n10 h)
theorem xr_return {post : Int32 → SX → Prop} {l k : Nat} (hP : P ≤ 4) (hl : l < 2 * P) (hk : k < 3) (h : post (cr (po_ix l k 0 2)) (k1, k2, k3, k4, k5, k6, k7, nI P, nI B, mw, fn, us, kd, pl, ii, tg, tr, ta, st, ln, dx, qu, nx, pv, hd, tl, sv, po_rc cr l k, tu, tm, te, tf, tw)) : wpX_returnCredits post (k1, k2, k3, k4, k5, k6, k7, nI P, nI B, mw, fn, us, kd, pl, ii, tg, tr, ta, st, ln, dx, qu, nx, pv, hd, tl, sv, cr, tu, tm, te, tf, tw) (nI l) (nI k) := by
  have b : ∀ u w, u < 2 → w < 3 → po_ix l k u w < 144 := by
    intro u w hu hw; unfold po_ix; omega
  have e2 : nI ((l * 3 + k) * 6) + 2 = nI (po_ix l k 0 2) := po_a2 _
  have f0 : nI ((l * 3 + k) * 6) + 3 * nI 0 = nI (po_ix l k 0 0) := by rw [po_3m, nI_add]; rfl
  have f1 : nI ((l * 3 + k) * 6) + 3 * nI 1 = nI (po_ix l k 1 0) := by rw [po_3m, nI_add]; rfl
  have g0 : nI (po_ix l k 0 0) + 2 = nI (po_ix l k 0 2) := po_a2 _
  have g1 : nI (po_ix l k 1 0) + 2 = nI (po_ix l k 1 2) := po_a2 _
  have v00 := vp_in_nI (b 0 0 (by omega) (by omega)) (by decide)
  have v02 := vp_in_nI (b 0 2 (by omega) (by omega)) (by decide)
  have v10 := vp_in_nI (b 1 0 (by omega) (by omega)) (by decide)
  have v12 := vp_in_nI (b 1 2 (by omega) (by omega)) (by decide)
  have c00 : (nI (po_ix l k 0 0)).toNatClampNeg = po_ix l k 0 0 := nI_clamp (by have := b 0 0 (by omega) (by omega); omega)
  have c02 : (nI (po_ix l k 0 2)).toNatClampNeg = po_ix l k 0 2 := nI_clamp (by have := b 0 2 (by omega) (by omega); omega)
  have c10 : (nI (po_ix l k 1 0)).toNatClampNeg = po_ix l k 1 0 := nI_clamp (by have := b 1 0 (by omega) (by omega); omega)
  have c12 : (nI (po_ix l k 1 2)).toNatClampNeg = po_ix l k 1 2 := nI_clamp (by have := b 1 2 (by omega) (by omega); omega)
  unfold wpX_returnCredits
  dsimp only
  rw [po_2m]
  refine xo_in hl (by omega) (br_t rfl ?_)
  refine xo_in (n := 3) hk (by omega) (br_t rfl ?_)
  unfold wpX_creditIndex
  dsimp only
  rw [xs_ix, e2, c02]
  refine And.intro v02 (nm_e ⟨3, ?_⟩)
  refine br_f (nI_ge (a := 0) (b := 2) (by decide) (by decide)) (nm_r (e' := nI (po_ix l k 0 0)) f0 ?_)
  rw [po_a0, g0, c00, c02]
  refine And.intro v00 (And.intro v02 (And.intro v00 (nm_e (And.intro v02 (nm_e (nm_r (e' := nI 1) rfl ?_))))))
  refine br_f (nI_ge (a := 1) (b := 2) (by decide) (by decide)) (nm_r (e' := nI (po_ix l k 1 0)) f1 ?_)
  rw [po_a0, g1, c10, c12]
  refine And.intro v10 (And.intro v12 (And.intro v10 (nm_e (And.intro v12 (nm_e (nm_r (e' := nI 2) rfl ?_))))))
  exact br_t (nI_le (a := 2) (b := 2) (by decide) (by decide)) h
theorem yr_return {post : Int32 → SY → Prop} {l k : Nat} (hP : P ≤ 4) (hl : l < 2 * P) (hk : k < 3) (h : post (rt ((l * 3 + k) * 2)) (nI P, hh, ww, nI B, lc, mw, fn, us, kd, pl, ii, tg, tr, ta, st, ln, dy, li, upd (upd rt ((l * 3 + k) * 2) 0) ((l * 3 + k) * 2 + 1) 0, tu, te, tf, go, gw)) : wpY_returnCredits post (nI P, hh, ww, nI B, lc, mw, fn, us, kd, pl, ii, tg, tr, ta, st, ln, dy, li, rt, tu, te, tf, go, gw) (nI l) (nI k) := by
  have e : (nI l * 3 + nI k) * 2 = nI ((l * 3 + k) * 2) := by rw [po_m3, nI_add, po_m2]
  have v0 : vp_in (nI ((l * 3 + k) * 2)) 48 := vp_in_nI (by omega) (by decide)
  have v1 : vp_in (nI ((l * 3 + k) * 2 + 1)) 48 := vp_in_nI (by omega) (by decide)
  unfold wpY_returnCredits
  dsimp only
  rw [po_2m]
  refine yo_in hl (by omega) (br_t rfl ?_)
  refine yo_in (n := 3) hk (by omega) (br_t rfl (nm_r e ?_))
  rw [nI_1, nI_clamp (n := (l * 3 + k) * 2) (by omega), nI_clamp (n := (l * 3 + k) * 2 + 1) (by omega)]
  exact And.intro v0 (nm_e (And.intro v0 (nm_e (And.intro v1 (nm_e h)))))
theorem lk_returnCredits (H : po_R P B hh ww mw fn us kd pl ii tg tr ta st ln dx qu nx pv hd tl sv cr tu tm te tf tw dy li rt go gw L) (v1 v2 : Int32) : po_Lk (fun post => wpX_returnCredits post (0, 1, 2, 3, 0, 1, 2, nI P, nI B, mw, fn, us, kd, pl, ii, tg, tr, ta, st, ln, dx, qu, nx, pv, hd, tl, sv, cr, tu, tm, te, tf, tw) v1 v2) (fun post => wpY_returnCredits post (nI P, hh, ww, nI B, nI L.length, mw, fn, us, kd, pl, ii, tg, tr, ta, st, ln, dy, li, rt, tu, te, tf, go, gw) v1 v2) := by
  have HH := H
  obtain ⟨⟨hP1, hP2, hB1, hB2⟩, hPK, hLN, hDL, hSV, hCR, hT1, hT2, hT3, hDT⟩ := H
  rcases po_in (v := v1) (n := 2 * P) (by omega) with ⟨l, hl, rfl⟩ | ho
  · rcases po_in (v := v2) (n := 3) (by omega) with ⟨k, hk, rfl⟩ | ho
    · refine ⟨cr (po_ix l k 0 2), (0, 1, 2, 3, 0, 1, 2, nI P, nI B, mw, fn, us, kd, pl, ii, tg, tr, ta, st, ln, dx, qu, nx, pv, hd, tl, sv, po_rc cr l k, tu, tm, te, tf, tw), (nI P, hh, ww, nI B, nI L.length, mw, fn, us, kd, pl, ii, tg, tr, ta, st, ln, dy, li, upd (upd rt ((l * 3 + k) * 2) 0) ((l * 3 + k) * 2 + 1) 0, tu, te, tf, go, gw), po_mk ⟨⟨hP1, hP2, hB1, hB2⟩, hPK, hLN, hDL, hSV, po_CS3 hCR hk, hT1, hT2, hT3, hDT⟩, fun post h => xr_return hP2 hl hk h, fun post h => yr_return hP2 hl hk ?_⟩
      have := (hCR l k 0 hl hk (by omega)).2.1
      rw [this] at h
      exact h
    · refine ⟨-1, (0, 1, 2, 3, 0, 1, 2, nI P, nI B, mw, fn, us, kd, pl, ii, tg, tr, ta, st, ln, dx, qu, nx, pv, hd, tl, sv, cr, tu, tm, te, tf, tw), (nI P, hh, ww, nI B, nI L.length, mw, fn, us, kd, pl, ii, tg, tr, ta, st, ln, dy, li, rt, tu, te, tf, go, gw), po_mk HH, fun post h => ?_, fun post h => ?_⟩
      · unfold wpX_returnCredits
        dsimp only
        rw [po_2m]
        refine xo_in hl (by omega) (br_t rfl ?_)
        exact xo_out ho (br_f po_n10 h)
      · unfold wpY_returnCredits
        dsimp only
        rw [po_2m]
        refine yo_in hl (by omega) (br_t rfl ?_)
        exact yo_out ho (br_f po_n10 h)
  · refine ⟨-1, (0, 1, 2, 3, 0, 1, 2, nI P, nI B, mw, fn, us, kd, pl, ii, tg, tr, ta, st, ln, dx, qu, nx, pv, hd, tl, sv, cr, tu, tm, te, tf, tw), (nI P, hh, ww, nI B, nI L.length, mw, fn, us, kd, pl, ii, tg, tr, ta, st, ln, dy, li, rt, tu, te, tf, go, gw), po_mk HH, fun post h => ?_, fun post h => ?_⟩
    · unfold wpX_returnCredits
      dsimp only
      rw [po_2m]
      exact xo_out ho (br_f po_n10 h)
    · unfold wpY_returnCredits
      dsimp only
      rw [po_2m]
      exact yo_out ho (br_f po_n10 h)
theorem po_qlt {x : Nat} (h : po_pk1 P (kd x) (pl x) (ii x) (tg x) (ta x) (st x) (ln x)) (hP : P ≤ 4) : po_q pl ii tg x < 24 := by
  obtain ⟨k', p', i', t', g', a', l', e1, e2, e3, e4, e5, e6, e7, b⟩ := h
  unfold po_q
  rw [e3, e4, nI_clamp (by omega), nI_clamp (by omega)]
  split
  · omega
  · split <;> omega
theorem po_ah_q {x s : Nat} (hx : po_pk1 P (kd x) (pl x) (ii x) (tg x) (ta x) (st x) (ln x)) (hs : po_pk1 P (kd s) (pl s) (ii s) (tg s) (ta s) (st s) (ln s)) (hP : P ≤ 4) (ux : us x ≠ 0) (us' : us s ≠ 0) (px : pl x ≠ 3) (ps : pl s ≠ 3) : po_ah us pl ii tg x s ↔ po_q pl ii tg x = po_q pl ii tg s := by
  obtain ⟨k', p', i', t', g', a', l', e1, e2, e3, e4, e5, e6, e7, b⟩ := hx
  obtain ⟨k2, p2, i2, t2, g2, a2, l2, d1, d2, d3, d4, d5, d6, d7, c⟩ := hs
  have f1 : (pl x = pl s) ↔ p' = p2 := by rw [e2, d2]; exact nI_eq (by omega) (by omega)
  have f2 : (ii x / 4 = ii s / 4) ↔ i' / 4 = i2 / 4 := by
    rw [e3, d3, po_d4 (by omega), po_d4 (by omega)]
    exact nI_eq (by omega) (by omega)
  have f3 : (tg x = tg s) ↔ t' = t2 := by rw [e4, d4]; exact nI_eq (by omega) (by omega)
  have f4 : (pl x = 2) ↔ p' = 2 := by rw [e2]; exact po_e2 (by omega)
  have f5 : (pl x = 0) ↔ p' = 0 := by rw [e2]; exact po_e0 (by omega)
  have f6 : (pl x = 1) ↔ p' = 1 := by rw [e2]; exact po_e1 (by omega)
  have f7 : (pl s = 0) ↔ p2 = 0 := by rw [d2]; exact po_e0 (by omega)
  have f8 : (pl s = 1) ↔ p2 = 1 := by rw [d2]; exact po_e1 (by omega)
  have px' : p' ≠ 3 := fun h => px (by rw [e2, h]; rfl)
  have ps' : p2 ≠ 3 := fun h => ps (by rw [d2, h]; rfl)
  have h1 : po_ah us pl ii tg x s ↔ (p' = p2 ∧ (p' = 2 ∨ i' / 4 = i2 / 4) ∧ (p' = 0 ∨ t' = t2)) := by
    unfold po_ah
    rw [f1, f2, f3, f4, f5]
    exact ⟨fun h => ⟨h.2.2.1, h.2.2.2.2.1, h.2.2.2.2.2⟩, fun h => ⟨ux, us', h.1, px, h.2.1, h.2.2⟩⟩
  have h2 : po_q pl ii tg x = if p' = 0 then i' / 4 else if p' = 1 then 4 + i' / 4 * 4 + t' else 20 + t' := by
    unfold po_q
    simp only [f5, f6]
    rw [e3, e4, nI_clamp (by omega), nI_clamp (by omega)]
  have h3 : po_q pl ii tg s = if p2 = 0 then i2 / 4 else if p2 = 1 then 4 + i2 / 4 * 4 + t2 else 20 + t2 := by
    unfold po_q
    simp only [f7, f8]
    rw [d3, d4, nI_clamp (by omega), nI_clamp (by omega)]
  rw [h1, h2, h3]
  have r1 : p' = 0 ∨ p' = 1 ∨ p' = 2 := by omega
  have r2 : p2 = 0 ∨ p2 = 1 ∨ p2 = 2 := by omega
  rcases r1 with rfl | rfl | rfl <;> rcases r2 with rfl | rfl | rfl <;> simp <;> omega
theorem lk_fb {s : Nat} (H : po_R P B hh ww mw fn us kd pl ii tg tr ta st ln dx qu nx pv hd tl sv cr tu tm te tf tw dy li rt go gw L) (hs : s < 24) (hu : us s ≠ 0) : ∃ C : List Nat, (∀ x, x ∈ C → x < 24) ∧ (∀ post : Int32 → Prop, post (po_fb (-1) (fun y => po_bk kd tr ii tg ta y s) C) → wpX_firstBlocker post (0, 1, 2, 3, 0, 1, 2, nI P, nI B, mw, fn, us, kd, pl, ii, tg, tr, ta, st, ln, dx, qu, nx, pv, hd, tl, sv, cr, tu, tm, te, tf, tw) (nI s)) ∧ (∀ post : Int32 → Prop, post (po_fb (-13) (fun y => po_bk kd tr ii tg ta y s) C) → wpY_blocker post (nI P, hh, ww, nI B, nI L.length, mw, fn, us, kd, pl, ii, tg, tr, ta, st, ln, dy, li, rt, tu, te, tf, go, gw) (nI s)) := by
  obtain ⟨⟨hP1, hP2, hB1, hB2⟩, hPK, hLN, hDL, hSV, hCR, hT1, hT2, hT3, hDT⟩ := H
  have hb : ∀ y, y ∈ L → y < 24 := fun y hy => ((hLN.2.1 y).mp hy).1
  have hlen : L.length ≤ 24 := po_len hLN.1 hb
  have cs : (nI s).toNatClampNeg = s := nI_clamp (by omega)
  have vs : vp_in (nI s) 24 := vp_in_nI hs (by decide)
  by_cases hm : s ∈ L
  · obtain ⟨L1, L2, hE⟩ := List.append_of_mem hm
    have hnd : (L1 ++ s :: L2).Nodup := hE ▸ hLN.1
    obtain ⟨n1, n2, n3, n4, n5⟩ := po_nd hnd
    have hq : po_q pl ii tg s < 24 := po_qlt (hPK s hs hu) hP2
    refine ⟨po_Qf pl ii tg L1 (po_q pl ii tg s), fun x hx => hb x (by rw [hE]; simp [(po_Qf_m.mp hx).1]), fun post h => ?_, fun post h => ?_⟩
    · exact xf_in hDL hs hq (by rw [hE]; exact po_Qf_s) h
    · have hav : ∀ y, y ∈ L → ∀ post : Int32 → Prop, post (if decide (y ∈ L1 ∧ po_q pl ii tg y = po_q pl ii tg s) = true then 1 else 0) → wpY_ahead post (nI P, hh, ww, nI B, nI L.length, mw, fn, us, kd, pl, ii, tg, tr, ta, st, ln, dy, li, rt, tu, te, tf, go, gw) (nI y) (nI s) := by
        intro y hy post h
        have hy24 := hb y hy
        by_cases c : y = s
        · subst c
          rw [if_neg (by simp [n1])] at h
          exact ya_eq hs h
        · have iff := po_ah_q (us := us) (hPK y hy24 ((hLN.2.1 y).mp hy).2.1) (hPK s hs hu) hP2 ((hLN.2.1 y).mp hy).2.1 hu ((hLN.2.1 y).mp hy).2.2 ((hLN.2.1 s).mp hm).2.2
          refine ya_ahead hLN.2.2 hlen hb hy24 hs c (fun ha => ?_) (fun ha => ?_)
          · by_cases c1 : y ∈ L1
            · rw [if_pos (by simp [c1, iff.mp ha])] at h
              have : po_bf y s L = 1 := by rw [hE]; exact po_bf1 n1 c1
              rw [this]; exact h
            · rw [if_neg (by simp [c1])] at h
              have : po_bf y s L = 0 := by rw [hE]; exact po_bf0 c c1
              rw [this]; exact h
          · have : po_q pl ii tg y ≠ po_q pl ii tg s := fun e => ha (iff.mpr e)
            rw [if_neg (by simp [this])] at h
            exact h
      have h2 : post (po_fb (-13) (fun y => decide (y ∈ L1 ∧ po_q pl ii tg y = po_q pl ii tg s) && po_bk kd tr ii tg ta y s) L) := by
        have e1 : po_fb (-13) (fun y => decide (y ∈ L1 ∧ po_q pl ii tg y = po_q pl ii tg s) && po_bk kd tr ii tg ta y s) L = po_fb (-13) (fun y => po_bk kd tr ii tg ta y s) (po_Qf pl ii tg L1 (po_q pl ii tg s)) := by
          have hf : ∀ c, c ∈ s :: L2 → (fun y => decide (y ∈ L1 ∧ po_q pl ii tg y = po_q pl ii tg s) && po_bk kd tr ii tg ta y s) c = false := by
            intro c hc
            have : c ∉ L1 := by
              intro h1
              rcases List.mem_cons.mp hc with e | e
              · exact n1 (e ▸ h1)
              · exact (List.nodup_append.mp n5).2.2 c h1 c e rfl
            simp [this]
          rw [hE, po_fb_a hf]
          have := po_fb_p (d := -13) (f := fun y => po_bk kd tr ii tg ta y s) (p := fun x => decide (po_q pl ii tg x = po_q pl ii tg s)) L1
          unfold po_Qf
          rw [← this]
          exact po_fb_c L1 (fun x hx => by simp [hx])
        rw [e1]; exact h
      unfold wpY_blocker
      dsimp only
      refine yo_in (n := 24) hs (by decide) (br_t rfl (And.intro vs ?_))
      rw [cs]
      exact br_f hu ⟨L.length + 1, yk_walk hLN.2.2 hlen hb hs hav L [] (L.length + 1) rfl (by omega) h2⟩
  · have h3 : pl s = 3 := by
      by_cases c : pl s = 3
      · exact c
      · exact absurd ((hLN.2.1 s).mpr ⟨hs, hu, c⟩) hm
    have gq : qu s = -1 := hDL.2 s hs (fun q hq hx => hm (po_Qf_m.mp hx).1)
    refine ⟨[], fun x hx => by simp at hx, fun post h => xf_no hs gq h, fun post h => ?_⟩
    have hav : ∀ y, y ∈ L → ∀ post : Int32 → Prop, post (if false = true then 1 else 0) → wpY_ahead post (nI P, hh, ww, nI B, nI L.length, mw, fn, us, kd, pl, ii, tg, tr, ta, st, ln, dy, li, rt, tu, te, tf, go, gw) (nI y) (nI s) := by
      intro y hy post h
      have hy24 := hb y hy
      have c : y ≠ s := fun c => hm (c ▸ hy)
      refine ya_ahead hLN.2.2 hlen hb hy24 hs c (fun ha => ?_) (fun _ => h)
      exact absurd (ha.2.2.1.trans h3) ((hLN.2.1 y).mp hy).2.2
    have h2 : post (po_fb (-13) (fun y => (fun _ => false) y && po_bk kd tr ii tg ta y s) L) := by
      have := po_fb_a (d := -13) (f := fun y => (fun _ => false) y && po_bk kd tr ii tg ta y s) (C := L) (fun c _ => rfl) []
      rw [List.nil_append] at this
      rw [this]; exact h
    unfold wpY_blocker
    dsimp only
    refine yo_in (n := 24) hs (by decide) (br_t rfl (And.intro vs ?_))
    rw [cs]
    exact br_f hu ⟨L.length + 1, yk_walk (av := fun _ => false) hLN.2.2 hlen hb hs hav L [] (L.length + 1) rfl (by omega) h2⟩
theorem lk_blocker (H : po_R P B hh ww mw fn us kd pl ii tg tr ta st ln dx qu nx pv hd tl sv cr tu tm te tf tw dy li rt go gw L) (v1 : Int32) : po_Lr (fun post => wpX_blocker post (0, 1, 2, 3, 0, 1, 2, nI P, nI B, mw, fn, us, kd, pl, ii, tg, tr, ta, st, ln, dx, qu, nx, pv, hd, tl, sv, cr, tu, tm, te, tf, tw) v1) (fun post => wpY_blocker post (nI P, hh, ww, nI B, nI L.length, mw, fn, us, kd, pl, ii, tg, tr, ta, st, ln, dy, li, rt, tu, te, tf, go, gw) v1) := by
  rcases po_in (v := v1) (n := 24) (by omega) with ⟨s, hs, rfl⟩ | ho
  · have cs : (nI s).toNatClampNeg = s := nI_clamp (by omega)
    have vs : vp_in (nI s) 24 := vp_in_nI hs (by decide)
    by_cases hu : us s = 0
    · refine ⟨-2, fun post h => ?_, fun post h => ?_⟩
      · unfold wpX_blocker
        dsimp only
        refine xo_in (n := 24) hs (by decide) (br_t rfl (And.intro vs ?_))
        rw [cs]
        exact br_t hu h
      · unfold wpY_blocker
        dsimp only
        refine yo_in (n := 24) hs (by decide) (br_t rfl (And.intro vs ?_))
        rw [cs]
        exact br_t hu h
    · obtain ⟨C, hC, hX, hY⟩ := lk_fb H hs hu
      refine ⟨_, fun post h => ?_, hY⟩
      unfold wpX_blocker
      dsimp only
      refine xo_in (n := 24) hs (by decide) (br_t rfl (And.intro vs ?_))
      rw [cs]
      refine br_f hu (hX _ ?_)
      rcases po_fb_v (f := fun y => po_bk kd tr ii tg ta y s) C with ⟨x, hx, e⟩ | e
      · have := hC x hx
        rw [e (-1)]
        rw [e (-13)] at h
        exact br_t (nI_pos' (by omega)) h
      · rw [e (-1)]
        rw [e (-13)] at h
        exact br_f po_m1 h
  · refine ⟨-1, fun post h => ?_, fun post h => ?_⟩
    · unfold wpX_blocker
      dsimp only
      exact xo_out ho (br_f po_n10 h)
    · unfold wpY_blocker
      dsimp only
      exact yo_out ho (br_f po_n10 h)
theorem lk_ahead (H : po_R P B hh ww mw fn us kd pl ii tg tr ta st ln dx qu nx pv hd tl sv cr tu tm te tf tw dy li rt go gw L) (v1 v2 : Int32) : po_Lr (fun post => wpX_ahead post (0, 1, 2, 3, 0, 1, 2, nI P, nI B, mw, fn, us, kd, pl, ii, tg, tr, ta, st, ln, dx, qu, nx, pv, hd, tl, sv, cr, tu, tm, te, tf, tw) v1 v2) (fun post => wpY_ahead post (nI P, hh, ww, nI B, nI L.length, mw, fn, us, kd, pl, ii, tg, tr, ta, st, ln, dy, li, rt, tu, te, tf, go, gw) v1 v2) := by
  obtain ⟨⟨hP1, hP2, hB1, hB2⟩, hPK, hLN, hDL, hSV, hCR, hT1, hT2, hT3, hDT⟩ := H
  have hb : ∀ y, y ∈ L → y < 24 := fun y hy => ((hLN.2.1 y).mp hy).1
  have hlen : L.length ≤ 24 := po_len hLN.1 hb
  rcases po_in (v := v1) (n := 24) (by omega) with ⟨x, hx, rfl⟩ | ho
  · rcases po_in (v := v2) (n := 24) (by omega) with ⟨s, hs, rfl⟩ | ho
    · have cx : (nI x).toNatClampNeg = x := nI_clamp (by omega)
      have cs : (nI s).toNatClampNeg = s := nI_clamp (by omega)
      have vx : vp_in (nI x) 24 := vp_in_nI hx (by decide)
      have vs : vp_in (nI s) 24 := vp_in_nI hs (by decide)
      by_cases c : x = s
      · subst c
        refine ⟨0, fun post h => ?_, fun post h => ya_eq hx h⟩
        unfold wpX_ahead
        dsimp only
        refine xo_in (n := 24) hx (by decide) (br_t rfl ?_)
        refine xo_in (n := 24) hx (by decide) (br_t rfl ?_)
        exact br_t rfl h
      · have cn : ¬ nI x = nI s := fun e => c ((nI_eq (by omega) (by omega)).mp e)
        have hX : ∀ post : Int32 → Prop, ((qu x < 0 → post 0) ∧ (¬ qu x < 0 → ((qu x = qu s → ∃ n, wX_ahead_63 post (nI s) 0 1 2 3 0 1 2 (nI P) (nI B) mw fn us kd pl ii tg tr ta st ln dx qu nx pv hd tl sv cr tu tm te tf tw n (nx x) 0) ∧ (¬ qu x = qu s → post 0)))) → wpX_ahead post (0, 1, 2, 3, 0, 1, 2, nI P, nI B, mw, fn, us, kd, pl, ii, tg, tr, ta, st, ln, dx, qu, nx, pv, hd, tl, sv, cr, tu, tm, te, tf, tw) (nI x) (nI s) := by
          intro post h
          unfold wpX_ahead
          dsimp only
          refine xo_in (n := 24) hx (by decide) (br_t rfl ?_)
          refine xo_in (n := 24) hs (by decide) (br_t rfl ?_)
          rw [cx, cs]
          exact br_f cn (And.intro vx (br_c h.1 (fun a => And.intro vx (And.intro vs (br_c (fun b => And.intro vx (nm_e ((h.2 a).1 b))) (h.2 a).2)))))
        by_cases mx : x ∈ L
        · have qx := po_qlt (hPK x hx ((hLN.2.1 x).mp mx).2.1) hP2
          obtain ⟨d1, d2, d3, d4, d5⟩ := hDL.1 _ qx
          have gx : qu x = nI (po_q pl ii tg x) := (d4 x (po_Qf_m.mpr ⟨mx, rfl⟩)).2
          by_cases ms : s ∈ L
          · have qs := po_qlt (hPK s hs ((hLN.2.1 s).mp ms).2.1) hP2
            have gs : qu s = nI (po_q pl ii tg s) := ((hDL.1 _ qs).2.2.2.1 s (po_Qf_m.mpr ⟨ms, rfl⟩)).2
            have iff := po_ah_q (us := us) (hPK x hx ((hLN.2.1 x).mp mx).2.1) (hPK s hs ((hLN.2.1 s).mp ms).2.1) hP2 ((hLN.2.1 x).mp mx).2.1 ((hLN.2.1 s).mp ms).2.1 ((hLN.2.1 x).mp mx).2.2 ((hLN.2.1 s).mp ms).2.2
            by_cases eq : po_q pl ii tg x = po_q pl ii tg s
            · obtain ⟨L1, L2, hE⟩ := List.append_of_mem mx
              have hnd : (L1 ++ x :: L2).Nodup := hE ▸ hLN.1
              obtain ⟨n1, n2, n3, n4, n5⟩ := po_nd hnd
              have hQ : po_Qf pl ii tg L (po_q pl ii tg x) = po_Qf pl ii tg L1 (po_q pl ii tg x) ++ x :: po_Qf pl ii tg L2 (po_q pl ii tg x) := by rw [hE]; exact po_Qf_s
              have enx := (d5 _ _ _ hQ).1
              have hval : po_bf x s L = if s ∈ po_Qf pl ii tg L2 (po_q pl ii tg x) then 1 else 0 := by
                by_cases m2 : s ∈ L2
                · rw [if_pos (po_Qf_m.mpr ⟨m2, eq.symm⟩), hE]
                  have : s ∉ L1 := fun h1 => (List.nodup_append.mp n5).2.2 s h1 s m2 rfl
                  have e : L1 ++ x :: L2 = (L1 ++ [x]) ++ L2 := by simp
                  rw [e]
                  exact po_bf1 (by simp [this]; exact fun h => c h.symm) (by simp)
                · rw [if_neg (fun h => m2 (po_Qf_m.mp h).1)]
                  have m1 : s ∈ L1 := by
                    rw [hE] at ms
                    rcases List.mem_append.mp ms with h | h
                    · exact h
                    · rcases List.mem_cons.mp h with h | h
                      · exact absurd h.symm c
                      · exact absurd h m2
                  obtain ⟨M1, M2, hM⟩ := List.append_of_mem m1
                  have e : L = M1 ++ s :: (M2 ++ x :: L2) := by rw [hE, hM]; simp
                  rw [e]
                  refine po_bf0 c (fun h => n1 ?_)
                  rw [hM]; simp [h]
              refine ⟨po_bf x s L, fun post h => hX post ?_, fun post h => ya_ahead hLN.2.2 hlen hb hx hs c (fun _ => h) (fun ha => absurd (iff.mpr eq) ha)⟩
              rw [gx, gs, eq]
              refine br_f (nI_pos (by omega)) (br_t rfl ⟨(po_Qf pl ii tg L2 (po_q pl ii tg x)).length + 1, ?_⟩)
              rw [enx]
              rw [hval] at h
              exact xa_walk hDL hs qx (po_Qf pl ii tg L2 (po_q pl ii tg x)) (po_Qf pl ii tg L1 (po_q pl ii tg x) ++ [x]) 0 _ (by rw [hQ]; simp) (by simp) (by omega) h
            · refine ⟨0, fun post h => hX post ?_, fun post h => ya_ahead hLN.2.2 hlen hb hx hs c (fun ha => absurd (iff.mp ha) eq) (fun _ => h)⟩
              rw [gx, gs]
              exact br_f (nI_pos (by omega)) (br_f (fun e => eq ((nI_eq (by omega) (by omega)).mp e)) h)
          · have gs : qu s = -1 := hDL.2 s hs (fun q hq hx => ms (po_Qf_m.mp hx).1)
            refine ⟨0, fun post h => hX post ?_, fun post h => ya_ahead hLN.2.2 hlen hb hx hs c (fun ha => ?_) (fun _ => h)⟩
            · rw [gx, gs]
              exact br_f (nI_pos (by omega)) (br_f (po_nm (by omega)) h)
            · exact absurd ((hLN.2.1 s).mpr ⟨hs, ha.2.1, fun e => ha.2.2.2.1 (ha.2.2.1.trans e)⟩) ms
        · have gx : qu x = -1 := hDL.2 x hx (fun q hq hx => mx (po_Qf_m.mp hx).1)
          refine ⟨0, fun post h => hX post ?_, fun post h => ya_ahead hLN.2.2 hlen hb hx hs c (fun ha => ?_) (fun _ => h)⟩
          · rw [gx]
            exact br_t po_m1l h
          · exact absurd ((hLN.2.1 x).mpr ⟨hx, ha.1, ha.2.2.2.1⟩) mx
    · refine ⟨0, fun post h => ?_, fun post h => ?_⟩
      · unfold wpX_ahead
        dsimp only
        refine xo_in (n := 24) hx (by decide) (br_t rfl ?_)
        exact xo_out ho (br_f po_n10 h)
      · unfold wpY_ahead
        dsimp only
        refine yo_in (n := 24) hx (by decide) (br_t rfl ?_)
        exact yo_out ho (br_f po_n10 h)
  · refine ⟨0, fun post h => ?_, fun post h => ?_⟩
    · unfold wpX_ahead
      dsimp only
      exact xo_out ho (br_f po_n10 h)
    · unfold wpY_ahead
      dsimp only
      exact yo_out ho (br_f po_n10 h)
end RE
end
section
/-! packet -/
section PT
variable {k1 k2 k3 k4 k5 k6 k7 hh ww lc : Int32} {P B : Nat} {mw fn us kd pl ii tg tr ta st ln dx qu nx pv hd tl sv cr tu tm te tf tw dy li rt go gw : Nat → Int32}
variable {L : List Nat}
theorem lq_X0 {post : Int32 → Prop} {s : Nat} (hs : s < 24) (hu : us s ≠ 0) (h : post (kd s)) : wpX_packet post (k1, k2, k3, k4, k5, k6, k7, nI P, nI B, mw, fn, us, kd, pl, ii, tg, tr, ta, st, ln, dx, qu, nx, pv, hd, tl, sv, cr, tu, tm, te, tf, tw) (nI s) (nI 0) := by
  have cs : (nI s).toNatClampNeg = s := nI_clamp (by omega)
  have vs : vp_in (nI s) 24 := vp_in_nI hs (by decide)
  unfold wpX_packet
  dsimp only
  refine xo_in (n := 24) hs (by decide) (br_t rfl ?_)
  refine xo_in (n := 12) (by omega) (by decide) (br_t rfl (And.intro vs ?_))
  rw [cs]
  refine br_f hu (br_t (by decide) ?_)
  unfold wpX_property
  dsimp only
  rw [cs]
  exact br_f (by decide) (br_f (by decide) (br_t rfl (And.intro vs h)))
theorem lq_Y0 {post : Int32 → Prop} {s : Nat} (hs : s < 24) (hu : us s ≠ 0) (h : post (kd s)) : wpY_packet post (nI P, hh, ww, nI B, lc, mw, fn, us, kd, pl, ii, tg, tr, ta, st, ln, dy, li, rt, tu, te, tf, go, gw) (nI s) (nI 0) := by
  have cs : (nI s).toNatClampNeg = s := nI_clamp (by omega)
  have vs : vp_in (nI s) 24 := vp_in_nI hs (by decide)
  unfold wpY_packet
  dsimp only
  refine yo_in (n := 24) hs (by decide) (br_t rfl ?_)
  refine yo_in (n := 12) (by omega) (by decide) (br_t rfl (And.intro vs ?_))
  rw [cs]
  exact br_f hu (br_t rfl (And.intro vs h))
theorem lq_X1 {post : Int32 → Prop} {s : Nat} (hs : s < 24) (hu : us s ≠ 0) (h : post (pl s)) : wpX_packet post (k1, k2, k3, k4, k5, k6, k7, nI P, nI B, mw, fn, us, kd, pl, ii, tg, tr, ta, st, ln, dx, qu, nx, pv, hd, tl, sv, cr, tu, tm, te, tf, tw) (nI s) (nI 1) := by
  have cs : (nI s).toNatClampNeg = s := nI_clamp (by omega)
  have vs : vp_in (nI s) 24 := vp_in_nI hs (by decide)
  unfold wpX_packet
  dsimp only
  refine xo_in (n := 24) hs (by decide) (br_t rfl ?_)
  refine xo_in (n := 12) (by omega) (by decide) (br_t rfl (And.intro vs ?_))
  rw [cs]
  refine br_f hu (br_t (by decide) ?_)
  unfold wpX_property
  dsimp only
  rw [cs]
  exact br_f (by decide) (br_f (by decide) (br_f (by decide) (br_t rfl (And.intro vs h))))
theorem lq_Y1 {post : Int32 → Prop} {s : Nat} (hs : s < 24) (hu : us s ≠ 0) (h : post (pl s)) : wpY_packet post (nI P, hh, ww, nI B, lc, mw, fn, us, kd, pl, ii, tg, tr, ta, st, ln, dy, li, rt, tu, te, tf, go, gw) (nI s) (nI 1) := by
  have cs : (nI s).toNatClampNeg = s := nI_clamp (by omega)
  have vs : vp_in (nI s) 24 := vp_in_nI hs (by decide)
  unfold wpY_packet
  dsimp only
  refine yo_in (n := 24) hs (by decide) (br_t rfl ?_)
  refine yo_in (n := 12) (by omega) (by decide) (br_t rfl (And.intro vs ?_))
  rw [cs]
  exact br_f hu (br_f (by decide) (br_t rfl (And.intro vs h)))
theorem lq_X2 {post : Int32 → Prop} {s : Nat} (hs : s < 24) (hu : us s ≠ 0) (h : post (ii s)) : wpX_packet post (k1, k2, k3, k4, k5, k6, k7, nI P, nI B, mw, fn, us, kd, pl, ii, tg, tr, ta, st, ln, dx, qu, nx, pv, hd, tl, sv, cr, tu, tm, te, tf, tw) (nI s) (nI 2) := by
  have cs : (nI s).toNatClampNeg = s := nI_clamp (by omega)
  have vs : vp_in (nI s) 24 := vp_in_nI hs (by decide)
  unfold wpX_packet
  dsimp only
  refine xo_in (n := 24) hs (by decide) (br_t rfl ?_)
  refine xo_in (n := 12) (by omega) (by decide) (br_t rfl (And.intro vs ?_))
  rw [cs]
  refine br_f hu (br_t (by decide) ?_)
  unfold wpX_property
  dsimp only
  rw [cs]
  exact br_f (by decide) (br_f (by decide) (br_f (by decide) (br_f (by decide) (br_t rfl (And.intro vs h)))))
theorem lq_Y2 {post : Int32 → Prop} {s : Nat} (hs : s < 24) (hu : us s ≠ 0) (h : post (ii s)) : wpY_packet post (nI P, hh, ww, nI B, lc, mw, fn, us, kd, pl, ii, tg, tr, ta, st, ln, dy, li, rt, tu, te, tf, go, gw) (nI s) (nI 2) := by
  have cs : (nI s).toNatClampNeg = s := nI_clamp (by omega)
  have vs : vp_in (nI s) 24 := vp_in_nI hs (by decide)
  unfold wpY_packet
  dsimp only
  refine yo_in (n := 24) hs (by decide) (br_t rfl ?_)
  refine yo_in (n := 12) (by omega) (by decide) (br_t rfl (And.intro vs ?_))
  rw [cs]
  exact br_f hu (br_f (by decide) (br_f (by decide) (br_t rfl (And.intro vs h))))
theorem lq_X3 {post : Int32 → Prop} {s : Nat} (hs : s < 24) (hu : us s ≠ 0) (h : post (tg s)) : wpX_packet post (k1, k2, k3, k4, k5, k6, k7, nI P, nI B, mw, fn, us, kd, pl, ii, tg, tr, ta, st, ln, dx, qu, nx, pv, hd, tl, sv, cr, tu, tm, te, tf, tw) (nI s) (nI 3) := by
  have cs : (nI s).toNatClampNeg = s := nI_clamp (by omega)
  have vs : vp_in (nI s) 24 := vp_in_nI hs (by decide)
  unfold wpX_packet
  dsimp only
  refine xo_in (n := 24) hs (by decide) (br_t rfl ?_)
  refine xo_in (n := 12) (by omega) (by decide) (br_t rfl (And.intro vs ?_))
  rw [cs]
  refine br_f hu (br_t (by decide) ?_)
  unfold wpX_property
  dsimp only
  rw [cs]
  exact br_f (by decide) (br_f (by decide) (br_f (by decide) (br_f (by decide) (br_f (by decide) (br_t rfl (And.intro vs h))))))
theorem lq_Y3 {post : Int32 → Prop} {s : Nat} (hs : s < 24) (hu : us s ≠ 0) (h : post (tg s)) : wpY_packet post (nI P, hh, ww, nI B, lc, mw, fn, us, kd, pl, ii, tg, tr, ta, st, ln, dy, li, rt, tu, te, tf, go, gw) (nI s) (nI 3) := by
  have cs : (nI s).toNatClampNeg = s := nI_clamp (by omega)
  have vs : vp_in (nI s) 24 := vp_in_nI hs (by decide)
  unfold wpY_packet
  dsimp only
  refine yo_in (n := 24) hs (by decide) (br_t rfl ?_)
  refine yo_in (n := 12) (by omega) (by decide) (br_t rfl (And.intro vs ?_))
  rw [cs]
  exact br_f hu (br_f (by decide) (br_f (by decide) (br_f (by decide) (br_t rfl (And.intro vs h)))))
theorem lq_X4 {post : Int32 → Prop} {s : Nat} (hs : s < 24) (hu : us s ≠ 0) (h : post (tr s)) : wpX_packet post (k1, k2, k3, k4, k5, k6, k7, nI P, nI B, mw, fn, us, kd, pl, ii, tg, tr, ta, st, ln, dx, qu, nx, pv, hd, tl, sv, cr, tu, tm, te, tf, tw) (nI s) (nI 4) := by
  have cs : (nI s).toNatClampNeg = s := nI_clamp (by omega)
  have vs : vp_in (nI s) 24 := vp_in_nI hs (by decide)
  unfold wpX_packet
  dsimp only
  refine xo_in (n := 24) hs (by decide) (br_t rfl ?_)
  refine xo_in (n := 12) (by omega) (by decide) (br_t rfl (And.intro vs ?_))
  rw [cs]
  refine br_f hu (br_t (by decide) ?_)
  unfold wpX_property
  dsimp only
  rw [cs]
  exact br_f (by decide) (br_f (by decide) (br_f (by decide) (br_f (by decide) (br_f (by decide) (br_f (by decide) (br_t rfl (And.intro vs h)))))))
theorem lq_Y4 {post : Int32 → Prop} {s : Nat} (hs : s < 24) (hu : us s ≠ 0) (h : post (tr s)) : wpY_packet post (nI P, hh, ww, nI B, lc, mw, fn, us, kd, pl, ii, tg, tr, ta, st, ln, dy, li, rt, tu, te, tf, go, gw) (nI s) (nI 4) := by
  have cs : (nI s).toNatClampNeg = s := nI_clamp (by omega)
  have vs : vp_in (nI s) 24 := vp_in_nI hs (by decide)
  unfold wpY_packet
  dsimp only
  refine yo_in (n := 24) hs (by decide) (br_t rfl ?_)
  refine yo_in (n := 12) (by omega) (by decide) (br_t rfl (And.intro vs ?_))
  rw [cs]
  exact br_f hu (br_f (by decide) (br_f (by decide) (br_f (by decide) (br_f (by decide) (br_t rfl (And.intro vs h))))))
theorem lq_X5 {post : Int32 → Prop} {s : Nat} (hs : s < 24) (hu : us s ≠ 0) (h : post (ta s)) : wpX_packet post (k1, k2, k3, k4, k5, k6, k7, nI P, nI B, mw, fn, us, kd, pl, ii, tg, tr, ta, st, ln, dx, qu, nx, pv, hd, tl, sv, cr, tu, tm, te, tf, tw) (nI s) (nI 5) := by
  have cs : (nI s).toNatClampNeg = s := nI_clamp (by omega)
  have vs : vp_in (nI s) 24 := vp_in_nI hs (by decide)
  unfold wpX_packet
  dsimp only
  refine xo_in (n := 24) hs (by decide) (br_t rfl ?_)
  refine xo_in (n := 12) (by omega) (by decide) (br_t rfl (And.intro vs ?_))
  rw [cs]
  refine br_f hu (br_t (by decide) ?_)
  unfold wpX_property
  dsimp only
  rw [cs]
  exact br_f (by decide) (br_f (by decide) (br_f (by decide) (br_f (by decide) (br_f (by decide) (br_f (by decide) (br_f (by decide) (br_t rfl (And.intro vs h))))))))
theorem lq_Y5 {post : Int32 → Prop} {s : Nat} (hs : s < 24) (hu : us s ≠ 0) (h : post (ta s)) : wpY_packet post (nI P, hh, ww, nI B, lc, mw, fn, us, kd, pl, ii, tg, tr, ta, st, ln, dy, li, rt, tu, te, tf, go, gw) (nI s) (nI 5) := by
  have cs : (nI s).toNatClampNeg = s := nI_clamp (by omega)
  have vs : vp_in (nI s) 24 := vp_in_nI hs (by decide)
  unfold wpY_packet
  dsimp only
  refine yo_in (n := 24) hs (by decide) (br_t rfl ?_)
  refine yo_in (n := 12) (by omega) (by decide) (br_t rfl (And.intro vs ?_))
  rw [cs]
  exact br_f hu (br_f (by decide) (br_f (by decide) (br_f (by decide) (br_f (by decide) (br_f (by decide) (br_t rfl (And.intro vs h)))))))
theorem lq_X6 {post : Int32 → Prop} {s : Nat} (hs : s < 24) (hu : us s ≠ 0) (h : post (st s)) : wpX_packet post (k1, k2, k3, k4, k5, k6, k7, nI P, nI B, mw, fn, us, kd, pl, ii, tg, tr, ta, st, ln, dx, qu, nx, pv, hd, tl, sv, cr, tu, tm, te, tf, tw) (nI s) (nI 6) := by
  have cs : (nI s).toNatClampNeg = s := nI_clamp (by omega)
  have vs : vp_in (nI s) 24 := vp_in_nI hs (by decide)
  unfold wpX_packet
  dsimp only
  refine xo_in (n := 24) hs (by decide) (br_t rfl ?_)
  refine xo_in (n := 12) (by omega) (by decide) (br_t rfl (And.intro vs ?_))
  rw [cs]
  refine br_f hu (br_t (by decide) ?_)
  unfold wpX_property
  dsimp only
  rw [cs]
  exact br_f (by decide) (br_f (by decide) (br_f (by decide) (br_f (by decide) (br_f (by decide) (br_f (by decide) (br_f (by decide) (br_f (by decide) (br_t rfl (And.intro vs h)))))))))
theorem lq_Y6 {post : Int32 → Prop} {s : Nat} (hs : s < 24) (hu : us s ≠ 0) (h : post (st s)) : wpY_packet post (nI P, hh, ww, nI B, lc, mw, fn, us, kd, pl, ii, tg, tr, ta, st, ln, dy, li, rt, tu, te, tf, go, gw) (nI s) (nI 6) := by
  have cs : (nI s).toNatClampNeg = s := nI_clamp (by omega)
  have vs : vp_in (nI s) 24 := vp_in_nI hs (by decide)
  unfold wpY_packet
  dsimp only
  refine yo_in (n := 24) hs (by decide) (br_t rfl ?_)
  refine yo_in (n := 12) (by omega) (by decide) (br_t rfl (And.intro vs ?_))
  rw [cs]
  exact br_f hu (br_f (by decide) (br_f (by decide) (br_f (by decide) (br_f (by decide) (br_f (by decide) (br_f (by decide) (br_t rfl (And.intro vs h))))))))
theorem lq_X7 {post : Int32 → Prop} {s : Nat} (hs : s < 24) (hu : us s ≠ 0) (h : post (ln s)) : wpX_packet post (k1, k2, k3, k4, k5, k6, k7, nI P, nI B, mw, fn, us, kd, pl, ii, tg, tr, ta, st, ln, dx, qu, nx, pv, hd, tl, sv, cr, tu, tm, te, tf, tw) (nI s) (nI 7) := by
  have cs : (nI s).toNatClampNeg = s := nI_clamp (by omega)
  have vs : vp_in (nI s) 24 := vp_in_nI hs (by decide)
  unfold wpX_packet
  dsimp only
  refine xo_in (n := 24) hs (by decide) (br_t rfl ?_)
  refine xo_in (n := 12) (by omega) (by decide) (br_t rfl (And.intro vs ?_))
  rw [cs]
  refine br_f hu (br_t (by decide) ?_)
  unfold wpX_property
  dsimp only
  rw [cs]
  exact br_f (by decide) (br_t (by decide) (And.intro vs h))
theorem lq_Y7 {post : Int32 → Prop} {s : Nat} (hs : s < 24) (hu : us s ≠ 0) (h : post (ln s)) : wpY_packet post (nI P, hh, ww, nI B, lc, mw, fn, us, kd, pl, ii, tg, tr, ta, st, ln, dy, li, rt, tu, te, tf, go, gw) (nI s) (nI 7) := by
  have cs : (nI s).toNatClampNeg = s := nI_clamp (by omega)
  have vs : vp_in (nI s) 24 := vp_in_nI hs (by decide)
  unfold wpY_packet
  dsimp only
  refine yo_in (n := 24) hs (by decide) (br_t rfl ?_)
  refine yo_in (n := 12) (by omega) (by decide) (br_t rfl (And.intro vs ?_))
  rw [cs]
  exact br_f hu (br_f (by decide) (br_f (by decide) (br_f (by decide) (br_f (by decide) (br_f (by decide) (br_f (by decide) (br_f (by decide) (br_t rfl (And.intro vs h)))))))))
theorem lk_packet (H : po_R P B hh ww mw fn us kd pl ii tg tr ta st ln dx qu nx pv hd tl sv cr tu tm te tf tw dy li rt go gw L) (v1 v2 : Int32) : po_Lr (fun post => wpX_packet post (0, 1, 2, 3, 0, 1, 2, nI P, nI B, mw, fn, us, kd, pl, ii, tg, tr, ta, st, ln, dx, qu, nx, pv, hd, tl, sv, cr, tu, tm, te, tf, tw) v1 v2) (fun post => wpY_packet post (nI P, hh, ww, nI B, nI L.length, mw, fn, us, kd, pl, ii, tg, tr, ta, st, ln, dy, li, rt, tu, te, tf, go, gw) v1 v2) := by
  obtain ⟨⟨hP1, hP2, hB1, hB2⟩, hPK, hLN, hDL, hSV, hCR, hT1, hT2, hT3, hDT⟩ := H
  rcases po_in (v := v1) (n := 24) (by omega) with ⟨s, hs, rfl⟩ | ho
  · rcases po_in (v := v2) (n := 12) (by omega) with ⟨w, hw, rfl⟩ | ho
    · have cs : (nI s).toNatClampNeg = s := nI_clamp (by omega)
      have vs : vp_in (nI s) 24 := vp_in_nI hs (by decide)
      by_cases hu : us s = 0
      · refine ⟨-2, fun post h => ?_, fun post h => ?_⟩
        · unfold wpX_packet
          dsimp only
          refine xo_in (n := 24) hs (by decide) (br_t rfl ?_)
          refine xo_in (n := 12) hw (by decide) (br_t rfl (And.intro vs ?_))
          rw [cs]
          exact br_t hu h
        · unfold wpY_packet
          dsimp only
          refine yo_in (n := 24) hs (by decide) (br_t rfl ?_)
          refine yo_in (n := 12) hw (by decide) (br_t rfl (And.intro vs ?_))
          rw [cs]
          exact br_t hu h
      by_cases w8 : w < 8
      · rcases (by omega : w = 0 ∨ w = 1 ∨ w = 2 ∨ w = 3 ∨ w = 4 ∨ w = 5 ∨ w = 6 ∨ w = 7) with rfl | rfl | rfl | rfl | rfl | rfl | rfl | rfl
        · exact ⟨_, fun post h => lq_X0 hs hu h, fun post h => lq_Y0 hs hu h⟩
        · exact ⟨_, fun post h => lq_X1 hs hu h, fun post h => lq_Y1 hs hu h⟩
        · exact ⟨_, fun post h => lq_X2 hs hu h, fun post h => lq_Y2 hs hu h⟩
        · exact ⟨_, fun post h => lq_X3 hs hu h, fun post h => lq_Y3 hs hu h⟩
        · exact ⟨_, fun post h => lq_X4 hs hu h, fun post h => lq_Y4 hs hu h⟩
        · exact ⟨_, fun post h => lq_X5 hs hu h, fun post h => lq_Y5 hs hu h⟩
        · exact ⟨_, fun post h => lq_X6 hs hu h, fun post h => lq_Y6 hs hu h⟩
        · exact ⟨_, fun post h => lq_X7 hs hu h, fun post h => lq_Y7 hs hu h⟩
      · obtain ⟨j, rfl⟩ : ∃ j, w = j + 8 := ⟨w - 8, by omega⟩
        have ej : nI (j + 8) - 8 = nI j := by rw [← nI_add]; exact Int32.add_sub_cancel _ _
        have ex : nI s * 4 + nI j = nI (s * 4 + j) := by rw [po_m4, nI_add]
        have ey : nI s * 4 + nI (j + 8) - 8 = nI (s * 4 + j) := by
          rw [po_m4, ← nI_add, ← Int32.add_assoc, ← nI_add]; exact Int32.add_sub_cancel _ _
        have vi : vp_in (nI (s * 4 + j)) 96 := vp_in_nI (by omega) (by decide)
        have ci : (nI (s * 4 + j)).toNatClampNeg = s * 4 + j := nI_clamp (by omega)
        have n8 : ¬ nI (j + 8) < 8 := nI_nlt (b := 8) (by omega) (by omega)
        have hX : ∀ post : Int32 → Prop, ((kd s = 1 → post 0) ∧ (¬ kd s = 1 → ((nI j < ln s → post (dx (s * 4 + j))) ∧ (¬ nI j < ln s → post 0)))) → wpX_packet post (0, 1, 2, 3, 0, 1, 2, nI P, nI B, mw, fn, us, kd, pl, ii, tg, tr, ta, st, ln, dx, qu, nx, pv, hd, tl, sv, cr, tu, tm, te, tf, tw) (nI s) (nI (j + 8)) := by
          intro post h
          unfold wpX_packet
          dsimp only
          refine xo_in (n := 24) hs (by decide) (br_t rfl ?_)
          refine xo_in (n := 12) hw (by decide) (br_t rfl (And.intro vs ?_))
          rw [cs, ej]
          refine br_f hu (br_f n8 ?_)
          unfold wpX_dataWord
          dsimp only
          rw [cs, ex, ci]
          exact And.intro vs (br_c h.1 (fun a => And.intro vs (br_c (fun b => And.intro vi ((h.2 a).1 b)) (h.2 a).2)))
        have hY : ∀ post : Int32 → Prop, ((kd s = 1 → post 0) ∧ (¬ kd s = 1 → ((nI j < ln s → post (dy (s * 4 + j))) ∧ (¬ nI j < ln s → post 0)))) → wpY_packet post (nI P, hh, ww, nI B, nI L.length, mw, fn, us, kd, pl, ii, tg, tr, ta, st, ln, dy, li, rt, tu, te, tf, go, gw) (nI s) (nI (j + 8)) := by
          intro post h
          have ne : ∀ m : Nat, m < 8 → ¬ nI (j + 8) = nI m := fun m hm e => by
            have := (nI_eq (by omega) (by omega)).mp e
            omega
          unfold wpY_packet
          dsimp only
          refine yo_in (n := 24) hs (by decide) (br_t rfl ?_)
          refine yo_in (n := 12) hw (by decide) (br_t rfl (And.intro vs ?_))
          rw [cs, ej, ey, ci]
          exact br_f hu (br_f (ne 0 (by omega)) (br_f (ne 1 (by omega)) (br_f (ne 2 (by omega)) (br_f (ne 3 (by omega)) (br_f (ne 4 (by omega)) (br_f (ne 5 (by omega)) (br_f (ne 6 (by omega)) (br_f (ne 7 (by omega)) (And.intro vs (br_c h.1 (fun a => And.intro vs (br_c (fun b => And.intro vi ((h.2 a).1 b)) (h.2 a).2))))))))))))
        by_cases k1 : kd s = 1
        · exact ⟨0, fun post h => hX post (br_t k1 h), fun post h => hY post (br_t k1 h)⟩
        · by_cases c : nI j < ln s
          · have hj : j < (ln s).toNatClampNeg := by
              obtain ⟨k', p', i', t', g', a', l', e1, e2, e3, e4, e5, e6, e7, b⟩ := hPK s hs hu
              rw [e7] at c ⊢
              rw [nI_clamp (by omega)]
              exact (nI_ltI (by omega) (by omega)).mp c
            have e := hDT s hs hu k1 j hj
            exact ⟨dx (s * 4 + j), fun post h => hX post (br_f k1 (br_t c h)), fun post h => hY post (br_f k1 (br_t c (by rw [← e]; exact h)))⟩
          · exact ⟨0, fun post h => hX post (br_f k1 (br_f c h)), fun post h => hY post (br_f k1 (br_f c h))⟩
    · refine ⟨-1, fun post h => ?_, fun post h => ?_⟩
      · unfold wpX_packet
        dsimp only
        refine xo_in (n := 24) hs (by decide) (br_t rfl ?_)
        exact xo_out ho (br_f po_n10 h)
      · unfold wpY_packet
        dsimp only
        refine yo_in (n := 24) hs (by decide) (br_t rfl ?_)
        exact yo_out ho (br_f po_n10 h)
  · refine ⟨-1, fun post h => ?_, fun post h => ?_⟩
    · unfold wpX_packet
      dsimp only
      exact xo_out ho (br_f po_n10 h)
    · unfold wpY_packet
      dsimp only
      exact yo_out ho (br_f po_n10 h)
end PT
end
section
/-! a new packet on both sides; post, read -/
def po_G (P m : Nat) (v1 v2 v3 : Int32) : Prop := ∃ i a l : Nat, v1 = nI i ∧ v2 = nI a ∧ v3 = nI l ∧ i < 4 * P ∧ a < 16 * P ∧ 1 ≤ l ∧ l ≤ m ∧ a / 16 ≠ i / 4 ∧ a % 16 + l ≤ 16
theorem po_free {us : Nat → Int32} (h : ¬ ∀ x, x < 24 → us x ≠ 0) : ∃ s, s < 24 ∧ us s = 0 ∧ ∀ x, x < s → us x ≠ 0 := by
  have key : ∀ n, n ≤ 24 → (∀ x, x < n → us x ≠ 0) ∨ ∃ s, s < n ∧ us s = 0 ∧ ∀ x, x < s → us x ≠ 0 := by
    intro n
    induction n with
    | zero => intro _; exact Or.inl fun x hx => by omega
    | succ n ih =>
      intro hn
      rcases ih (by omega) with h | ⟨s, h1, h2, h3⟩
      · by_cases e : us n = 0
        · exact Or.inr ⟨n, by omega, e, h⟩
        · refine Or.inl fun x hx => ?_
          by_cases c : x = n
          · rw [c]; exact e
          · exact h x (by omega)
      · exact Or.inr ⟨s, by omega, h2, h3⟩
  rcases key 24 (by omega) with h' | h'
  · exact absurd h' h
  · exact h'
theorem po_Gin {P m : Nat} {v3 : Int32} {i a : Nat} (hm : m ≤ 8) (hP : P ≤ 4) (hi : i < 4 * P) (ha : a < 16 * P) (h1 : ¬ v3 < 1) (h2 : v3 ≤ nI m) (h3 : ¬ nI a / 16 = nI i / 4) (h4 : ((nI a - nI a / 16 * 16) + v3) ≤ 16) : po_G P m (nI i) (nI a) v3 := by
  obtain ⟨l, hl, rfl⟩ : ∃ l, l < 2 ^ 31 ∧ v3 = nI l := nI_of (fun c => h1 (Int32.lt_trans c (by decide)))
  have b1 : 1 ≤ l := by
    by_cases c : 1 ≤ l
    · exact c
    · exact absurd (nI_lt (a := l) (b := 1) (by omega) (by decide)) h1
  have b2 : l ≤ m := (nI_leI hl (by omega)).mp h2
  rw [po_d16 (by omega), po_d4 (by omega)] at h3
  rw [po_r16 (by omega), nI_add] at h4
  exact ⟨i, a, l, rfl, rfl, rfl, hi, ha, b1, b2, fun e => h3 (congrArg nI e), (nI_leI (b := 16) (by omega) (by decide)).mp h4⟩
section PO
variable {k1 k2 k3 k4 k5 k6 k7 hh ww lc : Int32} {P B : Nat} {mw fn us kd pl ii tg tr ta st ln dx qu nx pv hd tl sv cr tu tm te tf tw dy li rt go gw : Nat → Int32}
variable {L : List Nat} {s k i t g a l : Nat}
theorem xb_ok {post : Int32 → Prop} {m : Nat} (hP : P ≤ 4) (hm : m ≤ 8) (hi : i < 4 * P) (ha : a < 16 * P) (h1 : 1 ≤ l) (h2 : l ≤ m) (h3 : a / 16 ≠ i / 4) (h4 : a % 16 + l ≤ 16) (h : post 0) : wpX_badRequest post (k1, k2, k3, k4, k5, k6, k7, nI P, nI B, mw, fn, us, kd, pl, ii, tg, tr, ta, st, ln, dx, qu, nx, pv, hd, tl, sv, cr, tu, tm, te, tf, tw) (nI i) (nI a) (nI l) (nI m) := by
  unfold wpX_badRequest
  dsimp only
  rw [po_4m, po_16m]
  refine xo_in hi (by omega) (br_t rfl ?_)
  refine xo_in ha (by omega) (br_t rfl ?_)
  rw [po_r16 (by omega), po_d16 (by omega), po_d4 (by omega), nI_add]
  exact br_f (nI_nlt (b := 1) h1 (by omega)) (br_t (nI_le h2 (by omega)) (And.intro po_n16 (And.intro po_n4 (br_f (fun e => h3 ((nI_eq (by omega) (by omega)).mp e)) (And.intro po_n16 (br_t (nI_le (b := 16) h4 (by decide)) h))))))
theorem xb_no {post : Int32 → Prop} {m : Nat} {v1 v2 v3 : Int32} (hP : P ≤ 4) (hm : m ≤ 8) (hn : ¬ po_G P m v1 v2 v3) (h : post 1) : wpX_badRequest post (k1, k2, k3, k4, k5, k6, k7, nI P, nI B, mw, fn, us, kd, pl, ii, tg, tr, ta, st, ln, dx, qu, nx, pv, hd, tl, sv, cr, tu, tm, te, tf, tw) v1 v2 v3 (nI m) := by
  unfold wpX_badRequest
  dsimp only
  rw [po_4m, po_16m]
  rcases po_in (v := v1) (n := 4 * P) (by omega) with ⟨i, hi, rfl⟩ | ho
  · refine xo_in hi (by omega) (br_t rfl ?_)
    rcases po_in (v := v2) (n := 16 * P) (by omega) with ⟨a, ha, rfl⟩ | ho
    · refine xo_in ha (by omega) (br_t rfl ?_)
      refine br_c (fun _ => h) (fun h1 => br_c (fun h2 => And.intro po_n16 (And.intro po_n4 (br_c (fun _ => h) (fun h3 => And.intro po_n16 (br_c (fun h4 => ?_) (fun _ => h)))))) (fun _ => h))
      exact absurd (po_Gin hm hP hi ha h1 h2 h3 h4) hn
    · exact xo_out ho (br_f po_n10 h)
  · exact xo_out ho (br_f po_n10 h)
theorem yp_no {post : Int32 → SY → Prop} {v1 v2 v3 v4 : Int32} (hP : P ≤ 4) (hn : ¬ po_G P 4 v1 v2 v3) (h : post (-1) (nI P, hh, ww, nI B, lc, mw, fn, us, kd, pl, ii, tg, tr, ta, st, ln, dy, li, rt, tu, te, tf, go, gw)) : wpY_post post (nI P, hh, ww, nI B, lc, mw, fn, us, kd, pl, ii, tg, tr, ta, st, ln, dy, li, rt, tu, te, tf, go, gw) v1 v2 v3 v4 := by
  unfold wpY_post
  dsimp only
  rw [po_4m, po_16m]
  rcases po_in (v := v1) (n := 4 * P) (by omega) with ⟨i, hi, rfl⟩ | ho
  · refine yo_in hi (by omega) (br_t rfl ?_)
    rcases po_in (v := v2) (n := 16 * P) (by omega) with ⟨a, ha, rfl⟩ | ho
    · refine yo_in ha (by omega) (br_t rfl ?_)
      refine br_c (fun _ => h) (fun h1 => br_c (fun h2 => And.intro po_n16 (And.intro po_n4 (br_c (fun _ => h) (fun h3 => And.intro po_n16 (br_c (fun h4 => ?_) (fun _ => h)))))) (fun _ => h))
      exact absurd (po_Gin (m := 4) (by omega) hP hi ha h1 h2 h3 h4) hn
    · exact yo_out ho (br_f po_n10 h)
  · exact yo_out ho (br_f po_n10 h)
theorem yr_no {post : Int32 → SY → Prop} {v1 v2 v3 v4 : Int32} (hP : P ≤ 4) (hn : ¬ (po_G P 8 v1 v2 v3 ∧ ∃ g, g < 4 ∧ v4 = nI g)) (h : post (-1) (nI P, hh, ww, nI B, lc, mw, fn, us, kd, pl, ii, tg, tr, ta, st, ln, dy, li, rt, tu, te, tf, go, gw)) : wpY_read post (nI P, hh, ww, nI B, lc, mw, fn, us, kd, pl, ii, tg, tr, ta, st, ln, dy, li, rt, tu, te, tf, go, gw) v1 v2 v3 v4 := by
  unfold wpY_read
  dsimp only
  rw [po_4m, po_16m]
  rcases po_in (v := v1) (n := 4 * P) (by omega) with ⟨i, hi, rfl⟩ | ho
  · refine yo_in hi (by omega) (br_t rfl ?_)
    rcases po_in (v := v2) (n := 16 * P) (by omega) with ⟨a, ha, rfl⟩ | ho
    · refine yo_in ha (by omega) (br_t rfl ?_)
      refine br_c (fun _ => h) (fun h1 => br_c (fun h2 => ?_) (fun _ => h))
      rcases po_in (v := v4) (n := 4) (by omega) with ⟨g, hg, rfl⟩ | ho
      · refine yo_in (n := 4) hg (by omega) (br_t rfl ?_)
        refine And.intro po_n16 (And.intro po_n4 (br_c (fun _ => h) (fun h3 => And.intro po_n16 (br_c (fun h4 => ?_) (fun _ => h)))))
        exact absurd ⟨po_Gin (m := 8) (by omega) hP hi ha h1 h2 h3 h4, g, hg, rfl⟩ hn
      · exact yo_out ho (br_f po_n10 h)
    · exact yo_out ho (br_f po_n10 h)
  · exact yo_out ho (br_f po_n10 h)
theorem lk_new {vk vg bits : Int32} (H : po_R P B hh ww mw fn us kd pl ii tg tr ta st ln dx qu nx pv hd tl sv cr tu tm te tf tw dy li rt go gw L) (hs : s < 24) (h0 : us s = 0) (hx : ∀ x, x < s → us x ≠ 0) (ek : vk = nI k) (eg : vg = nI g) (hk : k < 3) (hi : i < 4 * P) (ht : t < P) (hg : g < 4) (hal : a + l ≤ 64) (hl : 1 ≤ l) (hl8 : l ≤ 8) (hl4 : k ≠ 1 → l ≤ 4) :
    ∃ qu' nx' pv' hd' tl' li' : Nat → Int32,
      po_PK P (upd us s 1) (upd kd s vk) (upd pl s 0) (upd ii s (nI i)) (upd tg s (nI t)) (upd ta s vg) (upd st s (nI a)) (upd ln s (nI l)) ∧
      po_LN (upd us s 1) (upd pl s 0) li' (L ++ [s]) ∧
      po_DL qu' nx' pv' hd' tl' (po_Qf (upd pl s 0) (upd ii s (nI i)) (upd tg s (nI t)) (L ++ [s])) ∧
      po_SV P (upd us s 1) (upd pl s 0) (upd tg s (nI t)) sv ∧
      po_CR P hh ww (upd us s 1) (upd kd s vk) (upd pl s 0) (upd ii s (nI i)) (upd tg s (nI t)) (upd ln s (nI l)) cr rt ∧
      (∀ post : Int32 → SX → Prop, post (nI s) (0, 1, 2, 3, 0, 1, 2, nI P, nI B, mw, fn, upd us s 1, upd kd s vk, upd pl s 0, upd ii s (nI i), upd tg s (nI t), upd tr s bits, upd ta s vg, upd st s (nI a), upd ln s (nI l), dx, qu', nx', pv', hd', tl', sv, cr, tu, tm, te, tf, tw) → wpX_create post (0, 1, 2, 3, 0, 1, 2, nI P, nI B, mw, fn, us, kd, pl, ii, tg, tr, ta, st, ln, dx, qu, nx, pv, hd, tl, sv, cr, tu, tm, te, tf, tw) vk (nI i) (nI t) bits vg (nI a) (nI l)) ∧
      (∀ post : Int32 → SY → Prop, post (nI s) (nI P, hh, ww, nI B, nI (L ++ [s]).length, mw, fn, upd us s 1, upd kd s vk, upd pl s 0, upd ii s (nI i), upd tg s (nI t), upd tr s bits, upd ta s vg, upd st s (nI a), upd ln s (nI l), po_wr dy (s * 4) (fun _ => 0) 4, li', rt, tu, te, tf, go, gw) → wpY_make post (nI P, hh, ww, nI B, nI L.length, mw, fn, us, kd, pl, ii, tg, tr, ta, st, ln, dy, li, rt, tu, te, tf, go, gw) vk (nI i) (nI t) bits vg (nI a) (nI l)) := by
  obtain ⟨⟨hP1, hP2, hB1, hB2⟩, hPK, hLN, hDL, hSV, hCR, hT1, hT2, hT3, hDT⟩ := H
  have hb : ∀ y, y ∈ L → y < 24 := fun y hy => ((hLN.2.1 y).mp hy).1
  have hn : s ∉ L := fun hm => ((hLN.2.1 s).mp hm).2.1 h0
  obtain ⟨qu', nx', pv', hd', tl', g1, g2⟩ := xc_slot (P := P) (B := B) (k1 := 0) (k2 := 1) (k3 := 2) (k4 := 3) (k5 := 0) (k6 := 1) (k7 := 2) (mw := mw) (fn := fn) (kd := kd) (pl := pl) (ii := ii) (tg := tg) (tr := tr) (ta := ta) (st := st) (ln := ln) (dx := dx) (sv := sv) (cr := cr) (tu := tu) (tm := tm) (te := te) (tf := tf) (tw := tw) (us := us) (i := i) (p0 := vk) (p2 := nI t) (p3 := bits) (p4 := vg) (p5 := nI a) (p6 := nI l) hDL hs h0 hx (by omega) (fun q hq hm => hn (po_Qf_m.mp hm).1)
  obtain ⟨li', g3, g4⟩ := ym_slot (P := P) (B := B) (hh := hh) (ww := ww) (mw := mw) (fn := fn) (kd := kd) (pl := pl) (ii := ii) (tg := tg) (tr := tr) (ta := ta) (st := st) (ln := ln) (dy := dy) (rt := rt) (tu := tu) (te := te) (tf := tf) (go := go) (gw := gw) (us := us) (p0 := vk) (p1 := nI i) (p2 := nI t) (p3 := bits) (p4 := vg) (p5 := nI a) (p6 := nI l) hLN.2.2 hLN.1 hb hs hn h0 hx
  refine ⟨qu', nx', pv', hd', tl', li', po_PKn hPK ⟨k, 0, i, t, g, a, l, ek, rfl, rfl, rfl, eg, rfl, rfl, hk, by omega, hi, ht, hg, hal, hl, hl8, hl4, by omega⟩, po_LNn hLN hs h0 g3, po_DLn hn (by omega) g1, po_SVn hSV h0, po_CRn hCR h0, g2, g4⟩
theorem xp_45 {post : Int32 → SX → Prop} {v : Int32} (hs : s < 24) (hl : l ≤ 4) (h : post (nI s) (k1, k2, k3, k4, k5, k6, k7, nI P, nI B, mw, fn, us, kd, pl, ii, tg, tr, ta, st, ln, po_wr dx (s * 4) (fun j => v + nI j) l, qu, nx, pv, hd, tl, sv, cr, tu, tm, te, tf, tw)) : ∀ n j, j ≤ l → l - j < n → wX_post_45 post (nI l) v (nI s) k1 k2 k3 k4 k5 k6 k7 (nI P) (nI B) n (nI j) mw fn us kd pl ii tg tr ta st ln (po_wr dx (s * 4) (fun j => v + nI j) j) qu nx pv hd tl sv cr tu tm te tf tw := by
  intro n
  induction n with
  | zero => intro j h1 h2; omega
  | succ n ih =>
    intro j h1 h2
    by_cases e : j = l
    · subst e
      exact br_c (fun _ => h) (fun _ => br_t (nI_le (Nat.le_refl _) (by omega)) h)
    · have ek : nI s * 4 + nI j = nI (s * 4 + j) := by rw [po_m4, nI_add]
      refine br_f (nI_ge (b := 4) (by omega) (by decide)) (br_f (nI_ge (by omega) (by omega)) ?_)
      rw [ek, nI_clamp (by omega)]
      exact And.intro (vp_in_nI (by omega) (by decide)) (nm_r (po_wrs (g := fun j => v + nI j)) (nm_r (nI_1 j) (ih (j + 1) (by omega) (by omega))))
theorem yp_93 {post : Int32 → SY → Prop} {v : Int32} (hs : s < 24) (hl : l ≤ 4) (h : post (nI s) (nI P, hh, ww, nI B, lc, mw, fn, us, kd, pl, ii, tg, tr, ta, st, ln, po_wr dy (s * 4) (fun j => v + nI j) l, li, rt, tu, te, tf, go, gw)) : ∀ n j, j ≤ l → l - j < n → wY_post_93 post (nI l) v (nI s) (nI P) hh ww (nI B) lc n (nI j) mw fn us kd pl ii tg tr ta st ln (po_wr dy (s * 4) (fun j => v + nI j) j) li rt tu te tf go gw := by
  intro n
  induction n with
  | zero => intro j h1 h2; omega
  | succ n ih =>
    intro j h1 h2
    by_cases e : j = l
    · subst e
      exact br_t (nI_le (Nat.le_refl _) (by omega)) h
    · have ek : nI s * 4 + nI j = nI (s * 4 + j) := by rw [po_m4, nI_add]
      refine br_f (nI_ge (by omega) (by omega)) ?_
      rw [ek, nI_clamp (by omega)]
      exact And.intro (vp_in_nI (by omega) (by decide)) (nm_r (po_wrs (g := fun j => v + nI j)) (nm_r (nI_1 j) (ih (j + 1) (by omega) (by omega))))
theorem lk_post (H : po_R P B hh ww mw fn us kd pl ii tg tr ta st ln dx qu nx pv hd tl sv cr tu tm te tf tw dy li rt go gw L) (v1 v2 v3 v4 : Int32) : po_Lk (fun post => wpX_post post (0, 1, 2, 3, 0, 1, 2, nI P, nI B, mw, fn, us, kd, pl, ii, tg, tr, ta, st, ln, dx, qu, nx, pv, hd, tl, sv, cr, tu, tm, te, tf, tw) v1 v2 v3 v4) (fun post => wpY_post post (nI P, hh, ww, nI B, nI L.length, mw, fn, us, kd, pl, ii, tg, tr, ta, st, ln, dy, li, rt, tu, te, tf, go, gw) v1 v2 v3 v4) := by
  have HH := H
  obtain ⟨⟨hP1, hP2, hB1, hB2⟩, hPK, hLN, hDL, hSV, hCR, hT1, hT2, hT3, hDT⟩ := H
  by_cases hG : po_G P 4 v1 v2 v3
  · obtain ⟨i, a, l, rfl, rfl, rfl, hi, ha, h1, h2, h3, h4⟩ := hG
    have vi : vp_in (nI i) 16 := vp_in_nI (by omega) (by decide)
    have ci : (nI i).toNatClampNeg = i := nI_clamp (by omega)
    have ea : nI a / 16 = nI (a / 16) := po_d16 (by omega)
    have ei : nI i / 4 = nI (i / 4) := po_d4 (by omega)
    have em : nI a - nI (a / 16) * 16 + nI l = nI (a % 16 + l) := by rw [← ea, po_r16 (by omega), nI_add]
    have hne : ¬ nI (a / 16) = nI (i / 4) := fun e => h3 ((nI_eq (by omega) (by omega)).mp e)
    by_cases full : ∀ x, x < 24 → us x ≠ 0
    · refine ⟨-3, (0, 1, 2, 3, 0, 1, 2, nI P, nI B, mw, fn, us, kd, pl, ii, tg, tr, ta, st, ln, dx, qu, nx, pv, hd, tl, sv, cr, tu, tm, te, tf, tw), (nI P, hh, ww, nI B, nI L.length, mw, fn, us, kd, pl, ii, tg, tr, ta, st, ln, dy, li, rt, tu, te, tf, go, gw), po_mk HH, fun post h => ?_, fun post h => ?_⟩
      · unfold wpX_post
        dsimp only
        refine xb_ok (m := 4) hP2 (by omega) hi ha h1 h2 h3 h4 (br_t rfl (And.intro po_n16 (And.intro vi ?_)))
        exact xc_full full (br_f (by decide) h)
      · unfold wpY_post
        dsimp only
        rw [po_4m, po_16m]
        refine yo_in hi (by omega) (br_t rfl ?_)
        refine yo_in ha (by omega) (br_t rfl ?_)
        rw [ea, ei, em, ci]
        refine br_f (nI_nlt (b := 1) h1 (by omega)) (br_t (nI_le (b := 4) h2 (by omega)) (And.intro po_n16 (And.intro po_n4 (br_f hne (And.intro po_n16 (br_t (nI_le (b := 16) h4 (by decide)) (And.intro po_n16 (And.intro vi ?_))))))))
        exact ym_full full (br_t (by decide) h)
    · obtain ⟨s, hs, h0, hx⟩ := po_free full
      obtain ⟨qu', nx', pv', hd', tl', li', r1, r2, r3, r4, r5, r6, r7⟩ := lk_new (s := s) (k := 0) (i := i) (t := a / 16) (g := 0) (a := a) (l := l) (vk := 0) (vg := 0) (bits := fn i) HH hs h0 hx rfl rfl (by omega) hi (by omega) (by omega) (by omega) h1 (by omega) (by omega)
      refine ⟨nI s, _, _, po_mk (mw := mw) (fn := fn) (tr := upd tr s (fn i)) ⟨⟨hP1, hP2, hB1, hB2⟩, r1, r2, r3, r4, r5, hT1, po_T2P hT2, po_T3P hT3, po_DTn (f := fun j => v4 + nI j) hDT hPK (by omega)⟩, fun post h => ?_, fun post h => ?_⟩
      · unfold wpX_post
        dsimp only
        refine xb_ok (m := 4) hP2 (by omega) hi ha h1 h2 h3 h4 (br_t rfl (And.intro po_n16 (And.intro vi ?_)))
        rw [ci, ea]
        refine r6 _ (br_t (nI_pos' (by omega)) ⟨5, ?_⟩)
        have w := xp_45 (dx := dx) (v := v4) (l := l) hs (by omega) h 5 0 (by omega) (by omega)
        rw [po_wr0] at w
        exact w
      · unfold wpY_post
        dsimp only
        rw [po_4m, po_16m]
        refine yo_in hi (by omega) (br_t rfl ?_)
        refine yo_in ha (by omega) (br_t rfl ?_)
        rw [ea, ei, em, ci]
        refine br_f (nI_nlt (b := 1) h1 (by omega)) (br_t (nI_le (b := 4) h2 (by omega)) (And.intro po_n16 (And.intro po_n4 (br_f hne (And.intro po_n16 (br_t (nI_le (b := 16) h4 (by decide)) (And.intro po_n16 (And.intro vi ?_))))))))
        refine r7 _ (br_f (nI_pos (by omega)) ⟨5, ?_⟩)
        have w := yp_93 (dy := po_wr dy (s * 4) (fun _ => 0) 4) (v := v4) (l := l) hs (by omega) h 5 0 (by omega) (by omega)
        rw [po_wr0] at w
        exact w
  · refine ⟨-1, (0, 1, 2, 3, 0, 1, 2, nI P, nI B, mw, fn, us, kd, pl, ii, tg, tr, ta, st, ln, dx, qu, nx, pv, hd, tl, sv, cr, tu, tm, te, tf, tw), (nI P, hh, ww, nI B, nI L.length, mw, fn, us, kd, pl, ii, tg, tr, ta, st, ln, dy, li, rt, tu, te, tf, go, gw), po_mk HH, fun post h => ?_, fun post h => yp_no hP2 hG h⟩
    unfold wpX_post
    dsimp only
    exact xb_no (m := 4) hP2 (by omega) hG (br_f po_n10 h)
theorem xt_31 {post : SX → Prop} {e : Nat} (he : e < 16) (h : post (k1, k2, k3, k4, k5, k6, k7, nI P, nI B, mw, fn, us, kd, pl, ii, tg, tr, ta, st, ln, dx, qu, nx, pv, hd, tl, sv, cr, tu, tm, te, tf, po_wr tw (e * 8) (fun _ => 0) 8)) : ∀ n j, j ≤ 8 → 8 - j < n → wX_openTag_31 post (nI e) k1 k2 k3 k4 k5 k6 k7 (nI P) (nI B) n (nI j) mw fn us kd pl ii tg tr ta st ln dx qu nx pv hd tl sv cr tu tm te tf (po_wr tw (e * 8) (fun _ => 0) j) := by
  intro n
  induction n with
  | zero => intro j h1 h2; omega
  | succ n ih =>
    intro j h1 h2
    by_cases c : j = 8
    · subst c
      exact br_t (nI_le (a := 8) (by omega) (by decide)) h
    · have ek : nI e * 8 + nI j = nI (e * 8 + j) := by rw [po_m8, nI_add]
      refine br_f (nI_ge (b := 8) (by omega) (by decide)) ?_
      rw [ek, nI_clamp (by omega)]
      exact And.intro (vp_in_nI (by omega) (by decide)) (nm_r (po_wrs (g := fun _ => 0)) (nm_r (nI_1 j) (ih (j + 1) (by omega) (by omega))))
theorem xt_tag {post : SX → Prop} {e : Nat} (he : e < 16) (h : post (k1, k2, k3, k4, k5, k6, k7, nI P, nI B, mw, fn, us, kd, pl, ii, tg, tr, ta, st, ln, dx, qu, nx, pv, hd, tl, sv, cr, upd tu e 1, upd tm e (nI l), upd te e (nI l), upd tf e (nI a), po_wr tw (e * 8) (fun _ => 0) 8)) : wpX_openTag post (k1, k2, k3, k4, k5, k6, k7, nI P, nI B, mw, fn, us, kd, pl, ii, tg, tr, ta, st, ln, dx, qu, nx, pv, hd, tl, sv, cr, tu, tm, te, tf, tw) (nI e) (nI a) (nI l) := by
  have ve : vp_in (nI e) 16 := vp_in_nI he (by decide)
  have ce : (nI e).toNatClampNeg = e := nI_clamp (by omega)
  have w := xt_31 (tw := tw) he h 9 0 (by omega) (by omega)
  rw [po_wr0] at w
  unfold wpX_openTag
  dsimp only
  rw [ce, po_b1]
  exact And.intro ve (nm_e (And.intro ve (nm_e (And.intro ve (nm_e (And.intro ve (nm_e ⟨9, w⟩)))))))
theorem yt_155 {post : Int32 → SY → Prop} {e : Nat} {x6 : Int32} (he : e < 16) (h : post x6 (nI P, hh, ww, nI B, lc, mw, fn, us, kd, pl, ii, tg, tr, ta, st, ln, dy, li, rt, tu, te, tf, po_wr go (e * 8) (fun _ => 0) 8, gw)) : ∀ n j, j ≤ 8 → 8 - j < n → wY_read_155 post (nI e) x6 (nI P) hh ww (nI B) lc n (nI j) mw fn us kd pl ii tg tr ta st ln dy li rt tu te tf (po_wr go (e * 8) (fun _ => 0) j) gw := by
  intro n
  induction n with
  | zero => intro j h1 h2; omega
  | succ n ih =>
    intro j h1 h2
    by_cases c : j = 8
    · subst c
      exact br_t (nI_le (a := 8) (by omega) (by decide)) h
    · have ek : nI e * 8 + nI j = nI (e * 8 + j) := by rw [po_m8, nI_add]
      refine br_f (nI_ge (b := 8) (by omega) (by decide)) ?_
      rw [ek, nI_clamp (by omega), po_b0]
      exact And.intro (vp_in_nI (by omega) (by decide)) (nm_r (po_wrs (g := fun _ => 0)) (nm_r (nI_1 j) (ih (j + 1) (by omega) (by omega))))
theorem lk_read (H : po_R P B hh ww mw fn us kd pl ii tg tr ta st ln dx qu nx pv hd tl sv cr tu tm te tf tw dy li rt go gw L) (v1 v2 v3 v4 : Int32) : po_Lk (fun post => wpX_read post (0, 1, 2, 3, 0, 1, 2, nI P, nI B, mw, fn, us, kd, pl, ii, tg, tr, ta, st, ln, dx, qu, nx, pv, hd, tl, sv, cr, tu, tm, te, tf, tw) v1 v2 v3 v4) (fun post => wpY_read post (nI P, hh, ww, nI B, nI L.length, mw, fn, us, kd, pl, ii, tg, tr, ta, st, ln, dy, li, rt, tu, te, tf, go, gw) v1 v2 v3 v4) := by
  have HH := H
  obtain ⟨⟨hP1, hP2, hB1, hB2⟩, hPK, hLN, hDL, hSV, hCR, hT1, hT2, hT3, hDT⟩ := H
  by_cases hG : po_G P 8 v1 v2 v3
  · rcases po_in (v := v4) (n := 4) (by omega) with ⟨g, hg, rfl⟩ | ho
    · obtain ⟨i, a, l, rfl, rfl, rfl, hi, ha, h1, h2, h3, h4⟩ := hG
      have vi : vp_in (nI i) 16 := vp_in_nI (by omega) (by decide)
      have ci : (nI i).toNatClampNeg = i := nI_clamp (by omega)
      have ea : nI a / 16 = nI (a / 16) := po_d16 (by omega)
      have ei : nI i / 4 = nI (i / 4) := po_d4 (by omega)
      have em : nI a - nI (a / 16) * 16 + nI l = nI (a % 16 + l) := by rw [← ea, po_r16 (by omega), nI_add]
      have ee : nI (i / 4) * 4 + nI g = nI (i / 4 * 4 + g) := by rw [po_m4, nI_add]
      have he : i / 4 * 4 + g < 16 := by omega
      have ve : vp_in (nI (i / 4 * 4 + g)) 16 := vp_in_nI he (by decide)
      have ce : (nI (i / 4 * 4 + g)).toNatClampNeg = i / 4 * 4 + g := nI_clamp (by omega)
      have hne : ¬ nI (a / 16) = nI (i / 4) := fun e => h3 ((nI_eq (by omega) (by omega)).mp e)
      by_cases z : tu (i / 4 * 4 + g) = 0
      · by_cases full : ∀ x, x < 24 → us x ≠ 0
        · refine ⟨-3, (0, 1, 2, 3, 0, 1, 2, nI P, nI B, mw, fn, us, kd, pl, ii, tg, tr, ta, st, ln, dx, qu, nx, pv, hd, tl, sv, cr, tu, tm, te, tf, tw), (nI P, hh, ww, nI B, nI L.length, mw, fn, us, kd, pl, ii, tg, tr, ta, st, ln, dy, li, rt, tu, te, tf, go, gw), po_mk HH, fun post h => ?_, fun post h => ?_⟩
          · unfold wpX_read
            dsimp only
            refine xb_ok (m := 8) hP2 (by omega) hi ha h1 h2 h3 h4 (br_t rfl ?_)
            refine xo_in (n := 4) hg (by omega) (br_t rfl (And.intro po_n4 ?_))
            rw [ei]
            refine nm_r ee (And.intro ve ?_)
            rw [ce]
            refine br_t z (And.intro po_n16 (And.intro vi ?_))
            exact xc_full full (br_f (by decide) h)
          · unfold wpY_read
            dsimp only
            rw [po_4m, po_16m]
            refine yo_in hi (by omega) (br_t rfl ?_)
            refine yo_in ha (by omega) (br_t rfl ?_)
            refine br_f (nI_nlt (b := 1) h1 (by omega)) (br_t (nI_le (b := 8) h2 (by omega)) ?_)
            refine yo_in (n := 4) hg (by omega) (br_t rfl ?_)
            rw [ea, ei, em, ci]
            refine And.intro po_n16 (And.intro po_n4 (br_f hne (And.intro po_n16 (br_t (nI_le (b := 16) h4 (by decide)) (And.intro po_n4 (nm_r ee (And.intro ve ?_)))))))
            rw [ce]
            refine br_t z (And.intro po_n16 (And.intro vi ?_))
            exact ym_full full (br_f (by decide) h)
        · obtain ⟨s, hs, h0, hx⟩ := po_free full
          obtain ⟨qu', nx', pv', hd', tl', li', r1, r2, r3, r4, r5, r6, r7⟩ := lk_new (s := s) (k := 1) (i := i) (t := a / 16) (g := g) (a := a) (l := l) (vk := 1) (vg := nI g) (bits := fn i) HH hs h0 hx rfl rfl (by omega) hi (by omega) (by omega) (by omega) h1 (by omega) (by omega)
          refine ⟨nI s, _, _, po_mk (mw := mw) (fn := fn) (tr := upd tr s (fn i)) ⟨⟨hP1, hP2, hB1, hB2⟩, r1, r2, r3, r4, r5, po_T1R (e := i / 4 * 4 + g) (l := l) (a := a) hT1 (by omega) (by omega), po_T2R hT2 hT1 hPK hP2 z (by omega) hg (by omega) (by omega), po_T3R hT3 hT2 z (by omega) hg, po_DTr hDT hPK⟩, fun post h => ?_, fun post h => ?_⟩
          · unfold wpX_read
            dsimp only
            refine xb_ok (m := 8) hP2 (by omega) hi ha h1 h2 h3 h4 (br_t rfl ?_)
            refine xo_in (n := 4) hg (by omega) (br_t rfl (And.intro po_n4 ?_))
            rw [ei, ea, ci]
            refine nm_r ee (And.intro ve ?_)
            rw [ce]
            refine br_t z (And.intro po_n16 (And.intro vi ?_))
            refine r6 _ (br_t (nI_pos' (by omega)) ?_)
            exact xt_tag he h
          · unfold wpY_read
            dsimp only
            rw [po_4m, po_16m]
            refine yo_in hi (by omega) (br_t rfl ?_)
            refine yo_in ha (by omega) (br_t rfl ?_)
            refine br_f (nI_nlt (b := 1) h1 (by omega)) (br_t (nI_le (b := 8) h2 (by omega)) ?_)
            refine yo_in (n := 4) hg (by omega) (br_t rfl ?_)
            rw [ea, ei, em, ci]
            refine And.intro po_n16 (And.intro po_n4 (br_f hne (And.intro po_n16 (br_t (nI_le (b := 16) h4 (by decide)) (And.intro po_n4 (nm_r ee (And.intro ve ?_)))))))
            rw [ce, po_b1]
            refine br_t z (And.intro po_n16 (And.intro vi ?_))
            refine r7 _ (br_t (nI_pos' (by omega)) (And.intro ve (nm_e (And.intro ve (nm_e (And.intro ve (nm_e ⟨9, ?_⟩)))))))
            have w := yt_155 (go := go) he h 9 0 (by omega) (by omega)
            rw [po_wr0] at w
            exact w
      · refine ⟨-4, (0, 1, 2, 3, 0, 1, 2, nI P, nI B, mw, fn, us, kd, pl, ii, tg, tr, ta, st, ln, dx, qu, nx, pv, hd, tl, sv, cr, tu, tm, te, tf, tw), (nI P, hh, ww, nI B, nI L.length, mw, fn, us, kd, pl, ii, tg, tr, ta, st, ln, dy, li, rt, tu, te, tf, go, gw), po_mk HH, fun post h => ?_, fun post h => ?_⟩
        · unfold wpX_read
          dsimp only
          refine xb_ok (m := 8) hP2 (by omega) hi ha h1 h2 h3 h4 (br_t rfl ?_)
          refine xo_in (n := 4) hg (by omega) (br_t rfl (And.intro po_n4 ?_))
          rw [ei]
          refine nm_r ee (And.intro ve ?_)
          rw [ce]
          exact br_f z h
        · unfold wpY_read
          dsimp only
          rw [po_4m, po_16m]
          refine yo_in hi (by omega) (br_t rfl ?_)
          refine yo_in ha (by omega) (br_t rfl ?_)
          refine br_f (nI_nlt (b := 1) h1 (by omega)) (br_t (nI_le (b := 8) h2 (by omega)) ?_)
          refine yo_in (n := 4) hg (by omega) (br_t rfl ?_)
          rw [ea, ei, em]
          refine And.intro po_n16 (And.intro po_n4 (br_f hne (And.intro po_n16 (br_t (nI_le (b := 16) h4 (by decide)) (And.intro po_n4 (nm_r ee (And.intro ve ?_)))))))
          rw [ce]
          exact br_f z h
    · have hno : ¬ (po_G P 8 v1 v2 v3 ∧ ∃ g, g < 4 ∧ v4 = nI g) := by
        rintro ⟨_, g, hg, rfl⟩
        exact ho.elim (fun c => nI_pos (by omega) c) (fun c => c (nI_lt hg (by decide)))
      obtain ⟨i, a, l, rfl, rfl, rfl, hi, ha, h1, h2, h3, h4⟩ := hG
      refine ⟨-1, (0, 1, 2, 3, 0, 1, 2, nI P, nI B, mw, fn, us, kd, pl, ii, tg, tr, ta, st, ln, dx, qu, nx, pv, hd, tl, sv, cr, tu, tm, te, tf, tw), (nI P, hh, ww, nI B, nI L.length, mw, fn, us, kd, pl, ii, tg, tr, ta, st, ln, dy, li, rt, tu, te, tf, go, gw), po_mk HH, fun post h => ?_, fun post h => yr_no hP2 hno h⟩
      unfold wpX_read
      dsimp only
      refine xb_ok (m := 8) hP2 (by omega) hi ha h1 h2 h3 h4 (br_t rfl ?_)
      exact xo_out ho (br_f po_n10 h)
  · refine ⟨-1, (0, 1, 2, 3, 0, 1, 2, nI P, nI B, mw, fn, us, kd, pl, ii, tg, tr, ta, st, ln, dx, qu, nx, pv, hd, tl, sv, cr, tu, tm, te, tf, tw), (nI P, hh, ww, nI B, nI L.length, mw, fn, us, kd, pl, ii, tg, tr, ta, st, ln, dy, li, rt, tu, te, tf, go, gw), po_mk HH, fun post h => ?_, fun post h => yr_no hP2 (fun c => hG c.1) h⟩
    unfold wpX_read
    dsimp only
    exact xb_no (m := 8) hP2 (by omega) hG (br_f po_n10 h)
end PO
end
section
/-! serve -/
section SE
variable {k1 k2 k3 k4 k5 k6 k7 hh ww lc : Int32} {P B : Nat} {mw fn us kd pl ii tg tr ta st ln dx qu nx pv hd tl sv cr tu tm te tf tw dy li rt go gw : Nat → Int32}
variable {L : List Nat} {s r p i t g a l n : Nat}
theorem yi_step {post : Int32 → Prop} {x : Nat} {m : Nat} (hx : x < 24) (hn : ¬ (us x ≠ 0 ∧ pl x = 3 ∧ tg x = nI p)) (h : wY_inService_2 post (nI p) (nI P) hh ww (nI B) lc mw fn us kd pl ii tg tr ta st ln dy li rt tu te tf go gw m (nI (x + 1))) : wY_inService_2 post (nI p) (nI P) hh ww (nI B) lc mw fn us kd pl ii tg tr ta st ln dy li rt tu te tf go gw (m + 1) (nI x) := by
  have cx : (nI x).toNatClampNeg = x := nI_clamp (by omega)
  have vx : vp_in (nI x) 24 := vp_in_nI hx (by decide)
  refine br_f (nI_ge (b := 24) hx (by decide)) (And.intro vx ?_)
  rw [cx]
  by_cases a1 : us x = 0
  · exact br_t a1 (nm_r (nI_1 x) h)
  refine br_f a1 (And.intro vx ?_)
  by_cases a2 : pl x = 3
  · refine br_t a2 (And.intro vx ?_)
    by_cases a3 : tg x = nI p
    · exact absurd ⟨a1, a2, a3⟩ hn
    · exact br_f a3 (nm_r (nI_1 x) h)
  · exact br_f a2 (nm_r (nI_1 x) h)
theorem yi_none {post : Int32 → Prop} (hn : ∀ x, x < 24 → us x ≠ 0 → pl x = 3 → tg x ≠ nI p) (h : post (-1)) : wpY_inService post (nI P, hh, ww, nI B, lc, mw, fn, us, kd, pl, ii, tg, tr, ta, st, ln, dy, li, rt, tu, te, tf, go, gw) (nI p) := by
  have w : ∀ m x, x ≤ 24 → 24 - x < m → wY_inService_2 post (nI p) (nI P) hh ww (nI B) lc mw fn us kd pl ii tg tr ta st ln dy li rt tu te tf go gw m (nI x) := by
    intro m
    induction m with
    | zero => intro x h1 h2; omega
    | succ m ih =>
      intro x h1 h2
      by_cases e : x = 24
      · subst e
        exact br_t (nI_le (a := 24) (by omega) (by decide)) h
      · exact yi_step (by omega) (fun c => hn x (by omega) c.1 c.2.1 c.2.2) (ih (x + 1) (by omega) (by omega))
  exact ⟨25, w 25 0 (by omega) (by omega)⟩
theorem yi_some {post : Int32 → Prop} (hr : r < 24) (u1 : us r ≠ 0) (u2 : pl r = 3) (u3 : tg r = nI p) (hu : ∀ x, x < 24 → us x ≠ 0 → pl x = 3 → tg x = nI p → x = r) (h : post (nI r)) : wpY_inService post (nI P, hh, ww, nI B, lc, mw, fn, us, kd, pl, ii, tg, tr, ta, st, ln, dy, li, rt, tu, te, tf, go, gw) (nI p) := by
  have w : ∀ m x, x ≤ r → r - x < m → wY_inService_2 post (nI p) (nI P) hh ww (nI B) lc mw fn us kd pl ii tg tr ta st ln dy li rt tu te tf go gw m (nI x) := by
    intro m
    induction m with
    | zero => intro x h1 h2; omega
    | succ m ih =>
      intro x h1 h2
      by_cases e : x = r
      · subst e
        have cx : (nI x).toNatClampNeg = x := nI_clamp (by omega)
        have vx : vp_in (nI x) 24 := vp_in_nI hr (by decide)
        refine br_f (nI_ge (b := 24) hr (by decide)) (And.intro vx ?_)
        rw [cx]
        exact br_f u1 (And.intro vx (br_t u2 (And.intro vx (br_t u3 h))))
      · exact yi_step (by omega) (fun c => e (hu x (by omega) c.1 c.2.1 c.2.2)) (ih (x + 1) (by omega) (by omega))
  exact ⟨r + 1, w (r + 1) 0 (by omega) (by omega)⟩
theorem xs_shr {post : SX → Prop} (hp : p < 4) (hr : r < 24) (er : sv p = nI r) (ea : st r = nI a) (el : ln r = nI l) (hn : n ≤ l) (hl : l ≤ 8)
    (h1 : l - n = 0 → post (k1, k2, k3, k4, k5, k6, k7, nI P, nI B, mw, fn, upd us r 0, kd, pl, ii, tg, tr, ta, upd st r (nI (a + n)), upd ln r (nI (l - n)), dx, qu, nx, pv, hd, tl, upd sv p (-1), cr, tu, tm, te, tf, tw))
    (h0 : l - n ≠ 0 → post (k1, k2, k3, k4, k5, k6, k7, nI P, nI B, mw, fn, us, kd, pl, ii, tg, tr, ta, upd st r (nI (a + n)), upd ln r (nI (l - n)), dx, qu, nx, pv, hd, tl, sv, cr, tu, tm, te, tf, tw)) : wpX_shrinkService post (k1, k2, k3, k4, k5, k6, k7, nI P, nI B, mw, fn, us, kd, pl, ii, tg, tr, ta, st, ln, dx, qu, nx, pv, hd, tl, sv, cr, tu, tm, te, tf, tw) (nI p) (nI n) := by
  have cp : (nI p).toNatClampNeg = p := nI_clamp (by omega)
  have crr : (nI r).toNatClampNeg = r := nI_clamp (by omega)
  have vp : vp_in (nI p) 4 := vp_in_nI hp (by decide)
  have vr : vp_in (nI r) 24 := vp_in_nI hr (by decide)
  unfold wpX_shrinkService
  dsimp only
  rw [cp, er]
  refine And.intro vp (nm_e ?_)
  rw [crr, ea, el, nI_add, pk_sub hn, po_b0]
  refine And.intro vr (And.intro vr (nm_e (And.intro vr (And.intro vr (nm_e (And.intro vr (br_c (fun c => And.intro vr (nm_e (And.intro vp (nm_e (h1 ?_))))) (fun c => h0 ?_))))))))
  · rw [pk_us] at c
    exact (po_e0 (by omega)).mp c
  · rw [pk_us] at c
    exact fun e => c ((po_e0 (by omega)).mpr e)
theorem xs_115 {post : Int32 → SX → Prop} (hs : s < 24) (hn : n ≤ 4) (ha : a + n ≤ 64) (h : wX_serve_155 post (nI p) (nI n) (nI s) k1 k2 k3 k4 k5 k6 k7 (nI P) (nI B) mw fn us kd pl ii tg tr ta st ln (po_wr dx (s * 4) (fun j => mw (a + j)) n) qu nx pv hd tl sv cr tu tm te tf tw) : ∀ m j, j ≤ n → n - j < m → wX_serve_115 post (nI p) (nI a) (nI n) (nI s) k1 k2 k3 k4 k5 k6 k7 (nI P) (nI B) m (nI j) mw fn us kd pl ii tg tr ta st ln (po_wr dx (s * 4) (fun j => mw (a + j)) j) qu nx pv hd tl sv cr tu tm te tf tw := by
  intro m
  induction m with
  | zero => intro j h1 h2; omega
  | succ m ih =>
    intro j h1 h2
    by_cases e : j = n
    · subst e
      exact br_c (fun _ => h) (fun _ => br_t (nI_le (Nat.le_refl _) (by omega)) h)
    · have ek : nI s * 4 + nI j = nI (s * 4 + j) := by rw [po_m4, nI_add]
      refine br_f (nI_ge (b := 4) (by omega) (by decide)) (br_f (nI_ge (by omega) (by omega)) ?_)
      rw [ek, nI_add, nI_clamp (n := s * 4 + j) (by omega), nI_clamp (n := a + j) (by omega)]
      exact And.intro (vp_in_nI (by omega) (by decide)) (And.intro (vp_in_nI (by omega) (by decide)) (nm_r (po_wrs (g := fun j => mw (a + j))) (nm_r (nI_1 j) (ih (j + 1) (by omega) (by omega)))))
theorem ys_110 {post : Int32 → SY → Prop} (hs : s < 24) (hr : r < 24) (hn : n ≤ 4) (ha : a + n ≤ 64) (ea : st r = nI a) (el : ln r = nI l) (hnl : n ≤ l) (hl : l ≤ 8)
    (h1 : l - n = 0 → post (nI s) (nI P, hh, ww, nI B, lc, mw, fn, upd us r 0, kd, pl, ii, tg, tr, ta, upd st r (nI (a + n)), upd ln r (nI (l - n)), po_wr dy (s * 4) (fun j => mw (a + j)) n, li, rt, tu, te, tf, go, gw))
    (h0 : l - n ≠ 0 → post (nI s) (nI P, hh, ww, nI B, lc, mw, fn, us, kd, pl, ii, tg, tr, ta, upd st r (nI (a + n)), upd ln r (nI (l - n)), po_wr dy (s * 4) (fun j => mw (a + j)) n, li, rt, tu, te, tf, go, gw)) : ∀ m j, j ≤ n → n - j < m → wY_serve_110 post (nI r) (nI a) (nI n) (nI s) (nI P) hh ww (nI B) lc m (nI j) mw fn us kd pl ii tg tr ta st ln (po_wr dy (s * 4) (fun j => mw (a + j)) j) li rt tu te tf go gw := by
  have crr : (nI r).toNatClampNeg = r := nI_clamp (by omega)
  have vr : vp_in (nI r) 24 := vp_in_nI hr (by decide)
  intro m
  induction m with
  | zero => intro j h1 h2; omega
  | succ m ih =>
    intro j h1' h2'
    by_cases e : j = n
    · subst e
      refine br_t (nI_le (Nat.le_refl _) (by omega)) ?_
      rw [crr, ea, el, nI_add, pk_sub hnl, po_b0]
      refine And.intro vr (And.intro vr (nm_e (And.intro vr (And.intro vr (nm_e (And.intro vr (br_c (fun c => And.intro vr (nm_e (h1 ?_))) (fun c => h0 ?_))))))))
      · rw [pk_us] at c
        exact (po_e0 (by omega)).mp c
      · rw [pk_us] at c
        exact fun e => c ((po_e0 (by omega)).mpr e)
    · have ek : nI s * 4 + nI j = nI (s * 4 + j) := by rw [po_m4, nI_add]
      refine br_f (nI_ge (by omega) (by omega)) ?_
      rw [ek, nI_add, nI_clamp (n := s * 4 + j) (by omega), nI_clamp (n := a + j) (by omega)]
      exact And.intro (vp_in_nI (by omega) (by decide)) (And.intro (vp_in_nI (by omega) (by decide)) (nm_r (po_wrs (g := fun j => mw (a + j))) (nm_r (nI_1 j) (ih (j + 1) (by omega) (by omega)))))
/-- the words of one answer -/
def po_nw (B a l : Nat) : Nat := if B - a % B ≤ l then B - a % B else l
theorem po_nw_le {B a l : Nat} (hB : 1 ≤ B) (hl : 1 ≤ l) (hB4 : B ≤ 4) : 1 ≤ po_nw B a l ∧ po_nw B a l ≤ l ∧ po_nw B a l ≤ 4 := by
  unfold po_nw
  have := Nat.mod_lt a (y := B) (by omega)
  split <;> omega
theorem po_nw_b {B a l : Nat} : po_nw B a l ≤ B - a % B := by
  unfold po_nw
  split <;> omega
theorem ys_37 {post : Int32 → SY → Prop} (hr : r < 24) (ha : a + l ≤ 64) (hl : 1 ≤ l) (hB1 : 1 ≤ B) (hB2 : B ≤ 4) (el : ln r = nI l) (h : wY_serve_66 post (nI p) (nI r) (nI a) (nI (po_nw B a l)) (nI P) hh ww (nI B) lc mw fn us kd pl ii tg tr ta st ln dy li rt tu te tf go gw) : ∀ m j, 1 ≤ j → j ≤ po_nw B a l → po_nw B a l - j < m → wY_serve_37 post (nI p) (nI r) (nI a) (nI P) hh ww (nI B) lc mw fn us kd pl ii tg tr ta st ln dy li rt tu te tf go gw m (nI j) := by
  have crr : (nI r).toNatClampNeg = r := nI_clamp (by omega)
  have vr : vp_in (nI r) 24 := vp_in_nI hr (by decide)
  have hm := Nat.mod_lt a (y := B) (by omega)
  have hnl := po_nw_le (a := a) hB1 hl hB2
  have hB0 : ¬ nI B = 0 := nI_ne0 (by omega) (by omega)
  intro m
  induction m with
  | zero => intro j h0 h1 h2; omega
  | succ m ih =>
    intro j h0 h1 h2
    have er : (nI a + nI j) - (nI a + nI j) / nI B * nI B = nI ((a + j) % B) := by
      rw [nI_add]; exact pk_rem (by omega) (by omega) (by omega)
    have emod : (a + j) % B = (a % B + j) % B := (Nat.mod_add_mod a B j).symm
    rw [wY_serve_37, crr, el]
    dsimp only
    rw [er]
    refine And.intro vr ?_
    by_cases e : j = po_nw B a l
    · by_cases c : l ≤ j
      · exact br_t (nI_le c (by omega)) (by rw [e]; exact h)
      · refine br_f (nI_ge (by omega) (by omega)) (And.intro hB0 ?_)
        have e2 : j = B - a % B := by
          rw [e]
          unfold po_nw
          unfold po_nw at e
          split
          · rfl
          · rename_i hc
            rw [if_neg hc] at e
            omega
        have e3 : (a + j) % B = 0 := by
          rw [emod, e2, show a % B + (B - a % B) = B by omega, Nat.mod_self]
        rw [e3]
        exact br_t rfl (by rw [e]; exact h)
    · have c1 : j < l := by omega
      have c2 : j < B - a % B := by
        have := po_nw_b (B := B) (a := a) (l := l)
        omega
      refine br_f (nI_ge c1 (by omega)) (And.intro hB0 ?_)
      have e3 : (a + j) % B ≠ 0 := by
        rw [emod, Nat.mod_eq_of_lt (by omega)]; omega
      have hlt := Nat.mod_lt (a + j) (y := B) (by omega)
      exact br_f (fun c => e3 ((po_e0 (by omega)).mp c)) (nm_r (nI_1 j) (ih (j + 1) (by omega) (by omega) (by omega)))
/-! pure: the read in service shrinks -/
theorem po_PKs {us' : Nat → Int32} {v w : Int32} (h : po_PK P us kd pl ii tg ta st ln) (hu : ∀ x, us' x ≠ 0 → us x ≠ 0) (hr : us' r ≠ 0 → po_pk1 P (kd r) (pl r) (ii r) (tg r) (ta r) v w) : po_PK P us' kd pl ii tg ta (upd st r v) (upd ln r w) := by
  intro x hx hux
  by_cases e : x = r
  · subst e
    rw [pk_us, pk_us]
    exact hr hux
  · rw [pk_un e, pk_un e]
    exact h x hx (hu x hux)
theorem po_LNe (h : po_LN us pl li L) (h3 : pl r = 3) : po_LN (upd us r 0) pl li L := by
  refine ⟨h.1, fun x => ?_, h.2.2⟩
  rw [h.2.1 x]
  by_cases e : x = r
  · subst e
    exact ⟨fun c => absurd h3 c.2.2, fun c => absurd h3 c.2.2⟩
  · rw [pk_un e]
theorem po_SVe (h : po_SV P us pl tg sv) (hP : P ≤ 4) (hp : p < P) (hr : r < 24) (er : sv p = nI r) (et : tg r = nI p) : po_SV P (upd us r 0) pl tg (upd sv p (-1)) := by
  intro q hq
  by_cases e : q = p
  · subst e
    refine Or.inl ⟨pk_us, fun x hx a b c => ?_⟩
    obtain ⟨a1, a2⟩ := po_u0 a
    rcases h q hq with ⟨h1, h2⟩ | ⟨y, h1, h2, h3, h4, h5, h6⟩
    · exact h2 x hx a2 b c
    · have : y = r := (nI_eq (by omega) (by omega)).mp (h2.symm.trans er)
      exact a1 ((h6 x hx a2 b c).trans this)
  · rw [pk_un e]
    rcases h q hq with ⟨h1, h2⟩ | ⟨y, h1, h2, h3, h4, h5, h6⟩
    · exact Or.inl ⟨h1, fun x hx a b c => h2 x hx (po_u0 a).2 b c⟩
    · have : y ≠ r := by
        intro c
        rw [c, et] at h5
        exact e ((nI_eq (by omega) (by omega)).mp h5).symm
      exact Or.inr ⟨y, h1, h2, by rw [pk_un this]; exact h3, h4, h5, fun x hx a b c => h6 x hx (po_u0 a).2 b c⟩
theorem po_CRs {us' : Nat → Int32} {w : Int32} (h : po_CR P hh ww us kd pl ii tg ln cr rt) (hu : ∀ x, x ≠ r → us' x = us x) (h3 : pl r = 3) : po_CR P hh ww us' kd pl ii tg (upd ln r w) cr rt := by
  refine po_CSc h fun l k u _ _ _ => po_zc 24 fun x _ => ?_
  unfold po_ct
  by_cases e : x = r
  · subst e
    have n : ∀ Z : Prop, ¬ (Z ∧ kd x = nI k ∧ ((pl x = 1 ∧ ii x / 4 = nI l) ∨ (pl x = 2 ∧ nI P + tg x = nI l))) := by
      intro Z c
      rcases c.2.2 with c | c
      · rw [h3] at c; exact absurd c.1 (by decide)
      · rw [h3] at c; exact absurd c.1 (by decide)
    rw [if_neg (n _), if_neg (n _)]
  · unfold po_co
    rw [hu x e, pk_un e]
theorem po_DTs {us' : Nat → Int32} {w : Int32} (h : po_DT us kd ln dx dy) (hu : ∀ x, us' x ≠ 0 → us x ≠ 0) (hk : kd r = 1) : po_DT us' kd (upd ln r w) dx dy := by
  intro x hx hux hkx j hj
  have e : x ≠ r := fun e => hkx (by rw [e]; exact hk)
  rw [pk_un e] at hj
  exact h x hx (hu x hux) hkx j hj
end SE
end
section
/-! serve, joined -/
section SF
variable {k1 k2 k3 k4 k5 k6 k7 hh ww lc : Int32} {P B : Nat} {mw fn us kd pl ii tg tr ta st ln dx qu nx pv hd tl sv cr tu tm te tf tw dy li rt go gw : Nat → Int32}
variable {L : List Nat}
theorem lk_serve (H : po_R P B hh ww mw fn us kd pl ii tg tr ta st ln dx qu nx pv hd tl sv cr tu tm te tf tw dy li rt go gw L) (v1 : Int32) : po_Lk (fun post => wpX_serve post (0, 1, 2, 3, 0, 1, 2, nI P, nI B, mw, fn, us, kd, pl, ii, tg, tr, ta, st, ln, dx, qu, nx, pv, hd, tl, sv, cr, tu, tm, te, tf, tw) v1) (fun post => wpY_serve post (nI P, hh, ww, nI B, nI L.length, mw, fn, us, kd, pl, ii, tg, tr, ta, st, ln, dy, li, rt, tu, te, tf, go, gw) v1) := by
  have HH := H
  obtain ⟨⟨hP1, hP2, hB1, hB2⟩, hPK, hLN, hDL, hSV, hCR, hT1, hT2, hT3, hDT⟩ := H
  rcases po_in (v := v1) (n := P) (by omega) with ⟨p, hp, rfl⟩ | ho
  · have cp : (nI p).toNatClampNeg = p := nI_clamp (by omega)
    have vp : vp_in (nI p) 4 := vp_in_nI (by omega) (by decide)
    rcases hSV p hp with ⟨s1, s2⟩ | ⟨r, hr, er, ur, pr, tr', uniq⟩
    · refine ⟨-5, (0, 1, 2, 3, 0, 1, 2, nI P, nI B, mw, fn, us, kd, pl, ii, tg, tr, ta, st, ln, dx, qu, nx, pv, hd, tl, sv, cr, tu, tm, te, tf, tw), (nI P, hh, ww, nI B, nI L.length, mw, fn, us, kd, pl, ii, tg, tr, ta, st, ln, dy, li, rt, tu, te, tf, go, gw), po_mk HH, fun post h => ?_, fun post h => ?_⟩
      · unfold wpX_serve
        dsimp only
        refine xo_in hp (by omega) (br_t rfl (And.intro vp ?_))
        rw [cp, s1]
        exact nm_e (br_f po_m1 h)
      · unfold wpY_serve
        dsimp only
        refine yo_in hp (by omega) (br_t rfl ?_)
        exact yi_none s2 (br_f po_m1 h)
    · have crr : (nI r).toNatClampNeg = r := nI_clamp (by omega)
      have vr : vp_in (nI r) 24 := vp_in_nI hr (by decide)
      obtain ⟨k', p', i, t', g, a, l, e1, e2, e3, e4, e5, e6, e7, b1, b2, b3, b4, b5, b6, b7, b8, b9, b10⟩ := hPK r hr ur
      have hp3 : p' = 3 := (po_e3 (by omega)).mp (e2.symm.trans pr)
      have hk1 : k' = 1 := b10 hp3
      have ekr : kd r = 1 := by rw [e1, hk1]; rfl
      have hnw := po_nw_le (a := a) hB1 b7 hB2
      have hB0 : ¬ nI B = 0 := nI_ne0 (by omega) (by omega)
      have hm := Nat.mod_lt a (y := B) (by omega)
      have ec : nI B - (nI a - nI a / nI B * nI B) = nI (B - a % B) := by
        rw [pk_rem (by omega) (by omega) (by omega), pk_sub (by omega)]
      have ei : nI i / 4 = nI (i / 4) := po_d4 (by omega)
      have hX : ∀ post : Int32 → SX → Prop, wX_serve_67 post (nI p) (nI r) (nI a) (nI (po_nw B a l)) 0 1 2 3 0 1 2 (nI P) (nI B) mw fn us kd pl ii tg tr ta st ln dx qu nx pv hd tl sv cr tu tm te tf tw → wpX_serve post (0, 1, 2, 3, 0, 1, 2, nI P, nI B, mw, fn, us, kd, pl, ii, tg, tr, ta, st, ln, dx, qu, nx, pv, hd, tl, sv, cr, tu, tm, te, tf, tw) (nI p) := by
        intro post h
        unfold wpX_serve
        dsimp only
        refine xo_in hp (by omega) (br_t rfl (And.intro vp ?_))
        rw [cp, er]
        refine nm_e (br_t (nI_pos' (by omega)) (And.intro vr ?_))
        rw [crr, e6, e7]
        refine nm_e (And.intro hB0 (nm_r ec (And.intro vr ?_)))
        by_cases c : B - a % B ≤ l
        · have : po_nw B a l = B - a % B := if_pos c
          rw [this] at h
          exact br_t (nI_le c (by omega)) h
        · have : po_nw B a l = l := if_neg c
          rw [this] at h
          exact br_f (nI_ge (by omega) (by omega)) (And.intro vr (nm_e h))
      have hY : ∀ post : Int32 → SY → Prop, wY_serve_66 post (nI p) (nI r) (nI a) (nI (po_nw B a l)) (nI P) hh ww (nI B) (nI L.length) mw fn us kd pl ii tg tr ta st ln dy li rt tu te tf go gw → wpY_serve post (nI P, hh, ww, nI B, nI L.length, mw, fn, us, kd, pl, ii, tg, tr, ta, st, ln, dy, li, rt, tu, te, tf, go, gw) (nI p) := by
        intro post h
        unfold wpY_serve
        dsimp only
        refine yo_in hp (by omega) (br_t rfl ?_)
        refine yi_some hr ur pr tr' uniq (br_t (nI_pos' (by omega)) (And.intro vr ?_))
        rw [crr, e6]
        exact nm_e ⟨po_nw B a l, ys_37 hr b6 b7 hB1 hB2 e7 h (po_nw B a l) 1 (by omega) (by omega) (by omega)⟩
      by_cases full : ∀ x, x < 24 → us x ≠ 0
      · refine ⟨-3, (0, 1, 2, 3, 0, 1, 2, nI P, nI B, mw, fn, us, kd, pl, ii, tg, tr, ta, st, ln, dx, qu, nx, pv, hd, tl, sv, cr, tu, tm, te, tf, tw), (nI P, hh, ww, nI B, nI L.length, mw, fn, us, kd, pl, ii, tg, tr, ta, st, ln, dy, li, rt, tu, te, tf, go, gw), po_mk HH, fun post h => hX post ?_, fun post h => hY post ?_⟩
        · unfold wX_serve_67
          refine And.intro vr (And.intro po_n4 (nm_e (And.intro vr (And.intro vr ?_))))
          exact xc_full full (br_f (by decide) h)
        · unfold wY_serve_66
          refine And.intro vr (And.intro po_n4 (And.intro vr (And.intro vr ?_)))
          exact ym_full full (br_f (by decide) h)
      · obtain ⟨s, hs, h0, hx⟩ := po_free full
        have hsr : s ≠ r := fun c => ur (by rw [← c]; exact h0)
        have hrs : r ≠ s := fun c => hsr c.symm
        obtain ⟨qu', nx', pv', hd', tl', li', r1, r2, r3, r4, r5, r6, r7⟩ := lk_new (s := s) (k := 2) (i := 4 * p) (t := i / 4) (g := g) (a := a) (l := po_nw B a l) (vk := 2) (vg := nI g) (bits := tr r) HH hs h0 hx rfl rfl (by omega) (by omega) (by omega) b5 (by omega) hnw.1 (by omega) (by omega)
        have ea' : upd st s (nI a) r = nI a := by rw [pk_un hrs]; exact e6
        have el' : upd ln s (nI (po_nw B a l)) r = nI l := by rw [pk_un hrs]; exact e7
        have ek' : upd kd s 2 r = 1 := by rw [pk_un hrs]; exact ekr
        have ep' : upd pl s 0 r = 3 := by rw [pk_un hrs]; exact pr
        have et' : upd tg s (nI (i / 4)) r = nI p := by rw [pk_un hrs]; exact tr'
        have hX2 : ∀ post : Int32 → SX → Prop, wpX_shrinkService (fun u => post (nI s) u) (0, 1, 2, 3, 0, 1, 2, nI P, nI B, mw, fn, upd us s 1, upd kd s 2, upd pl s 0, upd ii s (nI (4 * p)), upd tg s (nI (i / 4)), upd tr s (tr r), upd ta s (nI g), upd st s (nI a), upd ln s (nI (po_nw B a l)), po_wr dx (s * 4) (fun j => mw (a + j)) (po_nw B a l), qu', nx', pv', hd', tl', sv, cr, tu, tm, te, tf, tw) (nI p) (nI (po_nw B a l)) → wpX_serve post (0, 1, 2, 3, 0, 1, 2, nI P, nI B, mw, fn, us, kd, pl, ii, tg, tr, ta, st, ln, dx, qu, nx, pv, hd, tl, sv, cr, tu, tm, te, tf, tw) (nI p) := by
          intro post h
          refine hX post ?_
          unfold wX_serve_67
          rw [crr, e3, e5, ei, po_4m]
          refine And.intro vr (And.intro po_n4 (nm_e (And.intro vr (And.intro vr ?_))))
          refine r6 _ (br_t (nI_pos' (by omega)) ⟨5, ?_⟩)
          have w := xs_115 (p := p) (a := a) (n := po_nw B a l) (post := post) (dx := dx) (mw := mw) hs (by omega) (by omega) h 5 0 (by omega) (by omega)
          rw [po_wr0] at w
          exact w
        have hY2 : ∀ post : Int32 → SY → Prop,
            (l - po_nw B a l = 0 → post (nI s) (nI P, hh, ww, nI B, nI (L ++ [s]).length, mw, fn, upd (upd us s 1) r 0, upd kd s 2, upd pl s 0, upd ii s (nI (4 * p)), upd tg s (nI (i / 4)), upd tr s (tr r), upd ta s (nI g), upd (upd st s (nI a)) r (nI (a + po_nw B a l)), upd (upd ln s (nI (po_nw B a l))) r (nI (l - po_nw B a l)), po_wr (po_wr dy (s * 4) (fun _ => 0) 4) (s * 4) (fun j => mw (a + j)) (po_nw B a l), li', rt, tu, te, tf, go, gw)) →
            (l - po_nw B a l ≠ 0 → post (nI s) (nI P, hh, ww, nI B, nI (L ++ [s]).length, mw, fn, upd us s 1, upd kd s 2, upd pl s 0, upd ii s (nI (4 * p)), upd tg s (nI (i / 4)), upd tr s (tr r), upd ta s (nI g), upd (upd st s (nI a)) r (nI (a + po_nw B a l)), upd (upd ln s (nI (po_nw B a l))) r (nI (l - po_nw B a l)), po_wr (po_wr dy (s * 4) (fun _ => 0) 4) (s * 4) (fun j => mw (a + j)) (po_nw B a l), li', rt, tu, te, tf, go, gw)) → wpY_serve post (nI P, hh, ww, nI B, nI L.length, mw, fn, us, kd, pl, ii, tg, tr, ta, st, ln, dy, li, rt, tu, te, tf, go, gw) (nI p) := by
          intro post h1 h0
          refine hY post ?_
          unfold wY_serve_66
          rw [crr, e3, e5, ei, po_4m]
          refine And.intro vr (And.intro po_n4 (And.intro vr (And.intro vr ?_)))
          refine r7 _ (br_t (nI_pos' (by omega)) ⟨5, ?_⟩)
          have w := ys_110 (l := l) (a := a) (n := po_nw B a l) (post := post) (dy := po_wr dy (s * 4) (fun _ => 0) 4) (mw := mw) hs hr (by omega) (by omega) ea' el' hnw.2.1 b8 h1 h0 5 0 (by omega) (by omega)
          rw [po_wr0] at w
          exact w
        have hCR' : ∀ us', (∀ x, x ≠ r → us' x = upd us s 1 x) → po_CR P hh ww us' (upd kd s 2) (upd pl s 0) (upd ii s (nI (4 * p))) (upd tg s (nI (i / 4))) (upd (upd ln s (nI (po_nw B a l))) r (nI (l - po_nw B a l))) cr rt := fun us' hu => po_CRs r5 hu ep'
        have hold : ∀ x, x ≠ s → upd us s 1 x ≠ 0 → us x ≠ 0 := fun x hx hu => po_u1 hu hx
        by_cases c : l - po_nw B a l = 0
        · have hu0 : ∀ x, upd (upd us s 1) r 0 x ≠ 0 → upd us s 1 x ≠ 0 := fun x hx => (po_u0 hx).2
          refine ⟨nI s, _, _, po_mk (mw := mw) (fn := fn) (tr := upd tr s (tr r)) ⟨⟨hP1, hP2, hB1, hB2⟩, po_PKs (v := nI (a + po_nw B a l)) (w := nI (l - po_nw B a l)) r1 hu0 (fun hc => absurd pk_us hc), po_LNe r2 ep', r3, po_SVe r4 hP2 hp hr er et', hCR' _ (fun x hx => pk_un hx), hT1, po_T2S hT2 (fun x hx hu => hold x hx (hu0 x hu)) hr hsr ur ekr e3 e5 e6 e7 (by omega) b5 b6 hnw.2.1, po_T3S hT3 (fun x hx hu => hold x hx (hu0 x hu)) hr hsr ur ekr e3 e5 e6 e7 (by omega) b5 b6 hnw.2.1, po_DTs (po_DTn (f := fun j => mw (a + j)) hDT hPK (by omega)) hu0 ek'⟩, fun post h => hX2 post ?_, fun post h => hY2 post (fun _ => h) (fun n => absurd c n)⟩
          exact xs_shr (l := l) (by omega) hr er ea' el' hnw.2.1 b8 (fun _ => h) (fun n => absurd c n)
        · refine ⟨nI s, _, _, po_mk (mw := mw) (fn := fn) (tr := upd tr s (tr r)) ⟨⟨hP1, hP2, hB1, hB2⟩, po_PKs (v := nI (a + po_nw B a l)) (w := nI (l - po_nw B a l)) r1 (fun _ hx => hx) (fun _ => ?_), r2, r3, r4, hCR' _ (fun x _ => rfl), hT1, po_T2S hT2 hold hr hsr ur ekr e3 e5 e6 e7 (by omega) b5 b6 hnw.2.1, po_T3S hT3 hold hr hsr ur ekr e3 e5 e6 e7 (by omega) b5 b6 hnw.2.1, po_DTs (po_DTn (f := fun j => mw (a + j)) hDT hPK (by omega)) (fun _ hx => hx) ek'⟩, fun post h => hX2 post ?_, fun post h => hY2 post (fun n => absurd n c) (fun _ => h)⟩
          · rw [pk_un hrs, pk_un hrs, pk_un hrs, pk_un hrs, pk_un hrs]
            exact ⟨k', p', i, t', g, a + po_nw B a l, l - po_nw B a l, e1, e2, e3, e4, e5, rfl, rfl, b1, b2, b3, b4, b5, by omega, by omega, by omega, by omega, b10⟩
          · exact xs_shr (l := l) (by omega) hr er ea' el' hnw.2.1 b8 (fun n => absurd n c) (fun _ => h)
  · refine ⟨-1, (0, 1, 2, 3, 0, 1, 2, nI P, nI B, mw, fn, us, kd, pl, ii, tg, tr, ta, st, ln, dx, qu, nx, pv, hd, tl, sv, cr, tu, tm, te, tf, tw), (nI P, hh, ww, nI B, nI L.length, mw, fn, us, kd, pl, ii, tg, tr, ta, st, ln, dy, li, rt, tu, te, tf, go, gw), po_mk HH, fun post h => ?_, fun post h => ?_⟩
    · unfold wpX_serve
      dsimp only
      exact xo_out ho (br_f po_n10 h)
    · unfold wpY_serve
      dsimp only
      exact yo_out ho (br_f po_n10 h)
end SF
end
section
/-! advance: the parts of both walks -/
section AD
variable {k1 k2 k3 k4 k5 k6 k7 hh ww lc : Int32} {P B : Nat} {mw fn us kd pl ii tg tr ta st ln dx qu nx pv hd tl sv cr tu tm te tf tw dy li rt go gw : Nat → Int32}
variable {L : List Nat} {s k i t g a l f : Nat}
theorem xa_apply {post : Int32 → SX → Prop} (hs : s < 24) (ea : st s = nI a) (el : ln s = nI l) (hl : l ≤ 4) (ha : a + l ≤ 64) (h : post 2 (k1, k2, k3, k4, k5, k6, k7, nI P, nI B, po_wr mw a (fun j => dx (s * 4 + j)) l, fn, upd us s 0, kd, pl, ii, tg, tr, ta, st, ln, dx, qu, nx, pv, hd, tl, sv, cr, tu, tm, te, tf, tw)) : wpX_apply post (k1, k2, k3, k4, k5, k6, k7, nI P, nI B, mw, fn, us, kd, pl, ii, tg, tr, ta, st, ln, dx, qu, nx, pv, hd, tl, sv, cr, tu, tm, te, tf, tw) (nI s) := by
  have cs : (nI s).toNatClampNeg = s := nI_clamp (by omega)
  have vs : vp_in (nI s) 24 := vp_in_nI hs (by decide)
  have w : ∀ m j, j ≤ l → l - j < m → wX_apply_2 post (nI s) k1 k2 k3 k4 k5 k6 k7 (nI P) (nI B) m (nI j) (po_wr mw a (fun j => dx (s * 4 + j)) j) fn us kd pl ii tg tr ta st ln dx qu nx pv hd tl sv cr tu tm te tf tw := by
    intro m
    induction m with
    | zero => intro j h1 h2; omega
    | succ m ih =>
      intro j h1 h2
      by_cases e : j = l
      · subst e
        refine br_c (fun _ => And.intro vs (nm_r (e' := upd us s 0) (by rw [cs, po_b0]) h)) (fun _ => And.intro vs ?_)
        rw [cs, po_b0, el]
        exact br_t (nI_le (Nat.le_refl _) (by omega)) (And.intro vs (nm_e h))
      · have ek : nI s * 4 + nI j = nI (s * 4 + j) := by rw [po_m4, nI_add]
        refine br_f (nI_ge (b := 4) (by omega) (by decide)) (And.intro vs ?_)
        rw [cs, el, ea, ek, nI_add, nI_clamp (n := s * 4 + j) (by omega), nI_clamp (n := a + j) (by omega)]
        exact br_f (nI_ge (by omega) (by omega)) (And.intro vs (And.intro (vp_in_nI (by omega) (by decide)) (And.intro (vp_in_nI (by omega) (by decide)) (nm_r (po_wrs (g := fun j => dx (s * 4 + j))) (nm_r (nI_1 j) (ih (j + 1) (by omega) (by omega)))))))
  have w0 := w 5 0 (by omega) (by omega)
  rw [po_wr0] at w0
  exact ⟨5, w0⟩
theorem xa_deliver {post : Int32 → SX → Prop} {e o : Nat} (hs : s < 24) (et : tg s = nI t) (eg : ta s = nI g) (ee : e = t * 4 + g) (he : e < 16) (ea : st s = nI a) (el : ln s = nI l) (ef : tf e = nI f) (hf : f ≤ a) (eo : o = a - f) (hl : l ≤ 4) (ho : ∀ j, j < l → o + j < 8) (h : post 4 (k1, k2, k3, k4, k5, k6, k7, nI P, nI B, mw, fn, upd us s 0, kd, pl, ii, tg, tr, ta, st, ln, dx, qu, nx, pv, hd, tl, sv, cr, tu, upd tm e (tm e - nI l), te, tf, po_wr tw (e * 8 + o) (fun j => dx (s * 4 + j)) l)) : wpX_deliver post (k1, k2, k3, k4, k5, k6, k7, nI P, nI B, mw, fn, us, kd, pl, ii, tg, tr, ta, st, ln, dx, qu, nx, pv, hd, tl, sv, cr, tu, tm, te, tf, tw) (nI s) := by
  have cs : (nI s).toNatClampNeg = s := nI_clamp (by omega)
  have vs : vp_in (nI s) 24 := vp_in_nI hs (by decide)
  have ce : (nI e).toNatClampNeg = e := nI_clamp (by omega)
  have ve : vp_in (nI e) 16 := vp_in_nI he (by decide)
  have fin : wX_deliver_81 post (nI s) (nI e) k1 k2 k3 k4 k5 k6 k7 (nI P) (nI B) mw fn us kd pl ii tg tr ta st ln dx qu nx pv hd tl sv cr tu tm te tf (po_wr tw (e * 8 + o) (fun j => dx (s * 4 + j)) l) := by
    unfold wX_deliver_81
    rw [cs, ce, el, po_b0]
    exact And.intro ve (And.intro vs (And.intro ve (nm_e (And.intro vs (nm_e h)))))
  have w : ∀ m j, j ≤ l → l - j < m → wX_deliver_33 post (nI s) (nI e) (nI o) k1 k2 k3 k4 k5 k6 k7 (nI P) (nI B) m (nI j) mw fn us kd pl ii tg tr ta st ln dx qu nx pv hd tl sv cr tu tm te tf (po_wr tw (e * 8 + o) (fun j => dx (s * 4 + j)) j) := by
    intro m
    induction m with
    | zero => intro j h1 h2; omega
    | succ m ih =>
      intro j h1 h2
      by_cases c : j = l
      · subst c
        refine br_c (fun _ => fin) (fun _ => And.intro vs ?_)
        rw [cs, el]
        exact br_t (nI_le (Nat.le_refl _) (by omega)) fin
      · have ek : nI s * 4 + nI j = nI (s * 4 + j) := by rw [po_m4, nI_add]
        have ex : nI e * 8 + nI o + nI j = nI (e * 8 + o + j) := by rw [po_m8, nI_add, nI_add]
        have := ho j (by omega)
        refine br_f (nI_ge (b := 4) (by omega) (by decide)) (And.intro vs ?_)
        rw [cs, el, ek, ex, nI_clamp (n := s * 4 + j) (by omega), nI_clamp (n := e * 8 + o + j) (by omega)]
        exact br_f (nI_ge (by omega) (by omega)) (And.intro (vp_in_nI (by omega) (by decide)) (And.intro (vp_in_nI (by omega) (by decide)) (nm_r (po_wrs (g := fun j => dx (s * 4 + j))) (nm_r (nI_1 j) (ih (j + 1) (by omega) (by omega))))))
  have w0 := w 5 0 (by omega) (by omega)
  rw [po_wr0] at w0
  have e1 : nI t * 4 + nI g = nI e := by rw [po_m4, nI_add, ee]
  have e2 : nI a - nI f = nI o := by rw [pk_sub hf, eo]
  unfold wpX_deliver
  dsimp only
  rw [cs, et, eg, ea]
  refine And.intro vs (And.intro vs (nm_r e1 (And.intro vs (And.intro ve ?_))))
  rw [ce, ef]
  exact nm_r e2 ⟨5, w0⟩
theorem ya_229P {post : Int32 → SY → Prop} {e : Nat} (hs : s < 24) (he : e < 16) (ek0 : kd s = 0) (ea : st s = nI a) (el : ln s = nI l) (hl : l ≤ 4) (ha : a + l ≤ 64) (h : post 2 (nI P, hh, ww, nI B, lc, po_wr mw a (fun j => dy (s * 4 + j)) l, fn, us, kd, pl, ii, tg, tr, ta, st, ln, dy, li, rt, tu, te, tf, go, gw)) : ∀ m j, j ≤ l → l - j < m → wY_advance_229 post (nI s) (nI e) (nI P) hh ww (nI B) lc m (nI j) (po_wr mw a (fun j => dy (s * 4 + j)) j) fn us kd pl ii tg tr ta st ln dy li rt tu te tf go gw := by
  have cs : (nI s).toNatClampNeg = s := nI_clamp (by omega)
  have vs : vp_in (nI s) 24 := vp_in_nI hs (by decide)
  have ve : vp_in (nI e) 16 := vp_in_nI he (by decide)
  intro m
  induction m with
  | zero => intro j h1 h2; omega
  | succ m ih =>
    intro j h1 h2
    rw [wY_advance_229]
    dsimp only
    rw [cs, el, ea]
    by_cases c : j = l
    · subst c
      exact And.intro vs (br_t (nI_le (Nat.le_refl _) (by omega)) (And.intro vs (br_t ek0 h)))
    · have ek : nI s * 4 + nI j = nI (s * 4 + j) := by rw [po_m4, nI_add]
      refine And.intro vs (br_f (nI_ge (by omega) (by omega)) (And.intro vs (nm_r (nI_add a j) (And.intro ve (nm_e (And.intro vs (br_t ek0 ?_)))))))
      rw [ek, nI_clamp (n := s * 4 + j) (by omega), nI_clamp (n := a + j) (by omega)]
      exact And.intro (vp_in_nI (by omega) (by decide)) (And.intro (vp_in_nI (by omega) (by decide)) (nm_r (po_wrs (g := fun j => dy (s * 4 + j))) (nm_r (nI_1 j) (ih (j + 1) (by omega) (by omega)))))
theorem ya_229C {post : Int32 → SY → Prop} {e o : Nat} (hs : s < 24) (he : e < 16) (ek0 : kd s ≠ 0) (ea : st s = nI a) (el : ln s = nI l) (hl : l ≤ 4) (ha : a + l ≤ 64) (ef : tf e = nI f) (hf : f ≤ a) (eo : o = a - f) (ho : ∀ j, j < l → o + j < 8) (h : post 4 (nI P, hh, ww, nI B, lc, mw, fn, us, kd, pl, ii, tg, tr, ta, st, ln, dy, li, rt, tu, te, tf, po_wr go (e * 8 + o) (fun _ => 1) l, po_wr gw (e * 8 + o) (fun j => dy (s * 4 + j)) l)) : ∀ m j, j ≤ l → l - j < m → wY_advance_229 post (nI s) (nI e) (nI P) hh ww (nI B) lc m (nI j) mw fn us kd pl ii tg tr ta st ln dy li rt tu te tf (po_wr go (e * 8 + o) (fun _ => 1) j) (po_wr gw (e * 8 + o) (fun j => dy (s * 4 + j)) j) := by
  have cs : (nI s).toNatClampNeg = s := nI_clamp (by omega)
  have vs : vp_in (nI s) 24 := vp_in_nI hs (by decide)
  have ve : vp_in (nI e) 16 := vp_in_nI he (by decide)
  have ce : (nI e).toNatClampNeg = e := nI_clamp (by omega)
  intro m
  induction m with
  | zero => intro j h1 h2; omega
  | succ m ih =>
    intro j h1 h2
    rw [wY_advance_229]
    dsimp only
    rw [cs, el, ea, ce, ef]
    by_cases c : j = l
    · subst c
      exact And.intro vs (br_t (nI_le (Nat.le_refl _) (by omega)) (And.intro vs (br_f ek0 h)))
    · have ek : nI s * 4 + nI j = nI (s * 4 + j) := by rw [po_m4, nI_add]
      have hj := ho j (by omega)
      have e7 : nI (a + j) - nI f = nI (o + j) := by rw [pk_sub (by omega)]; exact congrArg nI (by omega)
      have ex : nI e * 8 + nI (o + j) = nI (e * 8 + o + j) := by rw [po_m8, nI_add, Nat.add_assoc]
      refine And.intro vs (br_f (nI_ge (by omega) (by omega)) (And.intro vs (nm_r (nI_add a j) (And.intro ve (nm_r e7 (And.intro vs (br_f ek0 ?_)))))))
      refine yo_in (n := 8) hj (by decide) (br_t rfl ?_)
      rw [ek, ex, nI_clamp (n := s * 4 + j) (by omega), nI_clamp (n := e * 8 + o + j) (by omega), po_b1]
      have v1 : vp_in (nI (e * 8 + o + j)) 128 := vp_in_nI (by omega) (by decide)
      exact And.intro v1 (nm_r (po_wrs (g := fun _ => 1)) (And.intro (vp_in_nI (by omega) (by decide)) (And.intro v1 (nm_r (po_wrs (g := fun j => dy (s * 4 + j))) (nm_r (nI_1 j) (ih (j + 1) (by omega) (by omega)))))))
/-! advance up to its move -/
theorem xv_0 {post : Int32 → SX → Prop} (hs : s < 24) (hu : us s ≠ 0) (hp : pl s = 0) (hf : ∀ post : Int32 → Prop, post (-1) → wpX_firstBlocker post (k1, k2, k3, k4, k5, k6, k7, nI P, nI B, mw, fn, us, kd, pl, ii, tg, tr, ta, st, ln, dx, qu, nx, pv, hd, tl, sv, cr, tu, tm, te, tf, tw) (nI s)) (h : wpX_leaveSource post (k1, k2, k3, k4, k5, k6, k7, nI P, nI B, mw, fn, us, kd, pl, ii, tg, tr, ta, st, ln, dx, qu, nx, pv, hd, tl, sv, cr, tu, tm, te, tf, tw) (nI s)) : wpX_advance post (k1, k2, k3, k4, k5, k6, k7, nI P, nI B, mw, fn, us, kd, pl, ii, tg, tr, ta, st, ln, dx, qu, nx, pv, hd, tl, sv, cr, tu, tm, te, tf, tw) (nI s) := by
  have cs : (nI s).toNatClampNeg = s := nI_clamp (by omega)
  have vs : vp_in (nI s) 24 := vp_in_nI hs (by decide)
  unfold wpX_advance
  dsimp only
  refine xo_in (n := 24) hs (by decide) (br_t rfl (And.intro vs ?_))
  rw [cs, hp]
  refine br_f hu (And.intro vs (br_f (by decide) ?_))
  refine hf _ (br_t po_m1l (And.intro vs ?_))
  exact br_t rfl h
theorem xv_1 {post : Int32 → SX → Prop} (hs : s < 24) (hu : us s ≠ 0) (hp : pl s = 1) (hf : ∀ post : Int32 → Prop, post (-1) → wpX_firstBlocker post (k1, k2, k3, k4, k5, k6, k7, nI P, nI B, mw, fn, us, kd, pl, ii, tg, tr, ta, st, ln, dx, qu, nx, pv, hd, tl, sv, cr, tu, tm, te, tf, tw) (nI s)) (h : wpX_leaveSwitch post (k1, k2, k3, k4, k5, k6, k7, nI P, nI B, mw, fn, us, kd, pl, ii, tg, tr, ta, st, ln, dx, qu, nx, pv, hd, tl, sv, cr, tu, tm, te, tf, tw) (nI s)) : wpX_advance post (k1, k2, k3, k4, k5, k6, k7, nI P, nI B, mw, fn, us, kd, pl, ii, tg, tr, ta, st, ln, dx, qu, nx, pv, hd, tl, sv, cr, tu, tm, te, tf, tw) (nI s) := by
  have cs : (nI s).toNatClampNeg = s := nI_clamp (by omega)
  have vs : vp_in (nI s) 24 := vp_in_nI hs (by decide)
  unfold wpX_advance
  dsimp only
  refine xo_in (n := 24) hs (by decide) (br_t rfl (And.intro vs ?_))
  rw [cs, hp]
  refine br_f hu (And.intro vs (br_f (by decide) ?_))
  refine hf _ (br_t po_m1l (And.intro vs ?_))
  exact br_f (by decide) (And.intro vs (br_t rfl h))
theorem xv_2 {post : Int32 → SX → Prop} (hs : s < 24) (hu : us s ≠ 0) (hp : pl s = 2) (hf : ∀ post : Int32 → Prop, post (-1) → wpX_firstBlocker post (k1, k2, k3, k4, k5, k6, k7, nI P, nI B, mw, fn, us, kd, pl, ii, tg, tr, ta, st, ln, dx, qu, nx, pv, hd, tl, sv, cr, tu, tm, te, tf, tw) (nI s)) (h : wpX_leaveArrival post (k1, k2, k3, k4, k5, k6, k7, nI P, nI B, mw, fn, us, kd, pl, ii, tg, tr, ta, st, ln, dx, qu, nx, pv, hd, tl, sv, cr, tu, tm, te, tf, tw) (nI s)) : wpX_advance post (k1, k2, k3, k4, k5, k6, k7, nI P, nI B, mw, fn, us, kd, pl, ii, tg, tr, ta, st, ln, dx, qu, nx, pv, hd, tl, sv, cr, tu, tm, te, tf, tw) (nI s) := by
  have cs : (nI s).toNatClampNeg = s := nI_clamp (by omega)
  have vs : vp_in (nI s) 24 := vp_in_nI hs (by decide)
  unfold wpX_advance
  dsimp only
  refine xo_in (n := 24) hs (by decide) (br_t rfl (And.intro vs ?_))
  rw [cs, hp]
  refine br_f hu (And.intro vs (br_f (by decide) ?_))
  refine hf _ (br_t po_m1l (And.intro vs ?_))
  exact br_f (by decide) (And.intro vs (br_f (by decide) h))
theorem yv_0 {post : Int32 → SY → Prop} (hP : P ≤ 4) (hs : s < 24) (hu : us s ≠ 0) (hp : pl s = 0) (ei : ii s = nI i) (hi : i < 16) (et : tg s = nI t) (hf : ∀ post : Int32 → Prop, post (-13) → wpY_blocker post (nI P, hh, ww, nI B, lc, mw, fn, us, kd, pl, ii, tg, tr, ta, st, ln, dy, li, rt, tu, te, tf, go, gw) (nI s)) (h : wY_advance_91 post (nI s) (nI (i / 4)) (nI (P + t)) 1 (nI P) hh ww (nI B) lc mw fn us kd pl ii tg tr ta st ln dy li rt tu te tf go gw) : wpY_advance post (nI P, hh, ww, nI B, lc, mw, fn, us, kd, pl, ii, tg, tr, ta, st, ln, dy, li, rt, tu, te, tf, go, gw) (nI s) := by
  have cs : (nI s).toNatClampNeg = s := nI_clamp (by omega)
  have vs : vp_in (nI s) 24 := vp_in_nI hs (by decide)
  unfold wpY_advance
  dsimp only
  refine yo_in (n := 24) hs (by decide) (br_t rfl (And.intro vs ?_))
  rw [cs, hp, ei, et, nI_add, po_d4 (by omega)]
  refine br_f hu (And.intro vs (br_f (by decide) ?_))
  refine hf _ (br_t (by decide) (And.intro vs (And.intro po_n4 (nm_e (And.intro vs (nm_e (And.intro vs ?_)))))))
  exact br_f (by decide) (And.intro vs (br_t rfl h))
theorem yv_1 {post : Int32 → SY → Prop} (hP : P ≤ 4) (hs : s < 24) (hu : us s ≠ 0) (hp : pl s = 1) (ei : ii s = nI i) (hi : i < 16) (et : tg s = nI t) (hf : ∀ post : Int32 → Prop, post (-13) → wpY_blocker post (nI P, hh, ww, nI B, lc, mw, fn, us, kd, pl, ii, tg, tr, ta, st, ln, dy, li, rt, tu, te, tf, go, gw) (nI s)) (h : wY_advance_91 post (nI s) (nI (i / 4)) (nI (P + t)) 0 (nI P) hh ww (nI B) lc mw fn us kd pl ii tg tr ta st ln dy li rt tu te tf go gw) : wpY_advance post (nI P, hh, ww, nI B, lc, mw, fn, us, kd, pl, ii, tg, tr, ta, st, ln, dy, li, rt, tu, te, tf, go, gw) (nI s) := by
  have cs : (nI s).toNatClampNeg = s := nI_clamp (by omega)
  have vs : vp_in (nI s) 24 := vp_in_nI hs (by decide)
  unfold wpY_advance
  dsimp only
  refine yo_in (n := 24) hs (by decide) (br_t rfl (And.intro vs ?_))
  rw [cs, hp, ei, et, nI_add, po_d4 (by omega)]
  refine br_f hu (And.intro vs (br_f (by decide) ?_))
  refine hf _ (br_t (by decide) (And.intro vs (And.intro po_n4 (nm_e (And.intro vs (nm_e (And.intro vs ?_)))))))
  exact br_f (by decide) (And.intro vs (br_f (by decide) h))
theorem yv_2 {post : Int32 → SY → Prop} (hP : P ≤ 4) (hs : s < 24) (hu : us s ≠ 0) (hp : pl s = 2) (et : tg s = nI t) (hf : ∀ post : Int32 → Prop, post (-13) → wpY_blocker post (nI P, hh, ww, nI B, lc, mw, fn, us, kd, pl, ii, tg, tr, ta, st, ln, dy, li, rt, tu, te, tf, go, gw) (nI s))
    (h1 : kd s = 1 → wpY_inService (fun r => (r < 0 → wY_advance_172 post (nI s) (nI (P + t)) (nI P) hh ww (nI B) lc mw fn us kd pl ii tg tr ta st ln dy li rt tu te tf go gw) ∧ (¬ r < 0 → post (-9) (nI P, hh, ww, nI B, lc, mw, fn, us, kd, pl, ii, tg, tr, ta, st, ln, dy, li, rt, tu, te, tf, go, gw))) (nI P, hh, ww, nI B, lc, mw, fn, us, kd, pl, ii, tg, tr, ta, st, ln, dy, li, rt, tu, te, tf, go, gw) (nI t)) (h0 : ¬ kd s = 1 → wY_advance_172 post (nI s) (nI (P + t)) (nI P) hh ww (nI B) lc mw fn us kd pl ii tg tr ta st ln dy li rt tu te tf go gw) : wpY_advance post (nI P, hh, ww, nI B, lc, mw, fn, us, kd, pl, ii, tg, tr, ta, st, ln, dy, li, rt, tu, te, tf, go, gw) (nI s) := by
  have cs : (nI s).toNatClampNeg = s := nI_clamp (by omega)
  have vs : vp_in (nI s) 24 := vp_in_nI hs (by decide)
  unfold wpY_advance
  dsimp only
  refine yo_in (n := 24) hs (by decide) (br_t rfl (And.intro vs ?_))
  rw [cs, hp, et, nI_add]
  refine br_f hu (And.intro vs (br_f (by decide) ?_))
  refine hf _ (br_t (by decide) (And.intro vs (And.intro po_n4 (nm_e (And.intro vs (nm_e (And.intro vs ?_)))))))
  exact br_t rfl (And.intro vs (br_c (fun c => And.intro vs (h1 c)) h0))
end AD
end
section
/-! advance: the moves -/
section MV
variable {k1 k2 k3 k4 k5 k6 k7 hh ww lc : Int32} {P B : Nat} {mw fn us kd pl ii tg tr ta st ln dx qu nx pv hd tl sv cr tu tm te tf tw dy li rt go gw : Nat → Int32}
variable {L : List Nat} {s k i t g a l : Nat}
theorem po_nQ {L1 L2 : List Nat} (hnd : (L1 ++ s :: L2).Nodup) : ∀ q, q < 24 → s ∉ (fun k => if k = po_q pl ii tg s then po_Qf pl ii tg L1 (po_q pl ii tg s) ++ po_Qf pl ii tg L2 (po_q pl ii tg s) else po_Qf pl ii tg (L1 ++ s :: L2) k) q := by
  obtain ⟨n1, n2, _⟩ := po_nd hnd
  intro q _ hm
  dsimp only at hm
  by_cases e : q = po_q pl ii tg s
  · rw [if_pos e] at hm
    rcases List.mem_append.mp hm with h | h
    · exact n1 (po_Qf_m.mp h).1
    · exact n2 (po_Qf_m.mp h).1
  · rw [if_neg e] at hm
    exact e (po_Qf_m.mp hm).2.symm
theorem lk_src (H : po_R P B hh ww mw fn us kd pl ii tg tr ta st ln dx qu nx pv hd tl sv cr tu tm te tf tw dy li rt go gw L) (hs : s < 24) (hu : us s ≠ 0) (ek : kd s = nI k) (ep : pl s = nI 0) (ei : ii s = nI i) (et : tg s = nI t) (hk : k < 3) (hi : i < 4 * P) (ht : t < P) : po_Lk (fun post => wpX_leaveSource post (0, 1, 2, 3, 0, 1, 2, nI P, nI B, mw, fn, us, kd, pl, ii, tg, tr, ta, st, ln, dx, qu, nx, pv, hd, tl, sv, cr, tu, tm, te, tf, tw) (nI s)) (fun post => wY_advance_91 post (nI s) (nI (i / 4)) (nI (P + t)) 1 (nI P) hh ww (nI B) (nI L.length) mw fn us kd pl ii tg tr ta st ln dy li rt tu te tf go gw) := by
  have HH := H
  obtain ⟨⟨hP1, hP2, hB1, hB2⟩, hPK, hLN, hDL, hSV, hCR, hT1, hT2, hT3, hDT⟩ := H
  have cs : (nI s).toNatClampNeg = s := nI_clamp (by omega)
  have vs : vp_in (nI s) 24 := vp_in_nI hs (by decide)
  have e4 : nI i / 4 = nI (i / 4) := po_d4 (by omega)
  have hb : ∀ y, y ∈ L → y < 24 := fun y hy => ((hLN.2.1 y).mp hy).1
  by_cases c1 : 1 ≤ cr (po_ix (i / 4) k 0 0)
  · by_cases c2 : po_co 1 kd ln s ≤ cr (po_ix (i / 4) k 1 0)
    · have hm : s ∈ L := (hLN.2.1 s).mpr ⟨hs, hu, by rw [ep]; decide⟩
      obtain ⟨L1, L2, hE⟩ := List.append_of_mem hm
      subst hE
      have hnd := hLN.1
      obtain ⟨n1, n2, n3, n4, n5⟩ := po_nd hnd
      have hq : po_q pl ii tg s < 24 := po_qlt (hPK s hs hu) hP2
      have hq1 : po_q (upd pl s 1) ii tg s = 4 + i / 4 * 4 + t := by
        unfold po_q
        rw [pk_us, if_neg (by decide), if_pos rfl, ei, et, nI_clamp (by omega), nI_clamp (by omega)]
      obtain ⟨qu1, nx1, pv1, hd1, tl1, D1, X1⟩ := xe_deq (P := P) (B := B) (k1 := 0) (k2 := 1) (k3 := 2) (k4 := 3) (k5 := 0) (k6 := 1) (k7 := 2) (mw := mw) (fn := fn) (us := us) (kd := kd) (pl := pl) (ii := ii) (tg := tg) (tr := tr) (ta := ta) (st := st) (ln := ln) (dx := dx) (sv := sv) (cr := po_sh cr (i / 4) k 0 1 (po_co 1 kd ln s)) (tu := tu) (tm := tm) (te := te) (tf := tf) (tw := tw) hDL hs hq po_Qf_s
      obtain ⟨qu2, nx2, pv2, hd2, tl2, D2, X2⟩ := xe_enq (P := P) (B := B) (k1 := 0) (k2 := 1) (k3 := 2) (k4 := 3) (k5 := 0) (k6 := 1) (k7 := 2) (mw := mw) (fn := fn) (us := us) (kd := kd) (pl := pl) (ii := ii) (tg := tg) (tr := tr) (ta := ta) (st := st) (ln := ln) (dx := dx) (sv := sv) (cr := po_sh cr (i / 4) k 0 1 (po_co 1 kd ln s)) (tu := tu) (tm := tm) (te := te) (tf := tf) (tw := tw) D1 hs (q := 4 + i / 4 * 4 + t) (by omega) (po_nQ hnd)
      obtain ⟨li', l1, Y1⟩ := yl_enter (P := P) (B := B) (hh := hh) (ww := ww) (mw := mw) (fn := fn) (us := us) (kd := kd) (pl := pl) (ii := ii) (tg := tg) (tr := tr) (ta := ta) (st := st) (ln := ln) (dy := dy) (rt := rt) (tu := tu) (te := te) (tf := tf) (go := go) (gw := gw) (p := 1) hLN.2.2 hnd hb hs
      rw [po_rm_s n1 n2] at l1 Y1
      refine ⟨1, _, _, po_mk (mw := mw) (fn := fn) (tr := tr) ⟨⟨hP1, hP2, hB1, hB2⟩, po_PKp hPK (fun _ => ?_), po_LNm hLN l1 (by decide), po_DLm hnd hq1 D2, po_SVp hSV (by rw [ep]; decide) (by decide), po_CR01 hCR hs hu ek ep ei et hk (by omega) (by omega) hP2, hT1, hT2, hT3, hDT⟩, fun post h => ?_, fun post h => ?_⟩
      · obtain ⟨k', p', i', t', g', a', l', q1, q2, q3, q4, q5, q6, q7, b1, b2, b3, b4, b5, b6, b7, b8, b9, b10⟩ := hPK s hs hu
        exact ⟨k', 1, i', t', g', a', l', q1, rfl, q3, q4, q5, q6, q7, b1, by omega, b3, b4, b5, b6, b7, b8, b9, by omega⟩
      · unfold wpX_leaveSource
        dsimp only
        rw [cs, ei]
        refine And.intro vs (And.intro po_n4 (nm_r e4 ?_))
        refine xk_claim hs (by omega) hk ek (fun _ _ => br_t rfl ?_) (fun n => absurd c1 n) (fun _ n => absurd c2 n)
        refine X1 _ (And.intro vs ?_)
        dsimp only
        rw [et, po_m4, po_4a, nI_add]
        refine X2 _ (And.intro vs (nm_e h))
      · unfold wY_advance_91
        refine br_f po_n10 ?_
        unfold wY_advance_105
        refine yk_check hP2 hs (by omega) hk ek hCR (fun _ _ => br_t rfl (br_f po_n10 ?_)) (fun n => absurd c1 n) (fun _ n => absurd c2 n)
        unfold wY_advance_129
        refine br_f po_n10 ?_
        unfold wY_advance_141
        exact Y1 _ h
    · refine ⟨-8, (0, 1, 2, 3, 0, 1, 2, nI P, nI B, mw, fn, us, kd, pl, ii, tg, tr, ta, st, ln, dx, qu, nx, pv, hd, tl, sv, cr, tu, tm, te, tf, tw), (nI P, hh, ww, nI B, nI L.length, mw, fn, us, kd, pl, ii, tg, tr, ta, st, ln, dy, li, rt, tu, te, tf, go, gw), po_mk HH, fun post h => ?_, fun post h => ?_⟩
      · unfold wpX_leaveSource
        dsimp only
        rw [cs, ei]
        refine And.intro vs (And.intro po_n4 (nm_r e4 ?_))
        exact xk_claim hs (by omega) hk ek (fun _ n => absurd n c2) (fun n => absurd c1 n) (fun _ _ => br_f (by decide) h)
      · unfold wY_advance_91
        refine br_f po_n10 ?_
        unfold wY_advance_105
        exact yk_check hP2 hs (by omega) hk ek hCR (fun _ n => absurd n c2) (fun n => absurd c1 n) (fun _ _ => br_f (by decide) h)
  · refine ⟨-7, (0, 1, 2, 3, 0, 1, 2, nI P, nI B, mw, fn, us, kd, pl, ii, tg, tr, ta, st, ln, dx, qu, nx, pv, hd, tl, sv, cr, tu, tm, te, tf, tw), (nI P, hh, ww, nI B, nI L.length, mw, fn, us, kd, pl, ii, tg, tr, ta, st, ln, dy, li, rt, tu, te, tf, go, gw), po_mk HH, fun post h => ?_, fun post h => ?_⟩
    · unfold wpX_leaveSource
      dsimp only
      rw [cs, ei]
      refine And.intro vs (And.intro po_n4 (nm_r e4 ?_))
      exact xk_claim hs (by omega) hk ek (fun n => absurd n c1) (fun _ => br_f (by decide) h) (fun n => absurd n c1)
    · unfold wY_advance_91
      refine br_f po_n10 ?_
      unfold wY_advance_105
      exact yk_check hP2 hs (by omega) hk ek hCR (fun n => absurd n c1) (fun _ => br_f (by decide) h) (fun n => absurd n c1)
theorem lk_swi (H : po_R P B hh ww mw fn us kd pl ii tg tr ta st ln dx qu nx pv hd tl sv cr tu tm te tf tw dy li rt go gw L) (hs : s < 24) (hu : us s ≠ 0) (ek : kd s = nI k) (ep : pl s = nI 1) (ei : ii s = nI i) (et : tg s = nI t) (hk : k < 3) (hi : i < 4 * P) (ht : t < P) : po_Lk (fun post => wpX_leaveSwitch post (0, 1, 2, 3, 0, 1, 2, nI P, nI B, mw, fn, us, kd, pl, ii, tg, tr, ta, st, ln, dx, qu, nx, pv, hd, tl, sv, cr, tu, tm, te, tf, tw) (nI s)) (fun post => wY_advance_91 post (nI s) (nI (i / 4)) (nI (P + t)) 0 (nI P) hh ww (nI B) (nI L.length) mw fn us kd pl ii tg tr ta st ln dy li rt tu te tf go gw) := by
  have HH := H
  obtain ⟨⟨hP1, hP2, hB1, hB2⟩, hPK, hLN, hDL, hSV, hCR, hT1, hT2, hT3, hDT⟩ := H
  have cs : (nI s).toNatClampNeg = s := nI_clamp (by omega)
  have vs : vp_in (nI s) 24 := vp_in_nI hs (by decide)
  have e4 : nI i / 4 = nI (i / 4) := po_d4 (by omega)
  have hb : ∀ y, y ∈ L → y < 24 := fun y hy => ((hLN.2.1 y).mp hy).1
  by_cases c1 : 1 ≤ cr (po_ix (P + t) k 0 0)
  · by_cases c2 : po_co 1 kd ln s ≤ cr (po_ix (P + t) k 1 0)
    · have hm : s ∈ L := (hLN.2.1 s).mpr ⟨hs, hu, by rw [ep]; decide⟩
      obtain ⟨L1, L2, hE⟩ := List.append_of_mem hm
      subst hE
      have hnd := hLN.1
      obtain ⟨n1, n2, n3, n4, n5⟩ := po_nd hnd
      have hq : po_q pl ii tg s < 24 := po_qlt (hPK s hs hu) hP2
      have hq1 : po_q (upd pl s 2) ii tg s = 20 + t := by
        unfold po_q
        rw [pk_us, if_neg (by decide), if_neg (by decide), et, nI_clamp (by omega)]
      obtain ⟨qu1, nx1, pv1, hd1, tl1, D1, X1⟩ := xe_deq (P := P) (B := B) (k1 := 0) (k2 := 1) (k3 := 2) (k4 := 3) (k5 := 0) (k6 := 1) (k7 := 2) (mw := mw) (fn := fn) (us := us) (kd := kd) (pl := pl) (ii := ii) (tg := tg) (tr := tr) (ta := ta) (st := st) (ln := ln) (dx := dx) (sv := sv) (cr := po_sh (po_sh cr (P + t) k 0 1 (po_co 1 kd ln s)) (i / 4) k 1 2 (po_co 1 kd ln s)) (tu := tu) (tm := tm) (te := te) (tf := tf) (tw := tw) hDL hs hq po_Qf_s
      obtain ⟨qu2, nx2, pv2, hd2, tl2, D2, X2⟩ := xe_enq (P := P) (B := B) (k1 := 0) (k2 := 1) (k3 := 2) (k4 := 3) (k5 := 0) (k6 := 1) (k7 := 2) (mw := mw) (fn := fn) (us := us) (kd := kd) (pl := pl) (ii := ii) (tg := tg) (tr := tr) (ta := ta) (st := st) (ln := ln) (dx := dx) (sv := sv) (cr := po_sh (po_sh cr (P + t) k 0 1 (po_co 1 kd ln s)) (i / 4) k 1 2 (po_co 1 kd ln s)) (tu := tu) (tm := tm) (te := te) (tf := tf) (tw := tw) D1 hs (q := 20 + t) (by omega) (po_nQ hnd)
      obtain ⟨li', l1, Y1⟩ := yl_enter (P := P) (B := B) (hh := hh) (ww := ww) (mw := mw) (fn := fn) (us := us) (kd := kd) (pl := pl) (ii := ii) (tg := tg) (tr := tr) (ta := ta) (st := st) (ln := ln) (dy := dy) (rt := po_gb rt (i / 4) k (po_co 1 kd ln s)) (tu := tu) (te := te) (tf := tf) (go := go) (gw := gw) (p := 2) hLN.2.2 hnd hb hs
      rw [po_rm_s n1 n2] at l1 Y1
      refine ⟨1, _, _, po_mk (mw := mw) (fn := fn) (tr := tr) ⟨⟨hP1, hP2, hB1, hB2⟩, po_PKp hPK (fun _ => ?_), po_LNm hLN l1 (by decide), po_DLm hnd hq1 D2, po_SVp hSV (by rw [ep]; decide) (by decide), po_CR12 hCR hs hu ek ep ei et hk hi ht hP2, hT1, hT2, hT3, hDT⟩, fun post h => ?_, fun post h => ?_⟩
      · obtain ⟨k', p', i', t', g', a', l', q1, q2, q3, q4, q5, q6, q7, b1, b2, b3, b4, b5, b6, b7, b8, b9, b10⟩ := hPK s hs hu
        exact ⟨k', 2, i', t', g', a', l', q1, rfl, q3, q4, q5, q6, q7, b1, by omega, b3, b4, b5, b6, b7, b8, b9, by omega⟩
      · unfold wpX_leaveSwitch
        dsimp only
        rw [cs, et, nI_add]
        refine And.intro vs ?_
        refine xk_claim hs (by omega) hk ek (fun _ _ => br_t rfl (And.intro vs (And.intro po_n4 ?_))) (fun n => absurd c1 n) (fun _ n => absurd c2 n)
        dsimp only
        rw [ei, e4]
        refine xs_shift (w1 := 1) (w2 := 2) hs (by omega) hk (by omega) (by omega) ek ?_
        refine X1 _ (And.intro vs ?_)
        dsimp only
        rw [et, po_20a]
        refine X2 _ (And.intro vs (nm_e h))
      · unfold wY_advance_91
        refine br_t rfl ?_
        unfold wY_advance_105
        refine yk_check hP2 hs (by omega) hk ek hCR (fun _ _ => br_t rfl (br_t rfl ?_)) (fun n => absurd c1 n) (fun _ n => absurd c2 n)
        refine yg_back hs (by omega) hk ek ?_
        refine br_t rfl ?_
        exact Y1 _ h
    · refine ⟨-8, (0, 1, 2, 3, 0, 1, 2, nI P, nI B, mw, fn, us, kd, pl, ii, tg, tr, ta, st, ln, dx, qu, nx, pv, hd, tl, sv, cr, tu, tm, te, tf, tw), (nI P, hh, ww, nI B, nI L.length, mw, fn, us, kd, pl, ii, tg, tr, ta, st, ln, dy, li, rt, tu, te, tf, go, gw), po_mk HH, fun post h => ?_, fun post h => ?_⟩
      · unfold wpX_leaveSwitch
        dsimp only
        rw [cs, et, nI_add]
        refine And.intro vs ?_
        exact xk_claim hs (by omega) hk ek (fun _ n => absurd n c2) (fun n => absurd c1 n) (fun _ _ => br_f (by decide) h)
      · unfold wY_advance_91
        refine br_t rfl ?_
        unfold wY_advance_105
        exact yk_check hP2 hs (by omega) hk ek hCR (fun _ n => absurd n c2) (fun n => absurd c1 n) (fun _ _ => br_f (by decide) h)
  · refine ⟨-7, (0, 1, 2, 3, 0, 1, 2, nI P, nI B, mw, fn, us, kd, pl, ii, tg, tr, ta, st, ln, dx, qu, nx, pv, hd, tl, sv, cr, tu, tm, te, tf, tw), (nI P, hh, ww, nI B, nI L.length, mw, fn, us, kd, pl, ii, tg, tr, ta, st, ln, dy, li, rt, tu, te, tf, go, gw), po_mk HH, fun post h => ?_, fun post h => ?_⟩
    · unfold wpX_leaveSwitch
      dsimp only
      rw [cs, et, nI_add]
      refine And.intro vs ?_
      exact xk_claim hs (by omega) hk ek (fun n => absurd n c1) (fun _ => br_f (by decide) h) (fun n => absurd n c1)
    · unfold wY_advance_91
      refine br_t rfl ?_
      unfold wY_advance_105
      exact yk_check hP2 hs (by omega) hk ek hCR (fun n => absurd n c1) (fun _ => br_f (by decide) h) (fun n => absurd n c1)
end MV
end
section
/-! advance: arrival, and the whole -/
section AR
variable {k1 k2 k3 k4 k5 k6 k7 hh ww lc : Int32} {P B : Nat} {mw fn us kd pl ii tg tr ta st ln dx qu nx pv hd tl sv cr tu tm te tf tw dy li rt go gw : Nat → Int32}
variable {L : List Nat} {s k i t g a l : Nat}
theorem po_DLg {pl' qu' nx' pv' hd' tl' : Nat → Int32} {L1 L2 : List Nat} (hnd : (L1 ++ s :: L2).Nodup) (h : ∀ x, x ≠ s → pl' x = pl x)
    (D : po_DL qu' nx' pv' hd' tl' (fun k => if k = po_q pl ii tg s then po_Qf pl ii tg L1 (po_q pl ii tg s) ++ po_Qf pl ii tg L2 (po_q pl ii tg s) else po_Qf pl ii tg (L1 ++ s :: L2) k)) : po_DL qu' nx' pv' hd' tl' (po_Qf pl' ii tg (L1 ++ L2)) := by
  obtain ⟨n1, n2, _⟩ := po_nd hnd
  refine po_DLc D fun q _ => ?_
  have e : po_Qf pl' ii tg (L1 ++ L2) q = po_Qf pl ii tg (L1 ++ L2) q := by
    unfold po_Qf
    refine List.filter_congr fun x hx => ?_
    have : x ≠ s := by
      intro e
      rw [e] at hx
      exact (List.mem_append.mp hx).elim n1 n2
    have e2 : po_q pl' ii tg x = po_q pl ii tg x := by
      unfold po_q
      rw [h x this]
    rw [e2]
  rw [e, po_Qf_r (s := s)]
theorem lk_arr (H : po_R P B hh ww mw fn us kd pl ii tg tr ta st ln dx qu nx pv hd tl sv cr tu tm te tf tw dy li rt go gw L) (hs : s < 24) (hu : us s ≠ 0) (ek : kd s = nI k) (ep : pl s = nI 2) (ei : ii s = nI i) (et : tg s = nI t) (eg : ta s = nI g) (ea : st s = nI a) (el : ln s = nI l) (hk : k < 3) (hi : i < 4 * P) (ht : t < P) (hg : g < 4) (hal : a + l ≤ 64) (hl1 : 1 ≤ l) (hl4 : k ≠ 1 → l ≤ 4) (hf : ∀ post : Int32 → Prop, post (-13) → wpY_blocker post (nI P, hh, ww, nI B, nI L.length, mw, fn, us, kd, pl, ii, tg, tr, ta, st, ln, dy, li, rt, tu, te, tf, go, gw) (nI s)) : po_Lk (fun post => wpX_leaveArrival post (0, 1, 2, 3, 0, 1, 2, nI P, nI B, mw, fn, us, kd, pl, ii, tg, tr, ta, st, ln, dx, qu, nx, pv, hd, tl, sv, cr, tu, tm, te, tf, tw) (nI s)) (fun post => wpY_advance post (nI P, hh, ww, nI B, nI L.length, mw, fn, us, kd, pl, ii, tg, tr, ta, st, ln, dy, li, rt, tu, te, tf, go, gw) (nI s)) := by
  have HH := H
  obtain ⟨⟨hP1, hP2, hB1, hB2⟩, hPK, hLN, hDL, hSV, hCR, hT1, hT2, hT3, hDT⟩ := H
  have cs : (nI s).toNatClampNeg = s := nI_clamp (by omega)
  have vs : vp_in (nI s) 24 := vp_in_nI hs (by decide)
  have ct : (nI t).toNatClampNeg = t := nI_clamp (by omega)
  have vt : vp_in (nI t) 4 := vp_in_nI (by omega) (by decide)
  have hb : ∀ y, y ∈ L → y < 24 := fun y hy => ((hLN.2.1 y).mp hy).1
  have ep2 : pl s = 2 := ep
  have ep3 : pl s ≠ 3 := by rw [ep]; decide
  have hm : s ∈ L := (hLN.2.1 s).mpr ⟨hs, hu, ep3⟩
  obtain ⟨L1, L2, hE⟩ := List.append_of_mem hm
  subst hE
  have hnd := hLN.1
  obtain ⟨n1, n2, n3, n4, n5⟩ := po_nd hnd
  have hq : po_q pl ii tg s < 24 := po_qlt (hPK s hs hu) hP2
  obtain ⟨qu1, nx1, pv1, hd1, tl1, D1, X1⟩ := xe_deq (P := P) (B := B) (k1 := 0) (k2 := 1) (k3 := 2) (k4 := 3) (k5 := 0) (k6 := 1) (k7 := 2) (mw := mw) (fn := fn) (us := us) (kd := kd) (pl := pl) (ii := ii) (tg := tg) (tr := tr) (ta := ta) (st := st) (ln := ln) (dx := dx) (sv := sv) (cr := po_sh cr (P + t) k 1 2 (po_co 1 kd ln s)) (tu := tu) (tm := tm) (te := te) (tf := tf) (tw := tw) hDL hs hq po_Qf_s
  obtain ⟨li', l1, Y1⟩ := yl_leave (P := P) (B := B) (hh := hh) (ww := ww) (mw := mw) (fn := fn) (us := us) (kd := kd) (pl := pl) (ii := ii) (tg := tg) (tr := tr) (ta := ta) (st := st) (ln := ln) (dy := dy) (rt := po_gb rt (P + t) k (po_co 1 kd ln s)) (tu := tu) (te := te) (tf := tf) (go := go) (gw := gw) (s := s) hLN.2.2 (po_len hnd hb) hb hs
  rw [po_rm_s n1 n2] at l1 Y1
  by_cases k1 : k = 1
  · subst k1
    have ek1 : kd s = 1 := ek
    rcases hSV t ht with ⟨s1, s2⟩ | ⟨r, hr, er, ur, pr, tr', uniq⟩
    · refine ⟨3, _, _, po_mk (mw := mw) (fn := fn) (tr := tr) ⟨⟨hP1, hP2, hB1, hB2⟩, po_PKp (vp := 3) hPK (fun _ => ?_), po_LNg (us' := us) (pl' := upd pl s 3) hLN l1 (fun x hx => ⟨rfl, pk_un hx⟩) (Or.inr pk_us), po_DLg hnd (fun x hx => pk_un hx) D1, po_SVt hSV hs hu et ht hP2 s1 ep3, po_CR2x hCR hs hu ek ep ei et hk hi ht hP2 (fun _ _ _ x hx => po_ctp hx) (fun l' k' u' hl' hk' => ?_), hT1, hT2, hT3, hDT⟩, fun post h => ?_, fun post h => ?_⟩
      · obtain ⟨k', p', i', t', g', a', l', q1, q2, q3, q4, q5, q6, q7, b1, b2, b3, b4, b5, b6, b7, b8, b9, b10⟩ := hPK s hs hu
        have : k' = 1 := (nI_eq (by omega) (by omega)).mp (q1.symm.trans ek)
        exact ⟨k', 3, i', t', g', a', l', q1, rfl, q3, q4, q5, q6, q7, b1, by omega, b3, b4, b5, b6, b7, b8, b9, fun _ => this⟩
      · rw [po_ctv (pl := upd pl s 3) (p := 3) hu ek pk_us ei et hk (by omega) (by omega) (by omega) hP2 hl' hk', if_neg (by omega)]
      · unfold wpX_leaveArrival
        dsimp only
        rw [cs, et, ek1]
        refine And.intro vs (nm_e (And.intro vs (br_t rfl (And.intro vt ?_))))
        rw [ct, s1]
        refine br_t po_m1l ?_
        unfold wX_leaveArrival_29
        rw [nI_add]
        refine xs_shift (w1 := 1) (w2 := 2) hs (by omega) hk (by omega) (by omega) ek ?_
        refine X1 _ (And.intro vs ?_)
        dsimp only
        rw [cs, ct]
        exact br_t ek1 (And.intro vs (nm_e (And.intro vt (nm_e h))))
      · refine yv_2 hP2 hs hu ep2 et hf (fun _ => ?_) (fun c => absurd ek1 c)
        refine yi_none s2 (br_t po_m1l ?_)
        unfold wY_advance_172
        refine yg_back hs (by omega) hk ek ?_
        refine Y1 _ (And.intro vs ?_)
        rw [cs]
        exact br_t ek1 (And.intro vs (nm_e h))
    · refine ⟨-9, (0, 1, 2, 3, 0, 1, 2, nI P, nI B, mw, fn, us, kd, pl, ii, tg, tr, ta, st, ln, dx, qu, nx, pv, hd, tl, sv, cr, tu, tm, te, tf, tw), (nI P, hh, ww, nI B, nI (L1 ++ s :: L2).length, mw, fn, us, kd, pl, ii, tg, tr, ta, st, ln, dy, li, rt, tu, te, tf, go, gw), po_mk HH, fun post h => ?_, fun post h => ?_⟩
      · unfold wpX_leaveArrival
        dsimp only
        rw [cs, et, ek1]
        refine And.intro vs (nm_e (And.intro vs (br_t rfl (And.intro vt ?_))))
        rw [ct, er]
        exact br_f (nI_pos (by omega)) h
      · refine yv_2 hP2 hs hu ep2 et hf (fun _ => ?_) (fun c => absurd ek1 c)
        exact yi_some hr ur pr tr' uniq (br_f (nI_pos (by omega)) h)
  · have ek1 : ¬ kd s = 1 := fun c => k1 ((po_e1 (by omega)).mp (ek.symm.trans c))
    have hl : l ≤ 4 := hl4 k1
    have he : t * 4 + g < 16 := by omega
    have ve : vp_in (nI (t * 4 + g)) 16 := vp_in_nI he (by decide)
    have e1 : nI t * 4 + nI g = nI (t * 4 + g) := by rw [po_m4, nI_add]
    have hdt : ∀ j, j < l → dx (s * 4 + j) = dy (s * 4 + j) := fun j hj => hDT s hs hu ek1 j (by rw [el, nI_clamp (by omega)]; exact hj)
    have hLN' : po_LN (upd us s 0) pl li' (L1 ++ L2) := po_LNg (us' := upd us s 0) (pl' := pl) hLN l1 (fun x hx => ⟨pk_un hx, rfl⟩) (Or.inl pk_us)
    have hDL' := po_DLg (pl' := pl) hnd (fun x hx => rfl) D1
    have hCR' : po_CR P hh ww (upd us s 0) kd pl ii tg ln (po_sh cr (P + t) k 1 2 (po_co 1 kd ln s)) (po_gb rt (P + t) k (po_co 1 kd ln s)) := po_CR2x hCR hs hu ek ep ei et hk hi ht hP2 (fun _ _ _ x hx => po_ctu hx) (fun l' k' u' hl' hk' => po_cts)
    have hX : ∀ post : Int32 → SX → Prop, ((kd s = 0 → wpX_apply post (0, 1, 2, 3, 0, 1, 2, nI P, nI B, mw, fn, us, kd, pl, ii, tg, tr, ta, st, ln, dx, qu1, nx1, pv1, hd1, tl1, sv, po_sh cr (P + t) k 1 2 (po_co 1 kd ln s), tu, tm, te, tf, tw) (nI s)) ∧ (¬ kd s = 0 → wpX_deliver post (0, 1, 2, 3, 0, 1, 2, nI P, nI B, mw, fn, us, kd, pl, ii, tg, tr, ta, st, ln, dx, qu1, nx1, pv1, hd1, tl1, sv, po_sh cr (P + t) k 1 2 (po_co 1 kd ln s), tu, tm, te, tf, tw) (nI s))) → wpX_leaveArrival post (0, 1, 2, 3, 0, 1, 2, nI P, nI B, mw, fn, us, kd, pl, ii, tg, tr, ta, st, ln, dx, qu, nx, pv, hd, tl, sv, cr, tu, tm, te, tf, tw) (nI s) := by
      intro post h
      unfold wpX_leaveArrival
      dsimp only
      rw [cs, et]
      refine And.intro vs (nm_e (And.intro vs (br_f ek1 ?_)))
      unfold wX_leaveArrival_29
      rw [nI_add]
      refine xs_shift (w1 := 1) (w2 := 2) hs (by omega) hk (by omega) (by omega) ek ?_
      refine X1 _ (And.intro vs ?_)
      dsimp only
      rw [cs]
      exact br_f ek1 (And.intro vs (br_c h.1 h.2))
    have hY : ∀ post : Int32 → SY → Prop, (∃ n, wY_advance_229 post (nI s) (nI (t * 4 + g)) (nI P) hh ww (nI B) (nI (L1 ++ L2).length) n 0 mw fn (upd us s 0) kd pl ii tg tr ta st ln dy li' (po_gb rt (P + t) k (po_co 1 kd ln s)) tu te tf go gw) → wpY_advance post (nI P, hh, ww, nI B, nI (L1 ++ s :: L2).length, mw, fn, us, kd, pl, ii, tg, tr, ta, st, ln, dy, li, rt, tu, te, tf, go, gw) (nI s) := by
      intro post h
      refine yv_2 hP2 hs hu ep2 et hf (fun c => absurd c ek1) (fun _ => ?_)
      unfold wY_advance_172
      refine yg_back hs (by omega) hk ek ?_
      refine Y1 _ (And.intro vs ?_)
      rw [cs, et, eg, po_b0]
      exact br_f ek1 (And.intro vs (nm_e (And.intro vs (And.intro vs (nm_r e1 h)))))
    by_cases k0 : k = 0
    · subst k0
      have ek0 : kd s = 0 := ek
      refine ⟨2, _, _, po_mk (mw := po_wr mw a (fun j => dx (s * 4 + j)) l) (fn := fn) (tr := tr) ⟨⟨hP1, hP2, hB1, hB2⟩, po_PK0 hPK, hLN', hDL', po_SV0 hSV ep3, hCR', hT1, po_T20 hT2, po_T30 hT3, po_DT0 hDT⟩, fun post h => hX post (br_t ek0 ?_), fun post h => hY post ⟨5, ?_⟩⟩
      · exact xa_apply hs ea el hl hal h
      · have ew : po_wr mw a (fun j => dx (s * 4 + j)) l = po_wr mw a (fun j => dy (s * 4 + j)) l := po_wrc hdt
        rw [ew] at h
        have w := ya_229P (e := t * 4 + g) (mw := mw) (post := post) hs he ek0 ea el hl hal h 5 0 (by omega) (by omega)
        rw [po_wr0] at w
        exact w
    · have ek0 : ¬ kd s = 0 := fun c => k0 ((po_e0 (by omega)).mp (ek.symm.trans c))
      have een : po_en kd ii tg ta s = t * 4 + g := po_enC ek1 et eg (by omega) hg
      have h2 := hT2 s hs hu ek0
      rw [een, ea, el, nI_clamp (by omega), nI_clamp (by omega)] at h2
      have hbd := po_T2b hT1 h2 he
      obtain ⟨LL, f, f1, f2, f3, f4, f5, f6⟩ := hT1 _ he h2.1
      have hfa : f ≤ a := by
        have := h2.2.1
        rw [f3, nI_clamp (by omega)] at this
        exact this
      have eo : a - f = a - (tf (t * 4 + g)).toNatClampNeg := by rw [f3, nI_clamp (by omega)]
      rw [← eo] at hbd
      refine ⟨4, _, _, po_mk (mw := mw) (fn := fn) (tr := tr) ⟨⟨hP1, hP2, hB1, hB2⟩, po_PK0 hPK, hLN', hDL', po_SV0 hSV ep3, hCR', po_T1D (f := fun j => dx (s * 4 + j)) (o := a - f) hT1 he h2 eo, po_T2D (o := a - f) hT2 hT3 hT1 hPK hP2 hs hu ek0 een ea el hal eo, po_T30 hT3, po_DT0 hDT⟩, fun post h => hX post (br_f ek0 ?_), fun post h => hY post ⟨5, ?_⟩⟩
      · exact xa_deliver (o := a - f) hs et eg rfl he ea el f3 hfa rfl hl hbd h
      · have ew : po_wr gw ((t * 4 + g) * 8 + (a - f)) (fun j => dx (s * 4 + j)) l = po_wr gw ((t * 4 + g) * 8 + (a - f)) (fun j => dy (s * 4 + j)) l := po_wrc hdt
        rw [ew] at h
        have w := ya_229C (o := a - f) (go := go) (gw := gw) (post := post) hs he ek0 ea el hl hal f3 hfa rfl hbd h 5 0 (by omega) (by omega)
        rw [po_wr0, po_wr0] at w
        exact w
theorem lk_advance (H : po_R P B hh ww mw fn us kd pl ii tg tr ta st ln dx qu nx pv hd tl sv cr tu tm te tf tw dy li rt go gw L) (v1 : Int32) : po_Lk (fun post => wpX_advance post (0, 1, 2, 3, 0, 1, 2, nI P, nI B, mw, fn, us, kd, pl, ii, tg, tr, ta, st, ln, dx, qu, nx, pv, hd, tl, sv, cr, tu, tm, te, tf, tw) v1) (fun post => wpY_advance post (nI P, hh, ww, nI B, nI L.length, mw, fn, us, kd, pl, ii, tg, tr, ta, st, ln, dy, li, rt, tu, te, tf, go, gw) v1) := by
  have HH := H
  obtain ⟨⟨hP1, hP2, hB1, hB2⟩, hPK, hLN, hDL, hSV, hCR, hT1, hT2, hT3, hDT⟩ := H
  rcases po_in (v := v1) (n := 24) (by omega) with ⟨s, hs, rfl⟩ | ho
  · have cs : (nI s).toNatClampNeg = s := nI_clamp (by omega)
    have vs : vp_in (nI s) 24 := vp_in_nI hs (by decide)
    by_cases hu : us s = 0
    · refine ⟨-2, (0, 1, 2, 3, 0, 1, 2, nI P, nI B, mw, fn, us, kd, pl, ii, tg, tr, ta, st, ln, dx, qu, nx, pv, hd, tl, sv, cr, tu, tm, te, tf, tw), (nI P, hh, ww, nI B, nI L.length, mw, fn, us, kd, pl, ii, tg, tr, ta, st, ln, dy, li, rt, tu, te, tf, go, gw), po_mk HH, fun post h => ?_, fun post h => ?_⟩
      · unfold wpX_advance
        dsimp only
        refine xo_in (n := 24) hs (by decide) (br_t rfl (And.intro vs ?_))
        rw [cs]
        exact br_t hu h
      · unfold wpY_advance
        dsimp only
        refine yo_in (n := 24) hs (by decide) (br_t rfl (And.intro vs ?_))
        rw [cs]
        exact br_t hu h
    by_cases p3 : pl s = 3
    · refine ⟨-10, (0, 1, 2, 3, 0, 1, 2, nI P, nI B, mw, fn, us, kd, pl, ii, tg, tr, ta, st, ln, dx, qu, nx, pv, hd, tl, sv, cr, tu, tm, te, tf, tw), (nI P, hh, ww, nI B, nI L.length, mw, fn, us, kd, pl, ii, tg, tr, ta, st, ln, dy, li, rt, tu, te, tf, go, gw), po_mk HH, fun post h => ?_, fun post h => ?_⟩
      · unfold wpX_advance
        dsimp only
        refine xo_in (n := 24) hs (by decide) (br_t rfl (And.intro vs ?_))
        rw [cs]
        exact br_f hu (And.intro vs (br_t p3 h))
      · unfold wpY_advance
        dsimp only
        refine yo_in (n := 24) hs (by decide) (br_t rfl (And.intro vs ?_))
        rw [cs]
        exact br_f hu (And.intro vs (br_t p3 h))
    obtain ⟨C, hC, fX, fY⟩ := lk_fb HH hs hu
    rcases po_fb_v (f := fun y => po_bk kd tr ii tg ta y s) C with ⟨x, hx, e⟩ | e
    · have hx24 := hC x hx
      rw [e (-1)] at fX
      rw [e (-13)] at fY
      refine ⟨-6, (0, 1, 2, 3, 0, 1, 2, nI P, nI B, mw, fn, us, kd, pl, ii, tg, tr, ta, st, ln, dx, qu, nx, pv, hd, tl, sv, cr, tu, tm, te, tf, tw), (nI P, hh, ww, nI B, nI L.length, mw, fn, us, kd, pl, ii, tg, tr, ta, st, ln, dy, li, rt, tu, te, tf, go, gw), po_mk HH, fun post h => ?_, fun post h => ?_⟩
      · unfold wpX_advance
        dsimp only
        refine xo_in (n := 24) hs (by decide) (br_t rfl (And.intro vs ?_))
        rw [cs]
        refine br_f hu (And.intro vs (br_f p3 ?_))
        exact fX _ (br_f (nI_pos (by omega)) h)
      · unfold wpY_advance
        dsimp only
        refine yo_in (n := 24) hs (by decide) (br_t rfl (And.intro vs ?_))
        rw [cs]
        refine br_f hu (And.intro vs (br_f p3 ?_))
        exact fY _ (br_f (nI_pos (by omega)) h)
    · rw [e (-1)] at fX
      rw [e (-13)] at fY
      obtain ⟨k, p, i, t, g, a, l, e1, e2, e3, e4, e5, e6, e7, b1, b2, b3, b4, b5, b6, b7, b8, b9, b10⟩ := hPK s hs hu
      have hp : p = 0 ∨ p = 1 ∨ p = 2 := by
        have : p ≠ 3 := fun c => p3 (by rw [e2, c]; rfl)
        omega
      rcases hp with rfl | rfl | rfl
      · obtain ⟨r, u', v', hR, hX, hY⟩ := lk_src HH hs hu e1 e2 e3 e4 b1 b3 b4
        exact ⟨r, u', v', hR, fun post h => xv_0 hs hu e2 fX (hX post h), fun post h => yv_0 hP2 hs hu e2 e3 (by omega) e4 fY (hY post h)⟩
      · obtain ⟨r, u', v', hR, hX, hY⟩ := lk_swi HH hs hu e1 e2 e3 e4 b1 b3 b4
        exact ⟨r, u', v', hR, fun post h => xv_1 hs hu e2 fX (hX post h), fun post h => yv_1 hP2 hs hu e2 e3 (by omega) e4 fY (hY post h)⟩
      · obtain ⟨r, u', v', hR, hX, hY⟩ := lk_arr HH hs hu e1 e2 e3 e4 e5 e6 e7 b1 b3 b4 b5 b6 b7 b9 fY
        exact ⟨r, u', v', hR, fun post h => xv_2 hs hu e2 fX (hX post h), hY⟩
  · refine ⟨-2, (0, 1, 2, 3, 0, 1, 2, nI P, nI B, mw, fn, us, kd, pl, ii, tg, tr, ta, st, ln, dx, qu, nx, pv, hd, tl, sv, cr, tu, tm, te, tf, tw), (nI P, hh, ww, nI B, nI L.length, mw, fn, us, kd, pl, ii, tg, tr, ta, st, ln, dy, li, rt, tu, te, tf, go, gw), po_mk HH, fun post h => ?_, fun post h => ?_⟩
    · unfold wpX_advance
      dsimp only
      exact xo_out ho (br_f po_n10 h)
    · unfold wpY_advance
      dsimp only
      exact yo_out ho (br_f po_n10 h)
end AR
end
section
/-! the constructors -/
theorem cl_c (p0 : Int32) {lo hi : Nat} (h : lo ≤ hi) (hh : hi < 2 ^ 31) : ∃ c : Nat, lo ≤ c ∧ c ≤ hi ∧ (∀ (post : Int32 → Prop) (u : SX), post (nI c) → wpX_clamp post u p0 (nI lo) (nI hi)) ∧ (∀ (post : Int32 → Prop) (v : SY), post (nI c) → wpY_clamp post v p0 (nI lo) (nI hi)) := by
  by_cases h1 : nI lo ≤ p0
  · have h0 : ¬ p0 < 0 := fun c => absurd (Int32.lt_of_le_of_lt h1 c) (nI_pos (by omega))
    obtain ⟨j, hj, rfl⟩ := nI_of h0
    have b1 := (nI_leI (by omega) hj).mp h1
    by_cases h2 : nI j ≤ nI hi
    · exact ⟨j, b1, (nI_leI hj hh).mp h2, fun post u hp => br_t h1 (br_t h2 hp), fun post u hp => br_t h1 (br_t h2 hp)⟩
    · exact ⟨hi, h, Nat.le_refl _, fun post u hp => br_t h1 (br_f h2 hp), fun post u hp => br_t h1 (br_f h2 hp)⟩
  · exact ⟨lo, Nat.le_refl _, h, fun post u hp => br_f h1 hp, fun post u hp => br_f h1 hp⟩
section IN
variable {k1 k2 k3 k4 k5 k6 k7 hh ww lc : Int32} {P B : Nat} {mw fn us kd pl ii tg tr ta st ln dx qu nx pv hd tl sv cr tu tm te tf tw dy li rt go gw : Nat → Int32}
theorem xi_356 {post : SX → Prop} {x5 x6 : Int32} (K : ∀ cr : Nat → Int32, (∀ j, j < 24 → cr (j * 6) = x5 ∧ cr (j * 6 + 3) = if j % 3 = 1 then 0 else x6) → (∀ j, j % 3 ≠ 0 → cr j = 0) → post (k1, k2, k3, k4, k5, k6, k7, nI P, nI B, mw, fn, us, kd, pl, ii, tg, tr, ta, st, ln, dx, qu, nx, pv, hd, tl, sv, cr, tu, tm, te, tf, tw)) :
    ∀ n k, k ≤ 24 → 24 - k < n → ∀ cr : Nat → Int32, (∀ j, j < k → cr (j * 6) = x5 ∧ cr (j * 6 + 3) = if j % 3 = 1 then 0 else x6) → (∀ j, j % 3 ≠ 0 → cr j = 0) → wX_init_356 post x5 x6 k1 k2 k3 k4 k5 k6 k7 (nI P) (nI B) n (nI k) mw fn us kd pl ii tg tr ta st ln dx qu nx pv hd tl sv cr tu tm te tf tw := by
  intro n
  induction n with
  | zero => intro k h1 h2; omega
  | succ n ih =>
    intro k h1 h2 cr g1 g2
    by_cases e : k = 24
    · subst e
      exact br_t (nI_le (a := 24) (by omega) (by decide)) (K cr g1 g2)
    · have v1 : vp_in (nI (k * 6)) 144 := vp_in_nI (by omega) (by decide)
      have v2 : vp_in (nI (k * 6 + 3)) 144 := vp_in_nI (by omega) (by decide)
      have c1 : (nI (k * 6)).toNatClampNeg = k * 6 := nI_clamp (by omega)
      have c2 : (nI (k * 6 + 3)).toNatClampNeg = k * 6 + 3 := nI_clamp (by omega)
      have st : ∀ w : Int32, w = (if k % 3 = 1 then 0 else x6) → wX_init_356 post x5 x6 k1 k2 k3 k4 k5 k6 k7 (nI P) (nI B) n (nI (k + 1)) mw fn us kd pl ii tg tr ta st ln dx qu nx pv hd tl sv (upd (upd cr (k * 6) x5) (k * 6 + 3) w) tu tm te tf tw := by
        intro w hw
        refine ih (k + 1) (by omega) (by omega) _ (fun j hj => ?_) (fun j hj => ?_)
        · by_cases ej : j = k
          · subst ej
            rw [pk_un (by omega), pk_us, pk_us]
            exact ⟨rfl, hw⟩
          · rw [pk_un (by omega), pk_un (by omega), pk_un (by omega), pk_un (by omega)]
            exact g1 j (by omega)
        · rw [pk_un (by omega), pk_un (by omega)]
          exact g2 j hj
      refine br_f (nI_ge (b := 24) (by omega) (by decide)) ?_
      rw [po_m6, po_a3, c1, c2, po_r3 (by omega), nI_1]
      refine And.intro v1 (nm_e (And.intro po_n3 ?_))
      by_cases m : k % 3 = 1
      · rw [m]
        exact br_t rfl (And.intro v2 (nm_e (nm_e (st 0 (by rw [if_pos m])))))
      · exact br_f (fun c => m ((po_e1 (by omega)).mp c)) (And.intro v2 (nm_e (nm_e (st x6 (by rw [if_neg m])))))
theorem xi_333 {post : SX → Prop} {x5 x6 : Int32} (K : ∀ sv : Nat → Int32, (∀ j, j < 4 → sv j = -1) → ∃ n, wX_init_356 post x5 x6 k1 k2 k3 k4 k5 k6 k7 (nI P) (nI B) n 0 mw fn us kd pl ii tg tr ta st ln dx qu nx pv hd tl sv cr tu tm te tf tw) :
    ∀ n k, k ≤ 4 → 4 - k < n → ∀ sv : Nat → Int32, (∀ j, j < k → sv j = -1) → wX_init_333 post x5 x6 k1 k2 k3 k4 k5 k6 k7 (nI P) (nI B) n (nI k) mw fn us kd pl ii tg tr ta st ln dx qu nx pv hd tl sv cr tu tm te tf tw := by
  intro n
  induction n with
  | zero => intro k h1 h2; omega
  | succ n ih =>
    intro k h1 h2 sv g1
    by_cases e : k = 4
    · subst e
      exact br_t (nI_le (a := 4) (by omega) (by decide)) (K sv g1)
    · refine br_f (nI_ge (b := 4) (by omega) (by decide)) ?_
      rw [nI_clamp (by omega)]
      refine And.intro (vp_in_nI (by omega) (by decide)) (nm_e (nm_r (nI_1 k) (ih (k + 1) (by omega) (by omega) _ (fun j hj => ?_))))
      by_cases ej : j = k
      · rw [ej]; exact pk_us
      · rw [pk_un ej]; exact g1 j (by omega)
theorem xi_277 {post : SX → Prop} {x5 x6 : Int32} (K : ∀ qu nx pv hd tl : Nat → Int32, (∀ j, j < 24 → qu j = -1 ∧ hd j = -1 ∧ tl j = -1) → ∃ n, wX_init_333 post x5 x6 k1 k2 k3 k4 k5 k6 k7 (nI P) (nI B) n 0 mw fn us kd pl ii tg tr ta st ln dx qu nx pv hd tl sv cr tu tm te tf tw) :
    ∀ n k, k ≤ 24 → 24 - k < n → ∀ qu nx pv hd tl : Nat → Int32, (∀ j, j < k → qu j = -1 ∧ hd j = -1 ∧ tl j = -1) → wX_init_277 post x5 x6 k1 k2 k3 k4 k5 k6 k7 (nI P) (nI B) n (nI k) mw fn us kd pl ii tg tr ta st ln dx qu nx pv hd tl sv cr tu tm te tf tw := by
  intro n
  induction n with
  | zero => intro k h1 h2; omega
  | succ n ih =>
    intro k h1 h2 qu nx pv hd tl g1
    by_cases e : k = 24
    · subst e
      exact br_t (nI_le (a := 24) (by omega) (by decide)) (K qu nx pv hd tl g1)
    · have v : vp_in (nI k) 24 := vp_in_nI (by omega) (by decide)
      refine br_f (nI_ge (b := 24) (by omega) (by decide)) ?_
      rw [nI_clamp (by omega)]
      refine And.intro v (nm_e (And.intro v (nm_e (And.intro v (nm_e (And.intro v (nm_e (And.intro v (nm_e (nm_r (nI_1 k) (ih (k + 1) (by omega) (by omega) _ _ _ _ _ (fun j hj => ?_))))))))))))
      by_cases ej : j = k
      · rw [ej]; exact ⟨pk_us, pk_us, pk_us⟩
      · rw [pk_un ej, pk_un ej, pk_un ej]; exact g1 j (by omega)
end IN
theorem po_z0 : ∀ n, po_zs (fun _ => 0) n = 0
  | 0 => rfl
  | n + 1 => by
    show po_zs (fun _ => 0) n + 0 = 0
    rw [po_z0 n]; rfl
theorem po_init (k0 k1 k2 k3 : Int32) : wpX_init (fun u => wpY_init (fun v => po_Rel u v) k0 k1 k2 k3) k0 k1 k2 k3 := by
  obtain ⟨P, p1, p2, pX, pY⟩ := cl_c k0 (lo := 2) (hi := 4) (by omega) (by omega)
  obtain ⟨B, b1, b2, bX, bY⟩ := cl_c k3 (lo := 1) (hi := 4) (by omega) (by omega)
  obtain ⟨h, h1, h2, hX, hY⟩ := cl_c k1 (lo := 1) (hi := 4) (by omega) (by omega)
  obtain ⟨w, w1, w2, wX, wY⟩ := cl_c k2 (lo := 4) (hi := 12) (by omega) (by omega)
  unfold wpX_init
  refine pX _ _ (bX _ _ (hX _ _ (wX _ _ ⟨25, ?_⟩)))
  refine xi_277 (fun qu nx pv hd tl gq => ⟨5, xi_333 (fun sv gs => ⟨25, xi_356 (fun cr g1 g2 => ?_) 25 0 (by omega) (by omega) (fun _ => 0) (fun j hj => by omega) (fun j _ => rfl)⟩) 5 0 (by omega) (by omega) (fun _ => 0) (fun j hj => by omega)⟩) 25 0 (by omega) (by omega) _ _ _ _ _ (fun j hj => by omega)
  unfold wpY_init
  refine pY _ _ (hY _ _ (wY _ _ (bY _ _ ?_)))
  refine po_mk (L := []) ⟨⟨p1, p2, b1, b2⟩, fun s _ hu => absurd rfl hu, ⟨List.nodup_nil, fun x => ⟨fun c => by simp at c, fun c => absurd rfl c.2.1⟩, fun i x c => by simp at c⟩, ⟨fun q hq => ⟨List.nodup_nil, (gq q hq).2.1, (gq q hq).2.2, fun x c => ?_, fun A x C c => ?_⟩, fun x hx _ => (gq x hx).1⟩, fun p hp => Or.inl ⟨gs p (by omega), fun s _ hu => absurd rfl hu⟩, fun l k u hl hk hu => ?_, fun e _ hu => absurd rfl hu, fun s _ hu => absurd rfl hu, fun s t _ _ _ hu => absurd rfl hu, fun s _ hu => absurd rfl hu⟩
  · exact absurd c (by simp [po_Qf])
  · simp [po_Qf] at c
  · have z : po_zs (po_ct P (fun _ => 0) (fun _ => 0) (fun _ => 0) (fun _ => 0) (fun _ => 0) (fun _ => 0) l k u) 24 = 0 := by
      have zc := po_zc (f := po_ct P (fun _ => 0) (fun _ => 0) (fun _ => 0) (fun _ => 0) (fun _ => 0) (fun _ => 0) l k u) (g := fun _ => 0) 24 (fun x _ => by
        unfold po_ct
        rw [if_neg]
        exact fun c => c.1 rfl)
      rw [zc, po_z0]
    have m1 : cr (po_ix l k u 1) = 0 := g2 _ (by unfold po_ix; omega)
    have m2 : cr (po_ix l k u 2) = 0 := g2 _ (by unfold po_ix; omega)
    obtain ⟨q1, q2⟩ := g1 (l * 3 + k) (by omega)
    have m0 : cr (po_ix l k u 0) = po_gr (nI h) (nI w) k u := by
      rcases (by omega : u = 0 ∨ u = 1) with rfl | rfl
      · exact q1
      · have e : (l * 3 + k) % 3 = k := by omega
        rw [e] at q2
        exact q2
    dsimp only
    rw [z, m0, m1, m2]
    refine ⟨rfl, rfl, ?_⟩
    rw [Int32.sub_zero, Int32.sub_zero]
end
section
/-! run -/
theorem lr_advance {u : SX} {v : SY} (I : po_Rel u v) (v1 : Int32) : po_Lk (fun post => wpX_advance post u v1) (fun post => wpY_advance post v v1) := po_el (Pr := fun u v => po_Lk (fun post => wpX_advance post u v1) (fun post => wpY_advance post v v1)) I (fun _ _ _ _ _ _ _ _ _ _ _ _ _ _ _ _ _ _ _ _ _ _ _ _ _ _ _ _ _ _ _ _ _ _ H => lk_advance H v1)
theorem lr_serve {u : SX} {v : SY} (I : po_Rel u v) (v1 : Int32) : po_Lk (fun post => wpX_serve post u v1) (fun post => wpY_serve post v v1) := po_el (Pr := fun u v => po_Lk (fun post => wpX_serve post u v1) (fun post => wpY_serve post v v1)) I (fun _ _ _ _ _ _ _ _ _ _ _ _ _ _ _ _ _ _ _ _ _ _ _ _ _ _ _ _ _ _ _ _ _ _ H => lk_serve H v1)
def po_AX (post : Int32 → SX → Prop) (n : Nat) (x1 x2 : Int32) (u : SX) : Prop := wX_advanceAll_4 post n x1 x2 u.1 u.2.1 u.2.2.1 u.2.2.2.1 u.2.2.2.2.1 u.2.2.2.2.2.1 u.2.2.2.2.2.2.1 u.2.2.2.2.2.2.2.1 u.2.2.2.2.2.2.2.2.1 u.2.2.2.2.2.2.2.2.2.1 u.2.2.2.2.2.2.2.2.2.2.1 u.2.2.2.2.2.2.2.2.2.2.2.1 u.2.2.2.2.2.2.2.2.2.2.2.2.1 u.2.2.2.2.2.2.2.2.2.2.2.2.2.1 u.2.2.2.2.2.2.2.2.2.2.2.2.2.2.1 u.2.2.2.2.2.2.2.2.2.2.2.2.2.2.2.1 u.2.2.2.2.2.2.2.2.2.2.2.2.2.2.2.2.1 u.2.2.2.2.2.2.2.2.2.2.2.2.2.2.2.2.2.1 u.2.2.2.2.2.2.2.2.2.2.2.2.2.2.2.2.2.2.1 u.2.2.2.2.2.2.2.2.2.2.2.2.2.2.2.2.2.2.2.1 u.2.2.2.2.2.2.2.2.2.2.2.2.2.2.2.2.2.2.2.2.1 u.2.2.2.2.2.2.2.2.2.2.2.2.2.2.2.2.2.2.2.2.2.1 u.2.2.2.2.2.2.2.2.2.2.2.2.2.2.2.2.2.2.2.2.2.2.1 u.2.2.2.2.2.2.2.2.2.2.2.2.2.2.2.2.2.2.2.2.2.2.2.1 u.2.2.2.2.2.2.2.2.2.2.2.2.2.2.2.2.2.2.2.2.2.2.2.2.1 u.2.2.2.2.2.2.2.2.2.2.2.2.2.2.2.2.2.2.2.2.2.2.2.2.2.1 u.2.2.2.2.2.2.2.2.2.2.2.2.2.2.2.2.2.2.2.2.2.2.2.2.2.2.1 u.2.2.2.2.2.2.2.2.2.2.2.2.2.2.2.2.2.2.2.2.2.2.2.2.2.2.2.1 u.2.2.2.2.2.2.2.2.2.2.2.2.2.2.2.2.2.2.2.2.2.2.2.2.2.2.2.2.1 u.2.2.2.2.2.2.2.2.2.2.2.2.2.2.2.2.2.2.2.2.2.2.2.2.2.2.2.2.2.1 u.2.2.2.2.2.2.2.2.2.2.2.2.2.2.2.2.2.2.2.2.2.2.2.2.2.2.2.2.2.2.1 u.2.2.2.2.2.2.2.2.2.2.2.2.2.2.2.2.2.2.2.2.2.2.2.2.2.2.2.2.2.2.2.1 u.2.2.2.2.2.2.2.2.2.2.2.2.2.2.2.2.2.2.2.2.2.2.2.2.2.2.2.2.2.2.2.2
def po_AY (post : Int32 → SY → Prop) (J : Int32 → Int32 → Int32 → Int32 → Int32 → Int32 → Int32 → (Nat → Int32) → (Nat → Int32) → (Nat → Int32) → (Nat → Int32) → (Nat → Int32) → (Nat → Int32) → (Nat → Int32) → (Nat → Int32) → (Nat → Int32) → (Nat → Int32) → (Nat → Int32) → (Nat → Int32) → (Nat → Int32) → (Nat → Int32) → (Nat → Int32) → (Nat → Int32) → (Nat → Int32) → (Nat → Int32) → (Nat → Int32) → Prop) (x2 x4 : Int32) (n : Nat) (x3 x5 : Int32) (v : SY) : Prop := wY_run_22 post J x2 x4 n x3 x5 v.1 v.2.1 v.2.2.1 v.2.2.2.1 v.2.2.2.2.1 v.2.2.2.2.2.1 v.2.2.2.2.2.2.1 v.2.2.2.2.2.2.2.1 v.2.2.2.2.2.2.2.2.1 v.2.2.2.2.2.2.2.2.2.1 v.2.2.2.2.2.2.2.2.2.2.1 v.2.2.2.2.2.2.2.2.2.2.2.1 v.2.2.2.2.2.2.2.2.2.2.2.2.1 v.2.2.2.2.2.2.2.2.2.2.2.2.2.1 v.2.2.2.2.2.2.2.2.2.2.2.2.2.2.1 v.2.2.2.2.2.2.2.2.2.2.2.2.2.2.2.1 v.2.2.2.2.2.2.2.2.2.2.2.2.2.2.2.2.1 v.2.2.2.2.2.2.2.2.2.2.2.2.2.2.2.2.2.1 v.2.2.2.2.2.2.2.2.2.2.2.2.2.2.2.2.2.2.1 v.2.2.2.2.2.2.2.2.2.2.2.2.2.2.2.2.2.2.2.1 v.2.2.2.2.2.2.2.2.2.2.2.2.2.2.2.2.2.2.2.2.1 v.2.2.2.2.2.2.2.2.2.2.2.2.2.2.2.2.2.2.2.2.2.1 v.2.2.2.2.2.2.2.2.2.2.2.2.2.2.2.2.2.2.2.2.2.2.1 v.2.2.2.2.2.2.2.2.2.2.2.2.2.2.2.2.2.2.2.2.2.2.2
def po_BX (post : Int32 → SX → Prop) (n : Nat) (x1 x2 : Int32) (u : SX) : Prop := wX_serveAll_4 post n x1 x2 u.1 u.2.1 u.2.2.1 u.2.2.2.1 u.2.2.2.2.1 u.2.2.2.2.2.1 u.2.2.2.2.2.2.1 u.2.2.2.2.2.2.2.1 u.2.2.2.2.2.2.2.2.1 u.2.2.2.2.2.2.2.2.2.1 u.2.2.2.2.2.2.2.2.2.2.1 u.2.2.2.2.2.2.2.2.2.2.2.1 u.2.2.2.2.2.2.2.2.2.2.2.2.1 u.2.2.2.2.2.2.2.2.2.2.2.2.2.1 u.2.2.2.2.2.2.2.2.2.2.2.2.2.2.1 u.2.2.2.2.2.2.2.2.2.2.2.2.2.2.2.1 u.2.2.2.2.2.2.2.2.2.2.2.2.2.2.2.2.1 u.2.2.2.2.2.2.2.2.2.2.2.2.2.2.2.2.2.1 u.2.2.2.2.2.2.2.2.2.2.2.2.2.2.2.2.2.2.1 u.2.2.2.2.2.2.2.2.2.2.2.2.2.2.2.2.2.2.2.1 u.2.2.2.2.2.2.2.2.2.2.2.2.2.2.2.2.2.2.2.2.1 u.2.2.2.2.2.2.2.2.2.2.2.2.2.2.2.2.2.2.2.2.2.1 u.2.2.2.2.2.2.2.2.2.2.2.2.2.2.2.2.2.2.2.2.2.2.1 u.2.2.2.2.2.2.2.2.2.2.2.2.2.2.2.2.2.2.2.2.2.2.2.1 u.2.2.2.2.2.2.2.2.2.2.2.2.2.2.2.2.2.2.2.2.2.2.2.2.1 u.2.2.2.2.2.2.2.2.2.2.2.2.2.2.2.2.2.2.2.2.2.2.2.2.2.1 u.2.2.2.2.2.2.2.2.2.2.2.2.2.2.2.2.2.2.2.2.2.2.2.2.2.2.1 u.2.2.2.2.2.2.2.2.2.2.2.2.2.2.2.2.2.2.2.2.2.2.2.2.2.2.2.1 u.2.2.2.2.2.2.2.2.2.2.2.2.2.2.2.2.2.2.2.2.2.2.2.2.2.2.2.2.1 u.2.2.2.2.2.2.2.2.2.2.2.2.2.2.2.2.2.2.2.2.2.2.2.2.2.2.2.2.2.1 u.2.2.2.2.2.2.2.2.2.2.2.2.2.2.2.2.2.2.2.2.2.2.2.2.2.2.2.2.2.2.1 u.2.2.2.2.2.2.2.2.2.2.2.2.2.2.2.2.2.2.2.2.2.2.2.2.2.2.2.2.2.2.2.1 u.2.2.2.2.2.2.2.2.2.2.2.2.2.2.2.2.2.2.2.2.2.2.2.2.2.2.2.2.2.2.2.2
def po_BY (post : Int32 → SY → Prop) (J : Int32 → Int32 → Int32 → Int32 → Int32 → Int32 → Int32 → (Nat → Int32) → (Nat → Int32) → (Nat → Int32) → (Nat → Int32) → (Nat → Int32) → (Nat → Int32) → (Nat → Int32) → (Nat → Int32) → (Nat → Int32) → (Nat → Int32) → (Nat → Int32) → (Nat → Int32) → (Nat → Int32) → (Nat → Int32) → (Nat → Int32) → (Nat → Int32) → (Nat → Int32) → (Nat → Int32) → (Nat → Int32) → Prop) (x2 x4 : Int32) (n : Nat) (x3 x5 : Int32) (v : SY) : Prop := wY_run_50 post J x2 x4 n x3 x5 v.1 v.2.1 v.2.2.1 v.2.2.2.1 v.2.2.2.2.1 v.2.2.2.2.2.1 v.2.2.2.2.2.2.1 v.2.2.2.2.2.2.2.1 v.2.2.2.2.2.2.2.2.1 v.2.2.2.2.2.2.2.2.2.1 v.2.2.2.2.2.2.2.2.2.2.1 v.2.2.2.2.2.2.2.2.2.2.2.1 v.2.2.2.2.2.2.2.2.2.2.2.2.1 v.2.2.2.2.2.2.2.2.2.2.2.2.2.1 v.2.2.2.2.2.2.2.2.2.2.2.2.2.2.1 v.2.2.2.2.2.2.2.2.2.2.2.2.2.2.2.1 v.2.2.2.2.2.2.2.2.2.2.2.2.2.2.2.2.1 v.2.2.2.2.2.2.2.2.2.2.2.2.2.2.2.2.2.1 v.2.2.2.2.2.2.2.2.2.2.2.2.2.2.2.2.2.2.1 v.2.2.2.2.2.2.2.2.2.2.2.2.2.2.2.2.2.2.2.1 v.2.2.2.2.2.2.2.2.2.2.2.2.2.2.2.2.2.2.2.2.1 v.2.2.2.2.2.2.2.2.2.2.2.2.2.2.2.2.2.2.2.2.2.1 v.2.2.2.2.2.2.2.2.2.2.2.2.2.2.2.2.2.2.2.2.2.2.1 v.2.2.2.2.2.2.2.2.2.2.2.2.2.2.2.2.2.2.2.2.2.2.2
def po_CY (post : Int32 → SY → Prop) (J : Int32 → Int32 → Int32 → Int32 → Int32 → Int32 → Int32 → (Nat → Int32) → (Nat → Int32) → (Nat → Int32) → (Nat → Int32) → (Nat → Int32) → (Nat → Int32) → (Nat → Int32) → (Nat → Int32) → (Nat → Int32) → (Nat → Int32) → (Nat → Int32) → (Nat → Int32) → (Nat → Int32) → (Nat → Int32) → (Nat → Int32) → (Nat → Int32) → (Nat → Int32) → (Nat → Int32) → (Nat → Int32) → Prop) (x2 x3 x4 : Int32) (n : Nat) (x5 : Int32) (v : SY) : Prop := wY_run_80 post J x2 x3 x4 n x5 v.1 v.2.1 v.2.2.1 v.2.2.2.1 v.2.2.2.2.1 v.2.2.2.2.2.1 v.2.2.2.2.2.2.1 v.2.2.2.2.2.2.2.1 v.2.2.2.2.2.2.2.2.1 v.2.2.2.2.2.2.2.2.2.1 v.2.2.2.2.2.2.2.2.2.2.1 v.2.2.2.2.2.2.2.2.2.2.2.1 v.2.2.2.2.2.2.2.2.2.2.2.2.1 v.2.2.2.2.2.2.2.2.2.2.2.2.2.1 v.2.2.2.2.2.2.2.2.2.2.2.2.2.2.1 v.2.2.2.2.2.2.2.2.2.2.2.2.2.2.2.1 v.2.2.2.2.2.2.2.2.2.2.2.2.2.2.2.2.1 v.2.2.2.2.2.2.2.2.2.2.2.2.2.2.2.2.2.1 v.2.2.2.2.2.2.2.2.2.2.2.2.2.2.2.2.2.2.1 v.2.2.2.2.2.2.2.2.2.2.2.2.2.2.2.2.2.2.2.1 v.2.2.2.2.2.2.2.2.2.2.2.2.2.2.2.2.2.2.2.2.1 v.2.2.2.2.2.2.2.2.2.2.2.2.2.2.2.2.2.2.2.2.2.1 v.2.2.2.2.2.2.2.2.2.2.2.2.2.2.2.2.2.2.2.2.2.2.1 v.2.2.2.2.2.2.2.2.2.2.2.2.2.2.2.2.2.2.2.2.2.2.2
theorem ra_adv : ∀ d k, k + d = 24 → ∀ (u : SX) (v : SY), po_Rel u v → ∃ (c : Nat) (u' : SX) (v' : SY), po_Rel u' v' ∧
    (∀ post x1, post (x1 + nI c) u' → po_AX post (d + 1) x1 (nI k) u) ∧
    (∀ post J x2 x4 x3, (∃ n, po_BY post J x2 x4 n (x3 + nI c) 0 v') → po_AY post J x2 x4 (d + 1) x3 (nI k) v) := by
  intro d
  induction d with
  | zero =>
    intro k hk u v I
    have hk' : k = 24 := by omega
    subst hk'
    refine ⟨0, u, v, I, fun post x1 h => ?_, fun post J x2 x4 x3 h => ?_⟩
    · rw [nI_0, Int32.add_zero] at h
      exact br_t (nI_le (a := 24) (by omega) (by decide)) h
    · rw [nI_0, Int32.add_zero] at h
      exact br_t (nI_le (a := 24) (by omega) (by decide)) h
  | succ d ih =>
    intro k hk u v I
    obtain ⟨r, u1, v1, I1, hX, hY⟩ := lr_advance I (nI k)
    obtain ⟨c, u', v', I', gX, gY⟩ := ih (k + 1) (by omega) u1 v1 I1
    have hn : ¬ (24 : Int32) ≤ nI k := nI_ge (b := 24) (by omega) (by decide)
    by_cases hr : r < 0
    · refine ⟨c, u', v', I', fun post x1 h => ?_, fun post J x2 x4 x3 h => ?_⟩
      · refine br_f hn (hX _ ?_)
        exact br_t hr (nm_r (nI_1 k) (gX post x1 h))
      · refine br_f hn (hY _ ?_)
        exact br_t hr (nm_r (nI_1 k) (gY post J x2 x4 x3 h))
    · have e : ∀ x : Int32, x + 1 + nI c = x + nI (c + 1) := fun x => by
        rw [Int32.add_assoc, Int32.add_comm 1, nI_1]
      refine ⟨c + 1, u', v', I', fun post x1 h => ?_, fun post J x2 x4 x3 h => ?_⟩
      · refine br_f hn (hX _ ?_)
        exact br_f hr (nm_e (nm_r (nI_1 k) (gX post (x1 + 1) (by rw [e]; exact h))))
      · refine br_f hn (hY _ ?_)
        exact br_f hr (nm_e (nm_r (nI_1 k) (gY post J x2 x4 (x3 + 1) (by rw [e]; exact h))))
theorem po_fp {u : SX} {v : SY} (I : po_Rel u v) : ∃ P : Nat, 2 ≤ P ∧ P ≤ 4 ∧ u.2.2.2.2.2.2.2.1 = nI P ∧ v.1 = nI P := po_el (Pr := fun u v => ∃ P : Nat, 2 ≤ P ∧ P ≤ 4 ∧ u.2.2.2.2.2.2.2.1 = nI P ∧ v.1 = nI P) I (fun P _ _ _ _ _ _ _ _ _ _ _ _ _ _ _ _ _ _ _ _ _ _ _ _ _ _ _ _ _ _ _ _ _ H => ⟨P, H.1.1, H.1.2.1, rfl, rfl⟩)
theorem ra_srv : ∀ d k, k + d = 4 → ∀ (u : SX) (v : SY), po_Rel u v → ∃ (c : Nat) (u' : SX) (v' : SY), po_Rel u' v' ∧
    (∀ post x1, post (x1 + nI c) u' → po_BX post (d + 1) x1 (nI k) u) ∧
    (∀ post J x2 x4 x3, (∃ n, po_CY post J x2 (x3 + nI c) x4 n 0 v') → po_BY post J x2 x4 (d + 1) x3 (nI k) v) := by
  intro d
  induction d with
  | zero =>
    intro k hk u v I
    obtain ⟨P, hP1, hP2, eu, ev⟩ := po_fp I
    have hle : nI P ≤ nI k := nI_le (by omega) (by omega)
    refine ⟨0, u, v, I, fun post x1 h => ?_, fun post J x2 x4 x3 h => ?_⟩
    · rw [nI_0, Int32.add_zero] at h
      exact br_t (by rw [eu]; exact hle) h
    · rw [nI_0, Int32.add_zero] at h
      exact br_t (by rw [ev]; exact hle) h
  | succ d ih =>
    intro k hk u v I
    obtain ⟨P, hP1, hP2, eu, ev⟩ := po_fp I
    by_cases hkP : P ≤ k
    · have hle : nI P ≤ nI k := nI_le hkP (by omega)
      refine ⟨0, u, v, I, fun post x1 h => ?_, fun post J x2 x4 x3 h => ?_⟩
      · rw [nI_0, Int32.add_zero] at h
        exact br_t (by rw [eu]; exact hle) h
      · rw [nI_0, Int32.add_zero] at h
        exact br_t (by rw [ev]; exact hle) h
    · have hn : ¬ nI P ≤ nI k := nI_ge (by omega) (by omega)
      obtain ⟨r, u1, v1, I1, hX, hY⟩ := lr_serve I (nI k)
      obtain ⟨c, u', v', I', gX, gY⟩ := ih (k + 1) (by omega) u1 v1 I1
      by_cases hr : r < 0
      · refine ⟨c, u', v', I', fun post x1 h => ?_, fun post J x2 x4 x3 h => ?_⟩
        · refine br_f (by rw [eu]; exact hn) (hX _ ?_)
          exact br_t hr (nm_r (nI_1 k) (gX post x1 h))
        · refine br_f (by rw [ev]; exact hn) (hY _ ?_)
          exact br_t hr (nm_r (nI_1 k) (gY post J x2 x4 x3 h))
      · have e : ∀ x : Int32, x + 1 + nI c = x + nI (c + 1) := fun x => by
          rw [Int32.add_assoc, Int32.add_comm 1, nI_1]
        refine ⟨c + 1, u', v', I', fun post x1 h => ?_, fun post J x2 x4 x3 h => ?_⟩
        · refine br_f (by rw [eu]; exact hn) (hX _ ?_)
          exact br_f hr (nm_e (nm_r (nI_1 k) (gX post (x1 + 1) (by rw [e]; exact h))))
        · refine br_f (by rw [ev]; exact hn) (hY _ ?_)
          exact br_f hr (nm_e (nm_r (nI_1 k) (gY post J x2 x4 (x3 + 1) (by rw [e]; exact h))))
end
section
/-! run: the credits come back; a round; all rounds -/
def po_RP (P : Nat) (u : SX) (v : SY) : Prop := po_Rel u v ∧ 2 ≤ P ∧ P ≤ 4 ∧ u.2.2.2.2.2.2.2.1 = nI P ∧ v.1 = nI P
theorem lr_ret {P : Nat} {u : SX} {v : SY} (I : po_RP P u v) (l k : Nat) (hl : l < 2 * P) (hk : k < 3) : ∃ (r : Int32) (u' : SX) (v' : SY), po_RP P u' v' ∧ (∀ post : Int32 → SX → Prop, post r u' → wpX_returnCredits post u (nI l) (nI k)) ∧ (∀ post : Int32 → SY → Prop, post r v' → wpY_returnCredits post v (nI l) (nI k)) := by
  obtain ⟨I, hP1, hP2, eu, ev⟩ := I
  revert eu ev
  refine po_el (Pr := fun u v => u.2.2.2.2.2.2.2.1 = nI P → v.1 = nI P → ∃ (r : Int32) (u' : SX) (v' : SY), po_RP P u' v' ∧ (∀ post : Int32 → SX → Prop, post r u' → wpX_returnCredits post u (nI l) (nI k)) ∧ (∀ post : Int32 → SY → Prop, post r v' → wpY_returnCredits post v (nI l) (nI k))) I ?_
  intro P' B hh ww mw fn us kd pl ii tg tr ta st ln dx qu nx pv hd tl sv cr tu tm te tf tw dy li rt go gw L H eu _
  have hp := H.1
  have e : P' = P := (nI_eq (by omega) (by omega)).mp eu
  subst e
  obtain ⟨⟨hP1, hP2, hB1, hB2⟩, hPK, hLN, hDL, hSV, hCR, hT1, hT2, hT3, hDT⟩ := H
  refine ⟨cr (po_ix l k 0 2), (0, 1, 2, 3, 0, 1, 2, nI P', nI B, mw, fn, us, kd, pl, ii, tg, tr, ta, st, ln, dx, qu, nx, pv, hd, tl, sv, po_rc cr l k, tu, tm, te, tf, tw), (nI P', hh, ww, nI B, nI L.length, mw, fn, us, kd, pl, ii, tg, tr, ta, st, ln, dy, li, upd (upd rt ((l * 3 + k) * 2) 0) ((l * 3 + k) * 2 + 1) 0, tu, te, tf, go, gw), ⟨po_mk ⟨⟨hP1, hP2, hB1, hB2⟩, hPK, hLN, hDL, hSV, po_CS3 hCR hk, hT1, hT2, hT3, hDT⟩, hP1, hP2, rfl, rfl⟩, fun post h => xr_return hP2 hl hk h, fun post h => yr_return hP2 hl hk ?_⟩
  have := (hCR l k 0 hl hk (by omega)).2.1
  rw [this] at h
  exact h
def po_DX (post : SX → Prop) (J : Int32 → Int32 → Int32 → Int32 → Int32 → Int32 → Int32 → Int32 → Int32 → Int32 → (Nat → Int32) → (Nat → Int32) → (Nat → Int32) → (Nat → Int32) → (Nat → Int32) → (Nat → Int32) → (Nat → Int32) → (Nat → Int32) → (Nat → Int32) → (Nat → Int32) → (Nat → Int32) → (Nat → Int32) → (Nat → Int32) → (Nat → Int32) → (Nat → Int32) → (Nat → Int32) → (Nat → Int32) → (Nat → Int32) → (Nat → Int32) → (Nat → Int32) → (Nat → Int32) → (Nat → Int32) → (Nat → Int32) → (Nat → Int32) → Prop) (x1 : Int32) (n : Nat) (x2 : Int32) (u : SX) : Prop := wX_returnAll_14 post J x1 n x2 u.1 u.2.1 u.2.2.1 u.2.2.2.1 u.2.2.2.2.1 u.2.2.2.2.2.1 u.2.2.2.2.2.2.1 u.2.2.2.2.2.2.2.1 u.2.2.2.2.2.2.2.2.1 u.2.2.2.2.2.2.2.2.2.1 u.2.2.2.2.2.2.2.2.2.2.1 u.2.2.2.2.2.2.2.2.2.2.2.1 u.2.2.2.2.2.2.2.2.2.2.2.2.1 u.2.2.2.2.2.2.2.2.2.2.2.2.2.1 u.2.2.2.2.2.2.2.2.2.2.2.2.2.2.1 u.2.2.2.2.2.2.2.2.2.2.2.2.2.2.2.1 u.2.2.2.2.2.2.2.2.2.2.2.2.2.2.2.2.1 u.2.2.2.2.2.2.2.2.2.2.2.2.2.2.2.2.2.1 u.2.2.2.2.2.2.2.2.2.2.2.2.2.2.2.2.2.2.1 u.2.2.2.2.2.2.2.2.2.2.2.2.2.2.2.2.2.2.2.1 u.2.2.2.2.2.2.2.2.2.2.2.2.2.2.2.2.2.2.2.2.1 u.2.2.2.2.2.2.2.2.2.2.2.2.2.2.2.2.2.2.2.2.2.1 u.2.2.2.2.2.2.2.2.2.2.2.2.2.2.2.2.2.2.2.2.2.2.1 u.2.2.2.2.2.2.2.2.2.2.2.2.2.2.2.2.2.2.2.2.2.2.2.1 u.2.2.2.2.2.2.2.2.2.2.2.2.2.2.2.2.2.2.2.2.2.2.2.2.1 u.2.2.2.2.2.2.2.2.2.2.2.2.2.2.2.2.2.2.2.2.2.2.2.2.2.1 u.2.2.2.2.2.2.2.2.2.2.2.2.2.2.2.2.2.2.2.2.2.2.2.2.2.2.1 u.2.2.2.2.2.2.2.2.2.2.2.2.2.2.2.2.2.2.2.2.2.2.2.2.2.2.2.1 u.2.2.2.2.2.2.2.2.2.2.2.2.2.2.2.2.2.2.2.2.2.2.2.2.2.2.2.2.1 u.2.2.2.2.2.2.2.2.2.2.2.2.2.2.2.2.2.2.2.2.2.2.2.2.2.2.2.2.2.1 u.2.2.2.2.2.2.2.2.2.2.2.2.2.2.2.2.2.2.2.2.2.2.2.2.2.2.2.2.2.2.1 u.2.2.2.2.2.2.2.2.2.2.2.2.2.2.2.2.2.2.2.2.2.2.2.2.2.2.2.2.2.2.2.1 u.2.2.2.2.2.2.2.2.2.2.2.2.2.2.2.2.2.2.2.2.2.2.2.2.2.2.2.2.2.2.2.2
def po_EX (post : SX → Prop) (n : Nat) (x1 : Int32) (u : SX) : Prop := wX_returnAll_2 post n x1 u.1 u.2.1 u.2.2.1 u.2.2.2.1 u.2.2.2.2.1 u.2.2.2.2.2.1 u.2.2.2.2.2.2.1 u.2.2.2.2.2.2.2.1 u.2.2.2.2.2.2.2.2.1 u.2.2.2.2.2.2.2.2.2.1 u.2.2.2.2.2.2.2.2.2.2.1 u.2.2.2.2.2.2.2.2.2.2.2.1 u.2.2.2.2.2.2.2.2.2.2.2.2.1 u.2.2.2.2.2.2.2.2.2.2.2.2.2.1 u.2.2.2.2.2.2.2.2.2.2.2.2.2.2.1 u.2.2.2.2.2.2.2.2.2.2.2.2.2.2.2.1 u.2.2.2.2.2.2.2.2.2.2.2.2.2.2.2.2.1 u.2.2.2.2.2.2.2.2.2.2.2.2.2.2.2.2.2.1 u.2.2.2.2.2.2.2.2.2.2.2.2.2.2.2.2.2.2.1 u.2.2.2.2.2.2.2.2.2.2.2.2.2.2.2.2.2.2.2.1 u.2.2.2.2.2.2.2.2.2.2.2.2.2.2.2.2.2.2.2.2.1 u.2.2.2.2.2.2.2.2.2.2.2.2.2.2.2.2.2.2.2.2.2.1 u.2.2.2.2.2.2.2.2.2.2.2.2.2.2.2.2.2.2.2.2.2.2.1 u.2.2.2.2.2.2.2.2.2.2.2.2.2.2.2.2.2.2.2.2.2.2.2.1 u.2.2.2.2.2.2.2.2.2.2.2.2.2.2.2.2.2.2.2.2.2.2.2.2.1 u.2.2.2.2.2.2.2.2.2.2.2.2.2.2.2.2.2.2.2.2.2.2.2.2.2.1 u.2.2.2.2.2.2.2.2.2.2.2.2.2.2.2.2.2.2.2.2.2.2.2.2.2.2.1 u.2.2.2.2.2.2.2.2.2.2.2.2.2.2.2.2.2.2.2.2.2.2.2.2.2.2.2.1 u.2.2.2.2.2.2.2.2.2.2.2.2.2.2.2.2.2.2.2.2.2.2.2.2.2.2.2.2.1 u.2.2.2.2.2.2.2.2.2.2.2.2.2.2.2.2.2.2.2.2.2.2.2.2.2.2.2.2.2.1 u.2.2.2.2.2.2.2.2.2.2.2.2.2.2.2.2.2.2.2.2.2.2.2.2.2.2.2.2.2.2.1 u.2.2.2.2.2.2.2.2.2.2.2.2.2.2.2.2.2.2.2.2.2.2.2.2.2.2.2.2.2.2.2.1 u.2.2.2.2.2.2.2.2.2.2.2.2.2.2.2.2.2.2.2.2.2.2.2.2.2.2.2.2.2.2.2.2
theorem rb_k {P l : Nat} (hl : l < 2 * P) : ∀ d k, k + d = 3 → ∀ (u : SX) (v : SY), po_RP P u v → ∃ (u' : SX) (v' : SY), po_RP P u' v' ∧
    (∀ post n, po_EX post n (nI (l + 1)) u' → po_DX post (wX_returnAll_2 post n) (nI l) (d + 1) (nI k) u) ∧
    (∀ post J x2 x3 x4 n, po_CY post J x2 x3 x4 n (nI (l * 3 + 3)) v' → po_CY post J x2 x3 x4 (n + d) (nI (l * 3 + k)) v) := by
  intro d
  induction d with
  | zero =>
    intro k hk u v I
    have hk' : k = 3 := by omega
    subst hk'
    exact ⟨u, v, I, fun post n h => br_t (nI_le (a := 3) (by omega) (by decide)) (nm_r (nI_1 l) h), fun post J x2 x3 x4 n h => h⟩
  | succ d ih =>
    intro k hk u v I
    obtain ⟨r, u1, v1, I1, hX, hY⟩ := lr_ret I l k hl (by omega)
    obtain ⟨u', v', I', gX, gY⟩ := ih (k + 1) (by omega) u1 v1 I1
    obtain ⟨_, hP1, hP2, eu, ev⟩ := I
    refine ⟨u', v', I', fun post n h => ?_, fun post J x2 x3 x4 n h => ?_⟩
    · refine br_f (nI_ge (b := 3) (by omega) (by decide)) (hX _ ?_)
      exact nm_r (nI_1 k) (gX post n h)
    · have e1 : nI (l * 3 + k) / 3 = nI l := by rw [po_d3 (by omega)]; exact congrArg nI (by omega)
      have e2 : nI (l * 3 + k) - nI (l * 3 + k) / 3 * 3 = nI k := by rw [po_r3 (by omega)]; exact congrArg nI (by omega)
      have hn : ¬ (6 * v.1) ≤ nI (l * 3 + k) := by
        rw [ev, po_6m]; exact nI_ge (by omega) (by omega)
      show wY_run_80 post J x2 x3 x4 ((n + d) + 1) (nI (l * 3 + k)) v.1 v.2.1 v.2.2.1 v.2.2.2.1 v.2.2.2.2.1 v.2.2.2.2.2.1 v.2.2.2.2.2.2.1 v.2.2.2.2.2.2.2.1 v.2.2.2.2.2.2.2.2.1 v.2.2.2.2.2.2.2.2.2.1 v.2.2.2.2.2.2.2.2.2.2.1 v.2.2.2.2.2.2.2.2.2.2.2.1 v.2.2.2.2.2.2.2.2.2.2.2.2.1 v.2.2.2.2.2.2.2.2.2.2.2.2.2.1 v.2.2.2.2.2.2.2.2.2.2.2.2.2.2.1 v.2.2.2.2.2.2.2.2.2.2.2.2.2.2.2.1 v.2.2.2.2.2.2.2.2.2.2.2.2.2.2.2.2.1 v.2.2.2.2.2.2.2.2.2.2.2.2.2.2.2.2.2.1 v.2.2.2.2.2.2.2.2.2.2.2.2.2.2.2.2.2.2.1 v.2.2.2.2.2.2.2.2.2.2.2.2.2.2.2.2.2.2.2.1 v.2.2.2.2.2.2.2.2.2.2.2.2.2.2.2.2.2.2.2.2.1 v.2.2.2.2.2.2.2.2.2.2.2.2.2.2.2.2.2.2.2.2.2.1 v.2.2.2.2.2.2.2.2.2.2.2.2.2.2.2.2.2.2.2.2.2.2.1 v.2.2.2.2.2.2.2.2.2.2.2.2.2.2.2.2.2.2.2.2.2.2.2
      rw [wY_run_80]
      dsimp only
      rw [e2, e1]
      refine br_f hn (And.intro po_n3 (And.intro po_n3 (hY _ ?_)))
      exact nm_r (nI_1 (l * 3 + k)) (gY post J x2 x3 x4 n h)
theorem rb_l {P : Nat} : ∀ d l, l + d = 2 * P → ∀ (u : SX) (v : SY), po_RP P u v → ∃ (u' : SX) (v' : SY), po_RP P u' v' ∧
    (∀ post, post u' → po_EX post (d + 1) (nI l) u) ∧
    (∀ post J x2 x3 x4, J x3 (x4 + 1) v'.1 v'.2.1 v'.2.2.1 v'.2.2.2.1 v'.2.2.2.2.1 v'.2.2.2.2.2.1 v'.2.2.2.2.2.2.1 v'.2.2.2.2.2.2.2.1 v'.2.2.2.2.2.2.2.2.1 v'.2.2.2.2.2.2.2.2.2.1 v'.2.2.2.2.2.2.2.2.2.2.1 v'.2.2.2.2.2.2.2.2.2.2.2.1 v'.2.2.2.2.2.2.2.2.2.2.2.2.1 v'.2.2.2.2.2.2.2.2.2.2.2.2.2.1 v'.2.2.2.2.2.2.2.2.2.2.2.2.2.2.1 v'.2.2.2.2.2.2.2.2.2.2.2.2.2.2.2.1 v'.2.2.2.2.2.2.2.2.2.2.2.2.2.2.2.2.1 v'.2.2.2.2.2.2.2.2.2.2.2.2.2.2.2.2.2.1 v'.2.2.2.2.2.2.2.2.2.2.2.2.2.2.2.2.2.2.1 v'.2.2.2.2.2.2.2.2.2.2.2.2.2.2.2.2.2.2.2.1 v'.2.2.2.2.2.2.2.2.2.2.2.2.2.2.2.2.2.2.2.2.1 v'.2.2.2.2.2.2.2.2.2.2.2.2.2.2.2.2.2.2.2.2.2.1 v'.2.2.2.2.2.2.2.2.2.2.2.2.2.2.2.2.2.2.2.2.2.2.1 v'.2.2.2.2.2.2.2.2.2.2.2.2.2.2.2.2.2.2.2.2.2.2.2 → po_CY post J x2 x3 x4 (3 * d + 1) (nI (l * 3)) v) := by
  intro d
  induction d with
  | zero =>
    intro l hl u v I
    have I0 := I
    obtain ⟨_, hP1, hP2, eu, ev⟩ := I
    have h1 : (2 * u.2.2.2.2.2.2.2.1) ≤ nI l := by
      rw [eu, po_2m]; exact nI_le (by omega) (by omega)
    have h2 : (6 * v.1) ≤ nI (l * 3) := by
      rw [ev, po_6m]; exact nI_le (by omega) (by omega)
    exact ⟨u, v, I0, fun post h => br_t h1 h, fun post J x2 x3 x4 h => br_t h2 (nm_e h)⟩
  | succ d ih =>
    intro l hl u v I
    obtain ⟨u1, v1, I1, hX, hY⟩ := rb_k (P := P) (l := l) (by omega) 3 0 (by omega) u v I
    obtain ⟨u', v', I', gX, gY⟩ := ih (l + 1) (by omega) u1 v1 I1
    obtain ⟨_, hP1, hP2, eu, ev⟩ := I
    have h1 : ¬ (2 * u.2.2.2.2.2.2.2.1) ≤ nI l := by
      rw [eu, po_2m]; exact nI_ge (by omega) (by omega)
    refine ⟨u', v', I', fun post h => ?_, fun post J x2 x3 x4 h => ?_⟩
    · exact br_f h1 ⟨4, hX post (d + 1) (gX post h)⟩
    · have g := gY post J x2 x3 x4 h
      have e : (l + 1) * 3 = l * 3 + 3 := by omega
      rw [e] at g
      have g2 := hY post J x2 x3 x4 (3 * d + 1) g
      have e2 : 3 * d + 1 + 3 = 3 * (d + 1) + 1 := by omega
      rw [e2] at g2
      exact g2
theorem rb_all (u : SX) (v : SY) (I : po_Rel u v) : ∃ (u' : SX) (v' : SY), po_Rel u' v' ∧ (∀ post, post u' → wpX_returnAll post u) ∧ (∀ post J x2 x3 x4, J x3 (x4 + 1) v'.1 v'.2.1 v'.2.2.1 v'.2.2.2.1 v'.2.2.2.2.1 v'.2.2.2.2.2.1 v'.2.2.2.2.2.2.1 v'.2.2.2.2.2.2.2.1 v'.2.2.2.2.2.2.2.2.1 v'.2.2.2.2.2.2.2.2.2.1 v'.2.2.2.2.2.2.2.2.2.2.1 v'.2.2.2.2.2.2.2.2.2.2.2.1 v'.2.2.2.2.2.2.2.2.2.2.2.2.1 v'.2.2.2.2.2.2.2.2.2.2.2.2.2.1 v'.2.2.2.2.2.2.2.2.2.2.2.2.2.2.1 v'.2.2.2.2.2.2.2.2.2.2.2.2.2.2.2.1 v'.2.2.2.2.2.2.2.2.2.2.2.2.2.2.2.2.1 v'.2.2.2.2.2.2.2.2.2.2.2.2.2.2.2.2.2.1 v'.2.2.2.2.2.2.2.2.2.2.2.2.2.2.2.2.2.2.1 v'.2.2.2.2.2.2.2.2.2.2.2.2.2.2.2.2.2.2.2.1 v'.2.2.2.2.2.2.2.2.2.2.2.2.2.2.2.2.2.2.2.2.1 v'.2.2.2.2.2.2.2.2.2.2.2.2.2.2.2.2.2.2.2.2.2.1 v'.2.2.2.2.2.2.2.2.2.2.2.2.2.2.2.2.2.2.2.2.2.2.1 v'.2.2.2.2.2.2.2.2.2.2.2.2.2.2.2.2.2.2.2.2.2.2.2 → ∃ n, po_CY post J x2 x3 x4 n 0 v) := by
  obtain ⟨P, hP1, hP2, eu, ev⟩ := po_fp I
  obtain ⟨u', v', I', gX, gY⟩ := rb_l (P := P) (2 * P) 0 (by omega) u v ⟨I, hP1, hP2, eu, ev⟩
  refine ⟨u', v', I'.1, fun post h => ?_, fun post J x2 x3 x4 h => ⟨3 * (2 * P) + 1, gY post J x2 x3 x4 h⟩⟩
  exact ⟨2 * P + 1, gX post h⟩
def po_FX (post : Int32 → SX → Prop) (x2 : Int32) (n : Nat) (x3 x4 : Int32) (u : SX) : Prop := wX_run_13 post x2 n x3 x4 u.1 u.2.1 u.2.2.1 u.2.2.2.1 u.2.2.2.2.1 u.2.2.2.2.2.1 u.2.2.2.2.2.2.1 u.2.2.2.2.2.2.2.1 u.2.2.2.2.2.2.2.2.1 u.2.2.2.2.2.2.2.2.2.1 u.2.2.2.2.2.2.2.2.2.2.1 u.2.2.2.2.2.2.2.2.2.2.2.1 u.2.2.2.2.2.2.2.2.2.2.2.2.1 u.2.2.2.2.2.2.2.2.2.2.2.2.2.1 u.2.2.2.2.2.2.2.2.2.2.2.2.2.2.1 u.2.2.2.2.2.2.2.2.2.2.2.2.2.2.2.1 u.2.2.2.2.2.2.2.2.2.2.2.2.2.2.2.2.1 u.2.2.2.2.2.2.2.2.2.2.2.2.2.2.2.2.2.1 u.2.2.2.2.2.2.2.2.2.2.2.2.2.2.2.2.2.2.1 u.2.2.2.2.2.2.2.2.2.2.2.2.2.2.2.2.2.2.2.1 u.2.2.2.2.2.2.2.2.2.2.2.2.2.2.2.2.2.2.2.2.1 u.2.2.2.2.2.2.2.2.2.2.2.2.2.2.2.2.2.2.2.2.2.1 u.2.2.2.2.2.2.2.2.2.2.2.2.2.2.2.2.2.2.2.2.2.2.1 u.2.2.2.2.2.2.2.2.2.2.2.2.2.2.2.2.2.2.2.2.2.2.2.1 u.2.2.2.2.2.2.2.2.2.2.2.2.2.2.2.2.2.2.2.2.2.2.2.2.1 u.2.2.2.2.2.2.2.2.2.2.2.2.2.2.2.2.2.2.2.2.2.2.2.2.2.1 u.2.2.2.2.2.2.2.2.2.2.2.2.2.2.2.2.2.2.2.2.2.2.2.2.2.2.1 u.2.2.2.2.2.2.2.2.2.2.2.2.2.2.2.2.2.2.2.2.2.2.2.2.2.2.2.1 u.2.2.2.2.2.2.2.2.2.2.2.2.2.2.2.2.2.2.2.2.2.2.2.2.2.2.2.2.1 u.2.2.2.2.2.2.2.2.2.2.2.2.2.2.2.2.2.2.2.2.2.2.2.2.2.2.2.2.2.1 u.2.2.2.2.2.2.2.2.2.2.2.2.2.2.2.2.2.2.2.2.2.2.2.2.2.2.2.2.2.2.1 u.2.2.2.2.2.2.2.2.2.2.2.2.2.2.2.2.2.2.2.2.2.2.2.2.2.2.2.2.2.2.2.1 u.2.2.2.2.2.2.2.2.2.2.2.2.2.2.2.2.2.2.2.2.2.2.2.2.2.2.2.2.2.2.2.2
def po_FY (post : Int32 → SY → Prop) (x2 : Int32) (n : Nat) (x3 x4 : Int32) (v : SY) : Prop := wY_run_13 post x2 n x3 x4 v.1 v.2.1 v.2.2.1 v.2.2.2.1 v.2.2.2.2.1 v.2.2.2.2.2.1 v.2.2.2.2.2.2.1 v.2.2.2.2.2.2.2.1 v.2.2.2.2.2.2.2.2.1 v.2.2.2.2.2.2.2.2.2.1 v.2.2.2.2.2.2.2.2.2.2.1 v.2.2.2.2.2.2.2.2.2.2.2.1 v.2.2.2.2.2.2.2.2.2.2.2.2.1 v.2.2.2.2.2.2.2.2.2.2.2.2.2.1 v.2.2.2.2.2.2.2.2.2.2.2.2.2.2.1 v.2.2.2.2.2.2.2.2.2.2.2.2.2.2.2.1 v.2.2.2.2.2.2.2.2.2.2.2.2.2.2.2.2.1 v.2.2.2.2.2.2.2.2.2.2.2.2.2.2.2.2.2.1 v.2.2.2.2.2.2.2.2.2.2.2.2.2.2.2.2.2.2.1 v.2.2.2.2.2.2.2.2.2.2.2.2.2.2.2.2.2.2.2.1 v.2.2.2.2.2.2.2.2.2.2.2.2.2.2.2.2.2.2.2.2.1 v.2.2.2.2.2.2.2.2.2.2.2.2.2.2.2.2.2.2.2.2.2.1 v.2.2.2.2.2.2.2.2.2.2.2.2.2.2.2.2.2.2.2.2.2.2.1 v.2.2.2.2.2.2.2.2.2.2.2.2.2.2.2.2.2.2.2.2.2.2.2
theorem rc_round (u : SX) (v : SY) (I : po_Rel u v) : ∃ (c : Nat) (u' : SX) (v' : SY), po_Rel u' v' ∧
    (∀ post x2 n x3 x4, ¬ x2 ≤ x4 → po_FX post x2 n (x3 + nI c) (x4 + 1) u' → po_FX post x2 (n + 1) x3 x4 u) ∧
    (∀ post x2 n x3 x4, ¬ x2 ≤ x4 → po_FY post x2 n (x3 + nI c) (x4 + 1) v' → po_FY post x2 (n + 1) x3 x4 v) := by
  obtain ⟨c1, u1, v1, I1, aX, aY⟩ := ra_adv 24 0 (by omega) u v I
  obtain ⟨c2, u2, v2, I2, bX, bY⟩ := ra_srv 4 0 (by omega) u1 v1 I1
  obtain ⟨u3, v3, I3, dX, dY⟩ := rb_all u2 v2 I2
  have e : ∀ x : Int32, x + nI c1 + nI c2 = x + nI (c1 + c2) := fun x => by rw [Int32.add_assoc, nI_add]
  refine ⟨c1 + c2, u3, v3, I3, fun post x2 n x3 x4 hn h => ?_, fun post x2 n x3 x4 hn h => ?_⟩
  · refine br_f hn ⟨25, aX _ 0 (nm_r (e' := x3 + nI c1) (by rw [Int32.zero_add]) ?_)⟩
    refine ⟨5, bX _ 0 (nm_r (e' := x3 + nI (c1 + c2)) (by rw [Int32.zero_add]; exact e x3) ?_)⟩
    exact dX _ (nm_e h)
  · refine br_f hn ⟨25, aY _ _ _ _ _ ⟨5, bY _ _ _ _ _ (dY _ _ _ _ _ ?_)⟩⟩
    rw [e]
    exact h
theorem rc_all {m : Nat} (hm : m ≤ 4) : ∀ d k, k + d = m → ∀ (u : SX) (v : SY), po_Rel u v → ∃ (c : Nat) (u' : SX) (v' : SY), po_Rel u' v' ∧
    (∀ post x3, post (x3 + nI c) u' → po_FX post (nI m) (d + 1) x3 (nI k) u) ∧
    (∀ post x3, post (x3 + nI c) v' → po_FY post (nI m) (d + 1) x3 (nI k) v) := by
  intro d
  induction d with
  | zero =>
    intro k hk u v I
    have hk' : k = m := by omega
    subst hk'
    have hle : nI k ≤ nI k := nI_le (Nat.le_refl _) (by omega)
    refine ⟨0, u, v, I, fun post x3 h => ?_, fun post x3 h => ?_⟩
    · rw [nI_0, Int32.add_zero] at h
      exact br_t hle h
    · rw [nI_0, Int32.add_zero] at h
      exact br_t hle h
  | succ d ih =>
    intro k hk u v I
    obtain ⟨c1, u1, v1, I1, hX, hY⟩ := rc_round u v I
    obtain ⟨c, u', v', I', gX, gY⟩ := ih (k + 1) (by omega) u1 v1 I1
    have hn : ¬ nI m ≤ nI k := nI_ge (by omega) (by omega)
    have e : ∀ x : Int32, x + nI c1 + nI c = x + nI (c1 + c) := fun x => by rw [Int32.add_assoc, nI_add]
    refine ⟨c1 + c, u', v', I', fun post x3 h => ?_, fun post x3 h => ?_⟩
    · refine hX _ _ _ _ _ hn ?_
      rw [nI_1]
      exact gX post _ (by rw [e]; exact h)
    · refine hY _ _ _ _ _ hn ?_
      rw [nI_1]
      exact gY post _ (by rw [e]; exact h)
theorem lr_run {u : SX} {v : SY} (I : po_Rel u v) (v1 : Int32) : po_Lk (fun post => wpX_run post u v1) (fun post => wpY_run post v v1) := by
  obtain ⟨m, m1, m2, cX, cY⟩ := cl_c v1 (lo := 1) (hi := 4) (by omega) (by omega)
  obtain ⟨c, u', v', I', gX, gY⟩ := rc_all m2 m 0 (by omega) u v I
  refine ⟨nI c, u', v', I', fun post h => ?_, fun post h => ?_⟩
  · have h' : post (0 + nI c) u' := by rw [Int32.zero_add]; exact h
    unfold wpX_run
    dsimp only
    exact cX _ _ ⟨m + 1, gX post 0 h'⟩
  · have h' : post (0 + nI c) v' := by rw [Int32.zero_add]; exact h
    unfold wpY_run
    dsimp only
    exact cY _ _ ⟨m + 1, gY post 0 h'⟩
end
section
/-! what is owed -/
/-- the relation at the head of a turn -/
def i_Rel (_ : Nat) (u : SX) (v : SY) : Prop := po_Rel u v
theorem i_up {k : Nat} {u : SX} {v : SY} (h : i_Rel k u v) : i_Rel (k + 5) u v := h
theorem i_vc0 (k0 : Int32) (k1 : Int32) (k2 : Int32) (k3 : Int32) : wpX_init (fun u => wpY_init (fun v => i_Rel 4 u v) k0 k1 k2 k3) k0 k1 k2 k3 := po_init k0 k1 k2 k3
theorem i_vc_attributes {k : Nat} {u : SX} {v : SY} (I : i_Rel k u v) (hk : k + 5 ≤ 2564) (v1 : Int32) (v2 : Int32) : wpX_attributes (fun r u' => wpY_attributes (fun r' v' => r' = r ∧ i_Rel (k + 5) u' v') v v1 v2) u v1 v2 := by
  obtain ⟨r, u', v', hR, hX, hY⟩ := po_el (Pr := fun u v => po_Lk (fun post => wpX_attributes post u v1 v2) (fun post => wpY_attributes post v v1 v2)) I (fun _ _ _ _ _ _ _ _ _ _ _ _ _ _ _ _ _ _ _ _ _ _ _ _ _ _ _ _ _ _ _ _ _ _ H => lk_attributes H v1 v2)
  exact hX _ (hY _ ⟨rfl, hR⟩)
theorem i_vc_store {k : Nat} {u : SX} {v : SY} (I : i_Rel k u v) (hk : k + 5 ≤ 2564) (v1 : Int32) (v2 : Int32) : wpX_store (fun r u' => wpY_store (fun r' v' => r' = r ∧ i_Rel (k + 5) u' v') v v1 v2) u v1 v2 := by
  obtain ⟨r, u', v', hR, hX, hY⟩ := po_el (Pr := fun u v => po_Lk (fun post => wpX_store post u v1 v2) (fun post => wpY_store post v v1 v2)) I (fun _ _ _ _ _ _ _ _ _ _ _ _ _ _ _ _ _ _ _ _ _ _ _ _ _ _ _ _ _ _ _ _ _ _ H => lk_store H v1 v2)
  exact hX _ (hY _ ⟨rfl, hR⟩)
theorem i_vc_post {k : Nat} {u : SX} {v : SY} (I : i_Rel k u v) (hk : k + 5 ≤ 2564) (v1 : Int32) (v2 : Int32) (v3 : Int32) (v4 : Int32) : wpX_post (fun r u' => wpY_post (fun r' v' => r' = r ∧ i_Rel (k + 5) u' v') v v1 v2 v3 v4) u v1 v2 v3 v4 := by
  obtain ⟨r, u', v', hR, hX, hY⟩ := po_el (Pr := fun u v => po_Lk (fun post => wpX_post post u v1 v2 v3 v4) (fun post => wpY_post post v v1 v2 v3 v4)) I (fun _ _ _ _ _ _ _ _ _ _ _ _ _ _ _ _ _ _ _ _ _ _ _ _ _ _ _ _ _ _ _ _ _ _ H => lk_post H v1 v2 v3 v4)
  exact hX _ (hY _ ⟨rfl, hR⟩)
theorem i_vc_read {k : Nat} {u : SX} {v : SY} (I : i_Rel k u v) (hk : k + 5 ≤ 2564) (v1 : Int32) (v2 : Int32) (v3 : Int32) (v4 : Int32) : wpX_read (fun r u' => wpY_read (fun r' v' => r' = r ∧ i_Rel (k + 5) u' v') v v1 v2 v3 v4) u v1 v2 v3 v4 := by
  obtain ⟨r, u', v', hR, hX, hY⟩ := po_el (Pr := fun u v => po_Lk (fun post => wpX_read post u v1 v2 v3 v4) (fun post => wpY_read post v v1 v2 v3 v4)) I (fun _ _ _ _ _ _ _ _ _ _ _ _ _ _ _ _ _ _ _ _ _ _ _ _ _ _ _ _ _ _ _ _ _ _ H => lk_read H v1 v2 v3 v4)
  exact hX _ (hY _ ⟨rfl, hR⟩)
theorem i_vc_advance {k : Nat} {u : SX} {v : SY} (I : i_Rel k u v) (hk : k + 5 ≤ 2564) (v1 : Int32) : wpX_advance (fun r u' => wpY_advance (fun r' v' => r' = r ∧ i_Rel (k + 5) u' v') v v1) u v1 := by
  obtain ⟨r, u', v', hR, hX, hY⟩ := po_el (Pr := fun u v => po_Lk (fun post => wpX_advance post u v1) (fun post => wpY_advance post v v1)) I (fun _ _ _ _ _ _ _ _ _ _ _ _ _ _ _ _ _ _ _ _ _ _ _ _ _ _ _ _ _ _ _ _ _ _ H => lk_advance H v1)
  exact hX _ (hY _ ⟨rfl, hR⟩)
theorem i_vc_serve {k : Nat} {u : SX} {v : SY} (I : i_Rel k u v) (hk : k + 5 ≤ 2564) (v1 : Int32) : wpX_serve (fun r u' => wpY_serve (fun r' v' => r' = r ∧ i_Rel (k + 5) u' v') v v1) u v1 := by
  obtain ⟨r, u', v', hR, hX, hY⟩ := po_el (Pr := fun u v => po_Lk (fun post => wpX_serve post u v1) (fun post => wpY_serve post v v1)) I (fun _ _ _ _ _ _ _ _ _ _ _ _ _ _ _ _ _ _ _ _ _ _ _ _ _ _ _ _ _ _ _ _ _ _ H => lk_serve H v1)
  exact hX _ (hY _ ⟨rfl, hR⟩)
theorem i_vc_returnCredits {k : Nat} {u : SX} {v : SY} (I : i_Rel k u v) (hk : k + 5 ≤ 2564) (v1 : Int32) (v2 : Int32) : wpX_returnCredits (fun r u' => wpY_returnCredits (fun r' v' => r' = r ∧ i_Rel (k + 5) u' v') v v1 v2) u v1 v2 := by
  obtain ⟨r, u', v', hR, hX, hY⟩ := po_el (Pr := fun u v => po_Lk (fun post => wpX_returnCredits post u v1 v2) (fun post => wpY_returnCredits post v v1 v2)) I (fun _ _ _ _ _ _ _ _ _ _ _ _ _ _ _ _ _ _ _ _ _ _ _ _ _ _ _ _ _ _ _ _ _ _ H => lk_returnCredits H v1 v2)
  exact hX _ (hY _ ⟨rfl, hR⟩)
theorem i_vc_release {k : Nat} {u : SX} {v : SY} (I : i_Rel k u v) (hk : k + 5 ≤ 2564) (v1 : Int32) (v2 : Int32) : wpX_release (fun r u' => wpY_release (fun r' v' => r' = r ∧ i_Rel (k + 5) u' v') v v1 v2) u v1 v2 := by
  obtain ⟨r, u', v', hR, hX, hY⟩ := po_el (Pr := fun u v => po_Lk (fun post => wpX_release post u v1 v2) (fun post => wpY_release post v v1 v2)) I (fun _ _ _ _ _ _ _ _ _ _ _ _ _ _ _ _ _ _ _ _ _ _ _ _ _ _ _ _ _ _ _ _ _ _ H => lk_release H v1 v2)
  exact hX _ (hY _ ⟨rfl, hR⟩)
theorem i_vc_run {k : Nat} {u : SX} {v : SY} (I : i_Rel k u v) (hk : k + 5 ≤ 2564) (v1 : Int32) : wpX_run (fun r u' => wpY_run (fun r' v' => r' = r ∧ i_Rel (k + 5) u' v') v v1) u v1 := by
  obtain ⟨r, u', v', hR, hX, hY⟩ := lr_run I v1
  exact hX _ (hY _ ⟨rfl, hR⟩)
theorem i_vc_memory {k : Nat} {u : SX} {v : SY} (I : i_Rel k u v) (hk : k + 5 ≤ 2564) (v1 : Int32) : wpX_memory (fun r => wpY_memory (fun r' => r' = r ∧ i_Rel (k + 5) u v) v v1) u v1 := by
  obtain ⟨r, hX, hY⟩ := po_el (Pr := fun u v => po_Lr (fun post => wpX_memory post u v1) (fun post => wpY_memory post v v1) ) I (fun _ _ _ _ _ _ _ _ _ _ _ _ _ _ _ _ _ _ _ _ _ _ _ _ _ _ _ _ _ _ _ _ _ _ H => lk_memory H v1)
  exact hX _ (hY _ ⟨rfl, I⟩)
theorem i_vc_request {k : Nat} {u : SX} {v : SY} (I : i_Rel k u v) (hk : k + 5 ≤ 2564) (v1 : Int32) (v2 : Int32) (v3 : Int32) : wpX_request (fun r => wpY_request (fun r' => r' = r ∧ i_Rel (k + 5) u v) v v1 v2 v3) u v1 v2 v3 := by
  obtain ⟨r, hX, hY⟩ := po_el (Pr := fun u v => po_Lr (fun post => wpX_request post u v1 v2 v3) (fun post => wpY_request post v v1 v2 v3) ) I (fun _ _ _ _ _ _ _ _ _ _ _ _ _ _ _ _ _ _ _ _ _ _ _ _ _ _ _ _ _ _ _ _ _ _ H => lk_request H v1 v2 v3)
  exact hX _ (hY _ ⟨rfl, I⟩)
theorem i_vc_received {k : Nat} {u : SX} {v : SY} (I : i_Rel k u v) (hk : k + 5 ≤ 2564) (v1 : Int32) (v2 : Int32) (v3 : Int32) : wpX_received (fun r => wpY_received (fun r' => r' = r ∧ i_Rel (k + 5) u v) v v1 v2 v3) u v1 v2 v3 := by
  obtain ⟨r, hX, hY⟩ := po_el (Pr := fun u v => po_Lr (fun post => wpX_received post u v1 v2 v3) (fun post => wpY_received post v v1 v2 v3) ) I (fun _ _ _ _ _ _ _ _ _ _ _ _ _ _ _ _ _ _ _ _ _ _ _ _ _ _ _ _ _ _ _ _ _ _ H => lk_received H v1 v2 v3)
  exact hX _ (hY _ ⟨rfl, I⟩)
theorem i_vc_credits {k : Nat} {u : SX} {v : SY} (I : i_Rel k u v) (hk : k + 5 ≤ 2564) (v1 : Int32) (v2 : Int32) (v3 : Int32) (v4 : Int32) : wpX_credits (fun r => wpY_credits (fun r' => r' = r ∧ i_Rel (k + 5) u v) v v1 v2 v3 v4) u v1 v2 v3 v4 := by
  obtain ⟨r, hX, hY⟩ := po_el (Pr := fun u v => po_Lr (fun post => wpX_credits post u v1 v2 v3 v4) (fun post => wpY_credits post v v1 v2 v3 v4) ) I (fun _ _ _ _ _ _ _ _ _ _ _ _ _ _ _ _ _ _ _ _ _ _ _ _ _ _ _ _ _ _ _ _ _ _ H => lk_credits H v1 v2 v3 v4)
  exact hX _ (hY _ ⟨rfl, I⟩)
theorem i_vc_packet {k : Nat} {u : SX} {v : SY} (I : i_Rel k u v) (hk : k + 5 ≤ 2564) (v1 : Int32) (v2 : Int32) : wpX_packet (fun r => wpY_packet (fun r' => r' = r ∧ i_Rel (k + 5) u v) v v1 v2) u v1 v2 := by
  obtain ⟨r, hX, hY⟩ := po_el (Pr := fun u v => po_Lr (fun post => wpX_packet post u v1 v2) (fun post => wpY_packet post v v1 v2) ) I (fun _ _ _ _ _ _ _ _ _ _ _ _ _ _ _ _ _ _ _ _ _ _ _ _ _ _ _ _ _ _ _ _ _ _ H => lk_packet H v1 v2)
  exact hX _ (hY _ ⟨rfl, I⟩)
theorem i_vc_blocker {k : Nat} {u : SX} {v : SY} (I : i_Rel k u v) (hk : k + 5 ≤ 2564) (v1 : Int32) : wpX_blocker (fun r => wpY_blocker (fun r' => r' = r ∧ i_Rel (k + 5) u v) v v1) u v1 := by
  obtain ⟨r, hX, hY⟩ := po_el (Pr := fun u v => po_Lr (fun post => wpX_blocker post u v1) (fun post => wpY_blocker post v v1) ) I (fun _ _ _ _ _ _ _ _ _ _ _ _ _ _ _ _ _ _ _ _ _ _ _ _ _ _ _ _ _ _ _ _ _ _ H => lk_blocker H v1)
  exact hX _ (hY _ ⟨rfl, I⟩)
theorem i_vc_ahead {k : Nat} {u : SX} {v : SY} (I : i_Rel k u v) (hk : k + 5 ≤ 2564) (v1 : Int32) (v2 : Int32) : wpX_ahead (fun r => wpY_ahead (fun r' => r' = r ∧ i_Rel (k + 5) u v) v v1 v2) u v1 v2 := by
  obtain ⟨r, hX, hY⟩ := po_el (Pr := fun u v => po_Lr (fun post => wpX_ahead post u v1 v2) (fun post => wpY_ahead post v v1 v2) ) I (fun _ _ _ _ _ _ _ _ _ _ _ _ _ _ _ _ _ _ _ _ _ _ _ _ _ _ _ _ _ _ _ _ _ _ H => lk_ahead H v1 v2)
  exact hX _ (hY _ ⟨rfl, I⟩)
end
