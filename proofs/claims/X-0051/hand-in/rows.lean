section
/-! rows pasted of kit/rows -/
theorem pk_us {f : Nat → Int32} {k : Nat} {x : Int32} : upd f k x k = x := if_pos rfl
theorem pk_un {f : Nat → Int32} {k j : Nat} {x : Int32} (h : j ≠ k) : upd f k x j = f j := if_neg h
theorem pk_uLs {f : Nat → Int64} {k : Nat} {x : Int64} : vp_updL f k x k = x := if_pos rfl
theorem pk_uLn {f : Nat → Int64} {k j : Nat} {x : Int64} (h : j ≠ k) : vp_updL f k x j = f j := if_neg h
theorem pk_sub {a b : Nat} (h : b ≤ a) : nI a - nI b = nI (a - b) := by
  obtain ⟨c, rfl⟩ : ∃ c, a = c + b := ⟨a - b, by omega⟩
  rw [← nI_add, Int32.add_sub_cancel, Nat.add_sub_cancel]
theorem pk_m1 (n : Nat) : nI (n + 1) + (-1) = nI n := by
  rw [← nI_1, Int32.add_assoc, show (1 : Int32) + (-1) = 0 from rfl, Int32.add_zero]
theorem pk_mul (a b : Nat) : nI a * nI b = nI (a * b) := (Int32.ofNat_mul a b).symm
theorem pk_ix (x : Int32) {n : Nat} (hn : n < 2 ^ 31) : x < 0 ∨ nI n ≤ x ∨ ∃ j : Nat, j < n ∧ x = nI j := by
  by_cases h : x < 0
  · exact Or.inl h
  · obtain ⟨j, hj, rfl⟩ := nI_of h
    by_cases h2 : j < n
    · exact Or.inr (Or.inr ⟨j, h2, rfl⟩)
    · exact Or.inr (Or.inl (nI_le (by omega) hj))
theorem pk_le {x y : Int32} {A B : Prop} (a b : Nat) (f : a ≤ b → A) (g : b < a → B) (hx : x = nI a := by rfl) (hy : y = nI b := by rfl) (ha : a < 2 ^ 31 := by omega) (hb : b < 2 ^ 31 := by omega) : (x ≤ y → A) ∧ (¬ x ≤ y → B) := by
  subst hx hy
  rw [nI_leI ha hb]
  exact ⟨f, fun z => g (by omega)⟩
theorem pk_lt {x y : Int32} {A B : Prop} (a b : Nat) (f : a < b → A) (g : b ≤ a → B) (hx : x = nI a := by rfl) (hy : y = nI b := by rfl) (ha : a < 2 ^ 31 := by omega) (hb : b < 2 ^ 31 := by omega) : (x < y → A) ∧ (¬ x < y → B) := by
  subst hx hy
  rw [nI_ltI ha hb]
  exact ⟨f, fun z => g (by omega)⟩
theorem pk_eq {x y : Int32} {A B : Prop} (a b : Nat) (f : a = b → A) (g : a ≠ b → B) (hx : x = nI a := by rfl) (hy : y = nI b := by rfl) (ha : a < 2 ^ 31 := by omega) (hb : b < 2 ^ 31 := by omega) : (x = y → A) ∧ (¬ x = y → B) := by
  subst hx hy
  rw [nI_eq ha hb]
  exact ⟨f, g⟩
theorem pk_in {x : Int32} (n N : Nat) (h : n < N) (hx : x = nI n := by rfl) (hN : N < 2 ^ 31 := by omega) : vp_in x N := by
  subst hx
  exact vp_in_nI h hN
theorem pk_cl {x : Int32} (n : Nat) (hx : x = nI n := by rfl) (h : n < 2 ^ 31 := by omega) : x.toNatClampNeg = n := by
  subst hx
  exact nI_clamp h
theorem pk_tn {n : Nat} (h : n < 2 ^ 32) : (nI n).toBitVec.toNat = n := Nat.mod_eq_of_lt h
theorem pk_charN {q : Nat} (hq : q < 65536) : narrow .char (.int (nI q)) = .int (nI q) ∧ fits .char (.int (nI q)) = true := by
  constructor
  · have e : (nI q).toUInt32.toUInt16.toUInt32.toInt32 = nI q := by
      apply Int32.toBitVec_inj.mp
      apply BitVec.eq_of_toNat_eq
      show (nI q).toUInt32.toUInt16.toUInt32.toNat = q % 2 ^ 32
      rw [UInt16.toNat_toUInt32, UInt32.toNat_toUInt16, show (nI q).toUInt32.toNat = q % 2 ^ 32 from rfl]
      omega
    exact congrArg Value.int e
  · have a : (0 : Int32) ≤ nI q := nI_pos' (by omega)
    have b : nI q ≤ 65535 := nI_le (b := 65535) (by omega) (by decide)
    show (decide ((0 : Int32) ≤ nI q) && decide (nI q ≤ 65535)) = true
    rw [decide_eq_true a, decide_eq_true b]
    rfl
theorem pk_char (x : Int32) : (x.toUInt32 % 65536).toInt32 = nI (x.toBitVec.toNat % 65536) := by
  apply Int32.toBitVec_inj.mp
  apply BitVec.eq_of_toNat_eq
  rw [pk_tn (by omega)]
  show (x.toUInt32 % 65536).toNat = _
  rw [UInt32.toNat_mod]
  rfl
theorem pk_nc (x : Int32) : narrow .char (.int (x.toUInt32 % 65536).toInt32) = .int (x.toUInt32 % 65536).toInt32 := by
  rw [pk_char]
  exact (pk_charN (Nat.mod_lt _ (by decide))).1
theorem pk_vc (z : Int32) : vp_nar .char (z.toUInt32 % 65536).toInt32 = (z.toUInt32 % 65536).toInt32 := Value.int.inj (pk_nc z)
theorem wb_tb (n : Nat) : (lN n).toBitVec = BitVec.ofNat 64 n := rfl
theorem wb_inj {a b : Int64} (h : a.toBitVec = b.toBitVec) : a = b := Int64.toBitVec_inj.mp h
theorem wb_c : ∀ k, k < 64 → ((nI k).toInt64 &&& 63) = lN k := by decide +kernel
theorem wb_sm : ∀ k, k < 64 → (BitVec.ofNat 64 k).smod 64 = BitVec.ofNat 64 k := by decide +kernel
end
section
/-! the order of paths, sorted lists, lists by a member predicate -/
noncomputable def eg_dc (p : Prop) : Bool := @decide p (Classical.propDecidable p)
theorem eg_dci {p : Prop} : eg_dc p = true ↔ p := by
  unfold eg_dc
  exact @decide_eq_true_iff p (Classical.propDecidable p)
def eg_plt : List Nat → List Nat → Prop
  | _, [] => False
  | [], _ :: _ => True
  | a :: as, b :: bs => b < a ∨ (a = b ∧ eg_plt as bs)
theorem eg_pnil (p : List Nat) (h : p ≠ []) : eg_plt [] p := by
  cases p with
  | nil => exact absurd rfl h
  | cons a as => trivial
theorem eg_pirr : ∀ p : List Nat, ¬ eg_plt p p := by
  intro p
  induction p with
  | nil => intro h; exact h
  | cons a as ih =>
    intro h
    rcases h with h | ⟨_, h⟩
    · omega
    · exact ih h
theorem eg_ptr : ∀ p q r : List Nat, eg_plt p q → eg_plt q r → eg_plt p r := by
  intro p
  induction p with
  | nil =>
    intro q r _ h2
    cases r with
    | nil => cases q <;> exact h2
    | cons c cs => trivial
  | cons a as ih =>
    intro q r h1 h2
    cases q with
    | nil => exact False.elim h1
    | cons b bs =>
      cases r with
      | nil => exact False.elim h2
      | cons c cs =>
        rcases h1 with h1 | ⟨h1, k1⟩
        · rcases h2 with h2 | ⟨h2, k2⟩
          · exact Or.inl (by omega)
          · exact Or.inl (by omega)
        · rcases h2 with h2 | ⟨h2, k2⟩
          · exact Or.inl (by omega)
          · exact Or.inr ⟨by omega, ih bs cs k1 k2⟩
theorem eg_ptot : ∀ p q : List Nat, p ≠ q → eg_plt p q ∨ eg_plt q p := by
  intro p
  induction p with
  | nil =>
    intro q h
    cases q with
    | nil => exact absurd rfl h
    | cons b bs => exact Or.inl trivial
  | cons a as ih =>
    intro q h
    cases q with
    | nil => exact Or.inr trivial
    | cons b bs =>
      by_cases e : a = b
      · subst e
        rcases ih bs (fun z => h (by rw [z])) with k | k
        · exact Or.inl (Or.inr ⟨rfl, k⟩)
        · exact Or.inr (Or.inr ⟨rfl, k⟩)
      · by_cases l : b < a
        · exact Or.inl (Or.inl l)
        · exact Or.inr (Or.inl (by omega))
theorem eg_papp : ∀ (p : List Nat) (k : Nat) (r : List Nat), eg_plt p (p ++ k :: r) := by
  intro p
  induction p with
  | nil => intro k r; trivial
  | cons a as ih => intro k r; exact Or.inr ⟨rfl, ih k r⟩
theorem eg_pmid : ∀ (p q : List Nat) (k : Nat), eg_plt p q → eg_plt q (p ++ [k]) → ∃ r rest, q = p ++ r :: rest ∧ k < r := by
  intro p
  induction p with
  | nil =>
    intro q k h1 h2
    cases q with
    | nil => exact False.elim h1
    | cons b bs =>
      rcases h2 with h2 | ⟨_, h2⟩
      · exact ⟨b, bs, rfl, h2⟩
      · cases bs <;> exact False.elim h2
  | cons a as ih =>
    intro q k h1 h2
    cases q with
    | nil => exact False.elim h1
    | cons b bs =>
      rcases h1 with h1 | ⟨h1, k1⟩
      · rcases h2 with h2 | ⟨h2, _⟩ <;> omega
      · rcases h2 with h2 | ⟨_, k2⟩
        · omega
        · obtain ⟨r, rest, e, l⟩ := ih bs k k1 k2
          exact ⟨r, rest, by rw [h1, e]; rfl, l⟩
/-- the order on numbers by their paths -/
def eg_L (P : Nat → List Nat) (a b : Nat) : Prop := eg_plt (P a) (P b)
theorem eg_Lir {P : Nat → List Nat} {a : Nat} : ¬ eg_L P a a := eg_pirr _
theorem eg_Ltr {P : Nat → List Nat} {a b c : Nat} (h : eg_L P a b) (k : eg_L P b c) : eg_L P a c := eg_ptr _ _ _ h k
theorem eg_Las {P : Nat → List Nat} {a b : Nat} (h : eg_L P a b) (k : eg_L P b a) : False := eg_Lir (eg_Ltr h k)
def eg_Lst (P : Nat → List Nat) (Q : Nat → Prop) (l : List Nat) : Prop := l.Pairwise (eg_L P) ∧ ∀ x, x ∈ l ↔ Q x
theorem eg_srt_u {P : Nat → List Nat} : ∀ l l' : List Nat, l.Pairwise (eg_L P) → l'.Pairwise (eg_L P) → (∀ x, x ∈ l ↔ x ∈ l') → l = l' := by
  intro l
  induction l with
  | nil =>
    intro l' _ _ h
    cases l' with
    | nil => rfl
    | cons b bs => exact absurd ((h b).mpr (List.mem_cons_self ..)) (by simp)
  | cons a as ih =>
    intro l' h1 h2 h
    cases l' with
    | nil => exact absurd ((h a).mp (List.mem_cons_self ..)) (by simp)
    | cons b bs =>
      rw [List.pairwise_cons] at h1 h2
      have hab : a = b := by
        have ka := (h a).mp (List.mem_cons_self ..)
        have kb := (h b).mpr (List.mem_cons_self ..)
        rw [List.mem_cons] at ka kb
        rcases ka with ka | ka
        · exact ka
        · rcases kb with kb | kb
          · exact kb.symm
          · exact (eg_Las (h1.1 b kb) (h2.1 a ka)).elim
      subst hab
      have : as = bs := by
        apply ih bs h1.2 h2.2
        intro x
        constructor
        · intro hx
          have := (h x).mp (List.mem_cons_of_mem _ hx)
          rw [List.mem_cons] at this
          rcases this with e | e
          · subst e; exact (eg_Lir (h1.1 x hx)).elim
          · exact e
        · intro hx
          have := (h x).mpr (List.mem_cons_of_mem _ hx)
          rw [List.mem_cons] at this
          rcases this with e | e
          · subst e; exact (eg_Lir (h2.1 x hx)).elim
          · exact e
      rw [this]
theorem eg_Lu {P : Nat → List Nat} {Q : Nat → Prop} {l l' : List Nat} (h : eg_Lst P Q l) (h' : eg_Lst P Q l') : l = l' :=
  eg_srt_u l l' h.1 h'.1 (fun x => (h.2 x).trans (h'.2 x).symm)
theorem eg_Lc {P : Nat → List Nat} {Q Q' : Nat → Prop} {l : List Nat} (h : eg_Lst P Q l) (e : ∀ x, Q x ↔ Q' x) : eg_Lst P Q' l :=
  ⟨h.1, fun x => (h.2 x).trans (e x)⟩
theorem eg_Lf {P : Nat → List Nat} {Q : Nat → Prop} {l : List Nat} (h : eg_Lst P Q l) (R : Nat → Prop) : eg_Lst P (fun x => Q x ∧ R x) (l.filter (fun x => eg_dc (R x))) := by
  refine ⟨h.1.filter _, fun x => ?_⟩
  rw [List.mem_filter, h.2 x]
  exact and_congr Iff.rfl eg_dci
theorem eg_nd {P : Nat → List Nat} {l : List Nat} (h : l.Pairwise (eg_L P)) : l.Nodup :=
  h.imp (fun {a b} k e => by subst e; exact eg_Lir k)
theorem eg_len {l : List Nat} {N : Nat} (h : l.Nodup) (k : ∀ x, x ∈ l → x < N) : l.length ≤ N := by
  have := List.Nodup.length_le_of_subset (l₂ := List.range N) h (fun x hx => List.mem_range.mpr (k x hx))
  rwa [List.length_range] at this
theorem eg_ins_p {P : Nat → List Nat} {A C : List Nat} {x : Nat} (h : (A ++ C).Pairwise (eg_L P)) (ha : ∀ y, y ∈ A → eg_L P y x) (hc : ∀ y, y ∈ C → eg_L P x y) : (A ++ x :: C).Pairwise (eg_L P) := by
  rw [List.pairwise_append] at h ⊢
  refine ⟨h.1, List.pairwise_cons.mpr ⟨hc, h.2.1⟩, ?_⟩
  intro a ka b kb
  rw [List.mem_cons] at kb
  rcases kb with e | kb
  · subst e; exact ha a ka
  · exact h.2.2 a ka b kb
theorem eg_del_p {P : Nat → List Nat} {A C : List Nat} {x : Nat} (h : (A ++ x :: C).Pairwise (eg_L P)) : (A ++ C).Pairwise (eg_L P) := by
  rw [List.pairwise_append] at h ⊢
  exact ⟨h.1, (List.pairwise_cons.mp h.2.1).2, fun a ka b kb => h.2.2 a ka b (List.mem_cons_of_mem _ kb)⟩
theorem eg_mid_n {P : Nat → List Nat} {A C : List Nat} {x : Nat} (h : (A ++ x :: C).Pairwise (eg_L P)) : x ∉ A ++ C := by
  rw [List.pairwise_append] at h
  intro k
  rw [List.mem_append] at k
  rcases k with k | k
  · exact eg_Lir (h.2.2 x k x (List.mem_cons_self ..))
  · exact eg_Lir ((List.pairwise_cons.mp h.2.1).1 x k)
theorem eg_mem_ins {A C : List Nat} {x y : Nat} : y ∈ A ++ x :: C ↔ y ∈ A ++ C ∨ y = x := by
  simp only [List.mem_append, List.mem_cons]
  constructor
  · rintro (h | h | h)
    · exact Or.inl (Or.inl h)
    · exact Or.inr h
    · exact Or.inl (Or.inr h)
  · rintro ((h | h) | h)
    · exact Or.inl h
    · exact Or.inr (Or.inr h)
    · exact Or.inr (Or.inl h)
/-- where a new member goes -/
theorem eg_spl {P : Nat → List Nat} {x : Nat} : ∀ l : List Nat, l.Pairwise (eg_L P) → (∀ y, y ∈ l → eg_L P y x ∨ eg_L P x y) → ∃ A C, l = A ++ C ∧ (∀ y, y ∈ A → eg_L P y x) ∧ ∀ y, y ∈ C → eg_L P x y := by
  intro l
  induction l with
  | nil => intro _ _; exact ⟨[], [], rfl, by simp, by simp⟩
  | cons a as ih =>
    intro h k
    rw [List.pairwise_cons] at h
    rcases k a (List.mem_cons_self ..) with e | e
    · obtain ⟨A, C, e1, e2, e3⟩ := ih h.2 (fun y hy => k y (List.mem_cons_of_mem _ hy))
      refine ⟨a :: A, C, by rw [e1]; rfl, ?_, e3⟩
      intro y hy
      rw [List.mem_cons] at hy
      rcases hy with hy | hy
      · subst hy; exact e
      · exact e2 y hy
    · refine ⟨[], a :: as, rfl, by simp, ?_⟩
      intro y hy
      rw [List.mem_cons] at hy
      rcases hy with hy | hy
      · subst hy; exact e
      · exact eg_Ltr e (h.1 y hy)
theorem eg_Lex {P : Nat → List Nat} {Q : Nat → Prop} (ht : ∀ x y, Q x → Q y → x ≠ y → eg_L P x y ∨ eg_L P y x) : ∀ n : Nat, ∃ l, eg_Lst P (fun x => Q x ∧ x < n) l := by
  intro n
  induction n with
  | zero => exact ⟨[], List.Pairwise.nil, fun x => ⟨fun h => absurd h (by simp), fun h => absurd h.2 (by omega)⟩⟩
  | succ n ih =>
    obtain ⟨l, hl⟩ := ih
    by_cases q : Q n
    · obtain ⟨A, C, e, ha, hc⟩ := eg_spl (x := n) l hl.1 (fun y hy => by
        have := (hl.2 y).mp hy
        exact ht y n this.1 q (by omega))
      subst e
      refine ⟨A ++ n :: C, eg_ins_p hl.1 ha hc, fun y => ?_⟩
      rw [eg_mem_ins, hl.2 y]
      constructor
      · rintro (h | h)
        · exact ⟨h.1, by omega⟩
        · subst h; exact ⟨q, by omega⟩
      · intro h
        by_cases e : y = n
        · exact Or.inr e
        · exact Or.inl ⟨h.1, by omega⟩
    · refine ⟨l, hl.1, fun y => ?_⟩
      rw [hl.2 y]
      constructor
      · intro h; exact ⟨h.1, by omega⟩
      · intro h
        refine ⟨h.1, ?_⟩
        have : y ≠ n := fun e => q (e ▸ h.1)
        omega
theorem eg_get_split {l : List Nat} {i a : Nat} (h : l[i]? = some a) : ∃ A C, l = A ++ a :: C ∧ A.length = i := by
  induction l generalizing i with
  | nil => exact absurd h (by simp)
  | cons b bs ih =>
    cases i with
    | zero =>
      have e : b = a := by simpa using h
      exact ⟨[], bs, by rw [e]; rfl, rfl⟩
    | succ i =>
      obtain ⟨A, C, e, k⟩ := ih (i := i) (by simpa using h)
      exact ⟨b :: A, C, by rw [e]; rfl, by simp [k]⟩
theorem eg_get_mid {A C : List Nat} {a : Nat} : (A ++ a :: C)[A.length]? = some a := by simp
theorem eg_nd_i {l : List Nat} (h : l.Nodup) {i j a : Nat} (hi : l[i]? = some a) (hj : l[j]? = some a) : i = j := by
  induction l generalizing i j with
  | nil => exact absurd hi (by simp)
  | cons b bs ih =>
    rw [List.nodup_cons] at h
    cases i with
    | zero =>
      cases j with
      | zero => rfl
      | succ j =>
        have e : b = a := by simpa using hi
        have k : bs[j]? = some a := by simpa using hj
        exact absurd (List.mem_of_getElem? k) (e ▸ h.1)
    | succ i =>
      cases j with
      | zero =>
        have e : b = a := by simpa using hj
        have k : bs[i]? = some a := by simpa using hi
        exact absurd (List.mem_of_getElem? k) (e ▸ h.1)
      | succ j =>
        have := ih h.2 (i := i) (j := j) (by simpa using hi) (by simpa using hj)
        omega
/-- the j-th of a filtered list -/
theorem eg_fsplit (p : Nat → Bool) : ∀ (l : List Nat) (j a : Nat), (l.filter p)[j]? = some a → ∃ A C, l = A ++ a :: C ∧ A.countP p = j ∧ p a = true := by
  intro l
  induction l with
  | nil => intro j a h; exact absurd h (by simp)
  | cons b bs ih =>
    intro j a h
    by_cases e : p b = true
    · rw [List.filter_cons_of_pos e] at h
      cases j with
      | zero =>
        have k : b = a := by simpa using h
        subst k
        exact ⟨[], bs, rfl, rfl, e⟩
      | succ j =>
        obtain ⟨A, C, h1, h2, h3⟩ := ih j a (by simpa using h)
        exact ⟨b :: A, C, by rw [h1]; rfl, by rw [List.countP_cons_of_pos e, h2], h3⟩
    · rw [List.filter_cons_of_neg e] at h
      obtain ⟨A, C, h1, h2, h3⟩ := ih j a h
      exact ⟨b :: A, C, by rw [h1]; rfl, by rw [List.countP_cons_of_neg e, h2], h3⟩
theorem eg_fget (p : Nat → Bool) {A C : List Nat} {a : Nat} (h : p a = true) : ((A ++ a :: C).filter p)[A.countP p]? = some a := by
  rw [List.filter_append, List.filter_cons_of_pos h, List.countP_eq_length_filter]
  simp
end
section
/-! the event graph without a program -/
abbrev GG : Type := Nat × (Nat → Prop) × (Nat → Nat → Prop) × (Nat → Nat) × (Nat → Nat) × (Nat → Nat) × (Nat → Option Nat) × (Nat → List Nat) × (Nat → Int32)
def g_m (g : GG) : Nat := g.1
def g_del (g : GG) : Nat → Prop := g.2.1
def g_H (g : GG) : Nat → Nat → Prop := g.2.2.1
def g_stp (g : GG) : Nat → Nat := g.2.2.2.1
def g_aut (g : GG) : Nat → Nat := g.2.2.2.2.1
def g_typ (g : GG) : Nat → Nat := g.2.2.2.2.2.1
def g_lnk (g : GG) : Nat → Option Nat := g.2.2.2.2.2.2.1
def g_P (g : GG) : Nat → List Nat := g.2.2.2.2.2.2.2.1
def g_cod (g : GG) : Nat → Int32 := g.2.2.2.2.2.2.2.2
def g_rk (g : GG) (e : Nat) : Nat := 4 * g_stp g e + g_aut g e
def g_pth (g : GG) : Option Nat → List Nat
  | none => []
  | some a => g_P g a
def g_vis (g : GG) (S : Nat → Prop) (x : Nat) : Prop := ¬ g_del g x ∧ S x ∧ ∀ d, S d → g_del g d → g_lnk g d ≠ some x
def g_past (g : GG) (e : Nat) (x : Nat) : Prop := g_H g e x ∧ x ≠ e
def g_add (S : Nat → Prop) (e x : Nat) : Prop := S x ∨ x = e
def g_cl (g : GG) (S : Nat → Prop) : Prop := (∀ x, S x → x < g_m g) ∧ ∀ x y, S x → g_H g x y → S y
abbrev g_T (g : GG) (S : Nat → Prop) (t : List Nat) : Prop := eg_Lst (g_P g) (g_vis g S) t
def g_ok (g : GG) (e : Nat) : Prop :=
  ∃ t, g_T g (g_past g e) t ∧ (g_del g e → t[g_typ g e]? = g_lnk g e ∧ g_lnk g e ≠ none) ∧ (¬ g_del g e → (none :: t.map some)[g_typ g e]? = some (g_lnk g e))
def g_I (g : GG) : Prop :=
  g_m g ≤ 32 ∧
  (∀ e, e < g_m g → g_H g e e) ∧
  (∀ e x, e < g_m g → g_H g e x → x ≤ e) ∧
  (∀ e x y, e < g_m g → g_H g e x → g_H g x y → g_H g e y) ∧
  (∀ e, e < g_m g → g_aut g e < 4 ∧ 1 ≤ g_stp g e ∧ g_stp g e ≤ e + 1 ∧ g_typ g e ≤ 32) ∧
  (∀ e x, e < g_m g → g_H g e x → x ≠ e → g_stp g x < g_stp g e) ∧
  (∀ e f, e < g_m g → f < g_m g → g_stp g e = g_stp g f → g_aut g e = g_aut g f → e = f) ∧
  (∀ e, e < g_m g → ¬ g_del g e → g_P g e = g_pth g (g_lnk g e) ++ [g_rk g e]) ∧
  (∀ e, e < g_m g → g_ok g e)
section
variable {g : GG}
theorem g_m32 (G : g_I g) : g_m g ≤ 32 := G.1
theorem g_refl (G : g_I g) {e : Nat} (h : e < g_m g) : g_H g e e := G.2.1 e h
theorem g_hle (G : g_I g) {e x : Nat} (h : e < g_m g) (k : g_H g e x) : x ≤ e := G.2.2.1 e x h k
theorem g_htr (G : g_I g) {e x y : Nat} (h : e < g_m g) (k : g_H g e x) (k' : g_H g x y) : g_H g e y := G.2.2.2.1 e x y h k k'
theorem g_rng (G : g_I g) {e : Nat} (h : e < g_m g) : g_aut g e < 4 ∧ 1 ≤ g_stp g e ∧ g_stp g e ≤ e + 1 ∧ g_typ g e ≤ 32 := G.2.2.2.2.1 e h
theorem g_stl (G : g_I g) {e x : Nat} (h : e < g_m g) (k : g_H g e x) (n : x ≠ e) : g_stp g x < g_stp g e := G.2.2.2.2.2.1 e x h k n
theorem g_inj (G : g_I g) {e f : Nat} (h : e < g_m g) (h' : f < g_m g) (k : g_stp g e = g_stp g f) (k' : g_aut g e = g_aut g f) : e = f := G.2.2.2.2.2.2.1 e f h h' k k'
theorem g_Pe (G : g_I g) {e : Nat} (h : e < g_m g) (n : ¬ g_del g e) : g_P g e = g_pth g (g_lnk g e) ++ [g_rk g e] := G.2.2.2.2.2.2.2.1 e h n
theorem g_oke (G : g_I g) {e : Nat} (h : e < g_m g) : g_ok g e := G.2.2.2.2.2.2.2.2 e h
theorem g_past_lt (G : g_I g) {e x : Nat} (h : e < g_m g) (k : g_past g e x) : x < e := by
  have := g_hle G h k.1
  have := k.2
  omega
theorem g_past_cl (G : g_I g) {e : Nat} (h : e < g_m g) : g_cl g (g_past g e) := by
  refine ⟨fun x hx => Nat.lt_trans (g_past_lt G h hx) h, fun x y hx hy => ⟨g_htr G h hx.1 hy, ?_⟩⟩
  have h1 := g_past_lt G h hx
  have h2 := g_hle G (Nat.lt_trans h1 h) hy
  omega
theorem g_H_cl (G : g_I g) {e : Nat} (h : e < g_m g) : g_cl g (g_H g e) :=
  ⟨fun x hx => Nat.lt_of_le_of_lt (g_hle G h hx) h, fun _ _ hx hy => g_htr G h hx hy⟩
theorem g_rkI (G : g_I g) {e f : Nat} (h : e < g_m g) (h' : f < g_m g) (k : g_rk g e = g_rk g f) : e = f := by
  have a := (g_rng G h).1
  have b := (g_rng G h').1
  unfold g_rk at k
  exact g_inj G h h' (by omega) (by omega)
theorem g_rkl (G : g_I g) {e x : Nat} (h : e < g_m g) (k : g_past g e x) : g_rk g x < g_rk g e := by
  have a := g_stl G h k.1 k.2
  have b := (g_rng G (Nat.lt_trans (g_past_lt G h k) h)).1
  unfold g_rk
  omega
/-- what an event links to is visible in its past -/
theorem g_lv (G : g_I g) {e a : Nat} (h : e < g_m g) (k : g_lnk g e = some a) : g_vis g (g_past g e) a := by
  obtain ⟨t, ht, h1, h2⟩ := g_oke G h
  by_cases d : g_del g e
  · have := (h1 d).1
    rw [k] at this
    exact (ht.2 a).mp (List.mem_of_getElem? this)
  · have := h2 d
    rw [k] at this
    have := List.mem_of_getElem? this
    rw [List.mem_cons] at this
    rcases this with e | e
    · exact absurd e (by simp)
    · rw [List.mem_map] at e
      obtain ⟨b, hb, e⟩ := e
      have e : b = a := by simpa using e
      subst e
      exact (ht.2 b).mp hb
theorem g_llt (G : g_I g) {e a : Nat} (h : e < g_m g) (k : g_lnk g e = some a) : a < e := g_past_lt G h (g_lv G h k).2.1
theorem g_Pne (G : g_I g) {e : Nat} (h : e < g_m g) (n : ¬ g_del g e) : g_P g e ≠ [] := by
  rw [g_Pe G h n]; simp
theorem g_Plast (G : g_I g) {e f : Nat} (h : e < g_m g) (n : ¬ g_del g e) (h' : f < g_m g) (n' : ¬ g_del g f) (k : g_P g e = g_P g f) : e = f := by
  rw [g_Pe G h n, g_Pe G h' n'] at k
  have := List.append_inj_right' k rfl
  exact g_rkI G h h' (by simpa using this)
theorem g_tot (G : g_I g) {e f : Nat} (h : e < g_m g) (n : ¬ g_del g e) (h' : f < g_m g) (n' : ¬ g_del g f) (k : e ≠ f) : eg_L (g_P g) e f ∨ eg_L (g_P g) f e :=
  eg_ptot _ _ (fun z => k (g_Plast G h n h' n' z))
theorem g_Pmax (G : g_I g) : ∀ e, e < g_m g → ¬ g_del g e → ∀ r, r ∈ g_P g e → r ≤ g_rk g e := by
  intro e
  induction e using Nat.strongRecOn with
  | _ e ih =>
    intro h n r hr
    rw [g_Pe G h n, List.mem_append] at hr
    rcases hr with hr | hr
    · cases k : g_lnk g e with
      | none => rw [k] at hr; exact absurd hr (by simp [g_pth])
      | some a =>
        rw [k] at hr
        have v := g_lv G h k
        have l := g_llt G h k
        have h1 := ih a l (Nat.lt_trans l h) v.1 r hr
        have h2 := g_rkl G h v.2.1
        omega
    · have : r = g_rk g e := by simpa using hr
      omega
theorem g_anc (G : g_I g) {x a : Nat} (h : x < g_m g) (n : ¬ g_del g x) (k : g_lnk g x = some a) : eg_L (g_P g) a x := by
  unfold eg_L
  rw [g_Pe G h n, k]
  exact eg_papp _ _ _
theorem g_pthlt (G : g_I g) {x b : Nat} (hb : b < g_m g) (nb : ¬ g_del g b) (ha : ∀ a, g_lnk g x = some a → eg_L (g_P g) a b) : eg_plt (g_pth g (g_lnk g x)) (g_P g b) := by
  cases k : g_lnk g x with
  | none => exact eg_pnil _ (g_Pne G hb nb)
  | some a => exact ha a k
/-- of lower rank and behind the anchor: behind -/
theorem g_after (G : g_I g) {x b : Nat} (h : x < g_m g) (n : ¬ g_del g x) (hb : b < g_m g) (nb : ¬ g_del g b) (ha : ∀ a, g_lnk g x = some a → eg_L (g_P g) a b) (hr : g_rk g b < g_rk g x) : eg_L (g_P g) x b := by
  have ne : x ≠ b := fun e => by subst e; omega
  rcases g_tot G h n hb nb ne with k | k
  · exact k
  · exfalso
    have k2 : eg_plt (g_P g b) (g_pth g (g_lnk g x) ++ [g_rk g x]) := by
      rw [← g_Pe G h n]; exact k
    obtain ⟨r, rest, e, l⟩ := eg_pmid _ _ _ (g_pthlt G hb nb ha) k2
    have := g_Pmax G b hb nb r (by rw [e]; simp)
    omega
/-- from b behind x there is one of lower rank, behind x and not behind b -/
theorem g_between (G : g_I g) {x : Nat} {Q : Nat → Prop} (h : x < g_m g) (n : ¬ g_del g x) (nq : ¬ Q x) (hQ : ∀ b, Q b → b < g_m g ∧ ¬ g_del g b) (hA : ∀ b c, Q b → g_rk g x < g_rk g b → g_lnk g b = some c → Q c) : ∀ b, Q b → eg_L (g_P g) x b → ∃ c, Q c ∧ eg_L (g_P g) x c ∧ (c = b ∨ eg_L (g_P g) c b) ∧ g_rk g c < g_rk g x := by
  intro b
  induction b using Nat.strongRecOn with
  | _ b ih =>
    intro qb lb
    obtain ⟨hb, nb⟩ := hQ b qb
    by_cases r : g_rk g b < g_rk g x
    · exact ⟨b, qb, lb, Or.inl rfl, r⟩
    · have ne : x ≠ b := fun e => nq (e ▸ qb)
      have r2 : g_rk g x < g_rk g b := by
        have : g_rk g x ≠ g_rk g b := fun z => ne (g_rkI G h hb z)
        omega
      by_cases w : ∀ a, g_lnk g b = some a → eg_L (g_P g) a x
      · exfalso
        have k2 : eg_plt (g_P g x) (g_pth g (g_lnk g b) ++ [g_rk g b]) := by
          rw [← g_Pe G hb nb]; exact lb
        obtain ⟨s, rest, e, l⟩ := eg_pmid _ _ _ (g_pthlt G h n w) k2
        have := g_Pmax G x h n s (by rw [e]; simp)
        omega
      · have : ∃ a, g_lnk g b = some a ∧ ¬ eg_L (g_P g) a x := by
          apply Classical.byContradiction
          intro z
          exact w (fun a ha => Classical.byContradiction fun z2 => z ⟨a, ha, z2⟩)
        obtain ⟨a, ka, na⟩ := this
        have qa := hA b a qb r2 ka
        obtain ⟨ha, da⟩ := hQ a qa
        have ne2 : x ≠ a := fun e => nq (e ▸ qa)
        have la : eg_L (g_P g) x a := (g_tot G h n ha da ne2).resolve_right na
        obtain ⟨c, h1, h2, h3, h4⟩ := ih a (g_llt G hb ka) qa la
        refine ⟨c, h1, h2, Or.inr ?_, h4⟩
        have := g_anc G hb nb ka
        rcases h3 with e | e
        · subst e; exact this
        · exact eg_Ltr e this
/-- the skip finds the sorted place: A0 ends with the anchor (or is empty), B outranks x, the rest begins with a lower rank -/
theorem g_ins (G : g_I g) {x : Nat} {Q : Nat → Prop} {A0 B C : List Nat} (h : x < g_m g) (n : ¬ g_del g x) (nq : ¬ Q x) (hQ : ∀ b, Q b → b < g_m g ∧ ¬ g_del g b) (hA : ∀ b c, Q b → g_rk g x < g_rk g b → g_lnk g b = some c → Q c) (hL : eg_Lst (g_P g) Q (A0 ++ (B ++ C))) (h0 : (g_lnk g x = none ∧ A0 = []) ∨ ∃ a A1, g_lnk g x = some a ∧ A0 = A1 ++ [a]) (hB : ∀ b, b ∈ B → g_rk g x < g_rk g b) (hC : ∀ c C1, C = c :: C1 → g_rk g c < g_rk g x) : eg_Lst (g_P g) (g_add Q x) ((A0 ++ B) ++ x :: C) := by
  have hp := hL.1
  rw [List.pairwise_append, List.pairwise_append] at hp
  have mem : ∀ y, y ∈ A0 ∨ y ∈ B ∨ y ∈ C → Q y := fun y hy => (hL.2 y).mp (by rw [List.mem_append, List.mem_append]; exact hy)
  have fA : ∀ y, y ∈ A0 → eg_L (g_P g) y x := by
    intro y hy
    rcases h0 with ⟨_, e⟩ | ⟨a, A1, ka, e⟩
    · rw [e] at hy; exact absurd hy (by simp)
    · have la := g_anc G h n ka
      have hpp := hp.1
      rw [e, List.pairwise_append] at hpp
      rw [e, List.mem_append] at hy
      rcases hy with hy | hy
      · exact eg_Ltr (hpp.2.2 y hy a (by simp)) la
      · have : y = a := by simpa using hy
        subst this; exact la
  have anc : ∀ a, g_lnk g x = some a → a ∈ A0 := by
    intro a ka
    rcases h0 with ⟨e, _⟩ | ⟨a', A1, ka', e⟩
    · rw [e] at ka; exact absurd ka (by simp)
    · rw [ka'] at ka
      have : a' = a := by simpa using ka
      subst this
      rw [e]; simp
  have fB : ∀ y, y ∈ B → eg_L (g_P g) y x := by
    intro y hy
    have qy := mem y (Or.inr (Or.inl hy))
    obtain ⟨my, dy⟩ := hQ y qy
    have ne : y ≠ x := fun e => nq (e ▸ qy)
    rcases g_tot G my dy h n ne with k | k
    · exact k
    · exfalso
      obtain ⟨c, h1, h2, h3, h4⟩ := g_between G h n nq hQ hA y qy k
      have hc := (hL.2 c).mpr h1
      rw [List.mem_append, List.mem_append] at hc
      rcases hc with hc | hc | hc
      · exact eg_Las h2 (fA c hc)
      · have := hB c hc; omega
      · have l := hp.2.1.2.2 y hy c hc
        rcases h3 with e | e
        · subst e; exact eg_Lir l
        · exact eg_Las l e
  have fC : ∀ y, y ∈ C → eg_L (g_P g) x y := by
    cases hCe : C with
    | nil => intro y hy; exact absurd hy (by simp)
    | cons c C1 =>
      have rc := hC c C1 hCe
      have qc := mem c (Or.inr (Or.inr (by rw [hCe]; simp)))
      obtain ⟨mc, dc⟩ := hQ c qc
      have lc : eg_L (g_P g) x c := g_after G h n mc dc (fun a ka => hp.2.2 a (anc a ka) c (by rw [hCe]; simp)) rc
      intro y hy
      rw [List.mem_cons] at hy
      rcases hy with e | e
      · subst e; exact lc
      · have hpc := hp.2.1.2.1
        rw [hCe, List.pairwise_cons] at hpc
        exact eg_Ltr lc (hpc.1 y e)
  refine ⟨eg_ins_p (by rw [List.append_assoc]; exact hL.1) ?_ fC, fun y => ?_⟩
  · intro y hy
    rw [List.mem_append] at hy
    rcases hy with hy | hy
    · exact fA y hy
    · exact fB y hy
  · rw [eg_mem_ins, List.append_assoc, hL.2 y]
    exact Iff.rfl
/-- directly behind the anchor when all have lower rank -/
theorem g_ins0 (G : g_I g) {x : Nat} {Q : Nat → Prop} {A0 C : List Nat} (h : x < g_m g) (n : ¬ g_del g x) (nq : ¬ Q x) (hQ : ∀ b, Q b → b < g_m g ∧ ¬ g_del g b ∧ g_rk g b < g_rk g x) (hL : eg_Lst (g_P g) Q (A0 ++ C)) (h0 : (g_lnk g x = none ∧ A0 = []) ∨ ∃ a A1, g_lnk g x = some a ∧ A0 = A1 ++ [a]) : eg_Lst (g_P g) (g_add Q x) (A0 ++ x :: C) := by
  have := g_ins G (B := []) (C := C) h n nq (fun b hb => ⟨(hQ b hb).1, (hQ b hb).2.1⟩) (fun b c hb hr _ => by have := (hQ b hb).2.2; omega) (by simpa using hL) h0 (fun b hb => absurd hb (by simp)) (fun c C1 e => (hQ c ((hL.2 c).mp (by rw [e]; simp))).2.2)
  simpa using this
/-- texts exist -/
theorem g_Tex (G : g_I g) {S : Nat → Prop} (hS : ∀ x, S x → x < g_m g) : ∃ t, g_T g S t := by
  obtain ⟨l, hl⟩ := eg_Lex (P := g_P g) (Q := g_vis g S) (fun x y hx hy e => g_tot G (hS x hx.2.1) hx.1 (hS y hy.2.1) hy.1 e) (g_m g)
  exact ⟨l, eg_Lc hl (fun x => ⟨fun h => h.1, fun h => ⟨h, hS x h.2.1⟩⟩)⟩
theorem g_Tlen (G : g_I g) {S : Nat → Prop} (hS : ∀ x, S x → x < g_m g) {t : List Nat} (h : g_T g S t) : t.length ≤ 32 :=
  Nat.le_trans (eg_len (eg_nd h.1) (fun x hx => hS x ((h.2 x).mp hx).2.1)) (g_m32 G)
end
/-- the transformed index of e against the set S -/
def g_Fnd (g : GG) (S : Nat → Prop) (e : Nat) (r : Int32) : Prop :=
  (¬ g_del g e → ∃ t i, g_T g (g_add S e) t ∧ t[i]? = some e ∧ r = nI i) ∧
  (g_del g e → ∃ t a, g_T g S t ∧ g_lnk g e = some a ∧ ((∃ i, t[i]? = some a ∧ r = nI i) ∨ (a ∉ t ∧ r = -1)))
theorem g_Fu {g : GG} {S : Nat → Prop} {e : Nat} {r r' : Int32} (h : g_Fnd g S e r) (h' : g_Fnd g S e r') : r = r' := by
  by_cases d : g_del g e
  · obtain ⟨t, a, ht, ha, k⟩ := h.2 d
    obtain ⟨t', a', ht', ha', k'⟩ := h'.2 d
    have e1 := eg_Lu ht ht'
    rw [ha] at ha'
    have e2 : a = a' := by simpa using ha'
    subst e1 e2
    rcases k with ⟨i, hi, e⟩ | ⟨k, e⟩
    · rcases k' with ⟨j, hj, e'⟩ | ⟨k', _⟩
      · rw [e, e', eg_nd_i (eg_nd ht.1) hi hj]
      · exact absurd (List.mem_of_getElem? hi) k'
    · rcases k' with ⟨j, hj, _⟩ | ⟨_, e'⟩
      · exact absurd (List.mem_of_getElem? hj) k
      · rw [e, e']
  · obtain ⟨t, i, ht, hi, e⟩ := h.1 d
    obtain ⟨t', j, ht', hj, e'⟩ := h'.1 d
    have e1 := eg_Lu ht ht'
    subst e1
    rw [e, e', eg_nd_i (eg_nd ht.1) hi hj]
theorem g_Fc {g : GG} {S S' : Nat → Prop} {e : Nat} {r : Int32} (h : g_Fnd g S e r) (k : ∀ x, S x ↔ S' x) : g_Fnd g S' e r := by
  have : S = S' := funext fun x => propext (k x)
  subst this
  exact h
/-- visible once e has come -/
theorem g_vadd_i {g : GG} {S : Nat → Prop} {e : Nat} (n : ¬ g_del g e) (hn : ∀ d, S d → g_del g d → g_lnk g d ≠ some e) (x : Nat) : g_vis g (g_add S e) x ↔ g_add (g_vis g S) e x := by
  constructor
  · intro h
    rcases h.2.1 with k | k
    · exact Or.inl ⟨h.1, k, fun d hd dd => h.2.2 d (Or.inl hd) dd⟩
    · exact Or.inr k
  · rintro (h | h)
    · refine ⟨h.1, Or.inl h.2.1, fun d hd dd => ?_⟩
      rcases hd with hd | hd
      · exact h.2.2 d hd dd
      · subst hd; exact absurd dd n
    · subst h
      refine ⟨n, Or.inr rfl, fun d hd dd => ?_⟩
      rcases hd with hd | hd
      · exact hn d hd dd
      · subst hd; exact absurd dd n
theorem g_vadd_d {g : GG} {S : Nat → Prop} {e a : Nat} (d : g_del g e) (k : g_lnk g e = some a) (x : Nat) : g_vis g (g_add S e) x ↔ g_vis g S x ∧ x ≠ a := by
  constructor
  · intro h
    refine ⟨⟨h.1, ?_, fun d' hd dd => h.2.2 d' (Or.inl hd) dd⟩, fun z => ?_⟩
    · rcases h.2.1 with w | w
      · exact w
      · subst w; exact absurd d h.1
    · subst z; exact h.2.2 e (Or.inr rfl) d k
  · rintro ⟨h, z⟩
    refine ⟨h.1, Or.inl h.2.1, fun d' hd dd => ?_⟩
    rcases hd with hd | hd
    · exact h.2.2 d' hd dd
    · subst hd
      rw [k]
      intro w
      exact z (by simpa using w.symm)
/-- an insertion's index splits the old text -/
theorem g_Fi {g : GG} {S : Nat → Prop} {e : Nat} {r : Int32} {t : List Nat} (n : ¬ g_del g e) (ne : ¬ S e) (hn : ∀ d, S d → g_del g d → g_lnk g d ≠ some e) (h : g_Fnd g S e r) (ht : g_T g S t) : ∃ A C, t = A ++ C ∧ r = nI A.length ∧ g_T g (g_add S e) (A ++ e :: C) := by
  obtain ⟨t', i, ht', hi, er⟩ := h.1 n
  obtain ⟨A, C, e1, e2⟩ := eg_get_split hi
  subst e1
  refine ⟨A, C, ?_, by rw [er, e2], ht'⟩
  apply eg_Lu ht
  refine ⟨eg_del_p ht'.1, fun x => ?_⟩
  have k := ht'.2 x
  rw [eg_mem_ins, g_vadd_i n hn] at k
  constructor
  · intro hx
    rcases k.mp (Or.inl hx) with w | w
    · exact w
    · subst w; exact absurd hx (eg_mid_n ht'.1)
  · intro hx
    rcases k.mpr (Or.inl hx) with w | w
    · exact w
    · subst w; exact absurd hx.2.1 ne
/-- a deletion's index -/
theorem g_Fd {g : GG} {S : Nat → Prop} {e : Nat} {r : Int32} {t : List Nat} (d : g_del g e) (h : g_Fnd g S e r) (ht : g_T g S t) : (∃ A a C, t = A ++ a :: C ∧ r = nI A.length ∧ g_T g (g_add S e) (A ++ C)) ∨ (r = -1 ∧ g_T g (g_add S e) t) := by
  obtain ⟨t', a, ht', ka, k⟩ := h.2 d
  have e1 := eg_Lu ht ht'
  subst e1
  rcases k with ⟨i, hi, er⟩ | ⟨na, er⟩
  · obtain ⟨A, C, e1, e2⟩ := eg_get_split hi
    subst e1
    refine Or.inl ⟨A, a, C, rfl, by rw [er, e2], eg_del_p ht.1, fun x => ?_⟩
    rw [g_vadd_d d ka, ← ht.2 x, eg_mem_ins]
    constructor
    · intro hx
      exact ⟨Or.inl hx, fun z => eg_mid_n ht.1 (z ▸ hx)⟩
    · rintro ⟨hx | hx, z⟩
      · exact hx
      · exact absurd hx z
  · refine Or.inr ⟨er, ht.1, fun x => ?_⟩
    rw [g_vadd_d d ka, ← ht.2 x]
    constructor
    · intro hx
      exact ⟨hx, fun z => na (z ▸ hx)⟩
    · intro hx
      exact hx.1
section
variable {g : GG}
/-- nothing in a closed set links to an event that isn't in it -/
theorem g_nolink (G : g_I g) {S : Nat → Prop} (hS : g_cl g S) {e : Nat} (ne : ¬ S e) : ∀ d, S d → g_lnk g d ≠ some e := by
  intro d hd k
  exact ne (hS.2 d e hd (g_lv G (hS.1 d hd) k).2.1.1)
/-- the typed index is the transformed one in the event's own past -/
theorem g_Ftyp (G : g_I g) {e : Nat} (h : e < g_m g) : g_Fnd g (g_past g e) e (nI (g_typ g e)) := by
  obtain ⟨t, ht, h1, h2⟩ := g_oke G h
  constructor
  · intro n
    have k := h2 n
    have cl := g_past_cl G h
    have ne : ¬ g_past g e e := fun z => z.2 rfl
    have hn : ∀ d, g_past g e d → g_del g d → g_lnk g d ≠ some e := fun d hd _ => g_nolink G cl ne d hd
    have key : ∃ A0 C, t = A0 ++ C ∧ A0.length = g_typ g e ∧ ((g_lnk g e = none ∧ A0 = []) ∨ ∃ a A1, g_lnk g e = some a ∧ A0 = A1 ++ [a]) := by
      cases ty : g_typ g e with
      | zero =>
        rw [ty] at k
        exact ⟨[], t, rfl, rfl, Or.inl ⟨by simpa using k.symm, rfl⟩⟩
      | succ j =>
        rw [ty, List.getElem?_cons_succ, List.getElem?_map] at k
        cases q : t[j]? with
        | none => rw [q] at k; exact absurd k (by simp)
        | some a =>
          rw [q] at k
          obtain ⟨A, C, e1, e2⟩ := eg_get_split q
          exact ⟨A ++ [a], C, by rw [e1]; simp, by simp [e2], Or.inr ⟨a, A, by simpa using k.symm, rfl⟩⟩
    obtain ⟨A0, C, e1, e2, e3⟩ := key
    subst e1
    have := g_ins0 G (Q := g_vis g (g_past g e)) h n (fun z => ne z.2.1) (fun b hb => ⟨cl.1 b hb.2.1, hb.1, g_rkl G h hb.2.1⟩) ht e3
    refine ⟨A0 ++ e :: C, A0.length, eg_Lc this (fun x => (g_vadd_i n hn x).symm), eg_get_mid, by rw [e2]⟩
  · intro d
    obtain ⟨k, kn⟩ := h1 d
    cases q : g_lnk g e with
    | none => exact absurd q kn
    | some a => exact ⟨t, a, ht, rfl, Or.inl ⟨g_typ g e, by rw [k, q], rfl⟩⟩
end
end
section
/-! sets as bits, counts, rows in arrays -/
def eg_mem (s : Int64) (x : Nat) : Prop := s.toBitVec.getLsbD x = true
theorem eg_mem_and (s t : Int64) (x : Nat) : eg_mem (s &&& t) x ↔ eg_mem s x ∧ eg_mem t x := by
  unfold eg_mem
  rw [Int64.toBitVec_and, BitVec.getLsbD_and, Bool.and_eq_true]
theorem eg_mem_or (s t : Int64) (x : Nat) : eg_mem (s ||| t) x ↔ eg_mem s x ∨ eg_mem t x := by
  unfold eg_mem
  rw [Int64.toBitVec_or, BitVec.getLsbD_or, Bool.or_eq_true]
theorem eg_m1b : (-1 : Int64).toBitVec = BitVec.allOnes 64 := by decide
theorem eg_mem_not (s : Int64) {x : Nat} (h : x < 64) : eg_mem (s ^^^ (-1)) x ↔ ¬ eg_mem s x := by
  unfold eg_mem
  rw [Int64.toBitVec_xor, BitVec.getLsbD_xor, eg_m1b, BitVec.getLsbD_allOnes]
  cases s.toBitVec.getLsbD x <;> simp [h]
theorem eg_shb : ∀ e, e < 32 → ((1 : Int64) <<< ((nI e).toInt64 &&& 63)).toBitVec = BitVec.twoPow 64 e := by decide +kernel
theorem eg_mem_one {e : Nat} (h : e < 32) {x : Nat} (hx : x < 64) : eg_mem ((1 : Int64) <<< ((nI e).toInt64 &&& 63)) x ↔ x = e := by
  unfold eg_mem
  rw [eg_shb e h, BitVec.getLsbD_twoPow]
  simp only [Bool.and_eq_true, decide_eq_true_eq]
  constructor
  · intro k; exact k.2.symm
  · intro k; exact ⟨by omega, k.symm⟩
theorem eg_mem_0 (x : Nat) : ¬ eg_mem 0 x := by
  unfold eg_mem
  have : (0 : Int64).toBitVec = 0#64 := rfl
  rw [this, BitVec.getLsbD_zero]
  simp
theorem eg_mem_big {s : Int64} {x : Nat} (h : eg_mem s x) : x < 64 := by
  unfold eg_mem at h
  exact BitVec.lt_of_getLsbD h
theorem eg_mem_ext {s t : Int64} (h : ∀ x, x < 64 → (eg_mem s x ↔ eg_mem t x)) : s = t := by
  apply Int64.toBitVec_inj.mp
  apply BitVec.eq_of_getLsbD_eq
  intro i hi
  have := h i hi
  unfold eg_mem at this
  cases a : s.toBitVec.getLsbD i <;> cases b : t.toBitVec.getLsbD i <;> simp [a, b] at this <;> rfl
theorem eg_mem_e0 (s : Int64) : s = 0 ↔ ∀ x, x < 64 → ¬ eg_mem s x := by
  constructor
  · intro h x _; subst h; exact eg_mem_0 x
  · intro h
    apply eg_mem_ext
    intro x hx
    exact ⟨fun k => absurd k (h x hx), fun k => absurd k (eg_mem_0 x)⟩
theorem eg_has (s : Int64) {e : Nat} (h : e < 32) : (s &&& ((1 : Int64) <<< ((nI e).toInt64 &&& 63))) = 0 ↔ ¬ eg_mem s e := by
  rw [eg_mem_e0]
  constructor
  · intro k m
    exact k e (by omega) ((eg_mem_and _ _ _).mpr ⟨m, (eg_mem_one h (by omega)).mpr rfl⟩)
  · intro k x hx m
    rw [eg_mem_and, eg_mem_one h hx] at m
    exact k (m.2 ▸ m.1)
/-- a word stands for a set -/
def eg_set (s : Int64) (S : Nat → Prop) : Prop := ∀ x, x < 64 → (eg_mem s x ↔ S x)
/-- counts -/
noncomputable def eg_b (p : Prop) : Nat := @ite Nat p (Classical.propDecidable p) 1 0
theorem eg_b1 {p : Prop} (h : p) : eg_b p = 1 := if_pos h
theorem eg_b0 {p : Prop} (h : ¬ p) : eg_b p = 0 := if_neg h
noncomputable def eg_cnt (p : Nat → Prop) : Nat → Nat
  | 0 => 0
  | n + 1 => eg_cnt p n + eg_b (p n)
theorem eg_cnt_c {p q : Nat → Prop} : ∀ n, (∀ x, x < n → (p x ↔ q x)) → eg_cnt p n = eg_cnt q n := by
  intro n
  induction n with
  | zero => intro _; rfl
  | succ n ih =>
    intro h
    show eg_cnt p n + eg_b (p n) = eg_cnt q n + eg_b (q n)
    rw [ih (fun x hx => h x (by omega)), propext (h n (by omega))]
theorem eg_cnt_le (p : Nat → Prop) : ∀ n, eg_cnt p n ≤ n := by
  intro n
  induction n with
  | zero => exact Nat.le_refl _
  | succ n ih =>
    show eg_cnt p n + eg_b (p n) ≤ n + 1
    by_cases h : p n
    · rw [eg_b1 h]; omega
    · rw [eg_b0 h]; omega
theorem eg_cnt_add {p q : Nat → Prop} {e : Nat} (hp : ¬ p e) (hq : ∀ x, q x ↔ p x ∨ x = e) : ∀ n, e < n → eg_cnt q n = eg_cnt p n + 1 := by
  intro n
  induction n with
  | zero => intro h; omega
  | succ n ih =>
    intro h
    show eg_cnt q n + eg_b (q n) = eg_cnt p n + eg_b (p n) + 1
    by_cases k : e = n
    · subst k
      have c : eg_cnt q e = eg_cnt p e := eg_cnt_c e (fun x hx => by
        rw [hq]
        constructor
        · rintro (w | w)
          · exact w
          · omega
        · exact Or.inl)
      rw [eg_b1 ((hq e).mpr (Or.inr rfl)), eg_b0 hp, c]
    · rw [ih (by omega)]
      have : q n ↔ p n := by
        rw [hq]
        constructor
        · rintro (w | w)
          · exact w
          · exact absurd w.symm k
        · exact Or.inl
      rw [propext this]
      omega
theorem eg_cnt_s {p : Nat → Prop} {n m : Nat} (h : ∀ x, p x → x < n) (k : n ≤ m) : eg_cnt p m = eg_cnt p n := by
  induction m with
  | zero => have : n = 0 := by omega
            subst this; rfl
  | succ m ih =>
    by_cases e : n = m + 1
    · rw [e]
    · show eg_cnt p m + eg_b (p m) = _
      rw [ih (by omega), eg_b0 (fun w => by have := h m w; omega)]
      rfl
theorem eg_cnt_lt {p : Nat → Prop} {e n : Nat} (h : e < n) (hp : ¬ p e) : eg_cnt p n < n := by
  have := eg_cnt_add (q := fun x => p x ∨ x = e) hp (fun _ => Iff.rfl) n h
  have := eg_cnt_le (fun x => p x ∨ x = e) n
  omega
theorem eg_cnt_0 {p : Nat → Prop} : ∀ n, (∀ x, x < n → ¬ p x) → eg_cnt p n = 0 := by
  intro n
  induction n with
  | zero => intro _; rfl
  | succ n ih =>
    intro h
    show eg_cnt p n + eg_b (p n) = 0
    rw [ih (fun x hx => h x (by omega)), eg_b0 (h n (by omega))]
theorem eg_cnt_pos {p : Nat → Prop} {e : Nat} : ∀ n, e < n → p e → 1 ≤ eg_cnt p n := by
  intro n
  induction n with
  | zero => intro h; omega
  | succ n ih =>
    intro h hp
    show 1 ≤ eg_cnt p n + eg_b (p n)
    by_cases k : e = n
    · subst k; rw [eg_b1 hp]; omega
    · have := ih (by omega) hp; omega
/-- rows in arrays -/
def eg_Rep (a : Nat → Int32) (o : Nat) (f : Nat → Int32) (l : List Nat) : Prop := ∀ i v, l[i]? = some v → a (o + i) = f v
/-- cells lo < i <= hi hold what stood one below -/
def eg_shU (a : Nat → Int32) (lo hi : Nat) : Nat → Int32 := fun i => if lo < i ∧ i ≤ hi then a (i - 1) else a i
theorem eg_shU_0 (a : Nat → Int32) (h : Nat) : eg_shU a h h = a := by
  funext i
  unfold eg_shU
  rw [if_neg (by omega)]
theorem eg_shU_s {a : Nat → Int32} {i hi : Nat} (h : i + 1 ≤ hi) : upd (eg_shU a (i + 1) hi) (i + 1) (a i) = eg_shU a i hi := by
  funext j
  unfold eg_shU upd
  by_cases e : j = i + 1
  · subst e
    rw [if_pos rfl, if_pos (by omega)]
    rfl
  · rw [if_neg e]
    dsimp only
    by_cases k : i + 1 < j ∧ j ≤ hi
    · rw [if_pos k, if_pos (by omega)]
    · rw [if_neg k, if_neg (by omega)]
theorem eg_shU_r {a : Nat → Int32} {i hi : Nat} : eg_shU a (i + 1) hi i = a i := by
  unfold eg_shU
  rw [if_neg (by omega)]
theorem eg_Rep_ins {a : Nat → Int32} {o : Nat} {f : Nat → Int32} {A C : List Nat} {x : Nat} {w : Int32} (h : eg_Rep a o f (A ++ C)) (hw : w = f x) : eg_Rep (upd (eg_shU a (o + A.length) (o + (A ++ C).length)) (o + A.length) w) o f (A ++ x :: C) := by
  intro i v hv
  by_cases k : i < A.length
  · rw [List.getElem?_append_left k] at hv
    have := h i v (by rw [List.getElem?_append_left k]; exact hv)
    rw [← this]
    unfold upd eg_shU
    rw [if_neg (by omega), if_neg (by omega)]
  · rw [List.getElem?_append_right (by omega)] at hv
    cases e : i - A.length with
    | zero =>
      rw [e] at hv
      have : x = v := by simpa using hv
      subst this
      have : i = A.length := by omega
      subst this
      rw [hw]
      exact pk_us
    | succ j =>
      rw [e, List.getElem?_cons_succ] at hv
      have hj : j < C.length := by
        have := List.getElem?_eq_some_iff.mp hv
        exact this.1
      have := h (A.length + j) v (by rw [List.getElem?_append_right (by omega), Nat.add_sub_cancel_left]; exact hv)
      rw [← this]
      unfold upd eg_shU
      rw [if_neg (by omega), if_pos (by rw [List.length_append]; omega)]
      congr 1
      omega
/-- cells lo <= i < hi hold what stood one above -/
def eg_shD (a : Nat → Int32) (lo hi : Nat) : Nat → Int32 := fun i => if lo ≤ i ∧ i < hi then a (i + 1) else a i
theorem eg_shD_0 (a : Nat → Int32) (h : Nat) : eg_shD a h h = a := by
  funext i
  unfold eg_shD
  rw [if_neg (by omega)]
theorem eg_shD_s {a : Nat → Int32} {lo i : Nat} (h : lo ≤ i) : upd (eg_shD a lo i) i (a (i + 1)) = eg_shD a lo (i + 1) := by
  funext j
  unfold eg_shD upd
  by_cases e : j = i
  · subst e
    rw [if_pos rfl, if_pos (by omega)]
  · rw [if_neg e]
    dsimp only
    by_cases k : lo ≤ j ∧ j < i
    · rw [if_pos k, if_pos (by omega)]
    · rw [if_neg k, if_neg (by omega)]
theorem eg_shD_r {a : Nat → Int32} {lo i : Nat} : eg_shD a lo i (i + 1) = a (i + 1) := by
  unfold eg_shD
  rw [if_neg (by omega)]
theorem eg_Rep_del {a : Nat → Int32} {o : Nat} {f : Nat → Int32} {A C : List Nat} {x : Nat} (h : eg_Rep a o f (A ++ x :: C)) : eg_Rep (eg_shD a (o + A.length) (o + (A ++ C).length)) o f (A ++ C) := by
  intro i v hv
  by_cases k : i < A.length
  · rw [List.getElem?_append_left k] at hv
    have := h i v (by rw [List.getElem?_append_left k]; exact hv)
    rw [← this]
    unfold eg_shD
    rw [if_neg (by omega)]
  · have hl : i < (A ++ C).length := (List.getElem?_eq_some_iff.mp hv).1
    rw [List.getElem?_append_right (by omega)] at hv
    have := h (i + 1) v (by
      rw [List.getElem?_append_right (by omega), show i + 1 - A.length = (i - A.length) + 1 by omega, List.getElem?_cons_succ]
      exact hv)
    rw [← this]
    unfold eg_shD
    rw [if_pos (by omega)]
    rfl
theorem eg_Rep_out {a b : Nat → Int32} {o : Nat} {f : Nat → Int32} {l : List Nat} (h : eg_Rep a o f l) (k : ∀ i, i < l.length → b (o + i) = a (o + i)) : eg_Rep b o f l := by
  intro i v hv
  rw [k i (List.getElem?_eq_some_iff.mp hv).1]
  exact h i v hv
end
section
/-! the component's readers -/
theorem eg_if {c d A B : Prop} (e : c ↔ d) (f : d → A) (h : ¬ d → B) : (c → A) ∧ (¬ c → B) := ⟨fun k => f (e.mp k), fun k => h (fun z => k (e.mpr z))⟩
theorem eg_nn {p : Prop} (h : ¬ ¬ p) : p := Classical.byContradiction h
theorem eg_10 : ¬ (1 : Int32) = 0 := by decide
theorem eg_cl {n : Nat} (h : n < 1000000) : (nI n).toNatClampNeg = n := nI_clamp (by omega)
def g_par (g : GG) (e x : Nat) : Prop := g_H g e x ∧ x ≠ e ∧ ∀ y, y ≠ e → y ≠ x → g_H g e y → ¬ g_H g y x
def g_spl (g : GG) (S : Nat → Prop) (c : Nat) : Prop := ∀ x, x < g_m g → S x → ¬ g_H g c x → g_H g x c
def x_G (g : GG) (f_made : Int32) (a_deletes a_letter a_typed a_author a_stamp : Nat → Int32) (a_history a_parents : Nat → Int64) : Prop :=
  f_made = nI (g_m g) ∧ (∀ e, e < g_m g → (a_deletes e = 0 ↔ ¬ g_del g e)) ∧ (∀ e, e < g_m g → ¬ g_del g e → a_letter e = g_cod g e) ∧ (∀ e, vp_nar .char (a_letter e) = a_letter e) ∧ (∀ e, e < g_m g → a_typed e = nI (g_typ g e)) ∧ (∀ e, e < g_m g → a_author e = nI (g_aut g e)) ∧ (∀ e, e < g_m g → a_stamp e = nI (g_stp g e)) ∧ (∀ e, e < g_m g → eg_set (a_history e) (g_H g e)) ∧ (∀ e, e < g_m g → eg_set (a_parents e) (g_par g e))
section
variable {f_room : Int32} {f_spare : Int32} {f_replicaCount : Int32} {f_eventLimit : Int32} {f_made : Int32} {f_whole : Int64} {f_prepared : Int64} {f_rowLength : Int32} {a_deletes : Nat → Int32} {a_letter : Nat → Int32} {a_typed : Nat → Int32} {a_author : Nat → Int32} {a_stamp : Nat → Int32} {a_history : Nat → Int64} {a_parents : Nat → Int64} {a_held : Nat → Int64} {a_logLength : Nat → Int32} {a_logEvents : Nat → Int32} {a_logIndices : Nat → Int32} {a_textLength : Nat → Int32} {a_texts : Nat → Int32} {a_row : Nat → Int32} {a_prep : Nat → Int32} {a_gone : Nat → Int32} {a_itemOf : Nat → Int32}
variable {g : GG}
theorem xg_m (K : x_G g f_made a_deletes a_letter a_typed a_author a_stamp a_history a_parents) : f_made = nI (g_m g) := K.1
theorem xg_d (K : x_G g f_made a_deletes a_letter a_typed a_author a_stamp a_history a_parents) {e : Nat} (h : e < g_m g) : a_deletes e = 0 ↔ ¬ g_del g e := K.2.1 e h
theorem xg_l (K : x_G g f_made a_deletes a_letter a_typed a_author a_stamp a_history a_parents) {e : Nat} (h : e < g_m g) (n : ¬ g_del g e) : a_letter e = g_cod g e := K.2.2.1 e h n
theorem xg_lc (K : x_G g f_made a_deletes a_letter a_typed a_author a_stamp a_history a_parents) (e : Nat) : vp_nar .char (a_letter e) = a_letter e := K.2.2.2.1 e
theorem xg_t (K : x_G g f_made a_deletes a_letter a_typed a_author a_stamp a_history a_parents) {e : Nat} (h : e < g_m g) : a_typed e = nI (g_typ g e) := K.2.2.2.2.1 e h
theorem xg_a (K : x_G g f_made a_deletes a_letter a_typed a_author a_stamp a_history a_parents) {e : Nat} (h : e < g_m g) : a_author e = nI (g_aut g e) := K.2.2.2.2.2.1 e h
theorem xg_s (K : x_G g f_made a_deletes a_letter a_typed a_author a_stamp a_history a_parents) {e : Nat} (h : e < g_m g) : a_stamp e = nI (g_stp g e) := K.2.2.2.2.2.2.1 e h
theorem xg_h (K : x_G g f_made a_deletes a_letter a_typed a_author a_stamp a_history a_parents) {e : Nat} (h : e < g_m g) : eg_set (a_history e) (g_H g e) := K.2.2.2.2.2.2.2.1 e h
theorem xg_p (K : x_G g f_made a_deletes a_letter a_typed a_author a_stamp a_history a_parents) {e : Nat} (h : e < g_m g) : eg_set (a_parents e) (g_par g e) := K.2.2.2.2.2.2.2.2 e h
theorem x_contains {post : Int32 → Prop} {s : Int64} {e : Nat} (he : e < 32) (h1 : eg_mem s e → post 1) (h0 : ¬ eg_mem s e → post 0) : wpX_contains post (f_room, f_spare, f_replicaCount, f_eventLimit, f_made, f_whole, f_prepared, f_rowLength, a_deletes, a_letter, a_typed, a_author, a_stamp, a_history, a_parents, a_held, a_logLength, a_logEvents, a_logIndices, a_textLength, a_texts, a_row, a_prep, a_gone, a_itemOf) s (nI e) :=
  eg_if (eg_has s he) h0 (fun k => h1 (eg_nn k))
theorem x_greatestStamp_l {post : Int32 → Prop} {s : Int64} {S : Nat → Prop} (G : g_I g) (K : x_G g f_made a_deletes a_letter a_typed a_author a_stamp a_history a_parents) (hs : eg_set s S) (h : ∀ b, b ≤ 32 → (∀ x, x < g_m g → S x → g_stp g x ≤ b) → (b = 0 ∨ ∃ x, x < g_m g ∧ S x ∧ g_stp g x = b) → post (nI b)) : ∀ d i b : Nat, i + d = g_m g → b ≤ 32 → (∀ x, x < i → S x → g_stp g x ≤ b) → (b = 0 ∨ ∃ x, x < i ∧ S x ∧ g_stp g x = b) → wX_greatestStamp_5 post s f_room f_spare f_replicaCount f_eventLimit f_made f_whole f_prepared f_rowLength a_deletes a_letter a_typed a_author a_stamp a_history a_parents a_held a_logLength a_logEvents a_logIndices a_textLength a_texts a_row a_prep a_gone a_itemOf (d + 1) (nI b) (nI i) := by
  have m32 := g_m32 G
  have em := xg_m K
  intro d
  induction d with
  | zero =>
    intro i b hi hb h1 h2
    have e : i = g_m g := by omega
    subst e
    exact br_t (by rw [em]; exact Int32.le_refl _) (h b hb h1 h2)
  | succ d ih =>
    intro i b hi hb h1 h2
    have hlt : i < g_m g := by omega
    refine br_f (by rw [em]; exact nI_ge hlt (by omega)) (x_contains (by omega) (fun k => br_f eg_10 ?_) (fun k => br_t rfl (nm_r (nI_1 i) (ih (i + 1) b (by omega) hb ?_ ?_))))
    · have ks : S i := (hs i (by omega)).mp k
      have rg := g_rng G hlt
      refine And.intro (vp_in_nI (by omega) (by decide)) ?_
      rw [eg_cl (n := i) (by omega), xg_s K hlt]
      refine pk_le (g_stp g i) b (fun w => nm_r (nI_1 i) (ih (i + 1) b (by omega) hb ?_ ?_)) (fun w => And.intro (vp_in_nI (by omega) (by decide)) (nm_e (nm_r (nI_1 i) (ih (i + 1) (g_stp g i) (by omega) (by omega) ?_ ?_)))) rfl rfl (by omega) (by omega)
      · intro x hx sx
        by_cases e : x = i
        · subst e; exact w
        · exact h1 x (by omega) sx
      · rcases h2 with h2 | ⟨x, hx, h2⟩
        · exact Or.inl h2
        · exact Or.inr ⟨x, by omega, h2⟩
      · intro x hx sx
        by_cases e : x = i
        · subst e; omega
        · have := h1 x (by omega) sx; omega
      · exact Or.inr ⟨i, by omega, ks, rfl⟩
    · intro x hx sx
      by_cases e : x = i
      · subst e; exact absurd ((hs x (by omega)).mpr sx) k
      · exact h1 x (by omega) sx
    · rcases h2 with h2 | ⟨x, hx, h2⟩
      · exact Or.inl h2
      · exact Or.inr ⟨x, by omega, h2⟩
theorem x_greatestStamp {post : Int32 → Prop} {s : Int64} {S : Nat → Prop} (G : g_I g) (K : x_G g f_made a_deletes a_letter a_typed a_author a_stamp a_history a_parents) (hs : eg_set s S) (h : ∀ b, b ≤ 32 → (∀ x, x < g_m g → S x → g_stp g x ≤ b) → (b = 0 ∨ ∃ x, x < g_m g ∧ S x ∧ g_stp g x = b) → post (nI b)) : wpX_greatestStamp post (f_room, f_spare, f_replicaCount, f_eventLimit, f_made, f_whole, f_prepared, f_rowLength, a_deletes, a_letter, a_typed, a_author, a_stamp, a_history, a_parents, a_held, a_logLength, a_logEvents, a_logIndices, a_textLength, a_texts, a_row, a_prep, a_gone, a_itemOf) s :=
  ⟨g_m g + 1, x_greatestStamp_l G K hs h (g_m g) 0 0 (by omega) (by omega) (fun x hx => absurd hx (by omega)) (Or.inl rfl)⟩
theorem x_heads_l {post : Int64 → Prop} {s : Int64} {S : Nat → Prop} (G : g_I g) (K : x_G g f_made a_deletes a_letter a_typed a_author a_stamp a_history a_parents) (hs : eg_set s S) (h : ∀ r, eg_set r (fun x => S x ∧ ¬ ∃ y, y < g_m g ∧ S y ∧ g_H g y x ∧ x ≠ y) → post r) : ∀ (d i : Nat) (c : Int64), i + d = g_m g → eg_set c (fun x => ∃ y, y < i ∧ S y ∧ g_H g y x ∧ x ≠ y) → wX_heads_5 post s f_room f_spare f_replicaCount f_eventLimit f_made f_whole f_prepared f_rowLength a_deletes a_letter a_typed a_author a_stamp a_history a_parents a_held a_logLength a_logEvents a_logIndices a_textLength a_texts a_row a_prep a_gone a_itemOf (d + 1) c (nI i) := by
  have m32 := g_m32 G
  have em := xg_m K
  intro d
  induction d with
  | zero =>
    intro i c hi hc
    have e : i = g_m g := by omega
    subst e
    refine br_t (by rw [em]; exact Int32.le_refl _) (h _ ?_)
    intro x hx
    rw [eg_mem_and, eg_mem_not _ hx, hs x hx, hc x hx]
  | succ d ih =>
    intro i c hi hc
    have hlt : i < g_m g := by omega
    refine br_f (by rw [em]; exact nI_ge hlt (by omega)) (x_contains (by omega) (fun k => br_f eg_10 ?_) (fun k => br_t rfl (nm_r (nI_1 i) (ih (i + 1) c (by omega) ?_))))
    · have ks : S i := (hs i (by omega)).mp k
      refine And.intro (vp_in_nI (by omega) (by decide)) ?_
      rw [eg_cl (n := i) (by omega)]
      refine nm_e (nm_r (nI_1 i) (ih (i + 1) _ (by omega) ?_))
      intro x hx
      rw [eg_mem_or, eg_mem_and, eg_mem_not _ hx, eg_mem_one (by omega) hx, hc x hx, xg_h K hlt x hx]
      constructor
      · rintro (⟨y, hy, w⟩ | ⟨w1, w2⟩)
        · exact ⟨y, by omega, w⟩
        · exact ⟨i, by omega, ks, w1, w2⟩
      · rintro ⟨y, hy, w⟩
        by_cases e : y = i
        · subst e; exact Or.inr w.2
        · exact Or.inl ⟨y, by omega, w⟩
    · intro x hx
      rw [hc x hx]
      constructor
      · rintro ⟨y, hy, w⟩
        exact ⟨y, by omega, w⟩
      · rintro ⟨y, hy, w⟩
        by_cases e : y = i
        · subst e; exact absurd ((hs y (by omega)).mpr w.1) k
        · exact ⟨y, by omega, w⟩
theorem x_heads {post : Int64 → Prop} {s : Int64} {S : Nat → Prop} (G : g_I g) (K : x_G g f_made a_deletes a_letter a_typed a_author a_stamp a_history a_parents) (hs : eg_set s S) (h : ∀ r, eg_set r (fun x => S x ∧ ¬ ∃ y, y < g_m g ∧ S y ∧ g_H g y x ∧ x ≠ y) → post r) : wpX_heads post (f_room, f_spare, f_replicaCount, f_eventLimit, f_made, f_whole, f_prepared, f_rowLength, a_deletes, a_letter, a_typed, a_author, a_stamp, a_history, a_parents, a_held, a_logLength, a_logEvents, a_logIndices, a_textLength, a_texts, a_row, a_prep, a_gone, a_itemOf) s :=
  ⟨g_m g + 1, x_heads_l G K hs h (g_m g) 0 0 (by omega) (fun x _ => ⟨fun k => absurd k (eg_mem_0 x), fun ⟨y, hy, _⟩ => absurd hy (by omega)⟩)⟩
theorem x_splits_l {post : Int32 → Prop} {s : Int64} {S : Nat → Prop} {c : Nat} (G : g_I g) (K : x_G g f_made a_deletes a_letter a_typed a_author a_stamp a_history a_parents) (hc : c < g_m g) (hs : eg_set s (fun x => S x ∧ ¬ g_H g c x)) (h1 : g_spl g S c → post 1) (h0 : ¬ g_spl g S c → post 0) : ∀ (d i : Nat), i + d = g_m g → (∀ x, x < i → S x → ¬ g_H g c x → g_H g x c) → wX_splits_17 post (nI c) s f_room f_spare f_replicaCount f_eventLimit f_made f_whole f_prepared f_rowLength a_deletes a_letter a_typed a_author a_stamp a_history a_parents a_held a_logLength a_logEvents a_logIndices a_textLength a_texts a_row a_prep a_gone a_itemOf (d + 1) (nI i) := by
  have m32 := g_m32 G
  have em := xg_m K
  intro d
  induction d with
  | zero =>
    intro i hi hv
    have e : i = g_m g := by omega
    subst e
    exact br_t (by rw [em]; exact Int32.le_refl _) (h1 hv)
  | succ d ih =>
    intro i hi hv
    have hlt : i < g_m g := by omega
    refine br_f (by rw [em]; exact nI_ge hlt (by omega)) (x_contains (by omega) (fun k => br_f eg_10 ?_) (fun k => br_t rfl (nm_r (nI_1 i) (ih (i + 1) (by omega) ?_))))
    · have ks := (hs i (by omega)).mp k
      refine And.intro (vp_in_nI (by omega) (by decide)) ?_
      rw [eg_cl (n := i) (by omega)]
      refine x_contains (by omega) (fun k2 => br_f eg_10 (nm_r (nI_1 i) (ih (i + 1) (by omega) ?_))) (fun k2 => br_t rfl (h0 ?_))
      · intro x hx sx nx
        by_cases e : x = i
        · subst e; exact (xg_h K hlt c (by omega)).mp k2
        · exact hv x (by omega) sx nx
      · intro z
        exact k2 ((xg_h K hlt c (by omega)).mpr (z i hlt ks.1 ks.2))
    · intro x hx sx nx
      by_cases e : x = i
      · subst e; exact absurd ((hs x (by omega)).mpr ⟨sx, nx⟩) k
      · exact hv x (by omega) sx nx
theorem x_splits {post : Int32 → Prop} {s : Int64} {S : Nat → Prop} {c : Nat} (G : g_I g) (K : x_G g f_made a_deletes a_letter a_typed a_author a_stamp a_history a_parents) (hc : c < g_m g) (hs : eg_set s S) (h1 : g_spl g S c → post 1) (h0 : ¬ g_spl g S c → post 0) : wpX_splits post (f_room, f_spare, f_replicaCount, f_eventLimit, f_made, f_whole, f_prepared, f_rowLength, a_deletes, a_letter, a_typed, a_author, a_stamp, a_history, a_parents, a_held, a_logLength, a_logEvents, a_logIndices, a_textLength, a_texts, a_row, a_prep, a_gone, a_itemOf) s (nI c) := by
  have m32 := g_m32 G
  refine And.intro (vp_in_nI (by omega) (by decide)) ?_
  rw [eg_cl (n := c) (by omega)]
  refine nm_e ⟨g_m g + 1, x_splits_l G K hc ?_ h1 h0 (g_m g) 0 (by omega) (fun x hx => absurd hx (by omega))⟩
  intro x hx
  rw [eg_mem_and, eg_mem_not _ hx, hs x hx, xg_h K hc x hx]
theorem x_nothingBeside_l {post : Int32 → Prop} {s : Int64} {Wh Kn : Nat → Prop} (G : g_I g) (K : x_G g f_made a_deletes a_letter a_typed a_author a_stamp a_history a_parents) (hw : eg_set f_whole Wh) (cW : g_cl g Wh) (cK : g_cl g Kn) (kW : ∀ x, Kn x → Wh x) (hs : eg_set s (fun x => Wh x ∧ ¬ Kn x)) (h1 : (∀ y b, Wh y → ¬ Kn y → Kn b → g_H g y b) → post 1) (h0 : post 0) : ∀ (d i : Nat), i + d = g_m g → (∀ x, x < i → Wh x → Kn x) → wX_nothingBeside_14 post s f_room f_spare f_replicaCount f_eventLimit f_made f_whole f_prepared f_rowLength a_deletes a_letter a_typed a_author a_stamp a_history a_parents a_held a_logLength a_logEvents a_logIndices a_textLength a_texts a_row a_prep a_gone a_itemOf (d + 1) (nI i) := by
  have m32 := g_m32 G
  have em := xg_m K
  intro d
  induction d with
  | zero =>
    intro i hi hv
    have e : i = g_m g := by omega
    subst e
    exact br_t (by rw [em]; exact Int32.le_refl _) (h1 (fun y b hy ny _ => absurd (hv y (cW.1 y hy) hy) ny))
  | succ d ih =>
    intro i hi hv
    have hlt : i < g_m g := by omega
    refine br_f (by rw [em]; exact nI_ge hlt (by omega)) (x_contains (by omega) (fun k => br_f eg_10 (x_splits G K hlt hw (fun sp => And.intro rfl (h1 ?_)) (fun _ => And.intro rfl h0))) (fun k => br_t rfl (nm_r (nI_1 i) (ih (i + 1) (by omega) ?_))))
    · have ks := (hs i (by omega)).mp k
      intro y b hy ny kb
      have wb : g_H g i b := by
        apply Classical.byContradiction
        intro nb
        exact ks.2 (cK.2 b i kb (sp b (cK.1 b kb) (kW b kb) nb))
      by_cases e : g_H g i y
      · have l := g_hle G hlt e
        by_cases e2 : y = i
        · subst e2; exact wb
        · exact absurd (hv y (by omega) hy) ny
      · exact g_htr G (cW.1 y hy) (sp y (cW.1 y hy) hy e) wb
    · intro x hx wx
      by_cases e : x = i
      · subst e
        apply Classical.byContradiction
        intro nk
        exact k ((hs x (by omega)).mpr ⟨wx, nk⟩)
      · exact hv x (by omega) wx
theorem x_nothingBeside {post : Int32 → Prop} {s : Int64} {Wh Kn : Nat → Prop} (G : g_I g) (K : x_G g f_made a_deletes a_letter a_typed a_author a_stamp a_history a_parents) (hw : eg_set f_whole Wh) (hk : eg_set s Kn) (cW : g_cl g Wh) (cK : g_cl g Kn) (kW : ∀ x, Kn x → Wh x) (h1 : (∀ y b, Wh y → ¬ Kn y → Kn b → g_H g y b) → post 1) (h0 : post 0) : wpX_nothingBeside post (f_room, f_spare, f_replicaCount, f_eventLimit, f_made, f_whole, f_prepared, f_rowLength, a_deletes, a_letter, a_typed, a_author, a_stamp, a_history, a_parents, a_held, a_logLength, a_logEvents, a_logIndices, a_textLength, a_texts, a_row, a_prep, a_gone, a_itemOf) s := by
  refine nm_e ⟨g_m g + 1, x_nothingBeside_l G K hw cW cK kW ?_ h1 h0 (g_m g) 0 (by omega) (fun x hx => absurd hx (by omega))⟩
  intro x hx
  rw [eg_mem_and, eg_mem_not _ hx, hw x hx, hk x hx]
theorem eg_pm (j : Nat) : nI j + (-1) = nI j - 1 := (Int32.sub_eq_add_neg _ _).symm
theorem eg_pm0 : nI 0 - 1 < 0 := by decide
theorem x_startingPoint_l {post : Int64 → Prop} {s : Int64} {Wh Kn : Nat → Prop} (G : g_I g) (K : x_G g f_made a_deletes a_letter a_typed a_author a_stamp a_history a_parents) (hw : eg_set f_whole Wh) (hk : eg_set s Kn) (cW : g_cl g Wh) (cK : g_cl g Kn) (h : ∀ r B, eg_set r B → g_cl g B → (∀ x, B x → Kn x) → (∀ y b, Wh y → ¬ B y → B b → g_H g y b) → post r) : ∀ i : Nat, i ≤ g_m g → wX_startingPoint_17 post s f_room f_spare f_replicaCount f_eventLimit f_made f_whole f_prepared f_rowLength a_deletes a_letter a_typed a_author a_stamp a_history a_parents a_held a_logLength a_logEvents a_logIndices a_textLength a_texts a_row a_prep a_gone a_itemOf (i + 1) (nI i - 1) := by
  have m32 := g_m32 G
  intro i
  induction i with
  | zero =>
    intro _
    refine br_t eg_pm0 (h 0 (fun _ => False) (fun x _ => ⟨fun k => absurd k (eg_mem_0 x), fun k => k.elim⟩) ⟨fun _ k => k.elim, fun _ _ k => k.elim⟩ (fun _ k => k.elim) (fun _ _ _ _ k => k.elim))
  | succ j ih =>
    intro hj
    rw [nI_pred]
    have hlt : j < g_m g := by omega
    refine br_f (nI_pos (by omega)) (x_contains (by omega) (fun k => br_f eg_10 (x_splits G K hlt hw (fun sp => br_f eg_10 ?_) (fun _ => br_t rfl (nm_r (eg_pm j) (ih (by omega)))))) (fun k => br_t rfl (nm_r (eg_pm j) (ih (by omega)))))
    refine And.intro (vp_in_nI (by omega) (by decide)) ?_
    rw [eg_cl (n := j) (by omega)]
    refine h _ (g_H g j) (xg_h K hlt) (g_H_cl G hlt) (fun x hx => cK.2 j x ((hk j (by omega)).mp k) hx) ?_
    intro y b hy ny hb
    exact g_htr G (cW.1 y hy) (sp y (cW.1 y hy) hy ny) hb
theorem x_startingPoint {post : Int64 → Prop} {s : Int64} {Wh Kn : Nat → Prop} (G : g_I g) (K : x_G g f_made a_deletes a_letter a_typed a_author a_stamp a_history a_parents) (hw : eg_set f_whole Wh) (hk : eg_set s Kn) (cW : g_cl g Wh) (cK : g_cl g Kn) (kW : ∀ x, Kn x → Wh x) (h : ∀ r B, eg_set r B → g_cl g B → (∀ x, B x → Kn x) → (∀ y b, Wh y → ¬ B y → B b → g_H g y b) → post r) : wpX_startingPoint post (f_room, f_spare, f_replicaCount, f_eventLimit, f_made, f_whole, f_prepared, f_rowLength, a_deletes, a_letter, a_typed, a_author, a_stamp, a_history, a_parents, a_held, a_logLength, a_logEvents, a_logIndices, a_textLength, a_texts, a_row, a_prep, a_gone, a_itemOf) s := by
  have em := xg_m K
  refine x_nothingBeside G K hw hk cW cK kW (fun w => br_f eg_10 (h _ Kn hk cK (fun _ k => k) w)) (br_t rfl (nm_e ⟨g_m g + 1, ?_⟩))
  rw [em]
  subst em
  exact x_startingPoint_l G K hw hk cW cK h (g_m g) (Nat.le_refl _)
/-- the order of ranks, as the component asks it -/
theorem x_outranks {post : Int32 → Prop} {v x : Nat} (G : g_I g) (K : x_G g f_made a_deletes a_letter a_typed a_author a_stamp a_history a_parents) (hv : v < 64) (hm : v < 32 → v < g_m g) (hx : x < g_m g) (h1 : v < 32 → g_rk g x < g_rk g v → post 1) (h0 : ¬ (v < 32 ∧ g_rk g x < g_rk g v) → post 0) : wpX_outranks post (f_room, f_spare, f_replicaCount, f_eventLimit, f_made, f_whole, f_prepared, f_rowLength, a_deletes, a_letter, a_typed, a_author, a_stamp, a_history, a_parents, a_held, a_logLength, a_logEvents, a_logIndices, a_textLength, a_texts, a_row, a_prep, a_gone, a_itemOf) (nI v) (nI x) := by
  have m32 := g_m32 G
  refine pk_lt v 32 (fun w => ?_) (fun w => h0 (by omega)) rfl rfl (by omega) (by decide)
  have hvm := hm w
  have r1 := g_rng G hvm
  have r2 := g_rng G hx
  have iv : vp_in (nI v) 32 := vp_in_nI w (by decide)
  have ix : vp_in (nI x) 32 := vp_in_nI (by omega) (by decide)
  refine And.intro iv (And.intro ix ?_)
  rw [eg_cl (n := v) (by omega), eg_cl (n := x) (by omega), xg_s K hvm, xg_s K hx, xg_a K hvm, xg_a K hx]
  unfold g_rk at h1 h0
  refine pk_eq (g_stp g v) (g_stp g x) (fun e => And.intro iv (And.intro ix (pk_le (g_aut g v) (g_aut g x) (fun l => h0 (by omega)) (fun l => h1 w (by omega)) rfl rfl (by omega) (by omega)))) (fun e => And.intro iv (And.intro ix (pk_le (g_stp g v) (g_stp g x) (fun l => h0 (by omega)) (fun l => h1 w (by omega)) rfl rfl (by omega) (by omega)))) rfl rfl (by omega) (by omega)
theorem eg_Rep0 {a : Nat → Int32} {f : Nat → Int32} {l : List Nat} (h : eg_Rep a 0 f l) {i v : Nat} (k : l[i]? = some v) : a i = f v := by
  have := h i v k
  rwa [Nat.zero_add] at this
/-- the position of the character at an index of the prepared version -/
theorem x_pp_l {post : Int32 → Prop} {R A C : List Nat} {a : Nat} (hR : R = A ++ a :: C) (h64 : R.length ≤ 64) (hl : f_rowLength = nI R.length) (hr : eg_Rep a_row 0 nI R) (hv : ∀ v, v ∈ R → v < 64) (ha : a_prep a = 1) (hp : post (nI A.length)) : ∀ (A2 A1 : List Nat) (n : Nat), A = A1 ++ A2 → A2.length < n → wX_preparedPosition_4 post f_room f_spare f_replicaCount f_eventLimit f_made f_whole f_prepared f_rowLength a_deletes a_letter a_typed a_author a_stamp a_history a_parents a_held a_logLength a_logEvents a_logIndices a_textLength a_texts a_row a_prep a_gone a_itemOf n (nI (A2.countP (fun v => decide (a_prep v = 1)))) (nI A1.length) := by
  have hlen : R.length = A.length + 1 + C.length := by rw [hR]; simp; omega
  have e1 : f_rowLength - 1 = nI (A.length + C.length) := by
    rw [hl, hlen, show A.length + 1 + C.length = (A.length + C.length) + 1 by omega, nI_pred]
  intro A2
  induction A2 with
  | nil =>
    intro A1 n hA hn
    cases n with
    | zero => omega
    | succ n =>
      have eA : A1 = A := by rw [hA]; simp
      subst eA
      refine pk_le (A1.length + C.length) A1.length (fun w => ?_) (fun w => ?_) e1 rfl (by omega) (by omega)
      · rw [e1, show A1.length + C.length = A1.length by omega]; exact hp
      · have g1 : R[A1.length]? = some a := by rw [hR]; exact eg_get_mid
        have g2 := eg_Rep0 hr g1
        have g3 := hv a (List.mem_of_getElem? g1)
        refine And.intro (vp_in_nI (by omega) (by decide)) ?_
        rw [eg_cl (n := A1.length) (by omega), g2, eg_cl (n := a) (by omega)]
        exact And.intro (vp_in_nI g3 (by decide)) (br_t ha (br_t rfl hp))
  | cons b A2 ih =>
    intro A1 n hA hn
    cases n with
    | zero => omega
    | succ n =>
      have la : A.length = A1.length + (A2.length + 1) := by rw [hA]; simp
      have g1 : R[A1.length]? = some b := by
        rw [hR, hA, List.append_assoc]
        simp
      have g2 := eg_Rep0 hr g1
      have g3 := hv b (List.mem_of_getElem? g1)
      refine pk_le (A.length + C.length) A1.length (fun w => absurd w (by omega)) (fun w => ?_) e1 rfl (by omega) (by omega)
      refine And.intro (vp_in_nI (by omega) (by decide)) ?_
      rw [eg_cl (n := A1.length) (by omega), g2, eg_cl (n := b) (by omega)]
      refine And.intro (vp_in_nI g3 (by decide)) ?_
      have i1 := ih (A1 ++ [b]) n (by rw [hA]; simp) (by simpa using hn)
      have ln : (A1 ++ [b]).length = A1.length + 1 := by simp
      rw [ln] at i1
      have cb := List.countP_le_length (p := fun v => decide (a_prep v = 1)) (l := A2)
      by_cases q : a_prep b = 1
      · have c1 : (b :: A2).countP (fun v => decide (a_prep v = 1)) = A2.countP (fun v => decide (a_prep v = 1)) + 1 := List.countP_cons_of_pos (by simpa using q)
        rw [c1]
        refine br_t q (br_f (nI_ne0 (by omega) (by omega)) (nm_r (pk_m1 _) (nm_r (nI_1 _) i1)))
      · have c1 : (b :: A2).countP (fun v => decide (a_prep v = 1)) = A2.countP (fun v => decide (a_prep v = 1)) := List.countP_cons_of_neg (by simpa using q)
        rw [c1]
        exact br_f q (nm_r (nI_1 _) i1)
theorem x_pp {post : Int32 → Prop} {R A C : List Nat} {a : Nat} (hR : R = A ++ a :: C) (h64 : R.length ≤ 64) (hl : f_rowLength = nI R.length) (hr : eg_Rep a_row 0 nI R) (hv : ∀ v, v ∈ R → v < 64) (ha : a_prep a = 1) (hp : post (nI A.length)) {k : Int32} (hk : k = nI (A.countP (fun v => decide (a_prep v = 1)))) : wpX_preparedPosition post (f_room, f_spare, f_replicaCount, f_eventLimit, f_made, f_whole, f_prepared, f_rowLength, a_deletes, a_letter, a_typed, a_author, a_stamp, a_history, a_parents, a_held, a_logLength, a_logEvents, a_logIndices, a_textLength, a_texts, a_row, a_prep, a_gone, a_itemOf) k := by
  subst hk
  exact ⟨A.length + 1, x_pp_l hR h64 hl hr hv ha hp A [] (A.length + 1) rfl (by omega)⟩
theorem x_ei_l {post : Int32 → Prop} {R A C : List Nat} (hR : R = A ++ C) (h64 : R.length ≤ 64) (hr : eg_Rep a_row 0 nI R) (hv : ∀ v, v ∈ R → v < 64) (hp : post (nI (A.countP (fun v => decide (a_gone v = 0))))) : ∀ (A2 A1 : List Nat) (n : Nat), A = A1 ++ A2 → A2.length < n → wX_effectIndex_4 post (nI A.length) f_room f_spare f_replicaCount f_eventLimit f_made f_whole f_prepared f_rowLength a_deletes a_letter a_typed a_author a_stamp a_history a_parents a_held a_logLength a_logEvents a_logIndices a_textLength a_texts a_row a_prep a_gone a_itemOf n (nI (A1.countP (fun v => decide (a_gone v = 0)))) (nI A1.length) := by
  have hlen : R.length = A.length + C.length := by rw [hR]; simp
  intro A2
  induction A2 with
  | nil =>
    intro A1 n hA hn
    cases n with
    | zero => omega
    | succ n =>
      have eA : A1 = A := by rw [hA]; simp
      subst eA
      exact br_t (Int32.le_refl _) hp
  | cons b A2 ih =>
    intro A1 n hA hn
    cases n with
    | zero => omega
    | succ n =>
      have la : A.length = A1.length + (A2.length + 1) := by rw [hA]; simp
      have g1 : R[A1.length]? = some b := by
        rw [hR, hA, List.append_assoc]
        simp
      have g2 := eg_Rep0 hr g1
      have g3 := hv b (List.mem_of_getElem? g1)
      refine br_f (nI_ge (by omega) (by omega)) ?_
      refine And.intro (vp_in_nI (by omega) (by decide)) ?_
      rw [eg_cl (n := A1.length) (by omega), g2, eg_cl (n := b) (by omega)]
      refine And.intro (vp_in_nI g3 (by decide)) ?_
      have i1 := ih (A1 ++ [b]) n (by rw [hA]; simp) (by simpa using hn)
      have ln : (A1 ++ [b]).length = A1.length + 1 := by simp
      rw [ln, List.countP_append] at i1
      by_cases q : a_gone b = 0
      · have c1 : [b].countP (fun v => decide (a_gone v = 0)) = 1 := by
          rw [List.countP_cons_of_pos (by simpa using q)]; rfl
        rw [c1] at i1
        exact br_t q (nm_r (nI_1 _) (nm_r (nI_1 _) i1))
      · have c1 : [b].countP (fun v => decide (a_gone v = 0)) = 0 := by
          rw [List.countP_cons_of_neg (by simpa using q)]; rfl
        rw [c1] at i1
        exact br_f q (nm_r (nI_1 _) i1)
theorem x_ei {post : Int32 → Prop} {R A C : List Nat} (hR : R = A ++ C) (h64 : R.length ≤ 64) (hr : eg_Rep a_row 0 nI R) (hv : ∀ v, v ∈ R → v < 64) (hp : post (nI (A.countP (fun v => decide (a_gone v = 0))))) : wpX_effectIndex post (f_room, f_spare, f_replicaCount, f_eventLimit, f_made, f_whole, f_prepared, f_rowLength, a_deletes, a_letter, a_typed, a_author, a_stamp, a_history, a_parents, a_held, a_logLength, a_logEvents, a_logIndices, a_textLength, a_texts, a_row, a_prep, a_gone, a_itemOf) (nI A.length) :=
  ⟨A.length + 1, x_ei_l hR h64 hr hv hp A [] (A.length + 1) rfl (by omega)⟩
end
end
section
/-! the walker's row without a program -/
def g_Tg (g : GG) (d x : Nat) : Prop := (¬ g_del g d ∧ d = x) ∨ (g_del g d ∧ g_lnk g d = some x)
theorem g_Tgu {g : GG} {d x y : Nat} (h : g_Tg g d x) (k : g_Tg g d y) : x = y := by
  rcases h with ⟨n, h⟩ | ⟨n, h⟩
  · rcases k with ⟨_, k⟩ | ⟨n', _⟩
    · rw [← h, ← k]
    · exact absurd n' n
  · rcases k with ⟨n', _⟩ | ⟨_, k⟩
    · exact absurd n n'
    · rw [h] at k; simpa using k
def w_Q (g : GG) (W B : Nat → Prop) (x : Nat) : Prop := ¬ g_del g x ∧ W x ∧ (B x → g_vis g B x)
def w_R (F : List Nat) (it : Nat → Nat) (tB : List Nat) : List Nat := F.map it ++ List.range' (32 + tB.length) (32 - tB.length)
def w_sets (g : GG) (Wh W B V : Nat → Prop) : Prop :=
  g_cl g Wh ∧ g_cl g W ∧ g_cl g B ∧ g_cl g V ∧ (∀ x, B x → V x) ∧ (∀ x, V x → W x) ∧ (∀ x, W x → Wh x) ∧ (∀ y b, Wh y → ¬ B y → B b → g_H g y b)
def w_row (g : GG) (W B : Nat → Prop) (tB F : List Nat) (it : Nat → Nat) (f_rowLength : Int32) (a_row : Nat → Int32) : Prop :=
  g_T g B tB ∧ eg_Lst (g_P g) (w_Q g W B) F ∧ (∀ x, ¬ B x → it x = x) ∧ (∀ i x, tB[i]? = some x → it x = 32 + i) ∧ f_rowLength = nI (w_R F it tB).length ∧ eg_Rep a_row 0 nI (w_R F it tB)
def x_PR (g : GG) (F : List Nat) (it : Nat → Nat) (V : Nat → Prop) (prep : Nat → Int32) : Prop :=
  ∀ x, x ∈ F → prep (it x) = nI (eg_cnt (fun d => V d ∧ g_Tg g d x) (g_m g))
def w_vals (g : GG) (W B V : Nat → Prop) (F : List Nat) (it : Nat → Nat) (a_prep a_gone a_itemOf : Nat → Int32) : Prop :=
  x_PR g F it V a_prep ∧ (∀ x, x ∈ F → (a_gone (it x) = 0 ↔ g_vis g W x)) ∧ (∀ d x, W d → ¬ B d → g_Tg g d x → a_itemOf d = nI (it x))
def x_WI (g : GG) (Wh W : Nat → Prop) (f_whole f_prepared : Int64) (f_rowLength : Int32) (a_row a_prep a_gone a_itemOf : Nat → Int32) : Prop :=
  ∃ (B V : Nat → Prop) (tB F : List Nat) (it : Nat → Nat), eg_set f_whole Wh ∧ eg_set f_prepared V ∧ w_sets g Wh W B V ∧ w_row g W B tB F it f_rowLength a_row ∧ w_vals g W B V F it a_prep a_gone a_itemOf
theorem w_visB {g : GG} {B V : Nat → Prop} (h : ∀ x, B x → V x) {y : Nat} (hv : g_vis g V y) (hb : B y) : g_vis g B y :=
  ⟨hv.1, hb, fun d hd dd => hv.2.2 d (h d hd) dd⟩
section
variable {g : GG} {Wh W B V : Nat → Prop} {tB F : List Nat} {it : Nat → Nat} {f_rowLength : Int32} {a_row : Nat → Int32}
/-- the numbers of the items -/
theorem w_it (G : g_I g) (cB : g_cl g B) (cW : g_cl g W) (hT : g_T g B tB) (h1 : ∀ x, ¬ B x → it x = x) (h2 : ∀ i x, tB[i]? = some x → it x = 32 + i) {x : Nat} (hx : w_Q g W B x) : (¬ B x ∧ it x = x ∧ x < 32) ∨ (B x ∧ ∃ i, i < tB.length ∧ tB[i]? = some x ∧ it x = 32 + i) := by
  by_cases b : B x
  · obtain ⟨i, hi⟩ := List.mem_iff_getElem?.mp ((hT.2 x).mpr (hx.2.2 b))
    exact Or.inr ⟨b, i, (List.getElem?_eq_some_iff.mp hi).1, hi, h2 i x hi⟩
  · have := cW.1 x hx.2.1
    have := g_m32 G
    exact Or.inl ⟨b, h1 x b, by omega⟩
theorem w_inj (G : g_I g) (cB : g_cl g B) (cW : g_cl g W) (hT : g_T g B tB) (h1 : ∀ x, ¬ B x → it x = x) (h2 : ∀ i x, tB[i]? = some x → it x = 32 + i) {x y : Nat} (hx : w_Q g W B x) (hy : w_Q g W B y) (e : it x = it y) : x = y := by
  rcases w_it G cB cW hT h1 h2 hx with ⟨_, a, b⟩ | ⟨_, i, a, b, c⟩
  · rcases w_it G cB cW hT h1 h2 hy with ⟨_, a', b'⟩ | ⟨_, i', a', b', c'⟩
    · omega
    · omega
  · rcases w_it G cB cW hT h1 h2 hy with ⟨_, a', b'⟩ | ⟨_, i', a', b', c'⟩
    · omega
    · have : i = i' := by omega
      subst this
      rw [b] at b'
      simpa using b'
theorem w_lt (G : g_I g) (cB : g_cl g B) (cW : g_cl g W) (hT : g_T g B tB) (h1 : ∀ x, ¬ B x → it x = x) (h2 : ∀ i x, tB[i]? = some x → it x = 32 + i) {x : Nat} (hx : w_Q g W B x) : it x < 32 + tB.length := by
  rcases w_it G cB cW hT h1 h2 hx with ⟨_, a, b⟩ | ⟨_, i, a, b, c⟩ <;> omega
theorem w_R_lt (G : g_I g) (cB : g_cl g B) (cW : g_cl g W) (hT : g_T g B tB) (h1 : ∀ x, ¬ B x → it x = x) (h2 : ∀ i x, tB[i]? = some x → it x = 32 + i) (hF : ∀ x, x ∈ F → w_Q g W B x) : ∀ v, v ∈ w_R F it tB → v < 64 := by
  intro v hv
  have l := g_Tlen G cB.1 hT
  unfold w_R at hv
  rw [List.mem_append, List.mem_map, List.mem_range'_1] at hv
  rcases hv with ⟨x, hx, e⟩ | hv
  · have := w_lt G cB cW hT h1 h2 (hF x hx)
    omega
  · omega
theorem w_R_len (G : g_I g) (cB : g_cl g B) (cW : g_cl g W) (hT : g_T g B tB) (h1 : ∀ x, ¬ B x → it x = x) (h2 : ∀ i x, tB[i]? = some x → it x = 32 + i) (hF : ∀ x, x ∈ F → w_Q g W B x) (hn : F.Nodup) : (w_R F it tB).length = F.length + (32 - tB.length) ∧ F.length ≤ 32 + tB.length ∧ tB.length ≤ 32 := by
  have l := g_Tlen G cB.1 hT
  refine ⟨by unfold w_R; simp, ?_, l⟩
  have nd : (F.map it).Nodup := by
    rw [List.nodup_iff_pairwise_ne, List.pairwise_map]
    refine List.Pairwise.imp_of_mem ?_ hn
    intro a b ha hb ne e
    exact ne (w_inj G cB cW hT h1 h2 (hF a ha) (hF b hb) e)
  have := eg_len nd (N := 32 + tB.length) (fun v hv => by
    rw [List.mem_map] at hv
    obtain ⟨x, hx, e⟩ := hv
    have := w_lt G cB cW hT h1 h2 (hF x hx)
    omega)
  rwa [List.length_map] at this
/-- the text at a closed set between base and walked, as a part of the row -/
theorem w_text (hF : eg_Lst (g_P g) (w_Q g W B) F) {U : Nat → Prop} (hB : ∀ x, B x → U x) (hU : ∀ x, U x → W x) : g_T g U (F.filter (fun x => eg_dc (g_vis g U x))) := by
  refine eg_Lc (eg_Lf hF (g_vis g U)) (fun x => ⟨fun h => h.2, fun h => ⟨⟨h.1, hU x h.2.1, fun b => w_visB hB h b⟩, h⟩⟩)
theorem w_anchor (hF : eg_Lst (g_P g) (w_Q g W B) F) {U : Nat → Prop} (hB : ∀ x, B x → U x) (hU : ∀ x, U x → W x) {t : List Nat} (ht : g_T g U t) {j a : Nat} (hj : t[j]? = some a) : ∃ A C, F = A ++ a :: C ∧ A.countP (fun x => eg_dc (g_vis g U x)) = j ∧ g_vis g U a := by
  have e := eg_Lu ht (w_text hF hB hU)
  rw [e] at hj
  obtain ⟨A, C, h1, h2, h3⟩ := eg_fsplit _ F j a hj
  exact ⟨A, C, h1, h2, eg_dci.mp h3⟩
/-- every event walked since the clearing has its item in the row -/
theorem w_tgt (G : g_I g) (S : w_sets g Wh W B V) (hF : eg_Lst (g_P g) (w_Q g W B) F) {d : Nat} (hd : W d) (nb : ¬ B d) : ∃ y, y ∈ F ∧ g_Tg g d y := by
  obtain ⟨cWh, cW, cB, cV, bv, vw, ww, bb⟩ := S
  have hm := cW.1 d hd
  by_cases k : g_del g d
  · cases q : g_lnk g d with
    | none =>
      obtain ⟨t, _, h1, _⟩ := g_oke G hm
      exact absurd q (h1 k).2
    | some y =>
      have v := g_lv G hm q
      refine ⟨y, (hF.2 y).mpr ⟨v.1, cW.2 d y hd v.2.1.1, fun b => ?_⟩, Or.inr ⟨k, q⟩⟩
      exact w_visB (fun x hx => ⟨bb d x (ww d hd) nb hx, fun e => nb (e ▸ hx)⟩) v b
  · exact ⟨d, (hF.2 d).mpr ⟨k, hd, fun b => absurd b nb⟩, Or.inl ⟨k, rfl⟩⟩
end
/-- the count is one iff visible -/
theorem w_pv {g : GG} {V : Nat → Prop} (G : g_I g) (cV : g_cl g V) {x : Nat} (n : ¬ g_del g x) : nI (eg_cnt (fun d => V d ∧ g_Tg g d x) (g_m g)) = 1 ↔ g_vis g V x := by
  have m32 := g_m32 G
  have cl := eg_cnt_le (fun d => V d ∧ g_Tg g d x) (g_m g)
  have e1 : nI (eg_cnt (fun d => V d ∧ g_Tg g d x) (g_m g)) = 1 ↔ eg_cnt (fun d => V d ∧ g_Tg g d x) (g_m g) = 1 := nI_eq (b := 1) (by omega) (by decide)
  rw [e1]
  constructor
  · intro h
    by_cases vx : V x
    · refine ⟨n, vx, fun d hd dd k => ?_⟩
      have ne : d ≠ x := fun e => n (e ▸ dd)
      have a := eg_cnt_add (p := fun d => (V d ∧ g_Tg g d x) ∧ d ≠ x) (q := fun d => V d ∧ g_Tg g d x) (e := x) (fun z => z.2 rfl) (fun y => by
        constructor
        · intro hy
          by_cases e : y = x
          · exact Or.inr e
          · exact Or.inl ⟨hy, e⟩
        · rintro (hy | hy)
          · exact hy.1
          · subst hy; exact ⟨vx, Or.inl ⟨n, rfl⟩⟩) (g_m g) (cV.1 x vx)
      have b := eg_cnt_pos (p := fun d => (V d ∧ g_Tg g d x) ∧ d ≠ x) (e := d) (g_m g) (cV.1 d hd) ⟨⟨hd, Or.inr ⟨dd, k⟩⟩, ne⟩
      omega
    · exfalso
      have z := eg_cnt_0 (p := fun d => V d ∧ g_Tg g d x) (g_m g) (fun d _ hd => by
        rcases hd.2 with ⟨_, e⟩ | ⟨dd, k⟩
        · exact vx (e ▸ hd.1)
        · exact vx (cV.2 d x hd.1 (g_lv G (cV.1 d hd.1) k).2.1.1))
      omega
  · intro h
    have a := eg_cnt_add (p := fun _ => False) (q := fun d => V d ∧ g_Tg g d x) (e := x) (fun z => z) (fun y => by
      constructor
      · rintro ⟨hy, ⟨_, e⟩ | ⟨dd, k⟩⟩
        · exact Or.inr e
        · exact absurd k (h.2.2 y hy dd)
      · rintro (hy | hy)
        · exact hy.elim
        · subst hy; exact ⟨h.2.1, Or.inl ⟨n, rfl⟩⟩) (g_m g) (cV.1 x h.2.1)
    rw [a, eg_cnt_0 _ (fun _ _ z => z)]
theorem x_PR_add {g : GG} {F : List Nat} {it : Nat → Nat} {V V' : Nat → Prop} {prep : Nat → Int32} (hi : ∀ x y, x ∈ F → y ∈ F → it x = it y → x = y) (h : x_PR g F it V prep) {d y : Nat} (hd : d < g_m g) (nv : ¬ V d) (hy : y ∈ F) (ht : g_Tg g d y) (hV : ∀ z, V' z ↔ V z ∨ z = d) : x_PR g F it V' (upd prep (it y) (prep (it y) + 1)) := by
  intro x hx
  by_cases e : x = y
  · subst e
    rw [pk_us, h x hx, nI_1]
    rw [eg_cnt_add (p := fun d => V d ∧ g_Tg g d x) (q := fun d => V' d ∧ g_Tg g d x) (e := d) (fun z => nv z.1) (fun z => by
      constructor
      · rintro ⟨a, b⟩
        rcases (hV z).mp a with a | a
        · exact Or.inl ⟨a, b⟩
        · exact Or.inr a
      · rintro (a | a)
        · exact ⟨(hV z).mpr (Or.inl a.1), a.2⟩
        · subst a; exact ⟨(hV z).mpr (Or.inr rfl), ht⟩) (g_m g) hd]
  · rw [pk_un (fun k => e (hi x y hx hy k)), h x hx]
    rw [eg_cnt_c (p := fun d => V d ∧ g_Tg g d x) (q := fun d => V' d ∧ g_Tg g d x) (g_m g) (fun z _ => by
      constructor
      · intro a; exact ⟨(hV z).mpr (Or.inl a.1), a.2⟩
      · rintro ⟨a, b⟩
        rcases (hV z).mp a with a | a
        · exact ⟨a, b⟩
        · subst a; exact absurd (g_Tgu b ht) e)]
theorem x_PR_del {g : GG} {F : List Nat} {it : Nat → Nat} {V V' : Nat → Prop} {prep : Nat → Int32} (hi : ∀ x y, x ∈ F → y ∈ F → it x = it y → x = y) (h : x_PR g F it V prep) {d y : Nat} (hd : d < g_m g) (nv : ¬ V' d) (hy : y ∈ F) (ht : g_Tg g d y) (hV : ∀ z, V z ↔ V' z ∨ z = d) : x_PR g F it V' (upd prep (it y) (prep (it y) - 1)) := by
  intro x hx
  by_cases e : x = y
  · subst e
    rw [pk_us, h x hx]
    rw [eg_cnt_add (p := fun d => V' d ∧ g_Tg g d x) (q := fun d => V d ∧ g_Tg g d x) (e := d) (fun z => nv z.1) (fun z => by
      constructor
      · rintro ⟨a, b⟩
        rcases (hV z).mp a with a | a
        · exact Or.inl ⟨a, b⟩
        · exact Or.inr a
      · rintro (a | a)
        · exact ⟨(hV z).mpr (Or.inl a.1), a.2⟩
        · subst a; exact ⟨(hV z).mpr (Or.inr rfl), ht⟩) (g_m g) hd, nI_pred]
  · rw [pk_un (fun k => e (hi x y hx hy k)), h x hx]
    rw [eg_cnt_c (p := fun d => V d ∧ g_Tg g d x) (q := fun d => V' d ∧ g_Tg g d x) (g_m g) (fun z _ => by
      constructor
      · rintro ⟨a, b⟩
        rcases (hV z).mp a with a | a
        · exact ⟨a, b⟩
        · subst a; exact absurd (g_Tgu b ht) e
      · intro a; exact ⟨(hV z).mpr (Or.inl a.1), a.2⟩)]
theorem x_PR_c {g : GG} {F : List Nat} {it : Nat → Nat} {V V' : Nat → Prop} {prep : Nat → Int32} (h : x_PR g F it V prep) (hV : ∀ z, z < g_m g → (V z ↔ V' z)) : x_PR g F it V' prep := by
  intro x hx
  rw [h x hx, eg_cnt_c (p := fun d => V d ∧ g_Tg g d x) (q := fun d => V' d ∧ g_Tg g d x) (g_m g) (fun z hz => by rw [hV z hz])]
end
section
/-! the component's writers: texts, logs, the cleared row, the prepared version -/
theorem eg_set_add {s : Int64} {S : Nat → Prop} {e : Nat} (h : eg_set s S) (he : e < 32) : eg_set (s ||| ((1 : Int64) <<< ((nI e).toInt64 &&& 63))) (g_add S e) := by
  intro x hx
  rw [eg_mem_or, h x hx, eg_mem_one he hx]
  exact Iff.rfl
def x_T (g : GG) (S : Nat → Prop) (p : Nat) (a_textLength a_texts : Nat → Int32) : Prop :=
  ∃ t, g_T g S t ∧ a_textLength p = nI t.length ∧ eg_Rep a_texts (p * 32) (g_cod g) t
theorem x_shU_c {a : Nat → Int32} {lo hi : Nat} (h : ∀ j, vp_nar .char (a j) = a j) : ∀ j, vp_nar .char (eg_shU a lo hi j) = eg_shU a lo hi j := by
  intro j
  unfold eg_shU
  by_cases k : lo < j ∧ j ≤ hi
  · rw [if_pos k]; exact h _
  · rw [if_neg k]; exact h _
theorem x_shD_c {a : Nat → Int32} {lo hi : Nat} (h : ∀ j, vp_nar .char (a j) = a j) : ∀ j, vp_nar .char (eg_shD a lo hi j) = eg_shD a lo hi j := by
  intro j
  unfold eg_shD
  by_cases k : lo ≤ j ∧ j < hi
  · rw [if_pos k]; exact h _
  · rw [if_neg k]; exact h _
theorem x_upd_c {a : Nat → Int32} {k : Nat} {w : Int32} (h : ∀ j, vp_nar .char (a j) = a j) (hw : vp_nar .char w = w) : ∀ j, vp_nar .char (upd a k w j) = upd a k w j := by
  intro j
  by_cases e : j = k
  · subst e; rw [pk_us]; exact hw
  · rw [pk_un e]; exact h j
section
variable {f_room : Int32} {f_spare : Int32} {f_replicaCount : Int32} {f_eventLimit : Int32} {f_made : Int32} {f_whole : Int64} {f_prepared : Int64} {f_rowLength : Int32} {a_deletes : Nat → Int32} {a_letter : Nat → Int32} {a_typed : Nat → Int32} {a_author : Nat → Int32} {a_stamp : Nat → Int32} {a_history : Nat → Int64} {a_parents : Nat → Int64} {a_held : Nat → Int64} {a_logLength : Nat → Int32} {a_logEvents : Nat → Int32} {a_logIndices : Nat → Int32} {a_textLength : Nat → Int32} {a_texts : Nat → Int32} {a_row : Nat → Int32} {a_prep : Nat → Int32} {a_gone : Nat → Int32} {a_itemOf : Nat → Int32}
variable {g : GG}
theorem x_addLetter_l {post : SX → Prop} {p idx len : Nat} {c : Int32} {T : Nat → Int32} (hp : p < 5) (hT : a_textLength p = nI len) (hi : idx ≤ len) (hl : len < 32) (hc : ∀ j, vp_nar .char (T j) = T j) (hcc : vp_nar .char c = c) (h : post (f_room, f_spare, f_replicaCount, f_eventLimit, f_made, f_whole, f_prepared, f_rowLength, a_deletes, a_letter, a_typed, a_author, a_stamp, a_history, a_parents, a_held, a_logLength, a_logEvents, a_logIndices, upd a_textLength p (nI (len + 1)), upd (eg_shU T (p * 32 + idx) (p * 32 + len)) (p * 32 + idx) c, a_row, a_prep, a_gone, a_itemOf)) : ∀ d n, idx + d ≤ len → d < n → wX_addLetter_17 post (nI p) (nI idx) c (nI (p * 32)) f_room f_spare f_replicaCount f_eventLimit f_made f_whole f_prepared f_rowLength n (nI (p * 32 + idx + d)) a_deletes a_letter a_typed a_author a_stamp a_history a_parents a_held a_logLength a_logEvents a_logIndices a_textLength (eg_shU T (p * 32 + idx + d) (p * 32 + len)) a_row a_prep a_gone a_itemOf := by
  intro d
  induction d with
  | zero =>
    intro n _ hn
    cases n with
    | zero => omega
    | succ n =>
      refine br_t (by rw [nI_add]; exact Int32.le_refl _) ?_
      rw [nI_add (p * 32) idx, eg_cl (n := p * 32 + idx) (by omega), eg_cl (n := p) (by omega), hT, nI_1, hcc]
      exact And.intro (vp_in_nI (by omega) (by decide)) (nm_e (And.intro (vp_in_nI (by omega) (by decide)) (And.intro (vp_in_nI (by omega) (by decide)) (nm_e h))))
  | succ d ih =>
    intro n hd hn
    cases n with
    | zero => omega
    | succ n =>
      refine pk_le (p * 32 + idx + (d + 1)) (p * 32 + idx) (fun w => absurd w (by omega)) (fun w => ?_) rfl (nI_add _ _) (by omega) (by omega)
      have e0 : nI (p * 32 + idx + (d + 1)) - 1 = nI (p * 32 + idx + d) := nI_pred (p * 32 + idx + d)
      have e1 : nI (p * 32 + idx + (d + 1)) + (-1) = nI (p * 32 + idx + d) := pk_m1 (p * 32 + idx + d)
      rw [e0, e1, eg_cl (n := p * 32 + idx + d) (by omega), eg_cl (n := p * 32 + idx + (d + 1)) (by omega)]
      refine And.intro (vp_in_nI (by omega) (by decide)) (And.intro (vp_in_nI (by omega) (by decide)) (nm_r ?_ (nm_e (ih n (by omega) (by omega)))))
      rw [show p * 32 + idx + (d + 1) = (p * 32 + idx + d) + 1 by omega, eg_shU_r, hc]
      exact eg_shU_s (by omega)
theorem x_addLetter {post : SX → Prop} {p idx len : Nat} {c : Int32} (hp : p < 5) (hT : a_textLength p = nI len) (hi : idx ≤ len) (hl : len < 32) (hc : ∀ j, vp_nar .char (a_texts j) = a_texts j) (hcc : vp_nar .char c = c) (h : post (f_room, f_spare, f_replicaCount, f_eventLimit, f_made, f_whole, f_prepared, f_rowLength, a_deletes, a_letter, a_typed, a_author, a_stamp, a_history, a_parents, a_held, a_logLength, a_logEvents, a_logIndices, upd a_textLength p (nI (len + 1)), upd (eg_shU a_texts (p * 32 + idx) (p * 32 + len)) (p * 32 + idx) c, a_row, a_prep, a_gone, a_itemOf)) : wpX_addLetter post (f_room, f_spare, f_replicaCount, f_eventLimit, f_made, f_whole, f_prepared, f_rowLength, a_deletes, a_letter, a_typed, a_author, a_stamp, a_history, a_parents, a_held, a_logLength, a_logEvents, a_logIndices, a_textLength, a_texts, a_row, a_prep, a_gone, a_itemOf) (nI p) (nI idx) c := by
  refine nm_r (pk_mul p 32) (And.intro (vp_in_nI (by omega) (by decide)) ?_)
  rw [eg_cl (n := p) (by omega), hT, nI_add]
  refine nm_e ⟨(len - idx) + 1, ?_⟩
  have := x_addLetter_l (T := a_texts) hp hT hi hl hc hcc h (len - idx) ((len - idx) + 1) (by omega) (by omega)
  rw [show p * 32 + idx + (len - idx) = p * 32 + len by omega, eg_shU_0] at this
  exact this
theorem x_removeLetter_l {post : SX → Prop} {p idx l : Nat} {T : Nat → Int32} (hp : p < 5) (hT : a_textLength p = nI (l + 1)) (hi : idx ≤ l) (hl : l < 32) (hc : ∀ j, vp_nar .char (T j) = T j) (h : post (f_room, f_spare, f_replicaCount, f_eventLimit, f_made, f_whole, f_prepared, f_rowLength, a_deletes, a_letter, a_typed, a_author, a_stamp, a_history, a_parents, a_held, a_logLength, a_logEvents, a_logIndices, upd a_textLength p (nI l), eg_shD T (p * 32 + idx) (p * 32 + l), a_row, a_prep, a_gone, a_itemOf)) : ∀ d i n, i + d = l → idx ≤ i → d < n → wX_removeLetter_22 post (nI p) (nI (p * 32 + l)) f_room f_spare f_replicaCount f_eventLimit f_made f_whole f_prepared f_rowLength n (nI (p * 32 + i)) a_deletes a_letter a_typed a_author a_stamp a_history a_parents a_held a_logLength a_logEvents a_logIndices a_textLength (eg_shD T (p * 32 + idx) (p * 32 + i)) a_row a_prep a_gone a_itemOf := by
  intro d
  induction d with
  | zero =>
    intro i n hd _ hn
    cases n with
    | zero => omega
    | succ n =>
      have e : i = l := by omega
      subst e
      refine br_t (Int32.le_refl _) ?_
      rw [eg_cl (n := p) (by omega), hT, nI_pred]
      exact And.intro (vp_in_nI (by omega) (by decide)) (And.intro (vp_in_nI (by omega) (by decide)) (nm_e h))
  | succ d ih =>
    intro i n hd hx hn
    cases n with
    | zero => omega
    | succ n =>
      refine br_f (nI_ge (by omega) (by omega)) ?_
      rw [nI_1, eg_cl (n := p * 32 + i + 1) (by omega), eg_cl (n := p * 32 + i) (by omega)]
      refine And.intro (vp_in_nI (by omega) (by decide)) (And.intro (vp_in_nI (by omega) (by decide)) (nm_r ?_ (nm_e (ih (i + 1) n (by omega) (by omega) (by omega)))))
      rw [eg_shD_r, hc]
      exact eg_shD_s (by omega)
theorem x_removeLetter {post : SX → Prop} {p idx l : Nat} (hp : p < 5) (hT : a_textLength p = nI (l + 1)) (hi : idx ≤ l) (hl : l < 32) (hc : ∀ j, vp_nar .char (a_texts j) = a_texts j) (h : post (f_room, f_spare, f_replicaCount, f_eventLimit, f_made, f_whole, f_prepared, f_rowLength, a_deletes, a_letter, a_typed, a_author, a_stamp, a_history, a_parents, a_held, a_logLength, a_logEvents, a_logIndices, upd a_textLength p (nI l), eg_shD a_texts (p * 32 + idx) (p * 32 + l), a_row, a_prep, a_gone, a_itemOf)) : wpX_removeLetter post (f_room, f_spare, f_replicaCount, f_eventLimit, f_made, f_whole, f_prepared, f_rowLength, a_deletes, a_letter, a_typed, a_author, a_stamp, a_history, a_parents, a_held, a_logLength, a_logEvents, a_logIndices, a_textLength, a_texts, a_row, a_prep, a_gone, a_itemOf) (nI p) (nI idx) := by
  refine And.intro (vp_in_nI (by omega) (by decide)) ?_
  rw [eg_cl (n := p) (by omega), hT]
  have e0 : (nI p * 32 + nI (l + 1)) - 1 = nI (p * 32 + l) := by
    rw [show nI p * 32 = nI (p * 32) from pk_mul p 32, nI_add, show p * 32 + (l + 1) = (p * 32 + l) + 1 by omega, nI_pred]
  have e1 : nI p * 32 + nI idx = nI (p * 32 + idx) := by
    rw [show nI p * 32 = nI (p * 32) from pk_mul p 32, nI_add]
  refine nm_r e0 (nm_r e1 ⟨(l - idx) + 1, ?_⟩)
  have := x_removeLetter_l (T := a_texts) hp hT hi hl hc h (l - idx) idx ((l - idx) + 1) (by omega) (by omega) (by omega)
  rw [eg_shD_0] at this
  exact this
theorem x_applyToText {post : SX → Prop} {S : Nat → Prop} {p e : Nat} {r : Int32} (G : g_I g) (K : x_G g f_made a_deletes a_letter a_typed a_author a_stamp a_history a_parents) (hp : p < 5) (he : e < g_m g) (cS : g_cl g S) (ne : ¬ S e) (hT : x_T g S p a_textLength a_texts) (hc : ∀ j, vp_nar .char (a_texts j) = a_texts j) (hF : g_Fnd g S e r) (h : ∀ tl tx : Nat → Int32, x_T g (g_add S e) p tl tx → (∀ q, q ≠ p → tl q = a_textLength q) → (∀ j, j < p * 32 ∨ p * 32 + 32 ≤ j → tx j = a_texts j) → (∀ j, vp_nar .char (tx j) = tx j) → post (f_room, f_spare, f_replicaCount, f_eventLimit, f_made, f_whole, f_prepared, f_rowLength, a_deletes, a_letter, a_typed, a_author, a_stamp, a_history, a_parents, a_held, a_logLength, a_logEvents, a_logIndices, tl, tx, a_row, a_prep, a_gone, a_itemOf)) : wpX_applyToText post (f_room, f_spare, f_replicaCount, f_eventLimit, f_made, f_whole, f_prepared, f_rowLength, a_deletes, a_letter, a_typed, a_author, a_stamp, a_history, a_parents, a_held, a_logLength, a_logEvents, a_logIndices, a_textLength, a_texts, a_row, a_prep, a_gone, a_itemOf) (nI p) (nI e) r := by
  have m32 := g_m32 G
  obtain ⟨t, ht, h1, h2⟩ := hT
  have tl32 := g_Tlen G cS.1 ht
  have cA : ∀ x, g_add S e x → x < g_m g := by
    rintro x (k | k)
    · exact cS.1 x k
    · omega
  have ie : vp_in (nI e) 32 := vp_in_nI (by omega) (by decide)
  by_cases d : g_del g e
  · rcases g_Fd d hF ht with ⟨A, a, C, e1, e2, e3⟩ | ⟨e2, e3⟩
    · subst e1 e2
      have ln : (A ++ a :: C).length = (A.length + C.length) + 1 := by simp; omega
      rw [ln] at h1 tl32
      refine br_t (nI_pos' (by omega)) (And.intro ie ?_)
      rw [eg_cl (n := e) (by omega)]
      refine br_f (fun z => ((xg_d K he).mp z) d) ?_
      refine x_removeLetter (l := A.length + C.length) hp h1 (by omega) (by omega) hc ?_
      refine h _ _ ⟨A ++ C, e3, ?_, ?_⟩ ?_ ?_ ?_
      · rw [pk_us]; simp
      · have := eg_Rep_del h2
        rw [List.length_append] at this
        exact this
      · intro q hq; exact pk_un hq
      · intro j hj
        unfold eg_shD
        rw [if_neg (by omega)]
      · exact x_shD_c hc
    · subst e2
      refine br_f (by decide) (h _ _ ⟨t, e3, h1, h2⟩ (fun _ _ => rfl) (fun _ _ => rfl) hc)
  · have hn : ∀ d', S d' → g_del g d' → g_lnk g d' ≠ some e := fun d' hd _ => g_nolink G cS ne d' hd
    obtain ⟨A, C, e1, e2, e3⟩ := g_Fi d ne hn hF ht
    subst e1 e2
    have ln := g_Tlen G cA e3
    have l2 : (A ++ e :: C).length = (A ++ C).length + 1 := by simp; omega
    have l3 : (A ++ C).length = A.length + C.length := by simp
    rw [l2] at ln
    refine br_t (nI_pos' (by omega)) (And.intro ie ?_)
    rw [eg_cl (n := e) (by omega)]
    refine br_t ((xg_d K he).mpr d) (And.intro ie ?_)
    refine x_addLetter (len := (A ++ C).length) hp h1 (by omega) (by omega) hc (xg_lc K e) ?_
    refine h _ _ ⟨A ++ e :: C, e3, ?_, ?_⟩ ?_ ?_ ?_
    · rw [pk_us, l2]
    · exact eg_Rep_ins h2 (xg_l K he d)
    · intro q hq; exact pk_un hq
    · intro j hj
      rw [pk_un (by omega)]
      unfold eg_shU
      rw [if_neg (by omega)]
    · exact x_upd_c (x_shU_c hc) (xg_lc K e)
theorem x_enter {post : SX → Prop} {p e c : Nat} {r : Int32} (hp : p < 4) (hc : a_logLength p = nI c) (h32 : c < 32) (h : post (f_room, f_spare, f_replicaCount, f_eventLimit, f_made, f_whole, f_prepared, f_rowLength, a_deletes, a_letter, a_typed, a_author, a_stamp, a_history, a_parents, vp_updL a_held p ((a_held p) ||| ((1 : Int64) <<< ((nI e).toInt64 &&& 63))), upd a_logLength p (nI (c + 1)), upd a_logEvents (p * 32 + c) (nI e), upd a_logIndices (p * 32 + c) r, a_textLength, a_texts, a_row, a_prep, a_gone, a_itemOf)) : wpX_enter post (f_room, f_spare, f_replicaCount, f_eventLimit, f_made, f_whole, f_prepared, f_rowLength, a_deletes, a_letter, a_typed, a_author, a_stamp, a_history, a_parents, a_held, a_logLength, a_logEvents, a_logIndices, a_textLength, a_texts, a_row, a_prep, a_gone, a_itemOf) (nI p) (nI e) r := by
  have ip : vp_in (nI p) 4 := vp_in_nI hp (by decide)
  refine And.intro ip ?_
  have e1 : nI p * 32 + nI c = nI (p * 32 + c) := by
    rw [show nI p * 32 = nI (p * 32) from pk_mul p 32, nI_add]
  rw [eg_cl (n := p) (by omega), hc]
  refine nm_r e1 ?_
  rw [eg_cl (n := p * 32 + c) (by omega), nI_1]
  have i2 : vp_in (nI (p * 32 + c)) 128 := vp_in_nI (by omega) (by decide)
  exact And.intro i2 (nm_e (And.intro i2 (nm_e (And.intro ip (And.intro ip (nm_e (And.intro ip (And.intro ip (nm_e h)))))))))
theorem x_clearRow_l {post : SX → Prop} {b : Int64} (h : ∀ row prep gone : Nat → Int32, (∀ j, j < 32 → row j = nI (32 + j)) → (∀ j, j < 32 → prep (32 + j) = 1) → (∀ j, j < 32 → gone (32 + j) = 0) → post (f_room, f_spare, f_replicaCount, f_eventLimit, f_made, f_whole, b, 32, a_deletes, a_letter, a_typed, a_author, a_stamp, a_history, a_parents, a_held, a_logLength, a_logEvents, a_logIndices, a_textLength, a_texts, row, prep, gone, a_itemOf)) : ∀ d i n (row prep gone : Nat → Int32), i + d = 32 → d < n → (∀ j, j < i → row j = nI (32 + j)) → (∀ j, j < i → prep (32 + j) = 1) → (∀ j, j < i → gone (32 + j) = 0) → wX_clearRow_2 post b f_room f_spare f_replicaCount f_eventLimit f_made f_whole f_prepared f_rowLength n (nI i) a_deletes a_letter a_typed a_author a_stamp a_history a_parents a_held a_logLength a_logEvents a_logIndices a_textLength a_texts row prep gone a_itemOf := by
  intro d
  induction d with
  | zero =>
    intro i n row prep gone hd hn h1 h2 h3
    cases n with
    | zero => omega
    | succ n =>
      have e : i = 32 := by omega
      subst e
      exact br_t (Int32.le_refl _) (h row prep gone h1 h2 h3)
  | succ d ih =>
    intro i n row prep gone hd hn h1 h2 h3
    cases n with
    | zero => omega
    | succ n =>
      refine br_f (nI_ge (b := 32) (by omega) (by decide)) ?_
      have e : (32 : Int32) + nI i = nI (32 + i) := nI_add 32 i
      rw [e, eg_cl (n := i) (by omega), eg_cl (n := 32 + i) (by omega), nI_1]
      have i2 : vp_in (nI (32 + i)) 64 := vp_in_nI (by omega) (by decide)
      refine And.intro (vp_in_nI (by omega) (by decide)) (nm_e (And.intro i2 (nm_e (And.intro i2 (nm_e (nm_e (ih (i + 1) n _ _ _ (by omega) (by omega) ?_ ?_ ?_)))))))
      · intro j hj
        by_cases k : j = i
        · subst k; exact pk_us
        · rw [pk_un k]; exact h1 j (by omega)
      · intro j hj
        by_cases k : j = i
        · subst k; exact pk_us
        · rw [pk_un (by omega)]; exact h2 j (by omega)
      · intro j hj
        by_cases k : j = i
        · subst k; exact pk_us
        · rw [pk_un (by omega)]; exact h3 j (by omega)
theorem x_clearRow {post : SX → Prop} {b : Int64} (h : ∀ row prep gone : Nat → Int32, (∀ j, j < 32 → row j = nI (32 + j)) → (∀ j, j < 32 → prep (32 + j) = 1) → (∀ j, j < 32 → gone (32 + j) = 0) → post (f_room, f_spare, f_replicaCount, f_eventLimit, f_made, f_whole, b, 32, a_deletes, a_letter, a_typed, a_author, a_stamp, a_history, a_parents, a_held, a_logLength, a_logEvents, a_logIndices, a_textLength, a_texts, row, prep, gone, a_itemOf)) : wpX_clearRow post (f_room, f_spare, f_replicaCount, f_eventLimit, f_made, f_whole, f_prepared, f_rowLength, a_deletes, a_letter, a_typed, a_author, a_stamp, a_history, a_parents, a_held, a_logLength, a_logEvents, a_logIndices, a_textLength, a_texts, a_row, a_prep, a_gone, a_itemOf) b :=
  ⟨33, x_clearRow_l h 32 0 33 a_row a_prep a_gone (by omega) (by omega) (fun _ k => absurd k (by omega)) (fun _ k => absurd k (by omega)) (fun _ k => absurd k (by omega))⟩
theorem x_mp71 {post : SX → Prop} {b s : Int64} {V Gl : Nat → Prop} {F : List Nat} {it : Nat → Nat} (G : g_I g) (hm : f_made = nI (g_m g)) (hi : ∀ x y, x ∈ F → y ∈ F → it x = it y → x = y) (h64 : ∀ x, x ∈ F → it x < 64) (hs : eg_set s (fun d => Gl d ∧ ¬ V d)) (ho : ∀ d, d < g_m g → Gl d → ¬ V d → ∃ y, y ∈ F ∧ g_Tg g d y ∧ a_itemOf d = nI (it y)) (h : ∀ prep, x_PR g F it Gl prep → post (f_room, f_spare, f_replicaCount, f_eventLimit, f_made, f_whole, b, f_rowLength, a_deletes, a_letter, a_typed, a_author, a_stamp, a_history, a_parents, a_held, a_logLength, a_logEvents, a_logIndices, a_textLength, a_texts, a_row, prep, a_gone, a_itemOf)) : ∀ d i n (prep : Nat → Int32), i + d = g_m g → d < n → x_PR g F it (fun z => Gl z ∧ (V z ∨ z < i)) prep → wX_movePrepared_71 post b s f_room f_spare f_replicaCount f_eventLimit f_made f_whole f_prepared f_rowLength n (nI i) a_deletes a_letter a_typed a_author a_stamp a_history a_parents a_held a_logLength a_logEvents a_logIndices a_textLength a_texts a_row prep a_gone a_itemOf := by
  have m32 := g_m32 G
  intro d
  induction d with
  | zero =>
    intro i n prep hd hn hP
    cases n with
    | zero => omega
    | succ n =>
      have e : i = g_m g := by omega
      subst e
      refine br_t (by rw [hm]; exact Int32.le_refl _) (h prep (x_PR_c hP (fun z hz => ⟨fun k => k.1, fun k => ⟨k, Or.inr hz⟩⟩)))
  | succ d ih =>
    intro i n prep hd hn hP
    cases n with
    | zero => omega
    | succ n =>
      have hlt : i < g_m g := by omega
      refine br_f (by rw [hm]; exact nI_ge hlt (by omega)) (x_contains (by omega) (fun k => br_f eg_10 ?_) (fun k => br_t rfl (nm_r (nI_1 i) (ih (i + 1) n prep (by omega) (by omega) (x_PR_c hP ?_)))))
      · obtain ⟨k1, k2⟩ := (hs i (by omega)).mp k
        obtain ⟨y, hy, ht, e⟩ := ho i hlt k1 k2
        have l := h64 y hy
        have iy : vp_in (nI (it y)) 64 := vp_in_nI l (by decide)
        rw [eg_cl (n := i) (by omega), e, eg_cl (n := it y) (by omega), nI_1 i]
        refine And.intro (vp_in_nI (by omega) (by decide)) (And.intro iy (And.intro iy (nm_e (nm_e (ih (i + 1) n _ (by omega) (by omega) ?_)))))
        refine x_PR_add hi hP hlt (fun z => ?_) hy ht (fun z => ?_)
        · rcases z.2 with w | w
          · exact k2 w
          · omega
        · constructor
          · rintro ⟨a, w | w⟩
            · exact Or.inl ⟨a, Or.inl w⟩
            · by_cases q : z = i
              · exact Or.inr q
              · exact Or.inl ⟨a, Or.inr (by omega)⟩
          · rintro (⟨a, w | w⟩ | w)
            · exact ⟨a, Or.inl w⟩
            · exact ⟨a, Or.inr (by omega)⟩
            · subst w; exact ⟨k1, Or.inr (by omega)⟩
      · intro z hz
        constructor
        · rintro ⟨a, w | w⟩
          · exact ⟨a, Or.inl w⟩
          · exact ⟨a, Or.inr (by omega)⟩
        · rintro ⟨a, w | w⟩
          · exact ⟨a, Or.inl w⟩
          · by_cases q : z = i
            · subst q
              by_cases v : V z
              · exact ⟨a, Or.inl v⟩
              · exact absurd ((hs z (by omega)).mpr ⟨a, v⟩) k
            · exact ⟨a, Or.inr (by omega)⟩
theorem x_mp19 {post : SX → Prop} {b s : Int64} {V Gl : Nat → Prop} {F : List Nat} {it : Nat → Nat} (G : g_I g) (hm : f_made = nI (g_m g)) (hi : ∀ x y, x ∈ F → y ∈ F → it x = it y → x = y) (h64 : ∀ x, x ∈ F → it x < 64) (hb : eg_set b Gl) (hv : eg_set f_prepared V) (hs : eg_set s (fun d => V d ∧ ¬ Gl d)) (ho : ∀ d, d < g_m g → (V d ∧ ¬ Gl d) ∨ (Gl d ∧ ¬ V d) → ∃ y, y ∈ F ∧ g_Tg g d y ∧ a_itemOf d = nI (it y)) (h : ∀ prep, x_PR g F it Gl prep → post (f_room, f_spare, f_replicaCount, f_eventLimit, f_made, f_whole, b, f_rowLength, a_deletes, a_letter, a_typed, a_author, a_stamp, a_history, a_parents, a_held, a_logLength, a_logEvents, a_logIndices, a_textLength, a_texts, a_row, prep, a_gone, a_itemOf)) : ∀ i n (prep : Nat → Int32), i ≤ g_m g → i < n → x_PR g F it (fun z => V z ∧ (Gl z ∨ z < i)) prep → wX_movePrepared_19 post b s f_room f_spare f_replicaCount f_eventLimit f_made f_whole f_prepared f_rowLength n (nI i - 1) a_deletes a_letter a_typed a_author a_stamp a_history a_parents a_held a_logLength a_logEvents a_logIndices a_textLength a_texts a_row prep a_gone a_itemOf := by
  have m32 := g_m32 G
  intro i
  induction i with
  | zero =>
    intro n prep hd hn hP
    cases n with
    | zero => omega
    | succ n =>
      refine br_t eg_pm0 (nm_e ⟨g_m g + 1, ?_⟩)
      refine x_mp71 G hm hi h64 ?_ (fun d hd k1 k2 => ho d hd (Or.inr ⟨k1, k2⟩)) h (g_m g) 0 (g_m g + 1) prep (by omega) (by omega) (x_PR_c hP ?_)
      · intro x hx
        rw [eg_mem_and, eg_mem_not _ hx, hb x hx, hv x hx]
      · intro z _
        constructor
        · rintro ⟨a, w | w⟩
          · exact ⟨w, Or.inl a⟩
          · omega
        · rintro ⟨a, w | w⟩
          · exact ⟨w, Or.inl a⟩
          · omega
  | succ j ih =>
    intro n prep hd hn hP
    cases n with
    | zero => omega
    | succ n =>
      rw [nI_pred]
      have hlt : j < g_m g := by omega
      refine br_f (nI_pos (by omega)) (x_contains (by omega) (fun k => br_f eg_10 ?_) (fun k => br_t rfl (nm_r (eg_pm j) (ih n prep (by omega) (by omega) (x_PR_c hP ?_)))))
      · obtain ⟨k1, k2⟩ := (hs j (by omega)).mp k
        obtain ⟨y, hy, ht, e⟩ := ho j hlt (Or.inl ⟨k1, k2⟩)
        have l := h64 y hy
        have iy : vp_in (nI (it y)) 64 := vp_in_nI l (by decide)
        rw [eg_cl (n := j) (by omega), e, eg_cl (n := it y) (by omega), eg_pm j]
        refine And.intro (vp_in_nI (by omega) (by decide)) (And.intro iy (And.intro iy (nm_e (nm_e (ih n _ (by omega) (by omega) ?_)))))
        refine x_PR_del hi hP hlt (fun z => ?_) hy ht (fun z => ?_)
        · rcases z.2 with w | w
          · exact k2 w
          · omega
        · constructor
          · rintro ⟨a, w | w⟩
            · exact Or.inl ⟨a, Or.inl w⟩
            · by_cases q : z = j
              · exact Or.inr q
              · exact Or.inl ⟨a, Or.inr (by omega)⟩
          · rintro (⟨a, w | w⟩ | w)
            · exact ⟨a, Or.inl w⟩
            · exact ⟨a, Or.inr (by omega)⟩
            · subst w; exact ⟨k1, Or.inr (by omega)⟩
      · intro z hz
        constructor
        · rintro ⟨a, w | w⟩
          · exact ⟨a, Or.inl w⟩
          · by_cases q : z = j
            · subst q
              by_cases v : Gl z
              · exact ⟨a, Or.inl v⟩
              · exact absurd ((hs z (by omega)).mpr ⟨a, v⟩) k
            · exact ⟨a, Or.inr (by omega)⟩
        · rintro ⟨a, w | w⟩
          · exact ⟨a, Or.inl w⟩
          · exact ⟨a, Or.inr (by omega)⟩
theorem x_movePrepared {post : SX → Prop} {b : Int64} {V Gl : Nat → Prop} {F : List Nat} {it : Nat → Nat} (G : g_I g) (hm : f_made = nI (g_m g)) (hi : ∀ x y, x ∈ F → y ∈ F → it x = it y → x = y) (h64 : ∀ x, x ∈ F → it x < 64) (hb : eg_set b Gl) (hv : eg_set f_prepared V) (ho : ∀ d, d < g_m g → (V d ∧ ¬ Gl d) ∨ (Gl d ∧ ¬ V d) → ∃ y, y ∈ F ∧ g_Tg g d y ∧ a_itemOf d = nI (it y)) (hP : x_PR g F it V a_prep) (h : ∀ prep, x_PR g F it Gl prep → post (f_room, f_spare, f_replicaCount, f_eventLimit, f_made, f_whole, b, f_rowLength, a_deletes, a_letter, a_typed, a_author, a_stamp, a_history, a_parents, a_held, a_logLength, a_logEvents, a_logIndices, a_textLength, a_texts, a_row, prep, a_gone, a_itemOf)) : wpX_movePrepared post (f_room, f_spare, f_replicaCount, f_eventLimit, f_made, f_whole, f_prepared, f_rowLength, a_deletes, a_letter, a_typed, a_author, a_stamp, a_history, a_parents, a_held, a_logLength, a_logEvents, a_logIndices, a_textLength, a_texts, a_row, a_prep, a_gone, a_itemOf) b := by
  refine nm_e (nm_r (congrArg (fun z => z - 1) hm) ⟨g_m g + 1, ?_⟩)
  refine x_mp19 G hm hi h64 hb hv ?_ ho h (g_m g) (g_m g + 1) a_prep (Nat.le_refl _) (by omega) (x_PR_c hP (fun z hz => ⟨fun k => ⟨k, Or.inr hz⟩, fun k => k.1⟩))
  intro x hx
  rw [eg_mem_and, eg_mem_not _ hx, hb x hx, hv x hx]
end
end
section
/-! the walker: one event -/
theorem w_cut {it : Nat → Nat} {tl : List Nat} (ht : ∀ v, v ∈ tl → 32 ≤ v) : ∀ (B T C : List Nat), T.map it ++ tl = B ++ C → (∀ b, b ∈ B → b < 32) → ∃ B1 C1, T = B1 ++ C1 ∧ B = B1.map it ∧ C = C1.map it ++ tl := by
  intro B
  induction B with
  | nil => intro T C e _; exact ⟨[], T, rfl, rfl, e.symm⟩
  | cons b B ih =>
    intro T C e hb
    cases T with
    | nil =>
      have : b ∈ tl := by
        have e2 : tl = b :: (B ++ C) := e
        rw [e2]; exact List.mem_cons_self ..
      have := ht b this
      have := hb b (List.mem_cons_self ..)
      omega
    | cons y T =>
      have e2 : it y :: (T.map it ++ tl) = b :: (B ++ C) := e
      rw [List.cons.injEq] at e2
      obtain ⟨B1, C1, h1, h2, h3⟩ := ih T C e2.2 (fun v hv => hb v (List.mem_cons_of_mem _ hv))
      exact ⟨y :: B1, C1, by rw [h1]; rfl, by rw [h2, ← e2.1]; rfl, h3⟩
theorem w_Qadd_i {g : GG} {W B : Nat → Prop} {x : Nat} (nd : ¬ g_del g x) (nB : ¬ B x) (y : Nat) : w_Q g (g_add W x) B y ↔ g_add (w_Q g W B) x y := by
  constructor
  · rintro ⟨a, b | b, c⟩
    · exact Or.inl ⟨a, b, c⟩
    · exact Or.inr b
  · rintro (⟨a, b, c⟩ | e)
    · exact ⟨a, Or.inl b, c⟩
    · subst e; exact ⟨nd, Or.inr rfl, fun z => absurd z nB⟩
theorem w_Qadd_d {g : GG} {W B : Nat → Prop} {x : Nat} (d : g_del g x) (y : Nat) : w_Q g (g_add W x) B y ↔ w_Q g W B y := by
  constructor
  · rintro ⟨a, b | b, c⟩
    · exact ⟨a, b, c⟩
    · subst b; exact absurd d a
  · rintro ⟨a, b, c⟩
    exact ⟨a, Or.inl b, c⟩
theorem w_cnt {it : Nat → Nat} {p : Nat → Bool} {q : Nat → Bool} {A : List Nat} (h : ∀ y, y ∈ A → (p (it y) = true ↔ q y = true)) : (A.map it).countP p = A.countP q := by
  rw [List.countP_map]
  exact List.countP_congr (fun y hy => h y hy)
theorem w_dd {a : Int32} {b : Int32} {p : Prop} (h : a = b ↔ p) : decide (a = b) = true ↔ eg_dc p = true := by
  rw [decide_eq_true_iff, eg_dci]; exact h
section
variable {f_room : Int32} {f_spare : Int32} {f_replicaCount : Int32} {f_eventLimit : Int32} {f_made : Int32} {f_whole : Int64} {f_prepared : Int64} {f_rowLength : Int32} {a_deletes : Nat → Int32} {a_letter : Nat → Int32} {a_typed : Nat → Int32} {a_author : Nat → Int32} {a_stamp : Nat → Int32} {a_history : Nat → Int64} {a_parents : Nat → Int64} {a_held : Nat → Int64} {a_logLength : Nat → Int32} {a_logEvents : Nat → Int32} {a_logIndices : Nat → Int32} {a_textLength : Nat → Int32} {a_texts : Nat → Int32} {a_row : Nat → Int32} {a_prep : Nat → Int32} {a_gone : Nat → Int32} {a_itemOf : Nat → Int32}
variable {g : GG}
theorem x_wi61 {post : Int32 → SX → Prop} {x pos len : Nat} {T : Nat → Int32} (hx : x < 32) (hp : pos ≤ len) (hl : len < 64) (hf : f_rowLength = nI len) (h : wpX_effectIndex (fun r => post r (f_room, f_spare, f_replicaCount, f_eventLimit, f_made, f_whole, f_prepared, nI (len + 1), a_deletes, a_letter, a_typed, a_author, a_stamp, a_history, a_parents, a_held, a_logLength, a_logEvents, a_logIndices, a_textLength, a_texts, upd (eg_shU T pos len) pos (nI x), upd a_prep x 1, upd a_gone x 0, upd a_itemOf x (nI x))) (f_room, f_spare, f_replicaCount, f_eventLimit, f_made, f_whole, f_prepared, nI (len + 1), a_deletes, a_letter, a_typed, a_author, a_stamp, a_history, a_parents, a_held, a_logLength, a_logEvents, a_logIndices, a_textLength, a_texts, upd (eg_shU T pos len) pos (nI x), upd a_prep x 1, upd a_gone x 0, upd a_itemOf x (nI x)) (nI pos)) : ∀ d n, pos + d ≤ len → d < n → wX_walkInsertion_61 post (nI x) (nI pos) f_room f_spare f_replicaCount f_eventLimit f_made f_whole f_prepared f_rowLength n (nI (pos + d)) a_deletes a_letter a_typed a_author a_stamp a_history a_parents a_held a_logLength a_logEvents a_logIndices a_textLength a_texts (eg_shU T (pos + d) len) a_prep a_gone a_itemOf := by
  intro d
  induction d with
  | zero =>
    intro n _ hn
    cases n with
    | zero => omega
    | succ n =>
      refine br_t (Int32.le_refl _) ?_
      rw [eg_cl (n := pos) (by omega), eg_cl (n := x) (by omega), hf, nI_1]
      exact And.intro (vp_in_nI (by omega) (by decide)) (nm_e (nm_e (And.intro (vp_in_nI (by omega) (by decide)) (nm_e (And.intro (vp_in_nI (by omega) (by decide)) (nm_e (And.intro (vp_in_nI (by omega) (by decide)) (nm_e h))))))))
  | succ d ih =>
    intro n hd hn
    cases n with
    | zero => omega
    | succ n =>
      refine br_f (nI_ge (by omega) (by omega)) ?_
      have e0 : nI (pos + (d + 1)) - 1 = nI (pos + d) := nI_pred (pos + d)
      have e1 : nI (pos + (d + 1)) + (-1) = nI (pos + d) := pk_m1 (pos + d)
      rw [e0, e1, eg_cl (n := pos + d) (by omega), eg_cl (n := pos + (d + 1)) (by omega)]
      refine And.intro (vp_in_nI (by omega) (by decide)) (And.intro (vp_in_nI (by omega) (by decide)) (nm_r ?_ (nm_e (ih n (by omega) (by omega)))))
      rw [show pos + (d + 1) = (pos + d) + 1 by omega, eg_shU_r]
      exact eg_shU_s (by omega)
theorem x_wi28 {post : Int32 → SX → Prop} {x : Nat} {R A0 : List Nat} (G : g_I g) (K : x_G g f_made a_deletes a_letter a_typed a_author a_stamp a_history a_parents) (hl : f_rowLength = nI R.length) (h64 : R.length ≤ 64) (hr : eg_Rep a_row 0 nI R) (hv : ∀ v, v ∈ R → v < 64) (hm : ∀ v, v ∈ R → v < 32 → v < g_m g) (hx : x < g_m g) (h : ∀ B C, R = A0 ++ (B ++ C) → (∀ b, b ∈ B → b < 32 ∧ g_rk g x < g_rk g b) → (∀ c C1, C = c :: C1 → ¬ (c < 32 ∧ g_rk g x < g_rk g c)) → ∃ n61 : Nat, wX_walkInsertion_61 post (nI x) (nI (A0.length + B.length)) f_room f_spare f_replicaCount f_eventLimit f_made f_whole f_prepared f_rowLength n61 f_rowLength a_deletes a_letter a_typed a_author a_stamp a_history a_parents a_held a_logLength a_logEvents a_logIndices a_textLength a_texts a_row a_prep a_gone a_itemOf) : ∀ (T B : List Nat) (n : Nat), R = A0 ++ (B ++ T) → (∀ b, b ∈ B → b < 32 ∧ g_rk g x < g_rk g b) → T.length < n → wX_walkInsertion_28 post (nI x) f_room f_spare f_replicaCount f_eventLimit f_made f_whole f_prepared f_rowLength a_deletes a_letter a_typed a_author a_stamp a_history a_parents a_held a_logLength a_logEvents a_logIndices a_textLength a_texts a_row a_prep a_gone a_itemOf n (nI (A0.length + B.length)) := by
  intro T
  induction T with
  | nil =>
    intro B n hR hB hn
    cases n with
    | zero => omega
    | succ n =>
      have ln : R.length = A0.length + B.length := by rw [hR]; simp
      refine br_t (by rw [hl, ln]; exact Int32.le_refl _) (h B [] hR hB (fun c C1 e => absurd e (by simp)))
  | cons v T ih =>
    intro B n hR hB hn
    cases n with
    | zero => omega
    | succ n =>
      have ln : R.length = A0.length + B.length + (T.length + 1) := by rw [hR]; simp; omega
      have g1 : R[A0.length + B.length]? = some v := by
        rw [hR, ← List.append_assoc, ← List.length_append]
        exact eg_get_mid
      have g2 := eg_Rep0 hr g1
      have mv := List.mem_of_getElem? g1
      refine br_f (by rw [hl, ln]; exact nI_ge (by omega) (by omega)) (And.intro (vp_in_nI (by omega) (by decide)) ?_)
      rw [eg_cl (n := A0.length + B.length) (by omega), g2]
      refine x_outranks G K (hv v mv) (hm v mv) hx (fun w1 w2 => br_f eg_10 (nm_r (nI_1 _) ?_)) (fun w => br_t rfl (h B (v :: T) hR hB ?_))
      · have := ih (B ++ [v]) n (by rw [hR]; simp) (fun b hb => by
          rw [List.mem_append] at hb
          rcases hb with hb | hb
          · exact hB b hb
          · have : b = v := by simpa using hb
            subst this; exact ⟨w1, w2⟩) (by simpa using hn)
        rw [show A0.length + (B ++ [v]).length = A0.length + B.length + 1 by simp; omega] at this
        exact this
      · intro c C1 e
        rw [List.cons.injEq] at e
        rw [← e.1]
        exact w
set_option maxHeartbeats 4000000 in
theorem x_walkIns {post : Int32 → SX → Prop} {x : Nat} {Wh W B : Nat → Prop} {tB F : List Nat} {it : Nat → Nat} (G : g_I g) (K : x_G g f_made a_deletes a_letter a_typed a_author a_stamp a_history a_parents) (hx : x < g_m g) (nd : ¬ g_del g x) (hw : Wh x) (nx : ¬ W x) (S : w_sets g Wh W B (g_past g x)) (Rw : w_row g W B tB F it f_rowLength a_row) (Vl : w_vals g W B (g_past g x) F it a_prep a_gone a_itemOf) (h : ∀ (r fr : Int32) (row prep gone io : Nat → Int32) (F' : List Nat), g_Fnd g W x r → w_row g (g_add W x) B tB F' it fr row → w_vals g (g_add W x) B (g_H g x) F' it prep gone io → post r (f_room, f_spare, f_replicaCount, f_eventLimit, f_made, f_whole, f_prepared, fr, a_deletes, a_letter, a_typed, a_author, a_stamp, a_history, a_parents, a_held, a_logLength, a_logEvents, a_logIndices, a_textLength, a_texts, row, prep, gone, io)) : wpX_walkInsertion post (f_room, f_spare, f_replicaCount, f_eventLimit, f_made, f_whole, f_prepared, f_rowLength, a_deletes, a_letter, a_typed, a_author, a_stamp, a_history, a_parents, a_held, a_logLength, a_logEvents, a_logIndices, a_textLength, a_texts, a_row, a_prep, a_gone, a_itemOf) (nI x) := by
  have m32 := g_m32 G
  obtain ⟨hT, hF, i1, i2, hl, hr⟩ := Rw
  obtain ⟨pr, gn, iof⟩ := Vl
  have S0 := S
  obtain ⟨cWh, cW, cB, cV, bv, vw, ww, bb⟩ := S
  have hFQ : ∀ y, y ∈ F → w_Q g W B y := fun y => (hF.2 y).mp
  have nBx : ¬ B x := fun z => nx (vw x (bv x z))
  have r64 := w_R_lt G cB cW hT i1 i2 hFQ
  obtain ⟨len1, len2, len3⟩ := w_R_len G cB cW hT i1 i2 hFQ (eg_nd hF.1)
  have rm : ∀ v, v ∈ w_R F it tB → v < 32 → v < g_m g := by
    intro v hv hlt
    unfold w_R at hv
    rw [List.mem_append, List.mem_map, List.mem_range'_1] at hv
    rcases hv with ⟨y, hy, e⟩ | hv
    · have q := hFQ y hy
      rcases w_it G cB cW hT i1 i2 q with ⟨_, a, _⟩ | ⟨_, i, _, _, c⟩
      · have := cW.1 y q.2.1; omega
      · omega
    · omega
  have itx : it x = x := i1 x nBx
  have main : ∀ A0 T, F = A0 ++ T → ((g_lnk g x = none ∧ A0 = []) ∨ ∃ a A1, g_lnk g x = some a ∧ A0 = A1 ++ [a]) → ∃ n28 : Nat, wX_walkInsertion_28 post (nI x) f_room f_spare f_replicaCount f_eventLimit f_made f_whole f_prepared f_rowLength a_deletes a_letter a_typed a_author a_stamp a_history a_parents a_held a_logLength a_logEvents a_logIndices a_textLength a_texts a_row a_prep a_gone a_itemOf n28 (nI A0.length) := by
    intro A0 T hAT h0
    have hRe : w_R F it tB = A0.map it ++ ([] ++ (T.map it ++ List.range' (32 + tB.length) (32 - tB.length))) := by
      unfold w_R; rw [hAT]; simp
    have key : wX_walkInsertion_28 post (nI x) f_room f_spare f_replicaCount f_eventLimit f_made f_whole f_prepared f_rowLength a_deletes a_letter a_typed a_author a_stamp a_history a_parents a_held a_logLength a_logEvents a_logIndices a_textLength a_texts a_row a_prep a_gone a_itemOf ((T.map it ++ List.range' (32 + tB.length) (32 - tB.length)).length + 1) (nI ((A0.map it).length + ([] : List Nat).length)) := by
     refine x_wi28 (A0 := A0.map it) G K hl (by omega) hr r64 rm hx ?_ (T.map it ++ List.range' (32 + tB.length) (32 - tB.length)) [] _ hRe (fun b hb => absurd hb (by simp)) (by omega)
     · intro B' C' eR hB' hC'
       have eT : T.map it ++ List.range' (32 + tB.length) (32 - tB.length) = B' ++ C' := by
         rw [hRe] at eR
         exact List.append_cancel_left eR
       obtain ⟨B1, C1, eT1, eB1, eC1⟩ := w_cut (fun v hv => by rw [List.mem_range'_1] at hv; omega) B' T C' eT (fun b hb => (hB' b hb).1)
       have eF : F = A0 ++ (B1 ++ C1) := by rw [hAT, eT1]
       have hBr : ∀ b, b ∈ B1 → g_rk g x < g_rk g b := by
         intro b hb
         have hbF : b ∈ F := by rw [eF]; simp [hb]
         have := hB' (it b) (by rw [eB1]; exact List.mem_map_of_mem hb)
         rcases w_it G cB cW hT i1 i2 (hFQ b hbF) with ⟨_, a, _⟩ | ⟨_, i, _, _, c⟩
         · rw [a] at this; exact this.2
         · omega
       have hCr : ∀ c C2, C1 = c :: C2 → g_rk g c < g_rk g x := by
         intro c C2 ec
         have hcF : c ∈ F := by rw [eF, ec]; simp
         have qc := hFQ c hcF
         have := hC' (it c) (C2.map it ++ List.range' (32 + tB.length) (32 - tB.length)) (by rw [eC1, ec]; rfl)
         rcases w_it G cB cW hT i1 i2 qc with ⟨_, a, l⟩ | ⟨b, _⟩
         · rw [a] at this
           have ne : g_rk g c ≠ g_rk g x := fun z => nx (g_rkI G (cW.1 c qc.2.1) hx z ▸ qc.2.1)
           have : ¬ g_rk g x < g_rk g c := fun z => this ⟨l, z⟩
           omega
         · exact g_rkl G hx (bv c b)
       have LF := g_ins G (Q := w_Q g W B) (A0 := A0) (B := B1) (C := C1) hx nd (fun z => nx z.2.1) (fun b hb => ⟨cW.1 b hb.2.1, hb.1⟩) (fun b c qb hr' hlk => by
         have nb : ¬ B b := fun z => by
           have := g_rkl G hx (bv b z)
           omega
         have v := g_lv G (cW.1 b qb.2.1) hlk
         exact ⟨v.1, cW.2 b c qb.2.1 v.2.1.1, fun z => w_visB (fun y hy => ⟨bb b y (ww b qb.2.1) nb hy, fun e => nb (e ▸ hy)⟩) v z⟩) (eF ▸ hF) h0 hBr hCr
       have LF2 : eg_Lst (g_P g) (w_Q g (g_add W x) B) ((A0 ++ B1) ++ x :: C1) := eg_Lc LF (fun y => (w_Qadd_i nd nBx y).symm)
       have memF : ∀ y, y ∈ (A0 ++ B1) ++ x :: C1 ↔ y ∈ F ∨ y = x := by
         intro y; rw [eg_mem_ins, eF, List.append_assoc]
       have itne : ∀ y, y ∈ F → it y ≠ x := by
         intro y hy e
         have q := hFQ y hy
         rcases w_it G cB cW hT i1 i2 q with ⟨_, a, l⟩ | ⟨b, i, _, _, c⟩
         · exact nx (by rw [← e, a]; exact q.2.1)
         · omega
       have visne : ∀ y, y ≠ x → (g_vis g (g_add W x) y ↔ g_vis g W y) := by
         intro y hy
         rw [g_vadd_i nd (fun d hd _ => g_nolink G cW nx d hd)]
         constructor
         · rintro (k | k)
           · exact k
           · exact absurd k hy
         · exact Or.inl
       have visx : g_vis g (g_add W x) x := (g_vadd_i nd (fun d hd _ => g_nolink G cW nx d hd) x).mpr (Or.inr rfl)
       have cA : g_cl g (g_add W x) := by
         refine ⟨?_, ?_⟩
         · rintro y (k | k)
           · exact cW.1 y k
           · omega
         · rintro y z (k | k) hz
           · exact Or.inl (cW.2 y z k hz)
           · subst k
             by_cases e : z = y
             · exact Or.inr e
             · exact Or.inl (vw z ⟨hz, e⟩)
       have FnQ : ∀ y, y ∈ (A0 ++ B1) ++ x :: C1 → w_Q g (g_add W x) B y := fun y => (LF2.2 y).mp
       obtain ⟨ln1, ln2, ln3⟩ := w_R_len G cB cA hT i1 i2 FnQ (eg_nd LF2.1)
       have l1 : ((A0 ++ B1) ++ x :: C1).length = F.length + 1 := by rw [eF]; simp; omega
       have eR0 : w_R F it tB = (A0 ++ B1).map it ++ (C1.map it ++ List.range' (32 + tB.length) (32 - tB.length)) := by
         unfold w_R; rw [eF]; simp
       have eR1 : w_R ((A0 ++ B1) ++ x :: C1) it tB = (A0 ++ B1).map it ++ x :: (C1.map it ++ List.range' (32 + tB.length) (32 - tB.length)) := by
         unfold w_R; simp [itx]
       have gone' : ∀ y, y ∈ (A0 ++ B1) ++ x :: C1 → (upd a_gone x 0 (it y) = 0 ↔ g_vis g (g_add W x) y) := by
         intro y hy
         rcases (memF y).mp hy with k | k
         · have ne : y ≠ x := fun e => nx (e ▸ (hFQ y k).2.1)
           rw [pk_un (itne y k), visne y ne]
           exact gn y k
         · subst k
           rw [itx, pk_us]
           exact ⟨fun _ => visx, fun _ => rfl⟩
       have rep' := eg_Rep_ins (x := x) (w := nI x) (f := nI) (eR0 ▸ hr) rfl
       rw [Nat.zero_add, Nat.zero_add] at rep'
       rw [← eR0, ← eR1, List.length_map] at rep'
       have fin : wpX_effectIndex (fun r => post r (f_room, f_spare, f_replicaCount, f_eventLimit, f_made, f_whole, f_prepared, nI ((w_R F it tB).length + 1), a_deletes, a_letter, a_typed, a_author, a_stamp, a_history, a_parents, a_held, a_logLength, a_logEvents, a_logIndices, a_textLength, a_texts, upd (eg_shU a_row (A0 ++ B1).length (w_R F it tB).length) (A0 ++ B1).length (nI x), upd a_prep x 1, upd a_gone x 0, upd a_itemOf x (nI x))) (f_room, f_spare, f_replicaCount, f_eventLimit, f_made, f_whole, f_prepared, nI ((w_R F it tB).length + 1), a_deletes, a_letter, a_typed, a_author, a_stamp, a_history, a_parents, a_held, a_logLength, a_logEvents, a_logIndices, a_textLength, a_texts, upd (eg_shU a_row (A0 ++ B1).length (w_R F it tB).length) (A0 ++ B1).length (nI x), upd a_prep x 1, upd a_gone x 0, upd a_itemOf x (nI x)) (nI (A0 ++ B1).length) := by
         have e1 : (A0 ++ B1).length = ((A0 ++ B1).map it).length := by rw [List.length_map]
         rw [e1]
         refine x_ei (R := w_R ((A0 ++ B1) ++ x :: C1) it tB) (A := (A0 ++ B1).map it) eR1 (by omega) (by rw [← e1]; exact rep') (w_R_lt G cB cA hT i1 i2 FnQ) ?_
         rw [w_cnt (q := fun y => eg_dc (g_vis g (g_add W x) y)) (fun y hy => w_dd (gone' y (by rw [List.mem_append]; exact Or.inl hy)))]
         rw [← e1]
         refine h _ _ _ _ _ _ ((A0 ++ B1) ++ x :: C1) ⟨fun _ => ?_, fun z => absurd z nd⟩ ⟨hT, LF2, i1, i2, ?_, rep'⟩ ⟨?_, gone', ?_⟩
         · refine ⟨_, _, w_text LF2 (U := g_add W x) (fun y hy => Or.inl (vw y (bv y hy))) (fun _ k => k), eg_fget _ (eg_dci.mpr visx), rfl⟩
         · rw [ln1, l1, len1, show F.length + 1 + (32 - tB.length) = F.length + (32 - tB.length) + 1 by omega]
         · intro y hy
           rcases (memF y).mp hy with k | k
           · have ne : y ≠ x := fun e => nx (e ▸ (hFQ y k).2.1)
             rw [pk_un (itne y k), pr y k]
             rw [eg_cnt_c (p := fun d => g_past g x d ∧ g_Tg g d y) (q := fun d => g_H g x d ∧ g_Tg g d y) (g_m g) (fun d _ => ⟨fun w => ⟨w.1.1, w.2⟩, fun w => ⟨⟨w.1, fun e => by
               subst e
               rcases w.2 with ⟨_, q⟩ | ⟨q, _⟩
               · exact ne q.symm
               · exact nd q⟩, w.2⟩⟩)]
           · subst k
             rw [itx, pk_us]
             exact ((w_pv G (g_H_cl G hx) nd).mpr ⟨nd, g_refl G hx, fun d hd dd lk => by
               have := g_llt G (Nat.lt_of_le_of_lt (g_hle G hx hd) hx) lk
               have := g_hle G hx hd
               omega⟩).symm
         · rintro d y (hd | hd) nb tg
           · have ne : d ≠ x := fun e => nx (e ▸ hd)
             rw [pk_un ne]
             exact iof d y hd nb tg
           · subst hd
             rcases tg with ⟨_, q⟩ | ⟨q, _⟩
             · subst q; rw [pk_us, itx]
             · exact absurd q nd
       have pos : (A0.map it).length + B'.length = (A0 ++ B1).length := by rw [eB1]; simp
       rw [pos]
       have lt : (A0 ++ B1).length ≤ (w_R F it tB).length := by rw [len1, eF]; simp; omega
       have := x_wi61 (T := a_row) (pos := (A0 ++ B1).length) (len := (w_R F it tB).length) (by omega) lt (by omega) hl fin ((w_R F it tB).length - (A0 ++ B1).length) ((w_R F it tB).length - (A0 ++ B1).length + 1) (by omega) (by omega)
       rw [show (A0 ++ B1).length + ((w_R F it tB).length - (A0 ++ B1).length) = (w_R F it tB).length by omega, eg_shU_0] at this
       refine ⟨(w_R F it tB).length - (A0 ++ B1).length + 1, ?_⟩
       have e9 : wX_walkInsertion_61 post (nI x) (nI (A0 ++ B1).length) f_room f_spare f_replicaCount f_eventLimit f_made f_whole f_prepared f_rowLength ((w_R F it tB).length - (A0 ++ B1).length + 1) f_rowLength a_deletes a_letter a_typed a_author a_stamp a_history a_parents a_held a_logLength a_logEvents a_logIndices a_textLength a_texts a_row a_prep a_gone a_itemOf = wX_walkInsertion_61 post (nI x) (nI (A0 ++ B1).length) f_room f_spare f_replicaCount f_eventLimit f_made f_whole f_prepared f_rowLength ((w_R F it tB).length - (A0 ++ B1).length + 1) (nI (w_R F it tB).length) a_deletes a_letter a_typed a_author a_stamp a_history a_parents a_held a_logLength a_logEvents a_logIndices a_textLength a_texts a_row a_prep a_gone a_itemOf := by rw [← hl]
       rw [e9]
       exact this
    rw [show (A0.map it).length + ([] : List Nat).length = A0.length by simp] at key
    exact ⟨_, key⟩
  obtain ⟨t, ht, _, ok2⟩ := g_oke G hx
  have ok := ok2 nd
  have ix : vp_in (nI x) 32 := vp_in_nI (by omega) (by decide)
  refine And.intro ix ?_
  rw [eg_cl (n := x) (by omega), xg_t K hx]
  have rg := g_rng G hx
  cases ty : g_typ g x with
  | zero =>
    rw [ty] at ok
    exact br_t (Int32.le_refl _) (main [] F rfl (Or.inl ⟨by simpa using ok.symm, rfl⟩))
  | succ j =>
    rw [ty, List.getElem?_cons_succ, List.getElem?_map] at ok
    cases q : t[j]? with
    | none => rw [q] at ok; exact absurd ok (by simp)
    | some a =>
      rw [q] at ok
      have lk : g_lnk g x = some a := by simpa using ok.symm
      obtain ⟨A, C, eA, eC, va⟩ := w_anchor hF bv vw ht q
      have aF : a ∈ F := by rw [eA]; simp
      refine br_f (nI_nle (by omega) (by omega)) (And.intro ix ?_)
      rw [nI_pred]
      have ep : ∀ y, y ∈ F → (a_prep (it y) = 1 ↔ g_vis g (g_past g x) y) := by
        intro y hy
        rw [pr y hy]
        exact w_pv G cV (hFQ y hy).1
      refine x_pp (R := w_R F it tB) (A := A.map it) (a := it a) (C := C.map it ++ List.range' (32 + tB.length) (32 - tB.length)) (by unfold w_R; rw [eA]; simp) (by omega) hl hr r64 ((ep a aF).mpr va) ?_ ?_
      · rw [List.length_map]
        refine nm_r (nI_1 A.length) ?_
        have := main (A ++ [a]) C (by rw [eA]; simp) (Or.inr ⟨a, A, lk, rfl⟩)
        rw [show (A ++ [a]).length = A.length + 1 by simp] at this
        exact this
      · rw [w_cnt (q := fun y => eg_dc (g_vis g (g_past g x) y)) (fun y hy => w_dd (ep y (by rw [eA]; simp [hy]))), eC]
set_option maxHeartbeats 4000000 in
theorem x_walkDel {post : Int32 → SX → Prop} {x : Nat} {Wh W B : Nat → Prop} {tB F : List Nat} {it : Nat → Nat} (G : g_I g) (K : x_G g f_made a_deletes a_letter a_typed a_author a_stamp a_history a_parents) (hx : x < g_m g) (dd : g_del g x) (hw : Wh x) (nx : ¬ W x) (S : w_sets g Wh W B (g_past g x)) (Rw : w_row g W B tB F it f_rowLength a_row) (Vl : w_vals g W B (g_past g x) F it a_prep a_gone a_itemOf) (h : ∀ (r : Int32) (prep gone io : Nat → Int32), g_Fnd g W x r → w_row g (g_add W x) B tB F it f_rowLength a_row → w_vals g (g_add W x) B (g_H g x) F it prep gone io → post r (f_room, f_spare, f_replicaCount, f_eventLimit, f_made, f_whole, f_prepared, f_rowLength, a_deletes, a_letter, a_typed, a_author, a_stamp, a_history, a_parents, a_held, a_logLength, a_logEvents, a_logIndices, a_textLength, a_texts, a_row, prep, gone, io)) : wpX_walkDeletion post (f_room, f_spare, f_replicaCount, f_eventLimit, f_made, f_whole, f_prepared, f_rowLength, a_deletes, a_letter, a_typed, a_author, a_stamp, a_history, a_parents, a_held, a_logLength, a_logEvents, a_logIndices, a_textLength, a_texts, a_row, a_prep, a_gone, a_itemOf) (nI x) := by
  have m32 := g_m32 G
  have Rw0 := Rw
  obtain ⟨hT, hF, i1, i2, hl, hr⟩ := Rw
  obtain ⟨pr, gn, iof⟩ := Vl
  obtain ⟨cWh, cW, cB, cV, bv, vw, ww, bb⟩ := S
  have hFQ : ∀ y, y ∈ F → w_Q g W B y := fun y => (hF.2 y).mp
  have r64 := w_R_lt G cB cW hT i1 i2 hFQ
  obtain ⟨len1, len2, len3⟩ := w_R_len G cB cW hT i1 i2 hFQ (eg_nd hF.1)
  have inj : ∀ y z, y ∈ F → z ∈ F → it y = it z → y = z := fun y z hy hz e => w_inj G cB cW hT i1 i2 (hFQ y hy) (hFQ z hz) e
  obtain ⟨t, ht, ok1, _⟩ := g_oke G hx
  obtain ⟨ok, okn⟩ := ok1 dd
  have ix : vp_in (nI x) 32 := vp_in_nI (by omega) (by decide)
  refine And.intro ix ?_
  rw [eg_cl (n := x) (by omega), xg_t K hx]
  cases lk : g_lnk g x with
  | none => exact absurd lk okn
  | some a =>
    rw [lk] at ok
    obtain ⟨A, C, eA, eC, va⟩ := w_anchor hF bv vw ht ok
    have aF : a ∈ F := by rw [eA]; simp
    have ep : ∀ y, y ∈ F → (a_prep (it y) = 1 ↔ g_vis g (g_past g x) y) := by
      intro y hy
      rw [pr y hy]
      exact w_pv G cV (hFQ y hy).1
    have eRR : w_R F it tB = A.map it ++ it a :: (C.map it ++ List.range' (32 + tB.length) (32 - tB.length)) := by unfold w_R; rw [eA]; simp
    refine x_pp (R := w_R F it tB) (A := A.map it) (a := it a) (C := C.map it ++ List.range' (32 + tB.length) (32 - tB.length)) eRR (by omega) hl hr r64 ((ep a aF).mpr va) ?_ ?_
    · have g1 : (w_R F it tB)[A.length]? = some (it a) := by
        rw [eRR]
        have := eg_get_mid (A := A.map it) (a := it a) (C := C.map it ++ List.range' (32 + tB.length) (32 - tB.length))
        rwa [List.length_map] at this
      have g2 := eg_Rep0 hr g1
      have ga := r64 (it a) (List.mem_of_getElem? g1)
      have lA : A.length < (w_R F it tB).length := (List.getElem?_eq_some_iff.mp g1).1
      have ia : vp_in (nI (it a)) 64 := vp_in_nI ga (by decide)
      rw [List.length_map]
      refine And.intro (vp_in_nI (by omega) (by decide)) ?_
      rw [eg_cl (n := A.length) (by omega), g2]
      refine nm_e (And.intro ix ?_)
      rw [eg_cl (n := it a) (by omega)]
      have tg : g_Tg g x a := Or.inr ⟨dd, lk⟩
      have rowN : w_row g (g_add W x) B tB F it f_rowLength a_row := ⟨hT, eg_Lc hF (fun y => (w_Qadd_d dd y).symm), i1, i2, hl, hr⟩
      have prN : x_PR g F it (g_H g x) (upd a_prep (it a) (a_prep (it a) + 1)) := by
        refine x_PR_add inj pr hx (fun z => z.2 rfl) aF tg (fun z => ?_)
        constructor
        · intro w
          by_cases e : z = x
          · exact Or.inr e
          · exact Or.inl ⟨w, e⟩
        · rintro (w | w)
          · exact w.1
          · subst w; exact g_refl G hx
      have ioN : ∀ d y, g_add W x d → ¬ B d → g_Tg g d y → upd a_itemOf x (nI (it a)) d = nI (it y) := by
        rintro d y (hd | hd) nb tg'
        · have ne : d ≠ x := fun e => nx (e ▸ hd)
          rw [pk_un ne]
          exact iof d y hd nb tg'
        · subst hd
          rw [pk_us, g_Tgu tg tg']
      refine nm_e (And.intro ia (And.intro ia (nm_e (And.intro ia ?_))))
      refine br_c (fun z0 => And.intro ia (nm_e ?_)) (fun z0 => ?_)
      · have vW := (gn a aF).mp z0
        have gN : ∀ y, y ∈ F → (upd a_gone (it a) (vp_nar .boolean 1) (it y) = 0 ↔ g_vis g (g_add W x) y) := by
          intro y hy
          rw [g_vadd_d dd lk]
          by_cases e : y = a
          · subst e
            rw [pk_us]
            exact ⟨fun w => absurd w (by decide), fun w => absurd rfl w.2⟩
          · rw [pk_un (fun w => e (inj y a hy aF w)), gn y hy]
            exact ⟨fun w => ⟨w, e⟩, fun w => w.1⟩
        have e1 : A.length = (A.map it).length := by rw [List.length_map]
        rw [e1]
        refine x_ei (R := w_R F it tB) (A := A.map it) eRR (by omega) hr r64 ?_
        rw [w_cnt (q := fun y => eg_dc (g_vis g W y)) (fun y hy => by
          have yF : y ∈ F := by rw [eA]; simp [hy]
          have ne : y ≠ a := fun e => by
            have := eg_mid_n (eA ▸ hF.1)
            exact this (by rw [List.mem_append]; exact Or.inl (e ▸ hy))
          refine w_dd ?_
          rw [gN y yF, g_vadd_d dd lk]
          exact ⟨fun w => w.1, fun w => ⟨w, ne⟩⟩)]
        refine h _ _ _ _ ⟨fun z => absurd dd z, fun _ => ?_⟩ rowN ⟨prN, gN, ioN⟩
        refine ⟨_, a, w_text hF (U := W) (fun y hy => vw y (bv y hy)) (fun _ k => k), lk, Or.inl ⟨_, ?_, rfl⟩⟩
        rw [eA]
        exact eg_fget _ (eg_dci.mpr vW)
      · have vW : ¬ g_vis g W a := fun w => z0 ((gn a aF).mpr w)
        have gN : ∀ y, y ∈ F → (a_gone (it y) = 0 ↔ g_vis g (g_add W x) y) := by
          intro y hy
          rw [g_vadd_d dd lk, gn y hy]
          exact ⟨fun w => ⟨w, fun e => vW (e ▸ w)⟩, fun w => w.1⟩
        refine h _ _ _ _ ⟨fun z => absurd dd z, fun _ => ?_⟩ rowN ⟨prN, gN, ioN⟩
        refine ⟨_, a, w_text hF (U := W) (fun y hy => vw y (bv y hy)) (fun _ k => k), lk, Or.inr ⟨?_, rfl⟩⟩
        rw [List.mem_filter]
        intro w
        exact vW (eg_dci.mp w.2)
    · rw [w_cnt (q := fun y => eg_dc (g_vis g (g_past g x) y)) (fun y hy => w_dd (ep y (by rw [eA]; simp [hy]))), eC]
end
end
section
/-! the walker: whole walks -/
theorem w_clear {g : GG} {Wh U : Nat → Prop} {f_whole b : Int64} {row prep gone io : Nat → Int32} (G : g_I g) (cWh : g_cl g Wh) (cU : g_cl g U) (uw : ∀ x, U x → Wh x) (bb : ∀ y c, Wh y → ¬ U y → U c → g_H g y c) (hw : eg_set f_whole Wh) (hb : eg_set b U) (h1 : ∀ j, j < 32 → row j = nI (32 + j)) (h2 : ∀ j, j < 32 → prep (32 + j) = 1) (h3 : ∀ j, j < 32 → gone (32 + j) = 0) : x_WI g Wh U f_whole b 32 row prep gone io := by
  obtain ⟨t, ht⟩ := g_Tex G cU.1
  have tl := g_Tlen G cU.1 ht
  have itx : ∃ it : Nat → Nat, (∀ x, ¬ U x → it x = x) ∧ ∀ i x, t[i]? = some x → it x = 32 + i := by
    refine ⟨fun x => if eg_dc (U x) = true then 32 + Classical.epsilon (fun i => t[i]? = some x) else x, ?_, ?_⟩
    · intro x nx
      exact if_neg (fun z => nx (eg_dci.mp z))
    · intro i x hi
      have ux : U x := ((ht.2 x).mp (List.mem_of_getElem? hi)).2.1
      have e := Classical.epsilon_spec (p := fun i => t[i]? = some x) ⟨i, hi⟩
      show (if eg_dc (U x) = true then 32 + Classical.epsilon (fun i => t[i]? = some x) else x) = 32 + i
      rw [if_pos (eg_dci.mpr ux)]
      rw [eg_nd_i (eg_nd ht.1) e hi]
  obtain ⟨it, i1, i2⟩ := itx
  have lenR : (w_R t it t).length = 32 := by
    unfold w_R; simp; omega
  refine ⟨U, U, t, t, it, hw, hb, ⟨cWh, cU, cU, cU, fun _ k => k, fun _ k => k, uw, bb⟩, ⟨ht, eg_Lc ht (fun x => ⟨fun k => ⟨k.1, k.2.1, fun _ => k⟩, fun k => k.2.2 k.2.1⟩), i1, i2, by rw [lenR]; rfl, ?_⟩, ⟨?_, ?_, fun d x k nk => absurd k nk⟩⟩
  · intro i v hv
    have il : i < 32 := by
      have := (List.getElem?_eq_some_iff.mp hv).1
      omega
    rw [Nat.zero_add, h1 i il]
    unfold w_R at hv
    by_cases k : i < t.length
    · rw [List.getElem?_append_left (by simpa using k), List.getElem?_map] at hv
      cases q : t[i]? with
      | none => rw [q] at hv; exact absurd hv (by simp)
      | some x =>
        rw [q] at hv
        have : it x = v := by simpa using hv
        rw [← this, i2 i x q]
    · rw [List.getElem?_append_right (by simpa using Nat.le_of_not_lt k), List.length_map] at hv
      have hv2 := List.getElem?_eq_some_iff.mp hv
      obtain ⟨q1, q2⟩ := hv2
      rw [List.getElem_range'] at q2
      rw [← q2]
      congr 1
      omega
  · intro x hx
    obtain ⟨i, hi⟩ := List.mem_iff_getElem?.mp hx
    have il := (List.getElem?_eq_some_iff.mp hi).1
    have v := (ht.2 x).mp hx
    rw [i2 i x hi, h2 i (by omega)]
    exact ((w_pv G cU v.1).mpr v).symm
  · intro x hx
    obtain ⟨i, hi⟩ := List.mem_iff_getElem?.mp hx
    have il := (List.getElem?_eq_some_iff.mp hi).1
    rw [i2 i x hi, h3 i (by omega)]
    exact ⟨fun _ => (ht.2 x).mp hx, fun _ => rfl⟩
theorem x_WI_c {g : GG} {Wh W W' : Nat → Prop} {a b : Int64} {c : Int32} {d e f h : Nat → Int32} (w : x_WI g Wh W a b c d e f h) (k : ∀ x, W x ↔ W' x) : x_WI g Wh W' a b c d e f h := by
  have : W = W' := funext fun x => propext (k x)
  subst this
  exact w
theorem g_addcl {g : GG} {W : Nat → Prop} {x : Nat} (cW : g_cl g W) (hx : x < g_m g) (hp : ∀ y, g_past g x y → W y) : g_cl g (g_add W x) := by
  refine ⟨?_, ?_⟩
  · rintro y (k | k)
    · exact cW.1 y k
    · omega
  · rintro y z (k | k) hz
    · exact Or.inl (cW.2 y z k hz)
    · subst k
      by_cases e : z = y
      · exact Or.inr e
      · exact Or.inl (hp z ⟨hz, e⟩)
section
variable {f_room : Int32} {f_spare : Int32} {f_replicaCount : Int32} {f_eventLimit : Int32} {f_made : Int32} {f_whole : Int64} {f_prepared : Int64} {f_rowLength : Int32} {a_deletes : Nat → Int32} {a_letter : Nat → Int32} {a_typed : Nat → Int32} {a_author : Nat → Int32} {a_stamp : Nat → Int32} {a_history : Nat → Int64} {a_parents : Nat → Int64} {a_held : Nat → Int64} {a_logLength : Nat → Int32} {a_logEvents : Nat → Int32} {a_logIndices : Nat → Int32} {a_textLength : Nat → Int32} {a_texts : Nat → Int32} {a_row : Nat → Int32} {a_prep : Nat → Int32} {a_gone : Nat → Int32} {a_itemOf : Nat → Int32}
variable {g : GG}
set_option maxHeartbeats 4000000 in
theorem x_walkOver {post : Int32 → SX → Prop} {x : Nat} {Wh W : Nat → Prop} (G : g_I g) (K : x_G g f_made a_deletes a_letter a_typed a_author a_stamp a_history a_parents) (w : x_WI g Wh W f_whole f_prepared f_rowLength a_row a_prep a_gone a_itemOf) (hx : x < g_m g) (hw : Wh x) (nx : ¬ W x) (hp : ∀ y, g_past g x y → W y) (h : ∀ (r : Int32) (fp : Int64) (fr : Int32) (row prep gone io : Nat → Int32), g_Fnd g W x r → x_WI g Wh (g_add W x) f_whole fp fr row prep gone io → post r (f_room, f_spare, f_replicaCount, f_eventLimit, f_made, f_whole, fp, fr, a_deletes, a_letter, a_typed, a_author, a_stamp, a_history, a_parents, a_held, a_logLength, a_logEvents, a_logIndices, a_textLength, a_texts, row, prep, gone, io)) : wpX_walkOver post (f_room, f_spare, f_replicaCount, f_eventLimit, f_made, f_whole, f_prepared, f_rowLength, a_deletes, a_letter, a_typed, a_author, a_stamp, a_history, a_parents, a_held, a_logLength, a_logEvents, a_logIndices, a_textLength, a_texts, a_row, a_prep, a_gone, a_itemOf) (nI x) := by
  have m32 := g_m32 G
  have ix : vp_in (nI x) 32 := vp_in_nI (by omega) (by decide)
  obtain ⟨B, V, tB, F, it, hwS, hvS, S, Rw, Vl⟩ := w
  have S0 := S
  obtain ⟨cWh, cW, cB, cV, bv, vw, ww, bb⟩ := S
  have nB : ¬ B x := fun z => nx (vw x (bv x z))
  have cA := g_addcl cW hx hp
  have aw : ∀ y, g_add W x y → Wh y := by
    rintro y (k | k)
    · exact ww y k
    · subst k; exact hw
  refine x_splits G K hx hwS (fun sp => br_f eg_10 (And.intro ix ?_)) (fun nsp => br_t rfl (And.intro ix ?_))
  · rw [eg_cl (n := x) (by omega)]
    refine x_clearRow (fun row prep gone h1 h2 h3 => And.intro ix ?_)
    rw [xg_t K hx]
    have eW : ∀ y, g_past g x y ↔ W y := by
      intro y
      refine ⟨hp y, fun k => ⟨?_, fun e => nx (e ▸ k)⟩⟩
      apply Classical.byContradiction
      intro nh
      exact nx (cW.2 y x k (sp y (cW.1 y k) (ww y k) nh))
    refine h _ _ _ _ _ _ _ (g_Fc (g_Ftyp G hx) eW) (x_WI_c (W := g_H g x) (w_clear G cWh (g_H_cl G hx) (fun y hy => cWh.2 x y hw hy) (fun y c hy ny hc => g_htr G (cWh.1 y hy) (sp y (cWh.1 y hy) hy ny) hc) hwS (xg_h K hx) h1 h2 h3) ?_)
    intro y
    constructor
    · intro k
      by_cases e : y = x
      · exact Or.inr e
      · exact Or.inl (hp y ⟨k, e⟩)
    · rintro (k | k)
      · exact ((eW y).mpr k).1
      · subst k; exact g_refl G hx
  · rw [eg_cl (n := x) (by omega)]
    have Rw0 := Rw
    obtain ⟨hT, hF, i1, i2, hl, hr⟩ := Rw
    obtain ⟨pr, gn, iof⟩ := Vl
    have hFQ : ∀ y, y ∈ F → w_Q g W B y := fun y => (hF.2 y).mp
    have bp : ∀ y, B y → g_past g x y := fun y hy => ⟨bb x y hw nB hy, fun e => nB (e ▸ hy)⟩
    refine x_movePrepared (V := V) (Gl := g_past g x) (F := F) (it := it) G (xg_m K) (fun y z hy hz e => w_inj G cB cW hT i1 i2 (hFQ y hy) (hFQ z hz) e) (fun y hy => ?_) ?_ hvS ?_ pr ?_
    · have := w_lt G cB cW hT i1 i2 (hFQ y hy)
      have := g_Tlen G cB.1 hT
      omega
    · intro y hy
      rw [eg_mem_and, eg_mem_not _ hy, eg_mem_one (by omega) hy, xg_h K hx y hy]
      exact Iff.rfl
    · intro d hd k
      have wd : W d := by
        rcases k with k | k
        · exact vw d k.1
        · exact hp d k.1
      have nb : ¬ B d := fun z => by
        rcases k with k | k
        · exact k.2 (bp d z)
        · exact k.2 (bv d z)
      obtain ⟨y, hy, tg⟩ := w_tgt G S0 hF wd nb
      exact ⟨y, hy, tg, iof d y wd nb tg⟩
    · intro prep hprep
      have S1 : w_sets g Wh W B (g_past g x) := ⟨cWh, cW, cB, g_past_cl G hx, bp, hp, ww, bb⟩
      have S2 : w_sets g Wh (g_add W x) B (g_H g x) := ⟨cWh, cA, cB, g_H_cl G hx, fun y hy => (bp y hy).1, fun y hy => by
        by_cases e : y = x
        · exact Or.inr e
        · exact Or.inl (hp y ⟨hy, e⟩), aw, bb⟩
      refine And.intro ix ?_
      refine nm_e (And.intro ix (eg_if (xg_d K hx) (fun nd => ?_) (fun dd => ?_)))
      · refine x_walkIns G K hx nd hw nx S1 Rw0 ⟨hprep, gn, iof⟩ (fun r fr row prep gone io F' k1 k2 k3 => ?_)
        exact h r _ fr row prep gone io k1 ⟨B, g_H g x, tB, F', it, hwS, xg_h K hx, S2, k2, k3⟩
      · refine x_walkDel G K hx (eg_nn dd) hw nx S1 Rw0 ⟨hprep, gn, iof⟩ (fun r prep gone io k1 k2 k3 => ?_)
        exact h r _ _ _ prep gone io k1 ⟨B, g_H g x, tB, F, it, hwS, xg_h K hx, S2, k2, k3⟩
theorem x_ow31 {post : SX → Prop} {s : Int64} {Wh Kn B : Nat → Prop} (G : g_I g) (K : x_G g f_made a_deletes a_letter a_typed a_author a_stamp a_history a_parents) (hs : eg_set s (fun z => Kn z ∧ ¬ B z)) (cK : g_cl g Kn) (kW : ∀ x, Kn x → Wh x) (bk : ∀ x, B x → Kn x) (h : ∀ (fp : Int64) (fr : Int32) (row prep gone io : Nat → Int32), x_WI g Wh Kn f_whole fp fr row prep gone io → post (f_room, f_spare, f_replicaCount, f_eventLimit, f_made, f_whole, fp, fr, a_deletes, a_letter, a_typed, a_author, a_stamp, a_history, a_parents, a_held, a_logLength, a_logEvents, a_logIndices, a_textLength, a_texts, row, prep, gone, io)) : ∀ (d i n : Nat) (fp : Int64) (fr : Int32) (row prep gone io : Nat → Int32), i + d = g_m g → d < n → x_WI g Wh (fun z => B z ∨ (Kn z ∧ z < i)) f_whole fp fr row prep gone io → wX_openWalk_31 post s n (nI i) f_room f_spare f_replicaCount f_eventLimit f_made f_whole fp fr a_deletes a_letter a_typed a_author a_stamp a_history a_parents a_held a_logLength a_logEvents a_logIndices a_textLength a_texts row prep gone io := by
  have m32 := g_m32 G
  have em := xg_m K
  intro d
  induction d with
  | zero =>
    intro i n fp fr row prep gone io hd hn w
    cases n with
    | zero => omega
    | succ n =>
      have e : i = g_m g := by omega
      subst e
      refine br_t (by rw [em]; exact Int32.le_refl _) (h fp fr row prep gone io (x_WI_c w (fun z => ?_)))
      constructor
      · rintro (k | k)
        · exact bk z k
        · exact k.1
      · intro k
        exact Or.inr ⟨k, cK.1 z k⟩
  | succ d ih =>
    intro i n fp fr row prep gone io hd hn w
    cases n with
    | zero => omega
    | succ n =>
      have hlt : i < g_m g := by omega
      refine br_f (by rw [em]; exact nI_ge hlt (by omega)) (x_contains (by omega) (fun k => br_f eg_10 ?_) (fun k => br_t rfl (nm_r (nI_1 i) (ih (i + 1) n fp fr row prep gone io (by omega) (by omega) (x_WI_c w (fun z => ?_))))))
      · obtain ⟨k1, k2⟩ := (hs i (by omega)).mp k
        refine x_walkOver G K w hlt (kW i k1) ?_ ?_ (fun r fp' fr' row' prep' gone' io' _ w' => nm_r (nI_1 i) (ih (i + 1) n fp' fr' row' prep' gone' io' (by omega) (by omega) (x_WI_c w' (fun z => ?_))))
        · rintro (z | z)
          · exact k2 z
          · omega
        · intro y hy
          have := g_past_lt G hlt hy
          exact Or.inr ⟨cK.2 i y k1 hy.1, this⟩
        · constructor
          · rintro ((z1 | z1) | z1)
            · exact Or.inl z1
            · exact Or.inr ⟨z1.1, by omega⟩
            · subst z1; exact Or.inr ⟨k1, by omega⟩
          · rintro (z1 | z1)
            · exact Or.inl (Or.inl z1)
            · by_cases e : z = i
              · exact Or.inr e
              · exact Or.inl (Or.inr ⟨z1.1, by omega⟩)
      · constructor
        · rintro (z1 | z1)
          · exact Or.inl z1
          · exact Or.inr ⟨z1.1, by omega⟩
        · rintro (z1 | z1)
          · exact Or.inl z1
          · by_cases e : z = i
            · subst e
              by_cases q : B z
              · exact Or.inl q
              · exact absurd ((hs z (by omega)).mpr ⟨z1.1, q⟩) k
            · exact Or.inr ⟨z1.1, by omega⟩
theorem x_openWalk {post : SX → Prop} {kn st : Int64} {Wh Kn : Nat → Prop} (G : g_I g) (K : x_G g f_made a_deletes a_letter a_typed a_author a_stamp a_history a_parents) (hk : eg_set kn Kn) (hw : eg_set st Wh) (cK : g_cl g Kn) (cW : g_cl g Wh) (kW : ∀ x, Kn x → Wh x) (h : ∀ (fp : Int64) (fr : Int32) (row prep gone io : Nat → Int32), x_WI g Wh Kn st fp fr row prep gone io → post (f_room, f_spare, f_replicaCount, f_eventLimit, f_made, st, fp, fr, a_deletes, a_letter, a_typed, a_author, a_stamp, a_history, a_parents, a_held, a_logLength, a_logEvents, a_logIndices, a_textLength, a_texts, row, prep, gone, io)) : wpX_openWalk post (f_room, f_spare, f_replicaCount, f_eventLimit, f_made, f_whole, f_prepared, f_rowLength, a_deletes, a_letter, a_typed, a_author, a_stamp, a_history, a_parents, a_held, a_logLength, a_logEvents, a_logIndices, a_textLength, a_texts, a_row, a_prep, a_gone, a_itemOf) kn st := by
  refine x_startingPoint G K hw hk cW cK kW (fun r B hr cB bk bb => x_clearRow (fun row prep gone h1 h2 h3 => nm_e ⟨g_m g + 1, ?_⟩))
  refine x_ow31 (B := B) G K ?_ cK kW bk h (g_m g) 0 (g_m g + 1) r 32 row prep gone a_itemOf (by omega) (by omega) (x_WI_c (w_clear G cW cB (fun x hx => kW x (bk x hx)) bb hw hr h1 h2 h3) (fun z => ?_))
  · intro x hx
    rw [eg_mem_and, eg_mem_not _ hx, hk x hx, hr x hx]
  · constructor
    · exact Or.inl
    · rintro (k | k)
      · exact k
      · omega
end
/-- the transformed index as a function -/
noncomputable def g_fx (g : GG) (S : Nat → Prop) (e : Nat) : Int32 := Classical.epsilon (g_Fnd g S e)
theorem g_fxe {g : GG} {S : Nat → Prop} {e : Nat} {r : Int32} (h : g_Fnd g S e r) : r = g_fx g S e := g_Fu h (Classical.epsilon_spec ⟨r, h⟩)
abbrev LG : Type := (Nat → Int32) × (Nat → Int32) × (Nat → Int32)
/-- what is held when the fresh events below i have been taken in -/
def g_up (S Fr : Nat → Prop) (i z : Nat) : Prop := S z ∨ (Fr z ∧ z < i)
def l_step (p c e : Nat) (r : Int32) (D : LG) : LG := (upd D.1 p (nI (c + 1)), upd D.2.1 (p * 32 + c) (nI e), upd D.2.2 (p * 32 + c) r)
noncomputable def l_run (g : GG) (p : Nat) (S Fr : Nat → Prop) (D : LG) : Nat → LG
  | 0 => D
  | i + 1 => if eg_dc (Fr i) = true then l_step p (eg_cnt (g_up S Fr i) (g_m g)) i (g_fx g (g_up S Fr i) i) (l_run g p S Fr D i) else l_run g p S Fr D i
theorem l_run_t {g : GG} {p : Nat} {S Fr : Nat → Prop} {D : LG} {i : Nat} (h : Fr i) : l_run g p S Fr D (i + 1) = l_step p (eg_cnt (g_up S Fr i) (g_m g)) i (g_fx g (g_up S Fr i) i) (l_run g p S Fr D i) := if_pos (eg_dci.mpr h)
theorem l_run_f {g : GG} {p : Nat} {S Fr : Nat → Prop} {D : LG} {i : Nat} (h : ¬ Fr i) : l_run g p S Fr D (i + 1) = l_run g p S Fr D i := if_neg (fun z => h (eg_dci.mp z))
theorem g_up_f {S Fr : Nat → Prop} {i : Nat} (h : ¬ Fr i) (z : Nat) : g_up S Fr i z ↔ g_up S Fr (i + 1) z := by
  constructor
  · rintro (k | k)
    · exact Or.inl k
    · exact Or.inr ⟨k.1, by omega⟩
  · rintro (k | k)
    · exact Or.inl k
    · refine Or.inr ⟨k.1, ?_⟩
      have : z ≠ i := fun e => h (e ▸ k.1)
      omega
theorem g_up_t {S Fr : Nat → Prop} {i : Nat} (h : Fr i) (z : Nat) : g_add (g_up S Fr i) i z ↔ g_up S Fr (i + 1) z := by
  constructor
  · rintro ((k | k) | k)
    · exact Or.inl k
    · exact Or.inr ⟨k.1, by omega⟩
    · subst k; exact Or.inr ⟨h, by omega⟩
  · rintro (k | k)
    · exact Or.inl (Or.inl k)
    · by_cases e : z = i
      · exact Or.inr e
      · exact Or.inl (Or.inr ⟨k.1, by omega⟩)
theorem l_run_c {g : GG} {p : Nat} {S Fr : Nat → Prop} {D : LG} {i : Nat} (h : Fr i) (hs : ¬ S i) (hi : i < g_m g) (hc : (l_run g p S Fr D i).1 p = nI (eg_cnt (g_up S Fr i) (g_m g))) : (l_run g p S Fr D (i + 1)).1 p = nI (eg_cnt (g_up S Fr (i + 1)) (g_m g)) := by
  rw [l_run_t h]
  show upd _ p _ p = _
  rw [pk_us]
  rw [eg_cnt_add (p := g_up S Fr i) (q := g_up S Fr (i + 1)) (e := i) (fun z => by
    rcases z with z | z
    · exact hs z
    · omega) (fun z => (g_up_t h z).symm) (g_m g) hi]
theorem g_upcl {g : GG} (G : g_I g) {S Fr : Nat → Prop} {i : Nat} (cS : g_cl g S) (cA : g_cl g (fun z => S z ∨ Fr z)) : g_cl g (g_up S Fr i) := by
  refine ⟨?_, ?_⟩
  · rintro z (k | k)
    · exact cS.1 z k
    · exact cA.1 z (Or.inr k.1)
  · rintro z y (k | k) hy
    · exact Or.inl (cS.2 z y k hy)
    · have hz := cA.1 z (Or.inr k.1)
      have := g_hle G hz hy
      rcases cA.2 z y (Or.inr k.1) hy with w | w
      · exact Or.inl w
      · exact Or.inr ⟨w, by omega⟩
theorem x_T_c {g : GG} {S S' : Nat → Prop} {p : Nat} {a b : Nat → Int32} (h : x_T g S p a b) (k : ∀ x, S x ↔ S' x) : x_T g S' p a b := by
  have : S = S' := funext fun x => propext (k x)
  subst this
  exact h
theorem eg_set_c {s : Int64} {S S' : Nat → Prop} (h : eg_set s S) (k : ∀ x, S x ↔ S' x) : eg_set s S' := fun x hx => (h x hx).trans (k x)
section
variable {f_room : Int32} {f_spare : Int32} {f_replicaCount : Int32} {f_eventLimit : Int32} {f_made : Int32} {f_whole : Int64} {f_prepared : Int64} {f_rowLength : Int32} {a_deletes : Nat → Int32} {a_letter : Nat → Int32} {a_typed : Nat → Int32} {a_author : Nat → Int32} {a_stamp : Nat → Int32} {a_history : Nat → Int64} {a_parents : Nat → Int64} {a_held : Nat → Int64} {a_logLength : Nat → Int32} {a_logEvents : Nat → Int32} {a_logIndices : Nat → Int32} {a_textLength : Nat → Int32} {a_texts : Nat → Int32} {a_row : Nat → Int32} {a_prep : Nat → Int32} {a_gone : Nat → Int32} {a_itemOf : Nat → Int32}
variable {g : GG}
set_option maxHeartbeats 4000000 in
theorem x_ti24 {post : Int32 → SX → Prop} {s : Int64} {p : Nat} {S Fr : Nat → Prop} {D : LG} (G : g_I g) (K : x_G g f_made a_deletes a_letter a_typed a_author a_stamp a_history a_parents) (hp : p < 4) (hs : eg_set s Fr) (cS : g_cl g S) (cA : g_cl g (fun z => S z ∨ Fr z)) (dj : ∀ z, Fr z → ¬ S z) (h : ∀ (r : Int32) (fp : Int64) (fr : Int32) (held : Nat → Int64) (tl tx row prep gone io : Nat → Int32), (∀ e, e < g_m g → (∀ z, Fr z ↔ z = e) → r = g_fx g S e) → eg_set (held p) (fun z => S z ∨ Fr z) → (∀ q, q ≠ p → held q = a_held q) → x_T g (fun z => S z ∨ Fr z) p tl tx → (∀ q, q ≠ p → tl q = a_textLength q) → (∀ j, j < p * 32 ∨ p * 32 + 32 ≤ j → tx j = a_texts j) → (∀ j, vp_nar .char (tx j) = tx j) → post r (f_room, f_spare, f_replicaCount, f_eventLimit, f_made, f_whole, fp, fr, a_deletes, a_letter, a_typed, a_author, a_stamp, a_history, a_parents, held, (l_run g p S Fr D (g_m g)).1, (l_run g p S Fr D (g_m g)).2.1, (l_run g p S Fr D (g_m g)).2.2, tl, tx, row, prep, gone, io)) : ∀ (d i n : Nat) (r : Int32) (fp : Int64) (fr : Int32) (held : Nat → Int64) (tl tx row prep gone io : Nat → Int32), i + d = g_m g → d < n → x_WI g (fun z => S z ∨ Fr z) (g_up S Fr i) f_whole fp fr row prep gone io → (∀ e, e < i → (∀ z, Fr z ↔ z = e) → r = g_fx g S e) → eg_set (held p) (g_up S Fr i) → (∀ q, q ≠ p → held q = a_held q) → x_T g (g_up S Fr i) p tl tx → (∀ q, q ≠ p → tl q = a_textLength q) → (∀ j, j < p * 32 ∨ p * 32 + 32 ≤ j → tx j = a_texts j) → (∀ j, vp_nar .char (tx j) = tx j) → (l_run g p S Fr D i).1 p = nI (eg_cnt (g_up S Fr i) (g_m g)) → wX_takeIn_24 post (nI p) s n r (nI i) f_room f_spare f_replicaCount f_eventLimit f_made f_whole fp fr a_deletes a_letter a_typed a_author a_stamp a_history a_parents held ((l_run g p S Fr D i).1) ((l_run g p S Fr D i).2.1) ((l_run g p S Fr D i).2.2) tl tx row prep gone io := by
  have m32 := g_m32 G
  have em := xg_m K
  intro d
  induction d with
  | zero =>
    intro i n r fp fr held tl tx row prep gone io hd hn w q1 q2 q3 q4 q5 q6 q7 q8
    cases n with
    | zero => omega
    | succ n =>
      have e : i = g_m g := by omega
      subst e
      have eq : ∀ z, g_up S Fr (g_m g) z ↔ (S z ∨ Fr z) := by
        intro z
        constructor
        · rintro (k | k)
          · exact Or.inl k
          · exact Or.inr k.1
        · rintro (k | k)
          · exact Or.inl k
          · exact Or.inr ⟨k, cA.1 z (Or.inr k)⟩
      exact br_t (by rw [em]; exact Int32.le_refl _) (h r fp fr held tl tx row prep gone io q1 (eg_set_c q2 eq) q3 (x_T_c q4 eq) q5 q6 q7)
  | succ d ih =>
    intro i n r fp fr held tl tx row prep gone io hd hn w q1 q2 q3 q4 q5 q6 q7 q8
    cases n with
    | zero => omega
    | succ n =>
      have hlt : i < g_m g := by omega
      refine br_f (by rw [em]; exact nI_ge hlt (by omega)) (x_contains (by omega) (fun k => br_f eg_10 ?_) (fun k => br_t rfl (nm_r (nI_1 i) ?_)))
      · have fi : Fr i := (hs i (by omega)).mp k
        have ns : ¬ S i := dj i fi
        have nu : ¬ g_up S Fr i i := by
          rintro (z | z)
          · exact ns z
          · omega
        have past : ∀ y, g_past g i y → g_up S Fr i y := by
          intro y hy
          have l := g_past_lt G hlt hy
          rcases cA.2 i y (Or.inr fi) hy.1 with z | z
          · exact Or.inl z
          · exact Or.inr ⟨z, l⟩
        have cU := g_upcl G (i := i) cS cA
        have clt : eg_cnt (g_up S Fr i) (g_m g) < g_m g := eg_cnt_lt hlt nu
        refine x_walkOver G K w hlt (Or.inr fi) nu past (fun r' fp' fr' row' prep' gone' io' hF w' => ?_)
        refine x_applyToText G K (by omega) hlt cU nu q4 q7 hF (fun tl' tx' t1 t2 t3 t4 => ?_)
        refine x_enter hp q8 (by omega) (nm_r (nI_1 i) ?_)
        have er := g_fxe hF
        have step := ih (i + 1) n r' fp' fr' (vp_updL held p ((held p) ||| ((1 : Int64) <<< ((nI i).toInt64 &&& 63)))) tl' tx' row' prep' gone' io' (by omega) (by omega) (x_WI_c w' (g_up_t fi)) ?_ ?_ ?_ (x_T_c t1 (g_up_t fi)) ?_ ?_ t4 (l_run_c fi ns hlt q8)
        · rw [l_run_t fi, ← er] at step
          exact step
        · intro e he hz
          have ei : i = e := (hz i).mp fi
          subst ei
          rw [er]
          have : g_up S Fr i = S := by
            funext z
            apply propext
            constructor
            · rintro (k | k)
              · exact k
              · have := (hz z).mp k.1; omega
            · exact Or.inl
          rw [this]
        · rw [pk_uLs]
          exact eg_set_c (eg_set_add q2 (by omega)) (g_up_t fi)
        · intro q hq
          rw [pk_uLn hq]
          exact q3 q hq
        · intro q hq
          rw [t2 q hq]; exact q5 q hq
        · intro j hj
          rw [t3 j hj]; exact q6 j hj
      · have nf : ¬ Fr i := fun z => k ((hs i (by omega)).mpr z)
        have step := ih (i + 1) n r fp fr held tl tx row prep gone io (by omega) (by omega) (x_WI_c w (g_up_f nf)) ?_ (eg_set_c q2 (g_up_f nf)) q3 (x_T_c q4 (g_up_f nf)) q5 q6 q7 ?_
        · rw [l_run_f nf] at step
          exact step
        · intro e he hz
          by_cases k2 : e = i
          · subst k2; exact absurd ((hz e).mpr rfl) nf
          · exact q1 e (by omega) hz
        · rw [l_run_f nf, q8, eg_cnt_c (g_m g) (fun z _ => g_up_f nf z)]
theorem x_takeIn {post : Int32 → SX → Prop} {s : Int64} {p : Nat} {S Fr : Nat → Prop} (G : g_I g) (K : x_G g f_made a_deletes a_letter a_typed a_author a_stamp a_history a_parents) (hp : p < 4) (hh : eg_set (a_held p) S) (hs : eg_set s Fr) (cS : g_cl g S) (cA : g_cl g (fun z => S z ∨ Fr z)) (dj : ∀ z, Fr z → ¬ S z) (hT : x_T g S p a_textLength a_texts) (hc : ∀ j, vp_nar .char (a_texts j) = a_texts j) (hl : a_logLength p = nI (eg_cnt S (g_m g))) (h : ∀ (r : Int32) (fw fp : Int64) (fr : Int32) (held : Nat → Int64) (tl tx row prep gone io : Nat → Int32), (∀ e, e < g_m g → (∀ z, Fr z ↔ z = e) → r = g_fx g S e) → eg_set (held p) (fun z => S z ∨ Fr z) → (∀ q, q ≠ p → held q = a_held q) → x_T g (fun z => S z ∨ Fr z) p tl tx → (∀ q, q ≠ p → tl q = a_textLength q) → (∀ j, j < p * 32 ∨ p * 32 + 32 ≤ j → tx j = a_texts j) → (∀ j, vp_nar .char (tx j) = tx j) → post r (f_room, f_spare, f_replicaCount, f_eventLimit, f_made, fw, fp, fr, a_deletes, a_letter, a_typed, a_author, a_stamp, a_history, a_parents, held, (l_run g p S Fr (a_logLength, a_logEvents, a_logIndices) (g_m g)).1, (l_run g p S Fr (a_logLength, a_logEvents, a_logIndices) (g_m g)).2.1, (l_run g p S Fr (a_logLength, a_logEvents, a_logIndices) (g_m g)).2.2, tl, tx, row, prep, gone, io)) : wpX_takeIn post (f_room, f_spare, f_replicaCount, f_eventLimit, f_made, f_whole, f_prepared, f_rowLength, a_deletes, a_letter, a_typed, a_author, a_stamp, a_history, a_parents, a_held, a_logLength, a_logEvents, a_logIndices, a_textLength, a_texts, a_row, a_prep, a_gone, a_itemOf) (nI p) s := by
  have ip : vp_in (nI p) 4 := vp_in_nI hp (by decide)
  have e0 : ∀ z, S z ↔ g_up S Fr 0 z := by
    intro z
    constructor
    · exact Or.inl
    · rintro (k | k)
      · exact k
      · omega
  refine And.intro ip (And.intro ip ?_)
  rw [eg_cl (n := p) (by omega)]
  refine x_openWalk (Wh := fun z => S z ∨ Fr z) (Kn := S) G K hh ?_ cS cA (fun _ k => Or.inl k) (fun fp fr row prep gone io w => ⟨g_m g + 1, ?_⟩)
  · intro x hx
    rw [eg_mem_or, hh x hx, hs x hx]
  · exact x_ti24 (D := (a_logLength, a_logEvents, a_logIndices)) G K hp hs cS cA dj (fun r fp fr held tl tx row prep gone io k1 k2 k3 k4 k5 k6 k7 => h r _ fp fr held tl tx row prep gone io k1 k2 k3 k4 k5 k6 k7) (g_m g) 0 (g_m g + 1) (-1) fp fr a_held a_textLength a_texts row prep gone io (by omega) (by omega) (x_WI_c w e0) (fun e he => absurd he (by omega)) (eg_set_c hh e0) (fun _ _ => rfl) (x_T_c hT e0) (fun _ _ => rfl) (fun _ _ => rfl) hc (by
      show a_logLength p = _
      rw [hl, eg_cnt_c (g_m g) (fun z _ => e0 z)])
set_option maxHeartbeats 4000000 in
theorem x_mh30 {post : SX → Prop} {s : Int64} {Fr : Nat → Prop} (G : g_I g) (K : x_G g f_made a_deletes a_letter a_typed a_author a_stamp a_history a_parents) (hs : eg_set s Fr) (cA : g_cl g Fr) (h : ∀ (fp : Int64) (fr : Int32) (tl tx row prep gone io : Nat → Int32), x_T g Fr 4 tl tx → (∀ q, q ≠ 4 → tl q = a_textLength q) → (∀ j, j < 4 * 32 ∨ 4 * 32 + 32 ≤ j → tx j = a_texts j) → (∀ j, vp_nar .char (tx j) = tx j) → post (f_room, f_spare, f_replicaCount, f_eventLimit, f_made, f_whole, fp, fr, a_deletes, a_letter, a_typed, a_author, a_stamp, a_history, a_parents, a_held, a_logLength, a_logEvents, a_logIndices, tl, tx, row, prep, gone, io)) : ∀ (d i n : Nat) (fp : Int64) (fr : Int32) (tl tx row prep gone io : Nat → Int32), i + d = g_m g → d < n → x_WI g Fr (g_up (fun _ => False) Fr i) f_whole fp fr row prep gone io → x_T g (g_up (fun _ => False) Fr i) 4 tl tx → (∀ q, q ≠ 4 → tl q = a_textLength q) → (∀ j, j < 4 * 32 ∨ 4 * 32 + 32 ≤ j → tx j = a_texts j) → (∀ j, vp_nar .char (tx j) = tx j) → wX_mergeHistories_30 post s n (nI i) f_room f_spare f_replicaCount f_eventLimit f_made f_whole fp fr a_deletes a_letter a_typed a_author a_stamp a_history a_parents a_held a_logLength a_logEvents a_logIndices tl tx row prep gone io := by
  have m32 := g_m32 G
  have em := xg_m K
  have c0 : g_cl g (fun _ => False) := ⟨fun _ k => k.elim, fun _ _ k => k.elim⟩
  have cA' : g_cl g (fun z => False ∨ Fr z) := ⟨fun z k => cA.1 z (k.resolve_left (fun q => q)), fun z y k hy => Or.inr (cA.2 z y (k.resolve_left (fun q => q)) hy)⟩
  intro d
  induction d with
  | zero =>
    intro i n fp fr tl tx row prep gone io hd hn w q4 q5 q6 q7
    cases n with
    | zero => omega
    | succ n =>
      have e : i = g_m g := by omega
      subst e
      have eq : ∀ z, g_up (fun _ => False) Fr (g_m g) z ↔ Fr z := by
        intro z
        constructor
        · rintro (k | k)
          · exact k.elim
          · exact k.1
        · intro k
          exact Or.inr ⟨k, cA.1 z k⟩
      exact br_t (by rw [em]; exact Int32.le_refl _) (h fp fr tl tx row prep gone io (x_T_c q4 eq) q5 q6 q7)
  | succ d ih =>
    intro i n fp fr tl tx row prep gone io hd hn w q4 q5 q6 q7
    cases n with
    | zero => omega
    | succ n =>
      have hlt : i < g_m g := by omega
      refine br_f (by rw [em]; exact nI_ge hlt (by omega)) (x_contains (by omega) (fun k => br_f eg_10 ?_) (fun k => br_t rfl (nm_r (nI_1 i) ?_)))
      · have fi : Fr i := (hs i (by omega)).mp k
        have nu : ¬ g_up (fun _ => False) Fr i i := by
          rintro (z | z)
          · exact z
          · omega
        have past : ∀ y, g_past g i y → g_up (fun _ => False) Fr i y := by
          intro y hy
          have l := g_past_lt G hlt hy
          exact Or.inr ⟨cA.2 i y fi hy.1, l⟩
        have cU := g_upcl G (i := i) c0 cA'
        refine x_walkOver G K w hlt fi nu past (fun r' fp' fr' row' prep' gone' io' hF w' => ?_)
        refine x_applyToText (p := 4) G K (by omega) hlt cU nu q4 q7 hF (fun tl' tx' t1 t2 t3 t4 => nm_r (nI_1 i) ?_)
        exact ih (i + 1) n fp' fr' tl' tx' row' prep' gone' io' (by omega) (by omega) (x_WI_c w' (g_up_t fi)) (x_T_c t1 (g_up_t fi)) (fun q hq => by rw [t2 q hq]; exact q5 q hq) (fun j hj => by rw [t3 j hj]; exact q6 j hj) t4
      · have nf : ¬ Fr i := fun z => k ((hs i (by omega)).mpr z)
        exact ih (i + 1) n fp fr tl tx row prep gone io (by omega) (by omega) (x_WI_c w (g_up_f nf)) (x_T_c q4 (g_up_f nf)) q5 q6 q7
theorem x_mergeHistories {post : SX → Prop} {a b : Nat} (G : g_I g) (K : x_G g f_made a_deletes a_letter a_typed a_author a_stamp a_history a_parents) (ha : a < g_m g) (hb : b < g_m g) (hc : ∀ j, vp_nar .char (a_texts j) = a_texts j) (h : ∀ (fw fp : Int64) (fr : Int32) (tl tx row prep gone io : Nat → Int32), x_T g (fun z => g_H g a z ∨ g_H g b z) 4 tl tx → (∀ q, q ≠ 4 → tl q = a_textLength q) → (∀ j, j < 4 * 32 ∨ 4 * 32 + 32 ≤ j → tx j = a_texts j) → (∀ j, vp_nar .char (tx j) = tx j) → post (f_room, f_spare, f_replicaCount, f_eventLimit, f_made, fw, fp, fr, a_deletes, a_letter, a_typed, a_author, a_stamp, a_history, a_parents, a_held, a_logLength, a_logEvents, a_logIndices, tl, tx, row, prep, gone, io)) : wpX_mergeHistories post (f_room, f_spare, f_replicaCount, f_eventLimit, f_made, f_whole, f_prepared, f_rowLength, a_deletes, a_letter, a_typed, a_author, a_stamp, a_history, a_parents, a_held, a_logLength, a_logEvents, a_logIndices, a_textLength, a_texts, a_row, a_prep, a_gone, a_itemOf) (nI a) (nI b) := by
  have m32 := g_m32 G
  have cA : g_cl g (fun z => g_H g a z ∨ g_H g b z) := by
    refine ⟨?_, ?_⟩
    · rintro z (k | k)
      · exact (g_H_cl G ha).1 z k
      · exact (g_H_cl G hb).1 z k
    · rintro z y (k | k) hy
      · exact Or.inl ((g_H_cl G ha).2 z y k hy)
      · exact Or.inr ((g_H_cl G hb).2 z y k hy)
  refine And.intro (vp_in_nI (by omega) (by decide)) (And.intro (vp_in_nI (by omega) (by decide)) ?_)
  rw [eg_cl (n := a) (by omega), eg_cl (n := b) (by omega)]
  refine nm_e (nm_e ?_)
  have hs : eg_set ((a_history a) ||| (a_history b)) (fun z => g_H g a z ∨ g_H g b z) := by
    intro x hx
    rw [eg_mem_or, xg_h K ha x hx, xg_h K hb x hx]
  have e0 : ∀ z, False ↔ g_up (fun _ => False) (fun z => g_H g a z ∨ g_H g b z) 0 z := by
    intro z
    constructor
    · exact Or.inl
    · rintro (k | k)
      · exact k
      · omega
  refine x_openWalk (Wh := fun z => g_H g a z ∨ g_H g b z) (Kn := fun _ => False) G K (fun x _ => ⟨fun k => absurd k (eg_mem_0 x), fun k => k.elim⟩) hs ⟨fun _ k => k.elim, fun _ _ k => k.elim⟩ cA (fun _ k => k.elim) (fun fp fr row prep gone io w => ⟨g_m g + 1, ?_⟩)
  refine x_mh30 G K hs cA (fun fp fr tl tx row prep gone io k1 k2 k3 k4 => h _ fp fr tl tx row prep gone io k1 (fun q hq => by rw [k2 q hq]; exact pk_un hq) k3 k4) (g_m g) 0 (g_m g + 1) fp fr _ a_texts row prep gone io (by omega) (by omega) (x_WI_c w e0) ⟨[], ⟨List.Pairwise.nil, fun x => ⟨fun k => absurd k (by simp), fun k => ((e0 x).mpr k.2.1).elim⟩⟩, pk_us, fun i v k => absurd k (by simp)⟩ (fun _ _ => rfl) (fun _ _ => rfl) hc
end
end
section
/-! the reference: a text laid out anew -/
def y_lk : Option Nat → Int32
  | none => -1
  | some a => nI a
def y_G (g : GG) (f_made : Int32) (a_author a_typed a_stamp a_link a_codes a_history : Nat → Int32) : Prop :=
  f_made = nI (g_m g) ∧ (∀ e, e < g_m g → a_author e = nI (g_aut g e)) ∧ (∀ e, e < g_m g → a_typed e = nI (g_typ g e)) ∧ (∀ e, e < g_m g → a_stamp e = nI (g_stp g e)) ∧ (∀ e, e < g_m g → a_link e = y_lk (g_lnk g e)) ∧ (∀ e, e < g_m g → g_del g e → a_codes e = -8) ∧ (∀ e, e < g_m g → ¬ g_del g e → a_codes e = g_cod g e ∧ g_cod g e ≠ -8) ∧ (∀ e x, e < 32 → x < 32 → (a_history (e * 32 + x) = 0 ↔ ¬ (e < g_m g ∧ g_H g e x)))
def y_set (a : Nat → Int32) (S : Nat → Prop) : Prop := ∀ x, x < 32 → (a x = 0 ↔ ¬ S x)
def y_Q (g : GG) (S : Nat → Prop) (k x : Nat) : Prop := ¬ g_del g x ∧ S x ∧ g_rk g x < k
section
variable {f_replicas : Int32} {f_limit : Int32} {f_made : Int32} {f_orderLength : Int32} {f_rowLength : Int32} {a_author : Nat → Int32} {a_typed : Nat → Int32} {a_stamp : Nat → Int32} {a_link : Nat → Int32} {a_codes : Nat → Int32} {a_history : Nat → Int32} {a_held : Nat → Int32} {a_logEvents : Nat → Int32} {a_logIndices : Nat → Int32} {a_logLength : Nat → Int32} {a_set : Nat → Int32} {a_order : Nat → Int32} {a_row : Nat → Int32}
variable {g : GG}
theorem yg_m (K : y_G g f_made a_author a_typed a_stamp a_link a_codes a_history) : f_made = nI (g_m g) := K.1
theorem yg_a (K : y_G g f_made a_author a_typed a_stamp a_link a_codes a_history) {e : Nat} (h : e < g_m g) : a_author e = nI (g_aut g e) := K.2.1 e h
theorem yg_t (K : y_G g f_made a_author a_typed a_stamp a_link a_codes a_history) {e : Nat} (h : e < g_m g) : a_typed e = nI (g_typ g e) := K.2.2.1 e h
theorem yg_s (K : y_G g f_made a_author a_typed a_stamp a_link a_codes a_history) {e : Nat} (h : e < g_m g) : a_stamp e = nI (g_stp g e) := K.2.2.2.1 e h
theorem yg_k (K : y_G g f_made a_author a_typed a_stamp a_link a_codes a_history) {e : Nat} (h : e < g_m g) : a_link e = y_lk (g_lnk g e) := K.2.2.2.2.1 e h
theorem yg_d (K : y_G g f_made a_author a_typed a_stamp a_link a_codes a_history) {e : Nat} (h : e < g_m g) : a_codes e = -8 ↔ g_del g e := by
  constructor
  · intro z
    apply Classical.byContradiction
    intro n
    have := K.2.2.2.2.2.2.1 e h n
    exact this.2 (this.1.symm.trans z)
  · exact K.2.2.2.2.2.1 e h
theorem yg_c (K : y_G g f_made a_author a_typed a_stamp a_link a_codes a_history) {e : Nat} (h : e < g_m g) (n : ¬ g_del g e) : a_codes e = g_cod g e := (K.2.2.2.2.2.2.1 e h n).1
theorem yg_h (K : y_G g f_made a_author a_typed a_stamp a_link a_codes a_history) {e x : Nat} (h : e < 32) (hx : x < 32) : a_history (e * 32 + x) = 0 ↔ ¬ (e < g_m g ∧ g_H g e x) := K.2.2.2.2.2.2.2 e x h hx
theorem y_pl121 {post : SY → Prop} {e pos len : Nat} {T : Nat → Int32} (he : e < 32) (hp : pos ≤ len) (hl : len < 32) (hf : f_orderLength = nI len) (h : post (f_replicas, f_limit, f_made, nI (len + 1), f_rowLength, a_author, a_typed, a_stamp, a_link, a_codes, a_history, a_held, a_logEvents, a_logIndices, a_logLength, a_set, upd (eg_shU T pos len) pos (nI e), a_row)) : ∀ d n, pos + d ≤ len → d < n → wY_place_121 post (nI e) (nI pos) f_replicas f_limit f_made f_orderLength f_rowLength n (nI (pos + d)) a_author a_typed a_stamp a_link a_codes a_history a_held a_logEvents a_logIndices a_logLength a_set (eg_shU T (pos + d) len) a_row := by
  intro d
  induction d with
  | zero =>
    intro n _ hn
    cases n with
    | zero => omega
    | succ n =>
      refine br_t (Int32.le_refl _) ?_
      rw [eg_cl (n := pos) (by omega), hf, nI_1]
      exact And.intro (vp_in_nI (by omega) (by decide)) (nm_e (nm_e h))
  | succ d ih =>
    intro n hd hn
    cases n with
    | zero => omega
    | succ n =>
      refine br_f (nI_ge (by omega) (by omega)) ?_
      have e0 : nI (pos + (d + 1)) - 1 = nI (pos + d) := nI_pred (pos + d)
      have e1 : nI (pos + (d + 1)) + (-1) = nI (pos + d) := pk_m1 (pos + d)
      rw [e0, e1, eg_cl (n := pos + d) (by omega), eg_cl (n := pos + (d + 1)) (by omega)]
      refine And.intro (vp_in_nI (by omega) (by decide)) (And.intro (vp_in_nI (by omega) (by decide)) (nm_r ?_ (nm_e (ih n (by omega) (by omega)))))
      rw [show pos + (d + 1) = (pos + d) + 1 by omega, eg_shU_r]
      exact eg_shU_s (by omega)
theorem y_pl78 {post : SY → Prop} {e : Nat} {l A0 : List Nat} (he : e < 32) (hl : f_orderLength = nI l.length) (h32 : l.length ≤ 32) (hr : eg_Rep a_order 0 nI l) (hm : ∀ i v, l[i]? = some v → (nI v = a_link e ↔ i + 1 = A0.length)) (hA : A0.length ≤ l.length) (h : ∃ n121 : Nat, wY_place_121 post (nI e) (nI A0.length) f_replicas f_limit f_made f_orderLength f_rowLength n121 f_orderLength a_author a_typed a_stamp a_link a_codes a_history a_held a_logEvents a_logIndices a_logLength a_set a_order a_row) : ∀ d i n at', i + d = l.length → d < n → at' = (if A0.length ≤ i then A0.length else 0) → wY_place_78 post (nI e) f_replicas f_limit f_made f_orderLength f_rowLength a_author a_typed a_stamp a_link a_codes a_history a_held a_logEvents a_logIndices a_logLength a_set a_order a_row n (nI at') (nI i) := by
  intro d
  induction d with
  | zero =>
    intro i n at' hd hn ha
    cases n with
    | zero => omega
    | succ n =>
      have ei : i = l.length := by omega
      rw [if_pos (by omega)] at ha
      subst ha
      exact br_t (by rw [hl, ei]; exact Int32.le_refl _) h
  | succ d ih =>
    intro i n at' hd hn ha
    cases n with
    | zero => omega
    | succ n =>
      have il : i < l.length := by omega
      have g1 : l[i]? = some l[i] := List.getElem?_eq_getElem il
      have g2 := eg_Rep0 hr g1
      refine br_f (by rw [hl]; exact nI_ge il (by omega)) (And.intro (vp_in_nI (by omega) (by decide)) (And.intro (vp_in_nI he (by decide)) ?_))
      rw [eg_cl (n := i) (by omega), eg_cl (n := e) (by omega), g2, nI_1 i]
      refine eg_if (hm i _ g1) (fun w => nm_e (nm_e (ih (i + 1) n (i + 1) (by omega) (by omega) ?_))) (fun w => nm_e (ih (i + 1) n at' (by omega) (by omega) ?_))
      · rw [if_pos (by omega)]; omega
      · rw [ha]
        by_cases k : A0.length ≤ i
        · rw [if_pos k, if_pos (by omega)]
        · rw [if_neg k, if_neg (by omega)]
theorem y_pl5 {post : SY → Prop} {s r : Nat} {S : Nat → Prop} (G : g_I g) (K : y_G g f_made a_author a_typed a_stamp a_link a_codes a_history) (hS : y_set a_set S) (hs : s < 1000) (hr : r < 4) (hN : (∀ x, x < g_m g → ¬ (S x ∧ ¬ g_del g x ∧ g_stp g x = s ∧ g_aut g x = r)) → post (f_replicas, f_limit, f_made, f_orderLength, f_rowLength, a_author, a_typed, a_stamp, a_link, a_codes, a_history, a_held, a_logEvents, a_logIndices, a_logLength, a_set, a_order, a_row)) (hY : ∀ e, e < g_m g → (S e ∧ ¬ g_del g e ∧ g_stp g e = s ∧ g_aut g e = r) → ∃ n78 : Nat, wY_place_78 post (nI e) f_replicas f_limit f_made f_orderLength f_rowLength a_author a_typed a_stamp a_link a_codes a_history a_held a_logEvents a_logIndices a_logLength a_set a_order a_row n78 0 0) : ∀ d i n (y : Int32), i + d = g_m g → d < n → ((y = -1 ∧ ∀ x, x < i → ¬ (S x ∧ ¬ g_del g x ∧ g_stp g x = s ∧ g_aut g x = r)) ∨ (∃ e, y = nI e ∧ e < i ∧ S e ∧ ¬ g_del g e ∧ g_stp g e = s ∧ g_aut g e = r)) → wY_place_5 post (nI s) (nI r) f_replicas f_limit f_made f_orderLength f_rowLength a_author a_typed a_stamp a_link a_codes a_history a_held a_logEvents a_logIndices a_logLength a_set a_order a_row n y (nI i) := by
  have m32 := g_m32 G
  have em := yg_m K
  intro d
  induction d with
  | zero =>
    intro i n y hd hn hy
    cases n with
    | zero => omega
    | succ n =>
      have e : i = g_m g := by omega
      subst e
      refine br_t (by rw [em]; exact Int32.le_refl _) ?_
      rcases hy with ⟨e, k⟩ | ⟨e, e1, e2, k⟩
      · subst e; exact br_f (by decide) (hN k)
      · subst e1; exact br_t (nI_pos' (by omega)) (hY e e2 k)
  | succ d ih =>
    intro i n y hd hn hy
    cases n with
    | zero => omega
    | succ n =>
      have hlt : i < g_m g := by omega
      have ii : vp_in (nI i) 32 := vp_in_nI (by omega) (by decide)
      have rg := g_rng G hlt
      have keep : ¬ (S i ∧ ¬ g_del g i ∧ g_stp g i = s ∧ g_aut g i = r) → wY_place_5 post (nI s) (nI r) f_replicas f_limit f_made f_orderLength f_rowLength a_author a_typed a_stamp a_link a_codes a_history a_held a_logEvents a_logIndices a_logLength a_set a_order a_row n y (nI (i + 1)) := by
        intro nm
        refine ih (i + 1) n y (by omega) (by omega) ?_
        rcases hy with ⟨e, k⟩ | ⟨e, e1, e2, k⟩
        · refine Or.inl ⟨e, fun x hx => ?_⟩
          by_cases q : x = i
          · subst q; exact nm
          · exact k x (by omega)
        · exact Or.inr ⟨e, e1, by omega, k⟩
      refine br_f (by rw [em]; exact nI_ge hlt (by omega)) (And.intro ii ?_)
      rw [eg_cl (n := i) (by omega), nI_1 i, yg_s K hlt, yg_a K hlt]
      refine eg_if (hS i (by omega)) (fun k => nm_e (keep (fun z => k z.1))) (fun k => And.intro ii (eg_if (yg_d K hlt) (fun k2 => nm_e (keep (fun z => z.2.1 k2))) (fun k2 => And.intro ii (pk_eq (g_stp g i) s (fun k3 => And.intro ii (pk_eq (g_aut g i) r (fun k4 => nm_e (ih (i + 1) n _ (by omega) (by omega) (Or.inr ⟨i, rfl, by omega, eg_nn k, k2, k3, k4⟩))) (fun k4 => nm_e (keep (fun z => k4 z.2.2.2))) rfl rfl (by omega) (by omega))) (fun k3 => nm_e (keep (fun z => k3 z.2.2.1))) rfl rfl (by omega) (by omega)))))
theorem y_place {post : SY → Prop} {s r : Nat} {S : Nat → Prop} {l : List Nat} (G : g_I g) (K : y_G g f_made a_author a_typed a_stamp a_link a_codes a_history) (cS : g_cl g S) (hS : y_set a_set S) (hs : s < 1000) (hr : r < 4) (hL : eg_Lst (g_P g) (y_Q g S (4 * s + r)) l) (hl : f_orderLength = nI l.length) (hR : eg_Rep a_order 0 nI l) (h : ∀ (ol : Int32) (ord : Nat → Int32) (l' : List Nat), eg_Lst (g_P g) (y_Q g S (4 * s + (r + 1))) l' → ol = nI l'.length → eg_Rep ord 0 nI l' → post (f_replicas, f_limit, f_made, ol, f_rowLength, a_author, a_typed, a_stamp, a_link, a_codes, a_history, a_held, a_logEvents, a_logIndices, a_logLength, a_set, ord, a_row)) : wpY_place post (f_replicas, f_limit, f_made, f_orderLength, f_rowLength, a_author, a_typed, a_stamp, a_link, a_codes, a_history, a_held, a_logEvents, a_logIndices, a_logLength, a_set, a_order, a_row) (nI s) (nI r) := by
  have m32 := g_m32 G
  have l32 : l.length ≤ 32 := Nat.le_trans (eg_len (eg_nd hL.1) (fun x hx => cS.1 x ((hL.2 x).mp hx).2.1)) m32
  refine ⟨g_m g + 1, y_pl5 G K hS hs hr (fun hN => ?_) (fun e he me => ?_) (g_m g) 0 (g_m g + 1) (-1) (by omega) (by omega) (Or.inl ⟨rfl, fun x hx => absurd hx (by omega)⟩)⟩
  · refine h f_orderLength a_order l (eg_Lc hL (fun x => ?_)) hl hR
    constructor
    · rintro ⟨a, b, c⟩; exact ⟨a, b, by omega⟩
    · rintro ⟨a, b, c⟩
      refine ⟨a, b, ?_⟩
      have mx := cS.1 x b
      have rg := g_rng G mx
      have := hN x mx
      unfold g_rk at c ⊢
      by_cases q : 4 * g_stp g x + g_aut g x = 4 * s + r
      · exact absurd ⟨b, a, by omega, by omega⟩ this
      · omega
  · obtain ⟨se, nd, e1, e2⟩ := me
    have rke : g_rk g e = 4 * s + r := by unfold g_rk; rw [e1, e2]
    have key : ∃ A0 C, l = A0 ++ C ∧ ((g_lnk g e = none ∧ A0 = []) ∨ ∃ a A1, g_lnk g e = some a ∧ A0 = A1 ++ [a]) := by
      cases lk : g_lnk g e with
      | none => exact ⟨[], l, rfl, Or.inl ⟨rfl, rfl⟩⟩
      | some a =>
        have v := g_lv G he lk
        have : a ∈ l := (hL.2 a).mpr ⟨v.1, cS.2 e a se v.2.1.1, by have := g_rkl G he v.2.1; omega⟩
        obtain ⟨A, C, ee⟩ := List.append_of_mem this
        exact ⟨A ++ [a], C, by rw [ee]; simp, Or.inr ⟨a, A, rfl, rfl⟩⟩
    obtain ⟨A0, C, eL, h0⟩ := key
    have LF := g_ins0 G (x := e) (Q := y_Q g S (4 * s + r)) (A0 := A0) (C := C) he nd (fun z => by have := z.2.2; omega) (fun b hb => ⟨cS.1 b hb.2.1, hb.1, by have := hb.2.2; omega⟩) (eL ▸ hL) h0
    have LF2 : eg_Lst (g_P g) (y_Q g S (4 * s + (r + 1))) (A0 ++ e :: C) := by
      refine eg_Lc LF (fun x => ?_)
      constructor
      · rintro (⟨a, b, c⟩ | z)
        · exact ⟨a, b, by omega⟩
        · subst z; exact ⟨nd, se, by omega⟩
      · rintro ⟨a, b, c⟩
        by_cases q : x = e
        · exact Or.inr q
        · have : g_rk g x ≠ g_rk g e := fun z => q (g_rkI G (cS.1 x b) he z)
          exact Or.inl ⟨a, b, by omega⟩
    have l2 : (A0 ++ e :: C).length = l.length + 1 := by rw [eL]; simp; omega
    have l33 : (A0 ++ e :: C).length ≤ 32 := Nat.le_trans (eg_len (eg_nd LF2.1) (fun x hx => cS.1 x ((LF2.2 x).mp hx).2.1)) m32
    have al : A0.length ≤ l.length := by rw [eL]; simp
    refine ⟨l.length + 1, ?_⟩
    refine y_pl78 (A0 := A0) (by omega) hl l32 hR ?_ al ?_ l.length 0 (l.length + 1) 0 (by omega) (by omega) ?_
    · intro i v hv
      have mv := (hL.2 v).mp (List.mem_of_getElem? hv)
      have vm := cS.1 v mv.2.1
      rw [yg_k K he]
      rcases h0 with ⟨lk, ea⟩ | ⟨a, A1, lk, ea⟩
      · rw [lk, ea]
        constructor
        · intro z
          have z2 : nI v = -1 := z
          have := nI_pos (n := v) (by omega)
          rw [z2] at this
          exact absurd (by decide) this
        · intro z; exact absurd z (by simp)
      · rw [lk]
        have am : a < 32 := by
          have := g_llt G he lk; omega
        have g1 : l[A1.length]? = some a := by rw [eL, ea]; simp
        show nI v = nI a ↔ _
        rw [nI_eq (by omega) (by omega), ea]
        constructor
        · intro z
          subst z
          have := eg_nd_i (eg_nd hL.1) hv g1
          simp; omega
        · intro z
          have : i = A1.length := by simpa using z
          subst this
          rw [g1] at hv
          simpa using hv.symm
    · have := y_pl121 (post := post) (T := a_order) (pos := A0.length) (len := l.length) (e := e) (by omega) al (by omega) hl (h (nI (l.length + 1)) _ (A0 ++ e :: C) LF2 (by rw [l2]) (by
        have q := eg_Rep_ins (x := e) (w := nI e) (f := nI) (eL ▸ hR) rfl
        rw [Nat.zero_add, Nat.zero_add, ← eL] at q
        exact q)) (l.length - A0.length) (l.length - A0.length + 1) (by omega) (by omega)
      rw [show A0.length + (l.length - A0.length) = l.length by omega, eg_shU_0] at this
      refine ⟨l.length - A0.length + 1, ?_⟩
      have e9 : wY_place_121 post (nI e) (nI A0.length) f_replicas f_limit f_made f_orderLength f_rowLength (l.length - A0.length + 1) f_orderLength a_author a_typed a_stamp a_link a_codes a_history a_held a_logEvents a_logIndices a_logLength a_set a_order a_row = wY_place_121 post (nI e) (nI A0.length) f_replicas f_limit f_made f_orderLength f_rowLength (l.length - A0.length + 1) (nI l.length) a_author a_typed a_stamp a_link a_codes a_history a_held a_logEvents a_logIndices a_logLength a_set a_order a_row := by rw [← hl]
      rw [e9]
      exact this
    · by_cases q : A0.length ≤ 0
      · rw [if_pos q]; omega
      · rw [if_neg q]
theorem y_lo15 {post : Int32 → SY → Prop} {J : Int32 → Int32 → Int32 → Int32 → Int32 → Int32 → (Nat → Int32) → (Nat → Int32) → (Nat → Int32) → (Nat → Int32) → (Nat → Int32) → (Nat → Int32) → (Nat → Int32) → (Nat → Int32) → (Nat → Int32) → (Nat → Int32) → (Nat → Int32) → (Nat → Int32) → (Nat → Int32) → Prop} {s : Nat} {S : Nat → Prop} (G : g_I g) (K : y_G g f_made a_author a_typed a_stamp a_link a_codes a_history) (cS : g_cl g S) (hS : y_set a_set S) (hs : s < 1000) (h : ∀ (ol : Int32) (ord : Nat → Int32) (l : List Nat), eg_Lst (g_P g) (y_Q g S (4 * (s + 1))) l → ol = nI l.length → eg_Rep ord 0 nI l → J (nI (s + 1)) f_replicas f_limit f_made ol f_rowLength a_author a_typed a_stamp a_link a_codes a_history a_held a_logEvents a_logIndices a_logLength a_set ord a_row) : ∀ (d r n : Nat) (ol : Int32) (ord : Nat → Int32) (l : List Nat), r + d = 4 → d < n → eg_Lst (g_P g) (y_Q g S (4 * s + r)) l → ol = nI l.length → eg_Rep ord 0 nI l → wY_layOut_15 post J (nI s) n (nI r) f_replicas f_limit f_made ol f_rowLength a_author a_typed a_stamp a_link a_codes a_history a_held a_logEvents a_logIndices a_logLength a_set ord a_row := by
  intro d
  induction d with
  | zero =>
    intro r n ol ord l hd hn h1 h2 h3
    cases n with
    | zero => omega
    | succ n =>
      have e : r = 4 := by omega
      subst e
      exact br_t (Int32.le_refl _) (nm_r (nI_1 s) (h ol ord l h1 h2 h3))
  | succ d ih =>
    intro r n ol ord l hd hn h1 h2 h3
    cases n with
    | zero => omega
    | succ n =>
      refine br_f (nI_ge (b := 4) (by omega) (by decide)) ?_
      refine y_place G K cS hS hs (by omega) h1 h2 h3 (fun ol' ord' l' k1 k2 k3 => nm_r (nI_1 r) ?_)
      exact ih (r + 1) n ol' ord' l' (by omega) (by omega) k1 k2 k3
theorem y_lo7 {post : Int32 → SY → Prop} {S : Nat → Prop} (G : g_I g) (K : y_G g f_made a_author a_typed a_stamp a_link a_codes a_history) (cS : g_cl g S) (hS : y_set a_set S) (h : ∀ (ol : Int32) (ord : Nat → Int32) (l : List Nat), eg_Lst (g_P g) (fun x => ¬ g_del g x ∧ S x) l → ol = nI l.length → eg_Rep ord 0 nI l → ∃ n45 : Nat, wY_layOut_45 post f_replicas f_limit f_made ol n45 0 0 a_author a_typed a_stamp a_link a_codes a_history a_held a_logEvents a_logIndices a_logLength a_set ord a_row) : ∀ (d s n : Nat) (ol : Int32) (ord : Nat → Int32) (l : List Nat), s + d = 33 → d < n → eg_Lst (g_P g) (y_Q g S (4 * s)) l → ol = nI l.length → eg_Rep ord 0 nI l → wY_layOut_7 post n (nI s) f_replicas f_limit f_made ol f_rowLength a_author a_typed a_stamp a_link a_codes a_history a_held a_logEvents a_logIndices a_logLength a_set ord a_row := by
  have m32 := g_m32 G
  intro d
  induction d with
  | zero =>
    intro s n ol ord l hd hn h1 h2 h3
    cases n with
    | zero => omega
    | succ n =>
      have e : s = 33 := by omega
      subst e
      refine br_t (by decide) (h ol ord l (eg_Lc h1 (fun x => ?_)) h2 h3)
      constructor
      · rintro ⟨a, b, _⟩; exact ⟨a, b⟩
      · rintro ⟨a, b⟩
        refine ⟨a, b, ?_⟩
        have mx := cS.1 x b
        have rg := g_rng G mx
        unfold g_rk
        omega
  | succ d ih =>
    intro s n ol ord l hd hn h1 h2 h3
    cases n with
    | zero => omega
    | succ n =>
      refine br_f (nI_nlt (a := 32) (by omega) (by decide)) ⟨5, ?_⟩
      exact y_lo15 G K cS hS (by omega) (fun ol' ord' l' k1 k2 k3 => ih (s + 1) n ol' ord' l' (by omega) (by omega) k1 k2 k3) 4 0 5 ol ord l (by omega) (by omega) h1 h2 h3
end
end
section
/-! the reference: texts, found places, taking in -/
theorem y_lke {o : Option Nat} {v : Nat} (hv : v < 1000) (ho : ∀ a, o = some a → a < 1000) : y_lk o = nI v ↔ o = some v := by
  cases o with
  | none =>
    constructor
    · intro z
      have z2 : (-1 : Int32) = nI v := z
      have := nI_pos (n := v) (by omega)
      rw [← z2] at this
      exact absurd (by decide) this
    · intro z; exact absurd z (by simp)
  | some a =>
    have := ho a rfl
    show nI a = nI v ↔ _
    rw [nI_eq (by omega) (by omega)]
    simp
section
variable {f_replicas : Int32} {f_limit : Int32} {f_made : Int32} {f_orderLength : Int32} {f_rowLength : Int32} {a_author : Nat → Int32} {a_typed : Nat → Int32} {a_stamp : Nat → Int32} {a_link : Nat → Int32} {a_codes : Nat → Int32} {a_history : Nat → Int32} {a_held : Nat → Int32} {a_logEvents : Nat → Int32} {a_logIndices : Nat → Int32} {a_logLength : Nat → Int32} {a_set : Nat → Int32} {a_order : Nat → Int32} {a_row : Nat → Int32}
variable {g : GG}
theorem y_lo57 {post : Int32 → SY → Prop} {J : Int32 → Int32 → (Nat → Int32) → (Nat → Int32) → (Nat → Int32) → (Nat → Int32) → (Nat → Int32) → (Nat → Int32) → (Nat → Int32) → (Nat → Int32) → (Nat → Int32) → (Nat → Int32) → (Nat → Int32) → (Nat → Int32) → (Nat → Int32) → Prop} {S : Nat → Prop} {i v k : Nat} (G : g_I g) (K : y_G g f_made a_author a_typed a_stamp a_link a_codes a_history) (cS : g_cl g S) (hS : y_set a_set S) (hi : i < 32) (hv : v < g_m g) (ho : a_order i = nI v) (hk : f_rowLength = nI k) (hk32 : k < 32) (h0 : (∀ d, S d → g_del g d → g_lnk g d ≠ some v) → J (nI (i + 1)) (nI (k + 1)) a_author a_typed a_stamp a_link a_codes a_history a_held a_logEvents a_logIndices a_logLength a_set a_order (upd a_row k (nI v))) (h1 : (¬ ∀ d, S d → g_del g d → g_lnk g d ≠ some v) → J (nI (i + 1)) f_rowLength a_author a_typed a_stamp a_link a_codes a_history a_held a_logEvents a_logIndices a_logLength a_set a_order a_row) : ∀ (c j n : Nat) (y : Int32), j + c = g_m g → c < n → ((y = 0 ∧ ∀ d, d < j → S d → g_del g d → g_lnk g d ≠ some v) ∨ (y = 1 ∧ ¬ ∀ d, S d → g_del g d → g_lnk g d ≠ some v)) → wY_layOut_57 post J (nI i) f_replicas f_limit f_made f_orderLength f_rowLength a_author a_typed a_stamp a_link a_codes a_history a_held a_logEvents a_logIndices a_logLength a_set a_order a_row n y (nI j) := by
  have m32 := g_m32 G
  have em := yg_m K
  have ii : vp_in (nI i) 32 := vp_in_nI hi (by decide)
  intro c
  induction c with
  | zero =>
    intro j n y hd hn hy
    cases n with
    | zero => omega
    | succ n =>
      have e : j = g_m g := by omega
      subst e
      refine br_t (by rw [em]; exact Int32.le_refl _) ?_
      rcases hy with ⟨e, q⟩ | ⟨e, q⟩
      · subst e
        refine br_t rfl ?_
        rw [hk, eg_cl (n := i) (by omega), ho, eg_cl (n := k) (by omega)]
        refine And.intro ii (And.intro (vp_in_nI hk32 (by decide)) (nm_e (br_t rfl (nm_r (nI_1 k) (nm_r (nI_1 i) ?_)))))
        exact h0 (fun d hd => q d (cS.1 d hd) hd)
      · subst e
        exact br_f (by decide) (br_f (by decide) (nm_r (nI_1 i) (h1 q)))
  | succ c ih =>
    intro j n y hd hn hy
    cases n with
    | zero => omega
    | succ n =>
      have hlt : j < g_m g := by omega
      have ij : vp_in (nI j) 32 := vp_in_nI (by omega) (by decide)
      have keep : (S j → g_del g j → g_lnk g j ≠ some v) → wY_layOut_57 post J (nI i) f_replicas f_limit f_made f_orderLength f_rowLength a_author a_typed a_stamp a_link a_codes a_history a_held a_logEvents a_logIndices a_logLength a_set a_order a_row n y (nI (j + 1)) := by
        intro nm
        refine ih (j + 1) n y (by omega) (by omega) ?_
        rcases hy with ⟨e, q⟩ | q
        · refine Or.inl ⟨e, fun d hd => ?_⟩
          by_cases w : d = j
          · subst w; exact nm
          · exact q d (by omega)
        · exact Or.inr q
      refine br_f (by rw [em]; exact nI_ge hlt (by omega)) (And.intro ij ?_)
      rw [eg_cl (n := j) (by omega), eg_cl (n := i) (by omega), nI_1 j, ho, yg_k K hlt]
      refine eg_if (hS j (by omega)) (fun w => nm_e (keep (fun z => absurd z w))) (fun w => And.intro ij (eg_if (yg_d K hlt) (fun w2 => And.intro ij (And.intro ii (eg_if (y_lke (by omega) (fun a ha => by have := g_llt G hlt ha; omega)) (fun w3 => nm_e (ih (j + 1) n 1 (by omega) (by omega) (Or.inr ⟨rfl, fun z => z j (eg_nn w) w2 w3⟩))) (fun w3 => nm_e (keep (fun _ _ => w3)))))) (fun w2 => nm_e (keep (fun _ z => absurd z w2)))))
theorem y_lo45 {post : Int32 → SY → Prop} {S : Nat → Prop} {l : List Nat} (G : g_I g) (K : y_G g f_made a_author a_typed a_stamp a_link a_codes a_history) (cS : g_cl g S) (hS : y_set a_set S) (hL : eg_Lst (g_P g) (fun x => ¬ g_del g x ∧ S x) l) (hl : f_orderLength = nI l.length) (hR : eg_Rep a_order 0 nI l) (h : ∀ row, eg_Rep row 0 nI (l.filter (fun x => eg_dc (g_vis g S x))) → post (nI (l.filter (fun x => eg_dc (g_vis g S x))).length) (f_replicas, f_limit, f_made, f_orderLength, nI (l.filter (fun x => eg_dc (g_vis g S x))).length, a_author, a_typed, a_stamp, a_link, a_codes, a_history, a_held, a_logEvents, a_logIndices, a_logLength, a_set, a_order, row)) : ∀ (L2 L1 : List Nat) (n : Nat) (row : Nat → Int32), l = L1 ++ L2 → L2.length < n → eg_Rep row 0 nI (L1.filter (fun x => eg_dc (g_vis g S x))) → wY_layOut_45 post f_replicas f_limit f_made f_orderLength n (nI L1.length) (nI (L1.filter (fun x => eg_dc (g_vis g S x))).length) a_author a_typed a_stamp a_link a_codes a_history a_held a_logEvents a_logIndices a_logLength a_set a_order row := by
  have m32 := g_m32 G
  have l32 : l.length ≤ 32 := Nat.le_trans (eg_len (eg_nd hL.1) (fun x hx => cS.1 x ((hL.2 x).mp hx).2)) m32
  intro L2
  induction L2 with
  | nil =>
    intro L1 n row hs hn hr
    cases n with
    | zero => omega
    | succ n =>
      have e : L1 = l := by rw [hs]; simp
      subst e
      exact br_t (by rw [hl]; exact Int32.le_refl _) (h row hr)
  | cons v L2 ih =>
    intro L1 n row hs hn hr
    cases n with
    | zero => omega
    | succ n =>
      have ln : l.length = L1.length + (L2.length + 1) := by rw [hs]; simp
      have g1 : l[L1.length]? = some v := by rw [hs]; exact eg_get_mid
      have g2 := eg_Rep0 hR g1
      have mv := (hL.2 v).mp (List.mem_of_getElem? g1)
      have fl := List.length_filter_le (fun x => eg_dc (g_vis g S x)) L1
      refine br_f (by rw [hl]; exact nI_ge (by omega) (by omega)) ⟨g_m g + 1, ?_⟩
      refine y_lo57 (v := v) (k := (L1.filter (fun x => eg_dc (g_vis g S x))).length) G K cS hS (by omega) (cS.1 v mv.2) g2 rfl (by omega) ?_ ?_ (g_m g) 0 (g_m g + 1) 0 (by omega) (by omega) (Or.inl ⟨rfl, fun d hd => absurd hd (by omega)⟩)
      · intro q
        have vv : g_vis g S v := ⟨mv.1, mv.2, q⟩
        have e1 : (L1 ++ [v]).filter (fun x => eg_dc (g_vis g S x)) = L1.filter (fun x => eg_dc (g_vis g S x)) ++ [v] := by
          rw [List.filter_append, List.filter_cons_of_pos (by exact eg_dci.mpr vv)]; rfl
        have st := ih (L1 ++ [v]) n (upd row (L1.filter (fun x => eg_dc (g_vis g S x))).length (nI v)) (by rw [hs]; simp) (by simpa using hn) (by
          rw [e1]
          intro i w hw
          rw [Nat.zero_add]
          by_cases q2 : i < (L1.filter (fun x => eg_dc (g_vis g S x))).length
          · rw [List.getElem?_append_left q2] at hw
            rw [pk_un (by omega)]
            exact eg_Rep0 hr hw
          · rw [List.getElem?_append_right (by omega)] at hw
            have il := (List.getElem?_eq_some_iff.mp hw).1
            have e3 : i = (L1.filter (fun x => eg_dc (g_vis g S x))).length := by
              have : i - (L1.filter (fun x => eg_dc (g_vis g S x))).length < 1 := by simpa using il
              omega
            rw [e3, Nat.sub_self] at hw
            have : v = w := by simpa using hw
            rw [e3, pk_us, this])
        rw [e1] at st
        rw [show (L1 ++ [v]).length = L1.length + 1 by simp, show (L1.filter (fun x => eg_dc (g_vis g S x)) ++ [v]).length = (L1.filter (fun x => eg_dc (g_vis g S x))).length + 1 by simp] at st
        exact st
      · intro q
        have vv : ¬ g_vis g S v := fun z => q z.2.2
        have e1 : (L1 ++ [v]).filter (fun x => eg_dc (g_vis g S x)) = L1.filter (fun x => eg_dc (g_vis g S x)) := by
          rw [List.filter_append, List.filter_cons_of_neg (p := fun x => eg_dc (g_vis g S x)) (fun z => vv (eg_dci.mp z))]; simp
        have st := ih (L1 ++ [v]) n row (by rw [hs]; simp) (by simpa using hn) (by rw [e1]; exact hr)
        rw [e1] at st
        rw [show (L1 ++ [v]).length = L1.length + 1 by simp] at st
        exact st
theorem y_layOut {post : Int32 → SY → Prop} {S : Nat → Prop} (G : g_I g) (K : y_G g f_made a_author a_typed a_stamp a_link a_codes a_history) (cS : g_cl g S) (hS : y_set a_set S) (h : ∀ (t : List Nat) (ol : Int32) (ord row : Nat → Int32), g_T g S t → eg_Rep row 0 nI t → post (nI t.length) (f_replicas, f_limit, f_made, ol, nI t.length, a_author, a_typed, a_stamp, a_link, a_codes, a_history, a_held, a_logEvents, a_logIndices, a_logLength, a_set, ord, row)) : wpY_layOut post (f_replicas, f_limit, f_made, f_orderLength, f_rowLength, a_author, a_typed, a_stamp, a_link, a_codes, a_history, a_held, a_logEvents, a_logIndices, a_logLength, a_set, a_order, a_row) := by
  refine ⟨33, ?_⟩
  refine y_lo7 G K cS hS (fun ol ord l h1 h2 h3 => ⟨l.length + 1, ?_⟩) 32 1 33 0 a_order [] (by omega) (by omega) ⟨List.Pairwise.nil, fun x => ⟨fun z => absurd z (by simp), fun z => ?_⟩⟩ rfl (fun i v z => absurd z (by simp))
  · refine y_lo45 (l := l) G K cS hS h1 h2 h3 (fun row hr => h (l.filter (fun x => eg_dc (g_vis g S x))) ol ord row ?_ hr) l [] (l.length + 1) a_row rfl (by omega) (fun i v z => absurd z (by simp))
    exact eg_Lc (eg_Lf h1 (g_vis g S)) (fun x => ⟨fun z => z.2, fun z => ⟨⟨z.1, z.2.1⟩, z⟩⟩)
  · have rg := g_rng G (cS.1 x z.2.1)
    have := z.2.2
    unfold g_rk at this
    omega
theorem y_isReplica {post : Int32 → Prop} {p : Int32} {R : Nat} (hR : f_replicas = nI R) (hr : R < 1000) (h0 : (∀ q, q < R → p ≠ nI q) → post 0) (h1 : ∀ q, q < R → p = nI q → post 1) : wpY_isReplica post (f_replicas, f_limit, f_made, f_orderLength, f_rowLength, a_author, a_typed, a_stamp, a_link, a_codes, a_history, a_held, a_logEvents, a_logIndices, a_logLength, a_set, a_order, a_row) p := by
  refine br_c (fun z => h0 (fun q hq e => ?_)) (fun z => ?_)
  · rw [e] at z; exact nI_pos (by omega) z
  · obtain ⟨j, hj, e⟩ := nI_of z
    subst e
    refine pk_le R j (fun w => h0 (fun q hq e => ?_)) (fun w => h1 j w rfl) hR rfl (by omega) hj
    rw [nI_eq (by omega) (by omega)] at e
    omega
theorem y_exists {post : Int32 → Prop} {e : Int32} (G : g_I g) (K : y_G g f_made a_author a_typed a_stamp a_link a_codes a_history) (h0 : (∀ q, q < g_m g → e ≠ nI q) → post 0) (h1 : ∀ q, q < g_m g → e = nI q → post 1) : wpY_exists post (f_replicas, f_limit, f_made, f_orderLength, f_rowLength, a_author, a_typed, a_stamp, a_link, a_codes, a_history, a_held, a_logEvents, a_logIndices, a_logLength, a_set, a_order, a_row) e := by
  have m32 := g_m32 G
  refine br_c (fun z => h0 (fun q hq e => ?_)) (fun z => ?_)
  · rw [e] at z; exact nI_pos (by omega) z
  · obtain ⟨j, hj, e⟩ := nI_of z
    subst e
    refine pk_le (g_m g) j (fun w => h0 (fun q hq e => ?_)) (fun w => h1 j w rfl) (yg_m K) rfl (by omega) hj
    rw [nI_eq (by omega) (by omega)] at e
    omega
theorem eg_p32 (p c : Nat) : nI p * 32 + nI c = nI (p * 32 + c) := by
  rw [show nI p * 32 = nI (p * 32) from pk_mul p 32, nI_add]
theorem y_len13 {post : Int32 → SY → Prop} {p : Nat} {S : Nat → Prop} (hp : p < 4) (hh : ∀ x, x < 32 → (a_held (p * 32 + x) = 0 ↔ ¬ S x)) (hb : ∀ j, vp_nar .boolean (a_held j) = a_held j) (h : ∀ set, y_set set S → wpY_layOut post (f_replicas, f_limit, f_made, f_orderLength, f_rowLength, a_author, a_typed, a_stamp, a_link, a_codes, a_history, a_held, a_logEvents, a_logIndices, a_logLength, set, a_order, a_row)) : ∀ (d i n : Nat) (set : Nat → Int32), i + d = 32 → d < n → (∀ x, x < i → (set x = 0 ↔ ¬ S x)) → wY_length_13 post (nI p) f_replicas f_limit f_made f_orderLength f_rowLength n (nI i) a_author a_typed a_stamp a_link a_codes a_history a_held a_logEvents a_logIndices a_logLength set a_order a_row := by
  intro d
  induction d with
  | zero =>
    intro i n set hd hn hs
    cases n with
    | zero => omega
    | succ n =>
      have e : i = 32 := by omega
      subst e
      exact br_t (Int32.le_refl _) (h set hs)
  | succ d ih =>
    intro i n set hd hn hs
    cases n with
    | zero => omega
    | succ n =>
      refine br_f (nI_ge (b := 32) (by omega) (by decide)) ?_
      rw [eg_p32, eg_cl (n := p * 32 + i) (by omega), eg_cl (n := i) (by omega), hb, nI_1]
      refine And.intro (vp_in_nI (by omega) (by decide)) (And.intro (vp_in_nI (by omega) (by decide)) (nm_e (nm_e (ih (i + 1) n _ (by omega) (by omega) (fun x hx => ?_)))))
      by_cases e : x = i
      · subst e; rw [pk_us]; exact hh x (by omega)
      · rw [pk_un e]; exact hs x (by omega)
theorem y_length {post : Int32 → SY → Prop} {p R : Nat} {S : Nat → Prop} (G : g_I g) (K : y_G g f_made a_author a_typed a_stamp a_link a_codes a_history) (cS : g_cl g S) (hR : f_replicas = nI R) (hr : R ≤ 4) (hp : p < R) (hh : ∀ x, x < 32 → (a_held (p * 32 + x) = 0 ↔ ¬ S x)) (hb : ∀ j, vp_nar .boolean (a_held j) = a_held j) (h : ∀ (t : List Nat) (ol : Int32) (set ord row : Nat → Int32), g_T g S t → eg_Rep row 0 nI t → y_set set S → post (nI t.length) (f_replicas, f_limit, f_made, ol, nI t.length, a_author, a_typed, a_stamp, a_link, a_codes, a_history, a_held, a_logEvents, a_logIndices, a_logLength, set, ord, row)) : wpY_length post (f_replicas, f_limit, f_made, f_orderLength, f_rowLength, a_author, a_typed, a_stamp, a_link, a_codes, a_history, a_held, a_logEvents, a_logIndices, a_logLength, a_set, a_order, a_row) (nI p) := by
  unfold wpY_length
  refine y_isReplica hR (by omega) (fun z => absurd rfl (z p hp)) (fun q hq e => br_f eg_10 ⟨33, ?_⟩)
  refine y_len13 (by omega) hh hb (fun set hs => ?_) 32 0 33 a_set (by omega) (by omega) (fun x hx => absurd hx (by omega))
  exact y_layOut G K cS hs (fun t ol ord row k1 k2 => h t ol set ord row k1 k2 hs)
theorem y_length_n {post : Int32 → SY → Prop} {p : Int32} {R : Nat} (hR : f_replicas = nI R) (hr : R ≤ 4) (hp : ∀ q, q < R → p ≠ nI q) (h : post (-2) (f_replicas, f_limit, f_made, f_orderLength, f_rowLength, a_author, a_typed, a_stamp, a_link, a_codes, a_history, a_held, a_logEvents, a_logIndices, a_logLength, a_set, a_order, a_row)) : wpY_length post (f_replicas, f_limit, f_made, f_orderLength, f_rowLength, a_author, a_typed, a_stamp, a_link, a_codes, a_history, a_held, a_logEvents, a_logIndices, a_logLength, a_set, a_order, a_row) p := by
  unfold wpY_length
  exact y_isReplica hR (by omega) (fun _ => br_t rfl h) (fun q hq e => absurd e (hp q hq))
theorem y_ml21 {post : Int32 → SY → Prop} {a b : Nat} (G : g_I g) (K : y_G g f_made a_author a_typed a_stamp a_link a_codes a_history) (ha : a < g_m g) (hb : b < g_m g) (h : ∀ set, y_set set (fun z => g_H g a z ∨ g_H g b z) → wpY_layOut post (f_replicas, f_limit, f_made, f_orderLength, f_rowLength, a_author, a_typed, a_stamp, a_link, a_codes, a_history, a_held, a_logEvents, a_logIndices, a_logLength, set, a_order, a_row)) : ∀ (d i n : Nat) (set : Nat → Int32), i + d = 32 → d < n → (∀ x, x < i → (set x = 0 ↔ ¬ (g_H g a x ∨ g_H g b x))) → wY_mergedLength_21 post (nI a) (nI b) f_replicas f_limit f_made f_orderLength f_rowLength n (nI i) a_author a_typed a_stamp a_link a_codes a_history a_held a_logEvents a_logIndices a_logLength set a_order a_row := by
  have m32 := g_m32 G
  intro d
  induction d with
  | zero =>
    intro i n set hd hn hs
    cases n with
    | zero => omega
    | succ n =>
      have e : i = 32 := by omega
      subst e
      exact br_t (Int32.le_refl _) (h set hs)
  | succ d ih =>
    intro i n set hd hn hs
    cases n with
    | zero => omega
    | succ n =>
      refine br_f (nI_ge (b := 32) (by omega) (by decide)) ?_
      rw [eg_p32, eg_p32, eg_cl (n := a * 32 + i) (by omega), eg_cl (n := b * 32 + i) (by omega), eg_cl (n := i) (by omega), nI_1]
      have i1 : vp_in (nI (a * 32 + i)) 1024 := vp_in_nI (by omega) (by decide)
      have i2 : vp_in (nI (b * 32 + i)) 1024 := vp_in_nI (by omega) (by decide)
      have i3 : vp_in (nI i) 32 := vp_in_nI (by omega) (by decide)
      have st : ∀ w : Int32, (w = 0 ↔ ¬ (g_H g a i ∨ g_H g b i)) → wY_mergedLength_21 post (nI a) (nI b) f_replicas f_limit f_made f_orderLength f_rowLength n (nI (i + 1)) a_author a_typed a_stamp a_link a_codes a_history a_held a_logEvents a_logIndices a_logLength (upd set i w) a_order a_row := by
        intro w hw
        refine ih (i + 1) n _ (by omega) (by omega) (fun x hx => ?_)
        by_cases e : x = i
        · subst e; rw [pk_us]; exact hw
        · rw [pk_un e]; exact hs x (by omega)
      have ha' := yg_h K (e := a) (x := i) (by omega) (by omega)
      have hb' := yg_h K (e := b) (x := i) (by omega) (by omega)
      refine And.intro i1 (eg_if ha' (fun w => And.intro i2 (eg_if hb' (fun w2 => And.intro i3 (nm_e (nm_e (st _ ⟨fun _ z => ?_, fun _ => rfl⟩)))) (fun w2 => And.intro i3 (nm_e (nm_e (st _ ⟨fun z => absurd z (by decide), fun z => ?_⟩)))))) (fun w => And.intro i3 (nm_e (nm_e (st _ ⟨fun z => absurd z (by decide), fun z => ?_⟩)))))
      · rcases z with z | z
        · exact w ⟨ha, z⟩
        · exact w2 ⟨hb, z⟩
      · exact absurd (Or.inr (eg_nn w2).2) z
      · exact absurd (Or.inl (eg_nn w).2) z
theorem y_mergedLength {post : Int32 → SY → Prop} {a b : Nat} (G : g_I g) (K : y_G g f_made a_author a_typed a_stamp a_link a_codes a_history) (ha : a < g_m g) (hb : b < g_m g) (h : ∀ (t : List Nat) (ol : Int32) (set ord row : Nat → Int32), g_T g (fun z => g_H g a z ∨ g_H g b z) t → eg_Rep row 0 nI t → post (nI t.length) (f_replicas, f_limit, f_made, ol, nI t.length, a_author, a_typed, a_stamp, a_link, a_codes, a_history, a_held, a_logEvents, a_logIndices, a_logLength, set, ord, row)) : wpY_mergedLength post (f_replicas, f_limit, f_made, f_orderLength, f_rowLength, a_author, a_typed, a_stamp, a_link, a_codes, a_history, a_held, a_logEvents, a_logIndices, a_logLength, a_set, a_order, a_row) (nI a) (nI b) := by
  have cA : g_cl g (fun z => g_H g a z ∨ g_H g b z) := by
    refine ⟨?_, ?_⟩
    · rintro z (k | k)
      · exact (g_H_cl G ha).1 z k
      · exact (g_H_cl G hb).1 z k
    · rintro z y (k | k) hy
      · exact Or.inl ((g_H_cl G ha).2 z y k hy)
      · exact Or.inr ((g_H_cl G hb).2 z y k hy)
  unfold wpY_mergedLength
  refine y_exists G K (fun z => absurd rfl (z a ha)) (fun _ _ _ => br_f eg_10 (y_exists G K (fun z => absurd rfl (z b hb)) (fun _ _ _ => br_f eg_10 ⟨33, ?_⟩)))
  refine y_ml21 G K ha hb (fun set hs => ?_) 32 0 33 a_set (by omega) (by omega) (fun x hx => absurd hx (by omega))
  exact y_layOut G K cA hs (fun t ol ord row k1 k2 => h t ol set ord row k1 k2)
theorem y_mergedLength_n {post : Int32 → SY → Prop} {a b : Int32} (G : g_I g) (K : y_G g f_made a_author a_typed a_stamp a_link a_codes a_history) (hn : (∀ q, q < g_m g → a ≠ nI q) ∨ (∀ q, q < g_m g → b ≠ nI q)) (h : post (-3) (f_replicas, f_limit, f_made, f_orderLength, f_rowLength, a_author, a_typed, a_stamp, a_link, a_codes, a_history, a_held, a_logEvents, a_logIndices, a_logLength, a_set, a_order, a_row)) : wpY_mergedLength post (f_replicas, f_limit, f_made, f_orderLength, f_rowLength, a_author, a_typed, a_stamp, a_link, a_codes, a_history, a_held, a_logEvents, a_logIndices, a_logLength, a_set, a_order, a_row) a b := by
  unfold wpY_mergedLength
  exact y_exists G K (fun _ => br_t rfl h) (fun q hq e => br_f eg_10 (y_exists G K (fun _ => br_t rfl h) (fun q' hq' e' => by
    rcases hn with z | z
    · exact absurd e (z q hq)
    · exact absurd e' (z q' hq'))))
theorem y_rowChar {post : Int32 → Prop} {t : List Nat} {i : Int32} {S : Nat → Prop} (G : g_I g) (K : y_G g f_made a_author a_typed a_stamp a_link a_codes a_history) (cS : g_cl g S) (ht : g_T g S t) (hr : eg_Rep a_row 0 nI t) (h0 : (∀ j, j < t.length → i ≠ nI j) → post (-4)) (h1 : ∀ j v, i = nI j → t[j]? = some v → post (g_cod g v)) : wpY_rowChar post (f_replicas, f_limit, f_made, f_orderLength, f_rowLength, a_author, a_typed, a_stamp, a_link, a_codes, a_history, a_held, a_logEvents, a_logIndices, a_logLength, a_set, a_order, a_row) (nI t.length) i := by
  have m32 := g_m32 G
  have tl := g_Tlen G cS.1 ht
  refine br_t (nI_pos' (by omega)) (br_c (fun z => h0 (fun j hj e => ?_)) (fun z => ?_))
  · rw [e] at z; exact nI_pos (by omega) z
  · obtain ⟨j, hj, e⟩ := nI_of z
    subst e
    refine pk_lt j t.length (fun w => ?_) (fun w => h0 (fun q hq e => ?_)) rfl rfl hj (by omega)
    · have g1 : t[j]? = some t[j] := List.getElem?_eq_getElem w
      have mv := (ht.2 _).mp (List.mem_of_getElem? g1)
      have vm := cS.1 _ mv.2.1
      rw [eg_cl (n := j) (by omega), eg_Rep0 hr g1, eg_cl (n := t[j]) (by omega), yg_c K vm mv.1]
      exact And.intro (vp_in_nI (by omega) (by decide)) (And.intro (vp_in_nI (by omega) (by decide)) (h1 j _ rfl g1))
    · rw [nI_eq (by omega) (by omega)] at e
      omega
end
end
section
/-! the graph with one event more -/
def g_ext (g : GG) (S : Nat → Prop) (d : Prop) (p idx v : Nat) (lk : Option Nat) (cd : Int32) : GG :=
  (g_m g + 1, fun x => (x = g_m g ∧ d) ∨ (x ≠ g_m g ∧ g_del g x), fun e x => (e = g_m g ∧ (S x ∨ x = g_m g)) ∨ (e ≠ g_m g ∧ g_H g e x), fun x => if x = g_m g then v else g_stp g x, fun x => if x = g_m g then p else g_aut g x, fun x => if x = g_m g then idx else g_typ g x, fun x => if x = g_m g then lk else g_lnk g x, fun x => if x = g_m g then g_pth g lk ++ [4 * v + p] else g_P g x, fun x => if x = g_m g then cd else g_cod g x)
section
variable {g : GG} {S : Nat → Prop} {d : Prop} {p idx v : Nat} {lk : Option Nat} {cd : Int32}
theorem ge_m : g_m (g_ext g S d p idx v lk cd) = g_m g + 1 := rfl
theorem ge_del_o {x : Nat} (h : x ≠ g_m g) : g_del (g_ext g S d p idx v lk cd) x ↔ g_del g x := by
  show ((x = g_m g ∧ d) ∨ (x ≠ g_m g ∧ g_del g x)) ↔ _
  constructor
  · rintro (k | k)
    · exact absurd k.1 h
    · exact k.2
  · intro k; exact Or.inr ⟨h, k⟩
theorem ge_del_n : g_del (g_ext g S d p idx v lk cd) (g_m g) ↔ d := by
  show ((g_m g = g_m g ∧ d) ∨ (g_m g ≠ g_m g ∧ g_del g (g_m g))) ↔ _
  constructor
  · rintro (k | k)
    · exact k.2
    · exact absurd rfl k.1
  · intro k; exact Or.inl ⟨rfl, k⟩
theorem ge_H_o {e x : Nat} (h : e ≠ g_m g) : g_H (g_ext g S d p idx v lk cd) e x ↔ g_H g e x := by
  show ((e = g_m g ∧ (S x ∨ x = g_m g)) ∨ (e ≠ g_m g ∧ g_H g e x)) ↔ _
  constructor
  · rintro (k | k)
    · exact absurd k.1 h
    · exact k.2
  · intro k; exact Or.inr ⟨h, k⟩
theorem ge_H_n {x : Nat} : g_H (g_ext g S d p idx v lk cd) (g_m g) x ↔ (S x ∨ x = g_m g) := by
  show ((g_m g = g_m g ∧ (S x ∨ x = g_m g)) ∨ (g_m g ≠ g_m g ∧ g_H g (g_m g) x)) ↔ _
  constructor
  · rintro (k | k)
    · exact k.2
    · exact absurd rfl k.1
  · intro k; exact Or.inl ⟨rfl, k⟩
theorem ge_stp_o {x : Nat} (h : x ≠ g_m g) : g_stp (g_ext g S d p idx v lk cd) x = g_stp g x := if_neg h
theorem ge_stp_n : g_stp (g_ext g S d p idx v lk cd) (g_m g) = v := if_pos rfl
theorem ge_aut_o {x : Nat} (h : x ≠ g_m g) : g_aut (g_ext g S d p idx v lk cd) x = g_aut g x := if_neg h
theorem ge_aut_n : g_aut (g_ext g S d p idx v lk cd) (g_m g) = p := if_pos rfl
theorem ge_typ_o {x : Nat} (h : x ≠ g_m g) : g_typ (g_ext g S d p idx v lk cd) x = g_typ g x := if_neg h
theorem ge_typ_n : g_typ (g_ext g S d p idx v lk cd) (g_m g) = idx := if_pos rfl
theorem ge_lnk_o {x : Nat} (h : x ≠ g_m g) : g_lnk (g_ext g S d p idx v lk cd) x = g_lnk g x := if_neg h
theorem ge_lnk_n : g_lnk (g_ext g S d p idx v lk cd) (g_m g) = lk := if_pos rfl
theorem ge_P_o {x : Nat} (h : x ≠ g_m g) : g_P (g_ext g S d p idx v lk cd) x = g_P g x := if_neg h
theorem ge_P_n : g_P (g_ext g S d p idx v lk cd) (g_m g) = g_pth g lk ++ [4 * v + p] := if_pos rfl
theorem ge_cod_o {x : Nat} (h : x ≠ g_m g) : g_cod (g_ext g S d p idx v lk cd) x = g_cod g x := if_neg h
theorem ge_cod_n : g_cod (g_ext g S d p idx v lk cd) (g_m g) = cd := if_pos rfl
theorem ge_vis {U : Nat → Prop} (hU : ∀ x, U x → x < g_m g) (x : Nat) : g_vis (g_ext g S d p idx v lk cd) U x ↔ g_vis g U x := by
  constructor
  · intro h
    have lx := hU x h.2.1
    refine ⟨fun z => h.1 ((ge_del_o (by omega)).mpr z), h.2.1, fun q hq dq => ?_⟩
    have lq := hU q hq
    have := h.2.2 q hq ((ge_del_o (by omega)).mpr dq)
    rwa [ge_lnk_o (by omega)] at this
  · intro h
    have lx := hU x h.2.1
    refine ⟨fun z => h.1 ((ge_del_o (by omega)).mp z), h.2.1, fun q hq dq => ?_⟩
    have lq := hU q hq
    rw [ge_lnk_o (by omega)]
    exact h.2.2 q hq ((ge_del_o (by omega)).mp dq)
theorem ge_L {a b : Nat} (ha : a < g_m g) (hb : b < g_m g) : eg_L (g_P (g_ext g S d p idx v lk cd)) a b ↔ eg_L (g_P g) a b := by
  unfold eg_L
  rw [ge_P_o (by omega), ge_P_o (by omega)]
theorem ge_T {U : Nat → Prop} (hU : ∀ x, U x → x < g_m g) (t : List Nat) : g_T (g_ext g S d p idx v lk cd) U t ↔ g_T g U t := by
  constructor
  · intro h
    refine ⟨List.Pairwise.imp_of_mem ?_ h.1, fun x => (h.2 x).trans (ge_vis hU x)⟩
    intro a b ha hb k
    exact (ge_L (hU a ((h.2 a).mp ha).2.1) (hU b ((h.2 b).mp hb).2.1)).mp k
  · intro h
    refine ⟨List.Pairwise.imp_of_mem ?_ h.1, fun x => (h.2 x).trans (ge_vis hU x).symm⟩
    intro a b ha hb k
    exact (ge_L (hU a ((h.2 a).mp ha).2.1) (hU b ((h.2 b).mp hb).2.1)).mpr k
theorem ge_past_o {e : Nat} (h : e ≠ g_m g) : g_past (g_ext g S d p idx v lk cd) e = g_past g e := by
  funext x
  apply propext
  unfold g_past
  rw [ge_H_o h]
theorem ge_past_n (hS : ∀ x, S x → x < g_m g) : g_past (g_ext g S d p idx v lk cd) (g_m g) = S := by
  funext x
  apply propext
  unfold g_past
  rw [ge_H_n]
  constructor
  · rintro ⟨k | k, n⟩
    · exact k
    · exact absurd k n
  · intro k
    have := hS x k
    exact ⟨Or.inl k, by omega⟩
theorem ge_cl {U : Nat → Prop} (hU : g_cl g U) : g_cl (g_ext g S d p idx v lk cd) U := by
  refine ⟨fun x hx => ?_, fun x y hx hy => ?_⟩
  · rw [ge_m]
    have := hU.1 x hx
    omega
  · have := hU.1 x hx
    exact hU.2 x y hx ((ge_H_o (by omega)).mp hy)
theorem ge_pth {o : Option Nat} (h : ∀ a, o = some a → a < g_m g) : g_pth (g_ext g S d p idx v lk cd) o = g_pth g o := by
  cases o with
  | none => rfl
  | some a =>
    have := h a rfl
    exact ge_P_o (by omega)
theorem ge_I (G : g_I g) (cS : g_cl g S) (hm : g_m g < 32) (hp : p < 4) (hi : idx ≤ 32) (hv1 : 1 ≤ v) (hv2 : v ≤ g_m g + 1) (hv3 : ∀ x, S x → g_stp g x < v) (own : ∀ e, e < g_m g → g_aut g e = p → S e) {t : List Nat} (ht : g_T g S t) (ok1 : d → t[idx]? = lk ∧ lk ≠ none) (ok2 : ¬ d → (none :: t.map some)[idx]? = some lk) : g_I (g_ext g S d p idx v lk cd) := by
  have lkm : ∀ a, lk = some a → a < g_m g := by
    intro a ha
    have : a ∈ t := by
      by_cases k : d
      · exact List.mem_of_getElem? ((ok1 k).1.trans ha)
      · have := List.mem_of_getElem? (ok2 k)
        rw [ha, List.mem_cons] at this
        rcases this with e | e
        · exact absurd e (by simp)
        · rw [List.mem_map] at e
          obtain ⟨b, hb, e⟩ := e
          have e : b = a := by simpa using e
          exact e ▸ hb
    exact cS.1 a ((ht.2 a).mp this).2.1
  refine ⟨by rw [ge_m]; omega, ?_, ?_, ?_, ?_, ?_, ?_, ?_, ?_⟩
  · intro e he
    by_cases k : e = g_m g
    · subst k; exact ge_H_n.mpr (Or.inr rfl)
    · rw [ge_m] at he
      exact (ge_H_o k).mpr (g_refl G (by omega))
  · intro e x he hx
    by_cases k : e = g_m g
    · subst k
      rcases ge_H_n.mp hx with w | w
      · have := cS.1 x w; omega
      · omega
    · rw [ge_m] at he
      exact g_hle G (by omega) ((ge_H_o k).mp hx)
  · intro e x y he hx hy
    rw [ge_m] at he
    by_cases k : e = g_m g
    · subst k
      rcases ge_H_n.mp hx with w | w
      · have lx := cS.1 x w
        exact ge_H_n.mpr (Or.inl (cS.2 x y w ((ge_H_o (by omega)).mp hy)))
      · subst w; exact hy
    · have hx' := (ge_H_o k).mp hx
      have := g_hle G (by omega) hx'
      exact (ge_H_o k).mpr (g_htr G (by omega) hx' ((ge_H_o (by omega)).mp hy))
  · intro e he
    rw [ge_m] at he
    by_cases k : e = g_m g
    · subst k
      rw [ge_aut_n, ge_stp_n, ge_typ_n]
      exact ⟨hp, hv1, hv2, hi⟩
    · rw [ge_aut_o k, ge_stp_o k, ge_typ_o k]
      exact g_rng G (by omega)
  · intro e x he hx ne
    rw [ge_m] at he
    by_cases k : e = g_m g
    · subst k
      rcases ge_H_n.mp hx with w | w
      · have lx := cS.1 x w
        rw [ge_stp_n, ge_stp_o (by omega)]
        exact hv3 x w
      · exact absurd w ne
    · have hx' := (ge_H_o k).mp hx
      have := g_hle G (by omega) hx'
      rw [ge_stp_o k, ge_stp_o (by omega)]
      exact g_stl G (by omega) hx' ne
  · intro e f he hf h1 h2
    rw [ge_m] at he hf
    by_cases k : e = g_m g
    · by_cases k2 : f = g_m g
      · omega
      · subst k
        rw [ge_stp_n, ge_stp_o k2] at h1
        rw [ge_aut_n, ge_aut_o k2] at h2
        have := hv3 f (own f (by omega) h2.symm)
        omega
    · by_cases k2 : f = g_m g
      · subst k2
        rw [ge_stp_n, ge_stp_o k] at h1
        rw [ge_aut_n, ge_aut_o k] at h2
        have := hv3 e (own e (by omega) h2)
        omega
      · rw [ge_stp_o k, ge_stp_o k2] at h1
        rw [ge_aut_o k, ge_aut_o k2] at h2
        exact g_inj G (by omega) (by omega) h1 h2
  · intro e he nd
    rw [ge_m] at he
    by_cases k : e = g_m g
    · subst k
      rw [ge_P_n, ge_lnk_n, ge_pth lkm]
      unfold g_rk
      rw [ge_stp_n, ge_aut_n]
    · have nd' : ¬ g_del g e := fun z => nd ((ge_del_o k).mpr z)
      have := g_Pe G (e := e) (by omega) nd'
      rw [ge_P_o k, ge_lnk_o k, ge_pth (fun a ha => Nat.lt_trans (g_llt G (by omega) ha) (by omega)), this]
      unfold g_rk
      rw [ge_stp_o k, ge_aut_o k]
  · intro e he
    rw [ge_m] at he
    by_cases k : e = g_m g
    · subst k
      refine ⟨t, ?_, ?_, ?_⟩
      · rw [ge_past_n cS.1]
        exact (ge_T cS.1 t).mpr ht
      · intro q
        rw [ge_typ_n, ge_lnk_n]
        exact ok1 (ge_del_n.mp q)
      · intro q
        rw [ge_typ_n, ge_lnk_n]
        exact ok2 (fun z => q (ge_del_n.mpr z))
    · obtain ⟨t', ht', h1, h2⟩ := g_oke G (e := e) (by omega)
      refine ⟨t', ?_, ?_, ?_⟩
      · rw [ge_past_o k]
        exact (ge_T (g_past_cl G (by omega)).1 t').mpr ht'
      · intro q
        rw [ge_typ_o k, ge_lnk_o k]
        exact h1 ((ge_del_o k).mp q)
      · intro q
        rw [ge_typ_o k, ge_lnk_o k]
        exact h2 (fun z => q ((ge_del_o k).mpr z))
theorem ge_xT {U : Nat → Prop} {q : Nat} {tl tx : Nat → Int32} (hU : ∀ x, U x → x < g_m g) (h : x_T g U q tl tx) : x_T (g_ext g S d p idx v lk cd) U q tl tx := by
  obtain ⟨t, h1, h2, h3⟩ := h
  refine ⟨t, (ge_T hU t).mpr h1, h2, fun i w hw => ?_⟩
  have := hU w ((h1.2 w).mp (List.mem_of_getElem? hw)).2.1
  rw [ge_cod_o (by omega)]
  exact h3 i w hw
theorem ge_par_o (G : g_I g) (cS : g_cl g S) {e : Nat} (he : e < g_m g) (x : Nat) : g_par (g_ext g S d p idx v lk cd) e x ↔ g_par g e x := by
  unfold g_par
  rw [ge_H_o (by omega)]
  constructor
  · rintro ⟨a, b, c⟩
    refine ⟨a, b, fun y h1 h2 h3 h4 => ?_⟩
    have := g_hle G he h3
    exact c y h1 h2 ((ge_H_o (by omega)).mpr h3) ((ge_H_o (by omega)).mpr h4)
  · rintro ⟨a, b, c⟩
    refine ⟨a, b, fun y h1 h2 h3 h4 => ?_⟩
    have h3' := (ge_H_o (by omega)).mp h3
    have := g_hle G he h3'
    exact c y h1 h2 h3' ((ge_H_o (by omega)).mp h4)
theorem ge_par_n (G : g_I g) (cS : g_cl g S) (x : Nat) : g_par (g_ext g S d p idx v lk cd) (g_m g) x ↔ (S x ∧ ¬ ∃ y, y < g_m g ∧ S y ∧ g_H g y x ∧ x ≠ y) := by
  unfold g_par
  rw [ge_H_n]
  constructor
  · rintro ⟨a | a, b, c⟩
    · refine ⟨a, fun ⟨y, h1, h2, h3, h4⟩ => ?_⟩
      exact c y (by omega) (fun e => h4 e.symm) (ge_H_n.mpr (Or.inl h2)) ((ge_H_o (by omega)).mpr h3)
    · exact absurd a b
  · rintro ⟨a, c⟩
    have := cS.1 x a
    refine ⟨Or.inl a, by omega, fun y h1 h2 h3 h4 => c ⟨y, ?_⟩⟩
    rcases ge_H_n.mp h3 with w | w
    · exact ⟨cS.1 y w, w, (ge_H_o h1).mp h4, fun e => h2 e.symm⟩
    · exact absurd w h1
end
/-- all parents held, then the whole past -/
theorem g_parents {g : GG} {S : Nat → Prop} {e : Nat} (G : g_I g) (cS : g_cl g S) (he : e < g_m g) (h : ∀ x, g_par g e x → S x) : ∀ x, g_past g e x → S x := by
  have key : ∀ n x, e - x ≤ n → g_past g e x → S x := by
    intro n
    induction n with
    | zero =>
      intro x hn hx
      have := g_past_lt G he hx
      omega
    | succ n ih =>
      intro x hn hx
      have lx := g_past_lt G he hx
      by_cases k : g_par g e x
      · exact h x k
      · have : ∃ y, y ≠ e ∧ y ≠ x ∧ g_H g e y ∧ g_H g y x := by
          apply Classical.byContradiction
          intro z
          exact k ⟨hx.1, hx.2, fun y h1 h2 h3 h4 => z ⟨y, h1, h2, h3, h4⟩⟩
        obtain ⟨y, h1, h2, h3, h4⟩ := this
        have ly := g_past_lt G he ⟨h3, h1⟩
        have l2 := g_hle G (by omega) h4
        exact cS.2 y x (ih y (by omega) ⟨h3, h1⟩) h4
  intro x hx
  exact key e x (by omega) hx
end
section
/-! the reference: holding, parents, receiving, making -/
section
variable {f_replicas : Int32} {f_limit : Int32} {f_made : Int32} {f_orderLength : Int32} {f_rowLength : Int32} {a_author : Nat → Int32} {a_typed : Nat → Int32} {a_stamp : Nat → Int32} {a_link : Nat → Int32} {a_codes : Nat → Int32} {a_history : Nat → Int32} {a_held : Nat → Int32} {a_logEvents : Nat → Int32} {a_logIndices : Nat → Int32} {a_logLength : Nat → Int32} {a_set : Nat → Int32} {a_order : Nat → Int32} {a_row : Nat → Int32}
variable {g : GG}
theorem y_hold {post : SY → Prop} {p e c : Nat} {r : Int32} (hp : p < 4) (he : e < 32) (hc : a_logLength p = nI c) (h32 : c < 32) (h : post (f_replicas, f_limit, f_made, f_orderLength, f_rowLength, a_author, a_typed, a_stamp, a_link, a_codes, a_history, upd a_held (p * 32 + e) 1, upd a_logEvents (p * 32 + c) (nI e), upd a_logIndices (p * 32 + c) r, upd a_logLength p (nI (c + 1)), a_set, a_order, a_row)) : wpY_hold post (f_replicas, f_limit, f_made, f_orderLength, f_rowLength, a_author, a_typed, a_stamp, a_link, a_codes, a_history, a_held, a_logEvents, a_logIndices, a_logLength, a_set, a_order, a_row) (nI p) (nI e) r := by
  have ip : vp_in (nI p) 4 := vp_in_nI hp (by decide)
  have i2 : vp_in (nI (p * 32 + c)) 128 := vp_in_nI (by omega) (by decide)
  unfold wpY_hold
  dsimp only
  rw [eg_p32, eg_cl (n := p) (by omega), hc, eg_p32, eg_cl (n := p * 32 + e) (by omega), eg_cl (n := p * 32 + c) (by omega), nI_1]
  exact And.intro (vp_in_nI (by omega) (by decide)) (nm_e (And.intro ip (And.intro i2 (nm_e (And.intro ip (And.intro i2 (nm_e (And.intro ip (And.intro ip (nm_e h))))))))))
theorem y_ip28 {post : Int32 → Prop} {e x : Nat} (G : g_I g) (K : y_G g f_made a_author a_typed a_stamp a_link a_codes a_history) (he : e < g_m g) (hx : x < g_m g) (h1 : g_par g e x → post 1) (h0 : ¬ g_par g e x → post 0) : ∀ (d i n : Nat) (y : Int32), i + d = g_m g → d < n → ((y = 1 ∧ g_H g e x ∧ x ≠ e ∧ ∀ z, z < i → z ≠ e → z ≠ x → g_H g e z → ¬ g_H g z x) ∨ (y = 0 ∧ ¬ g_par g e x)) → wY_isParent_28 post (nI e) (nI x) f_replicas f_limit f_made f_orderLength f_rowLength a_author a_typed a_stamp a_link a_codes a_history a_held a_logEvents a_logIndices a_logLength a_set a_order a_row n y (nI i) := by
  have m32 := g_m32 G
  have em := yg_m K
  intro d
  induction d with
  | zero =>
    intro i n y hd hn hy
    cases n with
    | zero => omega
    | succ n =>
      have ei : i = g_m g := by omega
      subst ei
      refine br_t (by rw [em]; exact Int32.le_refl _) ?_
      rcases hy with ⟨e1, k1, k2, k3⟩ | ⟨e1, k⟩
      · subst e1
        exact And.intro rfl (h1 ⟨k1, k2, fun z z1 z2 z3 => k3 z (Nat.lt_of_le_of_lt (g_hle G he z3) he) z1 z2 z3⟩)
      · subst e1
        exact And.intro rfl (h0 k)
  | succ d ih =>
    intro i n y hd hn hy
    cases n with
    | zero => omega
    | succ n =>
      have hlt : i < g_m g := by omega
      have keep : (i ≠ e → i ≠ x → g_H g e i → ¬ g_H g i x) → wY_isParent_28 post (nI e) (nI x) f_replicas f_limit f_made f_orderLength f_rowLength a_author a_typed a_stamp a_link a_codes a_history a_held a_logEvents a_logIndices a_logLength a_set a_order a_row n y (nI (i + 1)) := by
        intro nm
        refine ih (i + 1) n y (by omega) (by omega) ?_
        rcases hy with ⟨e1, k1, k2, k3⟩ | k
        · refine Or.inl ⟨e1, k1, k2, fun z hz => ?_⟩
          by_cases w : z = i
          · subst w; exact nm
          · exact k3 z (by omega)
        · exact Or.inr k
      refine br_f (by rw [em]; exact nI_ge hlt (by omega)) ?_
      rw [eg_p32, eg_p32, eg_cl (n := e * 32 + i) (by omega), eg_cl (n := i * 32 + x) (by omega), nI_1 i]
      refine pk_eq i e (fun w => nm_e (keep (fun z => absurd w z))) (fun w => pk_eq i x (fun w2 => nm_e (keep (fun _ z => absurd w2 z))) (fun w2 => And.intro (vp_in_nI (by omega) (by decide)) (eg_if (yg_h K (by omega) (by omega)) (fun w3 => nm_e (keep (fun _ _ z => absurd ⟨he, z⟩ w3))) (fun w3 => And.intro (vp_in_nI (by omega) (by decide)) (eg_if (yg_h K (by omega) (by omega)) (fun w4 => nm_e (keep (fun _ _ _ z => absurd ⟨hlt, z⟩ w4))) (fun w4 => nm_e (ih (i + 1) n 0 (by omega) (by omega) (Or.inr ⟨rfl, fun z => ?_⟩))))))) rfl rfl (by omega) (by omega)) rfl rfl (by omega) (by omega)
      exact z.2.2 i w w2 (eg_nn w3).2 (eg_nn w4).2
theorem y_isParent {post : Int32 → Prop} {e x : Nat} (G : g_I g) (K : y_G g f_made a_author a_typed a_stamp a_link a_codes a_history) (he : e < g_m g) (hx : x < g_m g) (h1 : g_par g e x → post 1) (h0 : ¬ g_par g e x → post 0) : wpY_isParent post (f_replicas, f_limit, f_made, f_orderLength, f_rowLength, a_author, a_typed, a_stamp, a_link, a_codes, a_history, a_held, a_logEvents, a_logIndices, a_logLength, a_set, a_order, a_row) (nI e) (nI x) := by
  have m32 := g_m32 G
  have st := fun (y : Int32) hy => y_ip28 (post := post) (f_replicas := f_replicas) (f_limit := f_limit) (f_orderLength := f_orderLength) (f_rowLength := f_rowLength) (a_held := a_held) (a_logEvents := a_logEvents) (a_logIndices := a_logIndices) (a_logLength := a_logLength) (a_set := a_set) (a_order := a_order) (a_row := a_row) G K he hx h1 h0 (g_m g) 0 (g_m g + 1) y (by omega) (by omega) hy
  unfold wpY_isParent
  dsimp only
  rw [eg_p32, eg_cl (n := e * 32 + x) (by omega)]
  refine pk_eq x e (fun w => ⟨g_m g + 1, st 0 (Or.inr ⟨rfl, fun z => z.2.1 w⟩)⟩) (fun w => And.intro (vp_in_nI (by omega) (by decide)) (eg_if (yg_h K (by omega) (by omega)) (fun w2 => ⟨g_m g + 1, st 0 (Or.inr ⟨rfl, fun z => w2 ⟨he, z.1⟩⟩)⟩) (fun w2 => ⟨g_m g + 1, st 1 (Or.inl ⟨rfl, (eg_nn w2).2, w, fun z hz => absurd hz (by omega)⟩)⟩))) rfl rfl (by omega) (by omega)
theorem y_rc138 {post : Int32 → SY → Prop} {p e v : Nat} {t : List Nat} (hl : f_rowLength = nI t.length) (h32 : t.length ≤ 32) (ht : t.Nodup) (hr : eg_Rep a_row 0 nI t) (hv : v < 1000) (h64 : ∀ w, w ∈ t → w < 1000) (hy : ∀ i, t[i]? = some v → wpY_hold (fun u => post (nI i) u) (f_replicas, f_limit, f_made, f_orderLength, f_rowLength, a_author, a_typed, a_stamp, a_link, a_codes, a_history, a_held, a_logEvents, a_logIndices, a_logLength, a_set, a_order, a_row) (nI p) (nI e) (nI i)) (hn : v ∉ t → wpY_hold (fun u => post (-1) u) (f_replicas, f_limit, f_made, f_orderLength, f_rowLength, a_author, a_typed, a_stamp, a_link, a_codes, a_history, a_held, a_logEvents, a_logIndices, a_logLength, a_set, a_order, a_row) (nI p) (nI e) (-1)) : ∀ (d i n : Nat) (y : Int32), i + d = t.length → d < n → ((y = -1 ∧ ∀ j, j < i → t[j]? ≠ some v) ∨ (∃ j, y = nI j ∧ t[j]? = some v ∧ j < i)) → wY_receive_138 post (nI p) (nI e) (nI v) f_replicas f_limit f_made f_orderLength f_rowLength a_author a_typed a_stamp a_link a_codes a_history a_held a_logEvents a_logIndices a_logLength a_set a_order a_row n y (nI i) := by
  intro d
  induction d with
  | zero =>
    intro i n y hd hn' hyy
    cases n with
    | zero => omega
    | succ n =>
      have ei : i = t.length := by omega
      refine br_t (by rw [hl, ei]; exact Int32.le_refl _) ?_
      rcases hyy with ⟨e1, k⟩ | ⟨j, e1, k, _⟩
      · subst e1
        refine hn (fun z => ?_)
        obtain ⟨j, hj⟩ := List.mem_iff_getElem?.mp z
        exact k j (by have := (List.getElem?_eq_some_iff.mp hj).1; omega) hj
      · subst e1
        exact hy j k
  | succ d ih =>
    intro i n y hd hn' hyy
    cases n with
    | zero => omega
    | succ n =>
      have il : i < t.length := by omega
      have g1 : t[i]? = some t[i] := List.getElem?_eq_getElem il
      have g3 := h64 _ (List.mem_of_getElem? g1)
      refine br_f (by rw [hl]; exact nI_ge il (by omega)) (And.intro (vp_in_nI (by omega) (by decide)) ?_)
      rw [eg_cl (n := i) (by omega), eg_Rep0 hr g1, nI_1 i]
      refine pk_eq t[i] v (fun w => nm_e (ih (i + 1) n _ (by omega) (by omega) (Or.inr ⟨i, rfl, by rw [g1, w], by omega⟩))) (fun w => nm_e (ih (i + 1) n y (by omega) (by omega) ?_)) rfl rfl (by omega) (by omega)
      rcases hyy with ⟨e1, k⟩ | ⟨j, e1, k, l⟩
      · refine Or.inl ⟨e1, fun j hj => ?_⟩
        by_cases q : j = i
        · subst q
          rw [g1]
          intro z
          exact w (by simpa using z)
        · exact k j (by omega)
      · exact Or.inr ⟨j, e1, k, by omega⟩
/-- taking in an event whose past is held -/
theorem y_recv {post : Int32 → SY → Prop} {p e c R : Nat} {S : Nat → Prop} (G : g_I g) (K : y_G g f_made a_author a_typed a_stamp a_link a_codes a_history) (cS : g_cl g S) (hR : f_replicas = nI R) (hr : R ≤ 4) (hp : p < R) (he : e < g_m g) (ne : ¬ S e) (hps : ∀ y, g_past g e y → S y) (hh : ∀ x, x < 32 → (a_held (p * 32 + x) = 0 ↔ ¬ S x)) (hb : ∀ j, vp_nar .boolean (a_held j) = a_held j) (hc : a_logLength p = nI c) (h32 : c < 32) (h : ∀ (ol rl : Int32) (set ord row : Nat → Int32), post (g_fx g S e) (f_replicas, f_limit, f_made, ol, rl, a_author, a_typed, a_stamp, a_link, a_codes, a_history, upd a_held (p * 32 + e) 1, upd a_logEvents (p * 32 + c) (nI e), upd a_logIndices (p * 32 + c) (g_fx g S e), upd a_logLength p (nI (c + 1)), set, ord, row)) : wpY_receive post (f_replicas, f_limit, f_made, f_orderLength, f_rowLength, a_author, a_typed, a_stamp, a_link, a_codes, a_history, a_held, a_logEvents, a_logIndices, a_logLength, a_set, a_order, a_row) (nI p) (nI e) := by
  have m32 := g_m32 G
  have cA : g_cl g (g_add S e) := g_addcl cS he hps
  have ie : vp_in (nI e) 32 := vp_in_nI (by omega) (by decide)
  have fin : ∀ (r ol rl : Int32) (set ord row : Nat → Int32), g_Fnd g S e r → wpY_hold (fun u => post r u) (f_replicas, f_limit, f_made, ol, rl, a_author, a_typed, a_stamp, a_link, a_codes, a_history, a_held, a_logEvents, a_logIndices, a_logLength, set, ord, row) (nI p) (nI e) r := by
    intro r ol rl set ord row hF
    refine y_hold (by omega) (by omega) hc h32 ?_
    rw [g_fxe hF]
    exact h ol rl set ord row
  unfold wpY_receive
  refine y_isReplica hR (by omega) (fun z => absurd rfl (z p hp)) (fun _ _ _ => br_f eg_10 ?_)
  refine y_exists G K (fun z => absurd rfl (z e he)) (fun _ _ _ => br_f eg_10 ?_)
  rw [eg_p32, eg_cl (n := p * 32 + e) (by omega)]
  refine And.intro (vp_in_nI (by omega) (by decide)) (br_t ((hh e (by omega)).mpr ne) ⟨g_m g + 1, ?_⟩)
  have loop : ∀ d i n : Nat, i + d = g_m g → d < n → wY_receive_41 post (nI p) (nI e) f_replicas f_limit f_made f_orderLength f_rowLength a_author a_typed a_stamp a_link a_codes a_history a_held a_logEvents a_logIndices a_logLength a_set a_order a_row n (nI i) := by
    intro d
    induction d with
    | zero =>
      intro i n hd hn
      cases n with
      | zero => omega
      | succ n =>
        have ei : i = g_m g := by omega
        subst ei
        refine br_t (by rw [yg_m K]; exact Int32.le_refl _) ?_
        refine y_length G K cS hR hr hp hh hb (fun t ol set ord row ht hrow hset => ?_)
        refine And.intro ie ?_
        rw [eg_cl (n := e) (by omega)]
        refine nm_e (And.intro ie (eg_if (yg_d K he) (fun dd => ?_) (fun nd => ?_)))
        · refine And.intro ie ?_
          rw [eg_cl (n := e) (by omega)]
          refine br_t ((yg_d K he).mpr dd) (And.intro ie ?_)
          rw [yg_k K he]
          cases lk : g_lnk g e with
          | none =>
            obtain ⟨_, _, h1, _⟩ := g_oke G he
            exact absurd lk (h1 dd).2
          | some a =>
            have am := g_llt G he lk
            have tl := g_Tlen G cS.1 ht
            refine nm_e ⟨t.length + 1, ?_⟩
            refine y_rc138 (t := t) rfl tl (eg_nd ht.1) hrow (by omega) (fun w hw => by have := cS.1 w ((ht.2 w).mp hw).2.1; omega) (fun i hi => fin _ _ _ _ _ _ ⟨fun z => absurd dd z, fun _ => ⟨t, a, ht, lk, Or.inl ⟨i, hi, rfl⟩⟩⟩) (fun hi => fin _ _ _ _ _ _ ⟨fun z => absurd dd z, fun _ => ⟨t, a, ht, lk, Or.inr ⟨hi, rfl⟩⟩⟩) t.length 0 (t.length + 1) (-1) (by omega) (by omega) (Or.inl ⟨rfl, fun j hj => absurd hj (by omega)⟩)
        · have hs2 : y_set (upd set e (vp_nar .boolean 1)) (g_add S e) := by
            intro x hx
            by_cases q : x = e
            · subst q
              rw [pk_us]
              exact ⟨fun z => absurd z (by decide), fun z => absurd (Or.inr rfl) z⟩
            · rw [pk_un q, hset x hx]
              constructor
              · rintro z (w | w)
                · exact z w
                · exact q w
              · intro z w; exact z (Or.inl w)
          refine y_layOut G K cA hs2 (fun t' ol' ord' row' ht' hrow' => ?_)
          refine And.intro ie ?_
          rw [eg_cl (n := e) (by omega)]
          refine br_f (fun z => nd ((yg_d K he).mp z)) ⟨t'.length + 1, ?_⟩
          have tl := g_Tlen G cA.1 ht'
          have vis : g_vis g (g_add S e) e := (g_vadd_i nd (fun d hd _ => g_nolink G cS ne d hd) e).mpr (Or.inr rfl)
          refine y_rc138 (t := t') rfl tl (eg_nd ht'.1) hrow' (by omega) (fun w hw => by have := cA.1 w ((ht'.2 w).mp hw).2.1; omega) (fun i hi => fin _ _ _ _ _ _ ⟨fun _ => ⟨t', i, ht', hi, rfl⟩, fun z => absurd z nd⟩) (fun hi => absurd ((ht'.2 e).mpr vis) hi) t'.length 0 (t'.length + 1) (-1) (by omega) (by omega) (Or.inl ⟨rfl, fun j hj => absurd hj (by omega)⟩)
    | succ d ih =>
      intro i n hd hn
      cases n with
      | zero => omega
      | succ n =>
        have hlt : i < g_m g := by omega
        refine br_f (by rw [yg_m K]; exact nI_ge hlt (by omega)) ?_
        refine y_isParent G K he hlt (fun q => br_f eg_10 ?_) (fun _ => br_t rfl (nm_r (nI_1 i) (ih (i + 1) n (by omega) (by omega))))
        rw [eg_p32, eg_cl (n := p * 32 + i) (by omega)]
        refine And.intro (vp_in_nI (by omega) (by decide)) (br_f (fun z => ((hh i (by omega)).mp z) (hps i ⟨q.1, q.2.1⟩)) (nm_r (nI_1 i) (ih (i + 1) n (by omega) (by omega))))
  exact loop (g_m g) 0 (g_m g + 1) (by omega) (by omega)
/-- a missing parent -/
theorem y_early {post : Int32 → SY → Prop} {p e R : Nat} {S : Nat → Prop} (G : g_I g) (K : y_G g f_made a_author a_typed a_stamp a_link a_codes a_history) (cS : g_cl g S) (hR : f_replicas = nI R) (hr : R ≤ 4) (hp : p < R) (he : e < g_m g) (ne : ¬ S e) (hps : ∃ y, g_par g e y ∧ ¬ S y) (hh : ∀ x, x < 32 → (a_held (p * 32 + x) = 0 ↔ ¬ S x)) (h : post (-7) (f_replicas, f_limit, f_made, f_orderLength, f_rowLength, a_author, a_typed, a_stamp, a_link, a_codes, a_history, a_held, a_logEvents, a_logIndices, a_logLength, a_set, a_order, a_row)) : wpY_receive post (f_replicas, f_limit, f_made, f_orderLength, f_rowLength, a_author, a_typed, a_stamp, a_link, a_codes, a_history, a_held, a_logEvents, a_logIndices, a_logLength, a_set, a_order, a_row) (nI p) (nI e) := by
  have m32 := g_m32 G
  obtain ⟨y, y1, y2⟩ := hps
  have ym : y < g_m g := Nat.lt_of_le_of_lt (g_hle G he y1.1) he
  unfold wpY_receive
  refine y_isReplica hR (by omega) (fun z => absurd rfl (z p hp)) (fun _ _ _ => br_f eg_10 ?_)
  refine y_exists G K (fun z => absurd rfl (z e he)) (fun _ _ _ => br_f eg_10 ?_)
  rw [eg_p32, eg_cl (n := p * 32 + e) (by omega)]
  refine And.intro (vp_in_nI (by omega) (by decide)) (br_t ((hh e (by omega)).mpr ne) ⟨g_m g + 1, ?_⟩)
  have loop : ∀ d i n : Nat, i + d = g_m g → d < n → i ≤ y → wY_receive_41 post (nI p) (nI e) f_replicas f_limit f_made f_orderLength f_rowLength a_author a_typed a_stamp a_link a_codes a_history a_held a_logEvents a_logIndices a_logLength a_set a_order a_row n (nI i) := by
    intro d
    induction d with
    | zero =>
      intro i n hd hn hy
      omega
    | succ d ih =>
      intro i n hd hn hy
      cases n with
      | zero => omega
      | succ n =>
        have hlt : i < g_m g := by omega
        refine br_f (by rw [yg_m K]; exact nI_ge hlt (by omega)) ?_
        refine y_isParent G K he hlt (fun q => br_f eg_10 ?_) (fun q => br_t rfl (nm_r (nI_1 i) (ih (i + 1) n (by omega) (by omega) ?_)))
        · rw [eg_p32, eg_cl (n := p * 32 + i) (by omega)]
          refine And.intro (vp_in_nI (by omega) (by decide)) (eg_if (hh i (by omega)) (fun _ => h) (fun z => nm_r (nI_1 i) (ih (i + 1) n (by omega) (by omega) ?_)))
          by_cases w : i = y
          · subst w; exact absurd y2 z
          · omega
        · by_cases w : i = y
          · subst w; exact absurd y1 q
          · omega
  exact loop (g_m g) 0 (g_m g + 1) (by omega) (by omega) (by omega)
theorem y_held {post : Int32 → SY → Prop} {p e R : Nat} (G : g_I g) (K : y_G g f_made a_author a_typed a_stamp a_link a_codes a_history) (hR : f_replicas = nI R) (hr : R ≤ 4) (hp : p < R) (he : e < g_m g) (hh : ¬ a_held (p * 32 + e) = 0) (h : post (-6) (f_replicas, f_limit, f_made, f_orderLength, f_rowLength, a_author, a_typed, a_stamp, a_link, a_codes, a_history, a_held, a_logEvents, a_logIndices, a_logLength, a_set, a_order, a_row)) : wpY_receive post (f_replicas, f_limit, f_made, f_orderLength, f_rowLength, a_author, a_typed, a_stamp, a_link, a_codes, a_history, a_held, a_logEvents, a_logIndices, a_logLength, a_set, a_order, a_row) (nI p) (nI e) := by
  have m32 := g_m32 G
  unfold wpY_receive
  refine y_isReplica hR (by omega) (fun z => absurd rfl (z p hp)) (fun _ _ _ => br_f eg_10 ?_)
  refine y_exists G K (fun z => absurd rfl (z e he)) (fun _ _ _ => br_f eg_10 ?_)
  rw [eg_p32, eg_cl (n := p * 32 + e) (by omega)]
  exact And.intro (vp_in_nI (by omega) (by decide)) (br_f hh h)
theorem y_mk60 {post : Int32 → SY → Prop} {p idx : Nat} {S : Nat → Prop} {st0 hi0 : Nat → Int32} (hm : g_m g < 32) (hp : p < 4) (cS : g_cl g S) (G : g_I g) (hh : ∀ x, x < 32 → (a_held (p * 32 + x) = 0 ↔ ¬ S x)) (hb : ∀ j, vp_nar .boolean (a_held j) = a_held j) (hst : ∀ x, x < g_m g → st0 x = nI (g_stp g x)) (h : ∀ (st hist : Nat → Int32) (v : Nat), (∀ x, x < g_m g → st x = st0 x) → st (g_m g) = nI v → 1 ≤ v → (∀ x, x < g_m g → S x → g_stp g x < v) → (v = 1 ∨ ∃ x, x < g_m g ∧ S x ∧ g_stp g x + 1 = v) → (∀ x, x < g_m g → (hist (g_m g * 32 + x) = 0 ↔ ¬ S x)) → (∀ j, j < g_m g * 32 ∨ g_m g * 32 + g_m g ≤ j → hist j = hi0 j) → wpY_hold (fun u => post (nI (g_m g)) u) (f_replicas, f_limit, f_made, f_orderLength, f_rowLength, a_author, a_typed, st, a_link, a_codes, upd hist (g_m g * 32 + g_m g) 1, a_held, a_logEvents, a_logIndices, a_logLength, a_set, a_order, a_row) (nI p) (nI (g_m g)) (nI idx)) : ∀ (d i n : Nat) (st hist : Nat → Int32) (v : Nat), i + d = g_m g → d < n → v ≤ 33 → (∀ x, x < g_m g → st x = st0 x) → st (g_m g) = nI v → 1 ≤ v → (∀ x, x < i → S x → g_stp g x < v) → (v = 1 ∨ ∃ x, x < i ∧ S x ∧ g_stp g x + 1 = v) → (∀ x, x < i → (hist (g_m g * 32 + x) = 0 ↔ ¬ S x)) → (∀ j, j < g_m g * 32 ∨ g_m g * 32 + i ≤ j → hist j = hi0 j) → wY_make_60 post (nI p) (nI idx) (nI (g_m g)) f_replicas f_limit f_made f_orderLength f_rowLength n (nI i) a_author a_typed st a_link a_codes hist a_held a_logEvents a_logIndices a_logLength a_set a_order a_row := by
  intro d
  induction d with
  | zero =>
    intro i n st hist v hd hn h33 k1 k2 k3 k4 k5 k6 k7
    cases n with
    | zero => omega
    | succ n =>
      have ei : i = g_m g := by omega
      subst ei
      refine br_t (Int32.le_refl _) ?_
      rw [eg_p32, eg_cl (n := g_m g * 32 + g_m g) (by omega)]
      exact And.intro (vp_in_nI (by omega) (by decide)) (nm_e (h st hist v k1 k2 k3 k4 k5 k6 k7))
  | succ d ih =>
    intro i n st hist v hd hn h33 k1 k2 k3 k4 k5 k6 k7
    cases n with
    | zero => omega
    | succ n =>
      have hlt : i < g_m g := by omega
      have rg := g_rng G hlt
      have i1 : vp_in (nI (p * 32 + i)) 128 := vp_in_nI (by omega) (by decide)
      have i2 : vp_in (nI (g_m g * 32 + i)) 1024 := vp_in_nI (by omega) (by decide)
      have i3 : vp_in (nI i) 32 := vp_in_nI (by omega) (by decide)
      have i4 : vp_in (nI (g_m g)) 32 := vp_in_nI (by omega) (by decide)
      have q6 : ∀ x, x < i + 1 → (upd hist (g_m g * 32 + i) (a_held (p * 32 + i)) (g_m g * 32 + x) = 0 ↔ ¬ S x) := by
        intro x hx
        by_cases e : x = i
        · subst e; rw [pk_us]; exact hh x (by omega)
        · rw [pk_un (by omega)]; exact k6 x (by omega)
      have q7 : ∀ j, j < g_m g * 32 ∨ g_m g * 32 + (i + 1) ≤ j → upd hist (g_m g * 32 + i) (a_held (p * 32 + i)) j = hi0 j := by
        intro j hj
        rw [pk_un (by omega)]
        exact k7 j (by omega)
      refine br_f (nI_ge hlt (by omega)) ?_
      rw [eg_p32, eg_p32, eg_cl (n := p * 32 + i) (by omega), eg_cl (n := g_m g * 32 + i) (by omega), eg_cl (n := i) (by omega), eg_cl (n := g_m g) (by omega), hb, nI_1 i, k1 i hlt, hst i hlt, k2, nI_1 (g_stp g i)]
      refine And.intro i1 (And.intro i2 (nm_e (And.intro i1 (eg_if (hh i (by omega)) (fun w => nm_e (ih (i + 1) n st _ v (by omega) (by omega) h33 k1 k2 k3 ?_ ?_ q6 q7)) (fun w => And.intro i3 (And.intro i4 (pk_lt (g_stp g i) v (fun w2 => nm_e (ih (i + 1) n st _ v (by omega) (by omega) h33 k1 k2 k3 ?_ ?_ q6 q7)) (fun w2 => And.intro i3 (And.intro i4 (nm_e (nm_e (ih (i + 1) n _ _ (g_stp g i + 1) (by omega) (by omega) (by omega) ?_ pk_us (by omega) ?_ ?_ q6 q7))))) rfl rfl (by omega) (by omega))))))))
      · intro x hx sx
        by_cases e : x = i
        · subst e; exact absurd sx w
        · exact k4 x (by omega) sx
      · rcases k5 with k5 | ⟨x, hx, k5⟩
        · exact Or.inl k5
        · exact Or.inr ⟨x, by omega, k5⟩
      · intro x hx sx
        by_cases e : x = i
        · subst e; exact w2
        · exact k4 x (by omega) sx
      · rcases k5 with k5 | ⟨x, hx, k5⟩
        · exact Or.inl k5
        · exact Or.inr ⟨x, by omega, k5⟩
      · intro x hx
        rw [pk_un (by omega)]
        exact k1 x hx
      · intro x hx sx
        by_cases e : x = i
        · subst e; omega
        · have := k4 x (by omega) sx; omega
      · exact Or.inr ⟨i, by omega, eg_nn w, rfl⟩
theorem y_make {post : Int32 → SY → Prop} {p idx c : Nat} {cd lk : Int32} {S : Nat → Prop} (hm : g_m g < 32) (hp : p < 4) (cS : g_cl g S) (G : g_I g) (K : y_G g f_made a_author a_typed a_stamp a_link a_codes a_history) (hh : ∀ x, x < 32 → (a_held (p * 32 + x) = 0 ↔ ¬ S x)) (hb : ∀ j, vp_nar .boolean (a_held j) = a_held j) (hc : a_logLength p = nI c) (h32 : c < 32) (h : ∀ (st hist : Nat → Int32) (v : Nat), (∀ x, x < g_m g → st x = a_stamp x) → st (g_m g) = nI v → 1 ≤ v → (∀ x, x < g_m g → S x → g_stp g x < v) → (v = 1 ∨ ∃ x, x < g_m g ∧ S x ∧ g_stp g x + 1 = v) → (∀ x, x < g_m g → (hist (g_m g * 32 + x) = 0 ↔ ¬ S x)) → (∀ j, j < g_m g * 32 ∨ g_m g * 32 + g_m g ≤ j → hist j = a_history j) → post (nI (g_m g)) (f_replicas, f_limit, nI (g_m g + 1), f_orderLength, f_rowLength, upd a_author (g_m g) (nI p), upd a_typed (g_m g) (nI idx), st, upd a_link (g_m g) lk, upd a_codes (g_m g) cd, upd hist (g_m g * 32 + g_m g) 1, upd a_held (p * 32 + g_m g) 1, upd a_logEvents (p * 32 + c) (nI (g_m g)), upd a_logIndices (p * 32 + c) (nI idx), upd a_logLength p (nI (c + 1)), a_set, a_order, a_row)) : wpY_make post (f_replicas, f_limit, f_made, f_orderLength, f_rowLength, a_author, a_typed, a_stamp, a_link, a_codes, a_history, a_held, a_logEvents, a_logIndices, a_logLength, a_set, a_order, a_row) (nI p) (nI idx) cd lk := by
  have em := yg_m K
  have K0 := K
  subst em
  have im : vp_in (nI (g_m g)) 32 := vp_in_nI hm (by decide)
  unfold wpY_make
  dsimp only
  rw [eg_cl (n := g_m g) (by omega), nI_1]
  refine nm_e (And.intro im (nm_e (And.intro im (nm_e (And.intro im (nm_e (And.intro im (nm_e (And.intro im (nm_e ⟨g_m g + 1, ?_⟩))))))))))
  refine y_mk60 (S := S) (st0 := a_stamp) (hi0 := a_history) hm hp cS G hh hb (fun x hx => yg_s K0 hx) (fun st hist v k1 k2 k3 k4 k5 k6 k7 => ?_) (g_m g) 0 (g_m g + 1) _ a_history 1 (by omega) (by omega) (by omega) (fun x hx => pk_un (by omega)) pk_us (by omega) (fun x hx => absurd hx (by omega)) (Or.inl rfl) (fun x hx => absurd hx (by omega)) (fun _ _ => rfl)
  exact y_hold hp (by omega) hc h32 (h st hist v k1 k2 k3 k4 k5 k6 k7)
end
end
section
/-! the relation, and the component's methods against the ghost -/
def r_D (g : GG) (hd : Nat → Nat → Prop) (R lim : Nat) (D : LG) : Prop :=
  R ≤ 4 ∧ lim ≤ 32 ∧ g_m g ≤ lim ∧ (∀ p, g_cl g (hd p)) ∧ (∀ e, e < g_m g → hd (g_aut g e) e) ∧ (∀ p, p < 4 → D.1 p = nI (eg_cnt (hd p) (g_m g)))
def x_R (g : GG) (hd : Nat → Nat → Prop) (R lim : Nat) (D : LG) (u : SX) : Prop := match u with
  | (f_room, f_spare, f_replicaCount, f_eventLimit, f_made, f_whole, f_prepared, f_rowLength, a_deletes, a_letter, a_typed, a_author, a_stamp, a_history, a_parents, a_held, a_logLength, a_logEvents, a_logIndices, a_textLength, a_texts, a_row, a_prep, a_gone, a_itemOf) => x_G g f_made a_deletes a_letter a_typed a_author a_stamp a_history a_parents ∧ f_replicaCount = nI R ∧ f_eventLimit = nI lim ∧ (a_logLength, a_logEvents, a_logIndices) = D ∧ (∀ p, p < 4 → eg_set (a_held p) (hd p)) ∧ (∀ p, p < 4 → x_T g (hd p) p a_textLength a_texts) ∧ (∀ j, vp_nar .char (a_texts j) = a_texts j)
def y_R (g : GG) (hd : Nat → Nat → Prop) (R lim : Nat) (D : LG) (v : SY) : Prop := match v with
  | (f_replicas, f_limit, f_made, f_orderLength, f_rowLength, a_author, a_typed, a_stamp, a_link, a_codes, a_history, a_held, a_logEvents, a_logIndices, a_logLength, a_set, a_order, a_row) => y_G g f_made a_author a_typed a_stamp a_link a_codes a_history ∧ f_replicas = nI R ∧ f_limit = nI lim ∧ (a_logLength, a_logEvents, a_logIndices) = D ∧ (∀ p x, p < 4 → x < 32 → (a_held (p * 32 + x) = 0 ↔ ¬ hd p x)) ∧ (∀ j, vp_nar .boolean (a_held j) = a_held j)
/-- what is held once p has e too -/
def g_hd (hd : Nat → Nat → Prop) (p : Nat) (U : Nat → Prop) (r x : Nat) : Prop := hd r x ∨ (r = p ∧ U x)
theorem g_hd_p {hd : Nat → Nat → Prop} {p : Nat} {U : Nat → Prop} : g_hd hd p U p = fun z => hd p z ∨ U z := by
  funext x
  apply propext
  constructor
  · rintro (k | k)
    · exact Or.inl k
    · exact Or.inr k.2
  · rintro (k | k)
    · exact Or.inl k
    · exact Or.inr ⟨rfl, k⟩
theorem g_hd_o {hd : Nat → Nat → Prop} {p r : Nat} {U : Nat → Prop} (h : r ≠ p) : g_hd hd p U r = hd r := by
  funext x
  apply propext
  constructor
  · rintro (k | k)
    · exact k
    · exact absurd k.1 h
  · exact Or.inl
theorem l_run_one {g : GG} {p e : Nat} {S : Nat → Prop} {D : LG} (he : e < g_m g) : l_run g p S (fun z => z = e) D (g_m g) = l_step p (eg_cnt S (g_m g)) e (g_fx g S e) D := by
  have a : ∀ i, i ≤ e → l_run g p S (fun z => z = e) D i = D := by
    intro i
    induction i with
    | zero => intro _; rfl
    | succ i ih =>
      intro hi
      rw [l_run_f (by omega), ih (by omega)]
  have b : g_up S (fun z => z = e) e = S := by
    funext z
    apply propext
    constructor
    · rintro (k | ⟨k1, k2⟩)
      · exact k
      · omega
    · exact Or.inl
  have c : l_run g p S (fun z => z = e) D (e + 1) = l_step p (eg_cnt S (g_m g)) e (g_fx g S e) D := by
    rw [l_run_t (Fr := fun z => z = e) (i := e) rfl, a e (Nat.le_refl _), b]
  have d : ∀ i, e + 1 + i ≤ g_m g → l_run g p S (fun z => z = e) D (e + 1 + i) = l_step p (eg_cnt S (g_m g)) e (g_fx g S e) D := by
    intro i
    induction i with
    | zero => intro _; exact c
    | succ i ih =>
      intro hi
      rw [show e + 1 + (i + 1) = (e + 1 + i) + 1 by omega, l_run_f (by omega), ih (by omega)]
  have := d (g_m g - (e + 1)) (by omega)
  rw [show e + 1 + (g_m g - (e + 1)) = g_m g by omega] at this
  exact this
theorem l_run_none {g : GG} {p : Nat} {S Fr : Nat → Prop} {D : LG} (h : ∀ z, ¬ Fr z) : ∀ i, l_run g p S Fr D i = D := by
  intro i
  induction i with
  | zero => rfl
  | succ i ih => rw [l_run_f (h i), ih]
theorem l_run_o {g : GG} {p r : Nat} {S Fr : Nat → Prop} {D : LG} (h : r ≠ p) : ∀ i, (l_run g p S Fr D i).1 r = D.1 r := by
  intro i
  induction i with
  | zero => rfl
  | succ i ih =>
    by_cases k : Fr i
    · rw [l_run_t k]
      show upd _ p _ r = _
      rw [pk_un h, ih]
    · rw [l_run_f k, ih]
theorem l_run_p {g : GG} {p : Nat} {S Fr : Nat → Prop} {D : LG} (dj : ∀ z, Fr z → ¬ S z) (h : D.1 p = nI (eg_cnt S (g_m g))) : ∀ i, i ≤ g_m g → (l_run g p S Fr D i).1 p = nI (eg_cnt (g_up S Fr i) (g_m g)) := by
  intro i
  induction i with
  | zero =>
    intro _
    show D.1 p = _
    rw [h, eg_cnt_c (p := S) (q := g_up S Fr 0) (g_m g) (fun z _ => by
      constructor
      · exact Or.inl
      · rintro (k | k)
        · exact k
        · omega)]
  | succ i ih =>
    intro hi
    by_cases k : Fr i
    · exact l_run_c k (dj i k) (by omega) (ih (by omega))
    · rw [l_run_f k, ih (by omega), eg_cnt_c (g_m g) (fun z _ => g_up_f k z)]
/-- taking in keeps the ghost's part -/
theorem r_Dt {g : GG} {hd : Nat → Nat → Prop} {R lim p : Nat} {D : LG} {Fr : Nat → Prop} (h : r_D g hd R lim D) (hp : p < 4) (dj : ∀ z, Fr z → ¬ hd p z) (cA : g_cl g (fun z => hd p z ∨ Fr z)) : r_D g (g_hd hd p Fr) R lim (l_run g p (hd p) Fr D (g_m g)) := by
  obtain ⟨h1, h2, h3, h4, h5, h6⟩ := h
  refine ⟨h1, h2, h3, fun r => ?_, fun e he => Or.inl (h5 e he), fun r hr => ?_⟩
  · by_cases k : r = p
    · subst k; rw [g_hd_p]; exact cA
    · rw [g_hd_o k]; exact h4 r
  · by_cases k : r = p
    · subst k
      rw [g_hd_p, l_run_p dj (h6 r hr) (g_m g) (Nat.le_refl _), eg_cnt_c (p := g_up (hd r) Fr (g_m g)) (q := fun z => hd r z ∨ Fr z) (g_m g) (fun z hz => by
        constructor
        · rintro (w | w)
          · exact Or.inl w
          · exact Or.inr w.1
        · rintro (w | w)
          · exact Or.inl w
          · exact Or.inr ⟨w, hz⟩)]
    · rw [g_hd_o k, l_run_o k]
      exact h6 r hr
section
variable {f_room : Int32} {f_spare : Int32} {f_replicaCount : Int32} {f_eventLimit : Int32} {f_made : Int32} {f_whole : Int64} {f_prepared : Int64} {f_rowLength : Int32} {a_deletes : Nat → Int32} {a_letter : Nat → Int32} {a_typed : Nat → Int32} {a_author : Nat → Int32} {a_stamp : Nat → Int32} {a_history : Nat → Int64} {a_parents : Nat → Int64} {a_held : Nat → Int64} {a_logLength : Nat → Int32} {a_logEvents : Nat → Int32} {a_logIndices : Nat → Int32} {a_textLength : Nat → Int32} {a_texts : Nat → Int32} {a_row : Nat → Int32} {a_prep : Nat → Int32} {a_gone : Nat → Int32} {a_itemOf : Nat → Int32}
variable {g : GG}
theorem x_isReplica {post : Int32 → Prop} {p : Int32} {R : Nat} (hR : f_replicaCount = nI R) (hr : R < 1000) (h0 : (∀ q, q < R → p ≠ nI q) → post 0) (h1 : ∀ q, q < R → p = nI q → post 1) : wpX_isReplica post (f_room, f_spare, f_replicaCount, f_eventLimit, f_made, f_whole, f_prepared, f_rowLength, a_deletes, a_letter, a_typed, a_author, a_stamp, a_history, a_parents, a_held, a_logLength, a_logEvents, a_logIndices, a_textLength, a_texts, a_row, a_prep, a_gone, a_itemOf) p := by
  refine br_c (fun z => h0 (fun q hq e => ?_)) (fun z => ?_)
  · rw [e] at z; exact nI_pos (by omega) z
  · obtain ⟨j, hj, e⟩ := nI_of z
    subst e
    refine pk_le R j (fun w => h0 (fun q hq e => ?_)) (fun w => h1 j w rfl) hR rfl (by omega) hj
    rw [nI_eq (by omega) (by omega)] at e
    omega
theorem x_exists {post : Int32 → Prop} {e : Int32} (G : g_I g) (K : x_G g f_made a_deletes a_letter a_typed a_author a_stamp a_history a_parents) (h0 : (∀ q, q < g_m g → e ≠ nI q) → post 0) (h1 : ∀ q, q < g_m g → e = nI q → post 1) : wpX_exists post (f_room, f_spare, f_replicaCount, f_eventLimit, f_made, f_whole, f_prepared, f_rowLength, a_deletes, a_letter, a_typed, a_author, a_stamp, a_history, a_parents, a_held, a_logLength, a_logEvents, a_logIndices, a_textLength, a_texts, a_row, a_prep, a_gone, a_itemOf) e := by
  have m32 := g_m32 G
  refine br_c (fun z => h0 (fun q hq e => ?_)) (fun z => ?_)
  · rw [e] at z; exact nI_pos (by omega) z
  · obtain ⟨j, hj, e⟩ := nI_of z
    subst e
    refine pk_le (g_m g) j (fun w => h0 (fun q hq e => ?_)) (fun w => h1 j w rfl) (xg_m K) rfl (by omega) hj
    rw [nI_eq (by omega) (by omega)] at e
    omega
theorem xg_fr (K : x_G g f_made a_deletes a_letter a_typed a_author a_stamp a_history a_parents) {dl le ty au st : Nat → Int32} {hi pa : Nat → Int64} (e1 : ∀ e, e < g_m g → dl e = a_deletes e) (e2 : ∀ e, e < g_m g → le e = a_letter e) (e2c : ∀ e, vp_nar .char (le e) = le e) (e3 : ∀ e, e < g_m g → ty e = a_typed e) (e4 : ∀ e, e < g_m g → au e = a_author e) (e5 : ∀ e, e < g_m g → st e = a_stamp e) (e6 : ∀ e, e < g_m g → hi e = a_history e) (e7 : ∀ e, e < g_m g → pa e = a_parents e) : x_G g f_made dl le ty au st hi pa := by
  refine ⟨xg_m K, fun e he => ?_, fun e he n => ?_, e2c, fun e he => ?_, fun e he => ?_, fun e he => ?_, fun e he => ?_, fun e he => ?_⟩
  · rw [e1 e he]; exact xg_d K he
  · rw [e2 e he]; exact xg_l K he n
  · rw [e3 e he]; exact xg_t K he
  · rw [e4 e he]; exact xg_a K he
  · rw [e5 e he]; exact xg_s K he
  · rw [e6 e he]; exact xg_h K he
  · rw [e7 e he]; exact xg_p K he
end
theorem eg_b01 {d : Prop} {dv : Int32} (h : (dv = 0 ∧ ¬ d) ∨ (dv = 1 ∧ d)) : vp_nar .boolean dv = 0 ↔ ¬ d := by
  rcases h with ⟨e, k⟩ | ⟨e, k⟩
  · subst e; exact ⟨fun _ => k, fun _ => rfl⟩
  · subst e; exact ⟨fun z => absurd z (by decide), fun z => absurd k z⟩
set_option maxHeartbeats 4000000 in
theorem mx_make {g : GG} {hd : Nat → Nat → Prop} {R lim q idx : Nat} {D : LG} {u : SX} {post : Int32 → SX → Prop} {t : List Nat} {d : Prop} {dv c : Int32} {lk : Option Nat} (G : g_I g) (rd : r_D g hd R lim D) (hx : x_R g hd R lim D u) (hq : q < R) (hm : g_m g < lim) (ht : g_T g (hd q) t) (hi : idx ≤ t.length) (hdv : (dv = 0 ∧ ¬ d) ∨ (dv = 1 ∧ d)) (hcc : vp_nar .char c = c) (ok1 : d → t[idx]? = lk ∧ lk ≠ none) (ok2 : ¬ d → (none :: t.map some)[idx]? = some lk) (h : ∀ (v : Nat) (u' : SX), 1 ≤ v → v ≤ g_m g + 1 → (∀ x, x < g_m g → hd q x → g_stp g x < v) → (v = 1 ∨ ∃ x, x < g_m g ∧ hd q x ∧ g_stp g x + 1 = v) → x_R (g_ext g (hd q) d q idx v lk c) (g_hd hd q (fun z => z = g_m g)) R lim (l_step q (eg_cnt (hd q) (g_m g)) (g_m g) (nI idx) D) u' → post (nI (g_m g)) u') : wpX_make post u (nI q) (nI idx) dv c := by
  obtain ⟨f_room, f_spare, f_replicaCount, f_eventLimit, f_made, f_whole, f_prepared, f_rowLength, a_deletes, a_letter, a_typed, a_author, a_stamp, a_history, a_parents, a_held, a_logLength, a_logEvents, a_logIndices, a_textLength, a_texts, a_row, a_prep, a_gone, a_itemOf⟩ := u
  obtain ⟨K, hR, hl, hD, hh, hT, hc⟩ := hx
  subst hD
  obtain ⟨r1, r2, r3, r4, r5, r6⟩ := rd
  have tl := g_Tlen G (r4 q).1 ht
  have em := xg_m K
  subst em
  have im : vp_in (nI (g_m g)) 32 := vp_in_nI (by omega) (by decide)
  have iq : vp_in (nI q) 4 := vp_in_nI (by omega) (by decide)
  have cS := r4 q
  unfold wpX_make
  dsimp only
  rw [eg_cl (n := g_m g) (by omega), eg_cl (n := q) (by omega), nI_1 (g_m g)]
  refine And.intro im (nm_e (And.intro im (nm_e (And.intro im (nm_e (And.intro im (nm_e (And.intro iq ?_))))))))
  have K1 : x_G g (nI (g_m g)) (upd a_deletes (g_m g) (vp_nar .boolean dv)) (upd a_letter (g_m g) (vp_nar .char c)) (upd a_typed (g_m g) (nI idx)) (upd a_author (g_m g) (nI q)) a_stamp a_history a_parents := xg_fr K (fun e he => pk_un (by omega)) (fun e he => pk_un (by omega)) (x_upd_c (xg_lc K) (by rw [hcc, hcc])) (fun e he => pk_un (by omega)) (fun e he => pk_un (by omega)) (fun _ _ => rfl) (fun _ _ => rfl) (fun _ _ => rfl)
  refine x_greatestStamp G K1 (hh q (by omega)) (fun b hb b1 b2 => ?_)
  refine And.intro im (nm_e (And.intro iq ?_))
  have K2 : x_G g (nI (g_m g)) (upd a_deletes (g_m g) (vp_nar .boolean dv)) (upd a_letter (g_m g) (vp_nar .char c)) (upd a_typed (g_m g) (nI idx)) (upd a_author (g_m g) (nI q)) (upd a_stamp (g_m g) (nI b + 1)) a_history a_parents := xg_fr K1 (fun _ _ => rfl) (fun _ _ => rfl) (xg_lc K1) (fun _ _ => rfl) (fun _ _ => rfl) (fun e he => pk_un (by omega)) (fun _ _ => rfl) (fun _ _ => rfl)
  refine x_heads G K2 (hh q (by omega)) (fun w hw => ?_)
  refine And.intro im (nm_e (And.intro iq (And.intro im (nm_e (nm_e ?_)))))
  have bm : b ≤ g_m g := by
    rcases b2 with b2 | ⟨x, hx, _, b2⟩
    · omega
    · have := g_rng G hx; omega
  have G' : g_I (g_ext g (hd q) d q idx (b + 1) lk c) := ge_I G cS (by omega) (by omega) (by omega) (by omega) (by omega) (fun x hx => by have := b1 x (cS.1 x hx) hx; omega) (fun e he ha => ha ▸ r5 e he) ht ok1 ok2
  have K3 : x_G (g_ext g (hd q) d q idx (b + 1) lk c) (nI (g_m g + 1)) (upd a_deletes (g_m g) (vp_nar .boolean dv)) (upd a_letter (g_m g) (vp_nar .char c)) (upd a_typed (g_m g) (nI idx)) (upd a_author (g_m g) (nI q)) (upd a_stamp (g_m g) (nI b + 1)) (vp_updL a_history (g_m g) ((a_held q) ||| ((1 : Int64) <<< ((nI (g_m g)).toInt64 &&& 63)))) (vp_updL a_parents (g_m g) w) := by
    refine ⟨rfl, ?_, ?_, xg_lc K1, ?_, ?_, ?_, ?_, ?_⟩
    · intro e he
      rw [ge_m] at he
      by_cases k : e = g_m g
      · subst k; rw [pk_us, ge_del_n]; exact eg_b01 hdv
      · rw [pk_un k, ge_del_o k]; exact xg_d K (by omega)
    · intro e he
      rw [ge_m] at he
      by_cases k : e = g_m g
      · subst k; intro _; rw [pk_us, ge_cod_n]; exact hcc
      · intro n
        rw [pk_un k, ge_cod_o k]
        exact xg_l K (by omega) (fun z => n ((ge_del_o k).mpr z))
    · intro e he
      rw [ge_m] at he
      by_cases k : e = g_m g
      · subst k; rw [pk_us, ge_typ_n]
      · rw [pk_un k, ge_typ_o k]; exact xg_t K (by omega)
    · intro e he
      rw [ge_m] at he
      by_cases k : e = g_m g
      · subst k; rw [pk_us, ge_aut_n]
      · rw [pk_un k, ge_aut_o k]; exact xg_a K (by omega)
    · intro e he
      rw [ge_m] at he
      by_cases k : e = g_m g
      · subst k; rw [pk_us, ge_stp_n, nI_1]
      · rw [pk_un k, ge_stp_o k]; exact xg_s K (by omega)
    · intro e he
      rw [ge_m] at he
      by_cases k : e = g_m g
      · subst k
        rw [pk_uLs]
        exact eg_set_c (eg_set_add (hh q (by omega)) (by omega)) (fun x => ge_H_n.symm)
      · rw [pk_uLn k]
        exact eg_set_c (xg_h K (by omega)) (fun x => (ge_H_o k).symm)
    · intro e he
      rw [ge_m] at he
      by_cases k : e = g_m g
      · subst k
        rw [pk_uLs]
        exact eg_set_c hw (fun x => (ge_par_n G cS x).symm)
      · rw [pk_uLn k]
        exact eg_set_c (xg_p K (by omega)) (fun x => (ge_par_o G cS (by omega) x).symm)
  have F' : g_Fnd (g_ext g (hd q) d q idx (b + 1) lk c) (hd q) (g_m g) (nI idx) := by
    have := g_Ftyp G' (e := g_m g) (by rw [ge_m]; omega)
    rw [ge_past_n cS.1, ge_typ_n] at this
    exact this
  have nS : ¬ hd q (g_m g) := fun z => by have := cS.1 _ z; omega
  have clt : eg_cnt (hd q) (g_m g) < 32 := by
    have := eg_cnt_le (hd q) (g_m g); omega
  refine x_applyToText G' K3 (by omega) (by rw [ge_m]; omega) (ge_cl cS) nS (ge_xT cS.1 (hT q (by omega))) hc F' (fun tl tx t1 t2 t3 t4 => ?_)
  refine x_enter (by omega) (r6 q (by omega)) clt ?_
  have hA : ∀ r, r < 4 → eg_set (vp_updL a_held q ((a_held q) ||| ((1 : Int64) <<< ((nI (g_m g)).toInt64 &&& 63))) r) (g_hd hd q (fun z => z = g_m g) r) := by
    intro r hr
    by_cases k : r = q
    · subst k
      rw [pk_uLs, g_hd_p]
      exact eg_set_c (eg_set_add (hh r hr) (by omega)) (fun x => Iff.rfl)
    · rw [pk_uLn k, g_hd_o k]
      exact hh r hr
  have hB : ∀ r, r < 4 → x_T (g_ext g (hd q) d q idx (b + 1) lk c) (g_hd hd q (fun z => z = g_m g) r) r tl tx := by
    intro r hr
    by_cases k : r = q
    · subst k
      rw [g_hd_p]
      exact t1
    · rw [g_hd_o k]
      obtain ⟨t', k1, k2, k3⟩ := ge_xT (S := hd q) (d := d) (p := q) (idx := idx) (v := b + 1) (lk := lk) (cd := c) (r4 r).1 (hT r hr)
      have tl' := g_Tlen G (r4 r).1 ((ge_T (r4 r).1 t').mp k1)
      refine ⟨t', k1, by rw [t2 r k]; exact k2, eg_Rep_out k3 (fun i hi => t3 _ ?_)⟩
      omega
  refine h (b + 1) (f_room, f_spare, f_replicaCount, f_eventLimit, nI (g_m g + 1), f_whole, f_prepared, f_rowLength, upd a_deletes (g_m g) (vp_nar .boolean dv), upd a_letter (g_m g) (vp_nar .char c), upd a_typed (g_m g) (nI idx), upd a_author (g_m g) (nI q), upd a_stamp (g_m g) (nI b + 1), vp_updL a_history (g_m g) ((a_held q) ||| ((1 : Int64) <<< ((nI (g_m g)).toInt64 &&& 63))), vp_updL a_parents (g_m g) w, vp_updL a_held q ((a_held q) ||| ((1 : Int64) <<< ((nI (g_m g)).toInt64 &&& 63))), upd a_logLength q (nI (eg_cnt (hd q) (g_m g) + 1)), upd a_logEvents (q * 32 + eg_cnt (hd q) (g_m g)) (nI (g_m g)), upd a_logIndices (q * 32 + eg_cnt (hd q) (g_m g)) (nI idx), tl, tx, a_row, a_prep, a_gone, a_itemOf) (by omega) (by omega) (fun x hx sx => by have := b1 x hx sx; omega) ?_ ⟨K3, hR, hl, rfl, hA, hB, t4⟩
  rcases b2 with b2 | ⟨x, hx, sx, b2⟩
  · exact Or.inl (by omega)
  · exact Or.inr ⟨x, hx, sx, by omega⟩
end
section
/-! the component's methods against the ghost, the rest -/
section
variable {g : GG} {hd : Nat → Nat → Prop} {R lim : Nat} {D : LG} {u : SX}
theorem mx_index {g : GG} {hd : Nat → Nat → Prop} {R lim q : Nat} {D : LG} {A B : Prop} {i : Int32} {tl tx : Nat → Int32} (G : g_I g) (rd : r_D g hd R lim D) (hT : x_T g (hd q) q tl tx) (hA : ∀ t idx, g_T g (hd q) t → idx ≤ t.length → i = nI idx → A) (hB : ∀ t, g_T g (hd q) t → (∀ j, j ≤ t.length → i ≠ nI j) → B) : (i < 0 → B) ∧ (¬ i < 0 → ((i ≤ tl q → A) ∧ (¬ i ≤ tl q → B))) := by
  obtain ⟨t, k1, k2, k3⟩ := hT
  have tl32 := g_Tlen G (rd.2.2.2.1 q).1 k1
  refine br_c (fun z => hB t k1 (fun j hj e => ?_)) (fun z => ?_)
  · rw [e] at z; exact nI_pos (by omega) z
  · obtain ⟨j, hj, e⟩ := nI_of z
    subst e
    rw [k2]
    refine pk_le j t.length (fun w => hA t j k1 w rfl) (fun w => hB t k1 (fun j' hj' e => ?_)) rfl rfl hj (by omega)
    rw [nI_eq (by omega) (by omega)] at e
    omega
theorem mx_index2 {g : GG} {hd : Nat → Nat → Prop} {R lim q : Nat} {D : LG} {A B : Prop} {i : Int32} {tl tx : Nat → Int32} (G : g_I g) (rd : r_D g hd R lim D) (hT : x_T g (hd q) q tl tx) (hA : ∀ t idx, g_T g (hd q) t → idx < t.length → i = nI idx → A) (hB : ∀ t, g_T g (hd q) t → (∀ j, j < t.length → i ≠ nI j) → B) : (i < 0 → B) ∧ (¬ i < 0 → ((i < tl q → A) ∧ (¬ i < tl q → B))) := by
  obtain ⟨t, k1, k2, k3⟩ := hT
  have tl32 := g_Tlen G (rd.2.2.2.1 q).1 k1
  refine br_c (fun z => hB t k1 (fun j hj e => ?_)) (fun z => ?_)
  · rw [e] at z; exact nI_pos (by omega) z
  · obtain ⟨j, hj, e⟩ := nI_of z
    subst e
    rw [k2]
    refine pk_lt j t.length (fun w => hA t j k1 w rfl) (fun w => hB t k1 (fun j' hj' e => ?_)) rfl rfl hj (by omega)
    rw [nI_eq (by omega) (by omega)] at e
    omega
theorem eg_guard {a b : Prop} {A B V : Prop} (hv : ¬ a → V) (h : (a → B) ∧ (¬ a → ((b → A) ∧ (¬ b → B)))) : (a → B) ∧ (¬ a → (V ∧ ((b → A) ∧ (¬ b → B)))) := ⟨h.1, fun z => ⟨hv z, h.2 z⟩⟩
theorem mx_insert {post : Int32 → SX → Prop} {p i c : Int32} (G : g_I g) (rd : r_D g hd R lim D) (hx : x_R g hd R lim D u) (h2 : (∀ q, q < R → p ≠ nI q) → post (-2) u) (h5 : ∀ q, q < R → p = nI q → ¬ g_m g < lim → post (-5) u) (h4 : ∀ q t, q < R → p = nI q → g_m g < lim → g_T g (hd q) t → (∀ j, j ≤ t.length → i ≠ nI j) → post (-4) u) (h : ∀ q t idx, q < R → p = nI q → g_m g < lim → g_T g (hd q) t → idx ≤ t.length → i = nI idx → ∀ post' : Int32 → SX → Prop, (∀ r u', post r u' → post' r u') → wpX_make post' u (nI q) (nI idx) 0 c) : wpX_insert post u p i c := by
  obtain ⟨f_room, f_spare, f_replicaCount, f_eventLimit, f_made, f_whole, f_prepared, f_rowLength, a_deletes, a_letter, a_typed, a_author, a_stamp, a_history, a_parents, a_held, a_logLength, a_logEvents, a_logIndices, a_textLength, a_texts, a_row, a_prep, a_gone, a_itemOf⟩ := u
  obtain ⟨K, hR, hl, hD, hh, hT, hc⟩ := hx
  obtain ⟨r1, r2, r3, r4, r5, r6⟩ := rd
  unfold wpX_insert
  dsimp only
  refine x_isReplica hR (by omega) (fun z => br_t rfl (h2 z)) (fun q hq e => br_f eg_10 ?_)
  subst e
  refine pk_lt (g_m g) lim (fun w => ?_) (fun w => h5 q hq rfl (by omega)) (xg_m K) hl (by omega) (by omega)
  refine eg_guard (fun _ => vp_in_nI (by omega) (by decide)) ?_
  rw [eg_cl (n := q) (by omega)]
  refine mx_index G ⟨r1, r2, r3, r4, r5, r6⟩ (hT q (by omega)) (fun t idx k1 k2 k3 => ?_) (fun t k1 k2 => h4 q t hq rfl w k1 k2)
  rw [k3]
  exact h q t idx hq rfl w k1 k2 k3 _ (fun r u' hp => by obtain ⟨f_room, f_spare, f_replicaCount, f_eventLimit, f_made, f_whole, f_prepared, f_rowLength, a_deletes, a_letter, a_typed, a_author, a_stamp, a_history, a_parents, a_held, a_logLength, a_logEvents, a_logIndices, a_textLength, a_texts, a_row, a_prep, a_gone, a_itemOf⟩ := u'; exact hp)
theorem mx_delete {post : Int32 → SX → Prop} {p i : Int32} (G : g_I g) (rd : r_D g hd R lim D) (hx : x_R g hd R lim D u) (h2 : (∀ q, q < R → p ≠ nI q) → post (-2) u) (h5 : ∀ q, q < R → p = nI q → ¬ g_m g < lim → post (-5) u) (h4 : ∀ q t, q < R → p = nI q → g_m g < lim → g_T g (hd q) t → (∀ j, j < t.length → i ≠ nI j) → post (-4) u) (h : ∀ q t idx, q < R → p = nI q → g_m g < lim → g_T g (hd q) t → idx < t.length → i = nI idx → ∀ post' : Int32 → SX → Prop, (∀ r u', post r u' → post' r u') → wpX_make post' u (nI q) (nI idx) 1 0) : wpX_delete post u p i := by
  obtain ⟨f_room, f_spare, f_replicaCount, f_eventLimit, f_made, f_whole, f_prepared, f_rowLength, a_deletes, a_letter, a_typed, a_author, a_stamp, a_history, a_parents, a_held, a_logLength, a_logEvents, a_logIndices, a_textLength, a_texts, a_row, a_prep, a_gone, a_itemOf⟩ := u
  obtain ⟨K, hR, hl, hD, hh, hT, hc⟩ := hx
  obtain ⟨r1, r2, r3, r4, r5, r6⟩ := rd
  unfold wpX_delete
  dsimp only
  refine x_isReplica hR (by omega) (fun z => br_t rfl (h2 z)) (fun q hq e => br_f eg_10 ?_)
  subst e
  refine pk_lt (g_m g) lim (fun w => ?_) (fun w => h5 q hq rfl (by omega)) (xg_m K) hl (by omega) (by omega)
  refine eg_guard (fun _ => vp_in_nI (by omega) (by decide)) ?_
  rw [eg_cl (n := q) (by omega)]
  refine mx_index2 G ⟨r1, r2, r3, r4, r5, r6⟩ (hT q (by omega)) (fun t idx k1 k2 k3 => ?_) (fun t k1 k2 => h4 q t hq rfl w k1 k2)
  rw [k3]
  exact h q t idx hq rfl w k1 k2 k3 _ (fun r u' hp => by obtain ⟨f_room, f_spare, f_replicaCount, f_eventLimit, f_made, f_whole, f_prepared, f_rowLength, a_deletes, a_letter, a_typed, a_author, a_stamp, a_history, a_parents, a_held, a_logLength, a_logEvents, a_logIndices, a_textLength, a_texts, a_row, a_prep, a_gone, a_itemOf⟩ := u'; exact hp)
/-- taking in a set of fresh events -/
theorem mx_takeIn {post : Int32 → SX → Prop} {p : Nat} {s : Int64} {Fr : Nat → Prop} (G : g_I g) (rd : r_D g hd R lim D) (hx : x_R g hd R lim D u) (hp : p < 4) (hs : eg_set s Fr) (cA : g_cl g (fun z => hd p z ∨ Fr z)) (dj : ∀ z, Fr z → ¬ hd p z) (h : ∀ r u', (∀ e, e < g_m g → (∀ z, Fr z ↔ z = e) → r = g_fx g (hd p) e) → x_R g (g_hd hd p Fr) R lim (l_run g p (hd p) Fr D (g_m g)) u' → post r u') : wpX_takeIn post u (nI p) s := by
  obtain ⟨f_room, f_spare, f_replicaCount, f_eventLimit, f_made, f_whole, f_prepared, f_rowLength, a_deletes, a_letter, a_typed, a_author, a_stamp, a_history, a_parents, a_held, a_logLength, a_logEvents, a_logIndices, a_textLength, a_texts, a_row, a_prep, a_gone, a_itemOf⟩ := u
  obtain ⟨K, hR, hl, hD, hh, hT, hc⟩ := hx
  subst hD
  obtain ⟨r1, r2, r3, r4, r5, r6⟩ := rd
  refine x_takeIn (S := hd p) (Fr := Fr) G K hp (hh p hp) hs (r4 p) cA dj (hT p hp) hc (r6 p hp) (fun r fw fp fr held tl tx row prep gone io k1 k2 k3 k4 k5 k6 k7 => ?_)
  have hA : ∀ r, r < 4 → eg_set (held r) (g_hd hd p Fr r) := by
    intro r hr
    by_cases k : r = p
    · subst k; rw [g_hd_p]; exact k2
    · rw [g_hd_o k, k3 r k]; exact hh r hr
  have hB : ∀ r, r < 4 → x_T g (g_hd hd p Fr r) r tl tx := by
    intro r hr
    by_cases k : r = p
    · subst k; rw [g_hd_p]; exact k4
    · rw [g_hd_o k]
      obtain ⟨t', w1, w2, w3⟩ := hT r hr
      have tl' := g_Tlen G (r4 r).1 w1
      refine ⟨t', w1, by rw [k5 r k]; exact w2, eg_Rep_out w3 (fun i hi => k6 _ ?_)⟩
      omega
  exact h r _ k1 (show x_R g (g_hd hd p Fr) R lim (l_run g p (hd p) Fr (a_logLength, a_logEvents, a_logIndices) (g_m g)) (f_room, f_spare, f_replicaCount, f_eventLimit, f_made, fw, fp, fr, a_deletes, a_letter, a_typed, a_author, a_stamp, a_history, a_parents, held, (l_run g p (hd p) Fr (a_logLength, a_logEvents, a_logIndices) (g_m g)).1, (l_run g p (hd p) Fr (a_logLength, a_logEvents, a_logIndices) (g_m g)).2.1, (l_run g p (hd p) Fr (a_logLength, a_logEvents, a_logIndices) (g_m g)).2.2, tl, tx, row, prep, gone, io) from ⟨K, hR, hl, rfl, hA, hB, k7⟩)
theorem mx_receive {post : Int32 → SX → Prop} {p e : Int32} (G : g_I g) (rd : r_D g hd R lim D) (hx : x_R g hd R lim D u) (h2 : (∀ q, q < R → p ≠ nI q) → post (-2) u) (h3 : ∀ q, q < R → p = nI q → (∀ f, f < g_m g → e ≠ nI f) → post (-3) u) (h6 : ∀ q f, q < R → p = nI q → f < g_m g → e = nI f → hd q f → post (-6) u) (h7 : ∀ q f, q < R → p = nI q → f < g_m g → e = nI f → ¬ hd q f → (∃ y, g_par g f y ∧ ¬ hd q y) → post (-7) u) (h : ∀ q f u', q < R → p = nI q → f < g_m g → e = nI f → ¬ hd q f → (∀ y, g_par g f y → hd q y) → x_R g (g_hd hd q (fun z => z = f)) R lim (l_run g q (hd q) (fun z => z = f) D (g_m g)) u' → post (g_fx g (hd q) f) u') : wpX_receive post u p e := by
  have m32 := g_m32 G
  obtain ⟨f_room, f_spare, f_replicaCount, f_eventLimit, f_made, f_whole, f_prepared, f_rowLength, a_deletes, a_letter, a_typed, a_author, a_stamp, a_history, a_parents, a_held, a_logLength, a_logEvents, a_logIndices, a_textLength, a_texts, a_row, a_prep, a_gone, a_itemOf⟩ := u
  have hx0 := hx
  obtain ⟨K, hR, hl, hD, hh, hT, hc⟩ := hx
  have rd0 := rd
  obtain ⟨r1, r2, r3, r4, r5, r6⟩ := rd
  unfold wpX_receive
  dsimp only
  refine x_isReplica hR (by omega) (fun z => br_t rfl (h2 z)) (fun q hq eq => br_f eg_10 ?_)
  refine x_exists G K (fun z => br_t rfl (h3 q hq eq z)) (fun f hf ef => br_f eg_10 ?_)
  have eq0 := eq
  have ef0 := ef
  subst eq ef
  have iq : vp_in (nI q) 4 := vp_in_nI (by omega) (by decide)
  rw [eg_cl (n := q) (by omega), eg_cl (n := f) (by omega)]
  refine And.intro iq (x_contains (by omega) (fun k => br_f eg_10 (h6 q f hq rfl hf rfl ((hh q (by omega) f (by omega)).mp k))) (fun k => br_t rfl (And.intro (vp_in_nI (by omega) (by decide)) (And.intro iq ?_))))
  have nh : ¬ hd q f := fun z => k ((hh q (by omega) f (by omega)).mpr z)
  have eqv : ((a_parents f) &&& ((a_held q) ^^^ (-1))) = 0 ↔ ∀ y, g_par g f y → hd q y := by
    rw [eg_mem_e0]
    constructor
    · intro w y hy
      have ym : y < g_m g := Nat.lt_of_le_of_lt (g_hle G hf hy.1) hf
      apply Classical.byContradiction
      intro z
      refine w y (by omega) ?_
      rw [eg_mem_and, eg_mem_not _ (by omega), xg_p K hf y (by omega), hh q (by omega) y (by omega)]
      exact ⟨hy, z⟩
    · intro w y hy z
      rw [eg_mem_and, eg_mem_not _ hy, xg_p K hf y hy, hh q (by omega) y hy] at z
      exact z.2 (w y z.1)
  refine eg_if eqv (fun w => ?_) (fun w => h7 q f hq rfl hf rfl nh ?_)
  · refine mx_takeIn (Fr := fun z => z = f) G rd0 hx0 (by omega) (fun x hx => eg_mem_one (by omega) hx) (g_addcl (r4 q) hf (g_parents G (r4 q) hf w)) (fun z hz => hz ▸ nh) (fun r u' k1 k2 => ?_)
    have := h q f u' hq rfl hf rfl nh w k2
    rw [← k1 f hf (fun z => Iff.rfl)] at this
    obtain ⟨f_room, f_spare, f_replicaCount, f_eventLimit, f_made, f_whole, f_prepared, f_rowLength, a_deletes, a_letter, a_typed, a_author, a_stamp, a_history, a_parents, a_held, a_logLength, a_logEvents, a_logIndices, a_textLength, a_texts, a_row, a_prep, a_gone, a_itemOf⟩ := u'
    exact this
  · apply Classical.byContradiction
    intro z
    exact w (fun y hy => Classical.byContradiction fun z2 => z ⟨y, hy, z2⟩)
theorem mx_pull {post : Int32 → SX → Prop} {p p2 : Int32} (G : g_I g) (rd : r_D g hd R lim D) (hx : x_R g hd R lim D u) (h2 : (∀ q, q < R → p ≠ nI q) ∨ (∀ q, q < R → p2 ≠ nI q) → post (-2) u) (h : ∀ q q2 u', q < R → p = nI q → q2 < R → p2 = nI q2 → x_R g (g_hd hd q (fun z => hd q2 z ∧ ¬ hd q z)) R lim (l_run g q (hd q) (fun z => hd q2 z ∧ ¬ hd q z) D (g_m g)) u' → post ((l_run g q (hd q) (fun z => hd q2 z ∧ ¬ hd q z) D (g_m g)).1 q - D.1 q) u') : wpX_pull post u p p2 := by
  have m32 := g_m32 G
  obtain ⟨f_room, f_spare, f_replicaCount, f_eventLimit, f_made, f_whole, f_prepared, f_rowLength, a_deletes, a_letter, a_typed, a_author, a_stamp, a_history, a_parents, a_held, a_logLength, a_logEvents, a_logIndices, a_textLength, a_texts, a_row, a_prep, a_gone, a_itemOf⟩ := u
  have hx0 := hx
  obtain ⟨K, hR, hl, hD, hh, hT, hc⟩ := hx
  have rd0 := rd
  obtain ⟨r1, r2, r3, r4, r5, r6⟩ := rd
  unfold wpX_pull
  dsimp only
  refine x_isReplica hR (by omega) (fun z => br_t rfl (h2 (Or.inl z))) (fun q hq eq => br_f eg_10 ?_)
  refine x_isReplica hR (by omega) (fun z => br_t rfl (h2 (Or.inr z))) (fun q2 hq2 eq2 => br_f eg_10 ?_)
  subst eq eq2
  have iq : vp_in (nI q) 4 := vp_in_nI (by omega) (by decide)
  have iq2 : vp_in (nI q2) 4 := vp_in_nI (by omega) (by decide)
  rw [eg_cl (n := q) (by omega), eg_cl (n := q2) (by omega)]
  have hs : eg_set ((a_held q2) &&& ((a_held q) ^^^ (-1))) (fun z => hd q2 z ∧ ¬ hd q z) := by
    intro x hx
    rw [eg_mem_and, eg_mem_not _ hx, hh q (by omega) x hx, hh q2 (by omega) x hx]
  refine And.intro iq2 (And.intro iq (nm_e (br_c (fun z => ?_) (fun z => And.intro iq (nm_e ?_)))))
  · have nf : ∀ z, ¬ (hd q2 z ∧ ¬ hd q z) := by
      intro x hx
      have xm := (r4 q2).1 x hx.1
      exact (eg_mem_e0 _).mp z x (by omega) ((hs x (by omega)).mpr hx)
    have e1 : g_hd hd q (fun z => hd q2 z ∧ ¬ hd q z) = hd := by
      funext r x
      apply propext
      constructor
      · rintro (k | k)
        · exact k
        · exact absurd k.2 (nf x)
      · exact Or.inl
    have := h q q2 (f_room, f_spare, f_replicaCount, f_eventLimit, f_made, f_whole, f_prepared, f_rowLength, a_deletes, a_letter, a_typed, a_author, a_stamp, a_history, a_parents, a_held, a_logLength, a_logEvents, a_logIndices, a_textLength, a_texts, a_row, a_prep, a_gone, a_itemOf) hq rfl hq2 rfl (by rw [e1, l_run_none nf]; exact hx0)
    rw [l_run_none nf, Int32.sub_self] at this
    exact this
  · refine mx_takeIn (Fr := fun z => hd q2 z ∧ ¬ hd q z) G rd0 hx0 (by omega) hs ⟨fun x hx => ?_, fun x y hx hy => ?_⟩ (fun z hz => hz.2) (fun r u' k1 k2 => ?_)
    · rcases hx with k | k
      · exact (r4 q).1 x k
      · exact (r4 q2).1 x k.1
    · rcases hx with k | k
      · exact Or.inl ((r4 q).2 x y k hy)
      · by_cases w : hd q y
        · exact Or.inl w
        · exact Or.inr ⟨(r4 q2).2 x y k.1 hy, w⟩
    · have := h q q2 u' hq rfl hq2 rfl k2
      subst hD
      obtain ⟨f1, f2, f3, f4, f5, f6, f7, f8, b1, b2, b3, b4, b5, b6, b7, b8, b9, b10, b11, b12, b13, b14, b15, b16, b17⟩ := u'
      obtain ⟨_, _, _, kD, _⟩ := k2
      refine And.intro iq ?_
      rw [← kD] at this
      exact this
end
end
section
/-! the component's questions against the ghost -/
section
variable {g : GG} {hd : Nat → Nat → Prop} {R lim : Nat} {D : LG} {u : SX}
theorem mx_length {post : Int32 → Prop} {p : Int32} (G : g_I g) (rd : r_D g hd R lim D) (hx : x_R g hd R lim D u) (h2 : (∀ q, q < R → p ≠ nI q) → post (-2)) (h : ∀ q t, q < R → p = nI q → g_T g (hd q) t → post (nI t.length)) : wpX_length post u p := by
  obtain ⟨f_room, f_spare, f_replicaCount, f_eventLimit, f_made, f_whole, f_prepared, f_rowLength, a_deletes, a_letter, a_typed, a_author, a_stamp, a_history, a_parents, a_held, a_logLength, a_logEvents, a_logIndices, a_textLength, a_texts, a_row, a_prep, a_gone, a_itemOf⟩ := u
  obtain ⟨K, hR, hl, hD, hh, hT, hc⟩ := hx
  obtain ⟨r1, r2, r3, r4, r5, r6⟩ := rd
  unfold wpX_length
  dsimp only
  refine x_isReplica hR (by omega) (fun z => br_t rfl (h2 z)) (fun q hq e => br_f eg_10 ?_)
  subst e
  obtain ⟨t, k1, k2, k3⟩ := hT q (by omega)
  rw [eg_cl (n := q) (by omega), k2]
  exact And.intro (vp_in_nI (by omega) (by decide)) (h q t hq rfl k1)
end
section
variable {f_room : Int32} {f_spare : Int32} {f_replicaCount : Int32} {f_eventLimit : Int32} {f_made : Int32} {f_whole : Int64} {f_prepared : Int64} {f_rowLength : Int32} {a_deletes : Nat → Int32} {a_letter : Nat → Int32} {a_typed : Nat → Int32} {a_author : Nat → Int32} {a_stamp : Nat → Int32} {a_history : Nat → Int64} {a_parents : Nat → Int64} {a_held : Nat → Int64} {a_logLength : Nat → Int32} {a_logEvents : Nat → Int32} {a_logIndices : Nat → Int32} {a_textLength : Nat → Int32} {a_texts : Nat → Int32} {a_row : Nat → Int32} {a_prep : Nat → Int32} {a_gone : Nat → Int32} {a_itemOf : Nat → Int32}
variable {g : GG}
theorem x_letterAt {post : Int32 → Prop} {q : Nat} {i : Int32} {S : Nat → Prop} (G : g_I g) (hq : q < 5) (cS : g_cl g S) (hT : x_T g S q a_textLength a_texts) (h4 : ∀ t, g_T g S t → (∀ j, j < t.length → i ≠ nI j) → post (-4)) (h : ∀ t j v, g_T g S t → i = nI j → t[j]? = some v → post (g_cod g v)) : wpX_letterAt post (f_room, f_spare, f_replicaCount, f_eventLimit, f_made, f_whole, f_prepared, f_rowLength, a_deletes, a_letter, a_typed, a_author, a_stamp, a_history, a_parents, a_held, a_logLength, a_logEvents, a_logIndices, a_textLength, a_texts, a_row, a_prep, a_gone, a_itemOf) (nI q) i := by
  obtain ⟨t, k1, k2, k3⟩ := hT
  have tl32 := g_Tlen G cS.1 k1
  refine br_c (fun z => h4 t k1 (fun j hj e => ?_)) (fun z => And.intro (vp_in_nI hq (by decide)) ?_)
  · rw [e] at z; exact nI_pos (by omega) z
  · obtain ⟨j, hj, e⟩ := nI_of z
    subst e
    rw [eg_cl (n := q) (by omega), k2]
    refine pk_lt j t.length (fun w => ?_) (fun w => h4 t k1 (fun j' hj' e => ?_)) rfl rfl hj (by omega)
    · have g1 : t[j]? = some t[j] := List.getElem?_eq_getElem w
      rw [eg_p32, eg_cl (n := q * 32 + j) (by omega), k3 j _ g1]
      exact And.intro (vp_in_nI (by omega) (by decide)) (h t j _ k1 rfl g1)
    · rw [nI_eq (by omega) (by omega)] at e
      omega
theorem x_po23 {post : Int32 → Prop} {e : Nat} {k : Int32} {kk : Nat} (G : g_I g) (K : x_G g f_made a_deletes a_letter a_typed a_author a_stamp a_history a_parents) (he : e < g_m g) (hk : k = nI kk) (hkk : kk < 2 ^ 31) (hN : (∀ x, x < g_m g → g_par g e x → nI (eg_cnt (g_par g e) x) ≠ k) → post (-4)) (hY : ∀ x, x < g_m g → g_par g e x → nI (eg_cnt (g_par g e) x) = k → post (nI x)) : ∀ (d i n l : Nat), i + d = e → d < n → eg_cnt (g_par g e) i + l = kk → wX_parentOf_23 post (nI e) f_room f_spare f_replicaCount f_eventLimit f_made f_whole f_prepared f_rowLength a_deletes a_letter a_typed a_author a_stamp a_history a_parents a_held a_logLength a_logEvents a_logIndices a_textLength a_texts a_row a_prep a_gone a_itemOf n (nI l) (nI i) := by
  have m32 := g_m32 G
  intro d
  induction d with
  | zero =>
    intro i n l hd hn hl
    cases n with
    | zero => omega
    | succ n =>
      have ei : i = e := by omega
      subst ei
      refine br_t (Int32.le_refl _) (hN (fun x hx hp z => ?_))
      have lx : x < i := g_past_lt G he ⟨hp.1, hp.2.1⟩
      have c1 := eg_cnt_le (g_par g i) x
      rw [hk, nI_eq (by omega) hkk] at z
      have key : ∀ y, x < y → eg_cnt (g_par g i) x + 1 ≤ eg_cnt (g_par g i) y := by
        intro y
        induction y with
        | zero => intro w; omega
        | succ y ih =>
          intro w
          show _ ≤ eg_cnt (g_par g i) y + eg_b (g_par g i y)
          by_cases q : x = y
          · subst q; rw [eg_b1 hp]; omega
          · have := ih (by omega); omega
      have := key i lx
      omega
  | succ d ih =>
    intro i n l hd hn hl
    cases n with
    | zero => omega
    | succ n =>
      have hlt : i < g_m g := by omega
      have ci := eg_cnt_le (g_par g e) i
      refine br_f (nI_ge (by omega) (by omega)) (And.intro (vp_in_nI (by omega) (by decide)) ?_)
      rw [eg_cl (n := e) (by omega)]
      refine x_contains (by omega) (fun w => br_f eg_10 ?_) (fun w => br_t rfl (nm_r (nI_1 i) (ih (i + 1) n l (by omega) (by omega) ?_)))
      · have pi := (xg_p K he i (by omega)).mp w
        cases l with
        | zero =>
          refine br_t rfl (hY i hlt pi ?_)
          rw [hk]
          exact congrArg nI (by omega)
        | succ l =>
          refine br_f (nI_ne0 (by omega) (by omega)) (nm_r (pk_m1 l) (nm_r (nI_1 i) (ih (i + 1) n l (by omega) (by omega) ?_)))
          show eg_cnt (g_par g e) i + eg_b (g_par g e i) + l = kk
          rw [eg_b1 pi]; omega
      · have pi : ¬ g_par g e i := fun z => w ((xg_p K he i (by omega)).mpr z)
        show eg_cnt (g_par g e) i + eg_b (g_par g e i) + l = kk
        rw [eg_b0 pi]; omega
end
section
variable {g : GG} {hd : Nat → Nat → Prop} {R lim : Nat} {D : LG} {u : SX}
theorem mx_charAt {post : Int32 → Prop} {p i : Int32} (G : g_I g) (rd : r_D g hd R lim D) (hx : x_R g hd R lim D u) (h2 : (∀ q, q < R → p ≠ nI q) → post (-2)) (h4 : ∀ q t, q < R → p = nI q → g_T g (hd q) t → (∀ j, j < t.length → i ≠ nI j) → post (-4)) (h : ∀ q t j v, q < R → p = nI q → g_T g (hd q) t → i = nI j → t[j]? = some v → post (g_cod g v)) : wpX_charAt post u p i := by
  obtain ⟨f_room, f_spare, f_replicaCount, f_eventLimit, f_made, f_whole, f_prepared, f_rowLength, a_deletes, a_letter, a_typed, a_author, a_stamp, a_history, a_parents, a_held, a_logLength, a_logEvents, a_logIndices, a_textLength, a_texts, a_row, a_prep, a_gone, a_itemOf⟩ := u
  obtain ⟨K, hR, hl, hD, hh, hT, hc⟩ := hx
  obtain ⟨r1, r2, r3, r4, r5, r6⟩ := rd
  unfold wpX_charAt
  dsimp only
  refine x_isReplica hR (by omega) (fun z => br_t rfl (h2 z)) (fun q hq e => br_f eg_10 ?_)
  subst e
  exact x_letterAt G (by omega) (r4 q) (hT q (by omega)) (fun t k1 k2 => h4 q t hq rfl k1 k2) (fun t j v k1 k2 k3 => h q t j v hq rfl k1 k2 k3)
theorem mx_holds {post : Int32 → Prop} {p e : Int32} (G : g_I g) (rd : r_D g hd R lim D) (hx : x_R g hd R lim D u) (h0 : (∀ q f, q < R → p = nI q → f < g_m g → e = nI f → ¬ hd q f) → post 0) (h1 : ∀ q f, q < R → p = nI q → f < g_m g → e = nI f → hd q f → post 1) : wpX_holds post u p e := by
  have m32 := g_m32 G
  obtain ⟨f_room, f_spare, f_replicaCount, f_eventLimit, f_made, f_whole, f_prepared, f_rowLength, a_deletes, a_letter, a_typed, a_author, a_stamp, a_history, a_parents, a_held, a_logLength, a_logEvents, a_logIndices, a_textLength, a_texts, a_row, a_prep, a_gone, a_itemOf⟩ := u
  obtain ⟨K, hR, hl, hD, hh, hT, hc⟩ := hx
  obtain ⟨r1, r2, r3, r4, r5, r6⟩ := rd
  unfold wpX_holds
  dsimp only
  refine x_isReplica hR (by omega) (fun z => br_t rfl (h0 (fun q f hq e => absurd e (z q hq)))) (fun q hq e1 => br_f eg_10 ?_)
  subst e1
  refine x_exists G K (fun z => br_t rfl (h0 (fun q f hq e1 hf e2 => absurd e2 (z f hf)))) (fun f hf e2 => br_f eg_10 ?_)
  subst e2
  rw [eg_cl (n := q) (by omega)]
  refine And.intro (vp_in_nI (by omega) (by decide)) (x_contains (by omega) (fun k => br_f eg_10 (h1 q f hq rfl hf rfl ((hh q (by omega) f (by omega)).mp k))) (fun k => br_t rfl (h0 (fun q' f' hq' e1 hf' e2 z => ?_))))
  rw [nI_eq (by omega) (by omega)] at e1 e2
  subst e1 e2
  exact k ((hh q (by omega) f (by omega)).mpr z)
theorem mx_logEvent {post : Int32 → Prop} {p i : Int32} (G : g_I g) (rd : r_D g hd R lim D) (hx : x_R g hd R lim D u) (h2 : (∀ q, q < R → p ≠ nI q) → post (-2)) (h4 : ∀ q, q < R → p = nI q → (∀ j, j < eg_cnt (hd q) (g_m g) → i ≠ nI j) → post (-4)) (h : ∀ q j, q < R → p = nI q → j < eg_cnt (hd q) (g_m g) → i = nI j → post (D.2.1 (q * 32 + j))) : wpX_logEvent post u p i := by
  have m32 := g_m32 G
  obtain ⟨f_room, f_spare, f_replicaCount, f_eventLimit, f_made, f_whole, f_prepared, f_rowLength, a_deletes, a_letter, a_typed, a_author, a_stamp, a_history, a_parents, a_held, a_logLength, a_logEvents, a_logIndices, a_textLength, a_texts, a_row, a_prep, a_gone, a_itemOf⟩ := u
  obtain ⟨K, hR, hl, hD, hh, hT, hc⟩ := hx
  obtain ⟨r1, r2, r3, r4, r5, r6⟩ := rd
  subst hD
  unfold wpX_logEvent
  dsimp only
  refine x_isReplica hR (by omega) (fun z => br_t rfl (h2 z)) (fun q hq e => br_f eg_10 ?_)
  subst e
  have cl := eg_cnt_le (hd q) (g_m g)
  have lq : a_logLength q = nI (eg_cnt (hd q) (g_m g)) := r6 q (by omega)
  refine br_c (fun z => h4 q hq rfl (fun j hj e => ?_)) (fun z => And.intro (vp_in_nI (by omega) (by decide)) ?_)
  · rw [e] at z; exact nI_pos (by omega) z
  · obtain ⟨j, hj, e⟩ := nI_of z
    subst e
    rw [eg_cl (n := q) (by omega), lq]
    refine pk_lt j (eg_cnt (hd q) (g_m g)) (fun w => ?_) (fun w => h4 q hq rfl (fun j' hj' e => ?_)) rfl rfl hj (by omega)
    · rw [eg_p32, eg_cl (n := q * 32 + j) (by omega)]
      exact And.intro (vp_in_nI (by omega) (by decide)) (h q j hq rfl w rfl)
    · rw [nI_eq (by omega) (by omega)] at e
      omega
theorem mx_logIndex {post : Int32 → Prop} {p i : Int32} (G : g_I g) (rd : r_D g hd R lim D) (hx : x_R g hd R lim D u) (h2 : (∀ q, q < R → p ≠ nI q) → post (-2)) (h4 : ∀ q, q < R → p = nI q → (∀ j, j < eg_cnt (hd q) (g_m g) → i ≠ nI j) → post (-4)) (h : ∀ q j, q < R → p = nI q → j < eg_cnt (hd q) (g_m g) → i = nI j → post (D.2.2 (q * 32 + j))) : wpX_logIndex post u p i := by
  have m32 := g_m32 G
  obtain ⟨f_room, f_spare, f_replicaCount, f_eventLimit, f_made, f_whole, f_prepared, f_rowLength, a_deletes, a_letter, a_typed, a_author, a_stamp, a_history, a_parents, a_held, a_logLength, a_logEvents, a_logIndices, a_textLength, a_texts, a_row, a_prep, a_gone, a_itemOf⟩ := u
  obtain ⟨K, hR, hl, hD, hh, hT, hc⟩ := hx
  obtain ⟨r1, r2, r3, r4, r5, r6⟩ := rd
  subst hD
  unfold wpX_logIndex
  dsimp only
  refine x_isReplica hR (by omega) (fun z => br_t rfl (h2 z)) (fun q hq e => br_f eg_10 ?_)
  subst e
  have cl := eg_cnt_le (hd q) (g_m g)
  have lq : a_logLength q = nI (eg_cnt (hd q) (g_m g)) := r6 q (by omega)
  refine br_c (fun z => h4 q hq rfl (fun j hj e => ?_)) (fun z => And.intro (vp_in_nI (by omega) (by decide)) ?_)
  · rw [e] at z; exact nI_pos (by omega) z
  · obtain ⟨j, hj, e⟩ := nI_of z
    subst e
    rw [eg_cl (n := q) (by omega), lq]
    refine pk_lt j (eg_cnt (hd q) (g_m g)) (fun w => ?_) (fun w => h4 q hq rfl (fun j' hj' e => ?_)) rfl rfl hj (by omega)
    · rw [eg_p32, eg_cl (n := q * 32 + j) (by omega)]
      exact And.intro (vp_in_nI (by omega) (by decide)) (h q j hq rfl w rfl)
    · rw [nI_eq (by omega) (by omega)] at e
      omega
theorem mx_authorOf {post : Int32 → Prop} {e : Int32} (G : g_I g) (hx : x_R g hd R lim D u) (h3 : (∀ f, f < g_m g → e ≠ nI f) → post (-3)) (h : ∀ f, f < g_m g → e = nI f → post (nI (g_aut g f))) : wpX_authorOf post u e := by
  have m32 := g_m32 G
  obtain ⟨f_room, f_spare, f_replicaCount, f_eventLimit, f_made, f_whole, f_prepared, f_rowLength, a_deletes, a_letter, a_typed, a_author, a_stamp, a_history, a_parents, a_held, a_logLength, a_logEvents, a_logIndices, a_textLength, a_texts, a_row, a_prep, a_gone, a_itemOf⟩ := u
  obtain ⟨K, hR, hl, hD, hh, hT, hc⟩ := hx
  unfold wpX_authorOf
  dsimp only
  refine x_exists G K (fun z => br_t rfl (h3 z)) (fun f hf e2 => br_f eg_10 ?_)
  subst e2
  rw [eg_cl (n := f) (by omega), xg_a K hf]
  exact And.intro (vp_in_nI (by omega) (by decide)) (h f hf rfl)
theorem mx_indexOf {post : Int32 → Prop} {e : Int32} (G : g_I g) (hx : x_R g hd R lim D u) (h3 : (∀ f, f < g_m g → e ≠ nI f) → post (-3)) (h : ∀ f, f < g_m g → e = nI f → post (nI (g_typ g f))) : wpX_indexOf post u e := by
  have m32 := g_m32 G
  obtain ⟨f_room, f_spare, f_replicaCount, f_eventLimit, f_made, f_whole, f_prepared, f_rowLength, a_deletes, a_letter, a_typed, a_author, a_stamp, a_history, a_parents, a_held, a_logLength, a_logEvents, a_logIndices, a_textLength, a_texts, a_row, a_prep, a_gone, a_itemOf⟩ := u
  obtain ⟨K, hR, hl, hD, hh, hT, hc⟩ := hx
  unfold wpX_indexOf
  dsimp only
  refine x_exists G K (fun z => br_t rfl (h3 z)) (fun f hf e2 => br_f eg_10 ?_)
  subst e2
  rw [eg_cl (n := f) (by omega), xg_t K hf]
  exact And.intro (vp_in_nI (by omega) (by decide)) (h f hf rfl)
theorem mx_charOf {post : Int32 → Prop} {e : Int32} (G : g_I g) (hx : x_R g hd R lim D u) (h3 : (∀ f, f < g_m g → e ≠ nI f) → post (-3)) (h8 : ∀ f, f < g_m g → e = nI f → g_del g f → post (-8)) (h : ∀ f, f < g_m g → e = nI f → ¬ g_del g f → post (g_cod g f)) : wpX_charOf post u e := by
  have m32 := g_m32 G
  obtain ⟨f_room, f_spare, f_replicaCount, f_eventLimit, f_made, f_whole, f_prepared, f_rowLength, a_deletes, a_letter, a_typed, a_author, a_stamp, a_history, a_parents, a_held, a_logLength, a_logEvents, a_logIndices, a_textLength, a_texts, a_row, a_prep, a_gone, a_itemOf⟩ := u
  obtain ⟨K, hR, hl, hD, hh, hT, hc⟩ := hx
  unfold wpX_charOf
  dsimp only
  refine x_exists G K (fun z => br_t rfl (h3 z)) (fun f hf e2 => br_f eg_10 ?_)
  subst e2
  rw [eg_cl (n := f) (by omega)]
  have iff : vp_in (nI f) 32 := vp_in_nI (by omega) (by decide)
  refine And.intro iff (eg_if (xg_d K hf) (fun w => And.intro iff ?_) (fun w => h8 f hf rfl (eg_nn w)))
  rw [xg_l K hf w]
  exact h f hf rfl w
theorem mx_parentOf {post : Int32 → Prop} {e k : Int32} (G : g_I g) (hx : x_R g hd R lim D u) (h3 : (∀ f, f < g_m g → e ≠ nI f) → post (-3)) (hN : ∀ f, f < g_m g → e = nI f → (∀ x, x < g_m g → g_par g f x → nI (eg_cnt (g_par g f) x) ≠ k) → post (-4)) (hY : ∀ f x, f < g_m g → e = nI f → x < g_m g → g_par g f x → nI (eg_cnt (g_par g f) x) = k → post (nI x)) : wpX_parentOf post u e k := by
  have m32 := g_m32 G
  obtain ⟨f_room, f_spare, f_replicaCount, f_eventLimit, f_made, f_whole, f_prepared, f_rowLength, a_deletes, a_letter, a_typed, a_author, a_stamp, a_history, a_parents, a_held, a_logLength, a_logEvents, a_logIndices, a_textLength, a_texts, a_row, a_prep, a_gone, a_itemOf⟩ := u
  obtain ⟨K, hR, hl, hD, hh, hT, hc⟩ := hx
  unfold wpX_parentOf
  dsimp only
  refine x_exists G K (fun z => br_t rfl (h3 z)) (fun f hf e2 => br_f eg_10 ?_)
  subst e2
  refine br_c (fun z => ?_) (fun z => hN f hf rfl (fun x hx hp w => ?_))
  · obtain ⟨kk, hk, e⟩ := nI_of (Int32.not_lt.mpr z)
    exact ⟨f + 1, e ▸ x_po23 (k := nI kk) G K hf rfl hk (fun w => hN f hf rfl (by rw [e]; exact w)) (fun x hx hp w => hY f x hf rfl hx hp (by rw [e]; exact w)) f 0 (f + 1) kk (by omega) (by omega) (by show 0 + kk = kk; omega)⟩
  · have := eg_cnt_le (g_par g f) x
    exact z (w ▸ nI_pos' (by omega))
theorem mx_isCritical {post : Int32 → Prop} {p e : Int32} (G : g_I g) (rd : r_D g hd R lim D) (hx : x_R g hd R lim D u) (h0 : (∀ q f, q < R → p = nI q → f < g_m g → e = nI f → hd q f → ¬ g_spl g (hd q) f) → post 0) (h1 : ∀ q f, q < R → p = nI q → f < g_m g → e = nI f → hd q f → g_spl g (hd q) f → post 1) : wpX_isCritical post u p e := by
  have m32 := g_m32 G
  have hx0 := hx
  have rd0 := rd
  obtain ⟨f_room, f_spare, f_replicaCount, f_eventLimit, f_made, f_whole, f_prepared, f_rowLength, a_deletes, a_letter, a_typed, a_author, a_stamp, a_history, a_parents, a_held, a_logLength, a_logEvents, a_logIndices, a_textLength, a_texts, a_row, a_prep, a_gone, a_itemOf⟩ := u
  obtain ⟨K, hR, hl, hD, hh, hT, hc⟩ := hx
  obtain ⟨r1, r2, r3, r4, r5, r6⟩ := rd
  unfold wpX_isCritical
  dsimp only
  refine mx_holds G rd0 hx0 (fun z => br_t rfl (h0 (fun q f k1 k2 k3 k4 k5 => absurd k5 (z q f k1 k2 k3 k4)))) (fun q f k1 k2 k3 k4 k5 => br_f eg_10 ?_)
  subst k2 k4
  rw [eg_cl (n := q) (by omega)]
  refine And.intro (vp_in_nI (by omega) (by decide)) (x_splits G K k3 (hh q (by omega)) (fun sp => br_f eg_10 (h1 q f k1 rfl k3 rfl k5 sp)) (fun sp => br_t rfl (h0 (fun q' f' hq' e1 hf' e2 _ => ?_))))
  rw [nI_eq (by omega) (by omega)] at e1 e2
  subst e1 e2
  exact sp
theorem mx_mergedLength {post : Int32 → SX → Prop} {a b : Int32} (G : g_I g) (rd : r_D g hd R lim D) (hx : x_R g hd R lim D u) (h3 : (∀ f, f < g_m g → a ≠ nI f) ∨ (∀ f, f < g_m g → b ≠ nI f) → post (-3) u) (h : ∀ a' b' t u', a' < g_m g → a = nI a' → b' < g_m g → b = nI b' → g_T g (fun z => g_H g a' z ∨ g_H g b' z) t → x_R g hd R lim D u' → post (nI t.length) u') : wpX_mergedLength post u a b := by
  have m32 := g_m32 G
  obtain ⟨f_room, f_spare, f_replicaCount, f_eventLimit, f_made, f_whole, f_prepared, f_rowLength, a_deletes, a_letter, a_typed, a_author, a_stamp, a_history, a_parents, a_held, a_logLength, a_logEvents, a_logIndices, a_textLength, a_texts, a_row, a_prep, a_gone, a_itemOf⟩ := u
  obtain ⟨K, hR, hl, hD, hh, hT, hc⟩ := hx
  obtain ⟨r1, r2, r3, r4, r5, r6⟩ := rd
  unfold wpX_mergedLength
  dsimp only
  refine x_exists G K (fun z => br_t rfl (h3 (Or.inl z))) (fun a' ha ea => br_f eg_10 ?_)
  refine x_exists G K (fun z => br_t rfl (h3 (Or.inr z))) (fun b' hb eb => br_f eg_10 ?_)
  subst ea eb
  refine x_mergeHistories G K ha hb hc (fun fw fp fr tl tx row prep gone io k1 k2 k3 k4 => ?_)
  obtain ⟨t, w1, w2, w3⟩ := k1
  have hB : ∀ r, r < 4 → x_T g (hd r) r tl tx := by
    intro r hr
    obtain ⟨t', v1, v2, v3⟩ := hT r hr
    have tl' := g_Tlen G (r4 r).1 v1
    refine ⟨t', v1, by rw [k2 r (by omega)]; exact v2, eg_Rep_out v3 (fun i hi => k3 _ (by omega))⟩
  have fin := h a' b' t (f_room, f_spare, f_replicaCount, f_eventLimit, f_made, fw, fp, fr, a_deletes, a_letter, a_typed, a_author, a_stamp, a_history, a_parents, a_held, a_logLength, a_logEvents, a_logIndices, tl, tx, row, prep, gone, io) ha rfl hb rfl w1 (show x_R g hd R lim D (f_room, f_spare, f_replicaCount, f_eventLimit, f_made, fw, fp, fr, a_deletes, a_letter, a_typed, a_author, a_stamp, a_history, a_parents, a_held, a_logLength, a_logEvents, a_logIndices, tl, tx, row, prep, gone, io) from ⟨K, hR, hl, hD, hh, hB, k4⟩)
  rw [← w2] at fin
  exact fin
theorem mx_mergedChar {post : Int32 → SX → Prop} {a b i : Int32} (G : g_I g) (rd : r_D g hd R lim D) (hx : x_R g hd R lim D u) (h3 : (∀ f, f < g_m g → a ≠ nI f) ∨ (∀ f, f < g_m g → b ≠ nI f) → post (-3) u) (h4 : ∀ a' b' t u', a' < g_m g → a = nI a' → b' < g_m g → b = nI b' → g_T g (fun z => g_H g a' z ∨ g_H g b' z) t → (∀ j, j < t.length → i ≠ nI j) → x_R g hd R lim D u' → post (-4) u') (h : ∀ a' b' t j v u', a' < g_m g → a = nI a' → b' < g_m g → b = nI b' → g_T g (fun z => g_H g a' z ∨ g_H g b' z) t → i = nI j → t[j]? = some v → x_R g hd R lim D u' → post (g_cod g v) u') : wpX_mergedChar post u a b i := by
  have m32 := g_m32 G
  obtain ⟨f_room, f_spare, f_replicaCount, f_eventLimit, f_made, f_whole, f_prepared, f_rowLength, a_deletes, a_letter, a_typed, a_author, a_stamp, a_history, a_parents, a_held, a_logLength, a_logEvents, a_logIndices, a_textLength, a_texts, a_row, a_prep, a_gone, a_itemOf⟩ := u
  obtain ⟨K, hR, hl, hD, hh, hT, hc⟩ := hx
  obtain ⟨r1, r2, r3, r4, r5, r6⟩ := rd
  unfold wpX_mergedChar
  dsimp only
  refine x_exists G K (fun z => br_t rfl (h3 (Or.inl z))) (fun a' ha ea => br_f eg_10 ?_)
  refine x_exists G K (fun z => br_t rfl (h3 (Or.inr z))) (fun b' hb eb => br_f eg_10 ?_)
  subst ea eb
  have cA : g_cl g (fun z => g_H g a' z ∨ g_H g b' z) := by
    refine ⟨?_, ?_⟩
    · rintro z (k | k)
      · exact (g_H_cl G ha).1 z k
      · exact (g_H_cl G hb).1 z k
    · rintro z y (k | k) hy
      · exact Or.inl ((g_H_cl G ha).2 z y k hy)
      · exact Or.inr ((g_H_cl G hb).2 z y k hy)
  refine x_mergeHistories G K ha hb hc (fun fw fp fr tl tx row prep gone io k1 k2 k3 k4 => ?_)
  have hB : ∀ r, r < 4 → x_T g (hd r) r tl tx := by
    intro r hr
    obtain ⟨t', v1, v2, v3⟩ := hT r hr
    have tl' := g_Tlen G (r4 r).1 v1
    refine ⟨t', v1, by rw [k2 r (by omega)]; exact v2, eg_Rep_out v3 (fun i hi => k3 _ (by omega))⟩
  have xr : x_R g hd R lim D (f_room, f_spare, f_replicaCount, f_eventLimit, f_made, fw, fp, fr, a_deletes, a_letter, a_typed, a_author, a_stamp, a_history, a_parents, a_held, a_logLength, a_logEvents, a_logIndices, tl, tx, row, prep, gone, io) := ⟨K, hR, hl, hD, hh, hB, k4⟩
  exact x_letterAt (q := 4) (S := fun z => g_H g a' z ∨ g_H g b' z) G (by omega) cA k1 (fun t w1 w2 => h4 a' b' t _ ha rfl hb rfl w1 w2 xr) (fun t j v w1 w2 w3 => h a' b' t j v _ ha rfl hb rfl w1 w2 w3 xr)
end
end
section
/-! the reference's methods against the ghost -/
section
variable {f_replicas : Int32} {f_limit : Int32} {f_made : Int32} {f_orderLength : Int32} {f_rowLength : Int32} {a_author : Nat → Int32} {a_typed : Nat → Int32} {a_stamp : Nat → Int32} {a_link : Nat → Int32} {a_codes : Nat → Int32} {a_history : Nat → Int32} {a_held : Nat → Int32} {a_logEvents : Nat → Int32} {a_logIndices : Nat → Int32} {a_logLength : Nat → Int32} {a_set : Nat → Int32} {a_order : Nat → Int32} {a_row : Nat → Int32}
variable {g : GG}
theorem y_po16 {post : Int32 → Prop} {e : Nat} {k : Int32} (G : g_I g) (K : y_G g f_made a_author a_typed a_stamp a_link a_codes a_history) (he : e < g_m g) (hN : (∀ x, x < g_m g → g_par g e x → nI (eg_cnt (g_par g e) x) ≠ k) → post (-4)) (hY : ∀ x, x < g_m g → g_par g e x → nI (eg_cnt (g_par g e) x) = k → post (nI x)) : ∀ (d i n : Nat), i + d = g_m g → d < n → (∀ x, x < i → g_par g e x → nI (eg_cnt (g_par g e) x) ≠ k) → wY_parentOf_16 post (nI e) k f_replicas f_limit f_made f_orderLength f_rowLength a_author a_typed a_stamp a_link a_codes a_history a_held a_logEvents a_logIndices a_logLength a_set a_order a_row n (nI (eg_cnt (g_par g e) i)) (nI i) := by
  have m32 := g_m32 G
  intro d
  induction d with
  | zero =>
    intro i n hd hn hl
    cases n with
    | zero => omega
    | succ n =>
      have ei : i = g_m g := by omega
      subst ei
      exact br_t (by rw [yg_m K]; exact Int32.le_refl _) (hN hl)
  | succ d ih =>
    intro i n hd hn hl
    cases n with
    | zero => omega
    | succ n =>
      have hlt : i < g_m g := by omega
      refine br_f (by rw [yg_m K]; exact nI_ge hlt (by omega)) ?_
      refine y_isParent G K he hlt (fun w => br_f eg_10 ?_) (fun w => br_t rfl (nm_r (nI_1 i) ?_))
      · have e1 : eg_cnt (g_par g e) (i + 1) = eg_cnt (g_par g e) i + 1 := by
          show eg_cnt (g_par g e) i + eg_b (g_par g e i) = _
          rw [eg_b1 w]
        refine nm_r (nI_1 _) (br_c (fun z => hY i hlt w z) (fun z => nm_r (nI_1 i) ?_))
        have := ih (i + 1) n (by omega) (by omega) (fun x hx hp => by
          by_cases q : x = i
          · subst q; exact z
          · exact hl x (by omega) hp)
        rw [e1] at this
        exact this
      · have e1 : eg_cnt (g_par g e) (i + 1) = eg_cnt (g_par g e) i := by
          show eg_cnt (g_par g e) i + eg_b (g_par g e i) = _
          rw [eg_b0 w]; rfl
        have := ih (i + 1) n (by omega) (by omega) (fun x hx hp => by
          by_cases q : x = i
          · subst q; exact absurd hp w
          · exact hl x (by omega) hp)
        rw [e1] at this
        exact this
theorem y_ic13 {post : Int32 → Prop} {q e : Nat} {S : Nat → Prop} (G : g_I g) (K : y_G g f_made a_author a_typed a_stamp a_link a_codes a_history) (he : e < g_m g) (hq : q < 4) (hh : ∀ x, x < 32 → (a_held (q * 32 + x) = 0 ↔ ¬ S x)) (h1 : g_spl g S e → post 1) (h0 : ¬ g_spl g S e → post 0) : ∀ (d i n : Nat), i + d = g_m g → d < n → (∀ x, x < i → S x → ¬ g_H g e x → g_H g x e) → wY_isCritical_13 post (nI q) (nI e) f_replicas f_limit f_made f_orderLength f_rowLength a_author a_typed a_stamp a_link a_codes a_history a_held a_logEvents a_logIndices a_logLength a_set a_order a_row n (nI i) := by
  have m32 := g_m32 G
  intro d
  induction d with
  | zero =>
    intro i n hd hn hl
    cases n with
    | zero => omega
    | succ n =>
      have ei : i = g_m g := by omega
      subst ei
      exact br_t (by rw [yg_m K]; exact Int32.le_refl _) (h1 hl)
  | succ d ih =>
    intro i n hd hn hl
    cases n with
    | zero => omega
    | succ n =>
      have hlt : i < g_m g := by omega
      have keep : (S i → ¬ g_H g e i → g_H g i e) → wY_isCritical_13 post (nI q) (nI e) f_replicas f_limit f_made f_orderLength f_rowLength a_author a_typed a_stamp a_link a_codes a_history a_held a_logEvents a_logIndices a_logLength a_set a_order a_row n (nI (i + 1)) := by
        intro k
        refine ih (i + 1) n (by omega) (by omega) (fun x hx => ?_)
        by_cases w : x = i
        · subst w; exact k
        · exact hl x (by omega)
      refine br_f (by rw [yg_m K]; exact nI_ge hlt (by omega)) ?_
      rw [eg_p32, eg_p32, eg_p32, eg_cl (n := q * 32 + i) (by omega), eg_cl (n := e * 32 + i) (by omega), eg_cl (n := i * 32 + e) (by omega), nI_1 i]
      refine And.intro (vp_in_nI (by omega) (by decide)) (eg_if (hh i (by omega)) (fun w => nm_e (keep (fun z => absurd z w))) (fun w => And.intro (vp_in_nI (by omega) (by decide)) (eg_if (yg_h K (by omega) (by omega)) (fun w2 => And.intro (vp_in_nI (by omega) (by decide)) (eg_if (yg_h K (by omega) (by omega)) (fun w3 => h0 (fun z => ?_)) (fun w3 => nm_e (keep (fun _ _ => (eg_nn w3).2))))) (fun w2 => nm_e (keep (fun _ z => absurd (eg_nn w2).2 z))))))
      exact w3 ⟨hlt, z i hlt (eg_nn w) (fun z2 => w2 ⟨he, z2⟩)⟩
end
section
variable {g : GG} {hd : Nat → Nat → Prop} {R lim : Nat} {D : LG} {v : SY}
theorem my_length {post : Int32 → SY → Prop} {p : Int32} (G : g_I g) (rd : r_D g hd R lim D) (hy : y_R g hd R lim D v) (h2 : (∀ q, q < R → p ≠ nI q) → post (-2) v) (h : ∀ q t v', q < R → p = nI q → g_T g (hd q) t → y_R g hd R lim D v' → post (nI t.length) v') : wpY_length post v p := by
  obtain ⟨f_replicas, f_limit, f_made, f_orderLength, f_rowLength, a_author, a_typed, a_stamp, a_link, a_codes, a_history, a_held, a_logEvents, a_logIndices, a_logLength, a_set, a_order, a_row⟩ := v
  obtain ⟨K, hR, hl, hD, hh, hb⟩ := hy
  obtain ⟨r1, r2, r3, r4, r5, r6⟩ := rd
  by_cases c : ∀ q, q < R → p ≠ nI q
  · exact y_length_n hR r1 c (h2 c)
  · have : ∃ q, q < R ∧ p = nI q := by
      apply Classical.byContradiction
      intro z
      exact c (fun q hq e => z ⟨q, hq, e⟩)
    obtain ⟨q, hq, e⟩ := this
    subst e
    exact y_length G K (r4 q) hR r1 hq (fun x hx => hh q x (by omega) hx) hb (fun t ol set ord row k1 k2 k3 => h q t _ hq rfl k1 (show y_R g hd R lim D (f_replicas, f_limit, f_made, ol, nI t.length, a_author, a_typed, a_stamp, a_link, a_codes, a_history, a_held, a_logEvents, a_logIndices, a_logLength, set, ord, row) from ⟨K, hR, hl, hD, hh, hb⟩))
theorem my_charAt {post : Int32 → SY → Prop} {p i : Int32} (G : g_I g) (rd : r_D g hd R lim D) (hy : y_R g hd R lim D v) (h2 : (∀ q, q < R → p ≠ nI q) → post (-2) v) (h4 : ∀ q t v', q < R → p = nI q → g_T g (hd q) t → (∀ j, j < t.length → i ≠ nI j) → y_R g hd R lim D v' → post (-4) v') (h : ∀ q t j w v', q < R → p = nI q → g_T g (hd q) t → i = nI j → t[j]? = some w → y_R g hd R lim D v' → post (g_cod g w) v') : wpY_charAt post v p i := by
  obtain ⟨f_replicas, f_limit, f_made, f_orderLength, f_rowLength, a_author, a_typed, a_stamp, a_link, a_codes, a_history, a_held, a_logEvents, a_logIndices, a_logLength, a_set, a_order, a_row⟩ := v
  obtain ⟨K, hR, hl, hD, hh, hb⟩ := hy
  obtain ⟨r1, r2, r3, r4, r5, r6⟩ := rd
  unfold wpY_charAt
  dsimp only
  by_cases c : ∀ q, q < R → p ≠ nI q
  · refine y_length_n hR r1 c ?_
    exact br_f (by decide) (h2 c)
  · have : ∃ q, q < R ∧ p = nI q := by
      apply Classical.byContradiction
      intro z
      exact c (fun q hq e => z ⟨q, hq, e⟩)
    obtain ⟨q, hq, e⟩ := this
    subst e
    refine y_length G K (r4 q) hR r1 hq (fun x hx => hh q x (by omega) hx) hb (fun t ol set ord row k1 k2 k3 => ?_)
    have yr : y_R g hd R lim D (f_replicas, f_limit, f_made, ol, nI t.length, a_author, a_typed, a_stamp, a_link, a_codes, a_history, a_held, a_logEvents, a_logIndices, a_logLength, set, ord, row) := ⟨K, hR, hl, hD, hh, hb⟩
    exact y_rowChar G K (r4 q) k1 k2 (fun z => h4 q t _ hq rfl k1 z yr) (fun j w z1 z2 => h q t j w _ hq rfl k1 z1 z2 yr)
theorem my_holds {post : Int32 → Prop} {p e : Int32} (G : g_I g) (rd : r_D g hd R lim D) (hy : y_R g hd R lim D v) (h0 : (∀ q f, q < R → p = nI q → f < g_m g → e = nI f → ¬ hd q f) → post 0) (h1 : ∀ q f, q < R → p = nI q → f < g_m g → e = nI f → hd q f → post 1) : wpY_holds post v p e := by
  have m32 := g_m32 G
  obtain ⟨f_replicas, f_limit, f_made, f_orderLength, f_rowLength, a_author, a_typed, a_stamp, a_link, a_codes, a_history, a_held, a_logEvents, a_logIndices, a_logLength, a_set, a_order, a_row⟩ := v
  obtain ⟨K, hR, hl, hD, hh, hb⟩ := hy
  obtain ⟨r1, r2, r3, r4, r5, r6⟩ := rd
  unfold wpY_holds
  dsimp only
  refine y_isReplica hR (by omega) (fun z => br_t rfl (h0 (fun q f hq e => absurd e (z q hq)))) (fun q hq e1 => br_f eg_10 ?_)
  subst e1
  refine y_exists G K (fun z => br_t rfl (h0 (fun q f hq e1 hf e2 => absurd e2 (z f hf)))) (fun f hf e2 => br_f eg_10 ?_)
  subst e2
  rw [eg_p32, eg_cl (n := q * 32 + f) (by omega)]
  refine And.intro (vp_in_nI (by omega) (by decide)) (eg_if (hh q f (by omega) (by omega)) (fun k => h0 (fun q' f' hq' e1 hf' e2 => ?_)) (fun k => h1 q f hq rfl hf rfl (eg_nn k)))
  rw [nI_eq (by omega) (by omega)] at e1 e2
  subst e1 e2
  exact k
theorem my_logEvent {post : Int32 → Prop} {p i : Int32} (G : g_I g) (rd : r_D g hd R lim D) (hy : y_R g hd R lim D v) (h2 : (∀ q, q < R → p ≠ nI q) → post (-2)) (h4 : ∀ q, q < R → p = nI q → (∀ j, j < eg_cnt (hd q) (g_m g) → i ≠ nI j) → post (-4)) (h : ∀ q j, q < R → p = nI q → j < eg_cnt (hd q) (g_m g) → i = nI j → post (D.2.1 (q * 32 + j))) : wpY_logEvent post v p i := by
  have m32 := g_m32 G
  obtain ⟨f_replicas, f_limit, f_made, f_orderLength, f_rowLength, a_author, a_typed, a_stamp, a_link, a_codes, a_history, a_held, a_logEvents, a_logIndices, a_logLength, a_set, a_order, a_row⟩ := v
  obtain ⟨K, hR, hl, hD, hh, hb⟩ := hy
  obtain ⟨r1, r2, r3, r4, r5, r6⟩ := rd
  subst hD
  unfold wpY_logEvent
  dsimp only
  refine y_isReplica hR (by omega) (fun z => br_t rfl (h2 z)) (fun q hq e => br_f eg_10 ?_)
  subst e
  have cl := eg_cnt_le (hd q) (g_m g)
  have lq : a_logLength q = nI (eg_cnt (hd q) (g_m g)) := r6 q (by omega)
  refine br_c (fun z => h4 q hq rfl (fun j hj e => ?_)) (fun z => And.intro (vp_in_nI (by omega) (by decide)) ?_)
  · rw [e] at z; exact nI_pos (by omega) z
  · obtain ⟨j, hj, e⟩ := nI_of z
    subst e
    rw [eg_cl (n := q) (by omega), lq]
    refine pk_lt j (eg_cnt (hd q) (g_m g)) (fun w => ?_) (fun w => h4 q hq rfl (fun j' hj' e => ?_)) rfl rfl hj (by omega)
    · rw [eg_p32, eg_cl (n := q * 32 + j) (by omega)]
      exact And.intro (vp_in_nI (by omega) (by decide)) (h q j hq rfl w rfl)
    · rw [nI_eq (by omega) (by omega)] at e
      omega
theorem my_logIndex {post : Int32 → Prop} {p i : Int32} (G : g_I g) (rd : r_D g hd R lim D) (hy : y_R g hd R lim D v) (h2 : (∀ q, q < R → p ≠ nI q) → post (-2)) (h4 : ∀ q, q < R → p = nI q → (∀ j, j < eg_cnt (hd q) (g_m g) → i ≠ nI j) → post (-4)) (h : ∀ q j, q < R → p = nI q → j < eg_cnt (hd q) (g_m g) → i = nI j → post (D.2.2 (q * 32 + j))) : wpY_logIndex post v p i := by
  have m32 := g_m32 G
  obtain ⟨f_replicas, f_limit, f_made, f_orderLength, f_rowLength, a_author, a_typed, a_stamp, a_link, a_codes, a_history, a_held, a_logEvents, a_logIndices, a_logLength, a_set, a_order, a_row⟩ := v
  obtain ⟨K, hR, hl, hD, hh, hb⟩ := hy
  obtain ⟨r1, r2, r3, r4, r5, r6⟩ := rd
  subst hD
  unfold wpY_logIndex
  dsimp only
  refine y_isReplica hR (by omega) (fun z => br_t rfl (h2 z)) (fun q hq e => br_f eg_10 ?_)
  subst e
  have cl := eg_cnt_le (hd q) (g_m g)
  have lq : a_logLength q = nI (eg_cnt (hd q) (g_m g)) := r6 q (by omega)
  refine br_c (fun z => h4 q hq rfl (fun j hj e => ?_)) (fun z => And.intro (vp_in_nI (by omega) (by decide)) ?_)
  · rw [e] at z; exact nI_pos (by omega) z
  · obtain ⟨j, hj, e⟩ := nI_of z
    subst e
    rw [eg_cl (n := q) (by omega), lq]
    refine pk_lt j (eg_cnt (hd q) (g_m g)) (fun w => ?_) (fun w => h4 q hq rfl (fun j' hj' e => ?_)) rfl rfl hj (by omega)
    · rw [eg_p32, eg_cl (n := q * 32 + j) (by omega)]
      exact And.intro (vp_in_nI (by omega) (by decide)) (h q j hq rfl w rfl)
    · rw [nI_eq (by omega) (by omega)] at e
      omega
theorem my_authorOf {post : Int32 → Prop} {e : Int32} (G : g_I g) (hy : y_R g hd R lim D v) (h3 : (∀ f, f < g_m g → e ≠ nI f) → post (-3)) (h : ∀ f, f < g_m g → e = nI f → post (nI (g_aut g f))) : wpY_authorOf post v e := by
  have m32 := g_m32 G
  obtain ⟨f_replicas, f_limit, f_made, f_orderLength, f_rowLength, a_author, a_typed, a_stamp, a_link, a_codes, a_history, a_held, a_logEvents, a_logIndices, a_logLength, a_set, a_order, a_row⟩ := v
  obtain ⟨K, hR, hl, hD, hh, hb⟩ := hy
  unfold wpY_authorOf
  dsimp only
  refine y_exists G K (fun z => br_t rfl (h3 z)) (fun f hf e2 => br_f eg_10 ?_)
  subst e2
  rw [eg_cl (n := f) (by omega), yg_a K hf]
  exact And.intro (vp_in_nI (by omega) (by decide)) (h f hf rfl)
theorem my_indexOf {post : Int32 → Prop} {e : Int32} (G : g_I g) (hy : y_R g hd R lim D v) (h3 : (∀ f, f < g_m g → e ≠ nI f) → post (-3)) (h : ∀ f, f < g_m g → e = nI f → post (nI (g_typ g f))) : wpY_indexOf post v e := by
  have m32 := g_m32 G
  obtain ⟨f_replicas, f_limit, f_made, f_orderLength, f_rowLength, a_author, a_typed, a_stamp, a_link, a_codes, a_history, a_held, a_logEvents, a_logIndices, a_logLength, a_set, a_order, a_row⟩ := v
  obtain ⟨K, hR, hl, hD, hh, hb⟩ := hy
  unfold wpY_indexOf
  dsimp only
  refine y_exists G K (fun z => br_t rfl (h3 z)) (fun f hf e2 => br_f eg_10 ?_)
  subst e2
  rw [eg_cl (n := f) (by omega), yg_t K hf]
  exact And.intro (vp_in_nI (by omega) (by decide)) (h f hf rfl)
theorem my_charOf {post : Int32 → Prop} {e : Int32} (G : g_I g) (hy : y_R g hd R lim D v) (h3 : (∀ f, f < g_m g → e ≠ nI f) → post (-3)) (h8 : ∀ f, f < g_m g → e = nI f → g_del g f → post (-8)) (h : ∀ f, f < g_m g → e = nI f → ¬ g_del g f → post (g_cod g f)) : wpY_charOf post v e := by
  have m32 := g_m32 G
  obtain ⟨f_replicas, f_limit, f_made, f_orderLength, f_rowLength, a_author, a_typed, a_stamp, a_link, a_codes, a_history, a_held, a_logEvents, a_logIndices, a_logLength, a_set, a_order, a_row⟩ := v
  obtain ⟨K, hR, hl, hD, hh, hb⟩ := hy
  unfold wpY_charOf
  dsimp only
  refine y_exists G K (fun z => br_t rfl (h3 z)) (fun f hf e2 => br_f eg_10 ?_)
  subst e2
  rw [eg_cl (n := f) (by omega)]
  refine And.intro (vp_in_nI (by omega) (by decide)) ?_
  by_cases d : g_del g f
  · rw [(yg_d K hf).mpr d]; exact h8 f hf rfl d
  · rw [yg_c K hf d]; exact h f hf rfl d
theorem my_parentOf {post : Int32 → Prop} {e k : Int32} (G : g_I g) (hy : y_R g hd R lim D v) (h3 : (∀ f, f < g_m g → e ≠ nI f) → post (-3)) (hN : ∀ f, f < g_m g → e = nI f → (∀ x, x < g_m g → g_par g f x → nI (eg_cnt (g_par g f) x) ≠ k) → post (-4)) (hY : ∀ f x, f < g_m g → e = nI f → x < g_m g → g_par g f x → nI (eg_cnt (g_par g f) x) = k → post (nI x)) : wpY_parentOf post v e k := by
  have m32 := g_m32 G
  obtain ⟨f_replicas, f_limit, f_made, f_orderLength, f_rowLength, a_author, a_typed, a_stamp, a_link, a_codes, a_history, a_held, a_logEvents, a_logIndices, a_logLength, a_set, a_order, a_row⟩ := v
  obtain ⟨K, hR, hl, hD, hh, hb⟩ := hy
  unfold wpY_parentOf
  dsimp only
  refine y_exists G K (fun z => br_t rfl (h3 z)) (fun f hf e2 => br_f eg_10 ⟨g_m g + 1, ?_⟩)
  subst e2
  exact y_po16 G K hf (fun w => hN f hf rfl w) (fun x hx hp w => hY f x hf rfl hx hp w) (g_m g) 0 (g_m g + 1) (by omega) (by omega) (fun x hx => absurd hx (by omega))
theorem my_isCritical {post : Int32 → Prop} {p e : Int32} (G : g_I g) (rd : r_D g hd R lim D) (hy : y_R g hd R lim D v) (h0 : (∀ q f, q < R → p = nI q → f < g_m g → e = nI f → hd q f → ¬ g_spl g (hd q) f) → post 0) (h1 : ∀ q f, q < R → p = nI q → f < g_m g → e = nI f → hd q f → g_spl g (hd q) f → post 1) : wpY_isCritical post v p e := by
  have m32 := g_m32 G
  have hy0 := hy
  have rd0 := rd
  obtain ⟨f_replicas, f_limit, f_made, f_orderLength, f_rowLength, a_author, a_typed, a_stamp, a_link, a_codes, a_history, a_held, a_logEvents, a_logIndices, a_logLength, a_set, a_order, a_row⟩ := v
  obtain ⟨K, hR, hl, hD, hh, hb⟩ := hy
  obtain ⟨r1, r2, r3, r4, r5, r6⟩ := rd
  unfold wpY_isCritical
  dsimp only
  refine my_holds G rd0 hy0 (fun z => br_t rfl (h0 (fun q f k1 k2 k3 k4 k5 => absurd k5 (z q f k1 k2 k3 k4)))) (fun q f k1 k2 k3 k4 k5 => br_f eg_10 ⟨g_m g + 1, ?_⟩)
  subst k2 k4
  refine y_ic13 (S := hd q) G K k3 (by omega) (fun x hx => hh q x (by omega) hx) (fun sp => h1 q f k1 rfl k3 rfl k5 sp) (fun sp => h0 (fun q' f' hq' e1 hf' e2 _ => ?_)) (g_m g) 0 (g_m g + 1) (by omega) (by omega) (fun x hx => absurd hx (by omega))
  rw [nI_eq (by omega) (by omega)] at e1 e2
  subst e1 e2
  exact sp
theorem my_mergedLength {post : Int32 → SY → Prop} {a b : Int32} (G : g_I g) (hy : y_R g hd R lim D v) (h3 : (∀ f, f < g_m g → a ≠ nI f) ∨ (∀ f, f < g_m g → b ≠ nI f) → post (-3) v) (h : ∀ a' b' t v', a' < g_m g → a = nI a' → b' < g_m g → b = nI b' → g_T g (fun z => g_H g a' z ∨ g_H g b' z) t → y_R g hd R lim D v' → post (nI t.length) v') : wpY_mergedLength post v a b := by
  obtain ⟨f_replicas, f_limit, f_made, f_orderLength, f_rowLength, a_author, a_typed, a_stamp, a_link, a_codes, a_history, a_held, a_logEvents, a_logIndices, a_logLength, a_set, a_order, a_row⟩ := v
  obtain ⟨K, hR, hl, hD, hh, hb⟩ := hy
  by_cases c : (∀ f, f < g_m g → a ≠ nI f) ∨ (∀ f, f < g_m g → b ≠ nI f)
  · exact y_mergedLength_n G K c (h3 c)
  · have ca : ∃ f, f < g_m g ∧ a = nI f := by
      apply Classical.byContradiction
      intro z
      exact c (Or.inl (fun q hq e => z ⟨q, hq, e⟩))
    have cb : ∃ f, f < g_m g ∧ b = nI f := by
      apply Classical.byContradiction
      intro z
      exact c (Or.inr (fun q hq e => z ⟨q, hq, e⟩))
    obtain ⟨a', ha, ea⟩ := ca
    obtain ⟨b', hb', eb⟩ := cb
    subst ea eb
    exact y_mergedLength G K ha hb' (fun t ol set ord row k1 k2 => h a' b' t _ ha rfl hb' rfl k1 (show y_R g hd R lim D (f_replicas, f_limit, f_made, ol, nI t.length, a_author, a_typed, a_stamp, a_link, a_codes, a_history, a_held, a_logEvents, a_logIndices, a_logLength, set, ord, row) from ⟨K, hR, hl, hD, hh, hb⟩))
theorem my_mergedChar {post : Int32 → SY → Prop} {a b i : Int32} (G : g_I g) (hy : y_R g hd R lim D v) (h3 : (∀ f, f < g_m g → a ≠ nI f) ∨ (∀ f, f < g_m g → b ≠ nI f) → post (-3) v) (h4 : ∀ a' b' t v', a' < g_m g → a = nI a' → b' < g_m g → b = nI b' → g_T g (fun z => g_H g a' z ∨ g_H g b' z) t → (∀ j, j < t.length → i ≠ nI j) → y_R g hd R lim D v' → post (-4) v') (h : ∀ a' b' t j w v', a' < g_m g → a = nI a' → b' < g_m g → b = nI b' → g_T g (fun z => g_H g a' z ∨ g_H g b' z) t → i = nI j → t[j]? = some w → y_R g hd R lim D v' → post (g_cod g w) v') : wpY_mergedChar post v a b i := by
  obtain ⟨f_replicas, f_limit, f_made, f_orderLength, f_rowLength, a_author, a_typed, a_stamp, a_link, a_codes, a_history, a_held, a_logEvents, a_logIndices, a_logLength, a_set, a_order, a_row⟩ := v
  obtain ⟨K, hR, hl, hD, hh, hb⟩ := hy
  unfold wpY_mergedChar
  dsimp only
  by_cases c : (∀ f, f < g_m g → a ≠ nI f) ∨ (∀ f, f < g_m g → b ≠ nI f)
  · refine y_mergedLength_n G K c ?_
    exact br_f (by decide) (h3 c)
  · have ca : ∃ f, f < g_m g ∧ a = nI f := by
      apply Classical.byContradiction
      intro z
      exact c (Or.inl (fun q hq e => z ⟨q, hq, e⟩))
    have cb : ∃ f, f < g_m g ∧ b = nI f := by
      apply Classical.byContradiction
      intro z
      exact c (Or.inr (fun q hq e => z ⟨q, hq, e⟩))
    obtain ⟨a', ha, ea⟩ := ca
    obtain ⟨b', hb', eb⟩ := cb
    subst ea eb
    have cA : g_cl g (fun z => g_H g a' z ∨ g_H g b' z) := by
      refine ⟨?_, ?_⟩
      · rintro z (k | k)
        · exact (g_H_cl G ha).1 z k
        · exact (g_H_cl G hb').1 z k
      · rintro z y (k | k) hy
        · exact Or.inl ((g_H_cl G ha).2 z y k hy)
        · exact Or.inr ((g_H_cl G hb').2 z y k hy)
    refine y_mergedLength G K ha hb' (fun t ol set ord row k1 k2 => ?_)
    have yr : y_R g hd R lim D (f_replicas, f_limit, f_made, ol, nI t.length, a_author, a_typed, a_stamp, a_link, a_codes, a_history, a_held, a_logEvents, a_logIndices, a_logLength, set, ord, row) := ⟨K, hR, hl, hD, hh, hb⟩
    exact y_rowChar G K cA k1 k2 (fun z => h4 a' b' t _ ha rfl hb' rfl k1 z yr) (fun j w z1 z2 => h a' b' t j w _ ha rfl hb' rfl k1 z1 z2 yr)
end
end
section
/-! the reference's storing methods against the ghost -/
theorem eg_vmax {g : GG} {S : Nat → Prop} {v w : Nat} (h1 : 1 ≤ v) (h2 : ∀ x, x < g_m g → S x → g_stp g x < v) (h3 : v = 1 ∨ ∃ x, x < g_m g ∧ S x ∧ g_stp g x + 1 = v) (k1 : 1 ≤ w) (k2 : ∀ x, x < g_m g → S x → g_stp g x < w) (k3 : w = 1 ∨ ∃ x, x < g_m g ∧ S x ∧ g_stp g x + 1 = w) : v = w := by
  rcases h3 with h3 | ⟨x, hx, sx, h3⟩
  · rcases k3 with k3 | ⟨y, hy, sy, k3⟩
    · omega
    · have := h2 y hy sy; omega
  · have a := k2 x hx sx
    rcases k3 with k3 | ⟨y, hy, sy, k3⟩
    · omega
    · have := h2 y hy sy; omega
theorem r_Dm {g : GG} {hd : Nat → Nat → Prop} {R lim q idx v : Nat} {D : LG} {d : Prop} {lk : Option Nat} {c : Int32} (rd : r_D g hd R lim D) (hq : q < R) (hm : g_m g < lim) : r_D (g_ext g (hd q) d q idx v lk c) (g_hd hd q (fun z => z = g_m g)) R lim (l_step q (eg_cnt (hd q) (g_m g)) (g_m g) (nI idx) D) := by
  obtain ⟨r1, r2, r3, r4, r5, r6⟩ := rd
  refine ⟨r1, r2, by rw [ge_m]; omega, fun r => ?_, fun e he => ?_, fun r hr => ?_⟩
  · by_cases k : r = q
    · subst k
      rw [g_hd_p]
      refine ⟨?_, ?_⟩
      · rintro x (w | w)
        · rw [ge_m]; have := (r4 r).1 x w; omega
        · rw [ge_m]; omega
      · rintro x y (w | w) hy
        · have := (r4 r).1 x w
          exact Or.inl ((r4 r).2 x y w ((ge_H_o (by omega)).mp hy))
        · have w' : x = g_m g := w
          subst w'
          exact ge_H_n.mp hy
    · rw [g_hd_o k]
      exact ge_cl (r4 r)
  · rw [ge_m] at he
    by_cases k : e = g_m g
    · subst k
      rw [ge_aut_n]
      exact Or.inr ⟨rfl, rfl⟩
    · rw [ge_aut_o k]
      exact Or.inl (r5 e (by omega))
  · by_cases k : r = q
    · subst k
      rw [g_hd_p, ge_m]
      show upd _ r _ r = _
      rw [pk_us]
      have nm : ¬ hd r (g_m g) := fun z => by have := (r4 r).1 _ z; omega
      rw [eg_cnt_add (p := hd r) (q := fun z => hd r z ∨ z = g_m g) (e := g_m g) nm (fun _ => Iff.rfl) (g_m g + 1) (by omega)]
      rw [eg_cnt_s (p := hd r) (n := g_m g) (m := g_m g + 1) (r4 r).1 (by omega)]
    · rw [g_hd_o k, ge_m]
      show upd _ q _ r = _
      rw [pk_un k, eg_cnt_s (p := hd r) (n := g_m g) (m := g_m g + 1) (r4 r).1 (by omega)]
      exact r6 r hr
section
variable {g : GG} {hd : Nat → Nat → Prop} {R lim : Nat} {D : LG} {v : SY}
theorem my_make {q idx : Nat} {post : Int32 → SY → Prop} {d : Prop} {cd c : Int32} {lk : Option Nat} (G : g_I g) (rd : r_D g hd R lim D) (hy : y_R g hd R lim D v) (hq : q < R) (hm : g_m g < lim) (hcd : (d ∧ cd = -8) ∨ (¬ d ∧ cd = c ∧ c ≠ -8)) (h : ∀ (w : Nat) (v' : SY), 1 ≤ w → (∀ x, x < g_m g → hd q x → g_stp g x < w) → (w = 1 ∨ ∃ x, x < g_m g ∧ hd q x ∧ g_stp g x + 1 = w) → y_R (g_ext g (hd q) d q idx w lk c) (g_hd hd q (fun z => z = g_m g)) R lim (l_step q (eg_cnt (hd q) (g_m g)) (g_m g) (nI idx) D) v' → post (nI (g_m g)) v') : wpY_make post v (nI q) (nI idx) cd (y_lk lk) := by
  obtain ⟨f_replicas, f_limit, f_made, f_orderLength, f_rowLength, a_author, a_typed, a_stamp, a_link, a_codes, a_history, a_held, a_logEvents, a_logIndices, a_logLength, a_set, a_order, a_row⟩ := v
  obtain ⟨K, hR, hl, hD, hh, hb⟩ := hy
  subst hD
  obtain ⟨r1, r2, r3, r4, r5, r6⟩ := rd
  have cl := eg_cnt_le (hd q) (g_m g)
  refine y_make (S := hd q) (by omega) (by omega) (r4 q) G K (fun x hx => hh q x (by omega) hx) hb (r6 q (by omega)) (by omega) (fun st hist w k1 k2 k3 k4 k5 k6 k7 => ?_)
  have hA : ∀ r x, r < 4 → x < 32 → (upd a_held (q * 32 + g_m g) 1 (r * 32 + x) = 0 ↔ ¬ g_hd hd q (fun z => z = g_m g) r x) := by
    intro r x hr hx
    by_cases e : r * 32 + x = q * 32 + g_m g
    · rw [e, pk_us]
      have e1 : r = q := by omega
      have e2 : x = g_m g := by omega
      exact ⟨fun z => absurd z (by decide), fun z => absurd (Or.inr ⟨e1, e2⟩) z⟩
    · rw [pk_un e, hh r x hr hx]
      constructor
      · rintro z (w | w)
        · exact z w
        · have e1 : r = q := w.1
          have e2 : x = g_m g := w.2
          omega
      · intro z w; exact z (Or.inl w)
  have hB : ∀ j, vp_nar .boolean (upd a_held (q * 32 + g_m g) 1 j) = upd a_held (q * 32 + g_m g) 1 j := by
    intro j
    by_cases e : j = q * 32 + g_m g
    · rw [e, pk_us]; rfl
    · rw [pk_un e]; exact hb j
  have hK : y_G (g_ext g (hd q) d q idx w lk c) (nI (g_m g + 1)) (upd a_author (g_m g) (nI q)) (upd a_typed (g_m g) (nI idx)) st (upd a_link (g_m g) (y_lk lk)) (upd a_codes (g_m g) cd) (upd hist (g_m g * 32 + g_m g) 1) := by
    refine ⟨rfl, ?_, ?_, ?_, ?_, ?_, ?_, ?_⟩
    · intro e he
      rw [ge_m] at he
      by_cases k : e = g_m g
      · subst k; rw [pk_us, ge_aut_n]
      · rw [pk_un k, ge_aut_o k]; exact yg_a K (by omega)
    · intro e he
      rw [ge_m] at he
      by_cases k : e = g_m g
      · subst k; rw [pk_us, ge_typ_n]
      · rw [pk_un k, ge_typ_o k]; exact yg_t K (by omega)
    · intro e he
      rw [ge_m] at he
      by_cases k : e = g_m g
      · subst k; rw [k2, ge_stp_n]
      · rw [k1 e (by omega), ge_stp_o k]; exact yg_s K (by omega)
    · intro e he
      rw [ge_m] at he
      by_cases k : e = g_m g
      · subst k; rw [pk_us, ge_lnk_n]
      · rw [pk_un k, ge_lnk_o k]; exact yg_k K (by omega)
    · intro e he hd'
      rw [ge_m] at he
      by_cases k : e = g_m g
      · subst k
        rw [pk_us]
        rcases hcd with z | z
        · exact z.2
        · exact absurd (ge_del_n.mp hd') z.1
      · rw [pk_un k]; exact (yg_d K (by omega)).mpr ((ge_del_o k).mp hd')
    · intro e he nd
      rw [ge_m] at he
      by_cases k : e = g_m g
      · subst k
        rw [pk_us, ge_cod_n]
        rcases hcd with z | z
        · exact absurd (ge_del_n.mpr z.1) nd
        · exact z.2
      · rw [pk_un k, ge_cod_o k]
        exact K.2.2.2.2.2.2.1 e (by omega) (fun z => nd ((ge_del_o k).mpr z))
    · intro e x he hx
      rw [ge_m]
      by_cases k : e = g_m g
      · subst k
        rw [ge_H_n]
        by_cases kx : x = g_m g
        · subst kx
          rw [pk_us]
          exact ⟨fun z => absurd z (by decide), fun z => absurd ⟨by omega, Or.inr rfl⟩ z⟩
        · rw [pk_un (by omega)]
          by_cases lx : x < g_m g
          · rw [k6 x lx]
            constructor
            · rintro z ⟨_, w | w⟩
              · exact z w
              · exact kx w
            · intro z w; exact z ⟨by omega, Or.inl w⟩
          · rw [k7 _ (by omega), yg_h K he hx]
            constructor
            · rintro _ ⟨_, w | w⟩
              · have := (r4 q).1 x w; omega
              · exact kx w
            · rintro _ ⟨w, _⟩; omega
      · rw [pk_un (by omega), ge_H_o k, k7 _ (by omega), yg_h K he hx]
        constructor
        · rintro z ⟨w1, w2⟩; exact z ⟨by omega, w2⟩
        · rintro z ⟨w1, w2⟩; exact z ⟨by omega, w2⟩
  exact h w _ k3 k4 k5 (show y_R (g_ext g (hd q) d q idx w lk c) (g_hd hd q (fun z => z = g_m g)) R lim (l_step q (eg_cnt (hd q) (g_m g)) (g_m g) (nI idx) (a_logLength, a_logEvents, a_logIndices)) (f_replicas, f_limit, nI (g_m g + 1), f_orderLength, f_rowLength, upd a_author (g_m g) (nI q), upd a_typed (g_m g) (nI idx), st, upd a_link (g_m g) (y_lk lk), upd a_codes (g_m g) cd, upd hist (g_m g * 32 + g_m g) 1, upd a_held (q * 32 + g_m g) 1, upd a_logEvents (q * 32 + eg_cnt (hd q) (g_m g)) (nI (g_m g)), upd a_logIndices (q * 32 + eg_cnt (hd q) (g_m g)) (nI idx), upd a_logLength q (nI (eg_cnt (hd q) (g_m g) + 1)), a_set, a_order, a_row) from ⟨hK, hR, hl, rfl, hA, hB⟩)
theorem eg_none_some {t : List Nat} {j a : Nat} (h : t[j]? = some a) : (none :: t.map some)[j + 1]? = some (some a) := by
  rw [List.getElem?_cons_succ, List.getElem?_map, h]; rfl
theorem my_insert {post : Int32 → SY → Prop} {p i c : Int32} (G : g_I g) (rd : r_D g hd R lim D) (hy : y_R g hd R lim D v) (h2 : (∀ q, q < R → p ≠ nI q) → post (-2) v) (h5 : ∀ q v', q < R → p = nI q → ¬ g_m g < lim → y_R g hd R lim D v' → post (-5) v') (h4 : ∀ q t v', q < R → p = nI q → g_m g < lim → g_T g (hd q) t → (∀ j, j ≤ t.length → i ≠ nI j) → y_R g hd R lim D v' → post (-4) v') (h : ∀ q t idx lk v', q < R → p = nI q → g_m g < lim → g_T g (hd q) t → idx ≤ t.length → i = nI idx → (none :: t.map some)[idx]? = some lk → y_R g hd R lim D v' → ∀ post' : Int32 → SY → Prop, (∀ r v'', post r v'' → post' r v'') → wpY_make post' v' (nI q) (nI idx) c (y_lk lk)) : wpY_insert post v p i c := by
  obtain ⟨f_replicas, f_limit, f_made, f_orderLength, f_rowLength, a_author, a_typed, a_stamp, a_link, a_codes, a_history, a_held, a_logEvents, a_logIndices, a_logLength, a_set, a_order, a_row⟩ := v
  obtain ⟨K, hR, hl, hD, hh, hb⟩ := hy
  obtain ⟨r1, r2, r3, r4, r5, r6⟩ := rd
  have m32 := g_m32 G
  unfold wpY_insert
  by_cases cc : ∀ q, q < R → p ≠ nI q
  · refine y_length_n hR r1 cc ?_
    exact br_f (by decide) (h2 cc)
  · have : ∃ q, q < R ∧ p = nI q := by
      apply Classical.byContradiction
      intro z
      exact cc (fun q hq e => z ⟨q, hq, e⟩)
    obtain ⟨q, hq, e⟩ := this
    subst e
    refine y_length G K (r4 q) hR r1 hq (fun x hx => hh q x (by omega) hx) hb (fun t ol set ord row k1 k2 k3 => ?_)
    have yr : y_R g hd R lim D (f_replicas, f_limit, f_made, ol, nI t.length, a_author, a_typed, a_stamp, a_link, a_codes, a_history, a_held, a_logEvents, a_logIndices, a_logLength, set, ord, row) := ⟨K, hR, hl, hD, hh, hb⟩
    have tl := g_Tlen G (r4 q).1 k1
    refine br_t (nI_pos' (by omega)) (pk_lt (g_m g) lim (fun w => ?_) (fun w => h5 q _ hq rfl (by omega) yr) (yg_m K) hl (by omega) (by omega))
    refine br_c (fun z => h4 q t _ hq rfl w k1 (fun j hj e => ?_) yr) (fun z => ?_)
    · rw [e] at z; exact nI_pos (by omega) z
    · obtain ⟨j, hj, e⟩ := nI_of z
      subst e
      refine pk_le j t.length (fun w2 => ?_) (fun w2 => h4 q t _ hq rfl w k1 (fun j' hj' e => ?_) yr) rfl rfl hj (by omega)
      · cases j with
        | zero =>
          refine br_t rfl ?_
          exact h q t 0 none _ hq rfl w k1 w2 rfl rfl yr _ (fun r v'' hp => by obtain ⟨f_replicas, f_limit, f_made, f_orderLength, f_rowLength, a_author, a_typed, a_stamp, a_link, a_codes, a_history, a_held, a_logEvents, a_logIndices, a_logLength, a_set, a_order, a_row⟩ := v''; exact hp)
        | succ j =>
          have g1 : t[j]? = some t[j] := List.getElem?_eq_getElem (by omega)
          refine br_f (nI_ne0 (by omega) (by omega)) ?_
          rw [nI_pred, eg_cl (n := j) (by omega), eg_Rep0 k2 g1]
          refine And.intro (vp_in_nI (by omega) (by decide)) ?_
          exact h q t (j + 1) (some t[j]) _ hq rfl w k1 w2 rfl (eg_none_some g1) yr _ (fun r v'' hp => by obtain ⟨f_replicas, f_limit, f_made, f_orderLength, f_rowLength, a_author, a_typed, a_stamp, a_link, a_codes, a_history, a_held, a_logEvents, a_logIndices, a_logLength, a_set, a_order, a_row⟩ := v''; exact hp)
      · rw [nI_eq (by omega) (by omega)] at e
        omega
theorem my_delete {post : Int32 → SY → Prop} {p i : Int32} (G : g_I g) (rd : r_D g hd R lim D) (hy : y_R g hd R lim D v) (h2 : (∀ q, q < R → p ≠ nI q) → post (-2) v) (h5 : ∀ q v', q < R → p = nI q → ¬ g_m g < lim → y_R g hd R lim D v' → post (-5) v') (h4 : ∀ q t v', q < R → p = nI q → g_m g < lim → g_T g (hd q) t → (∀ j, j < t.length → i ≠ nI j) → y_R g hd R lim D v' → post (-4) v') (h : ∀ q t idx a v', q < R → p = nI q → g_m g < lim → g_T g (hd q) t → idx < t.length → i = nI idx → t[idx]? = some a → y_R g hd R lim D v' → ∀ post' : Int32 → SY → Prop, (∀ r v'', post r v'' → post' r v'') → wpY_make post' v' (nI q) (nI idx) (-8) (y_lk (some a))) : wpY_delete post v p i := by
  obtain ⟨f_replicas, f_limit, f_made, f_orderLength, f_rowLength, a_author, a_typed, a_stamp, a_link, a_codes, a_history, a_held, a_logEvents, a_logIndices, a_logLength, a_set, a_order, a_row⟩ := v
  obtain ⟨K, hR, hl, hD, hh, hb⟩ := hy
  obtain ⟨r1, r2, r3, r4, r5, r6⟩ := rd
  have m32 := g_m32 G
  unfold wpY_delete
  by_cases cc : ∀ q, q < R → p ≠ nI q
  · refine y_length_n hR r1 cc ?_
    exact br_f (by decide) (h2 cc)
  · have : ∃ q, q < R ∧ p = nI q := by
      apply Classical.byContradiction
      intro z
      exact cc (fun q hq e => z ⟨q, hq, e⟩)
    obtain ⟨q, hq, e⟩ := this
    subst e
    refine y_length G K (r4 q) hR r1 hq (fun x hx => hh q x (by omega) hx) hb (fun t ol set ord row k1 k2 k3 => ?_)
    have yr : y_R g hd R lim D (f_replicas, f_limit, f_made, ol, nI t.length, a_author, a_typed, a_stamp, a_link, a_codes, a_history, a_held, a_logEvents, a_logIndices, a_logLength, set, ord, row) := ⟨K, hR, hl, hD, hh, hb⟩
    have tl := g_Tlen G (r4 q).1 k1
    refine br_t (nI_pos' (by omega)) (pk_lt (g_m g) lim (fun w => ?_) (fun w => h5 q _ hq rfl (by omega) yr) (yg_m K) hl (by omega) (by omega))
    refine br_c (fun z => h4 q t _ hq rfl w k1 (fun j hj e => ?_) yr) (fun z => ?_)
    · rw [e] at z; exact nI_pos (by omega) z
    · obtain ⟨j, hj, e⟩ := nI_of z
      subst e
      refine pk_lt j t.length (fun w2 => ?_) (fun w2 => h4 q t _ hq rfl w k1 (fun j' hj' e => ?_) yr) rfl rfl hj (by omega)
      · have g1 : t[j]? = some t[j] := List.getElem?_eq_getElem w2
        rw [eg_cl (n := j) (by omega), eg_Rep0 k2 g1]
        refine And.intro (vp_in_nI (by omega) (by decide)) ?_
        exact h q t j t[j] _ hq rfl w k1 w2 rfl g1 yr _ (fun r v'' hp => by obtain ⟨f_replicas, f_limit, f_made, f_orderLength, f_rowLength, a_author, a_typed, a_stamp, a_link, a_codes, a_history, a_held, a_logEvents, a_logIndices, a_logLength, a_set, a_order, a_row⟩ := v''; exact hp)
      · rw [nI_eq (by omega) (by omega)] at e
        omega
theorem my_take {post : Int32 → SY → Prop} {q f : Nat} (G : g_I g) (rd : r_D g hd R lim D) (hy : y_R g hd R lim D v) (hq : q < R) (hf : f < g_m g) (nh : ¬ hd q f) (hps : ∀ y, g_past g f y → hd q y) (h : ∀ v', y_R g (g_hd hd q (fun z => z = f)) R lim (l_step q (eg_cnt (hd q) (g_m g)) f (g_fx g (hd q) f) D) v' → post (g_fx g (hd q) f) v') : wpY_receive post v (nI q) (nI f) := by
  have m32 := g_m32 G
  obtain ⟨f_replicas, f_limit, f_made, f_orderLength, f_rowLength, a_author, a_typed, a_stamp, a_link, a_codes, a_history, a_held, a_logEvents, a_logIndices, a_logLength, a_set, a_order, a_row⟩ := v
  obtain ⟨K, hR, hl, hD, hh, hb⟩ := hy
  subst hD
  obtain ⟨r1, r2, r3, r4, r5, r6⟩ := rd
  have clt : eg_cnt (hd q) (g_m g) < g_m g := eg_cnt_lt hf nh
  have hA : ∀ r x, r < 4 → x < 32 → (upd a_held (q * 32 + f) 1 (r * 32 + x) = 0 ↔ ¬ g_hd hd q (fun z => z = f) r x) := by
    intro r x hr hx
    by_cases e : r * 32 + x = q * 32 + f
    · rw [e, pk_us]
      have e1 : r = q := by omega
      have e2 : x = f := by omega
      exact ⟨fun z => absurd z (by decide), fun z => absurd (Or.inr ⟨e1, e2⟩) z⟩
    · rw [pk_un e, hh r x hr hx]
      constructor
      · rintro z (w | w)
        · exact z w
        · have e1 : r = q := w.1
          have e2 : x = f := w.2
          omega
      · intro z w; exact z (Or.inl w)
  have hB : ∀ j, vp_nar .boolean (upd a_held (q * 32 + f) 1 j) = upd a_held (q * 32 + f) 1 j := by
    intro j
    by_cases e : j = q * 32 + f
    · rw [e, pk_us]; rfl
    · rw [pk_un e]; exact hb j
  exact y_recv (S := hd q) G K (r4 q) hR r1 hq hf nh hps (fun x hx => hh q x (by omega) hx) hb (r6 q (by omega)) (by omega) (fun ol rl set ord row => h _ (show y_R g (g_hd hd q (fun z => z = f)) R lim (l_step q (eg_cnt (hd q) (g_m g)) f (g_fx g (hd q) f) (a_logLength, a_logEvents, a_logIndices)) (f_replicas, f_limit, f_made, ol, rl, a_author, a_typed, a_stamp, a_link, a_codes, a_history, upd a_held (q * 32 + f) 1, upd a_logEvents (q * 32 + eg_cnt (hd q) (g_m g)) (nI f), upd a_logIndices (q * 32 + eg_cnt (hd q) (g_m g)) (g_fx g (hd q) f), upd a_logLength q (nI (eg_cnt (hd q) (g_m g) + 1)), set, ord, row) from ⟨K, hR, hl, rfl, hA, hB⟩))
theorem my_receive {post : Int32 → SY → Prop} {p e : Int32} (G : g_I g) (rd : r_D g hd R lim D) (hy : y_R g hd R lim D v) (h2 : (∀ q, q < R → p ≠ nI q) → post (-2) v) (h3 : ∀ q, q < R → p = nI q → (∀ f, f < g_m g → e ≠ nI f) → post (-3) v) (h6 : ∀ q f, q < R → p = nI q → f < g_m g → e = nI f → hd q f → post (-6) v) (h7 : ∀ q f, q < R → p = nI q → f < g_m g → e = nI f → ¬ hd q f → (∃ y, g_par g f y ∧ ¬ hd q y) → post (-7) v) (h : ∀ q f v', q < R → p = nI q → f < g_m g → e = nI f → ¬ hd q f → (∀ y, g_par g f y → hd q y) → y_R g (g_hd hd q (fun z => z = f)) R lim (l_step q (eg_cnt (hd q) (g_m g)) f (g_fx g (hd q) f) D) v' → post (g_fx g (hd q) f) v') : wpY_receive post v p e := by
  have m32 := g_m32 G
  by_cases cc : ∀ q, q < R → p ≠ nI q
  · obtain ⟨f_replicas, f_limit, f_made, f_orderLength, f_rowLength, a_author, a_typed, a_stamp, a_link, a_codes, a_history, a_held, a_logEvents, a_logIndices, a_logLength, a_set, a_order, a_row⟩ := v
    obtain ⟨K, hR, hl, hD, hh, hb⟩ := hy
    unfold wpY_receive
    dsimp only
    exact y_isReplica hR (by have := rd.1; omega) (fun z => br_t rfl (h2 cc)) (fun q hq e => absurd e (cc q hq))
  · have : ∃ q, q < R ∧ p = nI q := by
      apply Classical.byContradiction
      intro z
      exact cc (fun q hq e => z ⟨q, hq, e⟩)
    obtain ⟨q, hq, ep⟩ := this
    by_cases ce : ∀ f, f < g_m g → e ≠ nI f
    · have hh3 := h3 q hq ep ce
      obtain ⟨f_replicas, f_limit, f_made, f_orderLength, f_rowLength, a_author, a_typed, a_stamp, a_link, a_codes, a_history, a_held, a_logEvents, a_logIndices, a_logLength, a_set, a_order, a_row⟩ := v
      obtain ⟨K, hR, hl, hD, hh, hb⟩ := hy
      unfold wpY_receive
      dsimp only
      refine y_isReplica hR (by have := rd.1; omega) (fun z => absurd ep (z q hq)) (fun q' hq' e' => br_f eg_10 ?_)
      exact y_exists G K (fun z => br_t rfl hh3) (fun f hf e' => absurd e' (ce f hf))
    · have : ∃ f, f < g_m g ∧ e = nI f := by
        apply Classical.byContradiction
        intro z
        exact ce (fun q hq e => z ⟨q, hq, e⟩)
      obtain ⟨f, hf, ef⟩ := this
      subst ep ef
      by_cases k : hd q f
      · have hh6 := h6 q f hq rfl hf rfl k
        obtain ⟨f_replicas, f_limit, f_made, f_orderLength, f_rowLength, a_author, a_typed, a_stamp, a_link, a_codes, a_history, a_held, a_logEvents, a_logIndices, a_logLength, a_set, a_order, a_row⟩ := v
        obtain ⟨K, hR, hl, hD, hh, hb⟩ := hy
        have r1 := rd.1
        exact y_held G K hR r1 hq hf (fun z => ((hh q f (by omega) (by omega)).mp z) k) hh6
      · by_cases kp : ∀ y, g_par g f y → hd q y
        · exact my_take G rd hy hq hf k (g_parents G (rd.2.2.2.1 q) hf kp) (fun v' k2 => h q f v' hq rfl hf rfl k kp k2)
        · have ex : ∃ y, g_par g f y ∧ ¬ hd q y := by
            apply Classical.byContradiction
            intro z
            exact kp (fun y hy => Classical.byContradiction fun z2 => z ⟨y, hy, z2⟩)
          have hh7 := h7 q f hq rfl hf rfl k ex
          obtain ⟨f_replicas, f_limit, f_made, f_orderLength, f_rowLength, a_author, a_typed, a_stamp, a_link, a_codes, a_history, a_held, a_logEvents, a_logIndices, a_logLength, a_set, a_order, a_row⟩ := v
          obtain ⟨K, hR, hl, hD, hh, hb⟩ := hy
          have r1 := rd.1
          exact y_early G K (rd.2.2.2.1 q) hR r1 hq hf k ex (fun x hx => hh q x (by omega) hx) hh7
end
end
section
/-! the reference's pull -/
theorem r_Di {g : GG} {hd : Nat → Nat → Prop} {R lim p i : Nat} {D : LG} {Fr : Nat → Prop} (G : g_I g) (h : r_D g hd R lim D) (dj : ∀ z, Fr z → ¬ hd p z) (cA : g_cl g (fun z => hd p z ∨ Fr z)) (hp : p < 4) (hi : i ≤ g_m g) : r_D g (g_hd hd p (fun z => Fr z ∧ z < i)) R lim (l_run g p (hd p) Fr D i) := by
  obtain ⟨h1, h2, h3, h4, h5, h6⟩ := h
  have e1 : g_hd hd p (fun z => Fr z ∧ z < i) p = g_up (hd p) Fr i := g_hd_p
  refine ⟨h1, h2, h3, fun r => ?_, fun e he => Or.inl (h5 e he), fun r hr => ?_⟩
  · by_cases k : r = p
    · subst k; rw [e1]; exact g_upcl G (h4 r) cA
    · rw [g_hd_o k]; exact h4 r
  · by_cases k : r = p
    · subst k
      rw [e1, l_run_p dj (h6 r hr) i hi]
    · rw [g_hd_o k, l_run_o k]
      exact h6 r hr
theorem g_hd_ff {hd : Nat → Nat → Prop} {q i : Nat} {Fr : Nat → Prop} (nf : ¬ Fr i) : g_hd hd q (fun z => Fr z ∧ z < i) = g_hd hd q (fun z => Fr z ∧ z < i + 1) := by
  funext r x
  apply propext
  constructor
  · rintro (k | k)
    · exact Or.inl k
    · exact Or.inr ⟨k.1, k.2.1, by have := k.2.2; omega⟩
  · rintro (k | k)
    · exact Or.inl k
    · refine Or.inr ⟨k.1, k.2.1, ?_⟩
      have : x ≠ i := fun e => nf (e ▸ k.2.1)
      have := k.2.2
      omega
theorem g_hd_ft {hd : Nat → Nat → Prop} {q i : Nat} {Fr : Nat → Prop} (f : Fr i) : g_hd (g_hd hd q (fun z => Fr z ∧ z < i)) q (fun z => z = i) = g_hd hd q (fun z => Fr z ∧ z < i + 1) := by
  funext r x
  apply propext
  constructor
  · rintro ((k | k) | k)
    · exact Or.inl k
    · exact Or.inr ⟨k.1, k.2.1, by have := k.2.2; omega⟩
    · have e : x = i := k.2
      exact Or.inr ⟨k.1, e ▸ f, by omega⟩
  · rintro (k | k)
    · exact Or.inl (Or.inl k)
    · by_cases e : x = i
      · exact Or.inr ⟨k.1, e⟩
      · exact Or.inl (Or.inr ⟨k.1, k.2.1, by have := k.2.2; omega⟩)
theorem y_pl29 {g : GG} {hd : Nat → Nat → Prop} {R lim q q2 : Nat} {D : LG} {post : Int32 → SY → Prop} {x3 : Int32} (G : g_I g) (rd : r_D g hd R lim D) (hq : q < R) (hq2 : q2 < R) (h : ∀ v', y_R g (g_hd hd q (fun z => hd q2 z ∧ ¬ hd q z)) R lim (l_run g q (hd q) (fun z => hd q2 z ∧ ¬ hd q z) D (g_m g)) v' → post ((l_run g q (hd q) (fun z => hd q2 z ∧ ¬ hd q z) D (g_m g)).1 q - x3) v') : ∀ (d i n : Nat) (f_replicas : Int32) (f_limit : Int32) (f_made : Int32) (f_orderLength : Int32) (f_rowLength : Int32) (a_author : Nat → Int32) (a_typed : Nat → Int32) (a_stamp : Nat → Int32) (a_link : Nat → Int32) (a_codes : Nat → Int32) (a_history : Nat → Int32) (a_held : Nat → Int32) (a_logEvents : Nat → Int32) (a_logIndices : Nat → Int32) (a_logLength : Nat → Int32) (a_set : Nat → Int32) (a_order : Nat → Int32) (a_row : Nat → Int32), i + d = g_m g → d < n → y_R g (g_hd hd q (fun z => (hd q2 z ∧ ¬ hd q z) ∧ z < i)) R lim (l_run g q (hd q) (fun z => hd q2 z ∧ ¬ hd q z) D i) (f_replicas, f_limit, f_made, f_orderLength, f_rowLength, a_author, a_typed, a_stamp, a_link, a_codes, a_history, a_held, a_logEvents, a_logIndices, a_logLength, a_set, a_order, a_row) → wY_pull_29 post (nI q) (nI q2) x3 n (nI i) f_replicas f_limit f_made f_orderLength f_rowLength a_author a_typed a_stamp a_link a_codes a_history a_held a_logEvents a_logIndices a_logLength a_set a_order a_row := by
  have m32 := g_m32 G
  have r1 := rd.1
  have r4 := rd.2.2.2.1
  have cA : g_cl g (fun z => hd q z ∨ (hd q2 z ∧ ¬ hd q z)) := by
    refine ⟨fun x hx => ?_, fun x y hx hy => ?_⟩
    · rcases hx with k | k
      · exact (r4 q).1 x k
      · exact (r4 q2).1 x k.1
    · rcases hx with k | k
      · exact Or.inl ((r4 q).2 x y k hy)
      · by_cases w : hd q y
        · exact Or.inl w
        · exact Or.inr ⟨(r4 q2).2 x y k.1 hy, w⟩
  intro d
  induction d with
  | zero =>
    intro i n f_replicas f_limit f_made f_orderLength f_rowLength a_author a_typed a_stamp a_link a_codes a_history a_held a_logEvents a_logIndices a_logLength a_set a_order a_row hd' hn hy
    cases n with
    | zero => omega
    | succ n =>
      have ei : i = g_m g := by omega
      subst ei
      have e0 : g_hd hd q (fun z => (hd q2 z ∧ ¬ hd q z) ∧ z < g_m g) = g_hd hd q (fun z => hd q2 z ∧ ¬ hd q z) := by
        funext r x
        apply propext
        constructor
        · rintro (k | k)
          · exact Or.inl k
          · exact Or.inr ⟨k.1, k.2.1⟩
        · rintro (k | k)
          · exact Or.inl k
          · exact Or.inr ⟨k.1, k.2, (r4 q2).1 x k.2.1⟩
      rw [e0] at hy
      have hp := h _ hy
      obtain ⟨K, hR, hl, hD, hh, hb⟩ := hy
      rw [← hD] at hp
      refine br_t (by rw [yg_m K]; exact Int32.le_refl _) (And.intro (vp_in_nI (by omega) (by decide)) ?_)
      rw [eg_cl (n := q) (by omega)]
      exact hp
  | succ d ih =>
    intro i n f_replicas f_limit f_made f_orderLength f_rowLength a_author a_typed a_stamp a_link a_codes a_history a_held a_logEvents a_logIndices a_logLength a_set a_order a_row hd' hn hy
    cases n with
    | zero => omega
    | succ n =>
      have hlt : i < g_m g := by omega
      have hy0 := hy
      obtain ⟨K, hR, hl, hD, hh, hb⟩ := hy
      have h2 : g_hd hd q (fun z => (hd q2 z ∧ ¬ hd q z) ∧ z < i) q2 i ↔ hd q2 i := by
        constructor
        · rintro (k | k)
          · exact k
          · have := k.2.2; omega
        · exact Or.inl
      refine br_f (by rw [yg_m K]; exact nI_ge hlt (by omega)) ?_
      rw [eg_p32, eg_cl (n := q2 * 32 + i) (by omega)]
      refine And.intro (vp_in_nI (by omega) (by decide)) (eg_if (hh q2 i (by omega) (by omega)) (fun w => nm_r (nI_1 i) ?_) (fun w => ?_))
      · have nf : ¬ (hd q2 i ∧ ¬ hd q i) := fun z => w (h2.mpr z.1)
        refine ih (i + 1) n _ _ _ _ _ _ _ _ _ _ _ _ _ _ _ _ _ _ (by omega) (by omega) ?_
        rw [l_run_f nf, ← g_hd_ff (Fr := fun z => hd q2 z ∧ ¬ hd q z) nf]
        exact hy0
      · have hi2 := h2.mp (eg_nn w)
        by_cases k : hd q i
        · have nf : ¬ (hd q2 i ∧ ¬ hd q i) := fun z => z.2 k
          refine y_held G K hR r1 hq hlt (fun z => ((hh q i (by omega) (by omega)).mp z) (Or.inl k)) (nm_r (nI_1 i) ?_)
          refine ih (i + 1) n _ _ _ _ _ _ _ _ _ _ _ _ _ _ _ _ _ _ (by omega) (by omega) ?_
          rw [l_run_f nf, ← g_hd_ff (Fr := fun z => hd q2 z ∧ ¬ hd q z) nf]
          exact hy0
        · have fi : (fun z => hd q2 z ∧ ¬ hd q z) i := ⟨hi2, k⟩
          have rdi := r_Di (p := q) (i := i) (Fr := fun z => hd q2 z ∧ ¬ hd q z) G rd (fun z hz => hz.2) cA (by omega) (by omega)
          have e1 : g_hd hd q (fun z => (hd q2 z ∧ ¬ hd q z) ∧ z < i) q = g_up (hd q) (fun z => hd q2 z ∧ ¬ hd q z) i := g_hd_p
          refine my_take G rdi hy0 hq hlt ?_ ?_ (fun v' k2 => ?_)
          · rintro (z | z)
            · exact k z
            · have := z.2.2; omega
          · intro y hy
            have ly := g_past_lt G hlt hy
            have h3 := (r4 q2).2 i y hi2 hy.1
            by_cases z : hd q y
            · exact Or.inl z
            · exact Or.inr ⟨rfl, ⟨h3, z⟩, ly⟩
          · rw [g_hd_ft (Fr := fun z => hd q2 z ∧ ¬ hd q z) fi, e1, ← l_run_t (Fr := fun z => hd q2 z ∧ ¬ hd q z) fi] at k2
            obtain ⟨f1, f2, f3, f4, f5, b1, b2, b3, b4, b5, b6, b7, b8, b9, b10, b11, b12, b13⟩ := v'
            exact nm_r (nI_1 i) (ih (i + 1) n _ _ _ _ _ _ _ _ _ _ _ _ _ _ _ _ _ _ (by omega) (by omega) k2)
theorem my_pull {g : GG} {hd : Nat → Nat → Prop} {R lim : Nat} {D : LG} {v : SY} {post : Int32 → SY → Prop} {p p2 : Int32} (G : g_I g) (rd : r_D g hd R lim D) (hy : y_R g hd R lim D v) (h2 : (∀ q, q < R → p ≠ nI q) ∨ (∀ q, q < R → p2 ≠ nI q) → post (-2) v) (h : ∀ q q2 v', q < R → p = nI q → q2 < R → p2 = nI q2 → y_R g (g_hd hd q (fun z => hd q2 z ∧ ¬ hd q z)) R lim (l_run g q (hd q) (fun z => hd q2 z ∧ ¬ hd q z) D (g_m g)) v' → post ((l_run g q (hd q) (fun z => hd q2 z ∧ ¬ hd q z) D (g_m g)).1 q - D.1 q) v') : wpY_pull post v p p2 := by
  have m32 := g_m32 G
  have r1 := rd.1
  obtain ⟨f_replicas, f_limit, f_made, f_orderLength, f_rowLength, a_author, a_typed, a_stamp, a_link, a_codes, a_history, a_held, a_logEvents, a_logIndices, a_logLength, a_set, a_order, a_row⟩ := v
  have hy0 := hy
  obtain ⟨K, hR, hl, hD, hh, hb⟩ := hy
  unfold wpY_pull
  dsimp only
  refine y_isReplica hR (by omega) (fun z => br_t rfl (h2 (Or.inl z))) (fun q hq eq => br_f eg_10 ?_)
  refine y_isReplica hR (by omega) (fun z => br_t rfl (h2 (Or.inr z))) (fun q2 hq2 eq2 => br_f eg_10 ?_)
  subst eq eq2
  have e0 : g_hd hd q (fun z => (hd q2 z ∧ ¬ hd q z) ∧ z < 0) = hd := by
    funext r x
    apply propext
    constructor
    · rintro (k | k)
      · exact k
      · have := k.2.2; omega
    · exact Or.inl
  have eD : a_logLength q = D.1 q := by rw [← hD]
  rw [eg_cl (n := q) (by omega), eD]
  refine And.intro (vp_in_nI (by omega) (by decide)) (nm_e ⟨g_m g + 1, ?_⟩)
  refine y_pl29 G rd hq hq2 (fun v' k => h q q2 v' hq rfl hq2 rfl k) (g_m g) 0 (g_m g + 1) _ _ _ _ _ _ _ _ _ _ _ _ _ _ _ _ _ _ (by omega) (by omega) ?_
  rw [e0]
  exact hy0
end
section
/-! what is owed -/
/-- one event graph and one table of held events stand behind both states -/
def i_Rel (k : Nat) (u : SX) (v : SY) : Prop := ∃ (g : GG) (hd : Nat → Nat → Prop) (R lim : Nat) (D : LG), g_I g ∧ r_D g hd R lim D ∧ x_R g hd R lim D u ∧ y_R g hd R lim D v
theorem i_up {k : Nat} {u : SX} {v : SY} (h : i_Rel k u v) : i_Rel (k + 4) u v := h
theorem eg_clamp (k : Int32) {a b : Nat} (h : a ≤ b) (hb : b < 2 ^ 31) : ∃ r, a ≤ r ∧ r ≤ b ∧ ∀ A : Int32 → Prop, A (nI r) → ((nI a ≤ k → ((k ≤ nI b → A k) ∧ (¬ k ≤ nI b → A (nI b)))) ∧ (¬ nI a ≤ k → A (nI a))) := by
  by_cases h1 : nI a ≤ k
  · have k0 : ¬ k < 0 := by
      have := nI_pos' (n := a) (by omega)
      exact Int32.not_lt.mpr (Int32.le_trans this h1)
    obtain ⟨j, hj, e⟩ := nI_of k0
    subst e
    rw [nI_leI (by omega) hj] at h1
    by_cases h2 : nI j ≤ nI b
    · have h2' := (nI_leI hj hb).mp h2
      exact ⟨j, h1, h2', fun A hA => br_t (nI_le h1 hj) (br_t h2 hA)⟩
    · exact ⟨b, h, Nat.le_refl _, fun A hA => br_t (nI_le h1 hj) (br_f h2 hA)⟩
  · exact ⟨a, Nat.le_refl _, h, fun A hA => br_f h1 hA⟩
def g_0 : GG := (0, fun _ => False, fun _ _ => False, fun _ => 0, fun _ => 0, fun _ => 0, fun _ => none, fun _ => [], fun _ => 0)
theorem g_0m {e : Nat} {P : Prop} (h : e < g_m g_0) : P := absurd h (Nat.not_lt_zero e)
theorem g_0I : g_I g_0 := ⟨Nat.zero_le _, fun _ h => g_0m h, fun _ _ h => g_0m h, fun _ _ _ h => g_0m h, fun _ h => g_0m h, fun _ _ h => g_0m h, fun _ _ h => g_0m h, fun _ h => g_0m h, fun _ h => g_0m h⟩
theorem eg_rel0 {R lim : Nat} (hR : R ≤ 4) (hl : lim ≤ 32) : i_Rel 2 (32, 4, nI R, nI lim, 0, 0, 0, 0, (fun _ => 0), (fun _ => 0), (fun _ => 0), (fun _ => 0), (fun _ => 0), (fun _ => 0), (fun _ => 0), (fun _ => 0), (fun _ => 0), (fun _ => 0), (fun _ => 0), (fun _ => 0), (fun _ => 0), (fun _ => 0), (fun _ => 0), (fun _ => 0), (fun _ => 0)) (nI R, nI lim, 0, 0, 0, (fun _ => 0), (fun _ => 0), (fun _ => 0), (fun _ => 0), (fun _ => 0), (fun _ => 0), (fun _ => 0), (fun _ => 0), (fun _ => 0), (fun _ => 0), (fun _ => 0), (fun _ => 0), (fun _ => 0)) := by
  refine ⟨g_0, fun _ _ => False, R, lim, ((fun _ => 0), (fun _ => 0), (fun _ => 0)), g_0I, ⟨hR, hl, Nat.zero_le _, fun p => ⟨fun _ h => h.elim, fun _ _ h => h.elim⟩, fun _ h => g_0m h, fun p _ => rfl⟩, ⟨⟨rfl, fun _ h => g_0m h, fun _ h => g_0m h, fun _ => rfl, fun _ h => g_0m h, fun _ h => g_0m h, fun _ h => g_0m h, fun _ h => g_0m h, fun _ h => g_0m h⟩, rfl, rfl, rfl, ?_, ?_, fun _ => rfl⟩, ⟨⟨rfl, fun _ h => g_0m h, fun _ h => g_0m h, fun _ h => g_0m h, fun _ h => g_0m h, fun _ h => g_0m h, fun _ h => g_0m h, ?_⟩, rfl, rfl, rfl, ?_, ?_⟩⟩
  · intro p _ x _
    exact ⟨fun k => absurd k (eg_mem_0 x), fun k => k.elim⟩
  · intro p _
    exact ⟨[], ⟨List.Pairwise.nil, fun x => ⟨fun k => absurd k (by simp), fun k => k.2.1.elim⟩⟩, rfl, fun i w k => absurd k (by simp)⟩
  · intro e x _ _
    exact ⟨fun _ k => g_0m k.1, fun _ => rfl⟩
  · intro p x _ _
    exact ⟨fun _ k => k, fun _ => rfl⟩
  · intro j
    show vp_nar .boolean 0 = 0
    rfl
theorem eg_xclamp {post : Int32 → Prop} {u : SX} {k : Int32} {a b r : Nat} (hA : ∀ A : Int32 → Prop, A (nI r) → ((nI a ≤ k → ((k ≤ nI b → A k) ∧ (¬ k ≤ nI b → A (nI b)))) ∧ (¬ nI a ≤ k → A (nI a)))) (h : post (nI r)) : wpX_clamp post u k (nI a) (nI b) := by
  obtain ⟨f_room, f_spare, f_replicaCount, f_eventLimit, f_made, f_whole, f_prepared, f_rowLength, a_deletes, a_letter, a_typed, a_author, a_stamp, a_history, a_parents, a_held, a_logLength, a_logEvents, a_logIndices, a_textLength, a_texts, a_row, a_prep, a_gone, a_itemOf⟩ := u
  exact hA post h
theorem i_vc0 (k0 : Int32) (k1 : Int32) : wpX_init (fun u => wpY_init (fun v => i_Rel 2 u v) k0 k1) k0 k1 := by
  obtain ⟨R, a1, a2, hR⟩ := eg_clamp k0 (a := 2) (b := 4) (by omega) (by decide)
  obtain ⟨lim, b1, b2, hL⟩ := eg_clamp k1 (a := 8) (b := 32) (by omega) (by decide)
  unfold wpX_init
  refine eg_xclamp hR ?_
  refine eg_xclamp hL ?_
  unfold wpY_init
  refine hR (fun z => wY_init_131 _ k1 z 0 0 0 0 0 _ _ _ _ _ _ _ _ _ _ _ _ _) ?_
  unfold wY_init_131
  exact hL (fun z => i_Rel 2 _ (nI R, z, 0, 0, 0, _, _, _, _, _, _, _, _, _, _, _, _, _)) (eg_rel0 a2 b2)
theorem eg_nq {a b : Nat} (h : nI a = nI b) (ha : a < 1000) (hb : b < 1000) : a = b := (nI_eq (by omega) (by omega)).mp h
theorem i_vc_insert {k : Nat} {u : SX} {v : SY} (I : i_Rel k u v) (hk : k + 4 ≤ 2050) (v1 : Int32) (v2 : Int32) (v3 : Int32) : wpX_insert (fun r u' => wpY_insert (fun r' v' => r' = r ∧ i_Rel (k + 4) u' v') v v1 v2 (lw_u16 v3)) u v1 v2 (lw_u16 v3) := by
  obtain ⟨g, hd, R, lim, D, G, rd, hx, hy⟩ := I
  have r1 := rd.1
  have r2 := rd.2.1
  have r4 := rd.2.2.2.1
  have r5 := rd.2.2.2.2.1
  have rel : ∀ u' v', x_R g hd R lim D u' → y_R g hd R lim D v' → i_Rel (k + 4) u' v' := fun u' v' a b => ⟨g, hd, R, lim, D, G, rd, a, b⟩
  have hcc : vp_nar .char (lw_u16 v3) = lw_u16 v3 := pk_vc v3
  have h8 : lw_u16 v3 ≠ -8 := by
    intro z
    have := (lw_u16_r v3).1
    rw [z] at this
    exact absurd this (by decide)
  refine mx_insert G rd hx (fun z => ?_) (fun q hq e w => ?_) (fun q t hq e w ht nz => ?_) (fun q t idx hq e w ht hidx ei post' hpost => ?_)
  · exact my_insert G rd hy (fun _ => ⟨rfl, rel u v hx hy⟩) (fun q v' hq e => absurd e (z q hq)) (fun q t v' hq e => absurd e (z q hq)) (fun q t idx lk v' hq e => absurd e (z q hq))
  · exact my_insert G rd hy (fun z => absurd e (z q hq)) (fun q' v' hq' e' w' yr => ⟨rfl, rel u v' hx yr⟩) (fun q' t v' hq' e' w' => absurd w' w) (fun q' t idx lk v' hq' e' w' => absurd w' w)
  · refine my_insert G rd hy (fun z => absurd e (z q hq)) (fun q' v' hq' e' w' => absurd w w') (fun q' t v' hq' e' w' _ _ yr => ⟨rfl, rel u v' hx yr⟩) (fun q' t' idx lk v' hq' e' w' ht' hidx ei => ?_)
    have eq : q = q' := eg_nq (e.symm.trans e') (by omega) (by omega)
    subst eq
    have et := eg_Lu ht ht'
    subst et
    exact absurd ei (nz idx hidx)
  · have tl := g_Tlen G (r4 q).1 ht
    have lkx : ∃ lk, (none :: t.map some)[idx]? = some lk := ⟨_, List.getElem?_eq_getElem (by simp; omega)⟩
    obtain ⟨lk, hlk⟩ := lkx
    refine mx_make (d := False) (lk := lk) G rd hx hq w ht hidx (Or.inl ⟨rfl, fun z => z⟩) hcc (fun z => z.elim) (fun _ => hlk) (fun vv u' p1 p2 p3 p4 xr => hpost _ _ ?_)
    refine my_insert G rd hy (fun z => absurd e (z q hq)) (fun q' v' hq' e' w' => absurd w w') (fun q' t' v' hq' e' w' ht' nz => ?_) (fun q' t' idx' lk' v' hq' e' w' ht' hidx' ei' hlk' yr post'' hpost'' => ?_)
    · have eq : q = q' := eg_nq (e.symm.trans e') (by omega) (by omega)
      subst eq
      have et := eg_Lu ht ht'
      subst et
      exact absurd ei (nz idx hidx)
    · have eq : q = q' := eg_nq (e.symm.trans e') (by omega) (by omega)
      subst eq
      have et := eg_Lu ht ht'
      subst et
      have eidx : idx = idx' := eg_nq (ei.symm.trans ei') (by omega) (by omega)
      subst eidx
      rw [hlk] at hlk'
      have elk : lk = lk' := by simpa using hlk'
      subst elk
      refine my_make (d := False) (c := lw_u16 v3) G rd yr hq w (Or.inr ⟨fun z => z, rfl, h8⟩) (fun ww v'' s1 s2 s3 yr' => hpost'' _ _ ⟨rfl, ?_⟩)
      have ev := eg_vmax (S := hd q) p1 p3 p4 s1 s2 s3
      subst ev
      have G' : g_I (g_ext g (hd q) False q idx vv lk (lw_u16 v3)) := ge_I G (r4 q) (by omega) (by omega) (by omega) p1 p2 (fun x hx => p3 x ((r4 q).1 x hx) hx) (fun e he ha => ha ▸ r5 e he) ht (fun z => z.elim) (fun _ => hlk)
      exact ⟨_, _, R, lim, _, G', r_Dm rd hq w, xr, yr'⟩
theorem i_vc_delete {k : Nat} {u : SX} {v : SY} (I : i_Rel k u v) (hk : k + 4 ≤ 2050) (v1 : Int32) (v2 : Int32) : wpX_delete (fun r u' => wpY_delete (fun r' v' => r' = r ∧ i_Rel (k + 4) u' v') v v1 v2) u v1 v2 := by
  obtain ⟨g, hd, R, lim, D, G, rd, hx, hy⟩ := I
  have r1 := rd.1
  have r2 := rd.2.1
  have r4 := rd.2.2.2.1
  have r5 := rd.2.2.2.2.1
  have rel : ∀ u' v', x_R g hd R lim D u' → y_R g hd R lim D v' → i_Rel (k + 4) u' v' := fun u' v' a b => ⟨g, hd, R, lim, D, G, rd, a, b⟩
  refine mx_delete G rd hx (fun z => ?_) (fun q hq e w => ?_) (fun q t hq e w ht nz => ?_) (fun q t idx hq e w ht hidx ei post' hpost => ?_)
  · exact my_delete G rd hy (fun _ => ⟨rfl, rel u v hx hy⟩) (fun q v' hq e => absurd e (z q hq)) (fun q t v' hq e => absurd e (z q hq)) (fun q t idx a v' hq e => absurd e (z q hq))
  · exact my_delete G rd hy (fun z => absurd e (z q hq)) (fun q' v' hq' e' w' yr => ⟨rfl, rel u v' hx yr⟩) (fun q' t v' hq' e' w' => absurd w' w) (fun q' t idx a v' hq' e' w' => absurd w' w)
  · refine my_delete G rd hy (fun z => absurd e (z q hq)) (fun q' v' hq' e' w' => absurd w w') (fun q' t v' hq' e' w' _ _ yr => ⟨rfl, rel u v' hx yr⟩) (fun q' t' idx a v' hq' e' w' ht' hidx ei => ?_)
    have eq : q = q' := eg_nq (e.symm.trans e') (by omega) (by omega)
    subst eq
    have et := eg_Lu ht ht'
    subst et
    exact absurd ei (nz idx hidx)
  · have tl := g_Tlen G (r4 q).1 ht
    have lkx : ∃ a, t[idx]? = some a := ⟨_, List.getElem?_eq_getElem hidx⟩
    obtain ⟨a, hlk⟩ := lkx
    refine mx_make (d := True) (lk := some a) G rd hx hq w ht (by omega) (Or.inr ⟨rfl, trivial⟩) rfl (fun _ => ⟨hlk, by simp⟩) (fun z => absurd trivial z) (fun vv u' p1 p2 p3 p4 xr => hpost _ _ ?_)
    refine my_delete G rd hy (fun z => absurd e (z q hq)) (fun q' v' hq' e' w' => absurd w w') (fun q' t' v' hq' e' w' ht' nz => ?_) (fun q' t' idx' a' v' hq' e' w' ht' hidx' ei' hlk' yr post'' hpost'' => ?_)
    · have eq : q = q' := eg_nq (e.symm.trans e') (by omega) (by omega)
      subst eq
      have et := eg_Lu ht ht'
      subst et
      exact absurd ei (nz idx hidx)
    · have eq : q = q' := eg_nq (e.symm.trans e') (by omega) (by omega)
      subst eq
      have et := eg_Lu ht ht'
      subst et
      have eidx : idx = idx' := eg_nq (ei.symm.trans ei') (by omega) (by omega)
      subst eidx
      rw [hlk] at hlk'
      have elk : a = a' := by simpa using hlk'
      subst elk
      refine my_make (d := True) (c := 0) G rd yr hq w (Or.inl ⟨trivial, rfl⟩) (fun ww v'' s1 s2 s3 yr' => hpost'' _ _ ⟨rfl, ?_⟩)
      have ev := eg_vmax (S := hd q) p1 p3 p4 s1 s2 s3
      subst ev
      have G' : g_I (g_ext g (hd q) True q idx vv (some a) 0) := ge_I G (r4 q) (by omega) (by omega) (by omega) p1 p2 (fun x hx => p3 x ((r4 q).1 x hx) hx) (fun e he ha => ha ▸ r5 e he) ht (fun _ => ⟨hlk, by simp⟩) (fun z => absurd trivial z)
      exact ⟨_, _, R, lim, _, G', r_Dm rd hq w, xr, yr'⟩
theorem i_vc_receive {k : Nat} {u : SX} {v : SY} (I : i_Rel k u v) (hk : k + 4 ≤ 2050) (v1 : Int32) (v2 : Int32) : wpX_receive (fun r u' => wpY_receive (fun r' v' => r' = r ∧ i_Rel (k + 4) u' v') v v1 v2) u v1 v2 := by
  obtain ⟨g, hd, R, lim, D, G, rd, hx, hy⟩ := I
  have r1 := rd.1
  have r4 := rd.2.2.2.1
  have m32 := g_m32 G
  have rel : ∀ u' v', x_R g hd R lim D u' → y_R g hd R lim D v' → i_Rel (k + 4) u' v' := fun u' v' a b => ⟨g, hd, R, lim, D, G, rd, a, b⟩
  refine mx_receive G rd hx (fun z => ?_) (fun q hq e z => ?_) (fun q f hq e hf ef hh => ?_) (fun q f hq e hf ef nh hp => ?_) (fun q f u' hq e hf ef nh hp xr => ?_)
  · exact my_receive G rd hy (fun _ => ⟨rfl, rel u v hx hy⟩) (fun q hq e => absurd e (z q hq)) (fun q f hq e => absurd e (z q hq)) (fun q f hq e => absurd e (z q hq)) (fun q f v' hq e => absurd e (z q hq))
  · exact my_receive G rd hy (fun z2 => absurd e (z2 q hq)) (fun q hq e _ => ⟨rfl, rel u v hx hy⟩) (fun q f hq e hf ef => absurd ef (z f hf)) (fun q f hq e hf ef => absurd ef (z f hf)) (fun q f v' hq e hf ef => absurd ef (z f hf))
  · refine my_receive G rd hy (fun z2 => absurd e (z2 q hq)) (fun q hq e z => absurd ef (z f hf)) (fun _ _ _ _ _ _ _ => ⟨rfl, rel u v hx hy⟩) (fun q' f' hq' e' hf' ef' nh => ?_) (fun q' f' v' hq' e' hf' ef' nh => ?_)
    · have eq : q = q' := eg_nq (e.symm.trans e') (by omega) (by omega)
      have ef2 : f = f' := eg_nq (ef.symm.trans ef') (by omega) (by omega)
      subst eq ef2
      exact absurd hh nh
    · have eq : q = q' := eg_nq (e.symm.trans e') (by omega) (by omega)
      have ef2 : f = f' := eg_nq (ef.symm.trans ef') (by omega) (by omega)
      subst eq ef2
      exact absurd hh nh
  · refine my_receive G rd hy (fun z2 => absurd e (z2 q hq)) (fun q hq e z => absurd ef (z f hf)) (fun q' f' hq' e' hf' ef' hh => ?_) (fun _ _ _ _ _ _ _ _ => ⟨rfl, rel u v hx hy⟩) (fun q' f' v' hq' e' hf' ef' nh' hp' => ?_)
    · have eq : q = q' := eg_nq (e.symm.trans e') (by omega) (by omega)
      have ef2 : f = f' := eg_nq (ef.symm.trans ef') (by omega) (by omega)
      subst eq ef2
      exact absurd hh nh
    · have eq : q = q' := eg_nq (e.symm.trans e') (by omega) (by omega)
      have ef2 : f = f' := eg_nq (ef.symm.trans ef') (by omega) (by omega)
      subst eq ef2
      obtain ⟨y, y1, y2⟩ := hp
      exact absurd (hp' y y1) y2
  · refine my_receive G rd hy (fun z2 => absurd e (z2 q hq)) (fun q hq e z => absurd ef (z f hf)) (fun q' f' hq' e' hf' ef' hh => ?_) (fun q' f' hq' e' hf' ef' nh' hp' => ?_) (fun q' f' v' hq' e' hf' ef' nh' hp' yr => ?_)
    · have eq : q = q' := eg_nq (e.symm.trans e') (by omega) (by omega)
      have ef2 : f = f' := eg_nq (ef.symm.trans ef') (by omega) (by omega)
      subst eq ef2
      exact absurd hh nh
    · have eq : q = q' := eg_nq (e.symm.trans e') (by omega) (by omega)
      have ef2 : f = f' := eg_nq (ef.symm.trans ef') (by omega) (by omega)
      subst eq ef2
      obtain ⟨y, y1, y2⟩ := hp'
      exact absurd (hp y y1) y2
    · have eq : q = q' := eg_nq (e.symm.trans e') (by omega) (by omega)
      have ef2 : f = f' := eg_nq (ef.symm.trans ef') (by omega) (by omega)
      subst eq ef2
      refine ⟨rfl, g, _, R, lim, _, G, r_Dt rd (by omega) (fun z hz => ?_) (g_addcl (r4 q) hf (g_parents G (r4 q) hf hp)), xr, ?_⟩
      · have hz' : z = f := hz
        subst hz'
        exact nh
      · rw [l_run_one hf]
        exact yr
theorem i_vc_pull {k : Nat} {u : SX} {v : SY} (I : i_Rel k u v) (hk : k + 4 ≤ 2050) (v1 : Int32) (v2 : Int32) : wpX_pull (fun r u' => wpY_pull (fun r' v' => r' = r ∧ i_Rel (k + 4) u' v') v v1 v2) u v1 v2 := by
  obtain ⟨g, hd, R, lim, D, G, rd, hx, hy⟩ := I
  have r1 := rd.1
  have r4 := rd.2.2.2.1
  have rel : ∀ u' v', x_R g hd R lim D u' → y_R g hd R lim D v' → i_Rel (k + 4) u' v' := fun u' v' a b => ⟨g, hd, R, lim, D, G, rd, a, b⟩
  refine mx_pull G rd hx (fun z => ?_) (fun q q2 u' hq e hq2 e2 xr => ?_)
  · refine my_pull G rd hy (fun _ => ⟨rfl, rel u v hx hy⟩) (fun q q2 v' hq e hq2 e2 => ?_)
    rcases z with z | z
    · exact absurd e (z q hq)
    · exact absurd e2 (z q2 hq2)
  · refine my_pull G rd hy (fun z => ?_) (fun q' q2' v' hq' e' hq2' e2' yr => ?_)
    · rcases z with z | z
      · exact absurd e (z q hq)
      · exact absurd e2 (z q2 hq2)
    · have eq : q = q' := eg_nq (e.symm.trans e') (by omega) (by omega)
      have eq2 : q2 = q2' := eg_nq (e2.symm.trans e2') (by omega) (by omega)
      subst eq eq2
      refine ⟨rfl, g, _, R, lim, _, G, r_Dt rd (by omega) (fun z hz => hz.2) ⟨fun x hx => ?_, fun x y hx hy => ?_⟩, xr, yr⟩
      · rcases hx with w | w
        · exact (r4 q).1 x w
        · exact (r4 q2).1 x w.1
      · rcases hx with w | w
        · exact Or.inl ((r4 q).2 x y w hy)
        · by_cases z : hd q y
          · exact Or.inl z
          · exact Or.inr ⟨(r4 q2).2 x y w.1 hy, z⟩
theorem i_vc_length {k : Nat} {u : SX} {v : SY} (I : i_Rel k u v) (hk : k + 4 ≤ 2050) (v1 : Int32) : wpX_length (fun r => wpY_length (fun r' v' => r' = r ∧ i_Rel (k + 4) u v') v v1) u v1 := by
  obtain ⟨g, hd, R, lim, D, G, rd, hx, hy⟩ := I
  have r1 := rd.1
  have rel : ∀ u' v', x_R g hd R lim D u' → y_R g hd R lim D v' → i_Rel (k + 4) u' v' := fun u' v' a b => ⟨g, hd, R, lim, D, G, rd, a, b⟩
  refine mx_length G rd hx (fun z => ?_) (fun q t hq e ht => ?_)
  · exact my_length G rd hy (fun _ => ⟨rfl, rel u v hx hy⟩) (fun q t v' hq e => absurd e (z q hq))
  · refine my_length G rd hy (fun z => absurd e (z q hq)) (fun q' t' v' hq' e' ht' yr => ?_)
    have eq : q = q' := eg_nq (e.symm.trans e') (by omega) (by omega)
    subst eq
    have et := eg_Lu ht ht'
    subst et
    exact ⟨rfl, rel u v' hx yr⟩
theorem i_vc_charAt {k : Nat} {u : SX} {v : SY} (I : i_Rel k u v) (hk : k + 4 ≤ 2050) (v1 : Int32) (v2 : Int32) : wpX_charAt (fun r => wpY_charAt (fun r' v' => r' = r ∧ i_Rel (k + 4) u v') v v1 v2) u v1 v2 := by
  obtain ⟨g, hd, R, lim, D, G, rd, hx, hy⟩ := I
  have r1 := rd.1
  have r4 := rd.2.2.2.1
  have rel : ∀ u' v', x_R g hd R lim D u' → y_R g hd R lim D v' → i_Rel (k + 4) u' v' := fun u' v' a b => ⟨g, hd, R, lim, D, G, rd, a, b⟩
  refine mx_charAt G rd hx (fun z => ?_) (fun q t hq e ht nz => ?_) (fun q t j w hq e ht ej hj => ?_)
  · exact my_charAt G rd hy (fun _ => ⟨rfl, rel u v hx hy⟩) (fun q t v' hq e => absurd e (z q hq)) (fun q t j w v' hq e => absurd e (z q hq))
  · refine my_charAt G rd hy (fun z => absurd e (z q hq)) (fun q' t' v' hq' e' ht' nz' yr => ⟨rfl, rel u v' hx yr⟩) (fun q' t' j w v' hq' e' ht' ej hj yr => ?_)
    have eq : q = q' := eg_nq (e.symm.trans e') (by omega) (by omega)
    subst eq
    have et := eg_Lu ht ht'
    subst et
    exact absurd ej (nz j (List.getElem?_eq_some_iff.mp hj).1)
  · have tl := g_Tlen G (r4 q).1 ht
    have lj := (List.getElem?_eq_some_iff.mp hj).1
    refine my_charAt G rd hy (fun z => absurd e (z q hq)) (fun q' t' v' hq' e' ht' nz' yr => ?_) (fun q' t' j' w' v' hq' e' ht' ej' hj' yr => ?_)
    · have eq : q = q' := eg_nq (e.symm.trans e') (by omega) (by omega)
      subst eq
      have et := eg_Lu ht ht'
      subst et
      exact absurd ej (nz' j lj)
    · have eq : q = q' := eg_nq (e.symm.trans e') (by omega) (by omega)
      subst eq
      have et := eg_Lu ht ht'
      subst et
      have lj' := (List.getElem?_eq_some_iff.mp hj').1
      have ejj : j = j' := eg_nq (ej.symm.trans ej') (by omega) (by omega)
      subst ejj
      rw [hj] at hj'
      have ew : w = w' := by simpa using hj'
      subst ew
      exact ⟨rfl, rel u v' hx yr⟩
theorem i_vc_holds {k : Nat} {u : SX} {v : SY} (I : i_Rel k u v) (hk : k + 4 ≤ 2050) (v1 : Int32) (v2 : Int32) : wpX_holds (fun r => wpY_holds (fun r' => r' = r ∧ i_Rel (k + 4) u v) v v1 v2) u v1 v2 := by
  have I0 := I
  obtain ⟨g, hd, R, lim, D, G, rd, hx, hy⟩ := I
  refine mx_holds G rd hx (fun z => ?_) (fun q f h1 h2 h3 h4 h5 => ?_)
  · exact my_holds G rd hy (fun _ => ⟨rfl, I0⟩) (fun q f h1 h2 h3 h4 h5 => absurd h5 (z q f h1 h2 h3 h4))
  · exact my_holds G rd hy (fun z => absurd h5 (z q f h1 h2 h3 h4)) (fun _ _ _ _ _ _ _ => ⟨rfl, I0⟩)
theorem i_vc_logEvent {k : Nat} {u : SX} {v : SY} (I : i_Rel k u v) (hk : k + 4 ≤ 2050) (v1 : Int32) (v2 : Int32) : wpX_logEvent (fun r => wpY_logEvent (fun r' => r' = r ∧ i_Rel (k + 4) u v) v v1 v2) u v1 v2 := by
  have I0 := I
  obtain ⟨g, hd, R, lim, D, G, rd, hx, hy⟩ := I
  have r1 := rd.1
  have m32 := g_m32 G
  refine mx_logEvent G rd hx (fun z => ?_) (fun q hq e nz => ?_) (fun q j hq e hj ej => ?_)
  · exact my_logEvent G rd hy (fun _ => ⟨rfl, I0⟩) (fun q hq e => absurd e (z q hq)) (fun q j hq e => absurd e (z q hq))
  · refine my_logEvent G rd hy (fun z => absurd e (z q hq)) (fun _ _ _ _ => ⟨rfl, I0⟩) (fun q' j hq' e' hj ej => ?_)
    have eq : q = q' := eg_nq (e.symm.trans e') (by omega) (by omega)
    subst eq
    exact absurd ej (nz j hj)
  · have cl := eg_cnt_le (hd q) (g_m g)
    refine my_logEvent G rd hy (fun z => absurd e (z q hq)) (fun q' hq' e' nz => ?_) (fun q' j' hq' e' hj' ej' => ?_)
    · have eq : q = q' := eg_nq (e.symm.trans e') (by omega) (by omega)
      subst eq
      exact absurd ej (nz j hj)
    · have eq : q = q' := eg_nq (e.symm.trans e') (by omega) (by omega)
      subst eq
      have ejj : j = j' := eg_nq (ej.symm.trans ej') (by omega) (by omega)
      subst ejj
      exact ⟨rfl, I0⟩
theorem i_vc_logIndex {k : Nat} {u : SX} {v : SY} (I : i_Rel k u v) (hk : k + 4 ≤ 2050) (v1 : Int32) (v2 : Int32) : wpX_logIndex (fun r => wpY_logIndex (fun r' => r' = r ∧ i_Rel (k + 4) u v) v v1 v2) u v1 v2 := by
  have I0 := I
  obtain ⟨g, hd, R, lim, D, G, rd, hx, hy⟩ := I
  have r1 := rd.1
  have m32 := g_m32 G
  refine mx_logIndex G rd hx (fun z => ?_) (fun q hq e nz => ?_) (fun q j hq e hj ej => ?_)
  · exact my_logIndex G rd hy (fun _ => ⟨rfl, I0⟩) (fun q hq e => absurd e (z q hq)) (fun q j hq e => absurd e (z q hq))
  · refine my_logIndex G rd hy (fun z => absurd e (z q hq)) (fun _ _ _ _ => ⟨rfl, I0⟩) (fun q' j hq' e' hj ej => ?_)
    have eq : q = q' := eg_nq (e.symm.trans e') (by omega) (by omega)
    subst eq
    exact absurd ej (nz j hj)
  · have cl := eg_cnt_le (hd q) (g_m g)
    refine my_logIndex G rd hy (fun z => absurd e (z q hq)) (fun q' hq' e' nz => ?_) (fun q' j' hq' e' hj' ej' => ?_)
    · have eq : q = q' := eg_nq (e.symm.trans e') (by omega) (by omega)
      subst eq
      exact absurd ej (nz j hj)
    · have eq : q = q' := eg_nq (e.symm.trans e') (by omega) (by omega)
      subst eq
      have ejj : j = j' := eg_nq (ej.symm.trans ej') (by omega) (by omega)
      subst ejj
      exact ⟨rfl, I0⟩
theorem i_vc_authorOf {k : Nat} {u : SX} {v : SY} (I : i_Rel k u v) (hk : k + 4 ≤ 2050) (v1 : Int32) : wpX_authorOf (fun r => wpY_authorOf (fun r' => r' = r ∧ i_Rel (k + 4) u v) v v1) u v1 := by
  have I0 := I
  obtain ⟨g, hd, R, lim, D, G, rd, hx, hy⟩ := I
  have m32 := g_m32 G
  refine mx_authorOf G hx (fun z => ?_) (fun f hf e => ?_)
  · exact my_authorOf G hy (fun _ => ⟨rfl, I0⟩) (fun f hf e => absurd e (z f hf))
  · refine my_authorOf G hy (fun z => absurd e (z f hf)) (fun f' hf' e' => ?_)
    have ef : f = f' := eg_nq (e.symm.trans e') (by omega) (by omega)
    subst ef
    exact ⟨rfl, I0⟩
theorem i_vc_indexOf {k : Nat} {u : SX} {v : SY} (I : i_Rel k u v) (hk : k + 4 ≤ 2050) (v1 : Int32) : wpX_indexOf (fun r => wpY_indexOf (fun r' => r' = r ∧ i_Rel (k + 4) u v) v v1) u v1 := by
  have I0 := I
  obtain ⟨g, hd, R, lim, D, G, rd, hx, hy⟩ := I
  have m32 := g_m32 G
  refine mx_indexOf G hx (fun z => ?_) (fun f hf e => ?_)
  · exact my_indexOf G hy (fun _ => ⟨rfl, I0⟩) (fun f hf e => absurd e (z f hf))
  · refine my_indexOf G hy (fun z => absurd e (z f hf)) (fun f' hf' e' => ?_)
    have ef : f = f' := eg_nq (e.symm.trans e') (by omega) (by omega)
    subst ef
    exact ⟨rfl, I0⟩
theorem i_vc_charOf {k : Nat} {u : SX} {v : SY} (I : i_Rel k u v) (hk : k + 4 ≤ 2050) (v1 : Int32) : wpX_charOf (fun r => wpY_charOf (fun r' => r' = r ∧ i_Rel (k + 4) u v) v v1) u v1 := by
  have I0 := I
  obtain ⟨g, hd, R, lim, D, G, rd, hx, hy⟩ := I
  have m32 := g_m32 G
  refine mx_charOf G hx (fun z => ?_) (fun f hf e d => ?_) (fun f hf e d => ?_)
  · exact my_charOf G hy (fun _ => ⟨rfl, I0⟩) (fun f hf e => absurd e (z f hf)) (fun f hf e => absurd e (z f hf))
  · refine my_charOf G hy (fun z => absurd e (z f hf)) (fun _ _ _ _ => ⟨rfl, I0⟩) (fun f' hf' e' d' => ?_)
    have ef : f = f' := eg_nq (e.symm.trans e') (by omega) (by omega)
    subst ef
    exact absurd d d'
  · refine my_charOf G hy (fun z => absurd e (z f hf)) (fun f' hf' e' d' => ?_) (fun f' hf' e' d' => ?_)
    · have ef : f = f' := eg_nq (e.symm.trans e') (by omega) (by omega)
      subst ef
      exact absurd d' d
    · have ef : f = f' := eg_nq (e.symm.trans e') (by omega) (by omega)
      subst ef
      exact ⟨rfl, I0⟩
theorem eg_cnt_mono {p : Nat → Prop} {x : Nat} (hp : p x) : ∀ y, x < y → eg_cnt p x < eg_cnt p y := by
  intro y
  induction y with
  | zero => intro h; omega
  | succ y ih =>
    intro h
    show eg_cnt p x < eg_cnt p y + eg_b (p y)
    by_cases q : x = y
    · subst q; rw [eg_b1 hp]; omega
    · have := ih (by omega); omega
theorem i_vc_parentOf {k : Nat} {u : SX} {v : SY} (I : i_Rel k u v) (hk : k + 4 ≤ 2050) (v1 : Int32) (v2 : Int32) : wpX_parentOf (fun r => wpY_parentOf (fun r' => r' = r ∧ i_Rel (k + 4) u v) v v1 v2) u v1 v2 := by
  have I0 := I
  obtain ⟨g, hd, R, lim, D, G, rd, hx, hy⟩ := I
  have m32 := g_m32 G
  refine mx_parentOf G hx (fun z => ?_) (fun f hf e nz => ?_) (fun f x hf e hx' hp ex => ?_)
  · exact my_parentOf G hy (fun _ => ⟨rfl, I0⟩) (fun f hf e => absurd e (z f hf)) (fun f x hf e => absurd e (z f hf))
  · refine my_parentOf G hy (fun z => absurd e (z f hf)) (fun _ _ _ _ => ⟨rfl, I0⟩) (fun f' x hf' e' hx' hp ex => ?_)
    have ef : f = f' := eg_nq (e.symm.trans e') (by omega) (by omega)
    subst ef
    exact absurd ex (nz x hx' hp)
  · refine my_parentOf G hy (fun z => absurd e (z f hf)) (fun f' hf' e' nz => ?_) (fun f' x' hf' e' hx'' hp' ex' => ?_)
    · have ef : f = f' := eg_nq (e.symm.trans e') (by omega) (by omega)
      subst ef
      exact absurd ex (nz x hx' hp)
    · have ef : f = f' := eg_nq (e.symm.trans e') (by omega) (by omega)
      subst ef
      have c1 := eg_cnt_le (g_par g f) x
      have c2 := eg_cnt_le (g_par g f) x'
      have ec : eg_cnt (g_par g f) x = eg_cnt (g_par g f) x' := eg_nq (ex.trans ex'.symm) (by omega) (by omega)
      have exx : x = x' := by
        by_cases l1 : x < x'
        · have := eg_cnt_mono hp x' l1; omega
        · by_cases l2 : x' < x
          · have := eg_cnt_mono hp' x l2; omega
          · omega
      subst exx
      exact ⟨rfl, I0⟩
theorem i_vc_isCritical {k : Nat} {u : SX} {v : SY} (I : i_Rel k u v) (hk : k + 4 ≤ 2050) (v1 : Int32) (v2 : Int32) : wpX_isCritical (fun r => wpY_isCritical (fun r' => r' = r ∧ i_Rel (k + 4) u v) v v1 v2) u v1 v2 := by
  have I0 := I
  obtain ⟨g, hd, R, lim, D, G, rd, hx, hy⟩ := I
  refine mx_isCritical G rd hx (fun z => ?_) (fun q f h1 h2 h3 h4 h5 h6 => ?_)
  · exact my_isCritical G rd hy (fun _ => ⟨rfl, I0⟩) (fun q f h1 h2 h3 h4 h5 h6 => absurd h6 (z q f h1 h2 h3 h4 h5))
  · exact my_isCritical G rd hy (fun z => absurd h6 (z q f h1 h2 h3 h4 h5)) (fun _ _ _ _ _ _ _ _ => ⟨rfl, I0⟩)
theorem i_vc_mergedLength {k : Nat} {u : SX} {v : SY} (I : i_Rel k u v) (hk : k + 4 ≤ 2050) (v1 : Int32) (v2 : Int32) : wpX_mergedLength (fun r u' => wpY_mergedLength (fun r' v' => r' = r ∧ i_Rel (k + 4) u' v') v v1 v2) u v1 v2 := by
  obtain ⟨g, hd, R, lim, D, G, rd, hx, hy⟩ := I
  have m32 := g_m32 G
  have rel : ∀ u' v', x_R g hd R lim D u' → y_R g hd R lim D v' → i_Rel (k + 4) u' v' := fun u' v' a b => ⟨g, hd, R, lim, D, G, rd, a, b⟩
  refine mx_mergedLength G rd hx (fun z => ?_) (fun a b t u' ha ea hb eb ht xr => ?_)
  · refine my_mergedLength G hy (fun _ => ⟨rfl, rel u v hx hy⟩) (fun a b t v' ha ea hb eb => ?_)
    rcases z with z | z
    · exact absurd ea (z a ha)
    · exact absurd eb (z b hb)
  · refine my_mergedLength G hy (fun z => ?_) (fun a' b' t' v' ha' ea' hb' eb' ht' yr => ?_)
    · rcases z with z | z
      · exact absurd ea (z a ha)
      · exact absurd eb (z b hb)
    · have e1 : a = a' := eg_nq (ea.symm.trans ea') (by omega) (by omega)
      have e2 : b = b' := eg_nq (eb.symm.trans eb') (by omega) (by omega)
      subst e1 e2
      have et := eg_Lu ht ht'
      subst et
      exact ⟨rfl, rel u' v' xr yr⟩
theorem i_vc_mergedChar {k : Nat} {u : SX} {v : SY} (I : i_Rel k u v) (hk : k + 4 ≤ 2050) (v1 : Int32) (v2 : Int32) (v3 : Int32) : wpX_mergedChar (fun r u' => wpY_mergedChar (fun r' v' => r' = r ∧ i_Rel (k + 4) u' v') v v1 v2 v3) u v1 v2 v3 := by
  obtain ⟨g, hd, R, lim, D, G, rd, hx, hy⟩ := I
  have m32 := g_m32 G
  have rel : ∀ u' v', x_R g hd R lim D u' → y_R g hd R lim D v' → i_Rel (k + 4) u' v' := fun u' v' a b => ⟨g, hd, R, lim, D, G, rd, a, b⟩
  refine mx_mergedChar G rd hx (fun z => ?_) (fun a b t u' ha ea hb eb ht nz xr => ?_) (fun a b t j w u' ha ea hb eb ht ej hj xr => ?_)
  · refine my_mergedChar G hy (fun _ => ⟨rfl, rel u v hx hy⟩) (fun a b t v' ha ea hb eb => ?_) (fun a b t j w v' ha ea hb eb => ?_)
    · rcases z with z | z
      · exact absurd ea (z a ha)
      · exact absurd eb (z b hb)
    · rcases z with z | z
      · exact absurd ea (z a ha)
      · exact absurd eb (z b hb)
  · refine my_mergedChar G hy (fun z => ?_) (fun a' b' t' v' ha' ea' hb' eb' ht' nz' yr => ⟨rfl, rel u' v' xr yr⟩) (fun a' b' t' j w v' ha' ea' hb' eb' ht' ej hj yr => ?_)
    · rcases z with z | z
      · exact absurd ea (z a ha)
      · exact absurd eb (z b hb)
    · have e1 : a = a' := eg_nq (ea.symm.trans ea') (by omega) (by omega)
      have e2 : b = b' := eg_nq (eb.symm.trans eb') (by omega) (by omega)
      subst e1 e2
      have et := eg_Lu ht ht'
      subst et
      exact absurd ej (nz j (List.getElem?_eq_some_iff.mp hj).1)
  · have lj := (List.getElem?_eq_some_iff.mp hj).1
    have tl : t.length ≤ 32 := g_Tlen G (fun x hx => by
      rcases hx with w | w
      · exact (g_H_cl G ha).1 x w
      · exact (g_H_cl G hb).1 x w) ht
    refine my_mergedChar G hy (fun z => ?_) (fun a' b' t' v' ha' ea' hb' eb' ht' nz' yr => ?_) (fun a' b' t' j' w' v' ha' ea' hb' eb' ht' ej' hj' yr => ?_)
    · rcases z with z | z
      · exact absurd ea (z a ha)
      · exact absurd eb (z b hb)
    · have e1 : a = a' := eg_nq (ea.symm.trans ea') (by omega) (by omega)
      have e2 : b = b' := eg_nq (eb.symm.trans eb') (by omega) (by omega)
      subst e1 e2
      have et := eg_Lu ht ht'
      subst et
      exact absurd ej (nz' j lj)
    · have e1 : a = a' := eg_nq (ea.symm.trans ea') (by omega) (by omega)
      have e2 : b = b' := eg_nq (eb.symm.trans eb') (by omega) (by omega)
      subst e1 e2
      have et := eg_Lu ht ht'
      subst et
      have lj' := (List.getElem?_eq_some_iff.mp hj').1
      have ejj : j = j' := eg_nq (ej.symm.trans ej') (by omega) (by omega)
      subst ejj
      rw [hj] at hj'
      have ew : w = w' := by simpa using hj'
      subst ew
      exact ⟨rfl, rel u' v' xr yr⟩
end
