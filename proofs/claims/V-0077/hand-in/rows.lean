section
theorem pk_us {f : Nat → Int32} {k : Nat} {x : Int32} : upd f k x k = x := if_pos rfl
theorem pk_un {f : Nat → Int32} {k j : Nat} {x : Int32} (h : j ≠ k) : upd f k x j = f j := if_neg h
theorem pk_sub {a b : Nat} (h : b ≤ a) : nI a - nI b = nI (a - b) := by
  obtain ⟨c, rfl⟩ : ∃ c, a = c + b := ⟨a - b, by omega⟩
  rw [← nI_add, Int32.add_sub_cancel, Nat.add_sub_cancel]
theorem pk_m1 (n : Nat) : nI (n + 1) + (-1) = nI n := by
  rw [← nI_1, Int32.add_assoc, show (1 : Int32) + (-1) = 0 from rfl, Int32.add_zero]
theorem pk_mul (a b : Nat) : nI a * nI b = nI (a * b) := (Int32.ofNat_mul a b).symm
theorem pk_ix (x : Int32) {n : Nat} (hn : n < 2 ^ 31) : x < 0 ∨ nI n ≤ x ∨ ∃ j : Nat, j < n ∧ x = nI j := by
  by_cases h : x < 0
  · exact Or.inl h
  · obtain ⟨j, hj, rfl⟩ := nI_of h
    by_cases h2 : j < n
    · exact Or.inr (Or.inr ⟨j, h2, rfl⟩)
    · exact Or.inr (Or.inl (nI_le (by omega) hj))
theorem pk_le {x y : Int32} {A B : Prop} (a b : Nat) (f : a ≤ b → A) (g : b < a → B) (hx : x = nI a := by rfl) (hy : y = nI b := by rfl) (ha : a < 2 ^ 31 := by omega) (hb : b < 2 ^ 31 := by omega) : (x ≤ y → A) ∧ (¬ x ≤ y → B) := by
  subst hx hy
  rw [nI_leI ha hb]
  exact ⟨f, fun z => g (by omega)⟩
theorem pk_lt {x y : Int32} {A B : Prop} (a b : Nat) (f : a < b → A) (g : b ≤ a → B) (hx : x = nI a := by rfl) (hy : y = nI b := by rfl) (ha : a < 2 ^ 31 := by omega) (hb : b < 2 ^ 31 := by omega) : (x < y → A) ∧ (¬ x < y → B) := by
  subst hx hy
  rw [nI_ltI ha hb]
  exact ⟨f, fun z => g (by omega)⟩
theorem pk_eq {x y : Int32} {A B : Prop} (a b : Nat) (f : a = b → A) (g : a ≠ b → B) (hx : x = nI a := by rfl) (hy : y = nI b := by rfl) (ha : a < 2 ^ 31 := by omega) (hb : b < 2 ^ 31 := by omega) : (x = y → A) ∧ (¬ x = y → B) := by
  subst hx hy
  rw [nI_eq ha hb]
  exact ⟨f, g⟩
theorem pk_in {x : Int32} (n N : Nat) (h : n < N) (hx : x = nI n := by rfl) (hN : N < 2 ^ 31 := by omega) : vp_in x N := by
  subst hx
  exact vp_in_nI h hN
theorem pk_cl {x : Int32} (n : Nat) (hx : x = nI n := by rfl) (h : n < 2 ^ 31 := by omega) : x.toNatClampNeg = n := by
  subst hx
  exact nI_clamp h
theorem pk_tn {n : Nat} (h : n < 2 ^ 32) : (nI n).toBitVec.toNat = n := Nat.mod_eq_of_lt h
theorem pk_and (x : Int32) {m : Int32} (k : Nat) (hm : m.toBitVec.toNat = 2 ^ k - 1) : x &&& m = nI (x.toBitVec.toNat % 2 ^ k) := by
  apply Int32.toBitVec_inj.mp
  apply BitVec.eq_of_toNat_eq
  rw [Int32.toBitVec_and, BitVec.toNat_and, hm, Nat.and_two_pow_sub_one_eq_mod]
  show _ = (BitVec.ofNat 32 _).toNat
  rw [BitVec.toNat_ofNat]
  exact (Nat.mod_eq_of_lt (Nat.lt_of_le_of_lt (Nat.mod_le _ _) x.toBitVec.isLt)).symm
theorem pk_andN {n : Nat} (h : n < 2 ^ 32) {m : Int32} (k : Nat) (hm : m.toBitVec.toNat = 2 ^ k - 1) : nI n &&& m = nI (n % 2 ^ k) := by
  rw [pk_and _ k hm, pk_tn h]
theorem pk_andE (x : Int32) {m : Int32} (k : Nat) (hm : m.toBitVec.toNat = 2 ^ k - 1) : ∃ j : Nat, j < 2 ^ k ∧ x &&& m = nI j := ⟨_, Nat.mod_lt _ (Nat.two_pow_pos k), pk_and x k hm⟩
theorem pk_andIn (x : Int32) {m : Int32} (k : Nat) (hm : m.toBitVec.toNat = 2 ^ k - 1) (hk : k ≤ 30) : vp_in (x &&& m) (2 ^ k) := by
  obtain ⟨j, hj, e⟩ := pk_andE x k hm
  rw [e]
  exact vp_in_nI hj (Nat.lt_of_le_of_lt (Nat.pow_le_pow_right (by decide) hk) (by decide))
theorem pk_shl (a s : Int32) (k : Nat) (hs : (s.toBitVec.smod 32).toNat = k) : (a <<< s).toBitVec.toNat = a.toBitVec.toNat * 2 ^ k % 2 ^ 32 := by
  show (a.toBitVec <<< (s.toBitVec.smod 32).toNat).toNat = _
  rw [hs, BitVec.toNat_shiftLeft, Nat.shiftLeft_eq]
theorem pk_shlN {n : Nat} (s : Int32) (k : Nat) (hs : (s.toBitVec.smod 32).toNat = k) (h : n * 2 ^ k < 2 ^ 32) : nI n <<< s = nI (n * 2 ^ k) := by
  apply Int32.toBitVec_inj.mp
  apply BitVec.eq_of_toNat_eq
  have hn : n < 2 ^ 32 := Nat.lt_of_le_of_lt (Nat.le_mul_of_pos_right n (Nat.two_pow_pos k)) h
  rw [pk_shl _ _ k hs, pk_tn hn, pk_tn h, Nat.mod_eq_of_lt h]
theorem pk_shr (a s : Int32) (k : Nat) (hs : (s.toBitVec.smod 32).toNat = k) : (a >>> s).toInt = a.toInt >>> k := by
  show (a.toBitVec.sshiftRight (s.toBitVec.smod 32).toNat).toInt = _
  rw [hs, BitVec.toInt_sshiftRight]
  rfl
theorem pk_shrN {n : Nat} (h : n < 2 ^ 31) (s : Int32) (k : Nat) (hs : (s.toBitVec.smod 32).toNat = k) : nI n >>> s = nI (n / 2 ^ k) := by
  apply Int32.toInt_inj.mp
  have h2 : n / 2 ^ k ≤ n := Nat.div_le_self _ _
  rw [pk_shr _ _ k hs, nI_toInt h, nI_toInt (by omega), Int.shiftRight_eq_div_pow]
  rfl
end
section
/-! ===== 02: node records, chains, levels: pure lists ===== -/
abbrev bk_Nd : Type := Nat × Int × Bool × List (Int × Int32)
def bk_hd : List bk_Nd → Option bk_Nd → Option bk_Nd
  | [], e => e
  | x :: _, _ => some x
def bk_ch (R : bk_Nd → Option bk_Nd → Prop) (e : Option bk_Nd) : List bk_Nd → Prop
  | [] => True
  | x :: xs => R x (bk_hd xs e) ∧ bk_ch R e xs
def bk_bd : Option bk_Nd → Int
  | none => 2147483648
  | some x => x.2.1
def bk_lk : Option bk_Nd → Int32
  | none => -1
  | some x => nI x.1
def bk_so (a b : Int) (es : List (Int × Int32)) : Prop :=
  es.Pairwise (fun p q => p.1 < q.1) ∧ ∀ p, p ∈ es → a ≤ p.1 ∧ p.1 < b
def bk_Rp (l : Nat) (x : bk_Nd) (nx : Option bk_Nd) : Prop :=
  x.1 < 80 ∧ x.2.1 < bk_bd nx ∧ bk_so x.2.1 (bk_bd nx) x.2.2.2 ∧ (0 < l → ∃ v es, x.2.2.2 = (x.2.1, v) :: es)
def bk_fl (xs : List bk_Nd) : List (Int × Int32) := xs.flatMap (fun x => x.2.2.2)
def bk_kn (xs : List bk_Nd) : List (Int × Int32) := (xs.filter (fun x => x.2.2.1)).map (fun x => (x.2.1, nI x.1))
def bk_up (L : Nat → List bk_Nd) (l : Nat) (xs : List bk_Nd) : Nat → List bk_Nd := fun j => if j = l then xs else L j
def bk_tb (L : Nat → List bk_Nd) : Nat → Nat
  | 0 => 0
  | n + 1 => bk_tb L n + (L n).length

theorem bk_snoc {α : Type} (l : List α) : l = [] ∨ ∃ l' a, l = l' ++ [a] := by
  rcases List.eq_nil_or_concat l with h | ⟨l', a, h⟩
  · exact Or.inl h
  · exact Or.inr ⟨l', a, by rw [h, List.concat_eq_append]⟩
theorem bk_cutAt {es : List (Int × Int32)} {r : Nat} (h : r < es.length) : es = es.take r ++ (es[r].1, es[r].2) :: es.drop (r + 1) := by
  have e := List.take_append_drop r es
  rw [List.drop_eq_getElem_cons h] at e
  exact e.symm
theorem bk_hd_app (A B : List bk_Nd) (e : Option bk_Nd) : bk_hd (A ++ B) e = bk_hd A (bk_hd B e) := by
  cases A <;> rfl
theorem bk_hd_cons (x : bk_Nd) (B : List bk_Nd) (e : Option bk_Nd) : bk_hd (x :: B) e = some x := rfl
theorem bk_hd_nil (e : Option bk_Nd) : bk_hd [] e = e := rfl
theorem bk_ch_app {R : bk_Nd → Option bk_Nd → Prop} {e : Option bk_Nd} {A B : List bk_Nd} :
    bk_ch R e (A ++ B) ↔ bk_ch R (bk_hd B e) A ∧ bk_ch R e B := by
  induction A with
  | nil => simp [bk_ch]
  | cons x A ih => simp only [List.cons_append, bk_ch, bk_hd_app, ih, and_assoc]
theorem bk_ch_mono {R R' : bk_Nd → Option bk_Nd → Prop} {e : Option bk_Nd} {A : List bk_Nd}
    (h : ∀ x, x ∈ A → ∀ nx, R x nx → R' x nx) (c : bk_ch R e A) : bk_ch R' e A := by
  induction A with
  | nil => trivial
  | cons x A ih => exact ⟨h x List.mem_cons_self _ c.1, ih (fun z hz => h z (List.mem_cons_of_mem _ hz)) c.2⟩
theorem bk_ch_end {R : bk_Nd → Option bk_Nd → Prop} {e e' : Option bk_Nd} :
    ∀ {A : List bk_Nd}, (∀ x, x ∈ A → R x e → R x e') → bk_ch R e A → bk_ch R e' A
  | [], _, _ => trivial
  | [x], h, c => ⟨h x List.mem_cons_self c.1, trivial⟩
  | _ :: y :: A, h, c => ⟨c.1, bk_ch_end (A := y :: A) (fun z hz => h z (List.mem_cons_of_mem _ hz)) c.2⟩
theorem bk_ch_at {R : bk_Nd → Option bk_Nd → Prop} {e : Option bk_Nd} {A B : List bk_Nd} {x : bk_Nd}
    (c : bk_ch R e (A ++ x :: B)) : R x (bk_hd B e) := (bk_ch_app.mp c).2.1
theorem bk_ch_mem {R : bk_Nd → Option bk_Nd → Prop} {e : Option bk_Nd} {xs : List bk_Nd} {x : bk_Nd}
    (c : bk_ch R e xs) (hx : x ∈ xs) : ∃ nx, R x nx := by
  obtain ⟨A, B, rfl⟩ := List.append_of_mem hx
  exact ⟨_, bk_ch_at c⟩

/-- all below the end -/
theorem bk_lt {l : Nat} {e : Option bk_Nd} {A : List bk_Nd} (c : bk_ch (bk_Rp l) e A) :
    ∀ x, x ∈ A → x.2.1 < bk_bd e ∧ ∀ p, p ∈ x.2.2.2 → p.1 < bk_bd e := by
  induction A with
  | nil => intro x hx; cases hx
  | cons y A ih =>
    intro x hx
    have hy : bk_bd (bk_hd A e) ≤ bk_bd e := by
      cases A with
      | nil => exact Int.le_refl _
      | cons z A => exact Int.le_of_lt (ih c.2 z List.mem_cons_self).1
    rcases List.mem_cons.mp hx with rfl | hx
    · have h1 := c.1.2.1
      refine ⟨by omega, fun p hp => ?_⟩
      have := (c.1.2.2.1.2 p hp).2
      omega
    · exact ih c.2 x hx
/-- all from the head on -/
theorem bk_ge {l : Nat} {e : Option bk_Nd} {A : List bk_Nd} (c : bk_ch (bk_Rp l) e A) :
    ∀ x, x ∈ A → bk_bd (bk_hd A e) ≤ x.2.1 ∧ ∀ p, p ∈ x.2.2.2 → bk_bd (bk_hd A e) ≤ p.1 := by
  induction A with
  | nil => intro x hx; cases hx
  | cons y A ih =>
    intro x hx
    show y.2.1 ≤ x.2.1 ∧ ∀ p, p ∈ x.2.2.2 → y.2.1 ≤ p.1
    rcases List.mem_cons.mp hx with rfl | hx
    · exact ⟨Int.le_refl _, fun p hp => (c.1.2.2.1.2 p hp).1⟩
    · have h1 := c.1.2.1
      have h2 := ih c.2 x hx
      refine ⟨by omega, fun p hp => ?_⟩
      have := h2.2 p hp
      omega
theorem bk_fl_nil : bk_fl [] = [] := rfl
theorem bk_fl_cons (x : bk_Nd) (A : List bk_Nd) : bk_fl (x :: A) = x.2.2.2 ++ bk_fl A := by
  simp [bk_fl]
theorem bk_fl_app (A B : List bk_Nd) : bk_fl (A ++ B) = bk_fl A ++ bk_fl B := by
  simp [bk_fl]
theorem bk_mem_fl {p : Int × Int32} {A : List bk_Nd} : p ∈ bk_fl A ↔ ∃ x, x ∈ A ∧ p ∈ x.2.2.2 := by
  simp only [bk_fl, List.mem_flatMap]
theorem bk_kn_nil : bk_kn [] = [] := rfl
theorem bk_kn_app (A B : List bk_Nd) : bk_kn (A ++ B) = bk_kn A ++ bk_kn B := by
  simp [bk_kn]
theorem bk_kn_t (x : bk_Nd) (A : List bk_Nd) (h : x.2.2.1 = true) : bk_kn (x :: A) = (x.2.1, nI x.1) :: bk_kn A := by
  simp [bk_kn, h]
theorem bk_kn_f (x : bk_Nd) (A : List bk_Nd) (h : x.2.2.1 = false) : bk_kn (x :: A) = bk_kn A := by
  simp [bk_kn, h]
theorem bk_mem_kn {p : Int × Int32} {A : List bk_Nd} : p ∈ bk_kn A ↔ ∃ x, x ∈ A ∧ x.2.2.1 = true ∧ p = (x.2.1, nI x.1) := by
  simp only [bk_kn, List.mem_map, List.mem_filter]
  constructor
  · rintro ⟨x, ⟨h1, h2⟩, h3⟩; exact ⟨x, h1, h2, h3.symm⟩
  · rintro ⟨x, h1, h2, h3⟩; exact ⟨x, ⟨h1, h2⟩, h3.symm⟩
theorem bk_kn_len (A : List bk_Nd) : (bk_kn A).length ≤ A.length := by
  simp only [bk_kn, List.length_map]
  exact List.length_filter_le _ _
theorem bk_kn_none (A : List bk_Nd) (h : ∀ y, y ∈ A → y.2.2.1 = false) : bk_kn A = [] := by
  induction A with
  | nil => rfl
  | cons x A ih =>
    rw [bk_kn_f x A (h x List.mem_cons_self)]
    exact ih (fun y hy => h y (List.mem_cons_of_mem _ hy))
theorem bk_kn_all (A : List bk_Nd) (h : ∀ y, y ∈ A → y.2.2.1 = true) : bk_kn A = A.map (fun x => (x.2.1, nI x.1)) := by
  induction A with
  | nil => rfl
  | cons x A ih =>
    rw [bk_kn_t x A (h x List.mem_cons_self), ih (fun y hy => h y (List.mem_cons_of_mem _ hy))]
    rfl

/-- the entries of a chain, one behind another, are sorted -/
theorem bk_fl_so {l : Nat} {e : Option bk_Nd} {A : List bk_Nd} (c : bk_ch (bk_Rp l) e A) :
    bk_so (bk_bd (bk_hd A e)) (bk_bd e) (bk_fl A) := by
  induction A with
  | nil => exact ⟨List.Pairwise.nil, fun p hp => by cases hp⟩
  | cons x A ih =>
    have ih := ih c.2
    have hge := bk_ge c
    have hlt := bk_lt c
    rw [bk_fl_cons]
    refine ⟨List.pairwise_append.mpr ⟨c.1.2.2.1.1, ih.1, fun p hp q hq => ?_⟩, fun p hp => ?_⟩
    · have h1 := (c.1.2.2.1.2 p hp).2
      have h2 := (ih.2 q hq).1
      omega
    · rcases List.mem_append.mp hp with hp | hp
      · exact ⟨(hge x List.mem_cons_self).2 p hp, (hlt x List.mem_cons_self).2 p hp⟩
      · obtain ⟨y, hy, hp⟩ := bk_mem_fl.mp hp
        exact ⟨(hge y (List.mem_cons_of_mem _ hy)).2 p hp, (hlt y (List.mem_cons_of_mem _ hy)).2 p hp⟩
/-- one list, cut by a predicate, is cut in one way -/
theorem bk_su {α : Type} {p : α → Prop} : ∀ {X Y X' Y' : List α}, X ++ Y = X' ++ Y' → (∀ a, a ∈ X → p a) → (∀ a, a ∈ Y → ¬ p a) →
    (∀ a, a ∈ X' → p a) → (∀ a, a ∈ Y' → ¬ p a) → X = X' ∧ Y = Y'
  | [], Y, [], Y', h, _, _, _, _ => ⟨rfl, h⟩
  | [], Y, a :: X', Y', h, _, hY, hX', _ => by
    have h : Y = a :: (X' ++ Y') := h
    exact absurd (hX' a List.mem_cons_self) (hY a (by rw [h]; exact List.mem_cons_self))
  | a :: X, Y, [], Y', h, hX, _, _, hY' => by
    have h : a :: (X ++ Y) = Y' := h
    exact absurd (hX a List.mem_cons_self) (hY' a (by rw [← h]; exact List.mem_cons_self))
  | a :: X, Y, b :: X', Y', h, hX, hY, hX', hY' => by
    have h : a :: (X ++ Y) = b :: (X' ++ Y') := h
    injection h with h1 h2
    obtain ⟨e1, e2⟩ := bk_su h2 (fun a ha => hX a (List.mem_cons_of_mem _ ha)) hY (fun a ha => hX' a (List.mem_cons_of_mem _ ha)) hY'
    exact ⟨by rw [h1, e1], e2⟩
/-- sorted entries, cut at a key -/
theorem bk_cut (k : Int) {es : List (Int × Int32)} (h : es.Pairwise (fun p q => p.1 < q.1)) :
    ∃ e1 e2, es = e1 ++ e2 ∧ (∀ p, p ∈ e1 → p.1 < k) ∧ (∀ p, p ∈ e2 → k ≤ p.1) := by
  induction es with
  | nil => exact ⟨[], [], rfl, (fun p hp => by cases hp), (fun p hp => by cases hp)⟩
  | cons a es ih =>
    have h' := List.pairwise_cons.mp h
    by_cases ha : a.1 < k
    · obtain ⟨e1, e2, rfl, h1, h2⟩ := ih h'.2
      refine ⟨a :: e1, e2, rfl, fun p hp => ?_, h2⟩
      rcases List.mem_cons.mp hp with rfl | hp
      · exact ha
      · exact h1 p hp
    · refine ⟨[], a :: es, rfl, (fun p hp => by cases hp), fun p hp => ?_⟩
      rcases List.mem_cons.mp hp with rfl | hp
      · omega
      · have := h'.1 p hp
        omega
/-- the node of a chain that covers a key is one -/
theorem bk_cov {l : Nat} {A B A' B' : List bk_Nd} {x y : bk_Nd} {k : Int} (c : bk_ch (bk_Rp l) none (A ++ x :: B))
    (e : A ++ x :: B = A' ++ y :: B') (h1 : x.2.1 ≤ k) (h2 : k < bk_bd (bk_hd B none)) (h3 : y.2.1 ≤ k) (h4 : k < bk_bd (bk_hd B' none)) :
    A = A' ∧ x = y ∧ B = B' := by
  have c' := c
  rw [e] at c'
  have d := (bk_ch_app.mp c)
  have d' := (bk_ch_app.mp c')
  have key : ∀ {A B : List bk_Nd} {x : bk_Nd}, bk_ch (bk_Rp l) none (A ++ x :: B) → x.2.1 ≤ k → k < bk_bd (bk_hd B none) →
      (∀ a, a ∈ A ++ [x] → a.2.1 ≤ k) ∧ (∀ a, a ∈ B → ¬ a.2.1 ≤ k) := by
    intro A B x c h1 h2
    have d := bk_ch_app.mp c
    refine ⟨fun a ha => ?_, fun a ha => ?_⟩
    · rcases List.mem_append.mp ha with ha | ha
      · have h : a.2.1 < x.2.1 := (bk_lt d.1 a ha).1
        omega
      · rw [List.mem_singleton.mp ha]; exact h1
    · have := (bk_ge d.2.2 a ha).1
      omega
  have k1 := key c h1 h2
  have k2 := key c' h3 h4
  have e2 : (A ++ [x]) ++ B = (A' ++ [y]) ++ B' := by simpa using e
  obtain ⟨e3, e4⟩ := bk_su (p := fun a : bk_Nd => a.2.1 ≤ k) e2 k1.1 k1.2 k2.1 k2.2
  obtain ⟨e5, e6⟩ := List.append_inj' e3 rfl
  exact ⟨e5, by injection e6, e4⟩
theorem bk_lo_ne {l : Nat} {A B : List bk_Nd} {x : bk_Nd} (c : bk_ch (bk_Rp l) none (A ++ x :: B)) :
    (∀ a, a ∈ A → a.2.1 < x.2.1) ∧ (∀ a, a ∈ B → x.2.1 < a.2.1) := by
  have d := bk_ch_app.mp c
  refine ⟨fun a ha => (bk_lt d.1 a ha).1, fun a ha => ?_⟩
  have h1 := (bk_ge d.2.2 a ha).1
  have h2 := d.2.1.2.1
  omega
theorem bk_lo_in {l : Nat} {xs : List bk_Nd} {x y : bk_Nd} (c : bk_ch (bk_Rp l) none xs) (hx : x ∈ xs) (hy : y ∈ xs) (h : x.2.1 = y.2.1) : x = y := by
  obtain ⟨A, B, rfl⟩ := List.append_of_mem hx
  have d := bk_lo_ne c
  rcases List.mem_append.mp hy with hy | hy
  · have := d.1 y hy; omega
  · rcases List.mem_cons.mp hy with hy | hy
    · exact hy.symm
    · have := d.2 y hy; omega
end
section
/-! ===== 03: levels, the pure tree, exchange of one or two levels, counting ===== -/
def bk_LV (fan mn : Nat) (d : Nat → Nat) (l : Nat) (xs : List bk_Nd) : Prop :=
  bk_ch (bk_Rp l) none xs ∧ (∃ x ys, xs = x :: ys ∧ x.2.1 = -2147483648 ∧ x.2.2.1 = true) ∧
  ∀ x, x ∈ xs → x.2.2.2.length ≤ fan ∧ mn ≤ x.2.2.2.length + d x.1
theorem bk_LV_mono {fan mn mn' : Nat} {d d' : Nat → Nat} {l : Nat} {xs : List bk_Nd} (h : bk_LV fan mn d l xs) (hm : mn' ≤ mn) (hd : ∀ i, d i ≤ d' i) :
    bk_LV fan mn' d' l xs := by
  refine ⟨h.1, h.2.1, fun x hx => ⟨(h.2.2 x hx).1, ?_⟩⟩
  have h1 := (h.2.2 x hx).2
  have h2 := hd x.1
  omega
theorem bk_LV_rep {fan mn mn' : Nat} {d d' : Nat → Nat} {l : Nat} {A B : List bk_Nd} {x y : bk_Nd} {xs ys : List bk_Nd}
    (h : bk_LV fan mn d l (A ++ (x :: xs) ++ B)) (hlo : y.2.1 = x.2.1) (hkn : x.2.2.1 = true → y.2.2.1 = true)
    (hc : bk_ch (bk_Rp l) (bk_hd B none) (y :: ys))
    (hA : ∀ z, z ∈ A → z.2.2.2.length ≤ fan ∧ mn' ≤ z.2.2.2.length + d' z.1)
    (hY : ∀ z, z ∈ y :: ys → z.2.2.2.length ≤ fan ∧ mn' ≤ z.2.2.2.length + d' z.1)
    (hB : ∀ z, z ∈ B → z.2.2.2.length ≤ fan ∧ mn' ≤ z.2.2.2.length + d' z.1) :
    bk_LV fan mn' d' l (A ++ (y :: ys) ++ B) := by
  obtain ⟨c, ⟨z, zs, ez, hz1, hz2⟩, f⟩ := h
  have c1 := bk_ch_app.mp c
  have c2 := bk_ch_app.mp c1.1
  refine ⟨bk_ch_app.mpr ⟨bk_ch_app.mpr ⟨bk_ch_end (e := some x) (e' := some y) ?_ c2.1, hc⟩, c1.2⟩, ?_, ?_⟩
  · intro w _ hw
    have e : bk_bd (some y) = bk_bd (some x) := hlo
    unfold bk_Rp at *
    rw [e]
    exact hw
  · cases A with
    | nil =>
      have ez : x :: (xs ++ B) = z :: zs := ez
      injection ez with e1 e2
      subst e1
      exact ⟨y, ys ++ B, rfl, hlo.trans hz1, hkn hz2⟩
    | cons a A =>
      have ez : a :: (A ++ (x :: xs) ++ B) = z :: zs := ez
      injection ez with e1 e2
      subst e1
      exact ⟨a, A ++ (y :: ys) ++ B, rfl, hz1, hz2⟩
  · intro w hw
    rcases List.mem_append.mp hw with hw | hw
    · rcases List.mem_append.mp hw with hw | hw
      · exact hA w hw
      · exact hY w hw
    · exact hB w hw
def bk_mn (lst h l len : Nat) : Nat := if l = h ∧ len = 1 then (if h = 0 then 0 else 2) else lst
def bk_ds (tl ti l : Nat) : Nat → Nat := fun i => if l = tl ∧ i = ti then 1 else 0
def bk_tp (root : Nat) (xs : List bk_Nd) : Prop := ∃ x ys, xs = x :: ys ∧ x.1 = root ∧ ∀ y, y ∈ ys → y.2.2.1 = false
def bk_h0 (xs : List bk_Nd) : Prop := ∃ x ys, xs = x :: ys ∧ x.1 = 0
def bk_PT (lst fan tl ti : Nat) (L : Nat → List bk_Nd) (h root : Nat) : Prop :=
  (∀ l, l ≤ h → bk_LV fan (bk_mn lst h l (L l).length) (bk_ds tl ti l) l (L l)) ∧
  (∀ l, l < h → bk_fl (L (l + 1)) = bk_kn (L l)) ∧ bk_tp root (L h) ∧ (L 0).length ≤ 32 ∧ bk_h0 (L 0)
theorem bk_mn_le {lst h l len : Nat} (h2 : 2 ≤ lst) : bk_mn lst h l len ≤ lst := by
  unfold bk_mn
  split
  · split <;> omega
  · omega
theorem bk_mn_in {lst h l len : Nat} (hn : l ≠ h) : bk_mn lst h l len = lst := by
  unfold bk_mn
  rw [if_neg (fun z => hn z.1)]
theorem bk_mn_2 {lst h l len : Nat} (hn : len ≠ 1) : bk_mn lst h l len = lst := by
  unfold bk_mn
  rw [if_neg (fun z => hn z.2)]
theorem bk_mn_ge {lst h l len : Nat} (h2 : 2 ≤ lst) (hl : 0 < l) : 2 ≤ bk_mn lst h l len := by
  unfold bk_mn
  split
  · rw [if_neg (by omega)]; exact Nat.le_refl _
  · exact h2
theorem bk_up_s (L : Nat → List bk_Nd) (l : Nat) (xs : List bk_Nd) : bk_up L l xs l = xs := if_pos rfl
theorem bk_up_n (L : Nat → List bk_Nd) {l j : Nat} (xs : List bk_Nd) (h : j ≠ l) : bk_up L l xs j = L j := if_neg h
theorem bk_ds_n {tl ti l : Nat} (h : l ≠ tl) (i : Nat) : bk_ds tl ti l i = 0 := if_neg (fun z => h z.1)
theorem bk_ds_le (tl ti l i : Nat) : bk_ds tl ti l i ≤ 1 := by
  unfold bk_ds
  split <;> omega
theorem bk_ds_o {tl ti l i : Nat} (h : i ≠ ti) : bk_ds tl ti l i = 0 := if_neg (fun z => h z.2)
theorem bk_ds_s (l i : Nat) : bk_ds l i l i = 1 := if_pos ⟨rfl, rfl⟩
theorem bk_PT_up1 {lst fan tl ti tl' ti' : Nat} {L : Nat → List bk_Nd} {h root : Nat} {ys : List bk_Nd} (P : bk_PT lst fan tl ti L h root)
    (hd : ∀ l', l' ≤ h → l' ≠ 0 → ∀ i, bk_ds tl ti l' i ≤ bk_ds tl' ti' l' i)
    (hv : bk_LV fan (bk_mn lst h 0 ys.length) (bk_ds tl' ti' 0) 0 ys) (hk : bk_kn ys = bk_kn (L 0)) (ht : h = 0 → bk_tp root ys)
    (hl : ys.length ≤ 32) (h0 : bk_h0 ys) : bk_PT lst fan tl' ti' (bk_up L 0 ys) h root := by
  obtain ⟨p1, p2, p3, p4, p5⟩ := P
  refine ⟨fun l hl => ?_, fun l hl => ?_, ?_, ?_, ?_⟩
  · by_cases z : l = 0
    · subst z; rw [bk_up_s]; exact hv
    · rw [bk_up_n _ _ z]; exact bk_LV_mono (p1 l hl) (Nat.le_refl _) (hd l hl z)
  · rw [bk_up_n _ _ (Nat.succ_ne_zero l)]
    by_cases z : l = 0
    · subst z; rw [bk_up_s, hk]; exact p2 0 hl
    · rw [bk_up_n _ _ z]; exact p2 l hl
  · by_cases z : h = 0
    · subst z; rw [bk_up_s]; exact ht rfl
    · rw [bk_up_n _ _ z]; exact p3
  · rw [bk_up_s]; exact hl
  · rw [bk_up_s]; exact h0
theorem bk_PT_up2 {lst fan tl ti tl' ti' : Nat} {L : Nat → List bk_Nd} {h root l : Nat} {ys zs : List bk_Nd} (P : bk_PT lst fan tl ti L h root) (hl : l + 1 ≤ h)
    (hd : ∀ l', l' ≤ h → l' ≠ l → l' ≠ l + 1 → ∀ i, bk_ds tl ti l' i ≤ bk_ds tl' ti' l' i)
    (hz : bk_LV fan (bk_mn lst h l zs.length) (bk_ds tl' ti' l) l zs)
    (hy : bk_LV fan (bk_mn lst h (l + 1) ys.length) (bk_ds tl' ti' (l + 1)) (l + 1) ys) (hyz : bk_fl ys = bk_kn zs)
    (hf : 0 < l → bk_fl zs = bk_fl (L l)) (hk : l + 1 < h → bk_kn ys = bk_kn (L (l + 1))) (ht : l + 1 = h → bk_tp root ys)
    (h0 : l = 0 → zs.length ≤ 32 ∧ bk_h0 zs) : bk_PT lst fan tl' ti' (bk_up (bk_up L l zs) (l + 1) ys) h root := by
  obtain ⟨p1, p2, p3, p4, p5⟩ := P
  have ey : bk_up (bk_up L l zs) (l + 1) ys (l + 1) = ys := bk_up_s _ _ _
  have ez : bk_up (bk_up L l zs) (l + 1) ys l = zs := by rw [bk_up_n _ _ (by omega), bk_up_s]
  have eo : ∀ j, j ≠ l → j ≠ l + 1 → bk_up (bk_up L l zs) (l + 1) ys j = L j := fun j a b => by rw [bk_up_n _ _ b, bk_up_n _ _ a]
  refine ⟨fun j hj => ?_, fun j hj => ?_, ?_, ?_, ?_⟩
  · by_cases a : j = l
    · subst a; rw [ez]; exact hz
    · by_cases b : j = l + 1
      · subst b; rw [ey]; exact hy
      · rw [eo j a b]; exact bk_LV_mono (p1 j hj) (Nat.le_refl _) (hd j hj a b)
  · by_cases a : j = l
    · subst a; rw [ey, ez]; exact hyz
    · by_cases b : j = l + 1
      · subst b; rw [ey, eo _ (by omega) (by omega), hk hj]; exact p2 _ hj
      · rw [eo j a b]
        by_cases c : j + 1 = l
        · subst c; rw [ez, hf (by omega)]; exact p2 j hj
        · rw [eo _ c (by omega)]; exact p2 j hj
  · by_cases b : h = l + 1
    · subst b; rw [ey]; exact ht rfl
    · rw [eo h (by omega) b]; exact p3
  · by_cases a : l = 0
    · subst a; rw [ez]; exact (h0 rfl).1
    · rw [eo 0 (fun z => a z.symm) (by omega)]; exact p4
  · by_cases a : l = 0
    · subst a; rw [ez]; exact (h0 rfl).2
    · rw [eo 0 (fun z => a z.symm) (by omega)]; exact p5
theorem bk_PT_grow {lst fan tl ti : Nat} {L : Nat → List bk_Nd} {h root : Nat} {zs : List bk_Nd} {r : bk_Nd} (P : bk_PT lst fan tl ti L h root)
    (hz : bk_LV fan lst (bk_ds tl ti h) h zs) (hr : bk_LV fan 2 (fun _ => 0) (h + 1) [r]) (hyz : bk_fl [r] = bk_kn zs)
    (hf : 0 < h → bk_fl zs = bk_fl (L h)) (h0 : h = 0 → zs.length ≤ 32 ∧ bk_h0 zs) :
    bk_PT lst fan tl ti (bk_up (bk_up L h zs) (h + 1) [r]) (h + 1) r.1 := by
  obtain ⟨p1, p2, p3, p4, p5⟩ := P
  have ey : bk_up (bk_up L h zs) (h + 1) [r] (h + 1) = [r] := bk_up_s _ _ _
  have ez : bk_up (bk_up L h zs) (h + 1) [r] h = zs := by rw [bk_up_n _ _ (by omega), bk_up_s]
  have eo : ∀ j, j ≠ h → j ≠ h + 1 → bk_up (bk_up L h zs) (h + 1) [r] j = L j := fun j a b => by rw [bk_up_n _ _ b, bk_up_n _ _ a]
  refine ⟨fun j hj => ?_, fun j hj => ?_, ?_, ?_, ?_⟩
  · by_cases a : j = h
    · subst a; rw [ez, bk_mn_in (by omega)]; exact hz
    · by_cases b : j = h + 1
      · subst b; rw [ey]
        refine bk_LV_mono hr ?_ (fun i => Nat.zero_le _)
        unfold bk_mn
        rw [if_pos ⟨rfl, rfl⟩, if_neg (by omega)]
        exact Nat.le_refl _
      · rw [eo j a b, bk_mn_in (by omega)]
        have := p1 j (by omega)
        rw [bk_mn_in a] at this
        exact this
  · by_cases a : j = h
    · subst a; rw [ey, ez]; exact hyz
    · rw [eo j a (by omega)]
      by_cases c : j + 1 = h
      · subst c; rw [ez, hf (by omega)]; exact p2 j (by omega)
      · rw [eo _ c (by omega)]; exact p2 j (by omega)
  · rw [ey]; exact ⟨r, [], rfl, rfl, fun y hy => by cases hy⟩
  · by_cases a : h = 0
    · subst a; rw [ez]; exact (h0 rfl).1
    · rw [eo 0 (fun z => a z.symm) (by omega)]; exact p4
  · by_cases a : h = 0
    · subst a; rw [ez]; exact (h0 rfl).2
    · rw [eo 0 (fun z => a z.symm) (by omega)]; exact p5
theorem bk_PT_shr {lst fan ti tl' ti' : Nat} {L : Nat → List bk_Nd} {h root : Nat} {c : bk_Nd} (h2 : 2 ≤ lst) (P : bk_PT lst fan (h + 1) ti L (h + 1) root)
    (hc : L h = [c]) : bk_PT lst fan tl' ti' L h c.1 := by
  obtain ⟨p1, p2, p3, p4, p5⟩ := P
  refine ⟨fun j hj => ?_, fun j hj => p2 j (by omega), ⟨c, [], hc, rfl, fun y hy => by cases hy⟩, p4, p5⟩
  have := p1 j (by omega)
  rw [bk_mn_in (by omega)] at this
  exact bk_LV_mono this (bk_mn_le h2) (fun i => by rw [bk_ds_n (by omega)]; exact Nat.zero_le _)
theorem bk_tb_up (L : Nat → List bk_Nd) (l : Nat) (xs : List bk_Nd) : ∀ n, (l < n → bk_tb (bk_up L l xs) n + (L l).length = bk_tb L n + xs.length) ∧ (n ≤ l → bk_tb (bk_up L l xs) n = bk_tb L n) := by
  intro n
  induction n with
  | zero => exact ⟨fun h => absurd h (by omega), fun _ => rfl⟩
  | succ n ih =>
    constructor
    · intro h
      show bk_tb (bk_up L l xs) n + (bk_up L l xs n).length + _ = bk_tb L n + (L n).length + _
      by_cases e : n = l
      · subst e
        rw [bk_up_s, ih.2 (Nat.le_refl _)]
        omega
      · rw [bk_up_n _ _ e]
        have := ih.1 (by omega)
        omega
    · intro h
      show bk_tb (bk_up L l xs) n + (bk_up L l xs n).length = bk_tb L n + (L n).length
      rw [bk_up_n _ _ (by omega), ih.2 (by omega)]
theorem bk_tb_le (L : Nat → List bk_Nd) {m n : Nat} (h : m ≤ n) : bk_tb L m ≤ bk_tb L n := by
  induction n with
  | zero => have : m = 0 := by omega
            subst this; exact Nat.le_refl _
  | succ n ih =>
    by_cases e : m = n + 1
    · subst e; exact Nat.le_refl _
    · exact Nat.le_trans (ih (by omega)) (Nat.le_add_right _ _)
theorem bk_fl_len2 {m : Nat} {xs : List bk_Nd} (h : ∀ x, x ∈ xs → m ≤ x.2.2.2.length) : m * xs.length ≤ (bk_fl xs).length := by
  induction xs with
  | nil => simp [bk_fl]
  | cons x xs ih =>
    rw [bk_fl_cons, List.length_append, List.length_cons, Nat.mul_succ]
    have h1 := h x List.mem_cons_self
    have h2 := ih (fun y hy => h y (List.mem_cons_of_mem _ hy))
    omega
theorem bk_half {lst fan tl ti : Nat} {L : Nat → List bk_Nd} {h root : Nat} (h2 : 2 ≤ lst) (P : bk_PT lst fan tl ti L h root) (ht : tl = 0 ∨ h < tl) {l : Nat} (hl : l < h) :
    2 * (L (l + 1)).length ≤ (L l).length := by
  have h1 : 2 * (L (l + 1)).length ≤ (bk_fl (L (l + 1))).length := by
    refine bk_fl_len2 (fun x hx => ?_)
    have h3 := ((P.1 (l + 1) hl).2.2 x hx).2
    rw [bk_ds_n (by omega)] at h3
    have := bk_mn_ge (lst := lst) (h := h) (l := l + 1) (len := (L (l + 1)).length) h2 (by omega)
    omega
  rw [P.2.1 l hl] at h1
  exact Nat.le_trans h1 (bk_kn_len _)
theorem bk_ne0 {lst fan tl ti : Nat} {L : Nat → List bk_Nd} {h root : Nat} (P : bk_PT lst fan tl ti L h root) {l : Nat} (hl : l ≤ h) : 1 ≤ (L l).length := by
  obtain ⟨x, ys, e, _⟩ := (P.1 l hl).2.1
  rw [e, List.length_cons]; omega
theorem bk_sum {lst fan tl ti : Nat} {L : Nat → List bk_Nd} {h root : Nat} (h2 : 2 ≤ lst) (P : bk_PT lst fan tl ti L h root) (ht : tl = 0 ∨ h < tl) :
    ∀ n, n ≤ h → bk_tb L (n + 1) + (L n).length ≤ 2 * (L 0).length := by
  intro n
  induction n with
  | zero => intro _; show 0 + (L 0).length + (L 0).length ≤ _; omega
  | succ n ih =>
    intro hn
    have h1 := ih (by omega)
    have h3 := bk_half h2 P ht (l := n) (by omega)
    show bk_tb L (n + 1) + (L (n + 1)).length + (L (n + 1)).length ≤ _
    omega
theorem bk_cnt {lst fan tl ti : Nat} {L : Nat → List bk_Nd} {h root : Nat} (h2 : 2 ≤ lst) (P : bk_PT lst fan tl ti L h root) (ht : tl = 0 ∨ h < tl) :
    bk_tb L (h + 1) ≤ 63 ∧ h ≤ 5 := by
  have h1 := bk_sum h2 P ht h (Nat.le_refl _)
  have h3 := bk_ne0 P (Nat.le_refl h)
  have h4 := P.2.2.2.1
  refine ⟨by omega, ?_⟩
  by_cases z : h ≤ 5
  · exact z
  · exfalso
    have a0 := bk_half h2 P ht (l := 0) (by omega)
    have a1 := bk_half h2 P ht (l := 1) (by omega)
    have a2 := bk_half h2 P ht (l := 2) (by omega)
    have a3 := bk_half h2 P ht (l := 3) (by omega)
    have a4 := bk_half h2 P ht (l := 4) (by omega)
    have a5 := bk_half h2 P ht (l := 5) (by omega)
    have a6 := bk_ne0 P (l := 6) (by omega)
    simp only [Nat.reduceAdd] at a0 a1 a2 a3 a4 a5
    omega
end
section
/-! ===== 04: the link of arrays and records; index loops; hop; seek ===== -/
def bk_Nr (ky vl ct : Nat → Int32) (n : Nat) (es : List (Int × Int32)) : Prop :=
  ct n = nI es.length ∧ ∀ j p, es[j]? = some p → (ky (8 * n + j)).toInt = p.1 ∧ vl (8 * n + j) = p.2
def bk_Lq (ky vl ct lv lw hg rt : Nat → Int32) (l : Nat) (x : bk_Nd) (nx : Option bk_Nd) : Prop :=
  bk_Nr ky vl ct x.1 x.2.2.2 ∧ (lw x.1).toInt = x.2.1 ∧ lv x.1 = nI l ∧ (hg x.1).toInt = bk_bd nx - 1 ∧ rt x.1 = bk_lk nx
def bk_LK (ky vl ct lv lw hg rt : Nat → Int32) (L : Nat → List bk_Nd) (h : Nat) : Prop :=
  ∀ l, l ≤ h → bk_ch (bk_Lq ky vl ct lv lw hg rt l) none (L l)
theorem bx_sh {n : Nat} (hn : n < 80) : nI n <<< ((3 : Int32) &&& 31) = nI (8 * n) := by
  rw [pk_shlN _ 3 (by decide) (by omega)]
  exact congrArg nI (by omega)
theorem bx_ix {n j : Nat} (hn : n < 80) (hj : j < 8) : vp_in (nI (8 * n) + nI j) 640 ∧ (nI (8 * n) + nI j).toNatClampNeg = 8 * n + j := by
  rw [nI_add]
  exact ⟨vp_in_nI (by omega) (by omega), nI_clamp (by omega)⟩
theorem bx_in {n : Nat} (hn : n < 80) : vp_in (nI n) 80 := vp_in_nI hn (by omega)
theorem bx_cl {n : Nat} (hn : n < 640) : (nI n).toNatClampNeg = n := nI_clamp (by omega)
theorem bx_lt {x y : Int32} : x < y ↔ x.toInt < y.toInt := Int32.lt_iff_toInt_lt
theorem bx_le {x y : Int32} : x ≤ y ↔ x.toInt ≤ y.toInt := Int32.le_iff_toInt_le
theorem bx_tI {n : Nat} (hn : n < 640) : (nI n).toInt = n := nI_toInt (by omega)
theorem bx_inj {m n : Nat} (hm : m < 640) (hn : n < 640) (h : nI m = nI n) : m = n := (nI_eq (by omega) (by omega)).mp h
theorem bx_m1 : (-1 : Int32).toInt = -1 := by decide
theorem bx_z : (0 : Int32).toInt = 0 := by decide
theorem bx_neg {n : Nat} (hn : n < 640) : ¬ nI n = -1 := by
  intro h
  have := congrArg Int32.toInt h
  rw [bx_tI hn, bx_m1] at this
  omega
theorem bx_get {es e1 e2 : List (Int × Int32)} (he : es = e1 ++ e2) {j : Nat} (hj : j < e1.length) : ∃ p, p ∈ e1 ∧ es[j]? = some p := by
  refine ⟨e1[j], List.getElem_mem hj, ?_⟩
  rw [he, List.getElem?_append_left hj, List.getElem?_eq_getElem hj]
theorem bx_get2 {es e1 e2 : List (Int × Int32)} {p : Int × Int32} (he : es = e1 ++ p :: e2) : es[e1.length]? = some p := by
  rw [he]; simp
section
variable {f_threadCount f_fan f_capacity f_pace f_least f_spareTop f_root f_head f_records f_appliedTotal : Int32} {a_keys a_vals a_count a_level a_low a_high a_right a_spare a_path a_phaseOf a_kindOf a_firstOf a_secondOf a_leftOf a_outcomeOf a_resKey a_resValue a_countOf a_digestOf a_appliedAt a_latchesOf a_place a_unknown : Nat → Int32}
theorem bx_lower_7 {n : Nat} {es e1 e2 : List (Int × Int32)} {key : Int32} (hn : n < 80) (N : bk_Nr a_keys a_vals a_count n es) (he : es = e1 ++ e2) (h8 : es.length ≤ 8)
    (h1 : ∀ p, p ∈ e1 → p.1 < key.toInt) (h2 : ∀ p, p ∈ e2 → key.toInt ≤ p.1) {post : Int32 → Prop} (hp : post (nI e1.length)) :
    ∀ d j, j + d = e1.length → ∀ m, d < m → wX_lowerIndex_7 post (nI n) key (nI (8 * n)) f_threadCount f_fan f_capacity f_pace f_least f_spareTop f_root f_head f_records f_appliedTotal a_keys a_vals a_count a_level a_low a_high a_right a_spare a_path a_phaseOf a_kindOf a_firstOf a_secondOf a_leftOf a_outcomeOf a_resKey a_resValue a_countOf a_digestOf a_appliedAt a_latchesOf a_place a_unknown m (nI j) := by
  have hl : es.length = e1.length + e2.length := by rw [he, List.length_append]
  intro d
  induction d with
  | zero =>
    intro j hj m hm
    obtain ⟨m, rfl⟩ : ∃ m', m = m' + 1 := ⟨m - 1, by omega⟩
    have hj : j = e1.length := by omega
    subst hj
    refine And.intro (bx_in hn) ?_
    rw [bx_cl (n := n) (by omega), N.1]
    cases e2 with
    | nil =>
      rw [List.append_nil] at he
      subst he
      exact br_t (nI_le (Nat.le_refl _) (by omega)) ⟨bx_in hn, hp⟩
    | cons p e2 =>
      have hlt : e1.length < es.length := by rw [hl, List.length_cons]; omega
      refine br_f (nI_ge hlt (by omega)) ⟨(bx_ix hn (by omega)).1, br_f ?_ hp⟩
      rw [(bx_ix hn (by omega)).2, bx_lt, (N.2 _ _ (bx_get2 he)).1]
      have := h2 p List.mem_cons_self
      omega
  | succ d ih =>
    intro j hj m hm
    obtain ⟨m, rfl⟩ : ∃ m', m = m' + 1 := ⟨m - 1, by omega⟩
    refine And.intro (bx_in hn) ?_
    rw [bx_cl (n := n) (by omega), N.1]
    refine br_f (nI_ge (by omega) (by omega)) ⟨(bx_ix hn (by omega)).1, br_t ?_ (nm_r (nI_1 j) (ih (j + 1) (by omega) m (by omega)))⟩
    obtain ⟨p, hp1, hp2⟩ := bx_get he (j := j) (by omega)
    rw [(bx_ix hn (by omega)).2, bx_lt, (N.2 _ _ hp2).1]
    exact h1 p hp1
theorem bx_lower {n : Nat} {es e1 e2 : List (Int × Int32)} {key : Int32} (hn : n < 80) (N : bk_Nr a_keys a_vals a_count n es) (he : es = e1 ++ e2) (h8 : es.length ≤ 8)
    (h1 : ∀ p, p ∈ e1 → p.1 < key.toInt) (h2 : ∀ p, p ∈ e2 → key.toInt ≤ p.1) {post : Int32 → Prop} (hp : post (nI e1.length)) :
    wpX_lowerIndex post (f_threadCount, f_fan, f_capacity, f_pace, f_least, f_spareTop, f_root, f_head, f_records, f_appliedTotal, a_keys, a_vals, a_count, a_level, a_low, a_high, a_right, a_spare, a_path, a_phaseOf, a_kindOf, a_firstOf, a_secondOf, a_leftOf, a_outcomeOf, a_resKey, a_resValue, a_countOf, a_digestOf, a_appliedAt, a_latchesOf, a_place, a_unknown) (nI n) key := by
  unfold wpX_lowerIndex
  refine nm_r (bx_sh hn) ⟨e1.length + 1, ?_⟩
  exact bx_lower_7 hn N he h8 h1 h2 hp e1.length 0 (by omega) _ (by omega)
theorem bx_floor_14 {n : Nat} {es e1 e2 : List (Int × Int32)} {key : Int32} (hn : n < 80) (N : bk_Nr a_keys a_vals a_count n es) (he : es = e1 ++ e2) (h8 : es.length ≤ 8)
    (h1 : ∀ p, p ∈ e1 → p.1 ≤ key.toInt) (h2 : ∀ p, p ∈ e2 → key.toInt < p.1) {post : Int32 → Prop} (hp : post (nI e1.length - 1)) :
    ∀ d, d ≤ e2.length → ∀ m, d < m → wX_floorIndex_14 post key (nI (8 * n)) f_threadCount f_fan f_capacity f_pace f_least f_spareTop f_root f_head f_records f_appliedTotal a_keys a_vals a_count a_level a_low a_high a_right a_spare a_path a_phaseOf a_kindOf a_firstOf a_secondOf a_leftOf a_outcomeOf a_resKey a_resValue a_countOf a_digestOf a_appliedAt a_latchesOf a_place a_unknown m (nI (e1.length + d) - 1) := by
  have hl : es.length = e1.length + e2.length := by rw [he, List.length_append]
  intro d
  induction d with
  | zero =>
    intro hd m hm
    obtain ⟨m, rfl⟩ : ∃ m', m = m' + 1 := ⟨m - 1, by omega⟩
    rw [Nat.add_zero e1.length]
    rcases bk_snoc e1 with rfl | ⟨e3, p, rfl⟩
    · refine br_t (by decide) hp
    · have hq : es = e3 ++ p :: e2 := by rw [he]; simp
      have hl3 : (e3 ++ [p]).length = e3.length + 1 := by simp
      rw [hl3] at hp hl ⊢
      rw [nI_pred] at hp ⊢
      refine br_f (nI_pos (by omega)) ⟨(bx_ix hn (by omega)).1, br_f ?_ hp⟩
      rw [(bx_ix hn (by omega)).2, bx_lt, (N.2 _ _ (bx_get2 hq)).1]
      have := h1 p (by simp)
      omega
  | succ d ih =>
    intro hd m hm
    obtain ⟨m, rfl⟩ : ∃ m', m = m' + 1 := ⟨m - 1, by omega⟩
    rw [show e1.length + (d + 1) = e1.length + d + 1 from rfl, nI_pred]
    have hg : es[e1.length + d]? = some e2[d] := by
      rw [he, List.getElem?_append_right (by omega), show e1.length + d - e1.length = d by omega, List.getElem?_eq_getElem (by omega)]
    refine br_f (nI_pos (by omega)) ⟨(bx_ix hn (by omega)).1, br_t ?_ (nm_e ?_)⟩
    · rw [(bx_ix hn (by omega)).2, bx_lt, (N.2 _ _ hg).1]
      exact h2 _ (List.getElem_mem _)
    · have e : nI (e1.length + d) + (-1) = nI (e1.length + d) - 1 := by rw [Int32.sub_eq_add_neg]
      rw [e]
      exact ih (by omega) m (by omega)
theorem bx_floor {n : Nat} {es e1 e2 : List (Int × Int32)} {key : Int32} (hn : n < 80) (N : bk_Nr a_keys a_vals a_count n es) (he : es = e1 ++ e2) (h8 : es.length ≤ 8)
    (h1 : ∀ p, p ∈ e1 → p.1 ≤ key.toInt) (h2 : ∀ p, p ∈ e2 → key.toInt < p.1) {post : Int32 → Prop} (hp : post (nI e1.length - 1)) :
    wpX_floorIndex post (f_threadCount, f_fan, f_capacity, f_pace, f_least, f_spareTop, f_root, f_head, f_records, f_appliedTotal, a_keys, a_vals, a_count, a_level, a_low, a_high, a_right, a_spare, a_path, a_phaseOf, a_kindOf, a_firstOf, a_secondOf, a_leftOf, a_outcomeOf, a_resKey, a_resValue, a_countOf, a_digestOf, a_appliedAt, a_latchesOf, a_place, a_unknown) (nI n) key := by
  have hl : es.length = e1.length + e2.length := by rw [he, List.length_append]
  unfold wpX_floorIndex
  refine nm_r (bx_sh hn) ⟨bx_in hn, nm_e ⟨e2.length + 1, ?_⟩⟩
  rw [bx_cl (n := n) (by omega), N.1, hl]
  exact bx_floor_14 hn N he h8 h1 h2 hp e2.length (Nat.le_refl _) _ (by omega)
theorem bx_hop_r {n m : Nat} {key stop : Int32} (hn : n < 80) (hm : m < 80) (hr : a_right n = nI m) (hk : (a_high n).toInt < key.toInt) {post : Int32 → Prop} (hp : post (nI m)) :
    wpX_hop post (f_threadCount, f_fan, f_capacity, f_pace, f_least, f_spareTop, f_root, f_head, f_records, f_appliedTotal, a_keys, a_vals, a_count, a_level, a_low, a_high, a_right, a_spare, a_path, a_phaseOf, a_kindOf, a_firstOf, a_secondOf, a_leftOf, a_outcomeOf, a_resKey, a_resValue, a_countOf, a_digestOf, a_appliedAt, a_latchesOf, a_place, a_unknown) (nI n) key stop := by
  unfold wpX_hop
  refine And.intro (bx_in hn) ?_
  rw [bx_cl (n := n) (by omega), hr]
  exact br_f (nI_pos (by omega)) ⟨bx_in hn, br_f (by rw [bx_le]; omega) ⟨bx_in hn, hp⟩⟩
theorem bx_hop_26 {n : Nat} {key stop : Int32} {post : Int32 → Prop} (hn : n < 80) (hr : a_right n = -1 ∨ key.toInt ≤ (a_high n).toInt) (hw : wX_hop_26 post (nI n) key stop f_threadCount f_fan f_capacity f_pace f_least f_spareTop f_root f_head f_records f_appliedTotal a_keys a_vals a_count a_level a_low a_high a_right a_spare a_path a_phaseOf a_kindOf a_firstOf a_secondOf a_leftOf a_outcomeOf a_resKey a_resValue a_countOf a_digestOf a_appliedAt a_latchesOf a_place a_unknown) :
    wpX_hop post (f_threadCount, f_fan, f_capacity, f_pace, f_least, f_spareTop, f_root, f_head, f_records, f_appliedTotal, a_keys, a_vals, a_count, a_level, a_low, a_high, a_right, a_spare, a_path, a_phaseOf, a_kindOf, a_firstOf, a_secondOf, a_leftOf, a_outcomeOf, a_resKey, a_resValue, a_countOf, a_digestOf, a_appliedAt, a_latchesOf, a_place, a_unknown) (nI n) key stop := by
  unfold wpX_hop
  refine And.intro (bx_in hn) ?_
  rw [bx_cl (n := n) (by omega)]
  rcases hr with hr | hr
  · exact br_t (by rw [hr]; decide) hw
  · exact br_c (fun _ => hw) (fun _ => ⟨bx_in hn, br_t (bx_le.mpr hr) hw⟩)
theorem bx_hop_s {n : Nat} {key stop : Int32} (hn : n < 80) (hr : a_right n = -1 ∨ key.toInt ≤ (a_high n).toInt) (hl : ¬ stop < a_level n) {post : Int32 → Prop} (hp : post (nI n)) :
    wpX_hop post (f_threadCount, f_fan, f_capacity, f_pace, f_least, f_spareTop, f_root, f_head, f_records, f_appliedTotal, a_keys, a_vals, a_count, a_level, a_low, a_high, a_right, a_spare, a_path, a_phaseOf, a_kindOf, a_firstOf, a_secondOf, a_leftOf, a_outcomeOf, a_resKey, a_resValue, a_countOf, a_digestOf, a_appliedAt, a_latchesOf, a_place, a_unknown) (nI n) key stop := by
  refine bx_hop_26 hn hr ?_
  unfold wX_hop_26
  refine And.intro (bx_in hn) ?_
  rw [bx_cl (n := n) (by omega)]
  exact br_f hl hp
theorem bx_hop_d {n : Nat} {key stop : Int32} {es e1 e2 : List (Int × Int32)} {p : Int × Int32} (hn : n < 80) (hr : a_right n = -1 ∨ key.toInt ≤ (a_high n).toInt) (hl : stop < a_level n)
    (N : bk_Nr a_keys a_vals a_count n es) (he : es = e1 ++ p :: e2) (h8 : es.length ≤ 8) (h1 : ∀ q, q ∈ e1 → q.1 ≤ key.toInt) (hpk : p.1 ≤ key.toInt) (h2 : ∀ q, q ∈ e2 → key.toInt < q.1)
    {post : Int32 → Prop} (hp : post p.2) : wpX_hop post (f_threadCount, f_fan, f_capacity, f_pace, f_least, f_spareTop, f_root, f_head, f_records, f_appliedTotal, a_keys, a_vals, a_count, a_level, a_low, a_high, a_right, a_spare, a_path, a_phaseOf, a_kindOf, a_firstOf, a_secondOf, a_leftOf, a_outcomeOf, a_resKey, a_resValue, a_countOf, a_digestOf, a_appliedAt, a_latchesOf, a_place, a_unknown) (nI n) key stop := by
  have hl2 : es.length = e1.length + (e2.length + 1) := by rw [he, List.length_append, List.length_cons]
  refine bx_hop_26 hn hr ?_
  unfold wX_hop_26
  refine And.intro (bx_in hn) ?_
  rw [bx_cl (n := n) (by omega)]
  refine br_t hl (bx_floor (e1 := e1 ++ [p]) (e2 := e2) hn N (by rw [he]; simp) h8 ?_ h2 ?_)
  · intro q hq
    rcases List.mem_append.mp hq with hq | hq
    · exact h1 q hq
    · rw [List.mem_singleton.mp hq]; exact hpk
  · rw [show (e1 ++ [p]).length = e1.length + 1 by simp, nI_pred]
    refine br_t (nI_pos' (by omega)) ?_
    unfold wX_hop_54
    rw [bx_sh hn]
    refine And.intro (bx_ix hn (by omega)).1 ?_
    rw [(bx_ix hn (by omega)).2, (N.2 _ _ (bx_get2 he)).2]
    exact hp
end
end
section
/-! ===== 05: seek; find, ceil, floor, rank ===== -/
def bk_T (lst fan tl ti : Nat) (L : Nat → List bk_Nd) (h root : Nat) (ky vl ct lv lw hg rt : Nat → Int32) : Prop :=
  bk_PT lst fan tl ti L h root ∧ bk_LK ky vl ct lv lw hg rt L h ∧ h ≤ 5 ∧ bk_tb L (h + 1) ≤ 80 ∧ fan ≤ 6
section
variable {lst fan tl ti : Nat} {L : Nat → List bk_Nd} {h root : Nat} {f_threadCount f_fan f_capacity f_pace f_least f_spareTop f_root f_head f_records f_appliedTotal : Int32} {a_keys a_vals a_count a_level a_low a_high a_right a_spare a_path a_phaseOf a_kindOf a_firstOf a_secondOf a_leftOf a_outcomeOf a_resKey a_resValue a_countOf a_digestOf a_appliedAt a_latchesOf a_place a_unknown : Nat → Int32}
theorem bk_T_at (T : bk_T lst fan tl ti L h root a_keys a_vals a_count a_level a_low a_high a_right) {l : Nat} {A B : List bk_Nd} {x : bk_Nd} (hl : l ≤ h) (e : L l = A ++ x :: B) :
    bk_Rp l x (bk_hd B none) ∧ bk_Lq a_keys a_vals a_count a_level a_low a_high a_right l x (bk_hd B none) ∧ x.2.2.2.length ≤ 6 := by
  obtain ⟨P, K, _, _, hf⟩ := T
  have h1 := (P.1 l hl).1
  have h2 := K l hl
  rw [e] at h1 h2
  refine ⟨bk_ch_at h1, bk_ch_at h2, ?_⟩
  have := ((P.1 l hl).2.2 x (by rw [e]; simp)).1
  omega
/-- the child that an entry names -/
theorem bk_T_ch (T : bk_T lst fan tl ti L h root a_keys a_vals a_count a_level a_low a_high a_right) {l : Nat} {x : bk_Nd} {p : Int × Int32} (hl : l + 1 ≤ h) (hx : x ∈ L (l + 1)) (hp : p ∈ x.2.2.2) :
    ∃ y, y ∈ L l ∧ y.2.2.1 = true ∧ p = (y.2.1, nI y.1) := by
  have h1 : p ∈ bk_fl (L (l + 1)) := bk_mem_fl.mpr ⟨x, hx, hp⟩
  rw [T.1.2.1 l hl] at h1
  exact bk_mem_kn.mp h1
theorem bk_lt_hd {B : List bk_Nd} {k : Int} : k < bk_bd (bk_hd B none) ∨ ∃ y B', B = y :: B' ∧ y.2.1 ≤ k ∨ 2147483648 ≤ k := by
  cases B with
  | nil =>
    by_cases z : k < 2147483648
    · exact Or.inl z
    · exact Or.inr ⟨(0, 0, false, []), [], Or.inr (by omega)⟩
  | cons y B =>
    by_cases z : k < y.2.1
    · exact Or.inl z
    · exact Or.inr ⟨y, B, Or.inl ⟨rfl, by omega⟩⟩
theorem bx_cov_stay (T : bk_T lst fan tl ti L h root a_keys a_vals a_count a_level a_low a_high a_right) {l : Nat} {A B : List bk_Nd} {x : bk_Nd} (hl : l ≤ h) (e : L l = A ++ x :: B) {k : Int}
    (hk : k < bk_bd (bk_hd B none)) : a_right x.1 = -1 ∨ k ≤ (a_high x.1).toInt := by
  have q := (bk_T_at T hl e).2.1
  right
  rw [q.2.2.2.1]
  omega
theorem bx_seek_6 {key : Int32} {stop : Nat} (T : bk_T lst fan tl ti L h root a_keys a_vals a_count a_level a_low a_high a_right) :
    ∀ d l A x B, l ≤ h → stop ≤ l → L l = A ++ x :: B → x.2.1 ≤ key.toInt → B.length + bk_tb L l ≤ d →
    ∃ A' y B', L stop = A' ++ y :: B' ∧ y.2.1 ≤ key.toInt ∧ key.toInt < bk_bd (bk_hd B' none) ∧
      ∀ i, i + d < 160 → ∀ n, d < n → ∀ post : Int32 → Prop, post (nI y.1) → wX_seek_6 post key (nI stop) f_threadCount f_fan f_capacity f_pace f_least f_spareTop f_root f_head f_records f_appliedTotal a_keys a_vals a_count a_level a_low a_high a_right a_spare a_path a_phaseOf a_kindOf a_firstOf a_secondOf a_leftOf a_outcomeOf a_resKey a_resValue a_countOf a_digestOf a_appliedAt a_latchesOf a_place a_unknown n (nI x.1) (nI i) := by
  have h5 := T.2.2.1
  intro d
  induction d with
  | zero =>
    intro l A x B hl hs e hx hm
    obtain ⟨q1, q2, q3⟩ := bk_T_at T hl e
    have hB : B = [] := List.length_eq_zero_iff.mp (by omega)
    subst hB
    have hl0 : l = 0 := by
      cases l with
      | zero => rfl
      | succ l =>
        have h1 : bk_tb L (l + 1) = bk_tb L l + (L l).length := rfl
        have h2 := bk_ne0 T.1 (l := l) (by omega)
        omega
    subst hl0
    have hs0 : stop = 0 := by omega
    subst hs0
    have hk := key.toInt_lt
    have hk : key.toInt < bk_bd (bk_hd ([] : List bk_Nd) none) := hk
    refine ⟨A, x, [], e, hx, hk, fun i hi n hn post hp => ?_⟩
    obtain ⟨n, rfl⟩ : ∃ m, n = m + 1 := ⟨n - 1, by omega⟩
    refine br_f (nI_ge (b := 160) (by omega) (by decide)) (bx_hop_s q1.1 (bx_cov_stay T hl e hk) ?_ (br_t rfl hp))
    rw [q2.2.2.1]
    exact nI_nlt (Nat.le_refl _) (by omega)
  | succ d ih =>
    intro l A x B hl hs e hx hm
    obtain ⟨q1, q2, q3⟩ := bk_T_at T hl e
    have hk1 := key.toInt_lt
    rcases bk_lt_hd (B := B) (k := key.toInt) with hk | ⟨y, B', ⟨rfl, hy⟩ | hk⟩
    · by_cases hs2 : l = stop
      · subst hs2
        refine ⟨A, x, B, e, hx, hk, fun i hi n hn post hp => ?_⟩
        obtain ⟨n, rfl⟩ : ∃ m, n = m + 1 := ⟨n - 1, by omega⟩
        refine br_f (nI_ge (b := 160) (by omega) (by decide)) (bx_hop_s q1.1 (bx_cov_stay T hl e hk) ?_ (br_t rfl hp))
        rw [q2.2.2.1]
        exact nI_nlt (Nat.le_refl _) (by omega)
      · obtain ⟨l, rfl⟩ : ∃ m, l = m + 1 := ⟨l - 1, by omega⟩
        obtain ⟨v, es, hes⟩ := q1.2.2.2 (by omega)
        obtain ⟨e1, e2, he, h1, h2⟩ := bk_cut (key.toInt + 1) q1.2.2.1.1
        rcases bk_snoc e1 with rfl | ⟨e3, p, rfl⟩
        · exfalso
          have := h2 (x.2.1, v) (by rw [List.nil_append] at he; rw [← he, hes]; exact List.mem_cons_self)
          have : key.toInt + 1 ≤ x.2.1 := this
          omega
        · have hes2 : x.2.2.2 = e3 ++ p :: e2 := by rw [he]; simp
          have hpm : p ∈ x.2.2.2 := by rw [hes2]; simp
          obtain ⟨y, hy1, hy2, hy3⟩ := bk_T_ch T hl (x := x) (by rw [e]; simp) hpm
          obtain ⟨A2, B2, e2'⟩ := List.append_of_mem hy1
          have hpk : p.1 ≤ key.toInt := by have := h1 p (by simp); omega
          have hlen : (L l).length = A2.length + (B2.length + 1) := by rw [e2', List.length_append, List.length_cons]
          have htb : bk_tb L (l + 1) = bk_tb L l + (L l).length := rfl
          obtain ⟨A', z, B', r1, r2, r3, r4⟩ := ih l A2 y B2 (by omega) (by omega) e2' (by rw [hy3] at hpk; exact hpk) (by omega)
          have hyq := (bk_T_at T (l := l) (by omega) e2')
          refine ⟨A', z, B', r1, r2, r3, fun i hi n hn post hp => ?_⟩
          obtain ⟨n, rfl⟩ : ∃ m, n = m + 1 := ⟨n - 1, by omega⟩
          refine br_f (nI_ge (b := 160) (by omega) (by decide)) (bx_hop_d q1.1 (bx_cov_stay T hl e hk) ?_ q2.1 hes2 (by omega) ?_ hpk ?_ (br_f ?_ (nm_r (nI_1 i) ?_)))
          · rw [q2.2.2.1]
            exact nI_lt (by omega) (by omega)
          · intro q hq
            have := h1 q (by simp [hq])
            omega
          · intro q hq
            have := h2 q hq
            omega
          · rw [hy3]
            intro hc
            have hc : nI y.1 = nI x.1 := hc
            have hc := bx_inj (by have := hyq.1.1; omega) (by have := q1.1; omega) hc
            have h3 := hyq.2.1.2.2.1
            rw [hc, q2.2.2.1] at h3
            have := bx_inj (by omega) (by omega) h3
            omega
          · rw [hy3]
            exact r4 (i + 1) (by omega) n (by omega) post hp
    · have e2' : L l = (A ++ [x]) ++ y :: B' := by rw [e]; simp
      have hyq := (bk_T_at T (l := l) hl e2')
      rw [List.length_cons] at hm
      obtain ⟨A', z, B2, r1, r2, r3, r4⟩ := ih l (A ++ [x]) y B' hl hs e2' hy (by omega)
      refine ⟨A', z, B2, r1, r2, r3, fun i hi n hn post hp => ?_⟩
      obtain ⟨n, rfl⟩ : ∃ m, n = m + 1 := ⟨n - 1, by omega⟩
      refine br_f (nI_ge (b := 160) (by omega) (by decide)) (bx_hop_r q1.1 hyq.1.1 q2.2.2.2.2 ?_ (br_f ?_ (nm_r (nI_1 i) ?_)))
      · rw [q2.2.2.2.1]
        show y.2.1 - 1 < key.toInt
        omega
      · intro hc
        have hc := bx_inj (by have := hyq.1.1; omega) (by have := q1.1; omega) hc
        have h3 := hyq.2.1.2.1
        rw [hc, q2.2.1] at h3
        have h4 : x.2.1 < y.2.1 := q1.2.1
        omega
      · exact r4 (i + 1) (by omega) n (by omega) post hp
    · exact absurd hk1 (by omega)
/-- a node from which a search for k may start -/
def bk_St (L : Nat → List bk_Nd) (h : Nat) (k : Int) (s : Int32) : Prop := ∃ l x, l ≤ h ∧ x ∈ L l ∧ x.2.1 ≤ k ∧ s = nI x.1
theorem bx_seek {key : Int32} {stop l : Nat} {x : bk_Nd} (T : bk_T lst fan tl ti L h root a_keys a_vals a_count a_level a_low a_high a_right) (hl : l ≤ h) (hs : stop ≤ l) (hx : x ∈ L l) (hk : x.2.1 ≤ key.toInt) :
    ∃ A y B, L stop = A ++ y :: B ∧ y.2.1 ≤ key.toInt ∧ key.toInt < bk_bd (bk_hd B none) ∧ ∀ post : Int32 → Prop, post (nI y.1) → wpX_seek post (f_threadCount, f_fan, f_capacity, f_pace, f_least, f_spareTop, f_root, f_head, f_records, f_appliedTotal, a_keys, a_vals, a_count, a_level, a_low, a_high, a_right, a_spare, a_path, a_phaseOf, a_kindOf, a_firstOf, a_secondOf, a_leftOf, a_outcomeOf, a_resKey, a_resValue, a_countOf, a_digestOf, a_appliedAt, a_latchesOf, a_place, a_unknown) (nI x.1) key (nI stop) := by
  obtain ⟨A, B, e⟩ := List.append_of_mem hx
  obtain ⟨A', y, B', r1, r2, r3, r4⟩ := bx_seek_6 (key := key) (stop := stop) T (B.length + bk_tb L l) l A x B hl hs e hk (Nat.le_refl _)
  refine ⟨A', y, B', r1, r2, r3, fun post hp => ?_⟩
  unfold wpX_seek
  refine ⟨B.length + bk_tb L l + 1, r4 0 ?_ _ (by omega) post hp⟩
  have h1 : bk_tb L (l + 1) = bk_tb L l + (L l).length := rfl
  have h2 : (L l).length = A.length + (B.length + 1) := by rw [e, List.length_append, List.length_cons]
  have h3 := bk_tb_le L (m := l + 1) (n := h + 1) (by omega)
  have h4 := T.2.2.2.1
  omega
theorem bx_seek0 {key s : Int32} (T : bk_T lst fan tl ti L h root a_keys a_vals a_count a_level a_low a_high a_right) (hs : bk_St L h key.toInt s) :
    ∃ A y B, L 0 = A ++ y :: B ∧ y.2.1 ≤ key.toInt ∧ key.toInt < bk_bd (bk_hd B none) ∧ ∀ post : Int32 → Prop, post (nI y.1) → wpX_seek post (f_threadCount, f_fan, f_capacity, f_pace, f_least, f_spareTop, f_root, f_head, f_records, f_appliedTotal, a_keys, a_vals, a_count, a_level, a_low, a_high, a_right, a_spare, a_path, a_phaseOf, a_kindOf, a_firstOf, a_secondOf, a_leftOf, a_outcomeOf, a_resKey, a_resValue, a_countOf, a_digestOf, a_appliedAt, a_latchesOf, a_place, a_unknown) s key 0 := by
  obtain ⟨l, x, hl, hx, hk, rfl⟩ := hs
  exact bx_seek (stop := 0) T hl (by omega) hx hk
/-- the root serves every key -/
theorem bk_St_root (P : bk_PT lst fan tl ti L h root) (key : Int32) : bk_St L h key.toInt (nI root) := by
  obtain ⟨x, ys, e, h1, h2⟩ := P.2.2.1
  obtain ⟨y, zs, e2, h3, h4⟩ := (P.1 h (Nat.le_refl _)).2.1
  rw [e] at e2
  injection e2 with e3 e4
  subst e3
  refine ⟨h, x, Nat.le_refl _, by rw [e]; simp, ?_, by rw [h1]⟩
  rw [h3]
  have := key.le_toInt
  omega
end
end
section
/-! ===== 06: findSlot, ceilSlot, floorSlot, slotAt, rankOf of the component ===== -/
def bk_Sl (L : Nat → List bk_Nd) (k : Int) (v r : Int32) : Prop :=
  ∃ A x B e1 e2, L 0 = A ++ x :: B ∧ x.2.2.2 = e1 ++ (k, v) :: e2 ∧ r = nI (8 * x.1 + e1.length)
theorem bk_Sl_mem {L : Nat → List bk_Nd} {k : Int} {v r : Int32} (S : bk_Sl L k v r) : (k, v) ∈ bk_fl (L 0) := by
  obtain ⟨A, x, B, e1, e2, h1, h2, h3⟩ := S
  exact bk_mem_fl.mpr ⟨x, by rw [h1]; simp, by rw [h2]; simp⟩
def bk_Fi (L : Nat → List bk_Nd) (k : Int) (r : Int32) : Prop :=
  (∃ v, bk_Sl L k v r) ∨ (r = -1 ∧ ∀ v, (k, v) ∉ bk_fl (L 0))
def bk_Ce (L : Nat → List bk_Nd) (k : Int) (r : Int32) : Prop :=
  (∃ k' v, bk_Sl L k' v r ∧ k ≤ k' ∧ ∀ p, p ∈ bk_fl (L 0) → k ≤ p.1 → k' ≤ p.1) ∨ (r = -1 ∧ ∀ p, p ∈ bk_fl (L 0) → p.1 < k)
def bk_Fo (L : Nat → List bk_Nd) (k : Int) (r : Int32) : Prop :=
  (∃ k' v, bk_Sl L k' v r ∧ k' ≤ k ∧ ∀ p, p ∈ bk_fl (L 0) → p.1 ≤ k → p.1 ≤ k') ∨ (r = -1 ∧ ∀ p, p ∈ bk_fl (L 0) → k < p.1)
theorem bk_mem3 {L : Nat → List bk_Nd} {A B : List bk_Nd} {x : bk_Nd} (e : L 0 = A ++ x :: B) {p : Int × Int32} (hp : p ∈ bk_fl (L 0)) :
    p ∈ bk_fl A ∨ p ∈ x.2.2.2 ∨ p ∈ bk_fl B := by
  rw [e, bk_fl_app, bk_fl_cons] at hp
  rcases List.mem_append.mp hp with hp | hp
  · exact Or.inl hp
  · rcases List.mem_append.mp hp with hp | hp
    · exact Or.inr (Or.inl hp)
    · exact Or.inr (Or.inr hp)
section
variable {lst fan tl ti : Nat} {L : Nat → List bk_Nd} {h root : Nat} {f_threadCount f_fan f_capacity f_pace f_least f_spareTop f_root f_head f_records f_appliedTotal : Int32} {a_keys a_vals a_count a_level a_low a_high a_right a_spare a_path a_phaseOf a_kindOf a_firstOf a_secondOf a_leftOf a_outcomeOf a_resKey a_resValue a_countOf a_digestOf a_appliedAt a_latchesOf a_place a_unknown : Nat → Int32}
theorem bk_Sl_at (T : bk_T lst fan tl ti L h root a_keys a_vals a_count a_level a_low a_high a_right) {k : Int} {v r : Int32} (S : bk_Sl L k v r) :
    ∃ q, q < 640 ∧ r = nI q ∧ (a_keys q).toInt = k ∧ a_vals q = v := by
  obtain ⟨A, x, B, e1, e2, h1, h2, h3⟩ := S
  obtain ⟨q1, q2, q3⟩ := bk_T_at T (l := 0) (by omega) h1
  have h4 : x.2.2.2.length = e1.length + (e2.length + 1) := by rw [h2, List.length_append, List.length_cons]
  have h5 := q2.1.2 _ _ (bx_get2 h2)
  have h6 := q1.1
  exact ⟨8 * x.1 + e1.length, by omega, h3, h5.1, h5.2⟩
theorem bk_leafA (T : bk_T lst fan tl ti L h root a_keys a_vals a_count a_level a_low a_high a_right) {A B : List bk_Nd} {x : bk_Nd} (e : L 0 = A ++ x :: B) :
    (∀ p, p ∈ bk_fl A → p.1 < x.2.1) ∧ (∀ p, p ∈ bk_fl B → bk_bd (bk_hd B none) ≤ p.1) := by
  have c := (T.1.1 0 (by omega)).1
  rw [e] at c
  have d := bk_ch_app.mp c
  refine ⟨fun p hp => ?_, fun p hp => ?_⟩
  · obtain ⟨y, hy, hp⟩ := bk_mem_fl.mp hp
    exact (bk_lt d.1 y hy).2 p hp
  · obtain ⟨y, hy, hp⟩ := bk_mem_fl.mp hp
    exact (bk_ge d.2.2 y hy).2 p hp
theorem bx_find {key s : Int32} (T : bk_T lst fan tl ti L h root a_keys a_vals a_count a_level a_low a_high a_right) (hs : bk_St L h key.toInt s) :
    ∃ r, bk_Fi L key.toInt r ∧ ∀ post : Int32 → Prop, post r → wpX_findSlot post (f_threadCount, f_fan, f_capacity, f_pace, f_least, f_spareTop, f_root, f_head, f_records, f_appliedTotal, a_keys, a_vals, a_count, a_level, a_low, a_high, a_right, a_spare, a_path, a_phaseOf, a_kindOf, a_firstOf, a_secondOf, a_leftOf, a_outcomeOf, a_resKey, a_resValue, a_countOf, a_digestOf, a_appliedAt, a_latchesOf, a_place, a_unknown) s key := by
  obtain ⟨A, y, B, r1, r2, r3, r4⟩ := bx_seek0 T hs
  obtain ⟨q1, q2, q3⟩ := bk_T_at T (l := 0) (by omega) r1
  obtain ⟨lA, lB⟩ := bk_leafA T r1
  obtain ⟨e1, e2, he, h1, h2⟩ := bk_cut key.toInt q1.2.2.1.1
  have hn := q1.1
  have hw : ∀ (r : Int32) (post : Int32 → Prop), ((((nI e1.length) < (nI y.2.2.2.length) → ∀ x5 : Int32, x5 = nI (8 * y.1) + nI e1.length → (vp_in x5 640 ∧ (((a_keys x5.toNatClampNeg) = key → post x5) ∧ (¬ (a_keys x5.toNatClampNeg) = key → post (-1))))) ∧ (¬ (nI e1.length) < (nI y.2.2.2.length) → post (-1)))) → wpX_findSlot post (f_threadCount, f_fan, f_capacity, f_pace, f_least, f_spareTop, f_root, f_head, f_records, f_appliedTotal, a_keys, a_vals, a_count, a_level, a_low, a_high, a_right, a_spare, a_path, a_phaseOf, a_kindOf, a_firstOf, a_secondOf, a_leftOf, a_outcomeOf, a_resKey, a_resValue, a_countOf, a_digestOf, a_appliedAt, a_latchesOf, a_place, a_unknown) s key := by
    intro r post hp
    unfold wpX_findSlot
    refine r4 _ (bx_lower q1.1 q2.1 he (by omega) h1 h2 ?_)
    refine And.intro (bx_in q1.1) ?_
    rw [bx_cl (n := y.1) (by omega), q2.1.1, bx_sh q1.1]
    exact hp
  cases e2 with
  | nil =>
    rw [List.append_nil] at he
    refine ⟨-1, Or.inr ⟨rfl, fun v hv => ?_⟩, fun post hp => hw 0 post ?_⟩
    · rcases bk_mem3 r1 hv with hv | hv | hv
      · have := lA _ hv
        have : key.toInt < y.2.1 := this
        omega
      · rw [he] at hv
        have := h1 _ hv
        have : key.toInt < key.toInt := this
        omega
      · have := lB _ hv
        have : _ ≤ key.toInt := this
        omega
    · rw [he]
      exact br_f (nI_nlt (Nat.le_refl _) (by rw [he] at q3; omega)) hp
  | cons p e2 =>
    have hlen : y.2.2.2.length = e1.length + (e2.length + 1) := by rw [he, List.length_append, List.length_cons]
    have hpn := q2.1.2 _ _ (bx_get2 he)
    have hlt : nI e1.length < nI y.2.2.2.length := nI_lt (by omega) (by omega)
    have hrd : (a_keys (nI (8 * y.1) + nI e1.length).toNatClampNeg).toInt = p.1 := by rw [(bx_ix q1.1 (by omega)).2]; exact hpn.1
    by_cases z : p.1 = key.toInt
    · refine ⟨nI (8 * y.1 + e1.length), Or.inl ⟨p.2, A, y, B, e1, e2, r1, ?_, rfl⟩, fun post hp => hw 0 post (br_t hlt (nm_e ⟨(bx_ix q1.1 (by omega)).1, br_t ?_ ?_⟩))⟩
      · rw [he, ← z]
      · apply Int32.toInt_inj.mp
        rw [hrd, z]
      · rw [nI_add]; exact hp
    · refine ⟨-1, Or.inr ⟨rfl, fun v hv => ?_⟩, fun post hp => hw 0 post (br_t hlt (nm_e ⟨(bx_ix q1.1 (by omega)).1, br_f ?_ hp⟩))⟩
      · rcases bk_mem3 r1 hv with hv | hv | hv
        · have := lA _ hv
          have : key.toInt < y.2.1 := this
          omega
        · rw [he] at hv
          rcases List.mem_append.mp hv with hv | hv
          · have := h1 _ hv
            have : key.toInt < key.toInt := this
            omega
          · rcases List.mem_cons.mp hv with hv | hv
            · exact z (by rw [← hv])
            · have hs := q1.2.2.1.1
              rw [he] at hs
              have h3 := (List.pairwise_cons.mp (List.pairwise_append.mp hs).2.1).1 _ hv
              have h3 : p.1 < key.toInt := h3
              have h4 := h2 p List.mem_cons_self
              omega
        · have := lB _ hv
          have : _ ≤ key.toInt := this
          omega
      · intro hc
        rw [hc] at hrd
        exact z hrd.symm
theorem bx_ceil_11 {key : Int32} (T : bk_T lst fan tl ti L h root a_keys a_vals a_count a_level a_low a_high a_right) :
    ∀ B A x, L 0 = A ++ x :: B → (∀ p, p ∈ bk_fl A → p.1 < key.toInt) →
    ∃ r, bk_Ce L key.toInt r ∧ ∀ i, i + B.length < 80 → ∀ n, B.length + 1 < n → ∀ post : Int32 → Prop, post r → wX_ceilSlot_11 post key f_threadCount f_fan f_capacity f_pace f_least f_spareTop f_root f_head f_records f_appliedTotal a_keys a_vals a_count a_level a_low a_high a_right a_spare a_path a_phaseOf a_kindOf a_firstOf a_secondOf a_leftOf a_outcomeOf a_resKey a_resValue a_countOf a_digestOf a_appliedAt a_latchesOf a_place a_unknown n (nI x.1) (nI i) := by
  intro B
  induction B with
  | nil =>
    intro A x e hA
    obtain ⟨q1, q2, q3⟩ := bk_T_at T (l := 0) (by omega) e
    have hn := q1.1
    obtain ⟨lA, lB⟩ := bk_leafA T e
    obtain ⟨e1, e2, he, h1, h2⟩ := bk_cut key.toInt q1.2.2.1.1
    cases e2 with
    | nil =>
      rw [List.append_nil] at he
      refine ⟨-1, Or.inr ⟨rfl, fun p hp => ?_⟩, fun i hi n hn post hp => ?_⟩
      · rcases bk_mem3 e hp with hp | hp | hp
        · exact hA p hp
        · rw [he] at hp; exact h1 p hp
        · cases hp
      · obtain ⟨n, rfl⟩ : ∃ m, n = m + 2 := ⟨n - 2, by simp at hn; omega⟩
        simp only [List.length_nil, Nat.add_zero] at hi
        refine br_f (nI_ge (b := 80) (by omega) (by decide)) (br_f (nI_pos (by omega)) (bx_lower q1.1 q2.1 (by rw [List.append_nil]; exact he) (by omega) h1 h2 ?_))
        refine And.intro (bx_in q1.1) ?_
        rw [bx_cl (n := x.1) (by omega), q2.1.1, q2.2.2.2.2, ← he]
        refine br_t (nI_le (Nat.le_refl _) (by omega)) ⟨bx_in q1.1, nm_e (nm_e ?_)⟩
        exact br_c (fun _ => hp) (fun _ => br_t (by show (-1 : Int32) < 0; decide) hp)
    | cons p e2 =>
      have hlen : x.2.2.2.length = e1.length + (e2.length + 1) := by rw [he, List.length_append, List.length_cons]
      refine ⟨nI (8 * x.1 + e1.length), Or.inl ⟨p.1, p.2, ⟨A, x, [], e1, e2, e, he, rfl⟩, h2 p List.mem_cons_self, fun q hq hk => ?_⟩, fun i hi n hn post hp => ?_⟩
      · rcases bk_mem3 e hq with hq | hq | hq
        · have := hA q hq; omega
        · have hs := q1.2.2.1.1
          rw [he] at hs hq
          rcases List.mem_append.mp hq with hq | hq
          · have := h1 q hq; omega
          · rcases List.mem_cons.mp hq with hq | hq
            · rw [hq]; exact Int.le_refl _
            · exact Int.le_of_lt ((List.pairwise_cons.mp (List.pairwise_append.mp hs).2.1).1 _ hq)
        · cases hq
      · obtain ⟨n, rfl⟩ : ∃ m, n = m + 1 := ⟨n - 1, by omega⟩
        simp only [List.length_nil, Nat.add_zero] at hi
        refine br_f (nI_ge (b := 80) (by omega) (by decide)) (br_f (nI_pos (by omega)) (bx_lower q1.1 q2.1 he (by omega) h1 h2 ?_))
        refine And.intro (bx_in q1.1) ?_
        rw [bx_cl (n := x.1) (by omega), q2.1.1]
        refine br_f (nI_ge (by omega) (by omega)) ?_
        rw [bx_sh q1.1, nI_add]
        exact hp
  | cons y B ih =>
    intro A x e hA
    obtain ⟨q1, q2, q3⟩ := bk_T_at T (l := 0) (by omega) e
    have hn := q1.1
    obtain ⟨lA, lB⟩ := bk_leafA T e
    obtain ⟨e1, e2, he, h1, h2⟩ := bk_cut key.toInt q1.2.2.1.1
    cases e2 with
    | nil =>
      rw [List.append_nil] at he
      obtain ⟨r, c1, c2⟩ := ih (A ++ [x]) y (by rw [e]; simp) (by
        intro p hp
        rw [bk_fl_app, bk_fl_cons, bk_fl_nil, List.append_nil] at hp
        rcases List.mem_append.mp hp with hp | hp
        · exact hA p hp
        · rw [he] at hp; exact h1 p hp)
      refine ⟨r, c1, fun i hi n hn post hp => ?_⟩
      obtain ⟨n, rfl⟩ : ∃ m, n = m + 1 := ⟨n - 1, by omega⟩
      rw [List.length_cons] at hi hn
      refine br_f (nI_ge (b := 80) (by omega) (by decide)) (br_f (nI_pos (by omega)) (bx_lower q1.1 q2.1 (by rw [List.append_nil]; exact he) (by omega) h1 h2 ?_))
      refine And.intro (bx_in q1.1) ?_
      rw [bx_cl (n := x.1) (by omega), q2.1.1, q2.2.2.2.2, ← he]
      exact br_t (nI_le (Nat.le_refl _) (by omega)) ⟨bx_in q1.1, nm_e (nm_r (nI_1 i) (c2 (i + 1) (by omega) n (by omega) post hp))⟩
    | cons p e2 =>
      have hlen : x.2.2.2.length = e1.length + (e2.length + 1) := by rw [he, List.length_append, List.length_cons]
      have hpx := (q1.2.2.1.2 p (by rw [he]; simp)).2
      refine ⟨nI (8 * x.1 + e1.length), Or.inl ⟨p.1, p.2, ⟨A, x, y :: B, e1, e2, e, he, rfl⟩, h2 p List.mem_cons_self, fun q hq hk => ?_⟩, fun i hi n hn post hp => ?_⟩
      · rcases bk_mem3 e hq with hq | hq | hq
        · have := hA q hq; omega
        · have hs := q1.2.2.1.1
          rw [he] at hs hq
          rcases List.mem_append.mp hq with hq | hq
          · have := h1 q hq; omega
          · rcases List.mem_cons.mp hq with hq | hq
            · rw [hq]; exact Int.le_refl _
            · exact Int.le_of_lt ((List.pairwise_cons.mp (List.pairwise_append.mp hs).2.1).1 _ hq)
        · have := lB q hq; omega
      · obtain ⟨n, rfl⟩ : ∃ m, n = m + 1 := ⟨n - 1, by omega⟩
        rw [List.length_cons] at hi
        refine br_f (nI_ge (b := 80) (by omega) (by decide)) (br_f (nI_pos (by omega)) (bx_lower q1.1 q2.1 he (by omega) h1 h2 ?_))
        refine And.intro (bx_in q1.1) ?_
        rw [bx_cl (n := x.1) (by omega), q2.1.1]
        refine br_f (nI_ge (by omega) (by omega)) ?_
        rw [bx_sh q1.1, nI_add]
        exact hp
theorem bx_ceil {key s : Int32} (T : bk_T lst fan tl ti L h root a_keys a_vals a_count a_level a_low a_high a_right) (hs : bk_St L h key.toInt s) :
    ∃ r, bk_Ce L key.toInt r ∧ ∀ post : Int32 → Prop, post r → wpX_ceilSlot post (f_threadCount, f_fan, f_capacity, f_pace, f_least, f_spareTop, f_root, f_head, f_records, f_appliedTotal, a_keys, a_vals, a_count, a_level, a_low, a_high, a_right, a_spare, a_path, a_phaseOf, a_kindOf, a_firstOf, a_secondOf, a_leftOf, a_outcomeOf, a_resKey, a_resValue, a_countOf, a_digestOf, a_appliedAt, a_latchesOf, a_place, a_unknown) s key := by
  obtain ⟨A, y, B, r1, r2, r3, r4⟩ := bx_seek0 T hs
  obtain ⟨lA, lB⟩ := bk_leafA T r1
  obtain ⟨r, c1, c2⟩ := bx_ceil_11 (key := key) T B A y r1 (fun p hp => by have := lA p hp; omega)
  refine ⟨r, c1, fun post hp => ?_⟩
  unfold wpX_ceilSlot
  refine r4 _ ⟨B.length + 2, c2 0 ?_ _ (by omega) post hp⟩
  have h1 : (L 0).length = A.length + (B.length + 1) := by rw [r1, List.length_append, List.length_cons]
  have := T.1.2.2.2.1
  omega
end
end
section
/-! ===== 07: floorSlot, slotAt, rankOf of the component ===== -/
theorem bx_min : (-2147483648 : Int32).toInt = -2147483648 := by decide
theorem bx_sub1 {x : Int32} (h : x.toInt ≠ -2147483648) : (x - 1).toInt = x.toInt - 1 := by
  have h1 := x.le_toInt
  have h2 := x.toInt_lt
  rw [Int32.toInt_sub, show (1 : Int32).toInt = 1 from by decide]
  exact Int.bmod_eq_of_le (by omega) (by omega)
theorem bx_add1 {x : Int32} (h : x.toInt ≠ 2147483647) : (x + 1).toInt = x.toInt + 1 := by
  have h1 := x.le_toInt
  have h2 := x.toInt_lt
  rw [Int32.toInt_add, show (1 : Int32).toInt = 1 from by decide]
  exact Int.bmod_eq_of_le (by omega) (by omega)
section
variable {lst fan tl ti : Nat} {L : Nat → List bk_Nd} {h root : Nat} {f_threadCount f_fan f_capacity f_pace f_least f_spareTop f_root f_head f_records f_appliedTotal : Int32} {a_keys a_vals a_count a_level a_low a_high a_right a_spare a_path a_phaseOf a_kindOf a_firstOf a_secondOf a_leftOf a_outcomeOf a_resKey a_resValue a_countOf a_digestOf a_appliedAt a_latchesOf a_place a_unknown : Nat → Int32}
theorem bx_floor_11 {key : Int32} (T : bk_T lst fan tl ti L h root a_keys a_vals a_count a_level a_low a_high a_right) (hro : f_root = nI root) :
    ∀ d A x B, A.length ≤ d → L 0 = A ++ x :: B → (∀ p, p ∈ bk_fl B → key.toInt < p.1) →
    ∃ r, bk_Fo L key.toInt r ∧ ∀ i, i + d < 80 → ∀ n, d < n → ∀ post : Int32 → Prop, post r → wX_floorSlot_11 post key f_threadCount f_fan f_capacity f_pace f_least f_spareTop f_root f_head f_records f_appliedTotal a_keys a_vals a_count a_level a_low a_high a_right a_spare a_path a_phaseOf a_kindOf a_firstOf a_secondOf a_leftOf a_outcomeOf a_resKey a_resValue a_countOf a_digestOf a_appliedAt a_latchesOf a_place a_unknown n (nI x.1) (nI i) := by
  intro d
  induction d with
  | zero =>
    intro A x B hd e hB
    have hA : A = [] := List.length_eq_zero_iff.mp (by omega)
    subst hA
    obtain ⟨q1, q2, q3⟩ := bk_T_at T (l := 0) (by omega) e
    have hn := q1.1
    obtain ⟨lA, lB⟩ := bk_leafA T e
    obtain ⟨e1, e2, he, h1, h2⟩ := bk_cut (key.toInt + 1) q1.2.2.1.1
    have hlo : x.2.1 = -2147483648 := by
      obtain ⟨y, ys, e3, h3, _⟩ := (T.1.1 0 (by omega)).2.1
      rw [e] at e3
      injection e3 with e4 _
      rw [e4]; exact h3
    rcases bk_snoc e1 with rfl | ⟨e3, p, rfl⟩
    · refine ⟨-1, Or.inr ⟨rfl, fun p hp => ?_⟩, fun i hi n hn post hp => ?_⟩
      · rcases bk_mem3 e hp with hp | hp | hp
        · cases hp
        · rw [he, List.nil_append] at hp; have := h2 p hp; omega
        · exact hB p hp
      · obtain ⟨n, rfl⟩ : ∃ m, n = m + 1 := ⟨n - 1, by omega⟩
        refine br_f (nI_ge (b := 80) (by omega) (by decide)) (bx_floor q1.1 q2.1 he (by omega) (fun p hp => by have := h1 p hp; omega) (fun p hp => by have := h2 p hp; omega) ?_)
        refine br_t (by decide) ⟨bx_in q1.1, br_t ?_ hp⟩
        rw [bx_cl (n := x.1) (by omega)]
        apply Int32.toInt_inj.mp
        rw [q2.2.1, hlo, bx_min]
    · have hes : x.2.2.2 = e3 ++ p :: e2 := by rw [he]; simp
      have hlen : x.2.2.2.length = e3.length + (e2.length + 1) := by rw [hes, List.length_append, List.length_cons]
      have hpk := h1 p (by simp)
      refine ⟨nI (8 * x.1 + e3.length), Or.inl ⟨p.1, p.2, ⟨[], x, B, e3, e2, e, hes, rfl⟩, by omega, fun q hq hk => ?_⟩, fun i hi n hn post hp => ?_⟩
      · rcases bk_mem3 e hq with hq | hq | hq
        · cases hq
        · have hs := q1.2.2.1.1
          rw [hes] at hs hq
          rcases List.mem_append.mp hq with hq | hq
          · exact Int.le_of_lt ((List.pairwise_append.mp hs).2.2 q hq p List.mem_cons_self)
          · rcases List.mem_cons.mp hq with hq | hq
            · rw [hq]; exact Int.le_refl _
            · have := h2 q hq; omega
        · have := hB q hq; omega
      · obtain ⟨n, rfl⟩ : ∃ m, n = m + 1 := ⟨n - 1, by omega⟩
        refine br_f (nI_ge (b := 80) (by omega) (by decide)) (bx_floor q1.1 q2.1 he (by omega) (fun p hp => by have := h1 p hp; omega) (fun p hp => by have := h2 p hp; omega) ?_)
        rw [show (e3 ++ [p]).length = e3.length + 1 by simp, nI_pred]
        refine br_f (nI_pos (by omega)) ?_
        rw [bx_sh q1.1, nI_add]
        exact hp
  | succ d ih =>
    intro A x B hd e hB
    obtain ⟨q1, q2, q3⟩ := bk_T_at T (l := 0) (by omega) e
    have hn := q1.1
    obtain ⟨lA, lB⟩ := bk_leafA T e
    obtain ⟨e1, e2, he, h1, h2⟩ := bk_cut (key.toInt + 1) q1.2.2.1.1
    rcases bk_snoc e1 with rfl | ⟨e3, p, rfl⟩
    · rw [List.nil_append] at he
      rcases bk_snoc A with rfl | ⟨A', y, rfl⟩
      · have hlo : x.2.1 = -2147483648 := by
          obtain ⟨y, ys, e3, h3, _⟩ := (T.1.1 0 (by omega)).2.1
          rw [e] at e3
          injection e3 with e4 _
          rw [e4]; exact h3
        refine ⟨-1, Or.inr ⟨rfl, fun p hp => ?_⟩, fun i hi n hn post hp => ?_⟩
        · rcases bk_mem3 e hp with hp | hp | hp
          · cases hp
          · rw [he] at hp; have := h2 p hp; omega
          · exact hB p hp
        · obtain ⟨n, rfl⟩ : ∃ m, n = m + 1 := ⟨n - 1, by omega⟩
          refine br_f (nI_ge (b := 80) (by omega) (by decide)) (bx_floor (e1 := []) q1.1 q2.1 he (by omega) (fun p hp => by have := h1 p hp; omega) (fun p hp => by have := h2 p hp; omega) ?_)
          refine br_t (by decide) ⟨bx_in q1.1, br_t ?_ hp⟩
          rw [bx_cl (n := x.1) (by omega)]
          apply Int32.toInt_inj.mp
          rw [q2.2.1, hlo, bx_min]
      · have e' : L 0 = A' ++ y :: (x :: B) := by rw [e]; simp
        have c := (T.1.1 0 (by omega)).1
        have hyx : y.2.1 < x.2.1 := by
          rw [e'] at c
          exact (bk_lo_ne c).2 x List.mem_cons_self
        have hxm : (a_low x.1).toInt ≠ -2147483648 := by
          rw [q2.2.1]
          have h3 := (bk_T_at T (l := 0) (by omega) e').2.1.2.1
          have h4 := (a_low y.1).le_toInt
          omega
        have hsub : (a_low x.1 - 1).toInt = x.2.1 - 1 := by rw [bx_sub1 hxm, q2.2.1]
        obtain ⟨A2, z, B2, s1, s2, s3, s4⟩ := bx_seek0 (key := a_low x.1 - 1) (s := f_root) T (by rw [hro]; exact bk_St_root T.1 _)
        rw [hsub] at s2 s3
        have hc : bk_ch (bk_Rp 0) none (A' ++ y :: (x :: B)) := by rw [← e']; exact c
        obtain ⟨g1, g2, g3⟩ := bk_cov (k := x.2.1 - 1) hc (e'.symm.trans s1) (by omega) (by show x.2.1 - 1 < x.2.1; omega) s2 s3
        subst g1 g2 g3
        have hld : A'.length ≤ d := by
          rw [List.length_append] at hd
          simp at hd
          omega
        obtain ⟨r, c1, c2⟩ := ih A' y (x :: B) hld e' (by
          intro p hp
          rw [bk_fl_cons] at hp
          rcases List.mem_append.mp hp with hp | hp
          · rw [he] at hp; have := h2 p hp; omega
          · exact hB p hp)
        refine ⟨r, c1, fun i hi n hn post hp => ?_⟩
        obtain ⟨n, rfl⟩ : ∃ m, n = m + 1 := ⟨n - 1, by omega⟩
        refine br_f (nI_ge (b := 80) (by omega) (by decide)) (bx_floor (e1 := []) q1.1 q2.1 he (by omega) (fun p hp => by have := h1 p hp; omega) (fun p hp => by have := h2 p hp; omega) ?_)
        refine br_t (by decide) ⟨bx_in q1.1, ?_⟩
        rw [bx_cl (n := x.1) (by omega)]
        refine br_f (fun hc => hxm (by rw [hc]; exact bx_min)) ⟨bx_in q1.1, nm_e ?_⟩
        exact s4 _ (nm_r (nI_1 i) (c2 (i + 1) (by omega) n (by omega) post hp))
    · have hes : x.2.2.2 = e3 ++ p :: e2 := by rw [he]; simp
      have hlen : x.2.2.2.length = e3.length + (e2.length + 1) := by rw [hes, List.length_append, List.length_cons]
      have hpk := h1 p (by simp)
      refine ⟨nI (8 * x.1 + e3.length), Or.inl ⟨p.1, p.2, ⟨A, x, B, e3, e2, e, hes, rfl⟩, by omega, fun q hq hk => ?_⟩, fun i hi n hn post hp => ?_⟩
      · rcases bk_mem3 e hq with hq | hq | hq
        · have h5 := lA q hq
          have h6 := (q1.2.2.1.2 p (by rw [hes]; simp)).1
          omega
        · have hs := q1.2.2.1.1
          rw [hes] at hs hq
          rcases List.mem_append.mp hq with hq | hq
          · exact Int.le_of_lt ((List.pairwise_append.mp hs).2.2 q hq p List.mem_cons_self)
          · rcases List.mem_cons.mp hq with hq | hq
            · rw [hq]; exact Int.le_refl _
            · have := h2 q hq; omega
        · have := hB q hq; omega
      · obtain ⟨n, rfl⟩ : ∃ m, n = m + 1 := ⟨n - 1, by omega⟩
        refine br_f (nI_ge (b := 80) (by omega) (by decide)) (bx_floor q1.1 q2.1 he (by omega) (fun p hp => by have := h1 p hp; omega) (fun p hp => by have := h2 p hp; omega) ?_)
        rw [show (e3 ++ [p]).length = e3.length + 1 by simp, nI_pred]
        refine br_f (nI_pos (by omega)) ?_
        rw [bx_sh q1.1, nI_add]
        exact hp
theorem bx_floorS {key s : Int32} (T : bk_T lst fan tl ti L h root a_keys a_vals a_count a_level a_low a_high a_right) (hro : f_root = nI root) (hs : bk_St L h key.toInt s) :
    ∃ r, bk_Fo L key.toInt r ∧ ∀ post : Int32 → Prop, post r → wpX_floorSlot post (f_threadCount, f_fan, f_capacity, f_pace, f_least, f_spareTop, f_root, f_head, f_records, f_appliedTotal, a_keys, a_vals, a_count, a_level, a_low, a_high, a_right, a_spare, a_path, a_phaseOf, a_kindOf, a_firstOf, a_secondOf, a_leftOf, a_outcomeOf, a_resKey, a_resValue, a_countOf, a_digestOf, a_appliedAt, a_latchesOf, a_place, a_unknown) s key := by
  obtain ⟨A, y, B, r1, r2, r3, r4⟩ := bx_seek0 T hs
  obtain ⟨lA, lB⟩ := bk_leafA T r1
  obtain ⟨r, c1, c2⟩ := bx_floor_11 (key := key) T hro A.length A y B (Nat.le_refl _) r1 (fun p hp => by have := lB p hp; omega)
  refine ⟨r, c1, fun post hp => ?_⟩
  unfold wpX_floorSlot
  refine r4 _ ⟨A.length + 1, c2 0 ?_ _ (by omega) post hp⟩
  have h1 : (L 0).length = A.length + (B.length + 1) := by rw [r1, List.length_append, List.length_cons]
  have := T.1.2.2.2.1
  omega
theorem bx_slotAt_24 (T : bk_T lst fan tl ti L h root a_keys a_vals a_count a_level a_low a_high a_right) :
    ∀ B A x rest, L 0 = A ++ x :: B → (bk_fl A).length + rest < (bk_fl (L 0)).length →
    ∃ k v r, bk_Sl L k v r ∧ (bk_fl (L 0))[(bk_fl A).length + rest]? = some (k, v) ∧ ∀ i, i + B.length < 80 → ∀ n, B.length < n → ∀ post : Int32 → Prop, post r → rest < 640 → wX_slotAt_24 post f_threadCount f_fan f_capacity f_pace f_least f_spareTop f_root f_head f_records f_appliedTotal a_keys a_vals a_count a_level a_low a_high a_right a_spare a_path a_phaseOf a_kindOf a_firstOf a_secondOf a_leftOf a_outcomeOf a_resKey a_resValue a_countOf a_digestOf a_appliedAt a_latchesOf a_place a_unknown n (nI rest) (nI x.1) (nI i) := by
  intro B
  induction B with
  | nil =>
    intro A x rest e hr
    obtain ⟨q1, q2, q3⟩ := bk_T_at T (l := 0) (by omega) e
    have hn := q1.1
    have hfl : bk_fl (L 0) = bk_fl A ++ x.2.2.2 := by rw [e, bk_fl_app, bk_fl_cons, bk_fl_nil, List.append_nil]
    have hlt : rest < x.2.2.2.length := by rw [hfl, List.length_append] at hr; omega
    have hcut : x.2.2.2 = x.2.2.2.take rest ++ (x.2.2.2[rest].1, x.2.2.2[rest].2) :: x.2.2.2.drop (rest + 1) := bk_cutAt hlt
    refine ⟨x.2.2.2[rest].1, x.2.2.2[rest].2, nI (8 * x.1 + rest), ⟨A, x, [], x.2.2.2.take rest, x.2.2.2.drop (rest + 1), e, hcut, ?_⟩, ?_, fun i hi n hn post hp hr => ?_⟩
    · rw [List.length_take, Nat.min_eq_left (by omega)]
    · rw [hfl, List.getElem?_append_right (by omega), show (bk_fl A).length + rest - (bk_fl A).length = rest by omega, List.getElem?_eq_getElem hlt]
    · obtain ⟨n, rfl⟩ : ∃ m, n = m + 1 := ⟨n - 1, by omega⟩
      simp only [List.length_nil, Nat.add_zero] at hi
      refine br_f (nI_ge (b := 80) (by omega) (by decide)) (br_f (nI_pos (by omega)) ⟨bx_in q1.1, ?_⟩)
      rw [bx_cl (n := x.1) (by omega), q2.1.1, bx_sh q1.1, nI_add]
      exact br_f (nI_ge hlt (by omega)) hp
  | cons y B ih =>
    intro A x rest e hr
    obtain ⟨q1, q2, q3⟩ := bk_T_at T (l := 0) (by omega) e
    have hn := q1.1
    have hfl : bk_fl (L 0) = bk_fl A ++ (x.2.2.2 ++ bk_fl (y :: B)) := by rw [e, bk_fl_app, bk_fl_cons]
    by_cases hlt : rest < x.2.2.2.length
    · have hcut : x.2.2.2 = x.2.2.2.take rest ++ (x.2.2.2[rest].1, x.2.2.2[rest].2) :: x.2.2.2.drop (rest + 1) := bk_cutAt hlt
      refine ⟨x.2.2.2[rest].1, x.2.2.2[rest].2, nI (8 * x.1 + rest), ⟨A, x, y :: B, x.2.2.2.take rest, x.2.2.2.drop (rest + 1), e, hcut, ?_⟩, ?_, fun i hi n hn post hp hr => ?_⟩
      · rw [List.length_take, Nat.min_eq_left (by omega)]
      · rw [hfl, List.getElem?_append_right (by omega), show (bk_fl A).length + rest - (bk_fl A).length = rest by omega, List.getElem?_append_left hlt, List.getElem?_eq_getElem hlt]
      · obtain ⟨n, rfl⟩ : ∃ m, n = m + 1 := ⟨n - 1, by omega⟩
        rw [List.length_cons] at hi
        refine br_f (nI_ge (b := 80) (by omega) (by decide)) (br_f (nI_pos (by omega)) ⟨bx_in q1.1, ?_⟩)
        rw [bx_cl (n := x.1) (by omega), q2.1.1, bx_sh q1.1, nI_add]
        exact br_f (nI_ge hlt (by omega)) hp
    · have hfA : (bk_fl (A ++ [x])).length = (bk_fl A).length + x.2.2.2.length := by rw [bk_fl_app, bk_fl_cons, bk_fl_nil, List.append_nil, List.length_append]
      obtain ⟨k, v, r, c1, c2, c3⟩ := ih (A ++ [x]) y (rest - x.2.2.2.length) (by rw [e]; simp) (by rw [hfA]; omega)
      rw [hfA, show (bk_fl A).length + x.2.2.2.length + (rest - x.2.2.2.length) = (bk_fl A).length + rest by omega] at c2
      refine ⟨k, v, r, c1, c2, fun i hi n hn post hp hr => ?_⟩
      obtain ⟨n, rfl⟩ : ∃ m, n = m + 1 := ⟨n - 1, by omega⟩
      rw [List.length_cons] at hi hn
      refine br_f (nI_ge (b := 80) (by omega) (by decide)) (br_f (nI_pos (by omega)) ⟨bx_in q1.1, ?_⟩)
      rw [bx_cl (n := x.1) (by omega), q2.1.1, q2.2.2.2.2, pk_sub (by omega)]
      refine br_t (nI_le (by omega) (by omega)) ⟨bx_in q1.1, nm_e ⟨bx_in q1.1, nm_e (nm_r (nI_1 i) ?_)⟩⟩
      exact c3 (i + 1) (by omega) n (by omega) post hp (by omega)
theorem bx_rank_10 {key : Int32} (T : bk_T lst fan tl ti L h root a_keys a_vals a_count a_level a_low a_high a_right) :
    ∀ B A x, L 0 = A ++ x :: B → (∀ p, p ∈ bk_fl A → p.1 < key.toInt) → ∀ i, i + B.length < 80 → ∀ n, B.length + 1 < n → ∀ post : Int32 → Prop,
      post (nI ((bk_fl (L 0)).countP (fun p => decide (p.1 < key.toInt)))) → wX_rankOf_10 post key f_threadCount f_fan f_capacity f_pace f_least f_spareTop f_root f_head f_records f_appliedTotal a_keys a_vals a_count a_level a_low a_high a_right a_spare a_path a_phaseOf a_kindOf a_firstOf a_secondOf a_leftOf a_outcomeOf a_resKey a_resValue a_countOf a_digestOf a_appliedAt a_latchesOf a_place a_unknown n (nI (bk_fl A).length) (nI x.1) (nI i) := by
  intro B
  induction B with
  | nil =>
    intro A x e hA i hi n hn post hp
    obtain ⟨q1, q2, q3⟩ := bk_T_at T (l := 0) (by omega) e
    have hx := q1.1
    obtain ⟨e1, e2, he, h1, h2⟩ := bk_cut key.toInt q1.2.2.1.1
    obtain ⟨n, rfl⟩ : ∃ m, n = m + 2 := ⟨n - 2, by simp at hn; omega⟩
    simp only [List.length_nil, Nat.add_zero] at hi
    have hcnt : (bk_fl (L 0)).countP (fun p => decide (p.1 < key.toInt)) = (bk_fl A).length + e1.length := by
      rw [e, bk_fl_app, bk_fl_cons, bk_fl_nil, List.append_nil, he, List.countP_append, List.countP_append,
        List.countP_eq_length.mpr (fun p hp => decide_eq_true (hA p hp)), List.countP_eq_length.mpr (fun p hp => decide_eq_true (h1 p hp)),
        List.countP_eq_zero.mpr (fun p hp => by simp; exact h2 p hp)]
      rfl
    rw [hcnt] at hp
    refine br_f (nI_ge (b := 80) (by omega) (by decide)) (br_f (nI_pos (by omega)) (bx_lower q1.1 q2.1 he (by omega) h1 h2 (nm_r (nI_add _ _) ⟨bx_in q1.1, ?_⟩)))
    refine br_c (fun _ => ⟨bx_in q1.1, nm_e (nm_e ?_)⟩) (fun _ => hp)
    rw [bx_cl (n := x.1) (by omega), q2.2.2.2.2]
    exact br_c (fun _ => hp) (fun _ => br_t (by show (-1 : Int32) < 0; decide) hp)
  | cons y B ih =>
    intro A x e hA i hi n hn post hp
    obtain ⟨q1, q2, q3⟩ := bk_T_at T (l := 0) (by omega) e
    have hx := q1.1
    obtain ⟨lA, lB⟩ := bk_leafA T e
    obtain ⟨e1, e2, he, h1, h2⟩ := bk_cut key.toInt q1.2.2.1.1
    obtain ⟨n, rfl⟩ : ∃ m, n = m + 1 := ⟨n - 1, by omega⟩
    rw [List.length_cons] at hi hn
    refine br_f (nI_ge (b := 80) (by omega) (by decide)) (br_f (nI_pos (by omega)) (bx_lower q1.1 q2.1 he (by omega) h1 h2 (nm_r (nI_add _ _) ⟨bx_in q1.1, ?_⟩)))
    rw [bx_cl (n := x.1) (by omega), q2.1.1, q2.2.2.2.2]
    cases e2 with
    | nil =>
      rw [List.append_nil] at he
      rw [← he]
      refine br_t (nI_le (Nat.le_refl _) (by omega)) ⟨bx_in q1.1, nm_e (nm_r (nI_1 i) ?_)⟩
      have hfA : (bk_fl A).length + x.2.2.2.length = (bk_fl (A ++ [x])).length := by rw [bk_fl_app, bk_fl_cons, bk_fl_nil, List.append_nil, List.length_append]
      rw [hfA]
      refine ih (A ++ [x]) y (by rw [e]; simp) ?_ (i + 1) (by omega) n (by omega) post hp
      intro p hp
      rw [bk_fl_app, bk_fl_cons, bk_fl_nil, List.append_nil] at hp
      rcases List.mem_append.mp hp with hp | hp
      · exact hA p hp
      · rw [he] at hp; exact h1 p hp
    | cons p e2 =>
      have hlen : x.2.2.2.length = e1.length + (e2.length + 1) := by rw [he, List.length_append, List.length_cons]
      have hpx := (q1.2.2.1.2 p (by rw [he]; simp)).2
      have hpk := h2 p List.mem_cons_self
      have hcnt : (bk_fl (L 0)).countP (fun p => decide (p.1 < key.toInt)) = (bk_fl A).length + e1.length := by
        rw [e, bk_fl_app, bk_fl_cons, he, List.countP_append, List.countP_append, List.countP_append,
          List.countP_eq_length.mpr (fun p hp => decide_eq_true (hA p hp)), List.countP_eq_length.mpr (fun p hp => decide_eq_true (h1 p hp)),
          List.countP_eq_zero.mpr (fun p hp => by simp; exact h2 p hp), List.countP_eq_zero.mpr (fun p hp => by simp; have := lB p hp; omega)]
        rfl
      rw [hcnt] at hp
      exact br_f (nI_ge (by omega) (by omega)) hp
end
end
section
/-! ===== 08: loops that store entries: insertEntry, removeEntry, redirect ===== -/
def bk_S8 (ky vl ct ky' vl' ct' : Nat → Int32) (m : Nat) : Prop :=
  ct' m = ct m ∧ ∀ j, j < 8 → ky' (8 * m + j) = ky (8 * m + j) ∧ vl' (8 * m + j) = vl (8 * m + j)
theorem bk_S8_rf (ky vl ct : Nat → Int32) (m : Nat) : bk_S8 ky vl ct ky vl ct m := ⟨rfl, fun _ _ => ⟨rfl, rfl⟩⟩
theorem bk_S8_tr {ky vl ct ky' vl' ct' ky2 vl2 ct2 : Nat → Int32} {m : Nat} (h1 : bk_S8 ky vl ct ky' vl' ct' m) (h2 : bk_S8 ky' vl' ct' ky2 vl2 ct2 m) : bk_S8 ky vl ct ky2 vl2 ct2 m :=
  ⟨h2.1.trans h1.1, fun j hj => ⟨(h2.2 j hj).1.trans (h1.2 j hj).1, (h2.2 j hj).2.trans (h1.2 j hj).2⟩⟩
theorem bk_Nr_S8 {ky vl ct ky' vl' ct' : Nat → Int32} {m : Nat} {es : List (Int × Int32)} (N : bk_Nr ky vl ct m es) (h : bk_S8 ky vl ct ky' vl' ct' m) (h8 : es.length ≤ 8) : bk_Nr ky' vl' ct' m es := by
  refine ⟨h.1.trans N.1, fun j p hp => ?_⟩
  have hj : j < es.length := by
    by_cases z : j < es.length
    · exact z
    · rw [List.getElem?_eq_none (by omega)] at hp; cases hp
  rw [(h.2 j (by omega)).1, (h.2 j (by omega)).2]
  exact N.2 j p hp
section
variable {f_threadCount f_fan f_capacity f_pace f_least f_spareTop f_root f_head f_records f_appliedTotal : Int32} {a_keys a_vals a_count a_level a_low a_high a_right a_spare a_path a_phaseOf a_kindOf a_firstOf a_secondOf a_leftOf a_outcomeOf a_resKey a_resValue a_countOf a_digestOf a_appliedAt a_latchesOf a_place a_unknown : Nat → Int32}
theorem bx_ins_33 {nd at' : Nat} {key val : Int32} (hn : nd < 80) :
    ∀ d, at' + d ≤ 7 → ∀ (ky vl : Nat → Int32), ∃ ky' vl' : Nat → Int32,
      (∀ q, ky' q = if 8 * nd + at' < q ∧ q ≤ 8 * nd + at' + d then ky (q - 1) else if q = 8 * nd + at' then key else ky q) ∧
      (∀ q, vl' q = if 8 * nd + at' < q ∧ q ≤ 8 * nd + at' + d then vl (q - 1) else if q = 8 * nd + at' then val else vl q) ∧
      ∀ n, d < n → ∀ post : SX → Prop, post (f_threadCount, f_fan, f_capacity, f_pace, f_least, f_spareTop, f_root, f_head, f_records, f_appliedTotal, ky', vl', upd a_count nd (a_count nd + 1), a_level, a_low, a_high, a_right, a_spare, a_path, a_phaseOf, a_kindOf, a_firstOf, a_secondOf, a_leftOf, a_outcomeOf, a_resKey, a_resValue, a_countOf, a_digestOf, a_appliedAt, a_latchesOf, a_place, a_unknown) →
        wX_insertEntry_33 post (nI nd) key val (nI (8 * nd)) (nI at') f_threadCount f_fan f_capacity f_pace f_least f_spareTop f_root f_head f_records f_appliedTotal n (nI (at' + d)) ky vl a_count a_level a_low a_high a_right a_spare a_path a_phaseOf a_kindOf a_firstOf a_secondOf a_leftOf a_outcomeOf a_resKey a_resValue a_countOf a_digestOf a_appliedAt a_latchesOf a_place a_unknown := by
  intro d
  induction d with
  | zero =>
    intro hd ky vl
    refine ⟨upd ky (8 * nd + at') key, upd vl (8 * nd + at') val, fun q => ?_, fun q => ?_, fun n hn' post hp => ?_⟩
    · rw [if_neg (by omega)]; rfl
    · rw [if_neg (by omega)]; rfl
    · obtain ⟨n, rfl⟩ : ∃ m, n = m + 1 := ⟨n - 1, by omega⟩
      have hx := bx_ix hn (j := at') (by omega)
      refine br_t (nI_le (Nat.le_refl _) (by omega)) ⟨hx.1, nm_e ⟨hx.1, nm_e ⟨bx_in hn, bx_in hn, nm_e ?_⟩⟩⟩
      rw [hx.2, bx_cl (n := nd) (by omega)]
      exact hp
  | succ d ih =>
    intro hd ky vl
    obtain ⟨ky', vl', h1, h2, h3⟩ := ih (by omega) (upd ky (8 * nd + (at' + (d + 1))) (ky (8 * nd + (at' + d)))) (upd vl (8 * nd + (at' + (d + 1))) (vl (8 * nd + (at' + d))))
    have ke : ∀ (f f' : Nat → Int32) (w : Int32), (∀ q, f' q = if 8 * nd + at' < q ∧ q ≤ 8 * nd + at' + d then upd f (8 * nd + (at' + (d + 1))) (f (8 * nd + (at' + d))) (q - 1) else if q = 8 * nd + at' then w else upd f (8 * nd + (at' + (d + 1))) (f (8 * nd + (at' + d))) q) →
        ∀ q, f' q = if 8 * nd + at' < q ∧ q ≤ 8 * nd + at' + (d + 1) then f (q - 1) else if q = 8 * nd + at' then w else f q := by
      intro f f' w hf q
      rw [hf q]
      unfold upd
      by_cases a : q = 8 * nd + at'
      · rw [if_neg (by omega), if_pos a, if_neg (by omega), if_pos a]
      · by_cases b : q = 8 * nd + (at' + (d + 1))
        · rw [if_neg (by omega), if_neg a, if_pos b, if_pos (by omega)]
          exact congrArg f (by omega)
        · by_cases c : 8 * nd + at' < q ∧ q ≤ 8 * nd + at' + d
          · rw [if_pos c, if_neg (by omega), if_pos (by omega)]
          · rw [if_neg c, if_neg a, if_neg b, if_neg (by omega), if_neg a]
    refine ⟨ky', vl', ke ky ky' _ h1, ke vl vl' _ h2, fun n hn' post hp => ?_⟩
    obtain ⟨n, rfl⟩ : ∃ m, n = m + 1 := ⟨n - 1, by omega⟩
    have hx := bx_ix hn (j := at' + (d + 1)) (by omega)
    have hy : nI (8 * nd) + nI (at' + (d + 1)) - 1 = nI (8 * nd) + nI (at' + d) := by
      rw [nI_add, nI_add, show 8 * nd + (at' + (d + 1)) = (8 * nd + (at' + d)) + 1 from by omega, nI_pred]
    have hz := bx_ix hn (j := at' + d) (by omega)
    have key2 : wX_insertEntry_33 post (nI nd) key val (nI (8 * nd)) (nI at') f_threadCount f_fan f_capacity f_pace f_least f_spareTop f_root f_head f_records f_appliedTotal n (nI (at' + d)) (upd ky (8 * nd + (at' + (d + 1))) (ky (8 * nd + (at' + d)))) (upd vl (8 * nd + (at' + (d + 1))) (vl (8 * nd + (at' + d)))) a_count a_level a_low a_high a_right a_spare a_path a_phaseOf a_kindOf a_firstOf a_secondOf a_leftOf a_outcomeOf a_resKey a_resValue a_countOf a_digestOf a_appliedAt a_latchesOf a_place a_unknown := h3 n (by omega) post hp
    refine br_f (nI_ge (by omega) (by omega)) ?_
    rw [hy, hx.2, hz.2]
    exact ⟨hz.1, hx.1, nm_e ⟨hz.1, hx.1, nm_e (nm_r (pk_m1 _) key2)⟩⟩
theorem bk_Nr_ins {ky vl ct ky' vl' : Nat → Int32} {n : Nat} {e1 e2 : List (Int × Int32)} {key val : Int32} (N : bk_Nr ky vl ct n (e1 ++ e2))
    (hk : ∀ q, ky' q = if 8 * n + e1.length < q ∧ q ≤ 8 * n + e1.length + e2.length then ky (q - 1) else if q = 8 * n + e1.length then key else ky q)
    (hv : ∀ q, vl' q = if 8 * n + e1.length < q ∧ q ≤ 8 * n + e1.length + e2.length then vl (q - 1) else if q = 8 * n + e1.length then val else vl q) :
    bk_Nr ky' vl' (upd ct n (ct n + 1)) n (e1 ++ (key.toInt, val) :: e2) := by
  refine ⟨?_, fun j p hp => ?_⟩
  · rw [pk_us, N.1, nI_1, List.length_append, List.length_append, List.length_cons]
    rfl
  · rw [hk, hv]
    by_cases a : j < e1.length
    · rw [if_neg (by omega), if_neg (by omega), if_neg (by omega), if_neg (by omega)]
      rw [List.getElem?_append_left a] at hp
      exact N.2 j p (by rw [List.getElem?_append_left a]; exact hp)
    · by_cases b : j = e1.length
      · subst b
        rw [if_neg (by omega), if_pos rfl, if_neg (by omega), if_pos rfl]
        rw [List.getElem?_append_right (Nat.le_refl _), Nat.sub_self] at hp
        injection hp with hp
        rw [← hp]
        exact ⟨rfl, rfl⟩
      · obtain ⟨i, rfl⟩ : ∃ i, j = e1.length + 1 + i := ⟨j - (e1.length + 1), by omega⟩
        rw [List.getElem?_append_right (by omega), show e1.length + 1 + i - e1.length = i + 1 by omega, List.getElem?_cons_succ] at hp
        have hi : i < e2.length := by
          by_cases z : i < e2.length
          · exact z
          · rw [List.getElem?_eq_none (by omega)] at hp; cases hp
        rw [if_pos (by omega), if_pos (by omega), show 8 * n + (e1.length + 1 + i) - 1 = 8 * n + (e1.length + i) by omega]
        exact N.2 _ p (by rw [List.getElem?_append_right (by omega), show e1.length + i - e1.length = i by omega]; exact hp)
theorem bx_insert {n : Nat} {es e1 e2 : List (Int × Int32)} {key val : Int32} (hn : n < 80) (N : bk_Nr a_keys a_vals a_count n es) (he : es = e1 ++ e2) (h7 : es.length ≤ 7)
    (h1 : ∀ p, p ∈ e1 → p.1 < key.toInt) (h2 : ∀ p, p ∈ e2 → key.toInt ≤ p.1) :
    ∃ ky vl ct : Nat → Int32, bk_Nr ky vl ct n (e1 ++ (key.toInt, val) :: e2) ∧ (∀ m, m ≠ n → bk_S8 a_keys a_vals a_count ky vl ct m) ∧
      ∀ post : SX → Prop, post (f_threadCount, f_fan, f_capacity, f_pace, f_least, f_spareTop, f_root, f_head, f_records, f_appliedTotal, ky, vl, ct, a_level, a_low, a_high, a_right, a_spare, a_path, a_phaseOf, a_kindOf, a_firstOf, a_secondOf, a_leftOf, a_outcomeOf, a_resKey, a_resValue, a_countOf, a_digestOf, a_appliedAt, a_latchesOf, a_place, a_unknown) → wpX_insertEntry post (f_threadCount, f_fan, f_capacity, f_pace, f_least, f_spareTop, f_root, f_head, f_records, f_appliedTotal, a_keys, a_vals, a_count, a_level, a_low, a_high, a_right, a_spare, a_path, a_phaseOf, a_kindOf, a_firstOf, a_secondOf, a_leftOf, a_outcomeOf, a_resKey, a_resValue, a_countOf, a_digestOf, a_appliedAt, a_latchesOf, a_place, a_unknown) (nI n) key val := by
  have hl : es.length = e1.length + e2.length := by rw [he, List.length_append]
  obtain ⟨ky, vl, hk, hv, hw⟩ := bx_ins_33 (nd := n) (at' := e1.length) (key := key) (val := val) (f_threadCount := f_threadCount) (f_fan := f_fan) (f_capacity := f_capacity) (f_pace := f_pace) (f_least := f_least) (f_spareTop := f_spareTop) (f_root := f_root) (f_head := f_head) (f_records := f_records) (f_appliedTotal := f_appliedTotal) (a_count := a_count) (a_level := a_level) (a_low := a_low) (a_high := a_high) (a_right := a_right) (a_spare := a_spare) (a_path := a_path) (a_phaseOf := a_phaseOf) (a_kindOf := a_kindOf) (a_firstOf := a_firstOf) (a_secondOf := a_secondOf) (a_leftOf := a_leftOf) (a_outcomeOf := a_outcomeOf) (a_resKey := a_resKey) (a_resValue := a_resValue) (a_countOf := a_countOf) (a_digestOf := a_digestOf) (a_appliedAt := a_appliedAt) (a_latchesOf := a_latchesOf) (a_place := a_place) (a_unknown := a_unknown) hn e2.length (by omega) a_keys a_vals
  refine ⟨ky, vl, upd a_count n (a_count n + 1), ?_, fun m hm => ⟨pk_un hm, fun j hj => ?_⟩, fun post hp => ?_⟩
  · rw [he] at N
    exact bk_Nr_ins N hk hv
  · rw [hk, hv, if_neg (by omega), if_neg (by omega), if_neg (by omega), if_neg (by omega)]
    exact ⟨rfl, rfl⟩
  · unfold wpX_insertEntry
    refine And.intro (bx_in hn) ?_
    rw [bx_cl (n := n) (by omega), N.1]
    refine br_t (nI_lt (b := 8) (by omega) (by decide)) (nm_r (bx_sh hn) (bx_lower hn N he (by omega) h1 h2 ⟨bx_in hn, nm_e ⟨e2.length + 1, ?_⟩⟩))
    rw [hl]
    exact hw _ (by omega) post hp
theorem bx_rem_9 {nd len : Nat} (hn : nd < 80) (hc : a_count nd = nI len) (hlen : len ≤ 8) :
    ∀ d i, i + 1 + d = len → ∀ (ky vl : Nat → Int32), ∃ ky' vl' : Nat → Int32,
      (∀ q, ky' q = if 8 * nd + i ≤ q ∧ q + 1 < 8 * nd + len then ky (q + 1) else ky q) ∧
      (∀ q, vl' q = if 8 * nd + i ≤ q ∧ q + 1 < 8 * nd + len then vl (q + 1) else vl q) ∧
      ∀ n, d < n → ∀ post : SX → Prop, post (f_threadCount, f_fan, f_capacity, f_pace, f_least, f_spareTop, f_root, f_head, f_records, f_appliedTotal, ky', vl', upd a_count nd (a_count nd - 1), a_level, a_low, a_high, a_right, a_spare, a_path, a_phaseOf, a_kindOf, a_firstOf, a_secondOf, a_leftOf, a_outcomeOf, a_resKey, a_resValue, a_countOf, a_digestOf, a_appliedAt, a_latchesOf, a_place, a_unknown) →
        wX_removeEntry_9 post (nI nd) (nI (8 * nd)) f_threadCount f_fan f_capacity f_pace f_least f_spareTop f_root f_head f_records f_appliedTotal n (nI (i + 1)) ky vl a_count a_level a_low a_high a_right a_spare a_path a_phaseOf a_kindOf a_firstOf a_secondOf a_leftOf a_outcomeOf a_resKey a_resValue a_countOf a_digestOf a_appliedAt a_latchesOf a_place a_unknown := by
  intro d
  induction d with
  | zero =>
    intro i hi ky vl
    refine ⟨ky, vl, fun q => by rw [if_neg (by omega)], fun q => by rw [if_neg (by omega)], fun n hn' post hp => ?_⟩
    obtain ⟨n, rfl⟩ : ∃ m, n = m + 1 := ⟨n - 1, by omega⟩
    refine And.intro (bx_in hn) ?_
    rw [bx_cl (n := nd) (by omega)]
    refine br_t ?_ ⟨bx_in hn, bx_in hn, nm_e hp⟩
    rw [hc]
    exact nI_le (by omega) (by omega)
  | succ d ih =>
    intro i hi ky vl
    obtain ⟨ky', vl', h1, h2, h3⟩ := ih (i + 1) (by omega) (upd ky (8 * nd + i) (ky (8 * nd + (i + 1)))) (upd vl (8 * nd + i) (vl (8 * nd + (i + 1))))
    have ke : ∀ (f f' : Nat → Int32), (∀ q, f' q = if 8 * nd + (i + 1) ≤ q ∧ q + 1 < 8 * nd + len then upd f (8 * nd + i) (f (8 * nd + (i + 1))) (q + 1) else upd f (8 * nd + i) (f (8 * nd + (i + 1))) q) →
        ∀ q, f' q = if 8 * nd + i ≤ q ∧ q + 1 < 8 * nd + len then f (q + 1) else f q := by
      intro f f' hf q
      rw [hf q]
      unfold upd
      by_cases a : q = 8 * nd + i
      · rw [if_neg (by omega), if_pos a, if_pos (by omega)]
        exact congrArg f (by omega)
      · by_cases c : 8 * nd + (i + 1) ≤ q ∧ q + 1 < 8 * nd + len
        · rw [if_pos c, if_neg (by omega), if_pos (by omega)]
        · rw [if_neg c, if_neg a, if_neg (by omega)]
    refine ⟨ky', vl', ke ky ky' h1, ke vl vl' h2, fun n hn' post hp => ?_⟩
    obtain ⟨n, rfl⟩ : ∃ m, n = m + 1 := ⟨n - 1, by omega⟩
    have hx := bx_ix hn (j := i + 1) (by omega)
    have hy : nI (8 * nd) + nI (i + 1) - 1 = nI (8 * nd) + nI i := by
      rw [nI_add, nI_add, show 8 * nd + (i + 1) = (8 * nd + i) + 1 from by omega, nI_pred]
    have hz := bx_ix hn (j := i) (by omega)
    have key2 := h3 n (by omega) post hp
    refine And.intro (bx_in hn) ?_
    rw [bx_cl (n := nd) (by omega)]
    refine br_f (by rw [hc]; exact nI_ge (by omega) (by omega)) ?_
    rw [hy, hx.2, hz.2]
    exact ⟨hx.1, hz.1, nm_e ⟨hx.1, hz.1, nm_e (nm_r (nI_1 _) key2)⟩⟩
theorem bx_remove {n : Nat} {es e1 e2 : List (Int × Int32)} {p : Int × Int32} (hn : n < 80) (N : bk_Nr a_keys a_vals a_count n es) (he : es = e1 ++ p :: e2) (h8 : es.length ≤ 8) :
    ∃ ky vl ct : Nat → Int32, bk_Nr ky vl ct n (e1 ++ e2) ∧ (∀ m, m ≠ n → bk_S8 a_keys a_vals a_count ky vl ct m) ∧
      ∀ post : SX → Prop, post (f_threadCount, f_fan, f_capacity, f_pace, f_least, f_spareTop, f_root, f_head, f_records, f_appliedTotal, ky, vl, ct, a_level, a_low, a_high, a_right, a_spare, a_path, a_phaseOf, a_kindOf, a_firstOf, a_secondOf, a_leftOf, a_outcomeOf, a_resKey, a_resValue, a_countOf, a_digestOf, a_appliedAt, a_latchesOf, a_place, a_unknown) → wpX_removeEntry post (f_threadCount, f_fan, f_capacity, f_pace, f_least, f_spareTop, f_root, f_head, f_records, f_appliedTotal, a_keys, a_vals, a_count, a_level, a_low, a_high, a_right, a_spare, a_path, a_phaseOf, a_kindOf, a_firstOf, a_secondOf, a_leftOf, a_outcomeOf, a_resKey, a_resValue, a_countOf, a_digestOf, a_appliedAt, a_latchesOf, a_place, a_unknown) (nI n) (nI e1.length) := by
  have hl : es.length = e1.length + (e2.length + 1) := by rw [he, List.length_append, List.length_cons]
  obtain ⟨ky, vl, hk, hv, hw⟩ := bx_rem_9 (nd := n) (len := es.length) (f_threadCount := f_threadCount) (f_fan := f_fan) (f_capacity := f_capacity) (f_pace := f_pace) (f_least := f_least) (f_spareTop := f_spareTop) (f_root := f_root) (f_head := f_head) (f_records := f_records) (f_appliedTotal := f_appliedTotal) (a_count := a_count) (a_level := a_level) (a_low := a_low) (a_high := a_high) (a_right := a_right) (a_spare := a_spare) (a_path := a_path) (a_phaseOf := a_phaseOf) (a_kindOf := a_kindOf) (a_firstOf := a_firstOf) (a_secondOf := a_secondOf) (a_leftOf := a_leftOf) (a_outcomeOf := a_outcomeOf) (a_resKey := a_resKey) (a_resValue := a_resValue) (a_countOf := a_countOf) (a_digestOf := a_digestOf) (a_appliedAt := a_appliedAt) (a_latchesOf := a_latchesOf) (a_place := a_place) (a_unknown := a_unknown) hn N.1 h8 e2.length e1.length (by omega) a_keys a_vals
  refine ⟨ky, vl, upd a_count n (a_count n - 1), ⟨?_, fun j q hq => ?_⟩, fun m hm => ⟨pk_un hm, fun j hj => ?_⟩, fun post hp => ?_⟩
  · rw [pk_us, N.1, hl, show e1.length + (e2.length + 1) = (e1 ++ e2).length + 1 by rw [List.length_append]; omega, nI_pred]
  · rw [hk, hv]
    by_cases a : j < e1.length
    · rw [if_neg (by omega), if_neg (by omega)]
      rw [List.getElem?_append_left a] at hq
      exact N.2 j q (by rw [he, List.getElem?_append_left a]; exact hq)
    · obtain ⟨i, rfl⟩ : ∃ i, j = e1.length + i := ⟨j - e1.length, by omega⟩
      rw [List.getElem?_append_right (by omega), show e1.length + i - e1.length = i by omega] at hq
      have hi : i < e2.length := by
        by_cases z : i < e2.length
        · exact z
        · rw [List.getElem?_eq_none (by omega)] at hq; cases hq
      rw [if_pos (by omega), if_pos (by omega), show 8 * n + (e1.length + i) + 1 = 8 * n + (e1.length + (i + 1)) by omega]
      exact N.2 _ q (by rw [he, List.getElem?_append_right (by omega), show e1.length + (i + 1) - e1.length = i + 1 by omega, List.getElem?_cons_succ]; exact hq)
  · rw [hk, hv, if_neg (by omega), if_neg (by omega)]
    exact ⟨rfl, rfl⟩
  · unfold wpX_removeEntry
    refine nm_r (bx_sh hn) (nm_r (nI_1 _) ⟨e2.length + 1, ?_⟩)
    exact hw _ (by omega) post hp
theorem bx_redir_2 {tc : Nat} {fr to : Int32} (hc : f_threadCount = nI tc) (h6 : tc ≤ 6) :
    ∀ d t, t + d = tc → ∀ (pl : Nat → Int32), ∃ pl' : Nat → Int32, (∀ q, pl' q = if t ≤ q ∧ q < tc ∧ pl q = fr then to else pl q) ∧
      ∀ n, d < n → ∀ post : SX → Prop, post (f_threadCount, f_fan, f_capacity, f_pace, f_least, f_spareTop, f_root, f_head, f_records, f_appliedTotal, a_keys, a_vals, a_count, a_level, a_low, a_high, a_right, a_spare, a_path, a_phaseOf, a_kindOf, a_firstOf, a_secondOf, a_leftOf, a_outcomeOf, a_resKey, a_resValue, a_countOf, a_digestOf, a_appliedAt, a_latchesOf, pl', a_unknown) → wX_redirect_2 post fr to f_threadCount f_fan f_capacity f_pace f_least f_spareTop f_root f_head f_records f_appliedTotal n (nI t) a_keys a_vals a_count a_level a_low a_high a_right a_spare a_path a_phaseOf a_kindOf a_firstOf a_secondOf a_leftOf a_outcomeOf a_resKey a_resValue a_countOf a_digestOf a_appliedAt a_latchesOf pl a_unknown := by
  intro d
  induction d with
  | zero =>
    intro t ht pl
    refine ⟨pl, fun q => by rw [if_neg (by omega)], fun n hn post hp => ?_⟩
    obtain ⟨n, rfl⟩ : ∃ m, n = m + 1 := ⟨n - 1, by omega⟩
    exact br_t (by rw [hc]; exact nI_le (by omega) (by omega)) hp
  | succ d ih =>
    intro t ht pl
    have hin : vp_in (nI t) 6 := vp_in_nI (by omega) (by omega)
    by_cases z : pl t = fr
    · obtain ⟨pl', h1, h2⟩ := ih (t + 1) (by omega) (upd pl t to)
      refine ⟨pl', fun q => ?_, fun n hn post hp => ?_⟩
      · rw [h1 q]
        unfold upd
        by_cases a : q = t
        · rw [if_neg (by omega), if_pos a, if_pos ⟨by omega, by omega, by rw [a]; exact z⟩]
        · rw [if_neg a]
          by_cases b : t + 1 ≤ q ∧ q < tc ∧ pl q = fr
          · rw [if_pos b, if_pos ⟨by omega, b.2⟩]
          · rw [if_neg b, if_neg (fun w => b ⟨by omega, w.2⟩)]
      · obtain ⟨n, rfl⟩ : ∃ m, n = m + 1 := ⟨n - 1, by omega⟩
        refine br_f (by rw [hc]; exact nI_ge (by omega) (by omega)) ⟨hin, ?_⟩
        rw [nI_clamp (n := t) (by omega)]
        exact br_t z ⟨hin, nm_e (nm_r (nI_1 t) (h2 n (by omega) post hp))⟩
    · obtain ⟨pl', h1, h2⟩ := ih (t + 1) (by omega) pl
      refine ⟨pl', fun q => ?_, fun n hn post hp => ?_⟩
      · rw [h1 q]
        by_cases b : t + 1 ≤ q ∧ q < tc ∧ pl q = fr
        · rw [if_pos b, if_pos ⟨by omega, b.2⟩]
        · by_cases a : q = t
          · rw [if_neg b, if_neg (fun w => z (by rw [← a]; exact w.2.2))]
          · rw [if_neg b, if_neg (fun w => b ⟨by omega, w.2⟩)]
      · obtain ⟨n, rfl⟩ : ∃ m, n = m + 1 := ⟨n - 1, by omega⟩
        refine br_f (by rw [hc]; exact nI_ge (by omega) (by omega)) ⟨hin, ?_⟩
        rw [nI_clamp (n := t) (by omega)]
        exact br_f z (nm_r (nI_1 t) (h2 n (by omega) post hp))
theorem bx_redirect {tc : Nat} {fr to : Int32} (hc : f_threadCount = nI tc) (h6 : tc ≤ 6) :
    ∃ pl' : Nat → Int32, (∀ q, q < tc → pl' q = if a_place q = fr then to else a_place q) ∧
      ∀ post : SX → Prop, post (f_threadCount, f_fan, f_capacity, f_pace, f_least, f_spareTop, f_root, f_head, f_records, f_appliedTotal, a_keys, a_vals, a_count, a_level, a_low, a_high, a_right, a_spare, a_path, a_phaseOf, a_kindOf, a_firstOf, a_secondOf, a_leftOf, a_outcomeOf, a_resKey, a_resValue, a_countOf, a_digestOf, a_appliedAt, a_latchesOf, pl', a_unknown) → wpX_redirect post (f_threadCount, f_fan, f_capacity, f_pace, f_least, f_spareTop, f_root, f_head, f_records, f_appliedTotal, a_keys, a_vals, a_count, a_level, a_low, a_high, a_right, a_spare, a_path, a_phaseOf, a_kindOf, a_firstOf, a_secondOf, a_leftOf, a_outcomeOf, a_resKey, a_resValue, a_countOf, a_digestOf, a_appliedAt, a_latchesOf, a_place, a_unknown) fr to := by
  obtain ⟨pl', h1, h2⟩ := bx_redir_2 (fr := fr) (to := to) (f_threadCount := f_threadCount) (f_fan := f_fan) (f_capacity := f_capacity) (f_pace := f_pace) (f_least := f_least) (f_spareTop := f_spareTop) (f_root := f_root) (f_head := f_head) (f_records := f_records) (f_appliedTotal := f_appliedTotal) (a_keys := a_keys) (a_vals := a_vals) (a_count := a_count) (a_level := a_level) (a_low := a_low) (a_high := a_high) (a_right := a_right) (a_spare := a_spare) (a_path := a_path) (a_phaseOf := a_phaseOf) (a_kindOf := a_kindOf) (a_firstOf := a_firstOf) (a_secondOf := a_secondOf) (a_leftOf := a_leftOf) (a_outcomeOf := a_outcomeOf) (a_resKey := a_resKey) (a_resValue := a_resValue) (a_countOf := a_countOf) (a_digestOf := a_digestOf) (a_appliedAt := a_appliedAt) (a_latchesOf := a_latchesOf) (a_unknown := a_unknown) hc h6 tc 0 (by omega) a_place
  refine ⟨pl', fun q hq => ?_, fun post hp => ?_⟩
  · rw [h1 q]
    by_cases a : a_place q = fr
    · rw [if_pos ⟨by omega, hq, a⟩, if_pos a]
    · rw [if_neg (fun w => a w.2.2), if_neg a]
  · unfold wpX_redirect
    exact ⟨tc + 1, h2 _ (by omega) post hp⟩
end
end
section
/-! ===== 09: splitIfWide and the copying loop of join ===== -/
/-- a piece of a list copied to another node -/
theorem bk_Nr_cp {ky vl ct ky' vl' ct' : Nat → Int32} {n f i d mv : Nat} {e1 e2 e0 : List (Int × Int32)} (N : bk_Nr ky vl ct n (e1 ++ e2)) (N0 : bk_Nr ky vl ct f e0 ∨ e0 = []) (hi : i = e1.length) (hd : d = e2.length) (hm : mv = e0.length)
    (hc : ct' f = nI (mv + d))
    (hk : ∀ q, ky' q = if 8 * f + mv ≤ q ∧ q < 8 * f + mv + d then ky (8 * n + i + (q - (8 * f + mv))) else ky q)
    (hv : ∀ q, vl' q = if 8 * f + mv ≤ q ∧ q < 8 * f + mv + d then vl (8 * n + i + (q - (8 * f + mv))) else vl q) :
    bk_Nr ky' vl' ct' f (e0 ++ e2) := by
  subst hi hd hm
  refine ⟨by rw [hc, List.length_append], fun j p hp => ?_⟩
  rw [hk, hv]
  by_cases a : j < e0.length
  · rw [if_neg (by omega), if_neg (by omega)]
    rw [List.getElem?_append_left a] at hp
    rcases N0 with N0 | N0
    · exact N0.2 j p hp
    · rw [N0] at a
      exact absurd a (by simp)
  · rw [List.getElem?_append_right (by omega)] at hp
    have hi : j - e0.length < e2.length := by
      by_cases z : j - e0.length < e2.length
      · exact z
      · rw [List.getElem?_eq_none (by omega)] at hp; cases hp
    rw [if_pos (by omega), if_pos (by omega)]
    have e : 8 * n + e1.length + (8 * f + j - (8 * f + e0.length)) = 8 * n + (e1.length + (j - e0.length)) := by omega
    rw [e]
    exact N.2 _ p (by rw [List.getElem?_append_right (by omega), show e1.length + (j - e0.length) - e1.length = j - e0.length by omega]; exact hp)
theorem bk_cp_st {f f' : Nat → Int32} {nd fr mv i d : Nat} (hne : nd ≠ fr) (hi : i + (d + 1) ≤ 8) (hm : mv + (d + 1) ≤ 8)
    (hf : ∀ q, f' q = if 8 * fr + (mv + 1) ≤ q ∧ q < 8 * fr + (mv + 1) + d then upd f (8 * fr + mv) (f (8 * nd + i)) (8 * nd + (i + 1) + (q - (8 * fr + (mv + 1)))) else upd f (8 * fr + mv) (f (8 * nd + i)) q) :
    ∀ q, f' q = if 8 * fr + mv ≤ q ∧ q < 8 * fr + mv + (d + 1) then f (8 * nd + i + (q - (8 * fr + mv))) else f q := by
  intro q
  rw [hf q]
  unfold upd
  by_cases a : q = 8 * fr + mv
  · rw [if_neg (by omega), if_pos a, if_pos (by omega)]
    exact congrArg f (by omega)
  · by_cases c : 8 * fr + (mv + 1) ≤ q ∧ q < 8 * fr + (mv + 1) + d
    · rw [if_pos c, if_neg (by omega), if_pos (by omega)]
      exact congrArg f (by omega)
    · rw [if_neg c, if_neg a, if_neg (by omega)]
section
variable {f_threadCount f_fan f_capacity f_pace f_least f_spareTop f_root f_head f_records f_appliedTotal : Int32} {a_keys a_vals a_count a_level a_low a_high a_right a_spare a_path a_phaseOf a_kindOf a_firstOf a_secondOf a_leftOf a_outcomeOf a_resKey a_resValue a_countOf a_digestOf a_appliedAt a_latchesOf a_place a_unknown : Nat → Int32}
theorem bx_spl_51 {nd fr len keep : Nat} (hn : nd < 80) (hf : fr < 80) (hne : nd ≠ fr) (hc : a_count nd = nI len) (hlen : len ≤ 8) :
    ∀ d mv i, i + d = len → mv ≤ i → ∀ (ky vl : Nat → Int32), ∃ ky' vl' : Nat → Int32,
      (∀ q, ky' q = if 8 * fr + mv ≤ q ∧ q < 8 * fr + mv + d then ky (8 * nd + i + (q - (8 * fr + mv))) else ky q) ∧
      (∀ q, vl' q = if 8 * fr + mv ≤ q ∧ q < 8 * fr + mv + d then vl (8 * nd + i + (q - (8 * fr + mv))) else vl q) ∧
      ∀ n, d < n → ∀ post : Int32 → SX → Prop, post (nI fr) (f_threadCount, f_fan, f_capacity, f_pace, f_least, f_spareTop, f_root, f_head, f_records, f_appliedTotal, ky', vl', upd (upd a_count fr (nI (mv + d))) nd (nI keep), upd a_level fr (a_level nd), upd a_low fr (ky' (8 * fr)), upd (upd a_high fr (a_high nd)) nd (ky' (8 * fr) - 1), upd (upd a_right fr (a_right nd)) nd (nI fr), a_spare, a_path, a_phaseOf, a_kindOf, a_firstOf, a_secondOf, a_leftOf, a_outcomeOf, a_resKey, a_resValue, a_countOf, a_digestOf, a_appliedAt, a_latchesOf, a_place, a_unknown) →
        wX_splitIfWide_51 post (nI nd) (nI fr) (nI keep) (nI (8 * nd)) (nI (8 * fr)) f_threadCount f_fan f_capacity f_pace f_least f_spareTop f_root f_head f_records f_appliedTotal n (nI mv) (nI i) ky vl a_count a_level a_low a_high a_right a_spare a_path a_phaseOf a_kindOf a_firstOf a_secondOf a_leftOf a_outcomeOf a_resKey a_resValue a_countOf a_digestOf a_appliedAt a_latchesOf a_place a_unknown := by
  intro d
  induction d with
  | zero =>
    intro mv i hi hm ky vl
    refine ⟨ky, vl, fun q => by rw [if_neg (by omega)], fun q => by rw [if_neg (by omega)], fun n hn' post hp => ?_⟩
    obtain ⟨n, rfl⟩ : ∃ m, n = m + 1 := ⟨n - 1, by omega⟩
    have h640 : vp_in (nI (8 * fr)) 640 := vp_in_nI (by omega) (by omega)
    refine And.intro (bx_in hn) ?_
    rw [bx_cl (n := nd) (by omega), bx_cl (n := fr) (by omega), bx_cl (n := 8 * fr) (by omega)]
    refine br_t (by rw [hc]; exact nI_le (by omega) (by omega)) ⟨bx_in hf, nm_e ⟨bx_in hn, nm_e ⟨bx_in hn, bx_in hf, nm_e ⟨h640, bx_in hf, nm_e ⟨bx_in hn, bx_in hf, nm_e ⟨bx_in hn, bx_in hf, nm_e ⟨bx_in hf, bx_in hn, nm_e ⟨bx_in hn, nm_e ?_⟩⟩⟩⟩⟩⟩⟩⟩
    rw [pk_us]
    exact hp
  | succ d ih =>
    intro mv i hi hm ky vl
    obtain ⟨ky', vl', h1, h2, h3⟩ := ih (mv + 1) (i + 1) (by omega) (by omega) (upd ky (8 * fr + mv) (ky (8 * nd + i))) (upd vl (8 * fr + mv) (vl (8 * nd + i)))
    refine ⟨ky', vl', bk_cp_st hne (by omega) (by omega) h1, bk_cp_st hne (by omega) (by omega) h2, fun n hn' post hp => ?_⟩
    obtain ⟨n, rfl⟩ : ∃ m, n = m + 1 := ⟨n - 1, by omega⟩
    have hx := bx_ix hn (j := i) (by omega)
    have hz := bx_ix hf (j := mv) (by omega)
    have key2 := h3 n (by omega) post (by rw [show mv + 1 + d = mv + (d + 1) by omega]; exact hp)
    refine And.intro (bx_in hn) ?_
    rw [bx_cl (n := nd) (by omega)]
    refine br_f (by rw [hc]; exact nI_ge (by omega) (by omega)) ?_
    rw [hx.2, hz.2]
    exact ⟨hx.1, hz.1, nm_e ⟨hx.1, hz.1, nm_e (nm_r (nI_1 _) (nm_r (nI_1 _) key2))⟩⟩
theorem bx_split0 {nd fan : Nat} {es : List (Int × Int32)} (hn : nd < 80) (N : bk_Nr a_keys a_vals a_count nd es) (hfan : f_fan = nI fan) (hf8 : fan ≤ 8) (hl : es.length ≤ fan) {post : Int32 → SX → Prop} (hp : post (-1) (f_threadCount, f_fan, f_capacity, f_pace, f_least, f_spareTop, f_root, f_head, f_records, f_appliedTotal, a_keys, a_vals, a_count, a_level, a_low, a_high, a_right, a_spare, a_path, a_phaseOf, a_kindOf, a_firstOf, a_secondOf, a_leftOf, a_outcomeOf, a_resKey, a_resValue, a_countOf, a_digestOf, a_appliedAt, a_latchesOf, a_place, a_unknown)) :
    wpX_splitIfWide post (f_threadCount, f_fan, f_capacity, f_pace, f_least, f_spareTop, f_root, f_head, f_records, f_appliedTotal, a_keys, a_vals, a_count, a_level, a_low, a_high, a_right, a_spare, a_path, a_phaseOf, a_kindOf, a_firstOf, a_secondOf, a_leftOf, a_outcomeOf, a_resKey, a_resValue, a_countOf, a_digestOf, a_appliedAt, a_latchesOf, a_place, a_unknown) (nI nd) := by
  unfold wpX_splitIfWide
  refine And.intro (bx_in hn) ?_
  rw [bx_cl (n := nd) (by omega), N.1, hfan]
  exact br_f (nI_nlt hl (by omega)) (hfan ▸ hp)
theorem bx_split1 {nd fan fr s : Nat} {es ea eb : List (Int × Int32)} {k : Int} {v : Int32} (hn : nd < 80) (N : bk_Nr a_keys a_vals a_count nd es) (hfan : f_fan = nI fan) (hl : fan < es.length) (h8 : es.length ≤ 8)
    (hs : f_spareTop = nI (s + 1)) (hs80 : s < 80) (hsp : a_spare s = nI fr) (hfr : fr < 80) (hne : nd ≠ fr) (he : es = ea ++ (k, v) :: eb) (hea : ea.length = es.length / 2) :
    ∃ ky vl ct lw hg rt : Nat → Int32, bk_Nr ky vl ct nd ea ∧ bk_Nr ky vl ct fr ((k, v) :: eb) ∧ (∀ m, m ≠ nd → m ≠ fr → bk_S8 a_keys a_vals a_count ky vl ct m) ∧
      ((lw fr).toInt = k ∧ ∀ m, m ≠ fr → lw m = a_low m) ∧ (hg fr = a_high nd ∧ hg nd = lw fr - 1 ∧ ∀ m, m ≠ nd → m ≠ fr → hg m = a_high m) ∧
      (rt fr = a_right nd ∧ rt nd = nI fr ∧ ∀ m, m ≠ nd → m ≠ fr → rt m = a_right m) ∧
      ∀ post : Int32 → SX → Prop, post (nI fr) (f_threadCount, f_fan, f_capacity, f_pace, f_least, nI s, f_root, f_head, f_records, f_appliedTotal, ky, vl, ct, upd a_level fr (a_level nd), lw, hg, rt, a_spare, a_path, a_phaseOf, a_kindOf, a_firstOf, a_secondOf, a_leftOf, a_outcomeOf, a_resKey, a_resValue, a_countOf, a_digestOf, a_appliedAt, a_latchesOf, a_place, a_unknown) → wpX_splitIfWide post (f_threadCount, f_fan, f_capacity, f_pace, f_least, f_spareTop, f_root, f_head, f_records, f_appliedTotal, a_keys, a_vals, a_count, a_level, a_low, a_high, a_right, a_spare, a_path, a_phaseOf, a_kindOf, a_firstOf, a_secondOf, a_leftOf, a_outcomeOf, a_resKey, a_resValue, a_countOf, a_digestOf, a_appliedAt, a_latchesOf, a_place, a_unknown) (nI nd) := by
  have hl2 : es.length = ea.length + (eb.length + 1) := by rw [he, List.length_append, List.length_cons]
  obtain ⟨ky, vl, hk, hv, hw⟩ := bx_spl_51 (nd := nd) (fr := fr) (len := es.length) (keep := es.length / 2) (f_threadCount := f_threadCount) (f_fan := f_fan) (f_capacity := f_capacity) (f_pace := f_pace) (f_least := f_least) (f_spareTop := nI s) (f_root := f_root) (f_head := f_head) (f_records := f_records) (f_appliedTotal := f_appliedTotal) (a_count := upd a_count fr 0) (a_level := a_level) (a_low := a_low) (a_high := a_high) (a_right := upd a_right fr (-1)) (a_spare := a_spare) (a_path := a_path) (a_phaseOf := a_phaseOf) (a_kindOf := a_kindOf) (a_firstOf := a_firstOf) (a_secondOf := a_secondOf) (a_leftOf := a_leftOf) (a_outcomeOf := a_outcomeOf) (a_resKey := a_resKey) (a_resValue := a_resValue) (a_countOf := a_countOf) (a_digestOf := a_digestOf) (a_appliedAt := a_appliedAt) (a_latchesOf := a_latchesOf) (a_place := a_place) (a_unknown := a_unknown) hn hfr hne (by rw [pk_un hne]; exact N.1) h8 (eb.length + 1) 0 (es.length / 2) (by omega) (by omega) a_keys a_vals
  have hct : ∀ m, m ≠ nd → m ≠ fr → upd (upd (upd a_count fr 0) fr (nI (0 + (eb.length + 1)))) nd (nI (es.length / 2)) m = a_count m := by
    intro m h1 h2
    rw [pk_un h1, pk_un h2, pk_un h2]
  have hcf : upd (upd (upd a_count fr 0) fr (nI (0 + (eb.length + 1)))) nd (nI (es.length / 2)) fr = nI (0 + (eb.length + 1)) := by
    rw [pk_un (Ne.symm hne), pk_us]
  have hNf : bk_Nr ky vl (upd (upd (upd a_count fr 0) fr (nI (0 + (eb.length + 1)))) nd (nI (es.length / 2))) fr ([] ++ (k, v) :: eb) :=
    bk_Nr_cp (e0 := []) (mv := 0) (d := eb.length + 1) (i := es.length / 2) (e1 := ea) (e2 := (k, v) :: eb) (n := nd) (by rw [← he]; exact N) (Or.inr rfl) hea.symm rfl rfl hcf hk hv
  rw [List.nil_append] at hNf
  have hkf : (ky (8 * fr)).toInt = k := (hNf.2 0 (k, v) rfl).1
  refine ⟨ky, vl, upd (upd (upd a_count fr 0) fr (nI (0 + (eb.length + 1)))) nd (nI (es.length / 2)), upd a_low fr (ky (8 * fr)), upd (upd a_high fr (a_high nd)) nd (ky (8 * fr) - 1), upd (upd (upd a_right fr (-1)) fr (upd a_right fr (-1) nd)) nd (nI fr), ⟨?_, fun j p hp => ?_⟩, hNf, fun m h1 h2 => ⟨hct m h1 h2, fun j hj => ?_⟩, ⟨?_, fun m hm => pk_un hm⟩, ⟨?_, ?_, fun m h1 h2 => ?_⟩, ⟨?_, ?_, fun m h1 h2 => ?_⟩, fun post hp => ?_⟩
  · rw [pk_us, hea]
  · have hj : j < ea.length := by
      by_cases z : j < ea.length
      · exact z
      · rw [List.getElem?_eq_none (by omega)] at hp; cases hp
    rw [hk, hv, if_neg (by omega), if_neg (by omega)]
    exact N.2 j p (by rw [he, List.getElem?_append_left hj]; exact hp)
  · rw [hk, hv, if_neg (by omega), if_neg (by omega)]
    exact ⟨rfl, rfl⟩
  · rw [pk_us]; exact hkf
  · rw [pk_un (Ne.symm hne), pk_us]
  · rw [pk_us, pk_us]
  · rw [pk_un h1, pk_un h2]
  · rw [pk_un (Ne.symm hne), pk_us, pk_un hne]
  · rw [pk_us]
  · rw [pk_un h1, pk_un h2, pk_un h2]
  · unfold wpX_splitIfWide
    refine And.intro (bx_in hn) ?_
    rw [bx_cl (n := nd) (by omega), N.1]
    refine br_t (by rw [hfan]; exact nI_lt hl (by omega)) ?_
    unfold wpX_takeNode
    have hz : (0 : Int32) < f_spareTop := by rw [hs, ← nI_0]; exact nI_lt (by omega) (by omega)
    have hp1 : f_spareTop - 1 = nI s := by rw [hs, nI_pred]
    refine br_t hz (nm_r hp1 ⟨vp_in_nI (by omega) (by omega), ?_⟩)
    rw [nI_clamp (n := s) (by omega)]
    refine nm_r hsp ⟨bx_in hfr, nm_e ⟨bx_in hfr, nm_e (br_t (nI_pos' (by omega)) ⟨bx_in hn, ?_⟩)⟩⟩
    rw [bx_cl (n := fr) (by omega), pk_un hne, N.1]
    refine nm_r (pk_shrN (by omega) _ 1 (by decide)) (nm_r (bx_sh hn) (nm_r (bx_sh hfr) ⟨eb.length + 1 + 1, ?_⟩))
    exact hw _ (by omega) post hp
theorem bx_join_39 {p at' : Int32} {a g lg : Nat} (ha : a < 80) (hg : g < 80) (hne : g ≠ a) (hlg : lg ≤ 8) :
    ∀ d i c, i + d = lg → c + d ≤ 8 → ∀ (ky vl ct : Nat → Int32), ct a = nI c → ct g = nI lg → ∃ ky' vl' ct' : Nat → Int32,
      (∀ q, ky' q = if 8 * a + c ≤ q ∧ q < 8 * a + c + d then ky (8 * g + i + (q - (8 * a + c))) else ky q) ∧
      (∀ q, vl' q = if 8 * a + c ≤ q ∧ q < 8 * a + c + d then vl (8 * g + i + (q - (8 * a + c))) else vl q) ∧
      (ct' a = nI (c + d) ∧ ∀ m, m ≠ a → ct' m = ct m) ∧
      ∀ n, d < n → ∀ post : SX → Prop, wX_join_126 post p at' (nI a) (nI g) f_threadCount f_fan f_capacity f_pace f_least f_spareTop f_root f_head f_records f_appliedTotal ky' vl' ct' a_level a_low a_high a_right a_spare a_path a_phaseOf a_kindOf a_firstOf a_secondOf a_leftOf a_outcomeOf a_resKey a_resValue a_countOf a_digestOf a_appliedAt a_latchesOf a_place a_unknown →
        wX_join_39 post p at' (nI a) (nI g) (nI (8 * a)) (nI (8 * g)) f_threadCount f_fan f_capacity f_pace f_least f_spareTop f_root f_head f_records f_appliedTotal n (nI i) ky vl ct a_level a_low a_high a_right a_spare a_path a_phaseOf a_kindOf a_firstOf a_secondOf a_leftOf a_outcomeOf a_resKey a_resValue a_countOf a_digestOf a_appliedAt a_latchesOf a_place a_unknown := by
  intro d
  induction d with
  | zero =>
    intro i c hi hc ky vl ct hca hcg
    refine ⟨ky, vl, ct, fun q => by rw [if_neg (by omega)], fun q => by rw [if_neg (by omega)], ⟨hca, fun _ _ => rfl⟩, fun n hn' post hp => ?_⟩
    obtain ⟨n, rfl⟩ : ∃ m, n = m + 1 := ⟨n - 1, by omega⟩
    refine And.intro (bx_in hg) ?_
    rw [bx_cl (n := g) (by omega), hcg]
    exact br_t (nI_le (by omega) (by omega)) hp
  | succ d ih =>
    intro i c hi hc ky vl ct hca hcg
    obtain ⟨ky', vl', ct', h1, h2, h3, h4⟩ := ih (i + 1) (c + 1) (by omega) (by omega) (upd ky (8 * a + c) (ky (8 * g + i))) (upd vl (8 * a + c) (vl (8 * g + i))) (upd ct a (ct a + 1)) (by rw [pk_us, hca, nI_1]) (by rw [pk_un hne]; exact hcg)
    refine ⟨ky', vl', ct', bk_cp_st hne (by omega) (by omega) h1, bk_cp_st hne (by omega) (by omega) h2, ⟨?_, fun m hm => ?_⟩, fun n hn' post hp => ?_⟩
    · rw [h3.1]; exact congrArg nI (by omega)
    · rw [h3.2 m hm, pk_un hm]
    · obtain ⟨n, rfl⟩ : ∃ m, n = m + 1 := ⟨n - 1, by omega⟩
      have hx := bx_ix hg (j := i) (by omega)
      have hz := bx_ix ha (j := c) (by omega)
      have key2 := h4 n (by omega) post hp
      refine And.intro (bx_in hg) ?_
      rw [bx_cl (n := g) (by omega), bx_cl (n := a) (by omega)]
      refine br_f (by rw [hcg]; exact nI_ge (by omega) (by omega)) ⟨bx_in ha, br_f (by rw [hca]; exact nI_ge (b := 8) (by omega) (by decide)) ⟨bx_in ha, nm_r (e' := nI (8 * a) + nI c) (by rw [hca]) ?_⟩⟩
      rw [hx.2, hz.2]
      exact ⟨hx.1, hz.1, nm_e ⟨hx.1, hz.1, nm_e ⟨bx_in ha, bx_in ha, nm_e (nm_r (nI_1 _) key2)⟩⟩⟩
end
end
section
/-! ===== 10: one place in the tree changes: ids are unique, the link, insertion into a level ===== -/
def bk_Ag (ky vl ct lv lw hg rt ky' vl' ct' lv' lw' hg' rt' : Nat → Int32) (m : Nat) : Prop :=
  bk_S8 ky vl ct ky' vl' ct' m ∧ lv' m = lv m ∧ lw' m = lw m ∧ hg' m = hg m ∧ rt' m = rt m
theorem bk_Lq_ag {ky vl ct lv lw hg rt ky' vl' ct' lv' lw' hg' rt' : Nat → Int32} {l : Nat} {x : bk_Nd} {nx : Option bk_Nd}
    (g : bk_Ag ky vl ct lv lw hg rt ky' vl' ct' lv' lw' hg' rt' x.1) (h8 : x.2.2.2.length ≤ 8) (q : bk_Lq ky vl ct lv lw hg rt l x nx) : bk_Lq ky' vl' ct' lv' lw' hg' rt' l x nx := by
  obtain ⟨g1, g2, g3, g4, g5⟩ := g
  refine ⟨bk_Nr_S8 q.1 g1 h8, ?_, ?_, ?_, ?_⟩
  · rw [g3]; exact q.2.1
  · rw [g2]; exact q.2.2.1
  · rw [g4]; exact q.2.2.2.1
  · rw [g5]; exact q.2.2.2.2
theorem bk_lq_same {ky vl ct lv lw hg rt ky' vl' ct' lv' lw' hg' rt' : Nat → Int32} {l : Nat} {xs : List bk_Nd} {e : Option bk_Nd}
    (c : bk_ch (bk_Lq ky vl ct lv lw hg rt l) e xs) (g : ∀ x, x ∈ xs → bk_Ag ky vl ct lv lw hg rt ky' vl' ct' lv' lw' hg' rt' x.1 ∧ x.2.2.2.length ≤ 8) :
    bk_ch (bk_Lq ky' vl' ct' lv' lw' hg' rt' l) e xs :=
  bk_ch_mono (fun x hx _ q => bk_Lq_ag (g x hx).1 (g x hx).2 q) c
theorem bk_lq_rep {ky vl ct lv lw hg rt ky' vl' ct' lv' lw' hg' rt' : Nat → Int32} {l : Nat} {A B xs ys : List bk_Nd} {x y : bk_Nd}
    (c : bk_ch (bk_Lq ky vl ct lv lw hg rt l) none (A ++ (x :: xs) ++ B))
    (gA : ∀ z, z ∈ A → bk_Ag ky vl ct lv lw hg rt ky' vl' ct' lv' lw' hg' rt' z.1 ∧ z.2.2.2.length ≤ 8)
    (gB : ∀ z, z ∈ B → bk_Ag ky vl ct lv lw hg rt ky' vl' ct' lv' lw' hg' rt' z.1 ∧ z.2.2.2.length ≤ 8)
    (hid : y.1 = x.1) (hlo : y.2.1 = x.2.1) (hy : bk_ch (bk_Lq ky' vl' ct' lv' lw' hg' rt' l) (bk_hd B none) (y :: ys)) :
    bk_ch (bk_Lq ky' vl' ct' lv' lw' hg' rt' l) none (A ++ (y :: ys) ++ B) := by
  have c1 := bk_ch_app.mp c
  have c2 := bk_ch_app.mp c1.1
  refine bk_ch_app.mpr ⟨bk_ch_app.mpr ⟨bk_ch_end (e := some x) (e' := some y) ?_ (bk_lq_same c2.1 gA), hy⟩, bk_lq_same c1.2 gB⟩
  intro w _ q
  refine ⟨q.1, q.2.1, q.2.2.1, ?_, ?_⟩
  · rw [q.2.2.2.1]
    show x.2.1 - 1 = y.2.1 - 1
    rw [hlo]
  · rw [q.2.2.2.2]
    show nI x.1 = nI y.1
    rw [hid]
section
variable {lst fan tl ti : Nat} {L : Nat → List bk_Nd} {h root : Nat} {ky vl ct lv lw hg rt : Nat → Int32}
theorem bk_T_m (T : bk_T lst fan tl ti L h root ky vl ct lv lw hg rt) {l : Nat} {x : bk_Nd} (hl : l ≤ h) (hx : x ∈ L l) :
    x.1 < 80 ∧ x.2.2.2.length ≤ 6 ∧ x.2.2.2.length ≤ fan ∧ lv x.1 = nI l ∧ (lw x.1).toInt = x.2.1 := by
  obtain ⟨A, B, e⟩ := List.append_of_mem hx
  obtain ⟨q1, q2, q3⟩ := bk_T_at T hl e
  exact ⟨q1.1, q3, ((T.1.1 l hl).2.2 x hx).1, q2.2.2.1, q2.2.1⟩
theorem bk_uq (T : bk_T lst fan tl ti L h root ky vl ct lv lw hg rt) {l l' : Nat} {x y : bk_Nd} (hl : l ≤ h) (hl' : l' ≤ h) (hx : x ∈ L l) (hy : y ∈ L l') (e : x.1 = y.1) : l = l' ∧ x = y := by
  have h1 := bk_T_m T hl hx
  have h2 := bk_T_m T hl' hy
  have h5 := T.2.2.1
  have e1 : l = l' := by
    have h3 := h1.2.2.2.1
    rw [e, h2.2.2.2.1] at h3
    exact (bx_inj (by omega) (by omega) h3).symm
  subst e1
  refine ⟨rfl, bk_lo_in (T.1.1 l hl).1 hx hy ?_⟩
  rw [← h1.2.2.2.2, ← h2.2.2.2.2, e]
/-- the neighbours of a node have other numbers -/
theorem bk_uqA (T : bk_T lst fan tl ti L h root ky vl ct lv lw hg rt) {l : Nat} {A B : List bk_Nd} {x : bk_Nd} (hl : l ≤ h) (e : L l = A ++ x :: B) :
    ∀ z, z ∈ A ∨ z ∈ B → z.1 ≠ x.1 := by
  intro z hz hc
  have hx : x ∈ L l := by rw [e]; simp
  have hz' : z ∈ L l := by
    rw [e]
    rcases hz with hz | hz
    · exact List.mem_append_left _ hz
    · exact List.mem_append_right _ (List.mem_cons_of_mem _ hz)
  have hzx := (bk_uq T hl hl hz' hx hc).2
  have c := (T.1.1 l hl).1
  rw [e] at c
  have d := bk_lo_ne c
  rcases hz with hz | hz
  · have := d.1 z hz; rw [hzx] at this; omega
  · have := d.2 z hz; rw [hzx] at this; omega
end
/-- the entries of a node with one more -/
theorem bk_so_ins {a b k : Int} {v : Int32} {e1 e2 : List (Int × Int32)} (s : bk_so a b (e1 ++ e2)) (h1 : ∀ p, p ∈ e1 → p.1 < k) (h2 : ∀ p, p ∈ e2 → k < p.1) (ha : a ≤ k) (hb : k < b) :
    bk_so a b (e1 ++ (k, v) :: e2) := by
  have d := List.pairwise_append.mp s.1
  refine ⟨List.pairwise_append.mpr ⟨d.1, List.pairwise_cons.mpr ⟨fun p hp => h2 p hp, d.2.1⟩, fun p hp q hq => ?_⟩, fun p hp => ?_⟩
  · rcases List.mem_cons.mp hq with hq | hq
    · rw [hq]; exact h1 p hp
    · exact d.2.2 p hp q hq
  · rcases List.mem_append.mp hp with hp | hp
    · exact s.2 p (List.mem_append_left _ hp)
    · rcases List.mem_cons.mp hp with hp | hp
      · rw [hp]; exact ⟨ha, hb⟩
      · exact s.2 p (List.mem_append_right _ hp)
theorem bk_so_cut {a b k : Int} {v : Int32} {e1 e2 : List (Int × Int32)} (s : bk_so a b (e1 ++ (k, v) :: e2)) :
    bk_so a k e1 ∧ bk_so k b ((k, v) :: e2) ∧ (e1 ≠ [] → a < k) ∧ k < b := by
  have d := List.pairwise_append.mp s.1
  have d2 := List.pairwise_cons.mp d.2.1
  refine ⟨⟨d.1, fun p hp => ⟨(s.2 p (List.mem_append_left _ hp)).1, d.2.2 p hp _ List.mem_cons_self⟩⟩, ⟨d.2.1, fun p hp => ⟨?_, (s.2 p (List.mem_append_right _ hp)).2⟩⟩, fun hne => ?_, (s.2 (k, v) (by simp)).2⟩
  · rcases List.mem_cons.mp hp with hp | hp
    · rw [hp]; exact Int.le_refl _
    · exact Int.le_of_lt (d2.1 p hp)
  · cases e1 with
    | nil => exact absurd rfl hne
    | cons p e1 =>
      have h1 := (s.2 p (by simp)).1
      have h2 : p.1 < k := d.2.2 p List.mem_cons_self _ List.mem_cons_self
      omega
theorem bk_e1_ne {l : Nat} {x : bk_Nd} {nx : Option bk_Nd} {e1 e2 : List (Int × Int32)} {k : Int} (R : bk_Rp l x nx) (hl : 0 < l) (he : x.2.2.2 = e1 ++ e2) (h2 : ∀ p, p ∈ e2 → k < p.1) (hk : x.2.1 ≤ k) :
    ∃ v e3, e1 = (x.2.1, v) :: e3 := by
  obtain ⟨v, es, hes⟩ := R.2.2.2 hl
  cases e1 with
  | nil =>
    rw [List.nil_append] at he
    have := h2 (x.2.1, v) (by rw [← he, hes]; exact List.mem_cons_self)
    have : k < x.2.1 := this
    omega
  | cons p e1 =>
    rw [hes] at he
    injection he with h3 h4
    exact ⟨v, e1, by rw [h3]⟩
theorem bk_LV_ins1 {fan mn : Nat} {d : Nat → Nat} {l : Nat} {A B : List bk_Nd} {x : bk_Nd} {e1 e2 : List (Int × Int32)} {k : Int} {v : Int32}
    (V : bk_LV fan mn d l (A ++ x :: B)) (he : x.2.2.2 = e1 ++ e2) (h1 : ∀ p, p ∈ e1 → p.1 < k) (h2 : ∀ p, p ∈ e2 → k < p.1) (hk : x.2.1 ≤ k) (hk2 : k < bk_bd (bk_hd B none))
    (hf : x.2.2.2.length < fan) : bk_LV fan mn d l (A ++ [(x.1, x.2.1, x.2.2.1, e1 ++ (k, v) :: e2)] ++ B) := by
  have R := bk_ch_at V.1
  have e : A ++ x :: B = A ++ [x] ++ B := by simp
  have f := V.2.2
  rw [e] at V
  have hl : x.2.2.2.length = e1.length + e2.length := by rw [he, List.length_append]
  refine bk_LV_rep V rfl (fun z => z) ⟨⟨R.1, R.2.1, ?_, fun hl => ?_⟩, trivial⟩ (fun z hz => f z (by simp [hz])) (fun z hz => ?_) (fun z hz => f z (by simp [hz]))
  · have s := R.2.2.1
    rw [he] at s
    exact bk_so_ins s h1 h2 hk hk2
  · obtain ⟨v', e3, h3⟩ := bk_e1_ne R hl he h2 hk
    exact ⟨v', e3 ++ (k, v) :: e2, by show e1 ++ _ = _; rw [h3]; rfl⟩
  · rw [List.mem_singleton.mp hz]
    have h3 := (f x (by simp)).2
    show (e1 ++ (k, v) :: e2).length ≤ fan ∧ mn ≤ (e1 ++ (k, v) :: e2).length + d x.1
    rw [List.length_append, List.length_cons]
    omega
theorem bk_LV_ins2 {fan lst mn fr : Nat} {d : Nat → Nat} {l : Nat} {A B : List bk_Nd} {x : bk_Nd} {e1 e2 ea eb : List (Int × Int32)} {k kf : Int} {v vf : Int32}
    (V : bk_LV fan mn d l (A ++ x :: B)) (he : x.2.2.2 = e1 ++ e2) (h1 : ∀ p, p ∈ e1 → p.1 < k) (h2 : ∀ p, p ∈ e2 → k < p.1) (hk : x.2.1 ≤ k) (hk2 : k < bk_bd (bk_hd B none))
    (hf : x.2.2.2.length = fan) (hs : e1 ++ (k, v) :: e2 = ea ++ (kf, vf) :: eb) (hea : ea.length = lst) (hlf : lst = (fan + 1) / 2) (hf3 : 3 ≤ fan) (hfr : fr < 80)
    (hmn : ∀ z, z ∈ A ∨ z ∈ B → mn = lst) :
    bk_LV fan lst d l (A ++ [(x.1, x.2.1, x.2.2.1, ea), (fr, kf, false, (kf, vf) :: eb)] ++ B) := by
  have R := bk_ch_at V.1
  have e : A ++ x :: B = A ++ [x] ++ B := by simp
  have f := V.2.2
  rw [e] at V
  have hl : x.2.2.2.length = e1.length + e2.length := by rw [he, List.length_append]
  have hl2 : e1.length + (e2.length + 1) = ea.length + (eb.length + 1) := by
    have := congrArg List.length hs
    rw [List.length_append, List.length_cons, List.length_append, List.length_cons] at this
    exact this
  have hne : ea ≠ [] := fun z => by rw [z] at hea; simp at hea; omega
  have s := R.2.2.1
  rw [he] at s
  have s := bk_so_ins (v := v) s h1 h2 hk hk2
  rw [hs] at s
  obtain ⟨s1, s2, s3, s4⟩ := bk_so_cut s
  refine bk_LV_rep V rfl (fun z => z) ⟨⟨R.1, s3 hne, s1, fun hl => ?_⟩, ⟨hfr, s4, s2, fun _ => ⟨vf, eb, rfl⟩⟩, trivial⟩ (fun z hz => ?_) (fun z hz => ?_) (fun z hz => ?_)
  · obtain ⟨v', e3, h3⟩ := bk_e1_ne R hl he h2 hk
    cases ea with
    | nil => exact absurd rfl hne
    | cons p ea =>
      rw [h3] at hs
      have hs : (x.2.1, v') :: (e3 ++ (k, v) :: e2) = p :: (ea ++ (kf, vf) :: eb) := hs
      injection hs with h4 h5
      exact ⟨v', ea, by show p :: ea = _; rw [← h4]⟩
  · have := f z (by simp [hz]); rw [hmn z (Or.inl hz)] at this; exact this
  · rcases List.mem_cons.mp hz with hz | hz
    · rw [hz]
      show ea.length ≤ fan ∧ lst ≤ ea.length + d x.1
      omega
    · rw [List.mem_singleton.mp hz]
      show ((kf, vf) :: eb).length ≤ fan ∧ lst ≤ ((kf, vf) :: eb).length + d fr
      rw [List.length_cons]
      omega
  · have := f z (by simp [hz]); rw [hmn z (Or.inr hz)] at this; exact this
end
section
/-! ===== 11: insertion into a node with the split behind it ===== -/
def bk_Fr (st : Int32) (sp : Nat → Int32) (L : Nat → List bk_Nd) (h : Nat) : Prop :=
  ∃ s, st = nI s ∧ s + bk_tb L (h + 1) = 80 ∧ (∀ i, i < s → ∃ n, n < 80 ∧ sp i = nI n ∧ ∀ l, l ≤ h → ∀ x, x ∈ L l → x.1 ≠ n) ∧ (∀ i j, i < s → j < s → sp i = sp j → i = j)
def bk_W (lst fan tl ti : Nat) (L : Nat → List bk_Nd) (h root : Nat) (st : Int32) (ky vl ct lv lw hg rt sp : Nat → Int32) : Prop :=
  bk_T lst fan tl ti L h root ky vl ct lv lw hg rt ∧ bk_Fr st sp L h ∧ lst = (fan + 1) / 2 ∧ 3 ≤ fan
def bk_Ys (L : Nat → List bk_Nd) (h fan lst : Nat) (A : List bk_Nd) (x : bk_Nd) (B : List bk_Nd) (e1 e2 : List (Int × Int32)) (k : Int) (v r : Int32) (ys : List bk_Nd) : Prop :=
  (r = -1 ∧ x.2.2.2.length < fan ∧ ys = A ++ [(x.1, x.2.1, x.2.2.1, e1 ++ (k, v) :: e2)] ++ B) ∨
  (∃ fr ea kf vf eb, fr < 80 ∧ (∀ l, l ≤ h → ∀ z, z ∈ L l → z.1 ≠ fr) ∧ r = nI fr ∧ x.2.2.2.length = fan ∧ e1 ++ (k, v) :: e2 = ea ++ (kf, vf) :: eb ∧ ea.length = lst ∧
    ys = A ++ [(x.1, x.2.1, x.2.2.1, ea), (fr, kf, false, (kf, vf) :: eb)] ++ B)
theorem bk_Fr_up {st : Int32} {sp : Nat → Int32} {L : Nat → List bk_Nd} {h l : Nat} {ys : List bk_Nd} (F : bk_Fr st sp L h) (hl : l ≤ h) (hlen : ys.length = (L l).length)
    (hid : ∀ z, z ∈ ys → ∃ w, w ∈ L l ∧ w.1 = z.1) : bk_Fr st sp (bk_up L l ys) h := by
  obtain ⟨s, h1, h2, h3, h4⟩ := F
  have h5 := (bk_tb_up L l ys (h + 1)).1 (by omega)
  refine ⟨s, h1, by omega, fun i hi => ?_, h4⟩
  obtain ⟨n, n1, n2, n3⟩ := h3 i hi
  refine ⟨n, n1, n2, fun l' hl' x hx => ?_⟩
  by_cases e : l' = l
  · subst e
    rw [bk_up_s] at hx
    obtain ⟨w, w1, w2⟩ := hid x hx
    rw [← w2]
    exact n3 l' hl' w w1
  · rw [bk_up_n _ _ e] at hx
    exact n3 l' hl' x hx
theorem bk_Fr_take {st : Int32} {sp : Nat → Int32} {L : Nat → List bk_Nd} {h : Nat} (F : bk_Fr st sp L h) (ht : bk_tb L (h + 1) ≤ 63) :
    ∃ s fr, st = nI (s + 1) ∧ s < 80 ∧ sp s = nI fr ∧ fr < 80 ∧ (∀ l, l ≤ h → ∀ x, x ∈ L l → x.1 ≠ fr) ∧
      ∀ (L' : Nat → List bk_Nd) (h' : Nat), bk_tb L' (h' + 1) = bk_tb L (h + 1) + 1 → (∀ l, l ≤ h' → ∀ z, z ∈ L' l → z.1 = fr ∨ ∃ l', l' ≤ h ∧ ∃ w, w ∈ L l' ∧ w.1 = z.1) → bk_Fr (nI s) sp L' h' := by
  obtain ⟨s, h1, h2, h3, h4⟩ := F
  obtain ⟨s, rfl⟩ : ∃ m, s = m + 1 := ⟨s - 1, by omega⟩
  obtain ⟨fr, f1, f2, f3⟩ := h3 s (by omega)
  refine ⟨s, fr, h1, by omega, f2, f1, f3, fun L' h' hb hm => ⟨s, rfl, by omega, fun i hi => ?_, fun i j hi hj => h4 i j (by omega) (by omega)⟩⟩
  obtain ⟨n, n1, n2, n3⟩ := h3 i (by omega)
  refine ⟨n, n1, n2, fun l hl z hz hc => ?_⟩
  rcases hm l hl z hz with hz | ⟨l', hl', w, hw, hz⟩
  · have : sp i = sp s := by rw [n2, f2, ← hc, hz]
    have := h4 i s (by omega) (by omega) this
    omega
  · exact n3 l' hl' w hw (hz.trans hc)
section
variable {lst fan tl ti : Nat} {L : Nat → List bk_Nd} {h root : Nat} {f_threadCount f_fan f_capacity f_pace f_least f_spareTop f_root f_head f_records f_appliedTotal : Int32} {a_keys a_vals a_count a_level a_low a_high a_right a_spare a_path a_phaseOf a_kindOf a_firstOf a_secondOf a_leftOf a_outcomeOf a_resKey a_resValue a_countOf a_digestOf a_appliedAt a_latchesOf a_place a_unknown : Nat → Int32}
theorem bx_insS (W : bk_W lst fan tl ti L h root f_spareTop a_keys a_vals a_count a_level a_low a_high a_right a_spare) (ht : tl = 0 ∨ 100 ≤ tl) (hfan : f_fan = nI fan)
    {l : Nat} {A B : List bk_Nd} {x : bk_Nd} (hl : l ≤ h) (e : L l = A ++ x :: B) {e1 e2 : List (Int × Int32)} {key val : Int32} (he : x.2.2.2 = e1 ++ e2)
    (h1 : ∀ p, p ∈ e1 → p.1 < key.toInt) (h2 : ∀ p, p ∈ e2 → key.toInt < p.1) (hk : x.2.1 ≤ key.toInt) (hk2 : key.toInt < bk_bd (bk_hd B none)) (rc : Int32) :
    ∃ (r st : Int32) (ys : List bk_Nd) (ky1 vl1 ct1 ky vl ct lv lw hg rt : Nat → Int32), bk_Ys L h fan lst A x B e1 e2 key.toInt val r ys ∧
      bk_LK ky vl ct lv lw hg rt (bk_up L l ys) h ∧ bk_Fr st a_spare (bk_up L l ys) h ∧
      (∀ post : SX → Prop, post (f_threadCount, f_fan, f_capacity, f_pace, f_least, f_spareTop, f_root, f_head, f_records, f_appliedTotal, ky1, vl1, ct1, a_level, a_low, a_high, a_right, a_spare, a_path, a_phaseOf, a_kindOf, a_firstOf, a_secondOf, a_leftOf, a_outcomeOf, a_resKey, a_resValue, a_countOf, a_digestOf, a_appliedAt, a_latchesOf, a_place, a_unknown) → wpX_insertEntry post (f_threadCount, f_fan, f_capacity, f_pace, f_least, f_spareTop, f_root, f_head, f_records, f_appliedTotal, a_keys, a_vals, a_count, a_level, a_low, a_high, a_right, a_spare, a_path, a_phaseOf, a_kindOf, a_firstOf, a_secondOf, a_leftOf, a_outcomeOf, a_resKey, a_resValue, a_countOf, a_digestOf, a_appliedAt, a_latchesOf, a_place, a_unknown) (nI x.1) key val) ∧
      (∀ post : Int32 → SX → Prop, post r (f_threadCount, f_fan, f_capacity, f_pace, f_least, st, f_root, f_head, rc, f_appliedTotal, ky, vl, ct, lv, lw, hg, rt, a_spare, a_path, a_phaseOf, a_kindOf, a_firstOf, a_secondOf, a_leftOf, a_outcomeOf, a_resKey, a_resValue, a_countOf, a_digestOf, a_appliedAt, a_latchesOf, a_place, a_unknown) →
        wpX_splitIfWide post (f_threadCount, f_fan, f_capacity, f_pace, f_least, f_spareTop, f_root, f_head, rc, f_appliedTotal, ky1, vl1, ct1, a_level, a_low, a_high, a_right, a_spare, a_path, a_phaseOf, a_kindOf, a_firstOf, a_secondOf, a_leftOf, a_outcomeOf, a_resKey, a_resValue, a_countOf, a_digestOf, a_appliedAt, a_latchesOf, a_place, a_unknown) (nI x.1)) := by
  obtain ⟨T, F, hlst, hf3⟩ := W
  obtain ⟨q1, q2, q3⟩ := bk_T_at T hl e
  have hx := q1.1
  have hf6 := T.2.2.2.2
  have h5 := T.2.2.1
  have hxf := ((T.1.1 l hl).2.2 x (by rw [e]; simp)).1
  have huq := bk_uqA T hl e
  have hK := T.2.1
  obtain ⟨ky1, vl1, ct1, N1, S1, w1⟩ := bx_insert (val := val) (f_threadCount := f_threadCount) (f_fan := f_fan) (f_capacity := f_capacity) (f_pace := f_pace) (f_least := f_least) (f_spareTop := f_spareTop) (f_root := f_root) (f_head := f_head) (f_records := f_records) (f_appliedTotal := f_appliedTotal) (a_keys := a_keys) (a_vals := a_vals) (a_count := a_count) (a_level := a_level) (a_low := a_low) (a_high := a_high) (a_right := a_right) (a_spare := a_spare) (a_path := a_path) (a_phaseOf := a_phaseOf) (a_kindOf := a_kindOf) (a_firstOf := a_firstOf) (a_secondOf := a_secondOf) (a_leftOf := a_leftOf) (a_outcomeOf := a_outcomeOf) (a_resKey := a_resKey) (a_resValue := a_resValue) (a_countOf := a_countOf) (a_digestOf := a_digestOf) (a_appliedAt := a_appliedAt) (a_latchesOf := a_latchesOf) (a_place := a_place) (a_unknown := a_unknown) hx q2.1 he (by omega) h1 (fun p hp => Int.le_of_lt (h2 p hp))
  have hel : (e1 ++ (key.toInt, val) :: e2).length = x.2.2.2.length + 1 := by
    rw [he, List.length_append, List.length_append, List.length_cons]; omega
  by_cases hw : x.2.2.2.length < fan
  · refine ⟨-1, f_spareTop, A ++ [(x.1, x.2.1, x.2.2.1, e1 ++ (key.toInt, val) :: e2)] ++ B, ky1, vl1, ct1, ky1, vl1, ct1, a_level, a_low, a_high, a_right, Or.inl ⟨rfl, hw, rfl⟩, fun l' hl' => ?_, ?_, w1, fun post hp => ?_⟩
    · by_cases el : l' = l
      · subst el
        rw [bk_up_s]
        have c := hK l' hl'
        rw [e, show A ++ x :: B = A ++ [x] ++ B by simp] at c
        refine bk_lq_rep c (fun z hz => ⟨⟨S1 _ (huq z (Or.inl hz)), rfl, rfl, rfl, rfl⟩, ?_⟩) (fun z hz => ⟨⟨S1 _ (huq z (Or.inr hz)), rfl, rfl, rfl, rfl⟩, ?_⟩) rfl rfl ⟨⟨N1, q2.2⟩, trivial⟩
        · have := (bk_T_m T hl (x := z) (by rw [e]; simp [hz])).2.1; omega
        · have := (bk_T_m T hl (x := z) (by rw [e]; simp [hz])).2.1; omega
      · rw [bk_up_n _ _ el]
        refine bk_lq_same (hK l' hl') (fun z hz => ⟨⟨S1 _ (fun hc => el (bk_uq T hl' hl hz (by rw [e]; simp) hc).1), rfl, rfl, rfl, rfl⟩, ?_⟩)
        have := (bk_T_m T hl' hz).2.1; omega
    · refine bk_Fr_up F hl (by rw [e]; simp) (fun z hz => ?_)
      rcases List.mem_append.mp hz with hz | hz
      · rcases List.mem_append.mp hz with hz | hz
        · exact ⟨z, by rw [e]; simp [hz], rfl⟩
        · exact ⟨x, by rw [e]; simp, by rw [List.mem_singleton.mp hz]⟩
      · exact ⟨z, by rw [e]; simp [hz], rfl⟩
    · exact bx_split0 hx N1 hfan (by omega) (by omega) hp
  · have hxe : x.2.2.2.length = fan := by omega
    have hcnt := (bk_cnt (by omega) T.1 (by omega)).1
    obtain ⟨s, fr, t1, t2, t3, t4, t5, t6⟩ := bk_Fr_take F hcnt
    have hxfr : x.1 ≠ fr := t5 l hl x (by rw [e]; simp)
    have hlt : lst < (e1 ++ (key.toInt, val) :: e2).length := by omega
    have hcut : e1 ++ (key.toInt, val) :: e2 = (e1 ++ (key.toInt, val) :: e2).take lst ++ ((e1 ++ (key.toInt, val) :: e2)[lst].1, (e1 ++ (key.toInt, val) :: e2)[lst].2) :: (e1 ++ (key.toInt, val) :: e2).drop (lst + 1) := bk_cutAt hlt
    have hea : ((e1 ++ (key.toInt, val) :: e2).take lst).length = lst := by rw [List.length_take]; omega
    generalize (e1 ++ (key.toInt, val) :: e2).take lst = ea at hcut hea
    generalize (e1 ++ (key.toInt, val) :: e2)[lst].1 = kf at hcut
    generalize (e1 ++ (key.toInt, val) :: e2)[lst].2 = vf at hcut
    generalize (e1 ++ (key.toInt, val) :: e2).drop (lst + 1) = eb at hcut
    have hkf : x.2.1 < kf := by
      have s := q1.2.2.1
      rw [he] at s
      have s := bk_so_ins (v := val) s h1 h2 hk hk2
      rw [hcut] at s
      exact (bk_so_cut s).2.2.1 (fun z => by rw [z] at hea; simp at hea; omega)
    obtain ⟨ky, vl, ct, lw, hg, rt, m1, m2, m3, m4, m5, m6, m7⟩ := bx_split1 (f_threadCount := f_threadCount) (f_fan := f_fan) (f_capacity := f_capacity) (f_pace := f_pace) (f_least := f_least) (f_spareTop := f_spareTop) (f_root := f_root) (f_head := f_head) (f_records := rc) (f_appliedTotal := f_appliedTotal) (a_keys := ky1) (a_vals := vl1) (a_count := ct1) (a_level := a_level) (a_low := a_low) (a_high := a_high) (a_right := a_right) (a_spare := a_spare) (a_path := a_path) (a_phaseOf := a_phaseOf) (a_kindOf := a_kindOf) (a_firstOf := a_firstOf) (a_secondOf := a_secondOf) (a_leftOf := a_leftOf) (a_outcomeOf := a_outcomeOf) (a_resKey := a_resKey) (a_resValue := a_resValue) (a_countOf := a_countOf) (a_digestOf := a_digestOf) (a_appliedAt := a_appliedAt) (a_latchesOf := a_latchesOf) (a_place := a_place) (a_unknown := a_unknown) hx N1 hfan (by omega) (by omega) t1 t2 t3 t4 hxfr hcut (by omega)
    have hag : ∀ m, m ≠ x.1 → m ≠ fr → bk_Ag a_keys a_vals a_count a_level a_low a_high a_right ky vl ct (upd a_level fr (a_level x.1)) lw hg rt m := fun m g1 g2 =>
      ⟨bk_S8_tr (S1 m g1) (m3 m g1 g2), pk_un g2, m4.2 m g2, m5.2.2 m g1 g2, m6.2.2 m g1 g2⟩
    refine ⟨nI fr, nI s, A ++ [(x.1, x.2.1, x.2.2.1, ea), (fr, kf, false, (kf, vf) :: eb)] ++ B, ky1, vl1, ct1, ky, vl, ct, upd a_level fr (a_level x.1), lw, hg, rt,
      Or.inr ⟨fr, ea, kf, vf, eb, t4, t5, rfl, hxe, hcut, hea, rfl⟩, fun l' hl' => ?_, ?_, w1, fun post hp => ?_⟩
    · by_cases el : l' = l
      · subst el
        rw [bk_up_s]
        have c := hK l' hl'
        rw [e, show A ++ x :: B = A ++ [x] ++ B by simp] at c
        refine bk_lq_rep c (fun z hz => ⟨hag _ (huq z (Or.inl hz)) (t5 l' hl z (by rw [e]; simp [hz])), ?_⟩) (fun z hz => ⟨hag _ (huq z (Or.inr hz)) (t5 l' hl z (by rw [e]; simp [hz])), ?_⟩) rfl rfl
          ⟨⟨m1, ?_, ?_, ?_, m6.2.1⟩, ⟨m2, m4.1, ?_, ?_, ?_⟩, trivial⟩
        · have := (bk_T_m T hl (x := z) (by rw [e]; simp [hz])).2.1; omega
        · have := (bk_T_m T hl (x := z) (by rw [e]; simp [hz])).2.1; omega
        · show (lw x.1).toInt = x.2.1
          rw [m4.2 _ hxfr]; exact q2.2.1
        · show upd a_level fr (a_level x.1) x.1 = nI l'
          rw [pk_un hxfr]; exact q2.2.2.1
        · show (hg x.1).toInt = kf - 1
          have hlo := (a_low x.1).le_toInt
          rw [q2.2.1] at hlo
          rw [m5.2.1, bx_sub1 (by rw [m4.1]; omega), m4.1]
        · show upd a_level fr (a_level x.1) fr = nI l'
          rw [pk_us]; exact q2.2.2.1
        · show (hg fr).toInt = _
          rw [m5.1]; exact q2.2.2.2.1
        · show rt fr = _
          rw [m6.1]; exact q2.2.2.2.2
      · rw [bk_up_n _ _ el]
        refine bk_lq_same (hK l' hl') (fun z hz => ⟨hag _ (fun hc => el (bk_uq T hl' hl hz (by rw [e]; simp) hc).1) (t5 l' hl' z hz), ?_⟩)
        have := (bk_T_m T hl' hz).2.1; omega
    · refine t6 _ h ?_ (fun l' hl' z hz => ?_)
      · have hb := (bk_tb_up L l (A ++ [(x.1, x.2.1, x.2.2.1, ea), (fr, kf, false, (kf, vf) :: eb)] ++ B) (h + 1)).1 (by omega)
        rw [e] at hb
        simp only [List.length_append, List.length_cons, List.length_nil] at hb
        omega
      · by_cases el : l' = l
        · subst el
          rw [bk_up_s] at hz
          rcases List.mem_append.mp hz with hz | hz
          · rcases List.mem_append.mp hz with hz | hz
            · exact Or.inr ⟨l', hl, z, by rw [e]; simp [hz], rfl⟩
            · rcases List.mem_cons.mp hz with hz | hz
              · exact Or.inr ⟨l', hl, x, by rw [e]; simp, by rw [hz]⟩
              · exact Or.inl (by rw [List.mem_singleton.mp hz])
          · exact Or.inr ⟨l', hl, z, by rw [e]; simp [hz], rfl⟩
        · rw [bk_up_n _ _ el] at hz
          exact Or.inr ⟨l', hl', z, hz, rfl⟩
    · exact m7 post hp
end
end
section
/-! ===== 12: what an insertion does to a level; plant ===== -/
def bk_Gw (L : Nat → List bk_Nd) (h : Nat) (L' : Nat → List bk_Nd) (h' : Nat) : Prop :=
  ∀ l, l ≤ h → l ≤ h' ∧ ∀ z, z ∈ L l → ∃ z', z' ∈ L' l ∧ z'.1 = z.1 ∧ z'.2.1 = z.2.1
def bk_Pn (L : Nat → List bk_Nd) (h i : Nat) : Prop := ∃ l, l ≤ h ∧ ∃ z, z ∈ L l ∧ z.2.2.1 = false ∧ z.1 = i
theorem bk_Gw_tr {L L1 L2 : Nat → List bk_Nd} {h h1 h2 : Nat} (g : bk_Gw L h L1 h1) (g' : bk_Gw L1 h1 L2 h2) : bk_Gw L h L2 h2 := by
  intro l hl
  obtain ⟨a1, a2⟩ := g l hl
  obtain ⟨b1, b2⟩ := g' l a1
  refine ⟨b1, fun z hz => ?_⟩
  obtain ⟨z1, c1, c2, c3⟩ := a2 z hz
  obtain ⟨z2, d1, d2, d3⟩ := b2 z1 c1
  exact ⟨z2, d1, d2.trans c2, d3.trans c3⟩
theorem bk_Gw_rf (L : Nat → List bk_Nd) (h : Nat) : bk_Gw L h L h := fun l hl => ⟨hl, fun z hz => ⟨z, hz, rfl, rfl⟩⟩
section
variable {lst fan tl ti : Nat} {L : Nat → List bk_Nd} {h root l : Nat} {A B : List bk_Nd} {x : bk_Nd} {e1 e2 : List (Int × Int32)} {k : Int} {v r : Int32} {ys : List bk_Nd}
theorem bk_Ys_kn (Y : bk_Ys L h fan lst A x B e1 e2 k v r ys) : bk_kn ys = bk_kn (A ++ x :: B) := by
  rcases Y with ⟨_, _, rfl⟩ | ⟨fr, ea, kf, vf, eb, _, _, _, _, _, _, rfl⟩
  · simp only [bk_kn, List.filter_append, List.filter_cons, List.filter_nil, List.map_append, List.append_assoc]
    cases x.2.2.1 <;> simp
  · simp only [bk_kn, List.filter_append, List.filter_cons, List.filter_nil, List.map_append, List.append_assoc]
    cases x.2.2.1 <;> simp
theorem bk_Ys_fl (Y : bk_Ys L h fan lst A x B e1 e2 k v r ys) : bk_fl ys = bk_fl A ++ (e1 ++ (k, v) :: e2) ++ bk_fl B := by
  rcases Y with ⟨_, _, rfl⟩ | ⟨fr, ea, kf, vf, eb, _, _, _, _, hs, _, rfl⟩
  · rw [bk_fl_app, bk_fl_app, bk_fl_cons, bk_fl_nil, List.append_nil]
  · rw [bk_fl_app, bk_fl_app, bk_fl_cons, bk_fl_cons, bk_fl_nil, List.append_nil, hs]
theorem bk_Ys_LV (P : bk_PT lst fan tl ti L h root) (hl : l ≤ h) (e : L l = A ++ x :: B) (he : x.2.2.2 = e1 ++ e2) (h1 : ∀ p, p ∈ e1 → p.1 < k) (h2 : ∀ p, p ∈ e2 → k < p.1)
    (hk : x.2.1 ≤ k) (hk2 : k < bk_bd (bk_hd B none)) (hlf : lst = (fan + 1) / 2) (hf3 : 3 ≤ fan) (Y : bk_Ys L h fan lst A x B e1 e2 k v r ys) :
    bk_LV fan (bk_mn lst h l ys.length) (bk_ds tl ti l) l ys := by
  have V := P.1 l hl
  rw [e] at V
  rcases Y with ⟨_, hf, rfl⟩ | ⟨fr, ea, kf, vf, eb, hfr, _, _, hf, hs, hea, rfl⟩
  · have hlen : (A ++ [(x.1, x.2.1, x.2.2.1, e1 ++ (k, v) :: e2)] ++ B).length = (A ++ x :: B).length := by simp
    rw [hlen]
    exact bk_LV_ins1 V he h1 h2 hk hk2 hf
  · rw [bk_mn_2 (by simp; omega)]
    refine bk_LV_ins2 V he h1 h2 hk hk2 hf hs hea hlf hf3 hfr (fun z hz => bk_mn_2 ?_)
    rcases hz with hz | hz
    · have := List.length_pos_of_mem hz
      rw [List.length_append, List.length_cons]; omega
    · have := List.length_pos_of_mem hz
      rw [List.length_append, List.length_cons]; omega
theorem bk_Ys_tp (Y : bk_Ys L h fan lst A x B e1 e2 k v r ys) (t : bk_tp root (A ++ x :: B)) : bk_tp root ys := by
  obtain ⟨w, ws, e, t1, t2⟩ := t
  cases A with
  | nil =>
    injection e with e3 e4
    subst e3 e4
    rcases Y with ⟨_, _, rfl⟩ | ⟨fr, ea, kf, vf, eb, _, _, _, _, _, _, rfl⟩
    · exact ⟨_, _, rfl, t1, t2⟩
    · refine ⟨_, _, rfl, t1, fun y hy => ?_⟩
      rcases List.mem_cons.mp hy with rfl | hy
      · rfl
      · exact t2 y hy
  | cons a A =>
    injection e with e3 e4
    subst e3 e4
    rcases Y with ⟨_, _, rfl⟩ | ⟨fr, ea, kf, vf, eb, _, _, _, _, _, _, rfl⟩
    · refine ⟨_, _, rfl, t1, fun y hy => ?_⟩
      rcases List.mem_append.mp hy with hy | hy
      · rcases List.mem_append.mp hy with hy | hy
        · exact t2 y (by simp [hy])
        · rw [List.mem_singleton.mp hy]; exact t2 x (by simp)
      · exact t2 y (by simp [hy])
    · refine ⟨_, _, rfl, t1, fun y hy => ?_⟩
      rcases List.mem_append.mp hy with hy | hy
      · rcases List.mem_append.mp hy with hy | hy
        · exact t2 y (by simp [hy])
        · rcases List.mem_cons.mp hy with hy | hy
          · rw [hy]; exact t2 x (by simp)
          · rw [List.mem_singleton.mp hy]
      · exact t2 y (by simp [hy])
theorem bk_Ys_h0 (Y : bk_Ys L h fan lst A x B e1 e2 k v r ys) (t : bk_h0 (A ++ x :: B)) : bk_h0 ys := by
  obtain ⟨w, ws, e, t1⟩ := t
  cases A with
  | nil =>
    injection e with e3 e4
    subst e3 e4
    rcases Y with ⟨_, _, rfl⟩ | ⟨fr, ea, kf, vf, eb, _, _, _, _, _, _, rfl⟩
    · exact ⟨_, _, rfl, t1⟩
    · exact ⟨_, _, rfl, t1⟩
  | cons a A =>
    injection e with e3 e4
    subst e3 e4
    rcases Y with ⟨_, _, rfl⟩ | ⟨fr, ea, kf, vf, eb, _, _, _, _, _, _, rfl⟩
    · exact ⟨_, _, rfl, t1⟩
    · exact ⟨_, _, rfl, t1⟩
theorem bk_Ys_gw (Y : bk_Ys L h fan lst A x B e1 e2 k v r ys) : ∀ z, z ∈ A ++ x :: B → ∃ z', z' ∈ ys ∧ z'.1 = z.1 ∧ z'.2.1 = z.2.1 ∧ z'.2.2.1 = z.2.2.1 := by
  intro z hz
  have hz : z ∈ A ∨ z = x ∨ z ∈ B := by
    rcases List.mem_append.mp hz with hz | hz
    · exact Or.inl hz
    · rcases List.mem_cons.mp hz with hz | hz
      · exact Or.inr (Or.inl hz)
      · exact Or.inr (Or.inr hz)
  rcases Y with ⟨_, _, rfl⟩ | ⟨fr, ea, kf, vf, eb, _, _, _, _, _, _, rfl⟩
  · rcases hz with hz | rfl | hz
    · exact ⟨z, by simp [hz], rfl, rfl, rfl⟩
    · exact ⟨(z.1, z.2.1, z.2.2.1, e1 ++ (k, v) :: e2), by simp, rfl, rfl, rfl⟩
    · exact ⟨z, by simp [hz], rfl, rfl, rfl⟩
  · rcases hz with hz | rfl | hz
    · exact ⟨z, by simp [hz], rfl, rfl, rfl⟩
    · exact ⟨(z.1, z.2.1, z.2.2.1, ea), by simp, rfl, rfl, rfl⟩
    · exact ⟨z, by simp [hz], rfl, rfl, rfl⟩
theorem bk_Ys_pn (Y : bk_Ys L h fan lst A x B e1 e2 k v r ys) : ∀ z', z' ∈ ys → z'.2.2.1 = false → (∃ z, z ∈ A ++ x :: B ∧ z.1 = z'.1 ∧ z.2.2.1 = false) ∨ (r = nI z'.1 ∧ z'.1 < 80) := by
  intro z hz hk
  rcases Y with ⟨_, _, rfl⟩ | ⟨fr, ea, kf, vf, eb, hfr, _, hr, _, _, _, rfl⟩
  · rcases List.mem_append.mp hz with hz | hz
    · rcases List.mem_append.mp hz with hz | hz
      · exact Or.inl ⟨z, by simp [hz], rfl, hk⟩
      · rw [List.mem_singleton.mp hz] at hk ⊢
        exact Or.inl ⟨x, by simp, rfl, hk⟩
    · exact Or.inl ⟨z, by simp [hz], rfl, hk⟩
  · rcases List.mem_append.mp hz with hz | hz
    · rcases List.mem_append.mp hz with hz | hz
      · exact Or.inl ⟨z, by simp [hz], rfl, hk⟩
      · rcases List.mem_cons.mp hz with hz | hz
        · rw [hz] at hk ⊢
          exact Or.inl ⟨x, by simp, rfl, hk⟩
        · rw [List.mem_singleton.mp hz]
          exact Or.inr ⟨hr, hfr⟩
    · exact Or.inl ⟨z, by simp [hz], rfl, hk⟩
theorem bk_Ys_r (Y : bk_Ys L h fan lst A x B e1 e2 k v r ys) : (r = -1 ∧ ys.length = (A ++ x :: B).length) ∨
    ∃ fr, fr < 80 ∧ r = nI fr ∧ (∀ l, l ≤ h → ∀ z, z ∈ L l → z.1 ≠ fr) ∧ (∃ z, z ∈ ys ∧ z.2.2.1 = false ∧ z.1 = fr) ∧ ys.length = (A ++ x :: B).length + 1 := by
  rcases Y with ⟨hr, _, rfl⟩ | ⟨fr, ea, kf, vf, eb, hfr, hf2, hr, _, _, _, rfl⟩
  · exact Or.inl ⟨hr, by simp⟩
  · exact Or.inr ⟨fr, hfr, hr, hf2, ⟨(fr, kf, false, (kf, vf) :: eb), by simp, rfl, rfl⟩, by simp; omega⟩
end
section
variable {lst fan tl ti : Nat} {L : Nat → List bk_Nd} {h root : Nat} {f_threadCount f_fan f_capacity f_pace f_least f_spareTop f_root f_head f_records f_appliedTotal : Int32} {a_keys a_vals a_count a_level a_low a_high a_right a_spare a_path a_phaseOf a_kindOf a_firstOf a_secondOf a_leftOf a_outcomeOf a_resKey a_resValue a_countOf a_digestOf a_appliedAt a_latchesOf a_place a_unknown : Nat → Int32}
theorem bx_plant {key val s : Int32} (W : bk_W lst fan tl ti L h root f_spareTop a_keys a_vals a_count a_level a_low a_high a_right a_spare) (ht : 100 ≤ tl) (hfan : f_fan = nI fan)
    (h64 : (bk_fl (L 0)).length < 64) (hs : bk_St L h key.toInt s) (habs : ∀ v, (key.toInt, v) ∉ bk_fl (L 0)) :
    ∃ (r st : Int32) (L' : Nat → List bk_Nd) (ky vl ct lv lw hg rt : Nat → Int32), bk_W lst fan tl ti L' h root st ky vl ct lv lw hg rt a_spare ∧
      (∃ M1 M2, bk_fl (L 0) = M1 ++ M2 ∧ bk_fl (L' 0) = M1 ++ (key.toInt, val) :: M2) ∧ bk_Gw L h L' h ∧
      (∀ i, bk_Pn L' h i ↔ (bk_Pn L h i ∨ (r = nI i ∧ i < 80))) ∧ (r = -1 ∨ ∃ j, j < 80 ∧ r = nI j ∧ ¬ bk_Pn L h j) ∧
      ∀ post : Int32 → SX → Prop, post r (f_threadCount, f_fan, f_capacity, f_pace, f_least, st, f_root, f_head, f_records + 1, f_appliedTotal, ky, vl, ct, lv, lw, hg, rt, a_spare, a_path, a_phaseOf, a_kindOf, a_firstOf, a_secondOf, a_leftOf, a_outcomeOf, a_resKey, a_resValue, a_countOf, a_digestOf, a_appliedAt, a_latchesOf, a_place, a_unknown) →
        wpX_plant post (f_threadCount, f_fan, f_capacity, f_pace, f_least, f_spareTop, f_root, f_head, f_records, f_appliedTotal, a_keys, a_vals, a_count, a_level, a_low, a_high, a_right, a_spare, a_path, a_phaseOf, a_kindOf, a_firstOf, a_secondOf, a_leftOf, a_outcomeOf, a_resKey, a_resValue, a_countOf, a_digestOf, a_appliedAt, a_latchesOf, a_place, a_unknown) s key val := by
  obtain ⟨A, x, B, r1, r2, r3, r4⟩ := bx_seek0 (f_threadCount := f_threadCount) (f_fan := f_fan) (f_capacity := f_capacity) (f_pace := f_pace) (f_least := f_least) (f_spareTop := f_spareTop) (f_root := f_root) (f_head := f_head) (f_records := f_records) (f_appliedTotal := f_appliedTotal) (a_keys := a_keys) (a_vals := a_vals) (a_count := a_count) (a_level := a_level) (a_low := a_low) (a_high := a_high) (a_right := a_right) (a_spare := a_spare) (a_path := a_path) (a_phaseOf := a_phaseOf) (a_kindOf := a_kindOf) (a_firstOf := a_firstOf) (a_secondOf := a_secondOf) (a_leftOf := a_leftOf) (a_outcomeOf := a_outcomeOf) (a_resKey := a_resKey) (a_resValue := a_resValue) (a_countOf := a_countOf) (a_digestOf := a_digestOf) (a_appliedAt := a_appliedAt) (a_latchesOf := a_latchesOf) (a_place := a_place) (a_unknown := a_unknown) W.1 hs
  have W' := W
  obtain ⟨T, F, hlst, hf3⟩ := W'
  obtain ⟨q1, q2, q3⟩ := bk_T_at T (l := 0) (by omega) r1
  obtain ⟨e1, e2, he, h1, h2⟩ := bk_cut key.toInt q1.2.2.1.1
  have h2' : ∀ p, p ∈ e2 → key.toInt < p.1 := by
    intro p hp
    have h3 := h2 p hp
    have h4 : p.1 ≠ key.toInt := fun hc => habs p.2 (by
      rw [← hc]
      exact bk_mem_fl.mpr ⟨x, by rw [r1]; simp, by rw [he]; simp [hp]⟩)
    omega
  obtain ⟨r, st, ys, ky1, vl1, ct1, ky, vl, ct, lv, lw, hg, rt, Y, K, F', w1, w2⟩ := bx_insS (val := val) (f_threadCount := f_threadCount) (f_fan := f_fan) (f_capacity := f_capacity) (f_pace := f_pace) (f_least := f_least) (f_spareTop := f_spareTop) (f_root := f_root) (f_head := f_head) (f_records := f_records) (f_appliedTotal := f_appliedTotal) (a_keys := a_keys) (a_vals := a_vals) (a_count := a_count) (a_level := a_level) (a_low := a_low) (a_high := a_high) (a_right := a_right) (a_spare := a_spare) (a_path := a_path) (a_phaseOf := a_phaseOf) (a_kindOf := a_kindOf) (a_firstOf := a_firstOf) (a_secondOf := a_secondOf) (a_leftOf := a_leftOf) (a_outcomeOf := a_outcomeOf) (a_resKey := a_resKey) (a_resValue := a_resValue) (a_countOf := a_countOf) (a_digestOf := a_digestOf) (a_appliedAt := a_appliedAt) (a_latchesOf := a_latchesOf) (a_place := a_place) (a_unknown := a_unknown) W (Or.inr ht) hfan (l := 0) (by omega) r1 he h1 h2' r2 r3 (f_records + 1)
  have V := bk_Ys_LV T.1 (l := 0) (by omega) r1 he h1 h2' r2 r3 hlst hf3 Y
  have hfl := bk_Ys_fl Y
  have hfl0 : bk_fl (L 0) = bk_fl A ++ e1 ++ (e2 ++ bk_fl B) := by
    rw [r1, bk_fl_app, bk_fl_cons, he]; simp
  have hlen : ys.length ≤ 32 := by
    have h32 := T.1.2.2.2.1
    rcases bk_Ys_r Y with ⟨_, hy⟩ | ⟨fr, _, _, _, _, hy⟩
    · rw [hy, ← r1]; exact h32
    · have h3 : 2 * ys.length ≤ (bk_fl ys).length := by
        refine bk_fl_len2 (fun z hz => ?_)
        have h4 := (V.2.2 z hz).2
        have h5 := T.2.2.1
        rw [bk_ds_n (by omega)] at h4
        rw [bk_mn_2 (by rw [hy]; simp)] at h4
        omega
      have h5 : (bk_fl ys).length = (bk_fl (L 0)).length + 1 := by
        rw [hfl, hfl0]; simp; omega
      omega
  have htb : bk_tb (bk_up L 0 ys) (h + 1) ≤ 80 := by obtain ⟨s', _, hs', _⟩ := F'; omega
  have hP : bk_PT lst fan tl ti (bk_up L 0 ys) h root := by
    refine bk_PT_up1 T.1 (fun _ _ _ _ => Nat.le_refl _) V (by rw [bk_Ys_kn Y, r1]) (fun h0 => ?_) hlen (bk_Ys_h0 Y (by rw [← r1]; exact T.1.2.2.2.2))
    subst h0
    exact bk_Ys_tp Y (by rw [← r1]; exact T.1.2.2.1)
  refine ⟨r, st, bk_up L 0 ys, ky, vl, ct, lv, lw, hg, rt, ⟨⟨hP, K, T.2.2.1, htb, T.2.2.2.2⟩, F', hlst, hf3⟩, ⟨bk_fl A ++ e1, e2 ++ bk_fl B, hfl0, ?_⟩, fun l hl => ⟨hl, fun z hz => ?_⟩, fun i => ⟨fun hp => ?_, fun hp => ?_⟩, ?_, fun post hp => ?_⟩
  · rw [bk_up_s, hfl]; simp
  · by_cases e : l = 0
    · subst e
      rw [bk_up_s]
      rw [r1] at hz
      obtain ⟨z', a1, a2, a3, _⟩ := bk_Ys_gw Y z hz
      exact ⟨z', a1, a2, a3⟩
    · rw [bk_up_n _ _ e]
      exact ⟨z, hz, rfl, rfl⟩
  · obtain ⟨l, hl, z, hz, hk, rfl⟩ := hp
    by_cases e : l = 0
    · subst e
      rw [bk_up_s] at hz
      rcases bk_Ys_pn Y z hz hk with ⟨w, a1, a2, a3⟩ | a
      · exact Or.inl ⟨0, hl, w, by rw [r1]; exact a1, a3, a2⟩
      · exact Or.inr a
    · rw [bk_up_n _ _ e] at hz
      exact Or.inl ⟨l, hl, z, hz, hk, rfl⟩
  · rcases hp with ⟨l, hl, z, hz, hk, rfl⟩ | ⟨hr, hi⟩
    · by_cases e : l = 0
      · subst e
        rw [r1] at hz
        obtain ⟨z', a1, a2, a3, a4⟩ := bk_Ys_gw Y z hz
        exact ⟨0, hl, z', by rw [bk_up_s]; exact a1, a4.trans hk, a2⟩
      · exact ⟨l, hl, z, by rw [bk_up_n _ _ e]; exact hz, hk, rfl⟩
    · rcases bk_Ys_r Y with ⟨hr', _⟩ | ⟨fr, b1, b2, b3, ⟨z, c1, c2, c3⟩, _⟩
      · exact absurd (hr.symm.trans hr') (bx_neg (by omega))
      · have : i = fr := bx_inj (by omega) (by omega) (hr.symm.trans b2)
        exact ⟨0, by omega, z, by rw [bk_up_s]; exact c1, c2, by rw [this]; exact c3⟩
  · rcases bk_Ys_r Y with ⟨hr', _⟩ | ⟨fr, b1, b2, b3, _, _⟩
    · exact Or.inl hr'
    · exact Or.inr ⟨fr, b1, b2, fun ⟨l, hl, z, hz, _, hc⟩ => b3 l hl z hz hc⟩
  · unfold wpX_plant
    exact r4 _ (w1 _ (nm_e (w2 _ hp)))
end
end
section
/-! ===== 13: makeKnown ===== -/
def bk_fk (y : bk_Nd) : bk_Nd := (y.1, y.2.1, true, y.2.2.2)
theorem bk_LV_fk {fan mn : Nat} {d : Nat → Nat} {l : Nat} {A B : List bk_Nd} {y : bk_Nd} (V : bk_LV fan mn d l (A ++ y :: B)) : bk_LV fan mn d l (A ++ [bk_fk y] ++ B) := by
  have R := bk_ch_at V.1
  have e : A ++ y :: B = A ++ [y] ++ B := by simp
  have f := V.2.2
  rw [e] at V
  refine bk_LV_rep V rfl (fun _ => rfl) ⟨R, trivial⟩ (fun z hz => f z (by simp [hz])) (fun z hz => ?_) (fun z hz => f z (by simp [hz]))
  rw [List.mem_singleton.mp hz]
  exact f y (by simp)
theorem bk_fl_fk (A B : List bk_Nd) (y : bk_Nd) : bk_fl (A ++ [bk_fk y] ++ B) = bk_fl (A ++ y :: B) := by
  rw [bk_fl_app, bk_fl_app, bk_fl_app, bk_fl_cons, bk_fl_cons, bk_fl_nil, List.append_nil, List.append_assoc]
  rfl
def bk_sh (xs : List bk_Nd) : List (Nat × Int × List (Int × Int32)) := xs.map (fun z => (z.1, z.2.1, z.2.2.2))
theorem bk_sh_fk (A B : List bk_Nd) (y : bk_Nd) : bk_sh (A ++ [bk_fk y] ++ B) = bk_sh (A ++ y :: B) := by
  simp [bk_sh, bk_fk]
theorem bk_sh_fl {xs ys : List bk_Nd} (h : bk_sh xs = bk_sh ys) : bk_fl xs = bk_fl ys := by
  have e : ∀ zs : List bk_Nd, bk_fl zs = (bk_sh zs).flatMap (fun z => z.2.2) := by
    intro zs
    induction zs with
    | nil => rfl
    | cons z zs ih => rw [bk_fl_cons, ih]; simp [bk_sh]
  rw [e, e, h]
theorem bk_sh_len {xs ys : List bk_Nd} (h : bk_sh xs = bk_sh ys) : xs.length = ys.length := by
  have := congrArg List.length h
  simp only [bk_sh, List.length_map] at this
  exact this
theorem bk_lq_fk {ky vl ct lv lw hg rt : Nat → Int32} {l : Nat} {A B : List bk_Nd} {y : bk_Nd} (c : bk_ch (bk_Lq ky vl ct lv lw hg rt l) none (A ++ y :: B)) :
    bk_ch (bk_Lq ky vl ct lv lw hg rt l) none (A ++ [bk_fk y] ++ B) := by
  have d := bk_ch_app.mp c
  refine bk_ch_app.mpr ⟨bk_ch_app.mpr ⟨bk_ch_end (e := some y) (e' := some (bk_fk y)) (fun w _ q => q) d.1, ⟨d.2.1, trivial⟩⟩, d.2.2⟩
theorem bk_h0_fk {A B : List bk_Nd} {y : bk_Nd} (t : bk_h0 (A ++ y :: B)) : bk_h0 (A ++ [bk_fk y] ++ B) := by
  obtain ⟨w, ws, e, t1⟩ := t
  cases A with
  | nil =>
    injection e with e3 e4
    subst e3 e4
    exact ⟨_, _, rfl, t1⟩
  | cons a A =>
    injection e with e3 e4
    subst e3 e4
    exact ⟨_, _, rfl, t1⟩
theorem bk_fk_m {A B : List bk_Nd} {y z : bk_Nd} (hz : z ∈ A ++ y :: B) : ∃ z', z' ∈ A ++ [bk_fk y] ++ B ∧ z'.1 = z.1 ∧ z'.2.1 = z.2.1 ∧ (z ≠ y → z'.2.2.1 = z.2.2.1) := by
  rcases List.mem_append.mp hz with hz | hz
  · exact ⟨z, by simp [hz], rfl, rfl, fun _ => rfl⟩
  · rcases List.mem_cons.mp hz with hz | hz
    · exact ⟨bk_fk y, by simp, by rw [hz]; rfl, by rw [hz]; rfl, fun hc => absurd hz hc⟩
    · exact ⟨z, by simp [hz], rfl, rfl, fun _ => rfl⟩
theorem bk_fk_b {A B : List bk_Nd} {y z : bk_Nd} (hz : z ∈ A ++ [bk_fk y] ++ B) (hk : z.2.2.1 = false) : z ∈ A ∨ z ∈ B := by
  rcases List.mem_append.mp hz with hz | hz
  · rcases List.mem_append.mp hz with hz | hz
    · exact Or.inl hz
    · rw [List.mem_singleton.mp hz] at hk
      cases hk
  · exact Or.inr hz
section
variable {lst fan tl ti : Nat} {L : Nat → List bk_Nd} {h root : Nat} {f_threadCount f_fan f_capacity f_pace f_least f_spareTop f_root f_head f_records f_appliedTotal : Int32} {a_keys a_vals a_count a_level a_low a_high a_right a_spare a_path a_phaseOf a_kindOf a_firstOf a_secondOf a_leftOf a_outcomeOf a_resKey a_resValue a_countOf a_digestOf a_appliedAt a_latchesOf a_place a_unknown : Nat → Int32}
theorem bx_known_lo {l : Nat} {y : bk_Nd} (W : bk_W lst fan tl ti L h root f_spareTop a_keys a_vals a_count a_level a_low a_high a_right a_spare) (ht : tl = 0 ∨ 100 ≤ tl) (hfan : f_fan = nI fan) (hro : f_root = nI root)
    (hl : l + 1 ≤ h) (hy : y ∈ L l) (hyk : y.2.2.1 = false) :
    ∃ (r st : Int32) (L' : Nat → List bk_Nd) (ky vl ct lv lw hg rt : Nat → Int32), bk_W lst fan tl ti L' h root st ky vl ct lv lw hg rt a_spare ∧
      bk_sh (L' 0) = bk_sh (L 0) ∧ bk_Gw L h L' h ∧ (∀ i, bk_Pn L' h i ↔ ((bk_Pn L h i ∧ i ≠ y.1) ∨ (r = nI i ∧ i < 80))) ∧
      (r = -1 ∨ ∃ j, j < 80 ∧ r = nI j ∧ ¬ bk_Pn L h j ∧ ∃ z, z ∈ L' (l + 1) ∧ z.2.2.1 = false ∧ z.1 = j) ∧
      ∀ post : Int32 → SX → Prop, post r (f_threadCount, f_fan, f_capacity, f_pace, f_least, st, f_root, f_head, f_records, f_appliedTotal, ky, vl, ct, lv, lw, hg, rt, a_spare, a_path, a_phaseOf, a_kindOf, a_firstOf, a_secondOf, a_leftOf, a_outcomeOf, a_resKey, a_resValue, a_countOf, a_digestOf, a_appliedAt, a_latchesOf, a_place, a_unknown) →
        wpX_makeKnown post (f_threadCount, f_fan, f_capacity, f_pace, f_least, f_spareTop, f_root, f_head, f_records, f_appliedTotal, a_keys, a_vals, a_count, a_level, a_low, a_high, a_right, a_spare, a_path, a_phaseOf, a_kindOf, a_firstOf, a_secondOf, a_leftOf, a_outcomeOf, a_resKey, a_resValue, a_countOf, a_digestOf, a_appliedAt, a_latchesOf, a_place, a_unknown) (nI y.1) := by
  have W' := W
  obtain ⟨T, F, hlst, hf3⟩ := W'
  have h5 := T.2.2.1
  obtain ⟨A2, B2, ey⟩ := List.append_of_mem hy
  obtain ⟨p1, p2, p3⟩ := bk_T_at T (l := l) (by omega) ey
  have hy80 := p1.1
  obtain ⟨xr, xs, er, hr1, hr2⟩ := T.1.2.2.1
  obtain ⟨xr', xs', er', hr3, hr4⟩ := (T.1.1 h (Nat.le_refl _)).2.1
  have hxr : xr' = xr := by rw [er] at er'; injection er' with a b; exact a.symm
  subst hxr
  have hrm : xr' ∈ L h := by rw [er]; simp
  have hroot80 := (bk_T_m T (Nat.le_refl h) hrm).1
  have hlow : (a_low y.1).toInt = y.2.1 := p2.2.1
  have hle := (a_low y.1).le_toInt
  obtain ⟨A, x, B, r1, r2, r3, r4⟩ := bx_seek (key := a_low y.1) (stop := l + 1) (f_threadCount := f_threadCount) (f_fan := f_fan) (f_capacity := f_capacity) (f_pace := f_pace) (f_least := f_least) (f_spareTop := f_spareTop) (f_root := f_root) (f_head := f_head) (f_records := f_records) (f_appliedTotal := f_appliedTotal) (a_keys := a_keys) (a_vals := a_vals) (a_count := a_count) (a_level := a_level) (a_low := a_low) (a_high := a_high) (a_right := a_right) (a_spare := a_spare) (a_path := a_path) (a_phaseOf := a_phaseOf) (a_kindOf := a_kindOf) (a_firstOf := a_firstOf) (a_secondOf := a_secondOf) (a_leftOf := a_leftOf) (a_outcomeOf := a_outcomeOf) (a_resKey := a_resKey) (a_resValue := a_resValue) (a_countOf := a_countOf) (a_digestOf := a_digestOf) (a_appliedAt := a_appliedAt) (a_latchesOf := a_latchesOf) (a_place := a_place) (a_unknown := a_unknown) T (Nat.le_refl h) hl hrm (by rw [hr3]; omega)
  rw [hlow] at r2 r3
  obtain ⟨q1, q2, q3⟩ := bk_T_at T (l := l + 1) hl r1
  have hcl := (T.1.1 l (by omega)).1
  have hkn := T.1.2.1 l (by omega)
  obtain ⟨e1, e2, he, h1, h2⟩ := bk_cut y.2.1 q1.2.2.1.1
  have hnk : ∀ p, p ∈ bk_kn (L l) → p.1 ≠ y.2.1 := by
    intro p hp hc
    obtain ⟨z, z1, z2, z3⟩ := bk_mem_kn.mp hp
    rw [z3] at hc
    have := bk_lo_in hcl z1 hy hc
    rw [this, hyk] at z2
    cases z2
  have h2' : ∀ p, p ∈ e2 → y.2.1 < p.1 := by
    intro p hp
    have h3 := h2 p hp
    have h4 := hnk p (by rw [← hkn]; exact bk_mem_fl.mpr ⟨x, by rw [r1]; simp, by rw [he]; simp [hp]⟩)
    omega
  obtain ⟨r, st, ys, ky1, vl1, ct1, ky, vl, ct, lv, lw, hg, rt, Y, K, F', w1, w2⟩ := bx_insS (key := a_low y.1) (val := nI y.1) (f_threadCount := f_threadCount) (f_fan := f_fan) (f_capacity := f_capacity) (f_pace := f_pace) (f_least := f_least) (f_spareTop := f_spareTop) (f_root := f_root) (f_head := f_head) (f_records := f_records) (f_appliedTotal := f_appliedTotal) (a_keys := a_keys) (a_vals := a_vals) (a_count := a_count) (a_level := a_level) (a_low := a_low) (a_high := a_high) (a_right := a_right) (a_spare := a_spare) (a_path := a_path) (a_phaseOf := a_phaseOf) (a_kindOf := a_kindOf) (a_firstOf := a_firstOf) (a_secondOf := a_secondOf) (a_leftOf := a_leftOf) (a_outcomeOf := a_outcomeOf) (a_resKey := a_resKey) (a_resValue := a_resValue) (a_countOf := a_countOf) (a_digestOf := a_digestOf) (a_appliedAt := a_appliedAt) (a_latchesOf := a_latchesOf) (a_place := a_place) (a_unknown := a_unknown) W ht hfan (l := l + 1) hl r1 he (by rw [hlow]; exact h1) (by rw [hlow]; exact h2') (by rw [hlow]; exact r2) (by rw [hlow]; exact r3) f_records
  rw [hlow] at Y
  have V := bk_Ys_LV T.1 (l := l + 1) hl r1 he h1 h2' r2 r3 hlst hf3 Y
  have hfl := bk_Ys_fl Y
  have hfl0 : bk_fl (L (l + 1)) = bk_fl A ++ e1 ++ (e2 ++ bk_fl B) := by
    rw [r1, bk_fl_app, bk_fl_cons, he]; simp
  have hkn0 : bk_kn (L l) = bk_kn A2 ++ bk_kn B2 := by rw [ey, bk_kn_app, bk_kn_f _ _ hyk]
  have hcx := (T.1.1 (l + 1) hl).1
  rw [r1] at hcx
  have hdx := bk_ch_app.mp hcx
  have hcy := hcl
  rw [ey] at hcy
  have hdy := bk_lo_ne hcy
  have hsu := bk_su (p := fun q : Int × Int32 => q.1 < y.2.1) (hfl0.symm.trans (hkn.trans hkn0))
    (by
      intro q hq
      rcases List.mem_append.mp hq with hq | hq
      · obtain ⟨z, hz, hq⟩ := bk_mem_fl.mp hq
        have : q.1 < x.2.1 := (bk_lt hdx.1 z hz).2 q hq
        show q.1 < y.2.1
        omega
      · exact h1 q hq)
    (by
      intro q hq hc
      have hc : q.1 < y.2.1 := hc
      rcases List.mem_append.mp hq with hq | hq
      · have := h2' q hq; omega
      · obtain ⟨z, hz, hq⟩ := bk_mem_fl.mp hq
        have := (bk_ge hdx.2.2 z hz).2 q hq
        omega)
    (by
      intro q hq
      obtain ⟨z, z1, z2, z3⟩ := bk_mem_kn.mp hq
      rw [z3]
      exact hdy.1 z z1)
    (by
      intro q hq hc
      obtain ⟨z, z1, z2, z3⟩ := bk_mem_kn.mp hq
      rw [z3] at hc
      have hc : z.2.1 < y.2.1 := hc
      have := hdy.2 z z1
      omega)
  have hyz : bk_fl ys = bk_kn (A2 ++ [bk_fk y] ++ B2) := by
    rw [hfl, bk_kn_app, bk_kn_app, bk_kn_t (bk_fk y) [] rfl, bk_kn_nil, ← hsu.1, ← hsu.2]
    simp [bk_fk]
  have hP : bk_PT lst fan tl ti (bk_up (bk_up L l (A2 ++ [bk_fk y] ++ B2)) (l + 1) ys) h root := by
    refine bk_PT_up2 T.1 hl (fun _ _ _ _ _ => Nat.le_refl _) ?_ V hyz (fun _ => ?_) (fun _ => ?_) (fun hh => ?_) (fun h0 => ?_)
    · have V0 := T.1.1 l (by omega)
      rw [ey] at V0
      have hln : (A2 ++ [bk_fk y] ++ B2).length = (A2 ++ y :: B2).length := by simp
      rw [hln]
      exact bk_LV_fk V0
    · rw [bk_fl_fk, ey]
    · rw [bk_Ys_kn Y, r1]
    · subst hh
      exact bk_Ys_tp Y (by rw [← r1]; exact T.1.2.2.1)
    · subst h0
      refine ⟨?_, bk_h0_fk (by rw [← ey]; exact T.1.2.2.2.2)⟩
      have := T.1.2.2.2.1
      rw [ey] at this
      simp at this ⊢
      omega
  have hLy : ∀ j, bk_up (bk_up L l (A2 ++ [bk_fk y] ++ B2)) (l + 1) ys j = if j = l then A2 ++ [bk_fk y] ++ B2 else bk_up L (l + 1) ys j := by
    intro j
    by_cases a : j = l
    · subst a; rw [if_pos rfl, bk_up_n _ _ (by omega), bk_up_s]
    · rw [if_neg a]
      by_cases b : j = l + 1
      · subst b; rw [bk_up_s, bk_up_s]
      · rw [bk_up_n _ _ b, bk_up_n _ _ a, bk_up_n _ _ b]
  have hK : bk_LK ky vl ct lv lw hg rt (bk_up (bk_up L l (A2 ++ [bk_fk y] ++ B2)) (l + 1) ys) h := by
    intro j hj
    rw [hLy j]
    by_cases a : j = l
    · subst a
      rw [if_pos rfl]
      have := K j hj
      rw [bk_up_n _ _ (by omega), ey] at this
      exact bk_lq_fk this
    · rw [if_neg a]; exact K j hj
  have hF : bk_Fr st a_spare (bk_up (bk_up L l (A2 ++ [bk_fk y] ++ B2)) (l + 1) ys) h := by
    have := bk_Fr_up (ys := A2 ++ [bk_fk y] ++ B2) F' (l := l) (by omega) (by rw [bk_up_n _ _ (by omega), ey]; simp) (fun z hz => by
      rw [bk_up_n _ _ (by omega), ey]
      rcases List.mem_append.mp hz with hz | hz
      · rcases List.mem_append.mp hz with hz | hz
        · exact ⟨z, by simp [hz], rfl⟩
        · exact ⟨y, by simp, by rw [List.mem_singleton.mp hz]; rfl⟩
      · exact ⟨z, by simp [hz], rfl⟩)
    have e : bk_up (bk_up L (l + 1) ys) l (A2 ++ [bk_fk y] ++ B2) = bk_up (bk_up L l (A2 ++ [bk_fk y] ++ B2)) (l + 1) ys := by
      funext j
      rw [hLy j]
      rfl
    rw [e] at this
    exact this
  have htb : bk_tb (bk_up (bk_up L l (A2 ++ [bk_fk y] ++ B2)) (l + 1) ys) (h + 1) ≤ 80 := by obtain ⟨s', _, hs', _⟩ := hF; omega
  have huq := bk_uqA T (l := l) (by omega) ey
  refine ⟨r, st, _, ky, vl, ct, lv, lw, hg, rt, ⟨⟨hP, hK, h5, htb, T.2.2.2.2⟩, hF, hlst, hf3⟩, ?_, fun j hj => ⟨hj, fun z hz => ?_⟩, fun i => ⟨fun hp => ?_, fun hp => ?_⟩, ?_, fun post hp => ?_⟩
  · rw [hLy 0]
    by_cases a : 0 = l
    · subst a; rw [if_pos rfl, ey]; exact bk_sh_fk _ _ _
    · rw [if_neg a, bk_up_n _ _ (by omega)]
  · rw [hLy j]
    by_cases a : j = l
    · subst a
      rw [if_pos rfl]
      rw [ey] at hz
      obtain ⟨z', c1, c2, c3, _⟩ := bk_fk_m hz
      exact ⟨z', c1, c2, c3⟩
    · rw [if_neg a]
      by_cases b : j = l + 1
      · subst b
        rw [bk_up_s]
        rw [r1] at hz
        obtain ⟨z', c1, c2, c3, _⟩ := bk_Ys_gw Y z hz
        exact ⟨z', c1, c2, c3⟩
      · rw [bk_up_n _ _ b]; exact ⟨z, hz, rfl, rfl⟩
  · obtain ⟨j, hj, z, hz, hk, rfl⟩ := hp
    rw [hLy j] at hz
    by_cases a : j = l
    · subst a
      rw [if_pos rfl] at hz
      have hz' := bk_fk_b hz hk
      refine Or.inl ⟨⟨j, hj, z, ?_, hk, rfl⟩, huq z hz'⟩
      rw [ey]
      rcases hz' with hz' | hz'
      · simp [hz']
      · simp [hz']
    · rw [if_neg a] at hz
      by_cases b : j = l + 1
      · subst b
        rw [bk_up_s] at hz
        rcases bk_Ys_pn Y z hz hk with ⟨w, a1, a2, a3⟩ | a1
        · have hw : w ∈ L (l + 1) := by rw [r1]; exact a1
          refine Or.inl ⟨⟨l + 1, hj, w, hw, a3, a2⟩, fun hc => ?_⟩
          have := (bk_uq T hj (by omega) hw hy (a2.trans hc)).1
          omega
        · exact Or.inr a1
      · rw [bk_up_n _ _ b] at hz
        refine Or.inl ⟨⟨j, hj, z, hz, hk, rfl⟩, fun hc => ?_⟩
        exact a (bk_uq T hj (by omega) hz hy hc).1
  · rcases hp with ⟨⟨j, hj, z, hz, hk, rfl⟩, hne⟩ | ⟨hr, hi⟩
    · by_cases a : j = l
      · subst a
        rw [ey] at hz
        obtain ⟨z', c1, c2, c3, c4⟩ := bk_fk_m hz
        exact ⟨j, hj, z', by rw [hLy j, if_pos rfl]; exact c1, (c4 (fun hc => hne (by rw [hc]))).trans hk, c2⟩
      · by_cases b : j = l + 1
        · subst b
          rw [r1] at hz
          obtain ⟨z', c1, c2, c3, c4⟩ := bk_Ys_gw Y z hz
          exact ⟨l + 1, hj, z', by rw [hLy, if_neg a, bk_up_s]; exact c1, c4.trans hk, c2⟩
        · exact ⟨j, hj, z, by rw [hLy, if_neg a, bk_up_n _ _ b]; exact hz, hk, rfl⟩
    · rcases bk_Ys_r Y with ⟨hr', _⟩ | ⟨fr, b1, b2, b3, ⟨z, c1, c2, c3⟩, _⟩
      · exact absurd (hr.symm.trans hr') (bx_neg (by omega))
      · have : i = fr := bx_inj (by omega) (by omega) (hr.symm.trans b2)
        exact ⟨l + 1, hl, z, by rw [hLy, if_neg (by omega), bk_up_s]; exact c1, c2, by rw [this]; exact c3⟩
  · rcases bk_Ys_r Y with ⟨hr', _⟩ | ⟨fr, b1, b2, b3, ⟨z, c1, c2, c3⟩, _⟩
    · exact Or.inl hr'
    · exact Or.inr ⟨fr, b1, b2, fun ⟨j, hj, z, hz, _, hc⟩ => b3 j hj z hz hc, z, by rw [hLy, if_neg (by omega), bk_up_s]; exact c1, c2, c3⟩
  · unfold wpX_makeKnown
    have hro80 : vp_in f_root 80 := by rw [hro]; exact bx_in (by rw [← hr1]; exact hroot80)
    refine And.intro (bx_in hy80) (And.intro hro80 ?_)
    have hlr : a_level f_root.toNatClampNeg = nI h := by
      rw [hro, bx_cl (n := root) (by rw [← hr1]; omega), ← hr1]
      exact (bk_T_m T (Nat.le_refl h) hrm).2.2.2.1
    rw [hlr, bx_cl (n := y.1) (by omega)]
    have hsk : wpX_seek (fun r_6 => vp_in (nI y.1) 80 ∧ wpX_insertEntry (fun u => wpX_splitIfWide (fun r_75 u => post r_75 u) u r_6) (f_threadCount, f_fan, f_capacity, f_pace, f_least, f_spareTop, f_root, f_head, f_records, f_appliedTotal, a_keys, a_vals, a_count, a_level, a_low, a_high, a_right, a_spare, a_path, a_phaseOf, a_kindOf, a_firstOf, a_secondOf, a_leftOf, a_outcomeOf, a_resKey, a_resValue, a_countOf, a_digestOf, a_appliedAt, a_latchesOf, a_place, a_unknown) r_6 (a_low y.1) (nI y.1)) (f_threadCount, f_fan, f_capacity, f_pace, f_least, f_spareTop, f_root, f_head, f_records, f_appliedTotal, a_keys, a_vals, a_count, a_level, a_low, a_high, a_right, a_spare, a_path, a_phaseOf, a_kindOf, a_firstOf, a_secondOf, a_leftOf, a_outcomeOf, a_resKey, a_resValue, a_countOf, a_digestOf, a_appliedAt, a_latchesOf, a_place, a_unknown) f_root (a_low y.1) (nI (l + 1)) := by
      have hst : nI xr'.1 = f_root := by rw [hro, hr1]
      rw [hst] at r4
      exact r4 _ ⟨bx_in hy80, w1 _ (w2 _ hp)⟩
    refine br_t (by rw [p2.2.2.1]; exact nI_lt (by omega) (by omega)) ⟨bx_in hy80, bx_in hy80, ?_⟩
    rw [p2.2.2.1, nI_1]
    exact hsk
end
end
section
/-! ===== 14: growRoot; makeKnown whole ===== -/
section
variable {lst fan tl ti : Nat} {L : Nat → List bk_Nd} {h root : Nat} {f_threadCount f_fan f_capacity f_pace f_least f_spareTop f_root f_head f_records f_appliedTotal : Int32} {a_keys a_vals a_count a_level a_low a_high a_right a_spare a_path a_phaseOf a_kindOf a_firstOf a_secondOf a_leftOf a_outcomeOf a_resKey a_resValue a_countOf a_digestOf a_appliedAt a_latchesOf a_place a_unknown : Nat → Int32}
theorem bx_grow {y : bk_Nd} (W : bk_W lst fan tl ti L h root f_spareTop a_keys a_vals a_count a_level a_low a_high a_right a_spare) (ht : tl = 0 ∨ 100 ≤ tl) (hro : f_root = nI root)
    (hy : y ∈ L h) (hyk : y.2.2.1 = false) :
    ∃ (st : Int32) (fr : Nat) (L' : Nat → List bk_Nd) (ky vl ct lv lw hg rt : Nat → Int32), bk_W lst fan tl ti L' (h + 1) fr st ky vl ct lv lw hg rt a_spare ∧
      bk_sh (L' 0) = bk_sh (L 0) ∧ bk_Gw L h L' (h + 1) ∧ (∀ i, bk_Pn L' (h + 1) i ↔ (bk_Pn L h i ∧ i ≠ y.1)) ∧
      ∀ post : SX → Prop, post (f_threadCount, f_fan, f_capacity, f_pace, f_least, st, nI fr, f_head, f_records, f_appliedTotal, ky, vl, ct, lv, lw, hg, rt, a_spare, a_path, a_phaseOf, a_kindOf, a_firstOf, a_secondOf, a_leftOf, a_outcomeOf, a_resKey, a_resValue, a_countOf, a_digestOf, a_appliedAt, a_latchesOf, a_place, a_unknown) →
        wpX_growRoot post (f_threadCount, f_fan, f_capacity, f_pace, f_least, f_spareTop, f_root, f_head, f_records, f_appliedTotal, a_keys, a_vals, a_count, a_level, a_low, a_high, a_right, a_spare, a_path, a_phaseOf, a_kindOf, a_firstOf, a_secondOf, a_leftOf, a_outcomeOf, a_resKey, a_resValue, a_countOf, a_digestOf, a_appliedAt, a_latchesOf, a_place, a_unknown) (nI y.1) := by
  obtain ⟨T, F, hlst, hf3⟩ := W
  have h5 := T.2.2.1
  have hf6 := T.2.2.2.2
  have hym := bk_T_m T (Nat.le_refl h) hy
  have hy80 := hym.1
  obtain ⟨xr, xs, er, hr1, hr2⟩ := T.1.2.2.1
  obtain ⟨xr', xs', er', hr3, hr4⟩ := (T.1.1 h (Nat.le_refl _)).2.1
  have hxr : xr' = xr := by rw [er] at er'; injection er' with a b; exact a.symm
  subst hxr
  have hrm : xr' ∈ L h := by rw [er]; simp
  have hroot := bk_T_m T (Nat.le_refl h) hrm
  have hr80 : root < 80 := by rw [← hr1]; exact hroot.1
  have hyx : y ∈ xs := by
    rw [er] at hy
    rcases List.mem_cons.mp hy with hc | hc
    · rw [hc, hr4] at hyk; cases hyk
    · exact hc
  obtain ⟨A3, B3, exs⟩ := List.append_of_mem hyx
  have ey : L h = (xr' :: A3) ++ y :: B3 := by rw [er, exs]; rfl
  have hcl := (T.1.1 h (Nat.le_refl _)).1
  have hcy := hcl
  rw [ey] at hcy
  have hlt : xr'.2.1 < y.2.1 := (bk_lo_ne hcy).1 xr' List.mem_cons_self
  have hcnt := bk_cnt (by omega) T.1 (by omega)
  obtain ⟨s, fr, t1, t2, t3, t4, t5, t6⟩ := bk_Fr_take F hcnt.1
  have hyf : y.1 ≠ fr := t5 h (Nat.le_refl _) y hy
  have hrf : root ≠ fr := by rw [← hr1]; exact t5 h (Nat.le_refl _) xr' hrm
  have hmin : (a_low root).toInt = -2147483648 := by rw [← hr1, hroot.2.2.2.2, hr3]
  have hylo := hym.2.2.2.2
  have hyhi := (a_low y.1).toInt_lt
  -- arrays behind takeNode and the three stores
  have N0 : bk_Nr a_keys a_vals (upd a_count fr 0) fr [] := ⟨by rw [pk_us]; rfl, fun j p hp => by simp at hp⟩
  obtain ⟨ky1, vl1, ct1, N1, S1, w1⟩ := bx_insert (key := a_low root) (val := f_root) (e1 := []) (e2 := []) (f_threadCount := f_threadCount) (f_fan := f_fan) (f_capacity := f_capacity) (f_pace := f_pace) (f_least := f_least) (f_spareTop := nI s) (f_root := f_root) (f_head := f_head) (f_records := f_records) (f_appliedTotal := f_appliedTotal) (a_keys := a_keys) (a_vals := a_vals) (a_count := upd a_count fr 0) (a_level := upd a_level fr (a_level root + 1)) (a_low := upd a_low fr (-2147483648)) (a_high := upd a_high fr 2147483647) (a_right := upd a_right fr (-1)) (a_spare := a_spare) (a_path := a_path) (a_phaseOf := a_phaseOf) (a_kindOf := a_kindOf) (a_firstOf := a_firstOf) (a_secondOf := a_secondOf) (a_leftOf := a_leftOf) (a_outcomeOf := a_outcomeOf) (a_resKey := a_resKey) (a_resValue := a_resValue) (a_countOf := a_countOf) (a_digestOf := a_digestOf) (a_appliedAt := a_appliedAt) (a_latchesOf := a_latchesOf) (a_place := a_place) (a_unknown := a_unknown) t4 N0 rfl (by simp) (fun p hp => by cases hp) (fun p hp => by cases hp)
  rw [hmin, List.nil_append, hro] at N1
  obtain ⟨ky, vl, ct, N2, S2, w2⟩ := bx_insert (key := a_low y.1) (val := nI y.1) (e1 := [(-2147483648, nI root)]) (e2 := []) (f_threadCount := f_threadCount) (f_fan := f_fan) (f_capacity := f_capacity) (f_pace := f_pace) (f_least := f_least) (f_spareTop := nI s) (f_root := f_root) (f_head := f_head) (f_records := f_records) (f_appliedTotal := f_appliedTotal) (a_keys := ky1) (a_vals := vl1) (a_count := ct1) (a_level := upd a_level fr (a_level root + 1)) (a_low := upd a_low fr (-2147483648)) (a_high := upd a_high fr 2147483647) (a_right := upd a_right fr (-1)) (a_spare := a_spare) (a_path := a_path) (a_phaseOf := a_phaseOf) (a_kindOf := a_kindOf) (a_firstOf := a_firstOf) (a_secondOf := a_secondOf) (a_leftOf := a_leftOf) (a_outcomeOf := a_outcomeOf) (a_resKey := a_resKey) (a_resValue := a_resValue) (a_countOf := a_countOf) (a_digestOf := a_digestOf) (a_appliedAt := a_appliedAt) (a_latchesOf := a_latchesOf) (a_place := a_place) (a_unknown := a_unknown) t4 N1 rfl (by simp) (fun p hp => by rw [List.mem_singleton.mp hp]; show (-2147483648 : Int) < _; rw [hylo]; omega) (fun p hp => by cases hp)
  rw [hylo] at N2
  have N2 : bk_Nr ky vl ct fr [(-2147483648, nI root), (y.2.1, nI y.1)] := N2
  have hag : ∀ m, m ≠ fr → bk_Ag a_keys a_vals a_count a_level a_low a_high a_right ky vl ct (upd a_level fr (a_level root + 1)) (upd a_low fr (-2147483648)) (upd a_high fr 2147483647) (upd a_right fr (-1)) m := fun m g =>
    ⟨bk_S8_tr ⟨(S1 m g).1.trans (pk_un g), (S1 m g).2⟩ (S2 m g), pk_un g, pk_un g, pk_un g, pk_un g⟩
  have hlv : a_level root + 1 = nI (h + 1) := by rw [← hr1, hroot.2.2.2.1, nI_1]
  have hkn : bk_fl [((fr, -2147483648, true, [(-2147483648, nI root), (y.2.1, nI y.1)]) : bk_Nd)] = bk_kn ((xr' :: A3) ++ [bk_fk y] ++ B3) := by
    rw [bk_kn_app, bk_kn_app, bk_kn_t _ _ hr4, bk_kn_t (bk_fk y) [] rfl, bk_kn_nil, bk_kn_none A3 (fun z hz => hr2 z (by rw [exs]; simp [hz])), bk_kn_none B3 (fun z hz => hr2 z (by rw [exs]; simp [hz])), hr3, hr1]
    simp [bk_fl, bk_fk]
  have hVz : bk_LV fan lst (bk_ds tl ti h) h ((xr' :: A3) ++ [bk_fk y] ++ B3) := by
    have V0 := T.1.1 h (Nat.le_refl _)
    rw [bk_mn_2 (by rw [ey]; simp), ey] at V0
    exact bk_LV_fk V0
  have hVr : bk_LV fan 2 (fun _ => 0) (h + 1) [((fr, -2147483648, true, [(-2147483648, nI root), (y.2.1, nI y.1)]) : bk_Nd)] := by
    refine ⟨⟨⟨t4, by show (-2147483648 : Int) < 2147483648; omega, ⟨?_, fun p hp => ?_⟩, fun _ => ⟨nI root, [(y.2.1, nI y.1)], rfl⟩⟩, trivial⟩, ⟨_, _, rfl, rfl, rfl⟩, fun z hz => ?_⟩
    · refine List.pairwise_cons.mpr ⟨fun p hp => ?_, List.pairwise_cons.mpr ⟨(fun p hp => by cases hp), List.Pairwise.nil⟩⟩
      rw [List.mem_singleton.mp hp]
      show (-2147483648 : Int) < y.2.1
      omega
    · show (-2147483648 : Int) ≤ p.1 ∧ p.1 < 2147483648
      rcases List.mem_cons.mp hp with hp | hp
      · rw [hp]; show (-2147483648 : Int) ≤ -2147483648 ∧ (-2147483648 : Int) < 2147483648; omega
      · rw [List.mem_singleton.mp hp]; show (-2147483648 : Int) ≤ y.2.1 ∧ y.2.1 < 2147483648; omega
    · rw [List.mem_singleton.mp hz]
      show 2 ≤ fan ∧ 2 ≤ 2 + 0
      omega
  have hP := bk_PT_grow T.1 hVz hVr hkn (fun _ => by rw [bk_fl_fk, ey]) (fun h0 => by
    subst h0
    refine ⟨?_, bk_h0_fk (by rw [← ey]; exact T.1.2.2.2.2)⟩
    have := T.1.2.2.2.1
    rw [ey] at this
    simp at this ⊢
    omega)
  have hLy : ∀ j, j ≠ h → j ≠ h + 1 → bk_up (bk_up L h ((xr' :: A3) ++ [bk_fk y] ++ B3)) (h + 1) [((fr, -2147483648, true, [(-2147483648, nI root), (y.2.1, nI y.1)]) : bk_Nd)] j = L j := fun j a b => by
    rw [bk_up_n _ _ b, bk_up_n _ _ a]
  have hLh : bk_up (bk_up L h ((xr' :: A3) ++ [bk_fk y] ++ B3)) (h + 1) [((fr, -2147483648, true, [(-2147483648, nI root), (y.2.1, nI y.1)]) : bk_Nd)] h = (xr' :: A3) ++ [bk_fk y] ++ B3 := by
    rw [bk_up_n _ _ (by omega), bk_up_s]
  have hLr : bk_up (bk_up L h ((xr' :: A3) ++ [bk_fk y] ++ B3)) (h + 1) [((fr, -2147483648, true, [(-2147483648, nI root), (y.2.1, nI y.1)]) : bk_Nd)] (h + 1) = [((fr, -2147483648, true, [(-2147483648, nI root), (y.2.1, nI y.1)]) : bk_Nd)] := bk_up_s _ _ _
  have htb : bk_tb (bk_up (bk_up L h ((xr' :: A3) ++ [bk_fk y] ++ B3)) (h + 1) [((fr, -2147483648, true, [(-2147483648, nI root), (y.2.1, nI y.1)]) : bk_Nd)]) (h + 1 + 1) = bk_tb L (h + 1) + 1 := by
    have g1 := (bk_tb_up L h ((xr' :: A3) ++ [bk_fk y] ++ B3) (h + 1)).1 (by omega)
    have g2 := (bk_tb_up (bk_up L h ((xr' :: A3) ++ [bk_fk y] ++ B3)) (h + 1) [((fr, -2147483648, true, [(-2147483648, nI root), (y.2.1, nI y.1)]) : bk_Nd)] (h + 1)).2 (by omega)
    have g3 : ((xr' :: A3) ++ [bk_fk y] ++ B3).length = (L h).length := by rw [ey]; simp
    show bk_tb _ (h + 1) + (bk_up (bk_up L h ((xr' :: A3) ++ [bk_fk y] ++ B3)) (h + 1) [((fr, -2147483648, true, [(-2147483648, nI root), (y.2.1, nI y.1)]) : bk_Nd)] (h + 1)).length = _
    rw [hLr, g2]
    show _ + 1 = _
    omega
  generalize hL' : bk_up (bk_up L h ((xr' :: A3) ++ [bk_fk y] ++ B3)) (h + 1) [((fr, -2147483648, true, [(-2147483648, nI root), (y.2.1, nI y.1)]) : bk_Nd)] = L' at hP hLy hLh hLr htb
  have h5' := (bk_cnt (by omega) hP (by omega)).2
  have hF := t6 L' (h + 1) htb (fun l hl z hz => by
    by_cases a : l = h
    · subst a
      rw [hLh] at hz
      rcases List.mem_append.mp hz with hz | hz
      · rcases List.mem_append.mp hz with hz | hz
        · exact Or.inr ⟨l, Nat.le_refl _, z, by rw [ey]; exact List.mem_append_left _ hz, rfl⟩
        · exact Or.inr ⟨l, Nat.le_refl _, y, hy, by rw [List.mem_singleton.mp hz]; rfl⟩
      · exact Or.inr ⟨l, Nat.le_refl _, z, by rw [ey]; exact List.mem_append_right _ (List.mem_cons_of_mem _ hz), rfl⟩
    · by_cases b : l = h + 1
      · subst b
        rw [hLr] at hz
        exact Or.inl (by rw [List.mem_singleton.mp hz])
      · rw [hLy l a b] at hz
        exact Or.inr ⟨l, by omega, z, hz, rfl⟩)
  have hK : bk_LK ky vl ct (upd a_level fr (a_level root + 1)) (upd a_low fr (-2147483648)) (upd a_high fr 2147483647) (upd a_right fr (-1)) L' (h + 1) := by
    intro l hl
    by_cases b : l = h + 1
    · subst b
      rw [hLr]
      refine ⟨⟨N2, ?_, ?_, ?_, ?_⟩, trivial⟩
      · show (upd a_low fr (-2147483648) fr).toInt = -2147483648
        rw [pk_us]; exact bx_min
      · show upd a_level fr (a_level root + 1) fr = nI (h + 1)
        rw [pk_us]; exact hlv
      · show (upd a_high fr 2147483647 fr).toInt = 2147483648 - 1
        rw [pk_us]; decide
      · show upd a_right fr (-1) fr = -1
        rw [pk_us]
    · have hsame := bk_lq_same (T.2.1 l (by omega)) (fun z hz => ⟨hag z.1 (t5 l (by omega) z hz), by have := (bk_T_m T (l := l) (by omega) hz).2.1; omega⟩)
      by_cases a : l = h
      · subst a
        rw [hLh]
        rw [ey] at hsame
        exact bk_lq_fk hsame
      · rw [hLy l a b]
        exact hsame
  have huq := bk_uqA T (Nat.le_refl h) ey
  refine ⟨nI s, fr, L', ky, vl, ct, _, _, _, _, ⟨⟨hP, hK, h5', by omega, hf6⟩, hF, hlst, hf3⟩, ?_, fun j hj => ⟨by omega, fun z hz => ?_⟩, fun i => ⟨fun hp => ?_, fun hp => ?_⟩, fun post hp => ?_⟩
  · by_cases a : 0 = h
    · subst a
      rw [hLh, ey]
      exact bk_sh_fk _ _ _
    · rw [hLy 0 a (by omega)]
  · by_cases a : j = h
    · subst a
      rw [hLh]
      rw [ey] at hz
      obtain ⟨z', c1, c2, c3, _⟩ := bk_fk_m hz
      exact ⟨z', c1, c2, c3⟩
    · rw [hLy j a (by omega)]
      exact ⟨z, hz, rfl, rfl⟩
  · obtain ⟨j, hj, z, hz, hk, rfl⟩ := hp
    by_cases a : j = h
    · subst a
      rw [hLh] at hz
      have hz' := bk_fk_b hz hk
      refine ⟨⟨j, Nat.le_refl _, z, ?_, hk, rfl⟩, huq z hz'⟩
      rw [ey]
      rcases hz' with hz' | hz'
      · exact List.mem_append_left _ hz'
      · exact List.mem_append_right _ (List.mem_cons_of_mem _ hz')
    · by_cases b : j = h + 1
      · subst b
        rw [hLr] at hz
        rw [List.mem_singleton.mp hz] at hk
        cases hk
      · rw [hLy j a b] at hz
        exact ⟨⟨j, by omega, z, hz, hk, rfl⟩, fun hc => a (bk_uq T (by omega) (Nat.le_refl h) hz hy hc).1⟩
  · obtain ⟨⟨j, hj, z, hz, hk, rfl⟩, hne⟩ := hp
    by_cases a : j = h
    · subst a
      rw [ey] at hz
      obtain ⟨z', c1, c2, c3, c4⟩ := bk_fk_m hz
      exact ⟨j, by omega, z', by rw [hLh]; exact c1, (c4 (fun hc => hne (by rw [hc]))).trans hk, c2⟩
    · exact ⟨j, by omega, z, by rw [hLy j a (by omega)]; exact hz, hk, rfl⟩
  · unfold wpX_growRoot wpX_takeNode
    have hz : (0 : Int32) < f_spareTop := by rw [t1, ← nI_0]; exact nI_lt (by omega) (by omega)
    have hp1 : f_spareTop - 1 = nI s := by rw [t1, nI_pred]
    refine br_t hz (nm_r hp1 ⟨vp_in_nI (by omega) (by omega), ?_⟩)
    rw [nI_clamp (n := s) (by omega)]
    have hrin : vp_in f_root 80 := by rw [hro]; exact bx_in hr80
    have hrcl : f_root.toNatClampNeg = root := by rw [hro]; exact bx_cl (by omega)
    refine nm_r t3 ⟨bx_in t4, nm_e ⟨bx_in t4, nm_e (br_t (nI_pos' (by omega)) ⟨hrin, bx_in t4, nm_e ⟨bx_in t4, nm_e ⟨bx_in t4, nm_e ⟨hrin, ?_⟩⟩⟩⟩)⟩⟩
    rw [bx_cl (n := fr) (by omega), hrcl, pk_un hrf]
    refine w1 _ (And.intro (bx_in hy80) ?_)
    rw [bx_cl (n := y.1) (by omega), pk_un hyf]
    exact w2 _ hp
end
end
section
/-! ===== 15: makeKnown whole, finishSplits, settle ===== -/
theorem bk_Pn_lt {lst fan tl ti : Nat} {L : Nat → List bk_Nd} {h root : Nat} {ky vl ct lv lw hg rt : Nat → Int32} (T : bk_T lst fan tl ti L h root ky vl ct lv lw hg rt) {i : Nat} (p : bk_Pn L h i) : i < 80 := by
  obtain ⟨l, hl, z, hz, _, rfl⟩ := p
  exact (bk_T_m T hl hz).1
def bk_Uk (n : Nat) (un : Nat → Int32) (P : Nat → Prop) : Prop :=
  (∀ i, P i → ∃ t, t < n ∧ un t = nI i) ∧ (∀ t, t < n → un t < 0 ∨ ∃ i, i < 80 ∧ P i ∧ un t = nI i) ∧ (∀ t t', t < n → t' < n → ¬ un t < 0 → un t = un t' → t = t')
theorem bk_Uk_fin {n t : Nat} {un un' : Nat → Int32} {P P' : Nat → Prop} (U : bk_Uk n un P) (h1 : un' t < 0) (h2 : ∀ q, q ≠ t → un' q = un q) (ht : t < n)
    (hP : ∀ i, P' i ↔ (P i ∧ un t ≠ nI i)) : bk_Uk n un' P' := by
  obtain ⟨u1, u2, u3⟩ := U
  refine ⟨fun i hi => ?_, fun q hq => ?_, fun q q' hq hq' hn he => ?_⟩
  · obtain ⟨a, b⟩ := (hP i).mp hi
    obtain ⟨q, q1, q2⟩ := u1 i a
    have hne : q ≠ t := fun hc => b (by rw [← hc]; exact q2)
    exact ⟨q, q1, by rw [h2 q hne]; exact q2⟩
  · by_cases e : q = t
    · left; rw [e]; exact h1
    · rw [h2 q e]
      rcases u2 q hq with a | ⟨i, i80, pi, ei⟩
      · exact Or.inl a
      · refine Or.inr ⟨i, i80, (hP i).mpr ⟨pi, fun hc => ?_⟩, ei⟩
        exact e (u3 q t hq ht (by rw [ei]; exact nI_pos (by omega)) (by rw [ei, hc]))
  · by_cases e : q = t
    · rw [e] at hn; exact absurd h1 hn
    · rw [h2 q e] at hn he
      by_cases e' : q' = t
      · rw [e'] at he
        exact absurd h1 (by rw [← he]; exact hn)
      · rw [h2 q' e'] at he
        exact u3 q q' hq hq' hn he
theorem bk_Uk_put {n t : Nat} {un : Nat → Int32} {P P' : Nat → Prop} {r : Int32} (U : bk_Uk n un P) (h1 : un t < 0) (ht : t < n)
    (hP : ∀ i, P' i ↔ (P i ∨ (r = nI i ∧ i < 80))) (hr : r = -1 ∨ ∃ j, j < 80 ∧ r = nI j ∧ ¬ P j) (hlt : ∀ i, P i → i < 80) : bk_Uk n (upd un t r) P' := by
  obtain ⟨u1, u2, u3⟩ := U
  refine ⟨fun i hi => ?_, fun q hq => ?_, fun q q' hq hq' hn he => ?_⟩
  · rcases (hP i).mp hi with a | ⟨a, b⟩
    · obtain ⟨q, q1, q2⟩ := u1 i a
      have hne : q ≠ t := fun hc => absurd h1 (by rw [← hc, q2]; exact nI_pos (by have := hlt i a; omega))
      exact ⟨q, q1, by rw [pk_un hne]; exact q2⟩
    · exact ⟨t, ht, by rw [pk_us]; exact a⟩
  · by_cases e : q = t
    · rw [e, pk_us]
      rcases hr with hr | ⟨j, j1, j2, j3⟩
      · left; rw [hr]; decide
      · exact Or.inr ⟨j, j1, (hP j).mpr (Or.inr ⟨j2, j1⟩), j2⟩
    · rw [pk_un e]
      rcases u2 q hq with a | ⟨i, i80, pi, ei⟩
      · exact Or.inl a
      · exact Or.inr ⟨i, i80, (hP i).mpr (Or.inl pi), ei⟩
  · have key : ∀ q, q < n → q ≠ t → un q = r → ¬ un q < 0 → False := by
      intro q hq hne he hn
      rcases hr with hr | ⟨j, j1, j2, j3⟩
      · rw [he, hr] at hn; exact hn (by decide)
      · rcases u2 q hq with a | ⟨i, i80, pi, ei⟩
        · exact hn a
        · have : i = j := bx_inj (by omega) (by omega) (by rw [← ei, he, j2])
          exact j3 (by rw [← this]; exact pi)
    by_cases e : q = t
    · by_cases e' : q' = t
      · rw [e, e']
      · exfalso
        rw [e, pk_us] at he hn
        rw [pk_un e'] at he
        exact key q' hq' e' he.symm (by rw [← he]; exact hn)
    · rw [pk_un e] at he hn
      by_cases e' : q' = t
      · exfalso
        rw [e', pk_us] at he
        exact key q hq e he hn
      · rw [pk_un e'] at he
        exact u3 q q' hq hq' hn he
theorem bk_upd2 {f : Nat → Int32} {t : Nat} {a b : Int32} : upd (upd f t a) t b = upd f t b := by
  funext q
  unfold upd
  by_cases e : q = t
  · rw [if_pos e, if_pos e]
  · rw [if_neg e, if_neg e, if_neg e]
theorem bk_Uk_step {n t y : Nat} {un : Nat → Int32} {P P' : Nat → Prop} {r : Int32} (U : bk_Uk n un P) (hy : y < 80) (h1 : un t = nI y) (ht : t < n)
    (hP : ∀ i, P' i ↔ ((P i ∧ i ≠ y) ∨ (r = nI i ∧ i < 80))) (hr : r = -1 ∨ ∃ j, j < 80 ∧ r = nI j ∧ ¬ P j) (hlt : ∀ i, P i → i < 80) : bk_Uk n (upd un t r) P' := by
  have U1 : bk_Uk n (upd un t (-1)) (fun i => P i ∧ i ≠ y) := by
    refine bk_Uk_fin (t := t) U (by rw [pk_us]; decide) (fun q hq => pk_un hq) ht (fun i => ⟨fun h => ⟨h.1, fun hc => h.2 ?_⟩, fun h => ⟨h.1, fun hc => h.2 (by rw [h1, hc])⟩⟩)
    have h80 := hlt i h.1
    exact (bx_inj (by omega) (by omega) (h1.symm.trans hc)).symm
  have U2 := bk_Uk_put (t := t) (r := r) (P' := P') U1 (by rw [pk_us]; decide) ht hP (by
    rcases hr with hr | ⟨j, j1, j2, j3⟩
    · exact Or.inl hr
    · exact Or.inr ⟨j, j1, j2, fun h => j3 h.1⟩) (fun i h => hlt i h.1)
  rw [bk_upd2] at U2
  exact U2
section
variable {lst fan tl ti : Nat} {f_threadCount f_fan f_capacity f_pace f_least f_spareTop f_root f_head f_records f_appliedTotal : Int32} {a_keys a_vals a_count a_level a_low a_high a_right a_spare a_path a_phaseOf a_kindOf a_firstOf a_secondOf a_leftOf a_outcomeOf a_resKey a_resValue a_countOf a_digestOf a_appliedAt a_latchesOf a_place a_unknown : Nat → Int32}
theorem bx_known {L : Nat → List bk_Nd} {h root l : Nat} {y : bk_Nd} (W : bk_W lst fan tl ti L h root f_spareTop a_keys a_vals a_count a_level a_low a_high a_right a_spare) (ht : tl = 0 ∨ 100 ≤ tl) (hfan : f_fan = nI fan) (hro : f_root = nI root)
    (hl : l ≤ h) (hy : y ∈ L l) (hyk : y.2.2.1 = false) :
    ∃ (r st : Int32) (h' root' : Nat) (L' : Nat → List bk_Nd) (ky vl ct lv lw hg rt : Nat → Int32), bk_W lst fan tl ti L' h' root' st ky vl ct lv lw hg rt a_spare ∧
      bk_sh (L' 0) = bk_sh (L 0) ∧ bk_Gw L h L' h' ∧ (∀ i, bk_Pn L' h' i ↔ ((bk_Pn L h i ∧ i ≠ y.1) ∨ (r = nI i ∧ i < 80))) ∧
      (r = -1 ∨ (h' = h ∧ l + 1 ≤ h ∧ ∃ j, j < 80 ∧ r = nI j ∧ ¬ bk_Pn L h j ∧ ∃ z, z ∈ L' (l + 1) ∧ z.2.2.1 = false ∧ z.1 = j)) ∧
      ∀ post : Int32 → SX → Prop, post r (f_threadCount, f_fan, f_capacity, f_pace, f_least, st, nI root', f_head, f_records, f_appliedTotal, ky, vl, ct, lv, lw, hg, rt, a_spare, a_path, a_phaseOf, a_kindOf, a_firstOf, a_secondOf, a_leftOf, a_outcomeOf, a_resKey, a_resValue, a_countOf, a_digestOf, a_appliedAt, a_latchesOf, a_place, a_unknown) →
        wpX_makeKnown post (f_threadCount, f_fan, f_capacity, f_pace, f_least, f_spareTop, f_root, f_head, f_records, f_appliedTotal, a_keys, a_vals, a_count, a_level, a_low, a_high, a_right, a_spare, a_path, a_phaseOf, a_kindOf, a_firstOf, a_secondOf, a_leftOf, a_outcomeOf, a_resKey, a_resValue, a_countOf, a_digestOf, a_appliedAt, a_latchesOf, a_place, a_unknown) (nI y.1) := by
  by_cases hlt : l + 1 ≤ h
  · obtain ⟨r, st, L', ky, vl, ct, lv, lw, hg, rt, a1, a2, a3, a4, a5, a6⟩ := bx_known_lo (f_threadCount := f_threadCount) (f_fan := f_fan) (f_capacity := f_capacity) (f_pace := f_pace) (f_least := f_least) (f_spareTop := f_spareTop) (f_root := f_root) (f_head := f_head) (f_records := f_records) (f_appliedTotal := f_appliedTotal) (a_keys := a_keys) (a_vals := a_vals) (a_count := a_count) (a_level := a_level) (a_low := a_low) (a_high := a_high) (a_right := a_right) (a_spare := a_spare) (a_path := a_path) (a_phaseOf := a_phaseOf) (a_kindOf := a_kindOf) (a_firstOf := a_firstOf) (a_secondOf := a_secondOf) (a_leftOf := a_leftOf) (a_outcomeOf := a_outcomeOf) (a_resKey := a_resKey) (a_resValue := a_resValue) (a_countOf := a_countOf) (a_digestOf := a_digestOf) (a_appliedAt := a_appliedAt) (a_latchesOf := a_latchesOf) (a_place := a_place) (a_unknown := a_unknown) W ht hfan hro hlt hy hyk
    refine ⟨r, st, h, root, L', ky, vl, ct, lv, lw, hg, rt, a1, a2, a3, a4, ?_, fun post hp => a6 post (by rw [hro]; exact hp)⟩
    rcases a5 with a5 | ⟨j, b⟩
    · exact Or.inl a5
    · exact Or.inr ⟨rfl, hlt, j, b⟩
  · have : l = h := by omega
    subst this
    obtain ⟨st, fr, L', ky, vl, ct, lv, lw, hg, rt, a1, a2, a3, a4, a5⟩ := bx_grow (f_threadCount := f_threadCount) (f_fan := f_fan) (f_capacity := f_capacity) (f_pace := f_pace) (f_least := f_least) (f_spareTop := f_spareTop) (f_root := f_root) (f_head := f_head) (f_records := f_records) (f_appliedTotal := f_appliedTotal) (a_keys := a_keys) (a_vals := a_vals) (a_count := a_count) (a_level := a_level) (a_low := a_low) (a_high := a_high) (a_right := a_right) (a_spare := a_spare) (a_path := a_path) (a_phaseOf := a_phaseOf) (a_kindOf := a_kindOf) (a_firstOf := a_firstOf) (a_secondOf := a_secondOf) (a_leftOf := a_leftOf) (a_outcomeOf := a_outcomeOf) (a_resKey := a_resKey) (a_resValue := a_resValue) (a_countOf := a_countOf) (a_digestOf := a_digestOf) (a_appliedAt := a_appliedAt) (a_latchesOf := a_latchesOf) (a_place := a_place) (a_unknown := a_unknown) W ht hro hy hyk
    refine ⟨-1, st, l + 1, fr, L', ky, vl, ct, lv, lw, hg, rt, a1, a2, a3, fun i => ?_, Or.inl rfl, fun post hp => ?_⟩
    · rw [a4 i]
      refine ⟨Or.inl, fun h => ?_⟩
      rcases h with h | ⟨h, hi⟩
      · exact h
      · exact absurd h.symm (bx_neg (by omega))
    · have T := W.1
      have h5 := T.2.2.1
      have hym := bk_T_m T (Nat.le_refl l) hy
      obtain ⟨xr, xs, er, hr1, hr2⟩ := T.1.2.2.1
      have hrm := bk_T_m T (Nat.le_refl l) (x := xr) (by rw [er]; simp)
      have hy80 := hym.1
      have hr80 : root < 80 := by rw [← hr1]; exact hrm.1
      unfold wpX_makeKnown
      refine And.intro (bx_in hym.1) (And.intro (by rw [hro]; exact bx_in hr80) ?_)
      refine br_f ?_ (a5 _ hp)
      rw [hro, bx_cl (n := root) (by omega), bx_cl (n := y.1) (by omega), hym.2.2.2.1, ← hr1, hrm.2.2.2.1]
      exact nI_nlt (Nat.le_refl _) (by omega)
theorem bx_fin_2 {t : Nat} (ht6 : t < 6) (hfan : f_fan = nI fan) (htl : tl = 0 ∨ 100 ≤ tl) :
    ∀ d (L : Nat → List bk_Nd) (h root : Nat) (st : Int32) (ky vl ct lv lw hg rt un : Nat → Int32), bk_W lst fan tl ti L h root st ky vl ct lv lw hg rt a_spare →
      (un t < 0 ∨ ∃ l y, l ≤ h ∧ h + 1 ≤ l + d ∧ y ∈ L l ∧ y.2.2.1 = false ∧ un t = nI y.1) →
      ∃ (st' : Int32) (h' root' : Nat) (L' : Nat → List bk_Nd) (ky' vl' ct' lv' lw' hg' rt' un' : Nat → Int32), bk_W lst fan tl ti L' h' root' st' ky' vl' ct' lv' lw' hg' rt' a_spare ∧
        bk_sh (L' 0) = bk_sh (L 0) ∧ bk_Gw L h L' h' ∧ (un' t < 0 ∧ ∀ q, q ≠ t → un' q = un q) ∧ (∀ i, bk_Pn L' h' i ↔ (bk_Pn L h i ∧ un t ≠ nI i)) ∧
        ∀ i, i + d < 16 → ∀ n, d < n → ∀ post : SX → Prop, post (f_threadCount, f_fan, f_capacity, f_pace, f_least, st', nI root', f_head, f_records, f_appliedTotal, ky', vl', ct', lv', lw', hg', rt', a_spare, a_path, a_phaseOf, a_kindOf, a_firstOf, a_secondOf, a_leftOf, a_outcomeOf, a_resKey, a_resValue, a_countOf, a_digestOf, a_appliedAt, a_latchesOf, a_place, un') →
          wX_finishSplits_2 post (nI t) n (nI i) f_threadCount f_fan f_capacity f_pace f_least st (nI root) f_head f_records f_appliedTotal ky vl ct lv lw hg rt a_spare a_path a_phaseOf a_kindOf a_firstOf a_secondOf a_leftOf a_outcomeOf a_resKey a_resValue a_countOf a_digestOf a_appliedAt a_latchesOf a_place un := by
  have hin : vp_in (nI t) 6 := vp_in_nI ht6 (by omega)
  have hcl : (nI t).toNatClampNeg = t := nI_clamp (by omega)
  intro d
  induction d with
  | zero =>
    intro L h root st ky vl ct lv lw hg rt un W hu
    have hu : un t < 0 := by
      rcases hu with hu | ⟨l, y, h1, h2, _⟩
      · exact hu
      · omega
    refine ⟨st, h, root, L, ky, vl, ct, lv, lw, hg, rt, un, W, rfl, bk_Gw_rf L h, ⟨hu, fun _ _ => rfl⟩, fun i => ⟨fun hp => ⟨hp, fun hc => ?_⟩, fun hp => hp.1⟩, fun i hi n hn post hp => ?_⟩
    · have := bk_Pn_lt W.1 hp
      rw [hc] at hu
      exact nI_pos (by omega) hu
    · obtain ⟨n, rfl⟩ : ∃ m, n = m + 1 := ⟨n - 1, by omega⟩
      refine br_f (nI_ge (b := 16) (by omega) (by decide)) ⟨hin, ?_⟩
      rw [hcl]
      exact br_t hu hp
  | succ d ih =>
    intro L h root st ky vl ct lv lw hg rt un W hu
    rcases hu with hu | ⟨l, y, h1, h2, h3, h4, h5⟩
    · refine ⟨st, h, root, L, ky, vl, ct, lv, lw, hg, rt, un, W, rfl, bk_Gw_rf L h, ⟨hu, fun _ _ => rfl⟩, fun i => ⟨fun hp => ⟨hp, fun hc => ?_⟩, fun hp => hp.1⟩, fun i hi n hn post hp => ?_⟩
      · have := bk_Pn_lt W.1 hp
        rw [hc] at hu
        exact nI_pos (by omega) hu
      · obtain ⟨n, rfl⟩ : ∃ m, n = m + 1 := ⟨n - 1, by omega⟩
        refine br_f (nI_ge (b := 16) (by omega) (by decide)) ⟨hin, ?_⟩
        rw [hcl]
        exact br_t hu hp
    · obtain ⟨r, st1, hh1, root1, L1, ky1, vl1, ct1, lv1, lw1, hg1, rt1, a1, a2, a3, a4, a5, a6⟩ := bx_known (f_threadCount := f_threadCount) (f_fan := f_fan) (f_capacity := f_capacity) (f_pace := f_pace) (f_least := f_least) (f_spareTop := st) (f_root := nI root) (f_head := f_head) (f_records := f_records) (f_appliedTotal := f_appliedTotal) (a_keys := ky) (a_vals := vl) (a_count := ct) (a_level := lv) (a_low := lw) (a_high := hg) (a_right := rt) (a_spare := a_spare) (a_path := a_path) (a_phaseOf := a_phaseOf) (a_kindOf := a_kindOf) (a_firstOf := a_firstOf) (a_secondOf := a_secondOf) (a_leftOf := a_leftOf) (a_outcomeOf := a_outcomeOf) (a_resKey := a_resKey) (a_resValue := a_resValue) (a_countOf := a_countOf) (a_digestOf := a_digestOf) (a_appliedAt := a_appliedAt) (a_latchesOf := a_latchesOf) (a_place := a_place) (a_unknown := un) W htl hfan rfl h1 h3 h4
      have hy80 := (bk_T_m W.1 h1 h3).1
      obtain ⟨st', h', root', L', ky', vl', ct', lv', lw', hg', rt', un', b1, b2, b3, b4, b5, b6⟩ := ih L1 hh1 root1 st1 ky1 vl1 ct1 lv1 lw1 hg1 rt1 (upd un t r) a1 (by
        rw [pk_us]
        rcases a5 with a5 | ⟨c1, c2, j, c3, c4, c5, z, c6, c7, c8⟩
        · left; rw [a5]; decide
        · right; exact ⟨l + 1, z, by omega, by omega, c6, c7, by rw [c4, c8]⟩)
      refine ⟨st', h', root', L', ky', vl', ct', lv', lw', hg', rt', un', b1, b2.trans a2, bk_Gw_tr a3 b3, ⟨b4.1, fun q hq => by rw [b4.2 q hq, pk_un hq]⟩, fun i => ?_, fun i hi n hn post hp => ?_⟩
      · rw [b5 i, a4 i, pk_us, h5]
        constructor
        · rintro ⟨⟨e1, e2⟩ | ⟨e1, e2⟩, e3⟩
          · refine ⟨e1, fun hc => e2 ?_⟩
            have := bk_Pn_lt W.1 e1
            exact (bx_inj (by omega) (by omega) hc).symm
          · exact absurd e1 e3
        · rintro ⟨e1, e2⟩
          have hi := bk_Pn_lt W.1 e1
          refine ⟨Or.inl ⟨e1, fun hc => e2 (by rw [hc])⟩, fun hc => ?_⟩
          rcases a5 with a5 | ⟨c1, c2, j, c3, c4, c5, _⟩
          · exact bx_neg (by omega) (hc.symm.trans a5)
          · have : i = j := bx_inj (by omega) (by omega) (hc.symm.trans c4)
            exact c5 (by rw [← this]; exact e1)
      · obtain ⟨n, rfl⟩ : ∃ m, n = m + 1 := ⟨n - 1, by omega⟩
        refine br_f (nI_ge (b := 16) (by omega) (by decide)) ⟨hin, ?_⟩
        rw [hcl]
        refine br_f (by rw [h5]; exact nI_pos (by omega)) ⟨hin, ?_⟩
        rw [h5]
        exact a6 _ ⟨hin, nm_e (nm_r (nI_1 i) (b6 (i + 1) (by omega) n (by omega) post hp))⟩
theorem bx_finish {t n : Nat} {L : Nat → List bk_Nd} {h root : Nat} (W : bk_W lst fan tl ti L h root f_spareTop a_keys a_vals a_count a_level a_low a_high a_right a_spare) (htl : tl = 0 ∨ 100 ≤ tl) (hfan : f_fan = nI fan) (hro : f_root = nI root)
    (ht6 : t < 6) (U : bk_Uk n a_unknown (bk_Pn L h)) (htn : t < n) :
    ∃ (st' : Int32) (h' root' : Nat) (L' : Nat → List bk_Nd) (ky' vl' ct' lv' lw' hg' rt' un' : Nat → Int32), bk_W lst fan tl ti L' h' root' st' ky' vl' ct' lv' lw' hg' rt' a_spare ∧
        bk_sh (L' 0) = bk_sh (L 0) ∧ bk_Gw L h L' h' ∧ (un' t < 0 ∧ ∀ q, q ≠ t → un' q = a_unknown q) ∧ bk_Uk n un' (bk_Pn L' h') ∧
        ∀ post : SX → Prop, post (f_threadCount, f_fan, f_capacity, f_pace, f_least, st', nI root', f_head, f_records, f_appliedTotal, ky', vl', ct', lv', lw', hg', rt', a_spare, a_path, a_phaseOf, a_kindOf, a_firstOf, a_secondOf, a_leftOf, a_outcomeOf, a_resKey, a_resValue, a_countOf, a_digestOf, a_appliedAt, a_latchesOf, a_place, un') →
          wpX_finishSplits post (f_threadCount, f_fan, f_capacity, f_pace, f_least, f_spareTop, f_root, f_head, f_records, f_appliedTotal, a_keys, a_vals, a_count, a_level, a_low, a_high, a_right, a_spare, a_path, a_phaseOf, a_kindOf, a_firstOf, a_secondOf, a_leftOf, a_outcomeOf, a_resKey, a_resValue, a_countOf, a_digestOf, a_appliedAt, a_latchesOf, a_place, a_unknown) (nI t) := by
  have h5 := W.1.2.2.1
  obtain ⟨st', h', root', L', ky', vl', ct', lv', lw', hg', rt', un', b1, b2, b3, b4, b5, b6⟩ := bx_fin_2 (f_threadCount := f_threadCount) (f_fan := f_fan) (f_capacity := f_capacity) (f_pace := f_pace) (f_least := f_least) (f_head := f_head) (f_records := f_records) (f_appliedTotal := f_appliedTotal) (a_spare := a_spare) (a_path := a_path) (a_phaseOf := a_phaseOf) (a_kindOf := a_kindOf) (a_firstOf := a_firstOf) (a_secondOf := a_secondOf) (a_leftOf := a_leftOf) (a_outcomeOf := a_outcomeOf) (a_resKey := a_resKey) (a_resValue := a_resValue) (a_countOf := a_countOf) (a_digestOf := a_digestOf) (a_appliedAt := a_appliedAt) (a_latchesOf := a_latchesOf) (a_place := a_place) ht6 hfan htl (h + 1) L h root f_spareTop a_keys a_vals a_count a_level a_low a_high a_right a_unknown W (by
    rcases U.2.1 t htn with a | ⟨i, _, ⟨l, hl, y, y1, y2, y3⟩, e⟩
    · exact Or.inl a
    · exact Or.inr ⟨l, y, hl, by omega, y1, y2, by rw [e, y3]⟩)
  refine ⟨st', h', root', L', ky', vl', ct', lv', lw', hg', rt', un', b1, b2, b3, b4, bk_Uk_fin U b4.1 b4.2 htn b5, fun post hp => ?_⟩
  unfold wpX_finishSplits
  rw [hro]
  exact ⟨h + 1 + 1, b6 0 (by omega) _ (by omega) post hp⟩
theorem bx_settle_2 {tc : Nat} (htc : f_threadCount = nI tc) (h6 : tc ≤ 6) (hfan : f_fan = nI fan) (htl : tl = 0 ∨ 100 ≤ tl) :
    ∀ d t, t + d = tc → ∀ (L : Nat → List bk_Nd) (h root : Nat) (st : Int32) (ky vl ct lv lw hg rt un : Nat → Int32), bk_W lst fan tl ti L h root st ky vl ct lv lw hg rt a_spare →
      bk_Uk tc un (bk_Pn L h) → (∀ q, q < t → un q < 0) →
      ∃ (st' : Int32) (h' root' : Nat) (L' : Nat → List bk_Nd) (ky' vl' ct' lv' lw' hg' rt' un' : Nat → Int32), bk_W lst fan tl ti L' h' root' st' ky' vl' ct' lv' lw' hg' rt' a_spare ∧
        bk_sh (L' 0) = bk_sh (L 0) ∧ bk_Gw L h L' h' ∧ (∀ q, q < tc → un' q < 0) ∧ (∀ i, ¬ bk_Pn L' h' i) ∧
        ∀ n, d < n → ∀ post : SX → Prop, post (f_threadCount, f_fan, f_capacity, f_pace, f_least, st', nI root', f_head, f_records, f_appliedTotal, ky', vl', ct', lv', lw', hg', rt', a_spare, a_path, a_phaseOf, a_kindOf, a_firstOf, a_secondOf, a_leftOf, a_outcomeOf, a_resKey, a_resValue, a_countOf, a_digestOf, a_appliedAt, a_latchesOf, a_place, un') →
          wX_settle_2 post n (nI t) f_threadCount f_fan f_capacity f_pace f_least st (nI root) f_head f_records f_appliedTotal ky vl ct lv lw hg rt a_spare a_path a_phaseOf a_kindOf a_firstOf a_secondOf a_leftOf a_outcomeOf a_resKey a_resValue a_countOf a_digestOf a_appliedAt a_latchesOf a_place un := by
  intro d
  induction d with
  | zero =>
    intro t ht L h root st ky vl ct lv lw hg rt un W U hq
    refine ⟨st, h, root, L, ky, vl, ct, lv, lw, hg, rt, un, W, rfl, bk_Gw_rf L h, fun q hq' => hq q (by omega), fun i hi => ?_, fun n hn post hp => ?_⟩
    · obtain ⟨q, q1, q2⟩ := U.1 i hi
      have := hq q (by omega)
      rw [q2] at this
      exact nI_pos (by have := bk_Pn_lt W.1 hi; omega) this
    · obtain ⟨n, rfl⟩ : ∃ m, n = m + 1 := ⟨n - 1, by omega⟩
      exact br_t (by rw [htc]; exact nI_le (by omega) (by omega)) hp
  | succ d ih =>
    intro t ht L h root st ky vl ct lv lw hg rt un W U hq
    obtain ⟨st1, h1, root1, L1, ky1, vl1, ct1, lv1, lw1, hg1, rt1, un1, a1, a2, a3, a4, a5, a6⟩ := bx_finish (f_threadCount := f_threadCount) (f_fan := f_fan) (f_capacity := f_capacity) (f_pace := f_pace) (f_least := f_least) (f_spareTop := st) (f_root := nI root) (f_head := f_head) (f_records := f_records) (f_appliedTotal := f_appliedTotal) (a_keys := ky) (a_vals := vl) (a_count := ct) (a_level := lv) (a_low := lw) (a_high := hg) (a_right := rt) (a_spare := a_spare) (a_path := a_path) (a_phaseOf := a_phaseOf) (a_kindOf := a_kindOf) (a_firstOf := a_firstOf) (a_secondOf := a_secondOf) (a_leftOf := a_leftOf) (a_outcomeOf := a_outcomeOf) (a_resKey := a_resKey) (a_resValue := a_resValue) (a_countOf := a_countOf) (a_digestOf := a_digestOf) (a_appliedAt := a_appliedAt) (a_latchesOf := a_latchesOf) (a_place := a_place) (a_unknown := un) W htl hfan rfl (t := t) (by omega) U (by omega)
    obtain ⟨st', h', root', L', ky', vl', ct', lv', lw', hg', rt', un', b1, b2, b3, b4, b5, b6⟩ := ih (t + 1) (by omega) L1 h1 root1 st1 ky1 vl1 ct1 lv1 lw1 hg1 rt1 un1 a1 a5 (fun q hq' => by
      by_cases e : q = t
      · rw [e]; exact a4.1
      · rw [a4.2 q e]; exact hq q (by omega))
    refine ⟨st', h', root', L', ky', vl', ct', lv', lw', hg', rt', un', b1, b2.trans a2, bk_Gw_tr a3 b3, b4, b5, fun n hn post hp => ?_⟩
    obtain ⟨n, rfl⟩ : ∃ m, n = m + 1 := ⟨n - 1, by omega⟩
    exact br_f (by rw [htc]; exact nI_ge (by omega) (by omega)) (a6 _ (nm_r (nI_1 t) (b6 n (by omega) post hp)))
theorem bx_settle {tc : Nat} {L : Nat → List bk_Nd} {h root : Nat} (htc : f_threadCount = nI tc) (h6 : tc ≤ 6) (hfan : f_fan = nI fan) (htl : tl = 0 ∨ 100 ≤ tl) (hro : f_root = nI root)
    (W : bk_W lst fan tl ti L h root f_spareTop a_keys a_vals a_count a_level a_low a_high a_right a_spare) (U : bk_Uk tc a_unknown (bk_Pn L h)) :
    ∃ (st' : Int32) (h' root' : Nat) (L' : Nat → List bk_Nd) (ky' vl' ct' lv' lw' hg' rt' un' : Nat → Int32), bk_W lst fan tl ti L' h' root' st' ky' vl' ct' lv' lw' hg' rt' a_spare ∧
        bk_sh (L' 0) = bk_sh (L 0) ∧ bk_Gw L h L' h' ∧ (∀ q, q < tc → un' q < 0) ∧ (∀ i, ¬ bk_Pn L' h' i) ∧
        ∀ post : SX → Prop, post (f_threadCount, f_fan, f_capacity, f_pace, f_least, st', nI root', f_head, f_records, f_appliedTotal, ky', vl', ct', lv', lw', hg', rt', a_spare, a_path, a_phaseOf, a_kindOf, a_firstOf, a_secondOf, a_leftOf, a_outcomeOf, a_resKey, a_resValue, a_countOf, a_digestOf, a_appliedAt, a_latchesOf, a_place, un') → wpX_settle post (f_threadCount, f_fan, f_capacity, f_pace, f_least, f_spareTop, f_root, f_head, f_records, f_appliedTotal, a_keys, a_vals, a_count, a_level, a_low, a_high, a_right, a_spare, a_path, a_phaseOf, a_kindOf, a_firstOf, a_secondOf, a_leftOf, a_outcomeOf, a_resKey, a_resValue, a_countOf, a_digestOf, a_appliedAt, a_latchesOf, a_place, a_unknown) := by
  obtain ⟨st', h', root', L', ky', vl', ct', lv', lw', hg', rt', un', b1, b2, b3, b4, b5, b6⟩ := bx_settle_2 (f_threadCount := f_threadCount) (f_fan := f_fan) (f_capacity := f_capacity) (f_pace := f_pace) (f_least := f_least) (f_head := f_head) (f_records := f_records) (f_appliedTotal := f_appliedTotal) (a_spare := a_spare) (a_path := a_path) (a_phaseOf := a_phaseOf) (a_kindOf := a_kindOf) (a_firstOf := a_firstOf) (a_secondOf := a_secondOf) (a_leftOf := a_leftOf) (a_outcomeOf := a_outcomeOf) (a_resKey := a_resKey) (a_resValue := a_resValue) (a_countOf := a_countOf) (a_digestOf := a_digestOf) (a_appliedAt := a_appliedAt) (a_latchesOf := a_latchesOf) (a_place := a_place) htc h6 hfan htl tc 0 (by omega) L h root f_spareTop a_keys a_vals a_count a_level a_low a_high a_right a_unknown W U (fun q hq => absurd hq (by omega))
  refine ⟨st', h', root', L', ky', vl', ct', lv', lw', hg', rt', un', b1, b2, b3, b4, b5, fun post hp => ?_⟩
  unfold wpX_settle
  rw [hro]
  exact ⟨tc + 1, b6 _ (by omega) post hp⟩
end
end
section
/-! ===== 16: mending, the pure part: two neighbours under one parent ===== -/
def bk_pr (z : bk_Nd) : Int × Int32 := (z.2.1, nI z.1)
def bk_sl (xs : List bk_Nd) : List (Nat × Int) := xs.map (fun z => (z.1, z.2.1))
/-- the node that covers k has the number n -/
def bk_Cv (xs : List bk_Nd) (k : Int) (n : Nat) : Prop := ∃ A z B, xs = A ++ z :: B ∧ z.2.1 ≤ k ∧ k < bk_bd (bk_hd B none) ∧ z.1 = n
theorem bk_sl_hd {xs ys : List bk_Nd} (h : bk_sl xs = bk_sl ys) : bk_bd (bk_hd xs none) = bk_bd (bk_hd ys none) := by
  cases xs with
  | nil =>
    cases ys with
    | nil => rfl
    | cons y ys => cases h
  | cons x xs =>
    cases ys with
    | nil => cases h
    | cons y ys =>
      injection h with h1 h2
      injection h1 with h3 h4
theorem bk_Cv_sl {xs ys : List bk_Nd} {k : Int} {n : Nat} (h : bk_sl xs = bk_sl ys) (c : bk_Cv xs k n) : bk_Cv ys k n := by
  obtain ⟨A, z, B, rfl, h1, h2, h3⟩ := c
  have h' : bk_sl A ++ bk_sl (z :: B) = bk_sl ys := by rw [← h]; simp [bk_sl]
  obtain ⟨A', B', rfl, e1, e2⟩ := List.map_eq_append_iff.mp h'.symm
  obtain ⟨z', B2, rfl, e3, e4⟩ := List.map_eq_cons_iff.mp e2
  injection e3 with e5 e6
  have e4 : bk_sl B2 = bk_sl B := e4
  refine ⟨A', z', B2, rfl, by rw [e6]; exact h1, by rw [bk_sl_hd e4]; exact h2, by rw [e5]; exact h3⟩
theorem bk_sl_app (A B : List bk_Nd) : bk_sl (A ++ B) = bk_sl A ++ bk_sl B := by simp [bk_sl]
/-- the children of a node, in a complete tree -/
theorem bk_kids {L : Nat → List bk_Nd} {l : Nat} {A B : List bk_Nd} {x : bk_Nd} {e1 e2 : List (Int × Int32)} {p : Int × Int32} (hall : ∀ z, z ∈ L l → z.2.2.1 = true) (hfl : bk_fl (L (l + 1)) = bk_kn (L l))
    (e : L (l + 1) = A ++ x :: B) (hes : x.2.2.2 = e1 ++ p :: e2) :
    ∃ A' c B', L l = A' ++ c :: B' ∧ A'.map bk_pr = bk_fl A ++ e1 ∧ bk_pr c = p ∧ B'.map bk_pr = e2 ++ bk_fl B := by
  rw [bk_kn_all _ hall, e, bk_fl_app, bk_fl_cons, hes] at hfl
  have hfl : List.map bk_pr (L l) = (bk_fl A ++ e1) ++ (p :: (e2 ++ bk_fl B)) := by
    have : (bk_fl A ++ e1) ++ (p :: (e2 ++ bk_fl B)) = bk_fl A ++ (e1 ++ p :: e2 ++ bk_fl B) := by simp
    rw [this]; exact hfl.symm
  obtain ⟨A', B', h1, h2, h3⟩ := List.map_eq_append_iff.mp hfl
  obtain ⟨c, B2, rfl, h4, h5⟩ := List.map_eq_cons_iff.mp h3
  exact ⟨A', c, B2, h1, h2, h4, h5⟩
theorem bk_hdB {B B' : List bk_Nd} {e2 : List (Int × Int32)} {l : Nat} (hc : bk_ch (bk_Rp (l + 1)) none B) (hm : B'.map bk_pr = e2 ++ bk_fl B) :
    (∃ q e3, e2 = q :: e3 ∧ bk_bd (bk_hd B' none) = q.1) ∨ (e2 = [] ∧ bk_bd (bk_hd B' none) = bk_bd (bk_hd B none)) := by
  cases e2 with
  | cons q e3 =>
    left
    refine ⟨q, e3, rfl, ?_⟩
    cases B' with
    | nil => cases hm
    | cons b B' =>
      injection hm with h1 h2
      rw [← h1]; rfl
  | nil =>
    right
    refine ⟨rfl, ?_⟩
    cases B with
    | nil =>
      cases B' with
      | nil => rfl
      | cons b B' => cases hm
    | cons b B =>
      obtain ⟨v, es, hes⟩ := hc.1.2.2.2 (by omega)
      rw [List.nil_append, bk_fl_cons, hes] at hm
      cases B' with
      | nil => cases hm
      | cons b' B' =>
        injection hm with h1 h2
        show b'.2.1 = b.2.1
        have : (bk_pr b').1 = b.2.1 := by rw [h1]
        exact this
/-- the child on the way to a covered key covers it -/
theorem bk_kid_cv {L : Nat → List bk_Nd} {l : Nat} {A B : List bk_Nd} {x : bk_Nd} {e1 e2 : List (Int × Int32)} {p : Int × Int32} {k : Int} (hall : ∀ z, z ∈ L l → z.2.2.1 = true) (hfl : bk_fl (L (l + 1)) = bk_kn (L l))
    (hc : bk_ch (bk_Rp (l + 1)) none (L (l + 1))) (e : L (l + 1) = A ++ x :: B) (hes : x.2.2.2 = e1 ++ p :: e2) (hp : p.1 ≤ k) (h2 : ∀ q, q ∈ e2 → k < q.1) (hk : k < bk_bd (bk_hd B none)) :
    ∃ A' c B', L l = A' ++ c :: B' ∧ p = (c.2.1, nI c.1) ∧ c.2.1 ≤ k ∧ k < bk_bd (bk_hd B' none) := by
  obtain ⟨A', c, B', h1, h3, h4, h5⟩ := bk_kids hall hfl e hes
  rw [e] at hc
  have hcB := (bk_ch_app.mp hc).2.2
  refine ⟨A', c, B', h1, h4.symm, ?_, ?_⟩
  · have : (bk_pr c).1 = p.1 := by rw [h4]
    have : c.2.1 = p.1 := this
    omega
  · rcases bk_hdB hcB h5 with ⟨q, e3, rfl, h6⟩ | ⟨_, h6⟩
    · rw [h6]; exact h2 q List.mem_cons_self
    · rw [h6]; exact hk
/-- two neighbours under a parent: what is there before mending -/
def bk_Mp (L : Nat → List bk_Nd) (h l : Nat) (A : List bk_Nd) (c1 c2 : bk_Nd) (B AP : List bk_Nd) (p : bk_Nd) (BP : List bk_Nd) (f1 f2 : List (Int × Int32)) : Prop :=
  l + 1 ≤ h ∧ (∀ z, z ∈ L l → z.2.2.1 = true) ∧ L l = A ++ c1 :: c2 :: B ∧ L (l + 1) = AP ++ p :: BP ∧ p.2.2.2 = f1 ++ (c1.2.1, nI c1.1) :: (c2.2.1, nI c2.1) :: f2 ∧
  A.map bk_pr = bk_fl AP ++ f1 ∧ B.map bk_pr = f2 ++ bk_fl BP
theorem bk_Mp_of {L : Nat → List bk_Nd} {h l : Nat} {AP BP : List bk_Nd} {p : bk_Nd} {f1 f2 : List (Int × Int32)} {q1 q2 : Int × Int32} (hl : l + 1 ≤ h) (hall : ∀ z, z ∈ L l → z.2.2.1 = true) (hfl : bk_fl (L (l + 1)) = bk_kn (L l))
    (e : L (l + 1) = AP ++ p :: BP) (hes : p.2.2.2 = f1 ++ q1 :: q2 :: f2) : ∃ A c1 c2 B, bk_Mp L h l A c1 c2 B AP p BP f1 f2 ∧ q1 = (c1.2.1, nI c1.1) ∧ q2 = (c2.2.1, nI c2.1) := by
  obtain ⟨A', c, B', h1, h2, h3, h4⟩ := bk_kids hall hfl e hes
  obtain ⟨c2, B2, rfl, h5, h6⟩ := List.map_eq_cons_iff.mp h4
  have g1 : q1 = (c.2.1, nI c.1) := h3.symm
  have g2 : q2 = (c2.2.1, nI c2.1) := h5.symm
  exact ⟨A', c, c2, B2, ⟨hl, hall, h1, e, by rw [hes, g1, g2], h2, h6⟩, g1, g2⟩
section
variable {lst fan ti : Nat} {L : Nat → List bk_Nd} {h root l : Nat} {A B AP BP : List bk_Nd} {c1 c2 p : bk_Nd} {f1 f2 : List (Int × Int32)}
theorem bk_Mp_ch (P : bk_PT lst fan l ti L h root) (M : bk_Mp L h l A c1 c2 B AP p BP f1 f2) :
    bk_Rp l c1 (some c2) ∧ bk_Rp l c2 (bk_hd B none) ∧ bk_so c1.2.1 (bk_bd (bk_hd B none)) (c1.2.2.2 ++ c2.2.2.2) ∧ bk_Rp (l + 1) p (bk_hd BP none) ∧ bk_ch (bk_Rp l) none B ∧ bk_ch (bk_Rp (l + 1)) none BP := by
  obtain ⟨m1, m2, m3, m4, m5, m6, m7⟩ := M
  have c := (P.1 l (by omega)).1
  rw [m3] at c
  have d := bk_ch_app.mp c
  have cp := (P.1 (l + 1) m1).1
  rw [m4] at cp
  have dp := bk_ch_app.mp cp
  have hs := bk_fl_so (e := bk_hd B none) (A := [c1, c2]) ⟨d.2.1, d.2.2.1, trivial⟩
  rw [bk_fl_cons, bk_fl_cons, bk_fl_nil, List.append_nil] at hs
  exact ⟨d.2.1, d.2.2.1, hs, dp.2.1, d.2.2.2, dp.2.2⟩
/-- keys at and behind the border, seen from the parent -/
theorem bk_Mp_f2 (P : bk_PT lst fan l ti L h root) (M : bk_Mp L h l A c1 c2 B AP p BP f1 f2) {kb : Int} (hb : kb < bk_bd (bk_hd B none)) :
    (∀ q, q ∈ f2 → kb < q.1) ∧ kb < bk_bd (bk_hd BP none) := by
  obtain ⟨r1, r2, r3, r4, r5, r6⟩ := bk_Mp_ch P M
  obtain ⟨m1, m2, m3, m4, m5, m6, m7⟩ := M
  have hs := r4.2.2.1
  rw [m5] at hs
  have hso := (List.pairwise_cons.mp (List.pairwise_cons.mp (List.pairwise_append.mp hs.1).2.1).2).2
  rcases bk_hdB r6 m7 with ⟨q, e3, rfl, h6⟩ | ⟨rfl, h6⟩
  · rw [h6] at hb
    refine ⟨fun q' hq' => ?_, ?_⟩
    · rcases List.mem_cons.mp hq' with hq' | hq'
      · rw [hq']; exact hb
      · have := (List.pairwise_cons.mp hso).1 q' hq'
        omega
    · have := (hs.2 q (by simp)).2
      omega
  · rw [h6] at hb
    exact ⟨(fun q hq => by cases hq), hb⟩
theorem bk_Mp_lo (P : bk_PT lst fan l ti L h root) (M : bk_Mp L h l A c1 c2 B AP p BP f1 f2) : ∀ z, z ∈ A ∨ z ∈ B → z.2.1 ≠ c1.2.1 ∧ z.2.1 ≠ c2.2.1 := by
  obtain ⟨m1, m2, m3, m4, m5, m6, m7⟩ := M
  have c := (P.1 l (by omega)).1
  rw [m3] at c
  have d1 := bk_lo_ne c
  have c' : bk_ch (bk_Rp l) none ((A ++ [c1]) ++ c2 :: B) := by simpa using c
  have d2 := bk_lo_ne c'
  intro z hz
  rcases hz with hz | hz
  · have h1 := d1.1 z hz
    have h2 := d2.1 z (by simp [hz])
    omega
  · have h1 := d1.2 z (by simp [hz])
    have h2 := d2.2 z hz
    omega
theorem bk_mend_b (P : bk_PT lst fan l ti L h root) (M : bk_Mp L h l A c1 c2 B AP p BP f1 f2) {E1 E2 : List (Int × Int32)} {kb : Int} {vb : Int32}
    (hE : E1 ++ (kb, vb) :: E2 = c1.2.2.2 ++ c2.2.2.2) (h1 : lst ≤ E1.length) (h1' : E1.length ≤ fan) (h2 : lst ≤ E2.length + 1) (h2' : E2.length + 1 ≤ fan) (hl2 : 2 ≤ lst)
    (hti : ∀ z, z ∈ A ∨ z ∈ B → z.1 ≠ ti) (ti' : Nat) :
    bk_PT lst fan (l + 1) ti' (bk_up (bk_up L l (A ++ [(c1.1, c1.2.1, true, E1), (c2.1, kb, true, (kb, vb) :: E2)] ++ B)) (l + 1) (AP ++ [(p.1, p.2.1, p.2.2.1, f1 ++ (c1.2.1, nI c1.1) :: (kb, nI c2.1) :: f2)] ++ BP)) h root := by
  obtain ⟨r1, r2, r3, r4, r5, r6⟩ := bk_Mp_ch P M
  have M' := M
  obtain ⟨m1, m2, m3, m4, m5, m6, m7⟩ := M'
  rw [← hE] at r3
  obtain ⟨s1, s2, s3, s4⟩ := bk_so_cut r3
  have hE1 : E1 ≠ [] := fun z => by rw [z] at h1; simp at h1; omega
  have hkb := s3 hE1
  obtain ⟨g1, g2⟩ := bk_Mp_f2 P M s4
  have V := P.1 l (by omega)
  have VP := P.1 (l + 1) m1
  rw [bk_mn_in (by omega), m3, show A ++ c1 :: c2 :: B = A ++ [c1, c2] ++ B by simp] at V
  have fV := V.2.2
  have fP := VP.2.2
  refine bk_PT_up2 P m1 (fun l' h' a b i => by rw [bk_ds_n a]; exact Nat.zero_le _) ?_ ?_ ?_ (fun _ => ?_) (fun _ => ?_) (fun hh => ?_) (fun h0 => ?_)
  · rw [bk_mn_in (by omega)]
    refine bk_LV_rep V rfl (fun _ => rfl) ⟨⟨r1.1, hkb, s1, fun h0 => ?_⟩, ⟨r2.1, s4, s2, fun _ => ⟨vb, E2, rfl⟩⟩, trivial⟩ (fun z hz => ?_) (fun z hz => ?_) (fun z hz => ?_)
    · obtain ⟨v, es, hes⟩ := r1.2.2.2 h0
      cases E1 with
      | nil => exact absurd rfl hE1
      | cons a E1 =>
        rw [hes] at hE
        have hE : a :: (E1 ++ (kb, vb) :: E2) = (c1.2.1, v) :: (es ++ c2.2.2.2) := hE
        injection hE with e1 e2
        exact ⟨v, E1, by show a :: E1 = _; rw [e1]⟩
    · have := fV z (by simp [hz])
      rw [bk_ds_o (hti z (Or.inl hz))] at this
      omega
    · rcases List.mem_cons.mp hz with hz | hz
      · rw [hz]; show E1.length ≤ fan ∧ lst ≤ E1.length + _; omega
      · rw [List.mem_singleton.mp hz]; show ((kb, vb) :: E2).length ≤ fan ∧ lst ≤ ((kb, vb) :: E2).length + _; rw [List.length_cons]; omega
    · have := fV z (by simp [hz])
      rw [bk_ds_o (hti z (Or.inr hz))] at this
      omega
  · have hlen : (AP ++ [(p.1, p.2.1, p.2.2.1, f1 ++ (c1.2.1, nI c1.1) :: (kb, nI c2.1) :: f2)] ++ BP).length = (L (l + 1)).length := by rw [m4]; simp
    rw [hlen]
    rw [m4, show AP ++ p :: BP = AP ++ [p] ++ BP by simp] at VP fP
    have hsl : ∀ z, bk_ds l ti (l + 1) z = 0 := fun z => bk_ds_n (by omega) z
    have hpl : (f1 ++ (c1.2.1, nI c1.1) :: (kb, nI c2.1) :: f2).length = p.2.2.2.length := by rw [m5]; simp
    have hup : ∀ z, z ∈ AP ++ [p] ++ BP → z.2.2.2.length ≤ fan ∧ bk_mn lst h (l + 1) (L (l + 1)).length ≤ z.2.2.2.length + bk_ds (l + 1) ti' (l + 1) z.1 := fun z hz => by
      have := fP z hz
      rw [hsl, ← show AP ++ p :: BP = AP ++ [p] ++ BP by simp, ← m4] at this
      omega
    have VP' : bk_LV fan (bk_mn lst h (l + 1) (AP ++ [p] ++ BP).length) (bk_ds l ti (l + 1)) (l + 1) (AP ++ [p] ++ BP) := VP
    have hs := r4.2.2.1
    rw [m5] at hs
    refine bk_LV_rep VP' rfl (fun z => z) ⟨⟨r4.1, r4.2.1, ?_, fun h0 => ?_⟩, trivial⟩ (fun z hz => hup z (by simp [hz])) (fun z hz => ?_) (fun z hz => hup z (by simp [hz]))
    · have t := List.pairwise_append.mp hs.1
      have t1 := List.pairwise_cons.mp t.2.1
      have t2 := List.pairwise_cons.mp t1.2
      have hf1 : ∀ q, q ∈ f1 → q.1 < c1.2.1 := fun q hq => t.2.2 q hq (c1.2.1, nI c1.1) List.mem_cons_self
      have hplo : p.2.1 ≤ c1.2.1 := (hs.2 (c1.2.1, nI c1.1) (by simp)).1
      refine ⟨List.pairwise_append.mpr ⟨t.1, List.pairwise_cons.mpr ⟨fun q hq => ?_, List.pairwise_cons.mpr ⟨fun q hq => g1 q hq, t2.2⟩⟩, fun q hq q' hq' => ?_⟩, fun q hq => ?_⟩
      · rcases List.mem_cons.mp hq with hq | hq
        · rw [hq]; exact hkb
        · exact t1.1 q (List.mem_cons_of_mem _ hq)
      · have h3 := hf1 q hq
        rcases List.mem_cons.mp hq' with hq' | hq'
        · rw [hq']; exact h3
        · rcases List.mem_cons.mp hq' with hq' | hq'
          · rw [hq']; show q.1 < kb; omega
          · have := t1.1 q' (List.mem_cons_of_mem _ hq')
            have : c1.2.1 < q'.1 := this
            omega
      · show p.2.1 ≤ q.1 ∧ q.1 < bk_bd (bk_hd BP none)
        rcases List.mem_append.mp hq with hq | hq
        · exact hs.2 q (by simp [hq])
        · rcases List.mem_cons.mp hq with hq | hq
          · rw [hq]; exact hs.2 (c1.2.1, nI c1.1) (by simp)
          · rcases List.mem_cons.mp hq with hq | hq
            · rw [hq]; show p.2.1 ≤ kb ∧ kb < _; omega
            · exact hs.2 q (by simp [hq])
    · obtain ⟨v, es, hes⟩ := r4.2.2.2 h0
      rw [m5] at hes
      cases f1 with
      | nil =>
        injection hes with e1 e2
        exact ⟨nI c1.1, (kb, nI c2.1) :: f2, by show (c1.2.1, nI c1.1) :: _ = (p.2.1, nI c1.1) :: _; injection e1 with e3 e4; rw [e3]⟩
      | cons a f1 =>
        injection hes with e1 e2
        exact ⟨v, f1 ++ (c1.2.1, nI c1.1) :: (kb, nI c2.1) :: f2, by show a :: _ = _; rw [e1]; rfl⟩
    · rw [List.mem_singleton.mp hz]
      have := hup p (by simp)
      show (f1 ++ (c1.2.1, nI c1.1) :: (kb, nI c2.1) :: f2).length ≤ fan ∧ _ ≤ (f1 ++ (c1.2.1, nI c1.1) :: (kb, nI c2.1) :: f2).length + _
      rw [hpl]
      exact this
  · rw [bk_kn_all (A ++ [(c1.1, c1.2.1, true, E1), (c2.1, kb, true, (kb, vb) :: E2)] ++ B) (fun z hz => ?_)]
    · show _ = List.map bk_pr _
      rw [List.map_append, List.map_append, m6, m7, bk_fl_app, bk_fl_app, bk_fl_cons, bk_fl_nil, List.append_nil]
      simp [bk_pr]
    · rcases List.mem_append.mp hz with hz | hz
      · rcases List.mem_append.mp hz with hz | hz
        · exact m2 z (by rw [m3]; simp [hz])
        · rcases List.mem_cons.mp hz with hz | hz
          · rw [hz]
          · rw [List.mem_singleton.mp hz]
      · exact m2 z (by rw [m3]; simp [hz])
  · rw [m3, bk_fl_app, bk_fl_app, bk_fl_app, bk_fl_cons, bk_fl_cons, bk_fl_cons, bk_fl_cons, bk_fl_nil, List.append_nil, ← List.append_assoc c1.2.2.2, ← hE]
    simp
  · rw [m4]
    simp only [bk_kn, List.filter_append, List.filter_cons, List.filter_nil, List.map_append, List.append_assoc]
    cases p.2.2.1 <;> simp
  · subst hh
    obtain ⟨w, ws, e, t1, t2⟩ := P.2.2.1
    rw [m4] at e
    cases AP with
    | nil =>
      injection e with e3 e4
      subst e3 e4
      exact ⟨_, _, rfl, t1, t2⟩
    | cons a AP =>
      injection e with e3 e4
      subst e3 e4
      refine ⟨_, _, rfl, t1, fun y hy => ?_⟩
      rcases List.mem_append.mp hy with hy | hy
      · rcases List.mem_append.mp hy with hy | hy
        · exact t2 y (by simp [hy])
        · rw [List.mem_singleton.mp hy]; exact t2 p (by simp)
      · exact t2 y (by simp [hy])
  · subst h0
    have h32 := P.2.2.2.1
    obtain ⟨w, ws, e, t1⟩ := P.2.2.2.2
    rw [m3] at h32 e
    refine ⟨by simp at h32 ⊢; omega, ?_⟩
    cases A with
    | nil =>
      injection e with e3 e4
      subst e3 e4
      exact ⟨_, _, rfl, t1⟩
    | cons a A =>
      injection e with e3 e4
      subst e3 e4
      exact ⟨_, _, rfl, t1⟩
theorem bk_mend_j (P : bk_PT lst fan l ti L h root) (M : bk_Mp L h l A c1 c2 B AP p BP f1 f2) (h1 : lst ≤ c1.2.2.2.length + c2.2.2.2.length) (h1' : c1.2.2.2.length + c2.2.2.2.length ≤ fan)
    (hti : ∀ z, z ∈ A ∨ z ∈ B → z.1 ≠ ti) :
    bk_PT lst fan (l + 1) p.1 (bk_up (bk_up L l (A ++ [(c1.1, c1.2.1, true, c1.2.2.2 ++ c2.2.2.2)] ++ B)) (l + 1) (AP ++ [(p.1, p.2.1, p.2.2.1, f1 ++ (c1.2.1, nI c1.1) :: f2)] ++ BP)) h root := by
  obtain ⟨r1, r2, r3, r4, r5, r6⟩ := bk_Mp_ch P M
  obtain ⟨m1, m2, m3, m4, m5, m6, m7⟩ := M
  have V := P.1 l (by omega)
  have VP := P.1 (l + 1) m1
  rw [bk_mn_in (by omega), m3, show A ++ c1 :: c2 :: B = A ++ [c1, c2] ++ B by simp] at V
  have fV := V.2.2
  have fP := VP.2.2
  have hb12 : c1.2.1 < c2.2.1 := r1.2.1
  have hb2 := r2.2.1
  refine bk_PT_up2 P m1 (fun l' h' a b i => by rw [bk_ds_n a]; exact Nat.zero_le _) ?_ ?_ ?_ (fun _ => ?_) (fun _ => ?_) (fun hh => ?_) (fun h0 => ?_)
  · rw [bk_mn_in (by omega)]
    refine bk_LV_rep V rfl (fun _ => rfl) ⟨⟨r1.1, by show c1.2.1 < bk_bd (bk_hd B none); omega, r3, fun h0 => ?_⟩, trivial⟩ (fun z hz => ?_) (fun z hz => ?_) (fun z hz => ?_)
    · obtain ⟨v, es, hes⟩ := r1.2.2.2 h0
      exact ⟨v, es ++ c2.2.2.2, by show c1.2.2.2 ++ _ = _; rw [hes]; rfl⟩
    · have := fV z (by simp [hz])
      rw [bk_ds_o (hti z (Or.inl hz))] at this
      omega
    · rw [List.mem_singleton.mp hz]
      show (c1.2.2.2 ++ c2.2.2.2).length ≤ fan ∧ lst ≤ (c1.2.2.2 ++ c2.2.2.2).length + _
      rw [List.length_append]; omega
    · have := fV z (by simp [hz])
      rw [bk_ds_o (hti z (Or.inr hz))] at this
      omega
  · have hlen : (AP ++ [(p.1, p.2.1, p.2.2.1, f1 ++ (c1.2.1, nI c1.1) :: f2)] ++ BP).length = (L (l + 1)).length := by rw [m4]; simp
    rw [hlen]
    rw [m4, show AP ++ p :: BP = AP ++ [p] ++ BP by simp] at VP fP
    have hsl : ∀ z, bk_ds l ti (l + 1) z = 0 := fun z => bk_ds_n (by omega) z
    have hpl : p.2.2.2.length = (f1 ++ (c1.2.1, nI c1.1) :: f2).length + 1 := by rw [m5]; simp; omega
    have hup : ∀ z, z ∈ AP ++ [p] ++ BP → z.2.2.2.length ≤ fan ∧ bk_mn lst h (l + 1) (L (l + 1)).length ≤ z.2.2.2.length := fun z hz => by
      have := fP z hz
      rw [hsl, ← show AP ++ p :: BP = AP ++ [p] ++ BP by simp, ← m4] at this
      omega
    have VP' : bk_LV fan (bk_mn lst h (l + 1) (AP ++ [p] ++ BP).length) (bk_ds l ti (l + 1)) (l + 1) (AP ++ [p] ++ BP) := VP
    have hs := r4.2.2.1
    rw [m5] at hs
    refine bk_LV_rep VP' rfl (fun z => z) ⟨⟨r4.1, r4.2.1, ?_, fun h0 => ?_⟩, trivial⟩ (fun z hz => by have := hup z (by simp [hz]); omega) (fun z hz => ?_) (fun z hz => by have := hup z (by simp [hz]); omega)
    · refine ⟨hs.1.sublist ?_, fun q hq => ?_⟩
      · exact List.Sublist.append_left (List.Sublist.cons_cons _ (List.sublist_cons_self _ _)) _
      · refine hs.2 q ?_
        rcases List.mem_append.mp hq with hq | hq
        · simp [hq]
        · rcases List.mem_cons.mp hq with hq | hq
          · simp [hq]
          · simp [hq]
    · obtain ⟨v, es, hes⟩ := r4.2.2.2 h0
      rw [m5] at hes
      cases f1 with
      | nil =>
        injection hes with e1 e2
        exact ⟨nI c1.1, f2, by show (c1.2.1, nI c1.1) :: _ = (p.2.1, nI c1.1) :: _; injection e1 with e3 e4; rw [e3]⟩
      | cons a f1 =>
        injection hes with e1 e2
        exact ⟨v, f1 ++ (c1.2.1, nI c1.1) :: f2, by show a :: _ = _; rw [e1]; rfl⟩
    · rw [List.mem_singleton.mp hz]
      have := hup p (by simp)
      show (f1 ++ (c1.2.1, nI c1.1) :: f2).length ≤ fan ∧ _ ≤ (f1 ++ (c1.2.1, nI c1.1) :: f2).length + bk_ds (l + 1) p.1 (l + 1) p.1
      rw [bk_ds_s]
      omega
  · rw [bk_kn_all (A ++ [(c1.1, c1.2.1, true, c1.2.2.2 ++ c2.2.2.2)] ++ B) (fun z hz => ?_)]
    · show _ = List.map bk_pr _
      rw [List.map_append, List.map_append, m6, m7, bk_fl_app, bk_fl_app, bk_fl_cons, bk_fl_nil, List.append_nil]
      simp [bk_pr]
    · rcases List.mem_append.mp hz with hz | hz
      · rcases List.mem_append.mp hz with hz | hz
        · exact m2 z (by rw [m3]; simp [hz])
        · rw [List.mem_singleton.mp hz]
      · exact m2 z (by rw [m3]; simp [hz])
  · rw [m3, bk_fl_app, bk_fl_app, bk_fl_app, bk_fl_cons, bk_fl_cons, bk_fl_cons, bk_fl_nil, List.append_nil]
    simp
  · rw [m4]
    simp only [bk_kn, List.filter_append, List.filter_cons, List.filter_nil, List.map_append, List.append_assoc]
    cases p.2.2.1 <;> simp
  · subst hh
    obtain ⟨w, ws, e, t1, t2⟩ := P.2.2.1
    rw [m4] at e
    cases AP with
    | nil =>
      injection e with e3 e4
      subst e3 e4
      exact ⟨_, _, rfl, t1, t2⟩
    | cons a AP =>
      injection e with e3 e4
      subst e3 e4
      refine ⟨_, _, rfl, t1, fun y hy => ?_⟩
      rcases List.mem_append.mp hy with hy | hy
      · rcases List.mem_append.mp hy with hy | hy
        · exact t2 y (by simp [hy])
        · rw [List.mem_singleton.mp hy]; exact t2 p (by simp)
      · exact t2 y (by simp [hy])
  · subst h0
    have h32 := P.2.2.2.1
    obtain ⟨w, ws, e, t1⟩ := P.2.2.2.2
    rw [m3] at h32 e
    refine ⟨by simp at h32 ⊢; omega, ?_⟩
    cases A with
    | nil =>
      injection e with e3 e4
      subst e3 e4
      exact ⟨_, _, rfl, t1⟩
    | cons a A =>
      injection e with e3 e4
      subst e3 e4
      exact ⟨_, _, rfl, t1⟩
end
end
section
/-! ===== 17: mending, the walks: borrowFromLeft, borrowFromRight, join ===== -/
theorem bk_Nr_set {ky vl ct : Nat → Int32} {n : Nat} {f1 f2 : List (Int × Int32)} {k0 : Int} {v key : Int32} (N : bk_Nr ky vl ct n (f1 ++ (k0, v) :: f2)) :
    bk_Nr (upd ky (8 * n + f1.length) key) vl ct n (f1 ++ (key.toInt, v) :: f2) := by
  refine ⟨by rw [N.1]; simp, fun j p hp => ?_⟩
  by_cases a : j < f1.length
  · rw [pk_un (by omega)]
    rw [List.getElem?_append_left a] at hp
    exact N.2 j p (by rw [List.getElem?_append_left a]; exact hp)
  · by_cases b : j = f1.length
    · subst b
      have h1 := N.2 f1.length (k0, v) (bx_get2 rfl)
      rw [bx_get2 rfl] at hp
      injection hp with hp
      rw [pk_us, ← hp]
      exact ⟨rfl, h1.2⟩
    · rw [pk_un (by omega)]
      obtain ⟨i, rfl⟩ : ∃ i, j = f1.length + 1 + i := ⟨j - (f1.length + 1), by omega⟩
      rw [List.getElem?_append_right (by omega), show f1.length + 1 + i - f1.length = i + 1 by omega, List.getElem?_cons_succ] at hp
      exact N.2 _ p (by rw [List.getElem?_append_right (by omega), show f1.length + 1 + i - f1.length = i + 1 by omega, List.getElem?_cons_succ]; exact hp)
theorem bk_Nr_upo {ky vl ct : Nat → Int32} {n q : Nat} {es : List (Int × Int32)} {key : Int32} (N : bk_Nr ky vl ct n es) (h8 : es.length ≤ 8) (hq : ∀ j, j < 8 → 8 * n + j ≠ q) : bk_Nr (upd ky q key) vl ct n es :=
  bk_Nr_S8 N ⟨rfl, fun j hj => ⟨pk_un (hq j hj), rfl⟩⟩ h8
theorem bk_Nr_cut {ky vl ct : Nat → Int32} {n : Nat} {e1 e2 : List (Int × Int32)} (N : bk_Nr ky vl ct n (e1 ++ e2)) : bk_Nr ky vl (upd ct n (nI e1.length)) n e1 := by
  refine ⟨pk_us, fun j p hp => ?_⟩
  have hj : j < e1.length := by
    by_cases z : j < e1.length
    · exact z
    · rw [List.getElem?_eq_none (by omega)] at hp; cases hp
  exact N.2 j p (by rw [List.getElem?_append_left hj]; exact hp)
theorem bk_S8_ct {ky vl ct : Nat → Int32} {n m : Nat} {c : Int32} (h : m ≠ n) : bk_S8 ky vl ct ky vl (upd ct n c) m := ⟨pk_un h, fun _ _ => ⟨rfl, rfl⟩⟩
section
variable {f_threadCount f_fan f_capacity f_pace f_least f_spareTop f_root f_head f_records f_appliedTotal : Int32} {a_keys a_vals a_count a_level a_low a_high a_right a_spare a_path a_phaseOf a_kindOf a_firstOf a_secondOf a_leftOf a_outcomeOf a_resKey a_resValue a_countOf a_digestOf a_appliedAt a_latchesOf a_place a_unknown : Nat → Int32}
theorem bx_moveB {p a b s : Nat} {key : Int32} (hp : p < 80) (ha : a < 80) (hb : b < 80) (hs : s < 8) {post : SX → Prop} (h : post (f_threadCount, f_fan, f_capacity, f_pace, f_least, f_spareTop, f_root, f_head, f_records, f_appliedTotal, upd a_keys (8 * p + s) key, a_vals, a_count, a_level, upd a_low b key, upd a_high a (key - 1), a_right, a_spare, a_path, a_phaseOf, a_kindOf, a_firstOf, a_secondOf, a_leftOf, a_outcomeOf, a_resKey, a_resValue, a_countOf, a_digestOf, a_appliedAt, a_latchesOf, a_place, a_unknown)) :
    wpX_moveBorder post (f_threadCount, f_fan, f_capacity, f_pace, f_least, f_spareTop, f_root, f_head, f_records, f_appliedTotal, a_keys, a_vals, a_count, a_level, a_low, a_high, a_right, a_spare, a_path, a_phaseOf, a_kindOf, a_firstOf, a_secondOf, a_leftOf, a_outcomeOf, a_resKey, a_resValue, a_countOf, a_digestOf, a_appliedAt, a_latchesOf, a_place, a_unknown) (nI (8 * p + s)) (nI a) (nI b) key := by
  unfold wpX_moveBorder
  refine And.intro (bx_in hb) (nm_e ⟨bx_in ha, nm_e ⟨vp_in_nI (by omega) (by omega), nm_e ?_⟩⟩)
  rw [bx_cl (n := a) (by omega), bx_cl (n := b) (by omega), bx_cl (n := 8 * p + s) (by omega)]
  exact h
theorem bx_borL {p a b : Nat} {f1 f2 E1 E2 : List (Int × Int32)} {k1 k2 kb : Int} {vb : Int32} (hp : p < 80) (ha : a < 80) (hb : b < 80) (hpa : p ≠ a) (hpb : p ≠ b) (hab : a ≠ b)
    (Np : bk_Nr a_keys a_vals a_count p (f1 ++ (k1, nI a) :: (k2, nI b) :: f2)) (hp8 : (f1 ++ (k1, nI a) :: (k2, nI b) :: f2).length ≤ 8)
    (Na : bk_Nr a_keys a_vals a_count a (E1 ++ [(kb, vb)])) (ha8 : E1.length ≤ 7) (Nb : bk_Nr a_keys a_vals a_count b E2) (hb7 : E2.length ≤ 7) (hk : ∀ q, q ∈ E2 → kb ≤ q.1) :
    ∃ ky vl ct lw hg : Nat → Int32, bk_Nr ky vl ct p (f1 ++ (k1, nI a) :: (kb, nI b) :: f2) ∧ bk_Nr ky vl ct a E1 ∧ bk_Nr ky vl ct b ((kb, vb) :: E2) ∧
      (∀ m, m ≠ p → m ≠ a → m ≠ b → bk_S8 a_keys a_vals a_count ky vl ct m) ∧ ((lw b).toInt = kb ∧ ∀ m, m ≠ b → lw m = a_low m) ∧ (hg a = lw b - 1 ∧ ∀ m, m ≠ a → hg m = a_high m) ∧
      ∀ post : SX → Prop, post (f_threadCount, f_fan, f_capacity, f_pace, f_least, f_spareTop, f_root, f_head, f_records, f_appliedTotal, ky, vl, ct, a_level, lw, hg, a_right, a_spare, a_path, a_phaseOf, a_kindOf, a_firstOf, a_secondOf, a_leftOf, a_outcomeOf, a_resKey, a_resValue, a_countOf, a_digestOf, a_appliedAt, a_latchesOf, a_place, a_unknown) → wpX_borrowFromLeft post (f_threadCount, f_fan, f_capacity, f_pace, f_least, f_spareTop, f_root, f_head, f_records, f_appliedTotal, a_keys, a_vals, a_count, a_level, a_low, a_high, a_right, a_spare, a_path, a_phaseOf, a_kindOf, a_firstOf, a_secondOf, a_leftOf, a_outcomeOf, a_resKey, a_resValue, a_countOf, a_digestOf, a_appliedAt, a_latchesOf, a_place, a_unknown) (nI p) (nI (f1.length + 1)) := by
  have hpl : f1.length + 2 ≤ 8 := by simp at hp8; omega
  have hcA : a_count a = nI (E1.length + 1) := by rw [Na.1]; simp
  have hkb := Na.2 E1.length (kb, vb) (bx_get2 rfl)
  have hva : a_vals (8 * p + f1.length) = nI a := (Np.2 f1.length _ (bx_get2 rfl)).2
  have hvb : a_vals (8 * p + (f1.length + 1)) = nI b := by
    have := (Np.2 (f1 ++ [(k1, nI a)]).length (k2, nI b) (bx_get2 (e2 := f2) (by simp))).2
    rw [show (f1 ++ [(k1, nI a)]).length = f1.length + 1 by simp] at this
    exact this
  generalize hkI : a_keys (8 * a + E1.length) = kI at hkb
  generalize hvI : a_vals (8 * a + E1.length) = vI at hkb
  obtain ⟨hkb1, hkb2⟩ := hkb
  have hkb1 : kI.toInt = kb := hkb1
  have hkb2 : vI = vb := hkb2
  obtain ⟨ky, vl, ct, N1, S1, w1⟩ := bx_insert (key := kI) (val := vI) (e1 := []) (e2 := E2) (f_threadCount := f_threadCount) (f_fan := f_fan) (f_capacity := f_capacity) (f_pace := f_pace) (f_least := f_least) (f_spareTop := f_spareTop) (f_root := f_root) (f_head := f_head) (f_records := f_records) (f_appliedTotal := f_appliedTotal) (a_keys := a_keys) (a_vals := a_vals) (a_count := upd a_count a (nI E1.length)) (a_level := a_level) (a_low := a_low) (a_high := a_high) (a_right := a_right) (a_spare := a_spare) (a_path := a_path) (a_phaseOf := a_phaseOf) (a_kindOf := a_kindOf) (a_firstOf := a_firstOf) (a_secondOf := a_secondOf) (a_leftOf := a_leftOf) (a_outcomeOf := a_outcomeOf) (a_resKey := a_resKey) (a_resValue := a_resValue) (a_countOf := a_countOf) (a_digestOf := a_digestOf) (a_appliedAt := a_appliedAt) (a_latchesOf := a_latchesOf) (a_place := a_place) (a_unknown := a_unknown) hb (bk_Nr_S8 Nb (bk_S8_ct (Ne.symm hab)) (by omega)) rfl hb7 (fun q hq => by cases hq) (fun q hq => by rw [hkb1]; exact hk q hq)
  rw [hkb1, hkb2, List.nil_append] at N1
  have S1' : ∀ m, m ≠ a → m ≠ b → bk_S8 a_keys a_vals a_count ky vl ct m := fun m h1 h2 => bk_S8_tr (bk_S8_ct h1) (S1 m h2)
  have Np1 := bk_Nr_S8 Np (S1' p hpa hpb) hp8
  have hfe : f1 ++ (k1, nI a) :: (k2, nI b) :: f2 = (f1 ++ [(k1, nI a)]) ++ (k2, nI b) :: f2 := by simp
  rw [hfe] at Np1
  have Np2 := bk_Nr_set (key := kI) Np1
  rw [show (f1 ++ [(k1, nI a)]).length = f1.length + 1 by simp, hkb1] at Np2
  have Na1 : bk_Nr ky vl ct a E1 := bk_Nr_S8 (bk_Nr_cut Na) (S1 a hab) (by omega)
  refine ⟨upd ky (8 * p + (f1.length + 1)) kI, vl, ct, upd a_low b kI, upd a_high a (kI - 1), by simpa using Np2, bk_Nr_upo Na1 (by omega) (fun j hj => by omega), bk_Nr_upo N1 (by simp; omega) (fun j hj => by omega),
    fun m h1 h2 h3 => bk_S8_tr (S1' m h2 h3) ⟨rfl, fun j hj => ⟨pk_un (by omega), rfl⟩⟩, ⟨by rw [pk_us]; exact hkb1, fun m hm => pk_un hm⟩, ⟨by rw [pk_us, pk_us], fun m hm => pk_un hm⟩, fun post hpo => ?_⟩
  unfold wpX_borrowFromLeft
  rw [bx_sh hp, nI_add]
  have e1 : nI (8 * p + (f1.length + 1)) - 1 = nI (8 * p + f1.length) := nI_pred _
  refine nm_e ?_
  rw [e1]
  refine ⟨vp_in_nI (by omega) (by omega), nm_r (e' := nI a) (by rw [bx_cl (by omega)]; exact hva) ⟨vp_in_nI (by omega) (by omega), nm_r (e' := nI b) (by rw [bx_cl (by omega)]; exact hvb) ⟨bx_in ha, nm_r (e' := nI (8 * a + E1.length)) ?_ ⟨vp_in_nI (by omega) (by omega), nm_r (e' := kI) ?_ ⟨vp_in_nI (by omega) (by omega), nm_r (e' := vI) ?_ ⟨bx_in ha, bx_in ha, nm_r (e' := upd a_count a (nI E1.length)) ?_ (w1 _ (bx_moveB hp ha hb (by omega) hpo))⟩⟩⟩⟩⟩⟩
  · rw [bx_sh ha, bx_cl (n := a) (by omega), hcA, nI_add, show 8 * a + (E1.length + 1) = (8 * a + E1.length) + 1 by omega, nI_pred]
  · rw [bx_cl (by omega)]; exact hkI
  · rw [bx_cl (by omega)]; exact hvI
  · rw [bx_cl (n := a) (by omega), hcA, nI_pred]
theorem bx_borR {tc p a b : Nat} {f1 f2 E1 E2 : List (Int × Int32)} {k1 k2 ka kb : Int} {va vb : Int32} (htc : f_threadCount = nI tc) (h6 : tc ≤ 6) (hp : p < 80) (ha : a < 80) (hb : b < 80) (hpa : p ≠ a) (hpb : p ≠ b) (hab : a ≠ b)
    (Np : bk_Nr a_keys a_vals a_count p (f1 ++ (k1, nI a) :: (k2, nI b) :: f2)) (hp8 : (f1 ++ (k1, nI a) :: (k2, nI b) :: f2).length ≤ 8)
    (Na : bk_Nr a_keys a_vals a_count a E1) (ha7 : E1.length ≤ 7) (Nb : bk_Nr a_keys a_vals a_count b ((ka, va) :: (kb, vb) :: E2)) (hb8 : E2.length ≤ 6) (hk : ∀ q, q ∈ E1 → q.1 < ka) :
    ∃ ky vl ct lw hg pl : Nat → Int32, bk_Nr ky vl ct p (f1 ++ (k1, nI a) :: (kb, nI b) :: f2) ∧ bk_Nr ky vl ct a (E1 ++ [(ka, va)]) ∧ bk_Nr ky vl ct b ((kb, vb) :: E2) ∧
      (∀ m, m ≠ p → m ≠ a → m ≠ b → bk_S8 a_keys a_vals a_count ky vl ct m) ∧ ((lw b).toInt = kb ∧ ∀ m, m ≠ b → lw m = a_low m) ∧ (hg a = lw b - 1 ∧ ∀ m, m ≠ a → hg m = a_high m) ∧
      (∀ q, q < tc → pl q = if a_place q = nI b then nI a else a_place q) ∧
      ∀ post : SX → Prop, post (f_threadCount, f_fan, f_capacity, f_pace, f_least, f_spareTop, f_root, f_head, f_records, f_appliedTotal, ky, vl, ct, a_level, lw, hg, a_right, a_spare, a_path, a_phaseOf, a_kindOf, a_firstOf, a_secondOf, a_leftOf, a_outcomeOf, a_resKey, a_resValue, a_countOf, a_digestOf, a_appliedAt, a_latchesOf, pl, a_unknown) → wpX_borrowFromRight post (f_threadCount, f_fan, f_capacity, f_pace, f_least, f_spareTop, f_root, f_head, f_records, f_appliedTotal, a_keys, a_vals, a_count, a_level, a_low, a_high, a_right, a_spare, a_path, a_phaseOf, a_kindOf, a_firstOf, a_secondOf, a_leftOf, a_outcomeOf, a_resKey, a_resValue, a_countOf, a_digestOf, a_appliedAt, a_latchesOf, a_place, a_unknown) (nI p) (nI (f1.length + 1)) := by
  have hpl : f1.length + 2 ≤ 8 := by simp at hp8; omega
  have hkb := Nb.2 0 (ka, va) rfl
  have hva : a_vals (8 * p + f1.length) = nI a := (Np.2 f1.length _ (bx_get2 rfl)).2
  have hvb : a_vals (8 * p + (f1.length + 1)) = nI b := by
    have := (Np.2 (f1 ++ [(k1, nI a)]).length (k2, nI b) (bx_get2 (e2 := f2) (by simp))).2
    rw [show (f1 ++ [(k1, nI a)]).length = f1.length + 1 by simp] at this
    exact this
  generalize hkI : a_keys (8 * b + 0) = kI at hkb
  generalize hvI : a_vals (8 * b + 0) = vI at hkb
  obtain ⟨hkb1, hkb2⟩ := hkb
  have hkb1 : kI.toInt = ka := hkb1
  have hkb2 : vI = va := hkb2
  obtain ⟨ky1, vl1, ct1, N1, S1, w1⟩ := bx_remove (p := (ka, va)) (e1 := []) (e2 := (kb, vb) :: E2) (f_threadCount := f_threadCount) (f_fan := f_fan) (f_capacity := f_capacity) (f_pace := f_pace) (f_least := f_least) (f_spareTop := f_spareTop) (f_root := f_root) (f_head := f_head) (f_records := f_records) (f_appliedTotal := f_appliedTotal) (a_keys := a_keys) (a_vals := a_vals) (a_count := a_count) (a_level := a_level) (a_low := a_low) (a_high := a_high) (a_right := a_right) (a_spare := a_spare) (a_path := a_path) (a_phaseOf := a_phaseOf) (a_kindOf := a_kindOf) (a_firstOf := a_firstOf) (a_secondOf := a_secondOf) (a_leftOf := a_leftOf) (a_outcomeOf := a_outcomeOf) (a_resKey := a_resKey) (a_resValue := a_resValue) (a_countOf := a_countOf) (a_digestOf := a_digestOf) (a_appliedAt := a_appliedAt) (a_latchesOf := a_latchesOf) (a_place := a_place) (a_unknown := a_unknown) hb Nb rfl (by simp; omega)
  rw [List.nil_append] at N1
  obtain ⟨ky, vl, ct, N2, S2, w2⟩ := bx_insert (key := kI) (val := vI) (e1 := E1) (e2 := []) (f_threadCount := f_threadCount) (f_fan := f_fan) (f_capacity := f_capacity) (f_pace := f_pace) (f_least := f_least) (f_spareTop := f_spareTop) (f_root := f_root) (f_head := f_head) (f_records := f_records) (f_appliedTotal := f_appliedTotal) (a_keys := ky1) (a_vals := vl1) (a_count := ct1) (a_level := a_level) (a_low := a_low) (a_high := a_high) (a_right := a_right) (a_spare := a_spare) (a_path := a_path) (a_phaseOf := a_phaseOf) (a_kindOf := a_kindOf) (a_firstOf := a_firstOf) (a_secondOf := a_secondOf) (a_leftOf := a_leftOf) (a_outcomeOf := a_outcomeOf) (a_resKey := a_resKey) (a_resValue := a_resValue) (a_countOf := a_countOf) (a_digestOf := a_digestOf) (a_appliedAt := a_appliedAt) (a_latchesOf := a_latchesOf) (a_place := a_place) (a_unknown := a_unknown) ha (bk_Nr_S8 Na (S1 a hab) (by omega)) (by simp) ha7 (fun q hq => by rw [hkb1]; exact hk q hq) (fun q hq => by cases hq)
  rw [hkb1, hkb2] at N2
  have S12 : ∀ m, m ≠ a → m ≠ b → bk_S8 a_keys a_vals a_count ky vl ct m := fun m h1 h2 => bk_S8_tr (S1 m h2) (S2 m h1)
  have Nb2 := bk_Nr_S8 N1 (S2 b (Ne.symm hab)) (by simp; omega)
  have hkb3 := (Nb2.2 0 (kb, vb) rfl).1
  generalize hkJ : ky (8 * b + 0) = kJ at hkb3
  have hkb3 : kJ.toInt = kb := hkb3
  have Np1 := bk_Nr_S8 Np (S12 p hpa hpb) hp8
  have hfe : f1 ++ (k1, nI a) :: (k2, nI b) :: f2 = (f1 ++ [(k1, nI a)]) ++ (k2, nI b) :: f2 := by simp
  rw [hfe] at Np1
  have Np2 := bk_Nr_set (key := kJ) Np1
  rw [show (f1 ++ [(k1, nI a)]).length = f1.length + 1 by simp, hkb3] at Np2
  obtain ⟨pl, hpl', w3⟩ := bx_redirect (fr := nI b) (to := nI a) (f_threadCount := f_threadCount) (f_fan := f_fan) (f_capacity := f_capacity) (f_pace := f_pace) (f_least := f_least) (f_spareTop := f_spareTop) (f_root := f_root) (f_head := f_head) (f_records := f_records) (f_appliedTotal := f_appliedTotal) (a_keys := upd ky (8 * p + (f1.length + 1)) kJ) (a_vals := vl) (a_count := ct) (a_level := a_level) (a_low := upd a_low b kJ) (a_high := upd a_high a (kJ - 1)) (a_right := a_right) (a_spare := a_spare) (a_path := a_path) (a_phaseOf := a_phaseOf) (a_kindOf := a_kindOf) (a_firstOf := a_firstOf) (a_secondOf := a_secondOf) (a_leftOf := a_leftOf) (a_outcomeOf := a_outcomeOf) (a_resKey := a_resKey) (a_resValue := a_resValue) (a_countOf := a_countOf) (a_digestOf := a_digestOf) (a_appliedAt := a_appliedAt) (a_latchesOf := a_latchesOf) (a_place := a_place) (a_unknown := a_unknown) htc h6
  refine ⟨upd ky (8 * p + (f1.length + 1)) kJ, vl, ct, upd a_low b kJ, upd a_high a (kJ - 1), pl, by simpa using Np2, bk_Nr_upo N2 (by simp; omega) (fun j hj => by omega), bk_Nr_upo Nb2 (by simp; omega) (fun j hj => by omega),
    fun m h1 h2 h3 => bk_S8_tr (S12 m h2 h3) ⟨rfl, fun j hj => ⟨pk_un (by omega), rfl⟩⟩, ⟨by rw [pk_us]; exact hkb3, fun m hm => pk_un hm⟩, ⟨by rw [pk_us, pk_us], fun m hm => pk_un hm⟩, hpl', fun post hpo => ?_⟩
  unfold wpX_borrowFromRight
  rw [bx_sh hp, nI_add]
  have e1 : nI (8 * p + (f1.length + 1)) - 1 = nI (8 * p + f1.length) := nI_pred _
  refine nm_e ?_
  rw [e1]
  refine ⟨vp_in_nI (by omega) (by omega), nm_r (e' := nI a) (by rw [bx_cl (by omega)]; exact hva) ⟨vp_in_nI (by omega) (by omega), nm_r (e' := nI b) (by rw [bx_cl (by omega)]; exact hvb) (nm_r (e' := nI (8 * b)) (bx_sh hb) ⟨vp_in_nI (by omega) (by omega), nm_r (e' := kI) ?_ ⟨vp_in_nI (by omega) (by omega), nm_r (e' := vI) ?_ (w1 _ (w2 _ (And.intro (vp_in_nI (by omega) (by omega)) ?_)))⟩⟩)⟩⟩
  · rw [bx_cl (by omega)]; exact hkI
  · rw [bx_cl (by omega)]; exact hvI
  · rw [bx_cl (n := 8 * b) (by omega), show ky (8 * b) = kJ from hkJ]
    exact bx_moveB hp ha hb (by omega) (w3 _ hpo)
theorem bx_joinW {tc p a b s : Nat} {f1 f2 E1 E2 : List (Int × Int32)} {k1 k2 : Int} (htc : f_threadCount = nI tc) (h6 : tc ≤ 6) (hp : p < 80) (ha : a < 80) (hb : b < 80) (hpa : p ≠ a) (hpb : p ≠ b) (hab : a ≠ b)
    (Np : bk_Nr a_keys a_vals a_count p (f1 ++ (k1, nI a) :: (k2, nI b) :: f2)) (hp8 : (f1 ++ (k1, nI a) :: (k2, nI b) :: f2).length ≤ 8)
    (Na : bk_Nr a_keys a_vals a_count a E1) (Nb : bk_Nr a_keys a_vals a_count b E2) (h8 : E1.length + E2.length ≤ 8) (hst : f_spareTop = nI s) (hs : s < 80) :
    ∃ ky vl ct hg rt pl : Nat → Int32, bk_Nr ky vl ct p (f1 ++ (k1, nI a) :: f2) ∧ bk_Nr ky vl ct a (E1 ++ E2) ∧
      (∀ m, m ≠ p → m ≠ a → m ≠ b → bk_S8 a_keys a_vals a_count ky vl ct m) ∧ (hg a = a_high b ∧ ∀ m, m ≠ a → hg m = a_high m) ∧ (rt a = a_right b ∧ ∀ m, m ≠ a → m ≠ b → rt m = a_right m) ∧
      (∀ q, q < tc → pl q = if a_place q = nI b then nI a else a_place q) ∧
      ∀ post : SX → Prop, post (f_threadCount, f_fan, f_capacity, f_pace, f_least, nI (s + 1), f_root, f_head, f_records, f_appliedTotal, ky, vl, ct, a_level, a_low, hg, rt, upd a_spare s (nI b), a_path, a_phaseOf, a_kindOf, a_firstOf, a_secondOf, a_leftOf, a_outcomeOf, a_resKey, a_resValue, a_countOf, a_digestOf, a_appliedAt, a_latchesOf, pl, a_unknown) → wpX_join post (f_threadCount, f_fan, f_capacity, f_pace, f_least, f_spareTop, f_root, f_head, f_records, f_appliedTotal, a_keys, a_vals, a_count, a_level, a_low, a_high, a_right, a_spare, a_path, a_phaseOf, a_kindOf, a_firstOf, a_secondOf, a_leftOf, a_outcomeOf, a_resKey, a_resValue, a_countOf, a_digestOf, a_appliedAt, a_latchesOf, a_place, a_unknown) (nI p) (nI (f1.length + 1)) := by
  have hpl : f1.length + 2 ≤ 8 := by simp at hp8; omega
  have hva : a_vals (8 * p + f1.length) = nI a := (Np.2 f1.length _ (bx_get2 rfl)).2
  have hvb : a_vals (8 * p + (f1.length + 1)) = nI b := by
    have := (Np.2 (f1 ++ [(k1, nI a)]).length (k2, nI b) (bx_get2 (e2 := f2) (by simp))).2
    rw [show (f1 ++ [(k1, nI a)]).length = f1.length + 1 by simp] at this
    exact this
  obtain ⟨ky1, vl1, ct1, hk1, hv1, hc1, w1⟩ := bx_join_39 (p := nI p) (at' := nI (f1.length + 1)) (a := a) (g := b) (lg := E2.length) (f_threadCount := f_threadCount) (f_fan := f_fan) (f_capacity := f_capacity) (f_pace := f_pace) (f_least := f_least) (f_spareTop := f_spareTop) (f_root := f_root) (f_head := f_head) (f_records := f_records) (f_appliedTotal := f_appliedTotal) (a_level := a_level) (a_low := a_low) (a_high := a_high) (a_right := a_right) (a_spare := a_spare) (a_path := a_path) (a_phaseOf := a_phaseOf) (a_kindOf := a_kindOf) (a_firstOf := a_firstOf) (a_secondOf := a_secondOf) (a_leftOf := a_leftOf) (a_outcomeOf := a_outcomeOf) (a_resKey := a_resKey) (a_resValue := a_resValue) (a_countOf := a_countOf) (a_digestOf := a_digestOf) (a_appliedAt := a_appliedAt) (a_latchesOf := a_latchesOf) (a_place := a_place) (a_unknown := a_unknown) ha hb (Ne.symm hab) (by omega) E2.length 0 E1.length (by omega) (by omega) a_keys a_vals a_count Na.1 Nb.1
  have Na1 : bk_Nr ky1 vl1 ct1 a (E1 ++ E2) := bk_Nr_cp (e0 := E1) (mv := E1.length) (d := E2.length) (i := 0) (e1 := []) (e2 := E2) (n := b) Nb (Or.inl Na) rfl rfl rfl hc1.1 hk1 hv1
  have S1 : ∀ m, m ≠ a → bk_S8 a_keys a_vals a_count ky1 vl1 ct1 m := fun m hm => ⟨hc1.2 m hm, fun j hj => by
    rw [hk1, hv1, if_neg (by omega), if_neg (by omega)]; exact ⟨rfl, rfl⟩⟩
  have Np1 := bk_Nr_S8 Np (S1 p hpa) hp8
  obtain ⟨ky2, vl2, ct2, N2, S2, w2⟩ := bx_remove (p := (k2, nI b)) (e1 := f1 ++ [(k1, nI a)]) (e2 := f2) (f_threadCount := f_threadCount) (f_fan := f_fan) (f_capacity := f_capacity) (f_pace := f_pace) (f_least := f_least) (f_spareTop := f_spareTop) (f_root := f_root) (f_head := f_head) (f_records := f_records) (f_appliedTotal := f_appliedTotal) (a_keys := ky1) (a_vals := vl1) (a_count := ct1) (a_level := a_level) (a_low := a_low) (a_high := upd a_high a (a_high b)) (a_right := upd a_right a (a_right b)) (a_spare := a_spare) (a_path := a_path) (a_phaseOf := a_phaseOf) (a_kindOf := a_kindOf) (a_firstOf := a_firstOf) (a_secondOf := a_secondOf) (a_leftOf := a_leftOf) (a_outcomeOf := a_outcomeOf) (a_resKey := a_resKey) (a_resValue := a_resValue) (a_countOf := a_countOf) (a_digestOf := a_digestOf) (a_appliedAt := a_appliedAt) (a_latchesOf := a_latchesOf) (a_place := a_place) (a_unknown := a_unknown) hp Np1 (by simp) hp8
  rw [show (f1 ++ [(k1, nI a)]).length = f1.length + 1 by simp] at w2
  obtain ⟨pl, hpl', w3⟩ := bx_redirect (fr := nI b) (to := nI a) (f_threadCount := f_threadCount) (f_fan := f_fan) (f_capacity := f_capacity) (f_pace := f_pace) (f_least := f_least) (f_spareTop := f_spareTop) (f_root := f_root) (f_head := f_head) (f_records := f_records) (f_appliedTotal := f_appliedTotal) (a_keys := ky2) (a_vals := vl2) (a_count := ct2) (a_level := a_level) (a_low := a_low) (a_high := upd a_high a (a_high b)) (a_right := upd a_right a (a_right b)) (a_spare := a_spare) (a_path := a_path) (a_phaseOf := a_phaseOf) (a_kindOf := a_kindOf) (a_firstOf := a_firstOf) (a_secondOf := a_secondOf) (a_leftOf := a_leftOf) (a_outcomeOf := a_outcomeOf) (a_resKey := a_resKey) (a_resValue := a_resValue) (a_countOf := a_countOf) (a_digestOf := a_digestOf) (a_appliedAt := a_appliedAt) (a_latchesOf := a_latchesOf) (a_place := a_place) (a_unknown := a_unknown) htc h6
  refine ⟨ky2, vl2, upd ct2 b 0, upd a_high a (a_high b), upd (upd a_right a (a_right b)) b (-1), pl, ?_, ?_, fun m h1 h2 h3 => bk_S8_tr (S1 m h2) (bk_S8_tr (S2 m h1) (bk_S8_ct h3)), ⟨pk_us, fun m hm => pk_un hm⟩, ⟨by rw [pk_un hab, pk_us], fun m h1 h2 => by rw [pk_un h2, pk_un h1]⟩, hpl', fun post hpo => ?_⟩
  · have : bk_Nr ky2 vl2 ct2 p (f1 ++ (k1, nI a) :: f2) := by simpa using N2
    exact bk_Nr_S8 this (bk_S8_ct hpb) (by simp at hp8 ⊢; omega)
  · exact bk_Nr_S8 (bk_Nr_S8 Na1 (S2 a (Ne.symm hpa)) (by simp; omega)) (bk_S8_ct hab) (by simp; omega)
  · unfold wpX_join
    rw [bx_sh hp, nI_add]
    have e1 : nI (8 * p + (f1.length + 1)) - 1 = nI (8 * p + f1.length) := nI_pred _
    refine nm_e ?_
    rw [e1]
    refine ⟨vp_in_nI (by omega) (by omega), nm_r (e' := nI a) (by rw [bx_cl (by omega)]; exact hva) ⟨vp_in_nI (by omega) (by omega), nm_r (e' := nI b) (by rw [bx_cl (by omega)]; exact hvb) (nm_r (e' := nI (8 * a)) (bx_sh ha) (nm_r (e' := nI (8 * b)) (bx_sh hb) ⟨E2.length + 1, w1 _ (by omega) post ?_⟩))⟩⟩
    unfold wX_join_126
    rw [bx_cl (n := a) (by omega), bx_cl (n := b) (by omega)]
    refine ⟨bx_in hb, bx_in ha, nm_e ⟨bx_in hb, bx_in ha, nm_e (w2 _ (w3 _ ?_))⟩⟩
    unfold wpX_releaseNode
    refine And.intro (bx_in hb) (nm_e ⟨bx_in hb, nm_e ?_⟩)
    rw [bx_cl (n := b) (by omega)]
    refine br_f (by rw [hst]; exact nI_ge (b := 80) hs (by decide)) ⟨by rw [hst]; exact vp_in_nI hs (by omega), nm_e (nm_r (e' := nI (s + 1)) (by rw [hst, nI_1]) ?_)⟩
    rw [hst, bx_cl (n := s) (by omega)]
    exact hpo
end
end
section
/-! ===== 18: mending, the tree: borrow and join keep everything ===== -/
def bk_Pl (tc : Nat) (pl : Nat → Int32) (g : Nat → Int) (L : Nat → List bk_Nd) (h : Nat) : Prop := ∀ t, t < tc → pl t < 0 ∨ bk_St L h (g t) (pl t)
theorem bk_Pl_gw {tc : Nat} {pl : Nat → Int32} {g : Nat → Int} {L L' : Nat → List bk_Nd} {h h' : Nat} (G : bk_Gw L h L' h') (P : bk_Pl tc pl g L h) : bk_Pl tc pl g L' h' := by
  intro t ht
  rcases P t ht with a | ⟨l, x, hl, hx, h1, h2⟩
  · exact Or.inl a
  · obtain ⟨b1, b2⟩ := G l hl
    obtain ⟨z, c1, c2, c3⟩ := b2 x hx
    exact Or.inr ⟨l, z, b1, c1, by rw [c3]; exact h1, by rw [c2]; exact h2⟩
theorem bk_Pl_red {tc : Nat} {pl pl' : Nat → Int32} {g : Nat → Int} {L L' : Nat → List bk_Nd} {h h' a b : Nat} (hb : b < 80) (h80 : ∀ j, j ≤ h → ∀ x, x ∈ L j → x.1 < 80) (hpl : ∀ q, q < tc → pl' q = if pl q = nI b then nI a else pl q)
    (H1 : ∀ j, j ≤ h → ∀ x, x ∈ L j → x.1 ≠ b → ∃ j', j' ≤ h' ∧ ∃ x', x' ∈ L' j' ∧ x'.1 = x.1 ∧ x'.2.1 ≤ x.2.1) (H2 : ∀ j, j ≤ h → ∀ x, x ∈ L j → x.1 = b → ∃ j', j' ≤ h' ∧ ∃ x', x' ∈ L' j' ∧ x'.1 = a ∧ x'.2.1 ≤ x.2.1)
    (P : bk_Pl tc pl g L h) : bk_Pl tc pl' g L' h' := by
  intro t ht
  rw [hpl t ht]
  rcases P t ht with c | ⟨j, x, hj, hx, h1, h2⟩
  · left
    rw [if_neg (fun e => by rw [e] at c; exact nI_pos (by omega) c)]
    exact c
  · right
    by_cases e : x.1 = b
    · obtain ⟨j', hj', x', d1, d2, d3⟩ := H2 j hj x hx e
      rw [if_pos (by rw [h2, e])]
      exact ⟨j', x', hj', d1, by omega, by rw [d2]⟩
    · obtain ⟨j', hj', x', d1, d2, d3⟩ := H1 j hj x hx e
      have h8 := h80 j hj x hx
      rw [if_neg (fun hc => e (bx_inj (by omega) (by omega) (h2.symm.trans hc)))]
      exact ⟨j', x', hj', d1, by omega, by rw [d2]; exact h2⟩
section
variable {lst fan ti : Nat} {L : Nat → List bk_Nd} {h root l : Nat} {A B AP BP : List bk_Nd} {c1 c2 p : bk_Nd} {f1 f2 : List (Int × Int32)} {ky vl ct lv lw hg rt ky' vl' ct' lw' hg' rt' : Nat → Int32}
theorem bk_Mp_ids (T : bk_T lst fan l ti L h root ky vl ct lv lw hg rt) (M : bk_Mp L h l A c1 c2 B AP p BP f1 f2) :
    (c1.1 < 80 ∧ c2.1 < 80 ∧ p.1 < 80 ∧ p.1 ≠ c1.1 ∧ p.1 ≠ c2.1 ∧ c1.1 ≠ c2.1) ∧ (∀ z, z ∈ A ∨ z ∈ B → z.1 ≠ p.1 ∧ z.1 ≠ c1.1 ∧ z.1 ≠ c2.1) ∧ (∀ z, z ∈ AP ∨ z ∈ BP → z.1 ≠ p.1 ∧ z.1 ≠ c1.1 ∧ z.1 ≠ c2.1) ∧
    (∀ j, j ≤ h → j ≠ l → j ≠ l + 1 → ∀ z, z ∈ L j → z.1 ≠ p.1 ∧ z.1 ≠ c1.1 ∧ z.1 ≠ c2.1) := by
  obtain ⟨m1, m2, m3, m4, m5, m6, m7⟩ := M
  have hc1 : c1 ∈ L l := by rw [m3]; simp
  have hc2 : c2 ∈ L l := by rw [m3]; simp
  have hp : p ∈ L (l + 1) := by rw [m4]; simp
  have hl : l ≤ h := by omega
  have m3' : L l = (A ++ [c1]) ++ c2 :: B := by rw [m3]; simp
  have u1 := bk_uqA T hl m3
  have u2 := bk_uqA T hl m3'
  have u3 := bk_uqA T m1 m4
  refine ⟨⟨(bk_T_m T hl hc1).1, (bk_T_m T hl hc2).1, (bk_T_m T m1 hp).1, fun e => ?_, fun e => ?_, fun e => ?_⟩, fun z hz => ?_, fun z hz => ?_, fun j hj a b z hz => ⟨fun e => ?_, fun e => ?_, fun e => ?_⟩⟩
  · have := (bk_uq T m1 hl hp hc1 e).1; omega
  · have := (bk_uq T m1 hl hp hc2 e).1; omega
  · exact u2 c1 (by simp) e
  · have hzm : z ∈ L l := by rw [m3]; rcases hz with hz | hz <;> simp [hz]
    refine ⟨fun e => ?_, u1 z (by rcases hz with hz | hz <;> simp [hz]), u2 z (by rcases hz with hz | hz <;> simp [hz])⟩
    have := (bk_uq T hl m1 hzm hp e).1; omega
  · have hzm : z ∈ L (l + 1) := by rw [m4]; rcases hz with hz | hz <;> simp [hz]
    refine ⟨u3 z hz, fun e => ?_, fun e => ?_⟩
    · have := (bk_uq T m1 hl hzm hc1 e).1; omega
    · have := (bk_uq T m1 hl hzm hc2 e).1; omega
  · exact b (bk_uq T hj m1 hz hp e).1
  · exact a (bk_uq T hj hl hz hc1 e).1
  · exact a (bk_uq T hj hl hz hc2 e).1
theorem bk_LK_m (T : bk_T lst fan l ti L h root ky vl ct lv lw hg rt) (M : bk_Mp L h l A c1 c2 B AP p BP f1 f2)
    (hag : ∀ m, m ≠ p.1 → m ≠ c1.1 → m ≠ c2.1 → bk_Ag ky vl ct lv lw hg rt ky' vl' ct' lv lw' hg' rt' m) {y p' : bk_Nd} {ys : List bk_Nd} (hy1 : y.1 = c1.1) (hy2 : y.2.1 = c1.2.1)
    (hc : bk_ch (bk_Lq ky' vl' ct' lv lw' hg' rt' l) (bk_hd B none) (y :: ys)) (hp1 : p'.1 = p.1) (hp2 : p'.2.1 = p.2.1) (hq : bk_Lq ky' vl' ct' lv lw' hg' rt' (l + 1) p' (bk_hd BP none)) :
    bk_LK ky' vl' ct' lv lw' hg' rt' (bk_up (bk_up L l (A ++ (y :: ys) ++ B)) (l + 1) (AP ++ [p'] ++ BP)) h := by
  obtain ⟨i1, i2, i3, i4⟩ := bk_Mp_ids T M
  obtain ⟨m1, m2, m3, m4, m5, m6, m7⟩ := M
  intro j hj
  by_cases b : j = l + 1
  · subst b
    rw [bk_up_s]
    have c := T.2.1 (l + 1) hj
    rw [m4, show AP ++ p :: BP = AP ++ [p] ++ BP by simp] at c
    refine bk_lq_rep c (fun z hz => ?_) (fun z hz => ?_) hp1 hp2 ⟨hq, trivial⟩
    · have := i3 z (Or.inl hz)
      exact ⟨hag _ this.1 this.2.1 this.2.2, by have := (bk_T_m T hj (x := z) (by rw [m4]; simp [hz])).2.1; omega⟩
    · have := i3 z (Or.inr hz)
      exact ⟨hag _ this.1 this.2.1 this.2.2, by have := (bk_T_m T hj (x := z) (by rw [m4]; simp [hz])).2.1; omega⟩
  · rw [bk_up_n _ _ b]
    by_cases a : j = l
    · subst a
      rw [bk_up_s]
      have c := T.2.1 j hj
      rw [m3, show A ++ c1 :: c2 :: B = A ++ [c1, c2] ++ B by simp] at c
      refine bk_lq_rep c (fun z hz => ?_) (fun z hz => ?_) hy1 hy2 hc
      · have := i2 z (Or.inl hz)
        exact ⟨hag _ this.1 this.2.1 this.2.2, by have := (bk_T_m T hj (x := z) (by rw [m3]; simp [hz])).2.1; omega⟩
      · have := i2 z (Or.inr hz)
        exact ⟨hag _ this.1 this.2.1 this.2.2, by have := (bk_T_m T hj (x := z) (by rw [m3]; simp [hz])).2.1; omega⟩
    · rw [bk_up_n _ _ a]
      refine bk_lq_same (T.2.1 j hj) (fun z hz => ?_)
      have := i4 j hj a b z hz
      exact ⟨hag _ this.1 this.2.1 this.2.2, by have := (bk_T_m T hj hz).2.1; omega⟩
/-- the levels behind a mending -/
theorem bk_m_up {zs ys : List bk_Nd} (j : Nat) : bk_up (bk_up L l zs) (l + 1) ys j = if j = l + 1 then ys else if j = l then zs else L j := rfl
theorem bk_Mp_fl (M : bk_Mp L h l A c1 c2 B AP p BP f1 f2) {zs ys : List bk_Nd} (hz : bk_fl zs = bk_fl (L l)) : bk_fl (bk_up (bk_up L l zs) (l + 1) ys 0) = bk_fl (L 0) := by
  rw [bk_m_up, if_neg (by omega)]
  by_cases a : 0 = l
  · subst a; rw [if_pos rfl]; exact hz
  · rw [if_neg a]
theorem bk_Mp_sl (M : bk_Mp L h l A c1 c2 B AP p BP f1 f2) {zs : List bk_Nd} {p' : bk_Nd} (hp1 : p'.1 = p.1) (hp2 : p'.2.1 = p.2.1) : ∀ j, l + 1 ≤ j → bk_sl (bk_up (bk_up L l zs) (l + 1) (AP ++ [p'] ++ BP) j) = bk_sl (L j) := by
  intro j hj
  rw [bk_m_up]
  by_cases a : j = l + 1
  · subst a; rw [if_pos rfl, M.2.2.2.1]; simp [bk_sl, hp1, hp2]
  · rw [if_neg a, if_neg (by omega)]
theorem bk_Mp_all (M : bk_Mp L h l A c1 c2 B AP p BP f1 f2) (hall : ∀ j, j ≤ h → ∀ z, z ∈ L j → z.2.2.1 = true) {y p' : bk_Nd} {ys : List bk_Nd} (hy : ∀ z, z ∈ y :: ys → z.2.2.1 = true) (hp : p'.2.2.1 = p.2.2.1) :
    ∀ j, j ≤ h → ∀ z, z ∈ bk_up (bk_up L l (A ++ (y :: ys) ++ B)) (l + 1) (AP ++ [p'] ++ BP) j → z.2.2.1 = true := by
  obtain ⟨m1, m2, m3, m4, m5, m6, m7⟩ := M
  intro j hj z hz
  rw [bk_m_up] at hz
  by_cases a : j = l + 1
  · subst a
    rw [if_pos rfl] at hz
    rcases List.mem_append.mp hz with hz | hz
    · rcases List.mem_append.mp hz with hz | hz
      · exact hall _ hj z (by rw [m4]; simp [hz])
      · rw [List.mem_singleton.mp hz, hp]; exact hall _ hj p (by rw [m4]; simp)
    · exact hall _ hj z (by rw [m4]; simp [hz])
  · rw [if_neg a] at hz
    by_cases b : j = l
    · subst b
      rw [if_pos rfl] at hz
      rcases List.mem_append.mp hz with hz | hz
      · rcases List.mem_append.mp hz with hz | hz
        · exact hall _ hj z (by rw [m3]; simp [hz])
        · exact hy z hz
      · exact hall _ hj z (by rw [m3]; simp [hz])
    · rw [if_neg b] at hz
      exact hall _ hj z hz
theorem bk_Mp_mv (M : bk_Mp L h l A c1 c2 B AP p BP f1 f2) {y p' : bk_Nd} {ys : List bk_Nd} (hy1 : y.1 = c1.1) (hy2 : y.2.1 = c1.2.1) (hp1 : p'.1 = p.1) (hp2 : p'.2.1 = p.2.1) :
    ∀ j, j ≤ h → ∀ x, x ∈ L j → x.1 ≠ c2.1 → ∃ j', j' ≤ h ∧ ∃ x', x' ∈ bk_up (bk_up L l (A ++ (y :: ys) ++ B)) (l + 1) (AP ++ [p'] ++ BP) j' ∧ x'.1 = x.1 ∧ x'.2.1 ≤ x.2.1 := by
  obtain ⟨m1, m2, m3, m4, m5, m6, m7⟩ := M
  intro j hj x hx hne
  refine ⟨j, hj, ?_⟩
  rw [bk_m_up]
  by_cases a : j = l + 1
  · subst a
    rw [if_pos rfl]
    rw [m4] at hx
    rcases List.mem_append.mp hx with hx | hx
    · exact ⟨x, by simp [hx], rfl, Int.le_refl _⟩
    · rcases List.mem_cons.mp hx with hx | hx
      · exact ⟨p', by simp, by rw [hx, hp1], by rw [hx, hp2]; exact Int.le_refl _⟩
      · exact ⟨x, by simp [hx], rfl, Int.le_refl _⟩
  · rw [if_neg a]
    by_cases b : j = l
    · subst b
      rw [if_pos rfl]
      rw [m3] at hx
      rcases List.mem_append.mp hx with hx | hx
      · exact ⟨x, by simp [hx], rfl, Int.le_refl _⟩
      · rcases List.mem_cons.mp hx with hx | hx
        · exact ⟨y, by simp, by rw [hx, hy1], by rw [hx, hy2]; exact Int.le_refl _⟩
        · rcases List.mem_cons.mp hx with hx | hx
          · exact absurd (by rw [hx]) hne
          · exact ⟨x, by simp [hx], rfl, Int.le_refl _⟩
    · rw [if_neg b]
      exact ⟨x, hx, rfl, Int.le_refl _⟩
end
end
section
/-! ===== 19: mend ===== -/
def bk_Mo (lst fan tc l pid : Nat) (L : Nat → List bk_Nd) (h root : Nat) (pl0 : Nat → Int32) (L' : Nat → List bk_Nd) (st : Int32) (ky vl ct lv lw hg rt sp pl : Nat → Int32) : Prop :=
  bk_W lst fan (l + 1) pid L' h root st ky vl ct lv lw hg rt sp ∧ bk_fl (L' 0) = bk_fl (L 0) ∧ (∀ j, l + 1 ≤ j → bk_sl (L' j) = bk_sl (L j)) ∧ (∀ j, j ≤ h → ∀ z, z ∈ L' j → z.2.2.1 = true) ∧
  ∀ g, bk_Pl tc pl0 g L h → bk_Pl tc pl g L' h
section
variable {lst fan ti tc : Nat} {L : Nat → List bk_Nd} {h root l : Nat} {A B AP BP : List bk_Nd} {c1 c2 p : bk_Nd} {f1 f2 : List (Int × Int32)} {f_threadCount f_fan f_capacity f_pace f_least f_spareTop f_root f_head f_records f_appliedTotal : Int32} {a_keys a_vals a_count a_level a_low a_high a_right a_spare a_path a_phaseOf a_kindOf a_firstOf a_secondOf a_leftOf a_outcomeOf a_resKey a_resValue a_countOf a_digestOf a_appliedAt a_latchesOf a_place a_unknown : Nat → Int32}
theorem bk_Mp_q (T : bk_T lst fan l ti L h root a_keys a_vals a_count a_level a_low a_high a_right) (M : bk_Mp L h l A c1 c2 B AP p BP f1 f2) :
    bk_Lq a_keys a_vals a_count a_level a_low a_high a_right l c1 (some c2) ∧ bk_Lq a_keys a_vals a_count a_level a_low a_high a_right l c2 (bk_hd B none) ∧ bk_Lq a_keys a_vals a_count a_level a_low a_high a_right (l + 1) p (bk_hd BP none) ∧
    c1.2.2.2.length ≤ 6 ∧ c2.2.2.2.length ≤ 6 ∧ p.2.2.2.length ≤ 6 := by
  obtain ⟨m1, m2, m3, m4, m5, m6, m7⟩ := M
  have m3' : L l = (A ++ [c1]) ++ c2 :: B := by rw [m3]; simp
  have t1 := bk_T_at T (l := l) (by omega) m3
  have t2 := bk_T_at T (l := l) (by omega) m3'
  have t3 := bk_T_at T m1 m4
  exact ⟨t1.2.1, t2.2.1, t3.2.1, t1.2.2, t2.2.2, t3.2.2⟩
theorem bk_Fr_m (F : bk_Fr f_spareTop a_spare L h) (M : bk_Mp L h l A c1 c2 B AP p BP f1 f2) {y1 y2 p' : bk_Nd} (h1 : y1.1 = c1.1) (h2 : y2.1 = c2.1) (hp : p'.1 = p.1) :
    bk_Fr f_spareTop a_spare (bk_up (bk_up L l (A ++ [y1, y2] ++ B)) (l + 1) (AP ++ [p'] ++ BP)) h := by
  obtain ⟨m1, m2, m3, m4, m5, m6, m7⟩ := M
  have F1 := bk_Fr_up (ys := A ++ [y1, y2] ++ B) F (l := l) (by omega) (by rw [m3]; simp) (fun z hz => by
    rw [m3]
    rcases List.mem_append.mp hz with hz | hz
    · rcases List.mem_append.mp hz with hz | hz
      · exact ⟨z, by simp [hz], rfl⟩
      · rcases List.mem_cons.mp hz with hz | hz
        · exact ⟨c1, by simp, by rw [hz, h1]⟩
        · exact ⟨c2, by simp, by rw [List.mem_singleton.mp hz, h2]⟩
    · exact ⟨z, by simp [hz], rfl⟩)
  refine bk_Fr_up F1 m1 (by rw [bk_up_n _ _ (by omega), m4]; simp) (fun z hz => ?_)
  rw [bk_up_n _ _ (by omega), m4]
  rcases List.mem_append.mp hz with hz | hz
  · rcases List.mem_append.mp hz with hz | hz
    · exact ⟨z, by simp [hz], rfl⟩
    · exact ⟨p, by simp, by rw [List.mem_singleton.mp hz, hp]⟩
  · exact ⟨z, by simp [hz], rfl⟩
theorem bx_m_b {E1 E2 : List (Int × Int32)} {kb : Int} {vb : Int32} {ky vl ct lw hg pl : Nat → Int32} {to : Nat} (W : bk_W lst fan l ti L h root f_spareTop a_keys a_vals a_count a_level a_low a_high a_right a_spare) (M : bk_Mp L h l A c1 c2 B AP p BP f1 f2)
    (hall : ∀ j, j ≤ h → ∀ z, z ∈ L j → z.2.2.1 = true) (hti : ti = c1.1 ∨ ti = c2.1) (hE : E1 ++ (kb, vb) :: E2 = c1.2.2.2 ++ c2.2.2.2) (h1 : lst ≤ E1.length) (h1' : E1.length ≤ fan) (h2 : lst ≤ E2.length + 1) (h2' : E2.length + 1 ≤ fan)
    (o1 : bk_Nr ky vl ct p.1 (f1 ++ (c1.2.1, nI c1.1) :: (kb, nI c2.1) :: f2)) (o2 : bk_Nr ky vl ct c1.1 E1) (o3 : bk_Nr ky vl ct c2.1 ((kb, vb) :: E2))
    (o4 : ∀ m, m ≠ p.1 → m ≠ c1.1 → m ≠ c2.1 → bk_S8 a_keys a_vals a_count ky vl ct m) (o5 : (lw c2.1).toInt = kb ∧ ∀ m, m ≠ c2.1 → lw m = a_low m) (o6 : hg c1.1 = lw c2.1 - 1 ∧ ∀ m, m ≠ c1.1 → hg m = a_high m)
    (o7 : ∀ q, q < tc → pl q = if a_place q = nI c2.1 then nI to else a_place q) (hto : to = c1.1 ∨ (to = c2.1 ∧ kb ≤ c2.2.1)) :
    ∃ L', bk_Mo lst fan tc l p.1 L h root a_place L' f_spareTop ky vl ct a_level lw hg a_right a_spare pl := by
  obtain ⟨T, F, hlst, hf3⟩ := W
  obtain ⟨i1, i2, i3, i4⟩ := bk_Mp_ids T M
  obtain ⟨q1, q2, q3, _, _, _⟩ := bk_Mp_q T M
  obtain ⟨r1, r2, r3, r4, r5, r6⟩ := bk_Mp_ch T.1 M
  have hP := bk_mend_b T.1 M hE h1 h1' h2 h2' (by omega) (fun z hz => by
    have := i2 z hz
    rcases hti with e | e
    · rw [e]; exact this.2.1
    · rw [e]; exact this.2.2) p.1
  have hK := bk_LK_m (ky' := ky) (vl' := vl) (ct' := ct) (lw' := lw) (hg' := hg) (rt' := a_right) (y := (c1.1, c1.2.1, true, E1)) (ys := [(c2.1, kb, true, (kb, vb) :: E2)]) (p' := (p.1, p.2.1, p.2.2.1, f1 ++ (c1.2.1, nI c1.1) :: (kb, nI c2.1) :: f2)) T M
    (fun m a b c => ⟨o4 m a b c, rfl, o5.2 m c, o6.2 m b, rfl⟩) rfl rfl
    ⟨⟨o2, by show (lw c1.1).toInt = c1.2.1; rw [o5.2 _ i1.2.2.2.2.2]; exact q1.2.1, q1.2.2.1, by
        show (hg c1.1).toInt = kb - 1
        rw [← hE] at r3
        have hne : E1 ≠ [] := fun z => by rw [z] at h1; simp at h1; omega
        have hkb := (bk_so_cut r3).2.2.1 hne
        have hlo := (a_low c1.1).le_toInt
        rw [q1.2.1] at hlo
        rw [o6.1, bx_sub1 (by rw [o5.1]; omega), o5.1], q1.2.2.2.2⟩,
      ⟨o3, o5.1, q2.2.2.1, by show (hg c2.1).toInt = _; rw [o6.2 _ (Ne.symm i1.2.2.2.2.2)]; exact q2.2.2.2.1, q2.2.2.2.2⟩, trivial⟩ rfl rfl
    ⟨o1, by show (lw p.1).toInt = p.2.1; rw [o5.2 _ i1.2.2.2.2.1]; exact q3.2.1, q3.2.2.1, by show (hg p.1).toInt = _; rw [o6.2 _ i1.2.2.2.1]; exact q3.2.2.2.1, q3.2.2.2.2⟩
  have hF := bk_Fr_m (y1 := (c1.1, c1.2.1, true, E1)) (y2 := (c2.1, kb, true, (kb, vb) :: E2)) (p' := (p.1, p.2.1, p.2.2.1, f1 ++ (c1.2.1, nI c1.1) :: (kb, nI c2.1) :: f2)) F M rfl rfl rfl
  have htb : bk_tb (bk_up (bk_up L l (A ++ [(c1.1, c1.2.1, true, E1), (c2.1, kb, true, (kb, vb) :: E2)] ++ B)) (l + 1) (AP ++ [(p.1, p.2.1, p.2.2.1, f1 ++ (c1.2.1, nI c1.1) :: (kb, nI c2.1) :: f2)] ++ BP)) (h + 1) ≤ 80 := by
    obtain ⟨s', _, hs', _⟩ := hF; omega
  refine ⟨_, ⟨⟨hP, hK, T.2.2.1, htb, T.2.2.2.2⟩, hF, hlst, hf3⟩, bk_Mp_fl M ?_, bk_Mp_sl M rfl rfl, bk_Mp_all M hall ?_ rfl, fun g => bk_Pl_red i1.2.1 (fun j hj x hx => (bk_T_m T hj hx).1) o7 (bk_Mp_mv M rfl rfl rfl rfl) ?_⟩
  · rw [M.2.2.1, bk_fl_app, bk_fl_app, bk_fl_app, bk_fl_cons, bk_fl_cons, bk_fl_cons, bk_fl_cons, bk_fl_nil, List.append_nil, ← List.append_assoc c1.2.2.2, ← hE]
    simp
  · intro z hz
    rcases List.mem_cons.mp hz with hz | hz
    · rw [hz]
    · rw [List.mem_singleton.mp hz]
  · intro j hj x hx e
    have hl : l ≤ h := by have := M.1; omega
    have hx2 := (bk_uq T hj hl hx (y := c2) (by rw [M.2.2.1]; simp) e).2
    refine ⟨l, hl, ?_⟩
    rw [bk_m_up, if_neg (by omega), if_pos rfl, hx2]
    rcases hto with hto | ⟨hto, hkb⟩
    · exact ⟨(c1.1, c1.2.1, true, E1), by simp, hto.symm, Int.le_of_lt r1.2.1⟩
    · exact ⟨(c2.1, kb, true, (kb, vb) :: E2), by simp, hto.symm, hkb⟩
theorem bx_m_bL (W : bk_W lst fan l ti L h root f_spareTop a_keys a_vals a_count a_level a_low a_high a_right a_spare) (M : bk_Mp L h l A c1 c2 B AP p BP f1 f2)
    (hall : ∀ j, j ≤ h → ∀ z, z ∈ L j → z.2.2.1 = true) (hti : ti = c2.1) (hc2 : c2.2.2.2.length < lst) (hc1 : lst < c1.2.2.2.length) :
    ∃ (L' : Nat → List bk_Nd) (ky vl ct lw hg : Nat → Int32), bk_Mo lst fan tc l p.1 L h root a_place L' f_spareTop ky vl ct a_level lw hg a_right a_spare a_place ∧
      ∀ post : SX → Prop, post (f_threadCount, f_fan, f_capacity, f_pace, f_least, f_spareTop, f_root, f_head, f_records, f_appliedTotal, ky, vl, ct, a_level, lw, hg, a_right, a_spare, a_path, a_phaseOf, a_kindOf, a_firstOf, a_secondOf, a_leftOf, a_outcomeOf, a_resKey, a_resValue, a_countOf, a_digestOf, a_appliedAt, a_latchesOf, a_place, a_unknown) → wpX_borrowFromLeft post (f_threadCount, f_fan, f_capacity, f_pace, f_least, f_spareTop, f_root, f_head, f_records, f_appliedTotal, a_keys, a_vals, a_count, a_level, a_low, a_high, a_right, a_spare, a_path, a_phaseOf, a_kindOf, a_firstOf, a_secondOf, a_leftOf, a_outcomeOf, a_resKey, a_resValue, a_countOf, a_digestOf, a_appliedAt, a_latchesOf, a_place, a_unknown) (nI p.1) (nI (f1.length + 1)) := by
  have T := W.1
  have hf6 := T.2.2.2.2
  have hlst := W.2.2.1
  have hf3 := W.2.2.2
  obtain ⟨i1, _⟩ := bk_Mp_ids T M
  obtain ⟨q1, q2, q3, g1, g2, g3⟩ := bk_Mp_q T M
  obtain ⟨r1, r2, r3, r4, r5, r6⟩ := bk_Mp_ch T.1 M
  have hl : l ≤ h := by have := M.1; omega
  have hs1 := ((T.1.1 l hl).2.2 c1 (by rw [M.2.2.1]; simp))
  have hs2 := ((T.1.1 l hl).2.2 c2 (by rw [M.2.2.1]; simp))
  rw [bk_mn_in (by have := M.1; omega)] at hs1 hs2
  have hds := bk_ds_le l ti l c2.1
  rcases bk_snoc c1.2.2.2 with h0 | ⟨E1, ⟨kb, vb⟩, hes⟩
  · rw [h0] at hc1; simp at hc1
  · have hlen : c1.2.2.2.length = E1.length + 1 := by rw [hes]; simp
    have hkb : kb < c2.2.1 := (r1.2.2.1.2 (kb, vb) (by rw [hes]; simp)).2
    have hE : E1 ++ (kb, vb) :: c2.2.2.2 = c1.2.2.2 ++ c2.2.2.2 := by rw [hes]; simp
    have Np := q3.1
    rw [M.2.2.2.2.1] at Np
    have Na := q1.1
    rw [hes] at Na
    obtain ⟨ky, vl, ct, lw, hg, o1, o2, o3, o4, o5, o6, o7⟩ := bx_borL (f_threadCount := f_threadCount) (f_fan := f_fan) (f_capacity := f_capacity) (f_pace := f_pace) (f_least := f_least) (f_spareTop := f_spareTop) (f_root := f_root) (f_head := f_head) (f_records := f_records) (f_appliedTotal := f_appliedTotal) (a_keys := a_keys) (a_vals := a_vals) (a_count := a_count) (a_level := a_level) (a_low := a_low) (a_high := a_high) (a_right := a_right) (a_spare := a_spare) (a_path := a_path) (a_phaseOf := a_phaseOf) (a_kindOf := a_kindOf) (a_firstOf := a_firstOf) (a_secondOf := a_secondOf) (a_leftOf := a_leftOf) (a_outcomeOf := a_outcomeOf) (a_resKey := a_resKey) (a_resValue := a_resValue) (a_countOf := a_countOf) (a_digestOf := a_digestOf) (a_appliedAt := a_appliedAt) (a_latchesOf := a_latchesOf) (a_place := a_place) (a_unknown := a_unknown) i1.2.2.1 i1.1 i1.2.1 i1.2.2.2.1 i1.2.2.2.2.1 i1.2.2.2.2.2 Np (by rw [← M.2.2.2.2.1]; omega) Na (by omega) q2.1 (by omega) (fun q hq => by
      have := (r2.2.2.1.2 q hq).1; omega)
    obtain ⟨L', hM⟩ := bx_m_b (tc := tc) (pl := a_place) (to := c2.1) (a_place := a_place) W M hall (Or.inr hti) hE (by omega) (by omega) (by omega) (by omega) o1 o2 o3 o4 o5 o6 (fun q hq => by
      by_cases e : a_place q = nI c2.1
      · rw [if_pos e, e]
      · rw [if_neg e]) (Or.inr ⟨rfl, by omega⟩)
    exact ⟨L', ky, vl, ct, lw, hg, hM, o7⟩
theorem bx_m_bR (W : bk_W lst fan l ti L h root f_spareTop a_keys a_vals a_count a_level a_low a_high a_right a_spare) (M : bk_Mp L h l A c1 c2 B AP p BP f1 f2) (htc : f_threadCount = nI tc) (h6 : tc ≤ 6)
    (hall : ∀ j, j ≤ h → ∀ z, z ∈ L j → z.2.2.1 = true) (hti : ti = c1.1) (hc1 : c1.2.2.2.length < lst) (hc2 : lst < c2.2.2.2.length) :
    ∃ (L' : Nat → List bk_Nd) (ky vl ct lw hg pl : Nat → Int32), bk_Mo lst fan tc l p.1 L h root a_place L' f_spareTop ky vl ct a_level lw hg a_right a_spare pl ∧
      ∀ post : SX → Prop, post (f_threadCount, f_fan, f_capacity, f_pace, f_least, f_spareTop, f_root, f_head, f_records, f_appliedTotal, ky, vl, ct, a_level, lw, hg, a_right, a_spare, a_path, a_phaseOf, a_kindOf, a_firstOf, a_secondOf, a_leftOf, a_outcomeOf, a_resKey, a_resValue, a_countOf, a_digestOf, a_appliedAt, a_latchesOf, pl, a_unknown) → wpX_borrowFromRight post (f_threadCount, f_fan, f_capacity, f_pace, f_least, f_spareTop, f_root, f_head, f_records, f_appliedTotal, a_keys, a_vals, a_count, a_level, a_low, a_high, a_right, a_spare, a_path, a_phaseOf, a_kindOf, a_firstOf, a_secondOf, a_leftOf, a_outcomeOf, a_resKey, a_resValue, a_countOf, a_digestOf, a_appliedAt, a_latchesOf, a_place, a_unknown) (nI p.1) (nI (f1.length + 1)) := by
  have T := W.1
  have hf6 := T.2.2.2.2
  have hlst := W.2.2.1
  have hf3 := W.2.2.2
  obtain ⟨i1, _⟩ := bk_Mp_ids T M
  obtain ⟨q1, q2, q3, g1, g2, g3⟩ := bk_Mp_q T M
  obtain ⟨r1, r2, r3, r4, r5, r6⟩ := bk_Mp_ch T.1 M
  have hl : l ≤ h := by have := M.1; omega
  have hs1 := ((T.1.1 l hl).2.2 c1 (by rw [M.2.2.1]; simp))
  have hs2 := ((T.1.1 l hl).2.2 c2 (by rw [M.2.2.1]; simp))
  rw [bk_mn_in (by have := M.1; omega)] at hs1 hs2
  have hds := bk_ds_le l ti l c1.1
  cases hes : c2.2.2.2 with
  | nil => rw [hes] at hc2; simp at hc2
  | cons a es =>
    obtain ⟨ka, va⟩ := a
    cases es with
    | nil => rw [hes] at hc2; simp at hc2; omega
    | cons b E2 =>
      obtain ⟨kb, vb⟩ := b
      have hlen : c2.2.2.2.length = E2.length + 2 := by rw [hes]; simp
      have hE : (c1.2.2.2 ++ [(ka, va)]) ++ (kb, vb) :: E2 = c1.2.2.2 ++ c2.2.2.2 := by rw [hes]; simp
      have Np := q3.1
      rw [M.2.2.2.2.1] at Np
      have Nb := q2.1
      rw [hes] at Nb
      have hka := (r2.2.2.1.2 (ka, va) (by rw [hes]; simp)).1
      obtain ⟨ky, vl, ct, lw, hg, pl, o1, o2, o3, o4, o5, o6, o7, o8⟩ := bx_borR (f_threadCount := f_threadCount) (f_fan := f_fan) (f_capacity := f_capacity) (f_pace := f_pace) (f_least := f_least) (f_spareTop := f_spareTop) (f_root := f_root) (f_head := f_head) (f_records := f_records) (f_appliedTotal := f_appliedTotal) (a_keys := a_keys) (a_vals := a_vals) (a_count := a_count) (a_level := a_level) (a_low := a_low) (a_high := a_high) (a_right := a_right) (a_spare := a_spare) (a_path := a_path) (a_phaseOf := a_phaseOf) (a_kindOf := a_kindOf) (a_firstOf := a_firstOf) (a_secondOf := a_secondOf) (a_leftOf := a_leftOf) (a_outcomeOf := a_outcomeOf) (a_resKey := a_resKey) (a_resValue := a_resValue) (a_countOf := a_countOf) (a_digestOf := a_digestOf) (a_appliedAt := a_appliedAt) (a_latchesOf := a_latchesOf) (a_place := a_place) (a_unknown := a_unknown) htc h6 i1.2.2.1 i1.1 i1.2.1 i1.2.2.2.1 i1.2.2.2.2.1 i1.2.2.2.2.2 Np (by rw [← M.2.2.2.2.1]; omega) q1.1 (by omega) Nb (by omega) (fun q hq => by
        have h3 : q.1 < c2.2.1 := (r1.2.2.1.2 q hq).2
        have h4 : c2.2.1 ≤ ka := hka
        omega)
      obtain ⟨L', hM⟩ := bx_m_b (tc := tc) (pl := pl) (to := c1.1) (a_place := a_place) W M hall (Or.inl hti) hE (by simp; omega) (by simp; omega) (by omega) (by omega) o1 o2 o3 o4 o5 o6 o7 (Or.inl rfl)
      exact ⟨L', ky, vl, ct, lw, hg, pl, hM, o8⟩
theorem bx_m_j (W : bk_W lst fan l ti L h root f_spareTop a_keys a_vals a_count a_level a_low a_high a_right a_spare) (M : bk_Mp L h l A c1 c2 B AP p BP f1 f2) (htc : f_threadCount = nI tc) (h6 : tc ≤ 6)
    (hall : ∀ j, j ≤ h → ∀ z, z ∈ L j → z.2.2.1 = true) (hti : ti = c1.1 ∨ ti = c2.1) (hc : c1.2.2.2.length + c2.2.2.2.length < 2 * lst) :
    ∃ (L' : Nat → List bk_Nd) (st : Int32) (ky vl ct hg rt sp pl : Nat → Int32), bk_Mo lst fan tc l p.1 L h root a_place L' st ky vl ct a_level a_low hg rt sp pl ∧
      ∀ post : SX → Prop, post (f_threadCount, f_fan, f_capacity, f_pace, f_least, st, f_root, f_head, f_records, f_appliedTotal, ky, vl, ct, a_level, a_low, hg, rt, sp, a_path, a_phaseOf, a_kindOf, a_firstOf, a_secondOf, a_leftOf, a_outcomeOf, a_resKey, a_resValue, a_countOf, a_digestOf, a_appliedAt, a_latchesOf, pl, a_unknown) → wpX_join post (f_threadCount, f_fan, f_capacity, f_pace, f_least, f_spareTop, f_root, f_head, f_records, f_appliedTotal, a_keys, a_vals, a_count, a_level, a_low, a_high, a_right, a_spare, a_path, a_phaseOf, a_kindOf, a_firstOf, a_secondOf, a_leftOf, a_outcomeOf, a_resKey, a_resValue, a_countOf, a_digestOf, a_appliedAt, a_latchesOf, a_place, a_unknown) (nI p.1) (nI (f1.length + 1)) := by
  have T := W.1
  have hf6 := T.2.2.2.2
  have hlst := W.2.2.1
  have hf3 := W.2.2.2
  have F := W.2.1
  obtain ⟨i1, i2, i3, i4⟩ := bk_Mp_ids T M
  obtain ⟨q1, q2, q3, g1, g2, g3⟩ := bk_Mp_q T M
  obtain ⟨r1, r2, r3, r4, r5, r6⟩ := bk_Mp_ch T.1 M
  have hl : l ≤ h := by have := M.1; omega
  have hs1 := ((T.1.1 l hl).2.2 c1 (by rw [M.2.2.1]; simp))
  have hs2 := ((T.1.1 l hl).2.2 c2 (by rw [M.2.2.1]; simp))
  rw [bk_mn_in (by have := M.1; omega)] at hs1 hs2
  have hds1 := bk_ds_le l ti l c1.1
  have hds2 := bk_ds_le l ti l c2.1
  have htb0 : 1 ≤ bk_tb L (h + 1) := by
    have h1 := bk_tb_le L (m := 0 + 1) (n := h + 1) (by omega)
    have h2 := bk_ne0 T.1 (l := 0) (by omega)
    have h3 : bk_tb L (0 + 1) = 0 + (L 0).length := rfl
    omega
  obtain ⟨s, hst, hsum, hsp, hdis⟩ := F
  have Np := q3.1
  rw [M.2.2.2.2.1] at Np
  obtain ⟨ky, vl, ct, hg, rt, pl, o1, o2, o3, o4, o5, o6, o7⟩ := bx_joinW (f_threadCount := f_threadCount) (f_fan := f_fan) (f_capacity := f_capacity) (f_pace := f_pace) (f_least := f_least) (f_spareTop := f_spareTop) (f_root := f_root) (f_head := f_head) (f_records := f_records) (f_appliedTotal := f_appliedTotal) (a_keys := a_keys) (a_vals := a_vals) (a_count := a_count) (a_level := a_level) (a_low := a_low) (a_high := a_high) (a_right := a_right) (a_spare := a_spare) (a_path := a_path) (a_phaseOf := a_phaseOf) (a_kindOf := a_kindOf) (a_firstOf := a_firstOf) (a_secondOf := a_secondOf) (a_leftOf := a_leftOf) (a_outcomeOf := a_outcomeOf) (a_resKey := a_resKey) (a_resValue := a_resValue) (a_countOf := a_countOf) (a_digestOf := a_digestOf) (a_appliedAt := a_appliedAt) (a_latchesOf := a_latchesOf) (a_place := a_place) (a_unknown := a_unknown) htc h6 i1.2.2.1 i1.1 i1.2.1 i1.2.2.2.1 i1.2.2.2.2.1 i1.2.2.2.2.2 Np (by rw [← M.2.2.2.2.1]; omega) q1.1 q2.1 (by omega) hst (by omega)
  have hti' : ∀ z, z ∈ A ∨ z ∈ B → z.1 ≠ ti := fun z hz => by
    have := i2 z hz
    rcases hti with e | e
    · rw [e]; exact this.2.1
    · rw [e]; exact this.2.2
  have hP := bk_mend_j T.1 M (by omega) (by omega) hti'
  have hK := bk_LK_m (ky' := ky) (vl' := vl) (ct' := ct) (lw' := a_low) (hg' := hg) (rt' := rt) (y := (c1.1, c1.2.1, true, c1.2.2.2 ++ c2.2.2.2)) (ys := []) (p' := (p.1, p.2.1, p.2.2.1, f1 ++ (c1.2.1, nI c1.1) :: f2)) T M
    (fun m a b c => ⟨o3 m a b c, rfl, rfl, o4.2 m b, o5.2 m b c⟩) rfl rfl
    ⟨⟨o2, q1.2.1, q1.2.2.1, by show (hg c1.1).toInt = _; rw [o4.1]; exact q2.2.2.2.1, by show rt c1.1 = _; rw [o5.1]; exact q2.2.2.2.2⟩, trivial⟩ rfl rfl
    ⟨o1, q3.2.1, q3.2.2.1, by show (hg p.1).toInt = _; rw [o4.2 _ i1.2.2.2.1]; exact q3.2.2.2.1, by show rt p.1 = _; rw [o5.2 _ i1.2.2.2.1 i1.2.2.2.2.1]; exact q3.2.2.2.2⟩
  obtain ⟨m1, m2, m3, m4, m5, m6, m7⟩ := M
  have M : bk_Mp L h l A c1 c2 B AP p BP f1 f2 := ⟨m1, m2, m3, m4, m5, m6, m7⟩
  have htb : bk_tb (bk_up (bk_up L l (A ++ [(c1.1, c1.2.1, true, c1.2.2.2 ++ c2.2.2.2)] ++ B)) (l + 1) (AP ++ [(p.1, p.2.1, p.2.2.1, f1 ++ (c1.2.1, nI c1.1) :: f2)] ++ BP)) (h + 1) + 1 = bk_tb L (h + 1) := by
    have t1 := (bk_tb_up L l (A ++ [(c1.1, c1.2.1, true, c1.2.2.2 ++ c2.2.2.2)] ++ B) (h + 1)).1 (by omega)
    have t2 := (bk_tb_up (bk_up L l (A ++ [(c1.1, c1.2.1, true, c1.2.2.2 ++ c2.2.2.2)] ++ B)) (l + 1) (AP ++ [(p.1, p.2.1, p.2.2.1, f1 ++ (c1.2.1, nI c1.1) :: f2)] ++ BP) (h + 1)).1 (by omega)
    rw [bk_up_n _ _ (by omega), m4] at t2
    rw [m3] at t1
    simp only [List.length_append, List.length_cons, List.length_nil] at t1 t2
    omega
  have hmem : ∀ j, j ≤ h → ∀ z, z ∈ bk_up (bk_up L l (A ++ [(c1.1, c1.2.1, true, c1.2.2.2 ++ c2.2.2.2)] ++ B)) (l + 1) (AP ++ [(p.1, p.2.1, p.2.2.1, f1 ++ (c1.2.1, nI c1.1) :: f2)] ++ BP) j → z.1 ≠ c2.1 ∧ ∃ w, w ∈ L j ∧ w.1 = z.1 := by
    intro j hj z hz
    rw [bk_m_up] at hz
    by_cases a : j = l + 1
    · subst a
      rw [if_pos rfl] at hz
      rw [m4]
      rcases List.mem_append.mp hz with hz | hz
      · rcases List.mem_append.mp hz with hz | hz
        · exact ⟨(i3 z (Or.inl hz)).2.2, z, by simp [hz], rfl⟩
        · rw [List.mem_singleton.mp hz]; exact ⟨i1.2.2.2.2.1, p, by simp, rfl⟩
      · exact ⟨(i3 z (Or.inr hz)).2.2, z, by simp [hz], rfl⟩
    · rw [if_neg a] at hz
      by_cases b : j = l
      · subst b
        rw [if_pos rfl] at hz
        rw [m3]
        rcases List.mem_append.mp hz with hz | hz
        · rcases List.mem_append.mp hz with hz | hz
          · exact ⟨(i2 z (Or.inl hz)).2.2, z, by simp [hz], rfl⟩
          · rw [List.mem_singleton.mp hz]; exact ⟨i1.2.2.2.2.2, c1, by simp, rfl⟩
        · exact ⟨(i2 z (Or.inr hz)).2.2, z, by simp [hz], rfl⟩
      · rw [if_neg b] at hz
        exact ⟨(i4 j hj b a z hz).2.2, z, hz, rfl⟩
  have hF : bk_Fr (nI (s + 1)) (upd a_spare s (nI c2.1)) (bk_up (bk_up L l (A ++ [(c1.1, c1.2.1, true, c1.2.2.2 ++ c2.2.2.2)] ++ B)) (l + 1) (AP ++ [(p.1, p.2.1, p.2.2.1, f1 ++ (c1.2.1, nI c1.1) :: f2)] ++ BP)) h := by
    have hc2m : c2 ∈ L l := by rw [m3]; simp
    have hfree : ∀ i, i < s → a_spare i ≠ nI c2.1 := by
      intro i hi hc
      obtain ⟨n, n1, n2, n3⟩ := hsp i hi
      exact n3 l hl c2 hc2m (bx_inj (by have := i1.2.1; omega) (by omega) (hc.symm.trans n2))
    refine ⟨s + 1, rfl, by omega, fun i hi => ?_, fun i j hi hj he => ?_⟩
    · by_cases e : i = s
      · rw [e, pk_us]
        exact ⟨c2.1, i1.2.1, rfl, fun j hj z hz => (hmem j hj z hz).1⟩
      · rw [pk_un e]
        obtain ⟨n, n1, n2, n3⟩ := hsp i (by omega)
        refine ⟨n, n1, n2, fun j hj z hz => ?_⟩
        obtain ⟨_, w, w1, w2⟩ := hmem j hj z hz
        rw [← w2]
        exact n3 j hj w w1
    · by_cases e : i = s
      · by_cases e' : j = s
        · rw [e, e']
        · rw [e, pk_us, pk_un e'] at he
          exact absurd he.symm (hfree j (by omega))
      · by_cases e' : j = s
        · rw [e', pk_us, pk_un e] at he
          exact absurd he (hfree i (by omega))
        · rw [pk_un e, pk_un e'] at he
          exact hdis i j (by omega) (by omega) he
  refine ⟨_, nI (s + 1), ky, vl, ct, hg, rt, upd a_spare s (nI c2.1), pl, ⟨⟨⟨hP, hK, T.2.2.1, by omega, T.2.2.2.2⟩, hF, hlst, hf3⟩, bk_Mp_fl M ?_, bk_Mp_sl M rfl rfl, bk_Mp_all M hall ?_ rfl, fun g => bk_Pl_red i1.2.1 (fun j hj x hx => (bk_T_m T hj hx).1) o6 (bk_Mp_mv M rfl rfl rfl rfl) ?_⟩, o7⟩
  · rw [m3, bk_fl_app, bk_fl_app, bk_fl_app, bk_fl_cons, bk_fl_cons, bk_fl_cons, bk_fl_nil, List.append_nil]
    simp
  · intro z hz
    rw [List.mem_singleton.mp hz]
  · intro j hj x hx e
    have hx2 := (bk_uq T hj hl hx (y := c2) (by rw [m3]; simp) e).2
    refine ⟨l, hl, ?_⟩
    rw [bk_m_up, if_neg (by omega), if_pos rfl, hx2]
    exact ⟨(c1.1, c1.2.1, true, c1.2.2.2 ++ c2.2.2.2), by simp, rfl, Int.le_of_lt r1.2.1⟩
end
end
section
/-! ===== 20: indexOfChild, mend, trace ===== -/
theorem bk_first {es : List (Int × Int32)} {x : Int32} (h : ∃ q, q ∈ es ∧ q.2 = x) : ∃ e1 q e2, es = e1 ++ q :: e2 ∧ q.2 = x ∧ ∀ p, p ∈ e1 → p.2 ≠ x := by
  induction es with
  | nil => obtain ⟨q, hq, _⟩ := h; cases hq
  | cons a es ih =>
    by_cases e : a.2 = x
    · exact ⟨[], a, es, rfl, e, fun p hp => by cases hp⟩
    · obtain ⟨q, hq, hx⟩ := h
      rcases List.mem_cons.mp hq with hq | hq
      · rw [hq] at hx; exact absurd hx e
      · obtain ⟨e1, q', e2, h1, h2, h3⟩ := ih ⟨q, hq, hx⟩
        refine ⟨a :: e1, q', e2, by rw [h1]; rfl, h2, fun p hp => ?_⟩
        rcases List.mem_cons.mp hp with hp | hp
        · rw [hp]; exact e
        · exact h3 p hp
theorem bk_Cv_uq {l : Nat} {xs : List bk_Nd} {k : Int} {n m : Nat} (c : bk_ch (bk_Rp l) none xs) (h1 : bk_Cv xs k n) (h2 : bk_Cv xs k m) : n = m := by
  obtain ⟨A, z, B, e, a1, a2, a3⟩ := h1
  obtain ⟨A', z', B', e', b1, b2, b3⟩ := h2
  subst e
  obtain ⟨_, e2, _⟩ := bk_cov c e' a1 a2 b1 b2
  rw [← a3, ← b3, e2]
section
variable {f_threadCount f_fan f_capacity f_pace f_least f_spareTop f_root f_head f_records f_appliedTotal : Int32} {a_keys a_vals a_count a_level a_low a_high a_right a_spare a_path a_phaseOf a_kindOf a_firstOf a_secondOf a_leftOf a_outcomeOf a_resKey a_resValue a_countOf a_digestOf a_appliedAt a_latchesOf a_place a_unknown : Nat → Int32}
theorem bx_ioc_7 {n : Nat} {es e1 e2 : List (Int × Int32)} {q : Int × Int32} {x : Int32} (hn : n < 80) (N : bk_Nr a_keys a_vals a_count n es) (he : es = e1 ++ q :: e2) (h8 : es.length ≤ 8)
    (h1 : ∀ p, p ∈ e1 → p.2 ≠ x) (hq : q.2 = x) {post : Int32 → Prop} (hp : post (nI e1.length)) :
    ∀ d j, j + d = e1.length → ∀ m, d < m → wX_indexOfChild_7 post (nI n) x (nI (8 * n)) f_threadCount f_fan f_capacity f_pace f_least f_spareTop f_root f_head f_records f_appliedTotal a_keys a_vals a_count a_level a_low a_high a_right a_spare a_path a_phaseOf a_kindOf a_firstOf a_secondOf a_leftOf a_outcomeOf a_resKey a_resValue a_countOf a_digestOf a_appliedAt a_latchesOf a_place a_unknown m (nI j) := by
  have hl : es.length = e1.length + (e2.length + 1) := by rw [he, List.length_append, List.length_cons]
  intro d
  induction d with
  | zero =>
    intro j hj m hm
    obtain ⟨m, rfl⟩ : ∃ m', m = m' + 1 := ⟨m - 1, by omega⟩
    have hj : j = e1.length := by omega
    subst hj
    refine And.intro (bx_in hn) ?_
    rw [bx_cl (n := n) (by omega), N.1]
    refine br_f (nI_ge (by omega) (by omega)) ⟨(bx_ix hn (by omega)).1, br_t ?_ hp⟩
    rw [(bx_ix hn (by omega)).2, (N.2 _ _ (bx_get2 he)).2]
    exact hq
  | succ d ih =>
    intro j hj m hm
    obtain ⟨m, rfl⟩ : ∃ m', m = m' + 1 := ⟨m - 1, by omega⟩
    refine And.intro (bx_in hn) ?_
    rw [bx_cl (n := n) (by omega), N.1]
    refine br_f (nI_ge (by omega) (by omega)) ⟨(bx_ix hn (by omega)).1, br_f ?_ (nm_r (nI_1 j) (ih (j + 1) (by omega) m (by omega)))⟩
    obtain ⟨p, hp1, hp2⟩ := bx_get he (j := j) (by omega)
    rw [(bx_ix hn (by omega)).2, (N.2 _ _ hp2).2]
    exact h1 p hp1
theorem bx_ioc {n : Nat} {es e1 e2 : List (Int × Int32)} {q : Int × Int32} {x : Int32} (hn : n < 80) (N : bk_Nr a_keys a_vals a_count n es) (he : es = e1 ++ q :: e2) (h8 : es.length ≤ 8)
    (h1 : ∀ p, p ∈ e1 → p.2 ≠ x) (hq : q.2 = x) {post : Int32 → Prop} (hp : post (nI e1.length)) : wpX_indexOfChild post (f_threadCount, f_fan, f_capacity, f_pace, f_least, f_spareTop, f_root, f_head, f_records, f_appliedTotal, a_keys, a_vals, a_count, a_level, a_low, a_high, a_right, a_spare, a_path, a_phaseOf, a_kindOf, a_firstOf, a_secondOf, a_leftOf, a_outcomeOf, a_resKey, a_resValue, a_countOf, a_digestOf, a_appliedAt, a_latchesOf, a_place, a_unknown) (nI n) x := by
  unfold wpX_indexOfChild
  refine nm_r (bx_sh hn) ⟨e1.length + 1, ?_⟩
  exact bx_ioc_7 hn N he h8 h1 hq hp e1.length 0 (by omega) _ (by omega)
end
section
variable {lst fan ti tc : Nat} {L : Nat → List bk_Nd} {h root l : Nat} {AP BP : List bk_Nd} {x p : bk_Nd} {f_threadCount f_fan f_capacity f_pace f_least f_spareTop f_root f_head f_records f_appliedTotal : Int32} {a_keys a_vals a_count a_level a_low a_high a_right a_spare a_path a_phaseOf a_kindOf a_firstOf a_secondOf a_leftOf a_outcomeOf a_resKey a_resValue a_countOf a_digestOf a_appliedAt a_latchesOf a_place a_unknown : Nat → Int32}
theorem bx_mend (W : bk_W lst fan l ti L h root f_spareTop a_keys a_vals a_count a_level a_low a_high a_right a_spare) (htc : f_threadCount = nI tc) (h6 : tc ≤ 6) (hle : f_least = nI lst)
    (hall : ∀ j, j ≤ h → ∀ z, z ∈ L j → z.2.2.1 = true) (hl : l + 1 ≤ h) (hx : x ∈ L l) (hxi : x.1 = ti) (hxl : x.2.2.2.length < lst) (ep : L (l + 1) = AP ++ p :: BP) (hq : ∃ q, q ∈ p.2.2.2 ∧ q.2 = nI x.1) :
    ∃ (L' : Nat → List bk_Nd) (st : Int32) (ky vl ct lw hg rt sp pl : Nat → Int32), bk_Mo lst fan tc l p.1 L h root a_place L' st ky vl ct a_level lw hg rt sp pl ∧
      ∀ post : SX → Prop, post (f_threadCount, f_fan, f_capacity, f_pace, f_least, st, f_root, f_head, f_records, f_appliedTotal, ky, vl, ct, a_level, lw, hg, rt, sp, a_path, a_phaseOf, a_kindOf, a_firstOf, a_secondOf, a_leftOf, a_outcomeOf, a_resKey, a_resValue, a_countOf, a_digestOf, a_appliedAt, a_latchesOf, pl, a_unknown) → wpX_mend post (f_threadCount, f_fan, f_capacity, f_pace, f_least, f_spareTop, f_root, f_head, f_records, f_appliedTotal, a_keys, a_vals, a_count, a_level, a_low, a_high, a_right, a_spare, a_path, a_phaseOf, a_kindOf, a_firstOf, a_secondOf, a_leftOf, a_outcomeOf, a_resKey, a_resValue, a_countOf, a_digestOf, a_appliedAt, a_latchesOf, a_place, a_unknown) (nI p.1) (nI x.1) := by
  have T := W.1
  have hlst := W.2.2.1
  have hf3 := W.2.2.2
  have hf6 := T.2.2.2.2
  obtain ⟨t1, t2, t3⟩ := bk_T_at T hl ep
  have hp80 := t1.1
  have hx80 := (bk_T_m T (l := l) (by omega) hx).1
  have hp2 : 2 ≤ p.2.2.2.length := by
    have h1 := ((T.1.1 (l + 1) hl).2.2 p (by rw [ep]; simp)).2
    rw [bk_ds_n (by omega)] at h1
    have := bk_mn_ge (lst := lst) (h := h) (l := l + 1) (len := (L (l + 1)).length) (by omega) (by omega)
    omega
  have hal := hall l (by omega)
  have hfl := T.1.2.1 l hl
  have hbase : ∀ post : SX → Prop, ∀ e1 q e2, p.2.2.2 = e1 ++ q :: e2 → q.2 = nI x.1 → (∀ p', p' ∈ e1 → p'.2 ≠ nI x.1) →
      ((nI e1.length ≤ 0 → (vp_in (nI (8 * p.1) + 1) 640 ∧ (∀ x5 : Int32, x5 = a_vals (nI (8 * p.1) + 1).toNatClampNeg → (vp_in x5 80 ∧ ((a_count x5.toNatClampNeg ≤ f_least → wpX_join post (f_threadCount, f_fan, f_capacity, f_pace, f_least, f_spareTop, f_root, f_head, f_records, f_appliedTotal, a_keys, a_vals, a_count, a_level, a_low, a_high, a_right, a_spare, a_path, a_phaseOf, a_kindOf, a_firstOf, a_secondOf, a_leftOf, a_outcomeOf, a_resKey, a_resValue, a_countOf, a_digestOf, a_appliedAt, a_latchesOf, a_place, a_unknown) (nI p.1) 1) ∧ (¬ a_count x5.toNatClampNeg ≤ f_least → wpX_borrowFromRight post (f_threadCount, f_fan, f_capacity, f_pace, f_least, f_spareTop, f_root, f_head, f_records, f_appliedTotal, a_keys, a_vals, a_count, a_level, a_low, a_high, a_right, a_spare, a_path, a_phaseOf, a_kindOf, a_firstOf, a_secondOf, a_leftOf, a_outcomeOf, a_resKey, a_resValue, a_countOf, a_digestOf, a_appliedAt, a_latchesOf, a_place, a_unknown) (nI p.1) 1)))))) ∧
      (¬ nI e1.length ≤ 0 → (vp_in ((nI (8 * p.1) + nI e1.length) - 1) 640 ∧ (∀ x5 : Int32, x5 = a_vals ((nI (8 * p.1) + nI e1.length) - 1).toNatClampNeg → (vp_in x5 80 ∧ ((a_count x5.toNatClampNeg ≤ f_least → wpX_join post (f_threadCount, f_fan, f_capacity, f_pace, f_least, f_spareTop, f_root, f_head, f_records, f_appliedTotal, a_keys, a_vals, a_count, a_level, a_low, a_high, a_right, a_spare, a_path, a_phaseOf, a_kindOf, a_firstOf, a_secondOf, a_leftOf, a_outcomeOf, a_resKey, a_resValue, a_countOf, a_digestOf, a_appliedAt, a_latchesOf, a_place, a_unknown) (nI p.1) (nI e1.length)) ∧ (¬ a_count x5.toNatClampNeg ≤ f_least → wpX_borrowFromLeft post (f_threadCount, f_fan, f_capacity, f_pace, f_least, f_spareTop, f_root, f_head, f_records, f_appliedTotal, a_keys, a_vals, a_count, a_level, a_low, a_high, a_right, a_spare, a_path, a_phaseOf, a_kindOf, a_firstOf, a_secondOf, a_leftOf, a_outcomeOf, a_resKey, a_resValue, a_countOf, a_digestOf, a_appliedAt, a_latchesOf, a_place, a_unknown) (nI p.1) (nI e1.length)))))))) →
      wpX_mend post (f_threadCount, f_fan, f_capacity, f_pace, f_least, f_spareTop, f_root, f_head, f_records, f_appliedTotal, a_keys, a_vals, a_count, a_level, a_low, a_high, a_right, a_spare, a_path, a_phaseOf, a_kindOf, a_firstOf, a_secondOf, a_leftOf, a_outcomeOf, a_resKey, a_resValue, a_countOf, a_digestOf, a_appliedAt, a_latchesOf, a_place, a_unknown) (nI p.1) (nI x.1) := by
    intro post e1 q e2 he hq hne hw
    have hlen : p.2.2.2.length = e1.length + (e2.length + 1) := by rw [he, List.length_append, List.length_cons]
    unfold wpX_mend
    refine And.intro (bx_in hp80) ?_
    rw [bx_cl (n := p.1) (by omega), t2.1.1]
    refine br_t (nI_le (a := 2) hp2 (by omega)) (nm_r (bx_sh hp80) (bx_ioc hp80 t2.1 he (by omega) hne hq (br_t (nI_pos' (by omega)) hw)))
  obtain ⟨e1, q, e2, he, hq2, hne⟩ := bk_first hq
  rcases bk_snoc e1 with rfl | ⟨e0, q0, rfl⟩
  · cases e2 with
    | nil => rw [he] at hp2; simp at hp2
    | cons q2 f2 =>
      rw [List.nil_append] at he
      obtain ⟨A, c1, c2, B, M, g1, g2⟩ := bk_Mp_of (f1 := []) hl hal hfl ep he
      have hc1m : c1 ∈ L l := by rw [M.2.2.1]; simp
      have hc2m : c2 ∈ L l := by rw [M.2.2.1]; simp
      have hc1 : c1 = x := by
        refine (bk_uq T (l := l) (l' := l) (by omega) (by omega) hc1m hx ?_).2
        have := (bk_T_m T (l := l) (by omega) hc1m).1
        rw [g1] at hq2
        exact bx_inj (by omega) (by omega) hq2
      subst hc1
      have hc280 := (bk_T_m T (l := l) (by omega) hc2m).1
      have hc2q := (bk_Mp_q T M).2.1
      have hc26 := (bk_Mp_q T M).2.2.2.2.1
      have hv : a_vals (8 * p.1 + 1) = nI c2.1 := by
        have := (t2.1.2 1 q2 (by rw [he]; rfl)).2
        rw [g2] at this
        exact this
      have hix : nI (8 * p.1) + 1 = nI (8 * p.1 + 1) := nI_1 _
      by_cases hc : lst < c2.2.2.2.length
      · obtain ⟨L', ky, vl, ct, lw, hg, pl, hM, w⟩ := bx_m_bR (tc := tc) (f_threadCount := f_threadCount) (f_fan := f_fan) (f_capacity := f_capacity) (f_pace := f_pace) (f_least := f_least) (f_spareTop := f_spareTop) (f_root := f_root) (f_head := f_head) (f_records := f_records) (f_appliedTotal := f_appliedTotal) (a_keys := a_keys) (a_vals := a_vals) (a_count := a_count) (a_level := a_level) (a_low := a_low) (a_high := a_high) (a_right := a_right) (a_spare := a_spare) (a_path := a_path) (a_phaseOf := a_phaseOf) (a_kindOf := a_kindOf) (a_firstOf := a_firstOf) (a_secondOf := a_secondOf) (a_leftOf := a_leftOf) (a_outcomeOf := a_outcomeOf) (a_resKey := a_resKey) (a_resValue := a_resValue) (a_countOf := a_countOf) (a_digestOf := a_digestOf) (a_appliedAt := a_appliedAt) (a_latchesOf := a_latchesOf) (a_place := a_place) (a_unknown := a_unknown) W M htc h6 hall hxi.symm hxl hc
        refine ⟨L', f_spareTop, ky, vl, ct, lw, hg, a_right, a_spare, pl, hM, fun post hp => hbase post [] q (q2 :: f2) he hq2 hne (br_t (by decide) ?_)⟩
        rw [hix]
        refine ⟨vp_in_nI (by omega) (by omega), nm_r (e' := nI c2.1) (by rw [bx_cl (by omega)]; exact hv) ⟨bx_in hc280, br_f ?_ (w post hp)⟩⟩
        rw [bx_cl (n := c2.1) (by omega), hc2q.1.1, hle]
        exact nI_ge hc (by omega)
      · obtain ⟨L', st, ky, vl, ct, hg, rt, sp, pl, hM, w⟩ := bx_m_j (tc := tc) (f_threadCount := f_threadCount) (f_fan := f_fan) (f_capacity := f_capacity) (f_pace := f_pace) (f_least := f_least) (f_spareTop := f_spareTop) (f_root := f_root) (f_head := f_head) (f_records := f_records) (f_appliedTotal := f_appliedTotal) (a_keys := a_keys) (a_vals := a_vals) (a_count := a_count) (a_level := a_level) (a_low := a_low) (a_high := a_high) (a_right := a_right) (a_spare := a_spare) (a_path := a_path) (a_phaseOf := a_phaseOf) (a_kindOf := a_kindOf) (a_firstOf := a_firstOf) (a_secondOf := a_secondOf) (a_leftOf := a_leftOf) (a_outcomeOf := a_outcomeOf) (a_resKey := a_resKey) (a_resValue := a_resValue) (a_countOf := a_countOf) (a_digestOf := a_digestOf) (a_appliedAt := a_appliedAt) (a_latchesOf := a_latchesOf) (a_place := a_place) (a_unknown := a_unknown) W M htc h6 hall (Or.inl hxi.symm) (by omega)
        refine ⟨L', st, ky, vl, ct, a_low, hg, rt, sp, pl, hM, fun post hp => hbase post [] q (q2 :: f2) he hq2 hne (br_t (by decide) ?_)⟩
        rw [hix]
        refine ⟨vp_in_nI (by omega) (by omega), nm_r (e' := nI c2.1) (by rw [bx_cl (by omega)]; exact hv) ⟨bx_in hc280, br_t ?_ (w post hp)⟩⟩
        rw [bx_cl (n := c2.1) (by omega), hc2q.1.1, hle]
        exact nI_le (by omega) (by omega)
  · have he' : p.2.2.2 = e0 ++ q0 :: q :: e2 := by rw [he]; simp
    obtain ⟨A, c1, c2, B, M, g1, g2⟩ := bk_Mp_of hl hal hfl ep he'
    have hc1m : c1 ∈ L l := by rw [M.2.2.1]; simp
    have hc2m : c2 ∈ L l := by rw [M.2.2.1]; simp
    have hc2 : c2 = x := by
      refine (bk_uq T (l := l) (l' := l) (by omega) (by omega) hc2m hx ?_).2
      have := (bk_T_m T (l := l) (by omega) hc2m).1
      rw [g2] at hq2
      exact bx_inj (by omega) (by omega) hq2
    subst hc2
    have hlen : p.2.2.2.length = e0.length + (e2.length + 2) := by rw [he']; simp
    have hc180 := (bk_T_m T (l := l) (by omega) hc1m).1
    have hc1q := (bk_Mp_q T M).1
    have hc16 := (bk_Mp_q T M).2.2.2.1
    have hv : a_vals (8 * p.1 + e0.length) = nI c1.1 := by
      have := (t2.1.2 e0.length q0 (bx_get2 he')).2
      rw [g1] at this
      exact this
    have hl1 : (e0 ++ [q0]).length = e0.length + 1 := by simp
    have hix : nI (8 * p.1) + nI (e0.length + 1) - 1 = nI (8 * p.1 + e0.length) := by
      rw [nI_add, show 8 * p.1 + (e0.length + 1) = (8 * p.1 + e0.length) + 1 by omega, nI_pred]
    by_cases hc : lst < c1.2.2.2.length
    · obtain ⟨L', ky, vl, ct, lw, hg, hM, w⟩ := bx_m_bL (tc := tc) (f_threadCount := f_threadCount) (f_fan := f_fan) (f_capacity := f_capacity) (f_pace := f_pace) (f_least := f_least) (f_spareTop := f_spareTop) (f_root := f_root) (f_head := f_head) (f_records := f_records) (f_appliedTotal := f_appliedTotal) (a_keys := a_keys) (a_vals := a_vals) (a_count := a_count) (a_level := a_level) (a_low := a_low) (a_high := a_high) (a_right := a_right) (a_spare := a_spare) (a_path := a_path) (a_phaseOf := a_phaseOf) (a_kindOf := a_kindOf) (a_firstOf := a_firstOf) (a_secondOf := a_secondOf) (a_leftOf := a_leftOf) (a_outcomeOf := a_outcomeOf) (a_resKey := a_resKey) (a_resValue := a_resValue) (a_countOf := a_countOf) (a_digestOf := a_digestOf) (a_appliedAt := a_appliedAt) (a_latchesOf := a_latchesOf) (a_place := a_place) (a_unknown := a_unknown) W M hall hxi.symm hxl hc
      refine ⟨L', f_spareTop, ky, vl, ct, lw, hg, a_right, a_spare, a_place, hM, fun post hp => hbase post (e0 ++ [q0]) q e2 he hq2 hne ?_⟩
      rw [hl1]
      refine br_f (nI_nle (by omega) (by omega)) ?_
      rw [hix]
      refine ⟨vp_in_nI (by omega) (by omega), nm_r (e' := nI c1.1) (by rw [bx_cl (by omega)]; exact hv) ⟨bx_in hc180, br_f ?_ (w post hp)⟩⟩
      rw [bx_cl (n := c1.1) (by omega), hc1q.1.1, hle]
      exact nI_ge hc (by omega)
    · obtain ⟨L', st, ky, vl, ct, hg, rt, sp, pl, hM, w⟩ := bx_m_j (tc := tc) (f_threadCount := f_threadCount) (f_fan := f_fan) (f_capacity := f_capacity) (f_pace := f_pace) (f_least := f_least) (f_spareTop := f_spareTop) (f_root := f_root) (f_head := f_head) (f_records := f_records) (f_appliedTotal := f_appliedTotal) (a_keys := a_keys) (a_vals := a_vals) (a_count := a_count) (a_level := a_level) (a_low := a_low) (a_high := a_high) (a_right := a_right) (a_spare := a_spare) (a_path := a_path) (a_phaseOf := a_phaseOf) (a_kindOf := a_kindOf) (a_firstOf := a_firstOf) (a_secondOf := a_secondOf) (a_leftOf := a_leftOf) (a_outcomeOf := a_outcomeOf) (a_resKey := a_resKey) (a_resValue := a_resValue) (a_countOf := a_countOf) (a_digestOf := a_digestOf) (a_appliedAt := a_appliedAt) (a_latchesOf := a_latchesOf) (a_place := a_place) (a_unknown := a_unknown) W M htc h6 hall (Or.inr hxi.symm) (by omega)
      refine ⟨L', st, ky, vl, ct, a_low, hg, rt, sp, pl, hM, fun post hp => hbase post (e0 ++ [q0]) q e2 he hq2 hne ?_⟩
      rw [hl1]
      refine br_f (nI_nle (by omega) (by omega)) ?_
      rw [hix]
      refine ⟨vp_in_nI (by omega) (by omega), nm_r (e' := nI c1.1) (by rw [bx_cl (by omega)]; exact hv) ⟨bx_in hc180, br_t ?_ (w post hp)⟩⟩
      rw [bx_cl (n := c1.1) (by omega), hc1q.1.1, hle]
      exact nI_le (by omega) (by omega)
end
section
variable {lst fan tl ti : Nat} {L : Nat → List bk_Nd} {h root : Nat} {f_threadCount f_fan f_capacity f_pace f_least f_spareTop f_root f_head f_records f_appliedTotal : Int32} {a_keys a_vals a_count a_level a_low a_high a_right a_spare a_path a_phaseOf a_kindOf a_firstOf a_secondOf a_leftOf a_outcomeOf a_resKey a_resValue a_countOf a_digestOf a_appliedAt a_latchesOf a_place a_unknown : Nat → Int32}
theorem bx_trace_7 {key : Int32} (T : bk_T lst fan tl ti L h root a_keys a_vals a_count a_level a_low a_high a_right) (hall : ∀ j, j ≤ h → ∀ z, z ∈ L j → z.2.2.1 = true) :
    ∀ l, l ≤ h → ∀ A x B, L l = A ++ x :: B → x.2.1 ≤ key.toInt → key.toInt < bk_bd (bk_hd B none) → ∀ pa : Nat → Int32,
    ∃ pa' : Nat → Int32, (∀ j, j ≤ l → ∃ n, bk_Cv (L j) key.toInt n ∧ pa' j = nI n) ∧ (∀ j, l < j → pa' j = pa j) ∧
      ∀ i, i + l < 160 → ∀ n, l < n → ∀ post : SX → Prop, post (f_threadCount, f_fan, f_capacity, f_pace, f_least, f_spareTop, f_root, f_head, f_records, f_appliedTotal, a_keys, a_vals, a_count, a_level, a_low, a_high, a_right, a_spare, pa', a_phaseOf, a_kindOf, a_firstOf, a_secondOf, a_leftOf, a_outcomeOf, a_resKey, a_resValue, a_countOf, a_digestOf, a_appliedAt, a_latchesOf, a_place, a_unknown) → wX_trace_7 post key f_threadCount f_fan f_capacity f_pace f_least f_spareTop f_root f_head f_records f_appliedTotal n (nI x.1) (nI i) a_keys a_vals a_count a_level a_low a_high a_right a_spare pa a_phaseOf a_kindOf a_firstOf a_secondOf a_leftOf a_outcomeOf a_resKey a_resValue a_countOf a_digestOf a_appliedAt a_latchesOf a_place a_unknown := by
  have h5 := T.2.2.1
  intro l
  induction l with
  | zero =>
    intro hl A x B e hx hk pa
    obtain ⟨q1, q2, q3⟩ := bk_T_at T hl e
    have h80 := q1.1
    refine ⟨upd pa 0 (nI x.1), fun j hj => ?_, fun j hj => pk_un (by omega), fun i hi n hn post hp => ?_⟩
    · have : j = 0 := by omega
      subst this
      exact ⟨x.1, ⟨A, x, B, e, hx, hk, rfl⟩, pk_us⟩
    · obtain ⟨n, rfl⟩ : ∃ m, n = m + 1 := ⟨n - 1, by omega⟩
      refine br_f (nI_ge (b := 160) (by omega) (by decide)) ⟨bx_in h80, nm_r (e' := nI 0) (by rw [bx_cl (n := x.1) (by omega)]; exact q2.2.2.1) ?_⟩
      refine br_f (nI_ge (b := 16) (by omega) (by decide)) ⟨vp_in_nI (by omega) (by omega), nm_e ?_⟩
      rw [bx_cl (n := 0) (by omega)]
      unfold wX_trace_37
      refine bx_hop_s h80 (bx_cov_stay T hl e hk) ?_ (br_t rfl hp)
      rw [q2.2.2.1]
      exact nI_nlt (a := 0) (b := 0) (Nat.le_refl _) (by decide)
  | succ l ih =>
    intro hl A x B e hx hk pa
    obtain ⟨q1, q2, q3⟩ := bk_T_at T hl e
    have h80 := q1.1
    obtain ⟨v, es, hes⟩ := q1.2.2.2 (by omega)
    obtain ⟨e1, e2, he, h1, h2⟩ := bk_cut (key.toInt + 1) q1.2.2.1.1
    rcases bk_snoc e1 with rfl | ⟨e3, p, rfl⟩
    · exfalso
      have := h2 (x.2.1, v) (by rw [List.nil_append] at he; rw [← he, hes]; exact List.mem_cons_self)
      have : key.toInt + 1 ≤ x.2.1 := this
      omega
    · have hes2 : x.2.2.2 = e3 ++ p :: e2 := by rw [he]; simp
      have hpk : p.1 ≤ key.toInt := by have := h1 p (by simp); omega
      have h2' : ∀ q, q ∈ e2 → key.toInt < q.1 := fun q hq => by have := h2 q hq; omega
      obtain ⟨A', c, B', a1, a2, a3, a4⟩ := bk_kid_cv (hall l (by omega)) (T.1.2.1 l hl) (T.1.1 (l + 1) hl).1 e hes2 hpk h2' hk
      have hcq := bk_T_at T (l := l) (by omega) a1
      have hc80 := hcq.1.1
      obtain ⟨pa', b1, b2, b3⟩ := ih (by omega) A' c B' a1 a3 a4 (upd pa (l + 1) (nI x.1))
      refine ⟨pa', fun j hj => ?_, fun j hj => by rw [b2 j (by omega), pk_un (by omega)], fun i hi n hn post hp => ?_⟩
      · by_cases ej : j = l + 1
        · subst ej
          exact ⟨x.1, ⟨A, x, B, e, hx, hk, rfl⟩, by rw [b2 _ (by omega), pk_us]⟩
        · exact b1 j (by omega)
      · obtain ⟨n, rfl⟩ : ∃ m, n = m + 1 := ⟨n - 1, by omega⟩
        refine br_f (nI_ge (b := 160) (by omega) (by decide)) ⟨bx_in h80, nm_r (e' := nI (l + 1)) (by rw [bx_cl (n := x.1) (by omega)]; exact q2.2.2.1) ?_⟩
        refine br_f (nI_ge (b := 16) (by omega) (by decide)) ⟨vp_in_nI (by omega) (by omega), nm_e ?_⟩
        rw [bx_cl (n := l + 1) (by omega)]
        unfold wX_trace_37
        refine bx_hop_d h80 (bx_cov_stay T hl e hk) ?_ q2.1 hes2 (by omega) (fun q hq => by have := h1 q (by simp [hq]); omega) hpk h2' (br_f ?_ (nm_r (nI_1 i) ?_))
        · rw [q2.2.2.1]
          exact nI_lt (a := 0) (by omega) (by omega)
        · rw [a2]
          intro hc
          have hc : nI c.1 = nI x.1 := hc
          have hc := bx_inj (by omega) (by omega) hc
          have h3 := hcq.2.1.2.2.1
          rw [hc, q2.2.2.1] at h3
          have := bx_inj (by omega) (by omega) h3
          omega
        · rw [a2]
          exact b3 (i + 1) (by omega) n (by omega) post hp
end
end
section
/-! ===== 21: shrinkRoot, repair ===== -/
theorem bk_PT_drop {lst fan tl ti : Nat} {L : Nat → List bk_Nd} {h root : Nat} (P : bk_PT lst fan tl ti L h root) (hx : tl ≤ h → ∀ x, x ∈ L tl → x.1 = ti → bk_mn lst h tl (L tl).length ≤ x.2.2.2.length) :
    bk_PT lst fan 100 0 L h root := by
  obtain ⟨p1, p2, p3, p4, p5⟩ := P
  refine ⟨fun l hl => ⟨(p1 l hl).1, (p1 l hl).2.1, fun x hxm => ⟨((p1 l hl).2.2 x hxm).1, ?_⟩⟩, p2, p3, p4, p5⟩
  have h1 := ((p1 l hl).2.2 x hxm).2
  by_cases e : l = tl
  · subst e
    by_cases e2 : x.1 = ti
    · have := hx hl x hxm e2
      omega
    · rw [bk_ds_o e2] at h1; omega
  · rw [bk_ds_n e] at h1; omega
theorem bk_W_drop {lst fan tl ti : Nat} {L : Nat → List bk_Nd} {h root : Nat} {st : Int32} {ky vl ct lv lw hg rt sp : Nat → Int32} (W : bk_W lst fan tl ti L h root st ky vl ct lv lw hg rt sp)
    (hx : tl ≤ h → ∀ x, x ∈ L tl → x.1 = ti → bk_mn lst h tl (L tl).length ≤ x.2.2.2.length) : bk_W lst fan 100 0 L h root st ky vl ct lv lw hg rt sp :=
  ⟨⟨bk_PT_drop W.1.1 hx, W.1.2⟩, W.2⟩
theorem bk_top1 {lst fan tl ti : Nat} {L : Nat → List bk_Nd} {h root : Nat} (P : bk_PT lst fan tl ti L h root) (hall : ∀ z, z ∈ L h → z.2.2.1 = true) : ∃ x, L h = [x] ∧ x.1 = root ∧ x.2.1 = -2147483648 := by
  obtain ⟨x, ys, e, h1, h2⟩ := P.2.2.1
  obtain ⟨x', ys', e', h3, _⟩ := (P.1 h (Nat.le_refl _)).2.1
  have hys : ys = [] := by
    cases ys with
    | nil => rfl
    | cons y ys =>
      have a := h2 y List.mem_cons_self
      have b := hall y (by rw [e]; simp)
      rw [a] at b; cases b
  rw [e] at e'
  injection e' with a b
  exact ⟨x, by rw [e, hys], h1, by rw [a]; exact h3⟩
section
variable {lst fan ti tc : Nat} {L : Nat → List bk_Nd} {h root : Nat} {f_threadCount f_fan f_capacity f_pace f_least f_spareTop f_root f_head f_records f_appliedTotal : Int32} {a_keys a_vals a_count a_level a_low a_high a_right a_spare a_path a_phaseOf a_kindOf a_firstOf a_secondOf a_leftOf a_outcomeOf a_resKey a_resValue a_countOf a_digestOf a_appliedAt a_latchesOf a_place a_unknown : Nat → Int32}
theorem bx_shrink (W : bk_W lst fan h ti L h root f_spareTop a_keys a_vals a_count a_level a_low a_high a_right a_spare) (htc : f_threadCount = nI tc) (h6 : tc ≤ 6) (hro : f_root = nI root)
    (hall : ∀ j, j ≤ h → ∀ z, z ∈ L j → z.2.2.1 = true) :
    ∃ (st : Int32) (h' root' : Nat) (ct rt sp pl : Nat → Int32), bk_W lst fan 100 0 L h' root' st a_keys a_vals ct a_level a_low a_high rt sp ∧ h' ≤ h ∧ (∀ g, bk_Pl tc a_place g L h → bk_Pl tc pl g L h') ∧
      ∀ post : SX → Prop, post (f_threadCount, f_fan, f_capacity, f_pace, f_least, st, nI root', f_head, f_records, f_appliedTotal, a_keys, a_vals, ct, a_level, a_low, a_high, rt, sp, a_path, a_phaseOf, a_kindOf, a_firstOf, a_secondOf, a_leftOf, a_outcomeOf, a_resKey, a_resValue, a_countOf, a_digestOf, a_appliedAt, a_latchesOf, pl, a_unknown) → wpX_shrinkRoot post (f_threadCount, f_fan, f_capacity, f_pace, f_least, f_spareTop, f_root, f_head, f_records, f_appliedTotal, a_keys, a_vals, a_count, a_level, a_low, a_high, a_right, a_spare, a_path, a_phaseOf, a_kindOf, a_firstOf, a_secondOf, a_leftOf, a_outcomeOf, a_resKey, a_resValue, a_countOf, a_digestOf, a_appliedAt, a_latchesOf, a_place, a_unknown) := by
  have T := W.1
  have h5 := T.2.2.1
  have hlst := W.2.2.1
  have hf3 := W.2.2.2
  obtain ⟨x, ex, hx1, hx2⟩ := bk_top1 T.1 (hall h (Nat.le_refl _))
  have hxm : x ∈ L h := by rw [ex]; simp
  obtain ⟨t1, t2, t3⟩ := bk_T_at T (A := []) (B := []) (Nat.le_refl h) ex
  have hx80 := t1.1
  have hr80 : root < 80 := by rw [← hx1]; exact hx80
  have hrin : vp_in f_root 80 := by rw [hro]; exact bx_in hr80
  have hrcl : f_root.toNatClampNeg = root := by rw [hro]; exact bx_cl (by omega)
  have hlv : a_level root = nI h := by rw [← hx1]; exact t2.2.2.1
  have hct : a_count root = nI x.2.2.2.length := by rw [← hx1]; exact t2.1.1
  have hfill := ((T.1.1 h (Nat.le_refl _)).2.2 x hxm).2
  have hlen1 : (L h).length = 1 := by rw [ex]; rfl
  by_cases h0 : h = 0
  · refine ⟨f_spareTop, h, root, a_count, a_right, a_spare, a_place, bk_W_drop W (fun _ y hy _ => ?_), Nat.le_refl _, fun g hg => hg, fun post hp => ?_⟩
    · unfold bk_mn
      rw [if_pos ⟨rfl, hlen1⟩, if_pos h0]
      exact Nat.zero_le _
    · unfold wpX_shrinkRoot
      refine And.intro hrin ?_
      rw [hrcl, hlv]
      exact br_t (by rw [h0]; rfl) (hro ▸ hp)
  · by_cases h1 : x.2.2.2.length = 1
    · -- the root has one child
      obtain ⟨h', rfl⟩ : ∃ m, h = m + 1 := ⟨h - 1, by omega⟩
      obtain ⟨q, hq⟩ : ∃ q, x.2.2.2 = [q] := List.length_eq_one_iff.mp h1
      have hkn := T.1.2.1 h' (by omega)
      rw [ex, bk_fl_cons, bk_fl_nil, List.append_nil, hq, bk_kn_all _ (hall h' (by omega))] at hkn
      obtain ⟨c, cs, ec, e1, e2⟩ := List.map_eq_cons_iff.mp hkn.symm
      have ecs : cs = [] := List.map_eq_nil_iff.mp e2
      subst ecs
      have hcm : c ∈ L h' := by rw [ec]; simp
      have hc80 := (bk_T_m T (l := h') (by omega) hcm).1
      have hqv : q.2 = nI c.1 := by rw [← e1]
      have hv : a_vals (8 * root) = nI c.1 := by
        have := (t2.1.2 0 q (by rw [hq]; rfl)).2
        rw [hx1] at this
        rw [← hqv]; exact this
      have hclo : c.2.1 = -2147483648 := by
        obtain ⟨y, ys, ey, hy, _⟩ := (T.1.1 h' (by omega)).2.1
        rw [ec] at ey
        injection ey with a b
        rw [a]; exact hy
      have hne : ∀ j, j ≤ h' → ∀ z, z ∈ L j → z.1 ≠ root := by
        intro j hj z hz hc
        have := (bk_uq T (l := j) (by omega) (Nat.le_refl _) hz hxm (by rw [hc, hx1])).1
        omega
      obtain ⟨s, hst, hsum, hsp, hdis⟩ := W.2.1
      have htb : bk_tb L (h' + 1 + 1) = bk_tb L (h' + 1) + 1 := by
        show bk_tb L (h' + 1) + (L (h' + 1)).length = _
        rw [hlen1]
      have htb1 : 1 ≤ bk_tb L (h' + 1) := by
        have a1 : bk_tb L (h' + 1) = bk_tb L h' + (L h').length := rfl
        have a2 := bk_ne0 T.1 (l := h') (by omega)
        omega
      obtain ⟨pl, hpl, wr⟩ := bx_redirect (fr := f_root) (to := nI c.1) (f_threadCount := f_threadCount) (f_fan := f_fan) (f_capacity := f_capacity) (f_pace := f_pace) (f_least := f_least) (f_spareTop := f_spareTop) (f_root := nI c.1) (f_head := f_head) (f_records := f_records) (f_appliedTotal := f_appliedTotal) (a_keys := a_keys) (a_vals := a_vals) (a_count := a_count) (a_level := a_level) (a_low := a_low) (a_high := a_high) (a_right := a_right) (a_spare := a_spare) (a_path := a_path) (a_phaseOf := a_phaseOf) (a_kindOf := a_kindOf) (a_firstOf := a_firstOf) (a_secondOf := a_secondOf) (a_leftOf := a_leftOf) (a_outcomeOf := a_outcomeOf) (a_resKey := a_resKey) (a_resValue := a_resValue) (a_countOf := a_countOf) (a_digestOf := a_digestOf) (a_appliedAt := a_appliedAt) (a_latchesOf := a_latchesOf) (a_place := a_place) (a_unknown := a_unknown) htc h6
      have hP : bk_PT lst fan 100 0 L h' c.1 := bk_PT_shr (by omega) T.1 ec
      have hK : bk_LK a_keys a_vals (upd a_count root 0) a_level a_low a_high (upd a_right root (-1)) L h' := by
        intro j hj
        refine bk_lq_same (T.2.1 j (by omega)) (fun z hz => ⟨⟨bk_S8_ct (hne j hj z hz), rfl, rfl, rfl, pk_un (hne j hj z hz)⟩, ?_⟩)
        have := (bk_T_m T (l := j) (by omega) hz).2.1
        omega
      have hF : bk_Fr (nI (s + 1)) (upd a_spare s (nI root)) L h' := by
        have hfree : ∀ i, i < s → a_spare i ≠ nI root := by
          intro i hi hc
          obtain ⟨n, n1, n2, n3⟩ := hsp i hi
          exact n3 _ (Nat.le_refl _) x hxm (by rw [hx1]; exact bx_inj (by omega) (by omega) (hc.symm.trans n2))
        refine ⟨s + 1, rfl, by omega, fun i hi => ?_, fun i j hi hj he => ?_⟩
        · by_cases e : i = s
          · rw [e, pk_us]
            exact ⟨root, hr80, rfl, hne⟩
          · rw [pk_un e]
            obtain ⟨n, n1, n2, n3⟩ := hsp i (by omega)
            exact ⟨n, n1, n2, fun j hj z hz => n3 j (by omega) z hz⟩
        · by_cases e : i = s
          · by_cases e' : j = s
            · rw [e, e']
            · rw [e, pk_us, pk_un e'] at he
              exact absurd he.symm (hfree j (by omega))
          · by_cases e' : j = s
            · rw [e', pk_us, pk_un e] at he
              exact absurd he (hfree i (by omega))
            · rw [pk_un e, pk_un e'] at he
              exact hdis i j (by omega) (by omega) he
      refine ⟨nI (s + 1), h', c.1, upd a_count root 0, upd a_right root (-1), upd a_spare s (nI root), pl, ⟨⟨hP, hK, by omega, by omega, T.2.2.2.2⟩, hF, hlst, hf3⟩, by omega, fun g => ?_, fun post hp => ?_⟩
      · refine bk_Pl_red hr80 (fun j hj z hz => (bk_T_m T hj hz).1) (fun q hq => by rw [hpl q hq, hro]) (fun j hj z hz hzn => ?_) (fun j hj z hz hzr => ?_)
        · have hjh : j ≤ h' := by
            by_cases e : j = h' + 1
            · subst e
              rw [ex] at hz
              rw [List.mem_singleton.mp hz] at hzn
              exact absurd hx1 hzn
            · omega
          exact ⟨j, hjh, z, hz, rfl, Int.le_refl _⟩
        · have hzx := (bk_uq T hj (Nat.le_refl _) hz hxm (by rw [hzr, hx1])).2
          exact ⟨h', Nat.le_refl _, c, hcm, rfl, by rw [hzx, hx2, hclo]; exact Int.le_refl _⟩
      · unfold wpX_shrinkRoot
        refine And.intro hrin ?_
        rw [hrcl, hlv]
        refine br_f (nI_ne0 (by omega) (by omega)) ⟨hrin, br_t (by rw [hct, h1]; rfl) ?_⟩
        have hsl : f_root <<< ((3 : Int32) &&& 31) = nI (8 * root) := by rw [hro]; exact bx_sh hr80
        rw [hsl]
        refine ⟨vp_in_nI (by omega) (by omega), nm_r (e' := nI c.1) (by rw [bx_cl (by omega)]; exact hv) (wr _ ?_)⟩
        unfold wpX_releaseNode
        refine And.intro hrin (nm_e ⟨hrin, nm_e ?_⟩)
        rw [hrcl]
        refine br_f (by rw [hst]; exact nI_ge (b := 80) (by omega) (by decide)) ⟨by rw [hst]; exact vp_in_nI (by omega) (by omega), nm_r (e' := upd a_spare s (nI root)) ?_ (nm_r (e' := nI (s + 1)) (by rw [hst, nI_1]) hp)⟩
        rw [hst, bx_cl (n := s) (by omega), hro]
    · refine ⟨f_spareTop, h, root, a_count, a_right, a_spare, a_place, bk_W_drop W (fun _ y hy _ => ?_), Nat.le_refl _, fun g hg => hg, fun post hp => ?_⟩
      · rw [ex] at hy
        rw [List.mem_singleton.mp hy]
        have hds := bk_ds_le h ti h x.1
        unfold bk_mn at hfill ⊢
        rw [if_pos ⟨rfl, hlen1⟩, if_neg h0] at hfill ⊢
        omega
      · unfold wpX_shrinkRoot
        refine And.intro hrin ?_
        rw [hrcl, hlv]
        refine br_f (nI_ne0 (by omega) (by omega)) ⟨hrin, br_f ?_ (hro ▸ hp)⟩
        rw [hct]
        intro hc
        exact h1 (bx_inj (m := x.2.2.2.length) (n := 1) (by omega) (by omega) hc)
end
section
variable {lst fan tc : Nat} {f_threadCount f_fan f_capacity f_pace f_least f_spareTop f_root f_head f_records f_appliedTotal : Int32} {a_keys a_vals a_count a_level a_low a_high a_right a_spare a_path a_phaseOf a_kindOf a_firstOf a_secondOf a_leftOf a_outcomeOf a_resKey a_resValue a_countOf a_digestOf a_appliedAt a_latchesOf a_place a_unknown : Nat → Int32}
theorem bx_repair_21 {key : Int32} {h root : Nat} (htc : f_threadCount = nI tc) (h6 : tc ≤ 6) (hle : f_least = nI lst) (hro : f_root = nI root) (h5 : h ≤ 5) :
    ∀ d l, l + d = h → ∀ (ti : Nat) (L : Nat → List bk_Nd) (st : Int32) (ky vl ct lw hg rt sp pl : Nat → Int32), bk_W lst fan l ti L h root st ky vl ct a_level lw hg rt sp →
      (∀ j, j ≤ h → ∀ z, z ∈ L j → z.2.2.1 = true) → bk_Cv (L l) key.toInt ti → (∀ j, l ≤ j → j ≤ h → ∃ n, bk_Cv (L j) key.toInt n ∧ a_path j = nI n) →
      ∃ (L' : Nat → List bk_Nd) (h' root' : Nat) (st' : Int32) (ky' vl' ct' lw' hg' rt' sp' pl' : Nat → Int32), bk_W lst fan 100 0 L' h' root' st' ky' vl' ct' a_level lw' hg' rt' sp' ∧ bk_fl (L' 0) = bk_fl (L 0) ∧
        (∀ j, j ≤ h' → ∀ z, z ∈ L' j → z.2.2.1 = true) ∧ (∀ g, bk_Pl tc pl g L h → bk_Pl tc pl' g L' h') ∧
        ∀ n, d < n → ∀ post : SX → Prop, post (f_threadCount, f_fan, f_capacity, f_pace, f_least, st', nI root', f_head, f_records, f_appliedTotal, ky', vl', ct', a_level, lw', hg', rt', sp', a_path, a_phaseOf, a_kindOf, a_firstOf, a_secondOf, a_leftOf, a_outcomeOf, a_resKey, a_resValue, a_countOf, a_digestOf, a_appliedAt, a_latchesOf, pl', a_unknown) →
          wX_repair_21 post (nI h) n (nI l) f_threadCount f_fan f_capacity f_pace f_least st f_root f_head f_records f_appliedTotal ky vl ct a_level lw hg rt sp a_path a_phaseOf a_kindOf a_firstOf a_secondOf a_leftOf a_outcomeOf a_resKey a_resValue a_countOf a_digestOf a_appliedAt a_latchesOf pl a_unknown := by
  intro d
  induction d with
  | zero =>
    intro l hl ti L st ky vl ct lw hg rt sp pl W hall hcv hpa
    have : l = h := by omega
    subst this
    obtain ⟨st', h', root', ct', rt', sp', pl', a1, a2, a3, a4⟩ := bx_shrink (tc := tc) (f_threadCount := f_threadCount) (f_fan := f_fan) (f_capacity := f_capacity) (f_pace := f_pace) (f_least := f_least) (f_spareTop := st) (f_root := f_root) (f_head := f_head) (f_records := f_records) (f_appliedTotal := f_appliedTotal) (a_keys := ky) (a_vals := vl) (a_count := ct) (a_level := a_level) (a_low := lw) (a_high := hg) (a_right := rt) (a_spare := sp) (a_path := a_path) (a_phaseOf := a_phaseOf) (a_kindOf := a_kindOf) (a_firstOf := a_firstOf) (a_secondOf := a_secondOf) (a_leftOf := a_leftOf) (a_outcomeOf := a_outcomeOf) (a_resKey := a_resKey) (a_resValue := a_resValue) (a_countOf := a_countOf) (a_digestOf := a_digestOf) (a_appliedAt := a_appliedAt) (a_latchesOf := a_latchesOf) (a_place := pl) (a_unknown := a_unknown) W htc h6 hro hall
    refine ⟨L, h', root', st', ky, vl, ct', lw, hg, rt', sp', pl', a1, rfl, fun j hj => hall j (by omega), a3, fun n hn post hp => ?_⟩
    obtain ⟨n, rfl⟩ : ∃ m, n = m + 1 := ⟨n - 1, by omega⟩
    refine br_t (nI_le (Nat.le_refl _) (by omega)) ?_
    unfold wX_repair_75
    exact a4 _ hp
  | succ d ih =>
    intro l hl ti L st ky vl ct lw hg rt sp pl W hall hcv hpa
    have T := W.1
    have hlst := W.2.2.1
    have hf3 := W.2.2.2
    have hf6 := T.2.2.2.2
    obtain ⟨A, x, B, ex, hx1, hx2, hx3⟩ := hcv
    have hcvx : bk_Cv (L l) key.toInt ti := ⟨A, x, B, ex, hx1, hx2, hx3⟩
    obtain ⟨t1, t2, t3⟩ := bk_T_at T (l := l) (by omega) ex
    have hx80 := t1.1
    obtain ⟨n0, b1, b2⟩ := hpa l (Nat.le_refl _) (by omega)
    have hn0 : n0 = ti := bk_Cv_uq (T.1.1 l (by omega)).1 b1 hcvx
    rw [hn0, ← hx3] at b2
    have hin : vp_in (nI l) 16 := vp_in_nI (by omega) (by omega)
    have hcl : (nI l).toNatClampNeg = l := nI_clamp (by omega)
    by_cases hthin : x.2.2.2.length < lst
    · obtain ⟨np, c1, c2⟩ := hpa (l + 1) (by omega) (by omega)
      obtain ⟨AP, p, BP, ep, hp1, hp2, hp3⟩ := c1
      obtain ⟨u1, u2, u3⟩ := bk_T_at T (l := l + 1) (by omega) ep
      -- the child on the way is x
      obtain ⟨v, es, hes⟩ := u1.2.2.2 (by omega)
      obtain ⟨e1, e2, he, g1, g2⟩ := bk_cut (key.toInt + 1) u1.2.2.1.1
      have hq : ∃ q, q ∈ p.2.2.2 ∧ q.2 = nI x.1 := by
        rcases bk_snoc e1 with rfl | ⟨e3, q, rfl⟩
        · exfalso
          have := g2 (p.2.1, v) (by rw [List.nil_append] at he; rw [← he, hes]; exact List.mem_cons_self)
          have : key.toInt + 1 ≤ p.2.1 := this
          omega
        · have hes2 : p.2.2.2 = e3 ++ q :: e2 := by rw [he]; simp
          obtain ⟨A', c, B', a1, a2, a3, a4⟩ := bk_kid_cv (k := key.toInt) (hall l (by omega)) (T.1.2.1 l (by omega)) (T.1.1 (l + 1) (by omega)).1 ep hes2 (by have := g1 q (by simp); omega) (fun q' hq' => by have := g2 q' hq'; omega) hp2
          have hci : c.1 = ti := bk_Cv_uq (T.1.1 l (by omega)).1 ⟨A', c, B', a1, a3, a4, rfl⟩ hcvx
          exact ⟨q, by rw [hes2]; simp, by rw [a2, hx3, ← hci]⟩
      obtain ⟨L1, st1, ky1, vl1, ct1, lw1, hg1, rt1, sp1, pl1, hM, w⟩ := bx_mend (tc := tc) (f_threadCount := f_threadCount) (f_fan := f_fan) (f_capacity := f_capacity) (f_pace := f_pace) (f_least := f_least) (f_spareTop := st) (f_root := f_root) (f_head := f_head) (f_records := f_records) (f_appliedTotal := f_appliedTotal) (a_keys := ky) (a_vals := vl) (a_count := ct) (a_level := a_level) (a_low := lw) (a_high := hg) (a_right := rt) (a_spare := sp) (a_path := a_path) (a_phaseOf := a_phaseOf) (a_kindOf := a_kindOf) (a_firstOf := a_firstOf) (a_secondOf := a_secondOf) (a_leftOf := a_leftOf) (a_outcomeOf := a_outcomeOf) (a_resKey := a_resKey) (a_resValue := a_resValue) (a_countOf := a_countOf) (a_digestOf := a_digestOf) (a_appliedAt := a_appliedAt) (a_latchesOf := a_latchesOf) (a_place := pl) (a_unknown := a_unknown) W htc h6 hle hall (by omega) (by rw [ex]; simp) hx3 hthin ep hq
      obtain ⟨M1, M2, M3, M4, M5⟩ := hM
      obtain ⟨L', h', root', st', ky', vl', ct', lw', hg', rt', sp', pl', d1, d2, d3, d4, d5⟩ := ih (l + 1) (by omega) p.1 L1 st1 ky1 vl1 ct1 lw1 hg1 rt1 sp1 pl1 M1 M4
        (bk_Cv_sl (M3 (l + 1) (Nat.le_refl _)).symm ⟨AP, p, BP, ep, hp1, hp2, rfl⟩)
        (fun j hj hjh => by
          obtain ⟨n, n1, n2⟩ := hpa j (by omega) hjh
          exact ⟨n, bk_Cv_sl (M3 j hj).symm n1, n2⟩)
      refine ⟨L', h', root', st', ky', vl', ct', lw', hg', rt', sp', pl', d1, d2.trans M2, d3, fun g hg => d4 g (M5 g hg), fun n hn post hp => ?_⟩
      obtain ⟨n, rfl⟩ : ∃ m, n = m + 1 := ⟨n - 1, by omega⟩
      refine br_f (nI_ge (by omega) (by omega)) (br_f (nI_ge (b := 15) (by omega) (by decide)) ⟨hin, nm_r (e' := nI x.1) (by rw [hcl]; exact b2) ⟨bx_in hx80, br_t ?_ ⟨by rw [nI_1]; exact vp_in_nI (by omega) (by omega), ?_⟩⟩⟩)
      · rw [bx_cl (n := x.1) (by omega), t2.1.1, hle]
        exact nI_lt hthin (by omega)
      · rw [nI_1, nI_clamp (n := l + 1) (by omega), c2, ← hp3]
        exact w _ (nm_e (d5 n (by omega) post hp))
    · refine ⟨L, h, root, st, ky, vl, ct, lw, hg, rt, sp, pl, bk_W_drop W (fun _ y hy hyi => ?_), rfl, hall, fun g hg => hg, fun n hn post hp => ?_⟩
      · have hyx := (bk_uq T (l := l) (l' := l) (by omega) (by omega) hy (y := x) (by rw [ex]; simp) (by rw [hyi, hx3])).2
        rw [hyx]
        have := bk_mn_le (lst := lst) (h := h) (l := l) (len := (L l).length) (by omega)
        omega
      · obtain ⟨n, rfl⟩ : ∃ m, n = m + 1 := ⟨n - 1, by omega⟩
        refine br_f (nI_ge (by omega) (by omega)) (br_f (nI_ge (b := 15) (by omega) (by decide)) ⟨hin, nm_r (e' := nI x.1) (by rw [hcl]; exact b2) ⟨bx_in hx80, br_f ?_ (hro ▸ hp)⟩⟩)
        rw [bx_cl (n := x.1) (by omega), t2.1.1, hle]
        exact nI_nlt (by omega) (by omega)
end
end
section
/-! ===== 22: repair, uproot ===== -/
theorem bk_sh_sl {xs ys : List bk_Nd} (h : bk_sh xs = bk_sh ys) : bk_sl xs = bk_sl ys := by
  have e : ∀ zs : List bk_Nd, bk_sl zs = (bk_sh zs).map (fun z => (z.1, z.2.1)) := by
    intro zs
    simp [bk_sl, bk_sh]
  rw [e, e, h]
theorem bk_noPn {L : Nat → List bk_Nd} {h : Nat} (H : ∀ i, ¬ bk_Pn L h i) : ∀ j, j ≤ h → ∀ z, z ∈ L j → z.2.2.1 = true := by
  intro j hj z hz
  cases e : z.2.2.1 with
  | true => rfl
  | false => exact absurd ⟨j, hj, z, hz, e, rfl⟩ (H z.1)
theorem bk_Pn_no {L : Nat → List bk_Nd} {h : Nat} (H : ∀ j, j ≤ h → ∀ z, z ∈ L j → z.2.2.1 = true) : ∀ i, ¬ bk_Pn L h i := by
  rintro i ⟨j, hj, z, hz, hk, _⟩
  rw [H j hj z hz] at hk
  cases hk
section
variable {lst fan ti tc : Nat} {L : Nat → List bk_Nd} {h root : Nat} {f_threadCount f_fan f_capacity f_pace f_least f_spareTop f_root f_head f_records f_appliedTotal : Int32} {a_keys a_vals a_count a_level a_low a_high a_right a_spare a_path a_phaseOf a_kindOf a_firstOf a_secondOf a_leftOf a_outcomeOf a_resKey a_resValue a_countOf a_digestOf a_appliedAt a_latchesOf a_place a_unknown : Nat → Int32}
theorem bx_repair {key : Int32} (W : bk_W lst fan 0 ti L h root f_spareTop a_keys a_vals a_count a_level a_low a_high a_right a_spare) (htc : f_threadCount = nI tc) (h6 : tc ≤ 6) (hfan : f_fan = nI fan) (hle : f_least = nI lst) (hro : f_root = nI root)
    (U : bk_Uk tc a_unknown (bk_Pn L h)) (hcv : bk_Cv (L 0) key.toInt ti) :
    ∃ (L' : Nat → List bk_Nd) (h' root' : Nat) (st' : Int32) (ky' vl' ct' lv' lw' hg' rt' sp' pa' pl' un' : Nat → Int32), bk_W lst fan 100 0 L' h' root' st' ky' vl' ct' lv' lw' hg' rt' sp' ∧ bk_fl (L' 0) = bk_fl (L 0) ∧
        (∀ i, ¬ bk_Pn L' h' i) ∧ (∀ q, q < tc → un' q < 0) ∧ (∀ g, bk_Pl tc a_place g L h → bk_Pl tc pl' g L' h') ∧
        ∀ post : SX → Prop, post (f_threadCount, f_fan, f_capacity, f_pace, f_least, st', nI root', f_head, f_records, f_appliedTotal, ky', vl', ct', lv', lw', hg', rt', sp', pa', a_phaseOf, a_kindOf, a_firstOf, a_secondOf, a_leftOf, a_outcomeOf, a_resKey, a_resValue, a_countOf, a_digestOf, a_appliedAt, a_latchesOf, pl', un') →
          wpX_repair post (f_threadCount, f_fan, f_capacity, f_pace, f_least, f_spareTop, f_root, f_head, f_records, f_appliedTotal, a_keys, a_vals, a_count, a_level, a_low, a_high, a_right, a_spare, a_path, a_phaseOf, a_kindOf, a_firstOf, a_secondOf, a_leftOf, a_outcomeOf, a_resKey, a_resValue, a_countOf, a_digestOf, a_appliedAt, a_latchesOf, a_place, a_unknown) key := by
  obtain ⟨st1, h1, root1, L1, ky1, vl1, ct1, lv1, lw1, hg1, rt1, un1, a1, a2, a3, a4, a5, a6⟩ := bx_settle (tc := tc) (f_threadCount := f_threadCount) (f_fan := f_fan) (f_capacity := f_capacity) (f_pace := f_pace) (f_least := f_least) (f_spareTop := f_spareTop) (f_root := f_root) (f_head := f_head) (f_records := f_records) (f_appliedTotal := f_appliedTotal) (a_keys := a_keys) (a_vals := a_vals) (a_count := a_count) (a_level := a_level) (a_low := a_low) (a_high := a_high) (a_right := a_right) (a_spare := a_spare) (a_path := a_path) (a_phaseOf := a_phaseOf) (a_kindOf := a_kindOf) (a_firstOf := a_firstOf) (a_secondOf := a_secondOf) (a_leftOf := a_leftOf) (a_outcomeOf := a_outcomeOf) (a_resKey := a_resKey) (a_resValue := a_resValue) (a_countOf := a_countOf) (a_digestOf := a_digestOf) (a_appliedAt := a_appliedAt) (a_latchesOf := a_latchesOf) (a_place := a_place) (a_unknown := a_unknown) htc h6 hfan (Or.inl rfl) hro W U
  have T1 := a1.1
  have hall := bk_noPn a5
  have h5 := T1.2.2.1
  obtain ⟨x, ex, hx1, hx2⟩ := bk_top1 T1.1 (hall h1 (Nat.le_refl _))
  have hxm : x ∈ L1 h1 := by rw [ex]; simp
  have hxt := bk_T_m T1 (Nat.le_refl h1) hxm
  have hr80 : root1 < 80 := by rw [← hx1]; exact hxt.1
  have hklo := key.le_toInt
  have hkhi := key.toInt_lt
  obtain ⟨pa, b1, b2, b3⟩ := bx_trace_7 (key := key) (f_threadCount := f_threadCount) (f_fan := f_fan) (f_capacity := f_capacity) (f_pace := f_pace) (f_least := f_least) (f_spareTop := st1) (f_root := nI root1) (f_head := f_head) (f_records := f_records) (f_appliedTotal := f_appliedTotal) (a_keys := ky1) (a_vals := vl1) (a_count := ct1) (a_level := lv1) (a_low := lw1) (a_high := hg1) (a_right := rt1) (a_spare := a_spare) (a_phaseOf := a_phaseOf) (a_kindOf := a_kindOf) (a_firstOf := a_firstOf) (a_secondOf := a_secondOf) (a_leftOf := a_leftOf) (a_outcomeOf := a_outcomeOf) (a_resKey := a_resKey) (a_resValue := a_resValue) (a_countOf := a_countOf) (a_digestOf := a_digestOf) (a_appliedAt := a_appliedAt) (a_latchesOf := a_latchesOf) (a_place := a_place) (a_unknown := un1) T1 hall h1 (Nat.le_refl _) [] x [] ex (by rw [hx2]; omega) hkhi a_path
  have hcv1 : bk_Cv (L1 0) key.toInt ti := bk_Cv_sl (bk_sh_sl a2).symm hcv
  obtain ⟨L', h', root', st', ky', vl', ct', lw', hg', rt', sp', pl', d1, d2, d3, d4, d5⟩ := bx_repair_21 (key := key) (h := h1) (root := root1) (f_threadCount := f_threadCount) (f_fan := f_fan) (f_capacity := f_capacity) (f_pace := f_pace) (f_least := f_least) (f_root := nI root1) (f_head := f_head) (f_records := f_records) (f_appliedTotal := f_appliedTotal) (a_level := lv1) (a_path := pa) (a_phaseOf := a_phaseOf) (a_kindOf := a_kindOf) (a_firstOf := a_firstOf) (a_secondOf := a_secondOf) (a_leftOf := a_leftOf) (a_outcomeOf := a_outcomeOf) (a_resKey := a_resKey) (a_resValue := a_resValue) (a_countOf := a_countOf) (a_digestOf := a_digestOf) (a_appliedAt := a_appliedAt) (a_latchesOf := a_latchesOf) (a_unknown := un1) htc h6 hle rfl h5 h1 0 (by omega) ti L1 st1 ky1 vl1 ct1 lw1 hg1 rt1 a_spare a_place a1 hall hcv1 (fun j _ hj => b1 j hj)
  refine ⟨L', h', root', st', ky', vl', ct', lv1, lw', hg', rt', sp', pa, pl', un1, d1, d2.trans (bk_sh_fl a2), bk_Pn_no d3, a4, fun g hg => d4 g (bk_Pl_gw a3 hg), fun post hp => ?_⟩
  unfold wpX_repair
  refine a6 _ ?_
  unfold wpX_trace
  have hst : nI x.1 = nI root1 := by rw [hx1]
  rw [← hst]
  refine ⟨h1 + 1, ?_⟩
  have hlv : lv1 root1 = nI h1 := by rw [← hx1]; exact hxt.2.2.2.1
  have hgoal : vp_in (nI root1) 80 ∧ ∀ x2 : Int32, x2 = lv1 (nI root1).toNatClampNeg → ∃ n21 : Nat, wX_repair_21 post x2 n21 0 f_threadCount f_fan f_capacity f_pace f_least st1 (nI root1) f_head f_records f_appliedTotal ky1 vl1 ct1 lv1 lw1 hg1 rt1 a_spare pa a_phaseOf a_kindOf a_firstOf a_secondOf a_leftOf a_outcomeOf a_resKey a_resValue a_countOf a_digestOf a_appliedAt a_latchesOf a_place un1 := by
    refine ⟨bx_in hr80, nm_r (e' := nI h1) (by rw [bx_cl (by omega)]; exact hlv) ⟨h1 + 1, d5 _ (by omega) post hp⟩⟩
  rw [← hst] at hgoal b3
  exact b3 0 (by omega) _ (by omega) _ hgoal
theorem bx_uproot {k : Int} {v r : Int32} (W : bk_W lst fan 100 0 L h root f_spareTop a_keys a_vals a_count a_level a_low a_high a_right a_spare) (htc : f_threadCount = nI tc) (h6 : tc ≤ 6) (hfan : f_fan = nI fan) (hle : f_least = nI lst) (hro : f_root = nI root)
    (U : bk_Uk tc a_unknown (bk_Pn L h)) (S : bk_Sl L k v r) :
    ∃ (L' : Nat → List bk_Nd) (h' root' : Nat) (st' : Int32) (ky' vl' ct' lv' lw' hg' rt' sp' pa' pl' un' : Nat → Int32), bk_W lst fan 100 0 L' h' root' st' ky' vl' ct' lv' lw' hg' rt' sp' ∧
        (∃ M1 M2, bk_fl (L 0) = M1 ++ (k, v) :: M2 ∧ bk_fl (L' 0) = M1 ++ M2) ∧ bk_Uk tc un' (bk_Pn L' h') ∧ (∀ q, q < tc → a_unknown q < 0 → un' q < 0) ∧ (∀ g, bk_Pl tc a_place g L h → bk_Pl tc pl' g L' h') ∧
        ∀ post : SX → Prop, post (f_threadCount, f_fan, f_capacity, f_pace, f_least, st', nI root', f_head, f_records - 1, f_appliedTotal, ky', vl', ct', lv', lw', hg', rt', sp', pa', a_phaseOf, a_kindOf, a_firstOf, a_secondOf, a_leftOf, a_outcomeOf, a_resKey, a_resValue, a_countOf, a_digestOf, a_appliedAt, a_latchesOf, pl', un') →
          wpX_uproot post (f_threadCount, f_fan, f_capacity, f_pace, f_least, f_spareTop, f_root, f_head, f_records, f_appliedTotal, a_keys, a_vals, a_count, a_level, a_low, a_high, a_right, a_spare, a_path, a_phaseOf, a_kindOf, a_firstOf, a_secondOf, a_leftOf, a_outcomeOf, a_resKey, a_resValue, a_countOf, a_digestOf, a_appliedAt, a_latchesOf, a_place, a_unknown) r := by
  obtain ⟨A, x, B, e1, e2, ex, hes, hr⟩ := S
  have T := W.1
  have hlst := W.2.2.1
  have hf3 := W.2.2.2
  have hf6 := T.2.2.2.2
  have h5 := T.2.2.1
  obtain ⟨t1, t2, t3⟩ := bk_T_at T (l := 0) (by omega) ex
  have hx80 := t1.1
  have hxm : x ∈ L 0 := by rw [ex]; simp
  have hlen : x.2.2.2.length = e1.length + (e2.length + 1) := by rw [hes, List.length_append, List.length_cons]
  obtain ⟨ky, vl, ct, N1, S1, w1⟩ := bx_remove (f_threadCount := f_threadCount) (f_fan := f_fan) (f_capacity := f_capacity) (f_pace := f_pace) (f_least := f_least) (f_spareTop := f_spareTop) (f_root := f_root) (f_head := f_head) (f_records := f_records) (f_appliedTotal := f_appliedTotal) (a_keys := a_keys) (a_vals := a_vals) (a_count := a_count) (a_level := a_level) (a_low := a_low) (a_high := a_high) (a_right := a_right) (a_spare := a_spare) (a_path := a_path) (a_phaseOf := a_phaseOf) (a_kindOf := a_kindOf) (a_firstOf := a_firstOf) (a_secondOf := a_secondOf) (a_leftOf := a_leftOf) (a_outcomeOf := a_outcomeOf) (a_resKey := a_resKey) (a_resValue := a_resValue) (a_countOf := a_countOf) (a_digestOf := a_digestOf) (a_appliedAt := a_appliedAt) (a_latchesOf := a_latchesOf) (a_place := a_place) (a_unknown := a_unknown) hx80 t2.1 hes (by omega)
  have huq := bk_uqA T (l := 0) (by omega) ex
  have hkr := t2.1.2 _ _ (bx_get2 hes)
  have hV := T.1.1 0 (by omega)
  have hfl0 : bk_fl (L 0) = (bk_fl A ++ e1) ++ (k, v) :: (e2 ++ bk_fl B) := by
    rw [ex, bk_fl_app, bk_fl_cons, hes]; simp
  have hfl1 : bk_fl (A ++ [(x.1, x.2.1, x.2.2.1, e1 ++ e2)] ++ B) = (bk_fl A ++ e1) ++ (e2 ++ bk_fl B) := by
    rw [bk_fl_app, bk_fl_app, bk_fl_cons, bk_fl_nil]; simp
  have hP : bk_PT lst fan 0 x.1 (bk_up L 0 (A ++ [(x.1, x.2.1, x.2.2.1, e1 ++ e2)] ++ B)) h root := by
    have hl1 : (A ++ [(x.1, x.2.1, x.2.2.1, e1 ++ e2)] ++ B).length = (L 0).length := by rw [ex]; simp
    refine bk_PT_up1 T.1 (fun l' _ _ i => by rw [bk_ds_n (by omega)]; exact Nat.zero_le _) ?_ ?_ (fun h0 => ?_) (by rw [hl1]; exact T.1.2.2.2.1) ?_
    · rw [hl1]
      have fV := hV.2.2
      have hV' := hV
      rw [ex, show A ++ x :: B = A ++ [x] ++ B by simp] at hV'
      have hup : ∀ z, z ∈ L 0 → z.2.2.2.length ≤ fan ∧ bk_mn lst h 0 (L 0).length ≤ z.2.2.2.length := fun z hz => by
        have := fV z hz
        rw [bk_ds_n (by omega)] at this
        omega
      refine bk_LV_rep hV' rfl (fun z => z) ⟨⟨t1.1, t1.2.1, ?_, fun h0 => absurd h0 (by omega)⟩, trivial⟩ (fun z hz => by have := hup z (by rw [ex]; simp [hz]); omega) (fun z hz => ?_) (fun z hz => by have := hup z (by rw [ex]; simp [hz]); omega)
      · have hs := t1.2.2.1
        rw [hes] at hs
        refine ⟨hs.1.sublist (List.Sublist.append_left (List.sublist_cons_self _ _) _), fun q hq => hs.2 q ?_⟩
        rcases List.mem_append.mp hq with hq | hq
        · simp [hq]
        · simp [hq]
      · rw [List.mem_singleton.mp hz]
        have := hup x hxm
        show (e1 ++ e2).length ≤ fan ∧ _ ≤ (e1 ++ e2).length + bk_ds 0 x.1 0 x.1
        rw [bk_ds_s, List.length_append]
        omega
    · rw [ex]
      simp only [bk_kn, List.filter_append, List.filter_cons, List.filter_nil, List.map_append, List.append_assoc]
      cases x.2.2.1 <;> simp
    · obtain ⟨w, ws, e, g1, g2⟩ := T.1.2.2.1
      subst h0
      rw [ex] at e
      cases A with
      | nil =>
        injection e with e3 e4
        subst e3 e4
        exact ⟨_, _, rfl, g1, g2⟩
      | cons a A =>
        injection e with e3 e4
        subst e3 e4
        refine ⟨_, _, rfl, g1, fun y hy => ?_⟩
        rcases List.mem_append.mp hy with hy | hy
        · rcases List.mem_append.mp hy with hy | hy
          · exact g2 y (by simp [hy])
          · rw [List.mem_singleton.mp hy]; exact g2 x (by simp)
        · exact g2 y (by simp [hy])
    · obtain ⟨w, ws, e, g1⟩ := T.1.2.2.2.2
      rw [ex] at e
      cases A with
      | nil =>
        injection e with e3 e4
        subst e3 e4
        exact ⟨_, _, rfl, g1⟩
      | cons a A =>
        injection e with e3 e4
        subst e3 e4
        exact ⟨_, _, rfl, g1⟩
  have hK : bk_LK ky vl ct a_level a_low a_high a_right (bk_up L 0 (A ++ [(x.1, x.2.1, x.2.2.1, e1 ++ e2)] ++ B)) h := by
    intro j hj
    by_cases e : j = 0
    · subst e
      rw [bk_up_s]
      have c := T.2.1 0 hj
      rw [ex, show A ++ x :: B = A ++ [x] ++ B by simp] at c
      refine bk_lq_rep c (fun z hz => ⟨⟨S1 _ (huq z (Or.inl hz)), rfl, rfl, rfl, rfl⟩, ?_⟩) (fun z hz => ⟨⟨S1 _ (huq z (Or.inr hz)), rfl, rfl, rfl, rfl⟩, ?_⟩) rfl rfl ⟨⟨N1, t2.2⟩, trivial⟩
      · have := (bk_T_m T hj (x := z) (by rw [ex]; simp [hz])).2.1; omega
      · have := (bk_T_m T hj (x := z) (by rw [ex]; simp [hz])).2.1; omega
    · rw [bk_up_n _ _ e]
      refine bk_lq_same (T.2.1 j hj) (fun z hz => ⟨⟨S1 _ (fun hc => e (bk_uq T hj (l' := 0) (by omega) hz hxm hc).1), rfl, rfl, rfl, rfl⟩, ?_⟩)
      have := (bk_T_m T hj hz).2.1; omega
  have hF : bk_Fr f_spareTop a_spare (bk_up L 0 (A ++ [(x.1, x.2.1, x.2.2.1, e1 ++ e2)] ++ B)) h := by
    refine bk_Fr_up W.2.1 (by omega) (by rw [ex]; simp) (fun z hz => ?_)
    rw [ex]
    rcases List.mem_append.mp hz with hz | hz
    · rcases List.mem_append.mp hz with hz | hz
      · exact ⟨z, by simp [hz], rfl⟩
      · exact ⟨x, by simp, by rw [List.mem_singleton.mp hz]⟩
    · exact ⟨z, by simp [hz], rfl⟩
  have htb : bk_tb (bk_up L 0 (A ++ [(x.1, x.2.1, x.2.2.1, e1 ++ e2)] ++ B)) (h + 1) ≤ 80 := by obtain ⟨s', _, hs', _⟩ := hF; omega
  have W1 : bk_W lst fan 0 x.1 (bk_up L 0 (A ++ [(x.1, x.2.1, x.2.2.1, e1 ++ e2)] ++ B)) h root f_spareTop ky vl ct a_level a_low a_high a_right a_spare := ⟨⟨hP, hK, h5, htb, hf6⟩, hF, hlst, hf3⟩
  have hG : bk_Gw L h (bk_up L 0 (A ++ [(x.1, x.2.1, x.2.2.1, e1 ++ e2)] ++ B)) h := by
    intro j hj
    refine ⟨hj, fun z hz => ?_⟩
    by_cases e : j = 0
    · subst e
      rw [bk_up_s]
      rw [ex] at hz
      rcases List.mem_append.mp hz with hz | hz
      · exact ⟨z, by simp [hz], rfl, rfl⟩
      · rcases List.mem_cons.mp hz with hz | hz
        · exact ⟨(x.1, x.2.1, x.2.2.1, e1 ++ e2), by simp, by rw [hz], by rw [hz]⟩
        · exact ⟨z, by simp [hz], rfl, rfl⟩
    · rw [bk_up_n _ _ e]; exact ⟨z, hz, rfl, rfl⟩
  have hPn : bk_Pn (bk_up L 0 (A ++ [(x.1, x.2.1, x.2.2.1, e1 ++ e2)] ++ B)) h = bk_Pn L h := by
    funext i
    apply propext
    constructor
    · rintro ⟨j, hj, z, hz, hk, hi⟩
      by_cases e : j = 0
      · subst e
        rw [bk_up_s] at hz
        rcases List.mem_append.mp hz with hz | hz
        · rcases List.mem_append.mp hz with hz | hz
          · exact ⟨0, hj, z, by rw [ex]; simp [hz], hk, hi⟩
          · rw [List.mem_singleton.mp hz] at hk hi
            exact ⟨0, hj, x, hxm, hk, hi⟩
        · exact ⟨0, hj, z, by rw [ex]; simp [hz], hk, hi⟩
      · rw [bk_up_n _ _ e] at hz; exact ⟨j, hj, z, hz, hk, hi⟩
    · rintro ⟨j, hj, z, hz, hk, hi⟩
      by_cases e : j = 0
      · subst e
        rw [ex] at hz
        rcases List.mem_append.mp hz with hz | hz
        · exact ⟨0, hj, z, by rw [bk_up_s]; simp [hz], hk, hi⟩
        · rcases List.mem_cons.mp hz with hz | hz
          · rw [hz] at hk hi
            exact ⟨0, hj, (x.1, x.2.1, x.2.2.1, e1 ++ e2), by rw [bk_up_s]; simp, hk, hi⟩
          · exact ⟨0, hj, z, by rw [bk_up_s]; simp [hz], hk, hi⟩
      · exact ⟨j, hj, z, by rw [bk_up_n _ _ e]; exact hz, hk, hi⟩
  have hx3 : r >>> ((3 : Int32) &&& 31) = nI x.1 := by
    rw [hr, pk_shrN (by omega) _ 3 (by decide)]
    exact congrArg nI (by omega)
  have hx7 : r &&& 7 = nI e1.length := by
    rw [hr, pk_andN (by omega) 3 (by decide)]
    exact congrArg nI (by omega)
  have hrin : vp_in r 640 := by rw [hr]; exact vp_in_nI (by omega) (by omega)
  have hkey : a_keys r.toNatClampNeg = a_keys (8 * x.1 + e1.length) := by rw [hr, bx_cl (by omega)]
  by_cases hthin : lst ≤ (e1 ++ e2).length
  · refine ⟨bk_up L 0 (A ++ [(x.1, x.2.1, x.2.2.1, e1 ++ e2)] ++ B), h, root, f_spareTop, ky, vl, ct, a_level, a_low, a_high, a_right, a_spare, a_path, a_place, a_unknown, bk_W_drop W1 (fun _ y hy hyi => ?_), ⟨_, _, hfl0, by rw [bk_up_s, hfl1]⟩, by rw [hPn]; exact U, fun q _ hq => hq, fun g hg => bk_Pl_gw hG hg, fun post hp => ?_⟩
    · have hyx := (bk_uq W1.1 (l := 0) (l' := 0) (by omega) (by omega) hy (y := (x.1, x.2.1, x.2.2.1, e1 ++ e2)) (by rw [bk_up_s]; simp) hyi).2
      rw [hyx]
      have := bk_mn_le (lst := lst) (h := h) (l := 0) (len := (bk_up L 0 (A ++ [(x.1, x.2.1, x.2.2.1, e1 ++ e2)] ++ B) 0).length) (by omega)
      exact Nat.le_trans this hthin
    · unfold wpX_uproot
      refine nm_r hx3 (nm_r hx7 ⟨hrin, nm_e (w1 _ (nm_e ⟨bx_in hx80, ?_⟩))⟩)
      rw [bx_cl (n := x.1) (by omega), N1.1, hle]
      exact br_t (nI_le hthin (by rw [List.length_append]; omega)) (hro ▸ hle ▸ hp)
  · obtain ⟨L', h', root', st', ky', vl', ct', lv', lw', hg', rt', sp', pa', pl', un', d1, d2, d3, d4, d5, d6⟩ := bx_repair (tc := tc) (key := a_keys (8 * x.1 + e1.length)) (f_threadCount := f_threadCount) (f_fan := f_fan) (f_capacity := f_capacity) (f_pace := f_pace) (f_least := f_least) (f_spareTop := f_spareTop) (f_root := f_root) (f_head := f_head) (f_records := f_records - 1) (f_appliedTotal := f_appliedTotal) (a_keys := ky) (a_vals := vl) (a_count := ct) (a_level := a_level) (a_low := a_low) (a_high := a_high) (a_right := a_right) (a_spare := a_spare) (a_path := a_path) (a_phaseOf := a_phaseOf) (a_kindOf := a_kindOf) (a_firstOf := a_firstOf) (a_secondOf := a_secondOf) (a_leftOf := a_leftOf) (a_outcomeOf := a_outcomeOf) (a_resKey := a_resKey) (a_resValue := a_resValue) (a_countOf := a_countOf) (a_digestOf := a_digestOf) (a_appliedAt := a_appliedAt) (a_latchesOf := a_latchesOf) (a_place := a_place) (a_unknown := a_unknown) W1 htc h6 hfan hle hro (by rw [hPn]; exact U) (by
      rw [bk_up_s, hkr.1]
      have hkx := t1.2.2.1.2 (k, v) (by rw [hes]; simp)
      exact ⟨A, (x.1, x.2.1, x.2.2.1, e1 ++ e2), B, by simp, hkx.1, hkx.2, rfl⟩)
    refine ⟨L', h', root', st', ky', vl', ct', lv', lw', hg', rt', sp', pa', pl', un', d1, ⟨_, _, hfl0, by rw [d2, bk_up_s, hfl1]⟩, ⟨fun i hi => absurd hi (d3 i), fun t ht => Or.inl (d4 t ht), fun t t' ht _ hn _ => absurd (d4 t ht) hn⟩, fun q hq _ => d4 q hq, fun g hg => d5 g (bk_Pl_gw hG hg), fun post hp => ?_⟩
    unfold wpX_uproot
    refine nm_r hx3 (nm_r hx7 ⟨hrin, nm_r hkey (w1 _ (nm_e ⟨bx_in hx80, ?_⟩))⟩)
    refine br_f ?_ (d6 _ hp)
    rw [bx_cl (n := x.1) (by omega), N1.1, hle]
    exact nI_ge (by omega) (by omega)
end
end
section
/-! ===== 23: the reference: its records as a list; its searches ===== -/
def bk_yl (us ks vs : Nat → Int32) : Nat → List (Int × Int32)
  | 0 => []
  | n + 1 => bk_yl us ks vs n ++ (if us n = 0 then [] else [((ks n).toInt, vs n)])
def bk_ce (us ks vs : Nat → Int32) (s : Nat) : List (Int × Int32) := if us s = 0 then [] else [((ks s).toInt, vs s)]
theorem bk_yl_s (us ks vs : Nat → Int32) (n : Nat) : bk_yl us ks vs (n + 1) = bk_yl us ks vs n ++ bk_ce us ks vs n := rfl
theorem bk_ce_0 {us ks vs : Nat → Int32} {s : Nat} (h : us s = 0) : bk_ce us ks vs s = [] := if_pos h
theorem bk_ce_1 {us ks vs : Nat → Int32} {s : Nat} (h : ¬ us s = 0) : bk_ce us ks vs s = [((ks s).toInt, vs s)] := if_neg h
theorem bk_yl_mem {us ks vs : Nat → Int32} {e : Int × Int32} : ∀ {n}, e ∈ bk_yl us ks vs n ↔ ∃ s, s < n ∧ ¬ us s = 0 ∧ e = ((ks s).toInt, vs s)
  | 0 => ⟨(fun h => by cases h), (fun ⟨s, h, _⟩ => absurd h (by omega))⟩
  | n + 1 => by
    rw [bk_yl_s, List.mem_append, bk_yl_mem (n := n)]
    constructor
    · rintro (⟨s, h1, h2, h3⟩ | h)
      · exact ⟨s, by omega, h2, h3⟩
      · by_cases z : us n = 0
        · rw [bk_ce_0 z] at h; cases h
        · rw [bk_ce_1 z] at h
          exact ⟨n, by omega, z, List.mem_singleton.mp h⟩
    · rintro ⟨s, h1, h2, h3⟩
      by_cases e : s = n
      · subst e
        right
        rw [bk_ce_1 h2, h3]
        exact List.mem_singleton.mpr rfl
      · exact Or.inl ⟨s, by omega, h2, h3⟩
theorem bk_yl_eq {us ks vs us' ks' vs' : Nat → Int32} : ∀ {n}, (∀ s, s < n → bk_ce us' ks' vs' s = bk_ce us ks vs s) → bk_yl us' ks' vs' n = bk_yl us ks vs n
  | 0, _ => rfl
  | n + 1, h => by rw [bk_yl_s, bk_yl_s, bk_yl_eq (fun s hs => h s (by omega)), h n (by omega)]
/-- one slot against all the others -/
theorem bk_yl_at {us ks vs : Nat → Int32} {s : Nat} : ∀ {n}, s < n → ∃ rest, (bk_yl us ks vs n).Perm (bk_ce us ks vs s ++ rest) ∧
    ∀ us' ks' vs' : Nat → Int32, (∀ q, q ≠ s → us' q = us q ∧ ks' q = ks q ∧ vs' q = vs q) → (bk_yl us' ks' vs' n).Perm (bk_ce us' ks' vs' s ++ rest)
  | 0, h => absurd h (by omega)
  | n + 1, h => by
    by_cases e : s = n
    · subst e
      refine ⟨bk_yl us ks vs s, List.perm_append_comm, fun us' ks' vs' ha => ?_⟩
      have : bk_yl us' ks' vs' s = bk_yl us ks vs s := bk_yl_eq (fun q hq => by
        have := ha q (by omega)
        unfold bk_ce
        rw [this.1, this.2.1, this.2.2])
      rw [bk_yl_s, this]
      exact List.perm_append_comm
    · obtain ⟨rest, h1, h2⟩ := bk_yl_at (us := us) (ks := ks) (vs := vs) (s := s) (n := n) (by omega)
      refine ⟨rest ++ bk_ce us ks vs n, ?_, fun us' ks' vs' ha => ?_⟩
      · rw [bk_yl_s, ← List.append_assoc]
        exact h1.append_right _
      · have hc : bk_ce us' ks' vs' n = bk_ce us ks vs n := by
          have := ha n (fun z => e z.symm)
          unfold bk_ce
          rw [this.1, this.2.1, this.2.2]
        rw [bk_yl_s, hc, ← List.append_assoc]
        exact (h2 us' ks' vs' ha).append_right _
theorem bk_yl_len {us ks vs : Nat → Int32} : ∀ n, (∀ s, s < n → ¬ us s = 0) → (bk_yl us ks vs n).length = n
  | 0, _ => rfl
  | n + 1, h => by
    rw [bk_yl_s, List.length_append, bk_yl_len n (fun s hs => h s (by omega)), bk_ce_1 (h n (by omega))]
    rfl
theorem bk_yl_uq {us ks vs : Nat → Int32} : ∀ {n}, (bk_yl us ks vs n).Pairwise (fun p q => p.1 ≠ q.1) → ∀ {s s'}, s < n → s' < n → ¬ us s = 0 → ¬ us s' = 0 → ks s = ks s' → s = s'
  | 0, _, s, s', h, _, _, _, _ => absurd h (by omega)
  | n + 1, hp, s, s', h1, h2, u1, u2, e => by
    rw [bk_yl_s] at hp
    have d := List.pairwise_append.mp hp
    by_cases a : s = n
    · by_cases b : s' = n
      · rw [a, b]
      · subst a
        exact absurd (by rw [e]) (d.2.2 ((ks s').toInt, vs s') (bk_yl_mem.mpr ⟨s', by omega, u2, rfl⟩) ((ks s).toInt, vs s) (by rw [bk_ce_1 u1]; exact List.mem_singleton.mpr rfl))
    · by_cases b : s' = n
      · subst b
        exact absurd (by rw [e]) (d.2.2 ((ks s).toInt, vs s) (bk_yl_mem.mpr ⟨s, by omega, u1, rfl⟩) ((ks s').toInt, vs s') (by rw [bk_ce_1 u2]; exact List.mem_singleton.mpr rfl))
      · exact bk_yl_uq d.1 (by omega) (by omega) u1 u2 e
/-- the records of both sides -/
def bk_Pm (M : List (Int × Int32)) (us ks vs : Nat → Int32) : Prop := M.Perm (bk_yl us ks vs 64)
theorem bk_Pm_mem {M : List (Int × Int32)} {us ks vs : Nat → Int32} (P : bk_Pm M us ks vs) {e : Int × Int32} : e ∈ M ↔ ∃ s, s < 64 ∧ ¬ us s = 0 ∧ e = ((ks s).toInt, vs s) :=
  (P.mem_iff).trans bk_yl_mem
theorem bk_Pm_pw {M : List (Int × Int32)} {us ks vs : Nat → Int32} (P : bk_Pm M us ks vs) (hs : M.Pairwise (fun p q => p.1 < q.1)) : (bk_yl us ks vs 64).Pairwise (fun p q => p.1 ≠ q.1) :=
  P.pairwise (hs.imp (fun h => by omega)) (fun h => Ne.symm h)
theorem bk_Pm_uq {M : List (Int × Int32)} {us ks vs : Nat → Int32} (P : bk_Pm M us ks vs) (hs : M.Pairwise (fun p q => p.1 < q.1)) {s s' : Nat} (h1 : s < 64) (h2 : s' < 64) (u1 : ¬ us s = 0) (u2 : ¬ us s' = 0) (e : ks s = ks s') : s = s' :=
  bk_yl_uq (bk_Pm_pw P hs) h1 h2 u1 u2 e
theorem bk_64 {s : Nat} (h : s < 64) : vp_in (nI s) 64 := vp_in_nI h (by omega)
def bk_YF (us ks : Nat → Int32) (key r : Int32) : Prop := (∃ s, s < 64 ∧ r = nI s ∧ ¬ us s = 0 ∧ ks s = key) ∨ (r = -1 ∧ ∀ s, s < 64 → ¬ us s = 0 → ks s ≠ key)
def bk_Bm (Q : Nat → Prop) (kf : Nat → Int) (n : Nat) (b : Int32) : Prop := (b = -1 ∧ ∀ s, s < n → ¬ Q s) ∨ (∃ s, s < n ∧ b = nI s ∧ Q s ∧ ∀ s', s' < n → Q s' → kf s ≤ kf s')
theorem bk_Bm_no {Q : Nat → Prop} {kf : Nat → Int} {n : Nat} {b : Int32} (h : bk_Bm Q kf n b) (hq : ¬ Q n) : bk_Bm Q kf (n + 1) b := by
  have key : ∀ s, s < n + 1 → Q s → s < n := fun s hs hQ => by
    by_cases e : s = n
    · rw [e] at hQ; exact absurd hQ hq
    · omega
  rcases h with ⟨h1, h2⟩ | ⟨s, h1, h2, h3, h4⟩
  · exact Or.inl ⟨h1, fun s hs hQ => h2 s (key s hs hQ) hQ⟩
  · exact Or.inr ⟨s, by omega, h2, h3, fun s' hs' hQ => h4 s' (key s' hs' hQ) hQ⟩
theorem bk_Bm_new {Q : Nat → Prop} {kf : Nat → Int} {n : Nat} {b : Int32} (h : bk_Bm Q kf n b) (hq : Q n) (hb : b = -1 ∨ ∃ s, s < n ∧ b = nI s ∧ kf n ≤ kf s) (hn : n ≤ 64) : bk_Bm Q kf (n + 1) (nI n) := by
  refine Or.inr ⟨n, by omega, rfl, hq, fun s' hs' hQ => ?_⟩
  by_cases e : s' = n
  · rw [e]; exact Int.le_refl _
  · rcases h with ⟨h1, h2⟩ | ⟨s, h1, h2, h3, h4⟩
    · exact absurd hQ (h2 s' (by omega))
    · rcases hb with hb | ⟨s2, h5, h6, h7⟩
      · exact absurd (h2.symm.trans hb) (bx_neg (by omega))
      · have : s = s2 := bx_inj (by omega) (by omega) (h2.symm.trans h6)
        subst this
        have := h4 s' (by omega) hQ
        omega
theorem bk_Bm_old {Q : Nat → Prop} {kf : Nat → Int} {n s : Nat} (h : bk_Bm Q kf n (nI s)) (hs : s < n) (hk : kf s ≤ kf n) (hn : n ≤ 64) : bk_Bm Q kf (n + 1) (nI s) := by
  rcases h with ⟨h1, h2⟩ | ⟨s2, h1, h2, h3, h4⟩
  · exact absurd h1 (bx_neg (by omega))
  · have : s = s2 := bx_inj (by omega) (by omega) h2
    subst this
    refine Or.inr ⟨s, by omega, rfl, h3, fun s' hs' hQ => ?_⟩
    by_cases e : s' = n
    · rw [e]; exact hk
    · exact h4 s' (by omega) hQ
section
variable {f_threadCount f_fan f_capacity f_pace f_appliedTotal : Int32} {us ks vs a_phaseOf a_kindOf a_firstOf a_secondOf a_leftOf a_outcomeOf a_resKey a_resValue a_countOf a_digestOf a_appliedAt a_latchesOf : Nat → Int32}
theorem by_slotOf_2 {key : Int32} : ∀ d s, s + d = 64 → (∀ q, q < s → ¬ us q = 0 → ks q ≠ key) → ∃ r, bk_YF us ks key r ∧ ∀ n, d < n → ∀ post : Int32 → Prop, post r → wY_slotOf_2 post key f_threadCount f_fan f_capacity f_pace f_appliedTotal us ks vs a_phaseOf a_kindOf a_firstOf a_secondOf a_leftOf a_outcomeOf a_resKey a_resValue a_countOf a_digestOf a_appliedAt a_latchesOf n (nI s) := by
  intro d
  induction d with
  | zero =>
    intro s hs h
    refine ⟨-1, Or.inr ⟨rfl, fun q hq => h q (by omega)⟩, fun n hn post hp => ?_⟩
    obtain ⟨n, rfl⟩ : ∃ m, n = m + 1 := ⟨n - 1, by omega⟩
    exact br_t (nI_le (a := 64) (by omega) (by omega)) hp
  | succ d ih =>
    intro s hs h
    have h1 : ¬ (64 : Int32) ≤ nI s := nI_ge (b := 64) (by omega) (by decide)
    have h2 : vp_in (nI s) 64 := bk_64 (by omega)
    have h3 : (nI s).toNatClampNeg = s := bx_cl (by omega)
    by_cases u : us s = 0
    · obtain ⟨r, a, b⟩ := ih (s + 1) (by omega) (fun q hq hu => by
        by_cases e : q = s
        · rw [e] at hu; exact absurd u hu
        · exact h q (by omega) hu)
      refine ⟨r, a, fun n hn post hp => ?_⟩
      obtain ⟨n, rfl⟩ : ∃ m, n = m + 1 := ⟨n - 1, by omega⟩
      refine br_f h1 ⟨h2, br_t (by rw [h3]; exact u) (nm_r (nI_1 s) (b n (by omega) post hp))⟩
    · by_cases k : ks s = key
      · refine ⟨nI s, Or.inl ⟨s, by omega, rfl, u, k⟩, fun n hn post hp => ?_⟩
        obtain ⟨n, rfl⟩ : ∃ m, n = m + 1 := ⟨n - 1, by omega⟩
        exact br_f h1 ⟨h2, br_f (by rw [h3]; exact u) ⟨h2, br_t (by rw [h3]; exact k) hp⟩⟩
      · obtain ⟨r, a, b⟩ := ih (s + 1) (by omega) (fun q hq hu => by
          by_cases e : q = s
          · rw [e]; exact k
          · exact h q (by omega) hu)
        refine ⟨r, a, fun n hn post hp => ?_⟩
        obtain ⟨n, rfl⟩ : ∃ m, n = m + 1 := ⟨n - 1, by omega⟩
        exact br_f h1 ⟨h2, br_f (by rw [h3]; exact u) ⟨h2, br_f (by rw [h3]; exact k) (nm_r (nI_1 s) (b n (by omega) post hp))⟩⟩
theorem by_slotOf (key : Int32) : ∃ r, bk_YF us ks key r ∧ ∀ post : Int32 → Prop, post r → wpY_slotOf post (f_threadCount, f_fan, f_capacity, f_pace, f_appliedTotal, us, ks, vs, a_phaseOf, a_kindOf, a_firstOf, a_secondOf, a_leftOf, a_outcomeOf, a_resKey, a_resValue, a_countOf, a_digestOf, a_appliedAt, a_latchesOf) key := by
  obtain ⟨r, a, b⟩ := by_slotOf_2 (key := key) (f_threadCount := f_threadCount) (f_fan := f_fan) (f_capacity := f_capacity) (f_pace := f_pace) (f_appliedTotal := f_appliedTotal) (us := us) (ks := ks) (vs := vs) (a_phaseOf := a_phaseOf) (a_kindOf := a_kindOf) (a_firstOf := a_firstOf) (a_secondOf := a_secondOf) (a_leftOf := a_leftOf) (a_outcomeOf := a_outcomeOf) (a_resKey := a_resKey) (a_resValue := a_resValue) (a_countOf := a_countOf) (a_digestOf := a_digestOf) (a_appliedAt := a_appliedAt) (a_latchesOf := a_latchesOf) 64 0 (by omega) (fun q hq => absurd hq (by omega))
  exact ⟨r, a, fun post hp => ⟨65, b 65 (by omega) post hp⟩⟩
theorem by_ceil_4 {key : Int32} : ∀ d s b, s + d = 64 → bk_Bm (fun q => ¬ us q = 0 ∧ key.toInt ≤ (ks q).toInt) (fun q => (ks q).toInt) s b →
    ∃ r, bk_Bm (fun q => ¬ us q = 0 ∧ key.toInt ≤ (ks q).toInt) (fun q => (ks q).toInt) 64 r ∧ ∀ n, d < n → ∀ post : Int32 → Prop, post r → wY_ceilSlot_4 post key f_threadCount f_fan f_capacity f_pace f_appliedTotal us ks vs a_phaseOf a_kindOf a_firstOf a_secondOf a_leftOf a_outcomeOf a_resKey a_resValue a_countOf a_digestOf a_appliedAt a_latchesOf n b (nI s) := by
  intro d
  induction d with
  | zero =>
    intro s b hs h
    have : s = 64 := by omega
    subst this
    refine ⟨b, h, fun n hn post hp => ?_⟩
    obtain ⟨n, rfl⟩ : ∃ m, n = m + 1 := ⟨n - 1, by omega⟩
    exact br_t (nI_le (a := 64) (by omega) (by omega)) hp
  | succ d ih =>
    intro s b hs h
    have h1 : ¬ (64 : Int32) ≤ nI s := nI_ge (b := 64) (by omega) (by decide)
    have h2 : vp_in (nI s) 64 := bk_64 (by omega)
    have h3 : (nI s).toNatClampNeg = s := bx_cl (by omega)
    by_cases u : us s = 0
    · obtain ⟨r, a, c⟩ := ih (s + 1) b (by omega) (bk_Bm_no h (fun z => z.1 u))
      refine ⟨r, a, fun n hn post hp => ?_⟩
      obtain ⟨n, rfl⟩ : ∃ m, n = m + 1 := ⟨n - 1, by omega⟩
      exact br_f h1 ⟨h2, br_t (by rw [h3]; exact u) (nm_r (nI_1 s) (c n (by omega) post hp))⟩
    · by_cases k : (ks s).toInt < key.toInt
      · obtain ⟨r, a, c⟩ := ih (s + 1) b (by omega) (bk_Bm_no h (fun z => by have := z.2; omega))
        refine ⟨r, a, fun n hn post hp => ?_⟩
        obtain ⟨n, rfl⟩ : ∃ m, n = m + 1 := ⟨n - 1, by omega⟩
        exact br_f h1 ⟨h2, br_f (by rw [h3]; exact u) ⟨h2, br_t (by rw [h3, bx_lt]; exact k) (nm_r (nI_1 s) (c n (by omega) post hp))⟩⟩
      · have hQ : ¬ us s = 0 ∧ key.toInt ≤ (ks s).toInt := ⟨u, by omega⟩
        rcases h with ⟨e1, e2⟩ | ⟨q, e1, rfl, e3, e4⟩
        · obtain ⟨r, a, c⟩ := ih (s + 1) (nI s) (by omega) (bk_Bm_new (Or.inl ⟨e1, e2⟩) hQ (Or.inl e1) (by omega))
          refine ⟨r, a, fun n hn post hp => ?_⟩
          obtain ⟨n, rfl⟩ : ∃ m, n = m + 1 := ⟨n - 1, by omega⟩
          exact br_f h1 ⟨h2, br_f (by rw [h3]; exact u) ⟨h2, br_f (by rw [h3, bx_lt]; exact k) (br_t (by rw [e1]; decide) (nm_r (nI_1 s) (c n (by omega) post hp)))⟩⟩
        · have hB : bk_Bm (fun q => ¬ us q = 0 ∧ key.toInt ≤ (ks q).toInt) (fun q => (ks q).toInt) s (nI q) := Or.inr ⟨q, e1, rfl, e3, e4⟩
          have h4 : vp_in (nI q) 64 := bk_64 (by omega)
          have h5 : (nI q).toNatClampNeg = q := bx_cl (by omega)
          by_cases kk : (ks q).toInt ≤ (ks s).toInt
          · obtain ⟨r, a, c⟩ := ih (s + 1) (nI q) (by omega) (bk_Bm_old hB e1 kk (by omega))
            refine ⟨r, a, fun n hn post hp => ?_⟩
            obtain ⟨n, rfl⟩ : ∃ m, n = m + 1 := ⟨n - 1, by omega⟩
            exact br_f h1 ⟨h2, br_f (by rw [h3]; exact u) ⟨h2, br_f (by rw [h3, bx_lt]; exact k) (br_f (nI_pos (by omega)) ⟨h2, h4, br_t (by rw [h3, h5, bx_le]; exact kk) (nm_r (nI_1 s) (c n (by omega) post hp))⟩)⟩⟩
          · obtain ⟨r, a, c⟩ := ih (s + 1) (nI s) (by omega) (bk_Bm_new hB hQ (Or.inr ⟨q, e1, rfl, by omega⟩) (by omega))
            refine ⟨r, a, fun n hn post hp => ?_⟩
            obtain ⟨n, rfl⟩ : ∃ m, n = m + 1 := ⟨n - 1, by omega⟩
            exact br_f h1 ⟨h2, br_f (by rw [h3]; exact u) ⟨h2, br_f (by rw [h3, bx_lt]; exact k) (br_f (nI_pos (by omega)) ⟨h2, h4, br_f (by rw [h3, h5, bx_le]; exact kk) (nm_r (nI_1 s) (c n (by omega) post hp))⟩)⟩⟩
theorem by_ceil (key : Int32) : ∃ r, bk_Bm (fun q => ¬ us q = 0 ∧ key.toInt ≤ (ks q).toInt) (fun q => (ks q).toInt) 64 r ∧ ∀ post : Int32 → Prop, post r → wpY_ceilSlot post (f_threadCount, f_fan, f_capacity, f_pace, f_appliedTotal, us, ks, vs, a_phaseOf, a_kindOf, a_firstOf, a_secondOf, a_leftOf, a_outcomeOf, a_resKey, a_resValue, a_countOf, a_digestOf, a_appliedAt, a_latchesOf) key := by
  obtain ⟨r, a, b⟩ := by_ceil_4 (key := key) (f_threadCount := f_threadCount) (f_fan := f_fan) (f_capacity := f_capacity) (f_pace := f_pace) (f_appliedTotal := f_appliedTotal) (us := us) (ks := ks) (vs := vs) (a_phaseOf := a_phaseOf) (a_kindOf := a_kindOf) (a_firstOf := a_firstOf) (a_secondOf := a_secondOf) (a_leftOf := a_leftOf) (a_outcomeOf := a_outcomeOf) (a_resKey := a_resKey) (a_resValue := a_resValue) (a_countOf := a_countOf) (a_digestOf := a_digestOf) (a_appliedAt := a_appliedAt) (a_latchesOf := a_latchesOf) 64 0 (-1) (by omega) (Or.inl ⟨rfl, fun q hq => absurd hq (by omega)⟩)
  exact ⟨r, a, fun post hp => ⟨65, b 65 (by omega) post hp⟩⟩
theorem by_floor_4 {key : Int32} : ∀ d s b, s + d = 64 → bk_Bm (fun q => ¬ us q = 0 ∧ (ks q).toInt ≤ key.toInt) (fun q => - (ks q).toInt) s b →
    ∃ r, bk_Bm (fun q => ¬ us q = 0 ∧ (ks q).toInt ≤ key.toInt) (fun q => - (ks q).toInt) 64 r ∧ ∀ n, d < n → ∀ post : Int32 → Prop, post r → wY_floorSlot_4 post key f_threadCount f_fan f_capacity f_pace f_appliedTotal us ks vs a_phaseOf a_kindOf a_firstOf a_secondOf a_leftOf a_outcomeOf a_resKey a_resValue a_countOf a_digestOf a_appliedAt a_latchesOf n b (nI s) := by
  intro d
  induction d with
  | zero =>
    intro s b hs h
    have : s = 64 := by omega
    subst this
    refine ⟨b, h, fun n hn post hp => ?_⟩
    obtain ⟨n, rfl⟩ : ∃ m, n = m + 1 := ⟨n - 1, by omega⟩
    exact br_t (nI_le (a := 64) (by omega) (by omega)) hp
  | succ d ih =>
    intro s b hs h
    have h1 : ¬ (64 : Int32) ≤ nI s := nI_ge (b := 64) (by omega) (by decide)
    have h2 : vp_in (nI s) 64 := bk_64 (by omega)
    have h3 : (nI s).toNatClampNeg = s := bx_cl (by omega)
    by_cases u : us s = 0
    · obtain ⟨r, a, c⟩ := ih (s + 1) b (by omega) (bk_Bm_no h (fun z => z.1 u))
      refine ⟨r, a, fun n hn post hp => ?_⟩
      obtain ⟨n, rfl⟩ : ∃ m, n = m + 1 := ⟨n - 1, by omega⟩
      exact br_f h1 ⟨h2, br_t (by rw [h3]; exact u) (nm_r (nI_1 s) (c n (by omega) post hp))⟩
    · by_cases k : key.toInt < (ks s).toInt
      · obtain ⟨r, a, c⟩ := ih (s + 1) b (by omega) (bk_Bm_no h (fun z => by have := z.2; omega))
        refine ⟨r, a, fun n hn post hp => ?_⟩
        obtain ⟨n, rfl⟩ : ∃ m, n = m + 1 := ⟨n - 1, by omega⟩
        exact br_f h1 ⟨h2, br_f (by rw [h3]; exact u) ⟨h2, br_t (by rw [h3, bx_lt]; exact k) (nm_r (nI_1 s) (c n (by omega) post hp))⟩⟩
      · have hQ : ¬ us s = 0 ∧ (ks s).toInt ≤ key.toInt := ⟨u, by omega⟩
        rcases h with ⟨e1, e2⟩ | ⟨q, e1, rfl, e3, e4⟩
        · obtain ⟨r, a, c⟩ := ih (s + 1) (nI s) (by omega) (bk_Bm_new (Or.inl ⟨e1, e2⟩) hQ (Or.inl e1) (by omega))
          refine ⟨r, a, fun n hn post hp => ?_⟩
          obtain ⟨n, rfl⟩ : ∃ m, n = m + 1 := ⟨n - 1, by omega⟩
          exact br_f h1 ⟨h2, br_f (by rw [h3]; exact u) ⟨h2, br_f (by rw [h3, bx_lt]; exact k) (br_t (by rw [e1]; decide) (nm_r (nI_1 s) (c n (by omega) post hp)))⟩⟩
        · have hB : bk_Bm (fun q => ¬ us q = 0 ∧ (ks q).toInt ≤ key.toInt) (fun q => - (ks q).toInt) s (nI q) := Or.inr ⟨q, e1, rfl, e3, e4⟩
          have h4 : vp_in (nI q) 64 := bk_64 (by omega)
          have h5 : (nI q).toNatClampNeg = q := bx_cl (by omega)
          by_cases kk : (ks s).toInt ≤ (ks q).toInt
          · obtain ⟨r, a, c⟩ := ih (s + 1) (nI q) (by omega) (bk_Bm_old hB e1 (by show - (ks q).toInt ≤ - (ks s).toInt; omega) (by omega))
            refine ⟨r, a, fun n hn post hp => ?_⟩
            obtain ⟨n, rfl⟩ : ∃ m, n = m + 1 := ⟨n - 1, by omega⟩
            exact br_f h1 ⟨h2, br_f (by rw [h3]; exact u) ⟨h2, br_f (by rw [h3, bx_lt]; exact k) (br_f (nI_pos (by omega)) ⟨h2, h4, br_t (by rw [h3, h5, bx_le]; exact kk) (nm_r (nI_1 s) (c n (by omega) post hp))⟩)⟩⟩
          · obtain ⟨r, a, c⟩ := ih (s + 1) (nI s) (by omega) (bk_Bm_new hB hQ (Or.inr ⟨q, e1, rfl, by show - (ks s).toInt ≤ - (ks q).toInt; omega⟩) (by omega))
            refine ⟨r, a, fun n hn post hp => ?_⟩
            obtain ⟨n, rfl⟩ : ∃ m, n = m + 1 := ⟨n - 1, by omega⟩
            exact br_f h1 ⟨h2, br_f (by rw [h3]; exact u) ⟨h2, br_f (by rw [h3, bx_lt]; exact k) (br_f (nI_pos (by omega)) ⟨h2, h4, br_f (by rw [h3, h5, bx_le]; exact kk) (nm_r (nI_1 s) (c n (by omega) post hp))⟩)⟩⟩
theorem by_floor (key : Int32) : ∃ r, bk_Bm (fun q => ¬ us q = 0 ∧ (ks q).toInt ≤ key.toInt) (fun q => - (ks q).toInt) 64 r ∧ ∀ post : Int32 → Prop, post r → wpY_floorSlot post (f_threadCount, f_fan, f_capacity, f_pace, f_appliedTotal, us, ks, vs, a_phaseOf, a_kindOf, a_firstOf, a_secondOf, a_leftOf, a_outcomeOf, a_resKey, a_resValue, a_countOf, a_digestOf, a_appliedAt, a_latchesOf) key := by
  obtain ⟨r, a, b⟩ := by_floor_4 (key := key) (f_threadCount := f_threadCount) (f_fan := f_fan) (f_capacity := f_capacity) (f_pace := f_pace) (f_appliedTotal := f_appliedTotal) (us := us) (ks := ks) (vs := vs) (a_phaseOf := a_phaseOf) (a_kindOf := a_kindOf) (a_firstOf := a_firstOf) (a_secondOf := a_secondOf) (a_leftOf := a_leftOf) (a_outcomeOf := a_outcomeOf) (a_resKey := a_resKey) (a_resValue := a_resValue) (a_countOf := a_countOf) (a_digestOf := a_digestOf) (a_appliedAt := a_appliedAt) (a_latchesOf := a_latchesOf) 64 0 (-1) (by omega) (Or.inl ⟨rfl, fun q hq => absurd hq (by omega)⟩)
  exact ⟨r, a, fun post hp => ⟨65, b 65 (by omega) post hp⟩⟩
theorem by_rank_4 {key : Int32} : ∀ d s, s + d = 64 → ∀ n, d < n → ∀ post : Int32 → Prop, post (nI ((bk_yl us ks vs 64).countP (fun p => decide (p.1 < key.toInt)))) →
    wY_rankOf_4 post key f_threadCount f_fan f_capacity f_pace f_appliedTotal us ks vs a_phaseOf a_kindOf a_firstOf a_secondOf a_leftOf a_outcomeOf a_resKey a_resValue a_countOf a_digestOf a_appliedAt a_latchesOf n (nI ((bk_yl us ks vs s).countP (fun p => decide (p.1 < key.toInt)))) (nI s) := by
  intro d
  induction d with
  | zero =>
    intro s hs n hn post hp
    have : s = 64 := by omega
    subst this
    obtain ⟨n, rfl⟩ : ∃ m, n = m + 1 := ⟨n - 1, by omega⟩
    exact br_t (nI_le (a := 64) (by omega) (by omega)) hp
  | succ d ih =>
    intro s hs n hn post hp
    obtain ⟨n, rfl⟩ : ∃ m, n = m + 1 := ⟨n - 1, by omega⟩
    have h1 : ¬ (64 : Int32) ≤ nI s := nI_ge (b := 64) (by omega) (by decide)
    have h2 : vp_in (nI s) 64 := bk_64 (by omega)
    have h3 : (nI s).toNatClampNeg = s := bx_cl (by omega)
    have hi := ih (s + 1) (by omega) n (by omega) post hp
    rw [bk_yl_s, List.countP_append] at hi
    by_cases u : us s = 0
    · rw [bk_ce_0 u] at hi
      exact br_f h1 ⟨h2, br_t (by rw [h3]; exact u) (nm_r (nI_1 s) hi)⟩
    · rw [bk_ce_1 u] at hi
      by_cases k : key.toInt ≤ (ks s).toInt
      · rw [show List.countP (fun p : Int × Int32 => decide (p.1 < key.toInt)) [((ks s).toInt, vs s)] = 0 from by
          rw [List.countP_cons, if_neg (by simp; exact k)]; rfl] at hi
        exact br_f h1 ⟨h2, br_f (by rw [h3]; exact u) ⟨h2, br_t (by rw [h3, bx_le]; exact k) (nm_r (nI_1 s) hi)⟩⟩
      · rw [show List.countP (fun p : Int × Int32 => decide (p.1 < key.toInt)) [((ks s).toInt, vs s)] = 1 from by
          rw [List.countP_cons, if_pos (by simp; omega)]; rfl] at hi
        exact br_f h1 ⟨h2, br_f (by rw [h3]; exact u) ⟨h2, br_f (by rw [h3, bx_le]; exact k) (nm_r (nI_1 _) (nm_r (nI_1 s) hi))⟩⟩
theorem by_rank (key : Int32) {post : Int32 → Prop} (hp : post (nI ((bk_yl us ks vs 64).countP (fun p => decide (p.1 < key.toInt))))) : wpY_rankOf post (f_threadCount, f_fan, f_capacity, f_pace, f_appliedTotal, us, ks, vs, a_phaseOf, a_kindOf, a_firstOf, a_secondOf, a_leftOf, a_outcomeOf, a_resKey, a_resValue, a_countOf, a_digestOf, a_appliedAt, a_latchesOf) key :=
  ⟨65, by_rank_4 (key := key) 64 0 (by omega) 65 (by omega) post hp⟩
theorem by_size_4 : ∀ d s, s + d = 64 → ∀ n, d < n → ∀ post : Int32 → Prop, post (nI (bk_yl us ks vs 64).length) → wY_size_4 post f_threadCount f_fan f_capacity f_pace f_appliedTotal us ks vs a_phaseOf a_kindOf a_firstOf a_secondOf a_leftOf a_outcomeOf a_resKey a_resValue a_countOf a_digestOf a_appliedAt a_latchesOf n (nI (bk_yl us ks vs s).length) (nI s) := by
  intro d
  induction d with
  | zero =>
    intro s hs n hn post hp
    have : s = 64 := by omega
    subst this
    obtain ⟨n, rfl⟩ : ∃ m, n = m + 1 := ⟨n - 1, by omega⟩
    exact br_t (nI_le (a := 64) (by omega) (by omega)) hp
  | succ d ih =>
    intro s hs n hn post hp
    obtain ⟨n, rfl⟩ : ∃ m, n = m + 1 := ⟨n - 1, by omega⟩
    have h1 : ¬ (64 : Int32) ≤ nI s := nI_ge (b := 64) (by omega) (by decide)
    have h2 : vp_in (nI s) 64 := bk_64 (by omega)
    have h3 : (nI s).toNatClampNeg = s := bx_cl (by omega)
    have hi := ih (s + 1) (by omega) n (by omega) post hp
    rw [bk_yl_s, List.length_append] at hi
    by_cases u : us s = 0
    · rw [bk_ce_0 u] at hi
      exact br_f h1 ⟨h2, br_t (by rw [h3]; exact u) (nm_r (nI_1 s) hi)⟩
    · rw [bk_ce_1 u] at hi
      exact br_f h1 ⟨h2, br_f (by rw [h3]; exact u) (nm_r (nI_1 _) (nm_r (nI_1 s) hi))⟩
theorem by_size {post : Int32 → Prop} (hp : post (nI (bk_yl us ks vs 64).length)) : wpY_size post (f_threadCount, f_fan, f_capacity, f_pace, f_appliedTotal, us, ks, vs, a_phaseOf, a_kindOf, a_firstOf, a_secondOf, a_leftOf, a_outcomeOf, a_resKey, a_resValue, a_countOf, a_digestOf, a_appliedAt, a_latchesOf) :=
  ⟨65, by_size_4 64 0 (by omega) 65 (by omega) post hp⟩
def bk_YA (us ks vs : Nat → Int32) (rank r : Int32) : Prop :=
  (∃ s, s < 64 ∧ r = nI s ∧ ¬ us s = 0 ∧ nI ((bk_yl us ks vs 64).countP (fun p => decide (p.1 < (ks s).toInt))) = rank) ∨
  (r = -1 ∧ ∀ s, s < 64 → ¬ us s = 0 → nI ((bk_yl us ks vs 64).countP (fun p => decide (p.1 < (ks s).toInt))) ≠ rank)
theorem by_slotAt_2 {rank : Int32} : ∀ d s, s + d = 64 → (∀ q, q < s → ¬ us q = 0 → nI ((bk_yl us ks vs 64).countP (fun p => decide (p.1 < (ks q).toInt))) ≠ rank) →
    ∃ r, bk_YA us ks vs rank r ∧ ∀ n, d < n → ∀ post : Int32 → Prop, post r → wY_slotAt_2 post rank f_threadCount f_fan f_capacity f_pace f_appliedTotal us ks vs a_phaseOf a_kindOf a_firstOf a_secondOf a_leftOf a_outcomeOf a_resKey a_resValue a_countOf a_digestOf a_appliedAt a_latchesOf n (nI s) := by
  intro d
  induction d with
  | zero =>
    intro s hs h
    refine ⟨-1, Or.inr ⟨rfl, fun q hq => h q (by omega)⟩, fun n hn post hp => ?_⟩
    obtain ⟨n, rfl⟩ : ∃ m, n = m + 1 := ⟨n - 1, by omega⟩
    exact br_t (nI_le (a := 64) (by omega) (by omega)) hp
  | succ d ih =>
    intro s hs h
    have h1 : ¬ (64 : Int32) ≤ nI s := nI_ge (b := 64) (by omega) (by decide)
    have h2 : vp_in (nI s) 64 := bk_64 (by omega)
    have h3 : (nI s).toNatClampNeg = s := bx_cl (by omega)
    by_cases u : us s = 0
    · obtain ⟨r, a, b⟩ := ih (s + 1) (by omega) (fun q hq hu => by
        by_cases e : q = s
        · rw [e] at hu; exact absurd u hu
        · exact h q (by omega) hu)
      refine ⟨r, a, fun n hn post hp => ?_⟩
      obtain ⟨n, rfl⟩ : ∃ m, n = m + 1 := ⟨n - 1, by omega⟩
      refine br_f h1 ⟨h2, br_t (by rw [h3]; exact u) (nm_r (nI_1 s) (b n (by omega) post hp))⟩
    · by_cases k : nI ((bk_yl us ks vs 64).countP (fun p => decide (p.1 < (ks s).toInt))) = rank
      · refine ⟨nI s, Or.inl ⟨s, by omega, rfl, u, k⟩, fun n hn post hp => ?_⟩
        obtain ⟨n, rfl⟩ : ∃ m, n = m + 1 := ⟨n - 1, by omega⟩
        refine br_f h1 ⟨h2, br_f (by rw [h3]; exact u) ⟨h2, ?_⟩⟩
        rw [h3]
        exact by_rank _ (br_t k hp)
      · obtain ⟨r, a, b⟩ := ih (s + 1) (by omega) (fun q hq hu => by
          by_cases e : q = s
          · rw [e]; exact k
          · exact h q (by omega) hu)
        refine ⟨r, a, fun n hn post hp => ?_⟩
        obtain ⟨n, rfl⟩ : ∃ m, n = m + 1 := ⟨n - 1, by omega⟩
        refine br_f h1 ⟨h2, br_f (by rw [h3]; exact u) ⟨h2, ?_⟩⟩
        rw [h3]
        exact by_rank _ (br_f k (nm_r (nI_1 s) (b n (by omega) post hp)))
theorem by_slotAt (rank : Int32) : ∃ r, bk_YA us ks vs rank r ∧ ∀ post : Int32 → Prop, post r → wpY_slotAt post (f_threadCount, f_fan, f_capacity, f_pace, f_appliedTotal, us, ks, vs, a_phaseOf, a_kindOf, a_firstOf, a_secondOf, a_leftOf, a_outcomeOf, a_resKey, a_resValue, a_countOf, a_digestOf, a_appliedAt, a_latchesOf) rank := by
  obtain ⟨r, a, b⟩ := by_slotAt_2 (rank := rank) (f_threadCount := f_threadCount) (f_fan := f_fan) (f_capacity := f_capacity) (f_pace := f_pace) (f_appliedTotal := f_appliedTotal) (us := us) (ks := ks) (vs := vs) (a_phaseOf := a_phaseOf) (a_kindOf := a_kindOf) (a_firstOf := a_firstOf) (a_secondOf := a_secondOf) (a_leftOf := a_leftOf) (a_outcomeOf := a_outcomeOf) (a_resKey := a_resKey) (a_resValue := a_resValue) (a_countOf := a_countOf) (a_digestOf := a_digestOf) (a_appliedAt := a_appliedAt) (a_latchesOf := a_latchesOf) 64 0 (by omega) (fun q hq => absurd hq (by omega))
  exact ⟨r, a, fun post hp => ⟨65, b 65 (by omega) post hp⟩⟩
theorem by_add_2 {key val : Int32} : ∀ d s, s + d = 64 → (∃ q, s ≤ q ∧ q < 64 ∧ us q = 0) → ∃ q, q < 64 ∧ us q = 0 ∧ ∀ n, d < n → ∀ post : SY → Prop, post (f_threadCount, f_fan, f_capacity, f_pace, f_appliedTotal, upd us q 1, upd ks q key, upd vs q val, a_phaseOf, a_kindOf, a_firstOf, a_secondOf, a_leftOf, a_outcomeOf, a_resKey, a_resValue, a_countOf, a_digestOf, a_appliedAt, a_latchesOf) → wY_add_2 post key val f_threadCount f_fan f_capacity f_pace f_appliedTotal us ks vs a_phaseOf a_kindOf a_firstOf a_secondOf a_leftOf a_outcomeOf a_resKey a_resValue a_countOf a_digestOf a_appliedAt a_latchesOf n (nI s) := by
  intro d
  induction d with
  | zero =>
    rintro s hs ⟨q, h1, h2, _⟩
    exact absurd h2 (by omega)
  | succ d ih =>
    intro s hs h
    have h1 : ¬ (64 : Int32) ≤ nI s := nI_ge (b := 64) (by omega) (by decide)
    have h2 : vp_in (nI s) 64 := bk_64 (by omega)
    have h3 : (nI s).toNatClampNeg = s := bx_cl (by omega)
    by_cases u : us s = 0
    · refine ⟨s, by omega, u, fun n hn post hp => ?_⟩
      obtain ⟨n, rfl⟩ : ∃ m, n = m + 1 := ⟨n - 1, by omega⟩
      refine br_f h1 ⟨h2, br_t (by rw [h3]; exact u) ⟨h2, nm_e ⟨h2, nm_e ⟨h2, nm_e ?_⟩⟩⟩⟩
      rw [h3]
      exact hp
    · obtain ⟨q, a, b, c⟩ := ih (s + 1) (by omega) (by
        obtain ⟨q, q1, q2, q3⟩ := h
        have : q ≠ s := fun z => u (by rw [← z]; exact q3)
        exact ⟨q, by omega, q2, q3⟩)
      refine ⟨q, a, b, fun n hn post hp => ?_⟩
      obtain ⟨n, rfl⟩ : ∃ m, n = m + 1 := ⟨n - 1, by omega⟩
      exact br_f h1 ⟨h2, br_f (by rw [h3]; exact u) (nm_r (nI_1 s) (c n (by omega) post hp))⟩
theorem by_add {M : List (Int × Int32)} (key val : Int32) (P : bk_Pm M us ks vs) (h : M.length < 64) :
    ∃ us' ks' vs' : Nat → Int32, bk_Pm ((key.toInt, val) :: M) us' ks' vs' ∧ ∀ post : SY → Prop, post (f_threadCount, f_fan, f_capacity, f_pace, f_appliedTotal, us', ks', vs', a_phaseOf, a_kindOf, a_firstOf, a_secondOf, a_leftOf, a_outcomeOf, a_resKey, a_resValue, a_countOf, a_digestOf, a_appliedAt, a_latchesOf) → wpY_add post (f_threadCount, f_fan, f_capacity, f_pace, f_appliedTotal, us, ks, vs, a_phaseOf, a_kindOf, a_firstOf, a_secondOf, a_leftOf, a_outcomeOf, a_resKey, a_resValue, a_countOf, a_digestOf, a_appliedAt, a_latchesOf) key val := by
  have hex : ∃ q, 0 ≤ q ∧ q < 64 ∧ us q = 0 := by
    by_cases z : ∃ q, q < 64 ∧ us q = 0
    · obtain ⟨q, q1, q2⟩ := z
      exact ⟨q, by omega, q1, q2⟩
    · exfalso
      have := bk_yl_len (us := us) (ks := ks) (vs := vs) 64 (fun s hs hc => z ⟨s, hs, hc⟩)
      have h2 := P.length_eq
      omega
  obtain ⟨q, q1, q2, q3⟩ := by_add_2 (key := key) (val := val) (f_threadCount := f_threadCount) (f_fan := f_fan) (f_capacity := f_capacity) (f_pace := f_pace) (f_appliedTotal := f_appliedTotal) (us := us) (ks := ks) (vs := vs) (a_phaseOf := a_phaseOf) (a_kindOf := a_kindOf) (a_firstOf := a_firstOf) (a_secondOf := a_secondOf) (a_leftOf := a_leftOf) (a_outcomeOf := a_outcomeOf) (a_resKey := a_resKey) (a_resValue := a_resValue) (a_countOf := a_countOf) (a_digestOf := a_digestOf) (a_appliedAt := a_appliedAt) (a_latchesOf := a_latchesOf) 64 0 (by omega) hex
  refine ⟨_, _, _, ?_, fun post hp => ⟨65, q3 65 (by omega) post hp⟩⟩
  obtain ⟨rest, a, b⟩ := bk_yl_at (us := us) (ks := ks) (vs := vs) q1
  have b := b (upd us q 1) (upd ks q key) (upd vs q val) (fun s hs => ⟨pk_un hs, pk_un hs, pk_un hs⟩)
  rw [bk_ce_0 q2, List.nil_append] at a
  rw [bk_ce_1 (by rw [pk_us]; decide), pk_us, pk_us] at b
  exact ((P.trans a).cons _).trans b.symm
end
end
section
/-! ===== 24: small methods of both sides; holder with one answer ===== -/
def bk_nk (kd fi se j : Int32) : Int32 := if kd = 8 then (if j = 0 then (if se < fi then se else fi) else (if se < fi then fi else se)) else fi
def bk_Hd (kd fi se la key : Int32) : Prop := (0 < la ∧ bk_nk kd fi se 0 = key) ∨ (1 < la ∧ bk_nk kd fi se 1 = key)
theorem bx_6 {t : Nat} (h : t < 6) : vp_in (nI t) 6 := vp_in_nI h (by omega)
theorem bx_c6 {t : Nat} (h : t < 6) : (nI t).toNatClampNeg = t := nI_clamp (by omega)
section
variable {f_threadCount f_fan f_capacity f_pace f_least f_spareTop f_root f_head f_records f_appliedTotal : Int32} {a_keys a_vals a_count a_level a_low a_high a_right a_spare a_path a_phaseOf a_kindOf a_firstOf a_secondOf a_leftOf a_outcomeOf a_resKey a_resValue a_countOf a_digestOf a_appliedAt a_latchesOf a_place a_unknown : Nat → Int32}
theorem bx_nk {t : Nat} (ht : t < 6) (j : Int32) {post : Int32 → Prop} (hp : post (bk_nk (a_kindOf t) (a_firstOf t) (a_secondOf t) j)) : wpX_neededKey post (f_threadCount, f_fan, f_capacity, f_pace, f_least, f_spareTop, f_root, f_head, f_records, f_appliedTotal, a_keys, a_vals, a_count, a_level, a_low, a_high, a_right, a_spare, a_path, a_phaseOf, a_kindOf, a_firstOf, a_secondOf, a_leftOf, a_outcomeOf, a_resKey, a_resValue, a_countOf, a_digestOf, a_appliedAt, a_latchesOf, a_place, a_unknown) (nI t) j := by
  unfold wpX_neededKey
  rw [bx_c6 ht]
  refine And.intro (bx_6 ht) (nm_e ⟨bx_6 ht, nm_e ⟨bx_6 ht, ?_⟩⟩)
  unfold bk_nk at hp
  by_cases k : a_kindOf t = 8
  · rw [if_pos k] at hp
    refine br_t k ?_
    by_cases z : j = 0
    · rw [if_pos z] at hp
      refine br_t z ?_
      unfold wX_neededKey_37
      by_cases c : a_secondOf t < a_firstOf t
      · rw [if_pos c] at hp
        exact br_t c (br_f (by decide) hp)
      · rw [if_neg c] at hp
        exact br_f c (br_t rfl hp)
    · rw [if_neg z] at hp
      refine br_f z ?_
      unfold wX_neededKey_37
      by_cases c : a_secondOf t < a_firstOf t
      · rw [if_pos c] at hp
        exact br_t c (br_t rfl hp)
      · rw [if_neg c] at hp
        exact br_f c (br_f (by decide) hp)
  · rw [if_neg k] at hp
    exact br_f k hp
theorem bx_ho12 {t m : Nat} {key : Int32} (ht : t < 6) (hm : m ≤ 2) (hla : a_latchesOf t = nI m) {post : Int32 → Prop} {J : Int32 → Prop}
    (h1 : bk_Hd (a_kindOf t) (a_firstOf t) (a_secondOf t) (a_latchesOf t) key → post (nI t)) (h2 : ¬ bk_Hd (a_kindOf t) (a_firstOf t) (a_secondOf t) (a_latchesOf t) key → J (nI (t + 1))) :
    ∃ n, wX_holder_12 post J key (nI t) f_threadCount f_fan f_capacity f_pace f_least f_spareTop f_root f_head f_records f_appliedTotal a_keys a_vals a_count a_level a_low a_high a_right a_spare a_path a_phaseOf a_kindOf a_firstOf a_secondOf a_leftOf a_outcomeOf a_resKey a_resValue a_countOf a_digestOf a_appliedAt a_latchesOf a_place a_unknown n 0 := by
  refine ⟨3, And.intro (bx_6 ht) ?_⟩
  rw [bx_c6 ht]
  by_cases m0 : m = 0
  · subst m0
    have hz : a_latchesOf t = 0 := hla
    refine br_t (by rw [hz]; decide) (nm_r (nI_1 t) (h2 (fun z => ?_)))
    rcases z with z | z
    · rw [hz] at z; exact absurd z.1 (by decide)
    · rw [hz] at z; exact absurd z.1 (by decide)
  · have hp0 : (0 : Int32) < a_latchesOf t := by rw [hla, ← nI_0]; exact nI_lt (by omega) (by omega)
    refine br_f (by rw [hla]; exact nI_nle (by omega) (by omega)) (bx_nk ht 0 ?_)
    by_cases k0 : bk_nk (a_kindOf t) (a_firstOf t) (a_secondOf t) 0 = key
    · exact br_t k0 (h1 (Or.inl ⟨hp0, k0⟩))
    · refine br_f k0 (nm_r (e' := 1) rfl (And.intro (bx_6 ht) ?_))
      rw [bx_c6 ht]
      by_cases m1 : m = 1
      · subst m1
        have hz : a_latchesOf t = 1 := hla
        refine br_t (by rw [hz]; decide) (nm_r (nI_1 t) (h2 (fun z => ?_)))
        rcases z with z | z
        · exact k0 z.2
        · rw [hz] at z; exact absurd z.1 (by decide)
      · have m2 : m = 2 := by omega
        subst m2
        have hz : a_latchesOf t = 2 := hla
        refine br_f (by rw [hz]; decide) (bx_nk ht 1 ?_)
        by_cases k1 : bk_nk (a_kindOf t) (a_firstOf t) (a_secondOf t) 1 = key
        · exact br_t k1 (h1 (Or.inr ⟨by rw [hz]; decide, k1⟩))
        · refine br_f k1 (nm_r (e' := 2) rfl (And.intro (bx_6 ht) ?_))
          rw [bx_c6 ht]
          refine br_t (by rw [hz]; decide) (nm_r (nI_1 t) (h2 (fun z => ?_)))
          rcases z with z | z
          · exact k0 z.2
          · exact k1 z.2
end
section
variable {f_threadCount f_fan f_capacity f_pace f_appliedTotal : Int32} {us ks vs a_phaseOf a_kindOf a_firstOf a_secondOf a_leftOf a_outcomeOf a_resKey a_resValue a_countOf a_digestOf a_appliedAt a_latchesOf : Nat → Int32}
theorem by_nk {t : Nat} (ht : t < 6) (j : Int32) {post : Int32 → Prop} (hp : post (bk_nk (a_kindOf t) (a_firstOf t) (a_secondOf t) j)) : wpY_needed post (f_threadCount, f_fan, f_capacity, f_pace, f_appliedTotal, us, ks, vs, a_phaseOf, a_kindOf, a_firstOf, a_secondOf, a_leftOf, a_outcomeOf, a_resKey, a_resValue, a_countOf, a_digestOf, a_appliedAt, a_latchesOf) (nI t) j := by
  unfold wpY_needed
  rw [bx_c6 ht]
  refine And.intro (bx_6 ht) (nm_e ⟨bx_6 ht, nm_e ⟨bx_6 ht, ?_⟩⟩)
  unfold bk_nk at hp
  have heq : ∀ a b : Int32, ¬ a < b → a ≤ b → a = b := fun a b h1 h2 => by
    rw [bx_lt] at h1; rw [bx_le] at h2
    exact Int32.toInt_inj.mp (by omega)
  have hle : ∀ a b : Int32, a < b → a ≤ b := fun a b h => by rw [bx_lt] at h; rw [bx_le]; omega
  by_cases k : a_kindOf t = 8
  · rw [if_pos k] at hp
    refine br_t k ?_
    by_cases z : j = 0
    · rw [if_pos z] at hp
      refine br_t z ?_
      by_cases c : a_secondOf t < a_firstOf t
      · rw [if_pos c] at hp
        exact br_t (hle _ _ c) hp
      · rw [if_neg c] at hp
        exact br_c (fun d => by rw [heq _ _ c d]; exact hp) (fun _ => hp)
    · rw [if_neg z] at hp
      refine br_f z ?_
      by_cases c : a_secondOf t < a_firstOf t
      · rw [if_pos c] at hp
        exact br_t (hle _ _ c) hp
      · rw [if_neg c] at hp
        exact br_c (fun d => by rw [← heq _ _ c d]; exact hp) (fun _ => hp)
  · rw [if_neg k] at hp
    exact br_f k hp
theorem by_ho12 {t m : Nat} {key : Int32} (ht : t < 6) (hm : m ≤ 2) (hla : a_latchesOf t = nI m) {post : Int32 → Prop} {J : Int32 → Prop}
    (h1 : bk_Hd (a_kindOf t) (a_firstOf t) (a_secondOf t) (a_latchesOf t) key → post (nI t)) (h2 : ¬ bk_Hd (a_kindOf t) (a_firstOf t) (a_secondOf t) (a_latchesOf t) key → J (nI (t + 1))) :
    ∃ n, wY_holder_12 post J key (nI t) f_threadCount f_fan f_capacity f_pace f_appliedTotal us ks vs a_phaseOf a_kindOf a_firstOf a_secondOf a_leftOf a_outcomeOf a_resKey a_resValue a_countOf a_digestOf a_appliedAt a_latchesOf n 0 := by
  refine ⟨3, br_f (by decide) (And.intro (bx_6 ht) ?_)⟩
  rw [bx_c6 ht]
  by_cases m0 : m = 0
  · subst m0
    have hz : a_latchesOf t = 0 := hla
    refine br_t (by rw [hz]; decide) (nm_r (nI_1 t) (h2 (fun z => ?_)))
    rcases z with z | z
    · rw [hz] at z; exact absurd z.1 (by decide)
    · rw [hz] at z; exact absurd z.1 (by decide)
  · have hp0 : (0 : Int32) < a_latchesOf t := by rw [hla, ← nI_0]; exact nI_lt (by omega) (by omega)
    refine br_f (by rw [hla]; exact nI_nle (by omega) (by omega)) (by_nk ht 0 ?_)
    by_cases k0 : bk_nk (a_kindOf t) (a_firstOf t) (a_secondOf t) 0 = key
    · exact br_t k0 (h1 (Or.inl ⟨hp0, k0⟩))
    · refine br_f k0 (nm_r (e' := 1) rfl (br_f (by decide) (And.intro (bx_6 ht) ?_)))
      rw [bx_c6 ht]
      by_cases m1 : m = 1
      · subst m1
        have hz : a_latchesOf t = 1 := hla
        refine br_t (by rw [hz]; decide) (nm_r (nI_1 t) (h2 (fun z => ?_)))
        rcases z with z | z
        · exact k0 z.2
        · rw [hz] at z; exact absurd z.1 (by decide)
      · have m2 : m = 2 := by omega
        subst m2
        have hz : a_latchesOf t = 2 := hla
        refine br_f (by rw [hz]; decide) (by_nk ht 1 ?_)
        by_cases k1 : bk_nk (a_kindOf t) (a_firstOf t) (a_secondOf t) 1 = key
        · exact br_t k1 (h1 (Or.inr ⟨by rw [hz]; decide, k1⟩))
        · refine br_f k1 (nm_r (e' := 2) rfl (br_t (by decide) (nm_r (nI_1 t) (h2 (fun z => ?_)))))
          rcases z with z | z
          · exact k0 z.2
          · exact k1 z.2
end
section
variable {tc : Nat} {f_threadCount : Int32} {a_kindOf a_firstOf a_secondOf a_latchesOf : Nat → Int32}
def bk_HS (tc t0 : Nat) (kd fi se la : Nat → Int32) (key r : Int32) : Prop :=
  (r = -1 ∧ ∀ t, t0 ≤ t → t < tc → ¬ bk_Hd (kd t) (fi t) (se t) (la t) key) ∨ (∃ t, t < tc ∧ r = nI t ∧ bk_Hd (kd t) (fi t) (se t) (la t) key)
theorem bk_hold_2 {key : Int32} (htc : f_threadCount = nI tc) (h6 : tc ≤ 6) (hla : ∀ t, t < tc → ∃ m, m ≤ 2 ∧ a_latchesOf t = nI m) : ∀ d t, t + d = tc →
    ∃ r, bk_HS tc t a_kindOf a_firstOf a_secondOf a_latchesOf key r ∧
      (∀ ⦃f_fan f_capacity f_pace f_least f_spareTop f_root f_head f_records f_appliedTotal : Int32⦄ ⦃a_keys a_vals a_count a_level a_low a_high a_right a_spare a_path a_phaseOf a_leftOf a_outcomeOf a_resKey a_resValue a_countOf a_digestOf a_appliedAt a_place a_unknown : Nat → Int32⦄ (n : Nat), d < n → ∀ post : Int32 → Prop, post r → wX_holder_2 post key f_threadCount f_fan f_capacity f_pace f_least f_spareTop f_root f_head f_records f_appliedTotal a_keys a_vals a_count a_level a_low a_high a_right a_spare a_path a_phaseOf a_kindOf a_firstOf a_secondOf a_leftOf a_outcomeOf a_resKey a_resValue a_countOf a_digestOf a_appliedAt a_latchesOf a_place a_unknown n (nI t)) ∧
      (∀ ⦃f_fan f_capacity f_pace f_appliedTotal : Int32⦄ ⦃us ks vs a_phaseOf a_leftOf a_outcomeOf a_resKey a_resValue a_countOf a_digestOf a_appliedAt : Nat → Int32⦄ (n : Nat), d < n → ∀ post : Int32 → Prop, post r → wY_holder_2 post key f_threadCount f_fan f_capacity f_pace f_appliedTotal us ks vs a_phaseOf a_kindOf a_firstOf a_secondOf a_leftOf a_outcomeOf a_resKey a_resValue a_countOf a_digestOf a_appliedAt a_latchesOf n (nI t)) := by
  intro d
  induction d with
  | zero =>
    intro t ht
    refine ⟨-1, Or.inl ⟨rfl, fun q h1 h2 => absurd h2 (by omega)⟩, ?_, ?_⟩
    · intros
      rename_i n hn post hp
      obtain ⟨n, rfl⟩ : ∃ m, n = m + 1 := ⟨n - 1, by omega⟩
      exact br_t (by rw [htc]; exact nI_le (by omega) (by omega)) hp
    · intros
      rename_i n hn post hp
      obtain ⟨n, rfl⟩ : ∃ m, n = m + 1 := ⟨n - 1, by omega⟩
      exact br_t (by rw [htc]; exact nI_le (by omega) (by omega)) hp
  | succ d ih =>
    intro t ht
    obtain ⟨m, hm, hmt⟩ := hla t (by omega)
    by_cases H : bk_Hd (a_kindOf t) (a_firstOf t) (a_secondOf t) (a_latchesOf t) key
    · refine ⟨nI t, Or.inr ⟨t, by omega, rfl, H⟩, ?_, ?_⟩
      · intros
        rename_i n hn post hp
        obtain ⟨n, rfl⟩ : ∃ m, n = m + 1 := ⟨n - 1, by omega⟩
        exact br_f (by rw [htc]; exact nI_ge (by omega) (by omega)) (bx_ho12 (by omega) hm hmt (fun _ => hp) (fun z => absurd H z))
      · intros
        rename_i n hn post hp
        obtain ⟨n, rfl⟩ : ∃ m, n = m + 1 := ⟨n - 1, by omega⟩
        exact br_f (by rw [htc]; exact nI_ge (by omega) (by omega)) (by_ho12 (by omega) hm hmt (fun _ => hp) (fun z => absurd H z))
    · obtain ⟨r, a, b, c⟩ := ih (t + 1) (by omega)
      refine ⟨r, ?_, ?_, ?_⟩
      · rcases a with ⟨a1, a2⟩ | a
        · refine Or.inl ⟨a1, fun q h1 h2 => ?_⟩
          by_cases e : q = t
          · rw [e]; exact H
          · exact a2 q (by omega) h2
        · exact Or.inr a
      · intros
        rename_i n hn post hp
        obtain ⟨n, rfl⟩ : ∃ m, n = m + 1 := ⟨n - 1, by omega⟩
        exact br_f (by rw [htc]; exact nI_ge (by omega) (by omega)) (bx_ho12 (by omega) hm hmt (fun z => absurd z H) (fun _ => b n (by omega) post hp))
      · intros
        rename_i n hn post hp
        obtain ⟨n, rfl⟩ : ∃ m, n = m + 1 := ⟨n - 1, by omega⟩
        exact br_f (by rw [htc]; exact nI_ge (by omega) (by omega)) (by_ho12 (by omega) hm hmt (fun z => absurd z H) (fun _ => c n (by omega) post hp))
theorem bk_hold (htc : f_threadCount = nI tc) (h6 : tc ≤ 6) (hla : ∀ t, t < tc → ∃ m, m ≤ 2 ∧ a_latchesOf t = nI m) (key : Int32) :
    ∃ r, bk_HS tc 0 a_kindOf a_firstOf a_secondOf a_latchesOf key r ∧
      (∀ ⦃f_fan f_capacity f_pace f_least f_spareTop f_root f_head f_records f_appliedTotal : Int32⦄ ⦃a_keys a_vals a_count a_level a_low a_high a_right a_spare a_path a_phaseOf a_leftOf a_outcomeOf a_resKey a_resValue a_countOf a_digestOf a_appliedAt a_place a_unknown : Nat → Int32⦄ (post : Int32 → Prop), post r → wpX_holder post (f_threadCount, f_fan, f_capacity, f_pace, f_least, f_spareTop, f_root, f_head, f_records, f_appliedTotal, a_keys, a_vals, a_count, a_level, a_low, a_high, a_right, a_spare, a_path, a_phaseOf, a_kindOf, a_firstOf, a_secondOf, a_leftOf, a_outcomeOf, a_resKey, a_resValue, a_countOf, a_digestOf, a_appliedAt, a_latchesOf, a_place, a_unknown) key) ∧
      (∀ ⦃f_fan f_capacity f_pace f_appliedTotal : Int32⦄ ⦃us ks vs a_phaseOf a_leftOf a_outcomeOf a_resKey a_resValue a_countOf a_digestOf a_appliedAt : Nat → Int32⦄ (post : Int32 → Prop), post r → wpY_holder post (f_threadCount, f_fan, f_capacity, f_pace, f_appliedTotal, us, ks, vs, a_phaseOf, a_kindOf, a_firstOf, a_secondOf, a_leftOf, a_outcomeOf, a_resKey, a_resValue, a_countOf, a_digestOf, a_appliedAt, a_latchesOf) key) := by
  obtain ⟨r, a, b, c⟩ := bk_hold_2 (key := key) htc h6 hla tc 0 (by omega)
  refine ⟨r, a, ?_, ?_⟩
  · intros
    rename_i post hp
    exact ⟨tc + 1, b _ (by omega) post hp⟩
  · intros
    rename_i post hp
    exact ⟨tc + 1, c _ (by omega) post hp⟩
end
end
section
/-! ===== 25: the relation ===== -/
def bk_Tq (ph kd fi se le cn rk la un : Int32) (g : Int) : Prop :=
  (∃ m, m ≤ 2 ∧ la = nI m) ∧ (ph = 0 ∨ ph = 1 ∨ ph = 2 ∨ ph = 3 ∨ ph = 4 ∨ ph = 5) ∧ (¬ ph = 0 → ∃ k, 1 ≤ k ∧ k ≤ 8 ∧ kd = nI k) ∧
  (ph = 1 → la = 0 ∧ cn = 0) ∧ (ph = 2 → 5 ≤ kd ∧ (la = 0 ∨ (la = 1 ∧ kd = 8 ∧ fi ≠ se))) ∧ (ph = 3 → kd ≠ 4) ∧ (ph = 4 → le = 1 ∨ le = 2) ∧
  (ph = 5 → ¬ cn = 0 → fi.toInt ≤ rk.toInt) ∧ (¬ ph = 4 → un < 0) ∧ (ph = 1 ∨ ph = 2 ∨ ph = 3 → g ≤ fi.toInt) ∧ (ph = 5 → (cn = 0 → g ≤ fi.toInt) ∧ (¬ cn = 0 → g ≤ rk.toInt))
def bk_Th (tc : Nat) (g : Nat → Int) (ph kd fi se le cn rk la un : Nat → Int32) : Prop :=
  ∀ t, t < tc → bk_Tq (ph t) (kd t) (fi t) (se t) (le t) (cn t) (rk t) (la t) (un t) (g t)
def bk_Cf (tc fan lst cap pc : Nat) (f_threadCount f_fan f_capacity f_pace f_least f_head : Int32) : Prop :=
  f_threadCount = nI tc ∧ tc ≤ 6 ∧ f_fan = nI fan ∧ f_least = nI lst ∧ f_capacity = nI cap ∧ cap ≤ 64 ∧ f_pace = nI pc ∧ pc ≤ 6 ∧ f_head = 0
def bk_J (tc fan lst cap pc : Nat) (L : Nat → List bk_Nd) (h root : Nat) (g : Nat → Int) (f_threadCount f_fan f_capacity f_pace f_least f_spareTop f_root f_head f_records f_appliedTotal : Int32) (a_keys a_vals a_count a_level a_low a_high a_right a_spare a_path a_phaseOf a_kindOf a_firstOf a_secondOf a_leftOf a_outcomeOf a_resKey a_resValue a_countOf a_digestOf a_appliedAt a_latchesOf a_place a_unknown us ks vs : Nat → Int32) : Prop :=
  bk_Cf tc fan lst cap pc f_threadCount f_fan f_capacity f_pace f_least f_head ∧ f_root = nI root ∧ (f_records = nI (bk_fl (L 0)).length ∧ (bk_fl (L 0)).length ≤ cap) ∧
  bk_W lst fan 100 0 L h root f_spareTop a_keys a_vals a_count a_level a_low a_high a_right a_spare ∧ bk_Uk tc a_unknown (bk_Pn L h) ∧ bk_Pl tc a_place g L h ∧ bk_Pm (bk_fl (L 0)) us ks vs ∧
  bk_Th tc g a_phaseOf a_kindOf a_firstOf a_secondOf a_leftOf a_countOf a_resKey a_latchesOf a_unknown
def bk_R (tc : Nat) (f_threadCount f_fan f_capacity f_pace f_least f_spareTop f_root f_head f_records f_appliedTotal : Int32) (a_keys a_vals a_count a_level a_low a_high a_right a_spare a_path a_phaseOf a_kindOf a_firstOf a_secondOf a_leftOf a_outcomeOf a_resKey a_resValue a_countOf a_digestOf a_appliedAt a_latchesOf a_place a_unknown us ks vs : Nat → Int32) : Prop := ∃ (fan lst cap pc : Nat) (L : Nat → List bk_Nd) (h root : Nat) (g : Nat → Int), bk_J tc fan lst cap pc L h root g f_threadCount f_fan f_capacity f_pace f_least f_spareTop f_root f_head f_records f_appliedTotal a_keys a_vals a_count a_level a_low a_high a_right a_spare a_path a_phaseOf a_kindOf a_firstOf a_secondOf a_leftOf a_outcomeOf a_resKey a_resValue a_countOf a_digestOf a_appliedAt a_latchesOf a_place a_unknown us ks vs
def bk_Rel (tc : Nat) (u : SX) (v : SY) : Prop := match u with
  | (f_threadCount, f_fan, f_capacity, f_pace, f_least, f_spareTop, f_root, f_head, f_records, f_appliedTotal, a_keys, a_vals, a_count, a_level, a_low, a_high, a_right, a_spare, a_path, a_phaseOf, a_kindOf, a_firstOf, a_secondOf, a_leftOf, a_outcomeOf, a_resKey, a_resValue, a_countOf, a_digestOf, a_appliedAt, a_latchesOf, a_place, a_unknown) => match v with
    | (y_f_threads, y_f_fan, y_f_capacity, y_f_pace, y_f_appliedCount, y_a_used, y_a_keys, y_a_values, y_a_phase, y_a_kind, y_a_first, y_a_second, y_a_left, y_a_outcome, y_a_resKey, y_a_resValue, y_a_count, y_a_digest, y_a_appliedAt, y_a_latches) => (y_f_threads = f_threadCount ∧ y_f_fan = f_fan ∧ y_f_capacity = f_capacity ∧ y_f_pace = f_pace ∧ y_f_appliedCount = f_appliedTotal ∧ y_a_phase = a_phaseOf ∧ y_a_kind = a_kindOf ∧ y_a_first = a_firstOf ∧ y_a_second = a_secondOf ∧ y_a_left = a_leftOf ∧ y_a_outcome = a_outcomeOf ∧ y_a_resKey = a_resKey ∧ y_a_resValue = a_resValue ∧ y_a_count = a_countOf ∧ y_a_digest = a_digestOf ∧ y_a_appliedAt = a_appliedAt ∧ y_a_latches = a_latchesOf) ∧
      bk_R tc f_threadCount f_fan f_capacity f_pace f_least f_spareTop f_root f_head f_records f_appliedTotal a_keys a_vals a_count a_level a_low a_high a_right a_spare a_path a_phaseOf a_kindOf a_firstOf a_secondOf a_leftOf a_outcomeOf a_resKey a_resValue a_countOf a_digestOf a_appliedAt a_latchesOf a_place a_unknown y_a_used y_a_keys y_a_values
def i_Rel (k : Nat) (u : SX) (v : SY) : Prop := ∃ tc, bk_Rel tc u v
theorem i_up {k : Nat} {u : SX} {v : SY} (h : i_Rel k u v) : i_Rel (k + 5) u v := h
theorem bk_in {tc : Nat} {f_threadCount f_fan f_capacity f_pace f_least f_spareTop f_root f_head f_records f_appliedTotal : Int32} {a_keys a_vals a_count a_level a_low a_high a_right a_spare a_path a_phaseOf a_kindOf a_firstOf a_secondOf a_leftOf a_outcomeOf a_resKey a_resValue a_countOf a_digestOf a_appliedAt a_latchesOf a_place a_unknown : Nat → Int32} {us ks vs : Nat → Int32} (h : bk_R tc f_threadCount f_fan f_capacity f_pace f_least f_spareTop f_root f_head f_records f_appliedTotal a_keys a_vals a_count a_level a_low a_high a_right a_spare a_path a_phaseOf a_kindOf a_firstOf a_secondOf a_leftOf a_outcomeOf a_resKey a_resValue a_countOf a_digestOf a_appliedAt a_latchesOf a_place a_unknown us ks vs) : bk_Rel tc (f_threadCount, f_fan, f_capacity, f_pace, f_least, f_spareTop, f_root, f_head, f_records, f_appliedTotal, a_keys, a_vals, a_count, a_level, a_low, a_high, a_right, a_spare, a_path, a_phaseOf, a_kindOf, a_firstOf, a_secondOf, a_leftOf, a_outcomeOf, a_resKey, a_resValue, a_countOf, a_digestOf, a_appliedAt, a_latchesOf, a_place, a_unknown) (f_threadCount, f_fan, f_capacity, f_pace, f_appliedTotal, us, ks, vs, a_phaseOf, a_kindOf, a_firstOf, a_secondOf, a_leftOf, a_outcomeOf, a_resKey, a_resValue, a_countOf, a_digestOf, a_appliedAt, a_latchesOf) := by
  refine ⟨⟨rfl, rfl, rfl, rfl, rfl, rfl, rfl, rfl, rfl, rfl, rfl, rfl, rfl, rfl, rfl, rfl, rfl⟩, h⟩
theorem bk_el {tc : Nat} {P : SX → SY → Prop} (H : ∀ (f_threadCount f_fan f_capacity f_pace f_least f_spareTop f_root f_head f_records f_appliedTotal : Int32) (a_keys a_vals a_count a_level a_low a_high a_right a_spare a_path a_phaseOf a_kindOf a_firstOf a_secondOf a_leftOf a_outcomeOf a_resKey a_resValue a_countOf a_digestOf a_appliedAt a_latchesOf a_place a_unknown us ks vs : Nat → Int32), bk_R tc f_threadCount f_fan f_capacity f_pace f_least f_spareTop f_root f_head f_records f_appliedTotal a_keys a_vals a_count a_level a_low a_high a_right a_spare a_path a_phaseOf a_kindOf a_firstOf a_secondOf a_leftOf a_outcomeOf a_resKey a_resValue a_countOf a_digestOf a_appliedAt a_latchesOf a_place a_unknown us ks vs → P (f_threadCount, f_fan, f_capacity, f_pace, f_least, f_spareTop, f_root, f_head, f_records, f_appliedTotal, a_keys, a_vals, a_count, a_level, a_low, a_high, a_right, a_spare, a_path, a_phaseOf, a_kindOf, a_firstOf, a_secondOf, a_leftOf, a_outcomeOf, a_resKey, a_resValue, a_countOf, a_digestOf, a_appliedAt, a_latchesOf, a_place, a_unknown) (f_threadCount, f_fan, f_capacity, f_pace, f_appliedTotal, us, ks, vs, a_phaseOf, a_kindOf, a_firstOf, a_secondOf, a_leftOf, a_outcomeOf, a_resKey, a_resValue, a_countOf, a_digestOf, a_appliedAt, a_latchesOf)) {u : SX} {v : SY} (I : bk_Rel tc u v) : P u v := by
  obtain ⟨f_threadCount, f_fan, f_capacity, f_pace, f_least, f_spareTop, f_root, f_head, f_records, f_appliedTotal, a_keys, a_vals, a_count, a_level, a_low, a_high, a_right, a_spare, a_path, a_phaseOf, a_kindOf, a_firstOf, a_secondOf, a_leftOf, a_outcomeOf, a_resKey, a_resValue, a_countOf, a_digestOf, a_appliedAt, a_latchesOf, a_place, a_unknown⟩ := u
  obtain ⟨y1, y2, y3, y4, y5, us, ks, vs, y6, y7, y8, y9, y10, y11, y12, y13, y14, y15, y16, y17⟩ := v
  obtain ⟨⟨e1, e2, e3, e4, e5, e6, e7, e8, e9, e10, e11, e12, e13, e14, e15, e16, e17⟩, hR⟩ := I
  subst e1 e2 e3 e4 e5 e6 e7 e8 e9 e10 e11 e12 e13 e14 e15 e16 e17
  exact H _ _ _ _ _ _ _ _ _ _ _ _ _ _ _ _ _ _ _ _ _ _ _ _ _ _ _ _ _ _ _ _ _ _ _ _ hR
/-- one outcome for both sides -/
def bk_Ok (tc : Nat) (WX : (Int32 → SX → Prop) → Prop) (WY : (Int32 → SY → Prop) → Prop) : Prop :=
  ∃ r u' v', bk_Rel tc u' v' ∧ (∀ post : Int32 → SX → Prop, post r u' → WX post) ∧ (∀ post : Int32 → SY → Prop, post r v' → WY post)
theorem bk_Ok_vc {tc k : Nat} {WX : (Int32 → SX → Prop) → Prop} {WY : (Int32 → SY → Prop) → Prop} (o : bk_Ok tc WX WY) : WX (fun r u' => WY (fun r' v' => r' = r ∧ i_Rel k u' v')) := by
  obtain ⟨r, u', v', h, hX, hY⟩ := o
  exact hX _ (hY _ ⟨rfl, tc, h⟩)
section
variable {tc : Nat} {f_threadCount : Int32}
theorem bk_bad (htc : f_threadCount = nI tc) (h6 : tc ≤ 6) (v1 : Int32) :
    (∃ t, t < tc ∧ v1 = nI t ∧ (∀ ⦃f_fan f_capacity f_pace f_least f_spareTop f_root f_head f_records f_appliedTotal : Int32⦄ ⦃a_keys a_vals a_count a_level a_low a_high a_right a_spare a_path a_phaseOf a_kindOf a_firstOf a_secondOf a_leftOf a_outcomeOf a_resKey a_resValue a_countOf a_digestOf a_appliedAt a_latchesOf a_place a_unknown : Nat → Int32⦄ (post : Int32 → Prop), post 0 → wpX_badThread post (f_threadCount, f_fan, f_capacity, f_pace, f_least, f_spareTop, f_root, f_head, f_records, f_appliedTotal, a_keys, a_vals, a_count, a_level, a_low, a_high, a_right, a_spare, a_path, a_phaseOf, a_kindOf, a_firstOf, a_secondOf, a_leftOf, a_outcomeOf, a_resKey, a_resValue, a_countOf, a_digestOf, a_appliedAt, a_latchesOf, a_place, a_unknown) v1) ∧ (∀ ⦃f_fan f_capacity f_pace f_appliedTotal : Int32⦄ ⦃us ks vs a_phaseOf a_kindOf a_firstOf a_secondOf a_leftOf a_outcomeOf a_resKey a_resValue a_countOf a_digestOf a_appliedAt a_latchesOf : Nat → Int32⦄ (post : Int32 → Prop), post 0 → wpY_bad post (f_threadCount, f_fan, f_capacity, f_pace, f_appliedTotal, us, ks, vs, a_phaseOf, a_kindOf, a_firstOf, a_secondOf, a_leftOf, a_outcomeOf, a_resKey, a_resValue, a_countOf, a_digestOf, a_appliedAt, a_latchesOf) v1)) ∨
    ((∀ ⦃f_fan f_capacity f_pace f_least f_spareTop f_root f_head f_records f_appliedTotal : Int32⦄ ⦃a_keys a_vals a_count a_level a_low a_high a_right a_spare a_path a_phaseOf a_kindOf a_firstOf a_secondOf a_leftOf a_outcomeOf a_resKey a_resValue a_countOf a_digestOf a_appliedAt a_latchesOf a_place a_unknown : Nat → Int32⦄ (post : Int32 → Prop), post 1 → wpX_badThread post (f_threadCount, f_fan, f_capacity, f_pace, f_least, f_spareTop, f_root, f_head, f_records, f_appliedTotal, a_keys, a_vals, a_count, a_level, a_low, a_high, a_right, a_spare, a_path, a_phaseOf, a_kindOf, a_firstOf, a_secondOf, a_leftOf, a_outcomeOf, a_resKey, a_resValue, a_countOf, a_digestOf, a_appliedAt, a_latchesOf, a_place, a_unknown) v1) ∧ (∀ ⦃f_fan f_capacity f_pace f_appliedTotal : Int32⦄ ⦃us ks vs a_phaseOf a_kindOf a_firstOf a_secondOf a_leftOf a_outcomeOf a_resKey a_resValue a_countOf a_digestOf a_appliedAt a_latchesOf : Nat → Int32⦄ (post : Int32 → Prop), post 1 → wpY_bad post (f_threadCount, f_fan, f_capacity, f_pace, f_appliedTotal, us, ks, vs, a_phaseOf, a_kindOf, a_firstOf, a_secondOf, a_leftOf, a_outcomeOf, a_resKey, a_resValue, a_countOf, a_digestOf, a_appliedAt, a_latchesOf) v1)) := by
  rcases pk_ix v1 (n := tc) (by omega) with a | a | ⟨t, ht, rfl⟩
  · right
    refine ⟨?_, ?_⟩
    · intros; rename_i post hp; exact br_t a hp
    · intros; rename_i post hp; exact br_t a hp
  · right
    have h1 : ¬ v1 < f_threadCount := by rw [htc, bx_lt]; rw [bx_le] at a; omega
    have h0 : ¬ v1 < 0 := by rw [bx_lt, bx_z]; rw [bx_le, bx_tI (by omega)] at a; omega
    refine ⟨?_, ?_⟩
    · intros; rename_i post hp; exact br_f h0 (br_f h1 hp)
    · intros; rename_i post hp; exact br_f h0 (br_f h1 hp)
  · left
    have h1 : nI t < f_threadCount := by rw [htc]; exact nI_lt ht (by omega)
    have h0 : ¬ nI t < 0 := nI_pos (by omega)
    refine ⟨t, ht, rfl, ?_, ?_⟩
    · intros; rename_i post hp; exact br_f h0 (br_t h1 hp)
    · intros; rename_i post hp; exact br_f h0 (br_t h1 hp)
end
/-- ranks in a sorted list -/
theorem bk_rk {M : List (Int × Int32)} (hs : M.Pairwise (fun p q => p.1 < q.1)) {j : Nat} {p : Int × Int32} (h : M[j]? = some p) : M.countP (fun q => decide (q.1 < p.1)) = j := by
  have hj : j < M.length := by
    by_cases z : j < M.length
    · exact z
    · rw [List.getElem?_eq_none (by omega)] at h; cases h
  have hp : M[j] = p := by rw [List.getElem?_eq_getElem hj] at h; injection h
  have e : M = M.take j ++ p :: M.drop (j + 1) := by
    have := bk_cutAt hj
    rw [hp] at this
    exact this
  have hl : (M.take j).length = j := by rw [List.length_take]; omega
  rw [e] at hs
  have d := List.pairwise_append.mp hs
  have d2 := List.pairwise_cons.mp d.2.1
  rw [e, List.countP_append, List.countP_cons, List.countP_eq_length.mpr (fun q hq => decide_eq_true (d.2.2 q hq p List.mem_cons_self)), List.countP_eq_zero.mpr (fun q hq => by have := d2.1 q hq; simp; omega), hl]
  simp
theorem bk_rk_mem {M : List (Int × Int32)} {p : Int × Int32} (h : p ∈ M) : ∃ j : Nat, j < M.length ∧ M[j]? = some p := by
  obtain ⟨j, hj, e⟩ := List.mem_iff_getElem.mp h
  exact ⟨j, hj, by rw [List.getElem?_eq_getElem hj, e]⟩
section
variable {tc fan lst cap pc : Nat} {L : Nat → List bk_Nd} {h root : Nat} {g : Nat → Int} {f_threadCount f_fan f_capacity f_pace f_least f_spareTop f_root f_head f_records f_appliedTotal : Int32} {a_keys a_vals a_count a_level a_low a_high a_right a_spare a_path a_phaseOf a_kindOf a_firstOf a_secondOf a_leftOf a_outcomeOf a_resKey a_resValue a_countOf a_digestOf a_appliedAt a_latchesOf a_place a_unknown : Nat → Int32} {us ks vs : Nat → Int32}
theorem bk_J_so (J : bk_J tc fan lst cap pc L h root g f_threadCount f_fan f_capacity f_pace f_least f_spareTop f_root f_head f_records f_appliedTotal a_keys a_vals a_count a_level a_low a_high a_right a_spare a_path a_phaseOf a_kindOf a_firstOf a_secondOf a_leftOf a_outcomeOf a_resKey a_resValue a_countOf a_digestOf a_appliedAt a_latchesOf a_place a_unknown us ks vs) : (bk_fl (L 0)).Pairwise (fun p q => p.1 < q.1) := by
  obtain ⟨_, _, _, W, _⟩ := J
  exact (bk_fl_so (W.1.1.1 0 (by omega)).1).1
theorem bk_J_la (J : bk_J tc fan lst cap pc L h root g f_threadCount f_fan f_capacity f_pace f_least f_spareTop f_root f_head f_records f_appliedTotal a_keys a_vals a_count a_level a_low a_high a_right a_spare a_path a_phaseOf a_kindOf a_firstOf a_secondOf a_leftOf a_outcomeOf a_resKey a_resValue a_countOf a_digestOf a_appliedAt a_latchesOf a_place a_unknown us ks vs) : ∀ t, t < tc → ∃ m, m ≤ 2 ∧ a_latchesOf t = nI m := by
  obtain ⟨_, _, _, _, _, _, _, Th⟩ := J
  exact fun t ht => (Th t ht).1
/-- slotAt on both sides -/
theorem bk_slotAt (J : bk_J tc fan lst cap pc L h root g f_threadCount f_fan f_capacity f_pace f_least f_spareTop f_root f_head f_records f_appliedTotal a_keys a_vals a_count a_level a_low a_high a_right a_spare a_path a_phaseOf a_kindOf a_firstOf a_secondOf a_leftOf a_outcomeOf a_resKey a_resValue a_countOf a_digestOf a_appliedAt a_latchesOf a_place a_unknown us ks vs) (v1 : Int32) :
    (∃ q s, q < 640 ∧ s < 64 ∧ a_keys q = ks s ∧ a_vals q = vs s ∧ (∀ post : Int32 → Prop, post (nI q) → wpX_slotAt post (f_threadCount, f_fan, f_capacity, f_pace, f_least, f_spareTop, f_root, f_head, f_records, f_appliedTotal, a_keys, a_vals, a_count, a_level, a_low, a_high, a_right, a_spare, a_path, a_phaseOf, a_kindOf, a_firstOf, a_secondOf, a_leftOf, a_outcomeOf, a_resKey, a_resValue, a_countOf, a_digestOf, a_appliedAt, a_latchesOf, a_place, a_unknown) v1) ∧ (∀ post : Int32 → Prop, post (nI s) → wpY_slotAt post (f_threadCount, f_fan, f_capacity, f_pace, f_appliedTotal, us, ks, vs, a_phaseOf, a_kindOf, a_firstOf, a_secondOf, a_leftOf, a_outcomeOf, a_resKey, a_resValue, a_countOf, a_digestOf, a_appliedAt, a_latchesOf) v1)) ∨
    ((∀ post : Int32 → Prop, post (-1) → wpX_slotAt post (f_threadCount, f_fan, f_capacity, f_pace, f_least, f_spareTop, f_root, f_head, f_records, f_appliedTotal, a_keys, a_vals, a_count, a_level, a_low, a_high, a_right, a_spare, a_path, a_phaseOf, a_kindOf, a_firstOf, a_secondOf, a_leftOf, a_outcomeOf, a_resKey, a_resValue, a_countOf, a_digestOf, a_appliedAt, a_latchesOf, a_place, a_unknown) v1) ∧ (∀ post : Int32 → Prop, post (-1) → wpY_slotAt post (f_threadCount, f_fan, f_capacity, f_pace, f_appliedTotal, us, ks, vs, a_phaseOf, a_kindOf, a_firstOf, a_secondOf, a_leftOf, a_outcomeOf, a_resKey, a_resValue, a_countOf, a_digestOf, a_appliedAt, a_latchesOf) v1)) := by
  have hso := bk_J_so J
  obtain ⟨C, hro, ⟨hrc, hcap⟩, W, U, Pl, Pm, Th⟩ := J
  have hc64 : cap ≤ 64 := C.2.2.2.2.2.1
  have hcnt : ∀ s, s < 64 → ¬ us s = 0 → ∃ i : Nat, i < (bk_fl (L 0)).length ∧ (bk_fl (L 0))[i]? = some ((ks s).toInt, vs s) ∧ (bk_yl us ks vs 64).countP (fun p => decide (p.1 < (ks s).toInt)) = i := by
    intro s hs hu
    obtain ⟨i, hi, he⟩ := bk_rk_mem ((bk_Pm_mem Pm).mpr ⟨s, hs, hu, rfl⟩)
    refine ⟨i, hi, he, ?_⟩
    rw [← Pm.countP_eq]
    exact bk_rk hso he
  obtain ⟨r, hA, wY⟩ := by_slotAt (us := us) (ks := ks) (vs := vs) (f_threadCount := f_threadCount) (f_fan := f_fan) (f_capacity := f_capacity) (f_pace := f_pace) (f_appliedTotal := f_appliedTotal) (a_phaseOf := a_phaseOf) (a_kindOf := a_kindOf) (a_firstOf := a_firstOf) (a_secondOf := a_secondOf) (a_leftOf := a_leftOf) (a_outcomeOf := a_outcomeOf) (a_resKey := a_resKey) (a_resValue := a_resValue) (a_countOf := a_countOf) (a_digestOf := a_digestOf) (a_appliedAt := a_appliedAt) (a_latchesOf := a_latchesOf) v1
  have hno : (∀ j : Nat, j < (bk_fl (L 0)).length → v1 ≠ nI j) → r = -1 := by
    intro hv
    rcases hA with ⟨s, h1, h2, h3, h4⟩ | ⟨h1, _⟩
    · obtain ⟨i, i1, i2, i3⟩ := hcnt s h1 h3
      rw [i3] at h4
      exact absurd h4.symm (hv i i1)
    · exact h1
  rcases pk_ix v1 (n := (bk_fl (L 0)).length) (by omega) with a | a | ⟨j, hj, rfl⟩
  · right
    have hr := hno (fun j hj e => by rw [e] at a; exact nI_pos (by omega) a)
    rw [hr] at wY
    exact ⟨fun post hp => br_t a hp, wY⟩
  · right
    have h0 : ¬ v1 < 0 := by rw [bx_lt, bx_z]; rw [bx_le, bx_tI (by omega)] at a; omega
    have h1 : ¬ v1 < f_records := by rw [hrc, bx_lt]; rw [bx_le] at a; omega
    have hr := hno (fun j hj e => by rw [e] at a; exact nI_ge hj (by omega) a)
    rw [hr] at wY
    exact ⟨fun post hp => br_f h0 (br_f h1 hp), wY⟩
  · left
    obtain ⟨x, ys, e0, hx0⟩ := W.1.1.2.2.2.2
    obtain ⟨k, v, q0, hS, hg, wX⟩ := bx_slotAt_24 (f_threadCount := f_threadCount) (f_fan := f_fan) (f_capacity := f_capacity) (f_pace := f_pace) (f_least := f_least) (f_spareTop := f_spareTop) (f_root := f_root) (f_head := f_head) (f_records := f_records) (f_appliedTotal := f_appliedTotal) (a_keys := a_keys) (a_vals := a_vals) (a_count := a_count) (a_level := a_level) (a_low := a_low) (a_high := a_high) (a_right := a_right) (a_spare := a_spare) (a_path := a_path) (a_phaseOf := a_phaseOf) (a_kindOf := a_kindOf) (a_firstOf := a_firstOf) (a_secondOf := a_secondOf) (a_leftOf := a_leftOf) (a_outcomeOf := a_outcomeOf) (a_resKey := a_resKey) (a_resValue := a_resValue) (a_countOf := a_countOf) (a_digestOf := a_digestOf) (a_appliedAt := a_appliedAt) (a_latchesOf := a_latchesOf) (a_place := a_place) (a_unknown := a_unknown) W.1 ys [] x j e0 (by rw [bk_fl_nil]; simp; exact hj)
    rw [bk_fl_nil, List.length_nil, Nat.zero_add] at hg
    obtain ⟨q, q1, q2, q3, q4⟩ := bk_Sl_at W.1 hS
    subst q2
    have h32 := W.1.1.2.2.2.1
    rw [e0, List.length_cons] at h32
    have hwX : ∀ post : Int32 → Prop, post (nI q) → wpX_slotAt post (f_threadCount, f_fan, f_capacity, f_pace, f_least, f_spareTop, f_root, f_head, f_records, f_appliedTotal, a_keys, a_vals, a_count, a_level, a_low, a_high, a_right, a_spare, a_path, a_phaseOf, a_kindOf, a_firstOf, a_secondOf, a_leftOf, a_outcomeOf, a_resKey, a_resValue, a_countOf, a_digestOf, a_appliedAt, a_latchesOf, a_place, a_unknown) (nI j) := by
      intro post hp
      refine br_f (nI_pos (by omega)) (br_t (by rw [hrc]; exact nI_lt hj (by omega)) ⟨ys.length + 1, ?_⟩)
      have := wX 0 (by omega) (ys.length + 1) (by omega) post hp (by omega)
      rw [hx0] at this
      have hh := C.2.2.2.2.2.2.2.2
      subst hh
      exact this
    rcases hA with ⟨s, h1, h2, h3, h4⟩ | ⟨_, h2⟩
    · obtain ⟨i, i1, i2, i3⟩ := hcnt s h1 h3
      rw [i3] at h4
      have : i = j := bx_inj (by omega) (by omega) h4
      subst this
      rw [i2] at hg
      injection hg with hg
      injection hg with hg1 hg2
      rw [h2] at wY
      exact ⟨q, s, q1, h1, Int32.toInt_inj.mp (by rw [q3, hg1]), by rw [q4, hg2], hwX, wY⟩
    · exfalso
      obtain ⟨s, s1, s2, s3⟩ := (bk_Pm_mem Pm).mp (List.mem_of_getElem? hg)
      obtain ⟨i, i1, i2, i3⟩ := hcnt s s1 s2
      refine h2 s s1 s2 ?_
      rw [i3]
      have e2 : (bk_fl (L 0))[j]? = some ((ks s).toInt, vs s) := by rw [hg, s3]
      have := bk_rk hso e2
      have := bk_rk hso i2
      exact congrArg nI (by omega)
end
end
section
/-! ===== 26: the getters ===== -/
theorem i_vc_phase {k : Nat} {u : SX} {v : SY} (I : i_Rel k u v) (hk : k + 5 ≤ 2564) (v1 : Int32) : wpX_phase (fun r => wpY_phase (fun r' => r' = r ∧ i_Rel (k + 5) u v) v v1) u v1 := by
  obtain ⟨tc, I⟩ := I
  refine bk_el (P := fun u v => wpX_phase (fun r => wpY_phase (fun r' => r' = r ∧ i_Rel (k + 5) u v) v v1) u v1) ?_ I
  intro f_threadCount f_fan f_capacity f_pace f_least f_spareTop f_root f_head f_records f_appliedTotal a_keys a_vals a_count a_level a_low a_high a_right a_spare a_path a_phaseOf a_kindOf a_firstOf a_secondOf a_leftOf a_outcomeOf a_resKey a_resValue a_countOf a_digestOf a_appliedAt a_latchesOf a_place a_unknown us ks vs hR
  have hI := bk_in hR
  obtain ⟨fan, lst, cap, pc, L, h, root, g, C, _⟩ := hR
  unfold wpX_phase wpY_phase
  rcases bk_bad C.1 C.2.1 v1 with ⟨t, ht, rfl, bX, bY⟩ | ⟨bX, bY⟩
  · have h6 := bx_6 (t := t) (by have := C.2.1; omega)
    exact bX _ (br_t rfl ⟨h6, bY _ (br_t rfl ⟨h6, rfl, tc, hI⟩)⟩)
  · exact bX _ (br_f (by decide) (bY _ (br_f (by decide) ⟨rfl, tc, hI⟩)))
theorem i_vc_outcome {k : Nat} {u : SX} {v : SY} (I : i_Rel k u v) (hk : k + 5 ≤ 2564) (v1 : Int32) : wpX_outcome (fun r => wpY_outcome (fun r' => r' = r ∧ i_Rel (k + 5) u v) v v1) u v1 := by
  obtain ⟨tc, I⟩ := I
  refine bk_el (P := fun u v => wpX_outcome (fun r => wpY_outcome (fun r' => r' = r ∧ i_Rel (k + 5) u v) v v1) u v1) ?_ I
  intro f_threadCount f_fan f_capacity f_pace f_least f_spareTop f_root f_head f_records f_appliedTotal a_keys a_vals a_count a_level a_low a_high a_right a_spare a_path a_phaseOf a_kindOf a_firstOf a_secondOf a_leftOf a_outcomeOf a_resKey a_resValue a_countOf a_digestOf a_appliedAt a_latchesOf a_place a_unknown us ks vs hR
  have hI := bk_in hR
  obtain ⟨fan, lst, cap, pc, L, h, root, g, C, _⟩ := hR
  unfold wpX_outcome wpY_outcome
  rcases bk_bad C.1 C.2.1 v1 with ⟨t, ht, rfl, bX, bY⟩ | ⟨bX, bY⟩
  · have h6 := bx_6 (t := t) (by have := C.2.1; omega)
    exact bX _ (br_t rfl ⟨h6, bY _ (br_t rfl ⟨h6, rfl, tc, hI⟩)⟩)
  · exact bX _ (br_f (by decide) (bY _ (br_f (by decide) ⟨rfl, tc, hI⟩)))
theorem i_vc_resultKey {k : Nat} {u : SX} {v : SY} (I : i_Rel k u v) (hk : k + 5 ≤ 2564) (v1 : Int32) : wpX_resultKey (fun r => wpY_resultKey (fun r' => r' = r ∧ i_Rel (k + 5) u v) v v1) u v1 := by
  obtain ⟨tc, I⟩ := I
  refine bk_el (P := fun u v => wpX_resultKey (fun r => wpY_resultKey (fun r' => r' = r ∧ i_Rel (k + 5) u v) v v1) u v1) ?_ I
  intro f_threadCount f_fan f_capacity f_pace f_least f_spareTop f_root f_head f_records f_appliedTotal a_keys a_vals a_count a_level a_low a_high a_right a_spare a_path a_phaseOf a_kindOf a_firstOf a_secondOf a_leftOf a_outcomeOf a_resKey a_resValue a_countOf a_digestOf a_appliedAt a_latchesOf a_place a_unknown us ks vs hR
  have hI := bk_in hR
  obtain ⟨fan, lst, cap, pc, L, h, root, g, C, _⟩ := hR
  unfold wpX_resultKey wpY_resultKey
  rcases bk_bad C.1 C.2.1 v1 with ⟨t, ht, rfl, bX, bY⟩ | ⟨bX, bY⟩
  · have h6 := bx_6 (t := t) (by have := C.2.1; omega)
    exact bX _ (br_t rfl ⟨h6, bY _ (br_t rfl ⟨h6, rfl, tc, hI⟩)⟩)
  · exact bX _ (br_f (by decide) (bY _ (br_f (by decide) ⟨rfl, tc, hI⟩)))
theorem i_vc_resultValue {k : Nat} {u : SX} {v : SY} (I : i_Rel k u v) (hk : k + 5 ≤ 2564) (v1 : Int32) : wpX_resultValue (fun r => wpY_resultValue (fun r' => r' = r ∧ i_Rel (k + 5) u v) v v1) u v1 := by
  obtain ⟨tc, I⟩ := I
  refine bk_el (P := fun u v => wpX_resultValue (fun r => wpY_resultValue (fun r' => r' = r ∧ i_Rel (k + 5) u v) v v1) u v1) ?_ I
  intro f_threadCount f_fan f_capacity f_pace f_least f_spareTop f_root f_head f_records f_appliedTotal a_keys a_vals a_count a_level a_low a_high a_right a_spare a_path a_phaseOf a_kindOf a_firstOf a_secondOf a_leftOf a_outcomeOf a_resKey a_resValue a_countOf a_digestOf a_appliedAt a_latchesOf a_place a_unknown us ks vs hR
  have hI := bk_in hR
  obtain ⟨fan, lst, cap, pc, L, h, root, g, C, _⟩ := hR
  unfold wpX_resultValue wpY_resultValue
  rcases bk_bad C.1 C.2.1 v1 with ⟨t, ht, rfl, bX, bY⟩ | ⟨bX, bY⟩
  · have h6 := bx_6 (t := t) (by have := C.2.1; omega)
    exact bX _ (br_t rfl ⟨h6, bY _ (br_t rfl ⟨h6, rfl, tc, hI⟩)⟩)
  · exact bX _ (br_f (by decide) (bY _ (br_f (by decide) ⟨rfl, tc, hI⟩)))
theorem i_vc_detail {k : Nat} {u : SX} {v : SY} (I : i_Rel k u v) (hk : k + 5 ≤ 2564) (v1 : Int32) (v2 : Int32) : wpX_detail (fun r => wpY_detail (fun r' => r' = r ∧ i_Rel (k + 5) u v) v v1 v2) u v1 v2 := by
  obtain ⟨tc, I⟩ := I
  refine bk_el (P := fun u v => wpX_detail (fun r => wpY_detail (fun r' => r' = r ∧ i_Rel (k + 5) u v) v v1 v2) u v1 v2) ?_ I
  intro f_threadCount f_fan f_capacity f_pace f_least f_spareTop f_root f_head f_records f_appliedTotal a_keys a_vals a_count a_level a_low a_high a_right a_spare a_path a_phaseOf a_kindOf a_firstOf a_secondOf a_leftOf a_outcomeOf a_resKey a_resValue a_countOf a_digestOf a_appliedAt a_latchesOf a_place a_unknown us ks vs hR
  have hI := bk_in hR
  obtain ⟨fan, lst, cap, pc, L, h, root, g, C, _⟩ := hR
  unfold wpX_detail wpY_detail
  rcases bk_bad C.1 C.2.1 v1 with ⟨t, ht, rfl, bX, bY⟩ | ⟨bX, bY⟩
  · have h6 := bx_6 (t := t) (by have := C.2.1; omega)
    refine bX _ (br_t rfl ?_)
    by_cases c0 : v2 = 0
    · subst c0
      exact br_f (by decide) (br_f (by decide) (br_t rfl ⟨h6, bY _ (br_t rfl (br_t rfl ⟨h6, rfl, tc, hI⟩))⟩))
    by_cases c1 : v2 = 1
    · subst c1
      exact br_f (by decide) (br_f (by decide) (br_f (by decide) (br_t rfl ⟨h6, bY _ (br_t rfl (br_f (by decide) (br_t rfl ⟨h6, rfl, tc, hI⟩)))⟩)))
    by_cases c2 : v2 = 2
    · subst c2
      exact br_f (by decide) (br_f (by decide) (br_f (by decide) (br_f (by decide) (br_t rfl ⟨h6, bY _ (br_t rfl (br_f (by decide) (br_f (by decide) (br_t rfl ⟨h6, rfl, tc, hI⟩))))⟩))))
    by_cases c3 : v2 = 3
    · subst c3
      exact br_f (by decide) (br_f (by decide) (br_f (by decide) (br_f (by decide) (br_f (by decide) (br_t rfl ⟨h6, bY _ (br_t rfl (br_f (by decide) (br_f (by decide) (br_f (by decide) (br_t rfl ⟨h6, rfl, tc, hI⟩)))))⟩)))))
    by_cases c4 : v2 = 4
    · subst c4
      exact br_f (by decide) (br_f (by decide) (br_f (by decide) (br_f (by decide) (br_f (by decide) (br_f (by decide) (br_t rfl ⟨h6, bY _ (br_t rfl (br_f (by decide) (br_f (by decide) (br_f (by decide) (br_f (by decide) (br_t rfl ⟨h6, rfl, tc, hI⟩))))))⟩))))))
    by_cases c5 : v2 = 5
    · subst c5
      exact br_f (by decide) (br_f (by decide) (br_f (by decide) (br_f (by decide) (br_f (by decide) (br_f (by decide) (br_f (by decide) (br_t rfl ⟨h6, bY _ (br_t rfl (br_f (by decide) (br_f (by decide) (br_f (by decide) (br_f (by decide) (br_f (by decide) (br_t rfl ⟨h6, rfl, tc, hI⟩)))))))⟩)))))))
    by_cases c6 : v2 = 6
    · subst c6
      exact br_f (by decide) (br_f (by decide) (br_f (by decide) (br_f (by decide) (br_f (by decide) (br_f (by decide) (br_f (by decide) (br_f (by decide) (br_t rfl ⟨h6, bY _ (br_t rfl (br_f (by decide) (br_f (by decide) (br_f (by decide) (br_f (by decide) (br_f (by decide) (br_f (by decide) (br_t rfl ⟨h6, rfl, tc, hI⟩))))))))⟩))))))))
    by_cases c7 : v2 = 7
    · subst c7
      exact br_f (by decide) (br_f (by decide) (br_f (by decide) (br_f (by decide) (br_f (by decide) (br_f (by decide) (br_f (by decide) (br_f (by decide) (br_f (by decide) (br_t rfl ⟨h6, bY _ (br_t rfl (br_f (by decide) (br_f (by decide) (br_f (by decide) (br_f (by decide) (br_f (by decide) (br_f (by decide) (br_f (by decide) (br_t rfl ⟨h6, rfl, tc, hI⟩)))))))))⟩)))))))))
    exact br_c (fun _ => bY _ (br_t rfl (br_f c0 (br_f c1 (br_f c2 (br_f c3 (br_f c4 (br_f c5 (br_f c6 (br_f c7 ⟨rfl, tc, hI⟩)))))))))) (fun _ => br_c (fun _ => bY _ (br_t rfl (br_f c0 (br_f c1 (br_f c2 (br_f c3 (br_f c4 (br_f c5 (br_f c6 (br_f c7 ⟨rfl, tc, hI⟩)))))))))) (fun _ => (br_f c0 (br_f c1 (br_f c2 (br_f c3 (br_f c4 (br_f c5 (br_f c6 (br_f c7 trivial))))))))))
  · exact bX _ (br_f (by decide) (bY _ (br_f (by decide) ⟨rfl, tc, hI⟩)))
theorem i_vc_setting {k : Nat} {u : SX} {v : SY} (I : i_Rel k u v) (hk : k + 5 ≤ 2564) (v1 : Int32) : wpX_setting (fun r => wpY_setting (fun r' => r' = r ∧ i_Rel (k + 5) u v) v v1) u v1 := by
  obtain ⟨tc, I⟩ := I
  refine bk_el (P := fun u v => wpX_setting (fun r => wpY_setting (fun r' => r' = r ∧ i_Rel (k + 5) u v) v v1) u v1) ?_ I
  intro f_threadCount f_fan f_capacity f_pace f_least f_spareTop f_root f_head f_records f_appliedTotal a_keys a_vals a_count a_level a_low a_high a_right a_spare a_path a_phaseOf a_kindOf a_firstOf a_secondOf a_leftOf a_outcomeOf a_resKey a_resValue a_countOf a_digestOf a_appliedAt a_latchesOf a_place a_unknown us ks vs hR
  have hI := bk_in hR
  unfold wpX_setting wpY_setting
  by_cases c0 : v1 = 0
  · subst c0
    exact br_f (by decide) (br_f (by decide) (br_t rfl (br_t rfl ⟨rfl, tc, hI⟩)))
  by_cases c1 : v1 = 1
  · subst c1
    exact br_f (by decide) (br_f (by decide) (br_f (by decide) (br_t rfl (br_f (by decide) (br_t rfl ⟨rfl, tc, hI⟩)))))
  by_cases c2 : v1 = 2
  · subst c2
    exact br_f (by decide) (br_f (by decide) (br_f (by decide) (br_f (by decide) (br_t rfl (br_f (by decide) (br_f (by decide) (br_t rfl ⟨rfl, tc, hI⟩)))))))
  by_cases c3 : v1 = 3
  · subst c3
    exact br_f (by decide) (br_f (by decide) (br_f (by decide) (br_f (by decide) (br_f (by decide) (br_t rfl (br_f (by decide) (br_f (by decide) (br_f (by decide) (br_t rfl ⟨rfl, tc, hI⟩)))))))))
  exact br_c (fun _ => (br_f c0 (br_f c1 (br_f c2 (br_f c3 ⟨rfl, tc, hI⟩))))) (fun _ => br_c (fun _ => (br_f c0 (br_f c1 (br_f c2 (br_f c3 ⟨rfl, tc, hI⟩))))) (fun _ => (br_f c0 (br_f c1 (br_f c2 (br_f c3 trivial))))))
theorem i_vc_applied {k : Nat} {u : SX} {v : SY} (I : i_Rel k u v) (hk : k + 5 ≤ 2564) : wpX_applied (fun r => wpY_applied (fun r' => r' = r ∧ i_Rel (k + 5) u v) v) u := by
  obtain ⟨tc, I⟩ := I
  refine bk_el (P := fun u v => wpX_applied (fun r => wpY_applied (fun r' => r' = r ∧ i_Rel (k + 5) u v) v) u) ?_ I
  intro f_threadCount f_fan f_capacity f_pace f_least f_spareTop f_root f_head f_records f_appliedTotal a_keys a_vals a_count a_level a_low a_high a_right a_spare a_path a_phaseOf a_kindOf a_firstOf a_secondOf a_leftOf a_outcomeOf a_resKey a_resValue a_countOf a_digestOf a_appliedAt a_latchesOf a_place a_unknown us ks vs hR
  exact ⟨rfl, tc, bk_in hR⟩
theorem i_vc_size {k : Nat} {u : SX} {v : SY} (I : i_Rel k u v) (hk : k + 5 ≤ 2564) : wpX_size (fun r => wpY_size (fun r' => r' = r ∧ i_Rel (k + 5) u v) v) u := by
  obtain ⟨tc, I⟩ := I
  refine bk_el (P := fun u v => wpX_size (fun r => wpY_size (fun r' => r' = r ∧ i_Rel (k + 5) u v) v) u) ?_ I
  intro f_threadCount f_fan f_capacity f_pace f_least f_spareTop f_root f_head f_records f_appliedTotal a_keys a_vals a_count a_level a_low a_high a_right a_spare a_path a_phaseOf a_kindOf a_firstOf a_secondOf a_leftOf a_outcomeOf a_resKey a_resValue a_countOf a_digestOf a_appliedAt a_latchesOf a_place a_unknown us ks vs hR
  have hI := bk_in hR
  obtain ⟨fan, lst, cap, pc, L, h, root, g, C, hro, ⟨hrc, hcap⟩, W, U, Pl, Pm, Th⟩ := hR
  unfold wpX_size
  exact by_size ⟨by rw [← Pm.length_eq, hrc], tc, hI⟩
theorem i_vc_rankOf {k : Nat} {u : SX} {v : SY} (I : i_Rel k u v) (hk : k + 5 ≤ 2564) (v1 : Int32) : wpX_rankOf (fun r => wpY_rankOf (fun r' => r' = r ∧ i_Rel (k + 5) u v) v v1) u v1 := by
  obtain ⟨tc, I⟩ := I
  refine bk_el (P := fun u v => wpX_rankOf (fun r => wpY_rankOf (fun r' => r' = r ∧ i_Rel (k + 5) u v) v v1) u v1) ?_ I
  intro f_threadCount f_fan f_capacity f_pace f_least f_spareTop f_root f_head f_records f_appliedTotal a_keys a_vals a_count a_level a_low a_high a_right a_spare a_path a_phaseOf a_kindOf a_firstOf a_secondOf a_leftOf a_outcomeOf a_resKey a_resValue a_countOf a_digestOf a_appliedAt a_latchesOf a_place a_unknown us ks vs hR
  have hI := bk_in hR
  obtain ⟨fan, lst, cap, pc, L, h, root, g, C, hro, ⟨hrc, hcap⟩, W, U, Pl, Pm, Th⟩ := hR
  obtain ⟨x, ys, e0, hx0⟩ := W.1.1.2.2.2.2
  have h32 := W.1.1.2.2.2.1
  rw [e0, List.length_cons] at h32
  have hh := C.2.2.2.2.2.2.2.2
  subst hh
  have hw := bx_rank_10 (key := v1) (f_threadCount := f_threadCount) (f_fan := f_fan) (f_capacity := f_capacity) (f_pace := f_pace) (f_least := f_least) (f_spareTop := f_spareTop) (f_root := f_root) (f_head := 0) (f_records := f_records) (f_appliedTotal := f_appliedTotal) (a_keys := a_keys) (a_vals := a_vals) (a_count := a_count) (a_level := a_level) (a_low := a_low) (a_high := a_high) (a_right := a_right) (a_spare := a_spare) (a_path := a_path) (a_phaseOf := a_phaseOf) (a_kindOf := a_kindOf) (a_firstOf := a_firstOf) (a_secondOf := a_secondOf) (a_leftOf := a_leftOf) (a_outcomeOf := a_outcomeOf) (a_resKey := a_resKey) (a_resValue := a_resValue) (a_countOf := a_countOf) (a_digestOf := a_digestOf) (a_appliedAt := a_appliedAt) (a_latchesOf := a_latchesOf) (a_place := a_place) (a_unknown := a_unknown) W.1 ys [] x e0 (fun p hp => by cases hp) 0 (by omega) (ys.length + 2) (by omega)
    (fun r => wpY_rankOf (fun r' => r' = r ∧ i_Rel (k + 5) (f_threadCount, f_fan, f_capacity, f_pace, f_least, f_spareTop, f_root, 0, f_records, f_appliedTotal, a_keys, a_vals, a_count, a_level, a_low, a_high, a_right, a_spare, a_path, a_phaseOf, a_kindOf, a_firstOf, a_secondOf, a_leftOf, a_outcomeOf, a_resKey, a_resValue, a_countOf, a_digestOf, a_appliedAt, a_latchesOf, a_place, a_unknown) (f_threadCount, f_fan, f_capacity, f_pace, f_appliedTotal, us, ks, vs, a_phaseOf, a_kindOf, a_firstOf, a_secondOf, a_leftOf, a_outcomeOf, a_resKey, a_resValue, a_countOf, a_digestOf, a_appliedAt, a_latchesOf)) (f_threadCount, f_fan, f_capacity, f_pace, f_appliedTotal, us, ks, vs, a_phaseOf, a_kindOf, a_firstOf, a_secondOf, a_leftOf, a_outcomeOf, a_resKey, a_resValue, a_countOf, a_digestOf, a_appliedAt, a_latchesOf) v1) (by_rank _ ⟨by rw [← Pm.countP_eq], tc, hI⟩)
  rw [hx0] at hw
  exact ⟨ys.length + 2, hw⟩
theorem i_vc_keyAt {k : Nat} {u : SX} {v : SY} (I : i_Rel k u v) (hk : k + 5 ≤ 2564) (v1 : Int32) : wpX_keyAt (fun r => wpY_keyAt (fun r' => r' = r ∧ i_Rel (k + 5) u v) v v1) u v1 := by
  obtain ⟨tc, I⟩ := I
  refine bk_el (P := fun u v => wpX_keyAt (fun r => wpY_keyAt (fun r' => r' = r ∧ i_Rel (k + 5) u v) v v1) u v1) ?_ I
  intro f_threadCount f_fan f_capacity f_pace f_least f_spareTop f_root f_head f_records f_appliedTotal a_keys a_vals a_count a_level a_low a_high a_right a_spare a_path a_phaseOf a_kindOf a_firstOf a_secondOf a_leftOf a_outcomeOf a_resKey a_resValue a_countOf a_digestOf a_appliedAt a_latchesOf a_place a_unknown us ks vs hR
  have hI := bk_in hR
  obtain ⟨fan, lst, cap, pc, L, h, root, g, J⟩ := hR
  unfold wpX_keyAt wpY_keyAt
  rcases bk_slotAt J v1 with ⟨q, s, q1, s1, e1, e2, wX, wY⟩ | ⟨wX, wY⟩
  · refine wX _ (br_t (nI_pos' (by omega)) ⟨vp_in_nI q1 (by omega), wY _ (br_t (nI_pos' (by omega)) ⟨vp_in_nI s1 (by omega), ?_, tc, hI⟩)⟩)
    rw [bx_cl q1, bx_cl (n := s) (by omega), e1]
  · exact wX _ (br_f (by decide) (wY _ (br_f (by decide) ⟨rfl, tc, hI⟩)))
theorem i_vc_valueAt {k : Nat} {u : SX} {v : SY} (I : i_Rel k u v) (hk : k + 5 ≤ 2564) (v1 : Int32) : wpX_valueAt (fun r => wpY_valueAt (fun r' => r' = r ∧ i_Rel (k + 5) u v) v v1) u v1 := by
  obtain ⟨tc, I⟩ := I
  refine bk_el (P := fun u v => wpX_valueAt (fun r => wpY_valueAt (fun r' => r' = r ∧ i_Rel (k + 5) u v) v v1) u v1) ?_ I
  intro f_threadCount f_fan f_capacity f_pace f_least f_spareTop f_root f_head f_records f_appliedTotal a_keys a_vals a_count a_level a_low a_high a_right a_spare a_path a_phaseOf a_kindOf a_firstOf a_secondOf a_leftOf a_outcomeOf a_resKey a_resValue a_countOf a_digestOf a_appliedAt a_latchesOf a_place a_unknown us ks vs hR
  have hI := bk_in hR
  obtain ⟨fan, lst, cap, pc, L, h, root, g, J⟩ := hR
  unfold wpX_valueAt wpY_valueAt
  rcases bk_slotAt J v1 with ⟨q, s, q1, s1, e1, e2, wX, wY⟩ | ⟨wX, wY⟩
  · refine wX _ (br_t (nI_pos' (by omega)) ⟨vp_in_nI q1 (by omega), wY _ (br_t (nI_pos' (by omega)) ⟨vp_in_nI s1 (by omega), ?_, tc, hI⟩)⟩)
    rw [bx_cl q1, bx_cl (n := s) (by omega), e2]
  · exact wX _ (br_f (by decide) (wY _ (br_f (by decide) ⟨rfl, tc, hI⟩)))
theorem i_vc_holder {k : Nat} {u : SX} {v : SY} (I : i_Rel k u v) (hk : k + 5 ≤ 2564) (v1 : Int32) : wpX_holder (fun r => wpY_holder (fun r' => r' = r ∧ i_Rel (k + 5) u v) v v1) u v1 := by
  obtain ⟨tc, I⟩ := I
  refine bk_el (P := fun u v => wpX_holder (fun r => wpY_holder (fun r' => r' = r ∧ i_Rel (k + 5) u v) v v1) u v1) ?_ I
  intro f_threadCount f_fan f_capacity f_pace f_least f_spareTop f_root f_head f_records f_appliedTotal a_keys a_vals a_count a_level a_low a_high a_right a_spare a_path a_phaseOf a_kindOf a_firstOf a_secondOf a_leftOf a_outcomeOf a_resKey a_resValue a_countOf a_digestOf a_appliedAt a_latchesOf a_place a_unknown us ks vs hR
  have hI := bk_in hR
  obtain ⟨fan, lst, cap, pc, L, h, root, g, J⟩ := hR
  obtain ⟨r, _, hX, hY⟩ := bk_hold J.1.1 J.1.2.1 (bk_J_la J) v1
  exact hX _ (hY _ ⟨rfl, tc, hI⟩)
theorem i_vc_waitsFor {k : Nat} {u : SX} {v : SY} (I : i_Rel k u v) (hk : k + 5 ≤ 2564) (v1 : Int32) : wpX_waitsFor (fun r => wpY_waitsFor (fun r' => r' = r ∧ i_Rel (k + 5) u v) v v1) u v1 := by
  obtain ⟨tc, I⟩ := I
  refine bk_el (P := fun u v => wpX_waitsFor (fun r => wpY_waitsFor (fun r' => r' = r ∧ i_Rel (k + 5) u v) v v1) u v1) ?_ I
  intro f_threadCount f_fan f_capacity f_pace f_least f_spareTop f_root f_head f_records f_appliedTotal a_keys a_vals a_count a_level a_low a_high a_right a_spare a_path a_phaseOf a_kindOf a_firstOf a_secondOf a_leftOf a_outcomeOf a_resKey a_resValue a_countOf a_digestOf a_appliedAt a_latchesOf a_place a_unknown us ks vs hR
  have hI := bk_in hR
  obtain ⟨fan, lst, cap, pc, L, h, root, g, J⟩ := hR
  unfold wpX_waitsFor wpY_waitsFor
  rcases bk_bad J.1.1 J.1.2.1 v1 with ⟨t, ht, rfl, bX, bY⟩ | ⟨bX, bY⟩
  · have ht6 : t < 6 := by have := J.1.2.1; omega
    have h6 := bx_6 ht6
    have hc := bx_c6 ht6
    refine bX _ (br_t rfl ⟨h6, ?_⟩)
    rw [hc]
    by_cases p : a_phaseOf t = 2
    · obtain ⟨r, _, hX, hY⟩ := bk_hold J.1.1 J.1.2.1 (bk_J_la J) (bk_nk (a_kindOf t) (a_firstOf t) (a_secondOf t) (a_latchesOf t))
      refine br_t p ⟨h6, bx_nk ht6 _ (hX _ (bY _ (br_t rfl ⟨h6, br_t p ⟨h6, by_nk ht6 _ (hY _ ⟨rfl, tc, hI⟩)⟩⟩)))⟩
    · exact br_f p (bY _ (br_t rfl ⟨h6, br_f p ⟨rfl, tc, hI⟩⟩))
  · exact bX _ (br_f (by decide) (bY _ (br_f (by decide) ⟨rfl, tc, hI⟩)))
end
section
/-! ===== 27: rows for the steps of a thread ===== -/
def bk_gu (g : Nat → Int) (t : Nat) (v : Int) : Nat → Int := fun q => if q = t then v else g q
theorem bk_gu_s {g : Nat → Int} {t : Nat} {v : Int} : bk_gu g t v t = v := if_pos rfl
theorem bk_gu_n {g : Nat → Int} {t q : Nat} {v : Int} (h : q ≠ t) : bk_gu g t v q = g q := if_neg h
theorem bk_Pl_up {tc t : Nat} {pl : Nat → Int32} {g : Nat → Int} {L : Nat → List bk_Nd} {h : Nat} {p : Int32} {v : Int} (P : bk_Pl tc pl g L h) (hp : p < 0 ∨ bk_St L h v p) : bk_Pl tc (upd pl t p) (bk_gu g t v) L h := by
  intro q hq
  by_cases e : q = t
  · subst e; rw [pk_us, bk_gu_s]; exact hp
  · rw [pk_un e, bk_gu_n e]; exact P q hq
theorem bk_gu_id (g : Nat → Int) (t : Nat) : bk_gu g t (g t) = g := by
  funext q
  by_cases e : q = t
  · subst e; exact bk_gu_s
  · exact bk_gu_n e
theorem bk_Pl_neg {tc t : Nat} {pl : Nat → Int32} {g : Nat → Int} {L : Nat → List bk_Nd} {h : Nat} (P : bk_Pl tc pl g L h) : bk_Pl tc (upd pl t (-1)) g L h := by
  have := bk_Pl_up (t := t) (p := -1) (v := g t) P (Or.inl (by decide))
  rw [bk_gu_id] at this
  exact this
theorem bk_Th_up {tc t : Nat} {g g' : Nat → Int} {ph kd fi se le cn rk la un ph' kd' fi' se' le' cn' rk' la' un' : Nat → Int32} (Th : bk_Th tc g ph kd fi se le cn rk la un)
    (hq : ∀ q, q < tc → q ≠ t → ph' q = ph q ∧ kd' q = kd q ∧ fi' q = fi q ∧ se' q = se q ∧ le' q = le q ∧ cn' q = cn q ∧ rk' q = rk q ∧ la' q = la q ∧ g' q = g q ∧ (un q < 0 → un' q < 0))
    (ht : t < tc → bk_Tq (ph' t) (kd' t) (fi' t) (se' t) (le' t) (cn' t) (rk' t) (la' t) (un' t) (g' t)) : bk_Th tc g' ph' kd' fi' se' le' cn' rk' la' un' := by
  intro q hqt
  by_cases e : q = t
  · subst e; exact ht hqt
  · obtain ⟨a1, a2, a3, a4, a5, a6, a7, a8, a9, a10⟩ := hq q hqt e
    rw [a1, a2, a3, a4, a5, a6, a7, a8, a9]
    obtain ⟨b1, b2, b3, b4, b5, b6, b7, b8, b9, b10, b11⟩ := Th q hqt
    exact ⟨b1, b2, b3, b4, b5, b6, b7, b8, fun z => a10 (b9 z), b10, b11⟩
theorem bk_St_mono {L : Nat → List bk_Nd} {h : Nat} {k k' : Int} {s : Int32} (S : bk_St L h k s) (hk : k ≤ k') : bk_St L h k' s := by
  obtain ⟨l, x, a, b, c, d⟩ := S
  exact ⟨l, x, a, b, by omega, d⟩
section
variable {tc fan lst tl ti : Nat} {L : Nat → List bk_Nd} {h root : Nat} {g : Nat → Int} {f_threadCount f_fan f_capacity f_pace f_least f_spareTop f_root f_head f_records f_appliedTotal : Int32} {a_keys a_vals a_count a_level a_low a_high a_right a_spare a_path a_phaseOf a_kindOf a_firstOf a_secondOf a_leftOf a_outcomeOf a_resKey a_resValue a_countOf a_digestOf a_appliedAt a_latchesOf a_place a_unknown : Nat → Int32}
theorem bx_start {t : Nat} {key : Int32} (T : bk_T lst fan tl ti L h root a_keys a_vals a_count a_level a_low a_high a_right) (hro : f_root = nI root) (h6 : tc ≤ 6) (P : bk_Pl tc a_place g L h) (ht : t < tc) (hg : g t ≤ key.toInt) :
    ∃ s, bk_St L h key.toInt s ∧ ∀ post : Int32 → Prop, post s → wpX_startOf post (f_threadCount, f_fan, f_capacity, f_pace, f_least, f_spareTop, f_root, f_head, f_records, f_appliedTotal, a_keys, a_vals, a_count, a_level, a_low, a_high, a_right, a_spare, a_path, a_phaseOf, a_kindOf, a_firstOf, a_secondOf, a_leftOf, a_outcomeOf, a_resKey, a_resValue, a_countOf, a_digestOf, a_appliedAt, a_latchesOf, a_place, a_unknown) (nI t) := by
  have hc := bx_c6 (t := t) (by omega)
  have hi := bx_6 (t := t) (by omega)
  rcases P t ht with a | S
  · refine ⟨f_root, by rw [hro]; exact bk_St_root T.1 key, fun post hp => ?_⟩
    unfold wpX_startOf
    refine And.intro hi ?_
    rw [hc]
    exact br_f (by rw [bx_le, bx_z]; rw [bx_lt, bx_z] at a; omega) hp
  · refine ⟨a_place t, bk_St_mono S hg, fun post hp => ?_⟩
    unfold wpX_startOf
    refine And.intro hi ?_
    rw [hc]
    refine br_t ?_ ⟨hi, hp⟩
    obtain ⟨l, x, hl, hx, _, e⟩ := S
    rw [e]
    exact nI_pos' (by have := (bk_T_m T hl hx).1; omega)
theorem bx_hopT {key s : Int32} (T : bk_T lst fan tl ti L h root a_keys a_vals a_count a_level a_low a_high a_right) (S : bk_St L h key.toInt s) :
    ∃ r, bk_St L h key.toInt r ∧ ∀ post : Int32 → Prop, post r → wpX_hop post (f_threadCount, f_fan, f_capacity, f_pace, f_least, f_spareTop, f_root, f_head, f_records, f_appliedTotal, a_keys, a_vals, a_count, a_level, a_low, a_high, a_right, a_spare, a_path, a_phaseOf, a_kindOf, a_firstOf, a_secondOf, a_leftOf, a_outcomeOf, a_resKey, a_resValue, a_countOf, a_digestOf, a_appliedAt, a_latchesOf, a_place, a_unknown) s key 0 := by
  have h5 := T.2.2.1
  obtain ⟨l, x, hl, hx, hk, rfl⟩ := S
  obtain ⟨A, B, e⟩ := List.append_of_mem hx
  obtain ⟨q1, q2, q3⟩ := bk_T_at T hl e
  have hk1 := key.toInt_lt
  rcases bk_lt_hd (B := B) (k := key.toInt) with hkb | ⟨y, B', ⟨rfl, hy⟩ | hkb⟩
  · cases l with
    | zero =>
      refine ⟨nI x.1, ⟨0, x, hl, hx, hk, rfl⟩, fun post hp => bx_hop_s q1.1 (bx_cov_stay T hl e hkb) ?_ hp⟩
      rw [q2.2.2.1]
      exact nI_nlt (a := 0) (b := 0) (Nat.le_refl _) (by decide)
    | succ l =>
      obtain ⟨v, es, hes⟩ := q1.2.2.2 (by omega)
      obtain ⟨e1, e2, he, h1, h2⟩ := bk_cut (key.toInt + 1) q1.2.2.1.1
      rcases bk_snoc e1 with rfl | ⟨e3, p, rfl⟩
      · exfalso
        have := h2 (x.2.1, v) (by rw [List.nil_append] at he; rw [← he, hes]; exact List.mem_cons_self)
        have : key.toInt + 1 ≤ x.2.1 := this
        omega
      · have hes2 : x.2.2.2 = e3 ++ p :: e2 := by rw [he]; simp
        have hpm : p ∈ x.2.2.2 := by rw [hes2]; simp
        obtain ⟨y, hy1, hy2, hy3⟩ := bk_T_ch T hl hx hpm
        have hpk : p.1 ≤ key.toInt := by have := h1 p (by simp); omega
        refine ⟨nI y.1, ⟨l, y, by omega, hy1, by rw [hy3] at hpk; exact hpk, rfl⟩, fun post hp => bx_hop_d q1.1 (bx_cov_stay T hl e hkb) ?_ q2.1 hes2 (by omega) (fun q hq => by have := h1 q (by simp [hq]); omega) hpk (fun q hq => by have := h2 q hq; omega) (by rw [hy3]; exact hp)⟩
        rw [q2.2.2.1]
        exact nI_lt (a := 0) (by omega) (by omega)
  · have e2' : L l = (A ++ [x]) ++ y :: B' := by rw [e]; simp
    have hyq := (bk_T_at T (l := l) hl e2')
    refine ⟨nI y.1, ⟨l, y, hl, by rw [e]; simp, hy, rfl⟩, fun post hp => bx_hop_r q1.1 hyq.1.1 q2.2.2.2.2 ?_ hp⟩
    rw [q2.2.2.2.1]
    show y.2.1 - 1 < key.toInt
    omega
  · exact absurd hk1 (by omega)
end
/-- the phase behind the travel -/
theorem bk_pat (kd : Int32) {k : Nat} (h1 : 1 ≤ k) (h8 : k ≤ 8) (hk : kd = nI k) :
    ∃ p : Int32, ((kd = 4 ∧ p = 5) ∨ (kd ≠ 4 ∧ p = 3) ∨ (5 ≤ kd ∧ p = 2)) ∧ (∀ (u : SX) (post : Int32 → Prop), post p → wpX_phaseAfterTravel post u kd) ∧ (∀ (v : SY) (post : Int32 → Prop), post p → wpY_afterTravel post v kd) := by
  by_cases c4 : kd = 4
  · exact ⟨5, Or.inl ⟨c4, rfl⟩, fun u post hp => br_t c4 hp, fun v post hp => br_t c4 hp⟩
  · by_cases c5 : kd < 5
    · refine ⟨3, Or.inr (Or.inl ⟨c4, rfl⟩), fun u post hp => br_f c4 (br_t c5 hp), fun v post hp => br_f c4 (br_f ?_ hp)⟩
      intro hc
      rw [hk] at c4 c5 hc
      have a := (nI_ltI (a := k) (b := 5) (by omega) (by decide)).mp c5
      have b := (nI_ltI (a := 3) (b := k) (by decide) (by omega)).mp hc
      exact c4 (congrArg nI (show k = 4 by omega))
    · refine ⟨2, Or.inr (Or.inr ⟨?_, rfl⟩), fun u post hp => br_f c4 (br_f c5 hp), fun v post hp => br_f c4 (br_t ?_ hp)⟩
      · rw [bx_le]; rw [bx_lt] at c5; omega
      · rw [bx_lt] at c5 ⊢
        have e3 : (3 : Int32).toInt = 3 := by decide
        have e5 : (5 : Int32).toInt = 5 := by decide
        omega
section
variable {tc t : Nat} {f_threadCount f_fan f_capacity f_pace f_least f_spareTop f_root f_head f_records f_appliedTotal : Int32} {a_keys a_vals a_count a_level a_low a_high a_right a_spare a_path a_phaseOf a_kindOf a_firstOf a_secondOf a_leftOf a_outcomeOf a_resKey a_resValue a_countOf a_digestOf a_appliedAt a_latchesOf a_place a_unknown : Nat → Int32}
theorem bx_badOk (htc : f_threadCount = nI tc) (h6 : tc ≤ 6) (ht : t < tc) {post : Int32 → Prop} (hp : post 0) : wpX_badThread post (f_threadCount, f_fan, f_capacity, f_pace, f_least, f_spareTop, f_root, f_head, f_records, f_appliedTotal, a_keys, a_vals, a_count, a_level, a_low, a_high, a_right, a_spare, a_path, a_phaseOf, a_kindOf, a_firstOf, a_secondOf, a_leftOf, a_outcomeOf, a_resKey, a_resValue, a_countOf, a_digestOf, a_appliedAt, a_latchesOf, a_place, a_unknown) (nI t) :=
  br_f (nI_pos (by omega)) (br_t (by rw [htc]; exact nI_lt ht (by omega)) hp)
end
section
variable {tc t : Nat} {f_threadCount f_fan f_capacity f_pace f_appliedTotal : Int32} {us ks vs a_phaseOf a_kindOf a_firstOf a_secondOf a_leftOf a_outcomeOf a_resKey a_resValue a_countOf a_digestOf a_appliedAt a_latchesOf : Nat → Int32}
theorem by_badOk (htc : f_threadCount = nI tc) (h6 : tc ≤ 6) (ht : t < tc) {post : Int32 → Prop} (hp : post 0) : wpY_bad post (f_threadCount, f_fan, f_capacity, f_pace, f_appliedTotal, us, ks, vs, a_phaseOf, a_kindOf, a_firstOf, a_secondOf, a_leftOf, a_outcomeOf, a_resKey, a_resValue, a_countOf, a_digestOf, a_appliedAt, a_latchesOf) (nI t) :=
  br_f (nI_pos (by omega)) (br_t (by rw [htc]; exact nI_lt ht (by omega)) hp)
end
section
variable {tc fan lst cap pc : Nat} {L : Nat → List bk_Nd} {h root t : Nat} {g : Nat → Int} {f_threadCount f_fan f_capacity f_pace f_least f_spareTop f_root f_head f_records f_appliedTotal : Int32} {a_keys a_vals a_count a_level a_low a_high a_right a_spare a_path a_phaseOf a_kindOf a_firstOf a_secondOf a_leftOf a_outcomeOf a_resKey a_resValue a_countOf a_digestOf a_appliedAt a_latchesOf a_place a_unknown : Nat → Int32} {us ks vs : Nat → Int32}
theorem bk_travel (J : bk_J tc fan lst cap pc L h root g f_threadCount f_fan f_capacity f_pace f_least f_spareTop f_root f_head f_records f_appliedTotal a_keys a_vals a_count a_level a_low a_high a_right a_spare a_path a_phaseOf a_kindOf a_firstOf a_secondOf a_leftOf a_outcomeOf a_resKey a_resValue a_countOf a_digestOf a_appliedAt a_latchesOf a_place a_unknown us ks vs) (ht : t < tc) (hph : a_phaseOf t = 1) :
    bk_Ok tc (fun post => wpX_travelStep post (f_threadCount, f_fan, f_capacity, f_pace, f_least, f_spareTop, f_root, f_head, f_records, f_appliedTotal, a_keys, a_vals, a_count, a_level, a_low, a_high, a_right, a_spare, a_path, a_phaseOf, a_kindOf, a_firstOf, a_secondOf, a_leftOf, a_outcomeOf, a_resKey, a_resValue, a_countOf, a_digestOf, a_appliedAt, a_latchesOf, a_place, a_unknown) (nI t)) (fun post => wpY_step post (f_threadCount, f_fan, f_capacity, f_pace, f_appliedTotal, us, ks, vs, a_phaseOf, a_kindOf, a_firstOf, a_secondOf, a_leftOf, a_outcomeOf, a_resKey, a_resValue, a_countOf, a_digestOf, a_appliedAt, a_latchesOf) (nI t)) := by
  obtain ⟨C, hro, hrc, W, U, Pl, Pm, Th⟩ := J
  have h6 := C.2.1
  have hi := bx_6 (t := t) (by omega)
  have hc := bx_c6 (t := t) (by omega)
  obtain ⟨b1, b2, b3, b4, b5, b6, b7, b8, b9, b10, b11⟩ := Th t ht
  obtain ⟨s, hs, ws⟩ := bx_start (key := a_firstOf t) (f_threadCount := f_threadCount) (f_fan := f_fan) (f_capacity := f_capacity) (f_pace := f_pace) (f_least := f_least) (f_spareTop := f_spareTop) (f_root := f_root) (f_head := f_head) (f_records := f_records) (f_appliedTotal := f_appliedTotal) (a_keys := a_keys) (a_vals := a_vals) (a_count := a_count) (a_level := a_level) (a_low := a_low) (a_high := a_high) (a_right := a_right) (a_spare := a_spare) (a_path := a_path) (a_phaseOf := a_phaseOf) (a_kindOf := a_kindOf) (a_firstOf := a_firstOf) (a_secondOf := a_secondOf) (a_leftOf := a_leftOf) (a_outcomeOf := a_outcomeOf) (a_resKey := a_resKey) (a_resValue := a_resValue) (a_countOf := a_countOf) (a_digestOf := a_digestOf) (a_appliedAt := a_appliedAt) (a_latchesOf := a_latchesOf) (a_place := a_place) (a_unknown := a_unknown) W.1 hro h6 Pl ht (b10 (Or.inl hph))
  obtain ⟨r, hr, wr⟩ := bx_hopT (key := a_firstOf t) (f_threadCount := f_threadCount) (f_fan := f_fan) (f_capacity := f_capacity) (f_pace := f_pace) (f_least := f_least) (f_spareTop := f_spareTop) (f_root := f_root) (f_head := f_head) (f_records := f_records) (f_appliedTotal := f_appliedTotal) (a_keys := a_keys) (a_vals := a_vals) (a_count := a_count) (a_level := a_level) (a_low := a_low) (a_high := a_high) (a_right := a_right) (a_spare := a_spare) (a_path := a_path) (a_phaseOf := a_phaseOf) (a_kindOf := a_kindOf) (a_firstOf := a_firstOf) (a_secondOf := a_secondOf) (a_leftOf := a_leftOf) (a_outcomeOf := a_outcomeOf) (a_resKey := a_resKey) (a_resValue := a_resValue) (a_countOf := a_countOf) (a_digestOf := a_digestOf) (a_appliedAt := a_appliedAt) (a_latchesOf := a_latchesOf) (a_place := a_place) (a_unknown := a_unknown) W.1 hs
  obtain ⟨k, k1, k2, k3⟩ := b3 (by rw [hph]; decide)
  obtain ⟨p, hp, pX, pY⟩ := bk_pat (a_kindOf t) k1 k2 k3
  have hun : a_unknown t < 0 := b9 (by rw [hph]; decide)
  have hla := (b4 hph).1
  have hcn := (b4 hph).2
  have hPl : bk_Pl tc (upd a_place t r) (bk_gu g t (a_firstOf t).toInt) L h := bk_Pl_up Pl (Or.inr hr)
  by_cases hz : a_leftOf t - 1 = 0
  · refine ⟨2, (f_threadCount, f_fan, f_capacity, f_pace, f_least, f_spareTop, f_root, f_head, f_records, f_appliedTotal, a_keys, a_vals, a_count, a_level, a_low, a_high, a_right, a_spare, a_path, upd a_phaseOf t p, a_kindOf, a_firstOf, a_secondOf, upd a_leftOf t (a_leftOf t - 1), a_outcomeOf, a_resKey, a_resValue, a_countOf, a_digestOf, a_appliedAt, a_latchesOf, upd a_place t r, a_unknown), (f_threadCount, f_fan, f_capacity, f_pace, f_appliedTotal, us, ks, vs, upd a_phaseOf t p, a_kindOf, a_firstOf, a_secondOf, upd a_leftOf t (a_leftOf t - 1), a_outcomeOf, a_resKey, a_resValue, a_countOf, a_digestOf, a_appliedAt, a_latchesOf), bk_in ⟨fan, lst, cap, pc, L, h, root, bk_gu g t (a_firstOf t).toInt, C, hro, hrc, W, U, hPl, Pm, ?_⟩, fun post hpo => ?_, fun post hpo => ?_⟩
    · refine bk_Th_up (t := t) Th (fun q _ e => ⟨pk_un e, rfl, rfl, rfl, pk_un e, rfl, rfl, rfl, bk_gu_n e, id⟩) (fun _ => ?_)
      rw [pk_us, pk_us, bk_gu_s]
      rcases hp with ⟨c1, rfl⟩ | ⟨c1, rfl⟩ | ⟨c1, rfl⟩
      · exact ⟨b1, by decide, fun _ => ⟨k, k1, k2, k3⟩, fun z => absurd z (by decide), fun z => absurd z (by decide), fun z => absurd z (by decide), fun z => absurd z (by decide), fun _ z => absurd hcn z, fun _ => hun, fun z => absurd z (by decide), fun _ => ⟨fun _ => Int.le_refl _, fun z => absurd hcn z⟩⟩
      · exact ⟨b1, by decide, fun _ => ⟨k, k1, k2, k3⟩, fun z => absurd z (by decide), fun z => absurd z (by decide), fun _ => c1, fun z => absurd z (by decide), fun z => absurd z (by decide), fun _ => hun, fun _ => Int.le_refl _, fun z => absurd z (by decide)⟩
      · exact ⟨b1, by decide, fun _ => ⟨k, k1, k2, k3⟩, fun z => absurd z (by decide), fun _ => ⟨c1, Or.inl hla⟩, fun z => absurd z (by decide), fun z => absurd z (by decide), fun z => absurd z (by decide), fun _ => hun, fun _ => Int.le_refl _, fun z => absurd z (by decide)⟩
    · show wpX_travelStep post (f_threadCount, f_fan, f_capacity, f_pace, f_least, f_spareTop, f_root, f_head, f_records, f_appliedTotal, a_keys, a_vals, a_count, a_level, a_low, a_high, a_right, a_spare, a_path, a_phaseOf, a_kindOf, a_firstOf, a_secondOf, a_leftOf, a_outcomeOf, a_resKey, a_resValue, a_countOf, a_digestOf, a_appliedAt, a_latchesOf, a_place, a_unknown) (nI t)
      unfold wpX_travelStep
      rw [hc]
      refine ws _ ⟨hi, wr _ ⟨hi, nm_e ⟨hi, hi, nm_e ⟨hi, ?_⟩⟩⟩⟩
      rw [pk_us]
      exact br_t hz ⟨hi, pX _ _ ⟨hi, nm_e hpo⟩⟩
    · show wpY_step post (f_threadCount, f_fan, f_capacity, f_pace, f_appliedTotal, us, ks, vs, a_phaseOf, a_kindOf, a_firstOf, a_secondOf, a_leftOf, a_outcomeOf, a_resKey, a_resValue, a_countOf, a_digestOf, a_appliedAt, a_latchesOf) (nI t)
      unfold wpY_step
      rw [hc]
      refine by_badOk C.1 h6 ht (br_t rfl ⟨hi, nm_r (e' := 1) hph (br_f (by decide) (br_t rfl ⟨hi, hi, nm_e ⟨hi, ?_⟩⟩))⟩)
      rw [pk_us]
      exact br_t hz ⟨hi, pY _ _ ⟨hi, nm_e hpo⟩⟩
  · refine ⟨2, (f_threadCount, f_fan, f_capacity, f_pace, f_least, f_spareTop, f_root, f_head, f_records, f_appliedTotal, a_keys, a_vals, a_count, a_level, a_low, a_high, a_right, a_spare, a_path, a_phaseOf, a_kindOf, a_firstOf, a_secondOf, upd a_leftOf t (a_leftOf t - 1), a_outcomeOf, a_resKey, a_resValue, a_countOf, a_digestOf, a_appliedAt, a_latchesOf, upd a_place t r, a_unknown), (f_threadCount, f_fan, f_capacity, f_pace, f_appliedTotal, us, ks, vs, a_phaseOf, a_kindOf, a_firstOf, a_secondOf, upd a_leftOf t (a_leftOf t - 1), a_outcomeOf, a_resKey, a_resValue, a_countOf, a_digestOf, a_appliedAt, a_latchesOf), bk_in ⟨fan, lst, cap, pc, L, h, root, bk_gu g t (a_firstOf t).toInt, C, hro, hrc, W, U, hPl, Pm, ?_⟩, fun post hpo => ?_, fun post hpo => ?_⟩
    · refine bk_Th_up (t := t) Th (fun q _ e => ⟨rfl, rfl, rfl, rfl, pk_un e, rfl, rfl, rfl, bk_gu_n e, id⟩) (fun _ => ?_)
      rw [pk_us, bk_gu_s]
      exact ⟨b1, b2, b3, b4, b5, b6, fun z => absurd (hph.symm.trans z) (by decide), b8, b9, fun _ => Int.le_refl _, fun z => absurd (hph.symm.trans z) (by decide)⟩
    · show wpX_travelStep post (f_threadCount, f_fan, f_capacity, f_pace, f_least, f_spareTop, f_root, f_head, f_records, f_appliedTotal, a_keys, a_vals, a_count, a_level, a_low, a_high, a_right, a_spare, a_path, a_phaseOf, a_kindOf, a_firstOf, a_secondOf, a_leftOf, a_outcomeOf, a_resKey, a_resValue, a_countOf, a_digestOf, a_appliedAt, a_latchesOf, a_place, a_unknown) (nI t)
      unfold wpX_travelStep
      rw [hc]
      refine ws _ ⟨hi, wr _ ⟨hi, nm_e ⟨hi, hi, nm_e ⟨hi, ?_⟩⟩⟩⟩
      rw [pk_us]
      exact br_f hz hpo
    · show wpY_step post (f_threadCount, f_fan, f_capacity, f_pace, f_appliedTotal, us, ks, vs, a_phaseOf, a_kindOf, a_firstOf, a_secondOf, a_leftOf, a_outcomeOf, a_resKey, a_resValue, a_countOf, a_digestOf, a_appliedAt, a_latchesOf) (nI t)
      unfold wpY_step
      rw [hc]
      refine by_badOk C.1 h6 ht (br_t rfl ⟨hi, nm_r (e' := 1) hph (br_f (by decide) (br_t rfl ⟨hi, hi, nm_e ⟨hi, ?_⟩⟩))⟩)
      rw [pk_us]
      exact br_f hz hpo
end
end
section
/-! ===== 28: latch and trail steps ===== -/
theorem bk_nk_ne {fi se : Int32} (h : fi ≠ se) : bk_nk 8 fi se 0 ≠ bk_nk 8 fi se 1 := by
  have e0 : bk_nk 8 fi se 0 = if se < fi then se else fi := by unfold bk_nk; rw [if_pos rfl, if_pos rfl]
  have e1 : bk_nk 8 fi se 1 = if se < fi then fi else se := by unfold bk_nk; rw [if_pos rfl, if_neg (show ¬ (1 : Int32) = 0 by decide)]
  rw [e0, e1]
  by_cases c : se < fi
  · rw [if_pos c, if_pos c]; exact Ne.symm h
  · rw [if_neg c, if_neg c]; exact h
section
variable {tc fan lst cap pc : Nat} {L : Nat → List bk_Nd} {h root t : Nat} {g : Nat → Int} {f_threadCount f_fan f_capacity f_pace f_least f_spareTop f_root f_head f_records f_appliedTotal : Int32} {a_keys a_vals a_count a_level a_low a_high a_right a_spare a_path a_phaseOf a_kindOf a_firstOf a_secondOf a_leftOf a_outcomeOf a_resKey a_resValue a_countOf a_digestOf a_appliedAt a_latchesOf a_place a_unknown : Nat → Int32} {us ks vs : Nat → Int32}
theorem bk_latch (J : bk_J tc fan lst cap pc L h root g f_threadCount f_fan f_capacity f_pace f_least f_spareTop f_root f_head f_records f_appliedTotal a_keys a_vals a_count a_level a_low a_high a_right a_spare a_path a_phaseOf a_kindOf a_firstOf a_secondOf a_leftOf a_outcomeOf a_resKey a_resValue a_countOf a_digestOf a_appliedAt a_latchesOf a_place a_unknown us ks vs) (ht : t < tc) (hph : a_phaseOf t = 2) :
    bk_Ok tc (fun post => wpX_latchStep post (f_threadCount, f_fan, f_capacity, f_pace, f_least, f_spareTop, f_root, f_head, f_records, f_appliedTotal, a_keys, a_vals, a_count, a_level, a_low, a_high, a_right, a_spare, a_path, a_phaseOf, a_kindOf, a_firstOf, a_secondOf, a_leftOf, a_outcomeOf, a_resKey, a_resValue, a_countOf, a_digestOf, a_appliedAt, a_latchesOf, a_place, a_unknown) (nI t)) (fun post => wpY_step post (f_threadCount, f_fan, f_capacity, f_pace, f_appliedTotal, us, ks, vs, a_phaseOf, a_kindOf, a_firstOf, a_secondOf, a_leftOf, a_outcomeOf, a_resKey, a_resValue, a_countOf, a_digestOf, a_appliedAt, a_latchesOf) (nI t)) := by
  have hlaA := bk_J_la J
  have J0 := J
  obtain ⟨C, hro, hrc, W, U, Pl, Pm, Th⟩ := J
  have h6 := C.2.1
  have ht6 : t < 6 := by omega
  have hi := bx_6 (t := t) (by omega)
  have hc := bx_c6 (t := t) (by omega)
  obtain ⟨b1, b2, b3, b4, b5, b6, b7, b8, b9, b10, b11⟩ := Th t ht
  obtain ⟨hkd5, hla⟩ := b5 hph
  obtain ⟨r, hr, hX, hY⟩ := bk_hold (a_kindOf := a_kindOf) (a_firstOf := a_firstOf) (a_secondOf := a_secondOf) C.1 h6 hlaA (bk_nk (a_kindOf t) (a_firstOf t) (a_secondOf t) (a_latchesOf t))
  have hkd4 : a_kindOf t ≠ 4 := fun e => by rw [e] at hkd5; exact absurd hkd5 (by decide)
  rcases hr with ⟨hr1, _⟩ | ⟨t', ht', hr1, hH⟩
  · -- free: the latch is taken
    have hneg : r < 0 := by rw [hr1]; decide
    have hX29 : ∀ post : Int32 → SX → Prop, wX_latchStep_29 post (nI t) f_threadCount f_fan f_capacity f_pace f_least f_spareTop f_root f_head f_records f_appliedTotal a_keys a_vals a_count a_level a_low a_high a_right a_spare a_path a_phaseOf a_kindOf a_firstOf a_secondOf a_leftOf a_outcomeOf a_resKey a_resValue a_countOf a_digestOf a_appliedAt a_latchesOf a_place a_unknown → wpX_latchStep post (f_threadCount, f_fan, f_capacity, f_pace, f_least, f_spareTop, f_root, f_head, f_records, f_appliedTotal, a_keys, a_vals, a_count, a_level, a_low, a_high, a_right, a_spare, a_path, a_phaseOf, a_kindOf, a_firstOf, a_secondOf, a_leftOf, a_outcomeOf, a_resKey, a_resValue, a_countOf, a_digestOf, a_appliedAt, a_latchesOf, a_place, a_unknown) (nI t) := by
      intro post hw
      unfold wpX_latchStep
      rw [hc]
      exact And.intro hi (bx_nk ht6 _ (hX _ (br_t hneg hw)))
    have hYl : ∀ post : Int32 → SY → Prop, (vp_in (nI t) 6 ∧ (vp_in (nI t) 6 ∧ (∀ la : Nat → Int32, la = upd a_latchesOf t (a_latchesOf t + 1) → (vp_in (nI t) 6 ∧ wpY_needs (fun r_140 => (((la t) = r_140 → (vp_in (nI t) 6 ∧ (∀ ph : Nat → Int32, ph = upd a_phaseOf t 3 → post 3 (f_threadCount, f_fan, f_capacity, f_pace, f_appliedTotal, us, ks, vs, ph, a_kindOf, a_firstOf, a_secondOf, a_leftOf, a_outcomeOf, a_resKey, a_resValue, a_countOf, a_digestOf, a_appliedAt, la)))) ∧ (¬ (la t) = r_140 → post 3 (f_threadCount, f_fan, f_capacity, f_pace, f_appliedTotal, us, ks, vs, a_phaseOf, a_kindOf, a_firstOf, a_secondOf, a_leftOf, a_outcomeOf, a_resKey, a_resValue, a_countOf, a_digestOf, a_appliedAt, la)))) (f_threadCount, f_fan, f_capacity, f_pace, f_appliedTotal, us, ks, vs, a_phaseOf, a_kindOf, a_firstOf, a_secondOf, a_leftOf, a_outcomeOf, a_resKey, a_resValue, a_countOf, a_digestOf, a_appliedAt, la) (nI t))))) → wpY_step post (f_threadCount, f_fan, f_capacity, f_pace, f_appliedTotal, us, ks, vs, a_phaseOf, a_kindOf, a_firstOf, a_secondOf, a_leftOf, a_outcomeOf, a_resKey, a_resValue, a_countOf, a_digestOf, a_appliedAt, a_latchesOf) (nI t) := by
      intro post hw
      unfold wpY_step
      rw [hc]
      exact by_badOk C.1 h6 ht (br_t rfl ⟨hi, nm_r (e' := 2) hph (br_f (by decide) (br_f (by decide) (br_t rfl ⟨hi, by_nk ht6 _ (hY _ (br_t hneg hw))⟩)))⟩)
    -- how many are needed
    by_cases hn : a_kindOf t = 8 ∧ a_firstOf t ≠ a_secondOf t
    · obtain ⟨hk8, hne⟩ := hn
      rcases hla with hla | ⟨hla, _, _⟩
      · refine ⟨3, (f_threadCount, f_fan, f_capacity, f_pace, f_least, f_spareTop, f_root, f_head, f_records, f_appliedTotal, a_keys, a_vals, a_count, a_level, a_low, a_high, a_right, a_spare, a_path, a_phaseOf, a_kindOf, a_firstOf, a_secondOf, a_leftOf, a_outcomeOf, a_resKey, a_resValue, a_countOf, a_digestOf, a_appliedAt, upd a_latchesOf t (a_latchesOf t + 1), a_place, a_unknown), (f_threadCount, f_fan, f_capacity, f_pace, f_appliedTotal, us, ks, vs, a_phaseOf, a_kindOf, a_firstOf, a_secondOf, a_leftOf, a_outcomeOf, a_resKey, a_resValue, a_countOf, a_digestOf, a_appliedAt, upd a_latchesOf t (a_latchesOf t + 1)), bk_in ⟨fan, lst, cap, pc, L, h, root, g, C, hro, hrc, W, U, Pl, Pm, ?_⟩, fun post hpo => ?_, fun post hpo => ?_⟩
        · refine bk_Th_up (t := t) Th (fun q _ e => ⟨rfl, rfl, rfl, rfl, rfl, rfl, rfl, pk_un e, rfl, id⟩) (fun _ => ?_)
          rw [pk_us, hla]
          exact ⟨⟨1, by omega, rfl⟩, b2, b3, fun z => absurd (hph.symm.trans z) (by decide), fun _ => ⟨hkd5, Or.inr ⟨rfl, hk8, hne⟩⟩, b6, b7, b8, b9, b10, b11⟩
        · refine hX29 post ?_
          unfold wX_latchStep_29 wpX_neededCount
          rw [hc]
          refine And.intro hi (And.intro hi (nm_e (And.intro hi (And.intro hi (br_t hk8 ⟨hi, hi, br_f hne ?_⟩)))))
          rw [pk_us]
          exact br_t (by rw [hla]; decide) hpo
        · refine hYl post ⟨hi, hi, nm_e ⟨hi, ?_⟩⟩
          unfold wpY_needs
          rw [hc]
          refine And.intro hi (br_t hk8 ⟨hi, hi, br_f hne ?_⟩)
          rw [pk_us]
          exact br_f (by rw [hla]; decide) hpo
      · refine ⟨3, (f_threadCount, f_fan, f_capacity, f_pace, f_least, f_spareTop, f_root, f_head, f_records, f_appliedTotal, a_keys, a_vals, a_count, a_level, a_low, a_high, a_right, a_spare, a_path, upd a_phaseOf t 3, a_kindOf, a_firstOf, a_secondOf, a_leftOf, a_outcomeOf, a_resKey, a_resValue, a_countOf, a_digestOf, a_appliedAt, upd a_latchesOf t (a_latchesOf t + 1), a_place, a_unknown), (f_threadCount, f_fan, f_capacity, f_pace, f_appliedTotal, us, ks, vs, upd a_phaseOf t 3, a_kindOf, a_firstOf, a_secondOf, a_leftOf, a_outcomeOf, a_resKey, a_resValue, a_countOf, a_digestOf, a_appliedAt, upd a_latchesOf t (a_latchesOf t + 1)), bk_in ⟨fan, lst, cap, pc, L, h, root, g, C, hro, hrc, W, U, Pl, Pm, ?_⟩, fun post hpo => ?_, fun post hpo => ?_⟩
        · refine bk_Th_up (t := t) Th (fun q _ e => ⟨pk_un e, rfl, rfl, rfl, rfl, rfl, rfl, pk_un e, rfl, id⟩) (fun _ => ?_)
          rw [pk_us, pk_us, hla]
          exact ⟨⟨2, by omega, rfl⟩, by decide, fun _ => b3 (by rw [hph]; decide), fun z => absurd z (by decide), fun z => absurd z (by decide), fun _ => hkd4, fun z => absurd z (by decide), fun z => absurd z (by decide), fun _ => b9 (by rw [hph]; decide), fun _ => b10 (Or.inr (Or.inl hph)), fun z => absurd z (by decide)⟩
        · refine hX29 post ?_
          unfold wX_latchStep_29 wpX_neededCount
          rw [hc]
          refine And.intro hi (And.intro hi (nm_e (And.intro hi (And.intro hi (br_t hk8 ⟨hi, hi, br_f hne ?_⟩)))))
          rw [pk_us]
          exact br_f (by rw [hla]; decide) ⟨hi, nm_e hpo⟩
        · refine hYl post ⟨hi, hi, nm_e ⟨hi, ?_⟩⟩
          unfold wpY_needs
          rw [hc]
          refine And.intro hi (br_t hk8 ⟨hi, hi, br_f hne ?_⟩)
          rw [pk_us]
          exact br_t (by rw [hla]; decide) ⟨hi, nm_e hpo⟩
    · have hla0 : a_latchesOf t = 0 := by
        rcases hla with hla | ⟨_, h8, hne⟩
        · exact hla
        · exact absurd ⟨h8, hne⟩ hn
      refine ⟨3, (f_threadCount, f_fan, f_capacity, f_pace, f_least, f_spareTop, f_root, f_head, f_records, f_appliedTotal, a_keys, a_vals, a_count, a_level, a_low, a_high, a_right, a_spare, a_path, upd a_phaseOf t 3, a_kindOf, a_firstOf, a_secondOf, a_leftOf, a_outcomeOf, a_resKey, a_resValue, a_countOf, a_digestOf, a_appliedAt, upd a_latchesOf t (a_latchesOf t + 1), a_place, a_unknown), (f_threadCount, f_fan, f_capacity, f_pace, f_appliedTotal, us, ks, vs, upd a_phaseOf t 3, a_kindOf, a_firstOf, a_secondOf, a_leftOf, a_outcomeOf, a_resKey, a_resValue, a_countOf, a_digestOf, a_appliedAt, upd a_latchesOf t (a_latchesOf t + 1)), bk_in ⟨fan, lst, cap, pc, L, h, root, g, C, hro, hrc, W, U, Pl, Pm, ?_⟩, fun post hpo => ?_, fun post hpo => ?_⟩
      · refine bk_Th_up (t := t) Th (fun q _ e => ⟨pk_un e, rfl, rfl, rfl, rfl, rfl, rfl, pk_un e, rfl, id⟩) (fun _ => ?_)
        rw [pk_us, pk_us, hla0]
        exact ⟨⟨1, by omega, rfl⟩, by decide, fun _ => b3 (by rw [hph]; decide), fun z => absurd z (by decide), fun z => absurd z (by decide), fun _ => hkd4, fun z => absurd z (by decide), fun z => absurd z (by decide), fun _ => b9 (by rw [hph]; decide), fun _ => b10 (Or.inr (Or.inl hph)), fun z => absurd z (by decide)⟩
      · refine hX29 post ?_
        unfold wX_latchStep_29 wpX_neededCount
        rw [hc]
        refine And.intro hi (And.intro hi (nm_e (And.intro hi (And.intro hi ?_))))
        rw [pk_us]
        have hlast : ((a_latchesOf t + 1 < 1 → post 3 (f_threadCount, f_fan, f_capacity, f_pace, f_least, f_spareTop, f_root, f_head, f_records, f_appliedTotal, a_keys, a_vals, a_count, a_level, a_low, a_high, a_right, a_spare, a_path, a_phaseOf, a_kindOf, a_firstOf, a_secondOf, a_leftOf, a_outcomeOf, a_resKey, a_resValue, a_countOf, a_digestOf, a_appliedAt, upd a_latchesOf t (a_latchesOf t + 1), a_place, a_unknown)) ∧ (¬ a_latchesOf t + 1 < 1 → (vp_in (nI t) 6 ∧ (∀ ph : Nat → Int32, ph = upd a_phaseOf t 3 → post 3 (f_threadCount, f_fan, f_capacity, f_pace, f_least, f_spareTop, f_root, f_head, f_records, f_appliedTotal, a_keys, a_vals, a_count, a_level, a_low, a_high, a_right, a_spare, a_path, ph, a_kindOf, a_firstOf, a_secondOf, a_leftOf, a_outcomeOf, a_resKey, a_resValue, a_countOf, a_digestOf, a_appliedAt, upd a_latchesOf t (a_latchesOf t + 1), a_place, a_unknown))))) :=
          br_f (by rw [hla0]; decide) ⟨hi, nm_e hpo⟩
        exact br_c (fun z8 => ⟨hi, hi, br_t (Classical.byContradiction fun z => hn ⟨z8, z⟩) hlast⟩) (fun _ => hlast)
      · refine hYl post ⟨hi, hi, nm_e ⟨hi, ?_⟩⟩
        unfold wpY_needs
        rw [hc]
        refine And.intro hi ?_
        rw [pk_us]
        have hlast : ((a_latchesOf t + 1 = 1 → (vp_in (nI t) 6 ∧ (∀ ph : Nat → Int32, ph = upd a_phaseOf t 3 → post 3 (f_threadCount, f_fan, f_capacity, f_pace, f_appliedTotal, us, ks, vs, ph, a_kindOf, a_firstOf, a_secondOf, a_leftOf, a_outcomeOf, a_resKey, a_resValue, a_countOf, a_digestOf, a_appliedAt, upd a_latchesOf t (a_latchesOf t + 1))))) ∧ (¬ a_latchesOf t + 1 = 1 → post 3 (f_threadCount, f_fan, f_capacity, f_pace, f_appliedTotal, us, ks, vs, a_phaseOf, a_kindOf, a_firstOf, a_secondOf, a_leftOf, a_outcomeOf, a_resKey, a_resValue, a_countOf, a_digestOf, a_appliedAt, upd a_latchesOf t (a_latchesOf t + 1)))) :=
          br_t (by rw [hla0]; decide) ⟨hi, nm_e hpo⟩
        exact br_c (fun z8 => ⟨hi, hi, br_t (Classical.byContradiction fun z => hn ⟨z8, z⟩) hlast⟩) (fun _ => hlast)
  · -- another thread holds the key
    have hne : ¬ r = nI t := by
      intro hc'
      have : t' = t := bx_inj (by omega) (by omega) (hr1.symm.trans hc')
      subst this
      rcases hla with hla | ⟨hla, h8, hne⟩
      · rcases hH with ⟨z, _⟩ | ⟨z, _⟩
        · rw [hla] at z; exact absurd z (by decide)
        · rw [hla] at z; exact absurd z (by decide)
      · rw [hla, h8] at hH
        rcases hH with ⟨_, z⟩ | ⟨z, _⟩
        · exact bk_nk_ne hne z
        · exact absurd z (by decide)
    have hpos : ¬ r < 0 := by rw [hr1]; exact nI_pos (by omega)
    refine ⟨4, (f_threadCount, f_fan, f_capacity, f_pace, f_least, f_spareTop, f_root, f_head, f_records, f_appliedTotal, a_keys, a_vals, a_count, a_level, a_low, a_high, a_right, a_spare, a_path, a_phaseOf, a_kindOf, a_firstOf, a_secondOf, a_leftOf, a_outcomeOf, a_resKey, a_resValue, a_countOf, a_digestOf, a_appliedAt, a_latchesOf, a_place, a_unknown), (f_threadCount, f_fan, f_capacity, f_pace, f_appliedTotal, us, ks, vs, a_phaseOf, a_kindOf, a_firstOf, a_secondOf, a_leftOf, a_outcomeOf, a_resKey, a_resValue, a_countOf, a_digestOf, a_appliedAt, a_latchesOf), bk_in ⟨fan, lst, cap, pc, L, h, root, g, J0⟩, fun post hpo => ?_, fun post hpo => ?_⟩
    · show wpX_latchStep post (f_threadCount, f_fan, f_capacity, f_pace, f_least, f_spareTop, f_root, f_head, f_records, f_appliedTotal, a_keys, a_vals, a_count, a_level, a_low, a_high, a_right, a_spare, a_path, a_phaseOf, a_kindOf, a_firstOf, a_secondOf, a_leftOf, a_outcomeOf, a_resKey, a_resValue, a_countOf, a_digestOf, a_appliedAt, a_latchesOf, a_place, a_unknown) (nI t)
      unfold wpX_latchStep
      rw [hc]
      exact And.intro hi (bx_nk ht6 _ (hX _ (br_f hpos (br_f hne hpo))))
    · show wpY_step post (f_threadCount, f_fan, f_capacity, f_pace, f_appliedTotal, us, ks, vs, a_phaseOf, a_kindOf, a_firstOf, a_secondOf, a_leftOf, a_outcomeOf, a_resKey, a_resValue, a_countOf, a_digestOf, a_appliedAt, a_latchesOf) (nI t)
      unfold wpY_step
      rw [hc]
      exact by_badOk C.1 h6 ht (br_t rfl ⟨hi, nm_r (e' := 2) hph (br_f (by decide) (br_f (by decide) (br_t rfl ⟨hi, by_nk ht6 _ (hY _ (br_f hpos hpo))⟩)))⟩)
theorem bk_Tq_idle {kd fi se le cn rk la un : Int32} {g : Int} (hla : ∃ m, m ≤ 2 ∧ la = nI m) (hun : un < 0) : bk_Tq 0 kd fi se le cn rk la un g :=
  ⟨hla, Or.inl rfl, fun z => absurd rfl z, fun z => absurd z (by decide), fun z => absurd z (by decide), fun z => absurd z (by decide), fun z => absurd z (by decide), fun z => absurd z (by decide), fun _ => hun, fun z => absurd z (by decide), fun z => absurd z (by decide)⟩
theorem bk_trail (J : bk_J tc fan lst cap pc L h root g f_threadCount f_fan f_capacity f_pace f_least f_spareTop f_root f_head f_records f_appliedTotal a_keys a_vals a_count a_level a_low a_high a_right a_spare a_path a_phaseOf a_kindOf a_firstOf a_secondOf a_leftOf a_outcomeOf a_resKey a_resValue a_countOf a_digestOf a_appliedAt a_latchesOf a_place a_unknown us ks vs) (ht : t < tc) (hph : a_phaseOf t = 4) :
    bk_Ok tc (fun post => wpX_trailStep post (f_threadCount, f_fan, f_capacity, f_pace, f_least, f_spareTop, f_root, f_head, f_records, f_appliedTotal, a_keys, a_vals, a_count, a_level, a_low, a_high, a_right, a_spare, a_path, a_phaseOf, a_kindOf, a_firstOf, a_secondOf, a_leftOf, a_outcomeOf, a_resKey, a_resValue, a_countOf, a_digestOf, a_appliedAt, a_latchesOf, a_place, a_unknown) (nI t)) (fun post => wpY_step post (f_threadCount, f_fan, f_capacity, f_pace, f_appliedTotal, us, ks, vs, a_phaseOf, a_kindOf, a_firstOf, a_secondOf, a_leftOf, a_outcomeOf, a_resKey, a_resValue, a_countOf, a_digestOf, a_appliedAt, a_latchesOf) (nI t)) := by
  obtain ⟨C, hro, hrc, W, U, Pl, Pm, Th⟩ := J
  have h6 := C.2.1
  have ht6 : t < 6 := by omega
  have hi := bx_6 (t := t) (by omega)
  have hc := bx_c6 (t := t) (by omega)
  have hfan := C.2.2.1
  obtain ⟨b1, b2, b3, b4, b5, b6, b7, b8, b9, b10, b11⟩ := Th t ht
  have hTq1 : ∀ un' : Int32, bk_Tq (a_phaseOf t) (a_kindOf t) (a_firstOf t) (a_secondOf t) 1 (a_countOf t) (a_resKey t) (a_latchesOf t) un' (g t) := fun un' =>
    ⟨b1, b2, b3, b4, b5, b6, fun _ => Or.inl rfl, b8, fun z => absurd hph z, b10, b11⟩
  rcases b7 hph with hle | hle
  · -- the last step
    obtain ⟨st', h', root', L', ky', vl', ct', lv', lw', hg', rt', un', a1, a2, a3, a4, a5, a6⟩ := bx_finish (f_threadCount := f_threadCount) (f_fan := f_fan) (f_capacity := f_capacity) (f_pace := f_pace) (f_least := f_least) (f_spareTop := f_spareTop) (f_root := f_root) (f_head := f_head) (f_records := f_records) (f_appliedTotal := f_appliedTotal) (a_keys := a_keys) (a_vals := a_vals) (a_count := a_count) (a_level := a_level) (a_low := a_low) (a_high := a_high) (a_right := a_right) (a_spare := a_spare) (a_path := a_path) (a_phaseOf := a_phaseOf) (a_kindOf := a_kindOf) (a_firstOf := a_firstOf) (a_secondOf := a_secondOf) (a_leftOf := upd a_leftOf t (a_leftOf t - 1)) (a_outcomeOf := a_outcomeOf) (a_resKey := a_resKey) (a_resValue := a_resValue) (a_countOf := a_countOf) (a_digestOf := a_digestOf) (a_appliedAt := a_appliedAt) (a_latchesOf := a_latchesOf) (a_place := a_place) (a_unknown := a_unknown) W (Or.inr (Nat.le_refl _)) hfan hro ht6 U ht
    refine ⟨7, (f_threadCount, f_fan, f_capacity, f_pace, f_least, st', nI root', f_head, f_records, f_appliedTotal, ky', vl', ct', lv', lw', hg', rt', a_spare, a_path, upd a_phaseOf t 0, a_kindOf, a_firstOf, a_secondOf, upd a_leftOf t (a_leftOf t - 1), a_outcomeOf, a_resKey, a_resValue, a_countOf, a_digestOf, a_appliedAt, upd a_latchesOf t 0, upd a_place t (-1), un'),
      (f_threadCount, f_fan, f_capacity, f_pace, f_appliedTotal, us, ks, vs, upd a_phaseOf t 0, a_kindOf, a_firstOf, a_secondOf, upd a_leftOf t (a_leftOf t - 1), a_outcomeOf, a_resKey, a_resValue, a_countOf, a_digestOf, a_appliedAt, upd a_latchesOf t 0), bk_in ⟨fan, lst, cap, pc, L', h', root', g, C, rfl, ?_, a1, a5, bk_Pl_neg (bk_Pl_gw a3 Pl), ?_, ?_⟩, fun post hpo => ?_, fun post hpo => ?_⟩
    · rw [bk_sh_fl a2]; exact hrc
    · rw [bk_sh_fl a2]; exact Pm
    · refine bk_Th_up (t := t) Th (fun q _ e => ⟨pk_un e, rfl, rfl, rfl, pk_un e, rfl, rfl, pk_un e, rfl, fun z => by rw [a4.2 q e]; exact z⟩) (fun _ => ?_)
      rw [pk_us, pk_us]
      exact bk_Tq_idle ⟨0, by omega, by rw [pk_us]; rfl⟩ a4.1
    · show wpX_trailStep post (f_threadCount, f_fan, f_capacity, f_pace, f_least, f_spareTop, f_root, f_head, f_records, f_appliedTotal, a_keys, a_vals, a_count, a_level, a_low, a_high, a_right, a_spare, a_path, a_phaseOf, a_kindOf, a_firstOf, a_secondOf, a_leftOf, a_outcomeOf, a_resKey, a_resValue, a_countOf, a_digestOf, a_appliedAt, a_latchesOf, a_place, a_unknown) (nI t)
      unfold wpX_trailStep
      rw [hc]
      refine And.intro hi (And.intro hi (nm_e (And.intro hi ?_)))
      rw [pk_us]
      refine br_t (by rw [hle]; decide) (a6 _ (And.intro hi (nm_e ?_)))
      unfold wpX_retire
      rw [hc]
      exact And.intro hi (nm_e ⟨hi, nm_e hpo⟩)
    · show wpY_step post (f_threadCount, f_fan, f_capacity, f_pace, f_appliedTotal, us, ks, vs, a_phaseOf, a_kindOf, a_firstOf, a_secondOf, a_leftOf, a_outcomeOf, a_resKey, a_resValue, a_countOf, a_digestOf, a_appliedAt, a_latchesOf) (nI t)
      unfold wpY_step
      rw [hc]
      refine by_badOk C.1 h6 ht (br_t rfl ⟨hi, nm_r (e' := 4) hph (br_f (by decide) (br_f (by decide) (br_f (by decide) (br_f (by decide) (br_t rfl ⟨hi, hi, nm_e ⟨hi, ?_⟩⟩)))))⟩)
      rw [pk_us]
      exact br_t (by rw [hle]; decide) ⟨hi, nm_e ⟨hi, nm_e hpo⟩⟩
  · have h21 : a_leftOf t - 1 = 1 := by rw [hle]; decide
    have hYw : ∀ post : Int32 → SY → Prop, post 2 (f_threadCount, f_fan, f_capacity, f_pace, f_appliedTotal, us, ks, vs, a_phaseOf, a_kindOf, a_firstOf, a_secondOf, upd a_leftOf t (a_leftOf t - 1), a_outcomeOf, a_resKey, a_resValue, a_countOf, a_digestOf, a_appliedAt, a_latchesOf) → wpY_step post (f_threadCount, f_fan, f_capacity, f_pace, f_appliedTotal, us, ks, vs, a_phaseOf, a_kindOf, a_firstOf, a_secondOf, a_leftOf, a_outcomeOf, a_resKey, a_resValue, a_countOf, a_digestOf, a_appliedAt, a_latchesOf) (nI t) := by
      intro post hpo
      unfold wpY_step
      rw [hc]
      refine by_badOk C.1 h6 ht (br_t rfl ⟨hi, nm_r (e' := 4) hph (br_f (by decide) (br_f (by decide) (br_f (by decide) (br_f (by decide) (br_t rfl ⟨hi, hi, nm_e ⟨hi, ?_⟩⟩)))))⟩)
      rw [pk_us]
      exact br_f (by rw [hle]; decide) hpo
    rcases U.2.1 t ht with hun | ⟨i, hi80, ⟨l, hl, y, hy, hyk, hyi⟩, hui⟩
    · refine ⟨2, (f_threadCount, f_fan, f_capacity, f_pace, f_least, f_spareTop, f_root, f_head, f_records, f_appliedTotal, a_keys, a_vals, a_count, a_level, a_low, a_high, a_right, a_spare, a_path, a_phaseOf, a_kindOf, a_firstOf, a_secondOf, upd a_leftOf t (a_leftOf t - 1), a_outcomeOf, a_resKey, a_resValue, a_countOf, a_digestOf, a_appliedAt, a_latchesOf, a_place, a_unknown), (f_threadCount, f_fan, f_capacity, f_pace, f_appliedTotal, us, ks, vs, a_phaseOf, a_kindOf, a_firstOf, a_secondOf, upd a_leftOf t (a_leftOf t - 1), a_outcomeOf, a_resKey, a_resValue, a_countOf, a_digestOf, a_appliedAt, a_latchesOf), bk_in ⟨fan, lst, cap, pc, L, h, root, g, C, hro, hrc, W, U, Pl, Pm, ?_⟩, fun post hpo => ?_, fun post hpo => hYw post hpo⟩
      · refine bk_Th_up (t := t) Th (fun q _ e => ⟨rfl, rfl, rfl, rfl, pk_un e, rfl, rfl, rfl, rfl, id⟩) (fun _ => ?_)
        rw [pk_us, h21]
        exact hTq1 _
      · show wpX_trailStep post (f_threadCount, f_fan, f_capacity, f_pace, f_least, f_spareTop, f_root, f_head, f_records, f_appliedTotal, a_keys, a_vals, a_count, a_level, a_low, a_high, a_right, a_spare, a_path, a_phaseOf, a_kindOf, a_firstOf, a_secondOf, a_leftOf, a_outcomeOf, a_resKey, a_resValue, a_countOf, a_digestOf, a_appliedAt, a_latchesOf, a_place, a_unknown) (nI t)
        unfold wpX_trailStep
        rw [hc]
        refine And.intro hi (And.intro hi (nm_e (And.intro hi ?_)))
        rw [pk_us]
        exact br_f (by rw [hle]; decide) ⟨hi, br_t hun hpo⟩
    · obtain ⟨r, st, h', root', L', ky, vl, ct, lv, lw, hg, rt, a1, a2, a3, a4, a5, a6⟩ := bx_known (f_threadCount := f_threadCount) (f_fan := f_fan) (f_capacity := f_capacity) (f_pace := f_pace) (f_least := f_least) (f_spareTop := f_spareTop) (f_root := f_root) (f_head := f_head) (f_records := f_records) (f_appliedTotal := f_appliedTotal) (a_keys := a_keys) (a_vals := a_vals) (a_count := a_count) (a_level := a_level) (a_low := a_low) (a_high := a_high) (a_right := a_right) (a_spare := a_spare) (a_path := a_path) (a_phaseOf := a_phaseOf) (a_kindOf := a_kindOf) (a_firstOf := a_firstOf) (a_secondOf := a_secondOf) (a_leftOf := upd a_leftOf t (a_leftOf t - 1)) (a_outcomeOf := a_outcomeOf) (a_resKey := a_resKey) (a_resValue := a_resValue) (a_countOf := a_countOf) (a_digestOf := a_digestOf) (a_appliedAt := a_appliedAt) (a_latchesOf := a_latchesOf) (a_place := a_place) (a_unknown := a_unknown) W (Or.inr (Nat.le_refl _)) hfan hro hl hy hyk
      have hU : bk_Uk tc (upd a_unknown t r) (bk_Pn L' h') := by
        refine bk_Uk_step (y := y.1) U (by rw [hyi]; exact hi80) (by rw [hyi]; exact hui) ht a4 ?_ (fun i hp => bk_Pn_lt W.1 hp)
        rcases a5 with a5 | ⟨_, _, j, c1, c2, c3, _⟩
        · exact Or.inl a5
        · exact Or.inr ⟨j, c1, c2, c3⟩
      refine ⟨2, (f_threadCount, f_fan, f_capacity, f_pace, f_least, st, nI root', f_head, f_records, f_appliedTotal, ky, vl, ct, lv, lw, hg, rt, a_spare, a_path, a_phaseOf, a_kindOf, a_firstOf, a_secondOf, upd a_leftOf t (a_leftOf t - 1), a_outcomeOf, a_resKey, a_resValue, a_countOf, a_digestOf, a_appliedAt, a_latchesOf, a_place, upd a_unknown t r), (f_threadCount, f_fan, f_capacity, f_pace, f_appliedTotal, us, ks, vs, a_phaseOf, a_kindOf, a_firstOf, a_secondOf, upd a_leftOf t (a_leftOf t - 1), a_outcomeOf, a_resKey, a_resValue, a_countOf, a_digestOf, a_appliedAt, a_latchesOf), bk_in ⟨fan, lst, cap, pc, L', h', root', g, C, rfl, ?_, a1, hU, bk_Pl_gw a3 Pl, ?_, ?_⟩, fun post hpo => ?_, fun post hpo => hYw post hpo⟩
      · rw [bk_sh_fl a2]; exact hrc
      · rw [bk_sh_fl a2]; exact Pm
      · refine bk_Th_up (t := t) Th (fun q _ e => ⟨rfl, rfl, rfl, rfl, pk_un e, rfl, rfl, rfl, rfl, fun z => by rw [pk_un e]; exact z⟩) (fun _ => ?_)
        rw [pk_us, h21]
        exact hTq1 _
      · show wpX_trailStep post (f_threadCount, f_fan, f_capacity, f_pace, f_least, f_spareTop, f_root, f_head, f_records, f_appliedTotal, a_keys, a_vals, a_count, a_level, a_low, a_high, a_right, a_spare, a_path, a_phaseOf, a_kindOf, a_firstOf, a_secondOf, a_leftOf, a_outcomeOf, a_resKey, a_resValue, a_countOf, a_digestOf, a_appliedAt, a_latchesOf, a_place, a_unknown) (nI t)
        unfold wpX_trailStep
        rw [hc]
        refine And.intro hi (And.intro hi (nm_e (And.intro hi ?_)))
        rw [pk_us]
        refine br_f (by rw [hle]; decide) ⟨hi, br_f (by rw [hui]; exact nI_pos (by omega)) ⟨hi, ?_⟩⟩
        rw [hui, ← hyi]
        exact a6 _ ⟨hi, nm_e hpo⟩
end
end
section
/-! ===== 29: what effects need: one record on both sides, a changed value ===== -/
theorem bk_Pm_cut {M1 M2 : List (Int × Int32)} {k : Int} {v : Int32} {us ks vs : Nat → Int32} {s : Nat} (P : bk_Pm (M1 ++ (k, v) :: M2) us ks vs) (hs : s < 64) (hu : ¬ us s = 0) (hk : (ks s).toInt = k) (hv : vs s = v)
    (us' ks' vs' : Nat → Int32) (ha : ∀ q, q ≠ s → us' q = us q ∧ ks' q = ks q ∧ vs' q = vs q) : ((bk_ce us' ks' vs' s) ++ (M1 ++ M2)).Perm (bk_yl us' ks' vs' 64) := by
  obtain ⟨rest, a, b⟩ := bk_yl_at (us := us) (ks := ks) (vs := vs) hs
  rw [bk_ce_1 hu, hk, hv] at a
  have c : ((k, v) :: (M1 ++ M2)).Perm ((k, v) :: rest) := List.perm_middle.symm.trans (P.trans a)
  have d := c.cons_inv
  exact (d.append_left _).trans (b us' ks' vs' ha).symm
theorem bk_Pm_del {M1 M2 : List (Int × Int32)} {k : Int} {v : Int32} {us ks vs : Nat → Int32} {s : Nat} (P : bk_Pm (M1 ++ (k, v) :: M2) us ks vs) (hs : s < 64) (hu : ¬ us s = 0) (hk : (ks s).toInt = k) (hv : vs s = v) :
    bk_Pm (M1 ++ M2) (upd us s 0) ks vs := by
  have := bk_Pm_cut P hs hu hk hv (upd us s 0) ks vs (fun q hq => ⟨pk_un hq, rfl, rfl⟩)
  rw [bk_ce_0 pk_us] at this
  exact this
theorem bk_Pm_set {M1 M2 : List (Int × Int32)} {k : Int} {v b : Int32} {us ks vs : Nat → Int32} {s : Nat} (P : bk_Pm (M1 ++ (k, v) :: M2) us ks vs) (hs : s < 64) (hu : ¬ us s = 0) (hk : (ks s).toInt = k) (hv : vs s = v) :
    bk_Pm (M1 ++ (k, b) :: M2) us ks (upd vs s b) := by
  have := bk_Pm_cut P hs hu hk hv us ks (upd vs s b) (fun q hq => ⟨rfl, rfl, pk_un hq⟩)
  rw [bk_ce_1 hu, pk_us, hk] at this
  exact List.perm_middle.trans this
theorem bk_Pm_mv {M1 M2 N1 N2 : List (Int × Int32)} {k : Int} {v b : Int32} {us ks vs : Nat → Int32} {s : Nat} (P : bk_Pm (M1 ++ (k, v) :: M2) us ks vs) (hs : s < 64) (hu : ¬ us s = 0) (hk : (ks s).toInt = k) (hv : vs s = v)
    (e : M1 ++ M2 = N1 ++ N2) : bk_Pm (N1 ++ (b.toInt, v) :: N2) us (upd ks s b) vs := by
  have := bk_Pm_cut P hs hu hk hv us (upd ks s b) vs (fun q hq => ⟨rfl, pk_un hq, rfl⟩)
  rw [bk_ce_1 hu, pk_us, hv, e] at this
  exact List.perm_middle.trans this
theorem bk_so_val {a b k : Int} {v v' : Int32} {e1 e2 : List (Int × Int32)} (s : bk_so a b (e1 ++ (k, v) :: e2)) : bk_so a b (e1 ++ (k, v') :: e2) := by
  have d := List.pairwise_append.mp s.1
  have d2 := List.pairwise_cons.mp d.2.1
  refine ⟨List.pairwise_append.mpr ⟨d.1, List.pairwise_cons.mpr ⟨fun q hq => d2.1 q hq, d2.2⟩, fun p hp q hq => ?_⟩, fun p hp => ?_⟩
  · rcases List.mem_cons.mp hq with hq | hq
    · rw [hq]; exact d.2.2 p hp (k, v) List.mem_cons_self
    · exact d.2.2 p hp q (List.mem_cons_of_mem _ hq)
  · rcases List.mem_append.mp hp with hp | hp
    · exact s.2 p (List.mem_append_left _ hp)
    · rcases List.mem_cons.mp hp with hp | hp
      · rw [hp]; exact s.2 (k, v) (by simp)
      · exact s.2 p (by simp [hp])
theorem bk_Nr_val {ky vl ct : Nat → Int32} {n : Nat} {f1 f2 : List (Int × Int32)} {k0 : Int} {v b : Int32} (N : bk_Nr ky vl ct n (f1 ++ (k0, v) :: f2)) :
    bk_Nr ky (upd vl (8 * n + f1.length) b) ct n (f1 ++ (k0, b) :: f2) := by
  refine ⟨by rw [N.1]; simp, fun j p hp => ?_⟩
  by_cases a : j < f1.length
  · rw [pk_un (by omega)]
    rw [List.getElem?_append_left a] at hp
    exact N.2 j p (by rw [List.getElem?_append_left a]; exact hp)
  · by_cases c : j = f1.length
    · subst c
      have h1 := N.2 f1.length (k0, v) (bx_get2 rfl)
      rw [bx_get2 rfl] at hp
      injection hp with hp
      rw [pk_us, ← hp]
      exact ⟨h1.1, rfl⟩
    · rw [pk_un (by omega)]
      obtain ⟨i, rfl⟩ : ∃ i, j = f1.length + 1 + i := ⟨j - (f1.length + 1), by omega⟩
      rw [List.getElem?_append_right (by omega), show f1.length + 1 + i - f1.length = i + 1 by omega, List.getElem?_cons_succ] at hp
      exact N.2 _ p (by rw [List.getElem?_append_right (by omega), show f1.length + 1 + i - f1.length = i + 1 by omega, List.getElem?_cons_succ]; exact hp)
section
variable {lst fan : Nat} {L : Nat → List bk_Nd} {h root : Nat} {st : Int32} {ky vl ct lv lw hg rt sp : Nat → Int32}
theorem bk_setv {k : Int} {v b : Int32} {q : Nat} (W : bk_W lst fan 100 0 L h root st ky vl ct lv lw hg rt sp) (S : bk_Sl L k v (nI q)) (hq : q < 640) :
    ∃ L', bk_W lst fan 100 0 L' h root st ky (upd vl q b) ct lv lw hg rt sp ∧ (∃ M1 M2, bk_fl (L 0) = M1 ++ (k, v) :: M2 ∧ bk_fl (L' 0) = M1 ++ (k, b) :: M2) ∧ bk_Gw L h L' h ∧ bk_Pn L' h = bk_Pn L h := by
  obtain ⟨A, x, B, e1, e2, ex, hes, hr⟩ := S
  obtain ⟨T, F, hlst, hf3⟩ := W
  have hf6 := T.2.2.2.2
  have h5 := T.2.2.1
  obtain ⟨t1, t2, t3⟩ := bk_T_at T (l := 0) (by omega) ex
  have hx80 := t1.1
  have hxm : x ∈ L 0 := by rw [ex]; simp
  have hlen : x.2.2.2.length = e1.length + (e2.length + 1) := by rw [hes, List.length_append, List.length_cons]
  have hqe : q = 8 * x.1 + e1.length := bx_inj hq (by omega) hr
  have huq := bk_uqA T (l := 0) (by omega) ex
  have hV := T.1.1 0 (by omega)
  have S1 : ∀ m, m ≠ x.1 → bk_S8 ky vl ct ky (upd vl q b) ct m := fun m hm => ⟨rfl, fun j hj => ⟨rfl, pk_un (by omega)⟩⟩
  have N0 := t2.1
  rw [hes] at N0
  have N1 : bk_Nr ky (upd vl q b) ct x.1 (e1 ++ (k, b) :: e2) := by rw [hqe]; exact bk_Nr_val N0
  refine ⟨bk_up L 0 (A ++ [(x.1, x.2.1, x.2.2.1, e1 ++ (k, b) :: e2)] ++ B), ?_, ⟨bk_fl A ++ e1, e2 ++ bk_fl B, ?_, ?_⟩, ?_, ?_⟩
  · have hl1 : (A ++ [(x.1, x.2.1, x.2.2.1, e1 ++ (k, b) :: e2)] ++ B).length = (L 0).length := by rw [ex]; simp
    have hF : bk_Fr st sp (bk_up L 0 (A ++ [(x.1, x.2.1, x.2.2.1, e1 ++ (k, b) :: e2)] ++ B)) h := by
      refine bk_Fr_up F (by omega) hl1 (fun z hz => ?_)
      rw [ex]
      rcases List.mem_append.mp hz with hz | hz
      · rcases List.mem_append.mp hz with hz | hz
        · exact ⟨z, by simp [hz], rfl⟩
        · exact ⟨x, by simp, by rw [List.mem_singleton.mp hz]⟩
      · exact ⟨z, by simp [hz], rfl⟩
    have htb : bk_tb (bk_up L 0 (A ++ [(x.1, x.2.1, x.2.2.1, e1 ++ (k, b) :: e2)] ++ B)) (h + 1) ≤ 80 := by obtain ⟨s', _, hs', _⟩ := hF; omega
    refine ⟨⟨?_, ?_, h5, htb, hf6⟩, hF, hlst, hf3⟩
    · refine bk_PT_up1 T.1 (fun _ _ _ _ => Nat.le_refl _) ?_ ?_ (fun h0 => ?_) (by rw [hl1]; exact T.1.2.2.2.1) ?_
      · rw [hl1]
        have fV := hV.2.2
        have hV' := hV
        rw [ex, show A ++ x :: B = A ++ [x] ++ B by simp] at hV'
        refine bk_LV_rep hV' rfl (fun z => z) ⟨⟨t1.1, t1.2.1, ?_, fun h0 => absurd h0 (by omega)⟩, trivial⟩ (fun z hz => fV z (by rw [ex]; simp [hz])) (fun z hz => ?_) (fun z hz => fV z (by rw [ex]; simp [hz]))
        · have hs := t1.2.2.1
          rw [hes] at hs
          exact bk_so_val hs
        · rw [List.mem_singleton.mp hz]
          have := fV x hxm
          show (e1 ++ (k, b) :: e2).length ≤ fan ∧ _ ≤ (e1 ++ (k, b) :: e2).length + _
          rw [List.length_append, List.length_cons]
          rw [hlen] at this
          exact this
      · rw [ex]
        simp only [bk_kn, List.filter_append, List.filter_cons, List.filter_nil, List.map_append, List.append_assoc]
        cases x.2.2.1 <;> simp
      · obtain ⟨w, ws, e, g1, g2⟩ := T.1.2.2.1
        subst h0
        rw [ex] at e
        cases A with
        | nil =>
          injection e with e3 e4
          subst e3 e4
          exact ⟨_, _, rfl, g1, g2⟩
        | cons a A =>
          injection e with e3 e4
          subst e3 e4
          refine ⟨_, _, rfl, g1, fun y hy => ?_⟩
          rcases List.mem_append.mp hy with hy | hy
          · rcases List.mem_append.mp hy with hy | hy
            · exact g2 y (by simp [hy])
            · rw [List.mem_singleton.mp hy]; exact g2 x (by simp)
          · exact g2 y (by simp [hy])
      · obtain ⟨w, ws, e, g1⟩ := T.1.2.2.2.2
        rw [ex] at e
        cases A with
        | nil =>
          injection e with e3 e4
          subst e3 e4
          exact ⟨_, _, rfl, g1⟩
        | cons a A =>
          injection e with e3 e4
          subst e3 e4
          exact ⟨_, _, rfl, g1⟩
    · intro j hj
      by_cases e : j = 0
      · subst e
        rw [bk_up_s]
        have c := T.2.1 0 hj
        rw [ex, show A ++ x :: B = A ++ [x] ++ B by simp] at c
        refine bk_lq_rep c (fun z hz => ⟨⟨S1 _ (huq z (Or.inl hz)), rfl, rfl, rfl, rfl⟩, ?_⟩) (fun z hz => ⟨⟨S1 _ (huq z (Or.inr hz)), rfl, rfl, rfl, rfl⟩, ?_⟩) rfl rfl ⟨⟨N1, t2.2⟩, trivial⟩
        · have := (bk_T_m T hj (x := z) (by rw [ex]; simp [hz])).2.1; omega
        · have := (bk_T_m T hj (x := z) (by rw [ex]; simp [hz])).2.1; omega
      · rw [bk_up_n _ _ e]
        refine bk_lq_same (T.2.1 j hj) (fun z hz => ⟨⟨S1 _ (fun hc => e (bk_uq T hj (l' := 0) (by omega) hz hxm hc).1), rfl, rfl, rfl, rfl⟩, ?_⟩)
        have := (bk_T_m T hj hz).2.1; omega
  · rw [ex, bk_fl_app, bk_fl_cons, hes]; simp
  · rw [bk_up_s, bk_fl_app, bk_fl_app, bk_fl_cons, bk_fl_nil]; simp
  · intro j hj
    refine ⟨hj, fun z hz => ?_⟩
    by_cases e : j = 0
    · subst e
      rw [bk_up_s]
      rw [ex] at hz
      rcases List.mem_append.mp hz with hz | hz
      · exact ⟨z, by simp [hz], rfl, rfl⟩
      · rcases List.mem_cons.mp hz with hz | hz
        · exact ⟨(x.1, x.2.1, x.2.2.1, e1 ++ (k, b) :: e2), by simp, by rw [hz], by rw [hz]⟩
        · exact ⟨z, by simp [hz], rfl, rfl⟩
    · rw [bk_up_n _ _ e]; exact ⟨z, hz, rfl, rfl⟩
  · funext i
    apply propext
    constructor
    · rintro ⟨j, hj, z, hz, hk, hi⟩
      by_cases e : j = 0
      · subst e
        rw [bk_up_s] at hz
        rcases List.mem_append.mp hz with hz | hz
        · rcases List.mem_append.mp hz with hz | hz
          · exact ⟨0, hj, z, by rw [ex]; simp [hz], hk, hi⟩
          · rw [List.mem_singleton.mp hz] at hk hi
            exact ⟨0, hj, x, hxm, hk, hi⟩
        · exact ⟨0, hj, z, by rw [ex]; simp [hz], hk, hi⟩
      · rw [bk_up_n _ _ e] at hz; exact ⟨j, hj, z, hz, hk, hi⟩
    · rintro ⟨j, hj, z, hz, hk, hi⟩
      by_cases e : j = 0
      · subst e
        rw [ex] at hz
        rcases List.mem_append.mp hz with hz | hz
        · exact ⟨0, hj, z, by rw [bk_up_s]; simp [hz], hk, hi⟩
        · rcases List.mem_cons.mp hz with hz | hz
          · rw [hz] at hk hi
            exact ⟨0, hj, (x.1, x.2.1, x.2.2.1, e1 ++ (k, b) :: e2), by rw [bk_up_s]; simp, hk, hi⟩
          · exact ⟨0, hj, z, by rw [bk_up_s]; simp [hz], hk, hi⟩
      · exact ⟨j, hj, z, by rw [bk_up_n _ _ e]; exact hz, hk, hi⟩
end
section
variable {lst fan tl ti : Nat} {L : Nat → List bk_Nd} {h root : Nat} {ky vl ct lv lw hg rt us ks vs : Nat → Int32} {key rX rY : Int32}
/-- both sides found the same record, or both none -/
theorem bk_find2 (T : bk_T lst fan tl ti L h root ky vl ct lv lw hg rt) (Pm : bk_Pm (bk_fl (L 0)) us ks vs) (hX : bk_Fi L key.toInt rX) (hY : bk_YF us ks key rY) :
    (∃ q s v, q < 640 ∧ s < 64 ∧ rX = nI q ∧ rY = nI s ∧ bk_Sl L key.toInt v (nI q) ∧ ky q = key ∧ ks s = key ∧ vl q = v ∧ vs s = v ∧ ¬ us s = 0) ∨ (rX = -1 ∧ rY = -1 ∧ ∀ v, (key.toInt, v) ∉ bk_fl (L 0)) := by
  have hso : (bk_fl (L 0)).Pairwise (fun p q => p.1 < q.1) := (bk_fl_so (T.1.1 0 (by omega)).1).1
  rcases hX with ⟨v, S⟩ | ⟨e, hn⟩
  · left
    obtain ⟨q, q1, rfl, q3, q4⟩ := bk_Sl_at T S
    obtain ⟨s, s1, s2, s3⟩ := (bk_Pm_mem Pm).mp (bk_Sl_mem S)
    injection s3 with s4 s5
    have hk : ks s = key := Int32.toInt_inj.mp s4.symm
    rcases hY with ⟨s', a1, a2, a3, a4⟩ | ⟨_, a2⟩
    · have : s' = s := bk_Pm_uq Pm hso a1 s1 a3 s2 (by rw [a4, hk])
      subst this
      exact ⟨q, s', v, q1, s1, rfl, a2, S, Int32.toInt_inj.mp q3, hk, q4, s5.symm, s2⟩
    · exact absurd hk (a2 s s1 s2)
  · right
    refine ⟨e, ?_, hn⟩
    rcases hY with ⟨s, a1, a2, a3, a4⟩ | ⟨a1, _⟩
    · exact absurd ((bk_Pm_mem Pm).mpr ⟨s, a1, a3, by rw [a4]⟩) (hn (vs s))
    · exact a1
theorem bk_ceil2 (T : bk_T lst fan tl ti L h root ky vl ct lv lw hg rt) (Pm : bk_Pm (bk_fl (L 0)) us ks vs) (hX : bk_Ce L key.toInt rX) (hY : bk_Bm (fun q => ¬ us q = 0 ∧ key.toInt ≤ (ks q).toInt) (fun q => (ks q).toInt) 64 rY) :
    (∃ q s, q < 640 ∧ s < 64 ∧ rX = nI q ∧ rY = nI s ∧ ky q = ks s ∧ vl q = vs s) ∨ (rX = -1 ∧ rY = -1) := by
  have hso : (bk_fl (L 0)).Pairwise (fun p q => p.1 < q.1) := (bk_fl_so (T.1.1 0 (by omega)).1).1
  rcases hX with ⟨k', v, S, hk, hmin⟩ | ⟨e, hn⟩
  · left
    obtain ⟨q, q1, rfl, q3, q4⟩ := bk_Sl_at T S
    obtain ⟨s, s1, s2, s3⟩ := (bk_Pm_mem Pm).mp (bk_Sl_mem S)
    injection s3 with s4 s5
    rcases hY with ⟨_, a2⟩ | ⟨s', a1, a2, ⟨a3, a4⟩, a5⟩
    · exact absurd ⟨s2, by omega⟩ (a2 s s1)
    · have b1 := hmin ((ks s').toInt, vs s') ((bk_Pm_mem Pm).mpr ⟨s', a1, a3, rfl⟩) a4
      have b2 := a5 s s1 ⟨s2, by omega⟩
      have b1 : k' ≤ (ks s').toInt := b1
      have b2 : (ks s').toInt ≤ (ks s).toInt := b2
      have : s' = s := bk_Pm_uq Pm hso a1 s1 a3 s2 (Int32.toInt_inj.mp (by omega))
      subst this
      exact ⟨q, s', q1, s1, rfl, a2, Int32.toInt_inj.mp (by omega), by rw [q4, s5]⟩
  · right
    refine ⟨e, ?_⟩
    rcases hY with ⟨a1, _⟩ | ⟨s', a1, a2, ⟨a3, a4⟩, a5⟩
    · exact a1
    · have := hn ((ks s').toInt, vs s') ((bk_Pm_mem Pm).mpr ⟨s', a1, a3, rfl⟩)
      have : (ks s').toInt < key.toInt := this
      omega
theorem bk_floor2 (T : bk_T lst fan tl ti L h root ky vl ct lv lw hg rt) (Pm : bk_Pm (bk_fl (L 0)) us ks vs) (hX : bk_Fo L key.toInt rX) (hY : bk_Bm (fun q => ¬ us q = 0 ∧ (ks q).toInt ≤ key.toInt) (fun q => - (ks q).toInt) 64 rY) :
    (∃ q s, q < 640 ∧ s < 64 ∧ rX = nI q ∧ rY = nI s ∧ ky q = ks s ∧ vl q = vs s) ∨ (rX = -1 ∧ rY = -1) := by
  have hso : (bk_fl (L 0)).Pairwise (fun p q => p.1 < q.1) := (bk_fl_so (T.1.1 0 (by omega)).1).1
  rcases hX with ⟨k', v, S, hk, hmin⟩ | ⟨e, hn⟩
  · left
    obtain ⟨q, q1, rfl, q3, q4⟩ := bk_Sl_at T S
    obtain ⟨s, s1, s2, s3⟩ := (bk_Pm_mem Pm).mp (bk_Sl_mem S)
    injection s3 with s4 s5
    rcases hY with ⟨_, a2⟩ | ⟨s', a1, a2, ⟨a3, a4⟩, a5⟩
    · exact absurd ⟨s2, by omega⟩ (a2 s s1)
    · have b1 := hmin ((ks s').toInt, vs s') ((bk_Pm_mem Pm).mpr ⟨s', a1, a3, rfl⟩) a4
      have b2 := a5 s s1 ⟨s2, by omega⟩
      have b1 : (ks s').toInt ≤ k' := b1
      have b2 : - (ks s').toInt ≤ - (ks s).toInt := b2
      have : s' = s := bk_Pm_uq Pm hso a1 s1 a3 s2 (Int32.toInt_inj.mp (by omega))
      subst this
      exact ⟨q, s', q1, s1, rfl, a2, Int32.toInt_inj.mp (by omega), by rw [q4, s5]⟩
  · right
    refine ⟨e, ?_⟩
    rcases hY with ⟨a1, _⟩ | ⟨s', a1, a2, ⟨a3, a4⟩, a5⟩
    · exact a1
    · have := hn ((ks s').toInt, vs s') ((bk_Pm_mem Pm).mpr ⟨s', a1, a3, rfl⟩)
      have : key.toInt < (ks s').toInt := this
      omega
end
section
variable {t : Nat} {f_threadCount f_fan f_capacity f_pace f_least f_spareTop f_root f_head f_records f_appliedTotal : Int32} {a_keys a_vals a_count a_level a_low a_high a_right a_spare a_path a_phaseOf a_kindOf a_firstOf a_secondOf a_leftOf a_outcomeOf a_resKey a_resValue a_countOf a_digestOf a_appliedAt a_latchesOf a_place a_unknown : Nat → Int32}
theorem bx_concl {o k v : Int32} (ht : t < 6) {post : SX → Prop} (hp : post (f_threadCount, f_fan, f_capacity, f_pace, f_least, f_spareTop, f_root, f_head, f_records, f_appliedTotal, a_keys, a_vals, a_count, a_level, a_low, a_high, a_right, a_spare, a_path, a_phaseOf, a_kindOf, a_firstOf, a_secondOf, a_leftOf, upd a_outcomeOf t o, upd a_resKey t k, upd a_resValue t v, a_countOf, a_digestOf, a_appliedAt, a_latchesOf, a_place, a_unknown)) : wpX_conclude post (f_threadCount, f_fan, f_capacity, f_pace, f_least, f_spareTop, f_root, f_head, f_records, f_appliedTotal, a_keys, a_vals, a_count, a_level, a_low, a_high, a_right, a_spare, a_path, a_phaseOf, a_kindOf, a_firstOf, a_secondOf, a_leftOf, a_outcomeOf, a_resKey, a_resValue, a_countOf, a_digestOf, a_appliedAt, a_latchesOf, a_place, a_unknown) (nI t) o k v := by
  unfold wpX_conclude
  rw [bx_c6 ht]
  exact And.intro (bx_6 ht) (nm_e ⟨bx_6 ht, nm_e ⟨bx_6 ht, nm_e hp⟩⟩)
theorem bx_rep1 {q : Nat} (ht : t < 6) (hq : q < 640) {post : SX → Prop} (hp : post (f_threadCount, f_fan, f_capacity, f_pace, f_least, f_spareTop, f_root, f_head, f_records, f_appliedTotal, a_keys, a_vals, a_count, a_level, a_low, a_high, a_right, a_spare, a_path, a_phaseOf, a_kindOf, a_firstOf, a_secondOf, a_leftOf, upd a_outcomeOf t 2, upd a_resKey t (a_keys q), upd a_resValue t (a_vals q), a_countOf, a_digestOf, a_appliedAt, a_latchesOf, a_place, a_unknown)) : wpX_report post (f_threadCount, f_fan, f_capacity, f_pace, f_least, f_spareTop, f_root, f_head, f_records, f_appliedTotal, a_keys, a_vals, a_count, a_level, a_low, a_high, a_right, a_spare, a_path, a_phaseOf, a_kindOf, a_firstOf, a_secondOf, a_leftOf, a_outcomeOf, a_resKey, a_resValue, a_countOf, a_digestOf, a_appliedAt, a_latchesOf, a_place, a_unknown) (nI t) (nI q) := by
  unfold wpX_report
  rw [bx_cl hq]
  exact br_t (nI_pos' (by omega)) ⟨vp_in_nI hq (by omega), vp_in_nI hq (by omega), bx_concl ht hp⟩
theorem bx_rep0 (ht : t < 6) {post : SX → Prop} (hp : post (f_threadCount, f_fan, f_capacity, f_pace, f_least, f_spareTop, f_root, f_head, f_records, f_appliedTotal, a_keys, a_vals, a_count, a_level, a_low, a_high, a_right, a_spare, a_path, a_phaseOf, a_kindOf, a_firstOf, a_secondOf, a_leftOf, upd a_outcomeOf t 3, a_resKey, a_resValue, a_countOf, a_digestOf, a_appliedAt, a_latchesOf, a_place, a_unknown)) : wpX_report post (f_threadCount, f_fan, f_capacity, f_pace, f_least, f_spareTop, f_root, f_head, f_records, f_appliedTotal, a_keys, a_vals, a_count, a_level, a_low, a_high, a_right, a_spare, a_path, a_phaseOf, a_kindOf, a_firstOf, a_secondOf, a_leftOf, a_outcomeOf, a_resKey, a_resValue, a_countOf, a_digestOf, a_appliedAt, a_latchesOf, a_place, a_unknown) (nI t) (-1) := by
  unfold wpX_report
  rw [bx_c6 ht]
  exact br_f (by decide) ⟨bx_6 ht, nm_e hp⟩
end
section
variable {t : Nat} {f_threadCount f_fan f_capacity f_pace f_appliedTotal : Int32} {us ks vs a_phaseOf a_kindOf a_firstOf a_secondOf a_leftOf a_outcomeOf a_resKey a_resValue a_countOf a_digestOf a_appliedAt a_latchesOf : Nat → Int32}
theorem by_fin {o k v : Int32} (ht : t < 6) {post : SY → Prop} (hp : post (f_threadCount, f_fan, f_capacity, f_pace, f_appliedTotal, us, ks, vs, a_phaseOf, a_kindOf, a_firstOf, a_secondOf, a_leftOf, upd a_outcomeOf t o, upd a_resKey t k, upd a_resValue t v, a_countOf, a_digestOf, a_appliedAt, a_latchesOf)) : wpY_finish post (f_threadCount, f_fan, f_capacity, f_pace, f_appliedTotal, us, ks, vs, a_phaseOf, a_kindOf, a_firstOf, a_secondOf, a_leftOf, a_outcomeOf, a_resKey, a_resValue, a_countOf, a_digestOf, a_appliedAt, a_latchesOf) (nI t) o k v := by
  unfold wpY_finish
  rw [bx_c6 ht]
  exact And.intro (bx_6 ht) (nm_e ⟨bx_6 ht, nm_e ⟨bx_6 ht, nm_e hp⟩⟩)
end
end
section
/-! ===== 30: the effects, kind by kind ===== -/
def bk_Tp (tc fan lst cap : Nat) (L : Nat → List bk_Nd) (h root : Nat) (g : Nat → Int) (st ro rc : Int32) (ky vl ct lv lw hg rt sp pl un us ks vs : Nat → Int32) : Prop :=
  ro = nI root ∧ (rc = nI (bk_fl (L 0)).length ∧ (bk_fl (L 0)).length ≤ cap) ∧ bk_W lst fan 100 0 L h root st ky vl ct lv lw hg rt sp ∧ bk_Uk tc un (bk_Pn L h) ∧ bk_Pl tc pl g L h ∧ bk_Pm (bk_fl (L 0)) us ks vs
def bk_Ef (tc fan lst cap t : Nat) (g : Nat → Int) (f_threadCount f_fan f_capacity f_pace f_least f_spareTop f_root f_head f_records f_appliedTotal : Int32) (a_keys a_vals a_count a_level a_low a_high a_right a_spare a_path a_phaseOf a_kindOf a_firstOf a_secondOf a_leftOf a_outcomeOf a_resKey a_resValue a_countOf a_digestOf a_appliedAt a_latchesOf a_place a_unknown us ks vs : Nat → Int32) : Prop :=
  ∃ (L' : Nat → List bk_Nd) (h' root' : Nat) (st' ro' rc' : Int32) (ky' vl' ct' lv' lw' hg' rt' sp' pa' pl' un' oc' rk' rv' us' ks' vs' : Nat → Int32),
    bk_Tp tc fan lst cap L' h' root' g st' ro' rc' ky' vl' ct' lv' lw' hg' rt' sp' pl' un' us' ks' vs' ∧ (∀ q, q < tc → q ≠ t → a_unknown q < 0 → un' q < 0) ∧ (a_kindOf t < 5 → un' t < 0) ∧ (∀ q, q ≠ t → rk' q = a_resKey q) ∧
    (∀ post : SX → Prop, post (f_threadCount, f_fan, f_capacity, f_pace, f_least, st', ro', f_head, rc', f_appliedTotal, ky', vl', ct', lv', lw', hg', rt', sp', pa', a_phaseOf, a_kindOf, a_firstOf, a_secondOf, a_leftOf, oc', rk', rv', a_countOf, a_digestOf, a_appliedAt, a_latchesOf, pl', un') → wpX_takeEffect post (f_threadCount, f_fan, f_capacity, f_pace, f_least, f_spareTop, f_root, f_head, f_records, f_appliedTotal, a_keys, a_vals, a_count, a_level, a_low, a_high, a_right, a_spare, a_path, a_phaseOf, a_kindOf, a_firstOf, a_secondOf, a_leftOf, a_outcomeOf, a_resKey, a_resValue, a_countOf, a_digestOf, a_appliedAt, a_latchesOf, a_place, a_unknown) (nI t)) ∧
    (∀ post : SY → Prop, post (f_threadCount, f_fan, f_capacity, f_pace, f_appliedTotal, us', ks', vs', a_phaseOf, a_kindOf, a_firstOf, a_secondOf, a_leftOf, oc', rk', rv', a_countOf, a_digestOf, a_appliedAt, a_latchesOf) → wpY_effect post (f_threadCount, f_fan, f_capacity, f_pace, f_appliedTotal, us, ks, vs, a_phaseOf, a_kindOf, a_firstOf, a_secondOf, a_leftOf, a_outcomeOf, a_resKey, a_resValue, a_countOf, a_digestOf, a_appliedAt, a_latchesOf) (nI t))
section
variable {tc fan lst cap pc : Nat} {L : Nat → List bk_Nd} {h root t : Nat} {g : Nat → Int} {f_threadCount f_fan f_capacity f_pace f_least f_spareTop f_root f_head f_records f_appliedTotal : Int32} {a_keys a_vals a_count a_level a_low a_high a_right a_spare a_path a_phaseOf a_kindOf a_firstOf a_secondOf a_leftOf a_outcomeOf a_resKey a_resValue a_countOf a_digestOf a_appliedAt a_latchesOf a_place a_unknown : Nat → Int32} {us ks vs : Nat → Int32}
/-- the readers: what was found on both sides is told -/
theorem bk_ef_rd {kk rX rY : Int32} (J : bk_J tc fan lst cap pc L h root g f_threadCount f_fan f_capacity f_pace f_least f_spareTop f_root f_head f_records f_appliedTotal a_keys a_vals a_count a_level a_low a_high a_right a_spare a_path a_phaseOf a_kindOf a_firstOf a_secondOf a_leftOf a_outcomeOf a_resKey a_resValue a_countOf a_digestOf a_appliedAt a_latchesOf a_place a_unknown us ks vs) (ht : t < tc) (hph : a_phaseOf t = 3) (hkd : a_kindOf t = kk) (hk5 : kk ≠ 5) (hk6 : kk ≠ 6) (hk7 : kk ≠ 7) (hk8 : kk ≠ 8)
    (hf : (∃ q s, q < 640 ∧ s < 64 ∧ rX = nI q ∧ rY = nI s ∧ a_keys q = ks s ∧ a_vals q = vs s) ∨ (rX = -1 ∧ rY = -1))
    (wX : ∀ post : SX → Prop, wpX_report post (f_threadCount, f_fan, f_capacity, f_pace, f_least, f_spareTop, f_root, f_head, f_records, f_appliedTotal, a_keys, a_vals, a_count, a_level, a_low, a_high, a_right, a_spare, a_path, a_phaseOf, a_kindOf, a_firstOf, a_secondOf, a_leftOf, a_outcomeOf, a_resKey, a_resValue, a_countOf, a_digestOf, a_appliedAt, a_latchesOf, a_place, a_unknown) (nI t) rX → wpX_takeEffect post (f_threadCount, f_fan, f_capacity, f_pace, f_least, f_spareTop, f_root, f_head, f_records, f_appliedTotal, a_keys, a_vals, a_count, a_level, a_low, a_high, a_right, a_spare, a_path, a_phaseOf, a_kindOf, a_firstOf, a_secondOf, a_leftOf, a_outcomeOf, a_resKey, a_resValue, a_countOf, a_digestOf, a_appliedAt, a_latchesOf, a_place, a_unknown) (nI t)) (wY : ∀ post : SY → Prop, wY_effect_53 post (nI t) kk (a_firstOf t) (a_secondOf t) rY f_threadCount f_fan f_capacity f_pace f_appliedTotal us ks vs a_phaseOf a_kindOf a_firstOf a_secondOf a_leftOf a_outcomeOf a_resKey a_resValue a_countOf a_digestOf a_appliedAt a_latchesOf → wpY_effect post (f_threadCount, f_fan, f_capacity, f_pace, f_appliedTotal, us, ks, vs, a_phaseOf, a_kindOf, a_firstOf, a_secondOf, a_leftOf, a_outcomeOf, a_resKey, a_resValue, a_countOf, a_digestOf, a_appliedAt, a_latchesOf) (nI t)) :
    bk_Ef tc fan lst cap t g f_threadCount f_fan f_capacity f_pace f_least f_spareTop f_root f_head f_records f_appliedTotal a_keys a_vals a_count a_level a_low a_high a_right a_spare a_path a_phaseOf a_kindOf a_firstOf a_secondOf a_leftOf a_outcomeOf a_resKey a_resValue a_countOf a_digestOf a_appliedAt a_latchesOf a_place a_unknown us ks vs := by
  obtain ⟨C, hro, hrc, W, U, Pl, Pm, Th⟩ := J
  have h6 := C.2.1
  have ht6 : t < 6 := by omega
  have hun : a_unknown t < 0 := (Th t ht).2.2.2.2.2.2.2.2.1 (by rw [hph]; decide)
  rcases hf with ⟨q, s, hq, hs, rfl, rfl, e1, e2⟩ | ⟨rfl, rfl⟩
  · refine ⟨L, h, root, f_spareTop, f_root, f_records, a_keys, a_vals, a_count, a_level, a_low, a_high, a_right, a_spare, a_path, a_place, a_unknown, upd a_outcomeOf t 2, upd a_resKey t (a_keys q), upd a_resValue t (a_vals q), us, ks, vs, ⟨hro, hrc, W, U, Pl, Pm⟩, fun _ _ _ z => z, fun _ => hun, fun q' e => pk_un e, fun post hp => wX post (bx_rep1 ht6 hq hp), fun post hp => wY post ?_⟩
    unfold wY_effect_53
    refine br_f hk5 (br_t (nI_pos' (by omega)) (br_f hk8 ?_))
    unfold wY_effect_206
    rw [bx_cl (n := s) (by omega)]
    refine And.intro (bk_64 hs) (And.intro (bk_64 hs) (by_fin ht6 (br_f hk6 ?_)))
    unfold wY_effect_241
    refine br_f hk7 ?_
    rw [← e1, ← e2]
    exact hp
  · refine ⟨L, h, root, f_spareTop, f_root, f_records, a_keys, a_vals, a_count, a_level, a_low, a_high, a_right, a_spare, a_path, a_place, a_unknown, upd a_outcomeOf t 3, a_resKey, a_resValue, us, ks, vs, ⟨hro, hrc, W, U, Pl, Pm⟩, fun _ _ _ z => z, fun _ => hun, fun q' e => rfl, fun post hp => wX post (bx_rep0 ht6 hp), fun post hp => wY post ?_⟩
    unfold wY_effect_53
    refine br_f hk5 (br_f (by decide) ⟨bx_6 ht6, nm_e ?_⟩)
    rw [bx_c6 ht6]
    exact hp
theorem bk_ef_1 (J : bk_J tc fan lst cap pc L h root g f_threadCount f_fan f_capacity f_pace f_least f_spareTop f_root f_head f_records f_appliedTotal a_keys a_vals a_count a_level a_low a_high a_right a_spare a_path a_phaseOf a_kindOf a_firstOf a_secondOf a_leftOf a_outcomeOf a_resKey a_resValue a_countOf a_digestOf a_appliedAt a_latchesOf a_place a_unknown us ks vs) (ht : t < tc) (hph : a_phaseOf t = 3) (hkd : a_kindOf t = 1) : bk_Ef tc fan lst cap t g f_threadCount f_fan f_capacity f_pace f_least f_spareTop f_root f_head f_records f_appliedTotal a_keys a_vals a_count a_level a_low a_high a_right a_spare a_path a_phaseOf a_kindOf a_firstOf a_secondOf a_leftOf a_outcomeOf a_resKey a_resValue a_countOf a_digestOf a_appliedAt a_latchesOf a_place a_unknown us ks vs := by
  have J0 := J
  obtain ⟨C, hro, hrc, W, U, Pl, Pm, Th⟩ := J
  have h6 := C.2.1
  have ht6 : t < 6 := by omega
  have hi := bx_6 ht6
  have hc := bx_c6 ht6
  obtain ⟨s, hs, ws⟩ := bx_start (key := a_firstOf t) (f_threadCount := f_threadCount) (f_fan := f_fan) (f_capacity := f_capacity) (f_pace := f_pace) (f_least := f_least) (f_spareTop := f_spareTop) (f_root := f_root) (f_head := f_head) (f_records := f_records) (f_appliedTotal := f_appliedTotal) (a_keys := a_keys) (a_vals := a_vals) (a_count := a_count) (a_level := a_level) (a_low := a_low) (a_high := a_high) (a_right := a_right) (a_spare := a_spare) (a_path := a_path) (a_phaseOf := a_phaseOf) (a_kindOf := a_kindOf) (a_firstOf := a_firstOf) (a_secondOf := a_secondOf) (a_leftOf := a_leftOf) (a_outcomeOf := a_outcomeOf) (a_resKey := a_resKey) (a_resValue := a_resValue) (a_countOf := a_countOf) (a_digestOf := a_digestOf) (a_appliedAt := a_appliedAt) (a_latchesOf := a_latchesOf) (a_place := a_place) (a_unknown := a_unknown) W.1 hro h6 Pl ht ((Th t ht).2.2.2.2.2.2.2.2.2.1 (Or.inr (Or.inr hph)))
  obtain ⟨rX, hX, wX⟩ := bx_find (key := a_firstOf t) (f_threadCount := f_threadCount) (f_fan := f_fan) (f_capacity := f_capacity) (f_pace := f_pace) (f_least := f_least) (f_spareTop := f_spareTop) (f_root := f_root) (f_head := f_head) (f_records := f_records) (f_appliedTotal := f_appliedTotal) (a_keys := a_keys) (a_vals := a_vals) (a_count := a_count) (a_level := a_level) (a_low := a_low) (a_high := a_high) (a_right := a_right) (a_spare := a_spare) (a_path := a_path) (a_phaseOf := a_phaseOf) (a_kindOf := a_kindOf) (a_firstOf := a_firstOf) (a_secondOf := a_secondOf) (a_leftOf := a_leftOf) (a_outcomeOf := a_outcomeOf) (a_resKey := a_resKey) (a_resValue := a_resValue) (a_countOf := a_countOf) (a_digestOf := a_digestOf) (a_appliedAt := a_appliedAt) (a_latchesOf := a_latchesOf) (a_place := a_place) (a_unknown := a_unknown) W.1 hs
  obtain ⟨rY, hY, wY⟩ := by_slotOf (f_threadCount := f_threadCount) (f_fan := f_fan) (f_capacity := f_capacity) (f_pace := f_pace) (f_appliedTotal := f_appliedTotal) (us := us) (ks := ks) (vs := vs) (a_phaseOf := a_phaseOf) (a_kindOf := a_kindOf) (a_firstOf := a_firstOf) (a_secondOf := a_secondOf) (a_leftOf := a_leftOf) (a_outcomeOf := a_outcomeOf) (a_resKey := a_resKey) (a_resValue := a_resValue) (a_countOf := a_countOf) (a_digestOf := a_digestOf) (a_appliedAt := a_appliedAt) (a_latchesOf := a_latchesOf) (a_firstOf t)
  refine bk_ef_rd (kk := 1) (rX := rX) (rY := rY) J0 ht hph hkd (by decide) (by decide) (by decide) (by decide) ?_ (fun post hp => ?_) (fun post hp => ?_)
  · rcases bk_find2 W.1 Pm hX hY with ⟨q, s', v, a1, a2, a3, a4, _, a5, a6, a7, a8, _⟩ | ⟨a1, a2, _⟩
    · exact Or.inl ⟨q, s', a1, a2, a3, a4, by rw [a5, a6], by rw [a7, a8]⟩
    · exact Or.inr ⟨a1, a2⟩
  · unfold wpX_takeEffect
    rw [hc]
    exact ws _ ⟨hi, nm_e ⟨hi, nm_r (e' := 1) hkd (br_f (by decide) (br_f (by decide) (br_t rfl (wX _ hp))))⟩⟩
  · unfold wpY_effect
    rw [hc]
    refine And.intro hi (nm_r (e' := 1) hkd ⟨hi, nm_e ⟨hi, nm_e (wY _ (br_f (by decide) ?_))⟩⟩)
    unfold wY_effect_41
    exact br_f (by decide) hp
theorem bk_ef_2 (J : bk_J tc fan lst cap pc L h root g f_threadCount f_fan f_capacity f_pace f_least f_spareTop f_root f_head f_records f_appliedTotal a_keys a_vals a_count a_level a_low a_high a_right a_spare a_path a_phaseOf a_kindOf a_firstOf a_secondOf a_leftOf a_outcomeOf a_resKey a_resValue a_countOf a_digestOf a_appliedAt a_latchesOf a_place a_unknown us ks vs) (ht : t < tc) (hph : a_phaseOf t = 3) (hkd : a_kindOf t = 2) : bk_Ef tc fan lst cap t g f_threadCount f_fan f_capacity f_pace f_least f_spareTop f_root f_head f_records f_appliedTotal a_keys a_vals a_count a_level a_low a_high a_right a_spare a_path a_phaseOf a_kindOf a_firstOf a_secondOf a_leftOf a_outcomeOf a_resKey a_resValue a_countOf a_digestOf a_appliedAt a_latchesOf a_place a_unknown us ks vs := by
  have J0 := J
  obtain ⟨C, hro, hrc, W, U, Pl, Pm, Th⟩ := J
  have h6 := C.2.1
  have ht6 : t < 6 := by omega
  have hi := bx_6 ht6
  have hc := bx_c6 ht6
  obtain ⟨s, hs, ws⟩ := bx_start (key := a_firstOf t) (f_threadCount := f_threadCount) (f_fan := f_fan) (f_capacity := f_capacity) (f_pace := f_pace) (f_least := f_least) (f_spareTop := f_spareTop) (f_root := f_root) (f_head := f_head) (f_records := f_records) (f_appliedTotal := f_appliedTotal) (a_keys := a_keys) (a_vals := a_vals) (a_count := a_count) (a_level := a_level) (a_low := a_low) (a_high := a_high) (a_right := a_right) (a_spare := a_spare) (a_path := a_path) (a_phaseOf := a_phaseOf) (a_kindOf := a_kindOf) (a_firstOf := a_firstOf) (a_secondOf := a_secondOf) (a_leftOf := a_leftOf) (a_outcomeOf := a_outcomeOf) (a_resKey := a_resKey) (a_resValue := a_resValue) (a_countOf := a_countOf) (a_digestOf := a_digestOf) (a_appliedAt := a_appliedAt) (a_latchesOf := a_latchesOf) (a_place := a_place) (a_unknown := a_unknown) W.1 hro h6 Pl ht ((Th t ht).2.2.2.2.2.2.2.2.2.1 (Or.inr (Or.inr hph)))
  obtain ⟨rX, hX, wX⟩ := bx_ceil (key := a_firstOf t) (f_threadCount := f_threadCount) (f_fan := f_fan) (f_capacity := f_capacity) (f_pace := f_pace) (f_least := f_least) (f_spareTop := f_spareTop) (f_root := f_root) (f_head := f_head) (f_records := f_records) (f_appliedTotal := f_appliedTotal) (a_keys := a_keys) (a_vals := a_vals) (a_count := a_count) (a_level := a_level) (a_low := a_low) (a_high := a_high) (a_right := a_right) (a_spare := a_spare) (a_path := a_path) (a_phaseOf := a_phaseOf) (a_kindOf := a_kindOf) (a_firstOf := a_firstOf) (a_secondOf := a_secondOf) (a_leftOf := a_leftOf) (a_outcomeOf := a_outcomeOf) (a_resKey := a_resKey) (a_resValue := a_resValue) (a_countOf := a_countOf) (a_digestOf := a_digestOf) (a_appliedAt := a_appliedAt) (a_latchesOf := a_latchesOf) (a_place := a_place) (a_unknown := a_unknown) W.1 hs
  obtain ⟨rZ, hZ, wZ⟩ := by_slotOf (f_threadCount := f_threadCount) (f_fan := f_fan) (f_capacity := f_capacity) (f_pace := f_pace) (f_appliedTotal := f_appliedTotal) (us := us) (ks := ks) (vs := vs) (a_phaseOf := a_phaseOf) (a_kindOf := a_kindOf) (a_firstOf := a_firstOf) (a_secondOf := a_secondOf) (a_leftOf := a_leftOf) (a_outcomeOf := a_outcomeOf) (a_resKey := a_resKey) (a_resValue := a_resValue) (a_countOf := a_countOf) (a_digestOf := a_digestOf) (a_appliedAt := a_appliedAt) (a_latchesOf := a_latchesOf) (a_firstOf t)
  obtain ⟨rY, hY, wY⟩ := by_ceil (f_threadCount := f_threadCount) (f_fan := f_fan) (f_capacity := f_capacity) (f_pace := f_pace) (f_appliedTotal := f_appliedTotal) (us := us) (ks := ks) (vs := vs) (a_phaseOf := a_phaseOf) (a_kindOf := a_kindOf) (a_firstOf := a_firstOf) (a_secondOf := a_secondOf) (a_leftOf := a_leftOf) (a_outcomeOf := a_outcomeOf) (a_resKey := a_resKey) (a_resValue := a_resValue) (a_countOf := a_countOf) (a_digestOf := a_digestOf) (a_appliedAt := a_appliedAt) (a_latchesOf := a_latchesOf) (a_firstOf t)
  refine bk_ef_rd (kk := 2) (rX := rX) (rY := rY) J0 ht hph hkd (by decide) (by decide) (by decide) (by decide) (bk_ceil2 W.1 Pm hX hY) (fun post hp => ?_) (fun post hp => ?_)
  · unfold wpX_takeEffect
    rw [hc]
    exact ws _ ⟨hi, nm_e ⟨hi, nm_r (e' := 2) hkd (br_f (by decide) (br_f (by decide) (br_f (by decide) (br_t rfl (wX _ hp)))))⟩⟩
  · unfold wpY_effect
    rw [hc]
    refine And.intro hi (nm_r (e' := 2) hkd ⟨hi, nm_e ⟨hi, nm_e (wZ _ (br_t rfl (wY _ ?_)))⟩⟩)
    unfold wY_effect_41
    exact br_f (by decide) hp
theorem bk_ef_3 (J : bk_J tc fan lst cap pc L h root g f_threadCount f_fan f_capacity f_pace f_least f_spareTop f_root f_head f_records f_appliedTotal a_keys a_vals a_count a_level a_low a_high a_right a_spare a_path a_phaseOf a_kindOf a_firstOf a_secondOf a_leftOf a_outcomeOf a_resKey a_resValue a_countOf a_digestOf a_appliedAt a_latchesOf a_place a_unknown us ks vs) (ht : t < tc) (hph : a_phaseOf t = 3) (hkd : a_kindOf t = 3) : bk_Ef tc fan lst cap t g f_threadCount f_fan f_capacity f_pace f_least f_spareTop f_root f_head f_records f_appliedTotal a_keys a_vals a_count a_level a_low a_high a_right a_spare a_path a_phaseOf a_kindOf a_firstOf a_secondOf a_leftOf a_outcomeOf a_resKey a_resValue a_countOf a_digestOf a_appliedAt a_latchesOf a_place a_unknown us ks vs := by
  have J0 := J
  obtain ⟨C, hro, hrc, W, U, Pl, Pm, Th⟩ := J
  have h6 := C.2.1
  have ht6 : t < 6 := by omega
  have hi := bx_6 ht6
  have hc := bx_c6 ht6
  obtain ⟨s, hs, ws⟩ := bx_start (key := a_firstOf t) (f_threadCount := f_threadCount) (f_fan := f_fan) (f_capacity := f_capacity) (f_pace := f_pace) (f_least := f_least) (f_spareTop := f_spareTop) (f_root := f_root) (f_head := f_head) (f_records := f_records) (f_appliedTotal := f_appliedTotal) (a_keys := a_keys) (a_vals := a_vals) (a_count := a_count) (a_level := a_level) (a_low := a_low) (a_high := a_high) (a_right := a_right) (a_spare := a_spare) (a_path := a_path) (a_phaseOf := a_phaseOf) (a_kindOf := a_kindOf) (a_firstOf := a_firstOf) (a_secondOf := a_secondOf) (a_leftOf := a_leftOf) (a_outcomeOf := a_outcomeOf) (a_resKey := a_resKey) (a_resValue := a_resValue) (a_countOf := a_countOf) (a_digestOf := a_digestOf) (a_appliedAt := a_appliedAt) (a_latchesOf := a_latchesOf) (a_place := a_place) (a_unknown := a_unknown) W.1 hro h6 Pl ht ((Th t ht).2.2.2.2.2.2.2.2.2.1 (Or.inr (Or.inr hph)))
  obtain ⟨rX, hX, wX⟩ := bx_floorS (key := a_firstOf t) (f_threadCount := f_threadCount) (f_fan := f_fan) (f_capacity := f_capacity) (f_pace := f_pace) (f_least := f_least) (f_spareTop := f_spareTop) (f_root := f_root) (f_head := f_head) (f_records := f_records) (f_appliedTotal := f_appliedTotal) (a_keys := a_keys) (a_vals := a_vals) (a_count := a_count) (a_level := a_level) (a_low := a_low) (a_high := a_high) (a_right := a_right) (a_spare := a_spare) (a_path := a_path) (a_phaseOf := a_phaseOf) (a_kindOf := a_kindOf) (a_firstOf := a_firstOf) (a_secondOf := a_secondOf) (a_leftOf := a_leftOf) (a_outcomeOf := a_outcomeOf) (a_resKey := a_resKey) (a_resValue := a_resValue) (a_countOf := a_countOf) (a_digestOf := a_digestOf) (a_appliedAt := a_appliedAt) (a_latchesOf := a_latchesOf) (a_place := a_place) (a_unknown := a_unknown) W.1 hro hs
  obtain ⟨rZ, hZ, wZ⟩ := by_slotOf (f_threadCount := f_threadCount) (f_fan := f_fan) (f_capacity := f_capacity) (f_pace := f_pace) (f_appliedTotal := f_appliedTotal) (us := us) (ks := ks) (vs := vs) (a_phaseOf := a_phaseOf) (a_kindOf := a_kindOf) (a_firstOf := a_firstOf) (a_secondOf := a_secondOf) (a_leftOf := a_leftOf) (a_outcomeOf := a_outcomeOf) (a_resKey := a_resKey) (a_resValue := a_resValue) (a_countOf := a_countOf) (a_digestOf := a_digestOf) (a_appliedAt := a_appliedAt) (a_latchesOf := a_latchesOf) (a_firstOf t)
  obtain ⟨rY, hY, wY⟩ := by_floor (f_threadCount := f_threadCount) (f_fan := f_fan) (f_capacity := f_capacity) (f_pace := f_pace) (f_appliedTotal := f_appliedTotal) (us := us) (ks := ks) (vs := vs) (a_phaseOf := a_phaseOf) (a_kindOf := a_kindOf) (a_firstOf := a_firstOf) (a_secondOf := a_secondOf) (a_leftOf := a_leftOf) (a_outcomeOf := a_outcomeOf) (a_resKey := a_resKey) (a_resValue := a_resValue) (a_countOf := a_countOf) (a_digestOf := a_digestOf) (a_appliedAt := a_appliedAt) (a_latchesOf := a_latchesOf) (a_firstOf t)
  refine bk_ef_rd (kk := 3) (rX := rX) (rY := rY) J0 ht hph hkd (by decide) (by decide) (by decide) (by decide) (bk_floor2 W.1 Pm hX hY) (fun post hp => ?_) (fun post hp => ?_)
  · unfold wpX_takeEffect
    rw [hc]
    exact ws _ ⟨hi, nm_e ⟨hi, nm_r (e' := 3) hkd (br_f (by decide) (br_f (by decide) (br_f (by decide) (br_f (by decide) (br_t rfl (wX _ hp))))))⟩⟩
  · unfold wpY_effect
    rw [hc]
    refine And.intro hi (nm_r (e' := 3) hkd ⟨hi, nm_e ⟨hi, nm_e (wZ _ (br_f (by decide) ?_))⟩⟩)
    unfold wY_effect_41
    exact br_t rfl (wY _ hp)
theorem bk_ef_6 (J : bk_J tc fan lst cap pc L h root g f_threadCount f_fan f_capacity f_pace f_least f_spareTop f_root f_head f_records f_appliedTotal a_keys a_vals a_count a_level a_low a_high a_right a_spare a_path a_phaseOf a_kindOf a_firstOf a_secondOf a_leftOf a_outcomeOf a_resKey a_resValue a_countOf a_digestOf a_appliedAt a_latchesOf a_place a_unknown us ks vs) (ht : t < tc) (hph : a_phaseOf t = 3) (hkd : a_kindOf t = 6) : bk_Ef tc fan lst cap t g f_threadCount f_fan f_capacity f_pace f_least f_spareTop f_root f_head f_records f_appliedTotal a_keys a_vals a_count a_level a_low a_high a_right a_spare a_path a_phaseOf a_kindOf a_firstOf a_secondOf a_leftOf a_outcomeOf a_resKey a_resValue a_countOf a_digestOf a_appliedAt a_latchesOf a_place a_unknown us ks vs := by
  obtain ⟨C, hro, hrc, W, U, Pl, Pm, Th⟩ := J
  have h6 := C.2.1
  have ht6 : t < 6 := by omega
  have hi := bx_6 ht6
  have hc := bx_c6 ht6
  have hk5 : ¬ a_kindOf t < 5 := by rw [hkd]; decide
  obtain ⟨s, hs, ws⟩ := bx_start (key := a_firstOf t) (f_threadCount := f_threadCount) (f_fan := f_fan) (f_capacity := f_capacity) (f_pace := f_pace) (f_least := f_least) (f_spareTop := f_spareTop) (f_root := f_root) (f_head := f_head) (f_records := f_records) (f_appliedTotal := f_appliedTotal) (a_keys := a_keys) (a_vals := a_vals) (a_count := a_count) (a_level := a_level) (a_low := a_low) (a_high := a_high) (a_right := a_right) (a_spare := a_spare) (a_path := a_path) (a_phaseOf := a_phaseOf) (a_kindOf := a_kindOf) (a_firstOf := a_firstOf) (a_secondOf := a_secondOf) (a_leftOf := a_leftOf) (a_outcomeOf := a_outcomeOf) (a_resKey := a_resKey) (a_resValue := a_resValue) (a_countOf := a_countOf) (a_digestOf := a_digestOf) (a_appliedAt := a_appliedAt) (a_latchesOf := a_latchesOf) (a_place := a_place) (a_unknown := a_unknown) W.1 hro h6 Pl ht ((Th t ht).2.2.2.2.2.2.2.2.2.1 (Or.inr (Or.inr hph)))
  obtain ⟨rX, hX, wX⟩ := bx_find (key := a_firstOf t) (f_threadCount := f_threadCount) (f_fan := f_fan) (f_capacity := f_capacity) (f_pace := f_pace) (f_least := f_least) (f_spareTop := f_spareTop) (f_root := f_root) (f_head := f_head) (f_records := f_records) (f_appliedTotal := f_appliedTotal) (a_keys := a_keys) (a_vals := a_vals) (a_count := a_count) (a_level := a_level) (a_low := a_low) (a_high := a_high) (a_right := a_right) (a_spare := a_spare) (a_path := a_path) (a_phaseOf := a_phaseOf) (a_kindOf := a_kindOf) (a_firstOf := a_firstOf) (a_secondOf := a_secondOf) (a_leftOf := a_leftOf) (a_outcomeOf := a_outcomeOf) (a_resKey := a_resKey) (a_resValue := a_resValue) (a_countOf := a_countOf) (a_digestOf := a_digestOf) (a_appliedAt := a_appliedAt) (a_latchesOf := a_latchesOf) (a_place := a_place) (a_unknown := a_unknown) W.1 hs
  obtain ⟨rY, hY, wY⟩ := by_slotOf (f_threadCount := f_threadCount) (f_fan := f_fan) (f_capacity := f_capacity) (f_pace := f_pace) (f_appliedTotal := f_appliedTotal) (us := us) (ks := ks) (vs := vs) (a_phaseOf := a_phaseOf) (a_kindOf := a_kindOf) (a_firstOf := a_firstOf) (a_secondOf := a_secondOf) (a_leftOf := a_leftOf) (a_outcomeOf := a_outcomeOf) (a_resKey := a_resKey) (a_resValue := a_resValue) (a_countOf := a_countOf) (a_digestOf := a_digestOf) (a_appliedAt := a_appliedAt) (a_latchesOf := a_latchesOf) (a_firstOf t)
  have hYw : ∀ post : SY → Prop, wY_effect_53 post (nI t) 6 (a_firstOf t) (a_secondOf t) rY f_threadCount f_fan f_capacity f_pace f_appliedTotal us ks vs a_phaseOf a_kindOf a_firstOf a_secondOf a_leftOf a_outcomeOf a_resKey a_resValue a_countOf a_digestOf a_appliedAt a_latchesOf → wpY_effect post (f_threadCount, f_fan, f_capacity, f_pace, f_appliedTotal, us, ks, vs, a_phaseOf, a_kindOf, a_firstOf, a_secondOf, a_leftOf, a_outcomeOf, a_resKey, a_resValue, a_countOf, a_digestOf, a_appliedAt, a_latchesOf) (nI t) := by
    intro post hp
    unfold wpY_effect
    rw [hc]
    refine And.intro hi (nm_r (e' := 6) hkd ⟨hi, nm_e ⟨hi, nm_e (wY _ (br_f (by decide) ?_))⟩⟩)
    unfold wY_effect_41
    exact br_f (by decide) hp
  rcases bk_find2 W.1 Pm hX hY with ⟨q, s', v, hq, hs', rfl, rfl, S, a5, a6, a7, a8, a9⟩ | ⟨rfl, rfl, _⟩
  · obtain ⟨L', W', ⟨M1, M2, m1, m2⟩, G, hPn⟩ := bk_setv (b := a_secondOf t) W S hq
    have Pm' : bk_Pm (bk_fl (L' 0)) us ks (upd vs s' (a_secondOf t)) := by
      rw [m1] at Pm
      rw [m2]
      exact bk_Pm_set Pm hs' a9 (by rw [a6]) a8
    have hlen : (bk_fl (L' 0)).length = (bk_fl (L 0)).length := by rw [m1, m2]; simp
    refine ⟨L', h, root, f_spareTop, f_root, f_records, a_keys, upd a_vals q (a_secondOf t), a_count, a_level, a_low, a_high, a_right, a_spare, a_path, a_place, a_unknown, upd a_outcomeOf t 2, upd a_resKey t (a_keys q), upd a_resValue t (a_vals q), us, ks, upd vs s' (a_secondOf t),
      ⟨hro, by rw [hlen]; exact hrc, W', by rw [hPn]; exact U, bk_Pl_gw G Pl, Pm'⟩, fun _ _ _ z => z, fun z => absurd z hk5, fun q' e => pk_un e, fun post hp => ?_, fun post hp => hYw post ?_⟩
    · unfold wpX_takeEffect
      rw [hc]
      refine ws _ ⟨hi, nm_e ⟨hi, nm_r (e' := 6) hkd (br_f (by decide) (br_f (by decide) (br_f (by decide) (br_f (by decide) (br_f (by decide) (br_f (by decide) (br_f (by decide) (br_t rfl (wX _ (bx_rep1 ht6 hq (br_f (nI_pos (by omega)) ⟨hi, vp_in_nI hq (by omega), nm_e ?_⟩)))))))))))⟩⟩
      rw [bx_cl hq]
      exact hp
    · unfold wY_effect_53
      refine br_f (by decide) (br_t (nI_pos' (by omega)) (br_f (by decide) ?_))
      unfold wY_effect_206
      rw [bx_cl (n := s') (by omega)]
      refine And.intro (bk_64 hs') (And.intro (bk_64 hs') (by_fin ht6 (br_t rfl ⟨bk_64 hs', nm_e ?_⟩)))
      unfold wY_effect_241
      refine br_f (by decide) ?_
      rw [a6, ← a5, a8, ← a7]
      exact hp
  · refine ⟨L, h, root, f_spareTop, f_root, f_records, a_keys, a_vals, a_count, a_level, a_low, a_high, a_right, a_spare, a_path, a_place, a_unknown, upd a_outcomeOf t 3, a_resKey, a_resValue, us, ks, vs, ⟨hro, hrc, W, U, Pl, Pm⟩, fun _ _ _ z => z, fun z => absurd z hk5, fun q' e => rfl, fun post hp => ?_, fun post hp => hYw post ?_⟩
    · unfold wpX_takeEffect
      rw [hc]
      exact ws _ ⟨hi, nm_e ⟨hi, nm_r (e' := 6) hkd (br_f (by decide) (br_f (by decide) (br_f (by decide) (br_f (by decide) (br_f (by decide) (br_f (by decide) (br_f (by decide) (br_t rfl (wX _ (bx_rep0 ht6 (br_t (by decide) hp)))))))))))⟩⟩
    · unfold wY_effect_53
      refine br_f (by decide) (br_f (by decide) ⟨hi, nm_e ?_⟩)
      rw [hc]
      exact hp
theorem bk_ef_7 (J : bk_J tc fan lst cap pc L h root g f_threadCount f_fan f_capacity f_pace f_least f_spareTop f_root f_head f_records f_appliedTotal a_keys a_vals a_count a_level a_low a_high a_right a_spare a_path a_phaseOf a_kindOf a_firstOf a_secondOf a_leftOf a_outcomeOf a_resKey a_resValue a_countOf a_digestOf a_appliedAt a_latchesOf a_place a_unknown us ks vs) (ht : t < tc) (hph : a_phaseOf t = 3) (hkd : a_kindOf t = 7) : bk_Ef tc fan lst cap t g f_threadCount f_fan f_capacity f_pace f_least f_spareTop f_root f_head f_records f_appliedTotal a_keys a_vals a_count a_level a_low a_high a_right a_spare a_path a_phaseOf a_kindOf a_firstOf a_secondOf a_leftOf a_outcomeOf a_resKey a_resValue a_countOf a_digestOf a_appliedAt a_latchesOf a_place a_unknown us ks vs := by
  obtain ⟨C, hro, hrc, W, U, Pl, Pm, Th⟩ := J
  have h6 := C.2.1
  have hcap := C.2.2.2.2.2.1
  have ht6 : t < 6 := by omega
  have hi := bx_6 ht6
  have hc := bx_c6 ht6
  have hk5 : ¬ a_kindOf t < 5 := by rw [hkd]; decide
  obtain ⟨s, hs, ws⟩ := bx_start (key := a_firstOf t) (f_threadCount := f_threadCount) (f_fan := f_fan) (f_capacity := f_capacity) (f_pace := f_pace) (f_least := f_least) (f_spareTop := f_spareTop) (f_root := f_root) (f_head := f_head) (f_records := f_records) (f_appliedTotal := f_appliedTotal) (a_keys := a_keys) (a_vals := a_vals) (a_count := a_count) (a_level := a_level) (a_low := a_low) (a_high := a_high) (a_right := a_right) (a_spare := a_spare) (a_path := a_path) (a_phaseOf := a_phaseOf) (a_kindOf := a_kindOf) (a_firstOf := a_firstOf) (a_secondOf := a_secondOf) (a_leftOf := a_leftOf) (a_outcomeOf := a_outcomeOf) (a_resKey := a_resKey) (a_resValue := a_resValue) (a_countOf := a_countOf) (a_digestOf := a_digestOf) (a_appliedAt := a_appliedAt) (a_latchesOf := a_latchesOf) (a_place := a_place) (a_unknown := a_unknown) W.1 hro h6 Pl ht ((Th t ht).2.2.2.2.2.2.2.2.2.1 (Or.inr (Or.inr hph)))
  obtain ⟨rX, hX, wX⟩ := bx_find (key := a_firstOf t) (f_threadCount := f_threadCount) (f_fan := f_fan) (f_capacity := f_capacity) (f_pace := f_pace) (f_least := f_least) (f_spareTop := f_spareTop) (f_root := f_root) (f_head := f_head) (f_records := f_records) (f_appliedTotal := f_appliedTotal) (a_keys := a_keys) (a_vals := a_vals) (a_count := a_count) (a_level := a_level) (a_low := a_low) (a_high := a_high) (a_right := a_right) (a_spare := a_spare) (a_path := a_path) (a_phaseOf := a_phaseOf) (a_kindOf := a_kindOf) (a_firstOf := a_firstOf) (a_secondOf := a_secondOf) (a_leftOf := a_leftOf) (a_outcomeOf := a_outcomeOf) (a_resKey := a_resKey) (a_resValue := a_resValue) (a_countOf := a_countOf) (a_digestOf := a_digestOf) (a_appliedAt := a_appliedAt) (a_latchesOf := a_latchesOf) (a_place := a_place) (a_unknown := a_unknown) W.1 hs
  obtain ⟨rY, hY, wY⟩ := by_slotOf (f_threadCount := f_threadCount) (f_fan := f_fan) (f_capacity := f_capacity) (f_pace := f_pace) (f_appliedTotal := f_appliedTotal) (us := us) (ks := ks) (vs := vs) (a_phaseOf := a_phaseOf) (a_kindOf := a_kindOf) (a_firstOf := a_firstOf) (a_secondOf := a_secondOf) (a_leftOf := a_leftOf) (a_outcomeOf := a_outcomeOf) (a_resKey := a_resKey) (a_resValue := a_resValue) (a_countOf := a_countOf) (a_digestOf := a_digestOf) (a_appliedAt := a_appliedAt) (a_latchesOf := a_latchesOf) (a_firstOf t)
  have hYw : ∀ post : SY → Prop, wY_effect_53 post (nI t) 7 (a_firstOf t) (a_secondOf t) rY f_threadCount f_fan f_capacity f_pace f_appliedTotal us ks vs a_phaseOf a_kindOf a_firstOf a_secondOf a_leftOf a_outcomeOf a_resKey a_resValue a_countOf a_digestOf a_appliedAt a_latchesOf → wpY_effect post (f_threadCount, f_fan, f_capacity, f_pace, f_appliedTotal, us, ks, vs, a_phaseOf, a_kindOf, a_firstOf, a_secondOf, a_leftOf, a_outcomeOf, a_resKey, a_resValue, a_countOf, a_digestOf, a_appliedAt, a_latchesOf) (nI t) := by
    intro post hp
    unfold wpY_effect
    rw [hc]
    refine And.intro hi (nm_r (e' := 7) hkd ⟨hi, nm_e ⟨hi, nm_e (wY _ (br_f (by decide) ?_))⟩⟩)
    unfold wY_effect_41
    exact br_f (by decide) hp
  rcases bk_find2 W.1 Pm hX hY with ⟨q, s', v, hq, hs', rfl, rfl, S, a5, a6, a7, a8, a9⟩ | ⟨rfl, rfl, _⟩
  · obtain ⟨L', h', root', st', ky', vl', ct', lv', lw', hg', rt', sp', pa', pl', un', d1, ⟨M1, M2, m1, m2⟩, d3, d4, d5, d6⟩ := bx_uproot (tc := tc) (f_threadCount := f_threadCount) (f_fan := f_fan) (f_capacity := f_capacity) (f_pace := f_pace) (f_least := f_least) (f_spareTop := f_spareTop) (f_root := f_root) (f_head := f_head) (f_records := f_records) (f_appliedTotal := f_appliedTotal) (a_keys := a_keys) (a_vals := a_vals) (a_count := a_count) (a_level := a_level) (a_low := a_low) (a_high := a_high) (a_right := a_right) (a_spare := a_spare) (a_path := a_path) (a_phaseOf := a_phaseOf) (a_kindOf := a_kindOf) (a_firstOf := a_firstOf) (a_secondOf := a_secondOf) (a_leftOf := a_leftOf) (a_outcomeOf := upd a_outcomeOf t 2) (a_resKey := upd a_resKey t (a_keys q)) (a_resValue := upd a_resValue t (a_vals q)) (a_countOf := a_countOf) (a_digestOf := a_digestOf) (a_appliedAt := a_appliedAt) (a_latchesOf := a_latchesOf) (a_place := a_place) (a_unknown := a_unknown) W C.1 h6 C.2.2.1 C.2.2.2.1 hro U S
    have Pm' : bk_Pm (bk_fl (L' 0)) (upd us s' 0) ks vs := by
      rw [m1] at Pm
      rw [m2]
      exact bk_Pm_del Pm hs' a9 (by rw [a6]) a8
    have hlen : (bk_fl (L 0)).length = (bk_fl (L' 0)).length + 1 := by rw [m1, m2]; simp; omega
    refine ⟨L', h', root', st', nI root', f_records - 1, ky', vl', ct', lv', lw', hg', rt', sp', pa', pl', un', upd a_outcomeOf t 2, upd a_resKey t (a_keys q), upd a_resValue t (a_vals q), upd us s' 0, ks, vs,
      ⟨rfl, ⟨by rw [hrc.1, hlen, nI_pred], by have := hrc.2; omega⟩, d1, d3, d5 g Pl, Pm'⟩, fun q' hq' _ z => d4 q' hq' z, fun z => absurd z hk5, fun q' e => pk_un e, fun post hp => ?_, fun post hp => hYw post ?_⟩
    · unfold wpX_takeEffect
      rw [hc]
      refine ws _ ⟨hi, nm_e ⟨hi, nm_r (e' := 7) hkd ?_⟩⟩
      iterate 8 refine br_f (by decide) ?_
      exact br_t rfl (wX _ (bx_rep1 ht6 hq (br_f (nI_pos (by omega)) (d6 _ hp))))
    · unfold wY_effect_53
      refine br_f (by decide) (br_t (nI_pos' (by omega)) (br_f (by decide) ?_))
      unfold wY_effect_206
      rw [bx_cl (n := s') (by omega)]
      refine And.intro (bk_64 hs') (And.intro (bk_64 hs') (by_fin ht6 (br_f (by decide) ?_)))
      unfold wY_effect_241
      refine br_t rfl ⟨bk_64 hs', nm_e ?_⟩
      rw [bx_cl (n := s') (by omega), a6, ← a5, a8, ← a7]
      exact hp
  · refine ⟨L, h, root, f_spareTop, f_root, f_records, a_keys, a_vals, a_count, a_level, a_low, a_high, a_right, a_spare, a_path, a_place, a_unknown, upd a_outcomeOf t 3, a_resKey, a_resValue, us, ks, vs, ⟨hro, hrc, W, U, Pl, Pm⟩, fun _ _ _ z => z, fun z => absurd z hk5, fun q' e => rfl, fun post hp => ?_, fun post hp => hYw post ?_⟩
    · unfold wpX_takeEffect
      rw [hc]
      refine ws _ ⟨hi, nm_e ⟨hi, nm_r (e' := 7) hkd ?_⟩⟩
      iterate 8 refine br_f (by decide) ?_
      exact br_t rfl (wX _ (bx_rep0 ht6 (br_t (by decide) hp)))
    · unfold wY_effect_53
      refine br_f (by decide) (br_f (by decide) ⟨hi, nm_e ?_⟩)
      rw [hc]
      exact hp
end
end
section
/-! ===== 31: the effects of insert and move ===== -/
section
variable {tc fan lst cap pc : Nat} {L : Nat → List bk_Nd} {h root t : Nat} {g : Nat → Int} {f_threadCount f_fan f_capacity f_pace f_least f_spareTop f_root f_head f_records f_appliedTotal : Int32} {a_keys a_vals a_count a_level a_low a_high a_right a_spare a_path a_phaseOf a_kindOf a_firstOf a_secondOf a_leftOf a_outcomeOf a_resKey a_resValue a_countOf a_digestOf a_appliedAt a_latchesOf a_place a_unknown : Nat → Int32} {us ks vs : Nat → Int32}
theorem bk_ef_5 (J : bk_J tc fan lst cap pc L h root g f_threadCount f_fan f_capacity f_pace f_least f_spareTop f_root f_head f_records f_appliedTotal a_keys a_vals a_count a_level a_low a_high a_right a_spare a_path a_phaseOf a_kindOf a_firstOf a_secondOf a_leftOf a_outcomeOf a_resKey a_resValue a_countOf a_digestOf a_appliedAt a_latchesOf a_place a_unknown us ks vs) (ht : t < tc) (hph : a_phaseOf t = 3) (hkd : a_kindOf t = 5) : bk_Ef tc fan lst cap t g f_threadCount f_fan f_capacity f_pace f_least f_spareTop f_root f_head f_records f_appliedTotal a_keys a_vals a_count a_level a_low a_high a_right a_spare a_path a_phaseOf a_kindOf a_firstOf a_secondOf a_leftOf a_outcomeOf a_resKey a_resValue a_countOf a_digestOf a_appliedAt a_latchesOf a_place a_unknown us ks vs := by
  obtain ⟨C, hro, hrc, W, U, Pl, Pm, Th⟩ := J
  have h6 := C.2.1
  have hcap := C.2.2.2.2.2.1
  have hfcap := C.2.2.2.2.1
  have ht6 : t < 6 := by omega
  have hi := bx_6 ht6
  have hc := bx_c6 ht6
  have hk5 : ¬ a_kindOf t < 5 := by rw [hkd]; decide
  have hun : a_unknown t < 0 := (Th t ht).2.2.2.2.2.2.2.2.1 (by rw [hph]; decide)
  obtain ⟨s, hs, ws⟩ := bx_start (key := a_firstOf t) (f_threadCount := f_threadCount) (f_fan := f_fan) (f_capacity := f_capacity) (f_pace := f_pace) (f_least := f_least) (f_spareTop := f_spareTop) (f_root := f_root) (f_head := f_head) (f_records := f_records) (f_appliedTotal := f_appliedTotal) (a_keys := a_keys) (a_vals := a_vals) (a_count := a_count) (a_level := a_level) (a_low := a_low) (a_high := a_high) (a_right := a_right) (a_spare := a_spare) (a_path := a_path) (a_phaseOf := a_phaseOf) (a_kindOf := a_kindOf) (a_firstOf := a_firstOf) (a_secondOf := a_secondOf) (a_leftOf := a_leftOf) (a_outcomeOf := a_outcomeOf) (a_resKey := a_resKey) (a_resValue := a_resValue) (a_countOf := a_countOf) (a_digestOf := a_digestOf) (a_appliedAt := a_appliedAt) (a_latchesOf := a_latchesOf) (a_place := a_place) (a_unknown := a_unknown) W.1 hro h6 Pl ht ((Th t ht).2.2.2.2.2.2.2.2.2.1 (Or.inr (Or.inr hph)))
  obtain ⟨rX, hX, wX⟩ := bx_find (key := a_firstOf t) (f_threadCount := f_threadCount) (f_fan := f_fan) (f_capacity := f_capacity) (f_pace := f_pace) (f_least := f_least) (f_spareTop := f_spareTop) (f_root := f_root) (f_head := f_head) (f_records := f_records) (f_appliedTotal := f_appliedTotal) (a_keys := a_keys) (a_vals := a_vals) (a_count := a_count) (a_level := a_level) (a_low := a_low) (a_high := a_high) (a_right := a_right) (a_spare := a_spare) (a_path := a_path) (a_phaseOf := a_phaseOf) (a_kindOf := a_kindOf) (a_firstOf := a_firstOf) (a_secondOf := a_secondOf) (a_leftOf := a_leftOf) (a_outcomeOf := a_outcomeOf) (a_resKey := a_resKey) (a_resValue := a_resValue) (a_countOf := a_countOf) (a_digestOf := a_digestOf) (a_appliedAt := a_appliedAt) (a_latchesOf := a_latchesOf) (a_place := a_place) (a_unknown := a_unknown) W.1 hs
  obtain ⟨rY, hY, wY⟩ := by_slotOf (f_threadCount := f_threadCount) (f_fan := f_fan) (f_capacity := f_capacity) (f_pace := f_pace) (f_appliedTotal := f_appliedTotal) (us := us) (ks := ks) (vs := vs) (a_phaseOf := a_phaseOf) (a_kindOf := a_kindOf) (a_firstOf := a_firstOf) (a_secondOf := a_secondOf) (a_leftOf := a_leftOf) (a_outcomeOf := a_outcomeOf) (a_resKey := a_resKey) (a_resValue := a_resValue) (a_countOf := a_countOf) (a_digestOf := a_digestOf) (a_appliedAt := a_appliedAt) (a_latchesOf := a_latchesOf) (a_firstOf t)
  have hXw : ∀ post : SX → Prop, wpX_effectInsert post (f_threadCount, f_fan, f_capacity, f_pace, f_least, f_spareTop, f_root, f_head, f_records, f_appliedTotal, a_keys, a_vals, a_count, a_level, a_low, a_high, a_right, a_spare, a_path, a_phaseOf, a_kindOf, a_firstOf, a_secondOf, a_leftOf, a_outcomeOf, a_resKey, a_resValue, a_countOf, a_digestOf, a_appliedAt, a_latchesOf, a_place, a_unknown) (nI t) s → wpX_takeEffect post (f_threadCount, f_fan, f_capacity, f_pace, f_least, f_spareTop, f_root, f_head, f_records, f_appliedTotal, a_keys, a_vals, a_count, a_level, a_low, a_high, a_right, a_spare, a_path, a_phaseOf, a_kindOf, a_firstOf, a_secondOf, a_leftOf, a_outcomeOf, a_resKey, a_resValue, a_countOf, a_digestOf, a_appliedAt, a_latchesOf, a_place, a_unknown) (nI t) := by
    intro post hp
    unfold wpX_takeEffect
    rw [hc]
    refine ws _ ⟨hi, nm_e ⟨hi, nm_r (e' := 5) hkd ?_⟩⟩
    iterate 6 refine br_f (by decide) ?_
    exact br_t rfl hp
  have hYw : ∀ post : SY → Prop, wY_effect_53 post (nI t) 5 (a_firstOf t) (a_secondOf t) rY f_threadCount f_fan f_capacity f_pace f_appliedTotal us ks vs a_phaseOf a_kindOf a_firstOf a_secondOf a_leftOf a_outcomeOf a_resKey a_resValue a_countOf a_digestOf a_appliedAt a_latchesOf → wpY_effect post (f_threadCount, f_fan, f_capacity, f_pace, f_appliedTotal, us, ks, vs, a_phaseOf, a_kindOf, a_firstOf, a_secondOf, a_leftOf, a_outcomeOf, a_resKey, a_resValue, a_countOf, a_digestOf, a_appliedAt, a_latchesOf) (nI t) := by
    intro post hp
    unfold wpY_effect
    rw [hc]
    refine And.intro hi (nm_r (e' := 5) hkd ⟨hi, nm_e ⟨hi, nm_e (wY _ (br_f (by decide) ?_))⟩⟩)
    unfold wY_effect_41
    exact br_f (by decide) hp
  rcases bk_find2 W.1 Pm hX hY with ⟨q, s', v, hq, hs', rfl, rfl, S, a5, a6, a7, a8, a9⟩ | ⟨rfl, rfl, habs⟩
  · refine ⟨L, h, root, f_spareTop, f_root, f_records, a_keys, a_vals, a_count, a_level, a_low, a_high, a_right, a_spare, a_path, a_place, a_unknown, upd a_outcomeOf t 5, upd a_resKey t (a_firstOf t), upd a_resValue t (a_vals q), us, ks, vs, ⟨hro, hrc, W, U, Pl, Pm⟩, fun _ _ _ z => z, fun z => absurd z hk5, fun q' e => pk_un e, fun post hp => hXw post ?_, fun post hp => hYw post ?_⟩
    · unfold wpX_effectInsert
      rw [hc]
      refine And.intro hi (nm_e ⟨hi, nm_e (wX _ (br_f (nI_pos (by omega)) ⟨vp_in_nI hq (by omega), ?_⟩))⟩)
      rw [bx_cl hq]
      exact bx_concl ht6 hp
    · unfold wY_effect_53
      refine br_t rfl (br_f (nI_pos (by omega)) ⟨bk_64 hs', bk_64 hs', ?_⟩)
      rw [bx_cl (n := s') (by omega), a6, a8, ← a7]
      exact by_fin ht6 hp
  · by_cases hfull : (bk_fl (L 0)).length < cap
    · have h64 : (bk_fl (L 0)).length < 64 := by omega
      obtain ⟨r, st, L', ky, vl, ct, lv, lw, hg, rt, d1, ⟨M1, M2, m1, m2⟩, d3, d4, d5, d6⟩ := bx_plant (key := a_firstOf t) (val := a_secondOf t) (f_threadCount := f_threadCount) (f_fan := f_fan) (f_capacity := f_capacity) (f_pace := f_pace) (f_least := f_least) (f_spareTop := f_spareTop) (f_root := f_root) (f_head := f_head) (f_records := f_records) (f_appliedTotal := f_appliedTotal) (a_keys := a_keys) (a_vals := a_vals) (a_count := a_count) (a_level := a_level) (a_low := a_low) (a_high := a_high) (a_right := a_right) (a_spare := a_spare) (a_path := a_path) (a_phaseOf := a_phaseOf) (a_kindOf := a_kindOf) (a_firstOf := a_firstOf) (a_secondOf := a_secondOf) (a_leftOf := a_leftOf) (a_outcomeOf := a_outcomeOf) (a_resKey := a_resKey) (a_resValue := a_resValue) (a_countOf := a_countOf) (a_digestOf := a_digestOf) (a_appliedAt := a_appliedAt) (a_latchesOf := a_latchesOf) (a_place := a_place) (a_unknown := a_unknown) W (Nat.le_refl _) C.2.2.1 h64 hs habs
      obtain ⟨us', ks', vs', P1, w1⟩ := by_add (f_threadCount := f_threadCount) (f_fan := f_fan) (f_capacity := f_capacity) (f_pace := f_pace) (f_appliedTotal := f_appliedTotal) (us := us) (ks := ks) (vs := vs) (a_phaseOf := a_phaseOf) (a_kindOf := a_kindOf) (a_firstOf := a_firstOf) (a_secondOf := a_secondOf) (a_leftOf := a_leftOf) (a_outcomeOf := a_outcomeOf) (a_resKey := a_resKey) (a_resValue := a_resValue) (a_countOf := a_countOf) (a_digestOf := a_digestOf) (a_appliedAt := a_appliedAt) (a_latchesOf := a_latchesOf) (a_firstOf t) (a_secondOf t) Pm h64
      have Pm' : bk_Pm (bk_fl (L' 0)) us' ks' vs' := by
        rw [m2]
        rw [m1] at P1
        exact List.perm_middle.trans P1
      have hlen : (bk_fl (L' 0)).length = (bk_fl (L 0)).length + 1 := by rw [m1, m2]; simp; omega
      refine ⟨L', h, root, st, f_root, f_records + 1, ky, vl, ct, lv, lw, hg, rt, a_spare, a_path, a_place, upd a_unknown t r, upd a_outcomeOf t 4, upd a_resKey t (a_firstOf t), upd a_resValue t (a_secondOf t), us', ks', vs',
        ⟨hro, ⟨by rw [hrc.1, hlen, nI_1], by omega⟩, d1, bk_Uk_put U hun ht d4 d5 (fun i hp => bk_Pn_lt W.1 hp), bk_Pl_gw d3 Pl, Pm'⟩, fun q' _ e z => by rw [pk_un e]; exact z, fun z => absurd z hk5, fun q' e => pk_un e, fun post hp => hXw post ?_, fun post hp => hYw post ?_⟩
      · unfold wpX_effectInsert
        rw [hc]
        refine And.intro hi (nm_e ⟨hi, nm_e (wX _ (br_t (by decide) (br_t ?_ (d6 _ (And.intro hi (nm_e (bx_concl ht6 hp)))))))⟩)
        rw [hrc.1, hfcap]
        exact nI_lt hfull (by omega)
      · unfold wY_effect_53
        refine br_t rfl (br_t (by decide) (by_size (br_f ?_ (w1 _ (by_fin ht6 hp)))))
        rw [← Pm.length_eq, hfcap]
        intro hc'
        have := bx_inj (by omega) (by omega) hc'
        omega
    · have hfull' : (bk_fl (L 0)).length = cap := by have := hrc.2; omega
      refine ⟨L, h, root, f_spareTop, f_root, f_records, a_keys, a_vals, a_count, a_level, a_low, a_high, a_right, a_spare, a_path, a_place, a_unknown, upd a_outcomeOf t 6, a_resKey, a_resValue, us, ks, vs, ⟨hro, hrc, W, U, Pl, Pm⟩, fun _ _ _ z => z, fun z => absurd z hk5, fun q' e => rfl, fun post hp => hXw post ?_, fun post hp => hYw post ?_⟩
      · unfold wpX_effectInsert
        rw [hc]
        refine And.intro hi (nm_e ⟨hi, nm_e (wX _ (br_t (by decide) (br_f ?_ ⟨hi, nm_e hp⟩)))⟩)
        rw [hrc.1, hfcap]
        exact nI_nlt (by omega) (by omega)
      · unfold wY_effect_53
        refine br_t rfl (br_t (by decide) (by_size (br_t ?_ ⟨hi, nm_e ?_⟩)))
        · rw [← Pm.length_eq, hfcap, hfull']
        · rw [hc]; exact hp
theorem bk_ef_8 (J : bk_J tc fan lst cap pc L h root g f_threadCount f_fan f_capacity f_pace f_least f_spareTop f_root f_head f_records f_appliedTotal a_keys a_vals a_count a_level a_low a_high a_right a_spare a_path a_phaseOf a_kindOf a_firstOf a_secondOf a_leftOf a_outcomeOf a_resKey a_resValue a_countOf a_digestOf a_appliedAt a_latchesOf a_place a_unknown us ks vs) (ht : t < tc) (hph : a_phaseOf t = 3) (hkd : a_kindOf t = 8) : bk_Ef tc fan lst cap t g f_threadCount f_fan f_capacity f_pace f_least f_spareTop f_root f_head f_records f_appliedTotal a_keys a_vals a_count a_level a_low a_high a_right a_spare a_path a_phaseOf a_kindOf a_firstOf a_secondOf a_leftOf a_outcomeOf a_resKey a_resValue a_countOf a_digestOf a_appliedAt a_latchesOf a_place a_unknown us ks vs := by
  obtain ⟨C, hro, hrc, W, U, Pl, Pm, Th⟩ := J
  have h6 := C.2.1
  have hcap := C.2.2.2.2.2.1
  have hfcap := C.2.2.2.2.1
  have ht6 : t < 6 := by omega
  have hi := bx_6 ht6
  have hc := bx_c6 ht6
  have hk5 : ¬ a_kindOf t < 5 := by rw [hkd]; decide
  have hun : a_unknown t < 0 := (Th t ht).2.2.2.2.2.2.2.2.1 (by rw [hph]; decide)
  obtain ⟨s, hs, ws⟩ := bx_start (key := a_firstOf t) (f_threadCount := f_threadCount) (f_fan := f_fan) (f_capacity := f_capacity) (f_pace := f_pace) (f_least := f_least) (f_spareTop := f_spareTop) (f_root := f_root) (f_head := f_head) (f_records := f_records) (f_appliedTotal := f_appliedTotal) (a_keys := a_keys) (a_vals := a_vals) (a_count := a_count) (a_level := a_level) (a_low := a_low) (a_high := a_high) (a_right := a_right) (a_spare := a_spare) (a_path := a_path) (a_phaseOf := a_phaseOf) (a_kindOf := a_kindOf) (a_firstOf := a_firstOf) (a_secondOf := a_secondOf) (a_leftOf := a_leftOf) (a_outcomeOf := a_outcomeOf) (a_resKey := a_resKey) (a_resValue := a_resValue) (a_countOf := a_countOf) (a_digestOf := a_digestOf) (a_appliedAt := a_appliedAt) (a_latchesOf := a_latchesOf) (a_place := a_place) (a_unknown := a_unknown) W.1 hro h6 Pl ht ((Th t ht).2.2.2.2.2.2.2.2.2.1 (Or.inr (Or.inr hph)))
  obtain ⟨rX, hX, wX⟩ := bx_find (key := a_firstOf t) (f_threadCount := f_threadCount) (f_fan := f_fan) (f_capacity := f_capacity) (f_pace := f_pace) (f_least := f_least) (f_spareTop := f_spareTop) (f_root := f_root) (f_head := f_head) (f_records := f_records) (f_appliedTotal := f_appliedTotal) (a_keys := a_keys) (a_vals := a_vals) (a_count := a_count) (a_level := a_level) (a_low := a_low) (a_high := a_high) (a_right := a_right) (a_spare := a_spare) (a_path := a_path) (a_phaseOf := a_phaseOf) (a_kindOf := a_kindOf) (a_firstOf := a_firstOf) (a_secondOf := a_secondOf) (a_leftOf := a_leftOf) (a_outcomeOf := a_outcomeOf) (a_resKey := a_resKey) (a_resValue := a_resValue) (a_countOf := a_countOf) (a_digestOf := a_digestOf) (a_appliedAt := a_appliedAt) (a_latchesOf := a_latchesOf) (a_place := a_place) (a_unknown := a_unknown) W.1 hs
  obtain ⟨rY, hY, wY⟩ := by_slotOf (f_threadCount := f_threadCount) (f_fan := f_fan) (f_capacity := f_capacity) (f_pace := f_pace) (f_appliedTotal := f_appliedTotal) (us := us) (ks := ks) (vs := vs) (a_phaseOf := a_phaseOf) (a_kindOf := a_kindOf) (a_firstOf := a_firstOf) (a_secondOf := a_secondOf) (a_leftOf := a_leftOf) (a_outcomeOf := a_outcomeOf) (a_resKey := a_resKey) (a_resValue := a_resValue) (a_countOf := a_countOf) (a_digestOf := a_digestOf) (a_appliedAt := a_appliedAt) (a_latchesOf := a_latchesOf) (a_firstOf t)
  have hXw : ∀ post : SX → Prop, wpX_effectMove post (f_threadCount, f_fan, f_capacity, f_pace, f_least, f_spareTop, f_root, f_head, f_records, f_appliedTotal, a_keys, a_vals, a_count, a_level, a_low, a_high, a_right, a_spare, a_path, a_phaseOf, a_kindOf, a_firstOf, a_secondOf, a_leftOf, a_outcomeOf, a_resKey, a_resValue, a_countOf, a_digestOf, a_appliedAt, a_latchesOf, a_place, a_unknown) (nI t) s → wpX_takeEffect post (f_threadCount, f_fan, f_capacity, f_pace, f_least, f_spareTop, f_root, f_head, f_records, f_appliedTotal, a_keys, a_vals, a_count, a_level, a_low, a_high, a_right, a_spare, a_path, a_phaseOf, a_kindOf, a_firstOf, a_secondOf, a_leftOf, a_outcomeOf, a_resKey, a_resValue, a_countOf, a_digestOf, a_appliedAt, a_latchesOf, a_place, a_unknown) (nI t) := by
    intro post hp
    unfold wpX_takeEffect
    rw [hc]
    refine ws _ ⟨hi, nm_e ⟨hi, nm_r (e' := 8) hkd ?_⟩⟩
    iterate 9 refine br_f (by decide) ?_
    exact br_t rfl hp
  have hYw : ∀ post : SY → Prop, wY_effect_53 post (nI t) 8 (a_firstOf t) (a_secondOf t) rY f_threadCount f_fan f_capacity f_pace f_appliedTotal us ks vs a_phaseOf a_kindOf a_firstOf a_secondOf a_leftOf a_outcomeOf a_resKey a_resValue a_countOf a_digestOf a_appliedAt a_latchesOf → wpY_effect post (f_threadCount, f_fan, f_capacity, f_pace, f_appliedTotal, us, ks, vs, a_phaseOf, a_kindOf, a_firstOf, a_secondOf, a_leftOf, a_outcomeOf, a_resKey, a_resValue, a_countOf, a_digestOf, a_appliedAt, a_latchesOf) (nI t) := by
    intro post hp
    unfold wpY_effect
    rw [hc]
    refine And.intro hi (nm_r (e' := 8) hkd ⟨hi, nm_e ⟨hi, nm_e (wY _ (br_f (by decide) ?_))⟩⟩)
    unfold wY_effect_41
    exact br_f (by decide) hp
  rcases bk_find2 W.1 Pm hX hY with ⟨q, s', v, hq, hs', rfl, rfl, S, a5, a6, a7, a8, a9⟩ | ⟨rfl, rfl, _⟩
  · by_cases hab : a_firstOf t = a_secondOf t
    · refine ⟨L, h, root, f_spareTop, f_root, f_records, a_keys, a_vals, a_count, a_level, a_low, a_high, a_right, a_spare, a_path, a_place, a_unknown, upd a_outcomeOf t 2, upd a_resKey t (a_firstOf t), upd a_resValue t (a_vals q), us, ks, vs, ⟨hro, hrc, W, U, Pl, Pm⟩, fun _ _ _ z => z, fun z => absurd z hk5, fun q' e => pk_un e, fun post hp => hXw post ?_, fun post hp => hYw post ?_⟩
      · unfold wpX_effectMove
        rw [hc]
        refine And.intro hi (nm_e ⟨hi, nm_e (wX _ (br_t (nI_pos' (by omega)) ⟨vp_in_nI hq (by omega), nm_r (e' := a_vals q) (by rw [bx_cl hq]) (br_t hab (bx_concl ht6 hp))⟩))⟩)
      · unfold wY_effect_53
        refine br_f (by decide) (br_t (nI_pos' (by omega)) (br_t rfl (br_t hab ?_)))
        unfold wY_effect_206
        rw [bx_cl (n := s') (by omega), a6, a8, ← a7]
        refine And.intro (bk_64 hs') (And.intro (bk_64 hs') (by_fin ht6 (br_f (by decide) ?_)))
        unfold wY_effect_241
        exact br_f (by decide) hp
    · obtain ⟨rX2, hX2, wX2⟩ := bx_find (key := a_secondOf t) (s := f_root) (f_threadCount := f_threadCount) (f_fan := f_fan) (f_capacity := f_capacity) (f_pace := f_pace) (f_least := f_least) (f_spareTop := f_spareTop) (f_root := f_root) (f_head := f_head) (f_records := f_records) (f_appliedTotal := f_appliedTotal) (a_keys := a_keys) (a_vals := a_vals) (a_count := a_count) (a_level := a_level) (a_low := a_low) (a_high := a_high) (a_right := a_right) (a_spare := a_spare) (a_path := a_path) (a_phaseOf := a_phaseOf) (a_kindOf := a_kindOf) (a_firstOf := a_firstOf) (a_secondOf := a_secondOf) (a_leftOf := a_leftOf) (a_outcomeOf := a_outcomeOf) (a_resKey := a_resKey) (a_resValue := a_resValue) (a_countOf := a_countOf) (a_digestOf := a_digestOf) (a_appliedAt := a_appliedAt) (a_latchesOf := a_latchesOf) (a_place := a_place) (a_unknown := a_unknown) W.1 (by rw [hro]; exact bk_St_root W.1.1 _)
      obtain ⟨rY2, hY2, wY2⟩ := by_slotOf (f_threadCount := f_threadCount) (f_fan := f_fan) (f_capacity := f_capacity) (f_pace := f_pace) (f_appliedTotal := f_appliedTotal) (us := us) (ks := ks) (vs := vs) (a_phaseOf := a_phaseOf) (a_kindOf := a_kindOf) (a_firstOf := a_firstOf) (a_secondOf := a_secondOf) (a_leftOf := a_leftOf) (a_outcomeOf := a_outcomeOf) (a_resKey := a_resKey) (a_resValue := a_resValue) (a_countOf := a_countOf) (a_digestOf := a_digestOf) (a_appliedAt := a_appliedAt) (a_latchesOf := a_latchesOf) (a_secondOf t)
      rcases bk_find2 W.1 Pm hX2 hY2 with ⟨q2, s2, v2, hq2, hs2, rfl, rfl, S2, b5, b6, b7, b8, b9⟩ | ⟨rfl, rfl, habs⟩
      · refine ⟨L, h, root, f_spareTop, f_root, f_records, a_keys, a_vals, a_count, a_level, a_low, a_high, a_right, a_spare, a_path, a_place, a_unknown, upd a_outcomeOf t 5, upd a_resKey t (a_secondOf t), upd a_resValue t (a_vals q2), us, ks, vs, ⟨hro, hrc, W, U, Pl, Pm⟩, fun _ _ _ z => z, fun z => absurd z hk5, fun q' e => pk_un e, fun post hp => hXw post ?_, fun post hp => hYw post ?_⟩
        · unfold wpX_effectMove
          rw [hc]
          refine And.intro hi (nm_e ⟨hi, nm_e (wX _ (br_t (nI_pos' (by omega)) ⟨vp_in_nI hq (by omega), nm_e (br_f hab (wX2 _ (br_f (nI_pos (by omega)) ⟨vp_in_nI hq2 (by omega), ?_⟩)))⟩))⟩)
          rw [bx_cl hq2]
          exact bx_concl ht6 hp
        · unfold wY_effect_53
          refine br_f (by decide) (br_t (nI_pos' (by omega)) (br_t rfl (br_f hab (wY2 _ (br_f (nI_pos (by omega)) ⟨bk_64 hs2, ?_⟩)))))
          rw [bx_cl (n := s2) (by omega), b8, ← b7]
          exact by_fin ht6 hp
      · obtain ⟨L1, h1, root1, st1, ky1, vl1, ct1, lv1, lw1, hg1, rt1, sp1, pa1, pl1, un1, d1, ⟨M1, M2, m1, m2⟩, d3, d4, d5, d6⟩ := bx_uproot (tc := tc) (f_threadCount := f_threadCount) (f_fan := f_fan) (f_capacity := f_capacity) (f_pace := f_pace) (f_least := f_least) (f_spareTop := f_spareTop) (f_root := f_root) (f_head := f_head) (f_records := f_records) (f_appliedTotal := f_appliedTotal) (a_keys := a_keys) (a_vals := a_vals) (a_count := a_count) (a_level := a_level) (a_low := a_low) (a_high := a_high) (a_right := a_right) (a_spare := a_spare) (a_path := a_path) (a_phaseOf := a_phaseOf) (a_kindOf := a_kindOf) (a_firstOf := a_firstOf) (a_secondOf := a_secondOf) (a_leftOf := a_leftOf) (a_outcomeOf := a_outcomeOf) (a_resKey := a_resKey) (a_resValue := a_resValue) (a_countOf := a_countOf) (a_digestOf := a_digestOf) (a_appliedAt := a_appliedAt) (a_latchesOf := a_latchesOf) (a_place := a_place) (a_unknown := a_unknown) W C.1 h6 C.2.2.1 C.2.2.2.1 hro U S
        have hlen1 : (bk_fl (L 0)).length = (bk_fl (L1 0)).length + 1 := by rw [m1, m2]; simp; omega
        have habs1 : ∀ v', ((a_secondOf t).toInt, v') ∉ bk_fl (L1 0) := by
          intro v' hv'
          refine habs v' ?_
          rw [m2] at hv'
          rw [m1]
          rcases List.mem_append.mp hv' with hv' | hv'
          · simp [hv']
          · simp [hv']
        obtain ⟨r, st, L', ky, vl, ct, lv, lw, hg, rt, e1, ⟨N1, N2, n1, n2⟩, e3, e4, e5, e6⟩ := bx_plant (key := a_secondOf t) (val := a_vals q) (s := nI root1) (f_threadCount := f_threadCount) (f_fan := f_fan) (f_capacity := f_capacity) (f_pace := f_pace) (f_least := f_least) (f_spareTop := st1) (f_root := nI root1) (f_head := f_head) (f_records := f_records - 1) (f_appliedTotal := f_appliedTotal) (a_keys := ky1) (a_vals := vl1) (a_count := ct1) (a_level := lv1) (a_low := lw1) (a_high := hg1) (a_right := rt1) (a_spare := sp1) (a_path := pa1) (a_phaseOf := a_phaseOf) (a_kindOf := a_kindOf) (a_firstOf := a_firstOf) (a_secondOf := a_secondOf) (a_leftOf := a_leftOf) (a_outcomeOf := a_outcomeOf) (a_resKey := a_resKey) (a_resValue := a_resValue) (a_countOf := a_countOf) (a_digestOf := a_digestOf) (a_appliedAt := a_appliedAt) (a_latchesOf := a_latchesOf) (a_place := pl1) (a_unknown := un1) d1 (Nat.le_refl _) C.2.2.1 (by have := hrc.2; omega) (bk_St_root d1.1.1 _) habs1
        have Pm' : bk_Pm (bk_fl (L' 0)) us (upd ks s' (a_secondOf t)) vs := by
          rw [m1] at Pm
          rw [n2, a7]
          exact bk_Pm_mv Pm hs' a9 (by rw [a6]) a8 (by rw [← m2, n1])
        have hlen2 : (bk_fl (L' 0)).length = (bk_fl (L1 0)).length + 1 := by rw [n1, n2]; simp; omega
        refine ⟨L', h1, root1, st, nI root1, f_records - 1 + 1, ky, vl, ct, lv, lw, hg, rt, sp1, pa1, pl1, upd un1 t r, upd a_outcomeOf t 2, upd a_resKey t (a_secondOf t), upd a_resValue t (a_vals q), us, upd ks s' (a_secondOf t), vs,
          ⟨rfl, ⟨by rw [hrc.1, hlen1, nI_pred, nI_1, hlen2], by have := hrc.2; omega⟩, e1, bk_Uk_put d3 (d4 t ht hun) ht e4 e5 (fun i hp => bk_Pn_lt d1.1 hp), bk_Pl_gw e3 (d5 g Pl), Pm'⟩, fun q' hq' e z => by rw [pk_un e]; exact d4 q' hq' z, fun z => absurd z hk5, fun q' e => pk_un e, fun post hp => hXw post ?_, fun post hp => hYw post ?_⟩
        · unfold wpX_effectMove
          rw [hc]
          refine And.intro hi (nm_e ⟨hi, nm_e (wX _ (br_t (nI_pos' (by omega)) ⟨vp_in_nI hq (by omega), nm_r (e' := a_vals q) (by rw [bx_cl hq]) (br_f hab (wX2 _ (br_t (by decide) (d6 _ (e6 _ (And.intro hi (nm_e (bx_concl ht6 hp)))))))) ⟩))⟩)
        · unfold wY_effect_53
          refine br_f (by decide) (br_t (nI_pos' (by omega)) (br_t rfl (br_f hab (wY2 _ (br_t (by decide) ⟨bk_64 hs', nm_e ⟨bk_64 hs', ?_⟩⟩)))))
          rw [bx_cl (n := s') (by omega), a8, ← a7]
          exact by_fin ht6 hp
  · refine ⟨L, h, root, f_spareTop, f_root, f_records, a_keys, a_vals, a_count, a_level, a_low, a_high, a_right, a_spare, a_path, a_place, a_unknown, upd a_outcomeOf t 3, a_resKey, a_resValue, us, ks, vs, ⟨hro, hrc, W, U, Pl, Pm⟩, fun _ _ _ z => z, fun z => absurd z hk5, fun q' e => rfl, fun post hp => hXw post ?_, fun post hp => hYw post ?_⟩
    · unfold wpX_effectMove
      rw [hc]
      exact And.intro hi (nm_e ⟨hi, nm_e (wX _ (br_f (by decide) ⟨hi, nm_e hp⟩))⟩)
    · unfold wY_effect_53
      refine br_f (by decide) (br_f (by decide) ⟨hi, nm_e ?_⟩)
      rw [hc]
      exact hp
theorem bk_ef (J : bk_J tc fan lst cap pc L h root g f_threadCount f_fan f_capacity f_pace f_least f_spareTop f_root f_head f_records f_appliedTotal a_keys a_vals a_count a_level a_low a_high a_right a_spare a_path a_phaseOf a_kindOf a_firstOf a_secondOf a_leftOf a_outcomeOf a_resKey a_resValue a_countOf a_digestOf a_appliedAt a_latchesOf a_place a_unknown us ks vs) (ht : t < tc) (hph : a_phaseOf t = 3) : bk_Ef tc fan lst cap t g f_threadCount f_fan f_capacity f_pace f_least f_spareTop f_root f_head f_records f_appliedTotal a_keys a_vals a_count a_level a_low a_high a_right a_spare a_path a_phaseOf a_kindOf a_firstOf a_secondOf a_leftOf a_outcomeOf a_resKey a_resValue a_countOf a_digestOf a_appliedAt a_latchesOf a_place a_unknown us ks vs := by
  obtain ⟨C, hro, hrc, W, U, Pl, Pm, Th⟩ := J
  have J : bk_J tc fan lst cap pc L h root g f_threadCount f_fan f_capacity f_pace f_least f_spareTop f_root f_head f_records f_appliedTotal a_keys a_vals a_count a_level a_low a_high a_right a_spare a_path a_phaseOf a_kindOf a_firstOf a_secondOf a_leftOf a_outcomeOf a_resKey a_resValue a_countOf a_digestOf a_appliedAt a_latchesOf a_place a_unknown us ks vs := ⟨C, hro, hrc, W, U, Pl, Pm, Th⟩
  obtain ⟨b1, b2, b3, b4, b5, b6, _⟩ := Th t ht
  obtain ⟨k, k1, k2, k3⟩ := b3 (by rw [hph]; decide)
  have h4 := b6 hph
  have hk : k = 1 ∨ k = 2 ∨ k = 3 ∨ k = 4 ∨ k = 5 ∨ k = 6 ∨ k = 7 ∨ k = 8 := by omega
  rcases hk with rfl | rfl | rfl | rfl | rfl | rfl | rfl | rfl
  · exact bk_ef_1 J ht hph k3
  · exact bk_ef_2 J ht hph k3
  · exact bk_ef_3 J ht hph k3
  · exact absurd k3 h4
  · exact bk_ef_5 J ht hph k3
  · exact bk_ef_6 J ht hph k3
  · exact bk_ef_7 J ht hph k3
  · exact bk_ef_8 J ht hph k3
theorem bk_apply (J : bk_J tc fan lst cap pc L h root g f_threadCount f_fan f_capacity f_pace f_least f_spareTop f_root f_head f_records f_appliedTotal a_keys a_vals a_count a_level a_low a_high a_right a_spare a_path a_phaseOf a_kindOf a_firstOf a_secondOf a_leftOf a_outcomeOf a_resKey a_resValue a_countOf a_digestOf a_appliedAt a_latchesOf a_place a_unknown us ks vs) (ht : t < tc) (hph : a_phaseOf t = 3) :
    bk_Ok tc (fun post => wpX_applyStep post (f_threadCount, f_fan, f_capacity, f_pace, f_least, f_spareTop, f_root, f_head, f_records, f_appliedTotal, a_keys, a_vals, a_count, a_level, a_low, a_high, a_right, a_spare, a_path, a_phaseOf, a_kindOf, a_firstOf, a_secondOf, a_leftOf, a_outcomeOf, a_resKey, a_resValue, a_countOf, a_digestOf, a_appliedAt, a_latchesOf, a_place, a_unknown) (nI t)) (fun post => wpY_step post (f_threadCount, f_fan, f_capacity, f_pace, f_appliedTotal, us, ks, vs, a_phaseOf, a_kindOf, a_firstOf, a_secondOf, a_leftOf, a_outcomeOf, a_resKey, a_resValue, a_countOf, a_digestOf, a_appliedAt, a_latchesOf) (nI t)) := by
  have E := bk_ef J ht hph
  obtain ⟨C, hro, hrc, W, U, Pl, Pm, Th⟩ := J
  have h6 := C.2.1
  have ht6 : t < 6 := by omega
  have hi := bx_6 ht6
  have hc := bx_c6 ht6
  obtain ⟨b1, b2, b3, b4, b5, b6, b7, b8, b9, b10, b11⟩ := Th t ht
  obtain ⟨L', h', root', st', ro', rc', ky', vl', ct', lv', lw', hg', rt', sp', pa', pl', un', oc', rk', rv', us', ks', vs', ⟨e1, e2, e3, e4, e5, e6⟩, f1, f2, f3, wX, wY⟩ := E
  by_cases hk : a_kindOf t < 5
  · refine ⟨5, (f_threadCount, f_fan, f_capacity, f_pace, f_least, st', ro', f_head, rc', f_appliedTotal + 1, ky', vl', ct', lv', lw', hg', rt', sp', pa', upd a_phaseOf t 0, a_kindOf, a_firstOf, a_secondOf, a_leftOf, oc', rk', rv', a_countOf, a_digestOf, upd a_appliedAt t (f_appliedTotal + 1), a_latchesOf, upd pl' t (-1), un'),
      (f_threadCount, f_fan, f_capacity, f_pace, f_appliedTotal + 1, us', ks', vs', upd a_phaseOf t 0, a_kindOf, a_firstOf, a_secondOf, a_leftOf, oc', rk', rv', a_countOf, a_digestOf, upd a_appliedAt t (f_appliedTotal + 1), a_latchesOf), bk_in ⟨fan, lst, cap, pc, L', h', root', g, C, e1, e2, e3, e4, bk_Pl_neg e5, e6, ?_⟩, fun post hpo => ?_, fun post hpo => ?_⟩
    · refine bk_Th_up (t := t) Th (fun q hq e => ⟨pk_un e, rfl, rfl, rfl, rfl, rfl, f3 q e, rfl, rfl, f1 q hq e⟩) (fun _ => ?_)
      rw [pk_us]
      exact bk_Tq_idle b1 (f2 hk)
    · show wpX_applyStep post (f_threadCount, f_fan, f_capacity, f_pace, f_least, f_spareTop, f_root, f_head, f_records, f_appliedTotal, a_keys, a_vals, a_count, a_level, a_low, a_high, a_right, a_spare, a_path, a_phaseOf, a_kindOf, a_firstOf, a_secondOf, a_leftOf, a_outcomeOf, a_resKey, a_resValue, a_countOf, a_digestOf, a_appliedAt, a_latchesOf, a_place, a_unknown) (nI t)
      unfold wpX_applyStep wpX_retire
      rw [hc]
      exact wX _ (nm_e ⟨hi, nm_e ⟨hi, br_t hk (And.intro hi (nm_e ⟨hi, nm_e hpo⟩))⟩⟩)
    · show wpY_step post (f_threadCount, f_fan, f_capacity, f_pace, f_appliedTotal, us, ks, vs, a_phaseOf, a_kindOf, a_firstOf, a_secondOf, a_leftOf, a_outcomeOf, a_resKey, a_resValue, a_countOf, a_digestOf, a_appliedAt, a_latchesOf) (nI t)
      unfold wpY_step
      rw [hc]
      refine by_badOk C.1 h6 ht (br_t rfl ⟨hi, nm_r (e' := 3) hph (br_f (by decide) (br_f (by decide) (br_f (by decide) (br_t rfl (wY _ ?_)))))⟩)
      exact nm_e ⟨hi, nm_e ⟨hi, nm_e ⟨hi, br_t hk hpo⟩⟩⟩
  · refine ⟨5, (f_threadCount, f_fan, f_capacity, f_pace, f_least, st', ro', f_head, rc', f_appliedTotal + 1, ky', vl', ct', lv', lw', hg', rt', sp', pa', upd a_phaseOf t 4, a_kindOf, a_firstOf, a_secondOf, upd a_leftOf t 2, oc', rk', rv', a_countOf, a_digestOf, upd a_appliedAt t (f_appliedTotal + 1), a_latchesOf, upd pl' t (-1), un'),
      (f_threadCount, f_fan, f_capacity, f_pace, f_appliedTotal + 1, us', ks', vs', upd a_phaseOf t 4, a_kindOf, a_firstOf, a_secondOf, upd a_leftOf t 2, oc', rk', rv', a_countOf, a_digestOf, upd a_appliedAt t (f_appliedTotal + 1), a_latchesOf), bk_in ⟨fan, lst, cap, pc, L', h', root', g, C, e1, e2, e3, e4, bk_Pl_neg e5, e6, ?_⟩, fun post hpo => ?_, fun post hpo => ?_⟩
    · refine bk_Th_up (t := t) Th (fun q hq e => ⟨pk_un e, rfl, rfl, rfl, pk_un e, rfl, f3 q e, rfl, rfl, f1 q hq e⟩) (fun _ => ?_)
      rw [pk_us, pk_us]
      exact ⟨b1, by decide, fun _ => b3 (by rw [hph]; decide), fun z => absurd z (by decide), fun z => absurd z (by decide), fun z => absurd z (by decide), fun _ => Or.inr rfl, fun z => absurd z (by decide), fun z => absurd rfl z, fun z => absurd z (by decide), fun z => absurd z (by decide)⟩
    · show wpX_applyStep post (f_threadCount, f_fan, f_capacity, f_pace, f_least, f_spareTop, f_root, f_head, f_records, f_appliedTotal, a_keys, a_vals, a_count, a_level, a_low, a_high, a_right, a_spare, a_path, a_phaseOf, a_kindOf, a_firstOf, a_secondOf, a_leftOf, a_outcomeOf, a_resKey, a_resValue, a_countOf, a_digestOf, a_appliedAt, a_latchesOf, a_place, a_unknown) (nI t)
      unfold wpX_applyStep
      rw [hc]
      exact wX _ (nm_e ⟨hi, nm_e ⟨hi, br_f hk ⟨hi, nm_e ⟨hi, nm_e ⟨hi, nm_e hpo⟩⟩⟩⟩⟩)
    · show wpY_step post (f_threadCount, f_fan, f_capacity, f_pace, f_appliedTotal, us, ks, vs, a_phaseOf, a_kindOf, a_firstOf, a_secondOf, a_leftOf, a_outcomeOf, a_resKey, a_resValue, a_countOf, a_digestOf, a_appliedAt, a_latchesOf) (nI t)
      unfold wpY_step
      rw [hc]
      refine by_badOk C.1 h6 ht (br_t rfl ⟨hi, nm_r (e' := 3) hph (br_f (by decide) (br_f (by decide) (br_f (by decide) (br_t rfl (wY _ ?_)))))⟩)
      exact nm_e ⟨hi, nm_e ⟨hi, nm_e ⟨hi, br_f hk ⟨hi, nm_r bk_upd2 ⟨hi, nm_e hpo⟩⟩⟩⟩⟩
end
end
section
/-! ===== 32: the scan step; a step of a thread on both sides ===== -/
def bk_Qx (fi se cn rk : Int32) (k : Int) : Prop := fi.toInt ≤ k ∧ k ≤ se.toInt ∧ (cn = 0 ∨ rk.toInt < k)
section
variable {tc fan lst cap pc : Nat} {L : Nat → List bk_Nd} {h root t : Nat} {g : Nat → Int} {f_threadCount f_fan f_capacity f_pace f_least f_spareTop f_root f_head f_records f_appliedTotal : Int32} {a_keys a_vals a_count a_level a_low a_high a_right a_spare a_path a_phaseOf a_kindOf a_firstOf a_secondOf a_leftOf a_outcomeOf a_resKey a_resValue a_countOf a_digestOf a_appliedAt a_latchesOf a_place a_unknown : Nat → Int32} {us ks vs : Nat → Int32}
theorem bx_next (J : bk_J tc fan lst cap pc L h root g f_threadCount f_fan f_capacity f_pace f_least f_spareTop f_root f_head f_records f_appliedTotal a_keys a_vals a_count a_level a_low a_high a_right a_spare a_path a_phaseOf a_kindOf a_firstOf a_secondOf a_leftOf a_outcomeOf a_resKey a_resValue a_countOf a_digestOf a_appliedAt a_latchesOf a_place a_unknown us ks vs) (ht : t < tc) (hph : a_phaseOf t = 5) :
    ∃ r, ((∃ k v, bk_Sl L k v r ∧ bk_Qx (a_firstOf t) (a_secondOf t) (a_countOf t) (a_resKey t) k ∧ ∀ p, p ∈ bk_fl (L 0) → bk_Qx (a_firstOf t) (a_secondOf t) (a_countOf t) (a_resKey t) p.1 → k ≤ p.1) ∨
      (r = -1 ∧ ∀ p, p ∈ bk_fl (L 0) → ¬ bk_Qx (a_firstOf t) (a_secondOf t) (a_countOf t) (a_resKey t) p.1)) ∧ ∀ post : Int32 → Prop, post r → wpX_nextOfScan post (f_threadCount, f_fan, f_capacity, f_pace, f_least, f_spareTop, f_root, f_head, f_records, f_appliedTotal, a_keys, a_vals, a_count, a_level, a_low, a_high, a_right, a_spare, a_path, a_phaseOf, a_kindOf, a_firstOf, a_secondOf, a_leftOf, a_outcomeOf, a_resKey, a_resValue, a_countOf, a_digestOf, a_appliedAt, a_latchesOf, a_place, a_unknown) (nI t) := by
  obtain ⟨C, hro, hrc, W, U, Pl, Pm, Th⟩ := J
  have h6 := C.2.1
  have ht6 : t < 6 := by omega
  have hi := bx_6 ht6
  have hc := bx_c6 ht6
  obtain ⟨b1, b2, b3, b4, b5, b6, b7, b8, b9, b10, b11⟩ := Th t ht
  have T := W.1
  -- a search from a key
  have key : ∀ fr : Int32, g t ≤ fr.toInt → (∀ k, bk_Qx (a_firstOf t) (a_secondOf t) (a_countOf t) (a_resKey t) k ↔ (fr.toInt ≤ k ∧ k ≤ (a_secondOf t).toInt)) →
      ∃ r, ((∃ k v, bk_Sl L k v r ∧ bk_Qx (a_firstOf t) (a_secondOf t) (a_countOf t) (a_resKey t) k ∧ ∀ p, p ∈ bk_fl (L 0) → bk_Qx (a_firstOf t) (a_secondOf t) (a_countOf t) (a_resKey t) p.1 → k ≤ p.1) ∨
      (r = -1 ∧ ∀ p, p ∈ bk_fl (L 0) → ¬ bk_Qx (a_firstOf t) (a_secondOf t) (a_countOf t) (a_resKey t) p.1)) ∧ ∀ post : Int32 → Prop, post r → wX_nextOfScan_38 post (nI t) fr f_threadCount f_fan f_capacity f_pace f_least f_spareTop f_root f_head f_records f_appliedTotal a_keys a_vals a_count a_level a_low a_high a_right a_spare a_path a_phaseOf a_kindOf a_firstOf a_secondOf a_leftOf a_outcomeOf a_resKey a_resValue a_countOf a_digestOf a_appliedAt a_latchesOf a_place a_unknown := by
    intro fr hg hQ
    obtain ⟨s, hs, ws⟩ := bx_start (key := fr) (f_threadCount := f_threadCount) (f_fan := f_fan) (f_capacity := f_capacity) (f_pace := f_pace) (f_least := f_least) (f_spareTop := f_spareTop) (f_root := f_root) (f_head := f_head) (f_records := f_records) (f_appliedTotal := f_appliedTotal) (a_keys := a_keys) (a_vals := a_vals) (a_count := a_count) (a_level := a_level) (a_low := a_low) (a_high := a_high) (a_right := a_right) (a_spare := a_spare) (a_path := a_path) (a_phaseOf := a_phaseOf) (a_kindOf := a_kindOf) (a_firstOf := a_firstOf) (a_secondOf := a_secondOf) (a_leftOf := a_leftOf) (a_outcomeOf := a_outcomeOf) (a_resKey := a_resKey) (a_resValue := a_resValue) (a_countOf := a_countOf) (a_digestOf := a_digestOf) (a_appliedAt := a_appliedAt) (a_latchesOf := a_latchesOf) (a_place := a_place) (a_unknown := a_unknown) T hro h6 Pl ht hg
    obtain ⟨r, hr, wr⟩ := bx_ceil (key := fr) (f_threadCount := f_threadCount) (f_fan := f_fan) (f_capacity := f_capacity) (f_pace := f_pace) (f_least := f_least) (f_spareTop := f_spareTop) (f_root := f_root) (f_head := f_head) (f_records := f_records) (f_appliedTotal := f_appliedTotal) (a_keys := a_keys) (a_vals := a_vals) (a_count := a_count) (a_level := a_level) (a_low := a_low) (a_high := a_high) (a_right := a_right) (a_spare := a_spare) (a_path := a_path) (a_phaseOf := a_phaseOf) (a_kindOf := a_kindOf) (a_firstOf := a_firstOf) (a_secondOf := a_secondOf) (a_leftOf := a_leftOf) (a_outcomeOf := a_outcomeOf) (a_resKey := a_resKey) (a_resValue := a_resValue) (a_countOf := a_countOf) (a_digestOf := a_digestOf) (a_appliedAt := a_appliedAt) (a_latchesOf := a_latchesOf) (a_place := a_place) (a_unknown := a_unknown) T hs
    rcases hr with ⟨k', v, S, hk, hmin⟩ | ⟨hr, hn⟩
    · obtain ⟨q, q1, rfl, q3, q4⟩ := bk_Sl_at T S
      by_cases hse : k' ≤ (a_secondOf t).toInt
      · refine ⟨nI q, Or.inl ⟨k', v, S, (hQ k').mpr ⟨hk, hse⟩, fun p hp hq => hmin p hp ((hQ p.1).mp hq).1⟩, fun post hp => ?_⟩
        unfold wX_nextOfScan_38
        refine ws _ (wr _ (br_t (nI_pos' (by omega)) ⟨vp_in_nI q1 (by omega), hi, br_t ?_ hp⟩))
        rw [hc, bx_cl q1, bx_le, q3]; exact hse
      · refine ⟨-1, Or.inr ⟨rfl, fun p hp hq => ?_⟩, fun post hp => ?_⟩
        · have h1 := (hQ p.1).mp hq
          have h2 := hmin p hp h1.1
          omega
        · unfold wX_nextOfScan_38
          refine ws _ (wr _ (br_t (nI_pos' (by omega)) ⟨vp_in_nI q1 (by omega), hi, br_f ?_ hp⟩))
          rw [hc, bx_cl q1, bx_le, q3]; exact hse
    · subst hr
      refine ⟨-1, Or.inr ⟨rfl, fun p hp hq => ?_⟩, fun post hp => ?_⟩
      · have h1 := ((hQ p.1).mp hq).1
        have h2 := hn p hp
        omega
      · unfold wX_nextOfScan_38
        exact ws _ (wr _ (br_f (by decide) hp))
  by_cases hcn : a_countOf t = 0
  · obtain ⟨r, h1, h2⟩ := key (a_firstOf t) ((b11 hph).1 hcn) (fun k => ⟨fun z => ⟨z.1, z.2.1⟩, fun z => ⟨z.1, z.2, Or.inl hcn⟩⟩)
    refine ⟨r, h1, fun post hp => ?_⟩
    unfold wpX_nextOfScan
    rw [hc]
    exact And.intro hi (nm_e ⟨hi, br_t hcn (h2 post hp)⟩)
  · by_cases hmx : a_resKey t = 2147483647
    · have e : (2147483647 : Int32).toInt = 2147483647 := by decide
      refine ⟨-1, Or.inr ⟨rfl, fun p hp hq => ?_⟩, fun post hp => ?_⟩
      · rcases hq.2.2 with z | z
        · exact hcn z
        · rw [hmx, e] at z
          have := ((bk_fl_so (T.1.1 0 (by omega)).1).2 p hp).2
          have : p.1 < 2147483648 := this
          omega
      · unfold wpX_nextOfScan
        rw [hc]
        exact And.intro hi (nm_e ⟨hi, br_f hcn ⟨hi, br_t hmx hp⟩⟩)
    · have hne : (a_resKey t).toInt ≠ 2147483647 := fun z => hmx (Int32.toInt_inj.mp (by rw [z]; decide))
      have hadd := bx_add1 hne
      have hfr := b8 hph hcn
      obtain ⟨r, h1, h2⟩ := key (a_resKey t + 1) (by have := (b11 hph).2 hcn; omega) (fun k => ⟨fun z => ⟨by
          rcases z.2.2 with w | w
          · exact absurd w hcn
          · omega, z.2.1⟩, fun z => ⟨by omega, z.2, Or.inr (by omega)⟩⟩)
      refine ⟨r, h1, fun post hp => ?_⟩
      unfold wpX_nextOfScan
      rw [hc]
      exact And.intro hi (nm_e ⟨hi, br_f hcn ⟨hi, br_f hmx ⟨hi, nm_e (h2 post hp)⟩⟩⟩)
end
section
variable {t : Nat} {f_threadCount f_fan f_capacity f_pace f_appliedTotal : Int32} {us ks vs a_phaseOf a_kindOf a_firstOf a_secondOf a_leftOf a_outcomeOf a_resKey a_resValue a_countOf a_digestOf a_appliedAt a_latchesOf : Nat → Int32}
theorem by_scan_4 (ht6 : t < 6) : ∀ d s b, s + d = 64 → bk_Bm (fun q => ¬ us q = 0 ∧ bk_Qx (a_firstOf t) (a_secondOf t) (a_countOf t) (a_resKey t) (ks q).toInt) (fun q => (ks q).toInt) s b →
    ∃ r, bk_Bm (fun q => ¬ us q = 0 ∧ bk_Qx (a_firstOf t) (a_secondOf t) (a_countOf t) (a_resKey t) (ks q).toInt) (fun q => (ks q).toInt) 64 r ∧ ∀ n, d < n → ∀ post : Int32 → SY → Prop, (∀ m, wY_scanStep_4 post (nI t) f_threadCount f_fan f_capacity f_pace f_appliedTotal us ks vs a_phaseOf a_kindOf a_firstOf a_secondOf a_leftOf a_outcomeOf a_resKey a_resValue a_countOf a_digestOf a_appliedAt a_latchesOf (m + 1) r (nI 64)) → wY_scanStep_4 post (nI t) f_threadCount f_fan f_capacity f_pace f_appliedTotal us ks vs a_phaseOf a_kindOf a_firstOf a_secondOf a_leftOf a_outcomeOf a_resKey a_resValue a_countOf a_digestOf a_appliedAt a_latchesOf n b (nI s) := by
  have hi := bx_6 ht6
  have hc := bx_c6 ht6
  intro d
  induction d with
  | zero =>
    intro s b hs h
    have : s = 64 := by omega
    subst this
    refine ⟨b, h, fun n hn post hp => ?_⟩
    obtain ⟨n, rfl⟩ : ∃ m, n = m + 1 := ⟨n - 1, by omega⟩
    exact hp n
  | succ d ih =>
    intro s b hs h
    have h1 : ¬ (64 : Int32) ≤ nI s := nI_ge (b := 64) (by omega) (by decide)
    have h2 : vp_in (nI s) 64 := bk_64 (by omega)
    have h3 : (nI s).toNatClampNeg = s := bx_cl (by omega)
    by_cases u : us s = 0
    · obtain ⟨r, a, c⟩ := ih (s + 1) b (by omega) (bk_Bm_no h (fun z => z.1 u))
      refine ⟨r, a, fun n hn post hp => ?_⟩
      obtain ⟨n, rfl⟩ : ∃ m, n = m + 1 := ⟨n - 1, by omega⟩
      exact br_f h1 ⟨h2, br_t (by rw [h3]; exact u) (nm_r (nI_1 s) (c n (by omega) post hp))⟩
    · by_cases kf : (ks s).toInt < (a_firstOf t).toInt
      · obtain ⟨r, a, c⟩ := ih (s + 1) b (by omega) (bk_Bm_no h (fun z => by have := z.2.1; omega))
        refine ⟨r, a, fun n hn post hp => ?_⟩
        obtain ⟨n, rfl⟩ : ∃ m, n = m + 1 := ⟨n - 1, by omega⟩
        exact br_f h1 ⟨h2, br_f (by rw [h3]; exact u) ⟨hi, h2, br_t (by rw [h3, hc, bx_lt]; exact kf) (nm_r (nI_1 s) (c n (by omega) post hp))⟩⟩
      · by_cases ke : (a_secondOf t).toInt < (ks s).toInt
        · obtain ⟨r, a, c⟩ := ih (s + 1) b (by omega) (bk_Bm_no h (fun z => by have := z.2.2.1; omega))
          refine ⟨r, a, fun n hn post hp => ?_⟩
          obtain ⟨n, rfl⟩ : ∃ m, n = m + 1 := ⟨n - 1, by omega⟩
          exact br_f h1 ⟨h2, br_f (by rw [h3]; exact u) ⟨hi, h2, br_f (by rw [h3, hc, bx_lt]; exact kf) ⟨h2, hi, br_t (by rw [h3, hc, bx_lt]; exact ke) (nm_r (nI_1 s) (c n (by omega) post hp))⟩⟩⟩
        · by_cases kc : a_countOf t = 0 ∨ (a_resKey t).toInt < (ks s).toInt
          · have hQ : ¬ us s = 0 ∧ bk_Qx (a_firstOf t) (a_secondOf t) (a_countOf t) (a_resKey t) (ks s).toInt := ⟨u, by omega, by omega, kc⟩
            -- the join at row 73
            have hjoin : ∃ r, bk_Bm (fun q => ¬ us q = 0 ∧ bk_Qx (a_firstOf t) (a_secondOf t) (a_countOf t) (a_resKey t) (ks q).toInt) (fun q => (ks q).toInt) 64 r ∧ ∀ n, d < n → ∀ post : Int32 → SY → Prop, (∀ m, wY_scanStep_4 post (nI t) f_threadCount f_fan f_capacity f_pace f_appliedTotal us ks vs a_phaseOf a_kindOf a_firstOf a_secondOf a_leftOf a_outcomeOf a_resKey a_resValue a_countOf a_digestOf a_appliedAt a_latchesOf (m + 1) r (nI 64)) → wY_scanStep_73 post (wY_scanStep_4 post (nI t) f_threadCount f_fan f_capacity f_pace f_appliedTotal us ks vs a_phaseOf a_kindOf a_firstOf a_secondOf a_leftOf a_outcomeOf a_resKey a_resValue a_countOf a_digestOf a_appliedAt a_latchesOf n) (nI t) b (nI s) f_threadCount f_fan f_capacity f_pace f_appliedTotal us ks vs a_phaseOf a_kindOf a_firstOf a_secondOf a_leftOf a_outcomeOf a_resKey a_resValue a_countOf a_digestOf a_appliedAt a_latchesOf := by
              rcases h with ⟨e1, e2⟩ | ⟨q, e1, rfl, e3, e4⟩
              · obtain ⟨r, a, c⟩ := ih (s + 1) (nI s) (by omega) (bk_Bm_new (Or.inl ⟨e1, e2⟩) hQ (Or.inl e1) (by omega))
                refine ⟨r, a, fun n hn post hp => ?_⟩
                unfold wY_scanStep_73
                exact br_t (by rw [e1]; decide) (nm_r (nI_1 s) (c n hn post hp))
              · have hB : bk_Bm (fun q => ¬ us q = 0 ∧ bk_Qx (a_firstOf t) (a_secondOf t) (a_countOf t) (a_resKey t) (ks q).toInt) (fun q => (ks q).toInt) s (nI q) := Or.inr ⟨q, e1, rfl, e3, e4⟩
                have h4 : vp_in (nI q) 64 := bk_64 (by omega)
                have h5 : (nI q).toNatClampNeg = q := bx_cl (by omega)
                by_cases kk : (ks q).toInt ≤ (ks s).toInt
                · obtain ⟨r, a, c⟩ := ih (s + 1) (nI q) (by omega) (bk_Bm_old hB e1 kk (by omega))
                  refine ⟨r, a, fun n hn post hp => ?_⟩
                  unfold wY_scanStep_73
                  exact br_f (nI_pos (by omega)) ⟨h2, h4, br_t (by rw [h3, h5, bx_le]; exact kk) (nm_r (nI_1 s) (c n hn post hp))⟩
                · obtain ⟨r, a, c⟩ := ih (s + 1) (nI s) (by omega) (bk_Bm_new hB hQ (Or.inr ⟨q, e1, rfl, by omega⟩) (by omega))
                  refine ⟨r, a, fun n hn post hp => ?_⟩
                  unfold wY_scanStep_73
                  exact br_f (nI_pos (by omega)) ⟨h2, h4, br_f (by rw [h3, h5, bx_le]; exact kk) (nm_r (nI_1 s) (c n hn post hp))⟩
            obtain ⟨r, a, c⟩ := hjoin
            refine ⟨r, a, fun n hn post hp => ?_⟩
            obtain ⟨n, rfl⟩ : ∃ m, n = m + 1 := ⟨n - 1, by omega⟩
            refine br_f h1 ⟨h2, br_f (by rw [h3]; exact u) ⟨hi, h2, br_f (by rw [h3, hc, bx_lt]; exact kf) ⟨h2, hi, br_f (by rw [h3, hc, bx_lt]; exact ke) ⟨hi, ?_⟩⟩⟩⟩
            rw [hc]
            by_cases kc0 : a_countOf t = 0
            · exact br_t kc0 (c n (by omega) post hp)
            · refine br_f kc0 ⟨h2, hi, br_f ?_ (c n (by omega) post hp)⟩
              rw [h3, bx_le]
              rcases kc with kc | kc
              · exact absurd kc kc0
              · omega
          · obtain ⟨r, a, c⟩ := ih (s + 1) b (by omega) (bk_Bm_no h (fun z => kc z.2.2.2))
            refine ⟨r, a, fun n hn post hp => ?_⟩
            obtain ⟨n, rfl⟩ : ∃ m, n = m + 1 := ⟨n - 1, by omega⟩
            refine br_f h1 ⟨h2, br_f (by rw [h3]; exact u) ⟨hi, h2, br_f (by rw [h3, hc, bx_lt]; exact kf) ⟨h2, hi, br_f (by rw [h3, hc, bx_lt]; exact ke) ⟨hi, ?_⟩⟩⟩⟩
            rw [hc]
            refine br_f (fun z => kc (Or.inl z)) ⟨h2, hi, br_t ?_ (nm_r (nI_1 s) (c n (by omega) post hp))⟩
            rw [h3, bx_le]
            by_cases z : (a_resKey t).toInt < (ks s).toInt
            · exact absurd (Or.inr z) kc
            · omega
end
section
variable {tc fan lst cap pc : Nat} {L : Nat → List bk_Nd} {h root t : Nat} {g : Nat → Int} {f_threadCount f_fan f_capacity f_pace f_least f_spareTop f_root f_head f_records f_appliedTotal : Int32} {a_keys a_vals a_count a_level a_low a_high a_right a_spare a_path a_phaseOf a_kindOf a_firstOf a_secondOf a_leftOf a_outcomeOf a_resKey a_resValue a_countOf a_digestOf a_appliedAt a_latchesOf a_place a_unknown : Nat → Int32} {us ks vs : Nat → Int32}
theorem bk_scan (J : bk_J tc fan lst cap pc L h root g f_threadCount f_fan f_capacity f_pace f_least f_spareTop f_root f_head f_records f_appliedTotal a_keys a_vals a_count a_level a_low a_high a_right a_spare a_path a_phaseOf a_kindOf a_firstOf a_secondOf a_leftOf a_outcomeOf a_resKey a_resValue a_countOf a_digestOf a_appliedAt a_latchesOf a_place a_unknown us ks vs) (ht : t < tc) (hph : a_phaseOf t = 5) :
    bk_Ok tc (fun post => wpX_scanStep post (f_threadCount, f_fan, f_capacity, f_pace, f_least, f_spareTop, f_root, f_head, f_records, f_appliedTotal, a_keys, a_vals, a_count, a_level, a_low, a_high, a_right, a_spare, a_path, a_phaseOf, a_kindOf, a_firstOf, a_secondOf, a_leftOf, a_outcomeOf, a_resKey, a_resValue, a_countOf, a_digestOf, a_appliedAt, a_latchesOf, a_place, a_unknown) (nI t)) (fun post => wpY_step post (f_threadCount, f_fan, f_capacity, f_pace, f_appliedTotal, us, ks, vs, a_phaseOf, a_kindOf, a_firstOf, a_secondOf, a_leftOf, a_outcomeOf, a_resKey, a_resValue, a_countOf, a_digestOf, a_appliedAt, a_latchesOf) (nI t)) := by
  obtain ⟨rX, hX, wX⟩ := bx_next J ht hph
  have hso := bk_J_so J
  obtain ⟨C, hro, hrc, W, U, Pl, Pm, Th⟩ := J
  have h6 := C.2.1
  have ht6 : t < 6 := by omega
  have hi := bx_6 ht6
  have hc := bx_c6 ht6
  have T := W.1
  obtain ⟨b1, b2, b3, b4, b5, b6, b7, b8, b9, b10, b11⟩ := Th t ht
  have hun : a_unknown t < 0 := b9 (by rw [hph]; decide)
  obtain ⟨rY, hB, wB⟩ := by_scan_4 (f_threadCount := f_threadCount) (f_fan := f_fan) (f_capacity := f_capacity) (f_pace := f_pace) (f_appliedTotal := f_appliedTotal) (us := us) (ks := ks) (vs := vs) (a_phaseOf := a_phaseOf) (a_kindOf := a_kindOf) (a_firstOf := a_firstOf) (a_secondOf := a_secondOf) (a_leftOf := a_leftOf) (a_outcomeOf := a_outcomeOf) (a_resKey := a_resKey) (a_resValue := a_resValue) (a_countOf := a_countOf) (a_digestOf := a_digestOf) (a_appliedAt := a_appliedAt) (a_latchesOf := a_latchesOf) ht6 64 0 (-1) (by omega) (Or.inl ⟨rfl, fun q hq => absurd hq (by omega)⟩)
  have hYw : ∀ post : Int32 → SY → Prop, (∀ m, wY_scanStep_4 post (nI t) f_threadCount f_fan f_capacity f_pace f_appliedTotal us ks vs a_phaseOf a_kindOf a_firstOf a_secondOf a_leftOf a_outcomeOf a_resKey a_resValue a_countOf a_digestOf a_appliedAt a_latchesOf (m + 1) rY (nI 64)) → wpY_step post (f_threadCount, f_fan, f_capacity, f_pace, f_appliedTotal, us, ks, vs, a_phaseOf, a_kindOf, a_firstOf, a_secondOf, a_leftOf, a_outcomeOf, a_resKey, a_resValue, a_countOf, a_digestOf, a_appliedAt, a_latchesOf) (nI t) := by
    intro post hw
    unfold wpY_step
    rw [hc]
    refine by_badOk C.1 h6 ht (br_t rfl ⟨hi, nm_r (e' := 5) hph (br_f (by decide) (br_f (by decide) (br_f (by decide) (br_f (by decide) (br_f (by decide) ?_)))))⟩)
    exact ⟨65, wB 65 (by omega) _ hw⟩
  have hff : (∃ q s k v, q < 640 ∧ s < 64 ∧ rX = nI q ∧ rY = nI s ∧ a_keys q = ks s ∧ a_vals q = vs s ∧ bk_Sl L k v (nI q) ∧ (a_keys q).toInt = k ∧ bk_Qx (a_firstOf t) (a_secondOf t) (a_countOf t) (a_resKey t) k) ∨ (rX = -1 ∧ rY = -1) := by
    rcases hX with ⟨k, v, S, hQ, hmin⟩ | ⟨e, hn⟩
    · left
      obtain ⟨q, q1, rfl, q3, q4⟩ := bk_Sl_at T S
      obtain ⟨s, s1, s2, s3⟩ := (bk_Pm_mem Pm).mp (bk_Sl_mem S)
      injection s3 with s4 s5
      rcases hB with ⟨_, a2⟩ | ⟨s', a1, a2, ⟨a3, a4⟩, a5⟩
      · exact absurd ⟨s2, by rw [← s4]; exact hQ⟩ (a2 s s1)
      · have c1 := hmin ((ks s').toInt, vs s') ((bk_Pm_mem Pm).mpr ⟨s', a1, a3, rfl⟩) a4
        have c2 := a5 s s1 ⟨s2, by rw [← s4]; exact hQ⟩
        have c1 : k ≤ (ks s').toInt := c1
        have c2 : (ks s').toInt ≤ (ks s).toInt := c2
        have : s' = s := bk_Pm_uq Pm hso a1 s1 a3 s2 (Int32.toInt_inj.mp (by omega))
        subst this
        exact ⟨q, s', k, v, q1, s1, rfl, a2, Int32.toInt_inj.mp (by omega), by rw [q4, s5], S, q3, hQ⟩
    · right
      refine ⟨e, ?_⟩
      rcases hB with ⟨a1, _⟩ | ⟨s', a1, a2, ⟨a3, a4⟩, a5⟩
      · exact a1
      · exact absurd a4 (hn ((ks s').toInt, vs s') ((bk_Pm_mem Pm).mpr ⟨s', a1, a3, rfl⟩))
  rcases hff with ⟨q, s, k, v, q1, s1, rfl, rfl, e1, e2, S, hk, hQ⟩ | ⟨rfl, rfl⟩
  · obtain ⟨A, x, B, f1, f2, ex, hes, hr⟩ := S
    obtain ⟨t1, t2, t3⟩ := bk_T_at T (l := 0) (by omega) ex
    have hx80 := t1.1
    have hlen : x.2.2.2.length = f1.length + (f2.length + 1) := by rw [hes, List.length_append, List.length_cons]
    have hqe : q = 8 * x.1 + f1.length := bx_inj q1 (by omega) hr
    have hx3 : nI q >>> ((3 : Int32) &&& 31) = nI x.1 := by
      rw [hqe, pk_shrN (by omega) _ 3 (by decide)]
      exact congrArg nI (by omega)
    have hlo := (t1.2.2.1.2 (k, v) (by rw [hes]; simp)).1
    have hlo : x.2.1 ≤ (a_keys q).toInt := by rw [hk]; exact hlo
    have hPl : bk_Pl tc (upd a_place t (nI x.1)) (bk_gu g t (a_keys q).toInt) L h := bk_Pl_up Pl (Or.inr ⟨0, x, by omega, by rw [ex]; simp, hlo, rfl⟩)
    have hTq : ∀ cn' : Int32, cn' ≠ 0 → bk_Tq (a_phaseOf t) (a_kindOf t) (a_firstOf t) (a_secondOf t) (a_leftOf t) cn' (a_keys q) (a_latchesOf t) (a_unknown t) (a_keys q).toInt := fun cn' hcn' =>
      ⟨b1, b2, b3, fun z => absurd (hph.symm.trans z) (by decide), b5, b6, b7, fun _ _ => by rw [hk]; exact hQ.1, b9, fun z => absurd z (by rw [hph]; decide), fun _ => ⟨fun z => absurd z hcn', fun _ => Int.le_refl _⟩⟩
    by_cases hz : a_countOf t + 1 = 0
    · refine ⟨6, (f_threadCount, f_fan, f_capacity, f_pace, f_least, f_spareTop, f_root, f_head, f_records, f_appliedTotal, a_keys, a_vals, a_count, a_level, a_low, a_high, a_right, a_spare, a_path, a_phaseOf, a_kindOf, a_firstOf, a_secondOf, a_leftOf, upd a_outcomeOf t 2, upd a_resKey t (a_keys q), upd a_resValue t (a_vals q), upd (upd a_countOf t (a_countOf t + 1)) t 1, upd a_digestOf t ((a_digestOf t * 31 + a_keys q) * 31 + a_vals q), a_appliedAt, a_latchesOf, upd a_place t (nI x.1), a_unknown),
        (f_threadCount, f_fan, f_capacity, f_pace, f_appliedTotal, us, ks, vs, a_phaseOf, a_kindOf, a_firstOf, a_secondOf, a_leftOf, upd a_outcomeOf t 2, upd a_resKey t (a_keys q), upd a_resValue t (a_vals q), upd (upd a_countOf t (a_countOf t + 1)) t 1, upd a_digestOf t ((a_digestOf t * 31 + a_keys q) * 31 + a_vals q), a_appliedAt, a_latchesOf),
        bk_in ⟨fan, lst, cap, pc, L, h, root, bk_gu g t (a_keys q).toInt, C, hro, hrc, W, U, hPl, Pm, ?_⟩, fun post hpo => ?_, fun post hpo => hYw post (fun m => ?_)⟩
      · refine bk_Th_up (t := t) Th (fun q' _ e => ⟨rfl, rfl, rfl, rfl, rfl, by rw [pk_un e, pk_un e], pk_un e, rfl, bk_gu_n e, id⟩) (fun _ => ?_)
        rw [pk_us, pk_us, bk_gu_s]
        exact hTq 1 (by decide)
      · show wpX_scanStep post (f_threadCount, f_fan, f_capacity, f_pace, f_least, f_spareTop, f_root, f_head, f_records, f_appliedTotal, a_keys, a_vals, a_count, a_level, a_low, a_high, a_right, a_spare, a_path, a_phaseOf, a_kindOf, a_firstOf, a_secondOf, a_leftOf, a_outcomeOf, a_resKey, a_resValue, a_countOf, a_digestOf, a_appliedAt, a_latchesOf, a_place, a_unknown) (nI t)
        unfold wpX_scanStep
        rw [hc]
        refine wX _ (br_t (nI_pos' (by omega)) ⟨vp_in_nI q1 (by omega), nm_r (e' := a_keys q) (by rw [bx_cl q1]) ⟨vp_in_nI q1 (by omega), nm_r (e' := a_vals q) (by rw [bx_cl q1]) ⟨hi, nm_e ⟨hi, nm_e ⟨hi, nm_e ⟨hi, hi, nm_e ⟨hi, ?_⟩⟩⟩⟩⟩⟩⟩)
        rw [pk_us]
        refine br_t hz ⟨hi, nm_e ?_⟩
        unfold wX_scanStep_98
        rw [hc, hx3]
        exact And.intro hi (And.intro hi (nm_e ⟨hi, nm_e hpo⟩))
      · refine br_t (nI_le (a := 64) (by omega) (by omega)) (br_t (nI_pos' (by omega)) ⟨bk_64 s1, bk_64 s1, by_fin ht6 ⟨hi, hi, nm_e ⟨hi, ?_⟩⟩⟩)
        rw [hc, pk_us]
        refine br_t hz ⟨hi, nm_e ?_⟩
        unfold wY_scanStep_175
        rw [hc, bx_cl (n := s) (by omega), ← e1, ← e2]
        exact And.intro hi (And.intro (bk_64 s1) (And.intro (bk_64 s1) (And.intro hi (nm_e hpo))))
    · refine ⟨6, (f_threadCount, f_fan, f_capacity, f_pace, f_least, f_spareTop, f_root, f_head, f_records, f_appliedTotal, a_keys, a_vals, a_count, a_level, a_low, a_high, a_right, a_spare, a_path, a_phaseOf, a_kindOf, a_firstOf, a_secondOf, a_leftOf, upd a_outcomeOf t 2, upd a_resKey t (a_keys q), upd a_resValue t (a_vals q), upd a_countOf t (a_countOf t + 1), upd a_digestOf t ((a_digestOf t * 31 + a_keys q) * 31 + a_vals q), a_appliedAt, a_latchesOf, upd a_place t (nI x.1), a_unknown),
        (f_threadCount, f_fan, f_capacity, f_pace, f_appliedTotal, us, ks, vs, a_phaseOf, a_kindOf, a_firstOf, a_secondOf, a_leftOf, upd a_outcomeOf t 2, upd a_resKey t (a_keys q), upd a_resValue t (a_vals q), upd a_countOf t (a_countOf t + 1), upd a_digestOf t ((a_digestOf t * 31 + a_keys q) * 31 + a_vals q), a_appliedAt, a_latchesOf),
        bk_in ⟨fan, lst, cap, pc, L, h, root, bk_gu g t (a_keys q).toInt, C, hro, hrc, W, U, hPl, Pm, ?_⟩, fun post hpo => ?_, fun post hpo => hYw post (fun m => ?_)⟩
      · refine bk_Th_up (t := t) Th (fun q' _ e => ⟨rfl, rfl, rfl, rfl, rfl, pk_un e, pk_un e, rfl, bk_gu_n e, id⟩) (fun _ => ?_)
        rw [pk_us, pk_us, bk_gu_s]
        exact hTq _ hz
      · show wpX_scanStep post (f_threadCount, f_fan, f_capacity, f_pace, f_least, f_spareTop, f_root, f_head, f_records, f_appliedTotal, a_keys, a_vals, a_count, a_level, a_low, a_high, a_right, a_spare, a_path, a_phaseOf, a_kindOf, a_firstOf, a_secondOf, a_leftOf, a_outcomeOf, a_resKey, a_resValue, a_countOf, a_digestOf, a_appliedAt, a_latchesOf, a_place, a_unknown) (nI t)
        unfold wpX_scanStep
        rw [hc]
        refine wX _ (br_t (nI_pos' (by omega)) ⟨vp_in_nI q1 (by omega), nm_r (e' := a_keys q) (by rw [bx_cl q1]) ⟨vp_in_nI q1 (by omega), nm_r (e' := a_vals q) (by rw [bx_cl q1]) ⟨hi, nm_e ⟨hi, nm_e ⟨hi, nm_e ⟨hi, hi, nm_e ⟨hi, ?_⟩⟩⟩⟩⟩⟩⟩)
        rw [pk_us]
        refine br_f hz ?_
        unfold wX_scanStep_98
        rw [hc, hx3]
        exact And.intro hi (And.intro hi (nm_e ⟨hi, nm_e hpo⟩))
      · refine br_t (nI_le (a := 64) (by omega) (by omega)) (br_t (nI_pos' (by omega)) ⟨bk_64 s1, bk_64 s1, by_fin ht6 ⟨hi, hi, nm_e ⟨hi, ?_⟩⟩⟩)
        rw [hc, pk_us]
        refine br_f hz ?_
        unfold wY_scanStep_175
        rw [hc, bx_cl (n := s) (by omega), ← e1, ← e2]
        exact And.intro hi (And.intro (bk_64 s1) (And.intro (bk_64 s1) (And.intro hi (nm_e hpo))))
  · have hTh : ∀ oc' : Nat → Int32, bk_Th tc g (upd a_phaseOf t 0) a_kindOf a_firstOf a_secondOf a_leftOf a_countOf a_resKey a_latchesOf a_unknown := fun _ => by
      refine bk_Th_up (t := t) Th (fun q' _ e => ⟨pk_un e, rfl, rfl, rfl, rfl, rfl, rfl, rfl, rfl, id⟩) (fun _ => ?_)
      rw [pk_us]
      exact bk_Tq_idle b1 hun
    by_cases ho : a_outcomeOf t = 1
    · refine ⟨7, (f_threadCount, f_fan, f_capacity, f_pace, f_least, f_spareTop, f_root, f_head, f_records, f_appliedTotal, a_keys, a_vals, a_count, a_level, a_low, a_high, a_right, a_spare, a_path, upd a_phaseOf t 0, a_kindOf, a_firstOf, a_secondOf, a_leftOf, upd a_outcomeOf t 3, a_resKey, a_resValue, a_countOf, a_digestOf, a_appliedAt, a_latchesOf, upd a_place t (-1), a_unknown), (f_threadCount, f_fan, f_capacity, f_pace, f_appliedTotal, us, ks, vs, upd a_phaseOf t 0, a_kindOf, a_firstOf, a_secondOf, a_leftOf, upd a_outcomeOf t 3, a_resKey, a_resValue, a_countOf, a_digestOf, a_appliedAt, a_latchesOf), bk_in ⟨fan, lst, cap, pc, L, h, root, g, C, hro, hrc, W, U, bk_Pl_neg Pl, Pm, hTh a_outcomeOf⟩, fun post hpo => ?_, fun post hpo => hYw post (fun m => ?_)⟩
      · show wpX_scanStep post (f_threadCount, f_fan, f_capacity, f_pace, f_least, f_spareTop, f_root, f_head, f_records, f_appliedTotal, a_keys, a_vals, a_count, a_level, a_low, a_high, a_right, a_spare, a_path, a_phaseOf, a_kindOf, a_firstOf, a_secondOf, a_leftOf, a_outcomeOf, a_resKey, a_resValue, a_countOf, a_digestOf, a_appliedAt, a_latchesOf, a_place, a_unknown) (nI t)
        unfold wpX_scanStep
        rw [hc]
        refine wX _ (br_f (by decide) ⟨hi, br_t ho ⟨hi, nm_e ?_⟩⟩)
        unfold wX_scanStep_27 wpX_retire
        rw [hc]
        exact And.intro hi (nm_e ⟨hi, nm_e hpo⟩)
      · refine br_t (nI_le (a := 64) (by omega) (by omega)) (br_f (by decide) ⟨hi, ?_⟩)
        rw [hc]
        exact br_t ho ⟨hi, nm_e ⟨hi, nm_e hpo⟩⟩
    · refine ⟨7, (f_threadCount, f_fan, f_capacity, f_pace, f_least, f_spareTop, f_root, f_head, f_records, f_appliedTotal, a_keys, a_vals, a_count, a_level, a_low, a_high, a_right, a_spare, a_path, upd a_phaseOf t 0, a_kindOf, a_firstOf, a_secondOf, a_leftOf, a_outcomeOf, a_resKey, a_resValue, a_countOf, a_digestOf, a_appliedAt, a_latchesOf, upd a_place t (-1), a_unknown), (f_threadCount, f_fan, f_capacity, f_pace, f_appliedTotal, us, ks, vs, upd a_phaseOf t 0, a_kindOf, a_firstOf, a_secondOf, a_leftOf, a_outcomeOf, a_resKey, a_resValue, a_countOf, a_digestOf, a_appliedAt, a_latchesOf), bk_in ⟨fan, lst, cap, pc, L, h, root, g, C, hro, hrc, W, U, bk_Pl_neg Pl, Pm, hTh a_outcomeOf⟩, fun post hpo => ?_, fun post hpo => hYw post (fun m => ?_)⟩
      · show wpX_scanStep post (f_threadCount, f_fan, f_capacity, f_pace, f_least, f_spareTop, f_root, f_head, f_records, f_appliedTotal, a_keys, a_vals, a_count, a_level, a_low, a_high, a_right, a_spare, a_path, a_phaseOf, a_kindOf, a_firstOf, a_secondOf, a_leftOf, a_outcomeOf, a_resKey, a_resValue, a_countOf, a_digestOf, a_appliedAt, a_latchesOf, a_place, a_unknown) (nI t)
        unfold wpX_scanStep
        rw [hc]
        refine wX _ (br_f (by decide) ⟨hi, br_f ho ?_⟩)
        unfold wX_scanStep_27 wpX_retire
        rw [hc]
        exact And.intro hi (nm_e ⟨hi, nm_e hpo⟩)
      · refine br_t (nI_le (a := 64) (by omega) (by omega)) (br_f (by decide) ⟨hi, ?_⟩)
        rw [hc]
        exact br_f ho ⟨hi, nm_e hpo⟩
theorem bk_adv (J : bk_J tc fan lst cap pc L h root g f_threadCount f_fan f_capacity f_pace f_least f_spareTop f_root f_head f_records f_appliedTotal a_keys a_vals a_count a_level a_low a_high a_right a_spare a_path a_phaseOf a_kindOf a_firstOf a_secondOf a_leftOf a_outcomeOf a_resKey a_resValue a_countOf a_digestOf a_appliedAt a_latchesOf a_place a_unknown us ks vs) (ht : t < tc) :
    bk_Ok tc (fun post => wpX_advance post (f_threadCount, f_fan, f_capacity, f_pace, f_least, f_spareTop, f_root, f_head, f_records, f_appliedTotal, a_keys, a_vals, a_count, a_level, a_low, a_high, a_right, a_spare, a_path, a_phaseOf, a_kindOf, a_firstOf, a_secondOf, a_leftOf, a_outcomeOf, a_resKey, a_resValue, a_countOf, a_digestOf, a_appliedAt, a_latchesOf, a_place, a_unknown) (nI t)) (fun post => wpY_step post (f_threadCount, f_fan, f_capacity, f_pace, f_appliedTotal, us, ks, vs, a_phaseOf, a_kindOf, a_firstOf, a_secondOf, a_leftOf, a_outcomeOf, a_resKey, a_resValue, a_countOf, a_digestOf, a_appliedAt, a_latchesOf) (nI t)) := by
  have C := J.1
  have h6 := C.2.1
  have ht6 : t < 6 := by omega
  have hi := bx_6 ht6
  have hc := bx_c6 ht6
  have b2 : a_phaseOf t = 0 ∨ a_phaseOf t = 1 ∨ a_phaseOf t = 2 ∨ a_phaseOf t = 3 ∨ a_phaseOf t = 4 ∨ a_phaseOf t = 5 := by
    obtain ⟨_, _, _, _, _, _, _, Th⟩ := J
    exact (Th t ht).2.1
  rcases b2 with hp | hp | hp | hp | hp | hp
  · refine ⟨1, (f_threadCount, f_fan, f_capacity, f_pace, f_least, f_spareTop, f_root, f_head, f_records, f_appliedTotal, a_keys, a_vals, a_count, a_level, a_low, a_high, a_right, a_spare, a_path, a_phaseOf, a_kindOf, a_firstOf, a_secondOf, a_leftOf, a_outcomeOf, a_resKey, a_resValue, a_countOf, a_digestOf, a_appliedAt, a_latchesOf, a_place, a_unknown), (f_threadCount, f_fan, f_capacity, f_pace, f_appliedTotal, us, ks, vs, a_phaseOf, a_kindOf, a_firstOf, a_secondOf, a_leftOf, a_outcomeOf, a_resKey, a_resValue, a_countOf, a_digestOf, a_appliedAt, a_latchesOf), bk_in ⟨fan, lst, cap, pc, L, h, root, g, J⟩, fun post hpo => ?_, fun post hpo => ?_⟩
    · show wpX_advance post (f_threadCount, f_fan, f_capacity, f_pace, f_least, f_spareTop, f_root, f_head, f_records, f_appliedTotal, a_keys, a_vals, a_count, a_level, a_low, a_high, a_right, a_spare, a_path, a_phaseOf, a_kindOf, a_firstOf, a_secondOf, a_leftOf, a_outcomeOf, a_resKey, a_resValue, a_countOf, a_digestOf, a_appliedAt, a_latchesOf, a_place, a_unknown) (nI t)
      unfold wpX_advance
      rw [hc]
      exact And.intro hi (nm_r (e' := 0) hp (br_t (by decide) hpo))
    · show wpY_step post (f_threadCount, f_fan, f_capacity, f_pace, f_appliedTotal, us, ks, vs, a_phaseOf, a_kindOf, a_firstOf, a_secondOf, a_leftOf, a_outcomeOf, a_resKey, a_resValue, a_countOf, a_digestOf, a_appliedAt, a_latchesOf) (nI t)
      unfold wpY_step
      rw [hc]
      exact by_badOk C.1 h6 ht (br_t rfl ⟨hi, nm_r (e' := 0) hp (br_t rfl hpo)⟩)
  · obtain ⟨r, u', v', a, b, c⟩ := bk_travel J ht hp
    refine ⟨r, u', v', a, fun post hpo => ?_, c⟩
    show wpX_advance post (f_threadCount, f_fan, f_capacity, f_pace, f_least, f_spareTop, f_root, f_head, f_records, f_appliedTotal, a_keys, a_vals, a_count, a_level, a_low, a_high, a_right, a_spare, a_path, a_phaseOf, a_kindOf, a_firstOf, a_secondOf, a_leftOf, a_outcomeOf, a_resKey, a_resValue, a_countOf, a_digestOf, a_appliedAt, a_latchesOf, a_place, a_unknown) (nI t)
    unfold wpX_advance
    rw [hc]
    exact And.intro hi (nm_r (e' := 1) hp (br_f (by decide) (br_f (by decide) (br_t rfl (b _ hpo)))))
  · obtain ⟨r, u', v', a, b, c⟩ := bk_latch J ht hp
    refine ⟨r, u', v', a, fun post hpo => ?_, c⟩
    show wpX_advance post (f_threadCount, f_fan, f_capacity, f_pace, f_least, f_spareTop, f_root, f_head, f_records, f_appliedTotal, a_keys, a_vals, a_count, a_level, a_low, a_high, a_right, a_spare, a_path, a_phaseOf, a_kindOf, a_firstOf, a_secondOf, a_leftOf, a_outcomeOf, a_resKey, a_resValue, a_countOf, a_digestOf, a_appliedAt, a_latchesOf, a_place, a_unknown) (nI t)
    unfold wpX_advance
    rw [hc]
    exact And.intro hi (nm_r (e' := 2) hp (br_f (by decide) (br_f (by decide) (br_f (by decide) (br_t rfl (b _ hpo))))))
  · obtain ⟨r, u', v', a, b, c⟩ := bk_apply J ht hp
    refine ⟨r, u', v', a, fun post hpo => ?_, c⟩
    show wpX_advance post (f_threadCount, f_fan, f_capacity, f_pace, f_least, f_spareTop, f_root, f_head, f_records, f_appliedTotal, a_keys, a_vals, a_count, a_level, a_low, a_high, a_right, a_spare, a_path, a_phaseOf, a_kindOf, a_firstOf, a_secondOf, a_leftOf, a_outcomeOf, a_resKey, a_resValue, a_countOf, a_digestOf, a_appliedAt, a_latchesOf, a_place, a_unknown) (nI t)
    unfold wpX_advance
    rw [hc]
    exact And.intro hi (nm_r (e' := 3) hp (br_f (by decide) (br_f (by decide) (br_f (by decide) (br_f (by decide) (br_t rfl (b _ hpo)))))))
  · obtain ⟨r, u', v', a, b, c⟩ := bk_trail J ht hp
    refine ⟨r, u', v', a, fun post hpo => ?_, c⟩
    show wpX_advance post (f_threadCount, f_fan, f_capacity, f_pace, f_least, f_spareTop, f_root, f_head, f_records, f_appliedTotal, a_keys, a_vals, a_count, a_level, a_low, a_high, a_right, a_spare, a_path, a_phaseOf, a_kindOf, a_firstOf, a_secondOf, a_leftOf, a_outcomeOf, a_resKey, a_resValue, a_countOf, a_digestOf, a_appliedAt, a_latchesOf, a_place, a_unknown) (nI t)
    unfold wpX_advance
    rw [hc]
    exact And.intro hi (nm_r (e' := 4) hp (br_f (by decide) (br_f (by decide) (br_f (by decide) (br_f (by decide) (br_f (by decide) (br_t rfl (b _ hpo))))))))
  · obtain ⟨r, u', v', a, b, c⟩ := bk_scan J ht hp
    refine ⟨r, u', v', a, fun post hpo => ?_, c⟩
    show wpX_advance post (f_threadCount, f_fan, f_capacity, f_pace, f_least, f_spareTop, f_root, f_head, f_records, f_appliedTotal, a_keys, a_vals, a_count, a_level, a_low, a_high, a_right, a_spare, a_path, a_phaseOf, a_kindOf, a_firstOf, a_secondOf, a_leftOf, a_outcomeOf, a_resKey, a_resValue, a_countOf, a_digestOf, a_appliedAt, a_latchesOf, a_place, a_unknown) (nI t)
    unfold wpX_advance
    rw [hc]
    exact And.intro hi (nm_r (e' := 5) hp (br_f (by decide) (br_f (by decide) (br_f (by decide) (br_f (by decide) (br_f (by decide) (br_f (by decide) (br_t rfl (b _ hpo)))))))))
end
end
section
/-! ===== 33: begin, step, run, round, cancel ===== -/
theorem bk_advR {tc t : Nat} {u : SX} {v : SY} (I : bk_Rel tc u v) (ht : t < tc) : bk_Ok tc (fun post => wpX_advance post u (nI t)) (fun post => wpY_step post v (nI t)) := by
  refine bk_el (P := fun u v => bk_Ok tc (fun post => wpX_advance post u (nI t)) (fun post => wpY_step post v (nI t))) ?_ I
  intro f_threadCount f_fan f_capacity f_pace f_least f_spareTop f_root f_head f_records f_appliedTotal a_keys a_vals a_count a_level a_low a_high a_right a_spare a_path a_phaseOf a_kindOf a_firstOf a_secondOf a_leftOf a_outcomeOf a_resKey a_resValue a_countOf a_digestOf a_appliedAt a_latchesOf a_place a_unknown us ks vs hR
  obtain ⟨fan, lst, cap, pc, L, h, root, g, J⟩ := hR
  exact bk_adv J ht
theorem i_vc_step {k : Nat} {u : SX} {v : SY} (I : i_Rel k u v) (hk : k + 5 ≤ 2564) (v1 : Int32) : wpX_step (fun r u' => wpY_step (fun r' v' => r' = r ∧ i_Rel (k + 5) u' v') v v1) u v1 := by
  obtain ⟨tc, I⟩ := I
  refine bk_el (P := fun u v => wpX_step (fun r u' => wpY_step (fun r' v' => r' = r ∧ i_Rel (k + 5) u' v') v v1) u v1) ?_ I
  intro f_threadCount f_fan f_capacity f_pace f_least f_spareTop f_root f_head f_records f_appliedTotal a_keys a_vals a_count a_level a_low a_high a_right a_spare a_path a_phaseOf a_kindOf a_firstOf a_secondOf a_leftOf a_outcomeOf a_resKey a_resValue a_countOf a_digestOf a_appliedAt a_latchesOf a_place a_unknown us ks vs hR
  have hI := bk_in hR
  obtain ⟨fan, lst, cap, pc, L, h, root, g, J⟩ := hR
  unfold wpX_step
  rcases bk_bad J.1.1 J.1.2.1 v1 with ⟨t, ht, rfl, bX, bY⟩ | ⟨bX, bY⟩
  · exact bX _ (br_t rfl (bk_Ok_vc (bk_adv J ht)))
  · refine bX _ (br_f (by decide) ?_)
    unfold wpY_step
    exact bY _ (br_f (by decide) ⟨rfl, tc, hI⟩)
theorem i_vc_cancel {k : Nat} {u : SX} {v : SY} (I : i_Rel k u v) (hk : k + 5 ≤ 2564) (v1 : Int32) : wpX_cancel (fun r u' => wpY_cancel (fun r' v' => r' = r ∧ i_Rel (k + 5) u' v') v v1) u v1 := by
  obtain ⟨tc, I⟩ := I
  refine bk_el (P := fun u v => wpX_cancel (fun r u' => wpY_cancel (fun r' v' => r' = r ∧ i_Rel (k + 5) u' v') v v1) u v1) ?_ I
  intro f_threadCount f_fan f_capacity f_pace f_least f_spareTop f_root f_head f_records f_appliedTotal a_keys a_vals a_count a_level a_low a_high a_right a_spare a_path a_phaseOf a_kindOf a_firstOf a_secondOf a_leftOf a_outcomeOf a_resKey a_resValue a_countOf a_digestOf a_appliedAt a_latchesOf a_place a_unknown us ks vs hR
  have hI := bk_in hR
  obtain ⟨fan, lst, cap, pc, L, h, root, g, C, hro, hrc, W, U, Pl, Pm, Th⟩ := hR
  unfold wpX_cancel wpY_cancel
  rcases bk_bad C.1 C.2.1 v1 with ⟨t, ht, rfl, bX, bY⟩ | ⟨bX, bY⟩
  · have ht6 : t < 6 := by have := C.2.1; omega
    have hi := bx_6 ht6
    have hc := bx_c6 ht6
    refine bX _ (br_t rfl ⟨hi, ?_⟩)
    rw [hc]
    by_cases p0 : a_phaseOf t = 0
    · exact br_t p0 (bY _ (br_t rfl ⟨hi, br_t p0 ⟨rfl, tc, hI⟩⟩))
    · by_cases p4 : a_phaseOf t = 4
      · exact br_f p0 ⟨hi, br_t p4 (bY _ (br_t rfl ⟨hi, br_f p0 ⟨hi, br_t p4 ⟨rfl, tc, hI⟩⟩⟩))⟩
      · refine br_f p0 ⟨hi, br_f p4 ⟨hi, nm_e ⟨hi, nm_e ⟨hi, nm_e ?_⟩⟩⟩⟩
        unfold wpX_retire
        rw [hc]
        refine And.intro hi (nm_e ⟨hi, nm_e (bY _ (br_t rfl ⟨hi, br_f p0 ⟨hi, br_f p4 ⟨hi, nm_e ⟨hi, nm_e ⟨hi, nm_e ⟨hi, nm_e ⟨rfl, tc, bk_in ⟨fan, lst, cap, pc, L, h, root, g, C, hro, hrc, W, U, bk_Pl_neg Pl, Pm, ?_⟩⟩⟩⟩⟩⟩⟩⟩))⟩)
        refine bk_Th_up (t := t) Th (fun q _ e => ⟨pk_un e, rfl, rfl, rfl, pk_un e, rfl, rfl, pk_un e, rfl, id⟩) (fun _ => ?_)
        rw [pk_us, pk_us]
        exact bk_Tq_idle ⟨0, by omega, by rw [pk_us]; rfl⟩ ((Th t ht).2.2.2.2.2.2.2.2.1 p4)
  · exact bX _ (br_f (by decide) (bY _ (br_f (by decide) ⟨rfl, tc, hI⟩)))
theorem i_vc_begin {k : Nat} {u : SX} {v : SY} (I : i_Rel k u v) (hk : k + 5 ≤ 2564) (v1 : Int32) (v2 : Int32) (v3 : Int32) (v4 : Int32) : wpX_begin (fun r u' => wpY_begin (fun r' v' => r' = r ∧ i_Rel (k + 5) u' v') v v1 v2 v3 v4) u v1 v2 v3 v4 := by
  obtain ⟨tc, I⟩ := I
  refine bk_el (P := fun u v => wpX_begin (fun r u' => wpY_begin (fun r' v' => r' = r ∧ i_Rel (k + 5) u' v') v v1 v2 v3 v4) u v1 v2 v3 v4) ?_ I
  intro f_threadCount f_fan f_capacity f_pace f_least f_spareTop f_root f_head f_records f_appliedTotal a_keys a_vals a_count a_level a_low a_high a_right a_spare a_path a_phaseOf a_kindOf a_firstOf a_secondOf a_leftOf a_outcomeOf a_resKey a_resValue a_countOf a_digestOf a_appliedAt a_latchesOf a_place a_unknown us ks vs hR
  have hI := bk_in hR
  obtain ⟨fan, lst, cap, pc, L, h, root, g, C, hro, hrc, W, U, Pl, Pm, Th⟩ := hR
  unfold wpX_begin wpY_begin
  rcases bk_bad C.1 C.2.1 v1 with ⟨t, ht, rfl, bX, bY⟩ | ⟨bX, bY⟩
  · have ht6 : t < 6 := by have := C.2.1; omega
    have hi := bx_6 ht6
    have hc := bx_c6 ht6
    refine bX _ (br_t rfl ?_)
    rw [hc]
    by_cases k1 : v2 < 1
    · exact br_t k1 (bY _ (br_t rfl (br_t k1 ⟨rfl, tc, hI⟩)))
    · by_cases k8 : v2 ≤ 8
      · by_cases p0 : a_phaseOf t = 0
        · -- the thread begins
          obtain ⟨kd, hkd1, hkd8, hkd⟩ : ∃ m, 1 ≤ m ∧ m ≤ 8 ∧ v2 = nI m := by
            have e1 : (1 : Int32).toInt = 1 := by decide
            obtain ⟨m, hm, rfl⟩ := nI_of2 (x := v2) (M := 8) (n := 8) (by decide) (fun z => k1 (by rw [bx_lt] at z ⊢; rw [bx_z] at z; omega)) k8
            refine ⟨m, ?_, hm, rfl⟩
            by_cases z : 1 ≤ m
            · exact z
            · exact absurd (nI_lt (a := m) (b := 1) (by omega) (by decide)) k1
          obtain ⟨p, hp, pX, pY⟩ := bk_pat v2 hkd1 hkd8 hkd
          have hun : a_unknown t < 0 := (Th t ht).2.2.2.2.2.2.2.2.1 (by rw [p0]; decide)
          obtain ⟨xr, xs, er, hr1, hr2⟩ := W.1.1.2.2.1
          obtain ⟨xr', xs', er', hr3, hr4⟩ := (W.1.1.1 h (Nat.le_refl _)).2.1
          have hxr : xr' = xr := by rw [er] at er'; injection er' with a b; exact a.symm
          subst hxr
          have hPl : bk_Pl tc (upd a_place t f_root) (bk_gu g t (-2147483648)) L h := bk_Pl_up Pl (Or.inr ⟨h, xr', Nat.le_refl _, by rw [er]; simp, by rw [hr3]; exact Int.le_refl _, by rw [hro, hr1]⟩)
          have hlo := v3.le_toInt
          have hpc := C.2.2.2.2.2.2.1
          have hpc6 := C.2.2.2.2.2.2.2.1
          by_cases hz : f_pace = 0
          · refine br_f k1 (br_t k8 ⟨hi, br_t p0 ⟨hi, nm_e ⟨hi, nm_e ⟨hi, nm_e ⟨hi, nm_e ⟨hi, nm_e ⟨hi, nm_e ⟨hi, nm_e ⟨hi, nm_e ⟨hi, nm_e ⟨hi, nm_e ⟨hi, nm_e ⟨hi, nm_e (br_t (by rw [hz]; decide) (pX _ _ ⟨hi, nm_e ?_⟩))⟩⟩⟩⟩⟩⟩⟩⟩⟩⟩⟩⟩⟩)
            refine bY _ (br_t rfl (br_f k1 (br_t k8 ⟨hi, br_t p0 ⟨hi, nm_e ⟨hi, nm_e ⟨hi, nm_e ⟨hi, nm_e ⟨hi, nm_e ⟨hi, nm_e ⟨hi, nm_e ⟨hi, nm_e ⟨hi, nm_e ⟨hi, nm_e ⟨hi, nm_e ⟨hi, nm_e (br_t hz (pY _ _ ⟨hi, nm_r bk_upd2 ⟨rfl, tc, bk_in ⟨fan, lst, cap, pc, L, h, root, bk_gu g t (-2147483648), C, hro, hrc, W, U, hPl, Pm, ?_⟩⟩⟩))⟩⟩⟩⟩⟩⟩⟩⟩⟩⟩⟩⟩⟩)))
            refine bk_Th_up (t := t) Th (fun q _ e => ⟨pk_un e, pk_un e, pk_un e, pk_un e, pk_un e, pk_un e, pk_un e, pk_un e, bk_gu_n e, id⟩) (fun _ => ?_)
            rw [pk_us, pk_us, pk_us, pk_us, pk_us, pk_us, pk_us, pk_us, bk_gu_s]
            rcases hp with ⟨c1, rfl⟩ | ⟨c1, rfl⟩ | ⟨c1, rfl⟩
            · exact ⟨⟨0, by omega, rfl⟩, by decide, fun _ => ⟨kd, hkd1, hkd8, hkd⟩, fun z => absurd z (by decide), fun z => absurd z (by decide), fun z => absurd z (by decide), fun z => absurd z (by decide), fun _ z => absurd rfl z, fun _ => hun, fun z => absurd z (by decide), fun _ => ⟨fun _ => hlo, fun z => absurd rfl z⟩⟩
            · exact ⟨⟨0, by omega, rfl⟩, by decide, fun _ => ⟨kd, hkd1, hkd8, hkd⟩, fun z => absurd z (by decide), fun z => absurd z (by decide), fun _ => c1, fun z => absurd z (by decide), fun z => absurd z (by decide), fun _ => hun, fun _ => hlo, fun z => absurd z (by decide)⟩
            · exact ⟨⟨0, by omega, rfl⟩, by decide, fun _ => ⟨kd, hkd1, hkd8, hkd⟩, fun z => absurd z (by decide), fun _ => ⟨c1, Or.inl rfl⟩, fun z => absurd z (by decide), fun z => absurd z (by decide), fun z => absurd z (by decide), fun _ => hun, fun _ => hlo, fun z => absurd z (by decide)⟩
          · have hnz : ¬ f_pace ≤ 0 := by
              rw [hpc]
              refine nI_nle ?_ (by omega)
              by_cases z : pc = 0
              · exact absurd (by rw [hpc, z]; rfl) hz
              · omega
            refine br_f k1 (br_t k8 ⟨hi, br_t p0 ⟨hi, nm_e ⟨hi, nm_e ⟨hi, nm_e ⟨hi, nm_e ⟨hi, nm_e ⟨hi, nm_e ⟨hi, nm_e ⟨hi, nm_e ⟨hi, nm_e ⟨hi, nm_e ⟨hi, nm_e ⟨hi, nm_e (br_f hnz ⟨hi, nm_e ?_⟩)⟩⟩⟩⟩⟩⟩⟩⟩⟩⟩⟩⟩⟩)
            refine bY _ (br_t rfl (br_f k1 (br_t k8 ⟨hi, br_t p0 ⟨hi, nm_e ⟨hi, nm_e ⟨hi, nm_e ⟨hi, nm_e ⟨hi, nm_e ⟨hi, nm_e ⟨hi, nm_e ⟨hi, nm_e ⟨hi, nm_e ⟨hi, nm_e ⟨hi, nm_e ⟨hi, nm_e (br_f hz ⟨rfl, tc, bk_in ⟨fan, lst, cap, pc, L, h, root, bk_gu g t (-2147483648), C, hro, hrc, W, U, hPl, Pm, ?_⟩⟩)⟩⟩⟩⟩⟩⟩⟩⟩⟩⟩⟩⟩⟩)))
            refine bk_Th_up (t := t) Th (fun q _ e => ⟨pk_un e, pk_un e, pk_un e, pk_un e, pk_un e, pk_un e, pk_un e, pk_un e, bk_gu_n e, id⟩) (fun _ => ?_)
            rw [pk_us, pk_us, pk_us, pk_us, pk_us, pk_us, pk_us, pk_us, bk_gu_s]
            exact ⟨⟨0, by omega, rfl⟩, by decide, fun _ => ⟨kd, hkd1, hkd8, hkd⟩, fun _ => ⟨rfl, rfl⟩, fun z => absurd z (by decide), fun z => absurd z (by decide), fun z => absurd z (by decide), fun z => absurd z (by decide), fun _ => hun, fun _ => hlo, fun z => absurd z (by decide)⟩
        · exact br_f k1 (br_t k8 ⟨hi, br_f p0 (bY _ (br_t rfl (br_f k1 (br_t k8 ⟨hi, br_f p0 ⟨rfl, tc, hI⟩⟩))))⟩)
      · exact br_f k1 (br_f k8 (bY _ (br_t rfl (br_f k1 (br_f k8 ⟨rfl, tc, hI⟩)))))
  · exact bX _ (br_f (by decide) (bY _ (br_f (by decide) ⟨rfl, tc, hI⟩)))
end
section
/-! ===== 34: run and round ===== -/
theorem bk_clamp (v : Int32) {mx : Nat} {M : Int32} (hM : M = nI mx) (hx : mx ≤ 64) :
    ∃ N, N ≤ mx ∧ (∀ (u : SX) (post : Int32 → Prop), post (nI N) → wpX_clamp post u v 0 M) ∧ (∀ i, i < N → ¬ v ≤ nI i) ∧ (N = mx ∨ v ≤ nI N) := by
  subst hM
  by_cases h0 : 0 ≤ v
  · by_cases h1 : v ≤ nI mx
    · obtain ⟨N, hN, rfl⟩ := nI_of2 (x := v) (M := nI mx) (n := mx) (nI_toInt (by omega)) (Int32.not_lt.mpr h0) h1
      exact ⟨N, hN, fun u post hp => br_t h0 (br_t h1 hp), fun i hi => nI_ge hi (by omega), Or.inr (nI_le (Nat.le_refl _) (by omega))⟩
    · refine ⟨mx, Nat.le_refl _, fun u post hp => br_t h0 (br_f h1 hp), fun i hi hc => h1 ?_, Or.inl rfl⟩
      have h3 := nI_le (a := i) (b := mx) (by omega) (by omega)
      rw [bx_le] at hc h3 ⊢
      omega
  · refine ⟨0, by omega, fun u post hp => br_f h0 hp, fun i hi => absurd hi (by omega), Or.inr ?_⟩
    rw [bx_le, bx_z] at h0
    rw [nI_0, bx_le, bx_z]
    omega
theorem bk_run_36 {tc t N : Nat} {steps : Int32} (ht : t < tc) (h32 : N ≤ 32) (hs : ∀ i, i < N → ¬ steps ≤ nI i) (hN : N = 32 ∨ steps ≤ nI N) :
    ∀ d i, i + d = N → ∀ (f_threadCount f_fan f_capacity f_pace f_least f_spareTop f_root f_head f_records f_appliedTotal : Int32) (a_keys a_vals a_count a_level a_low a_high a_right a_spare a_path a_phaseOf a_kindOf a_firstOf a_secondOf a_leftOf a_outcomeOf a_resKey a_resValue a_countOf a_digestOf a_appliedAt a_latchesOf a_place a_unknown us ks vs : Nat → Int32), bk_R tc f_threadCount f_fan f_capacity f_pace f_least f_spareTop f_root f_head f_records f_appliedTotal a_keys a_vals a_count a_level a_low a_high a_right a_spare a_path a_phaseOf a_kindOf a_firstOf a_secondOf a_leftOf a_outcomeOf a_resKey a_resValue a_countOf a_digestOf a_appliedAt a_latchesOf a_place a_unknown us ks vs → ∀ ans : Int32, ∃ r u' v', bk_Rel tc u' v' ∧
      (∀ n, d < n → ∀ post : Int32 → SX → Prop, post r u' → wX_run_36 post (nI t) (nI N) n ans (nI i) f_threadCount f_fan f_capacity f_pace f_least f_spareTop f_root f_head f_records f_appliedTotal a_keys a_vals a_count a_level a_low a_high a_right a_spare a_path a_phaseOf a_kindOf a_firstOf a_secondOf a_leftOf a_outcomeOf a_resKey a_resValue a_countOf a_digestOf a_appliedAt a_latchesOf a_place a_unknown) ∧
      (∀ n, d < n → ∀ post : Int32 → SY → Prop, post r v' → wY_run_26 post (nI t) steps n ans (nI i) f_threadCount f_fan f_capacity f_pace f_appliedTotal us ks vs a_phaseOf a_kindOf a_firstOf a_secondOf a_leftOf a_outcomeOf a_resKey a_resValue a_countOf a_digestOf a_appliedAt a_latchesOf) := by
  intro d
  induction d with
  | zero =>
    intro i hi f_threadCount f_fan f_capacity f_pace f_least f_spareTop f_root f_head f_records f_appliedTotal a_keys a_vals a_count a_level a_low a_high a_right a_spare a_path a_phaseOf a_kindOf a_firstOf a_secondOf a_leftOf a_outcomeOf a_resKey a_resValue a_countOf a_digestOf a_appliedAt a_latchesOf a_place a_unknown us ks vs hR ans
    have : i = N := by omega
    subst this
    refine ⟨ans, (f_threadCount, f_fan, f_capacity, f_pace, f_least, f_spareTop, f_root, f_head, f_records, f_appliedTotal, a_keys, a_vals, a_count, a_level, a_low, a_high, a_right, a_spare, a_path, a_phaseOf, a_kindOf, a_firstOf, a_secondOf, a_leftOf, a_outcomeOf, a_resKey, a_resValue, a_countOf, a_digestOf, a_appliedAt, a_latchesOf, a_place, a_unknown), (f_threadCount, f_fan, f_capacity, f_pace, f_appliedTotal, us, ks, vs, a_phaseOf, a_kindOf, a_firstOf, a_secondOf, a_leftOf, a_outcomeOf, a_resKey, a_resValue, a_countOf, a_digestOf, a_appliedAt, a_latchesOf), bk_in hR, fun n hn post hp => ?_, fun n hn post hp => ?_⟩
    · obtain ⟨n, rfl⟩ : ∃ m, n = m + 1 := ⟨n - 1, by omega⟩
      exact br_t (nI_le (Nat.le_refl _) (by omega)) hp
    · obtain ⟨n, rfl⟩ : ∃ m, n = m + 1 := ⟨n - 1, by omega⟩
      refine br_c (fun _ => hp) (fun z => br_t ?_ hp)
      rcases hN with hN | hN
      · exact absurd (nI_le (a := 32) (by omega) (by omega)) z
      · exact hN
  | succ d ih =>
    intro i hi f_threadCount f_fan f_capacity f_pace f_least f_spareTop f_root f_head f_records f_appliedTotal a_keys a_vals a_count a_level a_low a_high a_right a_spare a_path a_phaseOf a_kindOf a_firstOf a_secondOf a_leftOf a_outcomeOf a_resKey a_resValue a_countOf a_digestOf a_appliedAt a_latchesOf a_place a_unknown us ks vs hR ans
    have hx1 : ¬ nI N ≤ nI i := nI_ge (by omega) (by omega)
    have hy1 : ¬ (32 : Int32) ≤ nI i := nI_ge (b := 32) (by omega) (by decide)
    have hy2 := hs i (by omega)
    obtain ⟨r, u1, v1, hRel, hX, hY⟩ := bk_advR (t := t) (bk_in hR) ht
    have hX : ∀ post : Int32 → SX → Prop, post r u1 → wpX_advance post (f_threadCount, f_fan, f_capacity, f_pace, f_least, f_spareTop, f_root, f_head, f_records, f_appliedTotal, a_keys, a_vals, a_count, a_level, a_low, a_high, a_right, a_spare, a_path, a_phaseOf, a_kindOf, a_firstOf, a_secondOf, a_leftOf, a_outcomeOf, a_resKey, a_resValue, a_countOf, a_digestOf, a_appliedAt, a_latchesOf, a_place, a_unknown) (nI t) := hX
    have hY : ∀ post : Int32 → SY → Prop, post r v1 → wpY_step post (f_threadCount, f_fan, f_capacity, f_pace, f_appliedTotal, us, ks, vs, a_phaseOf, a_kindOf, a_firstOf, a_secondOf, a_leftOf, a_outcomeOf, a_resKey, a_resValue, a_countOf, a_digestOf, a_appliedAt, a_latchesOf) (nI t) := hY
    revert hX hY
    refine bk_el (P := fun u1 v1 => (∀ post : Int32 → SX → Prop, post r u1 → wpX_advance post (f_threadCount, f_fan, f_capacity, f_pace, f_least, f_spareTop, f_root, f_head, f_records, f_appliedTotal, a_keys, a_vals, a_count, a_level, a_low, a_high, a_right, a_spare, a_path, a_phaseOf, a_kindOf, a_firstOf, a_secondOf, a_leftOf, a_outcomeOf, a_resKey, a_resValue, a_countOf, a_digestOf, a_appliedAt, a_latchesOf, a_place, a_unknown) (nI t)) → (∀ post : Int32 → SY → Prop, post r v1 → wpY_step post (f_threadCount, f_fan, f_capacity, f_pace, f_appliedTotal, us, ks, vs, a_phaseOf, a_kindOf, a_firstOf, a_secondOf, a_leftOf, a_outcomeOf, a_resKey, a_resValue, a_countOf, a_digestOf, a_appliedAt, a_latchesOf) (nI t)) →
      ∃ r u' v', bk_Rel tc u' v' ∧ (∀ n, d + 1 < n → ∀ post : Int32 → SX → Prop, post r u' → wX_run_36 post (nI t) (nI N) n ans (nI i) f_threadCount f_fan f_capacity f_pace f_least f_spareTop f_root f_head f_records f_appliedTotal a_keys a_vals a_count a_level a_low a_high a_right a_spare a_path a_phaseOf a_kindOf a_firstOf a_secondOf a_leftOf a_outcomeOf a_resKey a_resValue a_countOf a_digestOf a_appliedAt a_latchesOf a_place a_unknown) ∧
      (∀ n, d + 1 < n → ∀ post : Int32 → SY → Prop, post r v' → wY_run_26 post (nI t) steps n ans (nI i) f_threadCount f_fan f_capacity f_pace f_appliedTotal us ks vs a_phaseOf a_kindOf a_firstOf a_secondOf a_leftOf a_outcomeOf a_resKey a_resValue a_countOf a_digestOf a_appliedAt a_latchesOf)) ?_ hRel
    clear hRel
    intro f_threadCount f_fan f_capacity f_pace f_least f_spareTop f_root f_head f_records f_appliedTotal a_keys a_vals a_count a_level a_low a_high a_right a_spare a_path a_phaseOf a_kindOf a_firstOf a_secondOf a_leftOf a_outcomeOf a_resKey a_resValue a_countOf a_digestOf a_appliedAt a_latchesOf a_place a_unknown us ks vs hR1 hX hY
    have ht6 : t < 6 := by obtain ⟨_, _, _, _, _, _, _, _, C, _⟩ := hR1; have := C.2.1; omega
    have h6 := bx_6 ht6
    have hc := bx_c6 ht6
    by_cases r4 : r = 4
    · refine ⟨r, (f_threadCount, f_fan, f_capacity, f_pace, f_least, f_spareTop, f_root, f_head, f_records, f_appliedTotal, a_keys, a_vals, a_count, a_level, a_low, a_high, a_right, a_spare, a_path, a_phaseOf, a_kindOf, a_firstOf, a_secondOf, a_leftOf, a_outcomeOf, a_resKey, a_resValue, a_countOf, a_digestOf, a_appliedAt, a_latchesOf, a_place, a_unknown), (f_threadCount, f_fan, f_capacity, f_pace, f_appliedTotal, us, ks, vs, a_phaseOf, a_kindOf, a_firstOf, a_secondOf, a_leftOf, a_outcomeOf, a_resKey, a_resValue, a_countOf, a_digestOf, a_appliedAt, a_latchesOf), bk_in hR1, fun n hn post hp => ?_, fun n hn post hp => ?_⟩
      · obtain ⟨n, rfl⟩ : ∃ m, n = m + 1 := ⟨n - 1, by omega⟩
        exact br_f hx1 (hX _ (br_t r4 hp))
      · obtain ⟨n, rfl⟩ : ∃ m, n = m + 1 := ⟨n - 1, by omega⟩
        exact br_f hy1 (br_f hy2 (hY _ (br_t r4 hp)))
    · by_cases p0 : a_phaseOf t = 0
      · refine ⟨r, (f_threadCount, f_fan, f_capacity, f_pace, f_least, f_spareTop, f_root, f_head, f_records, f_appliedTotal, a_keys, a_vals, a_count, a_level, a_low, a_high, a_right, a_spare, a_path, a_phaseOf, a_kindOf, a_firstOf, a_secondOf, a_leftOf, a_outcomeOf, a_resKey, a_resValue, a_countOf, a_digestOf, a_appliedAt, a_latchesOf, a_place, a_unknown), (f_threadCount, f_fan, f_capacity, f_pace, f_appliedTotal, us, ks, vs, a_phaseOf, a_kindOf, a_firstOf, a_secondOf, a_leftOf, a_outcomeOf, a_resKey, a_resValue, a_countOf, a_digestOf, a_appliedAt, a_latchesOf), bk_in hR1, fun n hn post hp => ?_, fun n hn post hp => ?_⟩
        · obtain ⟨n, rfl⟩ : ∃ m, n = m + 1 := ⟨n - 1, by omega⟩
          exact br_f hx1 (hX _ (br_f r4 ⟨h6, br_t (by rw [hc]; exact p0) hp⟩))
        · obtain ⟨n, rfl⟩ : ∃ m, n = m + 1 := ⟨n - 1, by omega⟩
          exact br_f hy1 (br_f hy2 (hY _ (br_f r4 ⟨h6, br_t (by rw [hc]; exact p0) hp⟩)))
      · obtain ⟨r', u', v', a, b, c⟩ := ih (i + 1) (by omega) _ _ _ _ _ _ _ _ _ _ _ _ _ _ _ _ _ _ _ _ _ _ _ _ _ _ _ _ _ _ _ _ _ _ _ _ hR1 r
        refine ⟨r', u', v', a, fun n hn post hp => ?_, fun n hn post hp => ?_⟩
        · obtain ⟨n, rfl⟩ : ∃ m, n = m + 1 := ⟨n - 1, by omega⟩
          exact br_f hx1 (hX _ (br_f r4 ⟨h6, br_f (by rw [hc]; exact p0) (nm_r (nI_1 i) (b n (by omega) post hp))⟩))
        · obtain ⟨n, rfl⟩ : ∃ m, n = m + 1 := ⟨n - 1, by omega⟩
          exact br_f hy1 (br_f hy2 (hY _ (br_f r4 ⟨h6, br_f (by rw [hc]; exact p0) (nm_r (nI_1 i) (c n (by omega) post hp))⟩)))
theorem i_vc_run {k : Nat} {u : SX} {v : SY} (I : i_Rel k u v) (hk : k + 5 ≤ 2564) (v1 : Int32) (v2 : Int32) : wpX_run (fun r u' => wpY_run (fun r' v' => r' = r ∧ i_Rel (k + 5) u' v') v v1 v2) u v1 v2 := by
  obtain ⟨tc, I⟩ := I
  refine bk_el (P := fun u v => wpX_run (fun r u' => wpY_run (fun r' v' => r' = r ∧ i_Rel (k + 5) u' v') v v1 v2) u v1 v2) ?_ I
  intro f_threadCount f_fan f_capacity f_pace f_least f_spareTop f_root f_head f_records f_appliedTotal a_keys a_vals a_count a_level a_low a_high a_right a_spare a_path a_phaseOf a_kindOf a_firstOf a_secondOf a_leftOf a_outcomeOf a_resKey a_resValue a_countOf a_digestOf a_appliedAt a_latchesOf a_place a_unknown us ks vs hR
  have hI := bk_in hR
  have hR0 := hR
  obtain ⟨fan, lst, cap, pc, L, h, root, g, J⟩ := hR
  unfold wpX_run wpY_run
  rcases bk_bad J.1.1 J.1.2.1 v1 with ⟨t, ht, rfl, bX, bY⟩ | ⟨bX, bY⟩
  · have ht6 : t < 6 := by have := J.1.2.1; omega
    have hi := bx_6 ht6
    have hc := bx_c6 ht6
    refine bX _ (br_t rfl ⟨hi, ?_⟩)
    rw [hc]
    by_cases p0 : a_phaseOf t = 0
    · exact br_t p0 (bY _ (br_t rfl ⟨hi, br_t p0 ⟨rfl, tc, hI⟩⟩))
    · obtain ⟨N, hN, wc, hs, hN2⟩ := bk_clamp v2 (mx := 32) (M := 32) rfl (by omega)
      obtain ⟨r, u', v', a, b, c⟩ := bk_run_36 ht hN hs hN2 N 0 (by omega) _ _ _ _ _ _ _ _ _ _ _ _ _ _ _ _ _ _ _ _ _ _ _ _ _ _ _ _ _ _ _ _ _ _ _ _ hR0 0
      exact br_f p0 (wc _ _ ⟨N + 1, b _ (by omega) _ (bY _ (br_t rfl ⟨hi, br_f p0 ⟨N + 1, c _ (by omega) _ ⟨rfl, tc, a⟩⟩⟩))⟩)
  · exact bX _ (br_f (by decide) (bY _ (br_f (by decide) ⟨rfl, tc, hI⟩)))
def bk_apX (J : Int32 → Int32 → Int32 → Int32 → Int32 → Int32 → Int32 → Int32 → Int32 → Int32 → (Nat → Int32) → (Nat → Int32) → (Nat → Int32) → (Nat → Int32) → (Nat → Int32) → (Nat → Int32) → (Nat → Int32) → (Nat → Int32) → (Nat → Int32) → (Nat → Int32) → (Nat → Int32) → (Nat → Int32) → (Nat → Int32) → (Nat → Int32) → (Nat → Int32) → (Nat → Int32) → (Nat → Int32) → (Nat → Int32) → (Nat → Int32) → (Nat → Int32) → (Nat → Int32) → (Nat → Int32) → (Nat → Int32) → Prop) (u : SX) : Prop := match u with | (f_threadCount, f_fan, f_capacity, f_pace, f_least, f_spareTop, f_root, f_head, f_records, f_appliedTotal, a_keys, a_vals, a_count, a_level, a_low, a_high, a_right, a_spare, a_path, a_phaseOf, a_kindOf, a_firstOf, a_secondOf, a_leftOf, a_outcomeOf, a_resKey, a_resValue, a_countOf, a_digestOf, a_appliedAt, a_latchesOf, a_place, a_unknown) => J f_threadCount f_fan f_capacity f_pace f_least f_spareTop f_root f_head f_records f_appliedTotal a_keys a_vals a_count a_level a_low a_high a_right a_spare a_path a_phaseOf a_kindOf a_firstOf a_secondOf a_leftOf a_outcomeOf a_resKey a_resValue a_countOf a_digestOf a_appliedAt a_latchesOf a_place a_unknown
def bk_apY (J : Int32 → Int32 → Int32 → Int32 → Int32 → (Nat → Int32) → (Nat → Int32) → (Nat → Int32) → (Nat → Int32) → (Nat → Int32) → (Nat → Int32) → (Nat → Int32) → (Nat → Int32) → (Nat → Int32) → (Nat → Int32) → (Nat → Int32) → (Nat → Int32) → (Nat → Int32) → (Nat → Int32) → (Nat → Int32) → Prop) (v : SY) : Prop := match v with | (y_f_threads, y_f_fan, y_f_capacity, y_f_pace, y_f_appliedCount, y_a_used, y_a_keys, y_a_values, y_a_phase, y_a_kind, y_a_first, y_a_second, y_a_left, y_a_outcome, y_a_resKey, y_a_resValue, y_a_count, y_a_digest, y_a_appliedAt, y_a_latches) => J y_f_threads y_f_fan y_f_capacity y_f_pace y_f_appliedCount y_a_used y_a_keys y_a_values y_a_phase y_a_kind y_a_first y_a_second y_a_left y_a_outcome y_a_resKey y_a_resValue y_a_count y_a_digest y_a_appliedAt y_a_latches
theorem bk_rnd_in {tc : Nat} : ∀ d s, s + d = tc → ∀ (f_threadCount f_fan f_capacity f_pace f_least f_spareTop f_root f_head f_records f_appliedTotal : Int32) (a_keys a_vals a_count a_level a_low a_high a_right a_spare a_path a_phaseOf a_kindOf a_firstOf a_secondOf a_leftOf a_outcomeOf a_resKey a_resValue a_countOf a_digestOf a_appliedAt a_latchesOf a_place a_unknown us ks vs : Nat → Int32), bk_R tc f_threadCount f_fan f_capacity f_pace f_least f_spareTop f_root f_head f_records f_appliedTotal a_keys a_vals a_count a_level a_low a_high a_right a_spare a_path a_phaseOf a_kindOf a_firstOf a_secondOf a_leftOf a_outcomeOf a_resKey a_resValue a_countOf a_digestOf a_appliedAt a_latchesOf a_place a_unknown us ks vs → ∀ c : Int32, ∃ c' u' v', bk_Rel tc u' v' ∧
      (∀ n, d < n → ∀ (post : Int32 → SX → Prop) (J : Int32 → Int32 → Int32 → Int32 → Int32 → Int32 → Int32 → Int32 → Int32 → Int32 → Int32 → Int32 → (Nat → Int32) → (Nat → Int32) → (Nat → Int32) → (Nat → Int32) → (Nat → Int32) → (Nat → Int32) → (Nat → Int32) → (Nat → Int32) → (Nat → Int32) → (Nat → Int32) → (Nat → Int32) → (Nat → Int32) → (Nat → Int32) → (Nat → Int32) → (Nat → Int32) → (Nat → Int32) → (Nat → Int32) → (Nat → Int32) → (Nat → Int32) → (Nat → Int32) → (Nat → Int32) → (Nat → Int32) → (Nat → Int32) → Prop) (x2 x4 : Int32), bk_apX (J c' (x4 + 1)) u' → wX_round_23 post J x2 x4 n c (nI s) f_threadCount f_fan f_capacity f_pace f_least f_spareTop f_root f_head f_records f_appliedTotal a_keys a_vals a_count a_level a_low a_high a_right a_spare a_path a_phaseOf a_kindOf a_firstOf a_secondOf a_leftOf a_outcomeOf a_resKey a_resValue a_countOf a_digestOf a_appliedAt a_latchesOf a_place a_unknown) ∧
      (∀ n, d < n → ∀ (post : Int32 → SY → Prop) (J : Int32 → Int32 → Int32 → Int32 → Int32 → Int32 → Int32 → (Nat → Int32) → (Nat → Int32) → (Nat → Int32) → (Nat → Int32) → (Nat → Int32) → (Nat → Int32) → (Nat → Int32) → (Nat → Int32) → (Nat → Int32) → (Nat → Int32) → (Nat → Int32) → (Nat → Int32) → (Nat → Int32) → (Nat → Int32) → (Nat → Int32) → Prop) (x1 x3 : Int32), bk_apY (J c' (x3 + 1)) v' → wY_round_18 post J x1 x3 n c (nI s) f_threadCount f_fan f_capacity f_pace f_appliedTotal us ks vs a_phaseOf a_kindOf a_firstOf a_secondOf a_leftOf a_outcomeOf a_resKey a_resValue a_countOf a_digestOf a_appliedAt a_latchesOf) := by
  intro d
  induction d with
  | zero =>
    intro s hs f_threadCount f_fan f_capacity f_pace f_least f_spareTop f_root f_head f_records f_appliedTotal a_keys a_vals a_count a_level a_low a_high a_right a_spare a_path a_phaseOf a_kindOf a_firstOf a_secondOf a_leftOf a_outcomeOf a_resKey a_resValue a_countOf a_digestOf a_appliedAt a_latchesOf a_place a_unknown us ks vs hR c
    have htc : f_threadCount = nI tc ∧ tc ≤ 6 := by obtain ⟨_, _, _, _, _, _, _, _, C, _⟩ := hR; exact ⟨C.1, C.2.1⟩
    have h1 : f_threadCount ≤ nI s := by rw [htc.1]; exact nI_le (by omega) (by omega)
    refine ⟨c, (f_threadCount, f_fan, f_capacity, f_pace, f_least, f_spareTop, f_root, f_head, f_records, f_appliedTotal, a_keys, a_vals, a_count, a_level, a_low, a_high, a_right, a_spare, a_path, a_phaseOf, a_kindOf, a_firstOf, a_secondOf, a_leftOf, a_outcomeOf, a_resKey, a_resValue, a_countOf, a_digestOf, a_appliedAt, a_latchesOf, a_place, a_unknown), (f_threadCount, f_fan, f_capacity, f_pace, f_appliedTotal, us, ks, vs, a_phaseOf, a_kindOf, a_firstOf, a_secondOf, a_leftOf, a_outcomeOf, a_resKey, a_resValue, a_countOf, a_digestOf, a_appliedAt, a_latchesOf), bk_in hR, fun n hn post J x2 x4 hJ => ?_, fun n hn post J x2 x4 hJ => ?_⟩
    · obtain ⟨n, rfl⟩ : ∃ m, n = m + 1 := ⟨n - 1, by omega⟩
      exact br_t h1 (nm_e hJ)
    · obtain ⟨n, rfl⟩ : ∃ m, n = m + 1 := ⟨n - 1, by omega⟩
      exact br_t h1 (nm_e hJ)
  | succ d ih =>
    intro s hs f_threadCount f_fan f_capacity f_pace f_least f_spareTop f_root f_head f_records f_appliedTotal a_keys a_vals a_count a_level a_low a_high a_right a_spare a_path a_phaseOf a_kindOf a_firstOf a_secondOf a_leftOf a_outcomeOf a_resKey a_resValue a_countOf a_digestOf a_appliedAt a_latchesOf a_place a_unknown us ks vs hR c
    have htc : f_threadCount = nI tc ∧ tc ≤ 6 := by obtain ⟨_, _, _, _, _, _, _, _, C, _⟩ := hR; exact ⟨C.1, C.2.1⟩
    have h1 : ¬ f_threadCount ≤ nI s := by rw [htc.1]; exact nI_ge (by omega) (by omega)
    obtain ⟨r, u1, v1, hRel, hX, hY⟩ := bk_advR (t := s) (bk_in hR) (by omega)
    have hX : ∀ post : Int32 → SX → Prop, post r u1 → wpX_advance post (f_threadCount, f_fan, f_capacity, f_pace, f_least, f_spareTop, f_root, f_head, f_records, f_appliedTotal, a_keys, a_vals, a_count, a_level, a_low, a_high, a_right, a_spare, a_path, a_phaseOf, a_kindOf, a_firstOf, a_secondOf, a_leftOf, a_outcomeOf, a_resKey, a_resValue, a_countOf, a_digestOf, a_appliedAt, a_latchesOf, a_place, a_unknown) (nI s) := hX
    have hY : ∀ post : Int32 → SY → Prop, post r v1 → wpY_step post (f_threadCount, f_fan, f_capacity, f_pace, f_appliedTotal, us, ks, vs, a_phaseOf, a_kindOf, a_firstOf, a_secondOf, a_leftOf, a_outcomeOf, a_resKey, a_resValue, a_countOf, a_digestOf, a_appliedAt, a_latchesOf) (nI s) := hY
    revert hX hY
    refine bk_el (P := fun u1 v1 => (∀ post : Int32 → SX → Prop, post r u1 → wpX_advance post (f_threadCount, f_fan, f_capacity, f_pace, f_least, f_spareTop, f_root, f_head, f_records, f_appliedTotal, a_keys, a_vals, a_count, a_level, a_low, a_high, a_right, a_spare, a_path, a_phaseOf, a_kindOf, a_firstOf, a_secondOf, a_leftOf, a_outcomeOf, a_resKey, a_resValue, a_countOf, a_digestOf, a_appliedAt, a_latchesOf, a_place, a_unknown) (nI s)) → (∀ post : Int32 → SY → Prop, post r v1 → wpY_step post (f_threadCount, f_fan, f_capacity, f_pace, f_appliedTotal, us, ks, vs, a_phaseOf, a_kindOf, a_firstOf, a_secondOf, a_leftOf, a_outcomeOf, a_resKey, a_resValue, a_countOf, a_digestOf, a_appliedAt, a_latchesOf) (nI s)) →
      ∃ c' u' v', bk_Rel tc u' v' ∧
      (∀ n, d + 1 < n → ∀ (post : Int32 → SX → Prop) (J : Int32 → Int32 → Int32 → Int32 → Int32 → Int32 → Int32 → Int32 → Int32 → Int32 → Int32 → Int32 → (Nat → Int32) → (Nat → Int32) → (Nat → Int32) → (Nat → Int32) → (Nat → Int32) → (Nat → Int32) → (Nat → Int32) → (Nat → Int32) → (Nat → Int32) → (Nat → Int32) → (Nat → Int32) → (Nat → Int32) → (Nat → Int32) → (Nat → Int32) → (Nat → Int32) → (Nat → Int32) → (Nat → Int32) → (Nat → Int32) → (Nat → Int32) → (Nat → Int32) → (Nat → Int32) → (Nat → Int32) → (Nat → Int32) → Prop) (x2 x4 : Int32), bk_apX (J c' (x4 + 1)) u' → wX_round_23 post J x2 x4 n c (nI s) f_threadCount f_fan f_capacity f_pace f_least f_spareTop f_root f_head f_records f_appliedTotal a_keys a_vals a_count a_level a_low a_high a_right a_spare a_path a_phaseOf a_kindOf a_firstOf a_secondOf a_leftOf a_outcomeOf a_resKey a_resValue a_countOf a_digestOf a_appliedAt a_latchesOf a_place a_unknown) ∧
      (∀ n, d + 1 < n → ∀ (post : Int32 → SY → Prop) (J : Int32 → Int32 → Int32 → Int32 → Int32 → Int32 → Int32 → (Nat → Int32) → (Nat → Int32) → (Nat → Int32) → (Nat → Int32) → (Nat → Int32) → (Nat → Int32) → (Nat → Int32) → (Nat → Int32) → (Nat → Int32) → (Nat → Int32) → (Nat → Int32) → (Nat → Int32) → (Nat → Int32) → (Nat → Int32) → (Nat → Int32) → Prop) (x1 x3 : Int32), bk_apY (J c' (x3 + 1)) v' → wY_round_18 post J x1 x3 n c (nI s) f_threadCount f_fan f_capacity f_pace f_appliedTotal us ks vs a_phaseOf a_kindOf a_firstOf a_secondOf a_leftOf a_outcomeOf a_resKey a_resValue a_countOf a_digestOf a_appliedAt a_latchesOf)) ?_ hRel
    clear hRel
    intro f_threadCount f_fan f_capacity f_pace f_least f_spareTop f_root f_head f_records f_appliedTotal a_keys a_vals a_count a_level a_low a_high a_right a_spare a_path a_phaseOf a_kindOf a_firstOf a_secondOf a_leftOf a_outcomeOf a_resKey a_resValue a_countOf a_digestOf a_appliedAt a_latchesOf a_place a_unknown us ks vs hR1 hX hY
    by_cases r1 : r = 1
    · obtain ⟨c', u', v', a, b, e⟩ := ih (s + 1) (by omega) _ _ _ _ _ _ _ _ _ _ _ _ _ _ _ _ _ _ _ _ _ _ _ _ _ _ _ _ _ _ _ _ _ _ _ _ hR1 c
      refine ⟨c', u', v', a, fun n hn post J x2 x4 hJ => ?_, fun n hn post J x2 x4 hJ => ?_⟩
      · obtain ⟨n, rfl⟩ : ∃ m, n = m + 1 := ⟨n - 1, by omega⟩
        exact br_f h1 (hX _ (br_t r1 (nm_r (nI_1 s) (b n (by omega) post J x2 x4 hJ))))
      · obtain ⟨n, rfl⟩ : ∃ m, n = m + 1 := ⟨n - 1, by omega⟩
        exact br_f h1 (hY _ (br_t r1 (nm_r (nI_1 s) (e n (by omega) post J x2 x4 hJ))))
    · by_cases r4 : r = 4
      · obtain ⟨c', u', v', a, b, e⟩ := ih (s + 1) (by omega) _ _ _ _ _ _ _ _ _ _ _ _ _ _ _ _ _ _ _ _ _ _ _ _ _ _ _ _ _ _ _ _ _ _ _ _ hR1 c
        refine ⟨c', u', v', a, fun n hn post J x2 x4 hJ => ?_, fun n hn post J x2 x4 hJ => ?_⟩
        · obtain ⟨n, rfl⟩ : ∃ m, n = m + 1 := ⟨n - 1, by omega⟩
          exact br_f h1 (hX _ (br_f r1 (br_t r4 (nm_r (nI_1 s) (b n (by omega) post J x2 x4 hJ)))))
        · obtain ⟨n, rfl⟩ : ∃ m, n = m + 1 := ⟨n - 1, by omega⟩
          exact br_f h1 (hY _ (br_f r1 (br_t r4 (nm_r (nI_1 s) (e n (by omega) post J x2 x4 hJ)))))
      · obtain ⟨c', u', v', a, b, e⟩ := ih (s + 1) (by omega) _ _ _ _ _ _ _ _ _ _ _ _ _ _ _ _ _ _ _ _ _ _ _ _ _ _ _ _ _ _ _ _ _ _ _ _ hR1 (c + 1)
        refine ⟨c', u', v', a, fun n hn post J x2 x4 hJ => ?_, fun n hn post J x2 x4 hJ => ?_⟩
        · obtain ⟨n, rfl⟩ : ∃ m, n = m + 1 := ⟨n - 1, by omega⟩
          exact br_f h1 (hX _ (br_f r1 (br_f r4 (nm_e (nm_r (nI_1 s) (b n (by omega) post J x2 x4 hJ))))))
        · obtain ⟨n, rfl⟩ : ∃ m, n = m + 1 := ⟨n - 1, by omega⟩
          exact br_f h1 (hY _ (br_f r1 (br_f r4 (nm_e (nm_r (nI_1 s) (e n (by omega) post J x2 x4 hJ))))))
theorem bk_rnd_out {tc N : Nat} {rounds : Int32} (h8 : N ≤ 8) (hs : ∀ i, i < N → ¬ rounds ≤ nI i) (hN : N = 8 ∨ rounds ≤ nI N) :
    ∀ d i, i + d = N → ∀ (f_threadCount f_fan f_capacity f_pace f_least f_spareTop f_root f_head f_records f_appliedTotal : Int32) (a_keys a_vals a_count a_level a_low a_high a_right a_spare a_path a_phaseOf a_kindOf a_firstOf a_secondOf a_leftOf a_outcomeOf a_resKey a_resValue a_countOf a_digestOf a_appliedAt a_latchesOf a_place a_unknown us ks vs : Nat → Int32), bk_R tc f_threadCount f_fan f_capacity f_pace f_least f_spareTop f_root f_head f_records f_appliedTotal a_keys a_vals a_count a_level a_low a_high a_right a_spare a_path a_phaseOf a_kindOf a_firstOf a_secondOf a_leftOf a_outcomeOf a_resKey a_resValue a_countOf a_digestOf a_appliedAt a_latchesOf a_place a_unknown us ks vs → ∀ c : Int32, ∃ r u' v', bk_Rel tc u' v' ∧
      (∀ n, d < n → ∀ post : Int32 → SX → Prop, post r u' → wX_round_14 post (nI N) n c (nI i) f_threadCount f_fan f_capacity f_pace f_least f_spareTop f_root f_head f_records f_appliedTotal a_keys a_vals a_count a_level a_low a_high a_right a_spare a_path a_phaseOf a_kindOf a_firstOf a_secondOf a_leftOf a_outcomeOf a_resKey a_resValue a_countOf a_digestOf a_appliedAt a_latchesOf a_place a_unknown) ∧
      (∀ n, d < n → ∀ post : Int32 → SY → Prop, post r v' → wY_round_4 post rounds n c (nI i) f_threadCount f_fan f_capacity f_pace f_appliedTotal us ks vs a_phaseOf a_kindOf a_firstOf a_secondOf a_leftOf a_outcomeOf a_resKey a_resValue a_countOf a_digestOf a_appliedAt a_latchesOf) := by
  intro d
  induction d with
  | zero =>
    intro i hi f_threadCount f_fan f_capacity f_pace f_least f_spareTop f_root f_head f_records f_appliedTotal a_keys a_vals a_count a_level a_low a_high a_right a_spare a_path a_phaseOf a_kindOf a_firstOf a_secondOf a_leftOf a_outcomeOf a_resKey a_resValue a_countOf a_digestOf a_appliedAt a_latchesOf a_place a_unknown us ks vs hR c
    have : i = N := by omega
    subst this
    refine ⟨c, (f_threadCount, f_fan, f_capacity, f_pace, f_least, f_spareTop, f_root, f_head, f_records, f_appliedTotal, a_keys, a_vals, a_count, a_level, a_low, a_high, a_right, a_spare, a_path, a_phaseOf, a_kindOf, a_firstOf, a_secondOf, a_leftOf, a_outcomeOf, a_resKey, a_resValue, a_countOf, a_digestOf, a_appliedAt, a_latchesOf, a_place, a_unknown), (f_threadCount, f_fan, f_capacity, f_pace, f_appliedTotal, us, ks, vs, a_phaseOf, a_kindOf, a_firstOf, a_secondOf, a_leftOf, a_outcomeOf, a_resKey, a_resValue, a_countOf, a_digestOf, a_appliedAt, a_latchesOf), bk_in hR, fun n hn post hp => ?_, fun n hn post hp => ?_⟩
    · obtain ⟨n, rfl⟩ : ∃ m, n = m + 1 := ⟨n - 1, by omega⟩
      exact br_t (nI_le (Nat.le_refl _) (by omega)) hp
    · obtain ⟨n, rfl⟩ : ∃ m, n = m + 1 := ⟨n - 1, by omega⟩
      refine br_c (fun _ => hp) (fun z => br_t ?_ hp)
      rcases hN with hN | hN
      · exact absurd (nI_le (a := 8) (by omega) (by omega)) z
      · exact hN
  | succ d ih =>
    intro i hi f_threadCount f_fan f_capacity f_pace f_least f_spareTop f_root f_head f_records f_appliedTotal a_keys a_vals a_count a_level a_low a_high a_right a_spare a_path a_phaseOf a_kindOf a_firstOf a_secondOf a_leftOf a_outcomeOf a_resKey a_resValue a_countOf a_digestOf a_appliedAt a_latchesOf a_place a_unknown us ks vs hR c
    have hx1 : ¬ nI N ≤ nI i := nI_ge (by omega) (by omega)
    have hy1 : ¬ (8 : Int32) ≤ nI i := nI_ge (b := 8) (by omega) (by decide)
    have hy2 := hs i (by omega)
    obtain ⟨c1, u1, v1, hRel, hX, hY⟩ := bk_rnd_in (tc := tc) tc 0 (by omega) _ _ _ _ _ _ _ _ _ _ _ _ _ _ _ _ _ _ _ _ _ _ _ _ _ _ _ _ _ _ _ _ _ _ _ _ hR c
    have hX := hX (tc + 1) (by omega)
    have hY := hY (tc + 1) (by omega)
    revert hX hY
    refine bk_el (P := fun u1 v1 => (∀ (post : Int32 → SX → Prop) (J : Int32 → Int32 → Int32 → Int32 → Int32 → Int32 → Int32 → Int32 → Int32 → Int32 → Int32 → Int32 → (Nat → Int32) → (Nat → Int32) → (Nat → Int32) → (Nat → Int32) → (Nat → Int32) → (Nat → Int32) → (Nat → Int32) → (Nat → Int32) → (Nat → Int32) → (Nat → Int32) → (Nat → Int32) → (Nat → Int32) → (Nat → Int32) → (Nat → Int32) → (Nat → Int32) → (Nat → Int32) → (Nat → Int32) → (Nat → Int32) → (Nat → Int32) → (Nat → Int32) → (Nat → Int32) → (Nat → Int32) → (Nat → Int32) → Prop) (x2 x4 : Int32), bk_apX (J c1 (x4 + 1)) u1 → wX_round_23 post J x2 x4 (tc + 1) c (nI 0) f_threadCount f_fan f_capacity f_pace f_least f_spareTop f_root f_head f_records f_appliedTotal a_keys a_vals a_count a_level a_low a_high a_right a_spare a_path a_phaseOf a_kindOf a_firstOf a_secondOf a_leftOf a_outcomeOf a_resKey a_resValue a_countOf a_digestOf a_appliedAt a_latchesOf a_place a_unknown) →
      (∀ (post : Int32 → SY → Prop) (J : Int32 → Int32 → Int32 → Int32 → Int32 → Int32 → Int32 → (Nat → Int32) → (Nat → Int32) → (Nat → Int32) → (Nat → Int32) → (Nat → Int32) → (Nat → Int32) → (Nat → Int32) → (Nat → Int32) → (Nat → Int32) → (Nat → Int32) → (Nat → Int32) → (Nat → Int32) → (Nat → Int32) → (Nat → Int32) → (Nat → Int32) → Prop) (x1 x3 : Int32), bk_apY (J c1 (x3 + 1)) v1 → wY_round_18 post J x1 x3 (tc + 1) c (nI 0) f_threadCount f_fan f_capacity f_pace f_appliedTotal us ks vs a_phaseOf a_kindOf a_firstOf a_secondOf a_leftOf a_outcomeOf a_resKey a_resValue a_countOf a_digestOf a_appliedAt a_latchesOf) →
      ∃ r u' v', bk_Rel tc u' v' ∧
      (∀ n, d + 1 < n → ∀ post : Int32 → SX → Prop, post r u' → wX_round_14 post (nI N) n c (nI i) f_threadCount f_fan f_capacity f_pace f_least f_spareTop f_root f_head f_records f_appliedTotal a_keys a_vals a_count a_level a_low a_high a_right a_spare a_path a_phaseOf a_kindOf a_firstOf a_secondOf a_leftOf a_outcomeOf a_resKey a_resValue a_countOf a_digestOf a_appliedAt a_latchesOf a_place a_unknown) ∧
      (∀ n, d + 1 < n → ∀ post : Int32 → SY → Prop, post r v' → wY_round_4 post rounds n c (nI i) f_threadCount f_fan f_capacity f_pace f_appliedTotal us ks vs a_phaseOf a_kindOf a_firstOf a_secondOf a_leftOf a_outcomeOf a_resKey a_resValue a_countOf a_digestOf a_appliedAt a_latchesOf)) ?_ hRel
    clear hRel
    intro f_threadCount f_fan f_capacity f_pace f_least f_spareTop f_root f_head f_records f_appliedTotal a_keys a_vals a_count a_level a_low a_high a_right a_spare a_path a_phaseOf a_kindOf a_firstOf a_secondOf a_leftOf a_outcomeOf a_resKey a_resValue a_countOf a_digestOf a_appliedAt a_latchesOf a_place a_unknown us ks vs hR1 hX hY
    obtain ⟨r, u', v', a, b, e⟩ := ih (i + 1) (by omega) _ _ _ _ _ _ _ _ _ _ _ _ _ _ _ _ _ _ _ _ _ _ _ _ _ _ _ _ _ _ _ _ _ _ _ _ hR1 c1
    refine ⟨r, u', v', a, fun n hn post hp => ?_, fun n hn post hp => ?_⟩
    · obtain ⟨n, rfl⟩ : ∃ m, n = m + 1 := ⟨n - 1, by omega⟩
      refine br_f hx1 ⟨tc + 1, hX post _ (nI N) (nI i) ?_⟩
      rw [nI_1]
      exact b n (by omega) post hp
    · obtain ⟨n, rfl⟩ : ∃ m, n = m + 1 := ⟨n - 1, by omega⟩
      refine br_f hy1 (br_f hy2 ⟨tc + 1, hY post _ rounds (nI i) ?_⟩)
      rw [nI_1]
      exact e n (by omega) post hp
theorem i_vc_round {k : Nat} {u : SX} {v : SY} (I : i_Rel k u v) (hk : k + 5 ≤ 2564) (v1 : Int32) : wpX_round (fun r u' => wpY_round (fun r' v' => r' = r ∧ i_Rel (k + 5) u' v') v v1) u v1 := by
  obtain ⟨tc, I⟩ := I
  refine bk_el (P := fun u v => wpX_round (fun r u' => wpY_round (fun r' v' => r' = r ∧ i_Rel (k + 5) u' v') v v1) u v1) ?_ I
  intro f_threadCount f_fan f_capacity f_pace f_least f_spareTop f_root f_head f_records f_appliedTotal a_keys a_vals a_count a_level a_low a_high a_right a_spare a_path a_phaseOf a_kindOf a_firstOf a_secondOf a_leftOf a_outcomeOf a_resKey a_resValue a_countOf a_digestOf a_appliedAt a_latchesOf a_place a_unknown us ks vs hR
  obtain ⟨N, hN, wc, hs, hN2⟩ := bk_clamp v1 (mx := 8) (M := 8) rfl (by omega)
  obtain ⟨r, u', v', a, b, c⟩ := bk_rnd_out hN hs hN2 N 0 (by omega) _ _ _ _ _ _ _ _ _ _ _ _ _ _ _ _ _ _ _ _ _ _ _ _ _ _ _ _ _ _ _ _ _ _ _ _ hR 0
  unfold wpX_round wpY_round
  exact wc _ _ ⟨N + 1, b _ (by omega) _ ⟨N + 1, c _ (by omega) _ ⟨rfl, tc, a⟩⟩⟩
end
section
/-! ===== 35: fill ===== -/
section
variable {lst fan tl ti : Nat} {f_threadCount f_fan f_capacity f_pace f_least f_spareTop f_root f_head f_records f_appliedTotal : Int32} {a_keys a_vals a_count a_level a_low a_high a_right a_spare a_path a_phaseOf a_kindOf a_firstOf a_secondOf a_leftOf a_outcomeOf a_resKey a_resValue a_countOf a_digestOf a_appliedAt a_latchesOf a_place a_unknown : Nat → Int32}
theorem bx_fil_57 (hfan : f_fan = nI fan) (htl : tl = 0 ∨ 100 ≤ tl) :
    ∀ d (L : Nat → List bk_Nd) (h root : Nat) (st : Int32) (ky vl ct lv lw hg rt : Nat → Int32) (fresh : Int32), bk_W lst fan tl ti L h root st ky vl ct lv lw hg rt a_spare →
      (fresh < 0 ∨ ∃ l y, l ≤ h ∧ h + 1 ≤ l + d ∧ y ∈ L l ∧ y.2.2.1 = false ∧ fresh = nI y.1) →
      ∃ (st' : Int32) (h' root' : Nat) (L' : Nat → List bk_Nd) (ky' vl' ct' lv' lw' hg' rt' : Nat → Int32), bk_W lst fan tl ti L' h' root' st' ky' vl' ct' lv' lw' hg' rt' a_spare ∧
        bk_sh (L' 0) = bk_sh (L 0) ∧ bk_Gw L h L' h' ∧ (∀ i, bk_Pn L' h' i ↔ (bk_Pn L h i ∧ fresh ≠ nI i)) ∧
        ∀ i, i + d < 16 → ∀ n, d < n → ∀ (post : Int32 → SX → Prop) (J : Int32 → Int32 → Int32 → Int32 → Int32 → Int32 → Int32 → Int32 → Int32 → Int32 → Int32 → Int32 → (Nat → Int32) → (Nat → Int32) → (Nat → Int32) → (Nat → Int32) → (Nat → Int32) → (Nat → Int32) → (Nat → Int32) → (Nat → Int32) → (Nat → Int32) → (Nat → Int32) → (Nat → Int32) → (Nat → Int32) → (Nat → Int32) → (Nat → Int32) → (Nat → Int32) → (Nat → Int32) → (Nat → Int32) → (Nat → Int32) → (Nat → Int32) → (Nat → Int32) → (Nat → Int32) → (Nat → Int32) → (Nat → Int32) → Prop) (x1 x2 x4 x5 x6 : Int32),
          J (x5 + 1) (x6 + 1) f_threadCount f_fan f_capacity f_pace f_least st' (nI root') f_head f_records f_appliedTotal ky' vl' ct' lv' lw' hg' rt' a_spare a_path a_phaseOf a_kindOf a_firstOf a_secondOf a_leftOf a_outcomeOf a_resKey a_resValue a_countOf a_digestOf a_appliedAt a_latchesOf a_place a_unknown →
          wX_fill_57 post J x1 x2 x4 x5 x6 n fresh (nI i) f_threadCount f_fan f_capacity f_pace f_least st (nI root) f_head f_records f_appliedTotal ky vl ct lv lw hg rt a_spare a_path a_phaseOf a_kindOf a_firstOf a_secondOf a_leftOf a_outcomeOf a_resKey a_resValue a_countOf a_digestOf a_appliedAt a_latchesOf a_place a_unknown := by
  intro d
  induction d with
  | zero =>
    intro L h root st ky vl ct lv lw hg rt fresh W hu
    have hu : fresh < 0 := by
      rcases hu with hu | ⟨l, y, h1, h2, _⟩
      · exact hu
      · omega
    refine ⟨st, h, root, L, ky, vl, ct, lv, lw, hg, rt, W, rfl, bk_Gw_rf L h, fun i => ⟨fun hp => ⟨hp, fun hc => ?_⟩, fun hp => hp.1⟩, fun i hi n hn post J x1 x2 x4 x5 x6 hp => ?_⟩
    · have := bk_Pn_lt W.1 hp
      rw [hc] at hu
      exact nI_pos (by omega) hu
    · obtain ⟨n, rfl⟩ : ∃ m, n = m + 1 := ⟨n - 1, by omega⟩
      exact br_f (nI_ge (b := 16) (by omega) (by decide)) (br_t hu (nm_e (nm_e hp)))
  | succ d ih =>
    intro L h root st ky vl ct lv lw hg rt fresh W hu
    rcases hu with hu | ⟨l, y, h1, h2, h3, h4, h5⟩
    · refine ⟨st, h, root, L, ky, vl, ct, lv, lw, hg, rt, W, rfl, bk_Gw_rf L h, fun i => ⟨fun hp => ⟨hp, fun hc => ?_⟩, fun hp => hp.1⟩, fun i hi n hn post J x1 x2 x4 x5 x6 hp => ?_⟩
      · have := bk_Pn_lt W.1 hp
        rw [hc] at hu
        exact nI_pos (by omega) hu
      · obtain ⟨n, rfl⟩ : ∃ m, n = m + 1 := ⟨n - 1, by omega⟩
        exact br_f (nI_ge (b := 16) (by omega) (by decide)) (br_t hu (nm_e (nm_e hp)))
    · subst h5
      obtain ⟨r, st1, hh1, root1, L1, ky1, vl1, ct1, lv1, lw1, hg1, rt1, a1, a2, a3, a4, a5, a6⟩ := bx_known (f_threadCount := f_threadCount) (f_fan := f_fan) (f_capacity := f_capacity) (f_pace := f_pace) (f_least := f_least) (f_spareTop := st) (f_root := nI root) (f_head := f_head) (f_records := f_records) (f_appliedTotal := f_appliedTotal) (a_keys := ky) (a_vals := vl) (a_count := ct) (a_level := lv) (a_low := lw) (a_high := hg) (a_right := rt) (a_spare := a_spare) (a_path := a_path) (a_phaseOf := a_phaseOf) (a_kindOf := a_kindOf) (a_firstOf := a_firstOf) (a_secondOf := a_secondOf) (a_leftOf := a_leftOf) (a_outcomeOf := a_outcomeOf) (a_resKey := a_resKey) (a_resValue := a_resValue) (a_countOf := a_countOf) (a_digestOf := a_digestOf) (a_appliedAt := a_appliedAt) (a_latchesOf := a_latchesOf) (a_place := a_place) (a_unknown := a_unknown) W htl hfan rfl h1 h3 h4
      have hy80 := (bk_T_m W.1 h1 h3).1
      obtain ⟨st', h', root', L', ky', vl', ct', lv', lw', hg', rt', b1, b2, b3, b5, b6⟩ := ih L1 hh1 root1 st1 ky1 vl1 ct1 lv1 lw1 hg1 rt1 r a1 (by
        rcases a5 with a5 | ⟨c1, c2, j, c3, c4, c5, z, c6, c7, c8⟩
        · left; rw [a5]; decide
        · right; exact ⟨l + 1, z, by omega, by omega, c6, c7, by rw [c4, c8]⟩)
      refine ⟨st', h', root', L', ky', vl', ct', lv', lw', hg', rt', b1, b2.trans a2, bk_Gw_tr a3 b3, fun i => ?_, fun i hi n hn post J x1 x2 x4 x5 x6 hp => ?_⟩
      · rw [b5 i, a4 i]
        constructor
        · rintro ⟨⟨e1, e2⟩ | ⟨e1, e2⟩, e3⟩
          · refine ⟨e1, fun hc => e2 ?_⟩
            have := bk_Pn_lt W.1 e1
            exact (bx_inj (by omega) (by omega) hc).symm
          · exact absurd e1 e3
        · rintro ⟨e1, e2⟩
          have hi := bk_Pn_lt W.1 e1
          refine ⟨Or.inl ⟨e1, fun hc => e2 (by rw [hc])⟩, fun hc => ?_⟩
          rcases a5 with a5 | ⟨c1, c2, j, c3, c4, c5, _⟩
          · exact bx_neg (by omega) (hc.symm.trans a5)
          · have : i = j := bx_inj (by omega) (by omega) (hc.symm.trans c4)
            exact c5 (by rw [← this]; exact e1)
      · obtain ⟨n, rfl⟩ : ∃ m, n = m + 1 := ⟨n - 1, by omega⟩
        refine br_f (nI_ge (b := 16) (by omega) (by decide)) (br_f (nI_pos (by omega)) ?_)
        exact a6 _ (nm_r (nI_1 i) (b6 (i + 1) (by omega) n (by omega) post J x1 x2 x4 x5 x6 hp))
end
theorem bk_fill_16 {tc N : Nat} {x1 x2 cnt : Int32} (h32 : N ≤ 32) (hs : ∀ i, i < N → ¬ cnt ≤ nI i) (hN : N = 32 ∨ cnt ≤ nI N) :
    ∀ d i, i + d = N → ∀ (f_threadCount f_fan f_capacity f_pace f_least f_spareTop f_root f_head f_records f_appliedTotal : Int32) (a_keys a_vals a_count a_level a_low a_high a_right a_spare a_path a_phaseOf a_kindOf a_firstOf a_secondOf a_leftOf a_outcomeOf a_resKey a_resValue a_countOf a_digestOf a_appliedAt a_latchesOf a_place a_unknown us ks vs : Nat → Int32), bk_R tc f_threadCount f_fan f_capacity f_pace f_least f_spareTop f_root f_head f_records f_appliedTotal a_keys a_vals a_count a_level a_low a_high a_right a_spare a_path a_phaseOf a_kindOf a_firstOf a_secondOf a_leftOf a_outcomeOf a_resKey a_resValue a_countOf a_digestOf a_appliedAt a_latchesOf a_place a_unknown us ks vs → ∀ c : Int32, ∃ r u' v', bk_Rel tc u' v' ∧
      (∀ n, d < n → ∀ post : Int32 → SX → Prop, post r u' → wX_fill_16 post x1 x2 (nI N) n c (nI i) f_threadCount f_fan f_capacity f_pace f_least f_spareTop f_root f_head f_records f_appliedTotal a_keys a_vals a_count a_level a_low a_high a_right a_spare a_path a_phaseOf a_kindOf a_firstOf a_secondOf a_leftOf a_outcomeOf a_resKey a_resValue a_countOf a_digestOf a_appliedAt a_latchesOf a_place a_unknown) ∧
      (∀ n, d < n → ∀ post : Int32 → SY → Prop, post r v' → wY_fill_6 post x1 x2 cnt n c (nI i) f_threadCount f_fan f_capacity f_pace f_appliedTotal us ks vs a_phaseOf a_kindOf a_firstOf a_secondOf a_leftOf a_outcomeOf a_resKey a_resValue a_countOf a_digestOf a_appliedAt a_latchesOf) := by
  intro d
  induction d with
  | zero =>
    intro i hi f_threadCount f_fan f_capacity f_pace f_least f_spareTop f_root f_head f_records f_appliedTotal a_keys a_vals a_count a_level a_low a_high a_right a_spare a_path a_phaseOf a_kindOf a_firstOf a_secondOf a_leftOf a_outcomeOf a_resKey a_resValue a_countOf a_digestOf a_appliedAt a_latchesOf a_place a_unknown us ks vs hR c
    have : i = N := by omega
    subst this
    refine ⟨c, (f_threadCount, f_fan, f_capacity, f_pace, f_least, f_spareTop, f_root, f_head, f_records, f_appliedTotal, a_keys, a_vals, a_count, a_level, a_low, a_high, a_right, a_spare, a_path, a_phaseOf, a_kindOf, a_firstOf, a_secondOf, a_leftOf, a_outcomeOf, a_resKey, a_resValue, a_countOf, a_digestOf, a_appliedAt, a_latchesOf, a_place, a_unknown), (f_threadCount, f_fan, f_capacity, f_pace, f_appliedTotal, us, ks, vs, a_phaseOf, a_kindOf, a_firstOf, a_secondOf, a_leftOf, a_outcomeOf, a_resKey, a_resValue, a_countOf, a_digestOf, a_appliedAt, a_latchesOf), bk_in hR, fun n hn post hp => ?_, fun n hn post hp => ?_⟩
    · obtain ⟨n, rfl⟩ : ∃ m, n = m + 1 := ⟨n - 1, by omega⟩
      exact br_t (nI_le (Nat.le_refl _) (by omega)) hp
    · obtain ⟨n, rfl⟩ : ∃ m, n = m + 1 := ⟨n - 1, by omega⟩
      refine br_c (fun _ => hp) (fun z => br_t ?_ hp)
      rcases hN with hN | hN
      · exact absurd (nI_le (a := 32) (by omega) (by omega)) z
      · exact hN
  | succ d ih =>
    intro i hi f_threadCount f_fan f_capacity f_pace f_least f_spareTop f_root f_head f_records f_appliedTotal a_keys a_vals a_count a_level a_low a_high a_right a_spare a_path a_phaseOf a_kindOf a_firstOf a_secondOf a_leftOf a_outcomeOf a_resKey a_resValue a_countOf a_digestOf a_appliedAt a_latchesOf a_place a_unknown us ks vs hR c
    have hx1 : ¬ nI N ≤ nI i := nI_ge (by omega) (by omega)
    have hy1 : ¬ (32 : Int32) ≤ nI i := nI_ge (b := 32) (by omega) (by decide)
    have hy2 := hs i (by omega)
    have hR0 := hR
    obtain ⟨fan, lst, cap, pc, L, h, root, g, J⟩ := hR
    obtain ⟨rh, hH, hhX, hhY⟩ := bk_hold (a_kindOf := a_kindOf) (a_firstOf := a_firstOf) (a_secondOf := a_secondOf) J.1.1 J.1.2.1 (bk_J_la J) (x1 + nI i * x2)
    obtain ⟨C, hro, hrc, W, U, Pl, Pm, Th⟩ := J
    have hcap := C.2.2.2.2.2.1
    have hfcap := C.2.2.2.2.1
    have h5 := W.1.2.2.1
    -- nothing is added
    obtain ⟨r0, u0, v0, q1, q2, q3⟩ := ih (i + 1) (by omega) _ _ _ _ _ _ _ _ _ _ _ _ _ _ _ _ _ _ _ _ _ _ _ _ _ _ _ _ _ _ _ _ _ _ _ _ hR0 c
    have hXno : (∀ post : Int32 → Prop, post 0 → wpX_mayFill post (f_threadCount, f_fan, f_capacity, f_pace, f_least, f_spareTop, f_root, f_head, f_records, f_appliedTotal, a_keys, a_vals, a_count, a_level, a_low, a_high, a_right, a_spare, a_path, a_phaseOf, a_kindOf, a_firstOf, a_secondOf, a_leftOf, a_outcomeOf, a_resKey, a_resValue, a_countOf, a_digestOf, a_appliedAt, a_latchesOf, a_place, a_unknown) (x1 + nI i * x2)) → ∀ n, d + 1 < n → ∀ post : Int32 → SX → Prop, post r0 u0 → wX_fill_16 post x1 x2 (nI N) n c (nI i) f_threadCount f_fan f_capacity f_pace f_least f_spareTop f_root f_head f_records f_appliedTotal a_keys a_vals a_count a_level a_low a_high a_right a_spare a_path a_phaseOf a_kindOf a_firstOf a_secondOf a_leftOf a_outcomeOf a_resKey a_resValue a_countOf a_digestOf a_appliedAt a_latchesOf a_place a_unknown := by
      intro hm n hn post hp
      obtain ⟨n, rfl⟩ : ∃ m, n = m + 1 := ⟨n - 1, by omega⟩
      exact br_f hx1 (nm_e (hm _ (br_t rfl (nm_r (nI_1 i) (q2 n (by omega) post hp)))))
    by_cases hneg : rh < 0
    · obtain ⟨rX, hX, wX⟩ := bx_find (key := x1 + nI i * x2) (s := f_root) (f_threadCount := f_threadCount) (f_fan := f_fan) (f_capacity := f_capacity) (f_pace := f_pace) (f_least := f_least) (f_spareTop := f_spareTop) (f_root := f_root) (f_head := f_head) (f_records := f_records) (f_appliedTotal := f_appliedTotal) (a_keys := a_keys) (a_vals := a_vals) (a_count := a_count) (a_level := a_level) (a_low := a_low) (a_high := a_high) (a_right := a_right) (a_spare := a_spare) (a_path := a_path) (a_phaseOf := a_phaseOf) (a_kindOf := a_kindOf) (a_firstOf := a_firstOf) (a_secondOf := a_secondOf) (a_leftOf := a_leftOf) (a_outcomeOf := a_outcomeOf) (a_resKey := a_resKey) (a_resValue := a_resValue) (a_countOf := a_countOf) (a_digestOf := a_digestOf) (a_appliedAt := a_appliedAt) (a_latchesOf := a_latchesOf) (a_place := a_place) (a_unknown := a_unknown) W.1 (by rw [hro]; exact bk_St_root W.1.1 _)
      obtain ⟨rY, hY, wY⟩ := by_slotOf (f_threadCount := f_threadCount) (f_fan := f_fan) (f_capacity := f_capacity) (f_pace := f_pace) (f_appliedTotal := f_appliedTotal) (us := us) (ks := ks) (vs := vs) (a_phaseOf := a_phaseOf) (a_kindOf := a_kindOf) (a_firstOf := a_firstOf) (a_secondOf := a_secondOf) (a_leftOf := a_leftOf) (a_outcomeOf := a_outcomeOf) (a_resKey := a_resKey) (a_resValue := a_resValue) (a_countOf := a_countOf) (a_digestOf := a_digestOf) (a_appliedAt := a_appliedAt) (a_latchesOf := a_latchesOf) (x1 + nI i * x2)
      have hneg' : ¬ 0 ≤ rh := by rw [bx_le, bx_z]; rw [bx_lt, bx_z] at hneg; omega
      rcases bk_find2 W.1 Pm hX hY with ⟨q, s', v, hq, hs', rfl, rfl, S, _⟩ | ⟨rfl, rfl, habs⟩
      · refine ⟨r0, u0, v0, q1, hXno (fun post hp => ?_), fun n hn post hp => ?_⟩
        · unfold wpX_mayFill
          exact br_c (fun _ => hhX _ (br_t hneg (wX _ (br_t (nI_pos' (by omega)) hp)))) (fun _ => hp)
        · obtain ⟨n, rfl⟩ : ∃ m, n = m + 1 := ⟨n - 1, by omega⟩
          exact br_f hy1 (br_f hy2 (nm_e (hhY _ (br_f hneg' (wY _ (br_t (nI_pos' (by omega)) (nm_r (nI_1 i) (q3 n (by omega) post hp))))))))
      · by_cases hfull : (bk_fl (L 0)).length < cap
        · have h64 : (bk_fl (L 0)).length < 64 := by omega
          obtain ⟨r, st, L1, ky, vl, ct, lv, lw, hg, rt, d1, ⟨M1, M2, m1, m2⟩, d3, d4, d5, d6⟩ := bx_plant (key := x1 + nI i * x2) (val := nI i) (s := f_root) (f_threadCount := f_threadCount) (f_fan := f_fan) (f_capacity := f_capacity) (f_pace := f_pace) (f_least := f_least) (f_spareTop := f_spareTop) (f_root := f_root) (f_head := f_head) (f_records := f_records) (f_appliedTotal := f_appliedTotal) (a_keys := a_keys) (a_vals := a_vals) (a_count := a_count) (a_level := a_level) (a_low := a_low) (a_high := a_high) (a_right := a_right) (a_spare := a_spare) (a_path := a_path) (a_phaseOf := a_phaseOf) (a_kindOf := a_kindOf) (a_firstOf := a_firstOf) (a_secondOf := a_secondOf) (a_leftOf := a_leftOf) (a_outcomeOf := a_outcomeOf) (a_resKey := a_resKey) (a_resValue := a_resValue) (a_countOf := a_countOf) (a_digestOf := a_digestOf) (a_appliedAt := a_appliedAt) (a_latchesOf := a_latchesOf) (a_place := a_place) (a_unknown := a_unknown) W (Nat.le_refl _) C.2.2.1 h64 (by rw [hro]; exact bk_St_root W.1.1 _) habs
          obtain ⟨st', h', root', L', ky', vl', ct', lv', lw', hg', rt', b1, b2, b3, b5, b6⟩ := bx_fil_57 (f_threadCount := f_threadCount) (f_fan := f_fan) (f_capacity := f_capacity) (f_pace := f_pace) (f_least := f_least) (f_head := f_head) (f_records := f_records + 1) (f_appliedTotal := f_appliedTotal) (a_spare := a_spare) (a_path := a_path) (a_phaseOf := a_phaseOf) (a_kindOf := a_kindOf) (a_firstOf := a_firstOf) (a_secondOf := a_secondOf) (a_leftOf := a_leftOf) (a_outcomeOf := a_outcomeOf) (a_resKey := a_resKey) (a_resValue := a_resValue) (a_countOf := a_countOf) (a_digestOf := a_digestOf) (a_appliedAt := a_appliedAt) (a_latchesOf := a_latchesOf) (a_place := a_place) (a_unknown := a_unknown) C.2.2.1 (Or.inr (Nat.le_refl _)) (h + 1) L1 h root st ky vl ct lv lw hg rt r d1 (by
            rcases d5 with d5 | ⟨j, j1, j2, j3⟩
            · left; rw [d5]; decide
            · right
              obtain ⟨l, hl, y, y1, y2, y3⟩ := (d4 j).mpr (Or.inr ⟨j2, j1⟩)
              exact ⟨l, y, hl, by omega, y1, y2, by rw [j2, y3]⟩)
          obtain ⟨us', ks', vs', P1, w1⟩ := by_add (f_threadCount := f_threadCount) (f_fan := f_fan) (f_capacity := f_capacity) (f_pace := f_pace) (f_appliedTotal := f_appliedTotal) (us := us) (ks := ks) (vs := vs) (a_phaseOf := a_phaseOf) (a_kindOf := a_kindOf) (a_firstOf := a_firstOf) (a_secondOf := a_secondOf) (a_leftOf := a_leftOf) (a_outcomeOf := a_outcomeOf) (a_resKey := a_resKey) (a_resValue := a_resValue) (a_countOf := a_countOf) (a_digestOf := a_digestOf) (a_appliedAt := a_appliedAt) (a_latchesOf := a_latchesOf) (x1 + nI i * x2) (nI i) Pm h64
          have hflE := bk_sh_fl b2
          have Pm' : bk_Pm (bk_fl (L' 0)) us' ks' vs' := by
            rw [hflE, m2]
            rw [m1] at P1
            exact List.perm_middle.trans P1
          have hlen : (bk_fl (L' 0)).length = (bk_fl (L 0)).length + 1 := by rw [hflE, m1, m2]; simp; omega
          have hPn : bk_Pn L' h' = bk_Pn L h := by
            funext j
            apply propext
            rw [b5 j, d4 j]
            constructor
            · rintro ⟨e1 | ⟨e1, _⟩, e2⟩
              · exact e1
              · exact absurd e1 e2
            · intro e1
              refine ⟨Or.inl e1, fun hc => ?_⟩
              have hj := bk_Pn_lt W.1 e1
              rcases d5 with d5 | ⟨j', j1, j2, j3⟩
              · exact bx_neg (by omega) (hc.symm.trans d5)
              · have : j = j' := bx_inj (by omega) (by omega) (hc.symm.trans j2)
                exact j3 (by rw [← this]; exact e1)
          have hR1 : bk_R tc f_threadCount f_fan f_capacity f_pace f_least st' (nI root') f_head (f_records + 1) f_appliedTotal ky' vl' ct' lv' lw' hg' rt' a_spare a_path a_phaseOf a_kindOf a_firstOf a_secondOf a_leftOf a_outcomeOf a_resKey a_resValue a_countOf a_digestOf a_appliedAt a_latchesOf a_place a_unknown us' ks' vs' :=
            ⟨fan, lst, cap, pc, L', h', root', g, C, rfl, ⟨by rw [hrc.1, hlen, nI_1], by omega⟩, b1, by rw [hPn]; exact U, bk_Pl_gw (bk_Gw_tr d3 b3) Pl, Pm', Th⟩
          obtain ⟨r2, u2, v2, p1, p2, p3⟩ := ih (i + 1) (by omega) _ _ _ _ _ _ _ _ _ _ _ _ _ _ _ _ _ _ _ _ _ _ _ _ _ _ _ _ _ _ _ _ _ _ _ _ hR1 (c + 1)
          refine ⟨r2, u2, v2, p1, fun n hn post hp => ?_, fun n hn post hp => ?_⟩
          · obtain ⟨n, rfl⟩ : ∃ m, n = m + 1 := ⟨n - 1, by omega⟩
            have hmf : ∀ post : Int32 → Prop, post 1 → wpX_mayFill post (f_threadCount, f_fan, f_capacity, f_pace, f_least, f_spareTop, f_root, f_head, f_records, f_appliedTotal, a_keys, a_vals, a_count, a_level, a_low, a_high, a_right, a_spare, a_path, a_phaseOf, a_kindOf, a_firstOf, a_secondOf, a_leftOf, a_outcomeOf, a_resKey, a_resValue, a_countOf, a_digestOf, a_appliedAt, a_latchesOf, a_place, a_unknown) (x1 + nI i * x2) := by
              intro post hp
              unfold wpX_mayFill
              exact br_t (by rw [hrc.1, hfcap]; exact nI_lt hfull (by omega)) (hhX _ (br_t hneg (wX _ (br_f (by decide) hp))))
            refine br_f hx1 (nm_e (hmf _ (br_f (by decide) (d6 _ ⟨h + 1 + 1, ?_⟩))))
            have hp2 := p2 n (by omega) post hp
            rw [← nI_1] at hp2
            have := b6 0 (by omega) (h + 1 + 1) (by omega) post (wX_fill_16 post x1 x2 (nI N) n) x1 x2 (nI N) c (nI i) hp2
            rw [hro]
            exact this
          · obtain ⟨n, rfl⟩ : ∃ m, n = m + 1 := ⟨n - 1, by omega⟩
            refine br_f hy1 (br_f hy2 (nm_e (hhY _ (br_f hneg' (wY _ (br_f (by decide) (by_size (br_f ?_ (w1 _ (nm_e (nm_r (nI_1 i) (p3 n (by omega) post hp)))))))))))) 
            rw [← Pm.length_eq, hfcap]
            exact nI_ge hfull (by omega)
        · refine ⟨r0, u0, v0, q1, hXno (fun post hp => ?_), fun n hn post hp => ?_⟩
          · unfold wpX_mayFill
            exact br_f (by rw [hrc.1, hfcap]; exact nI_nlt (by omega) (by omega)) hp
          · obtain ⟨n, rfl⟩ : ∃ m, n = m + 1 := ⟨n - 1, by omega⟩
            refine br_f hy1 (br_f hy2 (nm_e (hhY _ (br_f hneg' (wY _ (br_f (by decide) (by_size (br_t ?_ (nm_r (nI_1 i) (q3 n (by omega) post hp))))))))))
            rw [← Pm.length_eq, hfcap]
            exact nI_le (by omega) (by omega)
    · have hpos' : 0 ≤ rh := by rw [bx_le, bx_z]; rw [bx_lt, bx_z] at hneg; omega
      refine ⟨r0, u0, v0, q1, hXno (fun post hp => ?_), fun n hn post hp => ?_⟩
      · unfold wpX_mayFill
        exact br_c (fun _ => hhX _ (br_f hneg hp)) (fun _ => hp)
      · obtain ⟨n, rfl⟩ : ∃ m, n = m + 1 := ⟨n - 1, by omega⟩
        exact br_f hy1 (br_f hy2 (nm_e (hhY _ (br_t hpos' (nm_r (nI_1 i) (q3 n (by omega) post hp))))))
theorem i_vc_fill {k : Nat} {u : SX} {v : SY} (I : i_Rel k u v) (hk : k + 5 ≤ 2564) (v1 : Int32) (v2 : Int32) (v3 : Int32) : wpX_fill (fun r u' => wpY_fill (fun r' v' => r' = r ∧ i_Rel (k + 5) u' v') v v1 v2 v3) u v1 v2 v3 := by
  obtain ⟨tc, I⟩ := I
  refine bk_el (P := fun u v => wpX_fill (fun r u' => wpY_fill (fun r' v' => r' = r ∧ i_Rel (k + 5) u' v') v v1 v2 v3) u v1 v2 v3) ?_ I
  intro f_threadCount f_fan f_capacity f_pace f_least f_spareTop f_root f_head f_records f_appliedTotal a_keys a_vals a_count a_level a_low a_high a_right a_spare a_path a_phaseOf a_kindOf a_firstOf a_secondOf a_leftOf a_outcomeOf a_resKey a_resValue a_countOf a_digestOf a_appliedAt a_latchesOf a_place a_unknown us ks vs hR
  obtain ⟨N, hN, wc, hs, hN2⟩ := bk_clamp v3 (mx := 32) (M := 32) rfl (by omega)
  obtain ⟨r, u', v', a, b, c⟩ := bk_fill_16 (x1 := v1) (x2 := v2) hN hs hN2 N 0 (by omega) _ _ _ _ _ _ _ _ _ _ _ _ _ _ _ _ _ _ _ _ _ _ _ _ _ _ _ _ _ _ _ _ _ _ _ _ hR 0
  unfold wpX_fill wpY_fill
  exact wc _ _ ⟨N + 1, b _ (by omega) _ ⟨N + 1, c _ (by omega) _ ⟨rfl, tc, a⟩⟩⟩
end
section
/-! ===== 36: prune ===== -/
def bk_Cd (lo hi : Int32) (ho : Int32 → Int32) (p : Int × Int32) : Bool := decide (lo.toInt ≤ p.1 ∧ p.1 ≤ hi.toInt ∧ ho (Int32.ofInt p.1) < 0)
theorem bk_Cd_t {lo hi : Int32} {ho : Int32 → Int32} {p : Int × Int32} (h : lo.toInt ≤ p.1 ∧ p.1 ≤ hi.toInt ∧ ho (Int32.ofInt p.1) < 0) : bk_Cd lo hi ho p = true := decide_eq_true h
theorem bk_Cd_f {lo hi : Int32} {ho : Int32 → Int32} {p : Int × Int32} (h : ¬ (lo.toInt ≤ p.1 ∧ p.1 ≤ hi.toInt ∧ ho (Int32.ofInt p.1) < 0)) : bk_Cd lo hi ho p = false := decide_eq_false h
theorem bk_flt_no {lo hi : Int32} {ho : Int32 → Int32} {M : List (Int × Int32)} (h : ∀ p, p ∈ M → bk_Cd lo hi ho p = false) : M.filter (fun p => !bk_Cd lo hi ho p) = M ∧ M.countP (bk_Cd lo hi ho) = 0 := by
  refine ⟨List.filter_eq_self.mpr (fun p hp => by rw [h p hp]; rfl), List.countP_eq_zero.mpr (fun p hp => by rw [h p hp]; decide)⟩
section
variable {tc fan lst : Nat} {lo hi : Int32} {ho : Int32 → Int32} {f_threadCount f_fan f_capacity f_pace f_least f_spareTop f_root f_head f_records f_appliedTotal : Int32} {a_keys a_vals a_count a_level a_low a_high a_right a_spare a_path a_phaseOf a_kindOf a_firstOf a_secondOf a_leftOf a_outcomeOf a_resKey a_resValue a_countOf a_digestOf a_appliedAt a_latchesOf a_place a_unknown : Nat → Int32}
theorem bx_prune_8 (hho : ∀ key : Int32, ∀ ⦃f_fan f_capacity f_pace f_least f_spareTop f_root f_head f_records f_appliedTotal : Int32⦄ ⦃a_keys a_vals a_count a_level a_low a_high a_right a_spare a_path a_phaseOf a_leftOf a_outcomeOf a_resKey a_resValue a_countOf a_digestOf a_appliedAt a_place a_unknown : Nat → Int32⦄ (post : Int32 → Prop), post (ho key) → wpX_holder post (f_threadCount, f_fan, f_capacity, f_pace, f_least, f_spareTop, f_root, f_head, f_records, f_appliedTotal, a_keys, a_vals, a_count, a_level, a_low, a_high, a_right, a_spare, a_path, a_phaseOf, a_kindOf, a_firstOf, a_secondOf, a_leftOf, a_outcomeOf, a_resKey, a_resValue, a_countOf, a_digestOf, a_appliedAt, a_latchesOf, a_place, a_unknown) key) (htc : f_threadCount = nI tc) (h6 : tc ≤ 6) (hfan : f_fan = nI fan) (hle : f_least = nI lst) :
    ∀ d i, i + d = 64 → ∀ (L : Nat → List bk_Nd) (h root : Nat) (rc st : Int32) (ky vl ct lv lw hg rt sp pa pl un : Nat → Int32) (fr c : Int32) (M1 M2 : List (Int × Int32)),
      bk_W lst fan 100 0 L h root st ky vl ct lv lw hg rt sp → bk_Uk tc un (bk_Pn L h) → bk_fl (L 0) = M1 ++ M2 → (∀ p, p ∈ M1 → p.1 < fr.toInt) → (∀ p, p ∈ M2 → fr.toInt ≤ p.1) → lo.toInt ≤ fr.toInt → M2.length ≤ d → rc = nI (bk_fl (L 0)).length →
      ∃ (L' : Nat → List bk_Nd) (h' root' : Nat) (rc' st' : Int32) (ky' vl' ct' lv' lw' hg' rt' sp' pa' pl' un' : Nat → Int32), bk_W lst fan 100 0 L' h' root' st' ky' vl' ct' lv' lw' hg' rt' sp' ∧ bk_Uk tc un' (bk_Pn L' h') ∧
        bk_fl (L' 0) = M1 ++ M2.filter (fun p => !bk_Cd lo hi ho p) ∧ rc' = nI (bk_fl (L' 0)).length ∧ (∀ q, q < tc → un q < 0 → un' q < 0) ∧ (∀ g, bk_Pl tc pl g L h → bk_Pl tc pl' g L' h') ∧
        ∀ n, d < n → ∀ post : Int32 → SX → Prop, post (c + nI (M2.countP (bk_Cd lo hi ho))) (f_threadCount, f_fan, f_capacity, f_pace, f_least, st', nI root', f_head, rc', f_appliedTotal, ky', vl', ct', lv', lw', hg', rt', sp', pa', a_phaseOf, a_kindOf, a_firstOf, a_secondOf, a_leftOf, a_outcomeOf, a_resKey, a_resValue, a_countOf, a_digestOf, a_appliedAt, a_latchesOf, pl', un') →
          wX_prune_8 post hi n fr c (nI i) f_threadCount f_fan f_capacity f_pace f_least st (nI root) f_head rc f_appliedTotal ky vl ct lv lw hg rt sp pa a_phaseOf a_kindOf a_firstOf a_secondOf a_leftOf a_outcomeOf a_resKey a_resValue a_countOf a_digestOf a_appliedAt a_latchesOf pl un := by
  have hstop : ∀ (c : Int32) (M2 : List (Int × Int32)), (∀ p, p ∈ M2 → bk_Cd lo hi ho p = false) → c + nI (M2.countP (bk_Cd lo hi ho)) = c := by
    intro c M2 hn
    rw [(bk_flt_no hn).2, nI_0, Int32.add_zero]
  intro d
  induction d with
  | zero =>
    intro i hi64 L h root rc st ky vl ct lv lw hg rt sp pa pl un fr c M1 M2 W U hM h1 h2 hlf hd hrc
    have hM2 : M2 = [] := List.length_eq_zero_iff.mp (by omega)
    subst hM2
    refine ⟨L, h, root, rc, st, ky, vl, ct, lv, lw, hg, rt, sp, pa, pl, un, W, U, hM, hrc, fun _ _ z => z, fun g z => z, fun n hn post hp => ?_⟩
    obtain ⟨n, rfl⟩ : ∃ m, n = m + 1 := ⟨n - 1, by omega⟩
    rw [hstop c [] (fun p hp => by cases hp)] at hp
    exact br_t (nI_le (a := 64) (by omega) (by omega)) hp
  | succ d ih =>
    intro i hi64 L h root rc st ky vl ct lv lw hg rt sp pa pl un fr c M1 M2 W U hM h1 h2 hlf hd hrc
    have h64 : ¬ (64 : Int32) ≤ nI i := nI_ge (b := 64) (by omega) (by decide)
    have T := W.1
    have hso : (bk_fl (L 0)).Pairwise (fun p q => p.1 < q.1) := (bk_fl_so (T.1.1 0 (by omega)).1).1
    have hmax : ∀ p, p ∈ bk_fl (L 0) → p.1 < 2147483648 := fun p hp => ((bk_fl_so (T.1.1 0 (by omega)).1).2 p hp).2
    obtain ⟨r, hr, wr⟩ := bx_ceil (key := fr) (s := nI root) (f_threadCount := f_threadCount) (f_fan := f_fan) (f_capacity := f_capacity) (f_pace := f_pace) (f_least := f_least) (f_spareTop := st) (f_root := nI root) (f_head := f_head) (f_records := rc) (f_appliedTotal := f_appliedTotal) (a_keys := ky) (a_vals := vl) (a_count := ct) (a_level := lv) (a_low := lw) (a_high := hg) (a_right := rt) (a_spare := sp) (a_path := pa) (a_phaseOf := a_phaseOf) (a_kindOf := a_kindOf) (a_firstOf := a_firstOf) (a_secondOf := a_secondOf) (a_leftOf := a_leftOf) (a_outcomeOf := a_outcomeOf) (a_resKey := a_resKey) (a_resValue := a_resValue) (a_countOf := a_countOf) (a_digestOf := a_digestOf) (a_appliedAt := a_appliedAt) (a_latchesOf := a_latchesOf) (a_place := pl) (a_unknown := un) T (bk_St_root T.1 _)
    rcases hr with ⟨k', v, S, hk, hmin⟩ | ⟨rfl, hn⟩
    · -- the next record
      obtain ⟨q, q1, rfl, q3, q4⟩ := bk_Sl_at T S
      have hmem := bk_Sl_mem S
      have hM2 : ∃ M3, M2 = (k', v) :: M3 := by
        have hin : (k', v) ∈ M2 := by
          rw [hM] at hmem
          rcases List.mem_append.mp hmem with z | z
          · have := h1 _ z
            have : k' < fr.toInt := this
            omega
          · exact z
        cases M2 with
        | nil => cases hin
        | cons a M3 =>
          rcases List.mem_cons.mp hin with z | z
          · exact ⟨M3, by rw [z]⟩
          · exfalso
            rw [hM] at hso
            have h3 := (List.pairwise_cons.mp (List.pairwise_append.mp hso).2.1).1 _ z
            have h3 : a.1 < k' := h3
            have h4 := hmin a (by rw [hM]; simp) (h2 a List.mem_cons_self)
            omega
      obtain ⟨M3, rfl⟩ := hM2
      rw [hM] at hso
      have d0 := List.pairwise_append.mp hso
      have d1 := List.pairwise_cons.mp d0.2.1
      have hM3 : ∀ p, p ∈ M3 → k' < p.1 := fun p hp => d1.1 p hp
      have hM1 : ∀ p, p ∈ M1 → p.1 < k' := fun p hp => d0.2.2 p hp (k', v) List.mem_cons_self
      have hof : Int32.ofInt k' = ky q := by rw [← q3]; exact Int32.ofInt_toInt _
      rw [List.length_cons] at hd
      by_cases hhi : k' ≤ hi.toInt
      · -- within: held or not
        by_cases hold : 0 ≤ ho (ky q)
        · have hcf : bk_Cd lo hi ho (k', v) = false := bk_Cd_f (fun z => by
            have := z.2.2
            rw [show Int32.ofInt (k', v).1 = ky q from hof, bx_lt, bx_z] at this
            rw [bx_le, bx_z] at hold
            omega)
          have hfe : ((k', v) :: M3).filter (fun p => !bk_Cd lo hi ho p) = (k', v) :: M3.filter (fun p => !bk_Cd lo hi ho p) := by
            rw [List.filter_cons_of_pos (by rw [hcf]; rfl)]
          have hce : ((k', v) :: M3).countP (bk_Cd lo hi ho) = M3.countP (bk_Cd lo hi ho) := by
            rw [List.countP_cons_of_neg (by rw [hcf]; decide)]
          rw [hfe, hce]
          by_cases hmx : ky q = 2147483647
          · have hk47 : k' = 2147483647 := by rw [← q3, hmx]; decide
            have hnil : M3 = [] := by
              cases M3 with
              | nil => rfl
              | cons a M4 =>
                have e1 := hM3 a List.mem_cons_self
                have e2 := hmax a (by rw [hM]; simp)
                omega
            subst hnil
            refine ⟨L, h, root, rc, st, ky, vl, ct, lv, lw, hg, rt, sp, pa, pl, un, W, U, hM, hrc, fun _ _ z => z, fun g z => z, fun n hn post hp => ?_⟩
            obtain ⟨n, rfl⟩ : ∃ m, n = m + 1 := ⟨n - 1, by omega⟩
            rw [hstop c [] (fun p hp => by cases hp)] at hp
            refine br_f h64 (wr _ (br_t (nI_pos' (by omega)) ⟨vp_in_nI q1 (by omega), nm_r (e' := ky q) (by rw [bx_cl q1]) (br_t (by rw [bx_le, q3]; exact hhi) (hho (ky q) _ (br_t hold ?_)))⟩))
            unfold wX_prune_70
            exact br_t hmx hp
          · have hne : (ky q).toInt ≠ 2147483647 := fun z => hmx (Int32.toInt_inj.mp (by rw [z]; decide))
            have hadd := bx_add1 hne
            obtain ⟨L', h', root', rc', st', ky', vl', ct', lv', lw', hg', rt', sp', pa', pl', un', a1, a2, a3, a4, a5, a6, a7⟩ := ih (i + 1) (by omega) L h root rc st ky vl ct lv lw hg rt sp pa pl un (ky q + 1) c (M1 ++ [(k', v)]) M3 W U (by rw [hM]; simp) (fun p hp => by
                rw [hadd, q3]
                rcases List.mem_append.mp hp with hp | hp
                · have := hM1 p hp; omega
                · rw [List.mem_singleton.mp hp]; show k' < k' + 1; omega) (fun p hp => by rw [hadd, q3]; have := hM3 p hp; omega) (by rw [hadd, q3]; omega) (by omega) hrc
            refine ⟨L', h', root', rc', st', ky', vl', ct', lv', lw', hg', rt', sp', pa', pl', un', a1, a2, by rw [a3]; simp, a4, a5, a6, fun n hn post hp => ?_⟩
            obtain ⟨n, rfl⟩ : ∃ m, n = m + 1 := ⟨n - 1, by omega⟩
            refine br_f h64 (wr _ (br_t (nI_pos' (by omega)) ⟨vp_in_nI q1 (by omega), nm_r (e' := ky q) (by rw [bx_cl q1]) (br_t (by rw [bx_le, q3]; exact hhi) (hho (ky q) _ (br_t hold ?_)))⟩))
            unfold wX_prune_70
            exact br_f hmx (nm_e (nm_r (nI_1 i) (a7 n (by omega) post hp)))
        · have hct : bk_Cd lo hi ho (k', v) = true := bk_Cd_t ⟨by show lo.toInt ≤ k'; omega, hhi, by
            rw [show Int32.ofInt (k', v).1 = ky q from hof, bx_lt, bx_z]
            rw [bx_le, bx_z] at hold
            omega⟩
          have hfe : ((k', v) :: M3).filter (fun p => !bk_Cd lo hi ho p) = M3.filter (fun p => !bk_Cd lo hi ho p) := by
            rw [List.filter_cons_of_neg (by rw [hct]; decide)]
          have hce : ((k', v) :: M3).countP (bk_Cd lo hi ho) = M3.countP (bk_Cd lo hi ho) + 1 := by
            rw [List.countP_cons_of_pos hct]
          rw [hfe, hce]
          obtain ⟨L1, h1', root1, st1, ky1, vl1, ct1, lv1, lw1, hg1, rt1, sp1, pa1, pl1, un1, b1, ⟨N1, N2, n1, n2⟩, b3, b4, b5, b6⟩ := bx_uproot (tc := tc) (f_threadCount := f_threadCount) (f_fan := f_fan) (f_capacity := f_capacity) (f_pace := f_pace) (f_least := f_least) (f_spareTop := st) (f_root := nI root) (f_head := f_head) (f_records := rc) (f_appliedTotal := f_appliedTotal) (a_keys := ky) (a_vals := vl) (a_count := ct) (a_level := lv) (a_low := lw) (a_high := hg) (a_right := rt) (a_spare := sp) (a_path := pa) (a_phaseOf := a_phaseOf) (a_kindOf := a_kindOf) (a_firstOf := a_firstOf) (a_secondOf := a_secondOf) (a_leftOf := a_leftOf) (a_outcomeOf := a_outcomeOf) (a_resKey := a_resKey) (a_resValue := a_resValue) (a_countOf := a_countOf) (a_digestOf := a_digestOf) (a_appliedAt := a_appliedAt) (a_latchesOf := a_latchesOf) (a_place := pl) (a_unknown := un) W htc h6 hfan hle rfl U S
          have hcut : M1 = N1 ∧ ((k', v) :: M3) = ((k', v) :: N2) := by
            have hso2 := hso
            rw [← hM, n1] at hso2
            have dd := List.pairwise_append.mp hso2
            have dd1 := List.pairwise_cons.mp dd.2.1
            refine bk_su (p := fun z : Int × Int32 => z.1 < k') (hM.symm.trans n1) hM1 (fun a ha hc => ?_) (fun a ha => dd.2.2 a ha (k', v) List.mem_cons_self) (fun a ha hc => ?_)
            · have hc : a.1 < k' := hc
              rcases List.mem_cons.mp ha with z | z
              · rw [z] at hc; exact absurd hc (by show ¬ k' < k'; omega)
              · have := hM3 a z; omega
            · have hc : a.1 < k' := hc
              rcases List.mem_cons.mp ha with z | z
              · rw [z] at hc; exact absurd hc (by show ¬ k' < k'; omega)
              · have := dd1.1 a z
                have : k' < a.1 := this
                omega
          obtain ⟨c1, c2⟩ := hcut
          injection c2 with _ c3
          subst c1 c3
          have hrc1 : rc - 1 = nI (bk_fl (L1 0)).length := by
            rw [hrc, n1, n2]
            rw [show (M1 ++ (k', v) :: M3).length = (M1 ++ M3).length + 1 by simp; omega, nI_pred]
          have hcn : ∀ m : Nat, c + 1 + nI m = c + nI (m + 1) := fun m => by
            rw [Int32.add_assoc, ← nI_1, Int32.add_comm 1 (nI m)]
          by_cases hmx : ky q = 2147483647
          · have hk47 : k' = 2147483647 := by rw [← q3, hmx]; decide
            have hnil : M3 = [] := by
              cases M3 with
              | nil => rfl
              | cons a M4 =>
                have e1 := hM3 a List.mem_cons_self
                have e2 := hmax a (by rw [hM]; simp)
                omega
            subst hnil
            refine ⟨L1, h1', root1, rc - 1, st1, ky1, vl1, ct1, lv1, lw1, hg1, rt1, sp1, pa1, pl1, un1, b1, b3, n2, hrc1, b4, b5, fun n hn post hp => ?_⟩
            obtain ⟨n, rfl⟩ : ∃ m, n = m + 1 := ⟨n - 1, by omega⟩
            refine br_f h64 (wr _ (br_t (nI_pos' (by omega)) ⟨vp_in_nI q1 (by omega), nm_r (e' := ky q) (by rw [bx_cl q1]) (br_t (by rw [bx_le, q3]; exact hhi) (hho (ky q) _ (br_f hold (b6 _ (nm_e ?_)))))⟩))
            unfold wX_prune_70
            exact br_t hmx hp
          · have hne : (ky q).toInt ≠ 2147483647 := fun z => hmx (Int32.toInt_inj.mp (by rw [z]; decide))
            have hadd := bx_add1 hne
            obtain ⟨L', h', root', rc', st', ky', vl', ct', lv', lw', hg', rt', sp', pa', pl', un', a1, a2, a3, a4, a5, a6, a7⟩ := ih (i + 1) (by omega) L1 h1' root1 (rc - 1) st1 ky1 vl1 ct1 lv1 lw1 hg1 rt1 sp1 pa1 pl1 un1 (ky q + 1) (c + 1) M1 M3 b1 b3 n2 (fun p hp => by
                rw [hadd, q3]; have := hM1 p hp; omega) (fun p hp => by rw [hadd, q3]; have := hM3 p hp; omega) (by rw [hadd, q3]; omega) (by omega) hrc1
            refine ⟨L', h', root', rc', st', ky', vl', ct', lv', lw', hg', rt', sp', pa', pl', un', a1, a2, a3, a4, fun q' hq' z => a5 q' hq' (b4 q' hq' z), fun g z => a6 g (b5 g z), fun n hn post hp => ?_⟩
            obtain ⟨n, rfl⟩ : ∃ m, n = m + 1 := ⟨n - 1, by omega⟩
            refine br_f h64 (wr _ (br_t (nI_pos' (by omega)) ⟨vp_in_nI q1 (by omega), nm_r (e' := ky q) (by rw [bx_cl q1]) (br_t (by rw [bx_le, q3]; exact hhi) (hho (ky q) _ (br_f hold (b6 _ (nm_e ?_)))))⟩))
            unfold wX_prune_70
            refine br_f hmx (nm_e (nm_r (nI_1 i) (a7 n (by omega) post ?_)))
            rw [hcn]
            exact hp
      · -- beyond
        have hno : ∀ p, p ∈ (k', v) :: M3 → bk_Cd lo hi ho p = false := fun p hp => bk_Cd_f (fun z => by
          have := z.2.1
          rcases List.mem_cons.mp hp with w | w
          · rw [w] at this
            have : k' ≤ hi.toInt := this
            omega
          · have := hM3 p w; omega)
        refine ⟨L, h, root, rc, st, ky, vl, ct, lv, lw, hg, rt, sp, pa, pl, un, W, U, by rw [(bk_flt_no hno).1]; exact hM, hrc, fun _ _ z => z, fun g z => z, fun n hn post hp => ?_⟩
        obtain ⟨n, rfl⟩ : ∃ m, n = m + 1 := ⟨n - 1, by omega⟩
        rw [hstop c _ hno] at hp
        exact br_f h64 (wr _ (br_t (nI_pos' (by omega)) ⟨vp_in_nI q1 (by omega), nm_r (e' := ky q) (by rw [bx_cl q1]) (br_f (by rw [bx_le, q3]; exact hhi) hp)⟩))
    · have hM2 : M2 = [] := by
        cases M2 with
        | nil => rfl
        | cons a M3 =>
          have e1 := hn a (by rw [hM]; simp)
          have e2 := h2 a List.mem_cons_self
          omega
      subst hM2
      refine ⟨L, h, root, rc, st, ky, vl, ct, lv, lw, hg, rt, sp, pa, pl, un, W, U, hM, hrc, fun _ _ z => z, fun g z => z, fun n hn post hp => ?_⟩
      obtain ⟨n, rfl⟩ : ∃ m, n = m + 1 := ⟨n - 1, by omega⟩
      rw [hstop c [] (fun p hp => by cases hp)] at hp
      exact br_f h64 (wr _ (br_f (by decide) hp))
end
section
variable {lo hi : Int32} {ho : Int32 → Int32} {f_threadCount f_fan f_capacity f_pace f_appliedTotal : Int32} {us ks vs a_phaseOf a_kindOf a_firstOf a_secondOf a_leftOf a_outcomeOf a_resKey a_resValue a_countOf a_digestOf a_appliedAt a_latchesOf : Nat → Int32}
theorem by_prune_5 (hho : ∀ key : Int32, ∀ ⦃f_fan f_capacity f_pace f_appliedTotal : Int32⦄ ⦃us ks vs a_phaseOf a_leftOf a_outcomeOf a_resKey a_resValue a_countOf a_digestOf a_appliedAt : Nat → Int32⦄ (post : Int32 → Prop), post (ho key) → wpY_holder post (f_threadCount, f_fan, f_capacity, f_pace, f_appliedTotal, us, ks, vs, a_phaseOf, a_kindOf, a_firstOf, a_secondOf, a_leftOf, a_outcomeOf, a_resKey, a_resValue, a_countOf, a_digestOf, a_appliedAt, a_latchesOf) key) :
    ∀ d s, s + d = 64 → ∀ us1 : Nat → Int32, (∀ q, s ≤ q → us1 q = us q) → bk_yl us1 ks vs s = (bk_yl us ks vs s).filter (fun p => !bk_Cd lo hi ho p) →
      ∃ us' : Nat → Int32, bk_yl us' ks vs 64 = (bk_yl us ks vs 64).filter (fun p => !bk_Cd lo hi ho p) ∧
        ∀ n, d < n → ∀ post : Int32 → SY → Prop, post (nI ((bk_yl us ks vs 64).countP (bk_Cd lo hi ho))) (f_threadCount, f_fan, f_capacity, f_pace, f_appliedTotal, us', ks, vs, a_phaseOf, a_kindOf, a_firstOf, a_secondOf, a_leftOf, a_outcomeOf, a_resKey, a_resValue, a_countOf, a_digestOf, a_appliedAt, a_latchesOf) →
          wY_prune_5 post lo hi f_threadCount f_fan f_capacity f_pace f_appliedTotal n (nI ((bk_yl us ks vs s).countP (bk_Cd lo hi ho))) (nI s) us1 ks vs a_phaseOf a_kindOf a_firstOf a_secondOf a_leftOf a_outcomeOf a_resKey a_resValue a_countOf a_digestOf a_appliedAt a_latchesOf := by
  intro d
  induction d with
  | zero =>
    intro s hs us1 h1 h2
    have : s = 64 := by omega
    subst this
    refine ⟨us1, h2, fun n hn post hp => ?_⟩
    obtain ⟨n, rfl⟩ : ∃ m, n = m + 1 := ⟨n - 1, by omega⟩
    exact br_t (nI_le (a := 64) (by omega) (by omega)) hp
  | succ d ih =>
    intro s hs us1 h1 h2
    have c64 : ¬ (64 : Int32) ≤ nI s := nI_ge (b := 64) (by omega) (by decide)
    have hin : vp_in (nI s) 64 := bk_64 (by omega)
    have hcl : (nI s).toNatClampNeg = s := bx_cl (by omega)
    have hus := h1 s (Nat.le_refl _)
    -- the slot stays
    have keep : bk_ce us ks vs s = (bk_ce us ks vs s).filter (fun p => !bk_Cd lo hi ho p) → (bk_ce us ks vs s).countP (bk_Cd lo hi ho) = 0 →
        ∃ us' : Nat → Int32, bk_yl us' ks vs 64 = (bk_yl us ks vs 64).filter (fun p => !bk_Cd lo hi ho p) ∧
        ∀ n, d < n → ∀ post : Int32 → SY → Prop, post (nI ((bk_yl us ks vs 64).countP (bk_Cd lo hi ho))) (f_threadCount, f_fan, f_capacity, f_pace, f_appliedTotal, us', ks, vs, a_phaseOf, a_kindOf, a_firstOf, a_secondOf, a_leftOf, a_outcomeOf, a_resKey, a_resValue, a_countOf, a_digestOf, a_appliedAt, a_latchesOf) →
          wY_prune_5 post lo hi f_threadCount f_fan f_capacity f_pace f_appliedTotal n (nI ((bk_yl us ks vs s).countP (bk_Cd lo hi ho))) (nI (s + 1)) us1 ks vs a_phaseOf a_kindOf a_firstOf a_secondOf a_leftOf a_outcomeOf a_resKey a_resValue a_countOf a_digestOf a_appliedAt a_latchesOf := by
      intro k1 k2
      have e1 : bk_ce us1 ks vs s = bk_ce us ks vs s := by unfold bk_ce; rw [hus]
      obtain ⟨us', a, b⟩ := ih (s + 1) (by omega) us1 (fun q hq => h1 q (by omega)) (by rw [bk_yl_s, bk_yl_s, List.filter_append, h2, e1, ← k1])
      rw [bk_yl_s us ks vs s, List.countP_append, k2, Nat.add_zero] at b
      exact ⟨us', a, b⟩
    by_cases u : us s = 0
    · obtain ⟨us', a, b⟩ := keep (by rw [bk_ce_0 u]; rfl) (by rw [bk_ce_0 u]; rfl)
      refine ⟨us', a, fun n hn post hp => ?_⟩
      obtain ⟨n, rfl⟩ : ∃ m, n = m + 1 := ⟨n - 1, by omega⟩
      exact br_f c64 ⟨hin, br_t (by rw [hcl, hus]; exact u) (nm_r (nI_1 s) (b n (by omega) post hp))⟩
    · have u1 : ¬ us1 (nI s).toNatClampNeg = 0 := by rw [hcl, hus]; exact u
      have hkeep : bk_Cd lo hi ho ((ks s).toInt, vs s) = false → ∃ us' : Nat → Int32, bk_yl us' ks vs 64 = (bk_yl us ks vs 64).filter (fun p => !bk_Cd lo hi ho p) ∧
        ∀ n, d < n → ∀ post : Int32 → SY → Prop, post (nI ((bk_yl us ks vs 64).countP (bk_Cd lo hi ho))) (f_threadCount, f_fan, f_capacity, f_pace, f_appliedTotal, us', ks, vs, a_phaseOf, a_kindOf, a_firstOf, a_secondOf, a_leftOf, a_outcomeOf, a_resKey, a_resValue, a_countOf, a_digestOf, a_appliedAt, a_latchesOf) →
          wY_prune_5 post lo hi f_threadCount f_fan f_capacity f_pace f_appliedTotal n (nI ((bk_yl us ks vs s).countP (bk_Cd lo hi ho))) (nI (s + 1)) us1 ks vs a_phaseOf a_kindOf a_firstOf a_secondOf a_leftOf a_outcomeOf a_resKey a_resValue a_countOf a_digestOf a_appliedAt a_latchesOf := by
        intro hcf
        refine keep ?_ ?_
        · rw [bk_ce_1 u, List.filter_cons_of_pos (by rw [hcf]; rfl)]; rfl
        · rw [bk_ce_1 u, List.countP_cons_of_neg (by rw [hcf]; decide)]; rfl
      by_cases k1 : (ks s).toInt < lo.toInt
      · obtain ⟨us', a, b⟩ := hkeep (bk_Cd_f (fun z => by have := z.1; have : lo.toInt ≤ (ks s).toInt := this; omega))
        refine ⟨us', a, fun n hn post hp => ?_⟩
        obtain ⟨n, rfl⟩ : ∃ m, n = m + 1 := ⟨n - 1, by omega⟩
        exact br_f c64 ⟨hin, br_f u1 ⟨hin, br_t (by rw [hcl, bx_lt]; exact k1) (nm_r (nI_1 s) (b n (by omega) post hp))⟩⟩
      · by_cases k2 : hi.toInt < (ks s).toInt
        · obtain ⟨us', a, b⟩ := hkeep (bk_Cd_f (fun z => by have := z.2.1; have : (ks s).toInt ≤ hi.toInt := this; omega))
          refine ⟨us', a, fun n hn post hp => ?_⟩
          obtain ⟨n, rfl⟩ : ∃ m, n = m + 1 := ⟨n - 1, by omega⟩
          exact br_f c64 ⟨hin, br_f u1 ⟨hin, br_f (by rw [hcl, bx_lt]; exact k1) ⟨hin, br_t (by rw [hcl, bx_lt]; exact k2) (nm_r (nI_1 s) (b n (by omega) post hp))⟩⟩⟩
        · have hof : Int32.ofInt (((ks s).toInt, vs s) : Int × Int32).1 = ks s := Int32.ofInt_toInt _
          by_cases k3 : 0 ≤ ho (ks s)
          · obtain ⟨us', a, b⟩ := hkeep (bk_Cd_f (fun z => by
              have := z.2.2
              rw [hof, bx_lt, bx_z] at this
              rw [bx_le, bx_z] at k3
              omega))
            refine ⟨us', a, fun n hn post hp => ?_⟩
            obtain ⟨n, rfl⟩ : ∃ m, n = m + 1 := ⟨n - 1, by omega⟩
            refine br_f c64 ⟨hin, br_f u1 ⟨hin, br_f (by rw [hcl, bx_lt]; exact k1) ⟨hin, br_f (by rw [hcl, bx_lt]; exact k2) ⟨hin, ?_⟩⟩⟩⟩
            rw [hcl]
            exact hho (ks s) _ (br_t k3 (nm_r (nI_1 s) (b n (by omega) post hp)))
          · have hct : bk_Cd lo hi ho ((ks s).toInt, vs s) = true := bk_Cd_t ⟨by show lo.toInt ≤ (ks s).toInt; omega, by show (ks s).toInt ≤ hi.toInt; omega, by
              rw [hof, bx_lt, bx_z]
              rw [bx_le, bx_z] at k3
              omega⟩
            obtain ⟨us', a, b⟩ := ih (s + 1) (by omega) (upd us1 s 0) (fun q hq => by rw [pk_un (by omega)]; exact h1 q (by omega)) (by
              rw [bk_yl_s, bk_yl_s, List.filter_append, bk_ce_0 pk_us, bk_ce_1 u, List.filter_cons_of_neg (by rw [hct]; decide), List.filter_nil, ← h2]
              refine congrArg (fun z => z ++ []) (bk_yl_eq (fun q hq => ?_))
              unfold bk_ce
              rw [pk_un (by omega)])
            rw [bk_yl_s us ks vs s, List.countP_append, bk_ce_1 u, List.countP_cons_of_pos hct, List.countP_nil] at b
            refine ⟨us', a, fun n hn post hp => ?_⟩
            obtain ⟨n, rfl⟩ : ∃ m, n = m + 1 := ⟨n - 1, by omega⟩
            refine br_f c64 ⟨hin, br_f u1 ⟨hin, br_f (by rw [hcl, bx_lt]; exact k1) ⟨hin, br_f (by rw [hcl, bx_lt]; exact k2) ⟨hin, ?_⟩⟩⟩⟩
            rw [hcl]
            exact hho (ks s) _ (br_f k3 ⟨hin, nm_e (nm_r (nI_1 _) (nm_r (nI_1 s) (b n (by omega) post hp)))⟩)
end
theorem i_vc_prune {k : Nat} {u : SX} {v : SY} (I : i_Rel k u v) (hk : k + 5 ≤ 2564) (v1 : Int32) (v2 : Int32) : wpX_prune (fun r u' => wpY_prune (fun r' v' => r' = r ∧ i_Rel (k + 5) u' v') v v1 v2) u v1 v2 := by
  obtain ⟨tc, I⟩ := I
  refine bk_el (P := fun u v => wpX_prune (fun r u' => wpY_prune (fun r' v' => r' = r ∧ i_Rel (k + 5) u' v') v v1 v2) u v1 v2) ?_ I
  intro f_threadCount f_fan f_capacity f_pace f_least f_spareTop f_root f_head f_records f_appliedTotal a_keys a_vals a_count a_level a_low a_high a_right a_spare a_path a_phaseOf a_kindOf a_firstOf a_secondOf a_leftOf a_outcomeOf a_resKey a_resValue a_countOf a_digestOf a_appliedAt a_latchesOf a_place a_unknown us ks vs hR
  obtain ⟨fan, lst, cap, pc, L, h, root, g, J⟩ := hR
  have H := bk_hold (a_kindOf := a_kindOf) (a_firstOf := a_firstOf) (a_secondOf := a_secondOf) J.1.1 J.1.2.1 (bk_J_la J)
  obtain ⟨ho, hho⟩ : ∃ ho : Int32 → Int32, ∀ key, (∀ ⦃f_fan f_capacity f_pace f_least f_spareTop f_root f_head f_records f_appliedTotal : Int32⦄ ⦃a_keys a_vals a_count a_level a_low a_high a_right a_spare a_path a_phaseOf a_leftOf a_outcomeOf a_resKey a_resValue a_countOf a_digestOf a_appliedAt a_place a_unknown : Nat → Int32⦄ (post : Int32 → Prop), post (ho key) → wpX_holder post (f_threadCount, f_fan, f_capacity, f_pace, f_least, f_spareTop, f_root, f_head, f_records, f_appliedTotal, a_keys, a_vals, a_count, a_level, a_low, a_high, a_right, a_spare, a_path, a_phaseOf, a_kindOf, a_firstOf, a_secondOf, a_leftOf, a_outcomeOf, a_resKey, a_resValue, a_countOf, a_digestOf, a_appliedAt, a_latchesOf, a_place, a_unknown) key) ∧ (∀ ⦃f_fan f_capacity f_pace f_appliedTotal : Int32⦄ ⦃us ks vs a_phaseOf a_leftOf a_outcomeOf a_resKey a_resValue a_countOf a_digestOf a_appliedAt : Nat → Int32⦄ (post : Int32 → Prop), post (ho key) → wpY_holder post (f_threadCount, f_fan, f_capacity, f_pace, f_appliedTotal, us, ks, vs, a_phaseOf, a_kindOf, a_firstOf, a_secondOf, a_leftOf, a_outcomeOf, a_resKey, a_resValue, a_countOf, a_digestOf, a_appliedAt, a_latchesOf) key) :=
    ⟨fun key => (H key).choose, fun key => (H key).choose_spec.2⟩
  have hso := bk_J_so J
  obtain ⟨C, hro, hrc, W, U, Pl, Pm, Th⟩ := J
  have hcap := C.2.2.2.2.2.1
  obtain ⟨M1, M2, hM, h1, h2⟩ := bk_cut v1.toInt hso
  have hlen : (bk_fl (L 0)).length = M1.length + M2.length := by rw [hM, List.length_append]
  obtain ⟨L', h', root', rc', st', ky', vl', ct', lv', lw', hg', rt', sp', pa', pl', un', a1, a2, a3, a4, a5, a6, a7⟩ := bx_prune_8 (lo := v1) (hi := v2) (ho := ho) (f_threadCount := f_threadCount) (f_fan := f_fan) (f_capacity := f_capacity) (f_pace := f_pace) (f_least := f_least) (f_head := f_head) (f_appliedTotal := f_appliedTotal) (a_phaseOf := a_phaseOf) (a_kindOf := a_kindOf) (a_firstOf := a_firstOf) (a_secondOf := a_secondOf) (a_leftOf := a_leftOf) (a_outcomeOf := a_outcomeOf) (a_resKey := a_resKey) (a_resValue := a_resValue) (a_countOf := a_countOf) (a_digestOf := a_digestOf) (a_appliedAt := a_appliedAt) (a_latchesOf := a_latchesOf) (fun key => (hho key).1) C.1 C.2.1 C.2.2.1 C.2.2.2.1
    64 0 (by omega) L h root f_records f_spareTop a_keys a_vals a_count a_level a_low a_high a_right a_spare a_path a_place a_unknown v1 0 M1 M2 W U hM h1 h2 (Int.le_refl _) (by have := hrc.2; omega) hrc.1
  obtain ⟨us', b1, b2⟩ := by_prune_5 (lo := v1) (hi := v2) (ho := ho) (f_threadCount := f_threadCount) (f_fan := f_fan) (f_capacity := f_capacity) (f_pace := f_pace) (f_appliedTotal := f_appliedTotal) (us := us) (ks := ks) (vs := vs) (a_phaseOf := a_phaseOf) (a_kindOf := a_kindOf) (a_firstOf := a_firstOf) (a_secondOf := a_secondOf) (a_leftOf := a_leftOf) (a_outcomeOf := a_outcomeOf) (a_resKey := a_resKey) (a_resValue := a_resValue) (a_countOf := a_countOf) (a_digestOf := a_digestOf) (a_appliedAt := a_appliedAt) (a_latchesOf := a_latchesOf) (fun key => (hho key).2) 64 0 (by omega) us (fun _ _ => rfl) rfl
  have hno1 : ∀ p, p ∈ M1 → bk_Cd v1 v2 ho p = false := fun p hp => bk_Cd_f (fun z => by have e1 := h1 p hp; have e2 := z.1; omega)
  have hfl : bk_fl (L' 0) = (bk_fl (L 0)).filter (fun p => !bk_Cd v1 v2 ho p) := by
    rw [a3, hM, List.filter_append, (bk_flt_no hno1).1]
  have hcn : M2.countP (bk_Cd v1 v2 ho) = (bk_yl us ks vs 64).countP (bk_Cd v1 v2 ho) := by
    rw [← Pm.countP_eq, hM, List.countP_append, (bk_flt_no hno1).2, Nat.zero_add]
  have hPm : bk_Pm (bk_fl (L' 0)) us' ks vs := by
    rw [hfl]
    have := Pm.filter (fun p => !bk_Cd v1 v2 ho p)
    rw [← b1] at this
    exact this
  have hl' : (bk_fl (L' 0)).length ≤ cap := by
    rw [hfl]
    have := List.length_filter_le (fun p => !bk_Cd v1 v2 ho p) (bk_fl (L 0))
    have := hrc.2
    omega
  have hTh : bk_Th tc g a_phaseOf a_kindOf a_firstOf a_secondOf a_leftOf a_countOf a_resKey a_latchesOf un' :=
    bk_Th_up (t := tc) Th (fun q hq _ => ⟨rfl, rfl, rfl, rfl, rfl, rfl, rfl, rfl, rfl, a5 q hq⟩) (fun z => absurd z (by omega))
  unfold wpX_prune wpY_prune
  rw [hro]
  refine ⟨65, a7 65 (by omega) _ ⟨65, b2 65 (by omega) _ ⟨?_, tc, bk_in ⟨fan, lst, cap, pc, L', h', root', g, C, rfl, ⟨a4, hl'⟩, a1, a2, a6 g Pl, hPm, hTh⟩⟩⟩⟩
  rw [← hcn, Int32.zero_add]
end
section
/-! ===== 37: the constructors ===== -/
theorem bk_clmp (v : Int32) {a b : Nat} {A B : Int32} (hA : A = nI a) (hB : B = nI b) (hab : a ≤ b) (hb : b ≤ 64) :
    ∃ N, a ≤ N ∧ N ≤ b ∧ (∀ (u : SX) (post : Int32 → Prop), post (nI N) → wpX_clamp post u v A B) ∧ (∀ (w : SY) (post : Int32 → Prop), post (nI N) → wpY_clamp post w v A B) := by
  subst hA hB
  by_cases h0 : nI a ≤ v
  · by_cases h1 : v ≤ nI b
    · have hz : ¬ v < 0 := by
        rw [bx_lt, bx_z]
        rw [bx_le, bx_tI (by omega)] at h0
        omega
      obtain ⟨N, hN, rfl⟩ := nI_of2 (x := v) (M := nI b) (n := b) (nI_toInt (by omega)) hz h1
      exact ⟨N, (nI_leI (by omega) (by omega)).mp h0, hN, fun u post hp => br_t h0 (br_t h1 hp), fun u post hp => br_t h0 (br_t h1 hp)⟩
    · exact ⟨b, hab, Nat.le_refl _, fun u post hp => br_t h0 (br_f h1 hp), fun u post hp => br_t h0 (br_f h1 hp)⟩
  · exact ⟨a, Nat.le_refl _, hab, fun u post hp => br_f h0 hp, fun u post hp => br_f h0 hp⟩
theorem bk_yl_0 {us ks vs : Nat → Int32} : ∀ n, (∀ s, s < n → us s = 0) → bk_yl us ks vs n = []
  | 0, _ => rfl
  | n + 1, h => by rw [bk_yl_s, bk_yl_0 n (fun s hs => h s (by omega)), bk_ce_0 (h n (by omega))]; rfl
section
variable {f_threadCount f_fan f_capacity f_pace f_least f_spareTop f_root f_head f_records f_appliedTotal : Int32} {a_keys a_vals a_count a_level a_low a_high a_right a_spare a_path a_phaseOf a_kindOf a_firstOf a_secondOf a_leftOf a_outcomeOf a_resKey a_resValue a_countOf a_digestOf a_appliedAt a_latchesOf a_place a_unknown : Nat → Int32}
theorem bx_ini_324 : ∀ d t, t + d = 6 → ∀ pl un : Nat → Int32, (∀ q, q < t → pl q = -1 ∧ un q = -1) → ∃ pl' un' : Nat → Int32, (∀ q, q < 6 → pl' q = -1 ∧ un' q = -1) ∧
    ∀ n, d < n → ∀ post : SX → Prop, post (f_threadCount, f_fan, f_capacity, f_pace, f_least, f_spareTop, f_root, f_head, f_records, f_appliedTotal, a_keys, a_vals, a_count, a_level, a_low, a_high, a_right, a_spare, a_path, a_phaseOf, a_kindOf, a_firstOf, a_secondOf, a_leftOf, a_outcomeOf, a_resKey, a_resValue, a_countOf, a_digestOf, a_appliedAt, a_latchesOf, pl', un') → wX_init_324 post f_threadCount f_fan f_capacity f_pace f_least f_spareTop f_root f_head f_records f_appliedTotal n (nI t) a_keys a_vals a_count a_level a_low a_high a_right a_spare a_path a_phaseOf a_kindOf a_firstOf a_secondOf a_leftOf a_outcomeOf a_resKey a_resValue a_countOf a_digestOf a_appliedAt a_latchesOf pl un := by
  intro d
  induction d with
  | zero =>
    intro t ht pl un h
    refine ⟨pl, un, fun q hq => h q (by omega), fun n hn post hp => ?_⟩
    obtain ⟨n, rfl⟩ : ∃ m, n = m + 1 := ⟨n - 1, by omega⟩
    exact br_t (nI_le (a := 6) (by omega) (by omega)) hp
  | succ d ih =>
    intro t ht pl un h
    obtain ⟨pl', un', a, b⟩ := ih (t + 1) (by omega) (upd pl t (-1)) (upd un t (-1)) (fun q hq => by
      by_cases e : q = t
      · rw [e, pk_us, pk_us]; exact ⟨rfl, rfl⟩
      · rw [pk_un e, pk_un e]; exact h q (by omega))
    refine ⟨pl', un', a, fun n hn post hp => ?_⟩
    obtain ⟨n, rfl⟩ : ∃ m, n = m + 1 := ⟨n - 1, by omega⟩
    have hi := bx_6 (t := t) (by omega)
    refine br_f (nI_ge (b := 6) (by omega) (by decide)) ?_
    rw [bx_c6 (t := t) (by omega)]
    exact ⟨hi, nm_e ⟨hi, nm_e (nm_r (nI_1 t) (b n (by omega) post hp))⟩⟩
theorem bx_ini_255 : ∀ d s, s + d = 79 → ∀ sp : Nat → Int32, (∀ i, i < s → sp i = nI (79 - i)) → ∃ sp' : Nat → Int32, (∀ i, i < 79 → sp' i = nI (79 - i)) ∧
    ∀ n, d < n → ∀ post : SX → Prop, (∃ m, wX_init_324 post f_threadCount f_fan f_capacity f_pace f_least (nI 79) 0 0 f_records f_appliedTotal m 0 a_keys a_vals a_count a_level (upd a_low 0 (-2147483648)) (upd a_high 0 2147483647) (upd a_right 0 (-1)) sp' a_path a_phaseOf a_kindOf a_firstOf a_secondOf a_leftOf a_outcomeOf a_resKey a_resValue a_countOf a_digestOf a_appliedAt a_latchesOf a_place a_unknown) →
      wX_init_255 post f_threadCount f_fan f_capacity f_pace f_least f_root f_head f_records f_appliedTotal n (nI d) (nI s) a_keys a_vals a_count a_level a_low a_high a_right sp a_path a_phaseOf a_kindOf a_firstOf a_secondOf a_leftOf a_outcomeOf a_resKey a_resValue a_countOf a_digestOf a_appliedAt a_latchesOf a_place a_unknown := by
  intro d
  induction d with
  | zero =>
    intro s hs sp h
    have : s = 79 := by omega
    subst this
    refine ⟨sp, h, fun n hn post hp => ?_⟩
    obtain ⟨n, rfl⟩ : ∃ m, n = m + 1 := ⟨n - 1, by omega⟩
    exact br_t (nI_lt (a := 0) (b := 1) (by omega) (by decide)) (nm_e (nm_e (nm_e hp)))
  | succ d ih =>
    intro s hs sp h
    obtain ⟨sp', a, b⟩ := ih (s + 1) (by omega) (upd sp s (nI (d + 1))) (fun i hi => by
      by_cases e : i = s
      · rw [e, pk_us]; exact congrArg nI (by omega)
      · rw [pk_un e]; exact h i (by omega))
    refine ⟨sp', a, fun n hn post hp => ?_⟩
    obtain ⟨n, rfl⟩ : ∃ m, n = m + 1 := ⟨n - 1, by omega⟩
    refine br_f (nI_nlt (a := d + 1) (b := 1) (by omega) (by omega)) ⟨bx_in (by omega), nm_e (nm_r (nI_1 s) (nm_r (pk_m1 d) ?_))⟩
    rw [bx_cl (n := s) (by omega)]
    exact b n (by omega) post hp
end
theorem bk_init {tc fan cap pc : Nat} (h6 : tc ≤ 6) (hf3 : 3 ≤ fan) (hf6 : fan ≤ 6) (hcap : cap ≤ 64) (hpc : pc ≤ 6) {sp pl un : Nat → Int32} (hsp : ∀ i, i < 79 → sp i = nI (79 - i)) (hpu : ∀ q, q < 6 → pl q = -1 ∧ un q = -1) :
    bk_R tc (nI tc) (nI fan) (nI cap) (nI pc) (nI ((fan + 1) / 2)) (nI 79) 0 0 0 0 (fun _ => 0) (fun _ => 0) (fun _ => 0) (fun _ => 0) (upd (fun _ => 0) 0 (-2147483648)) (upd (fun _ => 0) 0 2147483647) (upd (fun _ => 0) 0 (-1)) sp (fun _ => 0) (fun _ => 0) (fun _ => 0) (fun _ => 0) (fun _ => 0) (fun _ => 0) (fun _ => 0) (fun _ => 0) (fun _ => 0) (fun _ => 0) (fun _ => 0) (fun _ => 0) (fun _ => 0) pl un (fun _ => 0) (fun _ => 0) (fun _ => 0) := by
  have hm1 : (-1 : Int32) < 0 := by decide
  have hV : bk_LV fan (bk_mn ((fan + 1) / 2) 0 0 1) (bk_ds 100 0 0) 0 [((0, -2147483648, true, []) : bk_Nd)] := by
    refine ⟨⟨⟨by decide, by show (-2147483648 : Int) < 2147483648; omega, ⟨List.Pairwise.nil, fun p hp => by cases hp⟩, fun z => absurd z (by omega)⟩, trivial⟩, ⟨_, _, rfl, rfl, rfl⟩, fun x hx => ?_⟩
    rw [List.mem_singleton.mp hx]
    refine ⟨Nat.zero_le _, ?_⟩
    unfold bk_mn
    rw [if_pos ⟨rfl, rfl⟩, if_pos rfl]
    exact Nat.zero_le _
  have hP : bk_PT ((fan + 1) / 2) fan 100 0 (fun _ => [((0, -2147483648, true, []) : bk_Nd)]) 0 0 := by
    refine ⟨fun l hl => ?_, fun l hl => absurd hl (by omega), ⟨_, _, rfl, rfl, fun y hy => by cases hy⟩, by show 1 ≤ 32; omega, ⟨_, _, rfl, rfl⟩⟩
    have : l = 0 := by omega
    subst this
    exact hV
  have hK : bk_LK (fun _ => 0) (fun _ => 0) (fun _ => 0) (fun _ => 0) (upd (fun _ => 0) 0 (-2147483648)) (upd (fun _ => 0) 0 2147483647) (upd (fun _ => 0) 0 (-1)) (fun _ => [((0, -2147483648, true, []) : bk_Nd)]) 0 := by
    intro l hl
    have : l = 0 := by omega
    subst this
    refine ⟨⟨⟨rfl, fun j p hp => ?_⟩, ?_, rfl, ?_, ?_⟩, trivial⟩
    · have hp : ([] : List (Int × Int32))[j]? = some p := hp
      simp at hp
    · show (upd (fun _ => 0) 0 (-2147483648) 0).toInt = -2147483648
      rw [pk_us]; exact bx_min
    · show (upd (fun _ => 0) 0 2147483647 0).toInt = 2147483648 - 1
      rw [pk_us]; decide
    · show upd (fun _ => 0) 0 (-1) 0 = -1
      rw [pk_us]
  have hF : bk_Fr (nI 79) sp (fun _ => [((0, -2147483648, true, []) : bk_Nd)]) 0 := by
    refine ⟨79, rfl, rfl, fun i hi => ⟨79 - i, by omega, hsp i hi, fun l hl x hx => ?_⟩, fun i j hi hj he => ?_⟩
    · rw [List.mem_singleton.mp hx]
      show 0 ≠ 79 - i
      omega
    · rw [hsp i hi, hsp j hj] at he
      have := bx_inj (by omega) (by omega) he
      omega
  have hPn : ∀ i, ¬ bk_Pn (fun _ => [((0, -2147483648, true, []) : bk_Nd)]) 0 i := by
    rintro i ⟨l, hl, z, hz, hk, _⟩
    rw [List.mem_singleton.mp hz] at hk
    cases hk
  refine ⟨fan, (fan + 1) / 2, cap, pc, fun _ => [((0, -2147483648, true, []) : bk_Nd)], 0, 0, fun _ => 0, ⟨rfl, h6, rfl, rfl, rfl, hcap, rfl, hpc, rfl⟩, rfl, ⟨rfl, Nat.zero_le _⟩, ⟨⟨hP, hK, by omega, by show 0 + 1 ≤ 80; omega, hf6⟩, hF, rfl, hf3⟩, ⟨fun i hi => absurd hi (hPn i), fun t ht => Or.inl ?_, fun t t' ht _ hn _ => absurd ?_ hn⟩, fun t ht => Or.inl ?_, ?_, fun t ht => ?_⟩
  · rw [(hpu t (by omega)).2]; exact hm1
  · rw [(hpu t (by omega)).2]; exact hm1
  · rw [(hpu t (by omega)).1]; exact hm1
  · show List.Perm [] _
    rw [bk_yl_0 64 (fun _ _ => rfl)]
  · exact bk_Tq_idle ⟨0, by omega, rfl⟩ (by rw [(hpu t (by omega)).2]; exact hm1)
theorem i_vc0 (k0 : Int32) (k1 : Int32) (k2 : Int32) (k3 : Int32) : wpX_init (fun u => wpY_init (fun v => i_Rel 4 u v) k0 k1 k2 k3) k0 k1 k2 k3 := by
  obtain ⟨tc, c1, c2, c3, c4⟩ := bk_clmp k0 (a := 1) (b := 6) (A := 1) (B := 6) rfl rfl (by omega) (by omega)
  obtain ⟨fan, f1, f2, f3, f4⟩ := bk_clmp k1 (a := 3) (b := 6) (A := 3) (B := 6) rfl rfl (by omega) (by omega)
  obtain ⟨cap, p1, p2, p3, p4⟩ := bk_clmp k2 (a := 1) (b := 64) (A := 1) (B := 64) rfl rfl (by omega) (by omega)
  obtain ⟨pc, q1, q2, q3, q4⟩ := bk_clmp k3 (a := 0) (b := 6) (A := 0) (B := 6) rfl rfl (by omega) (by omega)
  have hle : (nI fan + 1) >>> ((1 : Int32) &&& 31) = nI ((fan + 1) / 2) := by
    rw [nI_1, pk_shrN (by omega) _ 1 (by decide)]
  obtain ⟨sp, hsp, w1⟩ := bx_ini_255 (f_threadCount := nI tc) (f_fan := nI fan) (f_capacity := nI cap) (f_pace := nI pc) (f_least := nI ((fan + 1) / 2)) (f_root := 0) (f_head := 0) (f_records := 0) (f_appliedTotal := 0) (a_keys := fun _ => 0) (a_vals := fun _ => 0) (a_count := fun _ => 0) (a_level := fun _ => 0) (a_low := fun _ => 0) (a_high := fun _ => 0) (a_right := fun _ => 0) (a_path := fun _ => 0) (a_phaseOf := fun _ => 0) (a_kindOf := fun _ => 0) (a_firstOf := fun _ => 0) (a_secondOf := fun _ => 0) (a_leftOf := fun _ => 0) (a_outcomeOf := fun _ => 0) (a_resKey := fun _ => 0) (a_resValue := fun _ => 0) (a_countOf := fun _ => 0) (a_digestOf := fun _ => 0) (a_appliedAt := fun _ => 0) (a_latchesOf := fun _ => 0) (a_place := fun _ => 0) (a_unknown := fun _ => 0) 79 0 (by omega) (fun _ => 0) (fun i hi => absurd hi (by omega))
  obtain ⟨pl, un, hpu, w2⟩ := bx_ini_324 (f_threadCount := nI tc) (f_fan := nI fan) (f_capacity := nI cap) (f_pace := nI pc) (f_least := nI ((fan + 1) / 2)) (f_spareTop := nI 79) (f_root := 0) (f_head := 0) (f_records := 0) (f_appliedTotal := 0) (a_keys := fun _ => 0) (a_vals := fun _ => 0) (a_count := fun _ => 0) (a_level := fun _ => 0) (a_low := upd (fun _ => 0) 0 (-2147483648)) (a_high := upd (fun _ => 0) 0 2147483647) (a_right := upd (fun _ => 0) 0 (-1)) (a_spare := sp) (a_path := fun _ => 0) (a_phaseOf := fun _ => 0) (a_kindOf := fun _ => 0) (a_firstOf := fun _ => 0) (a_secondOf := fun _ => 0) (a_leftOf := fun _ => 0) (a_outcomeOf := fun _ => 0) (a_resKey := fun _ => 0) (a_resValue := fun _ => 0) (a_countOf := fun _ => 0) (a_digestOf := fun _ => 0) (a_appliedAt := fun _ => 0) (a_latchesOf := fun _ => 0) 6 0 (by omega) (fun _ => 0) (fun _ => 0) (fun q hq => absurd hq (by omega))
  unfold wpX_init
  refine c3 _ _ (f3 _ _ (p3 _ _ (q3 _ _ (nm_r hle ⟨80, w1 80 (by omega) _ ⟨7, w2 7 (by omega) _ ?_⟩⟩))))
  unfold wpY_init
  refine c4 _ _ (f4 _ _ (p4 _ _ (q4 _ _ ⟨tc, ?_⟩)))
  exact bk_in (bk_init c2 f1 f2 p2 q2 hsp hpu)
end
