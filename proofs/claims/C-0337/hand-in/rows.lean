section
/-! rows taken from the kit's rows to paste -/
theorem pk_us {f : Nat → Int32} {k : Nat} {x : Int32} : upd f k x k = x := if_pos rfl
theorem pk_un {f : Nat → Int32} {k j : Nat} {x : Int32} (h : j ≠ k) : upd f k x j = f j := if_neg h
theorem pk_sub {a b : Nat} (h : b ≤ a) : nI a - nI b = nI (a - b) := by
  obtain ⟨c, rfl⟩ : ∃ c, a = c + b := ⟨a - b, by omega⟩
  rw [← nI_add, Int32.add_sub_cancel, Nat.add_sub_cancel]
theorem pk_m1 (n : Nat) : nI (n + 1) + (-1) = nI n := by
  rw [← nI_1, Int32.add_assoc, show (1 : Int32) + (-1) = 0 from rfl, Int32.add_zero]
theorem pk_mul (a b : Nat) : nI a * nI b = nI (a * b) := (Int32.ofNat_mul a b).symm
theorem pk_ix (x : Int32) {n : Nat} (hn : n < 2 ^ 31) : x < 0 ∨ nI n ≤ x ∨ ∃ j : Nat, j < n ∧ x = nI j := by
  by_cases h : x < 0
  · exact Or.inl h
  · obtain ⟨j, hj, rfl⟩ := nI_of h
    by_cases h2 : j < n
    · exact Or.inr (Or.inr ⟨j, h2, rfl⟩)
    · exact Or.inr (Or.inl (nI_le (by omega) hj))
theorem pk_le {x y : Int32} {A B : Prop} (a b : Nat) (f : a ≤ b → A) (g : b < a → B) (hx : x = nI a := by rfl) (hy : y = nI b := by rfl) (ha : a < 2 ^ 31 := by omega) (hb : b < 2 ^ 31 := by omega) : (x ≤ y → A) ∧ (¬ x ≤ y → B) := by
  subst hx hy
  rw [nI_leI ha hb]
  exact ⟨f, fun z => g (by omega)⟩
theorem pk_lt {x y : Int32} {A B : Prop} (a b : Nat) (f : a < b → A) (g : b ≤ a → B) (hx : x = nI a := by rfl) (hy : y = nI b := by rfl) (ha : a < 2 ^ 31 := by omega) (hb : b < 2 ^ 31 := by omega) : (x < y → A) ∧ (¬ x < y → B) := by
  subst hx hy
  rw [nI_ltI ha hb]
  exact ⟨f, fun z => g (by omega)⟩
theorem pk_eq {x y : Int32} {A B : Prop} (a b : Nat) (f : a = b → A) (g : a ≠ b → B) (hx : x = nI a := by rfl) (hy : y = nI b := by rfl) (ha : a < 2 ^ 31 := by omega) (hb : b < 2 ^ 31 := by omega) : (x = y → A) ∧ (¬ x = y → B) := by
  subst hx hy
  rw [nI_eq ha hb]
  exact ⟨f, g⟩
theorem pk_in {x : Int32} (n N : Nat) (h : n < N) (hx : x = nI n := by rfl) (hN : N < 2 ^ 31 := by omega) : vp_in x N := by
  subst hx
  exact vp_in_nI h hN
theorem pk_cl {x : Int32} (n : Nat) (hx : x = nI n := by rfl) (h : n < 2 ^ 31 := by omega) : x.toNatClampNeg = n := by
  subst hx
  exact nI_clamp h
theorem pk_tn {n : Nat} (h : n < 2 ^ 32) : (nI n).toBitVec.toNat = n := Nat.mod_eq_of_lt h
theorem pk_and (x : Int32) {m : Int32} (k : Nat) (hm : m.toBitVec.toNat = 2 ^ k - 1) : x &&& m = nI (x.toBitVec.toNat % 2 ^ k) := by
  apply Int32.toBitVec_inj.mp
  apply BitVec.eq_of_toNat_eq
  rw [Int32.toBitVec_and, BitVec.toNat_and, hm, Nat.and_two_pow_sub_one_eq_mod]
  show _ = (BitVec.ofNat 32 _).toNat
  rw [BitVec.toNat_ofNat]
  exact (Nat.mod_eq_of_lt (Nat.lt_of_le_of_lt (Nat.mod_le _ _) x.toBitVec.isLt)).symm
theorem pk_andN {n : Nat} (h : n < 2 ^ 32) {m : Int32} (k : Nat) (hm : m.toBitVec.toNat = 2 ^ k - 1) : nI n &&& m = nI (n % 2 ^ k) := by
  rw [pk_and _ k hm, pk_tn h]
theorem pk_andE (x : Int32) {m : Int32} (k : Nat) (hm : m.toBitVec.toNat = 2 ^ k - 1) : ∃ j : Nat, j < 2 ^ k ∧ x &&& m = nI j := ⟨_, Nat.mod_lt _ (Nat.two_pow_pos k), pk_and x k hm⟩
theorem pk_nb (z : Int32) : narrow .byte (.int z.toInt8.toInt32) = .int z.toInt8.toInt32 := congrArg Value.int (by simp)
theorem pk_vb (z : Int32) : vp_nar .byte z.toInt8.toInt32 = z.toInt8.toInt32 := by rw [vp_nar_byte]; simp
end
section
/-! the plain law: slots, one instruction's effect, the sequence of states along the reorder buffer -/
def tf_sl (h k : Nat) : Nat := (h + k) % 8
theorem tf_sl_lt (h k : Nat) : tf_sl h k < 8 := Nat.mod_lt _ (by decide)
theorem tf_sl_inj {h j k : Nat} (hj : j < 8) (hk : k < 8) (e : tf_sl h j = tf_sl h k) : j = k := by
  unfold tf_sl at e
  omega
theorem tf_sl_ne {h j k : Nat} (hj : j < 8) (hk : k < 8) (e : j ≠ k) : tf_sl h j ≠ tf_sl h k := fun z => e (tf_sl_inj hj hk z)
theorem tf_sl_s (h k : Nat) : tf_sl ((h + 1) % 8) k = tf_sl h (k + 1) := by
  unfold tf_sl
  omega
theorem tf_sl_0 {h : Nat} (hh : h < 8) : tf_sl h 0 = h := by
  unfold tf_sl
  omega
theorem tf_slI {h k : Nat} (hh : h < 8) (hk : k ≤ 8) : (nI h + nI k) &&& 7 = nI (tf_sl h k) := by
  rw [nI_add]
  exact pk_andN (by omega) 3 (by decide)
theorem tf_m1 {m : Nat} (h : m < 2 ^ 31) : (-1 : Int32) ≠ nI m := by
  intro e
  have e2 := congrArg Int32.toInt e
  rw [nI_toInt h, show (-1 : Int32).toInt = -1 from by decide] at e2
  omega
theorem tf_m1lt : (-1 : Int32) < 0 := by decide
theorem tf_m1le : ¬ (0 : Int32) ≤ -1 := by decide
/-- the operation at a place, 11 where there is none -/
def tf_zo (L : Nat) (oc : Nat → Int32) (i : Nat) : Nat := if i < L then (oc i).toNatClampNeg else 11
/-- the value of an operation -/
def tf_zv (o x y : Nat) (z : Int32) (R M : Nat → Int32) : Int32 :=
  if o = 0 then R y + R z.toNatClampNeg else if o = 1 then R y - R z.toNatClampNeg else if o = 2 then R y ^^^ R z.toNatClampNeg
  else if o = 3 then (if R z.toNatClampNeg ≤ R y then 0 else 1) else if o = 4 then R y + z
  else if o = 5 then M ((R y + z) &&& 15).toNatClampNeg else R x
section
variable (L : Nat) (oc fx fy fz : Nat → Int32)
def tf_V (i : Nat) (s : (Nat → Int32) × (Nat → Int32)) : Int32 := tf_zv (tf_zo L oc i) (fx i).toNatClampNeg (fy i).toNatClampNeg (fz i) s.1 s.2
def tf_A (i : Nat) (s : (Nat → Int32) × (Nat → Int32)) : Nat := ((s.1 (fy i).toNatClampNeg + fz i) &&& 15).toNatClampNeg
def tf_st (i : Nat) (s : (Nat → Int32) × (Nat → Int32)) : (Nat → Int32) × (Nat → Int32) :=
  (if tf_zo L oc i ≤ 5 then upd s.1 (fx i).toNatClampNeg (tf_V L oc fx fy fz i s) else s.1,
   if tf_zo L oc i = 6 then upd s.2 (tf_A fy fz i s) (tf_V L oc fx fy fz i s) else s.2)
def tf_S (PL : Nat → Nat) (s0 : (Nat → Int32) × (Nat → Int32)) : Nat → (Nat → Int32) × (Nat → Int32)
  | 0 => s0
  | k + 1 => tf_st L oc fx fy fz (PL k) (tf_S PL s0 k)
def tf_wr (i r : Nat) : Prop := tf_zo L oc i ≤ 5 ∧ (fx i).toNatClampNeg = r
def tf_Lw (PL : Nat → Nat) (r k j : Nat) : Prop := j < k ∧ tf_wr L oc fx (PL j) r ∧ ∀ j', j < j' → j' < k → ¬ tf_wr L oc fx (PL j') r
def tf_lr (i : Nat) : Nat := if tf_zo L oc i ≤ 6 then (fy i).toNatClampNeg else (fx i).toNatClampNeg
def tf_rr (i : Nat) : Nat := if tf_zo L oc i ≤ 3 then (fz i).toNatClampNeg else (fx i).toNatClampNeg
end
section
variable {L : Nat} {oc fx fy fz : Nat → Int32}
theorem tf_A_lt (i : Nat) (s : (Nat → Int32) × (Nat → Int32)) : tf_A fy fz i s < 16 := by
  unfold tf_A
  obtain ⟨j, hj, e⟩ := pk_andE (s.1 (fy i).toNatClampNeg + fz i) (m := 15) 4 (by decide)
  rw [e, nI_clamp (by omega)]
  exact hj
theorem tf_A_I (i : Nat) (s : (Nat → Int32) × (Nat → Int32)) : (s.1 (fy i).toNatClampNeg + fz i) &&& 15 = nI (tf_A fy fz i s) := by
  unfold tf_A
  obtain ⟨j, hj, e⟩ := pk_andE (s.1 (fy i).toNatClampNeg + fz i) (m := 15) 4 (by decide)
  rw [e, nI_clamp (by omega)]
theorem tf_S_shift (PL : Nat → Nat) (s0 : (Nat → Int32) × (Nat → Int32)) (k : Nat) : tf_S L oc fx fy fz (fun j => PL (j + 1)) (tf_S L oc fx fy fz PL s0 1) k = tf_S L oc fx fy fz PL s0 (k + 1) := by
  induction k with
  | zero => rfl
  | succ k ih =>
    show tf_st L oc fx fy fz (PL (k + 1)) (tf_S L oc fx fy fz (fun j => PL (j + 1)) (tf_S L oc fx fy fz PL s0 1) k) = tf_st L oc fx fy fz (PL (k + 1)) (tf_S L oc fx fy fz PL s0 (k + 1))
    rw [ih]
theorem tf_S_ext {PL PL' : Nat → Nat} {s0 : (Nat → Int32) × (Nat → Int32)} : ∀ {k : Nat}, (∀ j, j < k → PL' j = PL j) → tf_S L oc fx fy fz PL' s0 k = tf_S L oc fx fy fz PL s0 k := by
  intro k
  induction k with
  | zero => exact fun _ => rfl
  | succ k ih =>
    intro h
    show tf_st L oc fx fy fz (PL' k) (tf_S L oc fx fy fz PL' s0 k) = tf_st L oc fx fy fz (PL k) (tf_S L oc fx fy fz PL s0 k)
    rw [ih (fun j hj => h j (by omega)), h k (by omega)]
theorem tf_S_keep {PL : Nat → Nat} {s0 : (Nat → Int32) × (Nat → Int32)} {r a : Nat} : ∀ d : Nat, (∀ j, a ≤ j → j < a + d → ¬ tf_wr L oc fx (PL j) r) → (tf_S L oc fx fy fz PL s0 (a + d)).1 r = (tf_S L oc fx fy fz PL s0 a).1 r := by
  intro d
  induction d with
  | zero => exact fun _ => rfl
  | succ d ih =>
    intro h
    have hw := h (a + d) (by omega) (by omega)
    show (if tf_zo L oc (PL (a + d)) ≤ 5 then upd (tf_S L oc fx fy fz PL s0 (a + d)).1 (fx (PL (a + d))).toNatClampNeg (tf_V L oc fx fy fz (PL (a + d)) (tf_S L oc fx fy fz PL s0 (a + d))) else (tf_S L oc fx fy fz PL s0 (a + d)).1) r = _
    by_cases c : tf_zo L oc (PL (a + d)) ≤ 5
    · rw [if_pos c, pk_un (fun z => hw ⟨c, z.symm⟩)]
      exact ih (fun j h1 h2 => h j h1 (by omega))
    · rw [if_neg c]
      exact ih (fun j h1 h2 => h j h1 (by omega))
theorem tf_S_nob {PL : Nat → Nat} {s0 : (Nat → Int32) × (Nat → Int32)} {r k : Nat} (h : ∀ j, j < k → ¬ tf_wr L oc fx (PL j) r) : (tf_S L oc fx fy fz PL s0 k).1 r = s0.1 r := by
  have := tf_S_keep (L := L) (oc := oc) (fx := fx) (fy := fy) (fz := fz) (PL := PL) (s0 := s0) (r := r) (a := 0) k (fun j _ h2 => h j (by omega))
  rw [Nat.zero_add] at this
  exact this
theorem tf_S_lw {PL : Nat → Nat} {s0 : (Nat → Int32) × (Nat → Int32)} {r k j : Nat} (h : tf_Lw L oc fx PL r k j) : (tf_S L oc fx fy fz PL s0 k).1 r = tf_V L oc fx fy fz (PL j) (tf_S L oc fx fy fz PL s0 j) := by
  obtain ⟨hj, ⟨c, e⟩, hn⟩ := h
  obtain ⟨d, rfl⟩ : ∃ d, k = (j + 1) + d := ⟨k - (j + 1), by omega⟩
  rw [tf_S_keep d (fun j' h1 h2 => hn j' (by omega) h2)]
  show (if tf_zo L oc (PL j) ≤ 5 then upd (tf_S L oc fx fy fz PL s0 j).1 (fx (PL j)).toNatClampNeg (tf_V L oc fx fy fz (PL j) (tf_S L oc fx fy fz PL s0 j)) else (tf_S L oc fx fy fz PL s0 j).1) r = _
  rw [if_pos c, e, pk_us]
theorem tf_S_mem {PL : Nat → Nat} {s0 : (Nat → Int32) × (Nat → Int32)} {k a : Nat} : (tf_S L oc fx fy fz PL s0 (k + 1)).2 a = if tf_zo L oc (PL k) = 6 then (if a = tf_A fy fz (PL k) (tf_S L oc fx fy fz PL s0 k) then tf_V L oc fx fy fz (PL k) (tf_S L oc fx fy fz PL s0 k) else (tf_S L oc fx fy fz PL s0 k).2 a) else (tf_S L oc fx fy fz PL s0 k).2 a := by
  show (if tf_zo L oc (PL k) = 6 then upd (tf_S L oc fx fy fz PL s0 k).2 (tf_A fy fz (PL k) (tf_S L oc fx fy fz PL s0 k)) (tf_V L oc fx fy fz (PL k) (tf_S L oc fx fy fz PL s0 k)) else (tf_S L oc fx fy fz PL s0 k).2) a = _
  by_cases c : tf_zo L oc (PL k) = 6
  · rw [if_pos c, if_pos c]
    rfl
  · rw [if_neg c, if_neg c]
theorem tf_Lw_ext {PL PL' : Nat → Nat} {r k j : Nat} (h : ∀ i, i < k → PL' i = PL i) (w : tf_Lw L oc fx PL r k j) : tf_Lw L oc fx PL' r k j := by
  obtain ⟨a, b, c⟩ := w
  refine ⟨a, ?_, fun j' h1 h2 => ?_⟩
  · rw [h j a]; exact b
  · rw [h j' h2]; exact c j' h1 h2
theorem tf_Lw_un {PL : Nat → Nat} {r k j j' : Nat} (w : tf_Lw L oc fx PL r k j) (w' : tf_Lw L oc fx PL r k j') : j = j' := by
  obtain ⟨a, b, c⟩ := w
  obtain ⟨a', b', c'⟩ := w'
  rcases Nat.lt_trichotomy j j' with h | h | h
  · exact absurd b' (c j' h a')
  · exact h
  · exact absurd b (c' j h a)
theorem tf_Lw_shift {PL : Nat → Nat} {r k j : Nat} (w : tf_Lw L oc fx PL r (k + 1) (j + 1)) : tf_Lw L oc fx (fun i => PL (i + 1)) r k j := by
  obtain ⟨a, b, c⟩ := w
  exact ⟨by omega, b, fun j' h1 h2 => c (j' + 1) (by omega) (by omega)⟩
end
end
section
/-! the reorder buffer's invariant and how the steps keep it -/
section
variable (L : Nat) (oc fx fy fz : Nat → Int32)
/-- an operand of the entry of age k: there, with the value x, or to come from the last writer of its register -/
def tf_Src (PL : Nat → Nat) (h : Nat) (dn : Nat → Int32) (k r : Nat) (s v x : Int32) : Prop :=
  (s = -1 ∧ v = x) ∨ ∃ j, tf_Lw L oc fx PL r k j ∧ s = nI (tf_sl h j) ∧ dn (tf_sl h j) = 0
def tf_En (PL : Nat → Nat) (h : Nat) (s0 : (Nat → Int32) × (Nat → Int32)) (dn : Nat → Int32) (k : Nat) (ep eo ex ls lv rs rv ad aa d rt : Int32) : Prop :=
  (ep = nI (PL k) ∧ eo = nI (tf_zo L oc (PL k)) ∧ ex = nI (PL (k + 1))) ∧
  (9 ≤ tf_zo L oc (PL k) → ¬ d = 0) ∧
  (10 ≤ tf_zo L oc (PL k) → PL (k + 1) = PL k) ∧
  (tf_zo L oc (PL k) ≤ 8 → d = 0 → tf_Src L oc fx PL h dn k (tf_lr L oc fx fy (PL k)) ls lv ((tf_S L oc fx fy fz PL s0 k).1 (tf_lr L oc fx fy (PL k)))) ∧
  (d = 0 → (tf_zo L oc (PL k) ≤ 3 ∨ tf_zo L oc (PL k) = 6) → tf_Src L oc fx PL h dn k (tf_rr L oc fx fz (PL k)) rs rv ((tf_S L oc fx fy fz PL s0 k).1 (tf_rr L oc fx fz (PL k)))) ∧
  (d = 0 → ¬ (tf_zo L oc (PL k) ≤ 3 ∨ tf_zo L oc (PL k) = 6) → rs = -1) ∧
  (tf_zo L oc (PL k) ≤ 8 → ¬ d = 0 → rt = tf_V L oc fx fy fz (PL k) (tf_S L oc fx fy fz PL s0 k)) ∧
  (tf_zo L oc (PL k) = 6 → ¬ ad = 0 → aa = nI (tf_A fy fz (PL k) (tf_S L oc fx fy fz PL s0 k))) ∧
  (tf_zo L oc (PL k) = 6 → ¬ d = 0 → ¬ ad = 0)
/-- who gives a register's newest value -/
def tf_Nw (PL : Nat → Nat) (h n : Nat) (nw : Nat → Int32) : Prop :=
  ∀ r, r < 8 → (nw r = -1 ∧ ∀ j, j < n → ¬ tf_wr L oc fx (PL j) r) ∨ ∃ j, tf_Lw L oc fx PL r n j ∧ nw r = nI (tf_sl h j)
def tf_RB (rg ce : Nat → Int32) (PL : Nat → Nat) (h n : Nat) (ep eo ex ls lv rs rv ad aa dn rt nw : Nat → Int32) : Prop :=
  h < 8 ∧ n ≤ 8 ∧ (∀ k, k ≤ n → PL k ≤ 24) ∧
  (∀ k, k < n → tf_En L oc fx fy fz PL h (rg, ce) dn k (ep (tf_sl h k)) (eo (tf_sl h k)) (ex (tf_sl h k)) (ls (tf_sl h k)) (lv (tf_sl h k)) (rs (tf_sl h k)) (rv (tf_sl h k)) (ad (tf_sl h k)) (aa (tf_sl h k)) (dn (tf_sl h k)) (rt (tf_sl h k))) ∧
  tf_Nw L oc fx PL h n nw
end
/-- an announcement of the slot e with the value v, over the entries from age j on -/
def tf_AN (h n j : Nat) (e : Nat) (v : Int32) (s w s' w' : Nat → Int32) : Prop :=
  ∀ k, k < n → (k < j → s' (tf_sl h k) = s (tf_sl h k) ∧ w' (tf_sl h k) = w (tf_sl h k)) ∧
    (j ≤ k → (s (tf_sl h k) = nI e → s' (tf_sl h k) = -1 ∧ w' (tf_sl h k) = v) ∧
      (¬ s (tf_sl h k) = nI e → s' (tf_sl h k) = s (tf_sl h k) ∧ w' (tf_sl h k) = w (tf_sl h k)))
theorem tf_AN_end {h n e : Nat} {v : Int32} {s w : Nat → Int32} : tf_AN h n n e v s w s w :=
  fun k hk => ⟨fun _ => ⟨rfl, rfl⟩, fun z => absurd hk (by omega)⟩
theorem tf_AN_miss {h n j e : Nat} {v : Int32} {s w s' w' : Nat → Int32} (hj : j < n) (hm : ¬ s (tf_sl h j) = nI e) (H : tf_AN h n (j + 1) e v s w s' w') : tf_AN h n j e v s w s' w' := by
  intro k hk
  refine ⟨fun z => (H k hk).1 (by omega), fun z => ?_⟩
  by_cases c : k = j
  · subst c
    exact ⟨fun y => absurd y hm, fun _ => (H k hk).1 (by omega)⟩
  · exact (H k hk).2 (by omega)
theorem tf_AN_hit {h n j e : Nat} {v : Int32} {s w s' w' : Nat → Int32} (hn : n ≤ 8) (hj : j < n) (hm : s (tf_sl h j) = nI e)
    (H : tf_AN h n (j + 1) e v (upd s (tf_sl h j) (-1)) (upd w (tf_sl h j) v) s' w') : tf_AN h n j e v s w s' w' := by
  intro k hk
  have G := H k hk
  by_cases c : k = j
  · subst c
    rw [pk_us, pk_us] at G
    refine ⟨fun z => absurd z (by omega), fun _ => ⟨fun _ => G.1 (by omega), fun z => absurd hm z⟩⟩
  · have d : tf_sl h k ≠ tf_sl h j := tf_sl_ne (by omega) (by omega) c
    rw [pk_un d, pk_un d] at G
    exact ⟨fun z => G.1 (by omega), fun z => G.2 (by omega)⟩
section
variable {L : Nat} {oc fx fy fz : Nat → Int32}
theorem tf_Src_ext {PL PL' : Nat → Nat} {h : Nat} {dn dn' : Nat → Int32} {k r : Nat} {s v x : Int32} (hp : ∀ i, i < k → PL' i = PL i) (hd : ∀ j, j < k → dn' (tf_sl h j) = dn (tf_sl h j))
    (H : tf_Src L oc fx PL h dn k r s v x) : tf_Src L oc fx PL' h dn' k r s v x := by
  rcases H with H | ⟨j, w, e, d⟩
  · exact Or.inl H
  · exact Or.inr ⟨j, tf_Lw_ext hp w, e, by rw [hd j w.1]; exact d⟩
theorem tf_Src_ann {PL : Nat → Nat} {h k0 : Nat} {dn : Nat → Int32} {k r : Nat} {s v x s' v' v0 : Int32} (hk : k < 8) (hk0 : k0 < 8)
    (hx : tf_Lw L oc fx PL r k k0 → x = v0) (hh : s = nI (tf_sl h k0) → s' = -1 ∧ v' = v0) (hm : ¬ s = nI (tf_sl h k0) → s' = s ∧ v' = v)
    (H : tf_Src L oc fx PL h dn k r s v x) : tf_Src L oc fx PL h (upd dn (tf_sl h k0) 1) k r s' v' x := by
  rcases H with ⟨e, ev⟩ | ⟨j, w, e, d⟩
  · have hne : ¬ s = nI (tf_sl h k0) := by
      rw [e]
      exact tf_m1 (Nat.lt_trans (tf_sl_lt h k0) (by decide))
    obtain ⟨a, b⟩ := hm hne
    exact Or.inl ⟨a.trans e, b.trans ev⟩
  · by_cases c : j = k0
    · subst c
      obtain ⟨a, b⟩ := hh e
      exact Or.inl ⟨a, b.trans (hx w).symm⟩
    · have hj := w.1
      have hs : tf_sl h j ≠ tf_sl h k0 := tf_sl_ne (by omega) hk0 c
      have hne : ¬ s = nI (tf_sl h k0) := by
        rw [e, nI_eq (Nat.lt_trans (tf_sl_lt h j) (by decide)) (Nat.lt_trans (tf_sl_lt h k0) (by decide))]
        exact hs
      obtain ⟨a, b⟩ := hm hne
      exact Or.inr ⟨j, w, a.trans e, by rw [pk_un hs]; exact d⟩
theorem tf_Src_shift {PL : Nat → Nat} {h : Nat} {dn : Nat → Int32} {k r : Nat} {s v x : Int32} (hd : ¬ dn (tf_sl h 0) = 0)
    (H : tf_Src L oc fx PL h dn (k + 1) r s v x) : tf_Src L oc fx (fun i => PL (i + 1)) ((h + 1) % 8) dn k r s v x := by
  rcases H with H | ⟨j, w, e, d⟩
  · exact Or.inl H
  · cases j with
    | zero => exact absurd d hd
    | succ j => exact Or.inr ⟨j, tf_Lw_shift w, by rw [tf_sl_s]; exact e, by rw [tf_sl_s]; exact d⟩
theorem tf_En_ext {PL PL' : Nat → Nat} {h : Nat} {s0 : (Nat → Int32) × (Nat → Int32)} {dn dn' : Nat → Int32} {k : Nat} {ep eo ex ls lv rs rv ad aa d rt : Int32}
    (hp : ∀ i, i ≤ k + 1 → PL' i = PL i) (hd : ∀ j, j < k → dn' (tf_sl h j) = dn (tf_sl h j))
    (H : tf_En L oc fx fy fz PL h s0 dn k ep eo ex ls lv rs rv ad aa d rt) : tf_En L oc fx fy fz PL' h s0 dn' k ep eo ex ls lv rs rv ad aa d rt := by
  have e1 : PL' k = PL k := hp k (by omega)
  have e2 : PL' (k + 1) = PL (k + 1) := hp (k + 1) (by omega)
  have e3 : tf_S L oc fx fy fz PL' s0 k = tf_S L oc fx fy fz PL s0 k := tf_S_ext (fun j hj => hp j (by omega))
  have hp' : ∀ i, i < k → PL' i = PL i := fun i hi => hp i (by omega)
  unfold tf_En at H ⊢
  rw [e1, e2, e3]
  obtain ⟨a1, a2, a3, a4, a5, a6, a7, a8, a9⟩ := H
  exact ⟨a1, a2, a3, fun p q => tf_Src_ext hp' hd (a4 p q), fun p q => tf_Src_ext hp' hd (a5 p q), a6, a7, a8, a9⟩
theorem tf_En_shift {PL : Nat → Nat} {h : Nat} {s0 : (Nat → Int32) × (Nat → Int32)} {dn : Nat → Int32} {k : Nat} {ep eo ex ls lv rs rv ad aa d rt : Int32}
    (hd : ¬ dn (tf_sl h 0) = 0) (H : tf_En L oc fx fy fz PL h s0 dn (k + 1) ep eo ex ls lv rs rv ad aa d rt) :
    tf_En L oc fx fy fz (fun i => PL (i + 1)) ((h + 1) % 8) (tf_S L oc fx fy fz PL s0 1) dn k ep eo ex ls lv rs rv ad aa d rt := by
  unfold tf_En at H ⊢
  rw [tf_S_shift]
  obtain ⟨a1, a2, a3, a4, a5, a6, a7, a8, a9⟩ := H
  exact ⟨a1, a2, a3, fun p q => tf_Src_shift hd (a4 p q), fun p q => tf_Src_shift hd (a5 p q), a6, a7, a8, a9⟩
variable {rg ce : Nat → Int32} {PL : Nat → Nat} {h n : Nat} {ep eo ex ls lv rs rv ad aa dn rt nw : Nat → Int32}
theorem tf_RB_nil (hh : h < 8) (hp : PL 0 ≤ 24) (hn : ∀ r, r < 8 → nw r = -1) : tf_RB L oc fx fy fz rg ce PL h 0 ep eo ex ls lv rs rv ad aa dn rt nw := by
  refine ⟨hh, by omega, fun k hk => ?_, fun k hk => absurd hk (by omega), fun r hr => Or.inl ⟨hn r hr, fun j hj => absurd hj (by omega)⟩⟩
  have : k = 0 := by omega
  subst this
  exact hp
theorem tf_RB_addr (H : tf_RB L oc fx fy fz rg ce PL h n ep eo ex ls lv rs rv ad aa dn rt nw) {k0 : Nat} (hk0 : k0 < n) (hz : tf_zo L oc (PL k0) = 5 ∨ tf_zo L oc (PL k0) = 6) (hd : dn (tf_sl h k0) = 0) :
    tf_RB L oc fx fy fz rg ce PL h n ep eo ex ls lv rs rv (upd ad (tf_sl h k0) 1) (upd aa (tf_sl h k0) (nI (tf_A fy fz (PL k0) (tf_S L oc fx fy fz PL (rg, ce) k0)))) dn rt nw := by
  obtain ⟨a, b, c, E, N⟩ := H
  refine ⟨a, b, c, fun k hk => ?_, N⟩
  have G := E k hk
  by_cases e : k = k0
  · subst e
    rw [pk_us, pk_us]
    obtain ⟨a1, a2, a3, a4, a5, a6, a7, a8, a9⟩ := G
    exact ⟨a1, a2, a3, a4, a5, a6, a7, fun _ _ => rfl, fun _ z => absurd hd z⟩
  · have d : tf_sl h k ≠ tf_sl h k0 := tf_sl_ne (by omega) (by omega) e
    rw [pk_un d, pk_un d]
    exact G
theorem tf_RB_exec {ls' lv' rs' rv' : Nat → Int32} (H : tf_RB L oc fx fy fz rg ce PL h n ep eo ex ls lv rs rv ad aa dn rt nw) {k0 : Nat} (hk0 : k0 < n) (h9 : tf_zo L oc (PL k0) ≤ 8)
    (h6 : tf_zo L oc (PL k0) = 6 → ¬ ad (tf_sl h k0) = 0)
    (hL : tf_AN h n 0 (tf_sl h k0) (tf_V L oc fx fy fz (PL k0) (tf_S L oc fx fy fz PL (rg, ce) k0)) ls lv ls' lv')
    (hR : tf_AN h n 0 (tf_sl h k0) (tf_V L oc fx fy fz (PL k0) (tf_S L oc fx fy fz PL (rg, ce) k0)) rs rv rs' rv') :
    tf_RB L oc fx fy fz rg ce PL h n ep eo ex ls' lv' rs' rv' ad aa (upd dn (tf_sl h k0) 1) (upd rt (tf_sl h k0) (tf_V L oc fx fy fz (PL k0) (tf_S L oc fx fy fz PL (rg, ce) k0))) nw := by
  obtain ⟨a, b, c, E, N⟩ := H
  refine ⟨a, b, c, fun k hk => ?_, N⟩
  have G := E k hk
  have gl := (hL k hk).2 (by omega)
  have gr := (hR k hk).2 (by omega)
  by_cases e : k = k0
  · subst e
    rw [pk_us, pk_us]
    obtain ⟨a1, a2, a3, a4, a5, a6, a7, a8, a9⟩ := G
    exact ⟨a1, fun _ => by decide, a3, fun _ z => absurd z (by decide), fun z => absurd z (by decide), fun z => absurd z (by decide), fun _ _ => rfl, a8, fun p _ => h6 p⟩
  · have d : tf_sl h k ≠ tf_sl h k0 := tf_sl_ne (by omega) (by omega) e
    rw [pk_un d, pk_un d]
    obtain ⟨a1, a2, a3, a4, a5, a6, a7, a8, a9⟩ := G
    refine ⟨a1, a2, a3, fun p q => ?_, fun p q => ?_, fun p q => ?_, a7, a8, a9⟩
    · exact tf_Src_ann (by omega) (by omega) (fun w => tf_S_lw w) gl.1 gl.2 (a4 p q)
    · exact tf_Src_ann (by omega) (by omega) (fun w => tf_S_lw w) gr.1 gr.2 (a5 p q)
    · have z := a6 p q
      have hne : ¬ rs (tf_sl h k) = nI (tf_sl h k0) := by
        rw [z]
        exact tf_m1 (Nat.lt_trans (tf_sl_lt h k0) (by decide))
      exact (gr.2 hne).1.trans z
def tf_px (PL : Nat → Nat) (n q : Nat) : Nat → Nat := fun k => if k ≤ n then PL k else q
theorem tf_px_le {PL : Nat → Nat} {n q k : Nat} (hk : k ≤ n) : tf_px PL n q k = PL k := if_pos hk
theorem tf_px_s {PL : Nat → Nat} {n q : Nat} : tf_px PL n q (n + 1) = q := if_neg (by omega)
theorem tf_RB_enter {ep' eo' ex' ls' lv' rs' rv' ad' aa' dn' rt' nw' : Nat → Int32} {q : Nat} (H : tf_RB L oc fx fy fz rg ce PL h n ep eo ex ls lv rs rv ad aa dn rt nw) (hn : n < 8) (hq : q ≤ 24)
    (hs : ∀ s, s ≠ tf_sl h n → ep' s = ep s ∧ eo' s = eo s ∧ ex' s = ex s ∧ ls' s = ls s ∧ lv' s = lv s ∧ rs' s = rs s ∧ rv' s = rv s ∧ ad' s = ad s ∧ aa' s = aa s ∧ dn' s = dn s ∧ rt' s = rt s)
    (hE : tf_En L oc fx fy fz (tf_px PL n q) h (rg, ce) dn' n (ep' (tf_sl h n)) (eo' (tf_sl h n)) (ex' (tf_sl h n)) (ls' (tf_sl h n)) (lv' (tf_sl h n)) (rs' (tf_sl h n)) (rv' (tf_sl h n)) (ad' (tf_sl h n)) (aa' (tf_sl h n)) (dn' (tf_sl h n)) (rt' (tf_sl h n)))
    (hN : tf_Nw L oc fx (tf_px PL n q) h (n + 1) nw') :
    tf_RB L oc fx fy fz rg ce (tf_px PL n q) h (n + 1) ep' eo' ex' ls' lv' rs' rv' ad' aa' dn' rt' nw' := by
  obtain ⟨a, b, c, E, N⟩ := H
  refine ⟨a, by omega, fun k hk => ?_, fun k hk => ?_, hN⟩
  · by_cases z : k ≤ n
    · rw [tf_px_le z]; exact c k z
    · have : k = n + 1 := by omega
      subst this
      rw [tf_px_s]; exact hq
  · by_cases e : k = n
    · subst e
      exact hE
    · have d : tf_sl h k ≠ tf_sl h n := tf_sl_ne (by omega) (by omega) e
      obtain ⟨b1, b2, b3, b4, b5, b6, b7, b8, b9, b10, b11⟩ := hs _ d
      rw [b1, b2, b3, b4, b5, b6, b7, b8, b9, b10, b11]
      refine tf_En_ext (fun i hi => tf_px_le (by omega)) (fun j hj => ?_) (E k (by omega))
      exact (hs _ (tf_sl_ne (by omega) (by omega) (by omega))).2.2.2.2.2.2.2.2.2.1
theorem tf_Nw_enter_w {q x : Nat} (N : tf_Nw L oc fx PL h n nw) (hz : tf_zo L oc (PL n) ≤ 5) (hx : (fx (PL n)).toNatClampNeg = x) :
    tf_Nw L oc fx (tf_px PL n q) h (n + 1) (upd nw x (nI (tf_sl h n))) := by
  intro r hr
  by_cases e : r = x
  · subst e
    refine Or.inr ⟨n, ⟨by omega, ?_, fun j' h1 h2 => absurd h1 (by omega)⟩, pk_us⟩
    rw [tf_px_le (Nat.le_refl n)]
    exact ⟨hz, hx⟩
  · have hw : ¬ tf_wr L oc fx (tf_px PL n q n) r := by
      rw [tf_px_le (Nat.le_refl n)]
      exact fun z => e (z.2.symm.trans hx)
    rw [pk_un e]
    rcases N r hr with ⟨a, b⟩ | ⟨j, w, a⟩
    · refine Or.inl ⟨a, fun j hj => ?_⟩
      by_cases c : j = n
      · subst c; exact hw
      · rw [tf_px_le (by omega)]; exact b j (by omega)
    · have w' := tf_Lw_ext (PL' := tf_px PL n q) (fun i hi => tf_px_le (by omega)) w
      refine Or.inr ⟨j, ⟨by have := w.1; omega, w'.2.1, fun j' h1 h2 => ?_⟩, a⟩
      by_cases c : j' = n
      · subst c; exact hw
      · exact w'.2.2 j' h1 (by omega)
theorem tf_Nw_enter_n {q : Nat} (N : tf_Nw L oc fx PL h n nw) (hz : 5 < tf_zo L oc (PL n)) : tf_Nw L oc fx (tf_px PL n q) h (n + 1) nw := by
  intro r hr
  have hw : ¬ tf_wr L oc fx (tf_px PL n q n) r := by
    rw [tf_px_le (Nat.le_refl n)]
    exact fun z => absurd z.1 (by omega)
  rcases N r hr with ⟨a, b⟩ | ⟨j, w, a⟩
  · refine Or.inl ⟨a, fun j hj => ?_⟩
    by_cases c : j = n
    · subst c; exact hw
    · rw [tf_px_le (by omega)]; exact b j (by omega)
  · have w' := tf_Lw_ext (PL' := tf_px PL n q) (fun i hi => tf_px_le (by omega)) w
    refine Or.inr ⟨j, ⟨by have := w.1; omega, w'.2.1, fun j' h1 h2 => ?_⟩, a⟩
    by_cases c : j' = n
    · subst c; exact hw
    · exact w'.2.2 j' h1 (by omega)
theorem tf_RB_retire {m : Nat} {rg' ce' nw' : Nat → Int32} (H : tf_RB L oc fx fy fz rg ce PL h (m + 1) ep eo ex ls lv rs rv ad aa dn rt nw) (hd : ¬ dn (tf_sl h 0) = 0)
    (hs : (rg', ce') = tf_S L oc fx fy fz PL (rg, ce) 1)
    (hN : tf_Nw L oc fx (fun i => PL (i + 1)) ((h + 1) % 8) m nw') :
    tf_RB L oc fx fy fz rg' ce' (fun i => PL (i + 1)) ((h + 1) % 8) m ep eo ex ls lv rs rv ad aa dn rt nw' := by
  obtain ⟨a, b, c, E, N⟩ := H
  refine ⟨Nat.mod_lt _ (by decide), by omega, fun k hk => c (k + 1) (by omega), fun k hk => ?_, hN⟩
  rw [tf_sl_s, hs]
  exact tf_En_shift hd (E (k + 1) (by omega))
theorem tf_Nw_retire_n {m : Nat} (N : tf_Nw L oc fx PL h (m + 1) nw) (hm : m < 8) (hz : 5 < tf_zo L oc (PL 0)) : tf_Nw L oc fx (fun i => PL (i + 1)) ((h + 1) % 8) m nw := by
  intro r hr
  rcases N r hr with ⟨a, b⟩ | ⟨j, w, a⟩
  · exact Or.inl ⟨a, fun j hj => b (j + 1) (by omega)⟩
  · cases j with
    | zero => exact absurd w.2.1.1 (by omega)
    | succ j => exact Or.inr ⟨j, tf_Lw_shift w, by rw [tf_sl_s]; exact a⟩
theorem tf_Nw_retire_k {m x : Nat} (N : tf_Nw L oc fx PL h (m + 1) nw) (hx : (fx (PL 0)).toNatClampNeg = x) (hne : ¬ nw x = nI (tf_sl h 0)) : tf_Nw L oc fx (fun i => PL (i + 1)) ((h + 1) % 8) m nw := by
  intro r hr
  rcases N r hr with ⟨a, b⟩ | ⟨j, w, a⟩
  · exact Or.inl ⟨a, fun j hj => b (j + 1) (by omega)⟩
  · cases j with
    | zero =>
      have e : x = r := hx.symm.trans w.2.1.2
      subst e
      exact absurd a hne
    | succ j => exact Or.inr ⟨j, tf_Lw_shift w, by rw [tf_sl_s]; exact a⟩
theorem tf_Nw_retire_w {m x : Nat} (N : tf_Nw L oc fx PL h (m + 1) nw) (hm : m < 8) (hx8 : x < 8) (hx : (fx (PL 0)).toNatClampNeg = x) (he : nw x = nI (tf_sl h 0)) :
    tf_Nw L oc fx (fun i => PL (i + 1)) ((h + 1) % 8) m (upd nw x (-1)) := by
  intro r hr
  by_cases e : r = x
  · subst e
    refine Or.inl ⟨pk_us, fun j hj => ?_⟩
    rcases N r hr with ⟨a, b⟩ | ⟨j', w, a⟩
    · exact b (j + 1) (by omega)
    · have hj' := w.1
      have : tf_sl h 0 = tf_sl h j' := (nI_eq (Nat.lt_trans (tf_sl_lt _ _) (by decide)) (Nat.lt_trans (tf_sl_lt _ _) (by decide))).mp (he.symm.trans a)
      have z : 0 = j' := tf_sl_inj (by omega) (by omega) this
      subst z
      exact w.2.2 (j + 1) (by omega) (by omega)
  · rw [pk_un e]
    rcases N r hr with ⟨a, b⟩ | ⟨j, w, a⟩
    · exact Or.inl ⟨a, fun j hj => b (j + 1) (by omega)⟩
    · cases j with
      | zero => exact absurd (w.2.1.2.symm.trans hx) e
      | succ j => exact Or.inr ⟨j, tf_Lw_shift w, by rw [tf_sl_s]; exact a⟩
end
end
section
/-! the program's form, narrow stores, and the small methods' walks -/
theorem tf_i8 : ∀ t, t < 128 → (nI t).toInt8.toInt32 = nI t := by decide +kernel
theorem tf_nb {t : Nat} (h : t < 128) : vp_nar .byte (nI t) = nI t := by rw [vp_nar_byte, tf_i8 t h]
theorem tf_nb2 {t : Nat} (h : t < 128) : vp_nar .byte (nI t).toInt8.toInt32 = nI t := by rw [pk_vb, tf_i8 t h]
theorem tf_nbm : vp_nar .byte (-1) = -1 := by rw [vp_nar_byte]; decide
theorem tf_z1 : vp_nar .boolean 1 = 1 := rfl
theorem tf_z0 : vp_nar .boolean 0 = 0 := rfl
def tf_WF (L : Nat) (oc fx fy fz : Nat → Int32) : Prop :=
  L ≤ 24 ∧ ∀ i, i < L → ∃ o, o ≤ 10 ∧ oc i = nI o ∧ (o ≤ 8 → ∃ x, x < 8 ∧ fx i = nI x) ∧ (o ≤ 6 → ∃ y, y < 8 ∧ fy i = nI y) ∧
    (o ≤ 3 → ∃ z, z < 8 ∧ fz i = nI z) ∧ (7 ≤ o → o ≤ 9 → ∃ t, t ≤ 23 ∧ fz i = nI t)
section
variable {L : Nat} {oc fx fy fz : Nat → Int32}
theorem tf_zo_lt {i o : Nat} (hi : i < L) (ho : o ≤ 10) (e : oc i = nI o) : tf_zo L oc i = o := by
  unfold tf_zo
  rw [if_pos hi, e, nI_clamp (by omega)]
theorem tf_zo_ge {i : Nat} (hi : L ≤ i) : tf_zo L oc i = 11 := if_neg (by omega)
theorem tf_WF_o (W : tf_WF L oc fx fy fz) {i : Nat} (hi : i < L) : oc i = nI (tf_zo L oc i) ∧ tf_zo L oc i ≤ 10 := by
  obtain ⟨o, ho, e, _⟩ := W.2 i hi
  rw [tf_zo_lt hi ho e]
  exact ⟨e, ho⟩
theorem tf_WF_11 (W : tf_WF L oc fx fy fz) (i : Nat) : tf_zo L oc i ≤ 11 := by
  by_cases hi : i < L
  · have := (tf_WF_o W hi).2
    omega
  · rw [tf_zo_ge (by omega)]
    omega
theorem tf_zo_in {i : Nat} (h : tf_zo L oc i ≤ 10) : i < L := by
  by_cases hi : i < L
  · exact hi
  · rw [tf_zo_ge (by omega)] at h
    omega
theorem tf_WF_x (W : tf_WF L oc fx fy fz) {i : Nat} (h : tf_zo L oc i ≤ 8) : ∃ x, x < 8 ∧ fx i = nI x ∧ (fx i).toNatClampNeg = x := by
  have hi : i < L := tf_zo_in (oc := oc) (by omega)
  obtain ⟨o, ho, e, a, _⟩ := W.2 i hi
  rw [tf_zo_lt hi ho e] at h
  obtain ⟨x, hx, ex⟩ := a h
  exact ⟨x, hx, ex, by rw [ex, nI_clamp (by omega)]⟩
theorem tf_WF_y (W : tf_WF L oc fx fy fz) {i : Nat} (h : tf_zo L oc i ≤ 6) : ∃ x, x < 8 ∧ fy i = nI x ∧ (fy i).toNatClampNeg = x := by
  have hi : i < L := tf_zo_in (oc := oc) (by omega)
  obtain ⟨o, ho, e, _, a, _⟩ := W.2 i hi
  rw [tf_zo_lt hi ho e] at h
  obtain ⟨x, hx, ex⟩ := a h
  exact ⟨x, hx, ex, by rw [ex, nI_clamp (by omega)]⟩
theorem tf_WF_z (W : tf_WF L oc fx fy fz) {i : Nat} (h : tf_zo L oc i ≤ 3) : ∃ x, x < 8 ∧ fz i = nI x ∧ (fz i).toNatClampNeg = x := by
  have hi : i < L := tf_zo_in (oc := oc) (by omega)
  obtain ⟨o, ho, e, _, _, a, _⟩ := W.2 i hi
  rw [tf_zo_lt hi ho e] at h
  obtain ⟨x, hx, ex⟩ := a h
  exact ⟨x, hx, ex, by rw [ex, nI_clamp (by omega)]⟩
theorem tf_WF_t (W : tf_WF L oc fx fy fz) {i : Nat} (h7 : 7 ≤ tf_zo L oc i) (h9 : tf_zo L oc i ≤ 9) : ∃ t, t ≤ 23 ∧ fz i = nI t := by
  have hi : i < L := tf_zo_in (oc := oc) (by omega)
  obtain ⟨o, ho, e, _, _, _, a⟩ := W.2 i hi
  rw [tf_zo_lt hi ho e] at h7 h9
  exact a h7 h9
end
/-- the trace cache: places and lengths within their bounds -/
def tf_TR (fi : Int32) (tl tp fg : Nat → Int32) : Prop :=
  (∃ q, q < 3 ∧ fi = nI q) ∧ (∀ j, j < 8 → ∃ c, c ≤ 3 ∧ tl j = nI c) ∧ (∀ j, j < 24 → ∃ t, t ≤ 24 ∧ tp j = nI t) ∧ (∀ j, j < 3 → ∃ t, t ≤ 24 ∧ fg j = nI t)
section
variable {ln pc st fi hd en fp re : Int32} {oc fx fy fz rg ce ct tl tp fg ep eo ex ls lv rs rv ad aa dn rt nw : Nat → Int32}
theorem tf_forget_l {post : SX → Prop} : ∀ (d j : Nat) (tl : Nat → Int32), j + d = 8 → (∀ i, i < j → tl i = 0) →
    (∀ tl', (∀ i, i < 8 → tl' i = 0) → post (ln, pc, st, 0, hd, en, fp, re, oc, fx, fy, fz, rg, ce, ct, tl', tp, fg, ep, eo, ex, ls, lv, rs, rv, ad, aa, dn, rt, nw)) → wX_forgetTraces_2 post ln pc st fi hd en fp re (d + 1) (nI j) oc fx fy fz rg ce ct tl tp fg ep eo ex ls lv rs rv ad aa dn rt nw := by
  intro d
  induction d with
  | zero =>
    intro j tl hj h K
    exact pk_le 8 j (fun _ => K tl (fun i hi => h i (by omega))) (fun z => absurd z (by omega))
  | succ d ih =>
    intro j tl hj h K
    have e1 : upd tl (nI j).toNatClampNeg (vp_nar .byte 0) = upd tl j 0 := by
      rw [nI_clamp (by omega)]
      exact congrArg (upd tl j) (tf_nb (t := 0) (by decide))
    refine pk_le 8 j (fun z => absurd z (by omega)) (fun _ => And.intro (vp_in_nI (by omega) (by decide)) (nm_r e1 (nm_r (nI_1 j) (ih (j + 1) (upd tl j 0) (by omega) (fun i hi => ?_) K))))
    by_cases c : i = j
    · rw [c, pk_us]
    · rw [pk_un c]
      exact h i (by omega)
theorem tf_forget {post : SX → Prop} (K : ∀ tl', (∀ i, i < 8 → tl' i = 0) → post (ln, pc, st, 0, hd, en, fp, re, oc, fx, fy, fz, rg, ce, ct, tl', tp, fg, ep, eo, ex, ls, lv, rs, rv, ad, aa, dn, rt, nw)) : wpX_forgetTraces post (ln, pc, st, fi, hd, en, fp, re, oc, fx, fy, fz, rg, ce, ct, tl, tp, fg, ep, eo, ex, ls, lv, rs, rv, ad, aa, dn, rt, nw) :=
  Exists.intro 9 (tf_forget_l 8 0 tl rfl (fun i hi => absurd hi (by omega)) K)
theorem tf_squash_l {post : SX → Prop} : ∀ (d j : Nat) (nw : Nat → Int32), j + d = 8 → (∀ i, i < j → nw i = -1) →
    (∀ nw', (∀ i, i < 8 → nw' i = -1) → post (ln, pc, st, fi, hd, en, fp, re, oc, fx, fy, fz, rg, ce, ct, tl, tp, fg, ep, eo, ex, ls, lv, rs, rv, ad, aa, dn, rt, nw')) → wX_squash_15 post ln pc st fi hd en fp re (d + 1) (nI j) oc fx fy fz rg ce ct tl tp fg ep eo ex ls lv rs rv ad aa dn rt nw := by
  intro d
  induction d with
  | zero =>
    intro j nw hj h K
    exact pk_le 8 j (fun _ => K nw (fun i hi => h i (by omega))) (fun z => absurd z (by omega))
  | succ d ih =>
    intro j nw hj h K
    have e1 : upd nw (nI j).toNatClampNeg (vp_nar .byte (-1)) = upd nw j (-1) := by
      rw [nI_clamp (by omega), tf_nbm]
    refine pk_le 8 j (fun z => absurd z (by omega)) (fun _ => And.intro (vp_in_nI (by omega) (by decide)) (nm_r e1 (nm_r (nI_1 j) (ih (j + 1) (upd nw j (-1)) (by omega) (fun i hi => ?_) K))))
    by_cases c : i = j
    · rw [c, pk_us]
    · rw [pk_un c]
      exact h i (by omega)
theorem tf_squash {post : SX → Prop} (K : ∀ nw', (∀ i, i < 8 → nw' i = -1) → post (ln, pc, st, fi, hd, 0, pc, re, oc, fx, fy, fz, rg, ce, ct, tl, tp, fg, ep, eo, ex, ls, lv, rs, rv, ad, aa, dn, rt, nw')) : wpX_squash post (ln, pc, st, fi, hd, en, fp, re, oc, fx, fy, fz, rg, ce, ct, tl, tp, fg, ep, eo, ex, ls, lv, rs, rv, ad, aa, dn, rt, nw) :=
  Exists.intro 9 (tf_squash_l 8 0 nw rfl (fun i hi => absurd hi (by omega)) K)
theorem tf_pred {post : Int32 → Prop} {L i : Nat} (W : tf_WF L oc fx fy fz) (hi : i ≤ 24) (K : ∀ q, q ≤ 24 → (10 ≤ tf_zo L oc i → q = i) → post (nI q)) :
    wpX_predictedAfter post (nI L, pc, st, fi, hd, en, fp, re, oc, fx, fy, fz, rg, ce, ct, tl, tp, fg, ep, eo, ex, ls, lv, rs, rv, ad, aa, dn, rt, nw) (nI i) := by
  have hL := W.1
  refine pk_lt i L (fun hl => ?_) (fun hg => K i hi (fun _ => rfl))
  obtain ⟨eop, ho⟩ := tf_WF_o W hl
  have hv : vp_in (nI i) 24 := vp_in_nI (by omega) (by decide)
  have ec : (nI i).toNatClampNeg = i := nI_clamp (by omega)
  have e1 : oc (nI i).toNatClampNeg = nI (tf_zo L oc i) := by rw [ec]; exact eop
  have k64 : tf_zo L oc i ≠ 10 → wX_predictedAfter_64 post (nI i) (nI L) pc st fi hd en fp re oc fx fy fz rg ce ct tl tp fg ep eo ex ls lv rs rv ad aa dn rt nw := fun hne =>
    br_t rfl (by rw [nI_1]; exact K (i + 1) (by omega) (fun z => absurd z (by omega)))
  have k65 : 7 ≤ tf_zo L oc i → tf_zo L oc i ≤ 9 → post (fz (nI i).toNatClampNeg) := by
    intro h7 h9
    obtain ⟨t, ht, et⟩ := tf_WF_t W h7 h9
    rw [ec, et]
    exact K t (by omega) (fun z => absurd z (by omega))
  have k50 : 7 ≤ tf_zo L oc i → tf_zo L oc i ≤ 9 → wX_predictedAfter_50 post (nI i) (nI L) pc st fi hd en fp re oc fx fy fz rg ce ct tl tp fg ep eo ex ls lv rs rv ad aa dn rt nw := fun h7 h9 =>
    And.intro hv (br_c (fun _ => k64 (by omega)) (fun _ => br_f (by decide) (And.intro hv (k65 h7 h9))))
  refine And.intro hv (nm_r e1 ?_)
  refine pk_eq (tf_zo L oc i) 10 (fun h => K i hi (fun _ => rfl)) (fun h10 => ?_)
  refine pk_eq (tf_zo L oc i) 9 (fun h => And.intro hv (k65 (by omega) (by omega))) (fun h9 => ?_)
  refine pk_eq (tf_zo L oc i) 7 (fun h => k50 (by omega) (by omega)) (fun h7 => ?_)
  exact pk_eq (tf_zo L oc i) 8 (fun h => k50 (by omega) (by omega)) (fun h8 => k64 h10)
theorem tf_agrees_l {post : Int32 → Prop} {L l c : Nat} (W : tf_WF L oc fx fy fz) (hl : l < 8) (hc : c ≤ 3) (ht : ∀ j, j < 24 → ∃ t, t ≤ 24 ∧ tp j = nI t) (p0 : post 0) (p1 : post 1) :
    ∀ d k : Nat, k ≤ 4 → c ≤ k + d + 1 → wX_agrees_2 post (nI l) (nI c) (nI L) pc st fi hd en fp re oc fx fy fz rg ce ct tl tp fg ep eo ex ls lv rs rv ad aa dn rt nw (d + 1) (nI k) := by
  intro d
  induction d with
  | zero =>
    intro k hk4 hk
    exact pk_le c (k + 1) (fun _ => p1) (fun z => absurd z (by omega)) rfl (nI_1 k) (by omega) (by omega)
  | succ d ih =>
    intro k hk4 hk
    by_cases hx : c ≤ k + 1
    · exact pk_le c (k + 1) (fun _ => p1) (fun z => absurd z (by omega)) rfl (nI_1 k) (by omega) (by omega)
    · have e1 : 3 * nI l + nI k = nI (3 * l + k) := by
        rw [← nI_add, ← pk_mul]
        rfl
      have e2 : (3 * nI l + nI k) + 1 = nI (3 * l + k + 1) := by rw [e1, nI_1]
      obtain ⟨t, h24, et⟩ := ht (3 * l + k) (by omega)
      have e3 : tp (3 * nI l + nI k).toNatClampNeg = nI t := by rw [e1, nI_clamp (by omega)]; exact et
      refine pk_le c (k + 1) (fun z => absurd z hx) (fun _ => And.intro (pk_in (3 * l + k) 24 (by omega) e1) (nm_r e3 ?_)) rfl (nI_1 k) (by omega) (by omega)
      refine tf_pred W h24 (fun q _ _ => And.intro (pk_in (3 * l + k + 1) 24 (by omega) e2) (br_c (fun _ => nm_r (nI_1 k) (ih (k + 1) (by omega) (by omega))) (fun _ => p0)))
theorem tf_agrees {post : Int32 → Prop} {L l c : Nat} (W : tf_WF L oc fx fy fz) (hl : l < 8) (hc : c ≤ 3) (ht : ∀ j, j < 24 → ∃ t, t ≤ 24 ∧ tp j = nI t) (p0 : post 0) (p1 : post 1) :
    wpX_agrees post (nI L, pc, st, fi, hd, en, fp, re, oc, fx, fy, fz, rg, ce, ct, tl, tp, fg, ep, eo, ex, ls, lv, rs, rv, ad, aa, dn, rt, nw) (nI l) (nI c) := Exists.intro 4 (tf_agrees_l W hl hc ht p0 p1 3 0 (by omega) (by omega))
def tf_np (o i : Nat) (z r : Int32) : Int32 := if o = 9 then z else if (o = 7 ∧ r = 0) ∨ (o = 8 ∧ r < 0) then z else nI (i + 1)
theorem tf_pl133 {post : Int32 → SX → Prop} {i : Nat} {b : Int32} (hi : i < 24) (k0 : b = 0 → post (nI (i + 1)) (ln, pc, st, fi, hd, en, fp, re, oc, fx, fy, fz, rg, ce, ct, tl, tp, fg, ep, eo, ex, ls, lv, rs, rv, ad, aa, dn, rt, nw)) (k1 : ¬ b = 0 → post (fz i) (ln, pc, st, fi, hd, en, fp, re, oc, fx, fy, fz, rg, ce, ct, tl, tp, fg, ep, eo, ex, ls, lv, rs, rv, ad, aa, dn, rt, nw)) :
    wX_placeAfter_133 post (nI i) b ln pc st fi hd en fp re oc fx fy fz rg ce ct tl tp fg ep eo ex ls lv rs rv ad aa dn rt nw :=
  br_c (fun z => by rw [nI_1]; exact k0 z) (fun z => And.intro (vp_in_nI hi (by decide)) (by rw [nI_clamp (by omega)]; exact k1 z))
theorem tf_pl108 {post : Int32 → SX → Prop} {i : Nat} {b : Int32} (hi : i < 24) (k0 : b = 0 → ∀ ct', post (nI (i + 1)) (ln, pc, st, fi, hd, en, fp, re, oc, fx, fy, fz, rg, ce, ct', tl, tp, fg, ep, eo, ex, ls, lv, rs, rv, ad, aa, dn, rt, nw)) (k1 : ¬ b = 0 → ∀ ct', post (fz i) (ln, pc, st, fi, hd, en, fp, re, oc, fx, fy, fz, rg, ce, ct', tl, tp, fg, ep, eo, ex, ls, lv, rs, rv, ad, aa, dn, rt, nw)) :
    wX_placeAfter_108 post (nI i) b ln pc st fi hd en fp re oc fx fy fz rg ce ct tl tp fg ep eo ex ls lv rs rv ad aa dn rt nw :=
  br_c (fun _ => And.intro (vp_in_nI hi (by decide)) (br_c (fun _ => tf_pl133 hi (fun y => k0 y _) (fun y => k1 y _))
      (fun _ => And.intro (vp_in_nI hi (by decide)) (And.intro (vp_in_nI hi (by decide)) (fun y _ => tf_pl133 hi (fun y => k0 y _) (fun y => k1 y _))))))
    (fun _ => tf_pl133 hi (fun y => k0 y _) (fun y => k1 y _))
theorem tf_pl80 {post : Int32 → SX → Prop} {i : Nat} {b : Int32} (hi : i < 24) (k0 : b = 0 → ∀ ct', post (nI (i + 1)) (ln, pc, st, fi, hd, en, fp, re, oc, fx, fy, fz, rg, ce, ct', tl, tp, fg, ep, eo, ex, ls, lv, rs, rv, ad, aa, dn, rt, nw)) (k1 : ¬ b = 0 → ∀ ct', post (fz i) (ln, pc, st, fi, hd, en, fp, re, oc, fx, fy, fz, rg, ce, ct', tl, tp, fg, ep, eo, ex, ls, lv, rs, rv, ad, aa, dn, rt, nw)) :
    wX_placeAfter_80 post (nI i) b ln pc st fi hd en fp re oc fx fy fz rg ce ct tl tp fg ep eo ex ls lv rs rv ad aa dn rt nw :=
  br_c (fun _ => tf_pl108 hi k0 k1)
    (fun _ => And.intro (vp_in_nI hi (by decide)) (br_c (fun _ => tf_pl108 hi k0 k1)
      (fun _ => And.intro (vp_in_nI hi (by decide)) (And.intro (vp_in_nI hi (by decide)) (fun y _ => tf_pl108 hi k0 k1)))))
theorem tf_place {post : Int32 → SX → Prop} {e o i : Nat} (he : e < 8) (hi : i < 24) (ho : o ≤ 9) (e1 : eo e = nI o) (e2 : ep e = nI i)
    (K : ∀ ct', post (tf_np o i (fz i) (rt e)) (ln, pc, st, fi, hd, en, fp, re, oc, fx, fy, fz, rg, ce, ct', tl, tp, fg, ep, eo, ex, ls, lv, rs, rv, ad, aa, dn, rt, nw)) : wpX_placeAfter post (ln, pc, st, fi, hd, en, fp, re, oc, fx, fy, fz, rg, ce, ct, tl, tp, fg, ep, eo, ex, ls, lv, rs, rv, ad, aa, dn, rt, nw) (nI e) := by
  have hv : vp_in (nI e) 8 := vp_in_nI he (by decide)
  have ec : (nI e).toNatClampNeg = e := nI_clamp (by omega)
  have ei : (nI i).toNatClampNeg = i := nI_clamp (by omega)
  have g1 : eo (nI e).toNatClampNeg = nI o := by rw [ec]; exact e1
  have g2 : ep (nI e).toNatClampNeg = nI i := by rw [ec]; exact e2
  have k43 : o = 7 ∨ o = 8 → wX_placeAfter_43 post (nI e) (nI o) (nI i) ln pc st fi hd en fp re oc fx fy fz rg ce ct tl tp fg ep eo ex ls lv rs rv ad aa dn rt nw := by
    intro h78
    refine pk_eq o 7 (fun h => And.intro hv ?_) (fun h => And.intro hv ?_)
    · rw [ec]
      refine br_c (fun z => tf_pl80 hi (fun y => absurd y (by decide)) (fun _ ct' => ?_)) (fun z => tf_pl80 hi (fun _ ct' => ?_) (fun y => absurd rfl y))
      · have := K ct'
        unfold tf_np at this
        rw [if_neg (by omega), if_pos (Or.inl ⟨h, z⟩)] at this
        exact this
      · have := K ct'
        unfold tf_np at this
        rw [if_neg (by omega), if_neg (fun y => y.elim (fun y => z y.2) (fun y => absurd y.1 (by omega)))] at this
        exact this
    · rw [ec]
      refine br_c (fun z => tf_pl80 hi (fun _ ct' => ?_) (fun y => absurd rfl y)) (fun z => tf_pl80 hi (fun y => absurd y (by decide)) (fun _ ct' => ?_))
      · have := K ct'
        unfold tf_np at this
        rw [if_neg (by omega), if_neg (fun y => y.elim (fun y => h y.1) (fun y => absurd z (Int32.not_le.mpr y.2)))] at this
        exact this
      · have := K ct'
        unfold tf_np at this
        rw [if_neg (by omega), if_pos (Or.inr ⟨by omega, Int32.not_le.mp z⟩)] at this
        exact this
  refine And.intro hv (nm_r g1 (And.intro hv (nm_r g2 ?_)))
  refine pk_eq o 9 (fun h => And.intro (vp_in_nI hi (by decide)) ?_) (fun h9 => ?_)
  · have := K ct
    unfold tf_np at this
    rw [if_pos h] at this
    rw [ei]
    exact this
  · refine pk_eq o 7 (fun h => k43 (by omega)) (fun h7 => pk_eq o 8 (fun h => k43 (by omega)) (fun h8 => ?_))
    have := K ct
    unfold tf_np at this
    rw [if_neg (by omega), if_neg (by omega)] at this
    rw [nI_1]
    exact this
theorem tf_fill_l {post : SX → Prop} {l : Nat} (hl : l < 8) (hf : ∀ j, j < 3 → ∃ t, t ≤ 24 ∧ fg j = nI t) :
    ∀ (d k : Nat) (tp : Nat → Int32), k + d = 3 → (∀ j, j < 24 → ∃ t, t ≤ 24 ∧ tp j = nI t) →
    (∀ tp', (∀ j, j < 24 → ∃ t, t ≤ 24 ∧ tp' j = nI t) → post (ln, pc, st, 0, hd, en, fp, re, oc, fx, fy, fz, rg, ce, ct, upd tl l 3, tp', fg, ep, eo, ex, ls, lv, rs, rv, ad, aa, dn, rt, nw)) → wX_fillTrace_42 post (nI l) ln pc st fi hd en fp re (d + 1) (nI k) oc fx fy fz rg ce ct tl tp fg ep eo ex ls lv rs rv ad aa dn rt nw := by
  intro d
  induction d with
  | zero =>
    intro k tp hk ht K
    have e1 : upd tl (nI l).toNatClampNeg (vp_nar .byte 3) = upd tl l 3 := by
      rw [nI_clamp (by omega)]
      exact congrArg (upd tl l) (tf_nb (t := 3) (by decide))
    exact pk_le 3 k (fun _ => And.intro (vp_in_nI hl (by decide)) (nm_r e1 (K tp ht))) (fun z => absurd z (by omega))
  | succ d ih =>
    intro k tp hk ht K
    obtain ⟨t, h24, et⟩ := hf k (by omega)
    have e0 : 3 * nI l + nI k = nI (3 * l + k) := by
      rw [← nI_add, ← pk_mul]
      rfl
    have e1 : upd tp (3 * nI l + nI k).toNatClampNeg (vp_nar .byte (fg (nI k).toNatClampNeg)) = upd tp (3 * l + k) (nI t) := by
      rw [e0, nI_clamp (by omega), nI_clamp (by omega), et, tf_nb (by omega)]
    refine pk_le 3 k (fun z => absurd z (by omega)) (fun _ => And.intro (vp_in_nI (by omega) (by decide)) (And.intro (pk_in (3 * l + k) 24 (by omega) e0) (nm_r e1 (nm_r (nI_1 k) (ih (k + 1) (upd tp (3 * l + k) (nI t)) (by omega) (fun j hj => ?_) K)))))
    by_cases c : j = 3 * l + k
    · rw [c, pk_us]
      exact ⟨t, h24, rfl⟩
    · rw [pk_un c]
      exact ht j hj
theorem tf_fill {post : SX → Prop} {i : Nat} (hi : i ≤ 24) (T : tf_TR fi tl tp fg)
    (K : ∀ fi' tl' tp' fg', tf_TR fi' tl' tp' fg' → post (ln, pc, st, fi', hd, en, fp, re, oc, fx, fy, fz, rg, ce, ct, tl', tp', fg', ep, eo, ex, ls, lv, rs, rv, ad, aa, dn, rt, nw)) : wpX_fillTrace post (ln, pc, st, fi, hd, en, fp, re, oc, fx, fy, fz, rg, ce, ct, tl, tp, fg, ep, eo, ex, ls, lv, rs, rv, ad, aa, dn, rt, nw) (nI i) := by
  obtain ⟨⟨q, hq, rfl⟩, ht, hp, hf⟩ := T
  have e1 : upd fg (nI q).toNatClampNeg (vp_nar .byte (nI i).toInt8.toInt32) = upd fg q (nI i) := by
    rw [nI_clamp (by omega), tf_nb2 (by omega)]
  have hf' : ∀ j, j < 3 → ∃ t, t ≤ 24 ∧ upd fg q (nI i) j = nI t := by
    intro j hj
    by_cases c : j = q
    · rw [c, pk_us]
      exact ⟨i, hi, rfl⟩
    · rw [pk_un c]
      exact hf j hj
  refine And.intro (vp_in_nI hq (by decide)) (nm_r e1 (nm_r (nI_1 q) (pk_le 3 (q + 1) (fun h3 => ?_) (fun h3 => ?_))))
  · obtain ⟨l, hl, el⟩ := pk_andE (upd fg q (nI i) 0) (m := 7) 3 (by decide)
    refine nm_r el (Exists.intro 4 (tf_fill_l hl hf' 3 0 tp rfl hp (fun tp' h' => K 0 _ tp' _ ⟨⟨0, by decide, rfl⟩, fun j hj => ?_, h', hf'⟩)))
    by_cases c : j = l
    · rw [c, pk_us]
      exact ⟨3, by decide, rfl⟩
    · rw [pk_un c]
      exact ht j hj
  · exact K _ tl tp _ ⟨⟨q + 1, by omega, rfl⟩, ht, hp, hf'⟩
end
end
section
/-! executing: mayLoad, loadedBy, compute, announce, execute, executeSome -/
section
variable {ln pc st fi hd en fp re : Int32} {oc fx fy fz rg ce ct tl tp fg ep eo ex ls lv rs rv ad aa dn rt nw : Nat → Int32} {L h n : Nat} {PL : Nat → Nat}
theorem tf_may_l {post : Int32 → Prop} {e a : Nat} (hh : h < 8) (ha : a ≤ 8) (he : e < 8) (K0 : 0 < a → post 0)
    (K1 : (∀ j, j < a → eo (tf_sl h j) = 6 → ¬ ad (tf_sl h j) = 0 ∧ (aa (tf_sl h j) = aa e → ¬ dn (tf_sl h j) = 0)) → post 1) :
    ∀ d k : Nat, k + d = a → (∀ j, j < k → eo (tf_sl h j) = 6 → ¬ ad (tf_sl h j) = 0 ∧ (aa (tf_sl h j) = aa e → ¬ dn (tf_sl h j) = 0)) →
    wX_mayLoad_2 post (nI e) (nI a) ln pc st fi (nI h) en fp re oc fx fy fz rg ce ct tl tp fg ep eo ex ls lv rs rv ad aa dn rt nw (d + 1) (nI k) := by
  intro d
  induction d with
  | zero =>
    intro k hk hf
    exact pk_le a k (fun _ => K1 (fun j hj => hf j (by omega))) (fun z => absurd z (by omega))
  | succ d ih =>
    intro k hk hf
    have hs : vp_in (nI (tf_sl h k)) 8 := vp_in_nI (tf_sl_lt h k) (by decide)
    have he' : vp_in (nI e) 8 := vp_in_nI he (by decide)
    have ec : (nI (tf_sl h k)).toNatClampNeg = tf_sl h k := nI_clamp (Nat.lt_trans (tf_sl_lt h k) (by decide))
    have ee : (nI e).toNatClampNeg = e := nI_clamp (by omega)
    refine pk_le a k (fun z => absurd z (by omega)) (fun _ => nm_r (tf_slI hh (by omega)) (And.intro hs ?_))
    rw [ec, ee]
    refine br_c (fun z6 => And.intro hs (br_c (fun _ => K0 (by omega)) (fun za => And.intro hs (And.intro he' (br_c (fun ea => And.intro hs (br_c (fun _ => K0 (by omega)) (fun zd => nm_r (nI_1 k) (ih (k + 1) (by omega) ?_)))) (fun na => nm_r (nI_1 k) (ih (k + 1) (by omega) ?_))))))) (fun n6 => nm_r (nI_1 k) (ih (k + 1) (by omega) ?_))
    · exact lt_s hf (fun _ => ⟨za, fun _ => zd⟩)
    · exact lt_s hf (fun _ => ⟨za, fun y => absurd y na⟩)
    · exact lt_s hf (fun y => absurd y n6)
theorem tf_may {post : Int32 → Prop} {e a : Nat} (hh : h < 8) (ha : a ≤ 8) (he : e < 8) (K0 : 0 < a → post 0)
    (K1 : (∀ j, j < a → eo (tf_sl h j) = 6 → ¬ ad (tf_sl h j) = 0 ∧ (aa (tf_sl h j) = aa e → ¬ dn (tf_sl h j) = 0)) → post 1) :
    wpX_mayLoad post (ln, pc, st, fi, nI h, en, fp, re, oc, fx, fy, fz, rg, ce, ct, tl, tp, fg, ep, eo, ex, ls, lv, rs, rv, ad, aa, dn, rt, nw) (nI e) (nI a) :=
  Exists.intro (a + 1) (tf_may_l hh ha he K0 K1 a 0 (by omega) (fun j hj => absurd hj (by omega)))
theorem tf_load_l {post : Int32 → Prop} {e a b : Nat} (hh : h < 8) (ha : a ≤ 8) (he : e < 8) (hb : b < 16) (eb : aa e = nI b)
    (hf : ∀ j, j < a → eo (tf_sl h j) = nI (tf_zo L oc (PL j)) ∧ tf_zo L oc (PL j) ≤ 11 ∧ (tf_zo L oc (PL j) = 6 → aa (tf_sl h j) = nI (tf_A fy fz (PL j) (tf_S L oc fx fy fz PL (rg, ce) j)) ∧ (tf_A fy fz (PL j) (tf_S L oc fx fy fz PL (rg, ce) j) = b → rt (tf_sl h j) = tf_V L oc fx fy fz (PL j) (tf_S L oc fx fy fz PL (rg, ce) j))))
    (K : post ((tf_S L oc fx fy fz PL (rg, ce) a).2 b)) :
    ∀ d k : Nat, k + d = a → wX_loadedBy_15 post (nI e) (nI a) ln pc st fi (nI h) en fp re oc fx fy fz rg ce ct tl tp fg ep eo ex ls lv rs rv ad aa dn rt nw (d + 1) ((tf_S L oc fx fy fz PL (rg, ce) k).2 b) (nI k) := by
  intro d
  induction d with
  | zero =>
    intro k hk
    have : k = a := by omega
    subst this
    exact pk_le k k (fun _ => K) (fun z => absurd z (by omega))
  | succ d ih =>
    intro k hk
    have hs : vp_in (nI (tf_sl h k)) 8 := vp_in_nI (tf_sl_lt h k) (by decide)
    have he' : vp_in (nI e) 8 := vp_in_nI he (by decide)
    have ec : (nI (tf_sl h k)).toNatClampNeg = tf_sl h k := nI_clamp (Nat.lt_trans (tf_sl_lt h k) (by decide))
    have ee : (nI e).toNatClampNeg = e := nI_clamp (by omega)
    obtain ⟨f1, f11, f2⟩ := hf k (by omega)
    have I := ih (k + 1) (by omega)
    have em : (tf_S L oc fx fy fz PL (rg, ce) (k + 1)).2 b = _ := tf_S_mem
    refine pk_le a k (fun z => absurd z (by omega)) (fun _ => nm_r (tf_slI hh (by omega)) (And.intro hs ?_))
    rw [ec, ee]
    refine pk_eq (tf_zo L oc (PL k)) 6 (fun z6 => And.intro hs (And.intro he' ?_)) (fun n6 => nm_r (nI_1 k) ?_) f1
    · obtain ⟨g1, g2⟩ := f2 z6
      rw [if_pos z6] at em
      refine pk_eq (tf_A fy fz (PL k) (tf_S L oc fx fy fz PL (rg, ce) k)) b (fun eA => And.intro hs (nm_r (e' := (tf_S L oc fx fy fz PL (rg, ce) (k + 1)).2 b) ?_ (nm_r (nI_1 k) I))) (fun nA => nm_r (nI_1 k) ?_) g1 eb (Nat.lt_trans (tf_A_lt _ _) (by decide))
      · rw [em, if_pos eA.symm]
        exact g2 eA
      · rw [if_neg (fun z => nA z.symm)] at em
        rw [em] at I
        exact I
    · rw [if_neg n6] at em
      rw [em] at I
      exact I
theorem tf_load {post : Int32 → Prop} {e a b : Nat} (hh : h < 8) (ha : a ≤ 8) (he : e < 8) (hb : b < 16) (eb : aa e = nI b)
    (hf : ∀ j, j < a → eo (tf_sl h j) = nI (tf_zo L oc (PL j)) ∧ tf_zo L oc (PL j) ≤ 11 ∧ (tf_zo L oc (PL j) = 6 → aa (tf_sl h j) = nI (tf_A fy fz (PL j) (tf_S L oc fx fy fz PL (rg, ce) j)) ∧ (tf_A fy fz (PL j) (tf_S L oc fx fy fz PL (rg, ce) j) = b → rt (tf_sl h j) = tf_V L oc fx fy fz (PL j) (tf_S L oc fx fy fz PL (rg, ce) j))))
    (K : post ((tf_S L oc fx fy fz PL (rg, ce) a).2 b)) : wpX_loadedBy post (ln, pc, st, fi, nI h, en, fp, re, oc, fx, fy, fz, rg, ce, ct, tl, tp, fg, ep, eo, ex, ls, lv, rs, rv, ad, aa, dn, rt, nw) (nI e) (nI a) := by
  have ee : (nI e).toNatClampNeg = e := nI_clamp (by omega)
  have e1 : aa (nI e).toNatClampNeg = nI b := by rw [ee]; exact eb
  have e2 : ce (aa (nI e).toNatClampNeg).toNatClampNeg = (tf_S L oc fx fy fz PL (rg, ce) 0).2 b := by
    rw [e1, nI_clamp (by omega)]
    rfl
  exact And.intro (vp_in_nI he (by decide)) (And.intro (pk_in b 16 hb e1) (nm_r e2 (Exists.intro (a + 1) (tf_load_l hh ha he hb eb hf K a 0 (by omega)))))
def tf_cv (o : Nat) (p q : Int32) : Int32 := if o = 1 then p - q else if o = 2 then p ^^^ q else if o = 3 then (if q ≤ p then 0 else 1) else p + q
theorem tf_comp {post : Int32 → Prop} {o : Nat} {p q : Int32} (ho : o ≤ 4) (K : post (tf_cv o p q)) : wpX_compute post (ln, pc, st, fi, hd, en, fp, re, oc, fx, fy, fz, rg, ce, ct, tl, tp, fg, ep, eo, ex, ls, lv, rs, rv, ad, aa, dn, rt, nw) (nI o) p q := by
  unfold tf_cv at K
  refine pk_eq o 1 (fun h1 => ?_) (fun n1 => pk_eq o 2 (fun h2 => ?_) (fun n2 => pk_eq o 3 (fun h3 => br_c (fun y => ?_) (fun y => ?_)) (fun n3 => ?_)))
  · rw [if_pos h1] at K; exact K
  · rw [if_neg n1, if_pos h2] at K; exact K
  · rw [if_neg n1, if_neg n2, if_pos h3, if_pos y] at K; exact K
  · rw [if_neg n1, if_neg n2, if_pos h3, if_neg y] at K; exact K
  · rw [if_neg n1, if_neg n2, if_neg n3] at K; exact K
theorem tf_ann49 {post : SX → Prop} {J : Int32 → (Nat → Int32) → (Nat → Int32) → (Nat → Int32) → (Nat → Int32) → (Nat → Int32) → (Nat → Int32) → (Nat → Int32) → (Nat → Int32) → (Nat → Int32) → (Nat → Int32) → (Nat → Int32) → (Nat → Int32) → (Nat → Int32) → (Nat → Int32) → (Nat → Int32) → (Nat → Int32) → (Nat → Int32) → (Nat → Int32) → (Nat → Int32) → (Nat → Int32) → (Nat → Int32) → (Nat → Int32) → Prop}
    {e s j : Nat} (he : e < 8) (hs : s < 8) (k1 : rs s = nI e → J (nI (j + 1)) oc fx fy fz rg ce ct tl tp fg ep eo ex ls lv (upd rs s (-1)) (upd rv s (rt e)) ad aa dn rt nw) (k0 : ¬ rs s = nI e → J (nI (j + 1)) oc fx fy fz rg ce ct tl tp fg ep eo ex ls lv rs rv ad aa dn rt nw) :
    wX_announce_49 post J (nI e) (nI j) (nI s) ln pc st fi hd en fp re oc fx fy fz rg ce ct tl tp fg ep eo ex ls lv rs rv ad aa dn rt nw := by
  have hs' : vp_in (nI s) 8 := vp_in_nI hs (by decide)
  have he' : vp_in (nI e) 8 := vp_in_nI he (by decide)
  have ec : (nI s).toNatClampNeg = s := nI_clamp (by omega)
  have ee : (nI e).toNatClampNeg = e := nI_clamp (by omega)
  have e1 : upd rs s (vp_nar .byte (-1)) = upd rs s (-1) := by rw [tf_nbm]
  refine And.intro hs' ?_
  rw [ec, ee]
  exact br_c (fun z => And.intro hs' (nm_r e1 (And.intro he' (And.intro hs' (nm_e (nm_r (nI_1 j) (k1 z))))))) (fun z => nm_r (nI_1 j) (k0 z))
theorem tf_ann_l {post : SX → Prop} {e : Nat} (hh : h < 8) (hn : n ≤ 8) (he : e < 8) :
    ∀ (d j : Nat) (ls lv rs rv : Nat → Int32), j + d = n →
    (∀ ls' lv' rs' rv', tf_AN h n j e (rt e) ls lv ls' lv' → tf_AN h n j e (rt e) rs rv rs' rv' → post (ln, pc, st, fi, nI h, nI n, fp, re, oc, fx, fy, fz, rg, ce, ct, tl, tp, fg, ep, eo, ex, ls', lv', rs', rv', ad, aa, dn, rt, nw)) →
    wX_announce_2 post (nI e) ln pc st fi (nI h) (nI n) fp re (d + 1) (nI j) oc fx fy fz rg ce ct tl tp fg ep eo ex ls lv rs rv ad aa dn rt nw := by
  intro d
  induction d with
  | zero =>
    intro j ls lv rs rv hj K
    have : j = n := by omega
    subst this
    exact pk_le j j (fun _ => K _ _ _ _ tf_AN_end tf_AN_end) (fun z => absurd z (by omega))
  | succ d ih =>
    intro j ls lv rs rv hj K
    have hs : vp_in (nI (tf_sl h j)) 8 := vp_in_nI (tf_sl_lt h j) (by decide)
    have he' : vp_in (nI e) 8 := vp_in_nI he (by decide)
    have ec : (nI (tf_sl h j)).toNatClampNeg = tf_sl h j := nI_clamp (Nat.lt_trans (tf_sl_lt h j) (by decide))
    have ee : (nI e).toNatClampNeg = e := nI_clamp (by omega)
    have e1 : upd ls (tf_sl h j) (vp_nar .byte (-1)) = upd ls (tf_sl h j) (-1) := by rw [tf_nbm]
    have hjn : j < n := by omega
    refine pk_le n j (fun z => absurd z (by omega)) (fun _ => nm_r (tf_slI hh (by omega)) (And.intro hs ?_))
    rw [ec, ee]
    refine br_c (fun z => And.intro hs (nm_r e1 (And.intro he' (And.intro hs (nm_e (tf_ann49 he (tf_sl_lt h j) (fun y => ?_) (fun y => ?_))))))) (fun z => tf_ann49 he (tf_sl_lt h j) (fun y => ?_) (fun y => ?_))
    · exact ih (j + 1) _ _ _ _ (by omega) (fun ls' lv' rs' rv' a b => K ls' lv' rs' rv' (tf_AN_hit hn hjn z a) (tf_AN_hit hn hjn y b))
    · exact ih (j + 1) _ _ _ _ (by omega) (fun ls' lv' rs' rv' a b => K ls' lv' rs' rv' (tf_AN_hit hn hjn z a) (tf_AN_miss hjn y b))
    · exact ih (j + 1) _ _ _ _ (by omega) (fun ls' lv' rs' rv' a b => K ls' lv' rs' rv' (tf_AN_miss hjn z a) (tf_AN_hit hn hjn y b))
    · exact ih (j + 1) _ _ _ _ (by omega) (fun ls' lv' rs' rv' a b => K ls' lv' rs' rv' (tf_AN_miss hjn z a) (tf_AN_miss hjn y b))
theorem tf_ann {post : SX → Prop} {e : Nat} (hh : h < 8) (hn : n ≤ 8) (he : e < 8)
    (K : ∀ ls' lv' rs' rv', tf_AN h n 0 e (rt e) ls lv ls' lv' → tf_AN h n 0 e (rt e) rs rv rs' rv' → post (ln, pc, st, fi, nI h, nI n, fp, re, oc, fx, fy, fz, rg, ce, ct, tl, tp, fg, ep, eo, ex, ls', lv', rs', rv', ad, aa, dn, rt, nw)) :
    wpX_announce post (ln, pc, st, fi, nI h, nI n, fp, re, oc, fx, fy, fz, rg, ce, ct, tl, tp, fg, ep, eo, ex, ls, lv, rs, rv, ad, aa, dn, rt, nw) (nI e) := Exists.intro (n + 1) (tf_ann_l hh hn he n 0 ls lv rs rv (by omega) K)
theorem tf_ex136 {post : Int32 → SX → Prop} {k : Nat} {x : Int32} (H : tf_RB L oc fx fy fz rg ce PL h n ep eo ex ls lv rs rv ad aa dn rt nw) (hk : k < n) (h8 : tf_zo L oc (PL k) ≤ 8) (h6 : tf_zo L oc (PL k) = 6 → ¬ ad (tf_sl h k) = 0)
    (hx : x = tf_V L oc fx fy fz (PL k) (tf_S L oc fx fy fz PL (rg, ce) k))
    (K : ∀ ls' lv' rs' rv' dn' rt', tf_RB L oc fx fy fz rg ce PL h n ep eo ex ls' lv' rs' rv' ad aa dn' rt' nw → (∀ s, ¬ dn s = 0 → ¬ dn' s = 0) → ¬ dn' (tf_sl h k) = 0 →
      post 1 (ln, pc, st, fi, nI h, nI n, fp, re, oc, fx, fy, fz, rg, ce, ct, tl, tp, fg, ep, eo, ex, ls', lv', rs', rv', ad, aa, dn', rt', nw)) :
    wX_execute_136 post (nI (tf_sl h k)) x ln pc st fi (nI h) (nI n) fp re oc fx fy fz rg ce ct tl tp fg ep eo ex ls lv rs rv ad aa dn rt nw := by
  have hs : vp_in (nI (tf_sl h k)) 8 := vp_in_nI (tf_sl_lt h k) (by decide)
  have ec : (nI (tf_sl h k)).toNatClampNeg = tf_sl h k := nI_clamp (Nat.lt_trans (tf_sl_lt h k) (by decide))
  have e1 : upd rt (nI (tf_sl h k)).toNatClampNeg x = upd rt (tf_sl h k) (tf_V L oc fx fy fz (PL k) (tf_S L oc fx fy fz PL (rg, ce) k)) := by rw [ec, hx]
  have e2 : upd dn (nI (tf_sl h k)).toNatClampNeg (vp_nar .boolean 1) = upd dn (tf_sl h k) 1 := by rw [ec, tf_z1]
  refine And.intro hs (nm_r e1 (And.intro hs (nm_r e2 (tf_ann H.1 H.2.1 (tf_sl_lt h k) (fun ls' lv' rs' rv' a b => ?_)))))
  rw [pk_us] at a b
  refine K ls' lv' rs' rv' _ _ (tf_RB_exec H hk h8 h6 a b) (fun s hs => ?_) ?_
  · by_cases c : s = tf_sl h k
    · rw [c, pk_us]; decide
    · rw [pk_un c]; exact hs
  · rw [pk_us]; decide
end
end
section
/-! execute, executeSome -/
theorem tf_zv_c {o x y : Nat} {z : Int32} {R M : Nat → Int32} (ho : o ≤ 3) : tf_cv o (R y) (R z.toNatClampNeg) = tf_zv o x y z R M := by
  rcases (by omega : o = 0 ∨ o = 1 ∨ o = 2 ∨ o = 3) with rfl | rfl | rfl | rfl <;> rfl
theorem tf_zv_7 {o x y : Nat} {z : Int32} {R M : Nat → Int32} (ho : 6 ≤ o) : R x = tf_zv o x y z R M := by
  unfold tf_zv
  rw [if_neg (by omega), if_neg (by omega), if_neg (by omega), if_neg (by omega), if_neg (by omega), if_neg (by omega)]
theorem tf_zv_4 {o x y : Nat} {z : Int32} {R M : Nat → Int32} (ho : o = 4) : tf_cv o (R y) z = tf_zv o x y z R M := by
  subst ho
  rfl
section
variable {ln pc st fi hd en fp re : Int32} {oc fx fy fz rg ce ct tl tp fg ep eo ex ls lv rs rv ad aa dn rt nw : Nat → Int32} {L h n : Nat} {PL : Nat → Nat}
theorem tf_ex43 {post : Int32 → SX → Prop} {k : Nat} (W : tf_WF L oc fx fy fz) (H : tf_RB L oc fx fy fz rg ce PL h n ep eo ex ls lv rs rv ad aa dn rt nw) (hk : k < n) (hd0 : dn (tf_sl h k) = 0) (hz : tf_zo L oc (PL k) = 5 ∨ tf_zo L oc (PL k) = 6)
    (hrv : tf_zo L oc (PL k) = 6 → rv (tf_sl h k) = (tf_S L oc fx fy fz PL (rg, ce) k).1 (fx (PL k)).toNatClampNeg)
    (K0 : 0 < k → ∀ ad' aa', tf_RB L oc fx fy fz rg ce PL h n ep eo ex ls lv rs rv ad' aa' dn rt nw → post 0 (ln, pc, st, fi, nI h, nI n, fp, re, oc, fx, fy, fz, rg, ce, ct, tl, tp, fg, ep, eo, ex, ls, lv, rs, rv, ad', aa', dn, rt, nw))
    (K1 : ∀ ls' lv' rs' rv' ad' aa' dn' rt', tf_RB L oc fx fy fz rg ce PL h n ep eo ex ls' lv' rs' rv' ad' aa' dn' rt' nw → (∀ s, ¬ dn s = 0 → ¬ dn' s = 0) → ¬ dn' (tf_sl h k) = 0 →
      post 1 (ln, pc, st, fi, nI h, nI n, fp, re, oc, fx, fy, fz, rg, ce, ct, tl, tp, fg, ep, eo, ex, ls', lv', rs', rv', ad', aa', dn', rt', nw)) :
    wX_execute_43 post (nI (tf_sl h k)) (nI k) (nI (tf_zo L oc (PL k))) (fz (PL k)) ((tf_S L oc fx fy fz PL (rg, ce) k).1 (fy (PL k)).toNatClampNeg) ln pc st fi (nI h) (nI n) fp re oc fx fy fz rg ce ct tl tp fg ep eo ex ls lv rs rv ad aa dn rt nw := by
  have hs : vp_in (nI (tf_sl h k)) 8 := vp_in_nI (tf_sl_lt h k) (by decide)
  have ec : (nI (tf_sl h k)).toNatClampNeg = tf_sl h k := nI_clamp (Nat.lt_trans (tf_sl_lt h k) (by decide))
  have hA := tf_A_lt (fy := fy) (fz := fz) (PL k) (tf_S L oc fx fy fz PL (rg, ce) k)
  have e1 : upd aa (nI (tf_sl h k)).toNatClampNeg (vp_nar .byte ((((tf_S L oc fx fy fz PL (rg, ce) k).1 (fy (PL k)).toNatClampNeg + fz (PL k)) &&& 15).toInt8.toInt32)) = upd aa (tf_sl h k) (nI (tf_A fy fz (PL k) (tf_S L oc fx fy fz PL (rg, ce) k))) := by
    rw [ec, tf_A_I, tf_nb2 (by omega)]
  have e2 : upd ad (nI (tf_sl h k)).toNatClampNeg (vp_nar .boolean 1) = upd ad (tf_sl h k) 1 := by rw [ec, tf_z1]
  have H' := tf_RB_addr H hk hz hd0
  have k136 : ∀ x, x = tf_V L oc fx fy fz (PL k) (tf_S L oc fx fy fz PL (rg, ce) k) → wX_execute_136 post (nI (tf_sl h k)) x ln pc st fi (nI h) (nI n) fp re oc fx fy fz rg ce ct tl tp fg ep eo ex ls lv rs rv (upd ad (tf_sl h k) 1) (upd aa (tf_sl h k) (nI (tf_A fy fz (PL k) (tf_S L oc fx fy fz PL (rg, ce) k)))) dn rt nw := by
    intro x hx
    refine tf_ex136 H' hk (by omega) (fun _ => ?_) hx (fun ls' lv' rs' rv' dn' rt' R m d => K1 ls' lv' rs' rv' _ _ dn' rt' R m d)
    rw [pk_us]; decide
  have n8 := H.2.1
  refine And.intro hs (nm_r e1 (And.intro hs (nm_r e2 ?_)))
  refine pk_eq (tf_zo L oc (PL k)) 5 (fun h5 => ?_) (fun n5 => ?_)
  · refine tf_may H.1 (by omega) (tf_sl_lt h k) (fun h0 => br_t rfl (K0 h0 _ _ H')) (fun hf => br_f (by decide) (pk_eq (tf_zo L oc (PL k)) 5 (fun _ => ?_) (fun z => absurd h5 z)))
    refine tf_load (PL := PL) (L := L) (b := tf_A fy fz (PL k) (tf_S L oc fx fy fz PL (rg, ce) k)) H.1 (by omega) (tf_sl_lt h k) hA pk_us (fun j hj => ?_) (k136 _ ?_)
    · have Ej := H'.2.2.2.1 j (by omega)
      obtain ⟨⟨_, b1, _⟩, b2, b3, b4, b5, b6, b7, b8, b9⟩ := Ej
      refine ⟨b1, tf_WF_11 W _, fun z6 => ?_⟩
      have g := hf j hj (by rw [b1, z6]; rfl)
      have ea := b8 z6 g.1
      refine ⟨ea, fun eA => b7 (by omega) (g.2 ?_)⟩
      rw [ea, pk_us, eA]
    · unfold tf_V
      rw [h5]
      rfl
  · refine pk_eq (tf_zo L oc (PL k)) 5 (fun z => absurd z n5) (fun _ => And.intro hs (k136 _ ?_))
    rw [ec, hrv (by omega)]
    exact tf_zv_7 (by omega)
theorem tf_ex131 {post : Int32 → SX → Prop} {o : Nat} {e p q : Int32} (ho : o ≤ 4) (K : wX_execute_136 post e (tf_cv o p q) ln pc st fi hd en fp re oc fx fy fz rg ce ct tl tp fg ep eo ex ls lv rs rv ad aa dn rt nw) : wX_execute_131 post e q p (nI o) ln pc st fi hd en fp re oc fx fy fz rg ce ct tl tp fg ep eo ex ls lv rs rv ad aa dn rt nw := by
  unfold wX_execute_131
  exact tf_comp (post := fun r => wX_execute_136 post e r ln pc st fi hd en fp re oc fx fy fz rg ce ct tl tp fg ep eo ex ls lv rs rv ad aa dn rt nw) ho K
theorem tf_exA {post : Int32 → SX → Prop} {e o i : Nat} {p a : Int32} (he : e < 8) (hi : i < 24) (ho : o ≤ 8) (q1 : eo e = nI o) (q2 : ep e = nI i) (q4 : lv e = p)
    (K5 : o = 5 ∨ o = 6 → wX_execute_43 post (nI e) a (nI o) (fz i) p ln pc st fi hd en fp re oc fx fy fz rg ce ct tl tp fg ep eo ex ls lv rs rv ad aa dn rt nw) (K7 : 6 < o → wX_execute_136 post (nI e) p ln pc st fi hd en fp re oc fx fy fz rg ce ct tl tp fg ep eo ex ls lv rs rv ad aa dn rt nw)
    (K4 : o = 4 → wX_execute_131 post (nI e) (fz i) p (nI o) ln pc st fi hd en fp re oc fx fy fz rg ce ct tl tp fg ep eo ex ls lv rs rv ad aa dn rt nw) (K3 : o ≤ 3 → wX_execute_131 post (nI e) (rv e) p (nI o) ln pc st fi hd en fp re oc fx fy fz rg ce ct tl tp fg ep eo ex ls lv rs rv ad aa dn rt nw) : wpX_execute post (ln, pc, st, fi, hd, en, fp, re, oc, fx, fy, fz, rg, ce, ct, tl, tp, fg, ep, eo, ex, ls, lv, rs, rv, ad, aa, dn, rt, nw) (nI e) a := by
  have hs : vp_in (nI e) 8 := vp_in_nI he (by decide)
  have ec : (nI e).toNatClampNeg = e := nI_clamp (by omega)
  have g1 : eo (nI e).toNatClampNeg = nI o := by rw [ec]; exact q1
  have g2 : ep (nI e).toNatClampNeg = nI i := by rw [ec]; exact q2
  have g3 : fz (ep (nI e).toNatClampNeg).toNatClampNeg = fz i := by rw [g2, nI_clamp (by omega)]
  have g4 : lv (nI e).toNatClampNeg = p := by rw [ec]; exact q4
  refine And.intro hs (nm_r g1 (And.intro hs (And.intro (pk_in i 24 hi g2) (nm_r g3 (And.intro hs (nm_r g4 ?_))))))
  refine pk_eq o 5 (fun h5 => K5 (Or.inl h5)) (fun n5 => pk_eq o 6 (fun h6 => K5 (Or.inr h6)) (fun n6 => pk_lt 4 o (fun h4 => K7 (by omega)) (fun h4 => pk_eq o 4 (fun e4 => K4 e4) (fun n4 => And.intro hs ?_))))
  rw [ec]
  exact K3 (by omega)
end
end
section
/-! execute over the invariant -/
section
variable {ln pc st fi hd en fp re : Int32} {oc fx fy fz rg ce ct tl tp fg ep eo ex ls lv rs rv ad aa dn rt nw : Nat → Int32} {L h n : Nat} {PL : Nat → Nat}
theorem tf_execute {post : Int32 → SX → Prop} {k : Nat} (W : tf_WF L oc fx fy fz) (H : tf_RB L oc fx fy fz rg ce PL h n ep eo ex ls lv rs rv ad aa dn rt nw) (hk : k < n) (hd0 : dn (tf_sl h k) = 0) (hl : ¬ 0 ≤ ls (tf_sl h k)) (hr : rs (tf_sl h k) < 0)
    (K0 : 0 < k → ∀ ad' aa', tf_RB L oc fx fy fz rg ce PL h n ep eo ex ls lv rs rv ad' aa' dn rt nw → post 0 (ln, pc, st, fi, nI h, nI n, fp, re, oc, fx, fy, fz, rg, ce, ct, tl, tp, fg, ep, eo, ex, ls, lv, rs, rv, ad', aa', dn, rt, nw))
    (K1 : ∀ ls' lv' rs' rv' ad' aa' dn' rt', tf_RB L oc fx fy fz rg ce PL h n ep eo ex ls' lv' rs' rv' ad' aa' dn' rt' nw → (∀ s, ¬ dn s = 0 → ¬ dn' s = 0) → ¬ dn' (tf_sl h k) = 0 →
      post 1 (ln, pc, st, fi, nI h, nI n, fp, re, oc, fx, fy, fz, rg, ce, ct, tl, tp, fg, ep, eo, ex, ls', lv', rs', rv', ad', aa', dn', rt', nw)) :
    wpX_execute post (ln, pc, st, fi, nI h, nI n, fp, re, oc, fx, fy, fz, rg, ce, ct, tl, tp, fg, ep, eo, ex, ls, lv, rs, rv, ad, aa, dn, rt, nw) (nI (tf_sl h k)) (nI k) := by
  have E := H.2.2.2.1 k hk
  have a1 := E.1.1
  have a2 := E.1.2.1
  have z8 : tf_zo L oc (PL k) ≤ 8 := by
    by_cases c : 9 ≤ tf_zo L oc (PL k)
    · exact absurd hd0 (E.2.1 c)
    · omega
  have hi : PL k < L := tf_zo_in (oc := oc) (by omega)
  have hL := W.1
  have el : lv (tf_sl h k) = (tf_S L oc fx fy fz PL (rg, ce) k).1 (tf_lr L oc fx fy (PL k)) := by
    rcases E.2.2.2.1 z8 hd0 with ⟨_, e⟩ | ⟨j, w, e, _⟩
    · exact e
    · rw [e] at hl
      exact absurd (nI_pos' (Nat.lt_trans (tf_sl_lt h j) (by decide))) hl
  have er : (tf_zo L oc (PL k) ≤ 3 ∨ tf_zo L oc (PL k) = 6) → rv (tf_sl h k) = (tf_S L oc fx fy fz PL (rg, ce) k).1 (tf_rr L oc fx fz (PL k)) := by
    intro c
    rcases E.2.2.2.2.1 hd0 c with ⟨_, e⟩ | ⟨j, w, e, _⟩
    · exact e
    · rw [e] at hr
      exact absurd hr (nI_pos (Nat.lt_trans (tf_sl_lt h j) (by decide)))
  have k136 : ∀ x, tf_zo L oc (PL k) ≠ 6 → x = tf_V L oc fx fy fz (PL k) (tf_S L oc fx fy fz PL (rg, ce) k) → wX_execute_136 post (nI (tf_sl h k)) x ln pc st fi (nI h) (nI n) fp re oc fx fy fz rg ce ct tl tp fg ep eo ex ls lv rs rv ad aa dn rt nw := fun x n6 hx =>
    tf_ex136 H hk z8 (fun z => absurd z n6) hx (fun ls' lv' rs' rv' dn' rt' R m d => K1 ls' lv' rs' rv' _ _ dn' rt' R m d)
  have ly : tf_zo L oc (PL k) ≤ 6 → tf_lr L oc fx fy (PL k) = (fy (PL k)).toNatClampNeg := fun c => if_pos c
  have lx : 7 ≤ tf_zo L oc (PL k) → tf_lr L oc fx fy (PL k) = (fx (PL k)).toNatClampNeg := fun c => if_neg (by omega)
  have k43 : tf_zo L oc (PL k) = 5 ∨ tf_zo L oc (PL k) = 6 → wX_execute_43 post (nI (tf_sl h k)) (nI k) (nI (tf_zo L oc (PL k))) (fz (PL k)) ((tf_S L oc fx fy fz PL (rg, ce) k).1 (tf_lr L oc fx fy (PL k))) ln pc st fi (nI h) (nI n) fp re oc fx fy fz rg ce ct tl tp fg ep eo ex ls lv rs rv ad aa dn rt nw := by
    intro hz
    rw [ly (by omega)]
    refine tf_ex43 W H hk hd0 hz (fun z6 => ?_) K0 K1
    have := er (Or.inr z6)
    rw [show tf_rr L oc fx fz (PL k) = (fx (PL k)).toNatClampNeg from if_neg (by omega)] at this
    exact this
  refine tf_exA (tf_sl_lt h k) (by omega) z8 a2 a1 el k43 (fun h7 => k136 _ (by omega) ?_) (fun e4 => tf_ex131 (by omega) (k136 _ (by omega) ?_)) (fun h3 => tf_ex131 (by omega) (k136 _ (by omega) ?_))
  · rw [lx (by omega)]
    exact tf_zv_7 (by omega)
  · rw [ly (by omega)]
    exact tf_zv_4 e4
  · rw [ly (by omega), er (Or.inl (by omega)), show tf_rr L oc fx fz (PL k) = (fz (PL k)).toNatClampNeg from if_pos (by omega)]
    exact tf_zv_c (by omega)
end
end
section
/-! executeSome -/
section
variable {ln pc st fi hd en fp re : Int32} {oc fx fy fz rg ce ct tl tp fg ep eo ex ls lv rs rv ad aa dn rt nw : Nat → Int32} {L h n : Nat} {PL : Nat → Nat}
theorem tf_some_l {post : SX → Prop} (W : tf_WF L oc fx fy fz) : ∀ (d k c : Nat) (ls lv rs rv ad aa dn rt : Nat → Int32), k + d = n → c ≤ k → tf_RB L oc fx fy fz rg ce PL h n ep eo ex ls lv rs rv ad aa dn rt nw → (0 < k → ¬ dn h = 0) →
    (∀ ls' lv' rs' rv' ad' aa' dn' rt', tf_RB L oc fx fy fz rg ce PL h n ep eo ex ls' lv' rs' rv' ad' aa' dn' rt' nw → (0 < n → ¬ dn' h = 0) →
      post (ln, pc, st, fi, nI h, nI n, fp, re, oc, fx, fy, fz, rg, ce, ct, tl, tp, fg, ep, eo, ex, ls', lv', rs', rv', ad', aa', dn', rt', nw)) →
    wX_executeSome_4 post (d + 1) (nI c) (nI k) ln pc st fi (nI h) (nI n) fp re oc fx fy fz rg ce ct tl tp fg ep eo ex ls lv rs rv ad aa dn rt nw := by
  intro d
  induction d with
  | zero =>
    intro k c ls lv rs rv ad aa dn rt hk hc H h0 K
    have n8 := H.2.1
    exact pk_le n k (fun _ => K _ _ _ _ _ _ _ _ H (fun z => h0 (by omega))) (fun z => absurd z (by omega))
  | succ d ih =>
    intro k c ls lv rs rv ad aa dn rt hk hc H h0 K
    have n8 := H.2.1
    have hh := H.1
    have hs : vp_in (nI (tf_sl h k)) 8 := vp_in_nI (tf_sl_lt h k) (by decide)
    have ec : (nI (tf_sl h k)).toNatClampNeg = tf_sl h k := nI_clamp (Nat.lt_trans (tf_sl_lt h k) (by decide))
    refine pk_le n k (fun z => absurd z (by omega)) (fun hkn => pk_le 2 c (fun z => K _ _ _ _ _ _ _ _ H (fun _ => h0 (by omega))) (fun c2 => nm_r (tf_slI hh (by omega)) (And.intro hs ?_)))
    rw [ec]
    have E := H.2.2.2.1 k hkn
    refine br_c (fun zd => And.intro hs (br_c (fun zl => nm_r (nI_1 k) (ih (k + 1) c _ _ _ _ _ _ _ _ (by omega) (by omega) H (fun _ => ?_) K)) (fun nl => And.intro hs (br_c (fun zr => ?_) (fun nr => nm_r (nI_1 k) (ih (k + 1) c _ _ _ _ _ _ _ _ (by omega) (by omega) H (fun _ => ?_) K)))))) (fun nd => nm_r (nI_1 k) (ih (k + 1) c _ _ _ _ _ _ _ _ (by omega) (by omega) H (fun _ => ?_) K))
    · by_cases k0 : 0 < k
      · exact h0 k0
      · have z8 : tf_zo L oc (PL k) ≤ 8 := by
          by_cases c9 : 9 ≤ tf_zo L oc (PL k)
          · exact absurd zd (E.2.1 c9)
          · omega
        rcases E.2.2.2.1 z8 zd with ⟨e, _⟩ | ⟨j, w, _⟩
        · rw [e] at zl
          exact absurd zl tf_m1le
        · exact absurd w.1 (by omega)
    · refine tf_execute W H hkn zd nl zr (fun hk0 ad' aa' H' => ?_) (fun ls' lv' rs' rv' ad' aa' dn' rt' H' m dd => ?_)
      · exact br_t rfl (nm_r (nI_1 k) (ih (k + 1) c _ _ _ _ _ _ _ _ (by omega) (by omega) H' (fun _ => h0 hk0) K))
      · refine br_f (by decide) (nm_r (nI_1 c) (nm_r (nI_1 k) (ih (k + 1) (c + 1) _ _ _ _ _ _ _ _ (by omega) (by omega) H' (fun _ => ?_) K)))
        by_cases k0 : 0 < k
        · exact m _ (h0 k0)
        · have : k = 0 := by omega
          subst this
          rw [tf_sl_0 hh] at dd
          exact dd
    · by_cases k0 : 0 < k
      · exact h0 k0
      · by_cases c3 : tf_zo L oc (PL k) ≤ 3 ∨ tf_zo L oc (PL k) = 6
        · rcases E.2.2.2.2.1 zd c3 with ⟨e, _⟩ | ⟨j, w, _⟩
          · rw [e] at nr
            exact absurd tf_m1lt nr
          · exact absurd w.1 (by omega)
        · rw [E.2.2.2.2.2.1 zd c3] at nr
          exact absurd tf_m1lt nr
    · by_cases k0 : 0 < k
      · exact h0 k0
      · have : k = 0 := by omega
        subst this
        rw [tf_sl_0 hh] at nd
        exact nd
theorem tf_some {post : SX → Prop} (W : tf_WF L oc fx fy fz) (H : tf_RB L oc fx fy fz rg ce PL h n ep eo ex ls lv rs rv ad aa dn rt nw)
    (K : ∀ ls' lv' rs' rv' ad' aa' dn' rt', tf_RB L oc fx fy fz rg ce PL h n ep eo ex ls' lv' rs' rv' ad' aa' dn' rt' nw → (0 < n → ¬ dn' h = 0) →
      post (ln, pc, st, fi, nI h, nI n, fp, re, oc, fx, fy, fz, rg, ce, ct, tl, tp, fg, ep, eo, ex, ls', lv', rs', rv', ad', aa', dn', rt', nw)) : wpX_executeSome post (ln, pc, st, fi, nI h, nI n, fp, re, oc, fx, fy, fz, rg, ce, ct, tl, tp, fg, ep, eo, ex, ls, lv, rs, rv, ad, aa, dn, rt, nw) :=
  Exists.intro (n + 1) (tf_some_l W n 0 0 ls lv rs rv ad aa dn rt (by omega) (by omega) H (fun z => absurd z (by omega)) K)
end
end
section
/-! entering the reorder buffer -/
def tf_BH (nw dn rt rg : Nat → Int32) (r : Nat) (v : Int32) : Prop := (nw r = -1 ∧ rg r = v) ∨ ∃ s, s < 8 ∧ nw r = nI s ∧ (¬ dn s = 0 → rt s = v)
def tf_BC (nw dn : Nat → Int32) (r : Nat) (v : Int32) (ls lv ls' lv' : Nat → Int32) (e : Nat) : Prop :=
  (∀ s, s ≠ e → ls' s = ls s ∧ lv' s = lv s) ∧ ((ls' e = ls e ∧ lv' e = v) ∨ ∃ s, s < 8 ∧ nw r = nI s ∧ dn s = 0 ∧ ls' e = nI s)
theorem tf_BC_v {nw dn : Nat → Int32} {r e : Nat} {v : Int32} {ls lv : Nat → Int32} : tf_BC nw dn r v ls lv ls (upd lv e v) e :=
  ⟨fun _ hs => ⟨rfl, pk_un hs⟩, Or.inl ⟨rfl, pk_us⟩⟩
theorem tf_BC_s {nw dn : Nat → Int32} {r e s : Nat} {v : Int32} {ls lv : Nat → Int32} (hs : s < 8) (h1 : nw r = nI s) (h2 : dn s = 0) : tf_BC nw dn r v ls lv (upd ls e (nI s)) lv e :=
  ⟨fun _ hs => ⟨pk_un hs, rfl⟩, Or.inr ⟨s, hs, h1, h2, pk_us⟩⟩
section
variable {ln pc st fi hd en fp re : Int32} {oc fx fy fz rg ce ct tl tp fg ep eo ex ls lv rs rv ad aa dn rt nw : Nat → Int32} {L h n : Nat} {PL : Nat → Nat}
theorem tf_bindL {post : SX → Prop} {e r : Nat} {v : Int32} (he : e < 8) (hr : r < 8) (B : tf_BH nw dn rt rg r v)
    (K : ∀ ls' lv', tf_BC nw dn r v ls lv ls' lv' e → post (ln, pc, st, fi, hd, en, fp, re, oc, fx, fy, fz, rg, ce, ct, tl, tp, fg, ep, eo, ex, ls', lv', rs, rv, ad, aa, dn, rt, nw)) : wpX_bindLeft post (ln, pc, st, fi, hd, en, fp, re, oc, fx, fy, fz, rg, ce, ct, tl, tp, fg, ep, eo, ex, ls, lv, rs, rv, ad, aa, dn, rt, nw) (nI e) (nI r) := by
  have he' : vp_in (nI e) 8 := vp_in_nI he (by decide)
  have hr' : vp_in (nI r) 8 := vp_in_nI hr (by decide)
  have ee : (nI e).toNatClampNeg = e := nI_clamp (by omega)
  have er : (nI r).toNatClampNeg = r := nI_clamp (by omega)
  refine And.intro hr' ?_
  rw [er]
  rcases B with ⟨b1, b2⟩ | ⟨s, hs, b1, b2⟩
  · refine nm_r b1 (br_t tf_m1lt (br_t tf_m1lt (And.intro hr' (And.intro he' ?_))))
    rw [ee, er, b2]
    exact nm_e (K _ _ tf_BC_v)
  · have hs' : vp_in (nI s) 8 := vp_in_nI hs (by decide)
    have es : (nI s).toNatClampNeg = s := nI_clamp (by omega)
    have e1 : vp_nar .byte (nI s).toInt8.toInt32 = nI s := tf_nb2 (by omega)
    refine nm_r b1 (br_f (nI_pos (by omega)) (And.intro hs' ?_))
    rw [es, ee, e1]
    refine br_c (fun z => And.intro he' (nm_e (K _ _ (tf_BC_s hs b1 z)))) (fun z => br_f (nI_pos (by omega)) (And.intro hs' (And.intro he' ?_)))
    rw [es, ee, b2 z]
    exact nm_e (K _ _ tf_BC_v)
theorem tf_bindR {post : SX → Prop} {e r : Nat} {v : Int32} (he : e < 8) (hr : r < 8) (B : tf_BH nw dn rt rg r v)
    (K : ∀ rs' rv', tf_BC nw dn r v rs rv rs' rv' e → post (ln, pc, st, fi, hd, en, fp, re, oc, fx, fy, fz, rg, ce, ct, tl, tp, fg, ep, eo, ex, ls, lv, rs', rv', ad, aa, dn, rt, nw)) : wpX_bindRight post (ln, pc, st, fi, hd, en, fp, re, oc, fx, fy, fz, rg, ce, ct, tl, tp, fg, ep, eo, ex, ls, lv, rs, rv, ad, aa, dn, rt, nw) (nI e) (nI r) := by
  have he' : vp_in (nI e) 8 := vp_in_nI he (by decide)
  have hr' : vp_in (nI r) 8 := vp_in_nI hr (by decide)
  have ee : (nI e).toNatClampNeg = e := nI_clamp (by omega)
  have er : (nI r).toNatClampNeg = r := nI_clamp (by omega)
  refine And.intro hr' ?_
  rw [er]
  rcases B with ⟨b1, b2⟩ | ⟨s, hs, b1, b2⟩
  · refine nm_r b1 (br_t tf_m1lt (br_t tf_m1lt (And.intro hr' (And.intro he' ?_))))
    rw [ee, er, b2]
    exact nm_e (K _ _ tf_BC_v)
  · have hs' : vp_in (nI s) 8 := vp_in_nI hs (by decide)
    have es : (nI s).toNatClampNeg = s := nI_clamp (by omega)
    have e1 : vp_nar .byte (nI s).toInt8.toInt32 = nI s := tf_nb2 (by omega)
    refine nm_r b1 (br_f (nI_pos (by omega)) (And.intro hs' ?_))
    rw [es, ee, e1]
    refine br_c (fun z => And.intro he' (nm_e (K _ _ (tf_BC_s hs b1 z)))) (fun z => br_f (nI_pos (by omega)) (And.intro hs' (And.intro he' ?_)))
    rw [es, ee, b2 z]
    exact nm_e (K _ _ tf_BC_v)
theorem tf_en183 {post : SX → Prop} {i e o : Nat} (he : e < 8) (hi : i < 24) (ho : o ≤ 8) (hx : ∃ x, x < 8 ∧ fx i = nI x ∧ (fx i).toNatClampNeg = x)
    (Kw : o ≤ 5 → post (ln, pc, st, fi, hd, en, fp, re, oc, fx, fy, fz, rg, ce, ct, tl, tp, fg, ep, eo, ex, ls, lv, rs, rv, ad, aa, dn, rt, upd nw (fx i).toNatClampNeg (nI e))) (Kn : 5 < o → post (ln, pc, st, fi, hd, en, fp, re, oc, fx, fy, fz, rg, ce, ct, tl, tp, fg, ep, eo, ex, ls, lv, rs, rv, ad, aa, dn, rt, nw)) : wX_enter_183 post (nI i) (nI e) (nI o) ln pc st fi hd en fp re oc fx fy fz rg ce ct tl tp fg ep eo ex ls lv rs rv ad aa dn rt nw := by
  obtain ⟨x, hx, e1, e2⟩ := hx
  have ei : (nI i).toNatClampNeg = i := nI_clamp (by omega)
  refine pk_lt 5 o Kn (fun h5 => And.intro (vp_in_nI hi (by decide)) ?_)
  rw [ei, tf_nb2 (by omega)]
  exact And.intro (pk_in x 8 hx e1) (nm_e (Kw h5))
theorem tf_en165 {post : SX → Prop} {i e o : Nat} {v : Int32} (he : e < 8) (hi : i < 24) (ho : o ≤ 8) (hx : ∃ x, x < 8 ∧ fx i = nI x ∧ (fx i).toNatClampNeg = x)
    (B : o = 6 → tf_BH nw dn rt rg (fx i).toNatClampNeg v)
    (K6 : o = 6 → ∀ rs' rv', tf_BC nw dn (fx i).toNatClampNeg v rs rv rs' rv' e → post (ln, pc, st, fi, hd, en, fp, re, oc, fx, fy, fz, rg, ce, ct, tl, tp, fg, ep, eo, ex, ls, lv, rs', rv', ad, aa, dn, rt, nw))
    (Kw : o ≤ 5 → post (ln, pc, st, fi, hd, en, fp, re, oc, fx, fy, fz, rg, ce, ct, tl, tp, fg, ep, eo, ex, ls, lv, rs, rv, ad, aa, dn, rt, upd nw (fx i).toNatClampNeg (nI e))) (Kn : 6 < o → post (ln, pc, st, fi, hd, en, fp, re, oc, fx, fy, fz, rg, ce, ct, tl, tp, fg, ep, eo, ex, ls, lv, rs, rv, ad, aa, dn, rt, nw)) : wX_enter_165 post (nI i) (nI e) (nI o) ln pc st fi hd en fp re oc fx fy fz rg ce ct tl tp fg ep eo ex ls lv rs rv ad aa dn rt nw := by
  have ei : (nI i).toNatClampNeg = i := nI_clamp (by omega)
  refine pk_eq o 6 (fun h6 => And.intro (vp_in_nI hi (by decide)) ?_) (fun n6 => tf_en183 he hi ho hx Kw (fun z => Kn (by omega)))
  obtain ⟨x, hx8, e1, e2⟩ := hx
  rw [ei, e1]
  rw [e2] at B K6
  exact tf_bindR he hx8 (B h6) (fun rs' rv' C => tf_en183 he hi ho ⟨x, hx8, e1, e2⟩ (fun z => absurd z (by omega)) (fun _ => K6 h6 rs' rv' C))
theorem tf_en148 {post : SX → Prop} {i e o : Nat} {v3 v6 : Int32} (he : e < 8) (hi : i < 24) (ho : o ≤ 8) (hx : ∃ x, x < 8 ∧ fx i = nI x ∧ (fx i).toNatClampNeg = x)
    (hz : o ≤ 3 → ∃ x, x < 8 ∧ fz i = nI x ∧ (fz i).toNatClampNeg = x)
    (B3 : o ≤ 3 → tf_BH nw dn rt rg (fz i).toNatClampNeg v3) (B6 : o = 6 → tf_BH nw dn rt rg (fx i).toNatClampNeg v6)
    (K3 : o ≤ 3 → ∀ rs' rv', tf_BC nw dn (fz i).toNatClampNeg v3 rs rv rs' rv' e → post (ln, pc, st, fi, hd, en, fp, re, oc, fx, fy, fz, rg, ce, ct, tl, tp, fg, ep, eo, ex, ls, lv, rs', rv', ad, aa, dn, rt, upd nw (fx i).toNatClampNeg (nI e)))
    (K6 : o = 6 → ∀ rs' rv', tf_BC nw dn (fx i).toNatClampNeg v6 rs rv rs' rv' e → post (ln, pc, st, fi, hd, en, fp, re, oc, fx, fy, fz, rg, ce, ct, tl, tp, fg, ep, eo, ex, ls, lv, rs', rv', ad, aa, dn, rt, nw))
    (Kw : 3 < o → o ≤ 5 → post (ln, pc, st, fi, hd, en, fp, re, oc, fx, fy, fz, rg, ce, ct, tl, tp, fg, ep, eo, ex, ls, lv, rs, rv, ad, aa, dn, rt, upd nw (fx i).toNatClampNeg (nI e))) (Kn : 6 < o → post (ln, pc, st, fi, hd, en, fp, re, oc, fx, fy, fz, rg, ce, ct, tl, tp, fg, ep, eo, ex, ls, lv, rs, rv, ad, aa, dn, rt, nw)) : wX_enter_148 post (nI i) (nI e) (nI o) ln pc st fi hd en fp re oc fx fy fz rg ce ct tl tp fg ep eo ex ls lv rs rv ad aa dn rt nw := by
  have ei : (nI i).toNatClampNeg = i := nI_clamp (by omega)
  refine pk_lt 3 o (fun h3 => tf_en165 he hi ho hx B6 K6 (Kw h3) Kn) (fun h3 => And.intro (vp_in_nI hi (by decide)) ?_)
  obtain ⟨z, hz8, e1, e2⟩ := hz h3
  rw [ei, e1]
  rw [e2] at B3 K3
  exact tf_bindR he hz8 (B3 h3) (fun rs' rv' C => tf_en165 he hi ho hx B6 (fun z => absurd z (by omega)) (fun _ => K3 h3 rs' rv' C) (fun z => absurd z (by omega)))
theorem tf_BH_of {r : Nat} {b : Int32} (H : tf_RB L oc fx fy fz rg ce PL h n ep eo ex ls lv rs rv ad aa dn rt nw) (hn : n < 8) (hr : r < 8) : tf_BH nw (upd dn (tf_sl h n) b) rt rg r ((tf_S L oc fx fy fz PL (rg, ce) n).1 r) := by
  rcases H.2.2.2.2 r hr with ⟨a, c⟩ | ⟨j, w, a⟩
  · exact Or.inl ⟨a, (tf_S_nob (s0 := (rg, ce)) c).symm⟩
  · have hj := w.1
    refine Or.inr ⟨tf_sl h j, tf_sl_lt h j, a, fun z => ?_⟩
    rw [pk_un (tf_sl_ne (by omega) hn (by omega))] at z
    rw [tf_S_lw w]
    have E := H.2.2.2.1 j hj
    have h5 := w.2.1.1
    exact E.2.2.2.2.2.2.1 (by omega) z
theorem tf_BC_Src {r : Nat} {b : Int32} {x y x' y' : Nat → Int32} (H : tf_RB L oc fx fy fz rg ce PL h n ep eo ex ls lv rs rv ad aa dn rt nw) (hr : r < 8) (hx : x (tf_sl h n) = -1) (C : tf_BC nw (upd dn (tf_sl h n) b) r ((tf_S L oc fx fy fz PL (rg, ce) n).1 r) x y x' y' (tf_sl h n)) :
    tf_Src L oc fx PL h (upd dn (tf_sl h n) b) n r (x' (tf_sl h n)) (y' (tf_sl h n)) ((tf_S L oc fx fy fz PL (rg, ce) n).1 r) := by
  rcases C.2 with ⟨a, c⟩ | ⟨s, hs, a, c, d⟩
  · exact Or.inl ⟨a.trans hx, c⟩
  · rcases H.2.2.2.2 r hr with ⟨a', _⟩ | ⟨j, w, a'⟩
    · exact absurd (a'.symm.trans a) (tf_m1 (by omega))
    · have e : s = tf_sl h j := (nI_eq (by omega) (Nat.lt_trans (tf_sl_lt _ _) (by decide))).mp (a.symm.trans a')
      subst e
      exact Or.inr ⟨j, w, d, c⟩
theorem tf_ent_fin {q : Nat} {b : Int32} {ls' lv' rs' rv' nw' : Nat → Int32} (H : tf_RB L oc fx fy fz rg ce PL h n ep eo ex ls lv rs rv ad aa dn rt nw) (hn : n < 8) (hq : q ≤ 24) (hq10 : 10 ≤ tf_zo L oc (PL n) → q = PL n)
    (hb9 : 9 ≤ tf_zo L oc (PL n) → ¬ b = 0) (hb8 : tf_zo L oc (PL n) ≤ 8 → b = 0)
    (hl : ∀ s, s ≠ tf_sl h n → ls' s = ls s ∧ lv' s = lv s) (hr : ∀ s, s ≠ tf_sl h n → rs' s = rs s ∧ rv' s = rv s)
    (hL : tf_zo L oc (PL n) ≤ 8 → tf_Src L oc fx PL h (upd dn (tf_sl h n) b) n (tf_lr L oc fx fy (PL n)) (ls' (tf_sl h n)) (lv' (tf_sl h n)) ((tf_S L oc fx fy fz PL (rg, ce) n).1 (tf_lr L oc fx fy (PL n))))
    (hR : (tf_zo L oc (PL n) ≤ 3 ∨ tf_zo L oc (PL n) = 6) → tf_Src L oc fx PL h (upd dn (tf_sl h n) b) n (tf_rr L oc fx fz (PL n)) (rs' (tf_sl h n)) (rv' (tf_sl h n)) ((tf_S L oc fx fy fz PL (rg, ce) n).1 (tf_rr L oc fx fz (PL n))))
    (hR' : ¬ (tf_zo L oc (PL n) ≤ 3 ∨ tf_zo L oc (PL n) = 6) → rs' (tf_sl h n) = -1)
    (hN : (tf_zo L oc (PL n) ≤ 5 ∧ nw' = upd nw (fx (PL n)).toNatClampNeg (nI (tf_sl h n))) ∨ (5 < tf_zo L oc (PL n) ∧ nw' = nw)) :
    tf_RB L oc fx fy fz rg ce (tf_px PL n q) h (n + 1) (upd ep (tf_sl h n) (nI (PL n))) (upd eo (tf_sl h n) (nI (tf_zo L oc (PL n)))) (upd ex (tf_sl h n) (nI q)) ls' lv' rs' rv' (upd ad (tf_sl h n) 0) aa (upd dn (tf_sl h n) b) rt nw' := by
  refine tf_RB_enter H hn hq (fun s hs => ?_) ?_ ?_
  · obtain ⟨l1, l2⟩ := hl s hs
    obtain ⟨r1, r2⟩ := hr s hs
    exact ⟨pk_un hs, pk_un hs, pk_un hs, l1, l2, r1, r2, pk_un hs, rfl, pk_un hs, rfl⟩
  · rw [pk_us, pk_us, pk_us, pk_us, pk_us]
    unfold tf_En
    rw [tf_px_le (Nat.le_refl n), tf_px_s, tf_S_ext (fun j hj => tf_px_le (Nat.le_of_lt hj))]
    have hp : ∀ i, i < n → tf_px PL n q i = PL i := fun i hi => tf_px_le (Nat.le_of_lt hi)
    refine ⟨⟨rfl, rfl, rfl⟩, hb9, hq10, fun z _ => tf_Src_ext hp (fun _ _ => rfl) (hL z), fun _ z => tf_Src_ext hp (fun _ _ => rfl) (hR z), fun _ z => hR' z, fun z y => absurd (hb8 z) y, fun _ y => absurd rfl y, fun z y => absurd (hb8 (by omega)) y⟩
  · rcases hN with ⟨h5, e⟩ | ⟨h5, e⟩
    · rw [e]
      exact tf_Nw_enter_w H.2.2.2.2 h5 rfl
    · rw [e]
      exact tf_Nw_enter_n H.2.2.2.2 h5
theorem tf_en86 {post : SX → Prop} {q : Nat} (W : tf_WF L oc fx fy fz) (H : tf_RB L oc fx fy fz rg ce PL h n ep eo ex ls lv rs rv ad aa dn rt nw) (hn : n < 8) (hq : q ≤ 24) (hq10 : 10 ≤ tf_zo L oc (PL n) → q = PL n) {b : Int32} (hb : b = 0 ∨ b = 1)
    (hb9 : 9 ≤ tf_zo L oc (PL n) → ¬ b = 0) (hb8 : tf_zo L oc (PL n) ≤ 8 → b = 0)
    (K : ∀ ep' eo' ex' ls' lv' rs' rv' ad' dn' nw', tf_RB L oc fx fy fz rg ce (tf_px PL n q) h (n + 1) ep' eo' ex' ls' lv' rs' rv' ad' aa dn' rt nw' →
      (∀ s, s ≠ tf_sl h n → dn' s = dn s) → post (nI L, pc, st, fi, nI h, nI (n + 1), fp, re, oc, fx, fy, fz, rg, ce, ct, tl, tp, fg, ep', eo', ex', ls', lv', rs', rv', ad', aa, dn', rt, nw')) :
    wX_enter_86 post (nI (PL n)) (nI (tf_sl h n)) (nI (tf_zo L oc (PL n))) b (nI (tf_sl h n)) (nI L) pc st fi (nI h) (nI (n + 1)) fp re oc fx fy fz rg ce ct tl tp fg (upd ep (tf_sl h n) (nI (PL n))) (upd eo (tf_sl h n) (nI (tf_zo L oc (PL n)))) (upd ex (tf_sl h n) (nI q)) ls lv rs rv ad aa dn rt nw := by
  have hs : vp_in (nI (tf_sl h n)) 8 := vp_in_nI (tf_sl_lt h n) (by decide)
  have ec : (nI (tf_sl h n)).toNatClampNeg = tf_sl h n := nI_clamp (Nat.lt_trans (tf_sl_lt h n) (by decide))
  have h11 := tf_WF_11 W (PL n)
  have hL := W.1
  have eb : vp_nar .boolean b = b := by rcases hb with rfl | rfl <;> rfl
  have e1 : upd dn (nI (tf_sl h n)).toNatClampNeg (vp_nar .boolean b) = upd dn (tf_sl h n) b := by rw [ec, eb]
  have e2 : upd ad (nI (tf_sl h n)).toNatClampNeg (vp_nar .boolean 0) = upd ad (tf_sl h n) 0 := by rw [ec, tf_z0]
  have e3 : upd ls (nI (tf_sl h n)).toNatClampNeg (vp_nar .byte (-1)) = upd ls (tf_sl h n) (-1) := by rw [ec, tf_nbm]
  have e4 : upd rs (nI (tf_sl h n)).toNatClampNeg (vp_nar .byte (-1)) = upd rs (tf_sl h n) (-1) := by rw [ec, tf_nbm]
  have hd' : ∀ s, s ≠ tf_sl h n → upd dn (tf_sl h n) b s = dn s := fun s hs => pk_un hs
  refine And.intro hs (nm_r e1 (And.intro hs (nm_r e2 (And.intro hs (nm_r e3 (And.intro hs (nm_r e4 ?_)))))))
  have lem : ∀ (r : Nat), r < 8 → tf_zo L oc (PL n) ≤ 8 → tf_lr L oc fx fy (PL n) = r →
      ∀ ls' lv', tf_BC nw (upd dn (tf_sl h n) b) r ((tf_S L oc fx fy fz PL (rg, ce) n).1 r) (upd ls (tf_sl h n) (-1)) lv ls' lv' (tf_sl h n) →
      wX_enter_148 post (nI (PL n)) (nI (tf_sl h n)) (nI (tf_zo L oc (PL n))) (nI L) pc st fi (nI h) (nI (n + 1)) fp re oc fx fy fz rg ce ct tl tp fg (upd ep (tf_sl h n) (nI (PL n))) (upd eo (tf_sl h n) (nI (tf_zo L oc (PL n)))) (upd ex (tf_sl h n) (nI q)) ls' lv' (upd rs (tf_sl h n) (-1)) rv (upd ad (tf_sl h n) 0) aa (upd dn (tf_sl h n) b) rt nw := by
    intro r hr8 h8 hlr ls' lv' C
    have hi : PL n < L := tf_zo_in (oc := oc) (by omega)
    have hl : ∀ s, s ≠ tf_sl h n → ls' s = ls s ∧ lv' s = lv s := fun s hs => ⟨(C.1 s hs).1.trans (pk_un hs), (C.1 s hs).2⟩
    have SL := tf_BC_Src H hr8 pk_us C
    rw [← hlr] at SL
    have hrr : ∀ rs' rv' r v, tf_BC nw (upd dn (tf_sl h n) b) r v (upd rs (tf_sl h n) (-1)) rv rs' rv' (tf_sl h n) → ∀ s, s ≠ tf_sl h n → rs' s = rs s ∧ rv' s = rv s :=
      fun rs' rv' r v C s hs => ⟨(C.1 s hs).1.trans (pk_un hs), (C.1 s hs).2⟩
    refine tf_en148 (v3 := (tf_S L oc fx fy fz PL (rg, ce) n).1 (fz (PL n)).toNatClampNeg) (v6 := (tf_S L oc fx fy fz PL (rg, ce) n).1 (fx (PL n)).toNatClampNeg) (tf_sl_lt h n) (by omega) h8 (tf_WF_x W h8) (fun h3 => tf_WF_z W h3) (fun h3 => ?_) (fun h6 => ?_) (fun h3 rs' rv' C2 => ?_) (fun h6 rs' rv' C2 => ?_) (fun h3 h5 => ?_) (fun h7 => ?_)
    · obtain ⟨z, hz8, _, ez⟩ := tf_WF_z W h3
      rw [ez]
      exact tf_BH_of H hn hz8
    · obtain ⟨z, hz8, _, ez⟩ := tf_WF_x W h8
      rw [ez]
      exact tf_BH_of H hn hz8
    · have er : tf_rr L oc fx fz (PL n) = (fz (PL n)).toNatClampNeg := if_pos h3
      obtain ⟨z, hz8, _, ez⟩ := tf_WF_z W h3
      have SR := tf_BC_Src H (by rw [ez]; exact hz8) pk_us C2
      rw [← er] at SR
      exact K _ _ _ _ _ _ _ _ _ _ (tf_ent_fin H hn hq hq10 hb9 hb8 hl (hrr _ _ _ _ C2) (fun _ => SL) (fun _ => SR) (fun z => absurd (Or.inl h3) z) (Or.inl ⟨by omega, rfl⟩)) hd'
    · have er : tf_rr L oc fx fz (PL n) = (fx (PL n)).toNatClampNeg := if_neg (by omega)
      obtain ⟨z, hz8, _, ez⟩ := tf_WF_x W h8
      have SR := tf_BC_Src H (by rw [ez]; exact hz8) pk_us C2
      rw [← er] at SR
      exact K _ _ _ _ _ _ _ _ _ _ (tf_ent_fin H hn hq hq10 hb9 hb8 hl (hrr _ _ _ _ C2) (fun _ => SL) (fun _ => SR) (fun z => absurd (Or.inr h6) z) (Or.inr ⟨by omega, rfl⟩)) hd'
    · exact K _ _ _ _ _ _ _ _ _ _ (tf_ent_fin H hn hq hq10 hb9 hb8 hl (fun s hs => ⟨pk_un hs, rfl⟩) (fun _ => SL) (fun z => absurd z (by omega)) (fun _ => pk_us) (Or.inl ⟨by omega, rfl⟩)) hd'
    · exact K _ _ _ _ _ _ _ _ _ _ (tf_ent_fin H hn hq hq10 hb9 hb8 hl (fun s hs => ⟨pk_un hs, rfl⟩) (fun _ => SL) (fun z => absurd z (by omega)) (fun _ => pk_us) (Or.inr ⟨by omega, rfl⟩)) hd'
  refine pk_lt (tf_zo L oc (PL n)) 9 (fun h9 => pk_lt 6 (tf_zo L oc (PL n)) (fun h6 => ?_) (fun h6 => ?_)) (fun h9 => ?_)
  · have hi : PL n < L := tf_zo_in (oc := oc) (by omega)
    have ei : (nI (PL n)).toNatClampNeg = PL n := nI_clamp (by omega)
    obtain ⟨x, hx8, ex1, ex2⟩ := tf_WF_x W (i := PL n) (by omega)
    refine And.intro (vp_in_nI (by omega) (by decide)) ?_
    rw [ei, ex1]
    exact tf_bindL (tf_sl_lt h n) hx8 (tf_BH_of H hn hx8) (lem x hx8 (by omega) (by rw [← ex2]; exact if_neg (by omega)))
  · have hi : PL n < L := tf_zo_in (oc := oc) (by omega)
    have ei : (nI (PL n)).toNatClampNeg = PL n := nI_clamp (by omega)
    obtain ⟨x, hx8, ex1, ex2⟩ := tf_WF_y W (i := PL n) (by omega)
    refine And.intro (vp_in_nI (by omega) (by decide)) ?_
    rw [ei, ex1]
    exact tf_bindL (tf_sl_lt h n) hx8 (tf_BH_of H hn hx8) (lem x hx8 (by omega) (by rw [← ex2]; exact if_pos (by omega)))
  · exact K _ _ _ _ _ _ _ _ _ _ (tf_ent_fin H hn hq hq10 hb9 hb8 (fun s hs => ⟨pk_un hs, rfl⟩) (fun s hs => ⟨pk_un hs, rfl⟩) (fun z => absurd z (by omega)) (fun z => absurd z (by omega)) (fun _ => pk_us) (Or.inr ⟨by omega, rfl⟩)) hd'
theorem tf_en32 {post : SX → Prop} {q : Nat} (W : tf_WF L oc fx fy fz) (H : tf_RB L oc fx fy fz rg ce PL h n ep eo ex ls lv rs rv ad aa dn rt nw) (hn : n < 8) (hq : q ≤ 24) (hq10 : 10 ≤ tf_zo L oc (PL n) → q = PL n)
    (K : ∀ ep' eo' ex' ls' lv' rs' rv' ad' dn' nw', tf_RB L oc fx fy fz rg ce (tf_px PL n q) h (n + 1) ep' eo' ex' ls' lv' rs' rv' ad' aa dn' rt nw' →
      (∀ s, s ≠ tf_sl h n → dn' s = dn s) → post (nI L, pc, st, fi, nI h, nI (n + 1), fp, re, oc, fx, fy, fz, rg, ce, ct, tl, tp, fg, ep', eo', ex', ls', lv', rs', rv', ad', aa, dn', rt, nw')) :
    wX_enter_32 post (nI (PL n)) (nI q) (nI (tf_sl h n)) (nI (tf_zo L oc (PL n))) (nI L) pc st fi (nI h) (nI n) fp re oc fx fy fz rg ce ct tl tp fg ep eo ex ls lv rs rv ad aa dn rt nw := by
  have hs : vp_in (nI (tf_sl h n)) 8 := vp_in_nI (tf_sl_lt h n) (by decide)
  have ec : (nI (tf_sl h n)).toNatClampNeg = tf_sl h n := nI_clamp (Nat.lt_trans (tf_sl_lt h n) (by decide))
  have h11 := tf_WF_11 W (PL n)
  have h24 := H.2.2.1 n (Nat.le_refl n)
  have e1 : upd ep (nI (tf_sl h n)).toNatClampNeg (vp_nar .byte (nI (PL n)).toInt8.toInt32) = upd ep (tf_sl h n) (nI (PL n)) := by rw [ec, tf_nb2 (by omega)]
  have e2 : upd eo (nI (tf_sl h n)).toNatClampNeg (vp_nar .byte (nI (tf_zo L oc (PL n))).toInt8.toInt32) = upd eo (tf_sl h n) (nI (tf_zo L oc (PL n))) := by rw [ec, tf_nb2 (by omega)]
  have e3 : upd ex (nI (tf_sl h n)).toNatClampNeg (vp_nar .byte (nI q).toInt8.toInt32) = upd ex (tf_sl h n) (nI q) := by rw [ec, tf_nb2 (by omega)]
  refine nm_r (nI_1 n) (And.intro hs (nm_r e1 (And.intro hs (nm_r e2 (And.intro hs (nm_r e3 ?_))))))
  refine pk_lt (tf_zo L oc (PL n)) 9 (fun h9 => tf_en86 W H hn hq hq10 (Or.inl rfl) (fun z => absurd z (by omega)) (fun _ => rfl) K) (fun h9 => tf_en86 W H hn hq hq10 (Or.inr rfl) (fun _ => by decide) (fun z => absurd z (by omega)) K)
theorem tf_enter {post : SX → Prop} {q : Nat} (W : tf_WF L oc fx fy fz) (H : tf_RB L oc fx fy fz rg ce PL h n ep eo ex ls lv rs rv ad aa dn rt nw) (hn : n < 8) (hq : q ≤ 24) (hq10 : 10 ≤ tf_zo L oc (PL n) → q = PL n)
    (K : ∀ ep' eo' ex' ls' lv' rs' rv' ad' dn' nw', tf_RB L oc fx fy fz rg ce (tf_px PL n q) h (n + 1) ep' eo' ex' ls' lv' rs' rv' ad' aa dn' rt nw' →
      (∀ s, s ≠ tf_sl h n → dn' s = dn s) → post (nI L, pc, st, fi, nI h, nI (n + 1), fp, re, oc, fx, fy, fz, rg, ce, ct, tl, tp, fg, ep', eo', ex', ls', lv', rs', rv', ad', aa, dn', rt, nw')) :
    wpX_enter post (nI L, pc, st, fi, nI h, nI n, fp, re, oc, fx, fy, fz, rg, ce, ct, tl, tp, fg, ep, eo, ex, ls, lv, rs, rv, ad, aa, dn, rt, nw) (nI (PL n)) (nI q) := by
  have hL := W.1
  have h24 := H.2.2.1 n (Nat.le_refl n)
  have k32 := tf_en32 (post := post) (fp := fp) W H hn hq hq10 K
  refine nm_r (tf_slI H.1 (by omega)) (pk_le L (PL n) (fun hg => ?_) (fun hl => And.intro (vp_in_nI (by omega) (by decide)) ?_))
  · rw [tf_zo_ge hg] at k32
    exact k32
  · rw [nI_clamp (by omega), (tf_WF_o W hl).1]
    exact k32
end
end
section
/-! fetching -/
section
variable {ln pc st fi hd en fp re : Int32} {oc fx fy fz rg ce ct tl tp fg ep eo ex ls lv rs rv ad aa dn rt nw : Nat → Int32} {L h : Nat}
theorem tf_fetch_l {post : SX → Prop} {w : Nat} (W : tf_WF L oc fx fy fz) (hw : 1 ≤ w) (hw3 : w ≤ 3) : ∀ (d k n : Nat) (PL : Nat → Nat) (ep eo ex ls lv rs rv ad dn nw : Nat → Int32), k + d = w → (0 < k → 1 ≤ n) → tf_RB L oc fx fy fz rg ce PL h n ep eo ex ls lv rs rv ad aa dn rt nw →
    (∀ (n' : Nat) (PL' : Nat → Nat) (ep' eo' ex' ls' lv' rs' rv' ad' dn' nw' : Nat → Int32), tf_RB L oc fx fy fz rg ce PL' h n' ep' eo' ex' ls' lv' rs' rv' ad' aa dn' rt nw' →
      PL' 0 = PL 0 → 1 ≤ n' → (0 < n → dn' h = dn h) →
      post (nI L, pc, st, fi, nI h, nI n', nI (PL' n'), re, oc, fx, fy, fz, rg, ce, ct, tl, tp, fg, ep', eo', ex', ls', lv', rs', rv', ad', aa, dn', rt, nw')) →
    wX_fetch_63 post (nI w) (d + 1) (nI k) (nI L) pc st fi (nI h) (nI n) (nI (PL n)) re oc fx fy fz rg ce ct tl tp fg ep eo ex ls lv rs rv ad aa dn rt nw := by
  intro d
  induction d with
  | zero =>
    intro k n PL ep eo ex ls lv rs rv ad dn nw hk h0 H K
    exact pk_le w k (fun _ => K n PL _ _ _ _ _ _ _ _ _ _ H rfl (h0 (by omega)) (fun _ => rfl)) (fun z => absurd z (by omega))
  | succ d ih =>
    intro k n PL ep eo ex ls lv rs rv ad dn nw hk h0 H K
    have n8 := H.2.1
    have hh := H.1
    refine pk_le w k (fun z => absurd z (by omega)) (fun _ => pk_le 8 n (fun h8 => K n PL _ _ _ _ _ _ _ _ _ _ H rfl (by omega) (fun _ => rfl)) (fun h8 => ?_))
    refine tf_pred W (H.2.2.1 n (Nat.le_refl n)) (fun q hq hq10 => tf_enter W H h8 hq hq10 (fun ep' eo' ex' ls' lv' rs' rv' ad' dn' nw' H' hd' => nm_r (nI_1 k) ?_))
    have J := ih (k + 1) (n + 1) (tf_px PL n q) ep' eo' ex' ls' lv' rs' rv' ad' dn' nw' (by omega) (fun _ => by omega) H'
      (fun n2 PL2 ep2 eo2 ex2 ls2 lv2 rs2 rv2 ad2 dn2 nw2 H2 e0 hn2 hd2 => K n2 PL2 _ _ _ _ _ _ _ _ _ _ H2 (e0.trans (tf_px_le (Nat.zero_le n))) hn2 (fun hn0 => (hd2 (by omega)).trans (hd' h ?_)))
    · rw [tf_px_s] at J
      exact J
    · have hne := tf_sl_ne (h := h) (j := 0) (k := n) (by decide) h8 (by omega)
      rw [tf_sl_0 hh] at hne
      exact hne
variable {n : Nat} {PL : Nat → Nat}
theorem tf_fetch {post : SX → Prop} (W : tf_WF L oc fx fy fz) (H : tf_RB L oc fx fy fz rg ce PL h n ep eo ex ls lv rs rv ad aa dn rt nw) (T : tf_TR fi tl tp fg)
    (K : ∀ (n' : Nat) (PL' : Nat → Nat) (ep' eo' ex' ls' lv' rs' rv' ad' dn' nw' : Nat → Int32), tf_RB L oc fx fy fz rg ce PL' h n' ep' eo' ex' ls' lv' rs' rv' ad' aa dn' rt nw' →
      PL' 0 = PL 0 → 1 ≤ n' → (0 < n → dn' h = dn h) →
      post (nI L, pc, st, fi, nI h, nI n', nI (PL' n'), re, oc, fx, fy, fz, rg, ce, ct, tl, tp, fg, ep', eo', ex', ls', lv', rs', rv', ad', aa, dn', rt, nw')) :
    wpX_fetch post (nI L, pc, st, fi, nI h, nI n, nI (PL n), re, oc, fx, fy, fz, rg, ce, ct, tl, tp, fg, ep, eo, ex, ls, lv, rs, rv, ad, aa, dn, rt, nw) := by
  have h24 := H.2.2.1 n (Nat.le_refl n)
  have e1 : nI (PL n) &&& 7 = nI (PL n % 8) := pk_andN (by omega) 3 (by decide)
  obtain ⟨c, hc, ec⟩ := T.2.1 (PL n % 8) (by omega)
  have e2 : tl (nI (PL n % 8)).toNatClampNeg = nI c := by rw [nI_clamp (by omega)]; exact ec
  have e3 : 3 * nI (PL n % 8) = nI (3 * (PL n % 8)) := by
    rw [← pk_mul]
    rfl
  have k1 : wX_fetch_47 post (nI c) (nI L) pc st fi (nI h) (nI n) (nI (PL n)) re oc fx fy fz rg ce ct tl tp fg ep eo ex ls lv rs rv ad aa dn rt nw :=
    br_t rfl (Exists.intro 2 (tf_fetch_l (w := 1) W (by decide) (by decide) 1 0 n PL _ _ _ _ _ _ _ _ _ _ rfl (fun z => absurd z (by decide)) H K))
  refine nm_r e1 (And.intro (vp_in_nI (by omega) (by decide)) (nm_r e2 (pk_le c 0 (fun _ => k1) (fun hc0 => And.intro (pk_in (3 * (PL n % 8)) 24 (by omega) e3) (br_c (fun _ => ?_) (fun _ => k1))))))
  refine tf_agrees W (by omega) hc T.2.2.1 (br_t rfl k1) (br_f (by decide) (br_f (by decide) ?_))
  exact Exists.intro (c + 1) (tf_fetch_l (w := c) W (by omega) hc c 0 n PL _ _ _ _ _ _ _ _ _ _ (by omega) (fun z => absurd z (by decide)) H K)
end
end
section
/-! retiring -/
section
variable {ln pc st fi hd en fp re : Int32} {oc fx fy fz rg ce ct tl tp fg ep eo ex ls lv rs rv ad aa dn rt nw : Nat → Int32} {L h m : Nat} {PL : Nat → Nat}
theorem tf_np_le {i : Nat} {r : Int32} (W : tf_WF L oc fx fy fz) (h9 : tf_zo L oc i ≤ 9) : ∃ p, p ≤ 24 ∧ tf_np (tf_zo L oc i) i (fz i) r = nI p := by
  have hi : i < L := tf_zo_in (oc := oc) (by omega)
  have hL := W.1
  unfold tf_np
  by_cases c : tf_zo L oc i = 9
  · rw [if_pos c]
    obtain ⟨t, ht, e⟩ := tf_WF_t W (i := i) (by omega) h9
    exact ⟨t, by omega, e⟩
  · rw [if_neg c]
    by_cases c2 : (tf_zo L oc i = 7 ∧ r = 0) ∨ (tf_zo L oc i = 8 ∧ r < 0)
    · rw [if_pos c2]
      obtain ⟨t, ht, e⟩ := tf_WF_t W (i := i) (by rcases c2 with z | z <;> omega) h9
      exact ⟨t, by omega, e⟩
    · rw [if_neg c2]
      exact ⟨i + 1, by omega, rfl⟩
theorem tf_np_r {o i : Nat} {z r r' : Int32} (h : o ≤ 8 → r = r') : tf_np o i z r = tf_np o i z r' := by
  by_cases c : o ≤ 8
  · rw [h c]
  · unfold tf_np
    by_cases c9 : o = 9
    · rw [if_pos c9, if_pos c9]
    · rw [if_neg c9, if_neg c9, if_neg (by omega), if_neg (by omega)]
theorem tf_re148 {post : SX → Prop} {e o i : Nat} (he : e < 8) (hi : i < 24) (ho : o ≤ 9) (e1 : eo e = nI o) (e2 : ep e = nI i) (T : tf_TR fi tl tp fg)
    (Ke : tf_np o i (fz i) (rt e) = ex e → ∀ ct' fi' tl' tp' fg', tf_TR fi' tl' tp' fg' → post (ln, tf_np o i (fz i) (rt e), st, fi', hd, en, fp, re, oc, fx, fy, fz, rg, ce, ct', tl', tp', fg', ep, eo, ex, ls, lv, rs, rv, ad, aa, dn, rt, nw))
    (Kn : ¬ tf_np o i (fz i) (rt e) = ex e → ∀ ct' fi' tl' tp' fg' nw', tf_TR fi' tl' tp' fg' → (∀ i, i < 8 → nw' i = -1) →
      post (ln, tf_np o i (fz i) (rt e), st, fi', hd, 0, tf_np o i (fz i) (rt e), re, oc, fx, fy, fz, rg, ce, ct', tl', tp', fg', ep, eo, ex, ls, lv, rs, rv, ad, aa, dn, rt, nw')) :
    wX_retire_148 post (nI e) (nI i) ln pc st fi hd en fp re oc fx fy fz rg ce ct tl tp fg ep eo ex ls lv rs rv ad aa dn rt nw := by
  have ec : (nI e).toNatClampNeg = e := nI_clamp (by omega)
  unfold wX_retire_148
  refine tf_place he hi ho e1 e2 (fun ct' => ?_)
  refine tf_fill (by omega) T (fun fi' tl' tp' fg' T' => And.intro (vp_in_nI he (by decide)) ?_)
  rw [ec]
  exact br_c (fun z => Ke z ct' fi' tl' tp' fg' T') (fun z => tf_squash (fun nw' hnw => Kn z ct' fi' tl' tp' fg' nw' T' hnw))
/-- what a retired entry leaves behind -/
theorem tf_re148R {post : SX → Prop} {rg' ce' nw' : Nat → Int32} {hd' : Int32} (W : tf_WF L oc fx fy fz) (H : tf_RB L oc fx fy fz rg ce PL h (m + 1) ep eo ex ls lv rs rv ad aa dn rt nw) (hd0 : ¬ dn h = 0) (T : tf_TR fi tl tp fg) (h9 : tf_zo L oc (PL 0) ≤ 9)
    (hs : (rg', ce') = tf_st L oc fx fy fz (PL 0) (rg, ce)) (hN : tf_Nw L oc fx (fun i => PL (i + 1)) ((h + 1) % 8) m nw')
    (K : ∀ PL2 m2 ct2 fi2 tl2 tp2 fg2 nw2, tf_RB L oc fx fy fz rg' ce' PL2 ((h + 1) % 8) m2 ep eo ex ls lv rs rv ad aa dn rt nw2 → tf_TR fi2 tl2 tp2 fg2 →
      nI (PL2 0) = tf_np (tf_zo L oc (PL 0)) (PL 0) (fz (PL 0)) (tf_V L oc fx fy fz (PL 0) (rg, ce)) →
      post (ln, nI (PL2 0), st, fi2, hd', nI m2, nI (PL2 m2), re, oc, fx, fy, fz, rg', ce', ct2, tl2, tp2, fg2, ep, eo, ex, ls, lv, rs, rv, ad, aa, dn, rt, nw2)) :
    wX_retire_148 post (nI h) (nI (PL 0)) ln pc st fi hd' (nI m) (nI (PL (m + 1))) re oc fx fy fz rg' ce' ct tl tp fg ep eo ex ls lv rs rv ad aa dn rt nw' := by
  have hh := H.1
  have hL := W.1
  have hi : PL 0 < L := tf_zo_in (oc := oc) (by omega)
  have E := H.2.2.2.1 0 (by omega)
  rw [tf_sl_0 hh] at E
  have ev : tf_np (tf_zo L oc (PL 0)) (PL 0) (fz (PL 0)) (rt h) = tf_np (tf_zo L oc (PL 0)) (PL 0) (fz (PL 0)) (tf_V L oc fx fy fz (PL 0) (rg, ce)) := tf_np_r (fun z => E.2.2.2.2.2.2.1 z hd0)
  refine tf_re148 hh (by omega) h9 E.1.2.1 E.1.1 T (fun z ct2 fi2 tl2 tp2 fg2 T2 => ?_) (fun z ct2 fi2 tl2 tp2 fg2 nw2 T2 hw => ?_)
  · rw [z, E.1.2.2]
    rw [ev, E.1.2.2] at z
    exact K (fun i => PL (i + 1)) m ct2 fi2 tl2 tp2 fg2 _ (tf_RB_retire H (by rw [tf_sl_0 hh]; exact hd0) hs hN) T2 z.symm
  · obtain ⟨p, hp, e⟩ := tf_np_le (r := rt h) W h9
    rw [e]
    rw [ev] at e
    exact K (fun _ => p) 0 ct2 fi2 tl2 tp2 fg2 nw2 (tf_RB_nil (Nat.mod_lt _ (by decide)) hp hw) T2 e.symm
theorem tf_re125 {post : SX → Prop} {rg' nw' : Nat → Int32} {hd' : Int32} (W : tf_WF L oc fx fy fz) (H : tf_RB L oc fx fy fz rg ce PL h (m + 1) ep eo ex ls lv rs rv ad aa dn rt nw) (hd0 : ¬ dn h = 0) (T : tf_TR fi tl tp fg) (h9 : tf_zo L oc (PL 0) ≤ 9)
    (hs : rg' = (tf_st L oc fx fy fz (PL 0) (rg, ce)).1) (hN : tf_Nw L oc fx (fun i => PL (i + 1)) ((h + 1) % 8) m nw')
    (K : ∀ ce2 PL2 m2 ct2 fi2 tl2 tp2 fg2 nw2, (rg', ce2) = tf_st L oc fx fy fz (PL 0) (rg, ce) → tf_RB L oc fx fy fz rg' ce2 PL2 ((h + 1) % 8) m2 ep eo ex ls lv rs rv ad aa dn rt nw2 → tf_TR fi2 tl2 tp2 fg2 →
      nI (PL2 0) = tf_np (tf_zo L oc (PL 0)) (PL 0) (fz (PL 0)) (tf_V L oc fx fy fz (PL 0) (rg, ce)) →
      post (ln, nI (PL2 0), st, fi2, hd', nI m2, nI (PL2 m2), re, oc, fx, fy, fz, rg', ce2, ct2, tl2, tp2, fg2, ep, eo, ex, ls, lv, rs, rv, ad, aa, dn, rt, nw2)) :
    wX_retire_125 post (nI h) (nI (tf_zo L oc (PL 0))) (nI (PL 0)) ln pc st fi hd' (nI m) (nI (PL (m + 1))) re oc fx fy fz rg' ce ct tl tp fg ep eo ex ls lv rs rv ad aa dn rt nw' := by
  have hh := H.1
  have hv : vp_in (nI h) 8 := vp_in_nI hh (by decide)
  have ec : (nI h).toNatClampNeg = h := nI_clamp (by omega)
  have E := H.2.2.2.1 0 (by omega)
  rw [tf_sl_0 hh] at E
  have hA := tf_A_lt (fy := fy) (fz := fz) (PL 0) (rg, ce)
  refine pk_eq (tf_zo L oc (PL 0)) 6 (fun h6 => And.intro hv (And.intro hv ?_)) (fun n6 => ?_)
  · have ea : aa h = nI (tf_A fy fz (PL 0) (rg, ce)) := E.2.2.2.2.2.2.2.1 h6 (E.2.2.2.2.2.2.2.2 h6 hd0)
    have er : rt h = tf_V L oc fx fy fz (PL 0) (rg, ce) := E.2.2.2.2.2.2.1 (by omega) hd0
    have es : (rg', upd ce (tf_A fy fz (PL 0) (rg, ce)) (tf_V L oc fx fy fz (PL 0) (rg, ce))) = tf_st L oc fx fy fz (PL 0) (rg, ce) := by
      rw [hs]
      unfold tf_st
      rw [if_pos h6]
    rw [ec, ea, er, nI_clamp (by omega)]
    exact And.intro (vp_in_nI hA (by decide)) (nm_e (tf_re148R W H hd0 T h9 es hN (fun PL2 m2 ct2 fi2 tl2 tp2 fg2 nw2 => K _ PL2 m2 ct2 fi2 tl2 tp2 fg2 nw2 es)))
  · have es : (rg', ce) = tf_st L oc fx fy fz (PL 0) (rg, ce) := by
      rw [hs]
      unfold tf_st
      rw [if_neg n6]
    exact tf_re148R W H hd0 T h9 es hN (fun PL2 m2 ct2 fi2 tl2 tp2 fg2 nw2 => K _ PL2 m2 ct2 fi2 tl2 tp2 fg2 nw2 es)
theorem tf_retire {post : SX → Prop} {re' : Int32} (W : tf_WF L oc fx fy fz) (H : tf_RB L oc fx fy fz rg ce PL h (m + 1) ep eo ex ls lv rs rv ad aa dn rt nw) (hd0 : ¬ dn h = 0) (T : tf_TR fi tl tp fg) (hre : re + 1 = re')
    (KA : L ≤ PL 0 → post (ln, pc, 2, fi, nI h, nI (m + 1), nI (PL (m + 1)), re, oc, fx, fy, fz, rg, ce, ct, tl, tp, fg, ep, eo, ex, ls, lv, rs, rv, ad, aa, dn, rt, nw))
    (KB : tf_zo L oc (PL 0) = 10 → PL 1 = PL 0 → tf_RB L oc fx fy fz rg ce (fun i => PL (i + 1)) ((h + 1) % 8) m ep eo ex ls lv rs rv ad aa dn rt nw → post (ln, pc, 1, fi, nI ((h + 1) % 8), nI m, nI (PL (m + 1)), re', oc, fx, fy, fz, rg, ce, ct, tl, tp, fg, ep, eo, ex, ls, lv, rs, rv, ad, aa, dn, rt, nw))
    (KC : tf_zo L oc (PL 0) ≤ 9 → ∀ rg2 ce2 PL2 m2 ct2 fi2 tl2 tp2 fg2 nw2, (rg2, ce2) = tf_st L oc fx fy fz (PL 0) (rg, ce) → tf_RB L oc fx fy fz rg2 ce2 PL2 ((h + 1) % 8) m2 ep eo ex ls lv rs rv ad aa dn rt nw2 → tf_TR fi2 tl2 tp2 fg2 →
      nI (PL2 0) = tf_np (tf_zo L oc (PL 0)) (PL 0) (fz (PL 0)) (tf_V L oc fx fy fz (PL 0) (rg, ce)) →
      post (ln, nI (PL2 0), st, fi2, nI ((h + 1) % 8), nI m2, nI (PL2 m2), re', oc, fx, fy, fz, rg2, ce2, ct2, tl2, tp2, fg2, ep, eo, ex, ls, lv, rs, rv, ad, aa, dn, rt, nw2)) :
    wpX_retire post (ln, pc, st, fi, nI h, nI (m + 1), nI (PL (m + 1)), re, oc, fx, fy, fz, rg, ce, ct, tl, tp, fg, ep, eo, ex, ls, lv, rs, rv, ad, aa, dn, rt, nw) := by
  have hh := H.1
  have hL := W.1
  have m8 := H.2.1
  have hv : vp_in (nI h) 8 := vp_in_nI hh (by decide)
  have ec : (nI h).toNatClampNeg = h := nI_clamp (by omega)
  have h11 := tf_WF_11 W (PL 0)
  have E := H.2.2.2.1 0 (by omega)
  have N := H.2.2.2.2
  have e0 : tf_sl h 0 = h := tf_sl_0 hh
  rw [e0] at E
  have g1 : eo (nI h).toNatClampNeg = nI (tf_zo L oc (PL 0)) := by rw [ec]; exact E.1.2.1
  have g2 : ep (nI h).toNatClampNeg = nI (PL 0) := by rw [ec]; exact E.1.1
  have g3 : (nI h + 1) &&& 7 = nI ((h + 1) % 8) := by
    rw [nI_1]
    exact pk_andN (by omega) 3 (by decide)
  refine And.intro hv (nm_r g1 (And.intro hv (nm_r g2 (pk_eq (tf_zo L oc (PL 0)) 11 (fun h => KA ?_) (fun n11 => nm_r hre (nm_r g3 (nm_r (nI_pred m) (pk_eq (tf_zo L oc (PL 0)) 10 (fun h10 => ?_) (fun n10 => pk_lt 5 (tf_zo L oc (PL 0)) (fun h5 => ?_) (fun h5 => ?_))))))))))
  · by_cases c : PL 0 < L
    · have := (tf_WF_o W c).2
      omega
    · omega
  · refine KB h10 (E.2.2.1 (by omega)) (tf_RB_retire H (by rw [e0]; exact hd0) ?_ (tf_Nw_retire_n N (by omega) (by omega)))
    show (rg, ce) = tf_st L oc fx fy fz (PL 0) (rg, ce)
    unfold tf_st
    rw [if_neg (by omega), if_neg (by omega)]
  · refine tf_re125 W H hd0 T (by omega) ?_ (tf_Nw_retire_n N (by omega) h5) (fun ce2 PL2 m2 ct2 fi2 tl2 tp2 fg2 nw2 => KC (by omega) rg ce2 PL2 m2 ct2 fi2 tl2 tp2 fg2 nw2)
    unfold tf_st
    rw [if_neg (by omega)]
  · have hi : PL 0 < L := tf_zo_in (oc := oc) (by omega)
    have hvi : vp_in (nI (PL 0)) 24 := vp_in_nI (by omega) (by decide)
    obtain ⟨x, hx8, ex1, ex2⟩ := tf_WF_x W (i := PL 0) (by omega)
    have hvx : vp_in (nI x) 8 := vp_in_nI hx8 (by decide)
    have exc : (nI x).toNatClampNeg = x := nI_clamp (by omega)
    have er : rt h = tf_V L oc fx fy fz (PL 0) (rg, ce) := E.2.2.2.2.2.2.1 (by omega) hd0
    have es : upd rg x (tf_V L oc fx fy fz (PL 0) (rg, ce)) = (tf_st L oc fx fy fz (PL 0) (rg, ce)).1 := by
      unfold tf_st
      rw [if_pos h5, ex2]
    refine And.intro hvi (And.intro hv ?_)
    rw [nI_clamp (by omega), ec, ex1, exc, er, tf_nbm]
    refine And.intro hvx (nm_e (And.intro hvi (And.intro hvx (br_c (fun z => And.intro hvi (And.intro hvx (nm_e ?_))) (fun z => ?_)))))
    · exact tf_re125 W H hd0 T (by omega) es (tf_Nw_retire_w N (by omega) hx8 ex2 (by rw [e0]; exact z)) (fun ce2 PL2 m2 ct2 fi2 tl2 tp2 fg2 nw2 => KC (by omega) _ ce2 PL2 m2 ct2 fi2 tl2 tp2 fg2 nw2)
    · exact tf_re125 W H hd0 T (by omega) es (tf_Nw_retire_k N ex2 (by rw [e0]; exact z)) (fun ce2 PL2 m2 ct2 fi2 tl2 tp2 fg2 nw2 => KC (by omega) _ ce2 PL2 m2 ct2 fi2 tl2 tp2 fg2 nw2)
end
end
section
/-! the reference: one instruction, one turn of its loop -/
theorem tf_zv0 {o x y : Nat} {z : Int32} {R M : Nat → Int32} (h : o = 0) : R y + R z.toNatClampNeg = tf_zv o x y z R M := by subst h; rfl
theorem tf_zv1 {o x y : Nat} {z : Int32} {R M : Nat → Int32} (h : o = 1) : R y - R z.toNatClampNeg = tf_zv o x y z R M := by subst h; rfl
theorem tf_zv2 {o x y : Nat} {z : Int32} {R M : Nat → Int32} (h : o = 2) : R y ^^^ R z.toNatClampNeg = tf_zv o x y z R M := by subst h; rfl
theorem tf_zv3 {o x y : Nat} {z : Int32} {R M : Nat → Int32} (h : o = 3) : (if R z.toNatClampNeg ≤ R y then (0 : Int32) else 1) = tf_zv o x y z R M := by subst h; rfl
theorem tf_zv4 {o x y : Nat} {z : Int32} {R M : Nat → Int32} (h : o = 4) : R y + z = tf_zv o x y z R M := by subst h; rfl
theorem tf_zv5 {o x y : Nat} {z : Int32} {R M : Nat → Int32} (h : o = 5) : M ((R y + z) &&& 15).toNatClampNeg = tf_zv o x y z R M := by subst h; rfl
/-- the two programs -/
def tf_PR (L : Nat) (oc fx fy fz yo ya yb yc : Nat → Int32) : Prop :=
  ∀ i, i < L → yo i = oc i ∧ (tf_zo L oc i ≤ 8 → ya i = fx i) ∧ (tf_zo L oc i ≤ 6 → yb i = fy i ∧ yc i = fz i) ∧ (7 ≤ tf_zo L oc i → tf_zo L oc i ≤ 8 → yb i = fz i) ∧ (tf_zo L oc i = 9 → ya i = fz i)
section
variable {L : Nat} {oc fx fy fz : Nat → Int32} {yn yp ys : Int32} {yo ya yb yc yr ym : Nat → Int32}
theorem tf_st5 {i : Nat} {s : (Nat → Int32) × (Nat → Int32)} {v : Int32} (h : tf_zo L oc i ≤ 5) (hv : v = tf_V L oc fx fy fz i s) : (upd s.1 (fx i).toNatClampNeg v, s.2) = tf_st L oc fx fy fz i s := by
  unfold tf_st
  rw [if_pos h, if_neg (by omega), hv]
theorem tf_st6 {i : Nat} {s : (Nat → Int32) × (Nat → Int32)} (h : tf_zo L oc i = 6) : (s.1, upd s.2 (tf_A fy fz i s) (s.1 (fx i).toNatClampNeg)) = tf_st L oc fx fy fz i s := by
  unfold tf_st
  rw [if_neg (by omega), if_pos h]
  unfold tf_V
  rw [← tf_zv_7 (R := s.1) (by omega)]
theorem tf_st7 {i : Nat} {s : (Nat → Int32) × (Nat → Int32)} (h : 7 ≤ tf_zo L oc i) : s = tf_st L oc fx fy fz i s := by
  unfold tf_st
  rw [if_neg (by omega), if_neg (by omega)]
theorem tf_np6 {o i : Nat} {z r : Int32} (h : o ≤ 6) : tf_np o i z r = nI (i + 1) := by
  unfold tf_np
  rw [if_neg (by omega), if_neg (by omega)]
theorem tf_np_t {o i : Nat} {z r : Int32} (h : (o = 7 ∧ r = 0) ∨ (o = 8 ∧ r < 0)) : tf_np o i z r = z := by
  unfold tf_np
  rw [if_pos h]
  exact ite_self z
theorem tf_np_f {o i : Nat} {z r : Int32} (h9 : o ≠ 9) (h : ¬ ((o = 7 ∧ r = 0) ∨ (o = 8 ∧ r < 0))) : tf_np o i z r = nI (i + 1) := by
  unfold tf_np
  rw [if_neg h9, if_neg h]
theorem tf_np9 {o i : Nat} {z r : Int32} (h : o = 9) : tf_np o i z r = z := if_pos h
theorem tf_y319 {post : SY → Prop} {i : Nat} {x : Int32} (W : tf_WF L oc fx fy fz) (Q : tf_PR L oc fx fy fz yo ya yb yc) (hi : i < L) (h7 : 7 ≤ tf_zo L oc i)
    (K10 : tf_zo L oc i = 10 → post (yn, nI i, 1, yo, ya, yb, yc, yr, ym)) (K9 : tf_zo L oc i = 9 → post (yn, x, ys, yo, ya, yb, yc, yr, ym)) (K8 : tf_zo L oc i ≤ 8 → post (yn, yp, ys, yo, ya, yb, yc, yr, ym)) : wY_execute_319 post (nI i) x yn yp ys yo ya yb yc yr ym := by
  have hL := W.1
  have hv : vp_in (nI i) 24 := vp_in_nI (by omega) (by decide)
  have ei : (nI i).toNatClampNeg = i := nI_clamp (by omega)
  have eo : yo i = nI (tf_zo L oc i) := (Q i hi).1.trans (tf_WF_o W hi).1
  have h10 := (tf_WF_o W hi).2
  refine And.intro hv ?_
  rw [ei, eo]
  exact pk_eq (tf_zo L oc i) 9 K9 (fun n9 => And.intro hv (pk_eq (tf_zo L oc i) 10 K10 (fun n10 => K8 (by omega))))
theorem tf_y291 {post : SY → Prop} {i x : Nat} {t : Int32} (W : tf_WF L oc fx fy fz) (Q : tf_PR L oc fx fy fz yo ya yb yc) (hi : i < L) (h7 : 7 ≤ tf_zo L oc i) (hx : tf_zo L oc i ≤ 8 → ∃ x, x < 8 ∧ ya i = nI x)
    (K10 : tf_zo L oc i = 10 → post (yn, nI i, 1, yo, ya, yb, yc, yr, ym)) (K9 : tf_zo L oc i = 9 → post (yn, ya i, ys, yo, ya, yb, yc, yr, ym))
    (K8t : tf_zo L oc i = 8 → yr (ya i).toNatClampNeg < 0 → post (yn, t, ys, yo, ya, yb, yc, yr, ym)) (K8f : tf_zo L oc i = 8 → ¬ yr (ya i).toNatClampNeg < 0 → post (yn, yp, ys, yo, ya, yb, yc, yr, ym)) (K7 : tf_zo L oc i = 7 → post (yn, yp, ys, yo, ya, yb, yc, yr, ym)) : wY_execute_291 post (nI i) (ya i) t yn yp ys yo ya yb yc yr ym := by
  have hL := W.1
  have hv : vp_in (nI i) 24 := vp_in_nI (by omega) (by decide)
  have ei : (nI i).toNatClampNeg = i := nI_clamp (by omega)
  have eo : yo i = nI (tf_zo L oc i) := (Q i hi).1.trans (tf_WF_o W hi).1
  have h10 := (tf_WF_o W hi).2
  refine And.intro hv ?_
  rw [ei, eo]
  refine pk_eq (tf_zo L oc i) 8 (fun h8 => ?_) (fun n8 => tf_y319 W Q hi h7 K10 K9 (fun z => K7 (by omega)))
  obtain ⟨x, hx8, ex⟩ := hx (by omega)
  refine And.intro (pk_in x 8 hx8 ex) (br_c (fun z => tf_y319 W Q hi h7 K10 K9 (fun _ => K8f h8 (Int32.not_lt.mpr z))) (fun z => K8t h8 (Int32.not_le.mp z)))
theorem tf_yexec {post : SY → Prop} {i : Nat} (W : tf_WF L oc fx fy fz) (Q : tf_PR L oc fx fy fz yo ya yb yc) (hi : i < L)
    (K10 : tf_zo L oc i = 10 → post (yn, nI i, 1, yo, ya, yb, yc, yr, ym))
    (K9 : tf_zo L oc i ≤ 9 → ∀ yr' ym', (yr', ym') = tf_st L oc fx fy fz i (yr, ym) → post (yn, tf_np (tf_zo L oc i) i (fz i) (tf_V L oc fx fy fz i (yr, ym)), ys, yo, ya, yb, yc, yr', ym')) :
    wpY_execute post (yn, nI i, ys, yo, ya, yb, yc, yr, ym) (nI i) := by
  have hL := W.1
  have hv : vp_in (nI i) 24 := vp_in_nI (by omega) (by decide)
  have ei : (nI i).toNatClampNeg = i := nI_clamp (by omega)
  obtain ⟨q1, q2, q3, q4, q5⟩ := Q i hi
  have eo : yo i = nI (tf_zo L oc i) := q1.trans (tf_WF_o W hi).1
  have h10 := (tf_WF_o W hi).2
  have K6 : tf_zo L oc i ≤ 6 → ∀ yr' ym', (yr', ym') = tf_st L oc fx fy fz i (yr, ym) → post (yn, nI (i + 1), ys, yo, ya, yb, yc, yr', ym') := by
    intro h6 yr' ym' e
    have := K9 (by omega) yr' ym' e
    rw [tf_np6 h6] at this
    exact this
  refine And.intro hv (nm_e (And.intro hv (nm_e (And.intro hv (nm_e (nm_r (nI_1 i) (And.intro hv ?_)))))))
  rw [ei, eo]
  have X8 : tf_zo L oc i ≤ 8 → vp_in (ya i) 8 := fun z => by
    obtain ⟨x, hx, e, _⟩ := tf_WF_x W z
    rw [q2 z]
    exact pk_in x 8 hx e
  have Y6 : tf_zo L oc i ≤ 6 → vp_in (yb i) 8 := fun z => by
    obtain ⟨x, hx, e, _⟩ := tf_WF_y W z
    rw [(q3 z).1]
    exact pk_in x 8 hx e
  have Z3 : tf_zo L oc i ≤ 3 → vp_in (yc i) 8 := fun z => by
    obtain ⟨x, hx, e, _⟩ := tf_WF_z W z
    rw [(q3 (by omega)).2]
    exact pk_in x 8 hx e
  have A6 : tf_zo L oc i ≤ 6 → vp_in ((yr (yb i).toNatClampNeg + yc i) &&& 15) 16 := fun z => by
    obtain ⟨j, hj, e⟩ := pk_andE (yr (yb i).toNatClampNeg + yc i) (m := 15) 4 (by decide)
    exact pk_in j 16 hj e
  have K5 : tf_zo L oc i ≤ 5 → ∀ v, v = tf_zv (tf_zo L oc i) (ya i).toNatClampNeg (yb i).toNatClampNeg (yc i) yr ym → post (yn, nI (i + 1), ys, yo, ya, yb, yc, upd yr (ya i).toNatClampNeg v, ym) := by
    intro h5 v hv
    rw [q2 (by omega), (q3 (by omega)).1, (q3 (by omega)).2] at hv
    rw [q2 (by omega)]
    exact K6 (by omega) _ _ (tf_st5 (s := (yr, ym)) h5 hv)
  have k291 : 7 ≤ tf_zo L oc i → (tf_zo L oc i = 7 → ¬ yr (ya i).toNatClampNeg = 0) → wY_execute_291 post (nI i) (ya i) (yb i) yn (nI (i + 1)) ys yo ya yb yc yr ym := by
    intro h7 hz
    have es := tf_st7 (L := L) (oc := oc) (fx := fx) (fy := fy) (fz := fz) (i := i) (s := (yr, ym)) h7
    have ev : tf_zo L oc i ≤ 8 → tf_V L oc fx fy fz i (yr, ym) = yr (ya i).toNatClampNeg := fun z => by
      rw [q2 z]
      exact (tf_zv_7 (by omega)).symm
    refine tf_y291 (x := 0) W Q hi h7 (fun z => ?_) K10 (fun z => ?_) (fun z y => ?_) (fun z y => ?_) (fun z => ?_)
    · obtain ⟨x, hx, e, _⟩ := tf_WF_x W z
      exact ⟨x, hx, (q2 z).trans e⟩
    · have := K9 (by omega) yr ym es
      rw [tf_np9 z, ← q5 z] at this
      exact this
    · have := K9 (by omega) yr ym es
      rw [tf_np_t (Or.inr ⟨z, by rw [ev (by omega)]; exact y⟩), ← q4 (by omega) (by omega)] at this
      exact this
    · have := K9 (by omega) yr ym es
      rw [tf_np_f (by omega) (fun c => c.elim (fun c => absurd c.1 (by omega)) (fun c => y (by rw [← ev (by omega)]; exact c.2)))] at this
      exact this
    · have := K9 (by omega) yr ym es
      rw [tf_np_f (by omega) (fun c => c.elim (fun c => hz z (by rw [← ev (by omega)]; exact c.2)) (fun c => absurd c.1 (by omega)))] at this
      exact this
  refine pk_eq (tf_zo L oc i) 0 (fun h => And.intro (Y6 (by omega)) (And.intro (Z3 (by omega)) (And.intro (X8 (by omega)) (nm_e (K5 (by omega) _ (tf_zv0 h)))))) (fun n0 => And.intro hv ?_)
  refine pk_eq (tf_zo L oc i) 1 (fun h => And.intro (Y6 (by omega)) (And.intro (Z3 (by omega)) (And.intro (X8 (by omega)) (nm_e (K5 (by omega) _ (tf_zv1 h)))))) (fun n1 => And.intro hv ?_)
  refine pk_eq (tf_zo L oc i) 2 (fun h => And.intro (Y6 (by omega)) (And.intro (Z3 (by omega)) (And.intro (X8 (by omega)) (nm_e (K5 (by omega) _ (tf_zv2 h)))))) (fun n2 => And.intro hv ?_)
  refine pk_eq (tf_zo L oc i) 3 (fun h => And.intro (Y6 (by omega)) (And.intro (Z3 (by omega)) (br_c (fun z => And.intro (X8 (by omega)) (nm_e (K5 (by omega) _ ?_))) (fun z => And.intro (X8 (by omega)) (nm_e (K5 (by omega) _ ?_)))))) (fun n3 => And.intro hv ?_)
  · exact (if_pos z).symm.trans (tf_zv3 h)
  · exact (if_neg z).symm.trans (tf_zv3 h)
  refine pk_eq (tf_zo L oc i) 4 (fun h => And.intro (Y6 (by omega)) (And.intro (X8 (by omega)) (nm_e (K5 (by omega) _ (tf_zv4 h))))) (fun n4 => And.intro hv ?_)
  refine pk_eq (tf_zo L oc i) 5 (fun h => And.intro (Y6 (by omega)) (And.intro (A6 (by omega)) (And.intro (X8 (by omega)) (nm_e (K5 (by omega) _ (tf_zv5 h)))))) (fun n5 => And.intro hv ?_)
  refine pk_eq (tf_zo L oc i) 6 (fun h => And.intro (Y6 (by omega)) (And.intro (X8 (by omega)) (And.intro (A6 (by omega)) (nm_e ?_)))) (fun n6 => And.intro hv ?_)
  · rw [q2 (by omega), (q3 (by omega)).1, (q3 (by omega)).2]
    exact K6 (by omega) _ _ (tf_st6 (s := (yr, ym)) h)
  refine pk_eq (tf_zo L oc i) 7 (fun h => And.intro (X8 (by omega)) (br_c (fun z => ?_) (fun z => k291 (by omega) (fun _ => z)))) (fun n7 => k291 (by omega) (fun z => absurd z n7))
  have es := tf_st7 (L := L) (oc := oc) (fx := fx) (fy := fy) (fz := fz) (i := i) (s := (yr, ym)) (by omega)
  have ev : tf_V L oc fx fy fz i (yr, ym) = yr (ya i).toNatClampNeg := by
    rw [q2 (by omega)]
    exact (tf_zv_7 (by omega)).symm
  have := K9 (by omega) yr ym es
  rw [tf_np_t (Or.inl ⟨h, by rw [ev]; exact z⟩), ← q4 (by omega) (by omega)] at this
  exact this
end
end
section
/-! the component's run: what the reference does at each try is held by the predicate Y -/
def tf_ph (n : Nat) (x : Int32) : Nat := if n = 0 then 2 else if x = 0 then 1 else 0
theorem tf_ph2 {n : Nat} {x : Int32} (h : n = 0) : tf_ph n x = 2 := if_pos h
theorem tf_ph1 {n : Nat} {x : Int32} (h : ¬ n = 0) (hx : x = 0) : tf_ph n x = 1 := by
  unfold tf_ph
  rw [if_neg h, if_pos hx]
theorem tf_ph0 {n : Nat} {x : Int32} (h : ¬ n = 0) (hx : ¬ x = 0) : tf_ph n x = 0 := by
  unfold tf_ph
  rw [if_neg h, if_neg hx]
theorem tf_ph_le {n : Nat} {x : Int32} (h : ¬ n = 0) : tf_ph n x ≤ 1 := by
  by_cases hx : x = 0
  · rw [tf_ph1 h hx]
    exact Nat.le_refl 1
  · rw [tf_ph0 h hx]
    exact Nat.zero_le 1
theorem tf_ph_le2 (n : Nat) (x : Int32) : tf_ph n x ≤ 2 := by
  by_cases h : n = 0
  · rw [tf_ph2 h]
    exact Nat.le_refl 2
  · have := tf_ph_le (x := x) h
    omega
section
variable {oc fx fy fz : Nat → Int32} {L : Nat}
theorem tf_run110 {post : Int32 → SX → Prop} {J : Int32 → Int32 → Int32 → Int32 → Int32 → Int32 → Int32 → Int32 → Int32 → Int32 → (Nat → Int32) → (Nat → Int32) → (Nat → Int32) → (Nat → Int32) → (Nat → Int32) → (Nat → Int32) → (Nat → Int32) → (Nat → Int32) → (Nat → Int32) → (Nat → Int32) → (Nat → Int32) → (Nat → Int32) → (Nat → Int32) → (Nat → Int32) → (Nat → Int32) → (Nat → Int32) → (Nat → Int32) → (Nat → Int32) → (Nat → Int32) → (Nat → Int32) → (Nat → Int32) → (Nat → Int32) → Prop} {x2 x3 st fi : Int32} {c d h n : Nat} {PL : Nat → Nat} {rg ce ct tl tp fg ep eo ex ls lv rs rv ad aa dn rt nw : Nat → Int32} (W : tf_WF L oc fx fy fz) (H : tf_RB L oc fx fy fz rg ce PL h n ep eo ex ls lv rs rv ad aa dn rt nw) (T : tf_TR fi tl tp fg)
    (K : ∀ (n' : Nat) (PL' : Nat → Nat) (ep' eo' ex' ls' lv' rs' rv' ad' aa' dn' rt' nw' : Nat → Int32),
      tf_RB L oc fx fy fz rg ce PL' h n' ep' eo' ex' ls' lv' rs' rv' ad' aa' dn' rt' nw' →
      PL' 0 = PL 0 → 1 ≤ n' → (0 < n → ¬ dn' h = 0) →
      J x3 (nI (c + 1)) (nI L) (nI (PL' 0)) st fi (nI h) (nI n') (nI (PL' n')) (nI d) oc fx fy fz rg ce ct tl tp fg ep' eo' ex' ls' lv' rs' rv' ad' aa' dn' rt' nw') :
    wX_run_110 post J x2 x3 (nI c) (nI L) (nI (PL 0)) st fi (nI h) (nI n) (nI (PL n)) (nI d) oc fx fy fz rg ce ct tl tp fg ep eo ex ls lv rs rv ad aa dn rt nw := by
  unfold wX_run_110
  refine tf_some W H (fun ls' lv' rs' rv' ad' aa' dn' rt' H' hd => ?_)
  refine tf_fetch W H' T (fun n2 PL2 ep2 eo2 ex2 ls2 lv2 rs2 rv2 ad2 dn2 nw2 H2 e0 hn2 hd2 => nm_r (nI_1 c) ?_)
  have := K n2 PL2 ep2 eo2 ex2 ls2 lv2 rs2 rv2 ad2 aa' dn2 rt' nw2 H2 e0 hn2 (fun z => by rw [hd2 z]; exact hd z)
  rw [e0] at this
  exact this
variable {Y : Nat → Nat → Nat → Int32 → (Nat → Int32) → (Nat → Int32) → Prop} {w : Nat}
def tf_SA (L w : Nat) (Y : Nat → Nat → Nat → Int32 → (Nat → Int32) → (Nat → Int32) → Prop) : Prop :=
  ∀ t d p R M, Y t d p 0 R M → t < w → p ≤ 24 → L ≤ p → Y (t + 1) d p 2 R M
def tf_SB (L : Nat) (oc : Nat → Int32) (w : Nat) (Y : Nat → Nat → Nat → Int32 → (Nat → Int32) → (Nat → Int32) → Prop) : Prop :=
  ∀ t d p R M, Y t d p 0 R M → t < w → tf_zo L oc p = 10 → Y (t + 1) (d + 1) p 1 R M
def tf_SC (L : Nat) (oc fx fy fz : Nat → Int32) (w : Nat) (Y : Nat → Nat → Nat → Int32 → (Nat → Int32) → (Nat → Int32) → Prop) : Prop :=
  ∀ t d p p' R M R' M', Y t d p 0 R M → t < w → tf_zo L oc p ≤ 9 → (R', M') = tf_st L oc fx fy fz p (R, M) →
    nI p' = tf_np (tf_zo L oc p) p (fz p) (tf_V L oc fx fy fz p (R, M)) → Y (t + 1) (d + 1) p' 0 R' M'
theorem tf_run60 {post : Int32 → SX → Prop} {J : Int32 → Int32 → Int32 → Int32 → Int32 → Int32 → Int32 → Int32 → Int32 → Int32 → (Nat → Int32) → (Nat → Int32) → (Nat → Int32) → (Nat → Int32) → (Nat → Int32) → (Nat → Int32) → (Nat → Int32) → (Nat → Int32) → (Nat → Int32) → (Nat → Int32) → (Nat → Int32) → (Nat → Int32) → (Nat → Int32) → (Nat → Int32) → (Nat → Int32) → (Nat → Int32) → (Nat → Int32) → (Nat → Int32) → (Nat → Int32) → (Nat → Int32) → (Nat → Int32) → (Nat → Int32) → Prop} {c t0 f0 : Nat} (W : tf_WF L oc fx fy fz) (hw : w ≤ 150) (SA : tf_SA L w Y) (SB : tf_SB L oc w Y) (SC : tf_SC L oc fx fy fz w Y) (ht0 : t0 < w)
    (E : ∀ (t d : Nat) (st fi : Int32) (PL : Nat → Nat) (h n : Nat) (rg ce ct tl tp fg ep eo ex ls lv rs rv ad aa dn rt nw : Nat → Int32), t ≤ w → t0 ≤ t → (t = t0 → tf_ph n (dn h) = f0 ∧ f0 ≠ 0) → tf_RB L oc fx fy fz rg ce PL h n ep eo ex ls lv rs rv ad aa dn rt nw → tf_TR fi tl tp fg → Y t d (PL 0) st rg ce →
      wX_run_110 post J (nI w) (nI t) (nI c) (nI L) (nI (PL 0)) st fi (nI h) (nI n) (nI (PL n)) (nI d) oc fx fy fz rg ce ct tl tp fg ep eo ex ls lv rs rv ad aa dn rt nw) :
    ∀ (b k t d : Nat) (st fi : Int32) (PL : Nat → Nat) (h n : Nat) (rg ce ct tl tp fg ep eo ex ls lv rs rv ad aa dn rt nw : Nat → Int32), k + b = 2 → t ≤ w → t0 ≤ t → (t = t0 → st = 0 ∧ tf_ph n (dn h) = f0 ∧ (0 < k → f0 ≠ 0)) →
      tf_RB L oc fx fy fz rg ce PL h n ep eo ex ls lv rs rv ad aa dn rt nw → tf_TR fi tl tp fg → Y t d (PL 0) st rg ce → wX_run_60 post J (nI w) (nI c) (b + 1) (nI t) (nI k) (nI L) (nI (PL 0)) st fi (nI h) (nI n) (nI (PL n)) (nI d) oc fx fy fz rg ce ct tl tp fg ep eo ex ls lv rs rv ad aa dn rt nw := by
  intro b
  induction b with
  | zero =>
    intro k t d st fi PL h n rg ce ct tl tp fg ep eo ex ls lv rs rv ad aa dn rt nw hk htw ht hf H T hY
    exact pk_le 2 k (fun _ => E t d st fi PL h n rg ce ct tl tp fg ep eo ex ls lv rs rv ad aa dn rt nw htw ht (fun z => ⟨(hf z).2.1, (hf z).2.2 (by omega)⟩) H T hY) (fun z => absurd z (by omega))
  | succ b ih =>
    intro k t d st fi PL h n rg ce ct tl tp fg ep eo ex ls lv rs rv ad aa dn rt nw hk htw ht hf H T hY
    have n8 := H.2.1
    have hh := H.1
    refine pk_le 2 k (fun z => absurd z (by omega)) (fun _ => pk_le w t (fun hwt => E t d st fi PL h n rg ce ct tl tp fg ep eo ex ls lv rs rv ad aa dn rt nw htw ht (fun z => absurd z (by omega)) H T hY) (fun hlt => br_c (fun hst => ?_) (fun nst => E t d st fi PL h n rg ce ct tl tp fg ep eo ex ls lv rs rv ad aa dn rt nw htw ht (fun z => absurd (hf z).1 nst) H T hY)))
    refine pk_le n 0 (fun hn0 => nm_r (nI_1 k) (ih (k + 1) t d st fi PL h n rg ce ct tl tp fg ep eo ex ls lv rs rv ad aa dn rt nw (by omega) htw ht (fun z => ⟨(hf z).1, (hf z).2.1, fun _ => ?_⟩) H T hY)) (fun hn0 => And.intro (vp_in_nI hh (by decide)) ?_)
    · rw [← (hf z).2.1, tf_ph2 (by omega)]
      decide
    rw [nI_clamp (by omega)]
    refine br_c (fun zd => nm_r (nI_1 k) (ih (k + 1) t d st fi PL h n rg ce ct tl tp fg ep eo ex ls lv rs rv ad aa dn rt nw (by omega) htw ht (fun z => ⟨(hf z).1, (hf z).2.1, fun _ => ?_⟩) H T hY)) (fun nd => ?_)
    · rw [← (hf z).2.1, tf_ph1 (by omega) zd]
      decide
    subst hst
    obtain ⟨m, rfl⟩ : ∃ m, n = m + 1 := ⟨n - 1, by omega⟩
    refine tf_retire W H nd T (nI_1 d) (fun hL => ?_) (fun h10 e1 H' => ?_) (fun h9 rg2 ce2 PL2 m2 ct2 fi2 tl2 tp2 fg2 nw2 es H' T' ep => ?_)
    · exact nm_r (nI_1 t) (nm_r (nI_1 k) (ih (k + 1) (t + 1) d 2 fi PL h (m + 1) rg ce ct tl tp fg ep eo ex ls lv rs rv ad aa dn rt nw (by omega) (by omega) (by omega) (fun z => absurd z (by omega)) H T (SA t d _ _ _ hY hlt (H.2.2.1 0 (by omega)) hL)))
    · have I := ih (k + 1) (t + 1) (d + 1) 1 fi (fun i => PL (i + 1)) ((h + 1) % 8) m rg ce ct tl tp fg ep eo ex ls lv rs rv ad aa dn rt nw (by omega) (by omega) (by omega) (fun z => absurd z (by omega)) H' T (by
        show Y (t + 1) (d + 1) (PL 1) 1 rg ce
        rw [e1]
        exact SB t d _ _ _ hY hlt h10)
      refine nm_r (nI_1 t) (nm_r (nI_1 k) ?_)
      have e2 : PL (0 + 1) = PL 0 := e1
      rw [e2] at I
      exact I
    · exact nm_r (nI_1 t) (nm_r (nI_1 k) (ih (k + 1) (t + 1) (d + 1) 0 fi2 PL2 ((h + 1) % 8) m2 rg2 ce2 ct2 tl2 tp2 fg2 _ _ _ _ _ _ _ _ _ _ _ nw2 (by omega) (by omega) (by omega) (fun z => absurd z (by omega)) H' T' (SC t d _ _ _ _ _ _ hY hlt h9 es ep)))
theorem tf_run37 {post : Int32 → SX → Prop} (W : tf_WF L oc fx fy fz) (hw : w ≤ 150) (SA : tf_SA L w Y) (SB : tf_SB L oc w Y) (SC : tf_SC L oc fx fy fz w Y)
    (X : ∀ (t d : Nat) (st fi : Int32) (PL : Nat → Nat) (h n : Nat) (rg ce ct tl tp fg ep eo ex ls lv rs rv ad aa dn rt nw : Nat → Int32), t ≤ w → (t = w ∨ ¬ st = 0) → tf_RB L oc fx fy fz rg ce PL h n ep eo ex ls lv rs rv ad aa dn rt nw → tf_TR fi tl tp fg → Y t d (PL 0) st rg ce → post (nI d) (nI L, nI (PL 0), st, fi, nI h, nI n, nI (PL n), nI d, oc, fx, fy, fz, rg, ce, ct, tl, tp, fg, ep, eo, ex, ls, lv, rs, rv, ad, aa, dn, rt, nw)) :
    ∀ (N t c d : Nat) (st fi : Int32) (PL : Nat → Nat) (h n : Nat) (rg ce ct tl tp fg ep eo ex ls lv rs rv ad aa dn rt nw : Nat → Int32), 3 * (w - t) + tf_ph n (dn h) < N → c + (3 * (w - t) + tf_ph n (dn h)) ≤ 1999 → t ≤ w →
      tf_RB L oc fx fy fz rg ce PL h n ep eo ex ls lv rs rv ad aa dn rt nw → tf_TR fi tl tp fg → Y t d (PL 0) st rg ce → wX_run_37 post (nI w) N (nI t) (nI c) (nI L) (nI (PL 0)) st fi (nI h) (nI n) (nI (PL n)) (nI d) oc fx fy fz rg ce ct tl tp fg ep eo ex ls lv rs rv ad aa dn rt nw := by
  intro N
  induction N with
  | zero =>
    intro t c d st fi PL h n rg ce ct tl tp fg ep eo ex ls lv rs rv ad aa dn rt nw hN
    exact absurd hN (by omega)
  | succ N ih =>
    intro t c d st fi PL h n rg ce ct tl tp fg ep eo ex ls lv rs rv ad aa dn rt nw hN hc htw H T hY
    refine pk_le 2000 c (fun z => absurd z (by omega)) (fun _ => pk_le w t (fun hwt => X t d st fi PL h n rg ce ct tl tp fg ep eo ex ls lv rs rv ad aa dn rt nw htw (Or.inl (by omega)) H T hY) (fun hlt => br_c (fun hst => Exists.intro 3 ?_) (fun nst => X t d st fi PL h n rg ce ct tl tp fg ep eo ex ls lv rs rv ad aa dn rt nw htw (Or.inr nst) H T hY)))
    refine tf_run60 (t0 := t) (f0 := tf_ph n (dn h)) W hw SA SB SC hlt ?_ 2 0 t d st fi PL h n rg ce ct tl tp fg ep eo ex ls lv rs rv ad aa dn rt nw rfl htw (Nat.le_refl t) (fun _ => ⟨hst, rfl, fun z => absurd z (by decide)⟩) H T hY
    clear hst
    clear hY T H
    generalize hf : tf_ph n (dn h) = f at *
    intro t1 d1 st1 fi1 PL1 h1 n1 rg1 ce1 ct1 tl1 tp1 fg1 ep1 eo1 ex1 ls1 lv1 rs1 rv1 ad1 aa1 dn1 rt1 nw1 htw1 ht1 hf1 H1 T1 hY1
    refine tf_run110 W H1 T1 (fun n2 PL2 ep2 eo2 ex2 ls2 lv2 rs2 rv2 ad2 aa2 dn2 rt2 nw2 H2 e0 hn2 hd2 => ?_)
    have hm : 3 * (w - t1) + tf_ph n2 (dn2 h1) < 3 * (w - t) + f := by
      have a1 := tf_ph_le (x := dn2 h1) (n := n2) (by omega)
      by_cases ct : t1 = t
      · obtain ⟨b1, b2⟩ := hf1 ct
        by_cases c0 : n1 = 0
        · rw [tf_ph2 c0] at b1
          omega
        · have a0 := tf_ph0 (x := dn2 h1) (n := n2) (by omega) (hd2 (by omega))
          omega
      · omega
    refine ih t1 (c + 1) d1 st1 fi1 PL2 h1 n2 rg1 ce1 ct1 tl1 tp1 fg1 ep2 eo2 ex2 ls2 lv2 rs2 rv2 ad2 aa2 dn2 rt2 nw2 (by omega) (by omega) htw1 H2 T1 ?_
    rw [e0]
    exact hY1
theorem tf_run22 {post : Int32 → SX → Prop} {st fi en fp re : Int32} {p h : Nat} {rg ce ct tl tp fg ep eo ex ls lv rs rv ad aa dn rt nw : Nat → Int32} (W : tf_WF L oc fx fy fz) (hw : w ≤ 150) (SA : tf_SA L w Y) (SB : tf_SB L oc w Y) (SC : tf_SC L oc fx fy fz w Y) (hp : p ≤ 24) (hh : h < 8)
    (T : tf_TR fi tl tp fg) (hY : Y 0 0 p st rg ce)
    (X : ∀ (t d : Nat) (st fi : Int32) (PL : Nat → Nat) (h n : Nat) (rg ce ct tl tp fg ep eo ex ls lv rs rv ad aa dn rt nw : Nat → Int32), t ≤ w → (t = w ∨ ¬ st = 0) → tf_RB L oc fx fy fz rg ce PL h n ep eo ex ls lv rs rv ad aa dn rt nw → tf_TR fi tl tp fg → Y t d (PL 0) st rg ce → post (nI d) (nI L, nI (PL 0), st, fi, nI h, nI n, nI (PL n), nI d, oc, fx, fy, fz, rg, ce, ct, tl, tp, fg, ep, eo, ex, ls, lv, rs, rv, ad, aa, dn, rt, nw)) :
    wX_run_22 post (nI w) (nI L) (nI p) st fi (nI h) en fp re oc fx fy fz rg ce ct tl tp fg ep eo ex ls lv rs rv ad aa dn rt nw := by
  unfold wX_run_22
  refine tf_squash (fun nw' hn => Exists.intro 2000 ?_)
  have h2 := tf_ph_le2 0 (dn h)
  exact tf_run37 W hw SA SB SC X 2000 0 0 0 st fi (fun _ => p) h 0 rg ce ct tl tp fg ep eo ex ls lv rs rv ad aa dn rt nw' (by omega) (by omega) (Nat.zero_le w) (tf_RB_nil hh hp hn) T hY
end
end
section
/-! the relation -/
/-- both hold the same program (each in its own form), registers, cells, place and status; the trace cache is within its bounds -/
def i_Rel (_ : Nat) (u : SX) (v : SY) : Prop := match u, v with
  | (ln, pc, st, fi, hd, en, fp, re, oc, fx, fy, fz, rg, ce, ct, tl, tp, fg, ep, eo, ex, ls, lv, rs, rv, ad, aa, dn, rt, nw), (yn, yp, ys, yo, ya, yb, yc, yr, ym) => ∃ L p h : Nat, ln = nI L ∧ yn = nI L ∧ pc = nI p ∧ yp = nI p ∧ ys = st ∧ hd = nI h ∧ yr = rg ∧ ym = ce ∧ p ≤ 24 ∧ h < 8 ∧
    tf_WF L oc fx fy fz ∧ tf_PR L oc fx fy fz yo ya yb yc ∧ tf_TR fi tl tp fg
theorem i_up {k : Nat} {u : SX} {v : SY} (h : i_Rel k u v) : i_Rel (k + 5) u v := h
section
variable {oc fx fy fz rg ce ct tl tp fg ep eo ex ls lv rs rv ad aa dn rt nw yo ya yb yc : Nat → Int32} {st fi en fp re : Int32} {L p h : Nat}
theorem tf_mk {k : Nat} (hp : p ≤ 24) (hh : h < 8) (W : tf_WF L oc fx fy fz) (Q : tf_PR L oc fx fy fz yo ya yb yc) (T : tf_TR fi tl tp fg) :
    i_Rel k (nI L, nI p, st, fi, nI h, en, fp, re, oc, fx, fy, fz, rg, ce, ct, tl, tp, fg, ep, eo, ex, ls, lv, rs, rv, ad, aa, dn, rt, nw) (nI L, nI p, st, yo, ya, yb, yc, rg, ce) :=
  Exists.intro L (Exists.intro p (Exists.intro h ⟨rfl, rfl, rfl, rfl, rfl, rfl, rfl, rfl, hp, hh, W, Q, T⟩))
end
theorem tf_el {P : SX → SY → Prop} {k : Nat} {u : SX} {v : SY}
    (K : ∀ (oc fx fy fz rg ce ct tl tp fg ep eo ex ls lv rs rv ad aa dn rt nw yo ya yb yc : Nat → Int32) (st fi en fp re : Int32) (L p h : Nat), p ≤ 24 → h < 8 → tf_WF L oc fx fy fz → tf_PR L oc fx fy fz yo ya yb yc → tf_TR fi tl tp fg →
      P (nI L, nI p, st, fi, nI h, en, fp, re, oc, fx, fy, fz, rg, ce, ct, tl, tp, fg, ep, eo, ex, ls, lv, rs, rv, ad, aa, dn, rt, nw) (nI L, nI p, st, yo, ya, yb, yc, rg, ce)) (I : i_Rel k u v) : P u v := by
  obtain ⟨ln, pc, st, fi, hd, en, fp, re, oc, fx, fy, fz, rg, ce, ct, tl, tp, fg, ep, eo, ex, ls, lv, rs, rv, ad, aa, dn, rt, nw⟩ := u
  obtain ⟨yn, yp, ys, yo, ya, yb, yc, yr, ym⟩ := v
  obtain ⟨L, p, h, a1, a2, a3, a4, a5, a6, a7, a8, hp, hh, W, Q, T⟩ := I
  subst a1 a2 a3 a4 a5 a6 a7 a8
  exact K oc fx fy fz _ _ ct tl tp fg ep eo ex ls lv rs rv ad aa dn rt nw yo ya yb yc _ fi en fp re L p h hp hh W Q T
theorem i_vc0 : wpX_init (fun u => wpY_init (fun v => i_Rel 0 u v)) := by
  unfold wpX_init
  refine tf_forget (fun tl' ht => tf_squash (fun nw' hn => ?_))
  show i_Rel 0 (nI 0, nI 0, 0, 0, nI 0, 0, 0, 0, fun _ => 0, fun _ => 0, fun _ => 0, fun _ => 0, fun _ => 0, fun _ => 0, fun _ => 0, tl', fun _ => 0, fun _ => 0, fun _ => 0, fun _ => 0, fun _ => 0, fun _ => 0, fun _ => 0, fun _ => 0, fun _ => 0, fun _ => 0, fun _ => 0, fun _ => 0, fun _ => 0, nw') (nI 0, nI 0, 0, fun _ => 0, fun _ => 0, fun _ => 0, fun _ => 0, fun _ => 0, fun _ => 0)
  refine tf_mk (k := 0) (L := 0) (p := 0) (h := 0) (st := 0) (Nat.zero_le _) (by decide) ⟨Nat.zero_le _, fun i hi => absurd hi (by omega)⟩ (fun i hi => absurd hi (by omega)) ⟨⟨0, by decide, rfl⟩, fun j hj => ⟨0, Nat.zero_le _, ht j hj⟩, fun j _ => ⟨0, Nat.zero_le _, rfl⟩, fun j _ => ⟨0, Nat.zero_le _, rfl⟩⟩
theorem i_vc_restart {k : Nat} {u : SX} {v : SY} (I : i_Rel k u v) (hk : k + 5 ≤ 2560) : wpX_restart (fun u' => wpY_restart (fun v' => i_Rel (k + 5) u' v') v) u := by
  refine tf_el (P := fun u v => wpX_restart (fun u' => wpY_restart (fun v' => i_Rel (k + 5) u' v') v) u) ?_ I
  intro oc fx fy fz rg ce ct tl tp fg ep eo ex ls lv rs rv ad aa dn rt nw yo ya yb yc st fi en fp re L p h hp hh W Q T
  show i_Rel (k + 5) (nI L, nI 0, 0, fi, nI h, en, fp, re, oc, fx, fy, fz, rg, ce, ct, tl, tp, fg, ep, eo, ex, ls, lv, rs, rv, ad, aa, dn, rt, nw) (nI L, nI 0, 0, yo, ya, yb, yc, rg, ce)
  exact tf_mk (p := 0) (st := 0) (Nat.zero_le _) hh W Q T
theorem i_vc_place {k : Nat} {u : SX} {v : SY} (I : i_Rel k u v) (hk : k + 5 ≤ 2560) : wpX_place (fun r => wpY_place (fun r' => r' = r ∧ i_Rel (k + 5) u v) v) u := by
  refine tf_el (P := fun u v => wpX_place (fun r => wpY_place (fun r' => r' = r ∧ i_Rel (k + 5) u v) v) u) ?_ I
  intro oc fx fy fz rg ce ct tl tp fg ep eo ex ls lv rs rv ad aa dn rt nw yo ya yb yc st fi en fp re L p h hp hh W Q T
  exact And.intro rfl (tf_mk hp hh W Q T)
theorem i_vc_status {k : Nat} {u : SX} {v : SY} (I : i_Rel k u v) (hk : k + 5 ≤ 2560) : wpX_status (fun r => wpY_status (fun r' => r' = r ∧ i_Rel (k + 5) u v) v) u := by
  refine tf_el (P := fun u v => wpX_status (fun r => wpY_status (fun r' => r' = r ∧ i_Rel (k + 5) u v) v) u) ?_ I
  intro oc fx fy fz rg ce ct tl tp fg ep eo ex ls lv rs rv ad aa dn rt nw yo ya yb yc st fi en fp re L p h hp hh W Q T
  exact And.intro rfl (tf_mk hp hh W Q T)
def tf_Rg (x : Int32) : Prop := ∃ j, j < 8 ∧ x = nI j
def tf_Tg (x : Int32) : Prop := ∃ j, j < 24 ∧ x = nI j
theorem tf_isn {x : Int32} {n : Nat} (hn : n < 2 ^ 31) (h : x < 0 ∨ nI n < x) : ¬ ∃ j, j < n + 1 ∧ x = nI j := by
  intro ⟨j, hj, e⟩
  subst e
  rcases h with h | h
  · exact nI_pos (by omega) h
  · rw [nI_ltI hn (by omega)] at h
    omega
theorem tf_isy {x : Int32} {n : Nat} (hn : n < 2 ^ 31) (h0 : ¬ x < 0) (h : ¬ nI n < x) : ∃ j, j < n + 1 ∧ x = nI j := by
  obtain ⟨j, hj, e⟩ := nI_of h0
  subst e
  rw [nI_ltI hn hj] at h
  exact ⟨j, by omega, rfl⟩
section
variable {ln pc st fi hd en fp re : Int32} {oc fx fy fz rg ce ct tl tp fg ep eo ex ls lv rs rv ad aa dn rt nw : Nat → Int32} {yn yp ys : Int32} {yo ya yb yc yr ym : Nat → Int32}
theorem tf_isR {post : Int32 → Prop} {x : Int32} (K1 : tf_Rg x → post 1) (K0 : ¬ tf_Rg x → post 0) : wpX_isRegister post (ln, pc, st, fi, hd, en, fp, re, oc, fx, fy, fz, rg, ce, ct, tl, tp, fg, ep, eo, ex, ls, lv, rs, rv, ad, aa, dn, rt, nw) x :=
  br_c (fun z => K0 (tf_isn (n := 7) (by decide) (Or.inl z))) (fun z => br_c (fun y => K0 (tf_isn (n := 7) (by decide) (Or.inr y))) (fun y => K1 (tf_isy (n := 7) (by decide) z y)))
theorem tf_isT {post : Int32 → Prop} {x : Int32} (K1 : tf_Tg x → post 1) (K0 : ¬ tf_Tg x → post 0) : wpX_isTarget post (ln, pc, st, fi, hd, en, fp, re, oc, fx, fy, fz, rg, ce, ct, tl, tp, fg, ep, eo, ex, ls, lv, rs, rv, ad, aa, dn, rt, nw) x :=
  br_c (fun z => K0 (tf_isn (n := 23) (by decide) (Or.inl z))) (fun z => br_c (fun y => K0 (tf_isn (n := 23) (by decide) (Or.inr y))) (fun y => K1 (tf_isy (n := 23) (by decide) z y)))
theorem tf_yisR {post : Int32 → Prop} {x : Int32} (K1 : tf_Rg x → post 1) (K0 : ¬ tf_Rg x → post 0) : wpY_isRegister post (yn, yp, ys, yo, ya, yb, yc, yr, ym) x :=
  br_c (fun z => K0 (tf_isn (n := 7) (by decide) (Or.inl z))) (fun z => br_c (fun y => K0 (tf_isn (n := 7) (by decide) (Or.inr y))) (fun y => K1 (tf_isy (n := 7) (by decide) z y)))
theorem tf_yisT {post : Int32 → Prop} {x : Int32} (K1 : tf_Tg x → post 1) (K0 : ¬ tf_Tg x → post 0) : wpY_isPlace post (yn, yp, ys, yo, ya, yb, yc, yr, ym) x :=
  br_c (fun z => K0 (tf_isn (n := 23) (by decide) (Or.inl z))) (fun z => br_c (fun y => K0 (tf_isn (n := 23) (by decide) (Or.inr y))) (fun y => K1 (tf_isy (n := 23) (by decide) z y)))
end
theorem tf_RgIn {x : Int32} (h : tf_Rg x) : vp_in x 8 := by
  obtain ⟨j, hj, e⟩ := h
  exact pk_in j 8 hj e
theorem i_vc_register {k : Nat} {u : SX} {v : SY} (I : i_Rel k u v) (hk : k + 5 ≤ 2560) (v1 : Int32) : wpX_register (fun r => wpY_register (fun r' => r' = r ∧ i_Rel (k + 5) u v) v v1) u v1 := by
  refine tf_el (P := fun u v => wpX_register (fun r => wpY_register (fun r' => r' = r ∧ i_Rel (k + 5) u v) v v1) u v1) ?_ I
  intro oc fx fy fz rg ce ct tl tp fg ep eo ex ls lv rs rv ad aa dn rt nw yo ya yb yc st fi en fp re L p h hp hh W Q T
  unfold wpX_register wpY_register
  refine tf_isR (fun z => br_f (by decide) (And.intro (tf_RgIn z) ?_)) (fun z => br_t rfl ?_)
  · exact tf_yisR (fun _ => br_f (by decide) (And.intro (tf_RgIn z) (And.intro rfl (tf_mk hp hh W Q T)))) (fun y => absurd z y)
  · exact tf_yisR (fun y => absurd y z) (fun _ => br_t rfl (And.intro rfl (tf_mk hp hh W Q T)))
theorem i_vc_setRegister {k : Nat} {u : SX} {v : SY} (I : i_Rel k u v) (hk : k + 5 ≤ 2560) (v1 : Int32) (v2 : Int32) : wpX_setRegister (fun r u' => wpY_setRegister (fun r' v' => r' = r ∧ i_Rel (k + 5) u' v') v v1 v2) u v1 v2 := by
  refine tf_el (P := fun u v => wpX_setRegister (fun r u' => wpY_setRegister (fun r' v' => r' = r ∧ i_Rel (k + 5) u' v') v v1 v2) u v1 v2) ?_ I
  intro oc fx fy fz rg ce ct tl tp fg ep eo ex ls lv rs rv ad aa dn rt nw yo ya yb yc st fi en fp re L p h hp hh W Q T
  unfold wpX_setRegister wpY_setRegister
  refine tf_isR (fun z => br_f (by decide) (And.intro (tf_RgIn z) (nm_e ?_))) (fun z => br_t rfl ?_)
  · exact tf_yisR (fun _ => br_f (by decide) (And.intro (tf_RgIn z) (nm_e (And.intro rfl (tf_mk hp hh W Q T))))) (fun y => absurd z y)
  · exact tf_yisR (fun y => absurd y z) (fun _ => br_t rfl (And.intro rfl (tf_mk hp hh W Q T)))
theorem tf_in16 {x : Int32} (h0 : ¬ x < 0) (h : x ≤ 15) : vp_in x 16 := by
  obtain ⟨j, hj, e⟩ := tf_isy (n := 15) (x := x) (by decide) h0 (Int32.not_lt.mpr h)
  exact pk_in j 16 hj e
theorem i_vc_memory {k : Nat} {u : SX} {v : SY} (I : i_Rel k u v) (hk : k + 5 ≤ 2560) (v1 : Int32) : wpX_memory (fun r => wpY_memory (fun r' => r' = r ∧ i_Rel (k + 5) u v) v v1) u v1 := by
  refine tf_el (P := fun u v => wpX_memory (fun r => wpY_memory (fun r' => r' = r ∧ i_Rel (k + 5) u v) v v1) u v1) ?_ I
  intro oc fx fy fz rg ce ct tl tp fg ep eo ex ls lv rs rv ad aa dn rt nw yo ya yb yc st fi en fp re L p h hp hh W Q T
  refine br_c (fun z => br_t z (And.intro rfl (tf_mk hp hh W Q T))) (fun z => br_c (fun y => And.intro (tf_in16 z y) ?_) (fun y => ?_))
  · exact br_f z (br_f (Int32.not_lt.mpr y) (And.intro (tf_in16 z y) (And.intro rfl (tf_mk hp hh W Q T))))
  · exact br_f z (br_t (Int32.not_le.mp y) (And.intro rfl (tf_mk hp hh W Q T)))
theorem i_vc_setMemory {k : Nat} {u : SX} {v : SY} (I : i_Rel k u v) (hk : k + 5 ≤ 2560) (v1 : Int32) (v2 : Int32) : wpX_setMemory (fun r u' => wpY_setMemory (fun r' v' => r' = r ∧ i_Rel (k + 5) u' v') v v1 v2) u v1 v2 := by
  refine tf_el (P := fun u v => wpX_setMemory (fun r u' => wpY_setMemory (fun r' v' => r' = r ∧ i_Rel (k + 5) u' v') v v1 v2) u v1 v2) ?_ I
  intro oc fx fy fz rg ce ct tl tp fg ep eo ex ls lv rs rv ad aa dn rt nw yo ya yb yc st fi en fp re L p h hp hh W Q T
  refine br_c (fun z => br_t z (And.intro rfl (tf_mk hp hh W Q T))) (fun z => br_c (fun y => And.intro (tf_in16 z y) (nm_e ?_)) (fun y => ?_))
  · exact br_f z (br_t y (And.intro (tf_in16 z y) (nm_e (And.intro rfl (tf_mk hp hh W Q T)))))
  · exact br_f z (br_f y (And.intro rfl (tf_mk hp hh W Q T)))
end
section
/-! run, both sides -/
section
variable {oc fx fy fz rg ce ct tl tp fg ep eo ex ls lv rs rv ad aa dn rt nw yo ya yb yc : Nat → Int32} {st fi en fp re : Int32} {L p h : Nat}
/-- whatever the reference asks from here on, it asks at the start -/
def tf_YR (w L : Nat) (yo ya yb yc : Nat → Int32) (v : SY) (x : Int32) (t d p : Nat) (st : Int32) (R M : Nat → Int32) : Prop :=
  ∀ post : Int32 → SY → Prop, (∃ N, wY_run_28 post (nI w) N (nI d) (nI t) (nI L) (nI p) st yo ya yb yc R M) → wpY_run post v x
theorem tf_yA {w : Nat} {v : SY} {x : Int32} (hw : w ≤ 150) (W : tf_WF L oc fx fy fz) : tf_SA L w (tf_YR w L yo ya yb yc v x) := by
  intro t d p R M hY ht hp hL post ⟨N, hN⟩
  refine hY post (Exists.intro (N + 1) (pk_le w t (fun z => absurd z (by omega)) (fun _ => br_t rfl (pk_lt p L (fun z => absurd z (by omega)) (fun _ => nm_r (nI_1 t) hN) rfl rfl (by omega) ?_))))
  have := W.1
  omega
theorem tf_yB {w : Nat} {v : SY} {x : Int32} (hw : w ≤ 150) (W : tf_WF L oc fx fy fz) (Q : tf_PR L oc fx fy fz yo ya yb yc) : tf_SB L oc w (tf_YR w L yo ya yb yc v x) := by
  intro t d p R M hY ht h10 post ⟨N, hN⟩
  have hL := W.1
  have hi : p < L := tf_zo_in (oc := oc) (by omega)
  refine hY post (Exists.intro (N + 1) (pk_le w t (fun z => absurd z (by omega)) (fun _ => br_t rfl (pk_lt p L (fun _ => ?_) (fun z => absurd z (by omega))))))
  exact tf_yexec W Q hi (fun _ => nm_r (nI_1 d) (nm_r (nI_1 t) hN)) (fun z => absurd z (by omega))
theorem tf_yC {w : Nat} {v : SY} {x : Int32} (hw : w ≤ 150) (W : tf_WF L oc fx fy fz) (Q : tf_PR L oc fx fy fz yo ya yb yc) : tf_SC L oc fx fy fz w (tf_YR w L yo ya yb yc v x) := by
  intro t d p p' R M R' M' hY ht h9 es ep post ⟨N, hN⟩
  have hL := W.1
  have hi : p < L := tf_zo_in (oc := oc) (by omega)
  refine hY post (Exists.intro (N + 1) (pk_le w t (fun z => absurd z (by omega)) (fun _ => br_t rfl (pk_lt p L (fun _ => ?_) (fun z => absurd z (by omega))))))
  refine tf_yexec W Q hi (fun z => absurd z (by omega)) (fun _ R2 M2 e2 => ?_)
  obtain ⟨a, b⟩ := Prod.mk.inj (e2.trans es.symm)
  subst a b
  rw [← ep]
  exact nm_r (nI_1 d) (nm_r (nI_1 t) hN)
theorem tf_runw {k w : Nat} {v1 : Int32} (hw : w ≤ 150) (hp : p ≤ 24) (hh : h < 8) (W : tf_WF L oc fx fy fz) (Q : tf_PR L oc fx fy fz yo ya yb yc) (T : tf_TR fi tl tp fg)
    (h0 : tf_YR w L yo ya yb yc (nI L, nI p, st, yo, ya, yb, yc, rg, ce) v1 0 0 p st rg ce) :
    wX_run_22 (fun r u' => wpY_run (fun r' v' => r' = r ∧ i_Rel (k + 5) u' v') (nI L, nI p, st, yo, ya, yb, yc, rg, ce) v1) (nI w) (nI L) (nI p) st fi (nI h) en fp re oc fx fy fz rg ce ct tl tp fg ep eo ex ls lv rs rv ad aa dn rt nw := by
  refine tf_run22 W hw (tf_yA hw W) (tf_yB hw W Q) (tf_yC hw W Q) hp hh T h0 ?_
  intro t d st1 fi1 PL h1 n1 rg1 ce1 ct1 tl1 tp1 fg1 ep1 eo1 ex1 ls1 lv1 rs1 rv1 ad1 aa1 dn1 rt1 nw1 htw hex H T1 hY
  have fin : i_Rel (k + 5) (nI L, nI (PL 0), st1, fi1, nI h1, nI n1, nI (PL n1), nI d, oc, fx, fy, fz, rg1, ce1, ct1, tl1, tp1, fg1, ep1, eo1, ex1, ls1, lv1, rs1, rv1, ad1, aa1, dn1, rt1, nw1)
      (nI L, nI (PL 0), st1, yo, ya, yb, yc, rg1, ce1) := tf_mk (H.2.2.1 0 (Nat.zero_le _)) H.1 W Q T1
  refine hY _ (Exists.intro 1 (pk_le w t (fun _ => And.intro rfl fin) (fun z => br_f ?_ (And.intro rfl fin))))
  rcases hex with e | e
  · omega
  · exact e
end
theorem i_vc_run {k : Nat} {u : SX} {v : SY} (I : i_Rel k u v) (hk : k + 5 ≤ 2560) (v1 : Int32) : wpX_run (fun r u' => wpY_run (fun r' v' => r' = r ∧ i_Rel (k + 5) u' v') v v1) u v1 := by
  refine tf_el (P := fun u v => wpX_run (fun r u' => wpY_run (fun r' v' => r' = r ∧ i_Rel (k + 5) u' v') v v1) u v1) ?_ I
  intro oc fx fy fz rg ce ct tl tp fg ep eo ex ls lv rs rv ad aa dn rt nw yo ya yb yc st fi en fp re L p h hp hh W Q T
  refine br_c (fun h0 => br_c (fun h1 => ?_) (fun h1 => ?_)) (fun h0 => ?_)
  · obtain ⟨w, hw, e⟩ := nI_of2 (x := v1) (M := 150) (n := 150) (by decide) (Int32.not_lt.mpr h0) h1
    subst e
    exact tf_runw hw hp hh W Q T (fun post z => br_t h0 (br_t h1 z))
  · exact tf_runw (w := 150) (by decide) hp hh W Q T (fun post z => br_t h0 (br_f h1 z))
  · exact tf_runw (w := 0) (by decide) hp hh W Q T (fun post z => br_f h0 z)
end
section
/-! emit -/
def tf_fc (o : Nat) (p1 p2 p3 : Int32) : Prop := (o ≤ 8 → tf_Rg p1) ∧ (o ≤ 6 → tf_Rg p2) ∧ (o ≤ 3 → tf_Rg p3) ∧ (7 ≤ o → o ≤ 8 → tf_Tg p2) ∧ (o = 9 → tf_Tg p1)
def tf_fit (p0 p1 p2 p3 : Int32) : Prop := ∃ o, o ≤ 10 ∧ p0 = nI o ∧ tf_fc o p1 p2 p3
theorem tf_fit_of {o : Nat} {p1 p2 p3 : Int32} (ho : o ≤ 10) (h : tf_fit (nI o) p1 p2 p3) : tf_fc o p1 p2 p3 := by
  obtain ⟨o', ho', e, f⟩ := h
  rw [nI_eq (by omega) (by omega)] at e
  subst e
  exact f
theorem tf_fit_0 {p0 p1 p2 p3 : Int32} (h : p0 < 0) : ¬ tf_fit p0 p1 p2 p3 := by
  intro ⟨o, ho, e, _⟩
  rw [e] at h
  exact nI_pos (by omega) h
theorem tf_fit_10 {p0 p1 p2 p3 : Int32} (h : ¬ p0 ≤ 10) : ¬ tf_fit p0 p1 p2 p3 := by
  intro ⟨o, ho, e, _⟩
  rw [e] at h
  exact h (nI_le (b := 10) ho (by decide))
def tf_zz (o : Nat) (p1 p2 p3 : Int32) : Int32 := if o = 9 then p1 else if o < 7 then p3 else p2
section
variable {ln pc st fi hd en fp re : Int32} {oc fx fy fz rg ce ct tl tp fg ep eo ex ls lv rs rv ad aa dn rt nw : Nat → Int32} {yn yp ys : Int32} {yo ya yb yc yr ym : Nat → Int32} {L : Nat}
theorem tf_xemit {post : Int32 → SX → Prop} {p0 p1 p2 p3 : Int32} (hL : L ≤ 24) (A : tf_fit p0 p1 p2 p3 → L < 24 → wX_emit_110 post p0 p1 p2 p3 (nI L) pc st fi hd en fp re oc fx fy fz rg ce ct tl tp fg ep eo ex ls lv rs rv ad aa dn rt nw)
    (B : ¬ tf_fit p0 p1 p2 p3 → L < 24 → post (-1) (nI L, pc, st, fi, hd, en, fp, re, oc, fx, fy, fz, rg, ce, ct, tl, tp, fg, ep, eo, ex, ls, lv, rs, rv, ad, aa, dn, rt, nw)) (F : L = 24 → post (-2) (nI L, pc, st, fi, hd, en, fp, re, oc, fx, fy, fz, rg, ce, ct, tl, tp, fg, ep, eo, ex, ls, lv, rs, rv, ad, aa, dn, rt, nw)) : wpX_emit post (nI L, pc, st, fi, hd, en, fp, re, oc, fx, fy, fz, rg, ce, ct, tl, tp, fg, ep, eo, ex, ls, lv, rs, rv, ad, aa, dn, rt, nw) p0 p1 p2 p3 := by
  refine pk_lt L 24 (fun hl => br_c (fun z => B (tf_fit_0 z) hl) (fun n0 => br_c (fun h10 => ?_) (fun n10 => B (tf_fit_10 n10) hl))) (fun hg => F (by omega))
  obtain ⟨o, ho, e⟩ := nI_of2 (x := p0) (M := 10) (n := 10) (by decide) n0 h10
  subst e
  have C94 : (o ≤ 8 → tf_Rg p1) → (o ≤ 6 → tf_Rg p2) → (o ≤ 3 → tf_Rg p3) → (7 ≤ o → o ≤ 8 → tf_Tg p2) → wX_emit_94 post (nI o) p1 p2 p3 (nI L) pc st fi hd en fp re oc fx fy fz rg ce ct tl tp fg ep eo ex ls lv rs rv ad aa dn rt nw := fun a b c d =>
    pk_eq o 9 (fun h9 => tf_isT (fun t => br_f (by decide) (A ⟨o, ho, rfl, a, b, c, d, fun _ => t⟩ hl)) (fun t => br_t rfl (B (fun z => t ((tf_fit_of ho z).2.2.2.2 h9)) hl)))
      (fun n9 => A ⟨o, ho, rfl, a, b, c, d, fun z => absurd z n9⟩ hl)
  have C84 : (o ≤ 8 → tf_Rg p1) → (o ≤ 6 → tf_Rg p2) → (o ≤ 3 → tf_Rg p3) → 7 ≤ o → o ≤ 8 → wX_emit_84 post (nI o) p1 p2 p3 (nI L) pc st fi hd en fp re oc fx fy fz rg ce ct tl tp fg ep eo ex ls lv rs rv ad aa dn rt nw := by
    intro a b c h7 h8
    unfold wX_emit_84
    exact tf_isT (fun t => br_f (by decide) (C94 a b c (fun _ _ => t))) (fun t => br_t rfl (B (fun z => t ((tf_fit_of ho z).2.2.2.1 h7 h8)) hl))
  have C72 : (o ≤ 8 → tf_Rg p1) → (o ≤ 6 → tf_Rg p2) → (o ≤ 3 → tf_Rg p3) → wX_emit_72 post (nI o) p1 p2 p3 (nI L) pc st fi hd en fp re oc fx fy fz rg ce ct tl tp fg ep eo ex ls lv rs rv ad aa dn rt nw := fun a b c =>
    pk_eq o 7 (fun h => C84 a b c (by omega) (by omega)) (fun n7 => pk_eq o 8 (fun h => C84 a b c (by omega) (by omega)) (fun n8 => C94 a b c (fun _ _ => absurd (by omega : o = 7 ∨ o = 8) (fun z => z.elim n7 n8))))
  have C56 : (o ≤ 8 → tf_Rg p1) → (o ≤ 6 → tf_Rg p2) → wX_emit_56 post (nI o) p1 p2 p3 (nI L) pc st fi hd en fp re oc fx fy fz rg ce ct tl tp fg ep eo ex ls lv rs rv ad aa dn rt nw := fun a b =>
    pk_lt 3 o (fun h => C72 a b (fun z => absurd h (by omega))) (fun h => tf_isR (fun t => br_f (by decide) (C72 a b (fun _ => t))) (fun t => br_t rfl (B (fun z => t ((tf_fit_of ho z).2.2.1 h)) hl)))
  have C40 : (o ≤ 8 → tf_Rg p1) → wX_emit_40 post (nI o) p1 p2 p3 (nI L) pc st fi hd en fp re oc fx fy fz rg ce ct tl tp fg ep eo ex ls lv rs rv ad aa dn rt nw := fun a =>
    pk_lt 6 o (fun h => C56 a (fun z => absurd h (by omega))) (fun h => tf_isR (fun t => br_f (by decide) (C56 a (fun _ => t))) (fun t => br_t rfl (B (fun z => t ((tf_fit_of ho z).2.1 h)) hl)))
  exact pk_lt 8 o (fun h => C40 (fun z => absurd h (by omega))) (fun h => tf_isR (fun t => br_f (by decide) (C40 (fun _ => t))) (fun t => br_t rfl (B (fun z => t ((tf_fit_of ho z).1 h)) hl)))
theorem tf_yfits {post : Int32 → Prop} {p0 p1 p2 p3 : Int32} (A : tf_fit p0 p1 p2 p3 → post 1) (B : ¬ tf_fit p0 p1 p2 p3 → post 0) : wpY_fits post (yn, yp, ys, yo, ya, yb, yc, yr, ym) p0 p1 p2 p3 := by
  refine br_c (fun z => B (tf_fit_0 z)) (fun n0 => br_c (fun h10 => ?_) (fun n10 => B (tf_fit_10 n10)))
  obtain ⟨o, ho, e⟩ := nI_of2 (x := p0) (M := 10) (n := 10) (by decide) n0 h10
  subst e
  refine pk_eq o 10 (fun h => A ⟨o, ho, rfl, fun z => absurd h (by omega), fun z => absurd h (by omega), fun z => absurd h (by omega), fun _ z => absurd h (by omega), fun z => absurd h (by omega)⟩) (fun n10 => pk_eq o 9 (fun h => ?_) (fun n9 => ?_))
  · exact tf_yisT (fun t => And.intro rfl (A ⟨o, ho, rfl, fun z => absurd h (by omega), fun z => absurd h (by omega), fun z => absurd h (by omega), fun _ z => absurd h (by omega), fun _ => t⟩)) (fun t => And.intro rfl (B (fun z => t ((tf_fit_of ho z).2.2.2.2 h))))
  refine tf_yisR (fun r1 => br_f (by decide) ?_) (fun r1 => br_t rfl (B (fun z => r1 ((tf_fit_of ho z).1 (by omega)))))
  have C54 : 7 ≤ o → wY_fits_54 post p2 yn yp ys yo ya yb yc yr ym := by
    intro h7
    unfold wY_fits_54
    exact tf_yisT (fun t => And.intro rfl (A ⟨o, ho, rfl, fun _ => r1, fun z => absurd h7 (by omega), fun z => absurd h7 (by omega), fun _ _ => t, fun z => absurd z n9⟩)) (fun t => And.intro rfl (B (fun z => t ((tf_fit_of ho z).2.2.2.1 h7 (by omega)))))
  refine pk_eq o 7 (fun h => C54 (by omega)) (fun n7 => pk_eq o 8 (fun h => C54 (by omega)) (fun n8 => ?_))
  refine tf_yisR (fun r2 => br_f (by decide) ?_) (fun r2 => br_t rfl (B (fun z => r2 ((tf_fit_of ho z).2.1 (by omega)))))
  refine pk_lt 3 o (fun h => A ⟨o, ho, rfl, fun _ => r1, fun _ => r2, fun z => absurd h (by omega), fun z y => absurd z (by omega), fun z => absurd z n9⟩) (fun h => ?_)
  exact tf_yisR (fun r3 => br_f (by decide) (A ⟨o, ho, rfl, fun _ => r1, fun _ => r2, fun _ => r3, fun z y => absurd z (by omega), fun z => absurd z n9⟩)) (fun r3 => br_t rfl (B (fun z => r3 ((tf_fit_of ho z).2.2.1 h))))
theorem tf_x173 {post : Int32 → SX → Prop} {z : Int32} (hL : L < 24)
    (K : ∀ ct' tl', (∀ i, i < 8 → tl' i = 0) → post (nI (L + 1)) (nI (L + 1), pc, st, 0, hd, en, fp, re, oc, fx, fy, upd fz L z, rg, ce, ct', tl', tp, fg, ep, eo, ex, ls, lv, rs, rv, ad, aa, dn, rt, nw)) : wX_emit_173 post z (nI L) (nI L) pc st fi hd en fp re oc fx fy fz rg ce ct tl tp fg ep eo ex ls lv rs rv ad aa dn rt nw := by
  have hv : vp_in (nI L) 24 := vp_in_nI hL (by decide)
  have ec : (nI L).toNatClampNeg = L := nI_clamp (by omega)
  have e1 : upd fz (nI L).toNatClampNeg z = upd fz L z := by rw [ec]
  exact And.intro hv (nm_r e1 (And.intro hv (nm_e (nm_r (nI_1 L) (tf_forget (fun tl' ht => K _ tl' ht))))))
theorem tf_x110 {post : Int32 → SX → Prop} {o : Nat} {p1 p2 p3 : Int32} (hL : L < 24) (ho : o ≤ 10)
    (K : ∀ ct' tl', (∀ i, i < 8 → tl' i = 0) → post (nI (L + 1)) (nI (L + 1), pc, st, 0, hd, en, fp, re, upd oc L (nI o), upd fx L (vp_nar .byte p1.toInt8.toInt32), upd fy L (vp_nar .byte p2.toInt8.toInt32), upd fz L (tf_zz o p1 p2 p3), rg, ce, ct', tl', tp, fg, ep, eo, ex, ls, lv, rs, rv, ad, aa, dn, rt, nw)) :
    wX_emit_110 post (nI o) p1 p2 p3 (nI L) pc st fi hd en fp re oc fx fy fz rg ce ct tl tp fg ep eo ex ls lv rs rv ad aa dn rt nw := by
  have hv : vp_in (nI L) 24 := vp_in_nI hL (by decide)
  have ec : (nI L).toNatClampNeg = L := nI_clamp (by omega)
  have e1 : upd oc (nI L).toNatClampNeg (vp_nar .byte (nI o).toInt8.toInt32) = upd oc L (nI o) := by rw [ec, tf_nb2 (by omega)]
  have e2 : upd fx (nI L).toNatClampNeg (vp_nar .byte p1.toInt8.toInt32) = upd fx L (vp_nar .byte p1.toInt8.toInt32) := by rw [ec]
  have e3 : upd fy (nI L).toNatClampNeg (vp_nar .byte p2.toInt8.toInt32) = upd fy L (vp_nar .byte p2.toInt8.toInt32) := by rw [ec]
  unfold tf_zz at K
  refine And.intro hv (nm_r e1 (And.intro hv (nm_r e2 (And.intro hv (nm_r e3 (pk_eq o 9 (fun h9 => tf_x173 hL ?_) (fun n9 => pk_lt o 7 (fun h7 => tf_x173 hL ?_) (fun h7 => tf_x173 hL ?_))))))))
  · rw [if_pos h9] at K
    exact K
  · rw [if_neg n9, if_pos h7] at K
    exact K
  · rw [if_neg n9, if_neg (by omega)] at K
    exact K
theorem tf_RgN {x : Int32} (h : tf_Rg x) : vp_nar .byte x.toInt8.toInt32 = x := by
  obtain ⟨j, hj, e⟩ := h
  rw [e]
  exact tf_nb2 (by omega)
theorem tf_emitW {o : Nat} {p1 p2 p3 : Int32} (W : tf_WF L oc fx fy fz) (hL : L < 24) (ho : o ≤ 10) (fc : tf_fc o p1 p2 p3) :
    tf_WF (L + 1) (upd oc L (nI o)) (upd fx L (vp_nar .byte p1.toInt8.toInt32)) (upd fy L (vp_nar .byte p2.toInt8.toInt32)) (upd fz L (tf_zz o p1 p2 p3)) := by
  obtain ⟨f1, f2, f3, f4, f5⟩ := fc
  refine ⟨hL, fun i hi => ?_⟩
  by_cases c : i = L
  · subst c
    rw [pk_us, pk_us, pk_us, pk_us]
    refine ⟨o, ho, rfl, fun z => ?_, fun z => ?_, fun z => ?_, fun z y => ?_⟩
    · rw [tf_RgN (f1 z)]
      exact f1 z
    · rw [tf_RgN (f2 z)]
      exact f2 z
    · rw [show tf_zz o p1 p2 p3 = p3 from (if_neg (by omega)).trans (if_pos (by omega))]
      exact f3 z
    · have H : tf_Tg (tf_zz o p1 p2 p3) := by
        by_cases c9 : o = 9
        · rw [show tf_zz o p1 p2 p3 = p1 from if_pos c9]
          exact f5 c9
        · rw [show tf_zz o p1 p2 p3 = p2 from (if_neg c9).trans (if_neg (by omega))]
          exact f4 z (by omega)
      obtain ⟨t, ht, e⟩ := H
      exact ⟨t, by omega, e⟩
  · rw [pk_un c, pk_un c, pk_un c, pk_un c]
    exact W.2 i (by omega)
theorem tf_zo_up {i : Nat} {v : Int32} (hi : i < L) : tf_zo (L + 1) (upd oc L v) i = tf_zo L oc i := by
  unfold tf_zo
  rw [if_pos hi, if_pos (by omega), pk_un (by omega)]
theorem tf_emitQ {o : Nat} {p1 p2 p3 : Int32} (Q : tf_PR L oc fx fy fz yo ya yb yc) (ho : o ≤ 10) (fc : tf_fc o p1 p2 p3) :
    tf_PR (L + 1) (upd oc L (nI o)) (upd fx L (vp_nar .byte p1.toInt8.toInt32)) (upd fy L (vp_nar .byte p2.toInt8.toInt32)) (upd fz L (tf_zz o p1 p2 p3)) (upd yo L (nI o)) (upd ya L p1) (upd yb L p2) (upd yc L p3) := by
  obtain ⟨f1, f2, f3, f4, f5⟩ := fc
  intro i hi
  by_cases c : i = L
  · subst c
    rw [tf_zo_lt (o := o) hi ho pk_us]
    rw [pk_us, pk_us, pk_us, pk_us, pk_us, pk_us, pk_us, pk_us]
    refine ⟨rfl, fun z => (tf_RgN (f1 z)).symm, fun z => ⟨(tf_RgN (f2 z)).symm, ?_⟩, fun z y => ?_, fun z => ?_⟩
    · exact ((if_neg (by omega)).trans (if_pos (by omega))).symm
    · exact ((if_neg (by omega)).trans (if_neg (by omega))).symm
    · exact (if_pos z).symm
  · rw [tf_zo_up (by omega)]
    rw [pk_un c, pk_un c, pk_un c, pk_un c, pk_un c, pk_un c, pk_un c, pk_un c]
    exact Q i (by omega)
end
theorem tf_TR0 {fi : Int32} {tl tl' tp fg : Nat → Int32} (T : tf_TR fi tl tp fg) (ht : ∀ i, i < 8 → tl' i = 0) : tf_TR 0 tl' tp fg :=
  ⟨⟨0, by decide, rfl⟩, fun j hj => ⟨0, Nat.zero_le _, ht j hj⟩, T.2.2.1, T.2.2.2⟩
theorem i_vc_emit {k : Nat} {u : SX} {v : SY} (I : i_Rel k u v) (hk : k + 5 ≤ 2560) (v1 : Int32) (v2 : Int32) (v3 : Int32) (v4 : Int32) : wpX_emit (fun r u' => wpY_emit (fun r' v' => r' = r ∧ i_Rel (k + 5) u' v') v v1 v2 v3 v4) u v1 v2 v3 v4 := by
  refine tf_el (P := fun u v => wpX_emit (fun r u' => wpY_emit (fun r' v' => r' = r ∧ i_Rel (k + 5) u' v') v v1 v2 v3 v4) u v1 v2 v3 v4) ?_ I
  intro oc fx fy fz rg ce ct tl tp fg ep eo ex ls lv rs rv ad aa dn rt nw yo ya yb yc st fi en fp re L p h hp hh W Q T
  have hL := W.1
  refine tf_xemit hL (fun hf hl => ?_) (fun nf hl => ?_) (fun e24 => ?_)
  · obtain ⟨o, ho, e, fc⟩ := hf
    subst e
    refine tf_x110 hl ho (fun ct' tl' ht => ?_)
    have hv : vp_in (nI L) 24 := vp_in_nI hl (by decide)
    have ec : (nI L).toNatClampNeg = L := nI_clamp (by omega)
    have e1 : upd yo (nI L).toNatClampNeg (nI o) = upd yo L (nI o) := by rw [ec]
    have e2 : upd ya (nI L).toNatClampNeg v2 = upd ya L v2 := by rw [ec]
    have e3 : upd yb (nI L).toNatClampNeg v3 = upd yb L v3 := by rw [ec]
    have e4 : upd yc (nI L).toNatClampNeg v4 = upd yc L v4 := by rw [ec]
    refine pk_eq L 24 (fun z => absurd z (by omega)) (fun _ => tf_yfits (fun _ => br_f (by decide) ?_) (fun z => absurd ⟨o, ho, rfl, fc⟩ z))
    exact And.intro hv (nm_r e1 (And.intro hv (nm_r e2 (And.intro hv (nm_r e3 (And.intro hv (nm_r e4 (nm_r (nI_1 L) (And.intro rfl (tf_mk hp hh (tf_emitW W hl ho fc) (tf_emitQ Q ho fc) (tf_TR0 T ht)))))))))))
  · exact pk_eq L 24 (fun z => absurd z (by omega)) (fun _ => tf_yfits (fun z => absurd z nf) (fun _ => br_t rfl (And.intro rfl (tf_mk hp hh W Q T))))
  · exact pk_eq L 24 (fun _ => And.intro rfl (tf_mk hp hh W Q T)) (fun z => absurd e24 z)
end
section
/-! amend, clear -/
section
variable {ln pc st fi hd en fp re : Int32} {oc fx fy fz rg ce ct tl tp fg ep eo ex ls lv rs rv ad aa dn rt nw : Nat → Int32} {yn yp ys : Int32} {yo ya yb yc yr ym : Nat → Int32} {L : Nat}
theorem tf_xam {post : Int32 → SX → Prop} {i o : Nat} {v : Int32} (hi : i < L) (hL : L ≤ 24) (e0 : oc i = nI o) (ho : o ≤ 10)
    (B : (o < 4 ∨ o = 10 ∨ (7 ≤ o ∧ ¬ tf_Tg v)) → post (-1) (nI L, pc, st, fi, hd, en, fp, re, oc, fx, fy, fz, rg, ce, ct, tl, tp, fg, ep, eo, ex, ls, lv, rs, rv, ad, aa, dn, rt, nw)) (A : 4 ≤ o → o ≤ 9 → (7 ≤ o → tf_Tg v) → wX_amend_50 post (nI i) v (nI L) pc st fi hd en fp re oc fx fy fz rg ce ct tl tp fg ep eo ex ls lv rs rv ad aa dn rt nw) : wpX_amend post (nI L, pc, st, fi, hd, en, fp, re, oc, fx, fy, fz, rg, ce, ct, tl, tp, fg, ep, eo, ex, ls, lv, rs, rv, ad, aa, dn, rt, nw) (nI i) v := by
  have hv : vp_in (nI i) 24 := vp_in_nI (by omega) (by decide)
  have e1 : oc (nI i).toNatClampNeg = nI o := by rw [nI_clamp (by omega)]; exact e0
  refine br_f (nI_pos (by omega)) (pk_lt i L (fun _ => And.intro hv (nm_r e1 (pk_lt o 4 (fun z => B (Or.inl z)) (fun h4 => pk_eq o 10 (fun z => B (Or.inr (Or.inl z))) (fun n10 => pk_lt o 7 (fun h7 => A h4 (by omega) (fun z => absurd z (by omega))) (fun h7 => ?_)))))) (fun z => absurd z (by omega)))
  exact tf_isT (fun t => br_f (by decide) (A h4 (by omega) (fun _ => t))) (fun t => br_t rfl (B (Or.inr (Or.inr ⟨h7, t⟩))))
theorem tf_yam {post : Int32 → SY → Prop} {i o : Nat} {v : Int32} (hi : i < L) (hL : L ≤ 24) (e0 : yo i = nI o) (ho : o ≤ 10)
    (B : (o < 4 ∨ o = 10 ∨ (7 ≤ o ∧ ¬ tf_Tg v)) → post (-1) (nI L, yp, ys, yo, ya, yb, yc, yr, ym)) (A : 4 ≤ o → o ≤ 9 → (7 ≤ o → tf_Tg v) → wY_amend_56 post (nI i) v (nI L) yp ys yo ya yb yc yr ym) : wpY_amend post (nI L, yp, ys, yo, ya, yb, yc, yr, ym) (nI i) v := by
  have hv : vp_in (nI i) 24 := vp_in_nI (by omega) (by decide)
  have ec : (nI i).toNatClampNeg = i := nI_clamp (by omega)
  refine br_f (nI_pos (by omega)) (pk_le L i (fun z => absurd z (by omega)) (fun _ => And.intro hv ?_))
  rw [ec, e0]
  refine pk_lt o 4 (fun z => B (Or.inl z)) (fun h4 => And.intro hv (pk_eq o 10 (fun z => B (Or.inr (Or.inl z))) (fun n10 => And.intro hv (pk_lt o 7 (fun h7 => A h4 (by omega) (fun z => absurd z (by omega))) (fun h7 => ?_)))))
  exact tf_yisT (fun t => br_f (by decide) (A h4 (by omega) (fun _ => t))) (fun t => br_t rfl (B (Or.inr (Or.inr ⟨h7, t⟩))))
theorem tf_x50 {post : Int32 → SX → Prop} {i : Nat} {v : Int32} (hi : i < 24)
    (K : ∀ tl', (∀ i, i < 8 → tl' i = 0) → post (nI i) (ln, pc, st, 0, hd, en, fp, re, oc, fx, fy, upd fz i v, rg, ce, ct, tl', tp, fg, ep, eo, ex, ls, lv, rs, rv, ad, aa, dn, rt, nw)) : wX_amend_50 post (nI i) v ln pc st fi hd en fp re oc fx fy fz rg ce ct tl tp fg ep eo ex ls lv rs rv ad aa dn rt nw := by
  have e1 : upd fz (nI i).toNatClampNeg v = upd fz i v := by rw [nI_clamp (by omega)]
  exact And.intro (vp_in_nI hi (by decide)) (nm_r e1 (tf_forget (fun tl' ht => K tl' ht)))
theorem tf_y56 {post : Int32 → SY → Prop} {i o : Nat} {v : Int32} (hi : i < 24) (e0 : yo i = nI o) (ho : o ≤ 10)
    (K9 : o = 9 → post (nI i) (yn, yp, ys, yo, upd ya i v, yb, yc, yr, ym)) (K7 : o ≠ 9 → 7 ≤ o → post (nI i) (yn, yp, ys, yo, ya, upd yb i v, yc, yr, ym)) (K4 : o < 7 → post (nI i) (yn, yp, ys, yo, ya, yb, upd yc i v, yr, ym)) : wY_amend_56 post (nI i) v yn yp ys yo ya yb yc yr ym := by
  have hv : vp_in (nI i) 24 := vp_in_nI hi (by decide)
  have ec : (nI i).toNatClampNeg = i := nI_clamp (by omega)
  refine And.intro hv ?_
  rw [ec, e0]
  exact pk_eq o 9 (fun h => And.intro hv (nm_e (K9 h))) (fun n9 => And.intro hv (pk_lt o 7 (fun h => And.intro hv (nm_e (K4 h))) (fun h => And.intro hv (nm_e (K7 n9 h)))))
theorem tf_amW {i : Nat} {v : Int32} (W : tf_WF L oc fx fy fz) (hi : i < L) (h4 : 4 ≤ tf_zo L oc i) (ht : 7 ≤ tf_zo L oc i → tf_Tg v) : tf_WF L oc fx fy (upd fz i v) := by
  refine ⟨W.1, fun j hj => ?_⟩
  by_cases c : j = i
  · subst c
    obtain ⟨o, ho, e, a, b, d, f⟩ := W.2 j hj
    rw [tf_zo_lt hj ho e] at h4 ht
    rw [pk_us]
    refine ⟨o, ho, e, a, b, fun z => absurd z (by omega), fun z _ => ?_⟩
    obtain ⟨t, h24, et⟩ := ht z
    exact ⟨t, by omega, et⟩
  · rw [pk_un c]
    exact W.2 j hj
theorem tf_amQ9 {i : Nat} {v : Int32} (Q : tf_PR L oc fx fy fz yo ya yb yc) (h : tf_zo L oc i = 9) : tf_PR L oc fx fy (upd fz i v) yo (upd ya i v) yb yc := by
  intro j hj
  obtain ⟨q1, q2, q3, q4, q5⟩ := Q j hj
  by_cases c : j = i
  · subst c
    rw [pk_us, pk_us]
    exact ⟨q1, fun z => absurd z (by omega), fun z => absurd z (by omega), fun _ z => absurd z (by omega), fun _ => rfl⟩
  · rw [pk_un c, pk_un c]
    exact ⟨q1, q2, q3, q4, q5⟩
theorem tf_amQ7 {i : Nat} {v : Int32} (Q : tf_PR L oc fx fy fz yo ya yb yc) (h7 : 7 ≤ tf_zo L oc i) (h9 : tf_zo L oc i ≠ 9) : tf_PR L oc fx fy (upd fz i v) yo ya (upd yb i v) yc := by
  intro j hj
  obtain ⟨q1, q2, q3, q4, q5⟩ := Q j hj
  by_cases c : j = i
  · subst c
    rw [pk_us, pk_us]
    exact ⟨q1, q2, fun z => absurd z (by omega), fun _ _ => rfl, fun z => absurd z h9⟩
  · rw [pk_un c, pk_un c]
    exact ⟨q1, q2, q3, q4, q5⟩
theorem tf_amQ4 {i : Nat} {v : Int32} (Q : tf_PR L oc fx fy fz yo ya yb yc) (h7 : tf_zo L oc i < 7) : tf_PR L oc fx fy (upd fz i v) yo ya yb (upd yc i v) := by
  intro j hj
  obtain ⟨q1, q2, q3, q4, q5⟩ := Q j hj
  by_cases c : j = i
  · subst c
    rw [pk_us, pk_us]
    exact ⟨q1, q2, fun z => ⟨(q3 z).1, rfl⟩, fun z => absurd z (by omega), fun z => absurd z (by omega)⟩
  · rw [pk_un c, pk_un c]
    exact ⟨q1, q2, q3, q4, q5⟩
end
theorem i_vc_amend {k : Nat} {u : SX} {v : SY} (I : i_Rel k u v) (hk : k + 5 ≤ 2560) (v1 : Int32) (v2 : Int32) : wpX_amend (fun r u' => wpY_amend (fun r' v' => r' = r ∧ i_Rel (k + 5) u' v') v v1 v2) u v1 v2 := by
  refine tf_el (P := fun u v => wpX_amend (fun r u' => wpY_amend (fun r' v' => r' = r ∧ i_Rel (k + 5) u' v') v v1 v2) u v1 v2) ?_ I
  intro oc fx fy fz rg ce ct tl tp fg ep eo ex ls lv rs rv ad aa dn rt nw yo ya yb yc st fi en fp re L p h hp hh W Q T
  have hL := W.1
  by_cases h0 : v1 < 0
  · exact br_t h0 (br_t h0 (And.intro rfl (tf_mk hp hh W Q T)))
  obtain ⟨i, hi, e⟩ := nI_of h0
  subst e
  by_cases hl : i < L
  · have e1 := (tf_WF_o W hl).1
    have ho := (tf_WF_o W hl).2
    have e2 : yo i = nI (tf_zo L oc i) := (Q i hl).1.trans e1
    refine tf_xam hl hL e1 ho (fun b => tf_yam hl hL e2 ho (fun _ => And.intro rfl (tf_mk hp hh W Q T)) (fun a4 a9 at7 => ?_)) (fun a4 a9 at7 => tf_x50 (by omega) (fun tl' ht => tf_yam hl hL e2 ho (fun b => ?_) (fun _ _ _ => tf_y56 (by omega) e2 ho (fun h9 => ?_) (fun n9 h7 => ?_) (fun h7 => ?_))))
    · rcases b with b | b | b
      · exact absurd b (by omega)
      · exact absurd b (by omega)
      · exact absurd (at7 b.1) b.2
    · rcases b with b | b | b
      · exact absurd b (by omega)
      · exact absurd b (by omega)
      · exact absurd (at7 b.1) b.2
    · exact And.intro rfl (tf_mk hp hh (tf_amW W hl a4 at7) (tf_amQ9 Q h9) (tf_TR0 T ht))
    · exact And.intro rfl (tf_mk hp hh (tf_amW W hl a4 at7) (tf_amQ7 Q h7 n9) (tf_TR0 T ht))
    · exact And.intro rfl (tf_mk hp hh (tf_amW W hl a4 at7) (tf_amQ4 Q h7) (tf_TR0 T ht))
  · exact br_f h0 (pk_lt i L (fun z => absurd z hl) (fun _ => br_f h0 (pk_le L i (fun _ => And.intro rfl (tf_mk hp hh W Q T)) (fun z => absurd z hl))))
def tf_zr (n : Nat) (f : Nat → Int32) : Nat → Int32 := fun j => if j < n then 0 else f j
theorem tf_zr0 (f : Nat → Int32) : tf_zr 0 f = f := funext (fun j => if_neg (by omega))
theorem tf_zrs (n : Nat) (f : Nat → Int32) : upd (tf_zr n f) n 0 = tf_zr (n + 1) f := by
  funext j
  by_cases c : j = n
  · rw [c, pk_us]
    exact (if_pos (by omega)).symm
  · rw [pk_un c]
    by_cases d : j < n
    · exact (if_pos d).trans (if_pos (by omega : j < n + 1)).symm
    · exact (if_neg d).trans (if_neg (by omega : ¬ j < n + 1)).symm
section
variable {ln pc st fi hd en fp re : Int32} {oc fx fy fz rg ce ct tl tp fg ep eo ex ls lv rs rv ad aa dn rt nw : Nat → Int32} {yn yp ys : Int32} {yo ya yb yc yr ym : Nat → Int32}
theorem tf_xc28 {post : SX → Prop} (K : ∀ tl', (∀ i, i < 8 → tl' i = 0) → post (ln, 0, 0, 0, hd, en, fp, re, oc, fx, fy, fz, rg, tf_zr 16 ce, ct, tl', tp, fg, ep, eo, ex, ls, lv, rs, rv, ad, aa, dn, rt, nw)) :
    ∀ d j : Nat, j + d = 16 → wX_clear_28 post ln pc st fi hd en fp re (d + 1) (nI j) oc fx fy fz rg (tf_zr j ce) ct tl tp fg ep eo ex ls lv rs rv ad aa dn rt nw := by
  intro d
  induction d with
  | zero =>
    intro j hj
    have : j = 16 := by omega
    subst this
    refine pk_le 16 16 (fun _ => ?_) (fun z => absurd z (by omega))
    unfold wpX_restart
    exact tf_forget K
  | succ d ih =>
    intro j hj
    have e1 : upd (tf_zr j ce) (nI j).toNatClampNeg 0 = tf_zr (j + 1) ce := by rw [nI_clamp (by omega), tf_zrs]
    exact pk_le 16 j (fun z => absurd z (by omega)) (fun _ => And.intro (vp_in_nI (by omega) (by decide)) (nm_r e1 (nm_r (nI_1 j) (ih (j + 1) (by omega)))))
theorem tf_xc7 {post : SX → Prop} (K : ∀ tl', (∀ i, i < 8 → tl' i = 0) → post (ln, 0, 0, 0, hd, en, fp, re, oc, fx, fy, fz, tf_zr 8 rg, tf_zr 16 ce, ct, tl', tp, fg, ep, eo, ex, ls, lv, rs, rv, ad, aa, dn, rt, nw)) :
    ∀ d j : Nat, j + d = 8 → wX_clear_7 post ln pc st fi hd en fp re (d + 1) (nI j) oc fx fy fz (tf_zr j rg) ce ct tl tp fg ep eo ex ls lv rs rv ad aa dn rt nw := by
  intro d
  induction d with
  | zero =>
    intro j hj
    have : j = 8 := by omega
    subst this
    refine pk_le 8 8 (fun _ => Exists.intro 17 ?_) (fun z => absurd z (by omega))
    have J := tf_xc28 (pc := pc) (st := st) (fi := fi) (tl := tl) K 16 0 rfl
    rw [tf_zr0] at J
    exact J
  | succ d ih =>
    intro j hj
    have e1 : upd (tf_zr j rg) (nI j).toNatClampNeg 0 = tf_zr (j + 1) rg := by rw [nI_clamp (by omega), tf_zrs]
    exact pk_le 8 j (fun z => absurd z (by omega)) (fun _ => And.intro (vp_in_nI (by omega) (by decide)) (nm_r e1 (nm_r (nI_1 j) (ih (j + 1) (by omega)))))
theorem tf_yc32 {post : SY → Prop} (K : post (yn, yp, ys, yo, ya, yb, yc, yr, tf_zr 16 ym)) : ∀ d j : Nat, j + d = 16 → wY_clear_32 post yn yp ys (d + 1) (nI j) yo ya yb yc yr (tf_zr j ym) := by
  intro d
  induction d with
  | zero =>
    intro j hj
    have : j = 16 := by omega
    subst this
    exact pk_le 16 16 (fun _ => K) (fun z => absurd z (by omega))
  | succ d ih =>
    intro j hj
    have e1 : upd (tf_zr j ym) (nI j).toNatClampNeg 0 = tf_zr (j + 1) ym := by rw [nI_clamp (by omega), tf_zrs]
    exact pk_le 16 j (fun z => absurd z (by omega)) (fun _ => And.intro (vp_in_nI (by omega) (by decide)) (nm_r e1 (nm_r (nI_1 j) (ih (j + 1) (by omega)))))
theorem tf_yc11 {post : SY → Prop} (K : post (yn, yp, ys, yo, ya, yb, yc, tf_zr 8 yr, tf_zr 16 ym)) : ∀ d j : Nat, j + d = 8 → wY_clear_11 post yn yp ys (d + 1) (nI j) yo ya yb yc (tf_zr j yr) ym := by
  intro d
  induction d with
  | zero =>
    intro j hj
    have : j = 8 := by omega
    subst this
    refine pk_le 8 8 (fun _ => Exists.intro 17 ?_) (fun z => absurd z (by omega))
    have J := tf_yc32 K 16 0 rfl
    rw [tf_zr0] at J
    exact J
  | succ d ih =>
    intro j hj
    have e1 : upd (tf_zr j yr) (nI j).toNatClampNeg 0 = tf_zr (j + 1) yr := by rw [nI_clamp (by omega), tf_zrs]
    exact pk_le 8 j (fun z => absurd z (by omega)) (fun _ => And.intro (vp_in_nI (by omega) (by decide)) (nm_r e1 (nm_r (nI_1 j) (ih (j + 1) (by omega)))))
theorem tf_xclear {post : SX → Prop} (K : ∀ tl', (∀ i, i < 8 → tl' i = 0) → post (0, 0, 0, 0, hd, en, fp, re, oc, fx, fy, fz, tf_zr 8 rg, tf_zr 16 ce, ct, tl', tp, fg, ep, eo, ex, ls, lv, rs, rv, ad, aa, dn, rt, nw)) : wpX_clear post (ln, pc, st, fi, hd, en, fp, re, oc, fx, fy, fz, rg, ce, ct, tl, tp, fg, ep, eo, ex, ls, lv, rs, rv, ad, aa, dn, rt, nw) := by
  have J := tf_xc7 (pc := pc) (st := st) (fi := fi) (tl := tl) K 8 0 rfl
  rw [tf_zr0] at J
  exact Exists.intro 9 J
theorem tf_yclear {post : SY → Prop} (K : post (0, 0, 0, yo, ya, yb, yc, tf_zr 8 yr, tf_zr 16 ym)) : wpY_clear post (yn, yp, ys, yo, ya, yb, yc, yr, ym) := by
  have J := tf_yc11 K 8 0 rfl
  rw [tf_zr0] at J
  exact Exists.intro 9 J
end
theorem i_vc_clear {k : Nat} {u : SX} {v : SY} (I : i_Rel k u v) (hk : k + 5 ≤ 2560) : wpX_clear (fun u' => wpY_clear (fun v' => i_Rel (k + 5) u' v') v) u := by
  refine tf_el (P := fun u v => wpX_clear (fun u' => wpY_clear (fun v' => i_Rel (k + 5) u' v') v) u) ?_ I
  intro oc fx fy fz rg ce ct tl tp fg ep eo ex ls lv rs rv ad aa dn rt nw yo ya yb yc st fi en fp re L p h hp hh W Q T
  refine tf_xclear (fun tl' ht => tf_yclear ?_)
  exact tf_mk (L := 0) (p := 0) (st := 0) (Nat.zero_le _) hh ⟨Nat.zero_le _, fun i hi => absurd hi (by omega)⟩ (fun i hi => absurd hi (by omega)) (tf_TR0 T ht)
end
