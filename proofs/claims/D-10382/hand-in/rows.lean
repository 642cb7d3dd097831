section
/-! 01: pure pictures: bits of five servers, a block's sum, pointers and their holders -/
def cc_b (b : Bool) : Int32 := if b = true then 1 else 0
theorem cc_bo {x : Int32} {A B : Prop} (b : Bool) (f : b = false → A) (g : b = true → B) (hx : x = cc_b b) : (x = 0 → A) ∧ (¬ x = 0 → B) := by
  subst hx
  cases b
  · exact ⟨fun _ => f rfl, fun z => absurd (by decide) z⟩
  · exact ⟨fun z => absurd z (by decide), fun _ => g rfl⟩
theorem cc_bb {x : Int32} {A B : Prop} (b : Bool) (f : b = true → A) (g : b = false → B) (hx : x = cc_b b) : (x = 1 → A) ∧ (¬ x = 1 → B) := by
  subst hx
  cases b
  · exact ⟨fun z => absurd z (by decide), fun _ => g rfl⟩
  · exact ⟨fun _ => f rfl, fun z => absurd (by decide) z⟩
theorem cc_bn (b : Bool) : cc_b b = nI b.toNat := by cases b <;> decide
theorem cc_i4 (s f : Nat) : nI s * 4 + nI f = nI (s * 4 + f) := by
  rw [show (4 : Int32) = nI 4 from rfl, pk_mul, nI_add]
theorem cc_i6 (b c : Nat) : nI b * 6 + nI c = nI (b * 6 + c) := by
  rw [show (6 : Int32) = nI 6 from rfl, pk_mul, nI_add]
theorem cc_j4 (s : Nat) : nI s * 4 = nI (s * 4) := by
  rw [show (4 : Int32) = nI 4 from rfl, pk_mul]
theorem cc_j6 (s : Nat) : nI s * 6 = nI (s * 6) := by
  rw [show (6 : Int32) = nI 6 from rfl, pk_mul]
theorem cc_cl {n : Nat} (h : n < 1000) : (nI n).toNatClampNeg = n := nI_clamp (by omega)
theorem cc_in {n N : Nat} (h : n < N) (hN : N < 2 ^ 31 := by omega) : vp_in (nI n) N := vp_in_nI h hN
theorem cc_neg : (-1 : Int32) < 0 := by decide
/-! masks of five bits -/
def cc_m5 (a b c d e : Bool) : Nat := a.toNat + 2 * b.toNat + 4 * c.toNat + 8 * d.toNat + 16 * e.toNat
def cc_sel (a b c d e : Bool) (i : Nat) : Bool := if i = 0 then a else if i = 1 then b else if i = 2 then c else if i = 3 then d else e
def cc_mk (g : Nat → Bool) : Nat := cc_m5 (g 0) (g 1) (g 2) (g 3) (g 4)
def cc_cn (g : Nat → Bool) : Nat → Nat
  | 0 => 0
  | n + 1 => cc_cn g n + (g n).toNat
theorem cc_5 {P : Nat → Prop} (h0 : P 0) (h1 : P 1) (h2 : P 2) (h3 : P 3) (h4 : P 4) {i : Nat} (hi : i < 5) : P i := by
  rcases (by omega : i = 0 ∨ i = 1 ∨ i = 2 ∨ i = 3 ∨ i = 4) with e | e | e | e | e <;> subst e <;> assumption
theorem cc_m5or : ∀ (i : Fin 5) (a b c d e : Bool), nI (cc_m5 a b c d e) ||| ((1 : Int32) <<< (nI i.val &&& 31)) = nI (cc_m5 (a || decide (i.val = 0)) (b || decide (i.val = 1)) (c || decide (i.val = 2)) (d || decide (i.val = 3)) (e || decide (i.val = 4))) := by decide +kernel
theorem cc_m5an : ∀ (i : Fin 5) (a b c d e : Bool), nI (cc_m5 a b c d e) &&& (((1 : Int32) <<< (nI i.val &&& 31)) ^^^ (-1)) = nI (cc_m5 (a && !decide (i.val = 0)) (b && !decide (i.val = 1)) (c && !decide (i.val = 2)) (d && !decide (i.val = 3)) (e && !decide (i.val = 4))) := by decide +kernel
theorem cc_m5bit : ∀ (i : Fin 5) (a b c d e : Bool), (nI (cc_m5 a b c d e) >>> (nI i.val &&& 31)) &&& 1 = cc_b (cc_sel a b c d e i.val) := by decide +kernel
theorem cc_m5and : ∀ a b c d e a' b' c' d' e' : Bool, nI (cc_m5 a b c d e) &&& nI (cc_m5 a' b' c' d' e') = nI (cc_m5 (a && a') (b && b') (c && c') (d && d') (e && e')) := by decide +kernel
theorem cc_m5dif : ∀ a b c d e a' b' c' d' e' : Bool, nI (cc_m5 a b c d e) &&& (nI (cc_m5 a' b' c' d' e') ^^^ (-1)) = nI (cc_m5 (a && !a') (b && !b') (c && !c') (d && !d') (e && !e')) := by decide +kernel
theorem cc_selg (g : Nat → Bool) {i : Nat} (hi : i < 5) : cc_sel (g 0) (g 1) (g 2) (g 3) (g 4) i = g i :=
  cc_5 (P := fun i => cc_sel (g 0) (g 1) (g 2) (g 3) (g 4) i = g i) rfl rfl rfl rfl rfl hi
theorem cc_or (g : Nat → Bool) {i : Nat} (hi : i < 5) : nI (cc_mk g) ||| ((1 : Int32) <<< (nI i &&& 31)) = nI (cc_mk (fun s => g s || decide (i = s))) := cc_m5or ⟨i, hi⟩ _ _ _ _ _
theorem cc_andn (g : Nat → Bool) {i : Nat} (hi : i < 5) : nI (cc_mk g) &&& (((1 : Int32) <<< (nI i &&& 31)) ^^^ (-1)) = nI (cc_mk (fun s => g s && !decide (i = s))) := cc_m5an ⟨i, hi⟩ _ _ _ _ _
theorem cc_bit (g : Nat → Bool) {i : Nat} (hi : i < 5) : (nI (cc_mk g) >>> (nI i &&& 31)) &&& 1 = cc_b (g i) := by
  rw [← cc_selg g hi]
  exact cc_m5bit ⟨i, hi⟩ _ _ _ _ _
theorem cc_and (g h : Nat → Bool) : nI (cc_mk g) &&& nI (cc_mk h) = nI (cc_mk (fun s => g s && h s)) := cc_m5and _ _ _ _ _ _ _ _ _ _
theorem cc_dif (g h : Nat → Bool) : nI (cc_mk g) &&& (nI (cc_mk h) ^^^ (-1)) = nI (cc_mk (fun s => g s && !h s)) := cc_m5dif _ _ _ _ _ _ _ _ _ _
theorem cc_mkc {g h : Nat → Bool} (e : ∀ s, s < 5 → g s = h s) : cc_mk g = cc_mk h := by
  unfold cc_mk
  rw [e 0 (by omega), e 1 (by omega), e 2 (by omega), e 3 (by omega), e 4 (by omega)]
theorem cc_m5inj : ∀ a b c d e a' b' c' d' e' : Bool, cc_m5 a b c d e = cc_m5 a' b' c' d' e' → a = a' ∧ b = b' ∧ c = c' ∧ d = d' ∧ e = e' := by decide +kernel
theorem cc_m5lt : ∀ a b c d e : Bool, cc_m5 a b c d e < 32 := by decide +kernel
theorem cc_mklt (g : Nat → Bool) : cc_mk g < 32 := cc_m5lt _ _ _ _ _
theorem cc_mkinj {g h : Nat → Bool} (e : cc_mk g = cc_mk h) : ∀ s, s < 5 → g s = h s := by
  obtain ⟨h0, h1, h2, h3, h4⟩ := cc_m5inj _ _ _ _ _ _ _ _ _ _ e
  exact fun s hs => cc_5 (P := fun s => g s = h s) h0 h1 h2 h3 h4 hs
theorem cc_mk0 : cc_mk (fun _ => false) = 0 := by decide
theorem cc_cnc {g h : Nat → Bool} : ∀ n, (∀ s, s < n → g s = h s) → cc_cn g n = cc_cn h n
  | 0, _ => rfl
  | n + 1, e => by
    show cc_cn g n + (g n).toNat = cc_cn h n + (h n).toNat
    rw [cc_cnc n (fun s hs => e s (by omega)), e n (by omega)]
theorem cc_cnle (g : Nat → Bool) : ∀ n, cc_cn g n ≤ n
  | 0 => Nat.le_refl 0
  | n + 1 => by
    have h := cc_cnle g n
    have h2 : (g n).toNat ≤ 1 := by cases g n <;> decide
    show cc_cn g n + (g n).toNat ≤ n + 1
    omega
theorem cc_cnmono {g h : Nat → Bool} : ∀ n, (∀ s, s < n → g s = true → h s = true) → cc_cn g n ≤ cc_cn h n
  | 0, _ => Nat.le_refl 0
  | n + 1, e => by
    have h1 := cc_cnmono n (fun s hs => e s (by omega))
    have h2 := e n (by omega)
    show cc_cn g n + (g n).toNat ≤ cc_cn h n + (h n).toNat
    cases hg : g n
    · show cc_cn g n + 0 ≤ _
      omega
    · rw [h2 hg]
      omega
theorem cc_cn0 {g : Nat → Bool} : ∀ n, (∀ s, s < n → g s = false) → cc_cn g n = 0
  | 0, _ => rfl
  | n + 1, e => by
    show cc_cn g n + (g n).toNat = 0
    rw [cc_cn0 n (fun s hs => e s (by omega)), e n (by omega)]
    rfl
theorem cc_cnz {g : Nat → Bool} : ∀ n, cc_cn g n = 0 → ∀ s, s < n → g s = false
  | 0, _, s, hs => absurd hs (by omega)
  | n + 1, e, s, hs => by
    have e' : cc_cn g n + (g n).toNat = 0 := e
    rcases Nat.lt_or_ge s n with z | z
    · exact cc_cnz n (by omega) s z
    · have : s = n := by omega
      subst this
      cases hg : g s
      · rfl
      · rw [hg] at e'
        exact absurd e' (by simp)
/-- one more server -/
theorem cc_cnadd {g h : Nat → Bool} {t : Nat} (hg : g t = false) (hh : h t = true) : ∀ n, (∀ s, s < n → s ≠ t → h s = g s) → cc_cn h n = cc_cn g n + if t < n then 1 else 0
  | 0, _ => rfl
  | n + 1, e => by
    have ih := cc_cnadd hg hh n (fun s hs => e s (by omega))
    show cc_cn h n + (h n).toNat = cc_cn g n + (g n).toNat + _
    rcases Nat.lt_trichotomy t n with z | z | z
    · rw [ih, e n (by omega) (by omega), if_pos z, if_pos (by omega)]
      omega
    · subst z
      rw [ih, hg, hh, if_neg (by omega), if_pos (by omega)]
      rfl
    · rw [ih, e n (by omega) (by omega), if_neg (by omega), if_neg (by omega)]
      omega
theorem cc_cnlt {g h : Nat → Bool} (e : ∀ s, s < 5 → g s = true → h s = true) {t : Nat} (ht : t < 5) (hg : g t = false) (hh : h t = true) : cc_cn g 5 < cc_cn h 5 := by
  have h1 := cc_cnadd (g := g) (h := fun s => g s || decide (t = s)) (t := t) hg (by simp) 5 (fun s _ hne => by simp [Ne.symm hne])
  rw [if_pos ht] at h1
  have h2 := cc_cnmono (g := fun s => g s || decide (t = s)) (h := h) 5 (fun s hs z => by
    rcases Bool.or_eq_true _ _ |>.mp z with z | z
    · exact e s hs z
    · have : t = s := of_decide_eq_true z
      rw [← this]
      exact hh)
  omega
/-! a block's sum -/
def cc_sm (c : Nat → Int32) (l : Int32) : Nat → Int32
  | 0 => 29 + l
  | n + 1 => cc_sm c l n * 16777619 + c n
abbrev cc_C : Type := (Nat → Int32) × Int32 × Int32
def cc_blk (a6 a7 a8 : Nat → Int32) (b : Nat) : cc_C := (fun c => if c < 6 then a6 (b * 6 + c) else 0, a7 b, a8 b)
theorem cc_blke {a6 a7 a8 a6' a7' a8' : Nat → Int32} {b b' : Nat} (h6 : ∀ c, c < 6 → a6' (b' * 6 + c) = a6 (b * 6 + c)) (h7 : a7' b' = a7 b) (h8 : a8' b' = a8 b) : cc_blk a6' a7' a8' b' = cc_blk a6 a7 a8 b := by
  unfold cc_blk
  rw [h7, h8]
  refine congrArg (fun z => (z, a7 b, a8 b)) (funext fun c => ?_)
  by_cases hc : c < 6
  · rw [if_pos hc, if_pos hc, h6 c hc]
  · rw [if_neg hc, if_neg hc]
theorem cc_smc {c c' : Nat → Int32} {l : Int32} : ∀ n, (∀ i, i < n → c i = c' i) → cc_sm c l n = cc_sm c' l n
  | 0, _ => rfl
  | n + 1, e => by
    show cc_sm c l n * 16777619 + c n = cc_sm c' l n * 16777619 + c' n
    rw [cc_smc n (fun i hi => e i (by omega)), e n (by omega)]
/-- a change of the first cell by its lowest bit changes the sum -/
theorem cc_dmg (c c' : Nat → Int32) (l : Int32) (h0 : c' 0 = c 0 ^^^ 1) (h1 : ∀ i, 0 < i → i < 6 → c' i = c i) : cc_sm c' l 6 ≠ cc_sm c l 6 := by
  intro e
  have e1 : c' 1 = c 1 := h1 1 (by omega) (by omega)
  have e2 : c' 2 = c 2 := h1 2 (by omega) (by omega)
  have e3 : c' 3 = c 3 := h1 3 (by omega) (by omega)
  have e4 : c' 4 = c 4 := h1 4 (by omega) (by omega)
  have e5 : c' 5 = c 5 := h1 5 (by omega) (by omega)
  simp only [cc_sm] at e
  rw [h0, e1, e2, e3, e4, e5] at e
  have inj : ∀ x y z : Int32, x * 16777619 + z = y * 16777619 + z → x = y := by
    intro x y z hxy
    have h2 : x * 16777619 = y * 16777619 := by grind
    have h3 : (x * 16777619) * 899433627 = (y * 16777619) * 899433627 := by rw [h2]
    have h4 : ∀ w : Int32, (w * 16777619) * 899433627 = w := by
      intro w
      have : (w * 16777619) * 899433627 = w * ((16777619 : Int32) * 899433627) := by grind
      rw [this, show ((16777619 : Int32) * 899433627) = 1 by decide]
      grind
    rw [h4, h4] at h3
    exact h3
  have g := inj _ _ _ (inj _ _ _ (inj _ _ _ (inj _ _ _ (inj _ _ _ e))))
  have g2 : c 0 ^^^ 1 = c 0 := by grind
  have g3 : (c 0 ^^^ 1) ^^^ c 0 = c 0 ^^^ c 0 := by rw [g2]
  have g4 : ((c 0).toBitVec ^^^ 1#32) ^^^ (c 0).toBitVec = (c 0).toBitVec ^^^ (c 0).toBitVec := congrArg Int32.toBitVec g3
  revert g4
  generalize (c 0).toBitVec = w
  intro g4
  rw [BitVec.xor_self, BitVec.xor_comm, ← BitVec.xor_assoc, BitVec.xor_self, BitVec.zero_xor] at g4
  exact absurd g4 (by decide)
/-! pointers of a server's four files to its four blocks (4: none), and how many hold a block -/
def cc_p (s q : Nat) : Int32 := if q < 4 then nI (s * 4 + q) else -1
def cc_cc (q : Nat → Nat) (j : Nat) : Nat := (if q 0 = j then 1 else 0) + (if q 1 = j then 1 else 0) + (if q 2 = j then 1 else 0) + (if q 3 = j then 1 else 0)
def cc_u1 {α : Type} (q : Nat → α) (f : Nat) (w : α) : Nat → α := fun x => if x = f then w else q x
def cc_st {α : Type} (D : Nat → Nat → α) (s f : Nat) (x : α) : Nat → Nat → α := fun s' f' => if s' = s ∧ f' = f then x else D s' f'
theorem cc_u1s {α : Type} {q : Nat → α} {f : Nat} {w : α} : cc_u1 q f w f = w := if_pos rfl
theorem cc_u1n {α : Type} {q : Nat → α} {f x : Nat} {w : α} (h : x ≠ f) : cc_u1 q f w x = q x := if_neg h
theorem cc_sts {α : Type} {D : Nat → Nat → α} {s f : Nat} {x : α} : cc_st D s f x s f = x := if_pos ⟨rfl, rfl⟩
theorem cc_stn {α : Type} {D : Nat → Nat → α} {s f s' f' : Nat} {x : α} (h : ¬ (s' = s ∧ f' = f)) : cc_st D s f x s' f' = D s' f' := if_neg h
theorem cc_stu {α : Type} {D : Nat → Nat → α} {s f : Nat} {x : α} : cc_st D s f x s = cc_u1 (D s) f x := by
  funext y
  unfold cc_st cc_u1
  by_cases h : y = f
  · rw [if_pos ⟨rfl, h⟩, if_pos h]
  · rw [if_neg (fun z => h z.2), if_neg h]
theorem cc_ccu (q : Nat → Nat) {f : Nat} (hf : f < 4) (w j : Nat) : cc_cc (cc_u1 q f w) j + (if q f = j then 1 else 0) = cc_cc q j + (if w = j then 1 else 0) := by
  unfold cc_cc
  rcases (by omega : f = 0 ∨ f = 1 ∨ f = 2 ∨ f = 3) with e | e | e | e <;> subst e
  · rw [cc_u1s, cc_u1n (by omega), cc_u1n (by omega), cc_u1n (by omega)]; omega
  · rw [cc_u1s, cc_u1n (by omega), cc_u1n (by omega), cc_u1n (by omega)]; omega
  · rw [cc_u1s, cc_u1n (by omega), cc_u1n (by omega), cc_u1n (by omega)]; omega
  · rw [cc_u1s, cc_u1n (by omega), cc_u1n (by omega), cc_u1n (by omega)]; omega
theorem cc_ifle (a b : Nat) : (if a = b then 1 else 0) ≤ 1 := by
  by_cases h : a = b
  · rw [if_pos h]
    exact Nat.le_refl 1
  · rw [if_neg h]
    exact Nat.zero_le 1
theorem cc_ccle (q : Nat → Nat) (j : Nat) : cc_cc q j ≤ 4 := by
  have r0 := cc_ifle (q 0) j
  have r1 := cc_ifle (q 1) j
  have r2 := cc_ifle (q 2) j
  have r3 := cc_ifle (q 3) j
  unfold cc_cc
  omega
theorem cc_cc0 {q : Nat → Nat} {j : Nat} (h : cc_cc q j = 0) {f : Nat} (hf : f < 4) : q f ≠ j := by
  intro e
  unfold cc_cc at h
  rcases (by omega : f = 0 ∨ f = 1 ∨ f = 2 ∨ f = 3) with z | z | z | z <;> subst z <;> rw [e] at h <;> simp at h
theorem cc_cc1 {q : Nat → Nat} {j f f' : Nat} (h : cc_cc q j ≤ 1) (hf : f < 4) (hf' : f' < 4) (hne : f' ≠ f) (e : q f = j) : q f' ≠ j := by
  intro e'
  have h1 := cc_ccu q hf 4 j
  rw [if_pos e] at h1
  by_cases hj : 4 = j
  · rw [if_pos hj] at h1
    have h2 := cc_ccu q hf 5 j
    rw [if_pos e, if_neg (by omega)] at h2
    have h3 : cc_cc (cc_u1 q f 5) j = 0 := by omega
    exact cc_cc0 h3 hf' (by rw [cc_u1n hne]; exact e')
  · rw [if_neg hj] at h1
    have h3 : cc_cc (cc_u1 q f 4) j = 0 := by omega
    exact cc_cc0 h3 hf' (by rw [cc_u1n hne]; exact e')
theorem cc_ccpos {q : Nat → Nat} {f : Nat} (hf : f < 4) : 1 ≤ cc_cc q (q f) := by
  unfold cc_cc
  rcases (by omega : f = 0 ∨ f = 1 ∨ f = 2 ∨ f = 3) with z | z | z | z <;> subst z <;> simp <;> omega
theorem cc_row (x : Nat) : (if x = 0 then 1 else 0) + (if x = 1 then 1 else 0) + (if x = 2 then 1 else 0) + (if x = 3 then 1 else 0) ≤ 1 := by
  by_cases h0 : x = 0
  · subst h0; decide
  · by_cases h1 : x = 1
    · subst h1; decide
    · by_cases h2 : x = 2
      · subst h2; decide
      · rw [if_neg h0, if_neg h1, if_neg h2]
        by_cases h3 : x = 3
        · rw [if_pos h3]; decide
        · rw [if_neg h3]; decide
theorem cc_row4 {x : Nat} (h : 4 ≤ x) : (if x = 0 then 1 else 0) + (if x = 1 then 1 else 0) + (if x = 2 then 1 else 0) + (if x = 3 then 1 else 0) = 0 := by
  rw [if_neg (by omega), if_neg (by omega), if_neg (by omega), if_neg (by omega)]
/-- four files, one of them without a block, or two on one block: a block is free -/
theorem cc_free1 {q : Nat → Nat} {f : Nat} (hf : f < 4) (h : q f = 4 ∨ 2 ≤ cc_cc q (q f)) : ∃ j, j < 4 ∧ cc_cc q j = 0 := by
  have r0 := cc_row (q 0)
  have r1 := cc_row (q 1)
  have r2 := cc_row (q 2)
  have r3 := cc_row (q 3)
  have h4 : cc_cc q 0 + cc_cc q 1 + cc_cc q 2 + cc_cc q 3 ≤ 4 := by
    unfold cc_cc
    omega
  have h3 : 4 ≤ q f → cc_cc q 0 + cc_cc q 1 + cc_cc q 2 + cc_cc q 3 ≤ 3 := by
    intro hq
    have r := cc_row4 hq
    unfold cc_cc
    rcases (by omega : f = 0 ∨ f = 1 ∨ f = 2 ∨ f = 3) with z | z | z | z <;> subst z <;> omega
  apply Classical.byContradiction
  intro hn
  have hp : ∀ j, j < 4 → 1 ≤ cc_cc q j := fun j hj => Nat.pos_of_ne_zero (fun e => hn ⟨j, hj, e⟩)
  have p0 := hp 0 (by omega)
  have p1 := hp 1 (by omega)
  have p2 := hp 2 (by omega)
  have p3 := hp 3 (by omega)
  by_cases hq : 4 ≤ q f
  · have := h3 hq
    omega
  · rcases h with h | h
    · omega
    · rcases (by omega : q f = 0 ∨ q f = 1 ∨ q f = 2 ∨ q f = 3) with z | z | z | z <;> rw [z] at h <;> omega
end
section
/-! 02: the relation of a state to its picture; the methods that read -/
def cc_H (k lv : Nat) (U E : Nat → Bool) (V : Nat → Nat) (W : Nat → Nat → Nat) (cp lw : Int32) (a1 a2 a3 a5 : Nat → Int32) : Prop :=
  cp = nI k ∧ lw = nI lv ∧ (1 ≤ k ∧ k ≤ 3 ∧ lv ≤ 1000) ∧ (∀ s, s < 5 → a1 s = cc_b (U s)) ∧ (∀ f, f < 4 → a2 f = cc_b (E f)) ∧ (∀ f, f < 4 → a3 f = nI (V f) ∧ V f ≤ lv) ∧ (∀ s f, s < 5 → f < 4 → a5 (s * 4 + f) = nI (W s f) ∧ W s f ≤ lv)
def cc_L (Q : Nat → Nat → Nat) (a4 a9 : Nat → Int32) : Prop :=
  (∀ s f, s < 5 → f < 4 → Q s f ≤ 4 ∧ a4 (s * 4 + f) = cc_p s (Q s f)) ∧ (∀ s j, s < 5 → j < 4 → a9 (s * 4 + j) = nI (cc_cc (Q s) j))
def cc_V (Q : Nat → Nat → Nat) (D : Nat → Nat → Option cc_C) (a6 a7 a8 : Nat → Int32) : Prop :=
  ∀ s f, s < 5 → f < 4 → D s f = if Q s f < 4 then some (cc_blk a6 a7 a8 (s * 4 + Q s f)) else none
def cc_K (D : Nat → Nat → Option cc_C) (a4 a6 a7 a8 a9 : Nat → Int32) : Prop := ∃ Q, cc_L Q a4 a9 ∧ cc_V Q D a6 a7 a8
def cc_R (k lv : Nat) (U E : Nat → Bool) (V : Nat → Nat) (W : Nat → Nat → Nat) (D : Nat → Nat → Option cc_C) (u : St1) : Prop := match u with
  | (cp, lw, a1, a2, a3, a4, a5, a6, a7, a8, a9) => cc_H k lv U E V W cp lw a1 a2 a3 a5 ∧ cc_K D a4 a6 a7 a8 a9
def cc_cur (E : Nat → Bool) (V : Nat → Nat) (W : Nat → Nat → Nat) (D : Nat → Nat → Option cc_C) (s f : Nat) : Bool := match D s f with
  | none => false
  | some r => E f && (decide (W s f = V f) && decide (cc_sm r.1 r.2.1 6 = r.2.2))
theorem cc_cur_n {E : Nat → Bool} {V : Nat → Nat} {W : Nat → Nat → Nat} {D : Nat → Nat → Option cc_C} {s f : Nat} (h : D s f = none) : cc_cur E V W D s f = false := by
  unfold cc_cur
  rw [h]
theorem cc_cur_s {E : Nat → Bool} {V : Nat → Nat} {W : Nat → Nat → Nat} {D : Nat → Nat → Option cc_C} {s f : Nat} {r : cc_C} (h : D s f = some r) : cc_cur E V W D s f = (E f && (decide (W s f = V f) && decide (cc_sm r.1 r.2.1 6 = r.2.2))) := by
  unfold cc_cur
  rw [h]
theorem cc_cur_some {E : Nat → Bool} {V : Nat → Nat} {W : Nat → Nat → Nat} {D : Nat → Nat → Option cc_C} {s f : Nat} (h : cc_cur E V W D s f = true) : ∃ r, D s f = some r ∧ E f = true ∧ W s f = V f ∧ cc_sm r.1 r.2.1 6 = r.2.2 := by
  cases hd : D s f with
  | none => rw [cc_cur_n hd] at h; exact absurd h (by decide)
  | some r =>
    rw [cc_cur_s hd, Bool.and_eq_true, Bool.and_eq_true] at h
    exact ⟨r, rfl, h.1, of_decide_eq_true h.2.1, of_decide_eq_true h.2.2⟩
theorem cc_stp0 {g c : Nat → Bool} {i : Nat} (hg : ∀ s, s < 5 → g s = (decide (s < i) && c s)) (e : c i = false) : ∀ s, s < 5 → g s = (decide (s < i + 1) && c s) := by
  intro s hs
  rw [hg s hs]
  by_cases z : s = i
  · rw [z, e, Bool.and_false, Bool.and_false]
  · rw [show decide (s < i) = decide (s < i + 1) from decide_eq_decide.mpr (by omega)]
theorem cc_stp1 {g c : Nat → Bool} {i : Nat} (hg : ∀ s, s < 5 → g s = (decide (s < i) && c s)) (e : c i = true) : ∀ s, s < 5 → (g s || decide (i = s)) = (decide (s < i + 1) && c s) := by
  intro s hs
  rw [hg s hs]
  by_cases z : s = i
  · rw [z, e]
    simp
  · rw [show decide (s < i) = decide (s < i + 1) from decide_eq_decide.mpr (by omega), decide_eq_false (show ¬ i = s from fun t => z t.symm), Bool.or_false]
theorem cc_stp5 {g c : Nat → Bool} (hg : ∀ s, s < 5 → g s = (decide (s < 5) && c s)) : cc_mk g = cc_mk c :=
  cc_mkc (fun s hs => by rw [hg s hs, decide_eq_true hs, Bool.true_and])
section
variable {cp lw : Int32} {a1 a2 a3 a4 a5 a6 a7 a8 a9 : Nat → Int32} {k lv : Nat} {U E : Nat → Bool} {V : Nat → Nat} {W : Nat → Nat → Nat} {D : Nat → Nat → Option cc_C} {u : St1} {s f : Nat} {post : Int32 → Prop}
theorem cc_Kp (h : cc_K D a4 a6 a7 a8 a9) (hs : s < 5) (hf : f < 4) : (D s f = none ∧ a4 (s * 4 + f) = -1) ∨ (∃ b, b < 20 ∧ a4 (s * 4 + f) = nI b ∧ D s f = some (cc_blk a6 a7 a8 b)) := by
  obtain ⟨Q, hL, hV⟩ := h
  have h1 := hL.1 s f hs hf
  have h2 := hV s f hs hf
  by_cases hq : Q s f < 4
  · rw [if_pos hq] at h2
    unfold cc_p at h1
    rw [if_pos hq] at h1
    exact Or.inr ⟨s * 4 + Q s f, by omega, h1.2, h2⟩
  · rw [if_neg hq] at h2
    unfold cc_p at h1
    rw [if_neg hq] at h1
    exact Or.inl ⟨h2, h1.2⟩
theorem cc_wbs (hs : s < 5) (hp : post 0) : wpX_badServer post () (nI s) :=
  pk_lt s 0 (fun z => absurd z (by omega)) (fun _ => pk_lt s 5 (fun _ => hp) (fun z => absurd z (by omega)))
theorem cc_wbf (hf : f < 4) (hp : post 0) : wpX_badFile post () (nI f) :=
  pk_lt f 0 (fun z => absurd z (by omega)) (fun _ => pk_lt f 4 (fun _ => hp) (fun z => absurd z (by omega)))
theorem cc_wsum {b : Nat} (hb : b < 20) (hp : post (cc_sm (cc_blk a6 a7 a8 b).1 (a7 b) 6)) : wpX_sumOf post (cp, lw, a1, a2, a3, a4, a5, a6, a7, a8, a9) (nI b) := by
  unfold wpX_sumOf
  refine ⟨pk_in b 20 hb, nm_e ?_⟩
  rw [cc_cl (show b < 1000 by omega)]
  refine pk_loop (fun n i x => wX_sumOf_12 post (nI b) cp lw a1 a2 a3 a4 a5 a6 a7 a8 a9 n x (nI i)) (fun i x => x = cc_sm (cc_blk a6 a7 a8 b).1 (a7 b) i) 6 0 _ (by omega) rfl
    (fun n x h => pk_le 6 6 (fun _ => by rw [h]; exact hp) (fun z => absurd z (by omega)))
    (fun n i x hi h hw => pk_le 6 i (fun z => absurd z (by omega)) (fun _ => ⟨pk_in (b * 6 + i) 120 (by omega) (cc_i6 b i), nm_r (e' := cc_sm (cc_blk a6 a7 a8 b).1 (a7 b) (i + 1)) ?_ (nm_r (nI_1 i) (hw _ rfl))⟩))
  rw [cc_i6, cc_cl (show b * 6 + i < 1000 by omega), h]
  show _ = cc_sm (cc_blk a6 a7 a8 b).1 (a7 b) i * 16777619 + (if i < 6 then a6 (b * 6 + i) else 0)
  rw [if_pos hi]
theorem cc_wcur (h : cc_R k lv U E V W D u) (hs : s < 5) (hf : f < 4) (hp : post (cc_b (cc_cur E V W D s f))) : wpX_current post u (nI s) (nI f) := by
  obtain ⟨cp, lw, a1, a2, a3, a4, a5, a6, a7, a8, a9⟩ := u
  obtain ⟨⟨_, _, ⟨_, _, hl⟩, h1, h2, h3, h5⟩, hK⟩ := h
  obtain ⟨h3a, h3b⟩ := h3 f hf
  obtain ⟨h5a, h5b⟩ := h5 s f hs hf
  unfold wpX_current
  rw [cc_i4, cc_cl (show s * 4 + f < 1000 by omega), cc_cl (show f < 1000 by omega)]
  refine ⟨cc_in (by omega), ?_⟩
  rcases cc_Kp hK hs hf with ⟨hd, ha⟩ | ⟨b, hb, ha, hd⟩
  · rw [cc_cur_n hd] at hp
    exact nm_r ha (br_t cc_neg hp)
  · rw [cc_cur_s hd] at hp
    refine nm_r ha (br_f (nI_pos (by omega)) ⟨pk_in f 4 hf, cc_bo (E f) (fun e => ?_) (fun e => ⟨cc_in (by omega), pk_in f 4 hf, ?_⟩) (h2 f hf)⟩)
    · rw [e, Bool.false_and] at hp
      exact hp
    · rw [e, Bool.true_and] at hp
      refine pk_eq (W s f) (V f) (fun e2 => ?_) (fun e2 => ?_) h5a h3a (by omega) (by omega)
      · rw [decide_eq_true e2, Bool.true_and] at hp
        refine cc_wsum hb ⟨pk_in b 20 hb, br_c (fun e3 => ?_) (fun e3 => ?_)⟩
        · rw [cc_cl (show b < 1000 by omega)] at e3
          rw [decide_eq_true (show cc_sm (cc_blk a6 a7 a8 b).1 (cc_blk a6 a7 a8 b).2.1 6 = (cc_blk a6 a7 a8 b).2.2 from e3)] at hp
          exact hp
        · rw [cc_cl (show b < 1000 by omega)] at e3
          rw [decide_eq_false (show ¬ cc_sm (cc_blk a6 a7 a8 b).1 (cc_blk a6 a7 a8 b).2.1 6 = (cc_blk a6 a7 a8 b).2.2 from e3)] at hp
          exact hp
      · rw [decide_eq_false e2, Bool.false_and] at hp
        exact hp
theorem cc_wset (h : cc_R k lv U E V W D u) (hf : f < 4) (hp : post (nI (cc_mk (fun s => cc_cur E V W D s f)))) : wpX_currentSet post u (nI f) := by
  obtain ⟨cp, lw, a1, a2, a3, a4, a5, a6, a7, a8, a9⟩ := u
  unfold wpX_currentSet
  refine pk_loop (fun n i x => wX_currentSet_4 post (nI f) cp lw a1 a2 a3 a4 a5 a6 a7 a8 a9 n x (nI i)) (fun i x => ∃ g, x = nI (cc_mk g) ∧ ∀ s, s < 5 → g s = (decide (s < i) && cc_cur E V W D s f)) 5 0 0 (by omega) ⟨fun _ => false, by decide, fun s _ => by simp⟩
    (fun n x hI => ?_) (fun n i x hi hI hw => ?_)
  · obtain ⟨g, hx, hg⟩ := hI
    exact pk_le 5 5 (fun _ => by rw [hx, cc_stp5 hg]; exact hp) (fun z => absurd z (by omega))
  · obtain ⟨g, hx, hg⟩ := hI
    exact pk_le 5 i (fun z => absurd z (by omega)) (fun _ => cc_wcur h hi hf (cc_bo (cc_cur E V W D i f) (fun e => nm_r (nI_1 i) (hw _ ⟨g, hx, cc_stp0 hg e⟩)) (fun e => nm_r (by rw [hx]; exact cc_or g hi) (nm_r (nI_1 i) (hw _ ⟨_, rfl, cc_stp1 hg e⟩))) rfl))
theorem cc_wups (h : cc_R k lv U E V W D u) (hp : post (nI (cc_mk U))) : wpX_upSet post u := by
  obtain ⟨cp, lw, a1, a2, a3, a4, a5, a6, a7, a8, a9⟩ := u
  obtain ⟨⟨_, _, _, h1, _⟩, _⟩ := h
  unfold wpX_upSet
  refine pk_loop (fun n i x => wX_upSet_4 post cp lw a1 a2 a3 a4 a5 a6 a7 a8 a9 n x (nI i)) (fun i x => ∃ g, x = nI (cc_mk g) ∧ ∀ s, s < 5 → g s = (decide (s < i) && U s)) 5 0 0 (by omega) ⟨fun _ => false, by decide, fun s _ => by simp⟩
    (fun n x hI => ?_) (fun n i x hi hI hw => ?_)
  · obtain ⟨g, hx, hg⟩ := hI
    exact pk_le 5 5 (fun _ => by rw [hx, cc_stp5 hg]; exact hp) (fun z => absurd z (by omega))
  · obtain ⟨g, hx, hg⟩ := hI
    exact pk_le 5 i (fun z => absurd z (by omega)) (fun _ => ⟨pk_in i 5 hi, cc_bo (U i) (fun e => nm_r (nI_1 i) (hw _ ⟨g, hx, cc_stp0 hg e⟩)) (fun e => nm_r (by rw [hx]; exact cc_or g hi) (nm_r (nI_1 i) (hw _ ⟨_, rfl, cc_stp1 hg e⟩))) (by rw [cc_cl (show i < 1000 by omega)]; exact h1 i hi)⟩)
theorem cc_wsrc (h : cc_R k lv U E V W D u) (hf : f < 4) (hp : ∀ s, s < 5 → U s = true → cc_cur E V W D s f = true → post (nI s)) (hn : (∀ s, s < 5 → (U s && cc_cur E V W D s f) = false) → post (-1)) : wpX_source post u (nI f) := by
  obtain ⟨cp, lw, a1, a2, a3, a4, a5, a6, a7, a8, a9⟩ := u
  have hh := h
  obtain ⟨⟨_, _, _, h1, _⟩, _⟩ := hh
  unfold wpX_source
  refine pk_loop (σ := Unit) (fun n i _ => wX_source_2 post (nI f) cp lw a1 a2 a3 a4 a5 a6 a7 a8 a9 n (nI i)) (fun i _ => ∀ s, s < i → (U s && cc_cur E V W D s f) = false) 5 0 () (by omega) (fun s hs => absurd hs (by omega))
    (fun n _ hI => pk_le 5 5 (fun _ => hn hI) (fun z => absurd z (by omega))) (fun n i _ hi hI hw => ?_)
  refine pk_le 5 i (fun z => absurd z (by omega)) (fun _ => ⟨pk_in i 5 hi, cc_bo (U i) (fun e => nm_r (nI_1 i) (hw () ?_)) (fun e => cc_wcur h hi hf (cc_bo (cc_cur E V W D i f) (fun e2 => nm_r (nI_1 i) (hw () ?_)) (fun e2 => hp i hi e e2) rfl)) (by rw [cc_cl (show i < 1000 by omega)]; exact h1 i hi)⟩)
  · exact lt_s hI (by rw [e, Bool.false_and])
  · exact lt_s hI (by rw [e2, Bool.and_false])
theorem cc_wload (h : cc_R k lv U E V W D u) (hs : s < 5) (hp : ∀ n, n ≤ 4 → post (nI n)) : wpX_loadOf post u (nI s) := by
  obtain ⟨cp, lw, a1, a2, a3, a4, a5, a6, a7, a8, a9⟩ := u
  unfold wpX_loadOf
  refine pk_loop (fun n i x => wX_loadOf_4 post (nI s) cp lw a1 a2 a3 a4 a5 a6 a7 a8 a9 n x (nI i)) (fun i x => ∃ m, m ≤ i ∧ x = nI m) 4 0 0 (by omega) ⟨0, by omega, by decide⟩
    (fun n x hI => ?_) (fun n i x hi hI hw => ?_)
  · obtain ⟨m, hm, hx⟩ := hI
    exact pk_le 4 4 (fun _ => by rw [hx]; exact hp m hm) (fun z => absurd z (by omega))
  · obtain ⟨m, hm, hx⟩ := hI
    exact pk_le 4 i (fun z => absurd z (by omega)) (fun _ => cc_wcur h hs hi (cc_bo (cc_cur E V W D s i) (fun e => nm_r (nI_1 i) (hw _ ⟨m, by omega, hx⟩)) (fun e => nm_r (by rw [hx]; exact nI_1 m) (nm_r (nI_1 i) (hw _ ⟨m + 1, by omega, rfl⟩))) rfl))
theorem cc_wfirst {g : Nat → Bool} (h : cc_R k lv U E V W D u) (hp : ∀ s, s < 5 → g s = true → post (nI s)) (hn : (∀ s, s < 5 → g s = false) → post (-1)) : wpX_firstOf post u (nI (cc_mk g)) := by
  obtain ⟨cp, lw, a1, a2, a3, a4, a5, a6, a7, a8, a9⟩ := u
  unfold wpX_firstOf
  refine pk_loop (fun n i (x : Int32 × Int32) => wX_firstOf_7 post (nI (cc_mk g)) cp lw a1 a2 a3 a4 a5 a6 a7 a8 a9 n x.1 x.2 (nI i)) (fun i x => (x.1 = -1 ∧ ∀ s, s < i → g s = false) ∨ ∃ t, t < i ∧ g t = true ∧ x.1 = nI t) 5 0 (-1, 0) (by omega) (Or.inl ⟨rfl, fun s hs => absurd hs (by omega)⟩)
    (fun n x hI => ?_) (fun n i x hi hI hw => ?_)
  · refine pk_le 5 5 (fun _ => ?_) (fun z => absurd z (by omega))
    rcases hI with ⟨hx, hI⟩ | ⟨t, ht, hgt, hx⟩
    · rw [hx]
      exact hn hI
    · rw [hx]
      exact hp t ht hgt
  · obtain ⟨x1, x2⟩ := x
    refine pk_le 5 i (fun z => absurd z (by omega)) (fun _ => cc_bb (g i) (fun e => cc_wload h hi (fun m hm => ?_)) (fun e => nm_r (nI_1 i) (hw (x1, x2) ?_)) (cc_bit g hi))
    · refine br_c (fun _ => nm_r (nI_1 i) (hw (nI i, nI m) (Or.inr ⟨i, by omega, e, rfl⟩))) (fun z => br_c (fun _ => nm_r (nI_1 i) (hw (x1, x2) ?_)) (fun _ => nm_r (nI_1 i) (hw (nI i, nI m) (Or.inr ⟨i, by omega, e, rfl⟩))))
      rcases hI with ⟨hx, hI⟩ | ⟨t, ht, hgt, hx⟩
      · exact absurd (show x1 < 0 by rw [show x1 = -1 from hx]; exact cc_neg) z
      · exact Or.inr ⟨t, by omega, hgt, hx⟩
    · rcases hI with ⟨hx, hI⟩ | ⟨t, ht, hgt, hx⟩
      · exact Or.inl ⟨hx, lt_s hI e⟩
      · exact Or.inr ⟨t, by omega, hgt, hx⟩
theorem cc_wbits {g : Nat → Bool} (hp : post (nI (cc_cn g 5))) : wpX_bits post () (nI (cc_mk g)) := by
  unfold wpX_bits
  exact pk_loop (fun n i x => wX_bits_4 post (nI (cc_mk g)) n x (nI i)) (fun i x => x = nI (cc_cn g i)) 5 0 0 (by omega) rfl
    (fun n x hI => pk_le 5 5 (fun _ => by rw [hI]; exact hp) (fun z => absurd z (by omega)))
    (fun n i x hi hI hw => pk_le 5 i (fun z => absurd z (by omega)) (fun _ => nm_r (e' := nI (cc_cn g (i + 1))) (by rw [cc_bit g hi, hI, cc_bn, nI_add]; rfl) (nm_r (nI_1 i) (hw _ rfl))))
theorem cc_wones {g : Nat → Bool} (hp : post (nI (cc_cn g 5))) : wpL_ones post () (nI (cc_mk g)) := by
  unfold wpL_ones
  exact pk_loop (fun n i x => wL_ones_4 post (nI (cc_mk g)) n x (nI i)) (fun i x => x = nI (cc_cn g i)) 5 0 0 (by omega) rfl
    (fun n x hI => pk_le 5 5 (fun _ => by rw [hI]; exact hp) (fun z => absurd z (by omega)))
    (fun n i x hi hI hw => pk_le 5 i (fun z => absurd z (by omega)) (fun _ => nm_r (e' := nI (cc_cn g (i + 1))) (by rw [cc_bit g hi, hI, cc_bn, nI_add]; rfl) (nm_r (nI_1 i) (hw _ rfl))))
theorem cc_wonesA {y : Int32} (hp : ∀ r, post r) : wpL_ones post () y := by
  unfold wpL_ones
  exact pk_loop (fun n i x => wL_ones_4 post y n x (nI i)) (fun _ _ => True) 5 0 0 (by omega) trivial
    (fun n x hI => pk_le 5 5 (fun _ => hp x) (fun z => absurd z (by omega)))
    (fun n i x hi hI hw => pk_le 5 i (fun z => absurd z (by omega)) (fun _ => nm_e (nm_r (nI_1 i) (hw _ trivial))))
theorem cc_wref (h : cc_R k lv U E V W D u) (hf : f < 4) (h3 : E f = false → post (-3)) (h0 : E f = true → ∀ s, s < 5 → U s = true → cc_cur E V W D s f = true → post 0) (h5 : E f = true → (∀ s, s < 5 → (U s && cc_cur E V W D s f) = false) → post (-5)) : wpX_refusal post u (nI f) := by
  obtain ⟨cp, lw, a1, a2, a3, a4, a5, a6, a7, a8, a9⟩ := u
  have hh := h
  obtain ⟨⟨_, _, _, _, h2, _⟩, _⟩ := hh
  unfold wpX_refusal
  exact cc_wbf hf (br_t rfl ⟨pk_in f 4 hf, cc_bo (E f) h3 (fun e => cc_wsrc h hf (fun s hs e1 e2 => br_t (nI_pos' (by omega)) (h0 e s hs e1 e2)) (fun hn => br_f (by decide) (h5 e hn))) (by rw [cc_cl (show f < 1000 by omega)]; exact h2 f hf)⟩)
theorem cc_wlen (h : cc_R k lv U E V W D u) (hf : f < 4) (h3 : E f = false → post (-3)) (h0 : E f = true → ∀ s r, s < 5 → U s = true → cc_cur E V W D s f = true → D s f = some r → post r.2.1) (h5 : E f = true → (∀ s, s < 5 → (U s && cc_cur E V W D s f) = false) → post (-5)) : wpX_length post u (nI f) := by
  obtain ⟨cp, lw, a1, a2, a3, a4, a5, a6, a7, a8, a9⟩ := u
  have hh := h
  obtain ⟨_, hK⟩ := hh
  unfold wpX_length
  refine cc_wref h hf (fun e => br_f (by decide) (h3 e)) (fun e t ht e1 e2 => br_t rfl (cc_wsrc h hf (fun s hs e3 e4 => ?_) (fun hn => ?_))) (fun e hn => br_f (by decide) (h5 e hn))
  · obtain ⟨r, hr, _⟩ := cc_cur_some e4
    rcases cc_Kp hK hs hf with ⟨hd, ha⟩ | ⟨b, hb, ha, hd⟩
    · rw [hd] at hr
      exact absurd hr (by simp)
    · rw [cc_i4, cc_cl (show s * 4 + f < 1000 by omega), ha]
      refine ⟨cc_in (by omega), pk_in b 20 hb, ?_⟩
      rw [cc_cl (show b < 1000 by omega)]
      exact h0 e s _ hs e3 e4 hd
  · have := hn t ht
    rw [e1, e2] at this
    exact absurd this (by decide)
theorem cc_wread {c : Nat} (h : cc_R k lv U E V W D u) (hf : f < 4) (hc : c < 6) (h3 : E f = false → post (-3)) (h0 : E f = true → ∀ s r, s < 5 → U s = true → cc_cur E V W D s f = true → D s f = some r → post (r.1 c)) (h5 : E f = true → (∀ s, s < 5 → (U s && cc_cur E V W D s f) = false) → post (-5)) : wpX_read post u (nI f) (nI c) := by
  obtain ⟨cp, lw, a1, a2, a3, a4, a5, a6, a7, a8, a9⟩ := u
  have hh := h
  obtain ⟨_, hK⟩ := hh
  unfold wpX_read
  refine cc_wref h hf (fun e => br_f (by decide) (h3 e)) (fun e t ht e1 e2 => br_t rfl (pk_lt c 0 (fun z => absurd z (by omega)) (fun _ => pk_lt c 6 (fun _ => cc_wsrc h hf (fun s hs e3 e4 => ?_) (fun hn => ?_)) (fun z => absurd z (by omega))))) (fun e hn => br_f (by decide) (h5 e hn))
  · obtain ⟨r, hr, _⟩ := cc_cur_some e4
    rcases cc_Kp hK hs hf with ⟨hd, ha⟩ | ⟨b, hb, ha, hd⟩
    · rw [hd] at hr
      exact absurd hr (by simp)
    · rw [cc_i4, cc_cl (show s * 4 + f < 1000 by omega), ha, cc_i6]
      refine ⟨cc_in (by omega), cc_in (by omega), ?_⟩
      rw [cc_cl (show b * 6 + c < 1000 by omega)]
      have := h0 e s _ hs e3 e4 hd
      rw [show (cc_blk a6 a7 a8 b).1 c = a6 (b * 6 + c) from if_pos hc] at this
      exact this
  · have := hn t ht
    rw [e1, e2] at this
    exact absurd this (by decide)
theorem cc_wrep (h : cc_R k lv U E V W D u) (hf : f < 4) (h3 : E f = false → post (-3)) (h0 : E f = true → post (nI (cc_mk (fun s => cc_cur E V W D s f)))) : wpX_replicas post u (nI f) := by
  obtain ⟨cp, lw, a1, a2, a3, a4, a5, a6, a7, a8, a9⟩ := u
  have hh := h
  obtain ⟨⟨_, _, _, _, h2, _⟩, _⟩ := hh
  unfold wpX_replicas
  exact cc_wbf hf (br_t rfl ⟨pk_in f 4 hf, cc_bo (E f) h3 (fun e => cc_wset h hf (h0 e)) (by rw [cc_cl (show f < 1000 by omega)]; exact h2 f hf)⟩)
end
end
section
/-! 03: blocks of a disk: let go, a free one, a new one, a copy, one's own -/
def cc_own (s f b : Nat) (u : St1) : Prop := match u with
  | (_, _, _, _, _, a4, _, _, _, _, _) => b < 20 ∧ a4 (s * 4 + f) = nI b ∧ ∀ s' f', s' < 5 → f' < 4 → ¬ (s' = s ∧ f' = f) → a4 (s' * 4 + f') ≠ nI b
theorem cc_stst {α : Type} {D : Nat → Nat → α} {s f : Nat} {x y : α} : cc_st (cc_st D s f x) s f y = cc_st D s f y := by
  funext s' f'
  by_cases z : s' = s ∧ f' = f
  · rw [z.1, z.2, cc_sts, cc_sts]
  · rw [cc_stn z, cc_stn z, cc_stn z]
section
variable {cp lw : Int32} {a1 a2 a3 a4 a5 a6 a7 a8 a9 : Nat → Int32} {k lv : Nat} {U E : Nat → Bool} {V : Nat → Nat} {W : Nat → Nat → Nat} {D : Nat → Nat → Option cc_C} {u : St1} {s f : Nat} {Q : Nat → Nat → Nat}
theorem cc_Rc {W' : Nat → Nat → Nat} {D' : Nat → Nat → Option cc_C} (h : cc_R k lv U E V W D u) (hW : ∀ s f, s < 5 → f < 4 → W' s f = W s f) (hD : ∀ s f, s < 5 → f < 4 → D' s f = D s f) : cc_R k lv U E V W' D' u := by
  obtain ⟨cp, lw, a1, a2, a3, a4, a5, a6, a7, a8, a9⟩ := u
  obtain ⟨⟨h0, h1, h2, h3, h4, h5, h6⟩, Q, hL, hV⟩ := h
  exact ⟨⟨h0, h1, h2, h3, h4, h5, fun s f hs hf => by rw [hW s f hs hf]; exact h6 s f hs hf⟩, Q, hL, fun s f hs hf => by rw [hD s f hs hf]; exact hV s f hs hf⟩
theorem cc_HW {v : Nat} {x : Int32} (h : cc_H k lv U E V W cp lw a1 a2 a3 a5) (hs : s < 5) (hf : f < 4) (hv : v ≤ lv) (hx : x = nI v) : cc_H k lv U E V (cc_st W s f v) cp lw a1 a2 a3 (upd a5 (s * 4 + f) x) := by
  obtain ⟨h0, h1, h2, h3, h4, h5, h6⟩ := h
  refine ⟨h0, h1, h2, h3, h4, h5, fun s' f' hs' hf' => ?_⟩
  by_cases z : s' = s ∧ f' = f
  · rw [z.1, z.2, cc_sts, pk_us]
    exact ⟨hx, hv⟩
  · rw [cc_stn z, pk_un (by omega)]
    exact h6 s' f' hs' hf'
theorem cc_Vst {w : Nat} {x : Option cc_C} (hV : cc_V Q D a6 a7 a8) (hx : x = if w < 4 then some (cc_blk a6 a7 a8 (s * 4 + w)) else none) : cc_V (cc_st Q s f w) (cc_st D s f x) a6 a7 a8 := by
  intro s' f' hs' hf'
  by_cases z : s' = s ∧ f' = f
  · rw [z.1, z.2, cc_sts, cc_sts]
    exact hx
  · rw [cc_stn z, cc_stn z]
    exact hV s' f' hs' hf'
theorem cc_move {a9' : Nat → Int32} {w : Nat} {x : Int32} (h : cc_L Q a4 a9) (hs : s < 5) (hf : f < 4) (hw : w ≤ 4) (hx : x = cc_p s w) (e9 : ∀ j, j < 4 → a9' (s * 4 + j) = nI (cc_cc (cc_u1 (Q s) f w) j)) (o9 : ∀ s' j, s' < 5 → j < 4 → s' ≠ s → a9' (s' * 4 + j) = a9 (s' * 4 + j)) : cc_L (cc_st Q s f w) (upd a4 (s * 4 + f) x) a9' := by
  constructor
  · intro s' f' hs' hf'
    by_cases z : s' = s ∧ f' = f
    · rw [z.1, z.2, cc_sts, pk_us]
      exact ⟨hw, hx⟩
    · rw [cc_stn z, pk_un (by omega)]
      exact h.1 s' f' hs' hf'
  · intro s' j hs' hj
    by_cases z : s' = s
    · rw [z, cc_stu]
      exact e9 j hj
    · rw [o9 s' j hs' hj z, show cc_st Q s f w s' = Q s' from funext fun y => cc_stn (fun t => z t.1)]
      exact h.2 s' j hs' hj
theorem cc_ptr (h : cc_L Q a4 a9) (hs : s < 5) (hf : f < 4) (hq : Q s f < 4) : a4 (s * 4 + f) = nI (s * 4 + Q s f) := by
  rw [(h.1 s f hs hf).2]
  exact if_pos hq
theorem cc_ownL (h : cc_L Q a4 a9) (hs : s < 5) (hf : f < 4) (hq : Q s f < 4) (h1 : cc_cc (Q s) (Q s f) ≤ 1) : cc_own s f (s * 4 + Q s f) (cp, lw, a1, a2, a3, a4, a5, a6, a7, a8, a9) := by
  refine ⟨by omega, cc_ptr h hs hf hq, fun s' f' hs' hf' z e => ?_⟩
  by_cases hq' : Q s' f' < 4
  · rw [cc_ptr h hs' hf' hq', nI_eq (by omega) (by omega)] at e
    have e1 : s' = s := by omega
    subst e1
    exact cc_cc1 h1 hf hf' (fun t => z ⟨rfl, t⟩) rfl (by omega)
  · rw [(h.1 s' f' hs' hf').2, cc_p, if_neg hq'] at e
    have h2 := nI_pos (n := s * 4 + Q s f) (by omega)
    rw [← e] at h2
    exact h2 cc_neg
theorem cc_none4 (hL : cc_L Q a4 a9) (hV : cc_V Q D a6 a7 a8) (hs : s < 5) (hf : f < 4) (hd : D s f = none) : Q s f = 4 := by
  have h1 := hV s f hs hf
  have h2 := (hL.1 s f hs hf).1
  by_cases hq : Q s f < 4
  · rw [hd, if_pos hq] at h1
    exact absurd h1 (by simp)
  · omega
theorem cc_some4 {r : cc_C} (hV : cc_V Q D a6 a7 a8) (hs : s < 5) (hf : f < 4) (hd : D s f = some r) : Q s f < 4 ∧ r = cc_blk a6 a7 a8 (s * 4 + Q s f) := by
  have h1 := hV s f hs hf
  by_cases hq : Q s f < 4
  · rw [hd, if_pos hq] at h1
    exact ⟨hq, Option.some.inj h1⟩
  · rw [hd, if_neg hq] at h1
    exact absurd h1 (by simp)
theorem cc_wlet {post : St1 → Prop} (h : cc_R k lv U E V W D u) (hs : s < 5) (hf : f < 4) (hp : ∀ u', cc_R k lv U E V W (cc_st D s f none) u' → post u') : wpX_letGo post u (nI s) (nI f) := by
  obtain ⟨cp, lw, a1, a2, a3, a4, a5, a6, a7, a8, a9⟩ := u
  obtain ⟨hH, Q, hL, hV⟩ := h
  unfold wpX_letGo
  rw [cc_i4, cc_cl (show s * 4 + f < 1000 by omega)]
  refine ⟨cc_in (by omega), ?_⟩
  have h1 := hL.1 s f hs hf
  by_cases hq : Q s f < 4
  · have hb : s * 4 + Q s f < 1000 := by omega
    refine nm_r (cc_ptr hL hs hf hq) (br_f (nI_pos (by omega)) ⟨cc_in (by omega), cc_in (by omega), nm_e ?_⟩)
    unfold wX_letGo_25
    rw [cc_i4, cc_cl (show s * 4 + f < 1000 by omega), cc_cl hb]
    refine ⟨cc_in (by omega), nm_e (hp _ ⟨hH, cc_st Q s f 4, cc_move hL hs hf (by omega) rfl (fun j hj => ?_) (fun s' j hs' hj z => ?_), cc_Vst hV rfl⟩)⟩
    · have hc := cc_ccu (Q s) hf 4 j
      rw [if_neg (show ¬ 4 = j by omega)] at hc
      by_cases hj' : Q s f = j
      · rw [if_pos hj'] at hc
        rw [hj', pk_us, hL.2 s j hs hj, show cc_cc (Q s) j = cc_cc (cc_u1 (Q s) f 4) j + 1 by omega]
        exact nI_pred _
      · rw [if_neg hj'] at hc
        rw [pk_un (by omega), hL.2 s j hs hj]
        exact congrArg nI (by omega)
    · exact pk_un (by omega)
  · have ha : a4 (s * 4 + f) = -1 := by
      rw [h1.2]
      exact if_neg hq
    refine nm_r ha (br_t cc_neg ?_)
    unfold wX_letGo_25
    rw [cc_i4, cc_cl (show s * 4 + f < 1000 by omega)]
    refine ⟨cc_in (by omega), nm_e (hp _ ⟨hH, cc_st Q s f 4, cc_move hL hs hf (by omega) rfl (fun j hj => ?_) (fun s' j hs' hj z => rfl), cc_Vst hV rfl⟩)⟩
    have hc := cc_ccu (Q s) hf 4 j
    rw [if_neg (show ¬ 4 = j by omega), if_neg (show ¬ Q s f = j by omega)] at hc
    rw [hL.2 s j hs hj]
    exact congrArg nI (by omega)
theorem cc_j43 (s : Nat) : nI s * 4 + 4 - 1 = nI (s * 4 + 3) := by
  rw [cc_j4, show (4 : Int32) = nI 4 from rfl, nI_add, show (1 : Int32) = nI 1 from rfl, pk_sub (by omega)]
  exact congrArg nI (by omega)
theorem cc_wfree {post : Int32 → Prop} {q : Nat → Nat} (hs : s < 5) (h9 : ∀ j, j < 4 → a9 (s * 4 + j) = nI (cc_cc q j)) (he : ∃ j, j < 4 ∧ cc_cc q j = 0) (hp : ∀ j, j < 4 → cc_cc q j = 0 → post (nI (s * 4 + j))) : wpX_freeBlock post (cp, lw, a1, a2, a3, a4, a5, a6, a7, a8, a9) (nI s) := by
  unfold wpX_freeBlock
  refine nm_r (cc_j4 s) ?_
  obtain ⟨j0, ⟨hj0, hz⟩, hm⟩ := pk_least (fun j => j < 4 ∧ cc_cc q j = 0) he
  refine pk_loop (σ := Unit) (fun n i _ => wX_freeBlock_4 post (nI s) cp lw a1 a2 a3 a4 a5 a6 a7 a8 a9 n (nI (s * 4 + i))) (fun _ _ => True) j0 0 () (by omega) trivial
    (fun n _ _ => pk_le (s * 4 + 3) (s * 4 + j0) (fun _ => hp j0 hj0 hz) (fun _ => ⟨cc_in (by omega), br_t ?_ (hp j0 hj0 hz)⟩) (cc_j43 s) rfl (by omega) (by omega))
    (fun n i _ hi _ hw => pk_le (s * 4 + 3) (s * 4 + i) (fun z => absurd z (by omega)) (fun _ => ⟨cc_in (by omega), br_f ?_ (nm_r (nI_1 _) (hw () trivial))⟩) (cc_j43 s) rfl (by omega) (by omega))
  · rw [cc_cl (show s * 4 + j0 < 1000 by omega), h9 j0 hj0, hz]
    decide
  · have h0 : cc_cc q i ≠ 0 := fun e => hm i hi ⟨by omega, e⟩
    have h4 := cc_ccle q i
    rw [cc_cl (show s * 4 + i < 1000 by omega), h9 i (by omega)]
    exact nI_nle (by omega) (by omega)
theorem cc_wnew {post : Int32 → St1 → Prop} (h : cc_R k lv U E V W D u) (hs : s < 5) (hf : f < 4) (hp : ∀ u' b r, cc_R k lv U E V (cc_st W s f (V f)) (cc_st D s f (some r)) u' → cc_own s f b u' → post (nI b) u') : wpX_newReplica post u (nI s) (nI f) := by
  obtain ⟨cp, lw, a1, a2, a3, a4, a5, a6, a7, a8, a9⟩ := u
  unfold wpX_newReplica
  refine cc_wlet h hs hf (fun u' h' => ?_)
  obtain ⟨cp, lw, a1, a2, a3, a4, a5, a6, a7, a8, a9⟩ := u'
  obtain ⟨hH, Q, hL, hV⟩ := h'
  have hq : Q s f = 4 := cc_none4 hL hV hs hf cc_sts
  refine cc_wfree (q := Q s) hs (fun j hj => hL.2 s j hs hj) (cc_free1 hf (Or.inl hq)) (fun j hj h0 => ?_)
  have h3 := hH.2.2.2.2.2.1 f hf
  rw [cc_i4, cc_cl (show s * 4 + f < 1000 by omega), cc_cl (show f < 1000 by omega), cc_cl (show s * 4 + j < 1000 by omega)]
  have hL' : cc_L (cc_st Q s f j) (upd a4 (s * 4 + f) (nI (s * 4 + j))) (upd a9 (s * 4 + j) 1) := by
    refine cc_move hL hs hf (by omega) (if_pos hj).symm (fun i hi => ?_) (fun s' i hs' hi z => pk_un (by omega))
    have hc := cc_ccu (Q s) hf j i
    rw [if_neg (show ¬ Q s f = i by omega)] at hc
    by_cases e : j = i
    · rw [← e] at hc
      rw [if_pos rfl, h0] at hc
      rw [← e, pk_us, show cc_cc (cc_u1 (Q s) f j) j = 1 by omega]
      rfl
    · rw [if_neg e] at hc
      rw [pk_un (by omega), hL.2 s i hs hi]
      exact congrArg nI (by omega)
  have hown : cc_own s f (s * 4 + cc_st Q s f j s f) (cp, lw, a1, a2, a3, upd a4 (s * 4 + f) (nI (s * 4 + j)), upd a5 (s * 4 + f) (a3 f), a6, a7, a8, upd a9 (s * 4 + j) 1) := by
    refine cc_ownL hL' hs hf (by rw [cc_sts]; exact hj) ?_
    have hc := cc_ccu (Q s) hf j j
    rw [if_pos rfl, h0] at hc
    rw [cc_sts, cc_stu]
    omega
  rw [cc_sts] at hown
  have hV' := cc_Vst (s := s) (f := f) (w := j) hV rfl
  rw [cc_stst, if_pos hj] at hV'
  exact ⟨cc_in (by omega), nm_e ⟨cc_in (by omega), nm_e ⟨pk_in f 4 hf, cc_in (by omega), nm_e (hp _ _ _ ⟨cc_HW hH hs hf h3.2 h3.1, _, hL', hV'⟩ hown)⟩⟩⟩
theorem cc_put {a6' a7' a8' : Nat → Int32} {b : Nat} (h : cc_R k lv U E V W D (cp, lw, a1, a2, a3, a4, a5, a6, a7, a8, a9)) (ho : cc_own s f b (cp, lw, a1, a2, a3, a4, a5, a6, a7, a8, a9)) (hs : s < 5) (hf : f < 4) (h6 : ∀ i, i / 6 ≠ b → a6' i = a6 i) (h7 : ∀ i, i ≠ b → a7' i = a7 i) (h8 : ∀ i, i ≠ b → a8' i = a8 i) : cc_R k lv U E V W (cc_st D s f (some (cc_blk a6' a7' a8' b))) (cp, lw, a1, a2, a3, a4, a5, a6', a7', a8', a9) := by
  obtain ⟨hH, Q, hL, hV⟩ := h
  obtain ⟨hb, h4, hne⟩ := ho
  refine ⟨hH, Q, hL, fun s' f' hs' hf' => ?_⟩
  by_cases z : s' = s ∧ f' = f
  · rw [z.1, z.2, cc_sts]
    have h1 := (hL.1 s f hs hf).2
    by_cases hq : Q s f < 4
    · rw [if_pos hq]
      rw [cc_p, if_pos hq, h4, nI_eq (by omega) (by omega)] at h1
      rw [← h1]
    · rw [cc_p, if_neg hq, h4] at h1
      have h2 := nI_pos (n := b) (by omega)
      rw [h1] at h2
      exact absurd cc_neg h2
  · rw [cc_stn z, hV s' f' hs' hf']
    by_cases hq : Q s' f' < 4
    · rw [if_pos hq, if_pos hq]
      have h1 := hne s' f' hs' hf' z
      rw [cc_ptr hL hs' hf' hq] at h1
      have h2 : s' * 4 + Q s' f' ≠ b := fun e => h1 (by rw [e])
      exact congrArg some (cc_blke (fun c hc => h6 _ (by omega)) (h7 _ h2) (h8 _ h2)).symm
    · rw [if_neg hq, if_neg hq]
theorem cc_ownb {b : Nat} (h : cc_R k lv U E V W D (cp, lw, a1, a2, a3, a4, a5, a6, a7, a8, a9)) (ho : cc_own s f b (cp, lw, a1, a2, a3, a4, a5, a6, a7, a8, a9)) (hs : s < 5) (hf : f < 4) : D s f = some (cc_blk a6 a7 a8 b) := by
  obtain ⟨hH, hK⟩ := h
  obtain ⟨hb, h4, hne⟩ := ho
  rcases cc_Kp hK hs hf with ⟨hd, ha⟩ | ⟨b', hb', ha, hd⟩
  · rw [h4] at ha
    have h2 := nI_pos (n := b) (by omega)
    rw [ha] at h2
    exact absurd cc_neg h2
  · rw [h4, nI_eq (by omega) (by omega)] at ha
    rw [ha]
    exact hd
theorem cc_wcopy {post : St1 → Prop} {p q : Nat} (hp : p < 20) (hq : q < 20) (hne : p ≠ q) (H : ∀ x, (∀ c, c < 6 → x (q * 6 + c) = a6 (p * 6 + c)) → (∀ i, i / 6 ≠ q → x i = a6 i) → post (cp, lw, a1, a2, a3, a4, a5, x, upd a7 q (a7 p), upd a8 q (a8 p), a9)) : wpX_copyBlock post (cp, lw, a1, a2, a3, a4, a5, a6, a7, a8, a9) (nI p) (nI q) := by
  unfold wpX_copyBlock
  refine pk_loop (fun n i x => wX_copyBlock_2 post (nI p) (nI q) cp lw n (nI i) a1 a2 a3 a4 a5 x a7 a8 a9) (fun i x => (∀ c, c < i → x (q * 6 + c) = a6 (p * 6 + c)) ∧ ∀ j, j / 6 ≠ q → x j = a6 j) 6 0 a6 (by omega) ⟨fun c hc => absurd hc (by omega), fun j _ => rfl⟩
    (fun n x hI => pk_le 6 6 (fun _ => ⟨pk_in p 20 hp, pk_in q 20 hq, nm_e ⟨pk_in p 20 hp, pk_in q 20 hq, nm_e ?_⟩⟩) (fun z => absurd z (by omega)))
    (fun n i x hi hI hw => pk_le 6 i (fun z => absurd z (by omega)) (fun _ => ⟨pk_in _ 120 (show p * 6 + i < 120 by omega) (cc_i6 p i), pk_in _ 120 (show q * 6 + i < 120 by omega) (cc_i6 q i), nm_e (nm_r (nI_1 i) (hw _ ?_))⟩))
  · rw [cc_cl (show p < 1000 by omega), cc_cl (show q < 1000 by omega)]
    exact H x hI.1 hI.2
  · rw [cc_i6, cc_i6, cc_cl (show p * 6 + i < 1000 by omega), cc_cl (show q * 6 + i < 1000 by omega)]
    refine ⟨fun c hc => ?_, fun j hj => ?_⟩
    · by_cases e : c = i
      · rw [e, pk_us, hI.2 _ (by omega)]
      · rw [pk_un (by omega)]
        exact hI.1 c (by omega)
    · rw [pk_un (by omega)]
      exact hI.2 j hj
theorem cc_wown {post : Int32 → St1 → Prop} {r : cc_C} (h : cc_R k lv U E V W D u) (hs : s < 5) (hf : f < 4) (hd : D s f = some r) (hp : ∀ u' b, cc_R k lv U E V W D u' → cc_own s f b u' → post (nI b) u') : wpX_ownBlock post u (nI s) (nI f) := by
  obtain ⟨cp, lw, a1, a2, a3, a4, a5, a6, a7, a8, a9⟩ := u
  obtain ⟨hH, Q, hL, hV⟩ := h
  have hq := (cc_some4 hV hs hf hd).1
  have h9 := hL.2 s (Q s f) hs hq
  have hle := cc_ccle (Q s) (Q s f)
  unfold wpX_ownBlock
  rw [cc_i4, cc_cl (show s * 4 + f < 1000 by omega)]
  refine ⟨cc_in (by omega), nm_r (cc_ptr hL hs hf hq) ⟨cc_in (by omega), ?_⟩⟩
  rw [cc_cl (show s * 4 + Q s f < 1000 by omega)]
  refine pk_eq (cc_cc (Q s) (Q s f)) 1 (fun e => hp _ _ ⟨hH, Q, hL, hV⟩ (cc_ownL hL hs hf hq (by omega))) (fun e => ?_) h9
  have hpos := cc_ccpos (q := Q s) hf
  refine cc_wfree (q := Q s) hs (fun j hj => hL.2 s j hs hj) (cc_free1 hf (Or.inr (by omega))) (fun j hj h0 => ?_)
  have hne : Q s f ≠ j := cc_cc0 h0 hf
  refine cc_wcopy (by omega) (by omega) (by omega) (fun x hx hx' => ?_)
  have hL' : cc_L (cc_st Q s f j) (upd a4 (s * 4 + f) (nI (s * 4 + j))) (upd (upd a9 (s * 4 + Q s f) (a9 (s * 4 + Q s f) - 1)) (s * 4 + j) 1) := by
    refine cc_move hL hs hf (by omega) (if_pos hj).symm (fun i hi => ?_) (fun s' i hs' hi z => by rw [pk_un (by omega), pk_un (by omega)])
    have hc := cc_ccu (Q s) hf j i
    by_cases e1 : j = i
    · rw [← e1] at hc
      rw [if_pos rfl, h0, if_neg hne] at hc
      rw [← e1, pk_us, show cc_cc (cc_u1 (Q s) f j) j = 1 by omega]
      rfl
    · rw [if_neg e1] at hc
      rw [pk_un (by omega)]
      by_cases e2 : Q s f = i
      · rw [if_pos e2] at hc
        rw [e2, pk_us, hL.2 s i hs hi, show cc_cc (Q s) i = cc_cc (cc_u1 (Q s) f j) i + 1 by omega]
        exact nI_pred _
      · rw [if_neg e2] at hc
        rw [pk_un (by omega), hL.2 s i hs hi]
        exact congrArg nI (by omega)
  have hown : cc_own s f (s * 4 + cc_st Q s f j s f) (cp, lw, a1, a2, a3, upd a4 (s * 4 + f) (nI (s * 4 + j)), a5, x, upd a7 (s * 4 + j) (a7 (s * 4 + Q s f)), upd a8 (s * 4 + j) (a8 (s * 4 + Q s f)), upd (upd a9 (s * 4 + Q s f) (a9 (s * 4 + Q s f) - 1)) (s * 4 + j) 1) := by
    refine cc_ownL hL' hs hf (by rw [cc_sts]; exact hj) ?_
    have hc := cc_ccu (Q s) hf j j
    rw [if_pos rfl, h0] at hc
    rw [cc_sts, cc_stu]
    omega
  rw [cc_sts] at hown
  have hV' : cc_V (cc_st Q s f j) D x (upd a7 (s * 4 + j) (a7 (s * 4 + Q s f))) (upd a8 (s * 4 + j) (a8 (s * 4 + Q s f))) := by
    intro s' f' hs' hf'
    rw [hV s' f' hs' hf']
    by_cases z : s' = s ∧ f' = f
    · rw [z.1, z.2, cc_sts, if_pos hq, if_pos hj]
      exact congrArg some (cc_blke hx pk_us pk_us).symm
    · rw [cc_stn z]
      by_cases hq' : Q s' f' < 4
      · rw [if_pos hq', if_pos hq']
        have h2 : s' * 4 + Q s' f' ≠ s * 4 + j := by
          intro e3
          have e4 : s' = s := by omega
          subst e4
          exact cc_cc0 h0 hf' (by omega)
        exact congrArg some (cc_blke (fun c hc => hx' _ (by omega)) (pk_un h2) (pk_un h2)).symm
      · rw [if_neg hq', if_neg hq']
  rw [cc_cl (show s * 4 + j < 1000 by omega)]
  exact ⟨cc_in (by omega), cc_in (by omega), nm_e ⟨cc_in (by omega), nm_e ⟨cc_in (by omega), nm_e (hp _ _ ⟨hH, _, hL', hV'⟩ hown)⟩⟩⟩
theorem cc_wver {post : St1 → Prop} (h : cc_R k lv U E V W D u) (hf : f < 4) (hl : lv < 1000) (hp : ∀ u', cc_R k (lv + 1) U E (cc_u1 V f (lv + 1)) W D u' → post u') : wpX_newVersion post u (nI f) := by
  obtain ⟨cp, lw, a1, a2, a3, a4, a5, a6, a7, a8, a9⟩ := u
  obtain ⟨⟨h0, h1, h2, h3, h4, h5, h6⟩, hK⟩ := h
  unfold wpX_newVersion
  refine nm_r (e' := nI (lv + 1)) (by rw [h1]; exact nI_1 lv) ⟨pk_in f 4 hf, nm_e (hp _ ⟨⟨h0, rfl, ⟨h2.1, h2.2.1, by omega⟩, h3, h4, fun f' hf' => ?_, fun s' f' hs' hf' => ⟨(h6 s' f' hs' hf').1, Nat.le_succ_of_le (h6 s' f' hs' hf').2⟩⟩, hK⟩)⟩
  rw [cc_cl (show f < 1000 by omega)]
  by_cases e : f' = f
  · rw [e, pk_us, cc_u1s]
    exact ⟨rfl, by omega⟩
  · rw [pk_un e, cc_u1n e]
    exact ⟨(h5 f' hf').1, Nat.le_succ_of_le (h5 f' hf').2⟩
end
end
section
/-! 04: the methods that change: against the picture -/
/-- file f on the first i servers that g takes: X; all else D -/
def cc_lp {α : Type} (i : Nat) (g : Nat → Bool) (f : Nat) (X : Nat → α) (D : Nat → Nat → α) : Nat → Nat → α := fun s' f' => if s' < i ∧ f' = f ∧ g s' = true then X s' else D s' f'
def cc_al {α : Type} (g : Nat → Bool) (f : Nat) (X : Nat → α) (D : Nat → Nat → α) : Nat → Nat → α := fun s' f' => if f' = f ∧ g s' = true then X s' else D s' f'
theorem cc_lp0 {α : Type} {g : Nat → Bool} {f : Nat} {X : Nat → α} {D : Nat → Nat → α} (s' f' : Nat) : cc_lp 0 g f X D s' f' = D s' f' := if_neg (fun z => by omega)
theorem cc_lpi {α : Type} {i : Nat} {g : Nat → Bool} {f : Nat} {X : Nat → α} {D : Nat → Nat → α} (f' : Nat) : cc_lp i g f X D i f' = D i f' := if_neg (fun z => by omega)
theorem cc_lpf {α : Type} {i : Nat} {g : Nat → Bool} {f : Nat} {X : Nat → α} {D : Nat → Nat → α} (s' : Nat) {f' : Nat} (h : f' ≠ f) : cc_lp i g f X D s' f' = D s' f' := if_neg (fun z => h z.2.1)
theorem cc_lps0 {α : Type} {i : Nat} {g : Nat → Bool} {f : Nat} {X : Nat → α} {D : Nat → Nat → α} (e : g i = false) (s' f' : Nat) : cc_lp (i + 1) g f X D s' f' = cc_lp i g f X D s' f' := by
  unfold cc_lp
  by_cases z : s' = i
  · rw [if_neg (fun t => by rw [z, e] at t; exact absurd t.2.2 (by decide)), if_neg (fun t => by omega)]
  · by_cases t : s' < i ∧ f' = f ∧ g s' = true
    · rw [if_pos t, if_pos ⟨by omega, t.2⟩]
    · rw [if_neg t, if_neg (fun t' => t ⟨by omega, t'.2⟩)]
theorem cc_lps1 {α : Type} {i : Nat} {g : Nat → Bool} {f : Nat} {X : Nat → α} {D : Nat → Nat → α} (e : g i = true) (s' f' : Nat) : cc_lp (i + 1) g f X D s' f' = cc_st (cc_lp i g f X D) i f (X i) s' f' := by
  by_cases z : s' = i ∧ f' = f
  · rw [z.1, z.2, cc_sts]
    exact if_pos ⟨by omega, rfl, e⟩
  · rw [cc_stn z]
    unfold cc_lp
    by_cases t : s' < i ∧ f' = f ∧ g s' = true
    · rw [if_pos t, if_pos ⟨by omega, t.2⟩]
    · rw [if_neg t, if_neg (fun t' => t ⟨by omega, t'.2⟩)]
theorem cc_lp5 {α : Type} {g : Nat → Bool} {f : Nat} {X : Nat → α} {D : Nat → Nat → α} {s' : Nat} (hs : s' < 5) (f' : Nat) : cc_al g f X D s' f' = cc_lp 5 g f X D s' f' := by
  unfold cc_lp cc_al
  by_cases t : f' = f ∧ g s' = true
  · rw [if_pos t, if_pos ⟨hs, t⟩]
  · rw [if_neg t, if_neg (fun z => t z.2)]
theorem cc_alt {α : Type} {g : Nat → Bool} {f : Nat} {X : Nat → α} {D : Nat → Nat → α} {s' : Nat} (e : g s' = true) : cc_al g f X D s' f = X s' := if_pos ⟨rfl, e⟩
theorem cc_alf {α : Type} {g : Nat → Bool} {f : Nat} {X : Nat → α} {D : Nat → Nat → α} {s' : Nat} (e : g s' = false) (f' : Nat) : cc_al g f X D s' f' = D s' f' := if_neg (fun z => by rw [e] at z; exact absurd z.2 (by decide))
theorem cc_aln {α : Type} {g : Nat → Bool} {f : Nat} {X : Nat → α} {D : Nat → Nat → α} (s' : Nat) {f' : Nat} (h : f' ≠ f) : cc_al g f X D s' f' = D s' f' := if_neg (fun z => h z.1)
theorem cc_alc {α : Type} {g g' : Nat → Bool} {f : Nat} {X : Nat → α} {D : Nat → Nat → α} {s' f' : Nat} (e : g' s' = g s') : cc_al g' f X D s' f' = cc_al g f X D s' f' := by
  unfold cc_al
  rw [e]
theorem cc_dne {a b : Nat} (h : ¬ a = b) : decide (b = a) = false := decide_eq_false (fun t => h t.symm)
/-- the first i files that P takes, on server s: none -/
def cc_fp (i : Nat) (P : Nat → Bool) (s : Nat) (D : Nat → Nat → Option cc_C) : Nat → Nat → Option cc_C := fun s' f' => if f' < i ∧ s' = s ∧ P f' = true then none else D s' f'
theorem cc_fp0 {P : Nat → Bool} {s : Nat} {D : Nat → Nat → Option cc_C} (s' f' : Nat) : cc_fp 0 P s D s' f' = D s' f' := if_neg (fun z => by omega)
theorem cc_fps0 {i : Nat} {P : Nat → Bool} {s : Nat} {D : Nat → Nat → Option cc_C} (e : P i = false) (s' f' : Nat) : cc_fp (i + 1) P s D s' f' = cc_fp i P s D s' f' := by
  unfold cc_fp
  by_cases z : f' = i
  · rw [if_neg (fun t => by rw [z, e] at t; exact absurd t.2.2 (by decide)), if_neg (fun t => by omega)]
  · by_cases t : f' < i ∧ s' = s ∧ P f' = true
    · rw [if_pos t, if_pos ⟨by omega, t.2⟩]
    · rw [if_neg t, if_neg (fun t' => t ⟨by omega, t'.2⟩)]
theorem cc_fps1 {i : Nat} {P : Nat → Bool} {s : Nat} {D : Nat → Nat → Option cc_C} (e : P i = true) (s' f' : Nat) : cc_fp (i + 1) P s D s' f' = cc_st (cc_fp i P s D) s i none s' f' := by
  by_cases z : s' = s ∧ f' = i
  · rw [z.1, z.2, cc_sts]
    exact if_pos ⟨by omega, rfl, e⟩
  · rw [cc_stn z]
    unfold cc_fp
    by_cases t : f' < i ∧ s' = s ∧ P f' = true
    · rw [if_pos t, if_pos ⟨by omega, t.2⟩]
    · rw [if_neg t, if_neg (fun t' => t ⟨by omega, t'.2⟩)]
section
variable {cp lw : Int32} {a1 a2 a3 a4 a5 a6 a7 a8 a9 : Nat → Int32} {k lv : Nat} {U E : Nat → Bool} {V : Nat → Nat} {W : Nat → Nat → Nat} {D : Nat → Nat → Option cc_C} {u : St1} {s f : Nat}
theorem cc_HU {x : Int32} {b : Bool} (h : cc_H k lv U E V W cp lw a1 a2 a3 a5) (hx : x = cc_b b) : cc_H k lv (cc_u1 U s b) E V W cp lw (upd a1 s x) a2 a3 a5 := by
  obtain ⟨h0, h1, h2, h3, h4, h5, h6⟩ := h
  refine ⟨h0, h1, h2, fun s' hs' => ?_, h4, h5, h6⟩
  by_cases z : s' = s
  · rw [z, cc_u1s, pk_us]
    exact hx
  · rw [cc_u1n z, pk_un z]
    exact h3 s' hs'
theorem cc_HE {x : Int32} {b : Bool} (h : cc_H k lv U E V W cp lw a1 a2 a3 a5) (hx : x = cc_b b) : cc_H k lv U (cc_u1 E f b) V W cp lw a1 (upd a2 f x) a3 a5 := by
  obtain ⟨h0, h1, h2, h3, h4, h5, h6⟩ := h
  refine ⟨h0, h1, h2, h3, fun f' hf' => ?_, h5, h6⟩
  by_cases z : f' = f
  · rw [z, cc_u1s, pk_us]
    exact hx
  · rw [cc_u1n z, pk_un z]
    exact h4 f' hf'
theorem cc_wcrash {post : Int32 → St1 → Prop} (h : cc_R k lv U E V W D u) (hs : s < 5) (hp : ∀ r u', cc_R k lv (cc_u1 U s false) E V W D u' → post r u') : wpX_crash post u (nI s) := by
  obtain ⟨cp, lw, a1, a2, a3, a4, a5, a6, a7, a8, a9⟩ := u
  obtain ⟨hH, hK⟩ := h
  have key : ∀ z0, wX_crash_23 post (nI s) z0 cp lw a1 a2 a3 a4 a5 a6 a7 a8 a9 := fun z0 => by
    unfold wX_crash_23
    rw [cc_cl (show s < 1000 by omega)]
    exact ⟨pk_in s 5 hs, nm_e (hp _ _ ⟨cc_HU hH rfl, hK⟩)⟩
  unfold wpX_crash
  exact cc_wbs hs (br_t rfl ⟨pk_in s 5 hs, br_c (fun _ => key 0) (fun _ => key 1)⟩)
theorem cc_wrestart {post : Int32 → St1 → Prop} (h : cc_R k lv U E V W D u) (hs : s < 5) (hp : ∀ r u', cc_R k lv (cc_u1 U s true) E V W (cc_fp 4 (fun f => !E f || !decide (W s f = V f)) s D) u' → post r u') : wpX_restart post u (nI s) := by
  obtain ⟨cp, lw, a1, a2, a3, a4, a5, a6, a7, a8, a9⟩ := u
  obtain ⟨hH, hK⟩ := h
  have key : ∀ z0, wX_restart_23 post (nI s) z0 cp lw a1 a2 a3 a4 a5 a6 a7 a8 a9 := fun z0 => by
    unfold wX_restart_23
    rw [cc_cl (show s < 1000 by omega)]
    refine ⟨pk_in s 5 hs, nm_e ?_⟩
    have h' : cc_R k lv (cc_u1 U s true) E V W D (cp, lw, upd a1 s 1, a2, a3, a4, a5, a6, a7, a8, a9) := ⟨cc_HU hH rfl, hK⟩
    refine pk_loop (fun n i (t : St1) => wX_restart_33 post (nI s) z0 n (nI i) t.1 t.2.1 t.2.2.1 t.2.2.2.1 t.2.2.2.2.1 t.2.2.2.2.2.1 t.2.2.2.2.2.2.1 t.2.2.2.2.2.2.2.1 t.2.2.2.2.2.2.2.2.1 t.2.2.2.2.2.2.2.2.2.1 t.2.2.2.2.2.2.2.2.2.2) (fun i t => cc_R k lv (cc_u1 U s true) E V W (cc_fp i (fun f => !E f || !decide (W s f = V f)) s D) t) 4 0 (cp, lw, upd a1 s 1, a2, a3, a4, a5, a6, a7, a8, a9) (by omega) (cc_Rc h' (fun _ _ _ _ => rfl) (fun s' f' _ _ => cc_fp0 s' f'))
      (fun n t hI => pk_le 4 4 (fun _ => hp _ _ hI) (fun z => absurd z (by omega))) (fun n i t hi hI hw => ?_)
    obtain ⟨cp, lw, a1, a2, a3, a4, a5, a6, a7, a8, a9⟩ := t
    have hh := hI
    obtain ⟨⟨_, _, ⟨_, _, hl⟩, _, h2, h3, h5⟩, _⟩ := hh
    have drop : (!E i || !decide (W s i = V i)) = true → wX_restart_66 post (wX_restart_33 post (nI s) z0 n) (nI s) z0 (nI i) cp lw a1 a2 a3 a4 a5 a6 a7 a8 a9 := fun e => by
      unfold wX_restart_66
      refine cc_wlet hI hs hi (fun u' h'' => ?_)
      have h3 := hw u' (cc_Rc h'' (fun _ _ _ _ => rfl) (fun s' f' _ _ => cc_fps1 e s' f'))
      obtain ⟨cp, lw, a1, a2, a3, a4, a5, a6, a7, a8, a9⟩ := u'
      exact nm_r (nI_1 i) h3
    refine pk_le 4 i (fun z => absurd z (by omega)) (fun _ => ⟨pk_in i 4 hi, cc_bo (E i) (fun e => drop (by rw [e]; rfl)) (fun e => ⟨pk_in (s * 4 + i) 20 (by omega) (cc_i4 s i), pk_in i 4 hi, pk_eq (W s i) (V i) (fun e2 => nm_r (nI_1 i) (hw (cp, lw, a1, a2, a3, a4, a5, a6, a7, a8, a9) ?_)) (fun e2 => drop (by rw [decide_eq_false e2]; simp)) ?_ ?_ ?_ ?_⟩) (by rw [cc_cl (show i < 1000 by omega)]; exact h2 i hi)⟩)
    · exact cc_Rc hI (fun _ _ _ _ => rfl) (fun s' f' _ _ => cc_fps0 (by show (!E i || !decide (W s i = V i)) = false; rw [e, decide_eq_true e2]; rfl) s' f')
    · rw [cc_i4, cc_cl (show s * 4 + i < 1000 by omega)]
      exact (h5 s i hs hi).1
    · rw [cc_cl (show i < 1000 by omega)]
      exact (h3 i hi).1
    · have := (h5 s i hs hi).2
      omega
    · have := (h3 i hi).2
      omega
  unfold wpX_restart
  exact cc_wbs hs (br_t rfl ⟨pk_in s 5 hs, br_c (fun _ => key 1) (fun _ => key 0)⟩)
theorem cc_wlose {post : Int32 → St1 → Prop} (h : cc_R k lv U E V W D u) (hs : s < 5) (hp : ∀ n u', n ≤ 4 → cc_R k lv U E V W (cc_fp 4 (fun _ => true) s D) u' → post (nI n) u') : wpX_loseDisk post u (nI s) := by
  obtain ⟨cp, lw, a1, a2, a3, a4, a5, a6, a7, a8, a9⟩ := u
  unfold wpX_loseDisk
  refine cc_wbs hs (br_t rfl (cc_wload h hs (fun m hm => ?_)))
  refine pk_loop (fun n i (t : St1) => wX_loseDisk_17 post (nI s) (nI m) n (nI i) t.1 t.2.1 t.2.2.1 t.2.2.2.1 t.2.2.2.2.1 t.2.2.2.2.2.1 t.2.2.2.2.2.2.1 t.2.2.2.2.2.2.2.1 t.2.2.2.2.2.2.2.2.1 t.2.2.2.2.2.2.2.2.2.1 t.2.2.2.2.2.2.2.2.2.2) (fun i t => cc_R k lv U E V W (cc_fp i (fun _ => true) s D) t) 4 0 (cp, lw, a1, a2, a3, a4, a5, a6, a7, a8, a9) (by omega) (cc_Rc h (fun _ _ _ _ => rfl) (fun s' f' _ _ => cc_fp0 s' f'))
    (fun n t hI => pk_le 4 4 (fun _ => hp _ _ hm hI) (fun z => absurd z (by omega))) (fun n i t hi hI hw => ?_)
  obtain ⟨cp, lw, a1, a2, a3, a4, a5, a6, a7, a8, a9⟩ := t
  refine pk_le 4 i (fun z => absurd z (by omega)) (fun _ => cc_wlet hI hs hi (fun u' h'' => ?_))
  have h3 := hw u' (cc_Rc h'' (fun _ _ _ _ => rfl) (fun s' f' _ _ => cc_fps1 rfl s' f'))
  obtain ⟨cp, lw, a1, a2, a3, a4, a5, a6, a7, a8, a9⟩ := u'
  exact nm_r (nI_1 i) h3
theorem cc_wremove {post : Int32 → St1 → Prop} (h : cc_R k lv U E V W D u) (hf : f < 4) (h3 : E f = false → post (-3) u) (hp : E f = true → ∀ u', cc_R k lv U (cc_u1 E f false) V W (cc_al U f (fun _ => none) D) u' → post 0 u') : wpX_remove post u (nI f) := by
  obtain ⟨cp, lw, a1, a2, a3, a4, a5, a6, a7, a8, a9⟩ := u
  have hh := h
  obtain ⟨hH, hK⟩ := hh
  unfold wpX_remove
  rw [cc_cl (show f < 1000 by omega)]
  refine cc_wbf hf (br_t rfl ⟨pk_in f 4 hf, cc_bo (E f) h3 (fun e => ⟨pk_in f 4 hf, nm_e ?_⟩) (hH.2.2.2.2.1 f hf)⟩)
  have h' : cc_R k lv U (cc_u1 E f false) V W D (cp, lw, a1, upd a2 f 0, a3, a4, a5, a6, a7, a8, a9) := ⟨cc_HE hH rfl, hK⟩
  refine pk_loop (fun n i (t : St1) => wX_remove_30 post (nI f) n (nI i) t.1 t.2.1 t.2.2.1 t.2.2.2.1 t.2.2.2.2.1 t.2.2.2.2.2.1 t.2.2.2.2.2.2.1 t.2.2.2.2.2.2.2.1 t.2.2.2.2.2.2.2.2.1 t.2.2.2.2.2.2.2.2.2.1 t.2.2.2.2.2.2.2.2.2.2) (fun i t => cc_R k lv U (cc_u1 E f false) V W (cc_lp i U f (fun _ => none) D) t) 5 0 (cp, lw, a1, upd a2 f 0, a3, a4, a5, a6, a7, a8, a9) (by omega) (cc_Rc h' (fun _ _ _ _ => rfl) (fun s' f' _ _ => cc_lp0 s' f'))
    (fun n t hI => pk_le 5 5 (fun _ => hp e _ (cc_Rc hI (fun _ _ _ _ => rfl) (fun s' f' hs' _ => cc_lp5 hs' f'))) (fun z => absurd z (by omega))) (fun n i t hi hI hw => ?_)
  obtain ⟨cp, lw, a1, a2, a3, a4, a5, a6, a7, a8, a9⟩ := t
  have hh := hI
  obtain ⟨⟨_, _, _, h1, _⟩, _⟩ := hh
  refine pk_le 5 i (fun z => absurd z (by omega)) (fun _ => ⟨pk_in i 5 hi, cc_bo (U i) (fun e2 => nm_r (nI_1 i) (hw (cp, lw, a1, a2, a3, a4, a5, a6, a7, a8, a9) (cc_Rc hI (fun _ _ _ _ => rfl) (fun s' f' _ _ => cc_lps0 e2 s' f')))) (fun e2 => cc_wlet hI hi hf (fun u' h'' => ?_)) (by rw [cc_cl (show i < 1000 by omega)]; exact h1 i hi)⟩)
  have h3 := hw u' (cc_Rc h'' (fun _ _ _ _ => rfl) (fun s' f' _ _ => cc_lps1 e2 s' f'))
  obtain ⟨cp, lw, a1, a2, a3, a4, a5, a6, a7, a8, a9⟩ := u'
  exact nm_r (nI_1 i) h3
theorem cc_wdamage {post : Int32 → St1 → Prop} (h : cc_R k lv U E V W D u) (hs : s < 5) (hf : f < 4) (h0 : ∀ r, post r u) (hp : ∀ u' c l ch, cc_cur E V W D s f = true → D s f = some (c, l, ch) → cc_R k lv U E V W (cc_st D s f (some (upd c 0 (c 0 ^^^ 1), l, ch))) u' → post 1 u') : wpX_damage post u (nI s) (nI f) := by
  obtain ⟨cp, lw, a1, a2, a3, a4, a5, a6, a7, a8, a9⟩ := u
  have hh := h
  obtain ⟨hH, hK⟩ := hh
  unfold wpX_damage
  rw [cc_cl (show f < 1000 by omega)]
  refine cc_wbs hs (br_t rfl (cc_wbf hf (br_t rfl ⟨pk_in f 4 hf, cc_bo (E f) (fun _ => h0 _) (fun e => cc_wcur h hs hf (cc_bo (cc_cur E V W D s f) (fun _ => h0 _) (fun e2 => ?_) rfl)) (hH.2.2.2.2.1 f hf)⟩)))
  obtain ⟨r, hr, _⟩ := cc_cur_some e2
  refine cc_wown h hs hf hr (fun u' b h' ho => ?_)
  obtain ⟨cp, lw, a1, a2, a3, a4, a5, a6, a7, a8, a9⟩ := u'
  have hb := ho.1
  have hd := cc_ownb h' ho hs hf
  rw [cc_j6, cc_cl (show b * 6 < 1000 by omega)]
  refine ⟨cc_in (by omega), cc_in (by omega), nm_e (hp _ _ _ _ e2 hd ?_)⟩
  have h2 := cc_put (a6' := upd a6 (b * 6) (a6 (b * 6) ^^^ 1)) (a7' := a7) (a8' := a8) h' ho hs hf (fun i hi => pk_un (by omega)) (fun _ _ => rfl) (fun _ _ => rfl)
  refine cc_Rc h2 (fun _ _ _ _ => rfl) (fun s' f' _ _ => ?_)
  refine congrArg (fun z => cc_st D s f (some (z, a7 b, a8 b)) s' f') (funext fun c => ?_)
  show upd (fun c => if c < 6 then a6 (b * 6 + c) else 0) 0 (a6 (b * 6) ^^^ 1) c = if c < 6 then upd a6 (b * 6) (a6 (b * 6) ^^^ 1) (b * 6 + c) else 0
  by_cases hc : c = 0
  · rw [hc, pk_us, if_pos (by omega)]
    exact pk_us.symm
  · rw [pk_un hc]
    by_cases hc2 : c < 6
    · rw [if_pos hc2, if_pos hc2, pk_un (by omega)]
    · rw [if_neg hc2, if_neg hc2]
/-! create -/
def cc_z : cc_C := (fun _ => 0, 0, cc_sm (fun _ => 0) 0 6)
theorem cc_w91 {post : Int32 → St1 → Prop} {J : Int32 → Int32 → Int32 → Int32 → Int32 → (Nat → Int32) → (Nat → Int32) → (Nat → Int32) → (Nat → Int32) → (Nat → Int32) → (Nat → Int32) → (Nat → Int32) → (Nat → Int32) → (Nat → Int32) → Prop} {x1 x2 x3 x4 : Int32} {b : Nat} (hb : b < 20) (H : ∀ x y z, (∀ i, i / 6 ≠ b → x i = a6 i) → (∀ i, i ≠ b → y i = a7 i) → (∀ i, i ≠ b → z i = a8 i) → cc_blk x y z b = cc_z → J x2 (x3 + 1) (x4 + 1) cp lw a1 a2 a3 a4 a5 x y z a9) : ∃ n, wX_create_91 post J x1 x2 x3 x4 (nI b) cp lw n 0 a1 a2 a3 a4 a5 a6 a7 a8 a9 := by
  refine pk_loop (fun n i x => wX_create_91 post J x1 x2 x3 x4 (nI b) cp lw n (nI i) a1 a2 a3 a4 a5 x a7 a8 a9) (fun i x => (∀ c, c < i → x (b * 6 + c) = 0) ∧ ∀ j, j / 6 ≠ b → x j = a6 j) 6 0 a6 (by omega) ⟨fun c hc => absurd hc (by omega), fun j _ => rfl⟩
    (fun n x hI => pk_le 6 6 (fun _ => ⟨pk_in b 20 hb, nm_e (cc_wsum hb ⟨pk_in b 20 hb, nm_e (nm_e (nm_e ?_))⟩)⟩) (fun z => absurd z (by omega)))
    (fun n i x hi hI hw => pk_le 6 i (fun z => absurd z (by omega)) (fun _ => ⟨pk_in _ 120 (show b * 6 + i < 120 by omega) (cc_i6 b i), nm_e (nm_r (nI_1 i) (hw _ ?_))⟩))
  · rw [cc_cl (show b < 1000 by omega)]
    refine H _ _ _ hI.2 (fun i hi => pk_un hi) (fun i hi => pk_un hi) ?_
    have e1 : (fun c => if c < 6 then x (b * 6 + c) else 0) = (fun _ => (0 : Int32)) := by
      funext c
      by_cases hc : c < 6
      · rw [if_pos hc]
        exact hI.1 c hc
      · rw [if_neg hc]
    show ((fun c => if c < 6 then x (b * 6 + c) else 0), upd a7 b 0 b, upd a8 b (cc_sm (fun c => if c < 6 then x (b * 6 + c) else 0) (upd a7 b 0 b) 6) b) = cc_z
    rw [pk_us, pk_us, e1]
    rfl
  · rw [cc_i6, cc_cl (show b * 6 + i < 1000 by omega)]
    refine ⟨fun c hc => ?_, fun j hj => ?_⟩
    · by_cases e : c = i
      · rw [e, pk_us]
      · rw [pk_un (by omega)]
        exact hI.1 c (by omega)
    · rw [pk_un (by omega)]
      exact hI.2 j hj
theorem cc_w50 {post : Int32 → St1 → Prop} (h : cc_R k lv U E V W D u) (hf : f < 4) (hp : ∀ u' g n, (∀ s, s < 5 → g s = true → U s = true) → n = cc_cn g 5 → n ≤ k → (n = k ∨ n = cc_cn U 5) → cc_R k lv U E V (cc_al g f (fun _ => V f) W) (cc_al g f (fun _ => some cc_z) D) u' → post (nI n) u') : ∃ n, wX_create_50 post (nI f) n (nI (cc_mk U)) 0 0 u.1 u.2.1 u.2.2.1 u.2.2.2.1 u.2.2.2.2.1 u.2.2.2.2.2.1 u.2.2.2.2.2.2.1 u.2.2.2.2.2.2.2.1 u.2.2.2.2.2.2.2.2.1 u.2.2.2.2.2.2.2.2.2.1 u.2.2.2.2.2.2.2.2.2.2 := by
  refine pk_loop (fun n i (t : Int32 × St1) => wX_create_50 post (nI f) n t.1 (nI i) (nI i) t.2.1 t.2.2.1 t.2.2.2.1 t.2.2.2.2.1 t.2.2.2.2.2.1 t.2.2.2.2.2.2.1 t.2.2.2.2.2.2.2.1 t.2.2.2.2.2.2.2.2.1 t.2.2.2.2.2.2.2.2.2.1 t.2.2.2.2.2.2.2.2.2.2.1 t.2.2.2.2.2.2.2.2.2.2.2) (fun i t => ∃ g, t.1 = nI (cc_mk (fun s => U s && !g s)) ∧ (∀ s, s < 5 → g s = true → U s = true) ∧ i = cc_cn g 5 ∧ cc_R k lv U E V (cc_al g f (fun _ => V f) W) (cc_al g f (fun _ => some cc_z) D) t.2) k 0 (nI (cc_mk U), u) (by omega) ⟨fun _ => false, ?_, fun _ _ z => absurd z Bool.false_ne_true, (cc_cn0 5 (fun _ _ => rfl)).symm, cc_Rc h (fun s' f' _ _ => cc_alf rfl f') (fun s' f' _ _ => cc_alf rfl f')⟩
    (fun n t hI => ?_) (fun n i t hi hI hw => ?_)
  · exact congrArg nI (cc_mkc (fun s _ => by simp))
  · obtain ⟨l, ⟨cp, lw, a1, a2, a3, a4, a5, a6, a7, a8, a9⟩⟩ := t
    obtain ⟨g, hl, hgU, hn, hR⟩ := hI
    have hR' := hR
    obtain ⟨⟨hk, _, ⟨hk1, hk3, _⟩, _⟩, _⟩ := hR'
    exact pk_le k k (fun _ => hp _ g k hgU hn (by omega) (Or.inl rfl) hR) (fun z => absurd z (by omega)) hk rfl (by omega) (by omega)
  · obtain ⟨l, ⟨cp, lw, a1, a2, a3, a4, a5, a6, a7, a8, a9⟩⟩ := t
    obtain ⟨g, hl, hgU, hn, hR⟩ := hI
    have hR' := hR
    obtain ⟨⟨hk, _, ⟨hk1, hk3, _⟩, _⟩, _⟩ := hR'
    have hl' : l = nI (cc_mk (fun s => U s && !g s)) := hl
    subst hl'
    refine pk_le k i (fun z => absurd z (by omega)) (fun _ => ?_) hk rfl (by omega) (by omega)
    have hlt := cc_mklt (fun s => U s && !g s)
    refine pk_eq (cc_mk (fun s => U s && !g s)) 0 (fun z => ?_) (fun z => ?_) rfl rfl (by omega) (by omega)
    · rw [← cc_mk0] at z
      have z' := cc_mkinj z
      refine hp _ g i hgU hn (by omega) (Or.inr ?_) hR
      rw [hn]
      refine cc_cnc 5 (fun s hs => ?_)
      have h1 := hgU s hs
      have h2 := z' s hs
      cases hg : g s
      · rw [hg] at h2
        cases hu : U s
        · rfl
        · rw [hu] at h2
          exact absurd h2 (by decide)
      · exact (h1 hg).symm
    · refine cc_wfirst hR (fun s hs e => ?_) (fun hno => ?_)
      · rw [Bool.and_eq_true] at e
        have eg : g s = false := by
          cases hg : g s
          · rfl
          · rw [hg] at e
            exact absurd e.2 (by decide)
        refine nm_r (cc_andn _ hs) (cc_wnew hR hs hf (fun u' b r h' ho => ?_))
        obtain ⟨cp, lw, a1, a2, a3, a4, a5, a6, a7, a8, a9⟩ := u'
        have hb := ho.1
        refine cc_w91 hb (fun x y z hx hy hz hblk => ?_)
        have h2 := cc_put h' ho hs hf hx hy hz
        rw [hblk, cc_stst] at h2
        rw [nI_1]
        refine hw (_, (cp, lw, a1, a2, a3, a4, a5, x, y, z, a9)) ⟨fun x => g x || decide (s = x), ?_, fun s' hs' z => ?_, ?_, cc_Rc h2 (fun s' f' _ _ => ?_) (fun s' f' _ _ => ?_)⟩
        · refine congrArg nI (cc_mkc (fun s' _ => ?_))
          show (U s' && !g s' && !decide (s = s')) = (U s' && !(g s' || decide (s = s')))
          cases U s' <;> cases g s' <;> cases decide (s = s') <;> rfl
        · rcases Bool.or_eq_true _ _ |>.mp z with z | z
          · exact hgU s' hs' z
          · have : s = s' := of_decide_eq_true z
            rw [← this]
            exact e.1
        · rw [cc_cnadd (g := g) (t := s) eg (by simp) 5 (fun s' _ hne => by simp [Ne.symm hne]), if_pos hs, hn]
        · by_cases q : s' = s ∧ f' = f
          · rw [q.1, q.2, cc_sts]
            exact cc_alt (by simp)
          · rw [cc_stn q]
            by_cases q2 : s' = s
            · rw [cc_aln s' (fun t => q ⟨q2, t⟩), cc_aln s' (fun t => q ⟨q2, t⟩)]
            · exact cc_alc (by show (g s' || decide (s = s')) = g s'; rw [cc_dne q2, Bool.or_false])
        · by_cases q : s' = s ∧ f' = f
          · rw [q.1, q.2, cc_sts]
            exact cc_alt (by simp)
          · rw [cc_stn q]
            by_cases q2 : s' = s
            · rw [cc_aln s' (fun t => q ⟨q2, t⟩), cc_aln s' (fun t => q ⟨q2, t⟩)]
            · exact cc_alc (by show (g s' || decide (s = s')) = g s'; rw [cc_dne q2, Bool.or_false])
      · exact absurd ((cc_mkc (h := fun _ => false) hno).trans cc_mk0) z
theorem cc_wcreate {post : Int32 → St1 → Prop} (h : cc_R k lv U E V W D u) (hf : f < 4) (hl : lv < 1000) (h2 : E f = true → post (-2) u) (h4 : E f = false → (∀ s, s < 5 → U s = false) → post (-4) u)
    (hp : E f = false → ∀ u' g n, (∀ s, s < 5 → g s = true → U s = true) → n = cc_cn g 5 → n ≤ k → (n = k ∨ n = cc_cn U 5) → cc_R k (lv + 1) U (cc_u1 E f true) (cc_u1 V f (lv + 1)) (cc_al g f (fun _ => lv + 1) W) (cc_al g f (fun _ => some cc_z) D) u' → post (nI n) u') : wpX_create post u (nI f) := by
  obtain ⟨cp, lw, a1, a2, a3, a4, a5, a6, a7, a8, a9⟩ := u
  have hh := h
  obtain ⟨hH, hK⟩ := hh
  unfold wpX_create
  rw [cc_cl (show f < 1000 by omega)]
  refine cc_wbf hf (br_t rfl ⟨pk_in f 4 hf, cc_bo (E f) (fun e => cc_wups h ?_) h2 (hH.2.2.2.2.1 f hf)⟩)
  have hlt := cc_mklt U
  refine pk_eq (cc_mk U) 0 (fun z => ?_) (fun z => ⟨pk_in f 4 hf, nm_e ?_⟩) rfl rfl (by omega) (by omega)
  · rw [← cc_mk0] at z
    exact h4 e (cc_mkinj z)
  · have h' : cc_R k lv U (cc_u1 E f true) V W D (cp, lw, a1, upd a2 f 1, a3, a4, a5, a6, a7, a8, a9) := ⟨cc_HE hH rfl, hK⟩
    refine cc_wver h' hf hl (fun u' h'' => ?_)
    have h3 := cc_w50 (post := post) h'' hf (fun u2 g n hg hn hnk hnu hR => hp e u2 g n hg hn hnk hnu (by rw [cc_u1s] at hR; exact hR))
    obtain ⟨cp, lw, a1, a2, a3, a4, a5, a6, a7, a8, a9⟩ := u'
    exact h3
end
end
section
/-! 05: mutate, snapshot: against the picture -/
/-- what a write of v at cell c makes of a block -/
def cc_wl (c : Nat) (l : Int32) : Int32 := if nI c + 1 ≤ l then l else nI c + 1
def cc_wr (c : Nat) (v : Int32) (r : cc_C) : cc_C := (upd r.1 c v, cc_wl c r.2.1, cc_sm (upd r.1 c v) (cc_wl c r.2.1) 6)
theorem cc_cells {a6 : Nat → Int32} {b c : Nat} {v : Int32} (hc : c < 6) : (fun x => if x < 6 then upd a6 (b * 6 + c) v (b * 6 + x) else 0) = upd (fun x => if x < 6 then a6 (b * 6 + x) else 0) c v := by
  funext x
  by_cases e : x = c
  · rw [e, pk_us, if_pos hc, pk_us]
  · rw [pk_un e]
    by_cases h6 : x < 6
    · rw [if_pos h6, if_pos h6, pk_un (by omega)]
    · rw [if_neg h6, if_neg h6]
section
variable {cp lw : Int32} {a1 a2 a3 a4 a5 a6 a7 a8 a9 : Nat → Int32} {k lv : Nat} {U E : Nat → Bool} {V : Nat → Nat} {W : Nat → Nat → Nat} {D : Nat → Nat → Option cc_C} {u : St1} {s f : Nat}
theorem cc_w136 {post : Int32 → St1 → Prop} {J : Int32 → Int32 → Int32 → (Nat → Int32) → (Nat → Int32) → (Nat → Int32) → (Nat → Int32) → (Nat → Int32) → (Nat → Int32) → (Nat → Int32) → (Nat → Int32) → (Nat → Int32) → Prop} {x1 x2 x3 x5 : Int32} {i b : Nat} (hb : b < 20) (hp : J (nI (i + 1)) cp lw a1 a2 a3 a4 a5 a6 a7 (upd a8 b (cc_sm (cc_blk a6 a7 a8 b).1 (a7 b) 6)) a9) : wX_mutate_136 post J x1 x2 x3 x5 (nI i) (nI b) cp lw a1 a2 a3 a4 a5 a6 a7 a8 a9 := by
  unfold wX_mutate_136
  rw [cc_cl (show b < 1000 by omega)]
  exact cc_wsum hb ⟨pk_in b 20 hb, nm_e (nm_r (nI_1 i) hp)⟩
theorem cc_w74 {post : Int32 → St1 → Prop} {g : Nat → Bool} {c : Nat} {v : Int32} (h : cc_R k lv U E V W D u) (hf : f < 4) (hc : c < 6) (hd : ∀ s, s < 5 → g s = true → ∃ r, D s f = some r) (hp : ∀ u', cc_R k lv U E V W (cc_al g f (fun s => (D s f).map (cc_wr c v)) D) u' → post (nI (cc_cn g 5)) u') : ∃ n, wX_mutate_74 post (nI f) (nI c) v (nI (cc_mk g)) n 0 u.1 u.2.1 u.2.2.1 u.2.2.2.1 u.2.2.2.2.1 u.2.2.2.2.2.1 u.2.2.2.2.2.2.1 u.2.2.2.2.2.2.2.1 u.2.2.2.2.2.2.2.2.1 u.2.2.2.2.2.2.2.2.2.1 u.2.2.2.2.2.2.2.2.2.2 := by
  refine pk_loop (fun n i (t : St1) => wX_mutate_74 post (nI f) (nI c) v (nI (cc_mk g)) n (nI i) t.1 t.2.1 t.2.2.1 t.2.2.2.1 t.2.2.2.2.1 t.2.2.2.2.2.1 t.2.2.2.2.2.2.1 t.2.2.2.2.2.2.2.1 t.2.2.2.2.2.2.2.2.1 t.2.2.2.2.2.2.2.2.2.1 t.2.2.2.2.2.2.2.2.2.2) (fun i t => cc_R k lv U E V W (cc_lp i g f (fun s => (D s f).map (cc_wr c v)) D) t) 5 0 u (by omega) (cc_Rc h (fun _ _ _ _ => rfl) (fun s' f' _ _ => cc_lp0 s' f'))
    (fun n t hI => ?_) (fun n i t hi hI hw => ?_)
  · obtain ⟨cp, lw, a1, a2, a3, a4, a5, a6, a7, a8, a9⟩ := t
    exact pk_le 5 5 (fun _ => cc_wbits (hp _ (cc_Rc hI (fun _ _ _ _ => rfl) (fun s' f' hs' _ => cc_lp5 hs' f')))) (fun z => absurd z (by omega))
  · obtain ⟨cp, lw, a1, a2, a3, a4, a5, a6, a7, a8, a9⟩ := t
    refine pk_le 5 i (fun z => absurd z (by omega)) (fun _ => cc_bb (g i) (fun e => ?_) (fun e => nm_r (nI_1 i) (hw (cp, lw, a1, a2, a3, a4, a5, a6, a7, a8, a9) (cc_Rc hI (fun _ _ _ _ => rfl) (fun s' f' _ _ => cc_lps0 e s' f')))) (cc_bit g hi))
    obtain ⟨r, hr⟩ := hd i hi e
    refine cc_wown hI hi hf (by rw [cc_lpi]; exact hr) (fun u' b h' ho => ?_)
    obtain ⟨cp, lw, a1, a2, a3, a4, a5, a6, a7, a8, a9⟩ := u'
    have hb := ho.1
    have hblk := cc_ownb h' ho hi hf
    rw [cc_lpi] at hblk
    rw [cc_i6, cc_cl (show b * 6 + c < 1000 by omega), cc_cl (show b < 1000 by omega)]
    have fin : ∀ y, y b = cc_wl c (a7 b) → (∀ j, j ≠ b → y j = a7 j) → wX_mutate_136 post (wX_mutate_74 post (nI f) (nI c) v (nI (cc_mk g)) n) (nI f) (nI c) v (nI (cc_mk g)) (nI i) (nI b) cp lw a1 a2 a3 a4 a5 (upd a6 (b * 6 + c) v) y a8 a9 := fun y hy hy' => by
      refine cc_w136 hb ?_
      refine hw (cp, lw, a1, a2, a3, a4, a5, upd a6 (b * 6 + c) v, y, upd a8 b (cc_sm (cc_blk (upd a6 (b * 6 + c) v) y a8 b).1 (y b) 6), a9) ?_
      have h2 := cc_put (a6' := upd a6 (b * 6 + c) v) (a7' := y) (a8' := upd a8 b (cc_sm (cc_blk (upd a6 (b * 6 + c) v) y a8 b).1 (y b) 6)) h' ho hi hf (fun j hj => pk_un (by omega)) hy' (fun j hj => pk_un hj)
      refine cc_Rc h2 (fun _ _ _ _ => rfl) (fun s' f' _ _ => ?_)
      rw [cc_lps1 e]
      refine congrArg (fun z => cc_st _ i f z s' f') ?_
      show (D i f).map (cc_wr c v) = _
      rw [hblk]
      refine congrArg some ?_
      show cc_wr c v (cc_blk a6 a7 a8 b) = ((fun x => if x < 6 then upd a6 (b * 6 + c) v (b * 6 + x) else 0), y b, upd a8 b (cc_sm (fun x => if x < 6 then upd a6 (b * 6 + c) v (b * 6 + x) else 0) (y b) 6) b)
      rw [pk_us, hy, cc_cells hc]
      rfl
    refine ⟨cc_in (by omega), nm_e ⟨pk_in b 20 hb, br_c (fun z => ?_) (fun z => ⟨pk_in b 20 hb, nm_e ?_⟩)⟩⟩
    · exact fin a7 (if_pos z).symm (fun _ _ => rfl)
    · exact fin (upd a7 b (nI c + 1)) (by rw [pk_us]; exact (if_neg z).symm) (fun j hj => pk_un hj)
theorem cc_w31 {post : Int32 → St1 → Prop} {g : Nat → Bool} {x2 x3 : Int32} (h : cc_R k lv U E V W D (cp, lw, a1, a2, a3, a4, a5, a6, a7, a8, a9)) (hf : f < 4) (hp : ∀ x, cc_R k lv U E V (cc_al g f (fun _ => V f) W) D (cp, lw, a1, a2, a3, a4, x, a6, a7, a8, a9) → ∃ n, wX_mutate_74 post (nI f) x2 x3 (nI (cc_mk g)) n 0 cp lw a1 a2 a3 a4 x a6 a7 a8 a9) : ∃ n, wX_mutate_31 post (nI f) x2 x3 (nI (cc_mk g)) cp lw n 0 a1 a2 a3 a4 a5 a6 a7 a8 a9 := by
  refine pk_loop (fun n i x => wX_mutate_31 post (nI f) x2 x3 (nI (cc_mk g)) cp lw n (nI i) a1 a2 a3 a4 x a6 a7 a8 a9) (fun i x => cc_R k lv U E V (cc_lp i g f (fun _ => V f) W) D (cp, lw, a1, a2, a3, a4, x, a6, a7, a8, a9)) 5 0 a5 (by omega) (cc_Rc h (fun s' f' _ _ => cc_lp0 s' f') (fun _ _ _ _ => rfl))
    (fun n x hI => pk_le 5 5 (fun _ => hp x (cc_Rc hI (fun s' f' hs' _ => cc_lp5 hs' f') (fun _ _ _ _ => rfl))) (fun z => absurd z (by omega)))
    (fun n i x hi hI hw => pk_le 5 i (fun z => absurd z (by omega)) (fun _ => cc_bb (g i) (fun e => ⟨pk_in f 4 hf, pk_in (i * 4 + f) 20 (by omega) (cc_i4 i f), nm_e (nm_r (nI_1 i) (hw _ ?_))⟩) (fun e => nm_r (nI_1 i) (hw _ (cc_Rc hI (fun s' f' _ _ => cc_lps0 e s' f') (fun _ _ _ _ => rfl)))) (cc_bit g hi)))
  have hh := hI
  obtain ⟨hH, hK⟩ := hh
  rw [cc_i4, cc_cl (show i * 4 + f < 1000 by omega), cc_cl (show f < 1000 by omega)]
  have h3 := hH.2.2.2.2.2.1 f hf
  have h4 : cc_R k lv U E V (cc_st (cc_lp i g f (fun _ => V f) W) i f (V f)) D (cp, lw, a1, a2, a3, a4, upd x (i * 4 + f) (a3 f), a6, a7, a8, a9) := ⟨cc_HW hH hi hf h3.2 h3.1, hK⟩
  exact cc_Rc h4 (fun s' f' _ _ => cc_lps1 e s' f') (fun _ _ _ _ => rfl)
theorem cc_wmut {post : Int32 → St1 → Prop} {g : Nat → Bool} {c : Nat} {v : Int32} (h : cc_R k lv U E V W D u) (hf : f < 4) (hc : c < 6) (hl : lv < 1000) (hg : g = fun s => cc_cur E V W D s f && U s)
    (hA : (∀ s, s < 5 → g s = cc_cur E V W D s f) → ∀ u', cc_R k lv U E V W (cc_al g f (fun s => (D s f).map (cc_wr c v)) D) u' → post (nI (cc_cn g 5)) u')
    (hB : ∀ u', cc_R k (lv + 1) U E (cc_u1 V f (lv + 1)) (cc_al g f (fun _ => lv + 1) W) (cc_al g f (fun s => (D s f).map (cc_wr c v)) D) u' → post (nI (cc_cn g 5)) u') : wpX_mutate post u (nI f) (nI c) v := by
  have hd : ∀ s, s < 5 → g s = true → ∃ r, D s f = some r := fun s _ e => by
    rw [hg] at e
    obtain ⟨r, hr, _⟩ := cc_cur_some (Bool.and_eq_true _ _ |>.mp e).1
    exact ⟨r, hr⟩
  have h74 := fun hx => cc_w74 (post := post) (v := v) h hf hc hd (hA hx)
  obtain ⟨cp, lw, a1, a2, a3, a4, a5, a6, a7, a8, a9⟩ := u
  unfold wpX_mutate
  refine cc_wset h hf (cc_wups h (nm_r (e' := nI (cc_mk g)) (by rw [cc_and, hg]) ?_))
  have l1 := cc_mklt g
  have l2 := cc_mklt (fun s => cc_cur E V W D s f)
  refine pk_eq (cc_mk g) (cc_mk (fun s => cc_cur E V W D s f)) (fun z => h74 (cc_mkinj z)) (fun _ => ?_) rfl rfl (by omega) (by omega)
  refine cc_wver h hf hl (fun u' h' => ?_)
  obtain ⟨cp, lw, a1, a2, a3, a4, a5, a6, a7, a8, a9⟩ := u'
  refine cc_w31 h' hf (fun x h2 => ?_)
  rw [cc_u1s] at h2
  exact cc_w74 (u := (cp, lw, a1, a2, a3, a4, x, a6, a7, a8, a9)) h2 hf hc hd hB
theorem cc_share {t : Nat} {r : cc_C} (h : cc_R k lv U E V W D (cp, lw, a1, a2, a3, a4, a5, a6, a7, a8, a9)) (hs : s < 5) (hf : f < 4) (ht : t < 4) (hdt : D s t = none) (hdf : D s f = some r) : ∃ b, b < 20 ∧ a4 (s * 4 + f) = nI b ∧ cc_R k lv U E V (cc_st W s t (V t)) (cc_st D s t (some r)) (cp, lw, a1, a2, a3, upd a4 (s * 4 + t) (nI b), upd a5 (s * 4 + t) (a3 t), a6, a7, a8, upd a9 b (a9 b + 1)) := by
  obtain ⟨hH, Q, hL, hV⟩ := h
  obtain ⟨hq, hr⟩ := cc_some4 hV hs hf hdf
  have hqt := cc_none4 hL hV hs ht hdt
  have h3 := hH.2.2.2.2.2.1 t ht
  refine ⟨s * 4 + Q s f, by omega, cc_ptr hL hs hf hq, cc_HW hH hs ht h3.2 h3.1, cc_st Q s t (Q s f), cc_move hL hs ht (by omega) (if_pos hq).symm (fun j hj => ?_) (fun s' j hs' hj z => pk_un (by omega)), ?_⟩
  · have hc := cc_ccu (Q s) ht (Q s f) j
    rw [if_neg (show ¬ Q s t = j by omega)] at hc
    by_cases e : Q s f = j
    · rw [if_pos e] at hc
      rw [e] at hc
      rw [e, pk_us, hL.2 s j hs hj, nI_1]
      exact congrArg nI (by omega)
    · rw [if_neg e] at hc
      rw [pk_un (by omega), hL.2 s j hs hj]
      exact congrArg nI (by omega)
  · refine cc_Vst hV ?_
    rw [if_pos hq, hr]
theorem cc_w75 {post : Int32 → St1 → Prop} {g : Nat → Bool} {t : Nat} (h : cc_R k lv U E V W D u) (hf : f < 4) (ht : t < 4) (hft : f ≠ t) (hd : ∀ s, s < 5 → g s = true → ∃ r, D s f = some r) (hp : ∀ u', cc_R k lv U E V (cc_al g t (fun _ => V t) W) (cc_al g t (fun s => D s f) D) u' → post (nI (cc_cn g 5)) u') : ∃ n, wX_snapshot_75 post (nI f) (nI t) (nI (cc_mk g)) n 0 u.1 u.2.1 u.2.2.1 u.2.2.2.1 u.2.2.2.2.1 u.2.2.2.2.2.1 u.2.2.2.2.2.2.1 u.2.2.2.2.2.2.2.1 u.2.2.2.2.2.2.2.2.1 u.2.2.2.2.2.2.2.2.2.1 u.2.2.2.2.2.2.2.2.2.2 := by
  refine pk_loop (fun n i (w : St1) => wX_snapshot_75 post (nI f) (nI t) (nI (cc_mk g)) n (nI i) w.1 w.2.1 w.2.2.1 w.2.2.2.1 w.2.2.2.2.1 w.2.2.2.2.2.1 w.2.2.2.2.2.2.1 w.2.2.2.2.2.2.2.1 w.2.2.2.2.2.2.2.2.1 w.2.2.2.2.2.2.2.2.2.1 w.2.2.2.2.2.2.2.2.2.2) (fun i w => cc_R k lv U E V (cc_lp i g t (fun _ => V t) W) (cc_lp i g t (fun s => D s f) D) w) 5 0 u (by omega) (cc_Rc h (fun s' f' _ _ => cc_lp0 s' f') (fun s' f' _ _ => cc_lp0 s' f'))
    (fun n w hI => ?_) (fun n i w hi hI hw => ?_)
  · obtain ⟨cp, lw, a1, a2, a3, a4, a5, a6, a7, a8, a9⟩ := w
    exact pk_le 5 5 (fun _ => cc_wbits (hp _ (cc_Rc hI (fun s' f' hs' _ => cc_lp5 hs' f') (fun s' f' hs' _ => cc_lp5 hs' f')))) (fun z => absurd z (by omega))
  · obtain ⟨cp, lw, a1, a2, a3, a4, a5, a6, a7, a8, a9⟩ := w
    refine pk_le 5 i (fun z => absurd z (by omega)) (fun _ => cc_bb (g i) (fun e => ?_) (fun e => nm_r (nI_1 i) (hw (cp, lw, a1, a2, a3, a4, a5, a6, a7, a8, a9) (cc_Rc hI (fun s' f' _ _ => cc_lps0 e s' f') (fun s' f' _ _ => cc_lps0 e s' f')))) (cc_bit g hi))
    obtain ⟨r, hr⟩ := hd i hi e
    refine cc_wlet hI hi ht (fun u' h' => ?_)
    obtain ⟨cp, lw, a1, a2, a3, a4, a5, a6, a7, a8, a9⟩ := u'
    have hdf : cc_st (cc_lp i g t (fun s => D s f) D) i t none i f = some r := by
      rw [cc_stn (fun z => hft z.2), cc_lpi]
      exact hr
    obtain ⟨b, hb, hab, h2⟩ := cc_share h' hi hf ht cc_sts hdf
    rw [cc_stst] at h2
    rw [cc_i4, cc_i4, cc_cl (show i * 4 + f < 1000 by omega), cc_cl (show i * 4 + t < 1000 by omega), cc_cl (show t < 1000 by omega)]
    refine ⟨cc_in (by omega), nm_r hab ⟨pk_in b 20 hb, pk_in b 20 hb, nm_e ⟨cc_in (by omega), nm_e ⟨pk_in t 4 ht, cc_in (by omega), nm_e (nm_r (nI_1 i) (hw (cp, lw, a1, a2, a3, upd a4 (i * 4 + t) (nI b), upd a5 (i * 4 + t) (a3 t), a6, a7, a8, upd a9 (nI b).toNatClampNeg (a9 (nI b).toNatClampNeg + 1)) ?_))⟩⟩⟩⟩
    rw [cc_cl (show b < 1000 by omega)]
    refine cc_Rc h2 (fun s' f' _ _ => cc_lps1 e s' f') (fun s' f' _ _ => ?_)
    rw [cc_lps1 e]
    exact congrArg (fun z => cc_st _ i t z s' f') hr
theorem cc_wsnap {post : Int32 → St1 → Prop} {t : Nat} (h : cc_R k lv U E V W D u) (hf : f < 4) (ht : t < 4) (hl : lv < 1000) (h3 : E f = false → post (-3) u) (h2 : E f = true → E t = true → post (-2) u) (h5 : E f = true → E t = false → (∀ s, s < 5 → (U s && cc_cur E V W D s f) = false) → post (-5) u)
    (hp : E f = true → E t = false → ∀ s, s < 5 → U s = true → cc_cur E V W D s f = true → ∀ u', cc_R k (lv + 1) U (cc_u1 E t true) (cc_u1 V t (lv + 1)) (cc_al (fun s => cc_cur E V W D s f) t (fun _ => lv + 1) W) (cc_al (fun s => cc_cur E V W D s f) t (fun s => D s f) D) u' → post (nI (cc_cn (fun s => cc_cur E V W D s f) 5)) u') : wpX_snapshot post u (nI f) (nI t) := by
  obtain ⟨cp, lw, a1, a2, a3, a4, a5, a6, a7, a8, a9⟩ := u
  have hh := h
  obtain ⟨hH, hK⟩ := hh
  unfold wpX_snapshot
  rw [cc_cl (show f < 1000 by omega), cc_cl (show t < 1000 by omega)]
  refine cc_wbf hf (br_t rfl (cc_wbf ht (br_t rfl ⟨pk_in f 4 hf, cc_bo (E f) h3 (fun e => ⟨pk_in t 4 ht, cc_bo (E t) (fun e2 => cc_wsrc h hf (fun s hs e3 e4 => br_t (nI_pos' (by omega)) (cc_wset h hf ⟨pk_in t 4 ht, nm_e ?_⟩)) (fun hn => br_f (by decide) (h5 e e2 hn))) (h2 e) (hH.2.2.2.2.1 t ht)⟩) (hH.2.2.2.2.1 f hf)⟩)))
  have h' : cc_R k lv U (cc_u1 E t true) V W D (cp, lw, a1, upd a2 t 1, a3, a4, a5, a6, a7, a8, a9) := ⟨cc_HE hH rfl, hK⟩
  refine cc_wver h' ht hl (fun u' h'' => ?_)
  have hft : f ≠ t := fun z => by
    rw [z, e2] at e
    exact absurd e (by decide)
  have hx := cc_w75 (post := post) (g := fun s => cc_cur E V W D s f) h'' hf ht hft (fun s _ z => (cc_cur_some z).imp (fun r hr => hr.1)) (fun u2 hR => hp e e2 s hs e3 e4 u2 (by rw [cc_u1s] at hR; exact hR))
  obtain ⟨cp, lw, a1, a2, a3, a4, a5, a6, a7, a8, a9⟩ := u'
  exact hx
end
end
section
/-! 06: who is current, and what a current replica holds -/
def cc_I (k lv : Nat) (U E : Nat → Bool) (K : Nat → Nat → Bool) (C : Nat → (Nat → Int32) × Nat) (u : St1) : Prop :=
  ∃ V W D, cc_R k lv U E V W D u ∧ (∀ s f, s < 5 → f < 4 → cc_cur E V W D s f = K s f) ∧ (∀ s f, s < 5 → f < 4 → K s f = true → ∃ ch, D s f = some ((C f).1, nI (C f).2, ch)) ∧ ∀ f, f < 4 → (C f).2 ≤ 6
def cc_kf (K : Nat → Nat → Bool) (f : Nat) (g : Nat → Bool) : Nat → Nat → Bool := fun s f' => if f' = f then g s else K s f'
theorem cc_kfs {K : Nat → Nat → Bool} {f : Nat} {g : Nat → Bool} {s : Nat} : cc_kf K f g s f = g s := if_pos rfl
theorem cc_kfn {K : Nat → Nat → Bool} {f f' : Nat} {g : Nat → Bool} {s : Nat} (h : f' ≠ f) : cc_kf K f g s f' = K s f' := if_neg h
theorem cc_curc {E E' : Nat → Bool} {V V' : Nat → Nat} {W W' : Nat → Nat → Nat} {D D' : Nat → Nat → Option cc_C} {s f : Nat} (hE : E' f = E f) (hV : V' f = V f) (hW : W' s f = W s f) (hD : D' s f = D s f) : cc_cur E' V' W' D' s f = cc_cur E V W D s f := by
  cases hd : D s f with
  | none => rw [cc_cur_n hd, cc_cur_n (hD.trans hd)]
  | some r => rw [cc_cur_s hd, cc_cur_s (hD.trans hd), hE, hV, hW]
theorem cc_cur_v {E : Nat → Bool} {V : Nat → Nat} {W : Nat → Nat → Nat} {D : Nat → Nat → Option cc_C} {s f : Nat} (h : W s f ≠ V f) : cc_cur E V W D s f = false := by
  cases hd : D s f with
  | none => exact cc_cur_n hd
  | some r => rw [cc_cur_s hd, decide_eq_false h, Bool.false_and, Bool.and_false]
theorem cc_cur_e {E : Nat → Bool} {V : Nat → Nat} {W : Nat → Nat → Nat} {D : Nat → Nat → Option cc_C} {s f : Nat} (h : E f = false) : cc_cur E V W D s f = false := by
  cases hd : D s f with
  | none => exact cc_cur_n hd
  | some r => rw [cc_cur_s hd, h, Bool.false_and]
theorem cc_cur_t {E : Nat → Bool} {V : Nat → Nat} {W : Nat → Nat → Nat} {D : Nat → Nat → Option cc_C} {s f : Nat} {r : cc_C} (hd : D s f = some r) (hE : E f = true) (hV : W s f = V f) (hs : cc_sm r.1 r.2.1 6 = r.2.2) : cc_cur E V W D s f = true := by
  rw [cc_cur_s hd, hE, decide_eq_true hV, decide_eq_true hs]
  rfl
theorem cc_bf {b : Bool} (h : ¬ b = true) : b = false := by
  cases b
  · rfl
  · exact absurd rfl h
section
variable {cp lw : Int32} {a1 a2 a3 a4 a5 a6 a7 a8 a9 : Nat → Int32} {k lv : Nat} {U E : Nat → Bool} {V : Nat → Nat} {W : Nat → Nat → Nat} {D : Nat → Nat → Option cc_C} {u : St1} {s f : Nat}
variable {K : Nat → Nat → Bool} {C : Nat → (Nat → Int32) × Nat}
theorem cc_RW (h : cc_R k lv U E V W D u) (hs : s < 5) (hf : f < 4) : W s f ≤ lv := by
  obtain ⟨cp, lw, a1, a2, a3, a4, a5, a6, a7, a8, a9⟩ := u
  exact (h.1.2.2.2.2.2.2 s f hs hf).2
theorem cc_Rk (h : cc_R k lv U E V W D (cp, lw, a1, a2, a3, a4, a5, a6, a7, a8, a9)) : cp = nI k ∧ 1 ≤ k ∧ k ≤ 3 := ⟨h.1.1, h.1.2.2.1.1, h.1.2.2.1.2.1⟩
theorem cc_Ic {K' : Nat → Nat → Bool} {C' : Nat → (Nat → Int32) × Nat} (h : cc_I k lv U E K C u) (hK : ∀ s f, s < 5 → f < 4 → K' s f = K s f) (hC : ∀ f, f < 4 → C' f = C f) : cc_I k lv U E K' C' u := by
  obtain ⟨V, W, D, hR, h1, h2, h3⟩ := h
  exact ⟨V, W, D, hR, fun s f hs hf => by rw [hK s f hs hf]; exact h1 s f hs hf, fun s f hs hf e => by rw [hC f hf]; exact h2 s f hs hf (by rw [← hK s f hs hf]; exact e), fun f hf => by rw [hC f hf]; exact h3 f hf⟩
theorem cc_IE (h : cc_I k lv U E K C u) (hs : s < 5) (hf : f < 4) (e : E f = false) : K s f = false := by
  obtain ⟨V, W, D, hR, h1, h2, h3⟩ := h
  rw [← h1 s f hs hf]
  exact cc_cur_e e
theorem cc_I6 (h : cc_I k lv U E K C u) (hf : f < 4) : (C f).2 ≤ 6 := by
  obtain ⟨V, W, D, hR, h1, h2, h3⟩ := h
  exact h3 f hf
theorem cc_Iany (h : cc_R k lv U E V W D u) (h2 : ∀ s f, s < 5 → f < 4 → cc_cur E V W D s f = true → ∃ ch, D s f = some ((C f).1, nI (C f).2, ch)) (h3 : ∀ f, f < 4 → (C f).2 ≤ 6) : cc_I k lv U E (cc_cur E V W D) C u := ⟨V, W, D, h, fun _ _ _ _ => rfl, h2, h3⟩
theorem cc_Ilen {post : Int32 → Prop} (h : cc_I k lv U E K C u) (hf : f < 4) (h3 : E f = false → post (-3)) (h0 : E f = true → ∀ s, s < 5 → U s = true → K s f = true → post (nI (C f).2)) (h5 : E f = true → (∀ s, s < 5 → (U s && K s f) = false) → post (-5)) : wpX_length post u (nI f) := by
  obtain ⟨V, W, D, hR, hK, hD, hC⟩ := h
  refine cc_wlen hR hf h3 (fun e s r hs e1 e2 hr => ?_) (fun e hn => h5 e (fun s hs => by rw [← hK s f hs hf]; exact hn s hs))
  rw [hK s f hs hf] at e2
  obtain ⟨ch, hch⟩ := hD s f hs hf e2
  rw [hr] at hch
  rw [Option.some.inj hch]
  exact h0 e s hs e1 e2
theorem cc_Iread {post : Int32 → Prop} {c : Nat} (h : cc_I k lv U E K C u) (hf : f < 4) (hc : c < 6) (h3 : E f = false → post (-3)) (h0 : E f = true → ∀ s, s < 5 → U s = true → K s f = true → post ((C f).1 c)) (h5 : E f = true → (∀ s, s < 5 → (U s && K s f) = false) → post (-5)) : wpX_read post u (nI f) (nI c) := by
  obtain ⟨V, W, D, hR, hK, hD, hC⟩ := h
  refine cc_wread hR hf hc h3 (fun e s r hs e1 e2 hr => ?_) (fun e hn => h5 e (fun s hs => by rw [← hK s f hs hf]; exact hn s hs))
  rw [hK s f hs hf] at e2
  obtain ⟨ch, hch⟩ := hD s f hs hf e2
  rw [hr] at hch
  rw [Option.some.inj hch]
  exact h0 e s hs e1 e2
theorem cc_Irep {post : Int32 → Prop} (h : cc_I k lv U E K C u) (hf : f < 4) (h3 : E f = false → post (-3)) (h0 : E f = true → post (nI (cc_mk (fun s => K s f)))) : wpX_replicas post u (nI f) := by
  obtain ⟨V, W, D, hR, hK, hD, hC⟩ := h
  exact cc_wrep hR hf h3 (fun e => by rw [cc_mkc (fun s hs => hK s f hs hf)]; exact h0 e)
theorem cc_Icrash {post : Int32 → St1 → Prop} (h : cc_I k lv U E K C u) (hs : s < 5) (hp : ∀ r u', cc_I k lv (cc_u1 U s false) E K C u' → post r u') : wpX_crash post u (nI s) := by
  obtain ⟨V, W, D, hR, hK, hD, hC⟩ := h
  exact cc_wcrash hR hs (fun r u' hR' => hp r u' ⟨V, W, D, hR', hK, hD, hC⟩)
theorem cc_Irestart {post : Int32 → St1 → Prop} (h : cc_I k lv U E K C u) (hs : s < 5) (hp : ∀ r u' K', cc_I k lv (cc_u1 U s true) E K' C u' → post r u') : wpX_restart post u (nI s) := by
  obtain ⟨V, W, D, hR, hK, hD, hC⟩ := h
  refine cc_wrestart hR hs (fun r u' hR' => hp r u' _ (cc_Iany hR' (fun s' f' hs' hf' e => ?_) hC))
  by_cases z : cc_fp 4 (fun f => !E f || !decide (W s f = V f)) s D s' f' = D s' f'
  · rw [z]
    rw [cc_curc (E := E) (V := V) (W := W) (D := D) rfl rfl rfl z, hK s' f' hs' hf'] at e
    exact hD s' f' hs' hf' e
  · have z2 : cc_fp 4 (fun f => !E f || !decide (W s f = V f)) s D s' f' = none := by
      unfold cc_fp at z ⊢
      by_cases t : f' < 4 ∧ s' = s ∧ (!E f' || !decide (W s f' = V f')) = true
      · rw [if_pos t]
      · rw [if_neg t] at z
        exact absurd rfl z
    rw [cc_cur_n z2] at e
    exact absurd e (by decide)
theorem cc_Ilose {post : Int32 → St1 → Prop} (h : cc_I k lv U E K C u) (hs : s < 5) (hp : ∀ n u' K', n ≤ 4 → cc_I k lv U E K' C u' → post (nI n) u') : wpX_loseDisk post u (nI s) := by
  obtain ⟨V, W, D, hR, hK, hD, hC⟩ := h
  refine cc_wlose hR hs (fun n u' hn hR' => hp n u' _ hn (cc_Iany hR' (fun s' f' hs' hf' e => ?_) hC))
  by_cases z : cc_fp 4 (fun _ => true) s D s' f' = D s' f'
  · rw [z]
    rw [cc_curc (E := E) (V := V) (W := W) (D := D) rfl rfl rfl z, hK s' f' hs' hf'] at e
    exact hD s' f' hs' hf' e
  · have z2 : cc_fp 4 (fun _ => true) s D s' f' = none := by
      unfold cc_fp at z ⊢
      by_cases t : f' < 4 ∧ s' = s ∧ true = true
      · rw [if_pos t]
      · rw [if_neg t] at z
        exact absurd rfl z
    rw [cc_cur_n z2] at e
    exact absurd e (by decide)
theorem cc_Idamage {post : Int32 → St1 → Prop} (h : cc_I k lv U E K C u) (hs : s < 5) (hf : f < 4) (hp : ∀ r u' K', cc_I k lv U E K' C u' → post r u') : wpX_damage post u (nI s) (nI f) := by
  have h0 := h
  obtain ⟨V, W, D, hR, hK, hD, hC⟩ := h
  refine cc_wdamage hR hs hf (fun r => hp r u K h0) (fun u' c l ch e hd hR' => hp 1 u' _ (cc_Iany hR' (fun s' f' hs' hf' e' => ?_) hC))
  by_cases z : s' = s ∧ f' = f
  · rw [z.1, z.2] at e'
    obtain ⟨r, hr, _, _, hsum⟩ := cc_cur_some e'
    rw [cc_sts] at hr
    have hr' := (Option.some.inj hr).symm
    subst hr'
    obtain ⟨r2, hr2, _, _, hsum2⟩ := cc_cur_some e
    rw [hd] at hr2
    have hr2' := (Option.some.inj hr2).symm
    subst hr2'
    exact absurd (hsum.trans hsum2.symm) (cc_dmg c (upd c 0 (c 0 ^^^ 1)) l pk_us (fun i hi _ => pk_un (by omega)))
  · have z2 : cc_st D s f (some (upd c 0 (c 0 ^^^ 1), l, ch)) s' f' = D s' f' := cc_stn z
    rw [z2]
    rw [cc_curc (E := E) (V := V) (W := W) (D := D) rfl rfl rfl z2, hK s' f' hs' hf'] at e'
    exact hD s' f' hs' hf' e'
theorem cc_Icreate {post : Int32 → St1 → Prop} (h : cc_I k lv U E K C u) (hf : f < 4) (hl : lv < 1000) (h2 : E f = true → post (-2) u) (h4 : E f = false → (∀ s, s < 5 → U s = false) → post (-4) u)
    (hp : E f = false → ∀ u' g n, n = cc_cn g 5 → n ≤ k → (n = k ∨ n = cc_cn U 5) → cc_I k (lv + 1) U (cc_u1 E f true) (cc_kf K f g) (cc_u1 C f (fun _ => 0, 0)) u' → post (nI n) u') : wpX_create post u (nI f) := by
  obtain ⟨V, W, D, hR, hK, hD, hC⟩ := h
  refine cc_wcreate hR hf hl h2 h4 (fun e u' g n hg hn hnk hnu hR' => hp e u' g n hn hnk hnu ⟨_, _, _, hR', fun s f' hs hf' => ?_, fun s f' hs hf' e' => ?_, fun f' hf' => ?_⟩)
  · by_cases z : f' = f
    · subst z
      rw [cc_kfs]
      cases hgs : g s
      · refine cc_cur_v ?_
        rw [cc_alf hgs, cc_u1s]
        have := cc_RW hR hs hf
        omega
      · exact cc_cur_t (cc_alt hgs) cc_u1s (by rw [cc_alt hgs, cc_u1s]) rfl
    · rw [cc_kfn z, ← hK s f' hs hf']
      exact cc_curc (cc_u1n z) (cc_u1n z) (cc_aln s z) (cc_aln s z)
  · by_cases z : f' = f
    · subst z
      rw [cc_kfs] at e'
      rw [cc_alt e', cc_u1s]
      exact ⟨_, rfl⟩
    · rw [cc_kfn z] at e'
      rw [cc_aln s z, cc_u1n z]
      exact hD s f' hs hf' e'
  · by_cases z : f' = f
    · rw [z, cc_u1s]
      exact Nat.zero_le 6
    · rw [cc_u1n z]
      exact hC f' hf'
theorem cc_Iremove {post : Int32 → St1 → Prop} (h : cc_I k lv U E K C u) (hf : f < 4) (h3 : E f = false → post (-3) u) (hp : E f = true → ∀ u', cc_I k lv U (cc_u1 E f false) (cc_kf K f (fun _ => false)) C u' → post 0 u') : wpX_remove post u (nI f) := by
  obtain ⟨V, W, D, hR, hK, hD, hC⟩ := h
  refine cc_wremove hR hf h3 (fun e u' hR' => hp e u' ⟨_, _, _, hR', fun s f' hs hf' => ?_, fun s f' hs hf' e' => ?_, hC⟩)
  · by_cases z : f' = f
    · subst z
      rw [cc_kfs]
      exact cc_cur_e cc_u1s
    · rw [cc_kfn z, ← hK s f' hs hf']
      exact cc_curc (cc_u1n z) rfl rfl (cc_aln s z)
  · by_cases z : f' = f
    · subst z
      rw [cc_kfs] at e'
      exact absurd e' (by decide)
    · rw [cc_kfn z] at e'
      rw [cc_aln s z]
      exact hD s f' hs hf' e'
/-! writes -/
def cc_cw (c : Nat) (v : Int32) (x : (Nat → Int32) × Nat) : (Nat → Int32) × Nat := (upd x.1 c v, max x.2 (c + 1))
theorem cc_wlN {c m : Nat} (hc : c < 6) (hm : m ≤ 6) : cc_wl c (nI m) = nI (max m (c + 1)) := by
  unfold cc_wl
  rw [nI_1]
  by_cases z : c + 1 ≤ m
  · rw [if_pos ((nI_leI (by omega) (by omega)).mpr z)]
    exact congrArg nI (by omega)
  · rw [if_neg (fun t => z ((nI_leI (by omega) (by omega)).mp t))]
    exact congrArg nI (by omega)
theorem cc_Imut {post : Int32 → St1 → Prop} {c : Nat} {v : Int32} (h : cc_I k lv U E K C u) (hf : f < 4) (hc : c < 6) (hl : lv < 1000) (hp : ∀ u' lv', lv' ≤ lv + 1 → cc_I k lv' U E (cc_kf K f (fun s => K s f && U s)) (cc_u1 C f (cc_cw c v (C f))) u' → post (nI (cc_cn (fun s => K s f && U s) 5)) u') : wpX_mutate post u (nI f) (nI c) v := by
  obtain ⟨V, W, D, hR, hK, hD, hC⟩ := h
  have hg : ∀ s, s < 5 → (cc_cur E V W D s f && U s) = (K s f && U s) := fun s hs => by rw [hK s f hs hf]
  have key : ∀ V' W' lv' u', lv' ≤ lv + 1 → cc_R k lv' U E V' W' (cc_al (fun s => cc_cur E V W D s f && U s) f (fun s => (D s f).map (cc_wr c v)) D) u' → (∀ f', f' ≠ f → V' f' = V f') → (∀ s f', f' ≠ f → W' s f' = W s f') → (∀ s, s < 5 → (cc_cur E V W D s f && U s) = true → W' s f = V' f) → (∀ s, s < 5 → (cc_cur E V W D s f && U s) = false → cc_cur E V' W' (cc_al (fun s => cc_cur E V W D s f && U s) f (fun s => (D s f).map (cc_wr c v)) D) s f = false) → post (nI (cc_cn (fun s => cc_cur E V W D s f && U s) 5)) u' := by
    intro V' W' lv' u' hlv hR' e1 e2 e3 e4
    rw [cc_cnc 5 hg]
    refine hp u' lv' hlv ⟨V', W', _, hR', fun s f' hs hf' => ?_, fun s f' hs hf' e' => ?_, fun f' hf' => ?_⟩
    · by_cases z : f' = f
      · subst z
        rw [cc_kfs, ← hg s hs]
        cases hgs : (cc_cur E V W D s f' && U s)
        · exact e4 s hs hgs
        · obtain ⟨r, hr, hE, _⟩ := cc_cur_some (Bool.and_eq_true _ _ |>.mp hgs).1
          exact cc_cur_t (r := cc_wr c v r) (by rw [cc_alt (g := fun s => cc_cur E V W D s f' && U s) hgs, hr]; rfl) hE (e3 s hs hgs) rfl
      · rw [cc_kfn z, ← hK s f' hs hf']
        exact cc_curc rfl (e1 f' z) (e2 s f' z) (cc_aln s z)
    · by_cases z : f' = f
      · subst z
        rw [cc_kfs] at e'
        have hgs := (hg s hs).trans e'
        obtain ⟨ch, hch⟩ := hD s f' hs hf' (Bool.and_eq_true _ _ |>.mp e').1
        rw [cc_alt (g := fun s => cc_cur E V W D s f' && U s) hgs, hch, cc_u1s]
        refine ⟨cc_sm (upd (C f').1 c v) (cc_wl c (nI (C f').2)) 6, congrArg some ?_⟩
        show (upd (C f').1 c v, cc_wl c (nI (C f').2), cc_sm (upd (C f').1 c v) (cc_wl c (nI (C f').2)) 6) = (upd (C f').1 c v, nI (max (C f').2 (c + 1)), cc_sm (upd (C f').1 c v) (cc_wl c (nI (C f').2)) 6)
        rw [cc_wlN hc (hC f' hf')]
      · rw [cc_kfn z] at e'
        rw [cc_aln s z, cc_u1n z]
        exact hD s f' hs hf' e'
    · by_cases z : f' = f
      · rw [z, cc_u1s]
        have := hC f hf
        show max (C f).2 (c + 1) ≤ 6
        omega
      · rw [cc_u1n z]
        exact hC f' hf'
  refine cc_wmut hR hf hc hl rfl (fun hx u' hR' => ?_) (fun u' hR' => ?_)
  · refine key V W lv u' (by omega) hR' (fun _ _ => rfl) (fun _ _ _ => rfl) (fun s hs e => ?_) (fun s hs e => ?_)
    · obtain ⟨r, hr, _, hv, _⟩ := cc_cur_some (Bool.and_eq_true _ _ |>.mp e).1
      exact hv
    · rw [cc_curc (E := E) (V := V) (W := W) (D := D) rfl rfl rfl (cc_alf (g := fun s => cc_cur E V W D s f && U s) e f), ← hx s hs]
      exact e
  · refine key (cc_u1 V f (lv + 1)) _ (lv + 1) u' (by omega) hR' (fun f' z => cc_u1n z) (fun s f' z => cc_aln s z) (fun s hs e => ?_) (fun s hs e => ?_)
    · rw [cc_alt (g := fun s => cc_cur E V W D s f && U s) e, cc_u1s]
    · refine cc_cur_v ?_
      rw [cc_alf (g := fun s => cc_cur E V W D s f && U s) e, cc_u1s]
      have := cc_RW hR hs hf
      omega
theorem cc_Iref {post : Int32 → Prop} (h : cc_I k lv U E K C u) (hf : f < 4) (h3 : E f = false → post (-3)) (h0 : E f = true → ∀ s, s < 5 → U s = true → K s f = true → post 0) (h5 : E f = true → (∀ s, s < 5 → (U s && K s f) = false) → post (-5)) : wpX_refusal post u (nI f) := by
  obtain ⟨V, W, D, hR, hK, hD, hC⟩ := h
  exact cc_wref hR hf h3 (fun e s hs e1 e2 => h0 e s hs e1 (by rw [← hK s f hs hf]; exact e2)) (fun e hn => h5 e (fun s hs => by rw [← hK s f hs hf]; exact hn s hs))
theorem cc_Iwrite {post : Int32 → St1 → Prop} {c : Nat} {v : Int32} (h : cc_I k lv U E K C u) (hf : f < 4) (hc : c < 6) (hl : lv < 1000) (h3 : E f = false → post (-3) u) (h5 : E f = true → (∀ s, s < 5 → (U s && K s f) = false) → post (-5) u)
    (hp : E f = true → ∀ s, s < 5 → U s = true → K s f = true → ∀ u' lv', lv' ≤ lv + 1 → cc_I k lv' U E (cc_kf K f (fun s => K s f && U s)) (cc_u1 C f (cc_cw c v (C f))) u' → post (nI (cc_cn (fun s => K s f && U s) 5)) u') : wpX_write post u (nI f) (nI c) v := by
  obtain ⟨cp, lw, a1, a2, a3, a4, a5, a6, a7, a8, a9⟩ := u
  unfold wpX_write
  exact cc_Iref h hf (fun e => br_f (by decide) (h3 e)) (fun e s hs e1 e2 => br_t rfl (pk_lt c 0 (fun z => absurd z (by omega)) (fun _ => pk_lt c 6 (fun _ => cc_Imut h hf hc hl (fun u' lv' hlv hI => by
    have := hp e s hs e1 e2 u' lv' hlv hI
    obtain ⟨cp, lw, a1, a2, a3, a4, a5, a6, a7, a8, a9⟩ := u'
    exact this)) (fun z => absurd z (by omega))))) (fun e hn => br_f (by decide) (h5 e hn))
theorem cc_Iappend {post : Int32 → St1 → Prop} {v : Int32} (h : cc_I k lv U E K C u) (hf : f < 4) (hl : lv < 1000) (h3 : E f = false → post (-3) u) (h5 : E f = true → (∀ s, s < 5 → (U s && K s f) = false) → post (-5) u) (h7 : E f = true → 6 ≤ (C f).2 → post (-7) u)
    (hp : E f = true → (C f).2 < 6 → ∀ s, s < 5 → U s = true → K s f = true → ∀ u' lv', lv' ≤ lv + 1 → cc_I k lv' U E (cc_kf K f (fun s => K s f && U s)) (cc_u1 C f (cc_cw (C f).2 v (C f))) u' → post (nI (C f).2) u') : wpX_append post u (nI f) v := by
  obtain ⟨cp, lw, a1, a2, a3, a4, a5, a6, a7, a8, a9⟩ := u
  unfold wpX_append
  refine cc_Iref h hf (fun e => br_f (by decide) (h3 e)) (fun e t ht e1 e2 => br_t rfl ?_) (fun e hn => br_f (by decide) (h5 e hn))
  have hI := h
  obtain ⟨V, W, D, hR, hK, hD, hC⟩ := h
  refine cc_wsrc hR hf (fun s hs e3 e4 => ?_) (fun hn => ?_)
  · rw [hK s f hs hf] at e4
    obtain ⟨ch, hch⟩ := hD s f hs hf e4
    rcases cc_Kp hR.2 hs hf with ⟨hd, ha⟩ | ⟨b, hb, ha, hd⟩
    · rw [hd] at hch
      exact absurd hch (by simp)
    · rw [hd] at hch
      have h7' : a7 b = nI (C f).2 := congrArg (fun z : cc_C => z.2.1) (Option.some.inj hch)
      have h6 := hC f hf
      rw [cc_i4, cc_cl (show s * 4 + f < 1000 by omega), ha, cc_cl (show b < 1000 by omega)]
      refine ⟨cc_in (by omega), pk_in b 20 hb, nm_r h7' (pk_lt (C f).2 6 (fun z => cc_Imut hI hf z hl (fun u' lv' hlv hI' => ?_)) (fun z => h7 e z))⟩
      have := hp e z s hs e3 e4 u' lv' hlv hI'
      obtain ⟨cp, lw, a1, a2, a3, a4, a5, a6, a7, a8, a9⟩ := u'
      exact this
  · have := hn t ht
    rw [hK t f ht hf, e1, e2] at this
    exact absurd this (by decide)
theorem cc_Isnap {post : Int32 → St1 → Prop} {t : Nat} (h : cc_I k lv U E K C u) (hf : f < 4) (ht : t < 4) (hl : lv < 1000) (h3 : E f = false → post (-3) u) (h2 : E f = true → E t = true → post (-2) u) (h5 : E f = true → E t = false → (∀ s, s < 5 → (U s && K s f) = false) → post (-5) u)
    (hp : E f = true → E t = false → ∀ s, s < 5 → U s = true → K s f = true → ∀ u', cc_I k (lv + 1) U (cc_u1 E t true) (cc_kf K t (fun s => K s f)) (cc_u1 C t (C f)) u' → post (nI (cc_cn (fun s => K s f) 5)) u') : wpX_snapshot post u (nI f) (nI t) := by
  obtain ⟨V, W, D, hR, hK, hD, hC⟩ := h
  refine cc_wsnap hR hf ht hl h3 h2 (fun e e2 hn => h5 e e2 (fun s hs => by rw [← hK s f hs hf]; exact hn s hs)) (fun e e2 s hs e3 e4 u' hR' => ?_)
  rw [cc_cnc 5 (fun s hs => hK s f hs hf)]
  refine hp e e2 s hs e3 (by rw [← hK s f hs hf]; exact e4) u' ⟨_, _, _, hR', fun s f' hs hf' => ?_, fun s f' hs hf' e' => ?_, fun f' hf' => ?_⟩
  · by_cases z : f' = t
    · subst z
      rw [cc_kfs, ← hK s f hs hf]
      cases hgs : cc_cur E V W D s f
      · refine cc_cur_v ?_
        rw [cc_alf (g := fun s => cc_cur E V W D s f) hgs, cc_u1s]
        have := cc_RW hR hs ht
        omega
      · obtain ⟨r, hr, _, _, hsum⟩ := cc_cur_some hgs
        exact cc_cur_t (r := r) (by rw [cc_alt (g := fun s => cc_cur E V W D s f) hgs]; exact hr) cc_u1s (by rw [cc_alt (g := fun s => cc_cur E V W D s f) hgs, cc_u1s]) hsum
    · rw [cc_kfn z, ← hK s f' hs hf']
      exact cc_curc (cc_u1n z) (cc_u1n z) (cc_aln s z) (cc_aln s z)
  · by_cases z : f' = t
    · subst z
      rw [cc_kfs] at e'
      have hgs := (hK s f hs hf).trans e'
      rw [cc_alt (g := fun s => cc_cur E V W D s f) hgs, cc_u1s]
      exact hD s f hs hf e'
    · rw [cc_kfn z] at e'
      rw [cc_aln s z, cc_u1n z]
      exact hD s f' hs hf' e'
  · by_cases z : f' = t
    · rw [z, cc_u1s]
      exact hC f hf
    · rw [cc_u1n z]
      exact hC f' hf'
/-! healing -/
def cc_gd (k : Nat) (U g : Nat → Bool) : Prop := (∀ s, s < 5 → (U s && g s) = false) ∨ k ≤ cc_cn (fun s => U s && g s) 5 ∨ cc_cn U 5 ≤ cc_cn (fun s => U s && g s) 5
theorem cc_IhealF {post : Int32 → St1 → Prop} (h : cc_I k lv U E K C u) (hf : f < 4) (hp : ∀ r u' g, cc_I k lv U E (cc_kf K f g) C u' → cc_gd k U g → post r u') : wpX_healFile post u (nI f) := by
  have hI0 : cc_I k lv U E (cc_kf K f (fun s => K s f)) C u := cc_Ic h (fun s f' _ _ => by
    by_cases z : f' = f
    · rw [z, cc_kfs]
    · rw [cc_kfn z]) (fun _ _ => rfl)
  have hI1 := h
  obtain ⟨V, W, D, hR, hK, hD, hC⟩ := h
  obtain ⟨cp, lw, a1, a2, a3, a4, a5, a6, a7, a8, a9⟩ := u
  unfold wpX_healFile
  refine cc_wsrc hR hf (fun fr hfr e1 e2 => br_t (nI_pos' (by omega)) ?_) (fun hn => br_f (by decide) (hp 0 _ _ hI0 (Or.inl (fun s hs => by show (U s && K s f) = false; rw [← hK s f hs hf]; exact hn s hs))))
  have hk := cc_Rk hR
  rw [hK fr f hfr hf] at e2
  clear hR hK hD hC hI1
  refine pk_loop (fun n i (t : Int32 × St1) => wX_healFile_17 post (nI f) (nI fr) n t.1 (nI i) t.2.1 t.2.2.1 t.2.2.2.1 t.2.2.2.2.1 t.2.2.2.2.2.1 t.2.2.2.2.2.2.1 t.2.2.2.2.2.2.2.1 t.2.2.2.2.2.2.2.2.1 t.2.2.2.2.2.2.2.2.2.1 t.2.2.2.2.2.2.2.2.2.2.1 t.2.2.2.2.2.2.2.2.2.2.2) (fun i t => ∃ g, cc_I k lv U E (cc_kf K f g) C t.2 ∧ g fr = true ∧ (i + 1 ≤ cc_cn (fun s => U s && g s) 5 ∨ k ≤ cc_cn (fun s => U s && g s) 5 ∨ cc_cn U 5 ≤ cc_cn (fun s => U s && g s) 5)) k 0 (0, (cp, lw, a1, a2, a3, a4, a5, a6, a7, a8, a9)) (by omega) ⟨_, hI0, e2, Or.inl ?_⟩
    (fun n t hI => ?_) (fun n i t hi hI hw => ?_)
  · apply Classical.byContradiction
    intro hlt
    have := cc_cnz (g := fun s => U s && K s f) 5 (by omega) fr hfr
    rw [e1, e2] at this
    exact absurd this (by decide)
  · obtain ⟨m, ⟨cp, lw, a1, a2, a3, a4, a5, a6, a7, a8, a9⟩⟩ := t
    obtain ⟨g, hI, hgf, hq⟩ := hI
    have hk' : cp = nI k := by
      obtain ⟨V, W, D, hR, hK, hD, hC⟩ := hI
      exact (cc_Rk hR).1
    refine pk_le k k (fun _ => hp _ _ g hI (Or.inr ?_)) (fun z => absurd z (by omega)) hk' rfl (by omega) (by omega)
    rcases hq with hq | hq | hq
    · exact Or.inl (by omega)
    · exact Or.inl hq
    · exact Or.inr hq
  · obtain ⟨m, ⟨cp, lw, a1, a2, a3, a4, a5, a6, a7, a8, a9⟩⟩ := t
    obtain ⟨g, hI, hgf, hq⟩ := hI
    have hI1 := hI
    obtain ⟨V, W, D, hR, hK, hD, hC⟩ := hI
    have hk' := (cc_Rk hR).1
    have hKf : ∀ s, s < 5 → cc_cur E V W D s f = g s := fun s hs => by
      rw [hK s f hs hf]
      exact cc_kfs
    have hcn : cc_cn (fun s => U s && cc_cur E V W D s f) 5 = cc_cn (fun s => U s && g s) 5 := cc_cnc 5 (fun s hs => by
      show (U s && cc_cur E V W D s f) = (U s && g s)
      rw [hKf s hs])
    have hc5 := cc_cnle (fun s => U s && cc_cur E V W D s f) 5
    refine pk_le k i (fun z => absurd z (by omega)) (fun _ => cc_wups hR (cc_wset hR hf ?_)) hk' rfl (by omega) (by omega)
    rw [cc_dif, cc_and]
    refine cc_wfirst hR (fun to hto e => cc_wbits ?_) (fun hno => cc_wbits ?_)
    · refine pk_le k _ (fun z => nm_r (nI_1 i) (hw (m, (cp, lw, a1, a2, a3, a4, a5, a6, a7, a8, a9)) ⟨g, hI1, hgf, Or.inr (Or.inl (by omega))⟩)) (fun z => br_f (nI_pos (by omega)) ?_) hk' rfl (by omega) (by omega)
      rw [hKf to hto, Bool.and_eq_true] at e
      have hgt : g to = false := by
        cases hg : g to
        · rfl
        · rw [hg] at e
          exact absurd e.2 (by decide)
      have hne : ¬ (fr = to ∧ f = f) := fun t => by
        rw [t.1, hgt] at hgf
        exact absurd hgf (by decide)
      have hcur : cc_cur E V W D fr f = true := (hKf fr hfr).trans hgf
      obtain ⟨rf, hrf, hEf, _, hsum⟩ := cc_cur_some hcur
      refine cc_wnew hR hto hf (fun u' b r h' ho => ?_)
      obtain ⟨cp, lw, a1, a2, a3, a4, a5, a6, a7, a8, a9⟩ := u'
      have hb := ho.1
      rcases cc_Kp h'.2 hfr hf with ⟨hd, ha⟩ | ⟨p, hpp, ha, hd⟩
      · rw [cc_stn hne, hrf] at hd
        exact absurd hd (by simp)
      · rw [cc_stn hne, hrf] at hd
        have hrp := Option.some.inj hd
        have hpb : p ≠ b := fun t => ho.2.2 fr f hfr hf hne (by rw [ha, t])
        dsimp only
        rw [cc_i4, cc_cl (show fr * 4 + f < 1000 by omega), ha]
        refine ⟨cc_in (by omega), cc_wcopy hpp hb hpb (fun x hx hx' => ?_)⟩
        refine nm_e (nm_r (nI_1 i) (hw (m + 1, (cp, lw, a1, a2, a3, a4, a5, x, upd a7 b (a7 p), upd a8 b (a8 p), a9)) ⟨fun s => g s || decide (to = s), ?_, by show (g fr || decide (to = fr)) = true; rw [hgf]; rfl, ?_⟩))
        · have h2 := cc_put h' ho hto hf hx' (fun j hj => pk_un (x := a7 p) hj) (fun j hj => pk_un (x := a8 p) hj)
          rw [cc_blke hx pk_us pk_us, ← hrp, cc_stst] at h2
          refine ⟨_, _, _, h2, fun s' f' hs' hf' => ?_, fun s' f' hs' hf' e' => ?_, hC⟩
          · by_cases z1 : f' = f
            · subst z1
              rw [cc_kfs]
              by_cases z2 : s' = to
              · subst z2
                rw [decide_eq_true rfl, Bool.or_true]
                exact cc_cur_t cc_sts hEf cc_sts hsum
              · rw [cc_dne z2, Bool.or_false, ← hKf s' hs']
                exact cc_curc rfl rfl (cc_stn (fun t => z2 t.1)) (cc_stn (fun t => z2 t.1))
            · rw [cc_kfn z1]
              have := hK s' f' hs' hf'
              rw [cc_kfn z1] at this
              rw [← this]
              exact cc_curc rfl rfl (cc_stn (fun t => z1 t.2)) (cc_stn (fun t => z1 t.2))
          · by_cases z : s' = to ∧ f' = f
            · rw [z.1, z.2, cc_sts, ← hrf]
              exact hD fr f hfr hf (by rw [cc_kfs]; exact hgf)
            · rw [cc_stn z]
              refine hD s' f' hs' hf' ?_
              by_cases z1 : f' = f
              · subst z1
                rw [cc_kfs] at e' ⊢
                rw [cc_dne (fun t => z ⟨t, rfl⟩), Bool.or_false] at e'
                exact e'
              · rw [cc_kfn z1] at e' ⊢
                exact e'
        · have hadd := cc_cnadd (g := fun s => U s && g s) (h := fun s => U s && (g s || decide (to = s))) (t := to) (by show (U to && g to) = false; rw [hgt, Bool.and_false]) (by show (U to && (g to || decide (to = to))) = true; rw [e.1]; simp) 5 (fun s _ z => by
            show (U s && (g s || decide (to = s))) = (U s && g s)
            rw [cc_dne z, Bool.or_false])
          rw [if_pos hto] at hadd
          rw [hadd]
          rcases hq with hq | hq | hq
          · exact Or.inl (by omega)
          · exact Or.inr (Or.inl (by omega))
          · exact Or.inr (Or.inr (by omega))
    · refine pk_le k _ (fun z => nm_r (nI_1 i) (hw (m, (cp, lw, a1, a2, a3, a4, a5, a6, a7, a8, a9)) ⟨g, hI1, hgf, Or.inr (Or.inl (by omega))⟩)) (fun z => br_t cc_neg (nm_r (nI_1 i) (hw (m, (cp, lw, a1, a2, a3, a4, a5, a6, a7, a8, a9)) ⟨g, hI1, hgf, Or.inr (Or.inr ?_)⟩))) hk' rfl (by omega) (by omega)
      refine cc_cnmono 5 (fun s hs hu => ?_)
      have := hno s hs
      rw [hKf s hs, hu] at this
      show (U s && g s) = true
      rw [hu]
      cases hg : g s
      · rw [hg] at this
        exact absurd this (by decide)
      · rfl
theorem cc_Iheal {post : Int32 → St1 → Prop} (h : cc_I k lv U E K C u) (hp : ∀ r u' K', cc_I k lv U E K' C u' → (∀ f, f < 4 → cc_gd k U (fun s => K' s f)) → post r u') : wpX_heal post u := by
  obtain ⟨cp, lw, a1, a2, a3, a4, a5, a6, a7, a8, a9⟩ := u
  unfold wpX_heal
  refine pk_loop (fun n i (t : Int32 × St1) => wX_heal_4 post n t.1 (nI i) t.2.1 t.2.2.1 t.2.2.2.1 t.2.2.2.2.1 t.2.2.2.2.2.1 t.2.2.2.2.2.2.1 t.2.2.2.2.2.2.2.1 t.2.2.2.2.2.2.2.2.1 t.2.2.2.2.2.2.2.2.2.1 t.2.2.2.2.2.2.2.2.2.2.1 t.2.2.2.2.2.2.2.2.2.2.2) (fun i t => ∃ K', cc_I k lv U E K' C t.2 ∧ ∀ f, f < i → cc_gd k U (fun s => K' s f)) 4 0 (0, (cp, lw, a1, a2, a3, a4, a5, a6, a7, a8, a9)) (by omega) ⟨K, h, fun f hf => absurd hf (by omega)⟩
    (fun n t hI => ?_) (fun n i t hi hI hw => ?_)
  · obtain ⟨m, ⟨cp, lw, a1, a2, a3, a4, a5, a6, a7, a8, a9⟩⟩ := t
    obtain ⟨K', hI, hg⟩ := hI
    exact pk_le 4 4 (fun _ => hp _ _ K' hI hg) (fun z => absurd z (by omega))
  · obtain ⟨m, ⟨cp, lw, a1, a2, a3, a4, a5, a6, a7, a8, a9⟩⟩ := t
    obtain ⟨K', hI, hg⟩ := hI
    have h2 : ∀ f, f < 4 → a2 f = cc_b (E f) := by
      obtain ⟨V, W, D, hR, _⟩ := hI
      exact hR.1.2.2.2.2.1
    refine pk_le 4 i (fun z => absurd z (by omega)) (fun _ => ⟨pk_in i 4 hi, cc_bo (E i) (fun e => nm_r (nI_1 i) (hw (m, (cp, lw, a1, a2, a3, a4, a5, a6, a7, a8, a9)) ⟨K', hI, lt_s hg (Or.inl (fun s hs => ?_))⟩)) (fun e => cc_IhealF hI hi (fun r u' g hI' hgd => ?_)) (by rw [cc_cl (show i < 1000 by omega)]; exact h2 i hi)⟩)
    · show (U s && K' s i) = false
      rw [cc_IE hI hs hi e, Bool.and_false]
    · have h3 := hw (m + r, u') ⟨cc_kf K' i g, hI', fun f hf => ?_⟩
      · obtain ⟨cp, lw, a1, a2, a3, a4, a5, a6, a7, a8, a9⟩ := u'
        exact nm_e (nm_r (nI_1 i) h3)
      · by_cases z : f = i
        · rw [z, show (fun s => cc_kf K' i g s i) = g from funext fun s => cc_kfs]
          exact hgd
        · rw [show (fun s => cc_kf K' i g s f) = (fun s => K' s f) from funext fun s => cc_kfn z]
          exact hg f (by omega)
end
end
section
/-! 07: the law's own parts: the two objects agree -/
def cc_G (k i : Nat) (U : Nat → Bool) (x y : St1) : Prop := ∃ lv ly E K M C, lv ≤ i ∧ ly ≤ i ∧ cc_I k lv U E K C x ∧ cc_I 2 ly (fun _ => true) E M C y ∧ ∀ f, f < 4 → E f = true → cc_cn (fun s => M s f) 5 = 2
abbrev cc_J : Type := Int32 → Int32 → Int32 → Int32 → (Nat → Int32) → (Nat → Int32) → (Nat → Int32) → (Nat → Int32) → (Nat → Int32) → (Nat → Int32) → (Nat → Int32) → (Nat → Int32) → (Nat → Int32) → Int32 → Int32 → (Nat → Int32) → (Nat → Int32) → (Nat → Int32) → (Nat → Int32) → (Nat → Int32) → (Nat → Int32) → (Nat → Int32) → (Nat → Int32) → (Nat → Int32) → Prop
def cc_T (post : Int32 → Prop) (L : Nat) (xs : Nat → Int32) (J : cc_J) (k i kc ks : Nat) : Prop := ∀ U x y, cc_G k (i + 3) U x y → ∃ n, wL_law_495 post L xs J (nI k) (nI (cc_mk U)) (nI i) kc ks x.1 x.2.1 x.2.2.1 x.2.2.2.1 x.2.2.2.2.1 x.2.2.2.2.2.1 x.2.2.2.2.2.2.1 x.2.2.2.2.2.2.2.1 x.2.2.2.2.2.2.2.2.1 x.2.2.2.2.2.2.2.2.2.1 x.2.2.2.2.2.2.2.2.2.2 y.1 y.2.1 y.2.2.1 y.2.2.2.1 y.2.2.2.2.1 y.2.2.2.2.2.1 y.2.2.2.2.2.2.1 y.2.2.2.2.2.2.2.1 y.2.2.2.2.2.2.2.2.1 y.2.2.2.2.2.2.2.2.2.1 y.2.2.2.2.2.2.2.2.2.2 n 0
theorem cc_nm3 {n : Nat} (h : n < 1000) : ¬ nI n = -3 := fun e => by
  have := nI_pos (n := n) (by omega)
  rw [e] at this
  exact this (by decide)
theorem cc_two {g : Nat → Bool} (h : cc_cn g 5 = 2) : ∃ s, s < 5 ∧ g s = true := by
  apply Classical.byContradiction
  intro hn
  have := cc_cn0 (g := g) 5 (fun s hs => cc_bf (fun e => hn ⟨s, hs, e⟩))
  omega
theorem cc_pos {g : Nat → Bool} {s : Nat} (hs : s < 5) (e : g s = true) : 0 < cc_cn g 5 := by
  apply Classical.byContradiction
  intro hn
  have := cc_cnz (g := g) 5 (by omega) s hs
  rw [e] at this
  exact absurd this (by decide)
section
variable {cp lw : Int32} {a1 a2 a3 a4 a5 a6 a7 a8 a9 : Nat → Int32} {k lv : Nat} {U E : Nat → Bool} {V : Nat → Nat} {W : Nat → Nat → Nat} {D : Nat → Nat → Option cc_C} {u : St1} {s f : Nat}
variable {K M : Nat → Nat → Bool} {C : Nat → (Nat → Int32) × Nat} {cpy lwy : Int32} {a1y a2y a3y a4y a5y a6y a7y a8y a9y : Nat → Int32} {ly i kc ks L : Nat} {xs : Nat → Int32} {J : cc_J} {post : Int32 → Prop}
theorem cc_winit {post : St1 → Prop} (h1 : 1 ≤ k) (h3 : k ≤ 3) (hp : ∀ u', cc_I k 0 (fun _ => true) (fun _ => false) (fun _ _ => false) (fun _ => (fun _ => 0, 0)) u' → post u') : wpX_init post 9 233 (0, 0) (nI k) := by
  have key : wX_init_82 post 9 233 (nI k) 9 233 0 0 (fun _ => 0) (fun _ => 0) (fun _ => 0) (fun _ => 0) (fun _ => 0) (fun _ => 0) (fun _ => 0) (fun _ => 0) (fun _ => 0) := by
    unfold wX_init_82
    refine pk_le k 3 (fun _ => ?_) (fun z => absurd z (by omega))
    refine pk_loop (fun n i x => wX_init_96 post 9 233 9 233 (nI k) 0 n (nI i) x (fun _ => 0) (fun _ => 0) (fun _ => 0) (fun _ => 0) (fun _ => 0) (fun _ => 0) (fun _ => 0) (fun _ => 0)) (fun i x => ∀ s, s < i → x s = 1) 5 0 (fun _ => 0) (by omega) (fun s hs => absurd hs (by omega))
      (fun n x hI => pk_le 5 5 (fun _ => ?_) (fun z => absurd z (by omega)))
      (fun n i x hi hI hw => pk_le 5 i (fun z => absurd z (by omega)) (fun _ => ⟨pk_in i 5 hi, nm_e (nm_r (nI_1 i) (hw _ (fun s hs => ?_)))⟩))
    · refine pk_loop (fun n i y => wX_init_116 post 9 233 9 233 (nI k) 0 n (nI i) x (fun _ => 0) (fun _ => 0) y (fun _ => 0) (fun _ => 0) (fun _ => 0) (fun _ => 0) (fun _ => 0)) (fun i y => ∀ s, s < i → y s = -1) 20 0 (fun _ => 0) (by omega) (fun s hs => absurd hs (by omega))
        (fun n y hJ => pk_le 20 20 (fun _ => hp _ ?_) (fun z => absurd z (by omega)))
        (fun n i y hi hJ hw => pk_le 20 i (fun z => absurd z (by omega)) (fun _ => ⟨pk_in i 20 hi, nm_e (nm_r (nI_1 i) (hw _ (fun s hs => ?_)))⟩))
      · refine ⟨fun _ => 0, fun _ _ => 0, fun _ _ => none, ⟨⟨rfl, rfl, ⟨h1, h3, by omega⟩, hI, fun _ _ => rfl, fun _ _ => ⟨rfl, Nat.le_refl 0⟩, fun _ _ _ _ => ⟨rfl, Nat.le_refl 0⟩⟩, fun _ _ => 4, ⟨fun s f hs hf => ⟨Nat.le_refl 4, hJ _ (by omega)⟩, fun s j hs hj => ?_⟩, fun _ _ _ _ => rfl⟩, fun _ _ _ _ => rfl, fun _ _ _ _ z => absurd z Bool.false_ne_true, fun _ _ => Nat.zero_le 6⟩
        have : cc_cc (fun _ => 4) j = 0 := by
          unfold cc_cc
          rw [if_neg (show ¬ 4 = j by omega)]
        show (0 : Int32) = nI (cc_cc (fun _ => 4) j)
        rw [this]
        rfl
      · rw [cc_cl (show i < 1000 by omega)]
        by_cases e : s = i
        · rw [e, pk_us]
        · rw [pk_un e]
          exact hJ s (by omega)
    · rw [cc_cl (show i < 1000 by omega)]
      by_cases e : s = i
      · rw [e, pk_us]
      · rw [pk_un e]
        exact hI s (by omega)
  unfold wpX_init
  exact ⟨by omega, by omega, by omega, by omega, by omega, by omega, by omega, by omega, by omega, by omega, by omega, by omega, by omega, by omega, by omega, by omega, by omega, by omega, pk_le 1 k (fun _ => key) (fun z => absurd z (by omega))⟩
theorem cc_r82 {x5 : Int32} (hx : cc_I k lv U E K C (cp, lw, a1, a2, a3, a4, a5, a6, a7, a8, a9)) (hy : cc_I 2 ly (fun _ => true) E M C (cpy, lwy, a1y, a2y, a3y, a4y, a5y, a6y, a7y, a8y, a9y)) (he : E f = true) (hf : f < 4) (hc : (x5 = 0 ∧ ∀ s, s < 5 → (U s && K s f) = false) ∨ (¬ x5 = 0 ∧ (∃ s, s < 5 ∧ (U s && K s f) = true) ∧ ∃ s, s < 5 ∧ M s f = true)) (hp : post 1) : ∃ n, wL_reads_82 post (nI f) x5 cp lw a1 a2 a3 a4 a5 a6 a7 a8 a9 cpy lwy a1y a2y a3y a4y a5y a6y a7y a8y a9y n 0 := by
  refine pk_loop (σ := Unit) (fun n i _ => wL_reads_82 post (nI f) x5 cp lw a1 a2 a3 a4 a5 a6 a7 a8 a9 cpy lwy a1y a2y a3y a4y a5y a6y a7y a8y a9y n (nI i)) (fun _ _ => True) 6 0 () (by omega) trivial
    (fun n _ _ => pk_le 6 6 (fun _ => cc_Irep hy hf (fun e => absurd (he.symm.trans e) (by decide)) (fun _ => br_f (cc_nm3 (Nat.lt_trans (cc_mklt _) (by omega))) hp)) (fun z => absurd z (by omega)))
    (fun n i _ hi _ hw => pk_le 6 i (fun z => absurd z (by omega)) (fun _ => ?_))
  rcases hc with ⟨h0, hn⟩ | ⟨h0, ⟨t, ht, e1⟩, t', ht', e2⟩
  · refine br_t h0 ?_
    unfold wL_reads_106
    refine cc_Iread hx hf hi (fun e => absurd (he.symm.trans e) (by decide)) (fun _ s hs e1 e2 => ?_) (fun _ _ => br_t rfl (nm_r (nI_1 i) (hw () trivial)))
    have := hn s hs
    rw [e1, e2] at this
    exact absurd this (by decide)
  · refine br_f h0 (cc_Iread hy hf hi (fun e => absurd (he.symm.trans e) (by decide)) (fun _ s hs _ _ => ?_) (fun _ hn => ?_))
    · unfold wL_reads_106
      refine cc_Iread hx hf hi (fun e => absurd (he.symm.trans e) (by decide)) (fun _ s hs _ _ => br_t rfl (nm_r (nI_1 i) (hw () trivial))) (fun _ hn => ?_)
      have := hn t ht
      rw [e1] at this
      exact absurd this (by decide)
    · have := hn t' ht'
      rw [e2] at this
      exact absurd this (by decide)
theorem cc_reads (hx : cc_I k lv U E K C (cp, lw, a1, a2, a3, a4, a5, a6, a7, a8, a9)) (hy : cc_I 2 ly (fun _ => true) E M C (cpy, lwy, a1y, a2y, a3y, a4y, a5y, a6y, a7y, a8y, a9y)) (h2 : ∀ f, f < 4 → E f = true → cc_cn (fun s => M s f) 5 = 2) (hf : f < 4) (hp : post 1) : wpL_reads post (cp, lw, a1, a2, a3, a4, a5, a6, a7, a8, a9, cpy, lwy, a1y, a2y, a3y, a4y, a5y, a6y, a7y, a8y, a9y) (nI f) (nI (cc_mk U)) := by
  unfold wpL_reads
  refine cc_Irep hx hf (fun e => br_t rfl (cc_Irep hy hf (fun _ => br_t rfl (cc_Ilen hx hf (fun _ => br_t rfl hp) (fun e' => absurd (e'.symm.trans e) (by decide)) (fun e' => absurd (e'.symm.trans e) (by decide)))) (fun e' => absurd (e'.symm.trans e) (by decide)))) (fun e => br_f (cc_nm3 (Nat.lt_trans (cc_mklt _) (by omega))) ?_)
  rw [cc_and]
  have hlt := cc_mklt (fun s => K s f && U s)
  obtain ⟨t', ht', et'⟩ := cc_two (h2 f hf e)
  refine pk_eq (cc_mk (fun s => K s f && U s)) 0 (fun z => ?_) (fun z => ?_) rfl rfl (by omega) (by omega)
  · rw [← cc_mk0] at z
    have hn : ∀ s, s < 5 → (U s && K s f) = false := fun s hs => by
      rw [Bool.and_comm]
      exact cc_mkinj z s hs
    unfold wL_reads_52
    refine cc_Ilen hx hf (fun e' => absurd (e.symm.trans e') (by decide)) (fun _ s hs e1 e2 => ?_) (fun _ _ => br_t rfl ?_)
    · have := hn s hs
      rw [e1, e2] at this
      exact absurd this (by decide)
    · unfold wL_reads_74
      exact br_t rfl (cc_r82 hx hy e hf (Or.inl ⟨rfl, hn⟩) hp)
  · have hs : ∃ s, s < 5 ∧ (U s && K s f) = true := by
      apply Classical.byContradiction
      intro hn
      refine z ((cc_mkc (h := fun _ => false) (fun s hs => ?_)).trans cc_mk0)
      rw [Bool.and_comm]
      exact cc_bf (fun e' => hn ⟨s, hs, e'⟩)
    obtain ⟨t, ht, et⟩ := hs
    unfold wL_reads_52
    refine cc_Ilen hx hf (fun e' => absurd (e.symm.trans e') (by decide)) (fun _ s hs e1 e2 => br_f (by decide) (cc_Ilen hy hf (fun e' => absurd (e.symm.trans e') (by decide)) (fun _ s hs _ _ => ?_) (fun _ hn => ?_))) (fun _ hn => ?_)
    · unfold wL_reads_74
      exact br_t rfl (cc_r82 hx hy e hf (Or.inr ⟨by decide, ⟨t, ht, et⟩, t', ht', et'⟩) hp)
    · have := hn t' ht'
      rw [et'] at this
      exact absurd this (by decide)
    · have := hn t ht
      rw [et] at this
      exact absurd this (by decide)
theorem cc_tail (h : ∀ U x y, cc_G k (i + 3) U x y → J (nI (cc_mk U)) (nI (i + 3)) x.1 x.2.1 x.2.2.1 x.2.2.2.1 x.2.2.2.2.1 x.2.2.2.2.2.1 x.2.2.2.2.2.2.1 x.2.2.2.2.2.2.2.1 x.2.2.2.2.2.2.2.2.1 x.2.2.2.2.2.2.2.2.2.1 x.2.2.2.2.2.2.2.2.2.2 y.1 y.2.1 y.2.2.1 y.2.2.2.1 y.2.2.2.2.1 y.2.2.2.2.2.1 y.2.2.2.2.2.2.1 y.2.2.2.2.2.2.2.1 y.2.2.2.2.2.2.2.2.1 y.2.2.2.2.2.2.2.2.2.1 y.2.2.2.2.2.2.2.2.2.2) : cc_T post L xs J k i kc ks := by
  intro U x y hG
  have hJ := h U x y hG
  obtain ⟨lv, ly, E, K, M, C, hl, hly, hx, hy, h2⟩ := hG
  obtain ⟨cp, lw, a1, a2, a3, a4, a5, a6, a7, a8, a9⟩ := x
  obtain ⟨cpy, lwy, a1y, a2y, a3y, a4y, a5y, a6y, a7y, a8y, a9y⟩ := y
  refine pk_loop (σ := Unit) (fun n j _ => wL_law_495 post L xs J (nI k) (nI (cc_mk U)) (nI i) kc ks cp lw a1 a2 a3 a4 a5 a6 a7 a8 a9 cpy lwy a1y a2y a3y a4y a5y a6y a7y a8y a9y n (nI j)) (fun _ _ => True) 4 0 () (by omega) trivial
    (fun n _ _ => pk_le 4 4 (fun _ => nm_r (show nI i + 3 = nI (i + 3) from nI_add i 3) hJ) (fun z => absurd z (by omega)))
    (fun n j _ hj _ hw => pk_le 4 j (fun z => absurd z (by omega)) (fun _ => cc_reads hx hy h2 hj (br_f (by decide) (nm_r (nI_1 j) (hw () trivial)))))
theorem cc_437 (hT : cc_T post L xs J k i kc ks) (hG : cc_G k (i + 3) U (cp, lw, a1, a2, a3, a4, a5, a6, a7, a8, a9) (cpy, lwy, a1y, a2y, a3y, a4y, a5y, a6y, a7y, a8y, a9y)) (hx : cc_I k lv U E K C (cp, lw, a1, a2, a3, a4, a5, a6, a7, a8, a9)) (hk : k ≤ 3) (hg : ∀ f, f < 4 → cc_gd k U (fun s => K s f)) : ∃ n, wL_law_437 post L xs J (nI k) (nI (cc_mk U)) (nI i) (nI (cc_cn U 5)) kc ks cp lw a1 a2 a3 a4 a5 a6 a7 a8 a9 cpy lwy a1y a2y a3y a4y a5y a6y a7y a8y a9y n 0 := by
  have hcU := cc_cnle U 5
  refine pk_loop (σ := Unit) (fun n j _ => wL_law_437 post L xs J (nI k) (nI (cc_mk U)) (nI i) (nI (cc_cn U 5)) kc ks cp lw a1 a2 a3 a4 a5 a6 a7 a8 a9 cpy lwy a1y a2y a3y a4y a5y a6y a7y a8y a9y n (nI j)) (fun _ _ => True) 4 0 () (by omega) trivial
    (fun n _ _ => pk_le 4 4 (fun _ => hT U (cp, lw, a1, a2, a3, a4, a5, a6, a7, a8, a9) (cpy, lwy, a1y, a2y, a3y, a4y, a5y, a6y, a7y, a8y, a9y) hG) (fun z => absurd z (by omega)))
    (fun n j _ hj _ hw => pk_le 4 j (fun z => absurd z (by omega)) (fun _ => cc_Irep hx hj (fun e => cc_wonesA (fun r => br_t (by decide) (nm_r (nI_1 j) (hw () trivial)))) (fun e => ?_)))
  rw [cc_and]
  refine cc_wones (br_c (fun _ => nm_r (nI_1 j) (hw () trivial)) (fun _ => ?_))
  have hc5 := cc_cnle (fun s => K s j && U s) 5
  have heq : cc_cn (fun s => U s && K s j) 5 = cc_cn (fun s => K s j && U s) 5 := cc_cnc 5 (fun s _ => Bool.and_comm _ _)
  refine pk_le (cc_cn (fun s => K s j && U s) 5) 0 (fun _ => nm_r (nI_1 j) (hw () trivial)) (fun z1 => ?_) rfl rfl (by omega) (by omega)
  refine pk_le k (cc_cn (fun s => K s j && U s) 5) (fun _ => nm_r (nI_1 j) (hw () trivial)) (fun z2 => ?_) rfl rfl (by omega) (by omega)
  refine pk_le (cc_cn U 5) (cc_cn (fun s => K s j && U s) 5) (fun _ => nm_r (nI_1 j) (hw () trivial)) (fun z3 => ?_) rfl rfl (by omega) (by omega)
  have hg' : (∀ s, s < 5 → (U s && K s j) = false) ∨ k ≤ cc_cn (fun s => U s && K s j) 5 ∨ cc_cn U 5 ≤ cc_cn (fun s => U s && K s j) 5 := hg j hj
  rcases hg' with h | h | h
  · have : cc_cn (fun s => U s && K s j) 5 = 0 := cc_cn0 5 h
    omega
  · omega
  · omega
theorem cc_205 {r : Int32} (hT : cc_T post L xs J k i kc ks) (hG : cc_G k (i + 3) U (cp, lw, a1, a2, a3, a4, a5, a6, a7, a8, a9) (cpy, lwy, a1y, a2y, a3y, a4y, a5y, a6y, a7y, a8y, a9y)) (hr : r = -3 ∨ r = -5 ∨ ∃ n, 0 < n ∧ n < 1000 ∧ r = nI n) : wL_law_205 post L xs J (nI k) (nI (cc_mk U)) (nI i) r kc ks cp lw a1 a2 a3 a4 a5 a6 a7 a8 a9 cpy lwy a1y a2y a3y a4y a5y a6y a7y a8y a9y := by
  have t := hT U (cp, lw, a1, a2, a3, a4, a5, a6, a7, a8, a9) (cpy, lwy, a1y, a2y, a3y, a4y, a5y, a6y, a7y, a8y, a9y) hG
  unfold wL_law_205
  rcases hr with h | h | ⟨n, h0, h1, h⟩
  · subst h
    exact br_f (by decide) (br_f (by decide) (br_t rfl t))
  · subst h
    exact br_f (by decide) (br_f (by decide) (br_f (by decide) (br_t rfl t)))
  · subst h
    exact br_f (nI_ne0 h0 (by omega)) (br_t (nI_pos' (by omega)) t)
end
end
section
/-! 08: one turn of the law, and the law -/
section
variable {cp lw : Int32} {a1 a2 a3 a4 a5 a6 a7 a8 a9 : Nat → Int32} {k lv : Nat} {U E : Nat → Bool} {V : Nat → Nat} {W : Nat → Nat → Nat} {D : Nat → Nat → Option cc_C} {u : St1} {s f : Nat}
variable {K M : Nat → Nat → Bool} {C : Nat → (Nat → Int32) × Nat} {cpy lwy : Int32} {a1y a2y a3y a4y a5y a6y a7y a8y a9y : Nat → Int32} {ly i kc ks L : Nat} {xs : Nat → Int32} {J : cc_J} {post : Int32 → Prop}
theorem cc_Gm (h : cc_G k i U (cp, lw, a1, a2, a3, a4, a5, a6, a7, a8, a9) (cpy, lwy, a1y, a2y, a3y, a4y, a5y, a6y, a7y, a8y, a9y)) : cc_G k (i + 3) U (cp, lw, a1, a2, a3, a4, a5, a6, a7, a8, a9) (cpy, lwy, a1y, a2y, a3y, a4y, a5y, a6y, a7y, a8y, a9y) := by
  obtain ⟨lv, ly, E, K, M, C, hl, hly, hx, hy, h2⟩ := h
  exact ⟨lv, ly, E, K, M, C, by omega, by omega, hx, hy, h2⟩
theorem cc_331 (hT : cc_T post L xs J k i kc ks) (hG : cc_G k i U (cp, lw, a1, a2, a3, a4, a5, a6, a7, a8, a9) (cpy, lwy, a1y, a2y, a3y, a4y, a5y, a6y, a7y, a8y, a9y)) (hs : s < 5) : wL_law_331 post L xs J (nI k) (nI (cc_mk U)) (nI i) (nI s) kc ks cp lw a1 a2 a3 a4 a5 a6 a7 a8 a9 cpy lwy a1y a2y a3y a4y a5y a6y a7y a8y a9y := by
  obtain ⟨lv, ly, E, K, M, C, hl, hly, hx, hy, h2⟩ := hG
  unfold wL_law_331
  refine cc_Icrash hx hs (fun r u' hI => ?_)
  obtain ⟨cp, lw, a1, a2, a3, a4, a5, a6, a7, a8, a9⟩ := u'
  refine nm_r (e' := nI (cc_mk (cc_u1 U s false))) ?_ (hT _ (cp, lw, a1, a2, a3, a4, a5, a6, a7, a8, a9) (cpy, lwy, a1y, a2y, a3y, a4y, a5y, a6y, a7y, a8y, a9y) ⟨lv, ly, E, K, M, C, by omega, by omega, hI, hy, h2⟩)
  rw [cc_andn U hs]
  refine congrArg nI (cc_mkc (fun s' _ => ?_))
  by_cases z : s' = s
  · rw [z, cc_u1s, decide_eq_true rfl]
    exact Bool.and_false _
  · rw [cc_u1n z, cc_dne z]
    exact Bool.and_true _
theorem cc_162 {op : Nat} {v : Int32} (hT : cc_T post L xs J k i kc ks) (hG : cc_G k i U (cp, lw, a1, a2, a3, a4, a5, a6, a7, a8, a9) (cpy, lwy, a1y, a2y, a3y, a4y, a5y, a6y, a7y, a8y, a9y)) (hi : i < 900) (ho : op < 16) (hf : f < 4) (hs : s < 5) (hk : k ≤ 3) : wL_law_162 post L xs J (nI k) (nI (cc_mk U)) (nI i) (nI op) (nI f) (nI s) v kc ks cp lw a1 a2 a3 a4 a5 a6 a7 a8 a9 cpy lwy a1y a2y a3y a4y a5y a6y a7y a8y a9y := by
  have hG3 := cc_Gm hG
  have hG0 := hG
  obtain ⟨lv, ly, E, K, M, C, hl, hly, hx, hy, h2⟩ := hG
  have he2 : E f = true → ∃ t, t < 5 ∧ M t f = true := fun e => cc_two (h2 f hf e)
  unfold wL_law_162
  refine pk_lt 5 op (fun g5 => pk_eq op 6 (fun g6 => ?_) (fun g6 => pk_eq op 7 (fun g7 => ?_) (fun g7 => pk_eq op 8 (fun _ => cc_331 hT hG0 hs) (fun g8 => pk_eq op 9 (fun _ => cc_331 hT hG0 hs) (fun g9 => pk_lt 12 op (fun g12 => pk_eq op 13 (fun _ => ?_) (fun g13 => pk_eq op 14 (fun _ => ?_) (fun g14 => pk_eq op 15 (fun _ => ?_) (fun g15 => absurd ho (by omega))))) (fun g12 => ?_)))))) (fun g5 => ?_)
  · -- append
    refine cc_Iappend hx hf (by omega) (fun _ => br_t (by decide) (hT _ (cp, lw, a1, a2, a3, a4, a5, a6, a7, a8, a9) (cpy, lwy, a1y, a2y, a3y, a4y, a5y, a6y, a7y, a8y, a9y) hG3)) (fun _ _ => br_t (by decide) (hT _ (cp, lw, a1, a2, a3, a4, a5, a6, a7, a8, a9) (cpy, lwy, a1y, a2y, a3y, a4y, a5y, a6y, a7y, a8y, a9y) hG3)) (fun _ _ => br_t (by decide) (hT _ (cp, lw, a1, a2, a3, a4, a5, a6, a7, a8, a9) (cpy, lwy, a1y, a2y, a3y, a4y, a5y, a6y, a7y, a8y, a9y) hG3)) (fun e h6 t ht e1 e2 u' lv' hlv hI => ?_)
    obtain ⟨cp, lw, a1, a2, a3, a4, a5, a6, a7, a8, a9⟩ := u'
    obtain ⟨t', ht', et'⟩ := he2 e
    refine br_f (nI_pos (by omega)) (cc_Iappend hy hf (by omega) (fun e' => absurd (e.symm.trans e') (by decide)) (fun _ hn => ?_) (fun _ h7 => absurd h7 (by omega)) (fun _ _ t ht e1 e2 u' lv'' hlv' hI' => ?_))
    · have := hn t' ht'
      rw [et'] at this
      exact absurd this (by decide)
    · obtain ⟨cpy, lwy, a1y, a2y, a3y, a4y, a5y, a6y, a7y, a8y, a9y⟩ := u'
      refine br_t rfl (hT _ (cp, lw, a1, a2, a3, a4, a5, a6, a7, a8, a9) (cpy, lwy, a1y, a2y, a3y, a4y, a5y, a6y, a7y, a8y, a9y) ⟨lv', lv'', E, _, _, _, by omega, by omega, hI, hI', fun f' hf' e' => ?_⟩)
      by_cases z : f' = f
      · rw [z, ← h2 f hf e]
        refine cc_cnc 5 (fun s _ => ?_)
        rw [cc_kfs]
        exact Bool.and_true _
      · rw [← h2 f' hf' e']
        exact cc_cnc 5 (fun s _ => cc_kfn z)
  · -- snapshot
    obtain ⟨t, ht, hv⟩ := pk_andE v (m := 3) 2 (by decide)
    rw [hv]
    refine cc_Isnap hx hf ht (by omega) (fun _ => br_t (by decide) (hT _ (cp, lw, a1, a2, a3, a4, a5, a6, a7, a8, a9) (cpy, lwy, a1y, a2y, a3y, a4y, a5y, a6y, a7y, a8y, a9y) hG3)) (fun _ _ => br_t (by decide) (hT _ (cp, lw, a1, a2, a3, a4, a5, a6, a7, a8, a9) (cpy, lwy, a1y, a2y, a3y, a4y, a5y, a6y, a7y, a8y, a9y) hG3)) (fun _ _ _ => br_t (by decide) (hT _ (cp, lw, a1, a2, a3, a4, a5, a6, a7, a8, a9) (cpy, lwy, a1y, a2y, a3y, a4y, a5y, a6y, a7y, a8y, a9y) hG3)) (fun e et q hq e1 e2 u' hI => ?_)
    obtain ⟨cp, lw, a1, a2, a3, a4, a5, a6, a7, a8, a9⟩ := u'
    obtain ⟨t', ht', et'⟩ := he2 e
    have hpos := cc_pos (g := fun s => K s f) hq e2
    have hle := cc_cnle (fun s => K s f) 5
    refine br_f (nI_nle hpos (by omega)) (cc_Isnap hy hf ht (by omega) (fun e' => absurd (e.symm.trans e') (by decide)) (fun _ e' => absurd (e'.symm.trans et) (by decide)) (fun _ _ hn => ?_) (fun _ _ q hq e1 e2 u' hI' => ?_))
    · have := hn t' ht'
      rw [et'] at this
      exact absurd this (by decide)
    · obtain ⟨cpy, lwy, a1y, a2y, a3y, a4y, a5y, a6y, a7y, a8y, a9y⟩ := u'
      refine br_t (by rw [h2 f hf e]; rfl) (hT _ (cp, lw, a1, a2, a3, a4, a5, a6, a7, a8, a9) (cpy, lwy, a1y, a2y, a3y, a4y, a5y, a6y, a7y, a8y, a9y) ⟨_, _, _, _, _, _, by omega, by omega, hI, hI', fun f' hf' e' => ?_⟩)
      by_cases z : f' = t
      · rw [z, ← h2 f hf e]
        exact cc_cnc 5 (fun s _ => cc_kfs)
      · rw [cc_u1n z] at e'
        rw [← h2 f' hf' e']
        exact cc_cnc 5 (fun s _ => cc_kfn z)
  · -- loseDisk
    refine cc_Ilose hx hs (fun n u' K' hn hI => ?_)
    obtain ⟨cp, lw, a1, a2, a3, a4, a5, a6, a7, a8, a9⟩ := u'
    exact br_t (nI_pos' (by omega)) (hT _ (cp, lw, a1, a2, a3, a4, a5, a6, a7, a8, a9) (cpy, lwy, a1y, a2y, a3y, a4y, a5y, a6y, a7y, a8y, a9y) ⟨lv, ly, E, K', M, C, by omega, by omega, hI, hy, h2⟩)
  · -- damage
    refine cc_Idamage hx hs hf (fun r u' K' hI => ?_)
    obtain ⟨cp, lw, a1, a2, a3, a4, a5, a6, a7, a8, a9⟩ := u'
    exact hT _ (cp, lw, a1, a2, a3, a4, a5, a6, a7, a8, a9) (cpy, lwy, a1y, a2y, a3y, a4y, a5y, a6y, a7y, a8y, a9y) ⟨lv, ly, E, K', M, C, by omega, by omega, hI, hy, h2⟩
  · -- heal
    refine cc_Iheal hx (fun r u' K' hI hg => ?_)
    obtain ⟨cp, lw, a1, a2, a3, a4, a5, a6, a7, a8, a9⟩ := u'
    exact cc_wones (cc_437 hT ⟨lv, ly, E, K', M, C, by omega, by omega, hI, hy, h2⟩ hI hk hg)
  · -- restart
    refine cc_Irestart hx hs (fun r u' K' hI => ?_)
    obtain ⟨cp, lw, a1, a2, a3, a4, a5, a6, a7, a8, a9⟩ := u'
    refine nm_r (e' := nI (cc_mk (cc_u1 U s true))) ?_ (hT _ (cp, lw, a1, a2, a3, a4, a5, a6, a7, a8, a9) (cpy, lwy, a1y, a2y, a3y, a4y, a5y, a6y, a7y, a8y, a9y) ⟨lv, ly, E, K', M, C, by omega, by omega, hI, hy, h2⟩)
    rw [cc_or U hs]
    refine congrArg nI (cc_mkc (fun s' _ => ?_))
    by_cases z : s' = s
    · rw [z, cc_u1s, decide_eq_true rfl]
      exact Bool.or_true _
    · rw [cc_u1n z, cc_dne z]
      exact Bool.or_false _
  · -- write
    refine cc_Iwrite hx hf (by omega) (by omega) (fun _ => br_t (by decide) (cc_205 hT hG3 (Or.inl rfl))) (fun _ _ => br_t (by decide) (cc_205 hT hG3 (Or.inr (Or.inl rfl)))) (fun e t ht e1 e2 u' lv' hlv hI => ?_)
    obtain ⟨cp, lw, a1, a2, a3, a4, a5, a6, a7, a8, a9⟩ := u'
    obtain ⟨t', ht', et'⟩ := he2 e
    have hpos := cc_pos (g := fun s => K s f && U s) ht (by rw [e1, e2]; rfl)
    have hle := cc_cnle (fun s => K s f && U s) 5
    have hM : cc_cn (fun s => M s f && true) 5 = 2 := by
      rw [← h2 f hf e]
      exact cc_cnc 5 (fun s _ => Bool.and_true _)
    refine br_f (nI_nle hpos (by omega)) (cc_Iwrite hy hf (by omega) (by omega) (fun e' => absurd (e.symm.trans e') (by decide)) (fun _ hn => ?_) (fun _ t ht e1 e2 u' lv'' hlv' hI' => ?_))
    · have := hn t' ht'
      rw [et'] at this
      exact absurd this (by decide)
    · obtain ⟨cpy, lwy, a1y, a2y, a3y, a4y, a5y, a6y, a7y, a8y, a9y⟩ := u'
      refine br_t (by rw [hM]; rfl) (cc_205 hT ⟨lv', lv'', E, _, _, _, by omega, by omega, hI, hI', fun f' hf' e' => ?_⟩ (Or.inr (Or.inr ⟨_, hpos, by omega, rfl⟩)))
      by_cases z : f' = f
      · rw [z, ← hM]
        exact cc_cnc 5 (fun s _ => cc_kfs)
      · rw [← h2 f' hf' e']
        exact cc_cnc 5 (fun s _ => cc_kfn z)
theorem cc_lc {L i : Nat} (hL : L ≤ 260) (hi : i < 1000) : (Int32.ofNat L - 3 < nI i) ↔ L < i + 3 := by
  show (nI L - nI 3 < nI i) ↔ _
  rw [Int32.lt_iff_toInt_lt, pk_sub_toInt (by omega) (by omega), nI_toInt (by omega)]
  omega
theorem cc_46 (hL : L ≤ 260) (hk1 : 1 ≤ k) (hk : k ≤ 3) {x y : St1} (hG : cc_G k 1 (fun _ => true) x y) (hp : post 1) : ∃ n, wL_law_46 post L xs (nI k) kc ks n (nI (cc_mk (fun _ => true))) (nI 1) x.1 x.2.1 x.2.2.1 x.2.2.2.1 x.2.2.2.2.1 x.2.2.2.2.2.1 x.2.2.2.2.2.2.1 x.2.2.2.2.2.2.2.1 x.2.2.2.2.2.2.2.2.1 x.2.2.2.2.2.2.2.2.2.1 x.2.2.2.2.2.2.2.2.2.2 y.1 y.2.1 y.2.2.1 y.2.2.2.1 y.2.2.2.2.1 y.2.2.2.2.2.1 y.2.2.2.2.2.2.1 y.2.2.2.2.2.2.2.1 y.2.2.2.2.2.2.2.2.1 y.2.2.2.2.2.2.2.2.2.1 y.2.2.2.2.2.2.2.2.2.2 := by
  refine loop_m (fun n (t : Nat × (Nat → Bool) × St1 × St1) => wL_law_46 post L xs (nI k) kc ks n (nI (cc_mk t.2.1)) (nI t.1) t.2.2.1.1 t.2.2.1.2.1 t.2.2.1.2.2.1 t.2.2.1.2.2.2.1 t.2.2.1.2.2.2.2.1 t.2.2.1.2.2.2.2.2.1 t.2.2.1.2.2.2.2.2.2.1 t.2.2.1.2.2.2.2.2.2.2.1 t.2.2.1.2.2.2.2.2.2.2.2.1 t.2.2.1.2.2.2.2.2.2.2.2.2.1 t.2.2.1.2.2.2.2.2.2.2.2.2.2 t.2.2.2.1 t.2.2.2.2.1 t.2.2.2.2.2.1 t.2.2.2.2.2.2.1 t.2.2.2.2.2.2.2.1 t.2.2.2.2.2.2.2.2.1 t.2.2.2.2.2.2.2.2.2.1 t.2.2.2.2.2.2.2.2.2.2.1 t.2.2.2.2.2.2.2.2.2.2.2.1 t.2.2.2.2.2.2.2.2.2.2.2.2.1 t.2.2.2.2.2.2.2.2.2.2.2.2.2) (fun t => t.1 < 800 ∧ cc_G k t.1 t.2.1 t.2.2.1 t.2.2.2) (fun t => 1000 - t.1) (fun n t hI hw => ?_) (1, (fun _ => true), x, y) ⟨by omega, hG⟩
  obtain ⟨i, U, ⟨cp, lw, a1, a2, a3, a4, a5, a6, a7, a8, a9⟩, ⟨cpy, lwy, a1y, a2y, a3y, a4y, a5y, a6y, a7y, a8y, a9y⟩⟩ := t
  obtain ⟨hi, hG⟩ := hI
  have hi' : i < 800 := hi
  have hT : cc_T post L xs (wL_law_46 post L xs (nI k) kc ks n) k i kc ks → wL_law_46 post L xs (nI k) kc ks (n + 1) (nI (cc_mk U)) (nI i) cp lw a1 a2 a3 a4 a5 a6 a7 a8 a9 cpy lwy a1y a2y a3y a4y a5y a6y a7y a8y a9y := fun hT => by
    by_cases hlt : L < i + 3
    · exact br_t ((cc_lc hL (by omega)).mpr hlt) hp
    · have e1 : nI i + 1 = nI (i + 1) := nI_1 i
      have e2 : nI i + 2 = nI (i + 2) := nI_add i 2
      obtain ⟨op, hop, eop⟩ := pk_andE (xs (nI i).toNatClampNeg) (m := 15) 4 (by decide)
      obtain ⟨f, hf, ef⟩ := pk_andE (xs (nI i + 1).toNatClampNeg) (m := 3) 2 (by decide)
      obtain ⟨j, hj, ej⟩ := pk_andE ((xs (nI i + 1).toNatClampNeg) >>> ((2 : Int32) &&& 31)) (m := 1023) 10 (by decide)
      have es : nI j - nI j / 5 * 5 = nI (j % 5) := pk_rem (a := j) (d := 5) (by omega) (by omega) (by omega)
      have hs : j % 5 < 5 := Nat.mod_lt _ (by omega)
      refine br_f (fun z => hlt ((cc_lc hL (by omega)).mp z)) ⟨pk_in i L (by omega), nm_r eop ⟨pk_in (i + 1) L (by omega) e1, nm_r ef ⟨pk_in (i + 1) L (by omega) e1, by decide, nm_r (e' := nI (j % 5)) (by rw [ej]; exact es) ⟨pk_in (i + 2) L (by omega) e2, nm_e ?_⟩⟩⟩⟩
      have w162 : ∀ v, wL_law_162 post L xs (wL_law_46 post L xs (nI k) kc ks n) (nI k) (nI (cc_mk U)) (nI i) (nI op) (nI f) (nI (j % 5)) v kc ks cp lw a1 a2 a3 a4 a5 a6 a7 a8 a9 cpy lwy a1y a2y a3y a4y a5y a6y a7y a8y a9y := fun v => cc_162 hT hG (by omega) hop hf hs hk
      refine pk_lt 2 op (fun _ => pk_eq op 3 (fun _ => br_c (fun _ => ?_) (fun _ => w162 _)) (fun _ => w162 _)) (fun _ => ?_)
      · -- remove
        have hG3 := cc_Gm hG
        obtain ⟨lv, ly, E, K, M, C, hl, hly, hx, hy, h2⟩ := hG
        refine cc_Iremove hx hf (fun e => cc_Iremove hy hf (fun _ => br_t rfl (hT _ (cp, lw, a1, a2, a3, a4, a5, a6, a7, a8, a9) (cpy, lwy, a1y, a2y, a3y, a4y, a5y, a6y, a7y, a8y, a9y) hG3)) (fun e' => absurd (e'.symm.trans e) (by decide))) (fun e u' hI => ?_)
        obtain ⟨cp, lw, a1, a2, a3, a4, a5, a6, a7, a8, a9⟩ := u'
        refine cc_Iremove hy hf (fun e' => absurd (e.symm.trans e') (by decide)) (fun _ u' hI' => ?_)
        obtain ⟨cpy, lwy, a1y, a2y, a3y, a4y, a5y, a6y, a7y, a8y, a9y⟩ := u'
        refine br_t rfl (hT _ (cp, lw, a1, a2, a3, a4, a5, a6, a7, a8, a9) (cpy, lwy, a1y, a2y, a3y, a4y, a5y, a6y, a7y, a8y, a9y) ⟨lv, ly, _, _, _, _, by omega, by omega, hI, hI', fun f' hf' e' => ?_⟩)
        by_cases z : f' = f
        · rw [z, cc_u1s] at e'
          exact absurd e' (by decide)
        · rw [cc_u1n z] at e'
          rw [← h2 f' hf' e']
          exact cc_cnc 5 (fun s _ => cc_kfn z)
      · -- create
        have hG3 := cc_Gm hG
        obtain ⟨lv, ly, E, K, M, C, hl, hly, hx, hy, h2⟩ := hG
        refine cc_Icreate hx hf (by omega) (fun _ => br_t (by decide) (hT _ (cp, lw, a1, a2, a3, a4, a5, a6, a7, a8, a9) (cpy, lwy, a1y, a2y, a3y, a4y, a5y, a6y, a7y, a8y, a9y) hG3)) (fun _ _ => br_t (by decide) (hT _ (cp, lw, a1, a2, a3, a4, a5, a6, a7, a8, a9) (cpy, lwy, a1y, a2y, a3y, a4y, a5y, a6y, a7y, a8y, a9y) hG3)) (fun e u' g m hm hmk hmu hI => ?_)
        obtain ⟨cp, lw, a1, a2, a3, a4, a5, a6, a7, a8, a9⟩ := u'
        refine br_f (nI_pos (by omega)) (cc_Icreate hy hf (by omega) (fun e' => absurd (e'.symm.trans e) (by decide)) (fun _ hn => absurd (hn 0 (by omega)) (by decide)) (fun _ u' g' m' hm' hmk' hmu' hI' => ?_))
        obtain ⟨cpy, lwy, a1y, a2y, a3y, a4y, a5y, a6y, a7y, a8y, a9y⟩ := u'
        have h5 : cc_cn (fun _ => true) 5 = 5 := rfl
        have em : m' = 2 := by
          rcases hmu' with h | h
          · exact h
          · omega
        refine br_t (by rw [em]; rfl) (hT _ (cp, lw, a1, a2, a3, a4, a5, a6, a7, a8, a9) (cpy, lwy, a1y, a2y, a3y, a4y, a5y, a6y, a7y, a8y, a9y) ⟨_, _, _, _, _, _, by omega, by omega, hI, hI', fun f' hf' e' => ?_⟩)
        by_cases z : f' = f
        · rw [z, ← em, hm']
          exact cc_cnc 5 (fun s _ => cc_kfs)
        · rw [cc_u1n z] at e'
          rw [← h2 f' hf' e']
          exact cc_cnc 5 (fun s _ => cc_kfn z)
  by_cases hlt : L < i + 3
  · exact br_t ((cc_lc hL (by omega)).mpr hlt) hp
  · exact hT (cc_tail (fun U' x y hG' => hw (i + 3, U', x, y) ⟨by show i + 3 < 800; omega, hG'⟩ (by show 1000 - (i + 3) < 1000 - i; omega)))
theorem cc_20 (hL : L ≤ 260) (hk1 : 1 ≤ k) (hk : k ≤ 3) (hp : post 1) : wL_law_20 post L xs (nI k) 0 0 := by
  unfold wL_law_20
  refine ⟨by omega, by omega, 9, 233, by omega, by omega, cc_winit hk1 hk (fun x hx => ?_)⟩
  obtain ⟨cp, lw, a1, a2, a3, a4, a5, a6, a7, a8, a9⟩ := x
  refine ⟨by omega, by omega, 9, 233, by omega, by omega, cc_winit (k := 2) (by omega) (by omega) (fun y hy => ?_)⟩
  have := cc_46 (post := post) (xs := xs) (kc := 0 + 1 + 9 + 1 + 9) (ks := 0 + 11 + 233 + 11 + 233) (x := (cp, lw, a1, a2, a3, a4, a5, a6, a7, a8, a9)) (y := y) hL hk1 hk ⟨0, 0, _, _, _, _, by omega, by omega, hx, hy, fun _ _ z => absurd z (by decide)⟩ hp
  obtain ⟨cpy, lwy, a1y, a2y, a3y, a4y, a5y, a6y, a7y, a8y, a9y⟩ := y
  exact this
end
theorem i_vc (xs : Nat → Int32) (L : Nat) (hL : L ≤ 260) : wpL_law (fun r => r = 1) L xs := by
  unfold wpL_law
  refine pk_le L 0 (fun _ => cc_20 (k := 1) hL (by omega) (by omega) rfl) (fun z => ⟨pk_in 0 L z, by decide, ?_⟩) rfl rfl (by omega) (by omega)
  obtain ⟨j, hj, ej⟩ := pk_andE (xs (0 : Int32).toNatClampNeg) (m := 1023) 10 (by decide)
  have es : nI j - nI j / 3 * 3 = nI (j % 3) := pk_rem (a := j) (d := 3) (by omega) (by omega) (by omega)
  have e1 : (1 : Int32) + nI (j % 3) = nI (1 + j % 3) := nI_add 1 (j % 3)
  rw [ej, es, e1]
  exact cc_20 hL (by omega) (by omega) rfl
end
