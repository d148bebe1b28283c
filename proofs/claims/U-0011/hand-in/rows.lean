section
/-! pure rows to paste: stores, nI and lN arithmetic, masks, shifts, narrowing, branches by naturals (pk_le, pk_lt, pk_eq), loops (lp1 .. lp16: the measure of the state; rp1 ..: recursion), negatives. Take what you need -/
theorem pk_us {f : Nat → Int32} {k : Nat} {x : Int32} : upd f k x k = x := if_pos rfl
theorem pk_un {f : Nat → Int32} {k j : Nat} {x : Int32} (h : j ≠ k) : upd f k x j = f j := if_neg h
theorem pk_uLs {f : Nat → Int64} {k : Nat} {x : Int64} : vp_updL f k x k = x := if_pos rfl
theorem pk_uLn {f : Nat → Int64} {k j : Nat} {x : Int64} (h : j ≠ k) : vp_updL f k x j = f j := if_neg h
theorem pk_sub {a b : Nat} (h : b ≤ a) : nI a - nI b = nI (a - b) := by
  obtain ⟨c, rfl⟩ : ∃ c, a = c + b := ⟨a - b, by omega⟩
  rw [← nI_add, Int32.add_sub_cancel, Nat.add_sub_cancel]
theorem pk_m1 (n : Nat) : nI (n + 1) + (-1) = nI n := by
  rw [← nI_1, Int32.add_assoc, show (1 : Int32) + (-1) = 0 from rfl, Int32.add_zero]
theorem pk_mul (a b : Nat) : nI a * nI b = nI (a * b) := (Int32.ofNat_mul a b).symm
theorem pk_div {a d : Nat} (ha : a < 2 ^ 31) (h0 : 0 < d) (hd : d < 2 ^ 31) : nI a / nI d = nI (a / d) := by
  apply Int32.toInt_inj.mp
  rw [lg_idiv_nonneg (by rw [nI_toInt ha]; omega) (by rw [nI_toInt hd]; omega), nI_toInt ha, nI_toInt hd, nI_toInt (Nat.lt_of_le_of_lt (Nat.div_le_self a d) ha)]
  first | rfl | exact (Int.natCast_ediv _ _).symm
theorem pk_rem {a d : Nat} (ha : a < 2 ^ 31) (h0 : 0 < d) (hd : d < 2 ^ 31) : nI a - nI a / nI d * nI d = nI (a % d) := by
  rw [pk_div ha h0 hd, pk_mul, pk_sub (Nat.div_mul_le_self a d)]
  exact congrArg nI (by have := Nat.div_add_mod' a d; omega)
theorem pk_sub_toInt {a b : Nat} (ha : a < 2 ^ 30) (hb : b < 2 ^ 30) : (nI a - nI b).toInt = (a : Int) - b := by
  rw [Int32.toInt_sub, nI_toInt (by omega), nI_toInt (by omega)]
  exact Int.bmod_eq_of_le (by omega) (by omega)
theorem pk_sneg {a b : Nat} (hb : b < 2 ^ 30) (h : a < b) : nI a - nI b < 0 := by
  rw [Int32.lt_iff_toInt_lt, pk_sub_toInt (by omega) hb, show (0 : Int32).toInt = 0 from by decide]
  omega
theorem pk_ix (x : Int32) {n : Nat} (hn : n < 2 ^ 31) : x < 0 ∨ nI n ≤ x ∨ ∃ j : Nat, j < n ∧ x = nI j := by
  by_cases h : x < 0
  · exact Or.inl h
  · obtain ⟨j, hj, rfl⟩ := nI_of h
    by_cases h2 : j < n
    · exact Or.inr (Or.inr ⟨j, h2, rfl⟩)
    · exact Or.inr (Or.inl (nI_le (by omega) hj))
theorem pk_le {x y : Int32} {A B : Prop} (a b : Nat) (f : a ≤ b → A) (g : b < a → B) (hx : x = nI a := by rfl) (hy : y = nI b := by rfl) (ha : a < 2 ^ 31 := by omega) (hb : b < 2 ^ 31 := by omega) : (x ≤ y → A) ∧ (¬ x ≤ y → B) := by
  subst hx hy
  rw [nI_leI ha hb]
  exact ⟨f, fun z => g (by omega)⟩
theorem pk_lt {x y : Int32} {A B : Prop} (a b : Nat) (f : a < b → A) (g : b ≤ a → B) (hx : x = nI a := by rfl) (hy : y = nI b := by rfl) (ha : a < 2 ^ 31 := by omega) (hb : b < 2 ^ 31 := by omega) : (x < y → A) ∧ (¬ x < y → B) := by
  subst hx hy
  rw [nI_ltI ha hb]
  exact ⟨f, fun z => g (by omega)⟩
theorem pk_eq {x y : Int32} {A B : Prop} (a b : Nat) (f : a = b → A) (g : a ≠ b → B) (hx : x = nI a := by rfl) (hy : y = nI b := by rfl) (ha : a < 2 ^ 31 := by omega) (hb : b < 2 ^ 31 := by omega) : (x = y → A) ∧ (¬ x = y → B) := by
  subst hx hy
  rw [nI_eq ha hb]
  exact ⟨f, g⟩
theorem pk_in {x : Int32} (n N : Nat) (h : n < N) (hx : x = nI n := by rfl) (hN : N < 2 ^ 31 := by omega) : vp_in x N := by
  subst hx
  exact vp_in_nI h hN
theorem pk_cl {x : Int32} (n : Nat) (hx : x = nI n := by rfl) (h : n < 2 ^ 31 := by omega) : x.toNatClampNeg = n := by
  subst hx
  exact nI_clamp h
theorem pk_lT {n : Nat} (h : n < 2 ^ 63) : (lN n).toInt = (n : Int) := lg_ofNat_toInt h
theorem pk_lLT {a b : Nat} (ha : a < 2 ^ 63) (hb : b < 2 ^ 63) : lN a < lN b ↔ a < b := by
  rw [Int64.lt_iff_toInt_lt, pk_lT ha, pk_lT hb]; omega
theorem pk_lLE {a b : Nat} (ha : a < 2 ^ 63) (hb : b < 2 ^ 63) : lN a ≤ lN b ↔ a ≤ b := by
  rw [Int64.le_iff_toInt_le, pk_lT ha, pk_lT hb]; omega
theorem pk_lEQ {a b : Nat} (ha : a < 2 ^ 63) (hb : b < 2 ^ 63) : lN a = lN b ↔ a = b := by
  rw [← Int64.toInt_inj, pk_lT ha, pk_lT hb]; omega
theorem pk_lOf {x : Int64} (h : ¬ x < 0) : ∃ k : Nat, k < 2 ^ 63 ∧ x = lN k := by
  rw [Int64.lt_iff_toInt_lt] at h
  have h0 : (0 : Int64).toInt = 0 := by decide
  have hx := Int64.toInt_lt x
  refine ⟨x.toInt.toNat, by omega, Int64.toInt_inj.mp ?_⟩
  rw [pk_lT (by omega)]
  omega
theorem pk_lDiv {a b : Nat} (ha : a < 2 ^ 63) (h0 : 0 < b) (hb : b < 2 ^ 63) : lN a / lN b = lN (a / b) := by
  apply Int64.toInt_inj.mp
  rw [lg_ldiv_nonneg (by rw [pk_lT ha]; omega) (by rw [pk_lT hb]; omega), pk_lT ha, pk_lT hb, pk_lT (Nat.lt_of_le_of_lt (Nat.div_le_self a b) ha)]
  rfl
theorem pk_lRem {a b : Nat} (ha : a < 2 ^ 63) (h0 : 0 < b) (hb : b < 2 ^ 63) : lN a - lN a / lN b * lN b = lN (a % b) := by
  rw [pk_lDiv ha h0 hb, lN_mul, lN_sub (Nat.div_mul_le_self a b)]
  exact congrArg lN (by have := Nat.div_add_mod' a b; omega)
theorem pk_loop {σ : Type} (W : Nat → Nat → σ → Prop) (I : Nat → σ → Prop) (e i0 : Nat) (s : σ) (hi : i0 ≤ e) (h0 : I i0 s) (hx : ∀ n s, I e s → W (n + 1) e s)
    (hs : ∀ n i s, i < e → I i s → (∀ s', I (i + 1) s' → W n (i + 1) s') → W (n + 1) i s) : ∃ n, W n i0 s :=
  ⟨e + 1, loop_i W I e hx hs (e + 1) i0 s hi (by omega) h0⟩
theorem ek_v {α : Sort _} {P : α → Prop} {a b : α} (e : a = b) (h : P b) : P a := e ▸ h
theorem co_2 {P : Nat → Prop} (h0 : P 0) (h1 : P 1) {i : Nat} (hi : i < 2) : P i :=
  match i, hi with
  | 0, _ => h0
  | 1, _ => h1
theorem co_3 {P : Nat → Prop} (h0 : P 0) (h1 : P 1) (h2 : P 2) {i : Nat} (hi : i < 3) : P i :=
  match i, hi with
  | 0, _ => h0
  | 1, _ => h1
  | 2, _ => h2
theorem co_4 {P : Nat → Prop} (h0 : P 0) (h1 : P 1) (h2 : P 2) (h3 : P 3) {i : Nat} (hi : i < 4) : P i :=
  match i, hi with
  | 0, _ => h0
  | 1, _ => h1
  | 2, _ => h2
  | 3, _ => h3
noncomputable def bw_b01 (P : Prop) : Nat := @ite Nat P (Classical.propDecidable P) 1 0
theorem bw_b01_t {P : Prop} (h : P) : bw_b01 P = 1 := by unfold bw_b01; rw [if_pos h]
theorem bw_b01_f {P : Prop} (h : ¬ P) : bw_b01 P = 0 := by unfold bw_b01; rw [if_neg h]
theorem bw_b01_le (P : Prop) : bw_b01 P ≤ 1 := by
  rcases Classical.em P with h | h
  · rw [bw_b01_t h]; omega
  · rw [bw_b01_f h]; omega
theorem bw_b01_mono {P Q : Prop} (h : P → Q) : bw_b01 P ≤ bw_b01 Q := by
  rcases Classical.em P with hp | hp
  · rw [bw_b01_t hp, bw_b01_t (h hp)]; omega
  · rw [bw_b01_f hp]; omega
noncomputable def bw_cn (P : Nat → Prop) : Nat → Nat
  | 0 => 0
  | k + 1 => bw_cn P k + bw_b01 (P k)
theorem bw_cn_mono {P Q : Nat → Prop} : ∀ {N : Nat}, (∀ k, k < N → P k → Q k) → bw_cn P N ≤ bw_cn Q N
  | 0, _ => Nat.le_refl _
  | N + 1, h => by
    have a := bw_cn_mono (P := P) (Q := Q) (N := N) (fun k hk => h k (by omega))
    have b := bw_b01_mono (h N (by omega))
    simp only [bw_cn]; omega
theorem bw_cn_lt {P Q : Nat → Prop} {a : Nat} (hp : ¬ P a) (hq : Q a) : ∀ {N : Nat}, (∀ k, k < N → P k → Q k) → a < N → bw_cn P N < bw_cn Q N
  | 0, _, h => by omega
  | N + 1, h, ha => by
    simp only [bw_cn]
    rcases Nat.lt_or_ge a N with z | z
    · have x := bw_cn_lt hp hq (N := N) (fun k hk => h k (by omega)) z
      have b := bw_b01_mono (h N (by omega))
      omega
    · have e : a = N := by omega
      subst e
      have x := bw_cn_mono (P := P) (Q := Q) (N := a) (fun k hk => h k (by omega))
      rw [bw_b01_t hq, bw_b01_f hp]; omega
theorem bw_cn_le (P : Nat → Prop) : ∀ N, bw_cn P N ≤ N
  | 0 => Nat.le_refl _
  | N + 1 => by have := bw_cn_le P N; have := bw_b01_le (P N); simp only [bw_cn]; omega
theorem bw_cn_eq {P Q : Nat → Prop} {N : Nat} (h : ∀ k, k < N → (P k ↔ Q k)) : bw_cn P N = bw_cn Q N :=
  Nat.le_antisymm (bw_cn_mono fun k hk => (h k hk).mp) (bw_cn_mono fun k hk => (h k hk).mpr)
theorem bw_cn_add {P : Nat → Prop} {a : Nat} (hp : ¬ P a) : ∀ {N : Nat}, a < N → bw_cn (fun k => P k ∨ k = a) N = bw_cn P N + 1
  | 0, h => by omega
  | N + 1, h => by
    simp only [bw_cn]
    rcases Nat.lt_or_ge a N with z | z
    · rw [bw_cn_add hp z]
      have : bw_b01 (P N ∨ N = a) = bw_b01 (P N) := Nat.le_antisymm (bw_b01_mono fun q => q.elim id (fun e => by omega)) (bw_b01_mono Or.inl)
      omega
    · have e : a = N := by omega
      subst e
      rw [bw_cn_eq (P := fun k => P k ∨ k = a) (Q := P) (fun k hk => ⟨fun q => q.elim id (fun e => by omega), Or.inl⟩), bw_b01_t (Or.inr rfl), bw_b01_f hp]
end
section
/-! records of a chain: (node, kind, key, value); probe, content -/
abbrev bw_Rc : Type := Nat × Int32 × Int × Int32
abbrev bw_dec (key : Int) (r : bw_Rc) : Prop := r.2.1 = 4 ∨ key = r.2.2.1 ∨ (r.2.1 = 3 ∧ r.2.2.1 < key)
def bw_pr (key : Int) : List bw_Rc → Option bw_Rc
  | [] => none
  | r :: l => if bw_dec key r then some r else bw_pr key l
theorem bw_pr_t {key : Int} {r : bw_Rc} {l : List bw_Rc} (h : bw_dec key r) : bw_pr key (r :: l) = some r := if_pos h
theorem bw_pr_f {key : Int} {r : bw_Rc} {l : List bw_Rc} (h : ¬ bw_dec key r) : bw_pr key (r :: l) = bw_pr key l := if_neg h
theorem bw_pr_mem {key : Int} : ∀ {L : List bw_Rc} {r : bw_Rc}, bw_pr key L = some r → r ∈ L ∧ bw_dec key r
  | [], r, h => by cases h
  | a :: l, r, h => by
    by_cases hd : bw_dec key a
    · rw [bw_pr_t hd] at h
      cases h
      exact ⟨List.mem_cons_self, hd⟩
    · rw [bw_pr_f hd] at h
      have := bw_pr_mem h
      exact ⟨List.mem_cons_of_mem _ this.1, this.2⟩
theorem bw_pr_skip {key : Int} {R : List bw_Rc} : ∀ {D : List bw_Rc}, (∀ r, r ∈ D → ¬ bw_dec key r) → bw_pr key (D ++ R) = bw_pr key R
  | [], _ => rfl
  | a :: l, h => by
    rw [List.cons_append, bw_pr_f (h a List.mem_cons_self)]
    exact bw_pr_skip fun r hr => h r (List.mem_cons_of_mem _ hr)
theorem bw_pr_none {key : Int} {D : List bw_Rc} (h : ∀ r, r ∈ D → ¬ bw_dec key r) : bw_pr key D = none := by
  have := bw_pr_skip (R := []) h
  rw [List.append_nil] at this
  exact this
/-- the first that decides, at a place -/
theorem bw_pr_at {key : Int} {D R : List bw_Rc} {f : bw_Rc} (h : ∀ r, r ∈ D → ¬ bw_dec key r) (hf : bw_dec key f) : bw_pr key (D ++ f :: R) = some f := by
  rw [bw_pr_skip h, bw_pr_t hf]
def bw_con (L : List bw_Rc) (key : Int) : Option Int32 := (bw_pr key L).bind fun r => if r.2.1 = 1 then some r.2.2.2 else none
theorem bw_con_s {L : List bw_Rc} {key : Int} {r : bw_Rc} (h : bw_pr key L = some r) (h1 : r.2.1 = 1) : bw_con L key = some r.2.2.2 := by
  unfold bw_con; rw [h, Option.bind_some, if_pos h1]
theorem bw_con_n {L : List bw_Rc} {key : Int} (h : ∀ r, bw_pr key L = some r → r.2.1 ≠ 1) : bw_con L key = none := by
  unfold bw_con
  cases hq : bw_pr key L with
  | none => rfl
  | some r => rw [Option.bind_some, if_neg (h r hq)]
theorem bw_con_some {L : List bw_Rc} {key : Int} {v : Int32} (h : bw_con L key = some v) : ∃ r, bw_pr key L = some r ∧ r.2.1 = 1 ∧ r.2.2.2 = v := by
  unfold bw_con at h
  cases hq : bw_pr key L with
  | none => rw [hq] at h; cases h
  | some r =>
    rw [hq, Option.bind_some] at h
    by_cases h1 : r.2.1 = 1
    · rw [if_pos h1] at h
      exact ⟨r, rfl, h1, Option.some.inj h⟩
    · rw [if_neg h1] at h; cases h
theorem bw_con_none {L : List bw_Rc} {key : Int} (h : bw_con L key = none) {r : bw_Rc} (hr : bw_pr key L = some r) : r.2.1 ≠ 1 := by
  intro h1
  rw [bw_con_s hr h1] at h
  cases h
theorem bw_con_pr {L L' : List bw_Rc} {key : Int} (h : bw_pr key L = bw_pr key L') : bw_con L key = bw_con L' key := by
  unfold bw_con; rw [h]
abbrev bw_vis (L : List bw_Rc) (r : bw_Rc) : Prop := r.2.1 = 1 ∧ bw_pr r.2.2.1 L = some r
theorem bw_dec1 {key : Int} {r : bw_Rc} (h : bw_dec key r) (h1 : r.2.1 = 1) : r.2.2.1 = key := by
  rcases h with h | h | ⟨h, _⟩
  · rw [h1] at h; exact absurd h (by decide)
  · exact h.symm
  · rw [h1] at h; exact absurd h (by decide)
theorem bw_vis_of {L : List bw_Rc} {key : Int} {r : bw_Rc} (h : bw_pr key L = some r) (h1 : r.2.1 = 1) : r.2.2.1 = key ∧ r ∈ L ∧ bw_vis L r := by
  obtain ⟨hm, hd⟩ := bw_pr_mem h
  have e := bw_dec1 hd h1
  exact ⟨e, hm, h1, by rw [e]; exact h⟩
theorem bw_con_vis {L : List bw_Rc} {key : Int} {v : Int32} (h : bw_con L key = some v) : ∃ r, r ∈ L ∧ bw_vis L r ∧ r.2.2.1 = key ∧ r.2.2.2 = v := by
  obtain ⟨r, hr, h1, hv⟩ := bw_con_some h
  obtain ⟨e, hm, hw⟩ := bw_vis_of hr h1
  exact ⟨r, hm, hw, e, hv⟩
theorem bw_vis_con {L : List bw_Rc} {r : bw_Rc} (h : bw_vis L r) : bw_con L r.2.2.1 = some r.2.2.2 := bw_con_s h.2 h.1
/-- the pointer of a record or nil -/
def bw_oI : Option bw_Rc → Int32
  | none => -1
  | some r => nI r.1
/-- the first fence -/
def bw_ff : List bw_Rc → Option bw_Rc
  | [] => none
  | r :: l => if r.2.1 = 3 then some r else bw_ff l
theorem bw_ff_none : ∀ {L : List bw_Rc}, (∀ r, r ∈ L → r.2.1 ≠ 3) → bw_ff L = none
  | [], _ => rfl
  | a :: l, h => by
    rw [bw_ff, if_neg (h a List.mem_cons_self)]
    exact bw_ff_none fun r hr => h r (List.mem_cons_of_mem _ hr)
theorem bw_ff_at {f : bw_Rc} {R : List bw_Rc} (hf : f.2.1 = 3) : ∀ {D : List bw_Rc}, (∀ r, r ∈ D → r.2.1 ≠ 3) → bw_ff (D ++ f :: R) = some f
  | [], _ => by rw [List.nil_append, bw_ff, if_pos hf]
  | a :: l, h => by
    rw [List.cons_append, bw_ff, if_neg (h a List.mem_cons_self)]
    exact bw_ff_at hf fun r hr => h r (List.mem_cons_of_mem _ hr)
theorem bw_ff_mem : ∀ {L : List bw_Rc} {f : bw_Rc}, bw_ff L = some f → f ∈ L ∧ f.2.1 = 3
  | [], f, h => by cases h
  | a :: l, f, h => by
    by_cases h3 : a.2.1 = 3
    · rw [bw_ff, if_pos h3] at h
      cases h
      exact ⟨List.mem_cons_self, h3⟩
    · rw [bw_ff, if_neg h3] at h
      have := bw_ff_mem h
      exact ⟨List.mem_cons_of_mem _ this.1, this.2⟩
/-! chains in the arrays -/
def bw_ch (K Y V N : Nat → Int32) : Int32 → List bw_Rc → Prop
  | x, [] => x = -1
  | x, r :: l => x = nI r.1 ∧ r.1 < 4096 ∧ K r.1 = r.2.1 ∧ (Y r.1).toInt = r.2.2.1 ∧ V r.1 = r.2.2.2 ∧ bw_ch K Y V N (N r.1) l
theorem bw_ch_mem {K Y V N : Nat → Int32} : ∀ {x : Int32} {L : List bw_Rc}, bw_ch K Y V N x L → ∀ r, r ∈ L → r.1 < 4096 ∧ K r.1 = r.2.1 ∧ (Y r.1).toInt = r.2.2.1 ∧ V r.1 = r.2.2.2
  | _, [], _, r, hr => by cases hr
  | x, a :: l, h, r, hr => by
    obtain ⟨_, h1, h2, h3, h4, h5⟩ := h
    rcases List.mem_cons.mp hr with e | hr
    · subst e; exact ⟨h1, h2, h3, h4⟩
    · exact bw_ch_mem h5 r hr
theorem bw_rc_ext {r s : bw_Rc} (h1 : r.1 = s.1) (h2 : r.2.1 = s.2.1) (h3 : r.2.2.1 = s.2.2.1) (h4 : r.2.2.2 = s.2.2.2) : r = s := by
  obtain ⟨a, b, c, d⟩ := r
  obtain ⟨a', b', c', d'⟩ := s
  dsimp only at h1 h2 h3 h4
  subst h1 h2 h3 h4
  rfl
theorem bw_ch_inj {K Y V N : Nat → Int32} {x : Int32} {L : List bw_Rc} (h : bw_ch K Y V N x L) {r s : bw_Rc} (hr : r ∈ L) (hs : s ∈ L) (e : r.1 = s.1) : r = s := by
  obtain ⟨_, a1, a2, a3⟩ := bw_ch_mem h r hr
  obtain ⟨_, b1, b2, b3⟩ := bw_ch_mem h s hs
  rw [e] at a1 a2 a3
  exact bw_rc_ext e (a1.symm.trans b1) (a2.symm.trans b2) (a3.symm.trans b3)
theorem bw_ch_congr {K Y V N K' Y' V' N' : Nat → Int32} : ∀ {x : Int32} {L : List bw_Rc}, bw_ch K Y V N x L → (∀ r, r ∈ L → K' r.1 = K r.1 ∧ Y' r.1 = Y r.1 ∧ V' r.1 = V r.1 ∧ N' r.1 = N r.1) → bw_ch K' Y' V' N' x L
  | _, [], h, _ => h
  | x, a :: l, h, hk => by
    obtain ⟨h0, h1, h2, h3, h4, h5⟩ := h
    obtain ⟨k1, k2, k3, k4⟩ := hk a List.mem_cons_self
    refine ⟨h0, h1, k1.trans h2, by rw [k2]; exact h3, k3.trans h4, ?_⟩
    rw [k4]
    exact bw_ch_congr h5 fun r hr => hk r (List.mem_cons_of_mem _ hr)
/-! links chains -/
def bw_lc (Lk : Nat → Int32) : Int32 → List Nat → Prop
  | x, [] => x = -1
  | x, a :: l => x = nI a ∧ a < 4096 ∧ bw_lc Lk (Lk a) l
theorem bw_lc_mem {Lk : Nat → Int32} : ∀ {x : Int32} {L : List Nat}, bw_lc Lk x L → ∀ a, a ∈ L → a < 4096
  | _, [], _, r, hr => by cases hr
  | x, a :: l, h, r, hr => by
    obtain ⟨_, h1, h5⟩ := h
    rcases List.mem_cons.mp hr with e | hr
    · subst e; exact h1
    · exact bw_lc_mem h5 r hr
theorem bw_lc_congr {Lk Lk' : Nat → Int32} : ∀ {x : Int32} {L : List Nat}, bw_lc Lk x L → (∀ a, a ∈ L → Lk' a = Lk a) → bw_lc Lk' x L
  | _, [], h, _ => h
  | x, a :: l, h, hk => by
    obtain ⟨h0, h1, h5⟩ := h
    refine ⟨h0, h1, ?_⟩
    rw [hk a List.mem_cons_self]
    exact bw_lc_congr h5 fun r hr => hk r (List.mem_cons_of_mem _ hr)
/-! int keys -/
theorem bw_ieq {x y : Int32} : x = y ↔ x.toInt = y.toInt := Int32.toInt_inj.symm
theorem bw_ile {x y : Int32} : x ≤ y ↔ x.toInt ≤ y.toInt := Int32.le_iff_toInt_le
theorem bw_ilt {x y : Int32} : x < y ↔ x.toInt < y.toInt := Int32.lt_iff_toInt_lt
theorem bw_irg (x : Int32) : -2147483648 ≤ x.toInt ∧ x.toInt ≤ 2147483647 := by
  have a := x.le_toInt
  have b := x.toInt_lt
  omega
theorem bw_neg1 : (-1 : Int32) < 0 := by decide
theorem bw_nneg1 : ¬ (0 : Int32) ≤ -1 := by decide
theorem bw_m1ne {n : Nat} (h : n < 2 ^ 31) : ¬ (-1 : Int32) = nI n := by
  intro e
  have := nI_pos h
  rw [← e] at this
  exact this bw_neg1
theorem bw_lge (a b : Int) : a < b ∨ b ≤ a := by omega
end
section
/-! walks that only read a chain -/
section bw_S03
variable {q1 q2 q3 q4 q5 q6 q7 q8 q9 q10 q11 q12 q13 q14 q15 cap thr win fh fc r0 r1 mp mk ic he0 he1 pc : Int32} {K Y V N Lk H D U sg ok oy oa lg fo rk rv st : Nat → Int32} {cu : Nat → Int64}
theorem bw_probe_l {post : Int32 → Prop} {key : Int32} : ∀ (L : List bw_Rc) (x : Int32) (i n : Nat), bw_ch K Y V N x L → i + L.length ≤ 4096 → L.length < n → post (bw_oI (bw_pr key.toInt L)) → wX_probe_13 post key q1 q2 q3 q4 q5 q6 q7 q8 q9 q10 q11 q12 q13 q14 q15 cap thr win fh fc r0 r1 mp mk ic he0 he1 pc K Y V N Lk H D U sg ok oy oa lg fo rk rv st cu n x (nI i) := by
  intro L
  induction L with
  | nil =>
    intro x i n hc hi hn hp
    rw [List.length_nil] at hn
    obtain ⟨m, rfl⟩ : ∃ m, n = m + 1 := ⟨n - 1, by omega⟩
    have hx : x = -1 := hc
    subst hx
    exact br_c (fun _ => hp) (fun _ => br_t bw_neg1 hp)
  | cons r l ih =>
    intro x i n hc hi hn hp
    obtain ⟨h0, h1, h2, h3, h4, h5⟩ := hc
    subst h0
    rw [List.length_cons] at hi hn
    obtain ⟨m, rfl⟩ : ∃ m, n = m + 1 := ⟨n - 1, by omega⟩
    have cl : (nI r.1).toNatClampNeg = r.1 := nI_clamp (by omega)
    have hin : vp_in (nI r.1) 4096 := vp_in_nI h1 (by decide)
    have e2 : K (nI r.1).toNatClampNeg = r.2.1 := by rw [cl]; exact h2
    have e3 : (Y (nI r.1).toNatClampNeg).toInt = r.2.2.1 := by rw [cl]; exact h3
    have go : ¬ bw_dec key.toInt r → wX_probe_13 post key q1 q2 q3 q4 q5 q6 q7 q8 q9 q10 q11 q12 q13 q14 q15 cap thr win fh fc r0 r1 mp mk ic he0 he1 pc K Y V N Lk H D U sg ok oy oa lg fo rk rv st cu m (N (nI r.1).toNatClampNeg) (nI i + 1) := by
      intro hd
      rw [bw_pr_f hd] at hp
      rw [cl, nI_1]
      exact ih _ _ _ h5 (by omega) (by omega) hp
    have stop : bw_dec key.toInt r → post (nI r.1) := by
      intro hd
      rw [bw_pr_t hd] at hp
      exact hp
    refine br_f (nI_ge (b := 4096) (by omega) (by decide)) (br_f (nI_pos (by omega)) ⟨hin, nm_e ?_⟩)
    refine br_c (fun h => stop (Or.inl (e2.symm.trans h))) (fun n4 => ⟨hin, br_c (fun h => stop (Or.inr (Or.inl ((congrArg Int32.toInt h).trans e3)))) (fun nk => br_c (fun k3 => ⟨hin, br_c (fun le => ⟨hin, nm_e (nm_e (go ?_))⟩) (fun nle => stop (Or.inr (Or.inr ⟨e2.symm.trans k3, ?_⟩)))⟩) (fun n3 => ⟨hin, nm_e (nm_e (go ?_))⟩))⟩)
    · rintro (h | h | ⟨_, h⟩)
      · exact n4 (e2.trans h)
      · exact nk (bw_ieq.mpr (h.trans e3.symm))
      · have := bw_ile.mp le
        omega
    · have : ¬ _ := fun z => nle (bw_ile.mpr z)
      omega
    · rintro (h | h | ⟨h, _⟩)
      · exact n4 (e2.trans h)
      · exact nk (bw_ieq.mpr (h.trans e3.symm))
      · exact n3 (e2.trans h)
/-- the page at x2 in the row at x1 has the chain L -/
def bw_at (K Y V N H : Nat → Int32) (x1 x2 : Int32) (L : List bw_Rc) : Prop := vp_in (x1 + x2) 80 ∧ bw_ch K Y V N (H (x1 + x2).toNatClampNeg) L ∧ L.length ≤ 4000
theorem bw_probe {post : Int32 → Prop} {x1 x2 key : Int32} {L : List bw_Rc} (ha : bw_at K Y V N H x1 x2 L) (hp : post (bw_oI (bw_pr key.toInt L))) : wpX_probe post (q1, q2, q3, q4, q5, q6, q7, q8, q9, q10, q11, q12, q13, q14, q15, cap, thr, win, fh, fc, r0, r1, mp, mk, ic, he0, he1, pc, K, Y, V, N, Lk, H, D, U, sg, ok, oy, oa, lg, fo, rk, rv, st, cu) x1 x2 key :=
  And.intro ha.1 (nm_e ⟨4001, bw_probe_l L _ 0 _ ha.2.1 (by have := ha.2.2; omega) (by have := ha.2.2; omega) hp⟩)
theorem bw_visible {post : Int32 → Prop} {x1 x2 : Int32} {L : List bw_Rc} {r : bw_Rc} (ha : bw_at K Y V N H x1 x2 L) (hr : r ∈ L) (h1 : bw_vis L r → post 1) (h0 : ¬ bw_vis L r → post 0) : wpX_visible post (q1, q2, q3, q4, q5, q6, q7, q8, q9, q10, q11, q12, q13, q14, q15, cap, thr, win, fh, fc, r0, r1, mp, mk, ic, he0, he1, pc, K, Y, V, N, Lk, H, D, U, sg, ok, oy, oa, lg, fo, rk, rv, st, cu) x1 x2 (nI r.1) := by
  obtain ⟨m1, m2, m3, m4⟩ := bw_ch_mem ha.2.1 r hr
  have cl : (nI r.1).toNatClampNeg = r.1 := nI_clamp (by omega)
  have hi : vp_in (nI r.1) 4096 := vp_in_nI m1 (by decide)
  refine And.intro hi (br_c (fun k1 => And.intro hi ?_) (fun nk => h0 fun hv => nk (by rw [cl, m2]; exact hv.1)))
  refine bw_probe ha ?_
  rw [cl, m3]
  rw [cl, m2] at k1
  refine br_c (fun e => h1 ⟨k1, ?_⟩) (fun ne => h0 fun hv => ne (by rw [hv.2]; rfl))
  cases hq : bw_pr r.2.2.1 L with
  | none =>
    rw [hq] at e
    exact absurd e (bw_m1ne (by omega))
  | some s =>
    rw [hq] at e
    have hs := (bw_pr_mem hq).1
    have m := bw_ch_mem ha.2.1 s hs
    have e' : s.1 = r.1 := (nI_eq (by omega) (by omega)).mp e
    rw [bw_ch_inj ha.2.1 hs hr e']
/-! floor -/
def bw_FI (L : List bw_Rc) (key : Int) (dn : List bw_Rc) : Option bw_Rc → Prop
  | none => ∀ r, r ∈ dn → bw_vis L r → key < r.2.2.1
  | some m => m ∈ L ∧ bw_vis L m ∧ m.2.2.1 ≤ key ∧ ∀ r, r ∈ dn → bw_vis L r → r.2.2.1 ≤ key → r.2.2.1 ≤ m.2.2.1
theorem bw_fl58 {post : Int32 → Prop} {J : Int32 → Int32 → Int32 → Prop} {x1 x2 key z : Int32} {L dn : List bw_Rc} {b : Option bw_Rc} {r : bw_Rc} {i : Nat} (ha : bw_at K Y V N H x1 x2 L) (hr : r ∈ L) (hb : bw_FI L key.toInt dn b)
    (hz : (z = 0 ∧ ∃ m, b = some m ∧ r.2.2.1 ≤ m.2.2.1) ∨ (z = 1 ∧ ∀ m, b = some m → m.2.2.1 < r.2.2.1))
    (hJ : ∀ b', bw_FI L key.toInt (dn ++ [r]) b' → J (bw_oI b') (N r.1) (nI (i + 1))) : wX_floor_58 post J x1 x2 key (bw_oI b) (nI r.1) (nI i) z q1 q2 q3 q4 q5 q6 q7 q8 q9 q10 q11 q12 q13 q14 q15 cap thr win fh fc r0 r1 mp mk ic he0 he1 pc K Y V N Lk H D U sg ok oy oa lg fo rk rv st cu := by
  obtain ⟨m1, m2, m3, m4⟩ := bw_ch_mem ha.2.1 r hr
  have cl : (nI r.1).toNatClampNeg = r.1 := nI_clamp (by omega)
  have hi : vp_in (nI r.1) 4096 := vp_in_nI m1 (by decide)
  have e3 : (Y (nI r.1).toNatClampNeg).toInt = r.2.2.1 := by rw [cl]; exact m3
  have keep : (bw_vis L r → r.2.2.1 ≤ key.toInt → ∃ m, b = some m ∧ r.2.2.1 ≤ m.2.2.1) → J (bw_oI b) (N (nI r.1).toNatClampNeg) (nI i + 1) := by
    intro h
    rw [cl, nI_1]
    apply hJ
    cases b with
    | none =>
      intro s hs hv
      rcases List.mem_append.mp hs with hs | hs
      · exact hb s hs hv
      · have e := List.mem_singleton.mp hs
        subst e
        rcases bw_lge key.toInt s.2.2.1 with q | q
        · exact q
        · obtain ⟨m, hm, _⟩ := h hv q
          cases hm
    | some m =>
      obtain ⟨b1, b2, b3, b4⟩ := hb
      refine ⟨b1, b2, b3, fun s hs hv hk => ?_⟩
      rcases List.mem_append.mp hs with hs | hs
      · exact b4 s hs hv hk
      · have e := List.mem_singleton.mp hs
        subst e
        obtain ⟨m', hm, hle⟩ := h hv hk
        cases hm
        exact hle
  have take : bw_vis L r → r.2.2.1 ≤ key.toInt → (∀ m, b = some m → m.2.2.1 < r.2.2.1) → J (nI r.1) (N (nI r.1).toNatClampNeg) (nI i + 1) := by
    intro hv hk hm
    rw [cl, nI_1]
    refine hJ (some r) ⟨hr, hv, hk, fun s hs hw hks => ?_⟩
    rcases List.mem_append.mp hs with hs | hs
    · cases b with
      | none =>
        have := hb s hs hw
        omega
      | some m =>
        have a1 := hb.2.2.2 s hs hw hks
        have a2 := hm m rfl
        omega
    · have e := List.mem_singleton.mp hs
      subst e
      exact Int.le_refl _
  rcases hz with ⟨rfl, m, hm, hle⟩ | ⟨rfl, hlt⟩
  · exact br_t rfl ⟨hi, nm_e (nm_e (keep fun _ _ => ⟨m, hm, hle⟩))⟩
  · refine br_f (by decide) ⟨hi, br_c (fun lt => ⟨hi, nm_e (nm_e (keep fun _ hk => ?_))⟩) (fun nlt => bw_visible ha hr (fun hv => br_f (by decide) ⟨hi, nm_e (nm_e (take hv ?_ hlt))⟩) (fun nv => br_t rfl ⟨hi, nm_e (nm_e (keep fun hv => absurd hv nv))⟩))⟩
    · have := bw_ilt.mp lt
      omega
    · have : ¬ _ := fun z => nlt (bw_ilt.mpr z)
      omega
theorem bw_fl_l {post : Int32 → Prop} {x1 x2 key : Int32} {L : List bw_Rc} (ha : bw_at K Y V N H x1 x2 L) (hp : ∀ b, bw_FI L key.toInt L b → post (bw_oI b)) : ∀ (rest dn : List bw_Rc) (b : Option bw_Rc) (x : Int32) (i n : Nat), L = dn ++ rest → bw_ch K Y V N x rest → i + rest.length ≤ 4096 → rest.length < n → bw_FI L key.toInt dn b → wX_floor_16 post x1 x2 key q1 q2 q3 q4 q5 q6 q7 q8 q9 q10 q11 q12 q13 q14 q15 cap thr win fh fc r0 r1 mp mk ic he0 he1 pc K Y V N Lk H D U sg ok oy oa lg fo rk rv st cu n (bw_oI b) x (nI i) := by
  intro rest
  induction rest with
  | nil =>
    intro dn b x i n hL hc hi hn hb
    rw [List.length_nil] at hn
    obtain ⟨m, rfl⟩ : ∃ m, n = m + 1 := ⟨n - 1, by omega⟩
    have hx : x = -1 := hc
    subst hx
    rw [List.append_nil] at hL
    rw [← hL] at hb
    exact br_c (fun _ => hp b hb) (fun _ => br_t bw_neg1 (hp b hb))
  | cons r l ih =>
    intro dn b x i n hL hc hi hn hb
    obtain ⟨h0, h1, h2, h3, h4, h5⟩ := hc
    subst h0
    rw [List.length_cons] at hi hn
    obtain ⟨m, rfl⟩ : ∃ m, n = m + 1 := ⟨n - 1, by omega⟩
    have cl : (nI r.1).toNatClampNeg = r.1 := nI_clamp (by omega)
    have hin : vp_in (nI r.1) 4096 := vp_in_nI h1 (by decide)
    have hr : r ∈ L := by rw [hL]; exact List.mem_append_right _ List.mem_cons_self
    have J : ∀ b', bw_FI L key.toInt (dn ++ [r]) b' → wX_floor_16 post x1 x2 key q1 q2 q3 q4 q5 q6 q7 q8 q9 q10 q11 q12 q13 q14 q15 cap thr win fh fc r0 r1 mp mk ic he0 he1 pc K Y V N Lk H D U sg ok oy oa lg fo rk rv st cu m (bw_oI b') (N r.1) (nI (i + 1)) :=
      fun b' hb' => ih (dn ++ [r]) b' _ _ _ (by rw [hL, List.append_assoc]; rfl) h5 (by omega) (by omega) hb'
    refine br_f (nI_ge (b := 4096) (by omega) (by decide)) (br_f (nI_pos (by omega)) ?_)
    cases b with
    | none => exact br_t bw_neg1 (bw_fl58 ha hr hb (Or.inr ⟨rfl, fun m hm => by cases hm⟩) J)
    | some s =>
      have ms := bw_ch_mem ha.2.1 s hb.1
      have cs : (nI s.1).toNatClampNeg = s.1 := nI_clamp (by omega)
      have his : vp_in (nI s.1) 4096 := vp_in_nI ms.1 (by decide)
      have e3 : (Y (nI r.1).toNatClampNeg).toInt = r.2.2.1 := by rw [cl]; exact h3
      have f3 : (Y (nI s.1).toNatClampNeg).toInt = s.2.2.1 := by rw [cs]; exact ms.2.2.1
      refine br_f (nI_pos (by omega)) ⟨hin, his, br_c (fun le => bw_fl58 ha hr hb (Or.inl ⟨rfl, s, rfl, ?_⟩) J) (fun nle => bw_fl58 ha hr hb (Or.inr ⟨rfl, fun m hm => ?_⟩) J)⟩
      · have := bw_ile.mp le
        rw [← e3, ← f3]
        exact this
      · cases hm
        have : ¬ _ := fun z => nle (bw_ile.mpr z)
        rw [e3] at this
        have g : s.2.2.1 < r.2.2.1 := by
          rcases bw_lge s.2.2.1 r.2.2.1 with q | q
          · exact q
          · exact absurd (by show r.2.2.1 ≤ (Y (nI s.1).toNatClampNeg).toInt; rw [f3]; exact q) this
        exact g
theorem bw_floor {post : Int32 → Prop} {x1 x2 key : Int32} {L : List bw_Rc} (ha : bw_at K Y V N H x1 x2 L)
    (hn : (∀ k, k ≤ key.toInt → bw_con L k = none) → post (-1))
    (hs : ∀ r, r ∈ L → bw_vis L r → r.2.2.1 ≤ key.toInt → (∀ k, r.2.2.1 < k → k ≤ key.toInt → bw_con L k = none) → post (nI r.1)) : wpX_floor post (q1, q2, q3, q4, q5, q6, q7, q8, q9, q10, q11, q12, q13, q14, q15, cap, thr, win, fh, fc, r0, r1, mp, mk, ic, he0, he1, pc, K, Y, V, N, Lk, H, D, U, sg, ok, oy, oa, lg, fo, rk, rv, st, cu) x1 x2 key := by
  refine And.intro ha.1 (nm_e ⟨4001, bw_fl_l ha ?_ L [] none _ 0 _ rfl ha.2.1 (by have := ha.2.2; omega) (by have := ha.2.2; omega) (fun r hr => by cases hr)⟩)
  intro b hb
  cases b with
  | none =>
    refine hn fun k hk => ?_
    cases hq : bw_con L k with
    | none => rfl
    | some v =>
      obtain ⟨r, hr, hv, e, _⟩ := bw_con_vis hq
      have := hb r hr hv
      omega
  | some m =>
    obtain ⟨b1, b2, b3, b4⟩ := hb
    refine hs m b1 b2 b3 fun k h1 hk => ?_
    cases hq : bw_con L k with
    | none => rfl
    | some v =>
      obtain ⟨r, hr, hv, e, _⟩ := bw_con_vis hq
      have := b4 r hr hv (by omega)
      omega
/-! ceiling -/
def bw_CI (L : List bw_Rc) (key : Int) (dn : List bw_Rc) : Option bw_Rc → Prop
  | none => ∀ r, r ∈ dn → bw_vis L r → r.2.2.1 < key
  | some m => m ∈ L ∧ bw_vis L m ∧ key ≤ m.2.2.1 ∧ ∀ r, r ∈ dn → bw_vis L r → key ≤ r.2.2.1 → m.2.2.1 ≤ r.2.2.1
theorem bw_ce58 {post : Int32 → Prop} {J : Int32 → Int32 → Int32 → Prop} {x1 x2 key z : Int32} {L dn : List bw_Rc} {b : Option bw_Rc} {r : bw_Rc} {i : Nat} (ha : bw_at K Y V N H x1 x2 L) (hr : r ∈ L) (hb : bw_CI L key.toInt dn b)
    (hz : (z = 0 ∧ ∃ m, b = some m ∧ m.2.2.1 ≤ r.2.2.1) ∨ (z = 1 ∧ ∀ m, b = some m → r.2.2.1 < m.2.2.1))
    (hJ : ∀ b', bw_CI L key.toInt (dn ++ [r]) b' → J (bw_oI b') (N r.1) (nI (i + 1))) : wX_ceiling_58 post J x1 x2 key (bw_oI b) (nI r.1) (nI i) z q1 q2 q3 q4 q5 q6 q7 q8 q9 q10 q11 q12 q13 q14 q15 cap thr win fh fc r0 r1 mp mk ic he0 he1 pc K Y V N Lk H D U sg ok oy oa lg fo rk rv st cu := by
  obtain ⟨m1, m2, m3, m4⟩ := bw_ch_mem ha.2.1 r hr
  have cl : (nI r.1).toNatClampNeg = r.1 := nI_clamp (by omega)
  have hi : vp_in (nI r.1) 4096 := vp_in_nI m1 (by decide)
  have e3 : (Y (nI r.1).toNatClampNeg).toInt = r.2.2.1 := by rw [cl]; exact m3
  have keep : (bw_vis L r → key.toInt ≤ r.2.2.1 → ∃ m, b = some m ∧ m.2.2.1 ≤ r.2.2.1) → J (bw_oI b) (N (nI r.1).toNatClampNeg) (nI i + 1) := by
    intro h
    rw [cl, nI_1]
    apply hJ
    cases b with
    | none =>
      intro s hs hv
      rcases List.mem_append.mp hs with hs | hs
      · exact hb s hs hv
      · have e := List.mem_singleton.mp hs
        subst e
        rcases bw_lge s.2.2.1 key.toInt with q | q
        · exact q
        · obtain ⟨m, hm, _⟩ := h hv q
          cases hm
    | some m =>
      obtain ⟨b1, b2, b3, b4⟩ := hb
      refine ⟨b1, b2, b3, fun s hs hv hk => ?_⟩
      rcases List.mem_append.mp hs with hs | hs
      · exact b4 s hs hv hk
      · have e := List.mem_singleton.mp hs
        subst e
        obtain ⟨m', hm, hle⟩ := h hv hk
        cases hm
        exact hle
  have take : bw_vis L r → key.toInt ≤ r.2.2.1 → (∀ m, b = some m → r.2.2.1 < m.2.2.1) → J (nI r.1) (N (nI r.1).toNatClampNeg) (nI i + 1) := by
    intro hv hk hm
    rw [cl, nI_1]
    refine hJ (some r) ⟨hr, hv, hk, fun s hs hw hks => ?_⟩
    rcases List.mem_append.mp hs with hs | hs
    · cases b with
      | none =>
        have := hb s hs hw
        omega
      | some m =>
        have a1 := hb.2.2.2 s hs hw hks
        have a2 := hm m rfl
        omega
    · have e := List.mem_singleton.mp hs
      subst e
      exact Int.le_refl _
  rcases hz with ⟨rfl, m, hm, hle⟩ | ⟨rfl, hlt⟩
  · exact br_t rfl ⟨hi, nm_e (nm_e (keep fun _ _ => ⟨m, hm, hle⟩))⟩
  · refine br_f (by decide) ⟨hi, br_c (fun lt => ⟨hi, nm_e (nm_e (keep fun _ hk => ?_))⟩) (fun nlt => bw_visible ha hr (fun hv => br_f (by decide) ⟨hi, nm_e (nm_e (take hv ?_ hlt))⟩) (fun nv => br_t rfl ⟨hi, nm_e (nm_e (keep fun hv => absurd hv nv))⟩))⟩
    · have := bw_ilt.mp lt
      omega
    · have : ¬ _ := fun z => nlt (bw_ilt.mpr z)
      omega
theorem bw_ce_l {post : Int32 → Prop} {x1 x2 key : Int32} {L : List bw_Rc} (ha : bw_at K Y V N H x1 x2 L) (hp : ∀ b, bw_CI L key.toInt L b → post (bw_oI b)) : ∀ (rest dn : List bw_Rc) (b : Option bw_Rc) (x : Int32) (i n : Nat), L = dn ++ rest → bw_ch K Y V N x rest → i + rest.length ≤ 4096 → rest.length < n → bw_CI L key.toInt dn b → wX_ceiling_16 post x1 x2 key q1 q2 q3 q4 q5 q6 q7 q8 q9 q10 q11 q12 q13 q14 q15 cap thr win fh fc r0 r1 mp mk ic he0 he1 pc K Y V N Lk H D U sg ok oy oa lg fo rk rv st cu n (bw_oI b) x (nI i) := by
  intro rest
  induction rest with
  | nil =>
    intro dn b x i n hL hc hi hn hb
    rw [List.length_nil] at hn
    obtain ⟨m, rfl⟩ : ∃ m, n = m + 1 := ⟨n - 1, by omega⟩
    have hx : x = -1 := hc
    subst hx
    rw [List.append_nil] at hL
    rw [← hL] at hb
    exact br_c (fun _ => hp b hb) (fun _ => br_t bw_neg1 (hp b hb))
  | cons r l ih =>
    intro dn b x i n hL hc hi hn hb
    obtain ⟨h0, h1, h2, h3, h4, h5⟩ := hc
    subst h0
    rw [List.length_cons] at hi hn
    obtain ⟨m, rfl⟩ : ∃ m, n = m + 1 := ⟨n - 1, by omega⟩
    have cl : (nI r.1).toNatClampNeg = r.1 := nI_clamp (by omega)
    have hin : vp_in (nI r.1) 4096 := vp_in_nI h1 (by decide)
    have hr : r ∈ L := by rw [hL]; exact List.mem_append_right _ List.mem_cons_self
    have J : ∀ b', bw_CI L key.toInt (dn ++ [r]) b' → wX_ceiling_16 post x1 x2 key q1 q2 q3 q4 q5 q6 q7 q8 q9 q10 q11 q12 q13 q14 q15 cap thr win fh fc r0 r1 mp mk ic he0 he1 pc K Y V N Lk H D U sg ok oy oa lg fo rk rv st cu m (bw_oI b') (N r.1) (nI (i + 1)) :=
      fun b' hb' => ih (dn ++ [r]) b' _ _ _ (by rw [hL, List.append_assoc]; rfl) h5 (by omega) (by omega) hb'
    refine br_f (nI_ge (b := 4096) (by omega) (by decide)) (br_f (nI_pos (by omega)) ?_)
    cases b with
    | none => exact br_t bw_neg1 (bw_ce58 ha hr hb (Or.inr ⟨rfl, fun m hm => by cases hm⟩) J)
    | some s =>
      have ms := bw_ch_mem ha.2.1 s hb.1
      have cs : (nI s.1).toNatClampNeg = s.1 := nI_clamp (by omega)
      have his : vp_in (nI s.1) 4096 := vp_in_nI ms.1 (by decide)
      have e3 : (Y (nI r.1).toNatClampNeg).toInt = r.2.2.1 := by rw [cl]; exact h3
      have f3 : (Y (nI s.1).toNatClampNeg).toInt = s.2.2.1 := by rw [cs]; exact ms.2.2.1
      refine br_f (nI_pos (by omega)) ⟨hin, his, br_c (fun le => bw_ce58 ha hr hb (Or.inl ⟨rfl, s, rfl, ?_⟩) J) (fun nle => bw_ce58 ha hr hb (Or.inr ⟨rfl, fun m hm => ?_⟩) J)⟩
      · have := bw_ile.mp le
        rw [← e3, ← f3]
        exact this
      · cases hm
        have : ¬ _ := fun z => nle (bw_ile.mpr z)
        rw [e3] at this
        have g : r.2.2.1 < s.2.2.1 := by
          rcases bw_lge r.2.2.1 s.2.2.1 with q | q
          · exact q
          · exact absurd (by show (Y (nI s.1).toNatClampNeg).toInt ≤ r.2.2.1; rw [f3]; exact q) this
        exact g
theorem bw_ceiling {post : Int32 → Prop} {x1 x2 key : Int32} {L : List bw_Rc} (ha : bw_at K Y V N H x1 x2 L)
    (hn : (∀ k, key.toInt ≤ k → bw_con L k = none) → post (-1))
    (hs : ∀ r, r ∈ L → bw_vis L r → key.toInt ≤ r.2.2.1 → (∀ k, key.toInt ≤ k → k < r.2.2.1 → bw_con L k = none) → post (nI r.1)) : wpX_ceiling post (q1, q2, q3, q4, q5, q6, q7, q8, q9, q10, q11, q12, q13, q14, q15, cap, thr, win, fh, fc, r0, r1, mp, mk, ic, he0, he1, pc, K, Y, V, N, Lk, H, D, U, sg, ok, oy, oa, lg, fo, rk, rv, st, cu) x1 x2 key := by
  refine And.intro ha.1 (nm_e ⟨4001, bw_ce_l ha ?_ L [] none _ 0 _ rfl ha.2.1 (by have := ha.2.2; omega) (by have := ha.2.2; omega) (fun r hr => by cases hr)⟩)
  intro b hb
  cases b with
  | none =>
    refine hn fun k hk => ?_
    cases hq : bw_con L k with
    | none => rfl
    | some v =>
      obtain ⟨r, hr, hv, e, _⟩ := bw_con_vis hq
      have := hb r hr hv
      omega
  | some m =>
    obtain ⟨b1, b2, b3, b4⟩ := hb
    refine hs m b1 b2 b3 fun k hk h1 => ?_
    cases hq : bw_con L k with
    | none => rfl
    | some v =>
      obtain ⟨r, hr, hv, e, _⟩ := bw_con_vis hq
      have := b4 r hr hv (by omega)
      omega
/-! fenceOf -/
theorem bw_fe_l {post : Int32 → Prop} : ∀ (L : List bw_Rc) (x : Int32) (i n : Nat), bw_ch K Y V N x L → i + L.length ≤ 4096 → L.length < n → post (bw_oI (bw_ff L)) → wX_fenceOf_12 post q1 q2 q3 q4 q5 q6 q7 q8 q9 q10 q11 q12 q13 q14 q15 cap thr win fh fc r0 r1 mp mk ic he0 he1 pc K Y V N Lk H D U sg ok oy oa lg fo rk rv st cu n x (nI i) := by
  intro L
  induction L with
  | nil =>
    intro x i n hc hi hn hp
    rw [List.length_nil] at hn
    obtain ⟨m, rfl⟩ : ∃ m, n = m + 1 := ⟨n - 1, by omega⟩
    have hx : x = -1 := hc
    subst hx
    exact br_c (fun _ => hp) (fun _ => br_t bw_neg1 hp)
  | cons r l ih =>
    intro x i n hc hi hn hp
    obtain ⟨h0, h1, h2, h3, h4, h5⟩ := hc
    subst h0
    rw [List.length_cons] at hi hn
    obtain ⟨m, rfl⟩ : ∃ m, n = m + 1 := ⟨n - 1, by omega⟩
    have cl : (nI r.1).toNatClampNeg = r.1 := nI_clamp (by omega)
    have hin : vp_in (nI r.1) 4096 := vp_in_nI h1 (by decide)
    have e2 : K (nI r.1).toNatClampNeg = r.2.1 := by rw [cl]; exact h2
    refine br_f (nI_ge (b := 4096) (by omega) (by decide)) (br_f (nI_pos (by omega)) ⟨hin, br_c (fun h => ?_) (fun h => ⟨hin, nm_e (nm_e ?_)⟩)⟩)
    · rw [bw_ff, if_pos (e2.symm.trans h)] at hp
      exact hp
    · rw [bw_ff, if_neg (fun z => h (e2.trans z))] at hp
      rw [cl, nI_1]
      exact ih _ _ _ h5 (by omega) (by omega) hp
theorem bw_fenceOf {post : Int32 → Prop} {x1 x2 : Int32} {L : List bw_Rc} (ha : bw_at K Y V N H x1 x2 L) (hp : post (bw_oI (bw_ff L))) : wpX_fenceOf post (q1, q2, q3, q4, q5, q6, q7, q8, q9, q10, q11, q12, q13, q14, q15, cap, thr, win, fh, fc, r0, r1, mp, mk, ic, he0, he1, pc, K, Y, V, N, Lk, H, D, U, sg, ok, oy, oa, lg, fo, rk, rv, st, cu) x1 x2 :=
  And.intro ha.1 (nm_e ⟨4001, bw_fe_l L _ 0 _ ha.2.1 (by have := ha.2.2; omega) (by have := ha.2.2; omega) hp⟩)
/-! countPairs -/
def bw_ct (L rest : List bw_Rc) : Nat := rest.countP fun r => decide (bw_vis L r)
theorem bw_cp_l {post : Int32 → Prop} {x1 : Int32} {L : List bw_Rc} (ha : bw_at K Y V N H 0 x1 L) (hp : post (nI (bw_ct L L))) : ∀ (rest : List bw_Rc) (c : Nat) (x : Int32) (i n : Nat), (∀ r, r ∈ rest → r ∈ L) → c + bw_ct L rest = bw_ct L L → bw_ch K Y V N x rest → i + rest.length ≤ 4096 → rest.length < n → wX_countPairs_12 post x1 q1 q2 q3 q4 q5 q6 q7 q8 q9 q10 q11 q12 q13 q14 q15 cap thr win fh fc r0 r1 mp mk ic he0 he1 pc K Y V N Lk H D U sg ok oy oa lg fo rk rv st cu n (nI c) x (nI i) := by
  intro rest
  induction rest with
  | nil =>
    intro c x i n hL hct hc hi hn
    rw [List.length_nil] at hn
    obtain ⟨m, rfl⟩ : ∃ m, n = m + 1 := ⟨n - 1, by omega⟩
    have hx : x = -1 := hc
    subst hx
    have e : c = bw_ct L L := hct
    subst e
    exact br_c (fun _ => hp) (fun _ => br_t bw_neg1 hp)
  | cons r l ih =>
    intro c x i n hL hct hc hi hn
    obtain ⟨h0, h1, h2, h3, h4, h5⟩ := hc
    subst h0
    rw [List.length_cons] at hi hn
    obtain ⟨m, rfl⟩ : ∃ m, n = m + 1 := ⟨n - 1, by omega⟩
    have cl : (nI r.1).toNatClampNeg = r.1 := nI_clamp (by omega)
    have hin : vp_in (nI r.1) 4096 := vp_in_nI h1 (by decide)
    have hL' : ∀ s, s ∈ l → s ∈ L := fun s hs => hL s (List.mem_cons_of_mem _ hs)
    refine br_f (nI_ge (b := 4096) (by omega) (by decide)) (br_f (nI_pos (by omega)) (bw_visible ha (hL r List.mem_cons_self) (fun hv => br_f (by decide) (nm_e ⟨hin, nm_e (nm_e ?_)⟩)) (fun hv => br_t rfl ⟨hin, nm_e (nm_e ?_)⟩)))
    · rw [cl, nI_1, nI_1]
      refine ih _ _ _ _ hL' ?_ h5 (by omega) (by omega)
      have e : bw_ct L (r :: l) = bw_ct L l + 1 := List.countP_cons_of_pos (decide_eq_true hv)
      omega
    · rw [cl, nI_1]
      refine ih _ _ _ _ hL' ?_ h5 (by omega) (by omega)
      have e : bw_ct L (r :: l) = bw_ct L l := List.countP_cons_of_neg (by rw [decide_eq_true_eq]; exact hv)
      omega
theorem bw_countPairs {post : Int32 → Prop} {x1 : Int32} {L : List bw_Rc} (hx : vp_in x1 80) (ha : bw_at K Y V N H 0 x1 L) (hp : post (nI (bw_ct L L))) : wpX_countPairs post (q1, q2, q3, q4, q5, q6, q7, q8, q9, q10, q11, q12, q13, q14, q15, cap, thr, win, fh, fc, r0, r1, mp, mk, ic, he0, he1, pc, K, Y, V, N, Lk, H, D, U, sg, ok, oy, oa, lg, fo, rk, rv, st, cu) x1 := by
  refine And.intro hx (nm_e ⟨4001, bw_cp_l ha hp L 0 _ 0 _ (fun _ h => h) (Nat.zero_add _) ?_ (by have := ha.2.2; omega) (by have := ha.2.2; omega)⟩)
  have := ha.2.1
  rw [Int32.zero_add] at this
  exact this
/-! lower -/
theorem bw_pred {x : Int32} (h : ¬ x = -2147483648) : (x - 1).toInt = x.toInt - 1 := by
  have hr := bw_irg x
  have h' : ¬ x.toInt = -2147483648 := fun z => h (Int32.toInt_inj.mp (z.trans (by decide)))
  rw [Int32.toInt_sub, show (1 : Int32).toInt = 1 from by decide]
  exact Int.bmod_eq_of_le (by omega) (by omega)
theorem bw_lower {post : Int32 → Prop} {x1 : Int32} {L : List bw_Rc} {r : bw_Rc} (ha : bw_at K Y V N H 0 x1 L) (hr : r ∈ L)
    (hn : (∀ k, -2147483648 ≤ k → k < r.2.2.1 → bw_con L k = none) → post (-1))
    (hs : ∀ s, s ∈ L → bw_vis L s → s.2.2.1 < r.2.2.1 → (∀ k, s.2.2.1 < k → k < r.2.2.1 → bw_con L k = none) → post (nI s.1)) : wpX_lower post (q1, q2, q3, q4, q5, q6, q7, q8, q9, q10, q11, q12, q13, q14, q15, cap, thr, win, fh, fc, r0, r1, mp, mk, ic, he0, he1, pc, K, Y, V, N, Lk, H, D, U, sg, ok, oy, oa, lg, fo, rk, rv, st, cu) x1 (nI r.1) := by
  obtain ⟨m1, m2, m3, m4⟩ := bw_ch_mem ha.2.1 r hr
  have cl : (nI r.1).toNatClampNeg = r.1 := nI_clamp (by omega)
  have hi : vp_in (nI r.1) 4096 := vp_in_nI m1 (by decide)
  have e3 : (Y (nI r.1).toNatClampNeg).toInt = r.2.2.1 := by rw [cl]; exact m3
  refine And.intro hi (br_c (fun h => hn fun k h1 h2 => ?_) (fun h => And.intro hi ?_))
  · have : (Y (nI r.1).toNatClampNeg).toInt = -2147483648 := by rw [h]; decide
    omega
  · have e := bw_pred h
    rw [e3] at e
    refine bw_floor ha (fun hk => hn fun k _ h2 => hk k (by omega)) (fun s a1 a2 a3 a4 => hs s a1 a2 (by omega) fun k h1 h2 => a4 k h1 (by omega))
end bw_S03
end
section
/-! leaves, the tree, the walks that read it -/
/-- the last leaf -/
def bw_LfL (lo : Int) (L : List bw_Rc) : Prop := ∀ r, r ∈ L → lo ≤ r.2.2.1 ∧ (r.2.1 = 1 ∨ r.2.1 = 2)
/-- a leaf whose fence sends keys from c on to page p -/
def bw_LfM (lo c : Int) (p : Nat) (L : List bw_Rc) : Prop := lo < c ∧ (∀ r, r ∈ L → lo ≤ r.2.2.1 ∧ (r.2.1 = 1 ∨ r.2.1 = 2 ∨ (r.2.1 = 3 ∧ c ≤ r.2.2.1))) ∧
  ∃ D f R, L = D ++ f :: R ∧ (∀ r, r ∈ D → r.2.1 ≠ 3 ∧ r.2.2.1 < c) ∧ f.2.1 = 3 ∧ f.2.2.1 = c ∧ f.2.2.2 = nI p
theorem bw_13 : ¬ (1 : Int32) = 3 := by decide
theorem bw_23 : ¬ (2 : Int32) = 3 := by decide
theorem bw_k12 {k : Int32} (h : k = 1 ∨ k = 2) : k ≠ 3 ∧ k ≠ 4 ∧ ¬ 3 ≤ k := by
  rcases h with h | h <;> subst h <;> exact ⟨by decide, by decide, by decide⟩
theorem bw_k3 {k : Int32} (h : k = 3) : k ≠ 1 ∧ k ≠ 2 ∧ k ≠ 4 ∧ 3 ≤ k := by
  subst h; exact ⟨by decide, by decide, by decide, by decide⟩
theorem bw_k4 {k : Int32} (h : k = 4) : k ≠ 1 ∧ k ≠ 2 ∧ k ≠ 3 ∧ 3 ≤ k := by
  subst h; exact ⟨by decide, by decide, by decide, by decide⟩
theorem bw_LfM_hi {lo c k : Int} {p : Nat} {L : List bw_Rc} (h : bw_LfM lo c p L) (hk : c ≤ k) : ∃ f, bw_pr k L = some f ∧ f.2.1 = 3 ∧ f.2.2.1 = c ∧ f.2.2.2 = nI p := by
  obtain ⟨h1, h2, D, f, R, rfl, h3, h4, h5, h6⟩ := h
  refine ⟨f, bw_pr_at (fun r hr => ?_) ?_, h4, h5, h6⟩
  · obtain ⟨a, b⟩ := h3 r hr
    obtain ⟨_, d⟩ := h2 r (List.mem_append_left _ hr)
    rintro (e | e | ⟨e, _⟩)
    · rcases d with d | d | ⟨d, _⟩
      · rw [d] at e; exact absurd e (by decide)
      · rw [d] at e; exact absurd e (by decide)
      · exact a d
    · omega
    · exact a e
  · rcases bw_lge c k with q | q
    · exact Or.inr (Or.inr ⟨h4, by omega⟩)
    · exact Or.inr (Or.inl (by omega))
theorem bw_LfM_lo {lo c k : Int} {p : Nat} {L : List bw_Rc} (h : bw_LfM lo c p L) (hk : k < c) {r : bw_Rc} (hr : bw_pr k L = some r) : r.2.1 = 1 ∨ r.2.1 = 2 := by
  obtain ⟨hm, hd⟩ := bw_pr_mem hr
  obtain ⟨_, d⟩ := h.2.1 r hm
  rcases d with d | d | ⟨d, d'⟩
  · exact Or.inl d
  · exact Or.inr d
  · rcases hd with e | e | ⟨_, e⟩
    · rw [d] at e; exact absurd e (by decide)
    · omega
    · omega
theorem bw_LfM_ff {lo c : Int} {p : Nat} {L : List bw_Rc} (h : bw_LfM lo c p L) : ∃ f, bw_ff L = some f ∧ f ∈ L ∧ f.2.1 = 3 ∧ f.2.2.1 = c ∧ f.2.2.2 = nI p := by
  obtain ⟨h1, h2, D, f, R, rfl, h3, h4, h5, h6⟩ := h
  exact ⟨f, bw_ff_at h4 fun r hr => (h3 r hr).1, List.mem_append_right _ List.mem_cons_self, h4, h5, h6⟩
theorem bw_LfL_ff {lo : Int} {L : List bw_Rc} (h : bw_LfL lo L) : bw_ff L = none := bw_ff_none fun r hr => (bw_k12 (h r hr).2).1
theorem bw_LfM_con {lo c k : Int} {p : Nat} {L : List bw_Rc} (h : bw_LfM lo c p L) (hk : c ≤ k) : bw_con L k = none := by
  obtain ⟨f, a, b, _⟩ := bw_LfM_hi h hk
  refine bw_con_n fun r hr => ?_
  rw [a] at hr
  cases hr
  exact (bw_k3 b).1
/-- the leaf and its successor -/
def bw_Nx (P : Nat → List bw_Rc) (lf : Nat → Prop) (b : Nat → Int) (p : Nat) : Prop :=
  (bw_LfL (b p) (P p) ∧ ∀ q, lf q → b q ≤ b p) ∨ (∃ q, lf q ∧ (∀ r, lf r → b r ≤ b p ∨ b q ≤ b r) ∧ bw_LfM (b p) (b q) q (P p))
def bw_Tree (P : Nat → List bw_Rc) (lf : Nat → Prop) (b : Nat → Int) (mq : Option Nat) (mk : Int) (M : Int → Option Int32) : Prop :=
  (lf 1 ∧ b 1 = -2147483648) ∧
  (∀ p, lf p → 1 ≤ p ∧ p < 16 ∧ -2147483648 ≤ b p) ∧
  (∀ p q, lf p → lf q → b p = b q → p = q) ∧
  (∀ p, lf p → bw_Nx P lf b p) ∧
  (∀ p k, lf p → b p ≤ k → (∀ q, lf q → b q ≤ k → b q ≤ b p) → bw_con (P p) k = M k) ∧
  bw_LfL (-2147483648) (P 0) ∧
  bw_con (P 0) (-2147483648) = some (nI 1) ∧
  (∀ k v, bw_con (P 0) k = some v → ∃ q, v = nI q ∧ ((lf q ∧ b q = k) ∨ (mq = some q ∧ k = mk))) ∧
  (∀ q, mq = some q → 1 ≤ q ∧ q < 16 ∧ ¬ lf q ∧ ∃ r t, P q = [r] ∧ r.2.1 = 4 ∧ r.2.2.2 = nI t ∧ lf t ∧ b t < mk)
/-- key's leaf -/
def bw_lfor (lf : Nat → Prop) (b : Nat → Int) (k : Int) (p : Nat) : Prop := lf p ∧ b p ≤ k ∧ ∀ q, lf q → b q ≤ k → b q ≤ b p
theorem bw_T_rng {P : Nat → List bw_Rc} {lf : Nat → Prop} {b : Nat → Int} {p : Nat} (h : bw_Nx P lf b p) {r : bw_Rc} (hr : r ∈ P p) (hv : bw_vis (P p) r) : b p ≤ r.2.2.1 ∧ ∀ q, lf q → b q ≤ r.2.2.1 → b q ≤ b p := by
  rcases h with ⟨h1, h2⟩ | ⟨q, hq, h2, h1⟩
  · exact ⟨(h1 r hr).1, fun q hq _ => h2 q hq⟩
  · refine ⟨(h1.2.1 r hr).1, fun s hs hle => ?_⟩
    rcases h2 s hs with z | z
    · exact z
    · obtain ⟨f, a1, a2, _⟩ := bw_LfM_hi h1 (k := r.2.2.1) (by omega)
      rw [hv.2] at a1
      cases a1
      exact absurd hv.1 (bw_k3 a2).1
/-- all pages of a row of the mapping table -/
def bw_Row (K Y V N H : Nat → Int32) (ro : Nat) (P : Nat → List bw_Rc) : Prop := ro ≤ 64 ∧ ∀ p, p < 16 → bw_ch K Y V N (H (ro + p)) (P p) ∧ (P p).length ≤ 64
theorem bw_row_at {K Y V N H : Nat → Int32} {ro : Nat} {P : Nat → List bw_Rc} (h : bw_Row K Y V N H ro P) {p : Nat} (hp : p < 16) : bw_at K Y V N H (nI ro) (nI p) (P p) := by
  have := h.1
  obtain ⟨a, b⟩ := h.2 p hp
  unfold bw_at
  rw [nI_add, nI_clamp (by omega)]
  exact ⟨vp_in_nI (by omega) (by decide), a, by omega⟩
noncomputable def bw_mu (lf : Nat → Prop) (b : Nat → Int) (p : Nat) : Nat := bw_cn (fun r => lf r ∧ b p < b r) 16
theorem bw_mu_lt {lf : Nat → Prop} {b : Nat → Int} {p q : Nat} (hq : lf q) (h16 : q < 16) (h : b p < b q) : bw_mu lf b q < bw_mu lf b p :=
  bw_cn_lt (a := q) (fun z => by have := z.2; omega) ⟨hq, h⟩ (fun k _ z => ⟨z.1, by have := z.2; omega⟩) h16
theorem bw_mu_15 {lf : Nat → Prop} {b : Nat → Int} (h0 : ¬ lf 0) (p : Nat) : bw_mu lf b p ≤ 15 := by
  have h := bw_cn_lt (P := fun r => lf r ∧ b p < b r) (Q := fun _ => True) (a := 0) (N := 16) (fun z => h0 z.1) trivial (fun _ _ _ => trivial) (by omega)
  have := bw_cn_le (fun _ => True) 16
  unfold bw_mu
  omega
section bw_S04
variable {q1 q2 q3 q4 q5 q6 q7 q8 q9 q10 q11 q12 q13 q14 q15 cap thr win fh fc r0 r1 mp mk ic he0 he1 pc : Int32} {K Y V N Lk H D U sg ok oy oa lg fo rk rv st : Nat → Int32} {cu : Nat → Int64}
variable {P : Nat → List bw_Rc} {lf : Nat → Prop} {b : Nat → Int} {mq : Option Nat} {mK : Int} {M : Int → Option Int32} {ro : Nat}
theorem bw_childFor {post : Int32 → Prop} {key : Int32} (hR : bw_Row K Y V N H ro P) (hT : bw_Tree P lf b mq mK M) (hp : ∀ q, (lf q ∧ b q ≤ key.toInt) ∨ (mq = some q ∧ mK ≤ key.toInt) → post (nI q)) : wpX_childFor post (q1, q2, q3, q4, q5, q6, q7, q8, q9, q10, q11, q12, q13, q14, q15, cap, thr, win, fh, fc, r0, r1, mp, mk, ic, he0, he1, pc, K, Y, V, N, Lk, H, D, U, sg, ok, oy, oa, lg, fo, rk, rv, st, cu) (nI ro) key := by
  obtain ⟨t1, t2, t3, t4, t5, t6, t7, t8, t9⟩ := hT
  have ha := bw_row_at hR (p := 0) (by omega)
  refine bw_floor (x2 := 0) ha (fun hn => ?_) (fun r hr hv hk _ => ?_)
  · have := hn (-2147483648) (bw_irg key).1
    rw [t7] at this
    cases this
  · obtain ⟨m1, m2, m3, m4⟩ := bw_ch_mem ha.2.1 r hr
    have cl : (nI r.1).toNatClampNeg = r.1 := nI_clamp (by omega)
    have hi : vp_in (nI r.1) 4096 := vp_in_nI m1 (by decide)
    obtain ⟨q, e, hq⟩ := t8 _ _ (bw_vis_con hv)
    refine br_t (nI_pos' (by omega)) ⟨hi, ?_⟩
    rw [cl, m4, e]
    refine hp q ?_
    rcases hq with ⟨h1, h2⟩ | ⟨h1, h2⟩
    · exact Or.inl ⟨h1, by omega⟩
    · exact Or.inr ⟨h1, by omega⟩
theorem bw_leafFor_l {post : Int32 → Prop} {key : Int32} (hR : bw_Row K Y V N H ro P) (hT : bw_Tree P lf b mq mK M) (hp : ∀ q, bw_lfor lf b key.toInt q → post (nI q)) : ∀ (m q i n : Nat), bw_mu lf b q ≤ m → lf q → b q ≤ key.toInt → i + m ≤ 31 → m < n → wX_leafFor_10 post (nI ro) key q1 q2 q3 q4 q5 q6 q7 q8 q9 q10 q11 q12 q13 q14 q15 cap thr win fh fc r0 r1 mp mk ic he0 he1 pc K Y V N Lk H D U sg ok oy oa lg fo rk rv st cu n (nI q) (nI i) := by
  obtain ⟨t1, t2, t3, t4, t5, t6, t7, t8, t9⟩ := hT
  intro m
  induction m with
  | zero =>
    intro q i n hm hq hk hi hn
    obtain ⟨n, rfl⟩ : ∃ m, n = m + 1 := ⟨n - 1, by omega⟩
    have h16 := t2 q hq
    have ha := bw_row_at hR (p := q) (by omega)
    refine br_f (nI_ge (b := 32) (by omega) (by decide)) (bw_probe ha ?_)
    have stop : bw_lfor lf b key.toInt q → (∀ r, bw_pr key.toInt (P q) = some r → r.2.1 = 1 ∨ r.2.1 = 2) → (fun r_49 => ((r_49 < 0 → (post (nI q))) ∧ (¬ r_49 < 0 → (vp_in r_49 4096 ∧ (((3 ≤ (K r_49.toNatClampNeg) → (vp_in r_49 4096 ∧ (∀ x3_100 : Int32, x3_100 = V r_49.toNatClampNeg → (∀ x4_101 : Int32, x4_101 = nI i + 1 → (wX_leafFor_10 post (nI ro) key q1 q2 q3 q4 q5 q6 q7 q8 q9 q10 q11 q12 q13 q14 q15 cap thr win fh fc r0 r1 mp mk ic he0 he1 pc K Y V N Lk H D U sg ok oy oa lg fo rk rv st cu n x3_100 x4_101))))) ∧ (¬ 3 ≤ (K r_49.toNatClampNeg) → (post (nI q))))))))) (bw_oI (bw_pr key.toInt (P q))) := by
      intro hf h12
      cases hr : bw_pr key.toInt (P q) with
      | none => exact br_t bw_neg1 (hp q hf)
      | some r =>
        obtain ⟨m1, m2, m3, m4⟩ := bw_ch_mem ha.2.1 r (bw_pr_mem hr).1
        have cl : (nI r.1).toNatClampNeg = r.1 := nI_clamp (by omega)
        exact br_f (nI_pos (by omega)) ⟨vp_in_nI m1 (by decide), br_f (by show ¬ 3 ≤ K (nI r.1).toNatClampNeg; rw [cl, m2]; exact (bw_k12 (h12 r hr)).2.2) (hp q hf)⟩
    rcases t4 q hq with ⟨h1, h2⟩ | ⟨q', hq', h2, h1⟩
    · exact stop ⟨hq, hk, fun s hs _ => h2 s hs⟩ (fun r hr => (h1 r (bw_pr_mem hr).1).2)
    · have := bw_mu_lt (lf := lf) (b := b) (p := q) hq' (t2 q' hq').2.1 h1.1
      omega
  | succ m ih =>
    intro q i n hm hq hk hi hn
    obtain ⟨n, rfl⟩ : ∃ m, n = m + 1 := ⟨n - 1, by omega⟩
    have h16 := t2 q hq
    have ha := bw_row_at hR (p := q) (by omega)
    refine br_f (nI_ge (b := 32) (by omega) (by decide)) (bw_probe ha ?_)
    have stop : bw_lfor lf b key.toInt q → (∀ r, bw_pr key.toInt (P q) = some r → r.2.1 = 1 ∨ r.2.1 = 2) → (fun r_49 => ((r_49 < 0 → (post (nI q))) ∧ (¬ r_49 < 0 → (vp_in r_49 4096 ∧ (((3 ≤ (K r_49.toNatClampNeg) → (vp_in r_49 4096 ∧ (∀ x3_100 : Int32, x3_100 = V r_49.toNatClampNeg → (∀ x4_101 : Int32, x4_101 = nI i + 1 → (wX_leafFor_10 post (nI ro) key q1 q2 q3 q4 q5 q6 q7 q8 q9 q10 q11 q12 q13 q14 q15 cap thr win fh fc r0 r1 mp mk ic he0 he1 pc K Y V N Lk H D U sg ok oy oa lg fo rk rv st cu n x3_100 x4_101))))) ∧ (¬ 3 ≤ (K r_49.toNatClampNeg) → (post (nI q))))))))) (bw_oI (bw_pr key.toInt (P q))) := by
      intro hf h12
      cases hr : bw_pr key.toInt (P q) with
      | none => exact br_t bw_neg1 (hp q hf)
      | some r =>
        obtain ⟨m1, m2, m3, m4⟩ := bw_ch_mem ha.2.1 r (bw_pr_mem hr).1
        have cl : (nI r.1).toNatClampNeg = r.1 := nI_clamp (by omega)
        exact br_f (nI_pos (by omega)) ⟨vp_in_nI m1 (by decide), br_f (by show ¬ 3 ≤ K (nI r.1).toNatClampNeg; rw [cl, m2]; exact (bw_k12 (h12 r hr)).2.2) (hp q hf)⟩
    rcases t4 q hq with ⟨h1, h2⟩ | ⟨q', hq', h2, h1⟩
    · exact stop ⟨hq, hk, fun s hs _ => h2 s hs⟩ (fun r hr => (h1 r (bw_pr_mem hr).1).2)
    · have hlt := bw_mu_lt (lf := lf) (b := b) (p := q) hq' (t2 q' hq').2.1 h1.1
      rcases bw_lge key.toInt (b q') with z | z
      · refine stop ⟨hq, hk, fun s hs hle => ?_⟩ (fun r hr => bw_LfM_lo h1 z hr)
        rcases h2 s hs with w | w
        · exact w
        · omega
      · obtain ⟨f, f1, f2, f3, f4⟩ := bw_LfM_hi h1 z
        obtain ⟨m1, m2, m3, m4⟩ := bw_ch_mem ha.2.1 f (bw_pr_mem f1).1
        have cl : (nI f.1).toNatClampNeg = f.1 := nI_clamp (by omega)
        rw [f1]
        refine br_f (nI_pos (n := f.1) (by omega)) ⟨vp_in_nI m1 (by decide), br_t ?_ ⟨vp_in_nI m1 (by decide), nm_e (nm_e ?_)⟩⟩
        · show 3 ≤ K (nI f.1).toNatClampNeg
          rw [cl, m2]
          exact (bw_k3 f2).2.2.2
        · show wX_leafFor_10 post (nI ro) key q1 q2 q3 q4 q5 q6 q7 q8 q9 q10 q11 q12 q13 q14 q15 cap thr win fh fc r0 r1 mp mk ic he0 he1 pc K Y V N Lk H D U sg ok oy oa lg fo rk rv st cu n (V (nI f.1).toNatClampNeg) (nI i + 1)
          rw [cl, m4, f4, nI_1]
          exact ih q' (i + 1) n (by omega) hq' z (by omega) (by omega)
theorem bw_leafFor {post : Int32 → Prop} {key : Int32} (hR : bw_Row K Y V N H ro P) (hT : bw_Tree P lf b mq mK M) (hp : ∀ q, bw_lfor lf b key.toInt q → post (nI q)) : wpX_leafFor post (q1, q2, q3, q4, q5, q6, q7, q8, q9, q10, q11, q12, q13, q14, q15, cap, thr, win, fh, fc, r0, r1, mp, mk, ic, he0, he1, pc, K, Y, V, N, Lk, H, D, U, sg, ok, oy, oa, lg, fo, rk, rv, st, cu) (nI ro) key := by
  have h0 : ¬ lf 0 := fun z => by have := (hT.2.1 0 z).1; omega
  unfold wpX_leafFor
  dsimp only
  refine bw_childFor hR hT fun q hq => ⟨40, ?_⟩
  rcases hq with ⟨h1, h2⟩ | ⟨h1, h2⟩
  · exact bw_leafFor_l hR hT hp 15 q 0 40 (bw_mu_15 h0 q) h1 h2 (by omega) (by omega)
  · obtain ⟨t1, t2, t3, t4, t5, t6, t7, t8, t9⟩ := hT
    obtain ⟨a1, a2, a3, r, t, a4, a5, a6, a7, a8⟩ := t9 q h1
    have ha := bw_row_at hR (p := q) (by omega)
    refine br_f (by decide) (bw_probe ha ?_)
    have hd : bw_pr key.toInt (P q) = some r := by rw [a4]; exact bw_pr_t (Or.inl a5)
    obtain ⟨m1, m2, m3, m4⟩ := bw_ch_mem ha.2.1 r (bw_pr_mem hd).1
    have cl : (nI r.1).toNatClampNeg = r.1 := nI_clamp (by omega)
    rw [hd]
    refine br_f (nI_pos (n := r.1) (by omega)) ⟨vp_in_nI m1 (by decide), br_t ?_ ⟨vp_in_nI m1 (by decide), nm_e (nm_e ?_)⟩⟩
    · show 3 ≤ K (nI r.1).toNatClampNeg
      rw [cl, m2]
      exact (bw_k4 a5).2.2.2
    · show wX_leafFor_10 post (nI ro) key q1 q2 q3 q4 q5 q6 q7 q8 q9 q10 q11 q12 q13 q14 q15 cap thr win fh fc r0 r1 mp mk ic he0 he1 pc K Y V N Lk H D U sg ok oy oa lg fo rk rv st cu 39 (V (nI r.1).toNatClampNeg) (nI 0 + 1)
      rw [cl, m4, a6, nI_1]
      exact bw_leafFor_l hR ⟨t1, t2, t3, t4, t5, t6, t7, t8, t9⟩ hp 15 t 1 39 (bw_mu_15 h0 t) a7 (by omega) (by omega) (by omega)
theorem bw_lookup {post : Int32 → Prop} {key : Int32} (hR : bw_Row K Y V N H 0 P) (hT : bw_Tree P lf b mq mK M) (hn : M key.toInt = none → post (-1)) (hs : ∀ a, a < 4096 → M key.toInt = some (V a) → post (nI a)) : wpX_lookup post (q1, q2, q3, q4, q5, q6, q7, q8, q9, q10, q11, q12, q13, q14, q15, cap, thr, win, fh, fc, r0, r1, mp, mk, ic, he0, he1, pc, K, Y, V, N, Lk, H, D, U, sg, ok, oy, oa, lg, fo, rk, rv, st, cu) key := by
  unfold wpX_lookup
  dsimp only
  refine bw_leafFor hR hT fun q hq => ?_
  obtain ⟨t1, t2, t3, t4, t5, t6, t7, t8, t9⟩ := hT
  obtain ⟨q1, q2, q3⟩ := hq
  have ha := bw_row_at hR (p := q) (t2 q q1).2.1
  have hM := t5 q key.toInt q1 q2 q3
  refine bw_probe ha ?_
  cases hr : bw_pr key.toInt (P q) with
  | none => exact br_t bw_neg1 (hn (by rw [← hM]; exact bw_con_n fun r z => by rw [hr] at z; cases z))
  | some r =>
    obtain ⟨m1, m2, m3, m4⟩ := bw_ch_mem ha.2.1 r (bw_pr_mem hr).1
    have cl : (nI r.1).toNatClampNeg = r.1 := nI_clamp (by omega)
    refine br_f (nI_pos (n := r.1) (by omega)) ⟨vp_in_nI m1 (by decide), br_c (fun k => ?_) (fun k => ?_)⟩
    · have k' : K (nI r.1).toNatClampNeg = 1 := k
      rw [cl, m2] at k'
      exact hs r.1 m1 (by rw [← hM, bw_con_s hr k', m4])
    · have k' : ¬ K (nI r.1).toNatClampNeg = 1 := k
      rw [cl, m2] at k'
      exact hn (by rw [← hM]; exact bw_con_n fun s z => by rw [hr] at z; cases z; exact k')
theorem bw_seek_l {post : Int32 → Prop} {key : Int32} (hR : bw_Row K Y V N H ro P) (hT : bw_Tree P lf b mq mK M)
    (hn : (∀ k, key.toInt ≤ k → M k = none) → post (-1))
    (hs : ∀ a, a < 4096 → key.toInt ≤ (Y a).toInt → M (Y a).toInt = some (V a) → (∀ k, key.toInt ≤ k → k < (Y a).toInt → M k = none) → post (nI a)) :
    ∀ (m q i n : Nat), bw_mu lf b q ≤ m → lf q → (∀ k, key.toInt ≤ k → k < b q → M k = none) → (b q ≤ key.toInt → ∀ r, lf r → b r ≤ key.toInt → b r ≤ b q) → i + m ≤ 15 → m < n → wX_seek_10 post (nI ro) key q1 q2 q3 q4 q5 q6 q7 q8 q9 q10 q11 q12 q13 q14 q15 cap thr win fh fc r0 r1 mp mk ic he0 he1 pc K Y V N Lk H D U sg ok oy oa lg fo rk rv st cu n (nI q) (nI i) := by
  obtain ⟨t1, t2, t3, t4, t5, t6, t7, t8, t9⟩ := hT
  intro m
  induction m with
  | zero =>
    intro q i n hm hq hlo hmx hi hn'
    obtain ⟨n, rfl⟩ : ∃ m, n = m + 1 := ⟨n - 1, by omega⟩
    have h16 := t2 q hq
    have ha := bw_row_at hR (p := q) (by omega)
    refine br_f (nI_ge (b := 16) (by omega) (by decide)) (bw_ceiling ha (fun hc => ?_) (fun r hr hv hk hc => ?_))
    · rcases t4 q hq with ⟨h1, h2⟩ | ⟨q', hq', h2, h1⟩
      · refine br_t bw_neg1 (bw_fenceOf ha ?_)
        rw [bw_LfL_ff h1]
        refine br_f bw_nneg1 (hn fun k hk => ?_)
        rcases bw_lge k (b q) with z | z
        · exact hlo k hk z
        · rw [← t5 q k hq z (fun s hs _ => h2 s hs)]
          exact hc k hk
      · have := bw_mu_lt (lf := lf) (b := b) (p := q) hq' (t2 q' hq').2.1 h1.1
        omega
    · obtain ⟨m1, m2, m3, m4⟩ := bw_ch_mem ha.2.1 r hr
      obtain ⟨g1, g2⟩ := bw_T_rng (t4 q hq) hr hv
      refine br_f (nI_pos (n := r.1) (by omega)) (hs r.1 m1 (by rw [m3]; exact hk) ?_ fun k k1 k2 => ?_)
      · rw [m3, m4, ← t5 q _ hq g1 g2]
        exact bw_vis_con hv
      · rw [m3] at k2
        rcases bw_lge k (b q) with z | z
        · exact hlo k k1 z
        · rw [← t5 q k hq z (fun s hs hle => g2 s hs (by omega))]
          exact hc k k1 k2
  | succ m ih =>
    intro q i n hm hq hlo hmx hi hn'
    obtain ⟨n, rfl⟩ : ∃ m, n = m + 1 := ⟨n - 1, by omega⟩
    have h16 := t2 q hq
    have ha := bw_row_at hR (p := q) (by omega)
    refine br_f (nI_ge (b := 16) (by omega) (by decide)) (bw_ceiling ha (fun hc => ?_) (fun r hr hv hk hc => ?_))
    · rcases t4 q hq with ⟨h1, h2⟩ | ⟨q', hq', h2, h1⟩
      · refine br_t bw_neg1 (bw_fenceOf ha ?_)
        rw [bw_LfL_ff h1]
        refine br_f bw_nneg1 (hn fun k hk => ?_)
        rcases bw_lge k (b q) with z | z
        · exact hlo k hk z
        · rw [← t5 q k hq z (fun s hs _ => h2 s hs)]
          exact hc k hk
      · have hlt := bw_mu_lt (lf := lf) (b := b) (p := q) hq' (t2 q' hq').2.1 h1.1
        refine br_t bw_neg1 (bw_fenceOf ha ?_)
        obtain ⟨f, f1, f0, f2, f3, f4⟩ := bw_LfM_ff h1
        obtain ⟨m1, m2, m3, m4⟩ := bw_ch_mem ha.2.1 f f0
        have cl : (nI f.1).toNatClampNeg = f.1 := nI_clamp (by omega)
        rw [f1]
        refine br_t (nI_pos' (n := f.1) (by omega)) ⟨vp_in_nI m1 (by decide), nm_e (nm_e ?_)⟩
        show wX_seek_10 post (nI ro) key q1 q2 q3 q4 q5 q6 q7 q8 q9 q10 q11 q12 q13 q14 q15 cap thr win fh fc r0 r1 mp mk ic he0 he1 pc K Y V N Lk H D U sg ok oy oa lg fo rk rv st cu n (V (nI f.1).toNatClampNeg) (nI i + 1)
        rw [cl, m4, f4, nI_1]
        refine ih q' (i + 1) n (by omega) hq' (fun k k1 k2 => ?_) (fun hle => ?_) (by omega) (by omega)
        · rcases bw_lge k (b q) with z | z
          · exact hlo k k1 z
          · rw [← t5 q k hq z (fun s hs hle => ?_)]
            · exact hc k k1
            · rcases h2 s hs with w | w
              · exact w
              · omega
        · have a1 := h1.1
          have := hmx (by omega) q' hq' hle
          omega
    · obtain ⟨m1, m2, m3, m4⟩ := bw_ch_mem ha.2.1 r hr
      obtain ⟨g1, g2⟩ := bw_T_rng (t4 q hq) hr hv
      refine br_f (nI_pos (n := r.1) (by omega)) (hs r.1 m1 (by rw [m3]; exact hk) ?_ fun k k1 k2 => ?_)
      · rw [m3, m4, ← t5 q _ hq g1 g2]
        exact bw_vis_con hv
      · rw [m3] at k2
        rcases bw_lge k (b q) with z | z
        · exact hlo k k1 z
        · rw [← t5 q k hq z (fun s hs hle => g2 s hs (by omega))]
          exact hc k k1 k2
theorem bw_seek {post : Int32 → Prop} {key : Int32} (hR : bw_Row K Y V N H ro P) (hT : bw_Tree P lf b mq mK M)
    (hn : (∀ k, key.toInt ≤ k → M k = none) → post (-1))
    (hs : ∀ a, a < 4096 → key.toInt ≤ (Y a).toInt → M (Y a).toInt = some (V a) → (∀ k, key.toInt ≤ k → k < (Y a).toInt → M k = none) → post (nI a)) : wpX_seek post (q1, q2, q3, q4, q5, q6, q7, q8, q9, q10, q11, q12, q13, q14, q15, cap, thr, win, fh, fc, r0, r1, mp, mk, ic, he0, he1, pc, K, Y, V, N, Lk, H, D, U, sg, ok, oy, oa, lg, fo, rk, rv, st, cu) (nI ro) key := by
  have h0 : ¬ lf 0 := fun z => by have := (hT.2.1 0 z).1; omega
  unfold wpX_seek
  dsimp only
  refine bw_leafFor hR hT fun q hq => ⟨17, bw_seek_l hR hT hn hs 15 q 0 17 (bw_mu_15 h0 q) hq.1 (fun k k1 k2 => ?_) (fun _ => hq.2.2) (by omega) (by omega)⟩
  have := hq.2.1
  omega
end bw_S04
end
section
/-! the pool: who owns a node -/
def bw_sm (f : Nat → Nat) : Nat → Nat
  | 0 => 0
  | n + 1 => bw_sm f n + f n
theorem bw_sm_eq {f g : Nat → Nat} : ∀ {n : Nat}, (∀ x, x < n → g x = f x) → bw_sm g n = bw_sm f n
  | 0, _ => rfl
  | n + 1, h => by
    show bw_sm g n + g n = bw_sm f n + f n
    rw [bw_sm_eq fun x hx => h x (by omega), h n (by omega)]
theorem bw_sm_one {f g : Nat → Nat} {p : Nat} (h : ∀ x, x ≠ p → g x = f x) : ∀ {n : Nat}, p < n → bw_sm g n + f p = bw_sm f n + g p
  | 0, hp => by omega
  | n + 1, hp => by
    show bw_sm g n + g n + f p = bw_sm f n + f n + g p
    rcases Nat.lt_or_ge p n with z | z
    · have := bw_sm_one h z
      have := h n (by omega)
      omega
    · have e : p = n := by omega
      subst e
      have := bw_sm_eq (f := f) (g := g) (n := p) fun x hx => h x (by omega)
      omega
theorem bw_sm_le {f : Nat → Nat} {c : Nat} : ∀ {n : Nat}, (∀ x, x < n → f x ≤ c) → bw_sm f n ≤ n * c
  | 0, _ => by rw [Nat.zero_mul]; exact Nat.le_refl _
  | n + 1, h => by
    show bw_sm f n + f n ≤ (n + 1) * c
    have := bw_sm_le (f := f) (c := c) (n := n) fun x hx => h x (by omega)
    have := h n (by omega)
    rw [Nat.succ_mul]
    omega
theorem bw_nd_rev {l : List Nat} (h : l.Nodup) : l.reverse.Nodup := List.pairwise_reverse.mpr (h.imp fun {a b} hab => Ne.symm hab)
def bw_ag {α : Type} (q : Nat) (P P' : Nat → α) : Prop := ∀ x, x ≠ q → P' x = P x
def bw_up {α : Type} (f : Nat → α) (p : Nat) (v : α) : Nat → α := fun x => if x = p then v else f x
theorem bw_up_s {α : Type} {f : Nat → α} {p : Nat} {v : α} : bw_up f p v p = v := if_pos rfl
theorem bw_up_n {α : Type} {f : Nat → α} {p x : Nat} {v : α} (h : x ≠ p) : bw_up f p v x = f x := if_neg h
theorem bw_up_ag {α : Type} {f : Nat → α} {p : Nat} {v : α} : bw_ag p f (bw_up f p v) := fun _ h => bw_up_n h
/-- 16 free, 17 retired now, 18 retired before, 19 and 20 chains that are being built -/
def bw_Hp (fh fc r0 r1 : Int32) (K Y V N Lk hd : Nat → Int32) (P : Nat → List bw_Rc) (F R0 R1 : List Nat) (own : Nat → Nat) : Prop :=
  (bw_lc Lk fh F ∧ bw_lc Lk r0 R0 ∧ bw_lc Lk r1 R1) ∧ fc = nI F.length ∧
  (∀ p, p < 21 → bw_ch K Y V N (hd p) (P p)) ∧
  ((∀ a, a ∈ F → own a = 16) ∧ (∀ a, a ∈ R0 → own a = 17) ∧ (∀ a, a ∈ R1 → own a = 18) ∧ (∀ p, p < 21 → ∀ r, r ∈ P p → own r.1 = p)) ∧
  (F.Nodup ∧ R0.Nodup ∧ R1.Nodup ∧ (∀ p, p < 21 → ((P p).map Prod.fst).Nodup)) ∧
  F.length + R0.length + R1.length + bw_sm (fun p => (P p).length) 21 = 4096 ∧
  (P 16 = [] ∧ P 17 = [] ∧ P 18 = [])
/-- nodes that aren't free stay as they are, and don't get free or retired before; the rows of scans stay -/
def bw_Kp (K Y V N H : Nat → Int32) (own : Nat → Nat) (K' Y' V' N' H' : Nat → Int32) (own' : Nat → Nat) : Prop :=
  (∀ a, own a ≠ 16 → K' a = K a ∧ Y' a = Y a ∧ V' a = V a ∧ N' a = N a ∧ own' a ≠ 16 ∧ (own a ≠ 18 → own' a ≠ 18)) ∧ ∀ x, 16 ≤ x → H' x = H x
theorem bw_Kp_rf {K Y V N H : Nat → Int32} {own : Nat → Nat} : bw_Kp K Y V N H own K Y V N H own := ⟨fun _ h => ⟨rfl, rfl, rfl, rfl, h, id⟩, fun _ _ => rfl⟩
theorem bw_Kp_tr {K Y V N H K' Y' V' N' H' K2 Y2 V2 N2 H2 : Nat → Int32} {own own' own2 : Nat → Nat} (a : bw_Kp K Y V N H own K' Y' V' N' H' own') (b : bw_Kp K' Y' V' N' H' own' K2 Y2 V2 N2 H2 own2) : bw_Kp K Y V N H own K2 Y2 V2 N2 H2 own2 := by
  refine ⟨fun x hx => ?_, fun x hx => (b.2 x hx).trans (a.2 x hx)⟩
  obtain ⟨a1, a2, a3, a4, a5, a6⟩ := a.1 x hx
  obtain ⟨b1, b2, b3, b4, b5, b6⟩ := b.1 x a5
  exact ⟨b1.trans a1, b2.trans a2, b3.trans a3, b4.trans a4, b5, fun h => b6 (a6 h)⟩
theorem bw_Hp_n16 {fh fc r0 r1 : Int32} {K Y V N Lk hd : Nat → Int32} {P : Nat → List bw_Rc} {F R0 R1 : List Nat} {own : Nat → Nat} (h : bw_Hp fh fc r0 r1 K Y V N Lk hd P F R0 R1 own) {p : Nat} (hp : p < 21) {r : bw_Rc} (hr : r ∈ P p) : own r.1 = p ∧ own r.1 ≠ 16 ∧ own r.1 ≠ 17 ∧ own r.1 ≠ 18 := by
  obtain ⟨_, _, _, ⟨_, _, _, h4⟩, _, _, e16, e17, e18⟩ := h
  have e := h4 p hp r hr
  refine ⟨e, ?_, ?_, ?_⟩
  · intro z
    have : p = 16 := by omega
    subst this
    rw [e16] at hr
    cases hr
  · intro z
    have : p = 17 := by omega
    subst this
    rw [e17] at hr
    cases hr
  · intro z
    have : p = 18 := by omega
    subst this
    rw [e18] at hr
    cases hr
theorem bw_Hp_new {fh fc r0 r1 : Int32} {K Y V N Lk hd H : Nat → Int32} {P : Nat → List bw_Rc} {F R0 R1 : List Nat} {own : Nat → Nat} {a q : Nat} (h : bw_Hp fh fc r0 r1 K Y V N Lk hd P (a :: F) R0 R1 own) (hq : q < 21) (h16 : q ≠ 16) (h17 : q ≠ 17) (h18 : q ≠ 18) (k y v : Int32) :
    bw_Hp (Lk a) (fc - 1) r0 r1 (upd K a k) (upd Y a y) (upd V a v) (upd N a (hd q)) Lk (bw_up hd q (nI a)) (bw_up P q ((a, k, y.toInt, v) :: P q)) F R0 R1 (bw_up own a q) ∧
    bw_Kp K Y V N H own (upd K a k) (upd Y a y) (upd V a v) (upd N a (hd q)) H (bw_up own a q) := by
  have hn := fun p (hp : p < 21) r (hr : r ∈ P p) => bw_Hp_n16 h hp hr
  obtain ⟨⟨l1, l2, l3⟩, hc, hch, ⟨o1, o2, o3, o4⟩, ⟨n1, n2, n3, n4⟩, hs, e16, e17, e18⟩ := h
  obtain ⟨l0, la, l1⟩ := l1
  have oa : own a = 16 := o1 a List.mem_cons_self
  have hne : ∀ p, p < 21 → ∀ r, r ∈ P p → r.1 ≠ a := fun p hp r hr e => (hn p hp r hr).2.1 (by rw [e]; exact oa)
  have hcg : ∀ p, p < 21 → bw_ch (upd K a k) (upd Y a y) (upd V a v) (upd N a (hd q)) (hd p) (P p) := fun p hp =>
    bw_ch_congr (hch p hp) fun r hr => ⟨pk_un (hne p hp r hr), pk_un (hne p hp r hr), pk_un (hne p hp r hr), pk_un (hne p hp r hr)⟩
  refine ⟨⟨⟨l1, l2, l3⟩, ?_, ?_, ⟨?_, ?_, ?_, ?_⟩, ⟨(List.nodup_cons.mp n1).2, n2, n3, ?_⟩, ?_, ?_⟩, ?_, fun _ _ => rfl⟩
  · rw [hc, List.length_cons]
    exact nI_pred _
  · intro p hp
    by_cases e : p = q
    · subst e
      rw [bw_up_s, bw_up_s]
      refine ⟨rfl, la, pk_us, congrArg Int32.toInt pk_us, pk_us, ?_⟩
      show bw_ch _ _ _ _ (upd N a (hd p) a) (P p)
      rw [pk_us]
      exact hcg p hp
    · rw [bw_up_n e, bw_up_n e]
      exact hcg p hp
  · intro b hb
    rw [bw_up_n fun e => (List.nodup_cons.mp n1).1 (by rw [← e]; exact hb)]
    exact o1 b (List.mem_cons_of_mem _ hb)
  · intro b hb
    rw [bw_up_n fun e => by have := o2 b hb; rw [e] at this; omega]
    exact o2 b hb
  · intro b hb
    rw [bw_up_n fun e => by have := o3 b hb; rw [e] at this; omega]
    exact o3 b hb
  · intro p hp r hr
    by_cases e : p = q
    · subst e
      rw [bw_up_s] at hr
      rcases List.mem_cons.mp hr with e | hr
      · subst e
        exact bw_up_s
      · rw [bw_up_n (hne p hp r hr)]
        exact o4 p hp r hr
    · rw [bw_up_n e] at hr
      rw [bw_up_n (hne p hp r hr)]
      exact o4 p hp r hr
  · intro p hp
    by_cases e : p = q
    · subst e
      rw [bw_up_s, List.map_cons]
      refine List.nodup_cons.mpr ⟨fun hm => ?_, n4 p hp⟩
      obtain ⟨r, hr, e⟩ := List.mem_map.mp hm
      exact hne p hp r hr e
    · rw [bw_up_n e]
      exact n4 p hp
  · have := bw_sm_one (f := fun p => (P p).length) (g := fun p => (bw_up P q ((a, k, y.toInt, v) :: P q) p).length) (p := q) (fun x hx => by show (bw_up P q _ x).length = _; rw [bw_up_n hx]) hq
    rw [bw_up_s, List.length_cons] at this
    rw [List.length_cons] at hs
    omega
  · exact ⟨by rw [bw_up_n (Ne.symm h16)]; exact e16, by rw [bw_up_n (Ne.symm h17)]; exact e17, by rw [bw_up_n (Ne.symm h18)]; exact e18⟩
  · intro x hx
    have hxa : x ≠ a := fun e => hx (by rw [e]; exact oa)
    exact ⟨pk_un hxa, pk_un hxa, pk_un hxa, pk_un hxa, by rw [bw_up_n hxa]; exact hx, fun h => by rw [bw_up_n hxa]; exact h⟩
/-- the chain of page p is retired, the one built at t gets its place -/
theorem bw_Hp_rep {fh fc r0 r1 r0' : Int32} {K Y V N Lk Lk' hd H : Nat → Int32} {P : Nat → List bw_Rc} {F R0 R1 : List Nat} {own : Nat → Nat} {p t : Nat} (h : bw_Hp fh fc r0 r1 K Y V N Lk hd P F R0 R1 own) (hp : p < 16) (ht : 19 ≤ t) (ht' : t < 21)
    (hl : bw_lc Lk' r0' (((P p).map Prod.fst).reverse ++ R0)) (hk : ∀ a, (∀ r, r ∈ P p → r.1 ≠ a) → Lk' a = Lk a) :
    ∃ own', bw_Hp fh fc r0' r1 K Y V N Lk' (bw_up (bw_up hd p (hd t)) t (-1)) (bw_up (bw_up P p (P t)) t []) F (((P p).map Prod.fst).reverse ++ R0) R1 own' ∧ bw_Kp K Y V N H own K Y V N (upd H p (hd t)) own' := by
  have hn := fun p (hp : p < 21) r (hr : r ∈ P p) => bw_Hp_n16 h hp hr
  obtain ⟨⟨l1, l2, l3⟩, hc, hch, ⟨o1, o2, o3, o4⟩, ⟨n1, n2, n3, n4⟩, hs, e16, e17, e18⟩ := h
  have hpt : p ≠ t := by omega
  have nid : ∀ a, own a ≠ p → ∀ r, r ∈ P p → r.1 ≠ a := fun a ha r hr e => ha (by rw [← e]; exact o4 p (by omega) r hr)
  refine ⟨fun a => if own a = p then 17 else if own a = t then p else own a, ⟨⟨bw_lc_congr l1 fun a ha => hk a (nid a ?_), hl, bw_lc_congr l3 fun a ha => hk a (nid a ?_)⟩, hc, ?_, ⟨?_, ?_, ?_, ?_⟩, ⟨n1, ?_, n3, ?_⟩, ?_, ?_⟩, ?_, ?_⟩
  · have := o1 a ha; omega
  · have := o3 a ha; omega
  · intro x hx
    by_cases e : x = t
    · subst e
      rw [bw_up_s, bw_up_s]
      rfl
    · rw [bw_up_n e, bw_up_n e]
      by_cases e2 : x = p
      · subst e2
        rw [bw_up_s, bw_up_s]
        exact hch t ht'
      · rw [bw_up_n e2, bw_up_n e2]
        exact hch x hx
  · intro a ha
    have := o1 a ha
    show (if own a = p then 17 else if own a = t then p else own a) = 16
    rw [if_neg (by omega), if_neg (by omega)]
    exact this
  · intro a ha
    show (if own a = p then 17 else if own a = t then p else own a) = 17
    rcases List.mem_append.mp ha with ha | ha
    · obtain ⟨r, hr, e⟩ := List.mem_map.mp (List.mem_reverse.mp ha)
      rw [if_pos (by rw [← e]; exact o4 p (by omega) r hr)]
    · have := o2 a ha
      rw [if_neg (by omega), if_neg (by omega)]
      exact this
  · intro a ha
    have := o3 a ha
    show (if own a = p then 17 else if own a = t then p else own a) = 18
    rw [if_neg (by omega), if_neg (by omega)]
    exact this
  · intro x hx r hr
    show (if own r.1 = p then 17 else if own r.1 = t then p else own r.1) = x
    by_cases e : x = t
    · subst e
      rw [bw_up_s] at hr
      cases hr
    · rw [bw_up_n e] at hr
      by_cases e2 : x = p
      · subst e2
        rw [bw_up_s] at hr
        have := o4 t ht' r hr
        rw [if_neg (by omega), if_pos this]
      · rw [bw_up_n e2] at hr
        have := o4 x hx r hr
        rw [if_neg (by omega), if_neg (by omega)]
        exact this
  · refine List.nodup_append.mpr ⟨bw_nd_rev (n4 p (by omega)), n2, fun a ha b hb e => ?_⟩
    obtain ⟨r, hr, e'⟩ := List.mem_map.mp (List.mem_reverse.mp ha)
    have h1 := hn p (by omega) r hr
    have h2 := o2 b hb
    rw [← e, ← e'] at h2
    exact h1.2.2.1 h2
  · intro x hx
    by_cases e : x = t
    · subst e
      rw [bw_up_s]
      exact List.nodup_nil
    · rw [bw_up_n e]
      by_cases e2 : x = p
      · subst e2
        rw [bw_up_s]
        exact n4 t ht'
      · rw [bw_up_n e2]
        exact n4 x hx
  · have a1 := bw_sm_one (f := fun x => (P x).length) (g := fun x => (bw_up P p (P t) x).length) (p := p) (fun x hx => by show (bw_up P p _ x).length = _; rw [bw_up_n hx]) (n := 21) (by omega)
    have a2 := bw_sm_one (f := fun x => (bw_up P p (P t) x).length) (g := fun x => (bw_up (bw_up P p (P t)) t [] x).length) (p := t) (fun x hx => by show (bw_up (bw_up P p (P t)) t [] x).length = (bw_up P p (P t) x).length; rw [bw_up_n hx]) (n := 21) (by omega)
    rw [bw_up_s] at a1
    rw [bw_up_s, bw_up_n (Ne.symm hpt), List.length_nil] at a2
    rw [List.length_append, List.length_reverse, List.length_map]
    omega
  · exact ⟨by rw [bw_up_n (by omega), bw_up_n (by omega)]; exact e16, by rw [bw_up_n (by omega), bw_up_n (by omega)]; exact e17, by rw [bw_up_n (by omega), bw_up_n (by omega)]; exact e18⟩
  · intro a ha
    refine ⟨rfl, rfl, rfl, rfl, ?_, fun h8 => ?_⟩
    · show (if own a = p then 17 else if own a = t then p else own a) ≠ 16
      split
      · omega
      · split <;> omega
    · show (if own a = p then 17 else if own a = t then p else own a) ≠ 18
      split
      · omega
      · split <;> omega
  · intro x hx
    exact pk_un (by omega)
/-- the chain built at 19 becomes the one of an empty page -/
theorem bw_Hp_mov {fh fc r0 r1 : Int32} {K Y V N Lk hd H : Nat → Int32} {P : Nat → List bw_Rc} {F R0 R1 : List Nat} {own : Nat → Nat} {p : Nat} (h : bw_Hp fh fc r0 r1 K Y V N Lk hd P F R0 R1 own) (hp : p < 16) (he : P p = []) :
    ∃ own', bw_Hp fh fc r0 r1 K Y V N Lk (bw_up (bw_up hd p (hd 19)) 19 (-1)) (bw_up (bw_up P p (P 19)) 19 []) F R0 R1 own' ∧ bw_Kp K Y V N H own K Y V N (upd H p (hd 19)) own' := by
  have := bw_Hp_rep (H := H) (Lk' := Lk) (r0' := r0) h hp (t := 19) (by omega) (by omega) (by rw [he]; exact h.1.2.1) (fun _ _ => rfl)
  rw [he] at this
  exact this
end
section
/-! walks that build chains -/
theorem bw_nb1 : vp_nar .byte (1 : Int32).toInt8.toInt32 = 1 := by rw [vp_nar_byte]; decide
theorem bw_nb2 : vp_nar .byte (2 : Int32).toInt8.toInt32 = 2 := by rw [vp_nar_byte]; decide
theorem bw_nb3 : vp_nar .byte (3 : Int32).toInt8.toInt32 = 3 := by rw [vp_nar_byte]; decide
theorem bw_nb4 : vp_nar .byte (4 : Int32).toInt8.toInt32 = 4 := by rw [vp_nar_byte]; decide
/-- a copy of a fence -/
def bw_fcp (o : Option bw_Rc) (W : List bw_Rc) : Prop := (o = none ∧ W = []) ∨ ∃ f a, o = some f ∧ W = [(a, 3, f.2.2.1, f.2.2.2)]
theorem bw_fcp_len {o : Option bw_Rc} {W : List bw_Rc} (h : bw_fcp o W) : W.length ≤ 1 := by
  rcases h with ⟨_, e⟩ | ⟨f, a, _, e⟩ <;> rw [e]
  · exact Nat.zero_le _
  · exact Nat.le_refl _
def bw_few (L : List bw_Rc) (B : Nat) : Prop := ∀ ks : List Int, ks.Pairwise (· < ·) → (∀ k, k ∈ ks → bw_con L k ≠ none) → ks.length ≤ B
def bw_Good (S L : List bw_Rc) (low : Int) : Prop :=
  (∀ r, r ∈ S → r.2.1 = 1 ∧ low ≤ r.2.2.1 ∧ bw_con L r.2.2.1 = some r.2.2.2) ∧ (∀ k v, low ≤ k → bw_con L k = some v → ∃ r, r ∈ S ∧ r.2.2.1 = k) ∧ (S.map fun r => r.2.2.1).Pairwise (· < ·)
theorem bw_Good_len {S L : List bw_Rc} {low : Int} {B : Nat} (h : bw_Good S L low) (hf : bw_few L B) : S.length ≤ B := by
  have := hf _ h.2.2 (fun k hk => by
    obtain ⟨r, hr, e⟩ := List.mem_map.mp hk
    rw [← e, (h.1 r hr).2.2]
    exact fun z => by cases z)
  rw [List.length_map] at this
  exact this
def bw_nxt (L : List bw_Rc) (hi : Int) : Option bw_Rc → Prop
  | none => ∀ k, -2147483648 ≤ k → k < hi → bw_con L k = none
  | some s => s ∈ L ∧ bw_vis L s ∧ s.2.2.1 < hi ∧ ∀ k, s.2.2.1 < k → k < hi → bw_con L k = none
theorem bw_at0 {K Y V N H : Nat → Int32} {p : Nat} {L : List bw_Rc} (h : bw_ch K Y V N (H p) L) (hp : p < 16) (hl : L.length ≤ 4000) : bw_at K Y V N H 0 (nI p) L := by
  unfold bw_at
  rw [Int32.zero_add, nI_clamp (by omega)]
  exact ⟨vp_in_nI (by omega) (by decide), h, hl⟩
section bw_S06
variable {q1 q2 q3 q4 q5 q6 q7 q8 q9 q10 q11 q12 q13 q14 q15 cap thr win fh fc r0 r1 mp mk ic he0 he1 pc : Int32} {K Y V N Lk H D U sg ok oy oa lg fo rk rv st : Nat → Int32} {cu : Nat → Int64}
variable {hd : Nat → Int32} {P : Nat → List bw_Rc} {F R0 R1 : List Nat} {own : Nat → Nat}
theorem bw_newNode {post : Int32 → SX → Prop} {k y v c : Int32} {q : Nat} (h : bw_Hp fh fc r0 r1 K Y V N Lk hd P F R0 R1 own) (hF : 1 ≤ F.length) (hq : q < 21) (h16 : q < 16 ∨ 19 ≤ q) (hk : vp_nar .byte k.toInt8.toInt32 = k) (hc : c = hd q)
    (hp : ∀ (fh' fc' : Int32) (K' Y' V' N' hd' : Nat → Int32) (P' : Nat → List bw_Rc) (F' : List Nat) (own' : Nat → Nat) (a : Nat), F'.length + 1 = F.length → bw_ag q P P' → P' q = (a, k, y.toInt, v) :: P q → bw_ag q hd hd' → hd' q = nI a → bw_Hp fh' fc' r0 r1 K' Y' V' N' Lk hd' P' F' R0 R1 own' → bw_Kp K Y V N H own K' Y' V' N' H own' → post (nI a) (q1, q2, q3, q4, q5, q6, q7, q8, q9, q10, q11, q12, q13, q14, q15, cap, thr, win, fh', fc', r0, r1, mp, mk, ic, he0, he1, pc, K', Y', V', N', Lk, H, D, U, sg, ok, oy, oa, lg, fo, rk, rv, st, cu)) : wpX_newNode post (q1, q2, q3, q4, q5, q6, q7, q8, q9, q10, q11, q12, q13, q14, q15, cap, thr, win, fh, fc, r0, r1, mp, mk, ic, he0, he1, pc, K, Y, V, N, Lk, H, D, U, sg, ok, oy, oa, lg, fo, rk, rv, st, cu) k y v c := by
  subst hc
  cases F with
  | nil => exact absurd hF (by decide)
  | cons a F =>
    obtain ⟨g1, g2⟩ := bw_Hp_new (H := H) h hq (by omega) (by omega) (by omega) k y v
    have l0 : fh = nI a := h.1.1.1
    have la : a < 4096 := h.1.1.2.1
    subst l0
    have hi : vp_in (nI a) 4096 := vp_in_nI la (by decide)
    have cl : (nI a).toNatClampNeg = a := nI_clamp (by omega)
    have W := hp _ _ _ _ _ _ _ _ _ _ a (by rw [List.length_cons]) bw_up_ag bw_up_s bw_up_ag bw_up_s g1 g2
    refine br_t (nI_pos' (by omega)) ⟨hi, nm_e (nm_e ⟨hi, nm_e ⟨hi, nm_e ⟨hi, nm_e ⟨hi, nm_e ?_⟩⟩⟩⟩)⟩
    rw [cl, hk]
    exact W
theorem bw_withFence {post : Int32 → SX → Prop} {o : Option bw_Rc} {p : Nat} {c : Int32} (h : bw_Hp fh fc r0 r1 K Y V N Lk hd P F R0 R1 own) (hF : 1 ≤ F.length) (hp21 : p < 21) (ho : ∀ f, o = some f → f ∈ P p) (hc : c = hd 19)
    (hp : ∀ (fh' fc' : Int32) (K' Y' V' N' hd' : Nat → Int32) (P' : Nat → List bw_Rc) (F' : List Nat) (own' : Nat → Nat) (W : List bw_Rc), F.length ≤ F'.length + 1 → bw_ag 19 P P' → P' 19 = W ++ P 19 → bw_fcp o W → bw_ag 19 hd hd' → bw_Hp fh' fc' r0 r1 K' Y' V' N' Lk hd' P' F' R0 R1 own' → bw_Kp K Y V N H own K' Y' V' N' H own' → post (hd' 19) (q1, q2, q3, q4, q5, q6, q7, q8, q9, q10, q11, q12, q13, q14, q15, cap, thr, win, fh', fc', r0, r1, mp, mk, ic, he0, he1, pc, K', Y', V', N', Lk, H, D, U, sg, ok, oy, oa, lg, fo, rk, rv, st, cu)) : wpX_withFence post (q1, q2, q3, q4, q5, q6, q7, q8, q9, q10, q11, q12, q13, q14, q15, cap, thr, win, fh, fc, r0, r1, mp, mk, ic, he0, he1, pc, K, Y, V, N, Lk, H, D, U, sg, ok, oy, oa, lg, fo, rk, rv, st, cu) (bw_oI o) c := by
  subst hc
  cases o with
  | none => exact br_f bw_nneg1 (hp fh fc K Y V N hd P F own [] (by omega) (fun _ _ => rfl) rfl (Or.inl ⟨rfl, rfl⟩) (fun _ _ => rfl) h bw_Kp_rf)
  | some f =>
    obtain ⟨m1, m2, m3, m4⟩ := bw_ch_mem (h.2.2.1 p hp21) f (ho f rfl)
    have cl : (nI f.1).toNatClampNeg = f.1 := nI_clamp (by omega)
    have hi : vp_in (nI f.1) 4096 := vp_in_nI m1 (by decide)
    refine br_t (nI_pos' (n := f.1) (by omega)) ⟨hi, hi, bw_newNode (q := 19) h hF (by omega) (by omega) bw_nb3 rfl (fun fh' fc' K' Y' V' N' hd' P' F' own' a e1 e2 e3 e4 e5 h' k' => ?_)⟩
    have W := hp fh' fc' K' Y' V' N' hd' P' F' own' [(a, 3, f.2.2.1, f.2.2.2)] (by omega) e2 (by rw [e3]; show (a, 3, (Y (nI f.1).toNatClampNeg).toInt, V (nI f.1).toNatClampNeg) :: P 19 = _; rw [cl, m3, m4]; rfl) (Or.inr ⟨f, a, rfl, rfl⟩) e4 h' k'
    rw [e5] at W
    exact W
theorem bw_rep_l {post : SX → Prop} {x1 x2 : Int32} {L0 : List bw_Rc} : ∀ (L : List bw_Rc) (x r0 : Int32) (Lk : Nat → Int32) (R0 : List Nat) (i n : Nat), bw_ch K Y V N x L → bw_lc Lk r0 R0 → (L.map Prod.fst).Nodup → (∀ r, r ∈ L → r.1 ∉ R0) → i + L.length ≤ 4096 → L.length < n →
    (∀ (r0' : Int32) (Lk' : Nat → Int32), bw_lc Lk' r0' ((L.map Prod.fst).reverse ++ R0) → (∀ a, (∀ r, r ∈ L → r.1 ≠ a) → Lk' a = Lk a) → wX_replace_52 post x1 x2 q1 q2 q3 q4 q5 q6 q7 q8 q9 q10 q11 q12 q13 q14 q15 cap thr win fh fc r0' r1 mp mk ic he0 he1 pc K Y V N Lk' H D U sg ok oy oa lg fo rk rv st cu) →
    wX_replace_10 post x1 x2 q1 q2 q3 q4 q5 q6 q7 q8 q9 q10 q11 q12 q13 q14 q15 cap thr win fh fc r1 mp mk ic he0 he1 pc n x (nI i) r0 K Y V N Lk H D U sg ok oy oa lg fo rk rv st cu := by
  intro L
  induction L with
  | nil =>
    intro x r0 Lk R0 i n hc hl hnd hdj hi hn hp
    rw [List.length_nil] at hn
    obtain ⟨m, rfl⟩ : ∃ m, n = m + 1 := ⟨n - 1, by omega⟩
    have hx : x = -1 := hc
    subst hx
    have W := hp r0 Lk hl (fun _ _ => rfl)
    exact br_c (fun _ => W) (fun _ => br_t bw_neg1 W)
  | cons r l ih =>
    intro x r0 Lk R0 i n hc hl hnd hdj hi hn hp
    obtain ⟨h0, h1, h2, h3, h4, h5⟩ := hc
    subst h0
    rw [List.length_cons] at hi hn
    obtain ⟨m, rfl⟩ : ∃ m, n = m + 1 := ⟨n - 1, by omega⟩
    have cl : (nI r.1).toNatClampNeg = r.1 := nI_clamp (by omega)
    have hin : vp_in (nI r.1) 4096 := vp_in_nI h1 (by decide)
    rw [List.map_cons] at hnd
    obtain ⟨d1, d2⟩ := List.nodup_cons.mp hnd
    have hr0 : r.1 ∉ R0 := hdj r List.mem_cons_self
    refine br_f (nI_ge (b := 4096) (by omega) (by decide)) (br_f (nI_pos (by omega)) ⟨hin, nm_e ⟨hin, nm_e (nm_e ?_)⟩⟩)
    rw [cl, nI_1]
    refine ih (N r.1) (nI r.1) (upd Lk r.1 r0) (r.1 :: R0) (i + 1) m h5 ⟨rfl, h1, ?_⟩ d2 ?_ (by omega) (by omega) ?_
    · rw [pk_us]
      exact bw_lc_congr hl fun a ha => pk_un fun e => hr0 (by rw [← e]; exact ha)
    · intro s hs hm
      rcases List.mem_cons.mp hm with e | hm
      · exact d1 (List.mem_map.mpr ⟨s, hs, e⟩)
      · exact hdj s (List.mem_cons_of_mem _ hs) hm
    · intro r0' Lk' g1 g2
      refine hp r0' Lk' ?_ fun a ha => ?_
      · rw [List.map_cons, List.reverse_cons, List.append_assoc]
        exact g1
      · rw [g2 a fun s hs => ha s (List.mem_cons_of_mem _ hs)]
        exact pk_un fun e => ha r List.mem_cons_self e.symm
theorem bw_replace {post : SX → Prop} {p t : Nat} {c : Int32} (h : bw_Hp fh fc r0 r1 K Y V N Lk hd P F R0 R1 own) (hp16 : p < 16) (ht : 19 ≤ t) (ht' : t < 21) (hH : hd p = H p) (hl : (P p).length ≤ 4000) (hc : c = hd t)
    (hp : ∀ (r0' : Int32) (Lk' : Nat → Int32) (own' : Nat → Nat), bw_Hp fh fc r0' r1 K Y V N Lk' (bw_up (bw_up hd p (hd t)) t (-1)) (bw_up (bw_up P p (P t)) t []) F (((P p).map Prod.fst).reverse ++ R0) R1 own' → bw_Kp K Y V N H own K Y V N (upd H p (hd t)) own' → post (q1, q2, q3, q4, q5, q6, q7, q8, q9, q10, q11, q12, q13, q14, q15, cap, thr, win, fh, fc, r0', r1, mp, mk, ic, he0, he1, pc, K, Y, V, N, Lk', upd H p (hd t), upd D p 0, U, sg, ok, oy, oa, lg, fo, rk, rv, st, cu)) : wpX_replace post (q1, q2, q3, q4, q5, q6, q7, q8, q9, q10, q11, q12, q13, q14, q15, cap, thr, win, fh, fc, r0, r1, mp, mk, ic, he0, he1, pc, K, Y, V, N, Lk, H, D, U, sg, ok, oy, oa, lg, fo, rk, rv, st, cu) (nI p) c := by
  subst hc
  have cl : (nI p).toNatClampNeg = p := nI_clamp (by omega)
  have hi80 : vp_in (nI p) 80 := vp_in_nI (by omega) (by decide)
  have hi16 : vp_in (nI p) 16 := vp_in_nI hp16 (by decide)
  refine And.intro hi80 (nm_e ⟨4001, ?_⟩)
  rw [cl, ← hH]
  refine bw_rep_l (L0 := []) (P p) (hd p) r0 Lk R0 0 4001 (h.2.2.1 p (by omega)) h.1.2.1 (h.2.2.2.2.1.2.2.2 p (by omega)) (fun r hr hm => ?_) (by omega) (by omega) (fun r0' Lk' g1 g2 => ?_)
  · have a1 := bw_Hp_n16 h (by omega) hr
    exact a1.2.2.1 (h.2.2.2.1.2.1 _ hm)
  · obtain ⟨own', a1, a2⟩ := bw_Hp_rep (H := H) h hp16 ht ht' g1 g2
    have W := hp r0' Lk' own' a1 a2
    refine And.intro hi80 (nm_e ⟨hi16, nm_e ?_⟩)
    rw [cl]
    exact W
theorem bw_cpy_l {post : Int32 → SX → Prop} {low : Int32} {p B FL : Nat} {L T : List bw_Rc} {hd0 K0 Y0 V0 N0 : Nat → Int32} {P0 : Nat → List bw_Rc} {own0 : Nat → Nat} (hp16 : p < 16) (hL : P0 p = L) (hH : hd0 p = H p) (hfew : bw_few L B) (hB : B ≤ 100) (hBF : B ≤ FL) (hlen : L.length ≤ 4000)
    (hpost : ∀ (fh fc : Int32) (K Y V N hd : Nat → Int32) (P : Nat → List bw_Rc) (F : List Nat) (own : Nat → Nat) (S : List bw_Rc), F.length + S.length = FL → bw_ag 19 P0 P → P 19 = S ++ T → bw_ag 19 hd0 hd → bw_Hp fh fc r0 r1 K Y V N Lk hd P F R0 R1 own → bw_Kp K0 Y0 V0 N0 H own0 K Y V N H own → bw_Good S L low.toInt → post (hd 19) (q1, q2, q3, q4, q5, q6, q7, q8, q9, q10, q11, q12, q13, q14, q15, cap, thr, win, fh, fc, r0, r1, mp, mk, ic, he0, he1, pc, K, Y, V, N, Lk, H, D, U, sg, ok, oy, oa, lg, fo, rk, rv, st, cu)) :
    ∀ (m : Nat) (S : List bw_Rc) (o : Option bw_Rc) (hi : Int) (fh fc : Int32) (K Y V N hd : Nat → Int32) (P : Nat → List bw_Rc) (F : List Nat) (own : Nat → Nat) (n : Nat), S.length + m = B → F.length + S.length = FL → bw_ag 19 P0 P → P 19 = S ++ T → bw_ag 19 hd0 hd → bw_Hp fh fc r0 r1 K Y V N Lk hd P F R0 R1 own → bw_Kp K0 Y0 V0 N0 H own0 K Y V N H own →
      (∀ r, r ∈ S → r.2.1 = 1 ∧ low.toInt ≤ r.2.2.1 ∧ bw_con L r.2.2.1 = some r.2.2.2) → (S.map fun r => r.2.2.1).Pairwise (· < ·) → (∀ r, r ∈ S → hi ≤ r.2.2.1) → (∀ k v, hi ≤ k → bw_con L k = some v → ∃ r, r ∈ S ∧ r.2.2.1 = k) → bw_nxt L hi o → m < n →
      wX_copyPairs_16 post (nI p) low n (hd 19) (bw_oI o) (nI S.length) q1 q2 q3 q4 q5 q6 q7 q8 q9 q10 q11 q12 q13 q14 q15 cap thr win fh fc r0 r1 mp mk ic he0 he1 pc K Y V N Lk H D U sg ok oy oa lg fo rk rv st cu := by
  intro m
  induction m using Nat.strongRecOn with
  | ind m ih =>
    intro S o hi fh fc K Y V N hd P F own n hm hFL hag hP19 hagh h hk g1 g2 g3 g4 hnx hn
    obtain ⟨n, rfl⟩ : ∃ m, n = m + 1 := ⟨n - 1, by omega⟩
    have hPp : P p = L := (hag p (by omega)).trans hL
    have hHp : hd p = H p := (hagh p (by omega)).trans hH
    have hch : bw_ch K Y V N (hd p) (P p) := h.2.2.1 p (by omega)
    rw [hPp, hHp] at hch
    have fin : (∀ k v, low.toInt ≤ k → k < hi → bw_con L k = some v → False) → post (hd 19) (q1, q2, q3, q4, q5, q6, q7, q8, q9, q10, q11, q12, q13, q14, q15, cap, thr, win, fh, fc, r0, r1, mp, mk, ic, he0, he1, pc, K, Y, V, N, Lk, H, D, U, sg, ok, oy, oa, lg, fo, rk, rv, st, cu) := by
      intro hf
      refine hpost fh fc K Y V N hd P F own S hFL hag hP19 hagh h hk ⟨g1, fun k v hlo hc => ?_, g2⟩
      rcases bw_lge k hi with z | z
      · exact (hf k v hlo z hc).elim
      · exact g4 k v z hc
    refine br_f (nI_ge (b := 4096) (by omega) (by decide)) ?_
    cases o with
    | none =>
      refine br_t bw_neg1 (fin fun k v h1 h2 h3 => ?_)
      have := hnx k (by have := (bw_irg low).1; omega) h2
      rw [this] at h3
      cases h3
    | some s =>
      obtain ⟨s1, s2, s3, s4⟩ := hnx
      obtain ⟨m1, m2, m3, m4⟩ := bw_ch_mem hch s s1
      have cl : (nI s.1).toNatClampNeg = s.1 := nI_clamp (by omega)
      have hin : vp_in (nI s.1) 4096 := vp_in_nI m1 (by decide)
      have e3 : (Y (nI s.1).toNatClampNeg).toInt = s.2.2.1 := by rw [cl]; exact m3
      refine br_f (nI_pos (n := s.1) (by omega)) ⟨hin, br_c (fun le => ⟨hin, hin, ?_⟩) (fun nle => fin fun k v h1 h2 h3 => ?_)⟩
      · have le' : low.toInt ≤ s.2.2.1 := by
          have := bw_ile.mp le
          rw [← e3]
          exact this
        have pw : ((s.2.2.1 : Int) :: S.map fun r => r.2.2.1).Pairwise (· < ·) := by
          refine List.pairwise_cons.mpr ⟨fun k hk => ?_, g2⟩
          obtain ⟨r, hr, e⟩ := List.mem_map.mp hk
          have := g3 r hr
          omega
        have hB1 := hfew _ pw (fun k hk => by
          rcases List.mem_cons.mp hk with e | hk
          · rw [e, bw_vis_con s2]; exact fun z => by cases z
          · obtain ⟨r, hr, e⟩ := List.mem_map.mp hk
            rw [← e, (g1 r hr).2.2]; exact fun z => by cases z)
        rw [List.length_cons, List.length_map] at hB1
        refine bw_newNode (q := 19) h (by omega) (by omega) (by omega) bw_nb1 rfl (fun fh' fc' K' Y' V' N' hd' P' F' own' a e1 e2 e3' e4 e5 h' k' => ?_)
        have hPp' : P' p = L := (e2 p (by omega)).trans hPp
        have hHp' : hd' p = H p := (e4 p (by omega)).trans hHp
        have hch' : bw_ch K' Y' V' N' (hd' p) (P' p) := h'.2.2.1 p (by omega)
        rw [hPp', hHp'] at hch'
        have hP' : P' 19 = ((a, 1, s.2.2.1, s.2.2.2) :: S) ++ T := by
          rw [e3', hP19]
          show (a, 1, (Y (nI s.1).toNatClampNeg).toInt, V (nI s.1).toNatClampNeg) :: (S ++ T) = _
          rw [cl, m3, m4]
          rfl
        have go : ∀ o', bw_nxt L s.2.2.1 o' → wX_copyPairs_16 post (nI p) low n (nI a) (bw_oI o') (nI S.length + 1) q1 q2 q3 q4 q5 q6 q7 q8 q9 q10 q11 q12 q13 q14 q15 cap thr win fh' fc' r0 r1 mp mk ic he0 he1 pc K' Y' V' N' Lk H D U sg ok oy oa lg fo rk rv st cu := by
          intro o' ho'
          rw [← e5, nI_1]
          refine ih (m - 1) (by omega) ((a, 1, s.2.2.1, s.2.2.2) :: S) o' s.2.2.1 fh' fc' K' Y' V' N' hd' P' F' own' n (by rw [List.length_cons]; omega) (by rw [List.length_cons]; omega) (fun x hx => (e2 x hx).trans (hag x hx)) hP' (fun x hx => (e4 x hx).trans (hagh x hx)) h' (bw_Kp_tr hk k') ?_ ?_ ?_ ?_ ho' (by omega)
          · intro r hr
            rcases List.mem_cons.mp hr with e | hr
            · subst e
              have hvc := bw_vis_con s2
              exact ⟨rfl, le', hvc⟩
            · exact g1 r hr
          · exact pw
          · intro r hr
            rcases List.mem_cons.mp hr with e | hr
            · subst e
              exact Int.le_refl _
            · have := g3 r hr
              omega
          · intro k v hk1 hk2
            rcases bw_lge k hi with z | z
            · rcases bw_lge s.2.2.1 k with w | w
              · rw [s4 k w z] at hk2
                cases hk2
              · exact ⟨_, List.mem_cons_self, by show s.2.2.1 = k; omega⟩
            · obtain ⟨r, hr, e⟩ := g4 k v z hk2
              exact ⟨r, List.mem_cons_of_mem _ hr, e⟩
        exact bw_lower (bw_at0 hch' hp16 hlen) s1 (fun hn => nm_e (go none hn)) (fun s' a1 a2 a3 a4 => nm_e (go (some s') ⟨a1, a2, a3, a4⟩))
      · have : ¬ _ := fun z => nle (bw_ile.mpr z)
        rcases bw_lge s.2.2.1 k with w | w
        · rw [s4 k w h2] at h3
          cases h3
        · change ¬ low.toInt ≤ (Y (nI s.1).toNatClampNeg).toInt at this
          rw [e3] at this
          omega
theorem bw_copy {post : Int32 → SX → Prop} {low c : Int32} {p B : Nat} (h : bw_Hp fh fc r0 r1 K Y V N Lk hd P F R0 R1 own) (hp16 : p < 16) (hH : hd p = H p) (hfew : bw_few (P p) B) (hB : B ≤ 100) (hBF : B ≤ F.length) (hlen : (P p).length ≤ 4000) (hc : c = hd 19)
    (hp : ∀ (fh' fc' : Int32) (K' Y' V' N' hd' : Nat → Int32) (P' : Nat → List bw_Rc) (F' : List Nat) (own' : Nat → Nat) (S : List bw_Rc), F'.length + S.length = F.length → bw_ag 19 P P' → P' 19 = S ++ P 19 → bw_ag 19 hd hd' → bw_Hp fh' fc' r0 r1 K' Y' V' N' Lk hd' P' F' R0 R1 own' → bw_Kp K Y V N H own K' Y' V' N' H own' → bw_Good S (P p) low.toInt → post (hd' 19) (q1, q2, q3, q4, q5, q6, q7, q8, q9, q10, q11, q12, q13, q14, q15, cap, thr, win, fh', fc', r0, r1, mp, mk, ic, he0, he1, pc, K', Y', V', N', Lk, H, D, U, sg, ok, oy, oa, lg, fo, rk, rv, st, cu)) : wpX_copyPairs post (q1, q2, q3, q4, q5, q6, q7, q8, q9, q10, q11, q12, q13, q14, q15, cap, thr, win, fh, fc, r0, r1, mp, mk, ic, he0, he1, pc, K, Y, V, N, Lk, H, D, U, sg, ok, oy, oa, lg, fo, rk, rv, st, cu) (nI p) low c := by
  subst hc
  have hch : bw_ch K Y V N (hd p) (P p) := h.2.2.1 p (by omega)
  rw [hH] at hch
  have big : ∀ k v, (2147483648 : Int) ≤ k → bw_con (P p) k = some v → ∃ r, r ∈ ([] : List bw_Rc) ∧ r.2.2.1 = k := by
    intro k v hk hc
    obtain ⟨r, hr, _, e, _⟩ := bw_con_vis hc
    have m := bw_ch_mem hch r hr
    have := (bw_irg (Y r.1)).2
    omega
  have mx : (2147483647 : Int32).toInt = 2147483647 := by decide
  have go : ∀ o, bw_nxt (P p) 2147483648 o → ∃ n, wX_copyPairs_16 post (nI p) low n (hd 19) (bw_oI o) 0 q1 q2 q3 q4 q5 q6 q7 q8 q9 q10 q11 q12 q13 q14 q15 cap thr win fh fc r0 r1 mp mk ic he0 he1 pc K Y V N Lk H D U sg ok oy oa lg fo rk rv st cu := fun o ho =>
    ⟨B + 1, bw_cpy_l (FL := F.length) (T := P 19) hp16 rfl hH hfew hB hBF hlen hp B [] o 2147483648 fh fc K Y V N hd P F own (B + 1) (Nat.zero_add _) (Nat.add_zero _) (fun _ _ => rfl) rfl (fun _ _ => rfl) h bw_Kp_rf (fun r hr => by cases hr) List.Pairwise.nil (fun r hr => by cases hr) big ho (by omega)⟩
  unfold wpX_copyPairs
  dsimp only
  refine bw_floor (bw_at0 hch hp16 hlen) (fun hn => go none fun k _ hk => hn k (by rw [mx]; omega)) (fun s a1 a2 a3 a4 => go (some s) ⟨a1, a2, by rw [mx] at a3; omega, fun k k1 k2 => a4 k k1 (by rw [mx]; omega)⟩)
end bw_S06
end
section
/-! consolidate, prepend -/
def bw_Dp (D : Nat → Int32) (P : Nat → List bw_Rc) : Prop := ∀ p, p < 16 → ∃ d, d ≤ 8 ∧ D p = nI d ∧ (P p).length ≤ 33 + d
/-- the pool at rest: nothing is being built -/
def bw_Rs (fh fc r0 r1 : Int32) (K Y V N Lk H D : Nat → Int32) (P : Nat → List bw_Rc) (F R0 R1 : List Nat) (own : Nat → Nat) : Prop :=
  ∃ hd, bw_Hp fh fc r0 r1 K Y V N Lk hd P F R0 R1 own ∧ (∀ p, p < 16 → hd p = H p) ∧ (P 19 = [] ∧ P 20 = []) ∧ bw_Dp D P
/-- L' is L consolidated -/
def bw_Cs (L L' : List bw_Rc) : Prop := ∃ W S, L' = W ++ S ∧ bw_fcp (bw_ff L) W ∧ bw_Good S L (-2147483648)
theorem bw_Rs_row {fh fc r0 r1 : Int32} {K Y V N Lk H D : Nat → Int32} {P : Nat → List bw_Rc} {F R0 R1 : List Nat} {own : Nat → Nat} (h : bw_Rs fh fc r0 r1 K Y V N Lk H D P F R0 R1 own) : bw_Row K Y V N H 0 P := by
  obtain ⟨hd, a, b, _, d⟩ := h
  refine ⟨by omega, fun p hp => ⟨?_, ?_⟩⟩
  · rw [Nat.zero_add, ← b p hp]
    exact a.2.2.1 p (by omega)
  · obtain ⟨d, d1, _, d3⟩ := d p hp
    omega
theorem bw_hd19 {fh fc r0 r1 : Int32} {K Y V N Lk hd : Nat → Int32} {P : Nat → List bw_Rc} {F R0 R1 : List Nat} {own : Nat → Nat} (h : bw_Hp fh fc r0 r1 K Y V N Lk hd P F R0 R1 own) {t : Nat} (ht : t < 21) (e : P t = []) : (-1 : Int32) = hd t := by
  have := h.2.2.1 t ht
  rw [e] at this
  exact Eq.symm this
section bw_S07
variable {q1 q2 q3 q4 q5 q6 q7 q8 q9 q10 q11 q12 q13 q14 q15 cap thr win fh fc r0 r1 mp mk ic he0 he1 pc : Int32} {K Y V N Lk H D U sg ok oy oa lg fo rk rv st : Nat → Int32} {cu : Nat → Int64}
variable {P : Nat → List bw_Rc} {F R0 R1 : List Nat} {own : Nat → Nat}
theorem bw_consolidate {post : SX → Prop} {p : Nat} (hR : bw_Rs fh fc r0 r1 K Y V N Lk H D P F R0 R1 own) (hp16 : p < 16) (hfew : bw_few (P p) 32) (hF : 34 ≤ F.length)
    (hp : ∀ (fh' fc' r0' : Int32) (K' Y' V' N' Lk' H' D' : Nat → Int32) (P' : Nat → List bw_Rc) (F' R0' : List Nat) (own' : Nat → Nat), bw_Rs fh' fc' r0' r1 K' Y' V' N' Lk' H' D' P' F' R0' R1 own' → bw_Kp K Y V N H own K' Y' V' N' H' own' → bw_ag p P P' → bw_Cs (P p) (P' p) → D' p = nI 0 → F.length ≤ F'.length + 33 → post (q1, q2, q3, q4, q5, q6, q7, q8, q9, q10, q11, q12, q13, q14, q15, cap, thr, win, fh', fc', r0', r1, mp, mk, ic, he0, he1, pc, K', Y', V', N', Lk', H', D', U, sg, ok, oy, oa, lg, fo, rk, rv, st, cu)) : wpX_consolidate post (q1, q2, q3, q4, q5, q6, q7, q8, q9, q10, q11, q12, q13, q14, q15, cap, thr, win, fh, fc, r0, r1, mp, mk, ic, he0, he1, pc, K, Y, V, N, Lk, H, D, U, sg, ok, oy, oa, lg, fo, rk, rv, st, cu) (nI p) := by
  have hrow := bw_Rs_row hR
  have hat := bw_row_at hrow hp16
  have hlen := (hrow.2 p hp16).2
  obtain ⟨hd, h, hH, ⟨e19, e20⟩, hD⟩ := hR
  unfold wpX_consolidate
  dsimp only
  refine bw_fenceOf hat ?_
  refine bw_copy (B := 32) h hp16 (hH p hp16) hfew (by omega) (by omega) (by omega) (bw_hd19 h (by omega) e19) (fun fh1 fc1 K1 Y1 V1 N1 hd1 P1 F1 own1 S a1 a2 a3 a4 a5 a6 a7 => ?_)
  dsimp only
  have hSl := bw_Good_len a7 hfew
  refine bw_withFence (p := p) a5 (by omega) (by omega) (fun f hf => by rw [a2 p (by omega)]; exact (bw_ff_mem hf).1) rfl (fun fh2 fc2 K2 Y2 V2 N2 hd2 P2 F2 own2 W b1 b2 b3 b4 b5 b6 b7 => ?_)
  dsimp only
  have hP2 : P2 p = P p := (b2 p (by omega)).trans (a2 p (by omega))
  have hh2 : hd2 p = H p := ((b5 p (by omega)).trans (a4 p (by omega))).trans (hH p hp16)
  have h19 : P2 19 = W ++ S := by rw [b3, a3, e19, List.append_nil]
  refine bw_replace (t := 19) b6 hp16 (by omega) (by omega) hh2 (by rw [hP2]; omega) rfl (fun r0' Lk' own' c1 c2 => ?_)
  dsimp only
  refine hp fh2 fc2 r0' K2 Y2 V2 N2 Lk' (upd H p (hd2 19)) (upd D p 0) _ F2 _ own' ⟨_, c1, fun x hx => ?_, ⟨bw_up_s, ?_⟩, fun x hx => ?_⟩ (bw_Kp_tr (bw_Kp_tr a6 b7) c2) (fun x hx => ?_) ⟨W, S, ?_, b4, a7⟩ pk_us (by omega)
  · rw [bw_up_n (by omega)]
    by_cases e : x = p
    · subst e
      rw [bw_up_s, pk_us]
    · rw [bw_up_n e, pk_un e, b5 x (by omega), a4 x (by omega)]
      exact hH x hx
  · rw [bw_up_n (by omega), bw_up_n (by omega), b2 20 (by omega), a2 20 (by omega)]
    exact e20
  · rw [bw_up_n (by omega)]
    by_cases e : x = p
    · subst e
      rw [bw_up_s, pk_us, h19, List.length_append]
      have := bw_fcp_len b4
      exact ⟨0, by omega, rfl, by omega⟩
    · rw [bw_up_n e, pk_un e, b2 x (by omega), a2 x (by omega)]
      exact hD x hx
  · by_cases e : x = 19
    · subst e
      rw [bw_up_s, e19]
    · rw [bw_up_n e, bw_up_n hx, b2 x e, a2 x e]
  · rw [bw_up_n (by omega), bw_up_s, h19]
theorem bw_prep16 {post : SX → Prop} {p d : Nat} {k y v : Int32} (hR : bw_Rs fh fc r0 r1 K Y V N Lk H D P F R0 R1 own) (hp16 : p < 16) (hD8 : D p = nI d) (hd8 : d < 8) (hF : 1 ≤ F.length) (hk : vp_nar .byte k.toInt8.toInt32 = k)
    (hp : ∀ (fh' fc' : Int32) (K' Y' V' N' H' D' : Nat → Int32) (P' : Nat → List bw_Rc) (F' : List Nat) (own' : Nat → Nat) (a : Nat), bw_Rs fh' fc' r0 r1 K' Y' V' N' Lk H' D' P' F' R0 R1 own' → bw_Kp K Y V N H own K' Y' V' N' H' own' → bw_ag p P P' → P' p = (a, k, y.toInt, v) :: P p → F.length ≤ F'.length + 1 → post (q1, q2, q3, q4, q5, q6, q7, q8, q9, q10, q11, q12, q13, q14, q15, cap, thr, win, fh', fc', r0, r1, mp, mk, ic, he0, he1, pc, K', Y', V', N', Lk, H', D', U, sg, ok, oy, oa, lg, fo, rk, rv, st, cu)) : wX_prepend_16 post (nI p) k y v q1 q2 q3 q4 q5 q6 q7 q8 q9 q10 q11 q12 q13 q14 q15 cap thr win fh fc r0 r1 mp mk ic he0 he1 pc K Y V N Lk H D U sg ok oy oa lg fo rk rv st cu := by
  obtain ⟨hd, h, hH, ⟨e19, e20⟩, hD⟩ := hR
  have cl : (nI p).toNatClampNeg = p := nI_clamp (by omega)
  have hi80 : vp_in (nI p) 80 := vp_in_nI (by omega) (by decide)
  have hi16 : vp_in (nI p) 16 := vp_in_nI hp16 (by decide)
  refine And.intro hi80 (bw_newNode (q := p) h hF (by omega) (by omega) hk (by rw [cl, hH p hp16]) (fun fh' fc' K' Y' V' N' hd' P' F' own' a e1 e2 e3 e4 e5 h' k' => ?_))
  dsimp only
  refine And.intro hi80 (nm_e ⟨hi16, hi16, nm_e ?_⟩)
  rw [cl]
  refine hp fh' fc' K' Y' V' N' (upd H p (nI a)) (upd D p (D p + 1)) P' F' own' a ⟨hd', h', fun x hx => ?_, ⟨by rw [e2 19 (by omega)]; exact e19, by rw [e2 20 (by omega)]; exact e20⟩, fun x hx => ?_⟩ ⟨k'.1, fun x hx => pk_un (by omega)⟩ e2 e3 (by omega)
  · by_cases e : x = p
    · subst e
      rw [pk_us, e5]
    · rw [pk_un e, e4 x e]
      exact hH x hx
  · by_cases e : x = p
    · subst e
      obtain ⟨d', q1, q2, q3⟩ := hD x hx
      have : d' = d := (nI_eq (by omega) (by omega)).mp (q2.symm.trans hD8)
      subst this
      rw [pk_us, e3, List.length_cons, hD8, nI_1]
      exact ⟨d' + 1, by omega, rfl, by omega⟩
    · rw [pk_un e, e2 x e]
      exact hD x hx
theorem bw_prepend {post : SX → Prop} {p : Nat} {k y v : Int32} (hR : bw_Rs fh fc r0 r1 K Y V N Lk H D P F R0 R1 own) (hp16 : p < 16) (hfew : bw_few (P p) 32) (hF : 40 ≤ F.length) (hk : vp_nar .byte k.toInt8.toInt32 = k)
    (hp : ∀ (fh' fc' r0' : Int32) (K' Y' V' N' Lk' H' D' : Nat → Int32) (P' : Nat → List bw_Rc) (F' R0' : List Nat) (own' : Nat → Nat) (a : Nat) (L' : List bw_Rc), bw_Rs fh' fc' r0' r1 K' Y' V' N' Lk' H' D' P' F' R0' R1 own' → bw_Kp K Y V N H own K' Y' V' N' H' own' → bw_ag p P P' → P' p = (a, k, y.toInt, v) :: L' → (L' = P p ∨ bw_Cs (P p) L') → F.length ≤ F'.length + 34 → post (q1, q2, q3, q4, q5, q6, q7, q8, q9, q10, q11, q12, q13, q14, q15, cap, thr, win, fh', fc', r0', r1, mp, mk, ic, he0, he1, pc, K', Y', V', N', Lk', H', D', U, sg, ok, oy, oa, lg, fo, rk, rv, st, cu)) : wpX_prepend post (q1, q2, q3, q4, q5, q6, q7, q8, q9, q10, q11, q12, q13, q14, q15, cap, thr, win, fh, fc, r0, r1, mp, mk, ic, he0, he1, pc, K, Y, V, N, Lk, H, D, U, sg, ok, oy, oa, lg, fo, rk, rv, st, cu) (nI p) k y v := by
  have cl : (nI p).toNatClampNeg = p := nI_clamp (by omega)
  have hi16 : vp_in (nI p) 16 := vp_in_nI hp16 (by decide)
  obtain ⟨d, d1, d2, d3⟩ : ∃ d, d ≤ 8 ∧ D p = nI d ∧ (P p).length ≤ 33 + d := by
    obtain ⟨hd, h, hH, _, hD⟩ := hR
    exact hD p hp16
  refine And.intro hi16 (br_c (fun lt => ?_) (fun nlt => ?_))
  · rw [cl, d2] at lt
    have lt' : d < 8 := (nI_ltI (b := 8) (by omega) (by decide)).mp lt
    exact bw_prep16 hR hp16 d2 lt' (by omega) hk (fun fh' fc' K' Y' V' N' H' D' P' F' own' a e1 e2 e3 e4 e5 => hp fh' fc' r0 K' Y' V' N' Lk H' D' P' F' R0 own' a (P p) e1 e2 e3 e4 (Or.inl rfl) (by omega))
  · refine bw_consolidate hR hp16 hfew (by omega) (fun fh1 fc1 r01 K1 Y1 V1 N1 Lk1 H1 D1 P1 F1 R01 own1 b1 b2 b3 b4 b5 b6 => ?_)
    dsimp only
    exact bw_prep16 b1 hp16 b5 (by omega) (by omega) hk (fun fh' fc' K' Y' V' N' H' D' P' F' own' a e1 e2 e3 e4 e5 => hp fh' fc' r01 K' Y' V' N' Lk1 H' D' P' F' R01 own' a (P1 p) e1 (bw_Kp_tr b2 e2) (fun x hx => (e3 x hx).trans (b3 x hx)) e4 (Or.inr b4) (by omega))
end bw_S07
end
section
/-! what a change of chains does to the tree -/
theorem bw_pr_app {k : Int} {B : List bw_Rc} : ∀ {A : List bw_Rc}, (∀ r, bw_pr k A = some r → bw_pr k (A ++ B) = some r) ∧ (bw_pr k A = none → bw_pr k (A ++ B) = bw_pr k B)
  | [] => ⟨fun r h => (by cases h), fun _ => rfl⟩
  | a :: l => by
    rw [List.cons_append]
    by_cases hd : bw_dec k a
    · rw [bw_pr_t hd, bw_pr_t hd]
      exact ⟨fun r h => h, fun h => by cases h⟩
    · rw [bw_pr_f hd, bw_pr_f hd]
      exact bw_pr_app
theorem bw_pr_ex {k : Int} : ∀ {L : List bw_Rc} {r : bw_Rc}, r ∈ L → bw_dec k r → ∃ s, bw_pr k L = some s
  | [], r, h, _ => by cases h
  | a :: l, r, h, hd => by
    by_cases hda : bw_dec k a
    · exact ⟨a, bw_pr_t hda⟩
    · rw [bw_pr_f hda]
      rcases List.mem_cons.mp h with e | h
      · subst e; exact absurd hd hda
      · exact bw_pr_ex h hd
theorem bw_S_con {S L : List bw_Rc} {low k : Int} (h : bw_Good S L low) (hk : low ≤ k) : bw_con S k = bw_con L k := by
  cases hc : bw_con L k with
  | none =>
    refine bw_con_n fun r hr h1 => ?_
    obtain ⟨e, hm, _⟩ := bw_vis_of hr h1
    have := (h.1 r hm).2.2
    rw [e, hc] at this
    cases this
  | some v =>
    obtain ⟨r, hr, e⟩ := h.2.1 k v hk hc
    obtain ⟨s, hs⟩ := bw_pr_ex (k := k) hr (Or.inr (Or.inl e.symm))
    have ms := (bw_pr_mem hs).1
    have h1 := (h.1 s ms).1
    obtain ⟨e', _, _⟩ := bw_vis_of hs h1
    have := (h.1 s ms).2.2
    rw [e', hc] at this
    rw [bw_con_s hs h1, this]
theorem bw_S_lo {S L : List bw_Rc} {low k : Int} (h : bw_Good S L low) (hk : k < low) : bw_con S k = none := by
  refine bw_con_n fun r hr h1 => ?_
  obtain ⟨e, hm, _⟩ := bw_vis_of hr h1
  have := (h.1 r hm).2.1
  omega
/-- keys of a good copy come from the chain -/
theorem bw_S_src {S L : List bw_Rc} {low : Int} (h : bw_Good S L low) {r : bw_Rc} (hr : r ∈ S) : ∃ s, s ∈ L ∧ bw_vis L s ∧ s.2.2.1 = r.2.2.1 := by
  obtain ⟨s, a, b, c, _⟩ := bw_con_vis (h.1 r hr).2.2
  exact ⟨s, a, b, c⟩
theorem bw_con_cons_n {L : List bw_Rc} {r : bw_Rc} {k : Int} (h : ¬ bw_dec k r) : bw_con (r :: L) k = bw_con L k := bw_con_pr (bw_pr_f h)
theorem bw_lo_none {L : List bw_Rc} {lo k : Int} (h : ∀ r, r ∈ L → lo ≤ r.2.2.1) (hk : k < lo) : bw_con L k = none := by
  cases hc : bw_con L k with
  | none => rfl
  | some v =>
    obtain ⟨r, hr, _, e, _⟩ := bw_con_vis hc
    have := h r hr
    omega
theorem bw_Cs_L {lo : Int} {L L' : List bw_Rc} (h : bw_LfL lo L) (hlo : -2147483648 ≤ lo) (hc : bw_Cs L L') : bw_LfL lo L' ∧ ∀ k, bw_con L' k = bw_con L k := by
  obtain ⟨W, S, rfl, hw, hg⟩ := hc
  have e : W = [] := by
    rcases hw with ⟨_, e⟩ | ⟨f, a, e, _⟩
    · exact e
    · rw [bw_LfL_ff h] at e
      cases e
  subst e
  rw [List.nil_append]
  refine ⟨fun r hr => ⟨?_, Or.inl (hg.1 r hr).1⟩, fun k => ?_⟩
  · obtain ⟨s, hs, _, e⟩ := bw_S_src hg hr
    rw [← e]
    exact (h s hs).1
  · rcases bw_lge k (-2147483648) with z | z
    · rw [bw_S_lo hg z, bw_lo_none (fun r hr => (h r hr).1) (by omega)]
    · exact bw_S_con hg z
theorem bw_nofence {k c : Int} {a : Nat} {v : Int32} (h : k < c) : ¬ bw_dec k (a, 3, c, v) := by
  rintro (e | e | ⟨_, e⟩)
  · exact absurd e (by show ¬ (3 : Int32) = 4; decide)
  · have : k = c := e
    omega
  · have : c < k := e
    omega
theorem bw_yesfence {k c : Int} {a : Nat} {v : Int32} (h : c ≤ k) : bw_dec k (a, 3, c, v) := by
  rcases bw_lge c k with z | z
  · exact Or.inr (Or.inr ⟨rfl, z⟩)
  · exact Or.inr (Or.inl (by show k = c; omega))
theorem bw_con_fence {k c : Int} {a : Nat} {v : Int32} {L : List bw_Rc} (h : c ≤ k) : bw_con ((a, 3, c, v) :: L) k = none := by
  refine bw_con_n fun r hr => ?_
  rw [bw_pr_t (bw_yesfence h)] at hr
  cases hr
  show (3 : Int32) ≠ 1
  decide
/-- a fence above a chain -/
theorem bw_LfM_mk {lo c : Int} {p a : Nat} {S : List bw_Rc} (h1 : lo < c) (hS : ∀ r, r ∈ S → lo ≤ r.2.2.1 ∧ (r.2.1 = 1 ∨ r.2.1 = 2 ∨ (r.2.1 = 3 ∧ c ≤ r.2.2.1))) : bw_LfM lo c p ((a, 3, c, nI p) :: S) := by
  refine ⟨h1, fun r hr => ?_, [], (a, 3, c, nI p), S, rfl, fun r hr => (by cases hr), rfl, rfl, rfl⟩
  rcases List.mem_cons.mp hr with e | hr
  · subst e
    exact ⟨by show lo ≤ c; omega, Or.inr (Or.inr ⟨rfl, Int.le_refl _⟩)⟩
  · exact hS r hr
theorem bw_Cs_M {lo c : Int} {p : Nat} {L L' : List bw_Rc} (h : bw_LfM lo c p L) (hlo : -2147483648 ≤ lo) (hc : bw_Cs L L') : bw_LfM lo c p L' ∧ ∀ k, bw_con L' k = bw_con L k := by
  obtain ⟨W, S, rfl, hw, hg⟩ := hc
  obtain ⟨f, f1, f2, f3, f4, f5⟩ := bw_LfM_ff h
  obtain ⟨a, e⟩ : ∃ a, W = [(a, 3, c, nI p)] := by
    rcases hw with ⟨e, _⟩ | ⟨f', a, e, e'⟩
    · rw [f1] at e
      cases e
    · rw [f1] at e
      cases e
      exact ⟨a, by rw [e', f4, f5]⟩
  subst e
  have hS : ∀ r, r ∈ S → lo ≤ r.2.2.1 := by
    intro r hr
    obtain ⟨s, hs, _, e⟩ := bw_S_src hg hr
    rw [← e]
    exact (h.2.1 s hs).1
  refine ⟨bw_LfM_mk h.1 fun r hr => ⟨hS r hr, Or.inl (hg.1 r hr).1⟩, fun k => ?_⟩
  rcases bw_lge k c with z | z
  · rw [List.singleton_append, bw_con_cons_n (bw_nofence z)]
    rcases bw_lge k (-2147483648) with w | w
    · rw [bw_S_lo hg w, bw_lo_none (fun r hr => (h.2.1 r hr).1) (by omega)]
    · exact bw_S_con hg w
  · rw [List.singleton_append, bw_con_fence z, bw_LfM_con h z]
section bw_S08
variable {P P' : Nat → List bw_Rc} {lf : Nat → Prop} {b : Nat → Int} {mq : Option Nat} {mK : Int} {M : Int → Option Int32}
/-- a chain with the same meaning -/
def bw_Sm (lo : Int) (L L' : List bw_Rc) : Prop := (bw_LfL lo L → bw_LfL lo L') ∧ (∀ c q, bw_LfM lo c q L → bw_LfM lo c q L')
theorem bw_Sm_of {lo : Int} {L L' : List bw_Rc} (hlo : -2147483648 ≤ lo) (h : L' = L ∨ bw_Cs L L') : bw_Sm lo L L' := by
  rcases h with e | h
  · subst e; exact ⟨id, fun _ _ => id⟩
  · exact ⟨fun a => (bw_Cs_L a hlo h).1, fun c q a => (bw_Cs_M a hlo h).1⟩
theorem bw_Nx_same {p : Nat} {L' : List bw_Rc} (h : bw_Nx P lf b p) (hlo : -2147483648 ≤ b p) (hc : L' = P p ∨ bw_Cs (P p) L') (hP : P' p = L') : bw_Nx P' lf b p ∧ ∀ k, bw_con L' k = bw_con (P p) k := by
  subst hP
  rcases hc with e | hc
  · unfold bw_Nx
    rw [e]
    exact ⟨h, fun _ => rfl⟩
  · rcases h with ⟨h1, h2⟩ | ⟨q, h1, h2, h3⟩
    · exact ⟨Or.inl ⟨(bw_Cs_L h1 hlo hc).1, h2⟩, (bw_Cs_L h1 hlo hc).2⟩
    · exact ⟨Or.inr ⟨q, h1, h2, (bw_Cs_M h3 hlo hc).1⟩, (bw_Cs_M h3 hlo hc).2⟩
theorem bw_Nx_ag {p : Nat} (h : bw_Nx P lf b p) (hP : P' p = P p) : bw_Nx P' lf b p := by
  unfold bw_Nx
  rw [hP]
  exact h
theorem bw_T_same (hT : bw_Tree P lf b mq mK M) {p : Nat} (hag : bw_ag p P P') (hc : P' p = P p ∨ bw_Cs (P p) (P' p)) (hp : p = 0 ∨ lf p) : bw_Tree P' lf b mq mK M := by
  obtain ⟨t1, t2, t3, t4, t5, t6, t7, t8, t9⟩ := hT
  have h0 : bw_LfL (-2147483648) (P' 0) ∧ ∀ k, bw_con (P' 0) k = bw_con (P 0) k := by
    by_cases e : p = 0
    · subst e
      rcases hc with e | hc
      · rw [e]; exact ⟨t6, fun _ => rfl⟩
      · exact bw_Cs_L t6 (by omega) hc
    · rw [hag 0 (Ne.symm e)]
      exact ⟨t6, fun _ => rfl⟩
  refine ⟨t1, t2, t3, fun q hq => ?_, fun q k hq h1 h2 => ?_, h0.1, by rw [h0.2]; exact t7, fun k v h => t8 k v (by rw [← h0.2]; exact h), fun q hq => ?_⟩
  · by_cases e : q = p
    · subst e
      exact (bw_Nx_same (t4 q hq) (t2 q hq).2.2 hc rfl).1
    · exact bw_Nx_ag (t4 q hq) (hag q e)
  · by_cases e : q = p
    · subst e
      rw [(bw_Nx_same (P' := P') (t4 q hq) (t2 q hq).2.2 hc rfl).2]
      exact t5 q k hq h1 h2
    · rw [hag q e]
      exact t5 q k hq h1 h2
  · obtain ⟨a1, a2, a3, r, t, a4, a5⟩ := t9 q hq
    have e : q ≠ p := by
      intro e
      subst e
      rcases hp with e | e
      · omega
      · exact a3 e
    exact ⟨a1, a2, a3, r, t, by rw [hag q e]; exact a4, a5⟩
theorem bw_T_put (hT : bw_Tree P lf b mq mK M) {p a : Nat} {kd v : Int32} {key : Int} {M' : Int → Option Int32} (hl : bw_lfor lf b key p) (hag : bw_ag p P P') (hP : P' p = (a, kd, key, v) :: P p) (hkd : kd = 1 ∨ kd = 2) (hM : ∀ k, k ≠ key → M' k = M k) (hM1 : kd = 1 → M' key = some v) (hM2 : kd = 2 → M' key = none) : bw_Tree P' lf b mq mK M' := by
  obtain ⟨t1, t2, t3, t4, t5, t6, t7, t8, t9⟩ := hT
  obtain ⟨l1, l2, l3⟩ := hl
  have hp := t2 p l1
  have h0 : P' 0 = P 0 := hag 0 (by omega)
  refine ⟨t1, t2, t3, fun q hq => ?_, fun q k hq h1 h2 => ?_, by rw [h0]; exact t6, by rw [h0]; exact t7, by rw [h0]; exact t8, fun q hq => ?_⟩
  · by_cases e : q = p
    · subst e
      unfold bw_Nx
      rw [hP]
      rcases t4 q hq with ⟨g1, g2⟩ | ⟨s, g1, g2, g3⟩
      · refine Or.inl ⟨fun r hr => ?_, g2⟩
        rcases List.mem_cons.mp hr with e | hr
        · subst e; exact ⟨l2, hkd⟩
        · exact g1 r hr
      · have hlt : key < b s := by
          rcases bw_lge key (b s) with z | z
          · exact z
          · have := l3 s g1 z
            have := g3.1
            omega
        obtain ⟨c1, c2, DD, f, R, c3, c4, c5⟩ := g3
        refine Or.inr ⟨s, g1, g2, c1, fun r hr => ?_, (a, kd, key, v) :: DD, f, R, by rw [c3]; rfl, fun r hr => ?_, c5⟩
        · rcases List.mem_cons.mp hr with e | hr
          · subst e
            refine ⟨l2, ?_⟩
            rcases hkd with e | e
            · exact Or.inl e
            · exact Or.inr (Or.inl e)
          · exact c2 r hr
        · rcases List.mem_cons.mp hr with e | hr
          · subst e
            exact ⟨(bw_k12 hkd).1, hlt⟩
          · exact c4 r hr
    · exact bw_Nx_ag (t4 q hq) (hag q e)
  · by_cases e : q = p
    · subst e
      rw [hP]
      by_cases ek : k = key
      · subst ek
        have hd : bw_dec k (a, kd, k, v) := Or.inr (Or.inl rfl)
        rcases hkd with e1 | e1
        · rw [hM1 e1]
          exact bw_con_s (bw_pr_t hd) e1
        · rw [hM2 e1]
          refine bw_con_n fun r hr => ?_
          rw [bw_pr_t hd] at hr
          cases hr
          show kd ≠ 1
          rw [e1]
          decide
      · rw [hM k ek, bw_con_cons_n]
        · exact t5 q k hq h1 h2
        · rintro (z | z | ⟨z, _⟩)
          · exact (bw_k12 hkd).2.1 z
          · exact ek z
          · exact (bw_k12 hkd).1 z
    · rw [hag q e, hM k]
      · exact t5 q k hq h1 h2
      · intro ek
        subst ek
        have a1 := h2 p l1 l2
        have a2 := l3 q hq h1
        exact e (t3 q p hq l1 (by omega))
  · obtain ⟨a1, a2, a3, r, t, a4, a5⟩ := t9 q hq
    have e : q ≠ p := fun e => a3 (by rw [e]; exact l1)
    exact ⟨a1, a2, a3, r, t, by rw [hag q e]; exact a4, a5⟩
/-- a new entry of the index page -/
theorem bw_T_idx (hT : bw_Tree P lf b mq mK M) {q a : Nat} (hq : lf q) (hag : bw_ag 0 P P') (hP : P' 0 = (a, 1, b q, nI q) :: P 0) : bw_Tree P' lf b mq mK M := by
  obtain ⟨t1, t2, t3, t4, t5, t6, t7, t8, t9⟩ := hT
  have hn : ∀ p, lf p → P' p = P p := fun p hp => hag p (by have := (t2 p hp).1; omega)
  have hy : bw_con (P' 0) (b q) = some (nI q) := by
    rw [hP]
    exact bw_con_s (r := (a, 1, b q, nI q)) (bw_pr_t (Or.inr (Or.inl rfl))) rfl
  have hz : ∀ k, k ≠ b q → bw_con (P' 0) k = bw_con (P 0) k := by
    intro k hk
    rw [hP]
    refine bw_con_cons_n ?_
    rintro (z | z | ⟨z, _⟩)
    · exact absurd z (by show ¬ (1 : Int32) = 4; decide)
    · exact hk z
    · exact absurd z (by show ¬ (1 : Int32) = 3; decide)
  refine ⟨t1, t2, t3, fun p hp => bw_Nx_ag (t4 p hp) (hn p hp), fun p k hp h1 h2 => by rw [hn p hp]; exact t5 p k hp h1 h2, ?_, ?_, ?_, fun s hs => ?_⟩
  · intro r hr
    rw [hP] at hr
    rcases List.mem_cons.mp hr with e | hr
    · subst e; exact ⟨(t2 q hq).2.2, Or.inl rfl⟩
    · exact t6 r hr
  · by_cases e : (-2147483648 : Int) = b q
    · rw [e, hy, t3 q 1 hq t1.1 (by rw [← e]; exact t1.2.symm)]
    · rw [hz _ e]
      exact t7
  · intro k v h
    by_cases e : k = b q
    · subst e
      rw [hy] at h
      exact ⟨q, (Option.some.inj h).symm, Or.inl ⟨hq, rfl⟩⟩
    · rw [hz _ e] at h
      exact t8 k v h
  · obtain ⟨a1, a2, a3, r, t, a4, a5⟩ := t9 s hs
    exact ⟨a1, a2, a3, r, t, by rw [hag s (by omega)]; exact a4, a5⟩
/-- the merged leaf is out of the index: its page is free -/
theorem bw_T_fin {q : Nat} (hT : bw_Tree P lf b (some q) mK M) (hag : ∀ x, x ≠ 0 → x ≠ q → P' x = P x) (h0 : bw_LfL (-2147483648) (P' 0)) (hz : ∀ k, k ≠ mK → bw_con (P' 0) k = bw_con (P 0) k) (hm : ∀ v, bw_con (P' 0) mK = some v → v ≠ nI q ∧ bw_con (P 0) mK = some v) (mK' : Int) : bw_Tree P' lf b none mK' M := by
  obtain ⟨t1, t2, t3, t4, t5, t6, t7, t8, t9⟩ := hT
  obtain ⟨a1, a2, a3, r, t, a4, a5, a6, a7, a8⟩ := t9 q rfl
  have hn : ∀ p, lf p → P' p = P p := fun p hp => hag p (by have := (t2 p hp).1; omega) (fun e => a3 (by rw [← e]; exact hp))
  refine ⟨t1, t2, t3, fun p hp => bw_Nx_ag (t4 p hp) (hn p hp), fun p k hp h1 h2 => by rw [hn p hp]; exact t5 p k hp h1 h2, h0, ?_, ?_, fun s hs => by cases hs⟩
  · rw [hz _ (by have := (t2 t a7).2.2; omega)]
    exact t7
  · intro k v h
    by_cases e : k = mK
    · subst e
      obtain ⟨h1, h2⟩ := hm v h
      obtain ⟨s, e1, hs⟩ := t8 k v h2
      refine ⟨s, e1, ?_⟩
      rcases hs with hs | ⟨hs, _⟩
      · exact Or.inl hs
      · cases hs
        exact absurd e1 h1
    · rw [hz _ e] at h
      obtain ⟨s, e1, hs⟩ := t8 k v h
      refine ⟨s, e1, ?_⟩
      rcases hs with hs | ⟨_, hs⟩
      · exact Or.inl hs
      · exact absurd hs e
end bw_S08
end
section
/-! split and merge of leaves -/
section bw_S09
variable {P P' : Nat → List bw_Rc} {lf : Nat → Prop} {b : Nat → Int} {mK : Int} {M : Int → Option Int32}
theorem bw_T_split (hT : bw_Tree P lf b none mK M) {p q a : Nat} {c : Int} {W S L' : List bw_Rc} (hp : lf p) (hq1 : 1 ≤ q) (hq2 : q < 16) (hq3 : ¬ lf q) (hc1 : b p < c) (hc2 : ∀ s, lf s → b s ≤ c → b s ≤ b p)
    (hag : ∀ x, x ≠ p → x ≠ q → P' x = P x) (hPq : P' q = W ++ S) (hW : bw_fcp (bw_ff (P p)) W) (hS : bw_Good S (P p) c) (hL : L' = P p ∨ bw_Cs (P p) L') (hPp : P' p = (a, 3, c, nI q) :: L') :
    bw_Tree P' (fun x => lf x ∨ x = q) (bw_up b q c) none mK M := by
  obtain ⟨t1, t2, t3, t4, t5, t6, t7, t8, t9⟩ := hT
  have hpq : p ≠ q := fun e => hq3 (by rw [← e]; exact hp)
  have bn : ∀ x, lf x → bw_up b q c x = b x := fun x hx => bw_up_n fun e => hq3 (by rw [← e]; exact hx)
  have bq : bw_up b q c q = c := bw_up_s
  have hp1 := t2 p hp
  have h0 : P' 0 = P 0 := hag 0 (by omega) (by omega)
  have hL' := bw_Nx_same (P' := bw_up P p L') (t4 p hp) hp1.2.2 hL bw_up_s
  have hgt : ∀ x, lf x → x ≠ p → b p ≤ b x → c < b x := by
    intro x hx hxp hle
    have ne : b p ≠ b x := fun e => hxp (t3 x p hx hp e.symm)
    rcases bw_lge c (b x) with z | z
    · exact z
    · have := hc2 x hx z
      omega
  refine ⟨⟨Or.inl t1.1, by rw [bn 1 t1.1]; exact t1.2⟩, ?_, ?_, ?_, ?_, by rw [h0]; exact t6, by rw [h0]; exact t7, ?_, fun s hs => by cases hs⟩
  · rintro x (hx | hx)
    · rw [bn x hx]; exact t2 x hx
    · subst hx
      rw [bq]
      exact ⟨hq1, hq2, by omega⟩
  · rintro x y (hx | hx) (hy | hy) e
    · rw [bn x hx, bn y hy] at e
      exact t3 x y hx hy e
    · subst hy
      rw [bn x hx, bq] at e
      have := hc2 x hx (by omega)
      omega
    · subst hx
      rw [bn y hy, bq] at e
      have := hc2 y hy (by omega)
      omega
    · rw [hx, hy]
  · rintro x (hx | hx)
    · by_cases e : x = p
      · subst e
        refine Or.inr ⟨q, Or.inr rfl, ?_, ?_⟩
        · rintro r (hr | hr)
          · rw [bn r hr, bn x hx, bq]
            rcases bw_lge c (b r) with z | z
            · exact Or.inr (by omega)
            · exact Or.inl (hc2 r hr z)
          · subst hr
            rw [bq]
            exact Or.inr (Int.le_refl _)
        · rw [bn x hx, bq, hPp]
          refine bw_LfM_mk hc1 fun r hr => ?_
          rcases hL'.1 with ⟨g1, g2⟩ | ⟨s, g1, g2, g3⟩
          · rw [bw_up_s] at g1
            refine ⟨(g1 r hr).1, ?_⟩
            rcases (g1 r hr).2 with z | z
            · exact Or.inl z
            · exact Or.inr (Or.inl z)
          · rw [bw_up_s] at g3
            obtain ⟨w1, w2⟩ := g3.2.1 r hr
            refine ⟨w1, ?_⟩
            rcases w2 with z | z | ⟨z, z'⟩
            · exact Or.inl z
            · exact Or.inr (Or.inl z)
            · refine Or.inr (Or.inr ⟨z, ?_⟩)
              have sp : s ≠ x := fun e => by have := g3.1; rw [e] at this; omega
              have := hgt s g1 sp (by have := g3.1; omega)
              omega
      · have xq : x ≠ q := fun e => hq3 (by rw [← e]; exact hx)
        unfold bw_Nx
        rw [hag x e xq, bn x hx]
        rcases t4 x hx with ⟨g1, g2⟩ | ⟨s, g1, g2, g3⟩
        · refine Or.inl ⟨g1, ?_⟩
          rintro r (hr | hr)
          · rw [bn r hr]; exact g2 r hr
          · subst hr
            rw [bq]
            have := hgt x hx e (g2 p hp)
            omega
        · refine Or.inr ⟨s, Or.inl g1, ?_, by rw [bn s g1]; exact g3⟩
          rintro r (hr | hr)
          · rw [bn r hr, bn s g1]; exact g2 r hr
          · subst hr
            rw [bq, bn s g1]
            rcases g2 p hp with z | z
            · have := hgt x hx e z
              exact Or.inl (by omega)
            · exact Or.inr (by omega)
    · subst hx
      unfold bw_Nx
      rw [bq, hPq]
      have hS1 : ∀ r, r ∈ S → c ≤ r.2.2.1 ∧ r.2.1 = 1 := fun r hr => ⟨(hS.1 r hr).2.1, (hS.1 r hr).1⟩
      rcases t4 p hp with ⟨g1, g2⟩ | ⟨s, g1, g2, g3⟩
      · have eW : W = [] := by
          rcases hW with ⟨_, e⟩ | ⟨f, a, e, _⟩
          · exact e
          · rw [bw_LfL_ff g1] at e
            cases e
        subst eW
        refine Or.inl ⟨fun r hr => ⟨(hS1 r hr).1, Or.inl (hS1 r hr).2⟩, ?_⟩
        rintro r (hr | hr)
        · rw [bn r hr]
          have := g2 r hr
          omega
        · subst hr
          rw [bq]
          exact Int.le_refl _
      · obtain ⟨f, f1, f2, f3, f4, f5⟩ := bw_LfM_ff g3
        obtain ⟨a', eW⟩ : ∃ a, W = [(a, 3, b s, nI s)] := by
          rcases hW with ⟨e, _⟩ | ⟨f', a, e, e'⟩
          · rw [f1] at e
            cases e
          · rw [f1] at e
            cases e
            exact ⟨a, by rw [e', f4, f5]⟩
        subst eW
        have sp : s ≠ p := fun e => by have := g3.1; rw [e] at this; omega
        have hcs := hgt s g1 sp (by have := g3.1; omega)
        refine Or.inr ⟨s, Or.inl g1, ?_, ?_⟩
        · rintro r (hr | hr)
          · rw [bn r hr, bn s g1]
            rcases g2 r hr with z | z
            · exact Or.inl (by omega)
            · exact Or.inr z
          · subst hr
            rw [bq]
            exact Or.inl (Int.le_refl _)
        · rw [bn s g1, List.singleton_append]
          exact bw_LfM_mk hcs fun r hr => ⟨(hS1 r hr).1, Or.inl (hS1 r hr).2⟩
  · rintro x k (hx | hx) h1 h2
    · by_cases e : x = p
      · subst e
        rw [bn x hx] at h1
        have hk : k < c := by
          rcases bw_lge k c with z | z
          · exact z
          · have := h2 q (Or.inr rfl) (by rw [bq]; exact z)
            rw [bq, bn x hx] at this
            omega
        rw [hPp, bw_con_cons_n (bw_nofence hk), hL'.2]
        refine t5 x k hx h1 fun r hr hle => ?_
        have := h2 r (Or.inl hr) (by rw [bn r hr]; exact hle)
        rw [bn r hr, bn x hx] at this
        exact this
      · have xq : x ≠ q := fun e => hq3 (by rw [← e]; exact hx)
        rw [hag x e xq]
        rw [bn x hx] at h1
        refine t5 x k hx h1 fun r hr hle => ?_
        have := h2 r (Or.inl hr) (by rw [bn r hr]; exact hle)
        rw [bn r hr, bn x hx] at this
        exact this
    · subst hx
      rw [bq] at h1
      have hmax : ∀ r, lf r → b r ≤ k → b r ≤ b p := by
        intro r hr hle
        have := h2 r (Or.inl hr) (by rw [bn r hr]; exact hle)
        rw [bn r hr, bq] at this
        exact hc2 r hr this
      have e1 : bw_con (P' x) k = bw_con S k := by
        rw [hPq]
        rcases hW with ⟨_, e⟩ | ⟨f, a', e, e'⟩
        · subst e
          rfl
        · rw [e', List.singleton_append, bw_con_cons_n (bw_nofence ?_)]
          rcases t4 p hp with ⟨g1, g2⟩ | ⟨s, g1, g2, g3⟩
          · rw [bw_LfL_ff g1] at e
            cases e
          · obtain ⟨f', f1, f2, f3, f4, f5⟩ := bw_LfM_ff g3
            rw [f1] at e
            cases e
            rw [f4]
            rcases bw_lge k (b s) with z | z
            · exact z
            · have := hmax s g1 z
              have := g3.1
              omega
      rw [e1, bw_S_con hS h1]
      exact t5 p k hp (by omega) hmax
  · intro k v h
    rw [h0] at h
    obtain ⟨s, e1, hs⟩ := t8 k v h
    refine ⟨s, e1, ?_⟩
    rcases hs with ⟨hs, hb⟩ | ⟨hs, _⟩
    · exact Or.inl ⟨Or.inl hs, by rw [bn s hs]; exact hb⟩
    · cases hs
theorem bw_T_merge (hT : bw_Tree P lf b none mK M) {p q a : Nat} {y : Int} {W S1 S2 : List bw_Rc} (hp : lf p) (hq : lf q) (hnx : ∀ r, lf r → b r ≤ b p ∨ b q ≤ b r) (hpm : bw_LfM (b p) (b q) q (P p))
    (hag : ∀ x, x ≠ p → x ≠ q → P' x = P x) (hPp : P' p = W ++ (S1 ++ S2)) (hW : bw_fcp (bw_ff (P q)) W) (hS1 : bw_Good S1 (P p) (-2147483648)) (hS2 : bw_Good S2 (P q) (-2147483648)) (hPq : P' q = [(a, 4, y, nI p)]) :
    bw_Tree P' (fun x => lf x ∧ x ≠ q) b (some q) (b q) M := by
  obtain ⟨t1, t2, t3, t4, t5, t6, t7, t8, t9⟩ := hT
  have hlt := hpm.1
  have hpq : p ≠ q := fun e => by rw [e] at hlt; omega
  have hp1 := t2 p hp
  have hq1 := t2 q hq
  have h0 : P' 0 = P 0 := hag 0 (by omega) (by omega)
  have q1 : (1 : Nat) ≠ q := fun e => by have := t1.2; rw [e] at this; omega
  have k1 : ∀ r, r ∈ S1 → b p ≤ r.2.2.1 ∧ r.2.2.1 < b q ∧ r.2.1 = 1 := by
    intro r hr
    obtain ⟨s, s1, s2, s3⟩ := bw_S_src hS1 hr
    obtain ⟨g1, g2⟩ := bw_T_rng (t4 p hp) s1 s2
    refine ⟨by omega, ?_, (hS1.1 r hr).1⟩
    rcases bw_lge r.2.2.1 (b q) with z | z
    · exact z
    · have := g2 q hq (by omega)
      omega
  have k2 : ∀ r, r ∈ S2 → b q ≤ r.2.2.1 ∧ r.2.1 = 1 := by
    intro r hr
    obtain ⟨s, s1, s2, s3⟩ := bw_S_src hS2 hr
    obtain ⟨g1, g2⟩ := bw_T_rng (t4 q hq) s1 s2
    exact ⟨by omega, (hS2.1 r hr).1⟩
  have k12 : ∀ r, r ∈ S1 ++ S2 → b p ≤ r.2.2.1 ∧ r.2.1 = 1 := by
    intro r hr
    rcases List.mem_append.mp hr with hr | hr
    · exact ⟨(k1 r hr).1, (k1 r hr).2.2⟩
    · exact ⟨by have := (k2 r hr).1; omega, (k2 r hr).2⟩
  have con1 : ∀ k, k < b q → bw_con (S1 ++ S2) k = bw_con S1 k := by
    intro k hk
    cases hc : bw_pr k S1 with
    | some r => exact bw_con_pr ((bw_pr_app.1 r hc).trans hc.symm)
    | none =>
      refine bw_con_pr ((bw_pr_app.2 hc).trans ((bw_pr_none fun r hr => ?_).trans hc.symm))
      have := k2 r hr
      rintro (z | z | ⟨z, _⟩)
      · rw [this.2] at z; exact absurd z (by decide)
      · omega
      · rw [this.2] at z; exact absurd z (by decide)
  have con2 : ∀ k, b q ≤ k → bw_con (S1 ++ S2) k = bw_con S2 k := by
    intro k hk
    refine bw_con_pr (bw_pr_skip fun r hr => ?_)
    have := k1 r hr
    rintro (z | z | ⟨z, _⟩)
    · rw [this.2.2] at z; exact absurd z (by decide)
    · omega
    · rw [this.2.2] at z; exact absurd z (by decide)
  refine ⟨⟨⟨t1.1, q1⟩, t1.2⟩, fun x hx => t2 x hx.1, fun x y hx hy e => t3 x y hx.1 hy.1 e, ?_, ?_, by rw [h0]; exact t6, by rw [h0]; exact t7, ?_, ?_⟩
  · rintro x ⟨hx, xq⟩
    by_cases e : x = p
    · subst e
      unfold bw_Nx
      rw [hPp]
      rcases t4 q hq with ⟨g1, g2⟩ | ⟨s, g1, g2, g3⟩
      · have eW : W = [] := by
          rcases hW with ⟨_, e⟩ | ⟨f, a, e, _⟩
          · exact e
          · rw [bw_LfL_ff g1] at e
            cases e
        subst eW
        refine Or.inl ⟨fun r hr => ⟨(k12 r hr).1, Or.inl (k12 r hr).2⟩, fun r hr => ?_⟩
        rcases hnx r hr.1 with z | z
        · exact z
        · have := g2 r hr.1
          exact absurd (t3 r q hr.1 hq (by omega)) hr.2
      · obtain ⟨f, f1, f2, f3, f4, f5⟩ := bw_LfM_ff g3
        obtain ⟨a', eW⟩ : ∃ a, W = [(a, 3, b s, nI s)] := by
          rcases hW with ⟨e, _⟩ | ⟨f', a, e, e'⟩
          · rw [f1] at e
            cases e
          · rw [f1] at e
            cases e
            exact ⟨a, by rw [e', f4, f5]⟩
        subst eW
        have sq : s ≠ q := fun e => by have := g3.1; rw [e] at this; omega
        refine Or.inr ⟨s, ⟨g1, sq⟩, fun r hr => ?_, ?_⟩
        · rcases hnx r hr.1 with z | z
          · exact Or.inl z
          · rcases g2 r hr.1 with w | w
            · exact absurd (t3 r q hr.1 hq (by omega)) hr.2
            · exact Or.inr w
        · rw [List.singleton_append]
          exact bw_LfM_mk (by have := g3.1; omega) fun r hr => ⟨(k12 r hr).1, Or.inl (k12 r hr).2⟩
    · unfold bw_Nx
      rw [hag x e xq]
      rcases t4 x hx with ⟨g1, g2⟩ | ⟨s, g1, g2, g3⟩
      · exact Or.inl ⟨g1, fun r hr => g2 r hr.1⟩
      · have sq : s ≠ q := by
          intro es
          subst es
          have a1 := g3.1
          have a2 : b p ≤ b x := by
            rcases g2 p hp with z | z
            · exact z
            · omega
          have a3 : b x ≤ b p := by
            rcases hnx x hx with z | z
            · exact z
            · omega
          exact e (t3 x p hx hp (by omega))
        exact Or.inr ⟨s, ⟨g1, sq⟩, fun r hr => g2 r hr.1, g3⟩
  · rintro x k ⟨hx, xq⟩ h1 h2
    by_cases e : x = p
    · subst e
      have hs : ∀ s, lf s → s ≠ q → b x < b s → k < b s := by
        intro s hs hsq hlt
        rcases bw_lge k (b s) with z | z
        · exact z
        · have := h2 s ⟨hs, hsq⟩ z
          omega
      have e1 : bw_con (P' x) k = bw_con (S1 ++ S2) k := by
        rw [hPp]
        rcases hW with ⟨_, e⟩ | ⟨f, a', e, e'⟩
        · subst e
          rfl
        · rw [e', List.singleton_append, bw_con_cons_n (bw_nofence ?_)]
          rcases t4 q hq with ⟨g1, g2⟩ | ⟨s, g1, g2, g3⟩
          · rw [bw_LfL_ff g1] at e
            cases e
          · obtain ⟨f', f1, f2, f3, f4, f5⟩ := bw_LfM_ff g3
            rw [f1] at e
            cases e
            rw [f4]
            have a1 := g3.1
            exact hs s g1 (fun e => by rw [e] at a1; omega) (by omega)
      rw [e1]
      rcases bw_lge k (b q) with z | z
      · rw [con1 k z, bw_S_con hS1 (by omega)]
        refine t5 x k hx h1 fun r hr hle => ?_
        by_cases er : r = q
        · subst er
          omega
        · exact h2 r ⟨hr, er⟩ hle
      · rw [con2 k z, bw_S_con hS2 (by omega)]
        refine t5 q k hq z fun r hr hle => ?_
        by_cases er : r = q
        · subst er
          exact Int.le_refl _
        · have := h2 r ⟨hr, er⟩ hle
          omega
    · rw [hag x e xq]
      refine t5 x k hx h1 fun r hr hle => ?_
      by_cases er : r = q
      · subst er
        have a1 := h2 p ⟨hp, hpq⟩ (by omega)
        rcases hnx x hx with z | z
        · exact absurd (t3 x p hx hp (by omega)) e
        · exact z
      · exact h2 r ⟨hr, er⟩ hle
  · intro k v h
    rw [h0] at h
    obtain ⟨s, e1, hs⟩ := t8 k v h
    refine ⟨s, e1, ?_⟩
    rcases hs with ⟨hs, hb⟩ | ⟨hs, _⟩
    · by_cases es : s = q
      · subst es
        exact Or.inr ⟨rfl, hb.symm⟩
      · exact Or.inl ⟨⟨hs, es⟩, hb⟩
    · cases hs
  · intro s hs
    cases hs
    exact ⟨hq1.1, hq1.2.1, fun z => z.2 rfl, _, p, hPq, rfl, rfl, ⟨hp, hpq⟩, hlt⟩
/-! counting -/
theorem bw_pigeon : ∀ (n : Nat) (ks : List Int) (R : Int → Nat → Prop), ks.Nodup → (∀ k, k ∈ ks → ∃ q, q < n ∧ R k q) → (∀ k k' q, R k q → R k' q → k = k') → ks.length ≤ n
  | 0, ks, R, _, h, _ => by
    cases ks with
    | nil => exact Nat.le_refl _
    | cons k l =>
      obtain ⟨q, hq, _⟩ := h k List.mem_cons_self
      omega
  | n + 1, ks, R, hn, h, hi => by
    rcases Classical.em (∃ k, k ∈ ks ∧ R k n) with ⟨k, hk, hr⟩ | hno
    · have := bw_pigeon n (ks.erase k) R (hn.erase k) (fun k' hk' => by
        obtain ⟨ne, hm⟩ := (hn.mem_erase_iff).mp hk'
        obtain ⟨q, hq, hq'⟩ := h k' hm
        refine ⟨q, ?_, hq'⟩
        rcases Nat.lt_or_ge q n with z | z
        · exact z
        · have e : q = n := by omega
          subst e
          exact absurd (hi k' k q hq' hr) ne) hi
      rw [List.length_erase_of_mem hk] at this
      omega
    · have := bw_pigeon n ks R hn (fun k hk => by
        obtain ⟨q, hq, hq'⟩ := h k hk
        refine ⟨q, ?_, hq'⟩
        rcases Nat.lt_or_ge q n with z | z
        · exact z
        · have e : q = n := by omega
          subst e
          exact absurd ⟨k, hk, hq'⟩ hno) hi
      omega
theorem bw_pw_nodup {ks : List Int} (h : ks.Pairwise (· < ·)) : ks.Nodup := h.imp fun {a b} hab e => by omega
theorem bw_few_root {mq : Option Nat} (hT : bw_Tree P lf b mq mK M) : bw_few (P 0) 32 := by
  obtain ⟨t1, t2, t3, t4, t5, t6, t7, t8, t9⟩ := hT
  intro ks h1 h2
  refine Nat.le_trans (bw_pigeon 16 ks (fun k q => (lf q ∧ b q = k) ∨ (mq = some q ∧ k = mK)) (bw_pw_nodup h1) (fun k hk => ?_) ?_) (by omega)
  · cases hc : bw_con (P 0) k with
    | none => exact absurd hc (h2 k hk)
    | some v =>
      obtain ⟨q, _, hq⟩ := t8 k v hc
      refine ⟨q, ?_, hq⟩
      rcases hq with ⟨hq, _⟩ | ⟨hq, _⟩
      · exact (t2 q hq).2.1
      · exact (t9 q hq).2.1
  · rintro k k' q (⟨a1, a2⟩ | ⟨a1, a2⟩) (⟨b1, b2⟩ | ⟨b1, b2⟩)
    · omega
    · exact absurd a1 (t9 q b1).2.2.1
    · exact absurd b1 (t9 q a1).2.2.1
    · omega
def bw_fewM (M : Int → Option Int32) : Prop := ∀ ks : List Int, ks.Pairwise (· < ·) → (∀ k, k ∈ ks → M k ≠ none) → ks.length ≤ 32
theorem bw_few_leaf {mq : Option Nat} (hT : bw_Tree P lf b mq mK M) (hM : bw_fewM M) {p : Nat} (hp : lf p) : bw_few (P p) 32 := by
  obtain ⟨t1, t2, t3, t4, t5, t6, t7, t8, t9⟩ := hT
  intro ks h1 h2
  refine hM ks h1 fun k hk => ?_
  cases hc : bw_con (P p) k with
  | none => exact absurd hc (h2 k hk)
  | some v =>
    obtain ⟨r, hr, hv, e, _⟩ := bw_con_vis hc
    obtain ⟨g1, g2⟩ := bw_T_rng (t4 p hp) hr hv
    rw [e] at g1 g2
    rw [← t5 p k hp g1 g2, hc]
    exact fun z => by cases z
end bw_S09
end
section
/-! the units of upkeep -/
theorem bw_bo0 : vp_nar .boolean 0 = 0 := rfl
theorem bw_bo1 : vp_nar .boolean 1 = 1 := rfl
def bw_Mp (mp mk : Int32) (mq : Option Nat) (mK : Int) : Prop := (mq = none ∧ mp = -1) ∨ ∃ q, mq = some q ∧ mp = nI q ∧ mk.toInt = mK
def bw_Us (U : Nat → Int32) (P : Nat → List bw_Rc) (lf : Nat → Prop) (mq : Option Nat) : Prop :=
  ∀ p, p < 16 → (U p = 1 ∧ (p = 0 ∨ lf p ∨ mq = some p)) ∨ (U p = 0 ∧ P p = [] ∧ p ≠ 0 ∧ ¬ lf p ∧ mq ≠ some p)
/-- the live part of the component's state, n nodes free -/
def bw_LE (fh fc r0 r1 mp mk : Int32) (K Y V N Lk H D U : Nat → Int32) (R1 : List Nat) (own : Nat → Nat) (n : Nat) (M : Int → Option Int32) : Prop :=
  ∃ P F R0 lf b mq mK, bw_Rs fh fc r0 r1 K Y V N Lk H D P F R0 R1 own ∧ bw_Tree P lf b mq mK M ∧ bw_Mp mp mk mq mK ∧ bw_Us U P lf mq ∧ F.length = n
theorem bw_T_erase {P P' : Nat → List bw_Rc} {lf : Nat → Prop} {b : Nat → Int} {mK : Int} {M : Int → Option Int32} {q a : Nat} {v : Int32} (hT : bw_Tree P lf b (some q) mK M) (hlo : -2147483648 ≤ mK) (hag : bw_ag 0 P P') (hP : P' 0 = (a, 2, mK, v) :: P 0) : bw_Tree P' lf b (some q) mK M ∧ bw_con (P' 0) mK = none := by
  obtain ⟨t1, t2, t3, t4, t5, t6, t7, t8, t9⟩ := hT
  have hn : ∀ p, lf p → P' p = P p := fun p hp => hag p (by have := (t2 p hp).1; omega)
  have hy : bw_con (P' 0) mK = none := by
    rw [hP]
    refine bw_con_n fun r hr => ?_
    rw [bw_pr_t (r := (a, 2, mK, v)) (Or.inr (Or.inl rfl))] at hr
    cases hr
    show (2 : Int32) ≠ 1
    decide
  have hz : ∀ k, k ≠ mK → bw_con (P' 0) k = bw_con (P 0) k := by
    intro k hk
    rw [hP]
    refine bw_con_cons_n ?_
    rintro (z | z | ⟨z, _⟩)
    · exact absurd z (by show ¬ (2 : Int32) = 4; decide)
    · exact hk z
    · exact absurd z (by show ¬ (2 : Int32) = 3; decide)
  obtain ⟨a1, a2, a3, r, t, a4, a5, a6, a7, a8⟩ := t9 q rfl
  refine ⟨⟨t1, t2, t3, fun p hp => bw_Nx_ag (t4 p hp) (hn p hp), fun p k hp h1 h2 => by rw [hn p hp]; exact t5 p k hp h1 h2, ?_, ?_, ?_, fun s hs => ?_⟩, hy⟩
  · intro r hr
    rw [hP] at hr
    rcases List.mem_cons.mp hr with e | hr
    · subst e; exact ⟨hlo, Or.inr rfl⟩
    · exact t6 r hr
  · rw [hz _ (by have := (t2 t a7).2.2; omega)]
    exact t7
  · intro k w h
    by_cases e : k = mK
    · subst e
      rw [hy] at h
      cases h
    · rw [hz _ e] at h
      exact t8 k w h
  · cases hs
    exact ⟨a1, a2, a3, r, t, by rw [hag q (by omega)]; exact a4, a5, a6, a7, a8⟩
theorem bw_Us_ag {U : Nat → Int32} {P P' : Nat → List bw_Rc} {lf : Nat → Prop} {mq : Option Nat} {p : Nat} (h : bw_Us U P lf mq) (hag : bw_ag p P P') (hp : p = 0 ∨ lf p) : bw_Us U P' lf mq := by
  intro x hx
  rcases h x hx with h | ⟨h1, h2, h3, h4, h5⟩
  · exact Or.inl h
  · refine Or.inr ⟨h1, ?_, h3, h4, h5⟩
    rw [hag x fun e => by subst e; exact hp.elim h3 h4]
    exact h2
section bw_S10
variable {q1 q2 q3 q4 q5 q6 q7 q8 q9 q10 q11 q12 q13 q14 q15 cap thr win fh fc r0 r1 mp mk ic he0 he1 pc : Int32} {K Y V N Lk H D U sg ok oy oa lg fo rk rv st : Nat → Int32} {cu : Nat → Int64}
variable {P : Nat → List bw_Rc} {F R0 R1 : List Nat} {own : Nat → Nat} {lf : Nat → Prop} {b : Nat → Int} {mq : Option Nat} {mK : Int} {M : Int → Option Int32}
theorem bw_fin58 {post : Int32 → SX → Prop} {q : Nat} (hR : bw_Rs fh fc r0 r1 K Y V N Lk H D P F R0 R1 own) (hT : bw_Tree P lf b (some q) mK M) (hm : ∀ v, bw_con (P 0) mK = some v → v ≠ nI q) (hU : bw_Us U P lf (some q)) (hmp : mp = nI q)
    (hp : ∀ (r0' : Int32) (Lk' H' D' U' : Nat → Int32) (own' : Nat → Nat), bw_LE fh fc r0' r1 (-1) mk K Y V N Lk' H' D' U' R1 own' F.length M → bw_Kp K Y V N H own K Y V N H' own' → post 1 (q1, q2, q3, q4, q5, q6, q7, q8, q9, q10, q11, q12, q13, q14, q15, cap, thr, win, fh, fc, r0', r1, (-1), mk, ic, he0, he1, pc, K, Y, V, N, Lk', H', D', U', sg, ok, oy, oa, lg, fo, rk, rv, st, cu)) : wX_finishMerge_58 post q1 q2 q3 q4 q5 q6 q7 q8 q9 q10 q11 q12 q13 q14 q15 cap thr win fh fc r0 r1 mp mk ic he0 he1 pc K Y V N Lk H D U sg ok oy oa lg fo rk rv st cu := by
  subst hmp
  obtain ⟨a1, a2, a3, r, t, a4, a5, a6, a7, a8⟩ := hT.2.2.2.2.2.2.2.2 q rfl
  have hlen := ((bw_Rs_row hR).2 q a2).2
  obtain ⟨hd, h, hH, ⟨e19, e20⟩, hD⟩ := hR
  have cl : (nI q).toNatClampNeg = q := nI_clamp (by omega)
  unfold wX_finishMerge_58
  refine bw_replace (t := 19) h a2 (by omega) (by omega) (hH q a2) (by omega) (bw_hd19 h (by omega) e19) (fun r0' Lk' own' c1 c2 => ?_)
  dsimp only
  refine And.intro (vp_in_nI a2 (by decide)) (nm_e ?_)
  rw [cl, bw_bo0]
  refine hp r0' Lk' (upd H q (hd 19)) (upd D q 0) (upd U q 0) own' ⟨_, F, _, lf, b, none, mK, ⟨_, c1, fun x hx => ?_, ⟨bw_up_s, ?_⟩, fun x hx => ?_⟩, bw_T_fin hT (fun x h1 h2 => ?_) ?_ (fun k hk => ?_) (fun v hv => ?_) mK, Or.inl ⟨rfl, rfl⟩, fun x hx => ?_, rfl⟩ c2
  · rw [bw_up_n (by omega)]
    by_cases e : x = q
    · subst e
      rw [bw_up_s, pk_us]
    · rw [bw_up_n e, pk_un e]
      exact hH x hx
  · rw [bw_up_n (by omega), bw_up_n (by omega)]
    exact e20
  · rw [bw_up_n (by omega)]
    by_cases e : x = q
    · subst e
      rw [bw_up_s, pk_us, e19]
      exact ⟨0, by omega, rfl, by show 0 ≤ _; omega⟩
    · rw [bw_up_n e, pk_un e]
      exact hD x hx
  · by_cases e : x = 19
    · subst e
      rw [bw_up_s, e19]
    · rw [bw_up_n e, bw_up_n h2]
  · rw [bw_up_n (by omega), bw_up_n (by omega)]
    exact hT.2.2.2.2.2.1
  · rw [bw_up_n (by omega), bw_up_n (by omega)]
  · rw [bw_up_n (by omega), bw_up_n (by omega)] at hv
    exact ⟨hm v hv, hv⟩
  · by_cases e : x = q
    · subst e
      refine Or.inr ⟨pk_us, ?_, by omega, a3, fun z => by cases z⟩
      rw [bw_up_n (by omega), bw_up_s, e19]
    · rw [pk_un e, bw_up_n (by omega), bw_up_n e]
      rcases hU x hx with ⟨h1, h2⟩ | ⟨h1, h2, h3, h4, h5⟩
      · refine Or.inl ⟨h1, ?_⟩
        rcases h2 with h2 | h2 | h2
        · exact Or.inl h2
        · exact Or.inr (Or.inl h2)
        · cases h2
          exact absurd rfl e
      · exact Or.inr ⟨h1, h2, h3, h4, fun z => by cases z⟩
theorem bw_finishMerge {post : Int32 → SX → Prop} (hR : bw_Rs fh fc r0 r1 K Y V N Lk H D P F R0 R1 own) (hT : bw_Tree P lf b mq mK M) (hmp : bw_Mp mp mk mq mK) (hU : bw_Us U P lf mq) (hF : 40 ≤ F.length)
    (h0 : mq = none → post 0 (q1, q2, q3, q4, q5, q6, q7, q8, q9, q10, q11, q12, q13, q14, q15, cap, thr, win, fh, fc, r0, r1, mp, mk, ic, he0, he1, pc, K, Y, V, N, Lk, H, D, U, sg, ok, oy, oa, lg, fo, rk, rv, st, cu))
    (h1 : ∀ (fh' fc' r0' mp' mk' : Int32) (K' Y' V' N' Lk' H' D' U' : Nat → Int32) (own' : Nat → Nat) (n' : Nat), bw_LE fh' fc' r0' r1 mp' mk' K' Y' V' N' Lk' H' D' U' R1 own' n' M → bw_Kp K Y V N H own K' Y' V' N' H' own' → F.length ≤ n' + 70 → post 1 (q1, q2, q3, q4, q5, q6, q7, q8, q9, q10, q11, q12, q13, q14, q15, cap, thr, win, fh', fc', r0', r1, mp', mk', ic, he0, he1, pc, K', Y', V', N', Lk', H', D', U', sg, ok, oy, oa, lg, fo, rk, rv, st, cu)) : wpX_finishMerge post (q1, q2, q3, q4, q5, q6, q7, q8, q9, q10, q11, q12, q13, q14, q15, cap, thr, win, fh, fc, r0, r1, mp, mk, ic, he0, he1, pc, K, Y, V, N, Lk, H, D, U, sg, ok, oy, oa, lg, fo, rk, rv, st, cu) := by
  rcases hmp with ⟨e1, e2⟩ | ⟨q, e1, e2, e3⟩
  · subst e2
    exact br_f bw_nneg1 (h0 e1)
  · subst e1 e2 e3
    obtain ⟨a1, a2, a3, r, t, a4, a5, a6, a7, a8⟩ := hT.2.2.2.2.2.2.2.2 q rfl
    have ha := bw_row_at (bw_Rs_row hR) (p := 0) (by omega)
    have same : (∀ v, bw_con (P 0) mk.toInt = some v → v ≠ nI q) → wX_finishMerge_58 post q1 q2 q3 q4 q5 q6 q7 q8 q9 q10 q11 q12 q13 q14 q15 cap thr win fh fc r0 r1 (nI q) mk ic he0 he1 pc K Y V N Lk H D U sg ok oy oa lg fo rk rv st cu := fun hm =>
      bw_fin58 hR hT hm hU rfl (fun r0' Lk' H' D' U' own' l k => h1 fh fc r0' (-1) mk K Y V N Lk' H' D' U' own' _ l k (by omega))
    refine br_t (nI_pos' (n := q) (by omega)) (bw_probe (x1 := 0) (x2 := 0) ha ?_)
    cases hr : bw_pr mk.toInt (P 0) with
    | none => exact br_t bw_neg1 (same fun v hv => by obtain ⟨s, hs, _⟩ := bw_con_some hv; rw [hr] at hs; cases hs)
    | some s =>
      obtain ⟨m1, m2, m3, m4⟩ := bw_ch_mem ha.2.1 s (bw_pr_mem hr).1
      have cl : (nI s.1).toNatClampNeg = s.1 := nI_clamp (by omega)
      have hi : vp_in (nI s.1) 4096 := vp_in_nI m1 (by decide)
      refine br_f (nI_pos (n := s.1) (by omega)) ⟨hi, br_c (fun k1 => ⟨hi, br_c (fun kv => ?_) (fun kv => same fun v hv => ?_)⟩) (fun k1 => same fun v hv => ?_)⟩
      · refine bw_prepend (p := 0) hR (by omega) (bw_few_root hT) hF bw_nb2 (fun fh' fc' r0' K' Y' V' N' Lk' H' D' P' F' R0' own' a L' c1 c2 c3 c4 c5 c6 => ?_)
        dsimp only
        have hT1 := bw_T_same (P' := bw_up P 0 L') hT bw_up_ag (by rw [bw_up_s]; exact c5) (Or.inl rfl)
        obtain ⟨hT2, hz⟩ := bw_T_erase (P' := P') (a := a) (v := 0) hT1 (bw_irg mk).1 (fun x hx => by rw [bw_up_n hx]; exact c3 x hx) (by rw [bw_up_s]; exact c4)
        exact bw_fin58 c1 hT2 (fun v hv => by rw [hz] at hv; cases hv) (bw_Us_ag hU c3 (Or.inl rfl)) rfl (fun r02 Lk2 H2 D2 U2 own2 l k => h1 fh' fc' r02 (-1) mk K' Y' V' N' Lk2 H2 D2 U2 own2 _ l (bw_Kp_tr c2 k) (by omega))
      · obtain ⟨s', hs, _, e⟩ := bw_con_some hv
        rw [hr] at hs
        cases hs
        rw [← e, ← m4, ← cl]
        exact kv
      · obtain ⟨s', hs, h1, e⟩ := bw_con_some hv
        rw [hr] at hs
        cases hs
        exact absurd (by show K (nI s.1).toNatClampNeg = 1; rw [cl, m2]; exact h1) k1
theorem bw_postIndex {post : Int32 → SX → Prop} {key : Int32} (hR : bw_Rs fh fc r0 r1 K Y V N Lk H D P F R0 R1 own) (hT : bw_Tree P lf b none mK M) (hmp : bw_Mp mp mk none mK) (hU : bw_Us U P lf none) (hF : 40 ≤ F.length)
    (h0 : post 0 (q1, q2, q3, q4, q5, q6, q7, q8, q9, q10, q11, q12, q13, q14, q15, cap, thr, win, fh, fc, r0, r1, mp, mk, ic, he0, he1, pc, K, Y, V, N, Lk, H, D, U, sg, ok, oy, oa, lg, fo, rk, rv, st, cu))
    (h1 : ∀ (fh' fc' r0' mp' mk' : Int32) (K' Y' V' N' Lk' H' D' U' : Nat → Int32) (own' : Nat → Nat) (n' : Nat), bw_LE fh' fc' r0' r1 mp' mk' K' Y' V' N' Lk' H' D' U' R1 own' n' M → bw_Kp K Y V N H own K' Y' V' N' H' own' → F.length ≤ n' + 70 → post 1 (q1, q2, q3, q4, q5, q6, q7, q8, q9, q10, q11, q12, q13, q14, q15, cap, thr, win, fh', fc', r0', r1, mp', mk', ic, he0, he1, pc, K', Y', V', N', Lk', H', D', U', sg, ok, oy, oa, lg, fo, rk, rv, st, cu)) : wpX_postIndex post (q1, q2, q3, q4, q5, q6, q7, q8, q9, q10, q11, q12, q13, q14, q15, cap, thr, win, fh, fc, r0, r1, mp, mk, ic, he0, he1, pc, K, Y, V, N, Lk, H, D, U, sg, ok, oy, oa, lg, fo, rk, rv, st, cu) key := by
  unfold wpX_postIndex
  dsimp only
  refine bw_childFor (ro := 0) (bw_Rs_row hR) hT fun q hq => ?_
  rcases hq with ⟨hq, hk⟩ | ⟨hq, _⟩
  · have h16 := hT.2.1 q hq
    have ha := bw_row_at (bw_Rs_row hR) (p := q) (by omega)
    refine bw_probe (x1 := 0) ha ?_
    have stop : ∀ Q : Prop, (∀ r, bw_pr key.toInt (P q) = some r → r.2.1 = 1 ∨ r.2.1 = 2) → ((bw_oI (bw_pr key.toInt (P q)) < 0 → (post 0 (q1, q2, q3, q4, q5, q6, q7, q8, q9, q10, q11, q12, q13, q14, q15, cap, thr, win, fh, fc, r0, r1, mp, mk, ic, he0, he1, pc, K, Y, V, N, Lk, H, D, U, sg, ok, oy, oa, lg, fo, rk, rv, st, cu))) ∧ (¬ bw_oI (bw_pr key.toInt (P q)) < 0 → (vp_in (bw_oI (bw_pr key.toInt (P q))) 4096 ∧ (((K (bw_oI (bw_pr key.toInt (P q))).toNatClampNeg) = 3 → Q) ∧ (¬ (K (bw_oI (bw_pr key.toInt (P q))).toNatClampNeg) = 3 → (post 0 (q1, q2, q3, q4, q5, q6, q7, q8, q9, q10, q11, q12, q13, q14, q15, cap, thr, win, fh, fc, r0, r1, mp, mk, ic, he0, he1, pc, K, Y, V, N, Lk, H, D, U, sg, ok, oy, oa, lg, fo, rk, rv, st, cu))))))) := by
      intro Q h12
      cases hr : bw_pr key.toInt (P q) with
      | none => exact br_t bw_neg1 h0
      | some r =>
        obtain ⟨m1, m2, m3, m4⟩ := bw_ch_mem ha.2.1 r (bw_pr_mem hr).1
        have cl : (nI r.1).toNatClampNeg = r.1 := nI_clamp (by omega)
        exact br_f (nI_pos (n := r.1) (by omega)) ⟨vp_in_nI m1 (by decide), br_f (by show ¬ K (nI r.1).toNatClampNeg = 3; rw [cl, m2]; exact (bw_k12 (h12 r hr)).1) h0⟩
    rcases hT.2.2.2.1 q hq with ⟨g1, g2⟩ | ⟨s, g1, g2, g3⟩
    · exact stop _ fun r hr => (g1 r (bw_pr_mem hr).1).2
    · rcases bw_lge key.toInt (b s) with z | z
      · exact stop _ fun r hr => bw_LfM_lo g3 z hr
      · obtain ⟨f, f1, f2, f3, f4⟩ := bw_LfM_hi g3 z
        obtain ⟨m1, m2, m3, m4⟩ := bw_ch_mem ha.2.1 f (bw_pr_mem f1).1
        have cl : (nI f.1).toNatClampNeg = f.1 := nI_clamp (by omega)
        have hi : vp_in (nI f.1) 4096 := vp_in_nI m1 (by decide)
        rw [f1]
        refine br_f (nI_pos (n := f.1) (by omega)) ⟨hi, br_t (by show K (nI f.1).toNatClampNeg = 3; rw [cl, m2]; exact f2) ⟨hi, hi, ?_⟩⟩
        refine bw_prepend (p := 0) hR (by omega) (bw_few_root hT) hF bw_nb1 (fun fh' fc' r0' K' Y' V' N' Lk' H' D' P' F' R0' own' a L' c1 c2 c3 c4 c5 c6 => ?_)
        have hT1 := bw_T_same (P' := bw_up P 0 L') hT bw_up_ag (by rw [bw_up_s]; exact c5) (Or.inl rfl)
        have c4' : P' 0 = (a, 1, b s, nI s) :: L' := by
          rw [c4]
          show (a, 1, (Y (nI f.1).toNatClampNeg).toInt, V (nI f.1).toNatClampNeg) :: L' = _
          rw [cl, m3, m4, f3, f4]
        have hT2 := bw_T_idx (P' := P') (a := a) hT1 g1 (fun x hx => by rw [bw_up_n hx]; exact c3 x hx) (by rw [bw_up_s]; exact c4')
        exact h1 fh' fc' r0' mp mk K' Y' V' N' Lk' H' D' U own' _ ⟨P', F', R0', lf, b, none, mK, c1, hT2, hmp, bw_Us_ag hU c3 (Or.inl rfl), rfl⟩ c2 (by omega)
  · cases hq
theorem bw_tidy {post : Int32 → SX → Prop} {p : Nat} (hR : bw_Rs fh fc r0 r1 K Y V N Lk H D P F R0 R1 own) (hT : bw_Tree P lf b mq mK M) (hmp : bw_Mp mp mk mq mK) (hU : bw_Us U P lf mq) (hF : 40 ≤ F.length) (hM : bw_fewM M) (hp : p = 0 ∨ lf p)
    (h0 : post 0 (q1, q2, q3, q4, q5, q6, q7, q8, q9, q10, q11, q12, q13, q14, q15, cap, thr, win, fh, fc, r0, r1, mp, mk, ic, he0, he1, pc, K, Y, V, N, Lk, H, D, U, sg, ok, oy, oa, lg, fo, rk, rv, st, cu))
    (h1 : ∀ (fh' fc' r0' mp' mk' : Int32) (K' Y' V' N' Lk' H' D' U' : Nat → Int32) (own' : Nat → Nat) (n' : Nat), bw_LE fh' fc' r0' r1 mp' mk' K' Y' V' N' Lk' H' D' U' R1 own' n' M → bw_Kp K Y V N H own K' Y' V' N' H' own' → F.length ≤ n' + 70 → post 1 (q1, q2, q3, q4, q5, q6, q7, q8, q9, q10, q11, q12, q13, q14, q15, cap, thr, win, fh', fc', r0', r1, mp', mk', ic, he0, he1, pc, K', Y', V', N', Lk', H', D', U', sg, ok, oy, oa, lg, fo, rk, rv, st, cu)) : wpX_tidy post (q1, q2, q3, q4, q5, q6, q7, q8, q9, q10, q11, q12, q13, q14, q15, cap, thr, win, fh, fc, r0, r1, mp, mk, ic, he0, he1, pc, K, Y, V, N, Lk, H, D, U, sg, ok, oy, oa, lg, fo, rk, rv, st, cu) (nI p) := by
  have hp16 : p < 16 := by
    rcases hp with e | e
    · omega
    · exact (hT.2.1 p e).2.1
  have hfew : bw_few (P p) 32 := by
    rcases hp with e | e
    · subst e; exact bw_few_root hT
    · exact bw_few_leaf hT hM e
  refine And.intro (vp_in_nI hp16 (by decide)) (br_c (fun _ => ?_) (fun _ => h0))
  exact bw_consolidate hR hp16 hfew (by omega) (fun fh' fc' r0' K' Y' V' N' Lk' H' D' P' F' R0' own' c1 c2 c3 c4 c5 c6 =>
    h1 fh' fc' r0' mp mk K' Y' V' N' Lk' H' D' U own' _ ⟨P', F', R0', lf, b, mq, mK, c1, bw_T_same hT c3 (Or.inr c4) hp, hmp, bw_Us_ag hU c3 hp, rfl⟩ c2 (by omega))
theorem bw_fpg_l {post : Int32 → Prop} (h0 : post (-1)) (h1 : ∀ q, 1 ≤ q → q < 16 → U q = 0 → post (nI q)) : ∀ (m i n : Nat), i + m = 16 → 1 ≤ i → m < n → wX_freePage_2 post q1 q2 q3 q4 q5 q6 q7 q8 q9 q10 q11 q12 q13 q14 q15 cap thr win fh fc r0 r1 mp mk ic he0 he1 pc K Y V N Lk H D U sg ok oy oa lg fo rk rv st cu n (nI i) := by
  intro m
  induction m with
  | zero =>
    intro i n hi h1 hn
    obtain ⟨n, rfl⟩ : ∃ m, n = m + 1 := ⟨n - 1, by omega⟩
    exact br_t (nI_le (a := 16) (by omega) (by omega)) h0
  | succ m ih =>
    intro i n hi hi1 hn
    obtain ⟨n, rfl⟩ : ∃ m, n = m + 1 := ⟨n - 1, by omega⟩
    have cl : (nI i).toNatClampNeg = i := nI_clamp (by omega)
    refine br_f (nI_ge (b := 16) (by omega) (by decide)) ⟨vp_in_nI (by omega) (by decide), br_c (fun e => ?_) (fun _ => nm_e ?_)⟩
    · rw [cl] at e
      exact h1 i hi1 (by omega) e
    · rw [nI_1]
      exact ih (i + 1) n (by omega) (by omega) (by omega)
theorem bw_freePage {post : Int32 → Prop} (h0 : post (-1)) (h1 : ∀ q, 1 ≤ q → q < 16 → U q = 0 → post (nI q)) : wpX_freePage post (q1, q2, q3, q4, q5, q6, q7, q8, q9, q10, q11, q12, q13, q14, q15, cap, thr, win, fh, fc, r0, r1, mp, mk, ic, he0, he1, pc, K, Y, V, N, Lk, H, D, U, sg, ok, oy, oa, lg, fo, rk, rv, st, cu) := ⟨16, bw_fpg_l h0 h1 15 1 16 (by omega) (by omega) (by omega)⟩
end bw_S10
end
section
/-! split, merge, upkeep -/
/-- visible records with keys from h on -/
def bw_cge (L : List bw_Rc) (h : Int) : Nat := L.countP fun r => decide (bw_vis L r ∧ h ≤ r.2.2.1)
theorem bw_cnt1 {A B : bw_Rc → Bool} {s : bw_Rc} : ∀ {L : List bw_Rc}, L.Nodup → (∀ r, r ∈ L → B r = true → A r = true ∨ r = s) → L.countP B ≤ L.countP A + 1
  | [], _, _ => Nat.zero_le _
  | r :: l, hn, h => by
    obtain ⟨n1, n2⟩ := List.nodup_cons.mp hn
    rw [List.countP_cons, List.countP_cons]
    by_cases e : r = s
    · subst e
      have : l.countP B ≤ l.countP A := List.countP_mono_left fun x hx hB => by
        rcases h x (List.mem_cons_of_mem _ hx) hB with z | z
        · exact z
        · exact absurd (by rw [← z]; exact hx) n1
      split <;> split <;> omega
    · have := bw_cnt1 (A := A) (B := B) (s := s) n2 fun x hx hB => h x (List.mem_cons_of_mem _ hx) hB
      by_cases hB : B r = true
      · rcases h r List.mem_cons_self hB with z | z
        · rw [if_pos hB, if_pos z]; omega
        · exact absurd z e
      · rw [if_neg hB]; omega
theorem bw_vis_key {L : List bw_Rc} {r s : bw_Rc} (hr : bw_vis L r) (hs : bw_vis L s) (e : r.2.2.1 = s.2.2.1) : r = s := by
  have a := hr.2
  rw [e, hs.2] at a
  exact (Option.some.inj a).symm
theorem bw_cge_top {L : List bw_Rc} (hn : L.Nodup) {m : bw_Rc} (hm : bw_vis L m) (h : ∀ k, m.2.2.1 < k → k ≤ 2147483647 → bw_con L k = none) (hr : ∀ r, r ∈ L → r.2.2.1 ≤ 2147483647) : bw_cge L m.2.2.1 ≤ 1 := by
  have := bw_cnt1 (A := fun _ => false) (B := fun r => decide (bw_vis L r ∧ m.2.2.1 ≤ r.2.2.1)) (s := m) hn fun r hm' hB => by
    obtain ⟨h1, h2⟩ := of_decide_eq_true hB
    refine Or.inr (bw_vis_key h1 hm ?_)
    rcases bw_lge m.2.2.1 r.2.2.1 with z | z
    · have := h _ z (hr r hm')
      rw [bw_vis_con h1] at this
      cases this
    · omega
  rw [List.countP_false] at this
  exact this
theorem bw_cge_step {L : List bw_Rc} (hn : L.Nodup) {m s : bw_Rc} (hs : bw_vis L s) (h : ∀ k, s.2.2.1 < k → k < m.2.2.1 → bw_con L k = none) : bw_cge L s.2.2.1 ≤ bw_cge L m.2.2.1 + 1 := by
  refine bw_cnt1 (s := s) hn fun r hm' hB => ?_
  obtain ⟨h1, h2⟩ := of_decide_eq_true hB
  rcases bw_lge r.2.2.1 m.2.2.1 with z | z
  · refine Or.inr (bw_vis_key h1 hs ?_)
    rcases bw_lge s.2.2.1 r.2.2.1 with w | w
    · have := h _ w z
      rw [bw_vis_con h1] at this
      cases this
    · omega
  · exact Or.inl (decide_eq_true ⟨h1, z⟩)
theorem bw_cge_lt {L : List bw_Rc} {h : Int} (hc : bw_cge L h < bw_ct L L) : ∃ r, r ∈ L ∧ bw_vis L r ∧ r.2.2.1 < h := by
  rcases Classical.em (∃ r, r ∈ L ∧ bw_vis L r ∧ r.2.2.1 < h) with z | z
  · exact z
  · have : bw_ct L L ≤ bw_cge L h := List.countP_mono_left fun r hr hv => by
      have hv' := of_decide_eq_true hv
      refine decide_eq_true ⟨hv', ?_⟩
      rcases bw_lge r.2.2.1 h with w | w
      · exact absurd ⟨r, hr, hv', w⟩ z
      · exact w
    omega
theorem bw_nodup_map {L : List bw_Rc} (h : (L.map Prod.fst).Nodup) : L.Nodup := (List.pairwise_map.mp h).imp fun {a b} hab e => hab (by rw [e])
section bw_S11
variable {q1 q2 q3 q4 q5 q6 q7 q8 q9 q10 q11 q12 q13 q14 q15 cap thr win fh fc r0 r1 mp mk ic he0 he1 pc : Int32} {K Y V N Lk H D U sg ok oy oa lg fo rk rv st : Nat → Int32} {cu : Nat → Int64}
variable {P : Nat → List bw_Rc} {F R0 R1 : List Nat} {own : Nat → Nat} {lf : Nat → Prop} {b : Nat → Int} {mq : Option Nat} {mK : Int} {M : Int → Option Int32}
theorem bw_split64 {post : Int32 → SX → Prop} {p q : Nat} {s : bw_Rc} (hR : bw_Rs fh fc r0 r1 K Y V N Lk H D P F R0 R1 own) (hT : bw_Tree P lf b none mK M) (hmp : bw_Mp mp mk none mK) (hU : bw_Us U P lf none) (hF : 100 ≤ F.length) (hM : bw_fewM M) (hp : lf p) (hq1 : 1 ≤ q) (hq2 : q < 16) (hqU : U q = 0) (hs : s ∈ P p) (hv : bw_vis (P p) s) (hlt : b p < s.2.2.1)
    (h1 : ∀ (fh' fc' r0' mp' mk' : Int32) (K' Y' V' N' Lk' H' D' U' : Nat → Int32) (own' : Nat → Nat) (n' : Nat), bw_LE fh' fc' r0' r1 mp' mk' K' Y' V' N' Lk' H' D' U' R1 own' n' M → bw_Kp K Y V N H own K' Y' V' N' H' own' → F.length ≤ n' + 70 → post 1 (q1, q2, q3, q4, q5, q6, q7, q8, q9, q10, q11, q12, q13, q14, q15, cap, thr, win, fh', fc', r0', r1, mp', mk', ic, he0, he1, pc, K', Y', V', N', Lk', H', D', U', sg, ok, oy, oa, lg, fo, rk, rv, st, cu)) : wX_split_64 post (nI p) (nI q) (nI s.1) q1 q2 q3 q4 q5 q6 q7 q8 q9 q10 q11 q12 q13 q14 q15 cap thr win fh fc r0 r1 mp mk ic he0 he1 pc K Y V N Lk H D U sg ok oy oa lg fo rk rv st cu := by
  have hp16 := (hT.2.1 p hp).2.1
  have hp1 := (hT.2.1 p hp).1
  have hfew := bw_few_leaf hT hM hp
  have hrow := bw_Rs_row hR
  have ha := bw_row_at hrow hp16
  have hlen := (hrow.2 p hp16).2
  obtain ⟨m1, m2, m3, m4⟩ := bw_ch_mem ha.2.1 s hs
  have cl : (nI s.1).toNatClampNeg = s.1 := nI_clamp (by omega)
  have cq : (nI q).toNatClampNeg = q := nI_clamp (by omega)
  have hq80 : vp_in (nI q) 80 := vp_in_nI (by omega) (by decide)
  have hq16 : vp_in (nI q) 16 := vp_in_nI hq2 (by decide)
  obtain ⟨u1, u2, u3, u4⟩ : P q = [] ∧ q ≠ 0 ∧ ¬ lf q ∧ True := by
    rcases hU q hq2 with ⟨z, _⟩ | ⟨_, z1, z2, z3, _⟩
    · rw [hqU] at z
      exact absurd z (by decide)
    · exact ⟨z1, z2, z3, trivial⟩
  have hpq : p ≠ q := fun e => u3 (by rw [← e]; exact hp)
  obtain ⟨g1, g2⟩ := bw_T_rng (hT.2.2.2.1 p hp) hs hv
  obtain ⟨hd, h, hH, ⟨e19, e20⟩, hD⟩ := hR
  refine br_t (nI_pos' (n := s.1) (by omega)) ⟨vp_in_nI m1 (by decide), nm_e (bw_fenceOf (x1 := 0) ha ?_)⟩
  rw [cl]
  refine bw_copy (B := 32) h hp16 (hH p hp16) hfew (by omega) (by omega) (by omega) (bw_hd19 h (by omega) e19) (fun fh1 fc1 K1 Y1 V1 N1 hd1 P1 F1 own1 S a1 a2 a3 a4 a5 a6 a7 => ?_)
  dsimp only
  have hSl := bw_Good_len a7 hfew
  rw [m3] at a7
  refine bw_withFence (p := p) a5 (by omega) (by omega) (fun f hf => by rw [a2 p (by omega)]; exact (bw_ff_mem hf).1) rfl (fun fh2 fc2 K2 Y2 V2 N2 hd2 P2 F2 own2 W b1 b2 b3 b4 b5 b6 b7 => ?_)
  dsimp only
  have h19 : P2 19 = W ++ S := by rw [b3, a3, e19, List.append_nil]
  have hW := bw_fcp_len b4
  have hP2 : ∀ x, x ≠ 19 → P2 x = P x := fun x hx => (b2 x hx).trans (a2 x hx)
  have hh2 : ∀ x, x ≠ 19 → hd2 x = hd x := fun x hx => (b5 x hx).trans (a4 x hx)
  obtain ⟨own3, c1, c2⟩ := bw_Hp_mov (H := H) b6 hq2 (by rw [hP2 q (by omega)]; exact u1)
  have R3 : bw_Rs fh2 fc2 r0 r1 K2 Y2 V2 N2 Lk (upd H q (hd2 19)) (upd D q 0) (bw_up (bw_up P2 q (P2 19)) 19 []) F2 R0 R1 own3 := by
    refine ⟨_, c1, fun x hx => ?_, ⟨bw_up_s, ?_⟩, fun x hx => ?_⟩
    · rw [bw_up_n (by omega)]
      by_cases e : x = q
      · subst e
        rw [bw_up_s, pk_us]
      · rw [bw_up_n e, pk_un e, hh2 x (by omega)]
        exact hH x hx
    · rw [bw_up_n (by omega), bw_up_n (by omega), hP2 20 (by omega)]
      exact e20
    · rw [bw_up_n (by omega)]
      by_cases e : x = q
      · subst e
        rw [bw_up_s, pk_us, h19, List.length_append]
        exact ⟨0, by omega, rfl, by omega⟩
      · rw [bw_up_n e, pk_un e, hP2 x (by omega)]
        exact hD x hx
  have P3p : bw_up (bw_up P2 q (P2 19)) 19 [] p = P p := by rw [bw_up_n (by omega), bw_up_n hpq, hP2 p (by omega)]
  refine And.intro hq80 (nm_e ⟨hq16, nm_e ⟨hq16, nm_e ?_⟩⟩)
  rw [cq, bw_bo1]
  refine bw_prepend (p := p) R3 hp16 (by rw [P3p]; exact hfew) (by omega) bw_nb3 (fun fh' fc' r0' K' Y' V' N' Lk' H' D' P' F' R0' own' a L' d1 d2 d3 d4 d5 d6 => ?_)
  dsimp only
  rw [P3p] at d5
  rw [m3] at d4
  have ag3 : ∀ x, x ≠ p → x ≠ q → P' x = P x := by
    intro x hx1 hx2
    rw [d3 x hx1]
    by_cases e : x = 19
    · subst e
      rw [bw_up_s, e19]
    · rw [bw_up_n e, bw_up_n hx2, hP2 x e]
  have hPq : P' q = W ++ S := by
    rw [d3 q (Ne.symm hpq), bw_up_n (by omega), bw_up_s, h19]
  have hT' := bw_T_split (P' := P') hT hp hq1 hq2 u3 hlt g2 ag3 hPq b4 a7 d5 d4
  refine h1 fh' fc' r0' mp mk K' Y' V' N' Lk' H' D' (upd U q 1) own' _ ⟨P', F', R0', _, _, none, mK, d1, hT', hmp, fun x hx => ?_, rfl⟩ (bw_Kp_tr (bw_Kp_tr (bw_Kp_tr a6 b7) c2) d2) (by omega)
  by_cases e : x = q
  · subst e
    exact Or.inl ⟨pk_us, Or.inr (Or.inl (Or.inr rfl))⟩
  · rw [pk_un e]
    rcases hU x hx with ⟨z1, z2⟩ | ⟨z1, z2, z3, z4, z5⟩
    · refine Or.inl ⟨z1, ?_⟩
      rcases z2 with z2 | z2 | z2
      · exact Or.inl z2
      · exact Or.inr (Or.inl (Or.inl z2))
      · cases z2
    · refine Or.inr ⟨z1, ?_, z3, fun w => w.elim z4 e, z5⟩
      rw [ag3 x (fun w => z4 (by rw [w]; exact hp)) e]
      exact z2
theorem bw_split {post : Int32 → SX → Prop} {p : Nat} (hR : bw_Rs fh fc r0 r1 K Y V N Lk H D P F R0 R1 own) (hT : bw_Tree P lf b none mK M) (hmp : bw_Mp mp mk none mK) (hU : bw_Us U P lf none) (hF : 100 ≤ F.length) (hM : bw_fewM M) (hp : lf p)
    (h0 : post 0 (q1, q2, q3, q4, q5, q6, q7, q8, q9, q10, q11, q12, q13, q14, q15, cap, thr, win, fh, fc, r0, r1, mp, mk, ic, he0, he1, pc, K, Y, V, N, Lk, H, D, U, sg, ok, oy, oa, lg, fo, rk, rv, st, cu))
    (h1 : ∀ (fh' fc' r0' mp' mk' : Int32) (K' Y' V' N' Lk' H' D' U' : Nat → Int32) (own' : Nat → Nat) (n' : Nat), bw_LE fh' fc' r0' r1 mp' mk' K' Y' V' N' Lk' H' D' U' R1 own' n' M → bw_Kp K Y V N H own K' Y' V' N' H' own' → F.length ≤ n' + 70 → post 1 (q1, q2, q3, q4, q5, q6, q7, q8, q9, q10, q11, q12, q13, q14, q15, cap, thr, win, fh', fc', r0', r1, mp', mk', ic, he0, he1, pc, K', Y', V', N', Lk', H', D', U', sg, ok, oy, oa, lg, fo, rk, rv, st, cu)) : wpX_split post (q1, q2, q3, q4, q5, q6, q7, q8, q9, q10, q11, q12, q13, q14, q15, cap, thr, win, fh, fc, r0, r1, mp, mk, ic, he0, he1, pc, K, Y, V, N, Lk, H, D, U, sg, ok, oy, oa, lg, fo, rk, rv, st, cu) (nI p) := by
  have hp16 := (hT.2.1 p hp).2.1
  have hrow := bw_Rs_row hR
  have ha := bw_row_at hrow hp16
  have hlen := (hrow.2 p hp16).2
  have hnd : (P p).Nodup := by
    obtain ⟨hd, h, _⟩ := hR
    exact bw_nodup_map (h.2.2.2.2.1.2.2.2 p (by omega))
  have hct : bw_ct (P p) (P p) ≤ 64 := Nat.le_trans List.countP_le_length hlen
  have hrg : ∀ r, r ∈ P p → r.2.2.1 ≤ 2147483647 := fun r hr => by
    have m := bw_ch_mem ha.2.1 r hr
    have := (bw_irg (Y r.1)).2
    omega
  unfold wpX_split
  dsimp only
  refine bw_countPairs (vp_in_nI (by omega) (by decide)) ha (bw_freePage ?_ fun q hq1 hq2 hqU => ?_)
  · exact br_c (fun _ => h0) (fun _ => br_f bw_nneg1 h0)
  · refine br_c (fun _ => h0) (fun n6 => br_t (nI_pos' (n := q) (by omega)) ?_)
    have c7 : 7 ≤ bw_ct (P p) (P p) := by
      rcases Nat.lt_or_ge (bw_ct (P p) (P p)) 7 with z | z
      · exact absurd (nI_le (b := 6) (by omega) (by decide)) n6
      · exact z
    have hdiv : nI (bw_ct (P p) (P p)) / 2 = nI (bw_ct (P p) (P p) / 2) := pk_div (d := 2) (by omega) (by decide) (by decide)
    have fin : ∀ (o : Option bw_Rc) (rank : Nat), rank ≤ bw_ct (P p) (P p) / 2 → (∀ m, o = some m → m ∈ P p ∧ bw_vis (P p) m ∧ bw_cge (P p) m.2.2.1 ≤ rank) → wX_split_64 post (nI p) (nI q) (bw_oI o) q1 q2 q3 q4 q5 q6 q7 q8 q9 q10 q11 q12 q13 q14 q15 cap thr win fh fc r0 r1 mp mk ic he0 he1 pc K Y V N Lk H D U sg ok oy oa lg fo rk rv st cu := by
      intro o rank hrk ho
      cases o with
      | none => exact br_f bw_nneg1 h0
      | some m =>
        obtain ⟨o1, o2, o3⟩ := ho m rfl
        obtain ⟨r, r1', r2', r3'⟩ := bw_cge_lt (L := P p) (h := m.2.2.1) (by omega)
        have := (bw_T_rng (hT.2.2.2.1 p hp) r1' r2').1
        exact bw_split64 hR hT hmp hU hF hM hp hq1 hq2 hqU o1 o2 (by omega) h1
    have lp : ∀ (m rank n : Nat) (o : Option bw_Rc), rank + m = bw_ct (P p) (P p) / 2 → m < n → (∀ m, o = some m → m ∈ P p ∧ bw_vis (P p) m ∧ bw_cge (P p) m.2.2.1 ≤ rank) → wX_split_36 post (nI p) (nI (bw_ct (P p) (P p))) (nI q) q1 q2 q3 q4 q5 q6 q7 q8 q9 q10 q11 q12 q13 q14 q15 cap thr win fh fc r0 r1 mp mk ic he0 he1 pc K Y V N Lk H D U sg ok oy oa lg fo rk rv st cu n (bw_oI o) (nI rank) := by
      intro m
      induction m with
      | zero =>
        intro rank n o hr hn ho
        obtain ⟨n, rfl⟩ : ∃ m, n = m + 1 := ⟨n - 1, by omega⟩
        refine And.intro (by decide) (br_t ?_ (fin o rank (by omega) ho))
        rw [hdiv]
        exact nI_le (by omega) (by omega)
      | succ m ih =>
        intro rank n o hr hn ho
        obtain ⟨n, rfl⟩ : ∃ m, n = m + 1 := ⟨n - 1, by omega⟩
        refine And.intro (by decide) (br_f ?_ ?_)
        · rw [hdiv]
          exact nI_ge (by omega) (by omega)
        · cases o with
          | none => exact br_t bw_neg1 (fin none rank (by omega) ho)
          | some s =>
            obtain ⟨o1, o2, o3⟩ := ho s rfl
            have ms := bw_ch_mem ha.2.1 s o1
            refine br_f (nI_pos (n := s.1) (by omega)) (bw_lower ha o1 (fun _ => nm_e ?_) (fun t t1 t2 t3 t4 => nm_e ?_))
            · rw [nI_1]
              exact ih (rank + 1) n none (by omega) (by omega) (fun m hm => by cases hm)
            · rw [nI_1]
              refine ih (rank + 1) n (some t) (by omega) (by omega) (fun m hm => ?_)
              cases hm
              have := bw_cge_step hnd t2 t4
              exact ⟨t1, t2, by omega⟩
    refine bw_floor ha (fun _ => ⟨100, ?_⟩) (fun s s1 s2 s3 s4 => ⟨100, ?_⟩)
    · exact lp (bw_ct (P p) (P p) / 2 - 1) 1 100 none (by omega) (by omega) (fun m hm => by cases hm)
    · refine lp (bw_ct (P p) (P p) / 2 - 1) 1 100 (some s) (by omega) (by omega) (fun m hm => ?_)
      cases hm
      exact ⟨s1, s2, bw_cge_top hnd s2 s4 hrg⟩
theorem bw_merge {post : SX → Prop} {p : Nat} (hR : bw_Rs fh fc r0 r1 K Y V N Lk H D P F R0 R1 own) (hT : bw_Tree P lf b none mK M) (hmp : bw_Mp mp mk none mK) (hU : bw_Us U P lf none) (hF : 100 ≤ F.length) (hM : bw_fewM M) (hp : lf p)
    (h0 : post (q1, q2, q3, q4, q5, q6, q7, q8, q9, q10, q11, q12, q13, q14, q15, cap, thr, win, fh, fc, r0, r1, mp, mk, ic, he0, he1, pc, K, Y, V, N, Lk, H, D, U, sg, ok, oy, oa, lg, fo, rk, rv, st, cu))
    (h1 : ∀ (fh' fc' r0' mp' mk' : Int32) (K' Y' V' N' Lk' H' D' U' : Nat → Int32) (own' : Nat → Nat) (n' : Nat), bw_LE fh' fc' r0' r1 mp' mk' K' Y' V' N' Lk' H' D' U' R1 own' n' M → bw_Kp K Y V N H own K' Y' V' N' H' own' → F.length ≤ n' + 70 → post (q1, q2, q3, q4, q5, q6, q7, q8, q9, q10, q11, q12, q13, q14, q15, cap, thr, win, fh', fc', r0', r1, mp', mk', ic, he0, he1, pc, K', Y', V', N', Lk', H', D', U', sg, ok, oy, oa, lg, fo, rk, rv, st, cu)) : wpX_merge post (q1, q2, q3, q4, q5, q6, q7, q8, q9, q10, q11, q12, q13, q14, q15, cap, thr, win, fh, fc, r0, r1, mp, mk, ic, he0, he1, pc, K, Y, V, N, Lk, H, D, U, sg, ok, oy, oa, lg, fo, rk, rv, st, cu) (nI p) := by
  have hp16 := (hT.2.1 p hp).2.1
  have hp1 := (hT.2.1 p hp).1
  have hfew := bw_few_leaf hT hM hp
  have hrow := bw_Rs_row hR
  have ha := bw_row_at hrow hp16
  have hlen := (hrow.2 p hp16).2
  unfold wpX_merge
  dsimp only
  refine bw_fenceOf ha ?_
  rcases hT.2.2.2.1 p hp with ⟨g1, g2⟩ | ⟨q, hq, g2, g3⟩
  · rw [bw_LfL_ff g1]
    exact br_f bw_nneg1 h0
  · obtain ⟨f, f1, f2, f3, f4, f5⟩ := bw_LfM_ff g3
    obtain ⟨m1, m2, m3, m4⟩ := bw_ch_mem ha.2.1 f f2
    have cl : (nI f.1).toNatClampNeg = f.1 := nI_clamp (by omega)
    have hi : vp_in (nI f.1) 4096 := vp_in_nI m1 (by decide)
    have hq16 := (hT.2.1 q hq).2.1
    have hq1 := (hT.2.1 q hq).1
    have hpq : p ≠ q := fun e => by have := g3.1; rw [e] at this; omega
    have hfewq := bw_few_leaf hT hM hq
    have haq := bw_row_at hrow hq16
    have hlenq := (hrow.2 q hq16).2
    rw [f1, show bw_oI (some f) = nI f.1 from rfl]
    refine br_t (nI_pos' (n := f.1) (by omega)) ⟨hi, nm_e ?_⟩
    have ev : V (nI f.1).toNatClampNeg = nI q := by rw [cl, m4, f5]
    rw [ev]
    refine bw_countPairs (vp_in_nI (by omega) (by decide)) ha (bw_countPairs (vp_in_nI (by omega) (by decide)) haq (nm_e (br_c (fun _ => ?_) (fun _ => h0))))
    refine bw_fenceOf haq ?_
    obtain ⟨hd, h, hH, ⟨e19, e20⟩, hD⟩ := hR
    refine bw_copy (p := q) (B := 32) h hq16 (hH q hq16) hfewq (by omega) (by omega) (by omega) (bw_hd19 h (by omega) e19) (fun fh1 fc1 K1 Y1 V1 N1 hd1 P1 F1 own1 S2 a1 a2 a3 a4 a5 a6 a7 => ?_)
    dsimp only
    have hS2 := bw_Good_len a7 hfewq
    have hP1p : P1 p = P p := a2 p (by omega)
    refine bw_copy (p := p) (B := 32) a5 hp16 ((a4 p (by omega)).trans (hH p hp16)) (by rw [hP1p]; exact hfew) (by omega) (by omega) (by rw [hP1p]; omega) rfl (fun fh2 fc2 K2 Y2 V2 N2 hd2 P2 F2 own2 S1 b1 b2 b3 b4 b5 b6 b7 => ?_)
    dsimp only
    rw [hP1p] at b7
    have hS1 := bw_Good_len b7 hfew
    have hP2 : ∀ x, x ≠ 19 → P2 x = P x := fun x hx => (b2 x hx).trans (a2 x hx)
    have hh2 : ∀ x, x ≠ 19 → hd2 x = hd x := fun x hx => (b4 x hx).trans (a4 x hx)
    refine bw_withFence (p := q) b5 (by omega) (by omega) (fun f hf => by rw [hP2 q (by omega)]; exact (bw_ff_mem hf).1) rfl (fun fh3 fc3 K3 Y3 V3 N3 hd3 P3 F3 own3 W c1 c2 c3 c4 c5 c6 c7 => ?_)
    dsimp only
    have hW := bw_fcp_len c4
    have hP3 : ∀ x, x ≠ 19 → P3 x = P x := fun x hx => (c2 x hx).trans (hP2 x hx)
    have hh3 : ∀ x, x ≠ 19 → hd3 x = hd x := fun x hx => (c5 x hx).trans (hh2 x hx)
    have h19 : P3 19 = W ++ (S1 ++ S2) := by rw [c3, b3, a3, e19, List.append_nil]
    refine And.intro hi (nm_e ?_)
    have hf3 : f ∈ P3 p := by rw [hP3 p (by omega)]; exact f2
    have m3' := (bw_ch_mem (c6.2.2.1 p (by omega)) f hf3).2.2.1
    have h20 : P3 20 = [] := by rw [hP3 20 (by omega)]; exact e20
    refine bw_newNode (q := 20) c6 (by omega) (by omega) (by omega) bw_nb4 (bw_hd19 c6 (by omega) h20) (fun fh4 fc4 K4 Y4 V4 N4 hd4 P4 F4 own4 a d1 d2 d3 d4 d5 d6 d7 => ?_)
    dsimp only
    have hP4p : P4 p = P p := (d2 p (by omega)).trans (hP3 p (by omega))
    have hP4q : P4 q = P q := (d2 q (by omega)).trans (hP3 q (by omega))
    have hh4 : ∀ x, x ≠ 19 → x ≠ 20 → hd4 x = hd x := fun x hx hx2 => (d4 x hx2).trans (hh3 x hx)
    refine bw_replace (p := p) (t := 19) d6 hp16 (by omega) (by omega) ((hh4 p (by omega) (by omega)).trans (hH p hp16)) (by rw [hP4p]; omega) (d4 19 (by omega)).symm (fun r05 Lk5 own5 e1 e2 => ?_)
    dsimp only
    refine bw_replace (p := q) (t := 20) e1 hq16 (by omega) (by omega) ?_ ?_ ?_ (fun r06 Lk6 own6 i1 i2 => ?_)
    · rw [bw_up_n (by omega), bw_up_n (Ne.symm hpq), pk_un (Ne.symm hpq), hh4 q (by omega) (by omega)]
      exact hH q hq16
    · rw [bw_up_n (by omega), bw_up_n (Ne.symm hpq), hP4q]
      omega
    · rw [bw_up_n (by omega), bw_up_n (by omega)]
      exact d5.symm
    · refine h1 fh4 fc4 r06 (nI q) (Y3 (nI f.1).toNatClampNeg) K4 Y4 V4 N4 Lk6 (upd (upd H p (hd4 19)) q (bw_up (bw_up hd4 p (hd4 19)) 19 (-1) 20)) (upd (upd D p 0) q 0) U own6 F4.length ⟨_, F4, _, fun x => lf x ∧ x ≠ q, b, some q, b q, ⟨_, i1, fun x hx => ?_, ⟨?_, bw_up_s⟩, fun x hx => ?_⟩, ?_, Or.inr ⟨q, rfl, rfl, ?_⟩, fun x hx => ?_, rfl⟩ (bw_Kp_tr (bw_Kp_tr (bw_Kp_tr (bw_Kp_tr (bw_Kp_tr a6 b6) c7) d7) e2) i2) (by omega)
      · rw [bw_up_n (by omega)]
        by_cases e : x = q
        · subst e
          rw [bw_up_s, pk_us]
        · rw [bw_up_n e, pk_un e, bw_up_n (by omega)]
          by_cases e' : x = p
          · subst e'
            rw [bw_up_s, pk_us]
          · rw [bw_up_n e', pk_un e', hh4 x (by omega) (by omega)]
            exact hH x hx
      · rw [bw_up_n (by omega), bw_up_n (by omega), bw_up_s]
      · rw [bw_up_n (by omega)]
        by_cases e : x = q
        · subst e
          rw [bw_up_s, pk_us, bw_up_n (by omega), bw_up_n (by omega), d3, h20]
          exact ⟨0, by omega, rfl, by show 1 ≤ _; omega⟩
        · rw [bw_up_n e, pk_un e, bw_up_n (by omega)]
          by_cases e' : x = p
          · subst e'
            rw [bw_up_s, pk_us, d2 19 (by omega), h19, List.length_append, List.length_append]
            refine ⟨0, by omega, rfl, ?_⟩
            have pw : ((S1 ++ S2).map fun r => r.2.2.1).Pairwise (· < ·) := by
              rw [List.map_append]
              refine List.pairwise_append.mpr ⟨b7.2.2, a7.2.2, fun u hu v hv => ?_⟩
              obtain ⟨r, hr, er⟩ := List.mem_map.mp hu
              obtain ⟨s, hs, es⟩ := List.mem_map.mp hv
              obtain ⟨r', w1, w2, w3⟩ := bw_S_src b7 hr
              obtain ⟨s', z1, z2, z3⟩ := bw_S_src a7 hs
              obtain ⟨k1, k2⟩ := bw_T_rng (hT.2.2.2.1 x hp) w1 w2
              obtain ⟨l1, l2⟩ := bw_T_rng (hT.2.2.2.1 q hq) z1 z2
              rcases bw_lge r'.2.2.1 (b q) with y | y
              · omega
              · have := k2 q hq y
                have := g3.1
                omega
            have := hM _ pw (fun k hk => by
              rw [List.map_append] at hk
              rcases List.mem_append.mp hk with hk | hk
              · obtain ⟨r, hr, er⟩ := List.mem_map.mp hk
                obtain ⟨r', w1, w2, w3⟩ := bw_S_src b7 hr
                obtain ⟨k1, k2⟩ := bw_T_rng (hT.2.2.2.1 x hp) w1 w2
                rw [← er, ← w3, ← hT.2.2.2.2.1 x _ hp k1 k2, bw_vis_con w2]
                exact fun z => by cases z
              · obtain ⟨r, hr, er⟩ := List.mem_map.mp hk
                obtain ⟨r', w1, w2, w3⟩ := bw_S_src a7 hr
                obtain ⟨k1, k2⟩ := bw_T_rng (hT.2.2.2.1 q hq) w1 w2
                rw [← er, ← w3, ← hT.2.2.2.2.1 q _ hq k1 k2, bw_vis_con w2]
                exact fun z => by cases z)
            rw [List.length_map, List.length_append] at this
            omega
          · rw [bw_up_n e', pk_un e', d2 x (by omega), hP3 x (by omega)]
            exact hD x hx
      · refine bw_T_merge (a := a) (y := (Y3 (nI f.1).toNatClampNeg).toInt) (W := W) (S1 := S1) (S2 := S2) hT hp hq g2 g3 (fun x hx1 hx2 => ?_) ?_ c4 b7 a7 ?_
        · by_cases e : x = 20
          · subst e
            rw [bw_up_s, e20]
          · rw [bw_up_n e, bw_up_n hx2]
            by_cases e' : x = 19
            · subst e'
              rw [bw_up_s, e19]
            · rw [bw_up_n e', bw_up_n hx1, d2 x e, hP3 x e']
        · rw [bw_up_n (by omega), bw_up_n hpq, bw_up_n (by omega), bw_up_s, d2 19 (by omega), h19]
        · rw [bw_up_n (by omega), bw_up_s, bw_up_n (by omega), bw_up_n (by omega), d3, h20]
      · rw [cl, m3']
        exact f4
      · by_cases e : x = q
        · subst e
          rcases hU x hx with ⟨z1, _⟩ | ⟨_, _, _, z4, _⟩
          · exact Or.inl ⟨z1, Or.inr (Or.inr rfl)⟩
          · exact absurd hq z4
        · rcases hU x hx with ⟨z1, z2⟩ | ⟨z1, z2, z3, z4, z5⟩
          · refine Or.inl ⟨z1, ?_⟩
            rcases z2 with z2 | z2 | z2
            · exact Or.inl z2
            · exact Or.inr (Or.inl ⟨z2, e⟩)
            · cases z2
          · have xp : x ≠ p := fun w => z4 (by rw [w]; exact hp)
            refine Or.inr ⟨z1, ?_, z3, fun w => z4 w.1, fun w => e (Option.some.inj w).symm⟩
            rw [bw_up_n (by omega), bw_up_n e, bw_up_n (by omega), bw_up_n xp, d2 x (by omega), hP3 x (by omega)]
            exact z2
theorem bw_upkeep {post : SX → Prop} {key : Int32} {n : Nat} (hL : bw_LE fh fc r0 r1 mp mk K Y V N Lk H D U R1 own n M) (hM : bw_fewM M)
    (hp : ∀ (fh' fc' r0' mp' mk' : Int32) (K' Y' V' N' Lk' H' D' U' : Nat → Int32) (own' : Nat → Nat) (n' : Nat), bw_LE fh' fc' r0' r1 mp' mk' K' Y' V' N' Lk' H' D' U' R1 own' n' M → bw_Kp K Y V N H own K' Y' V' N' H' own' → (n' = n ∨ 954 ≤ n') → post (q1, q2, q3, q4, q5, q6, q7, q8, q9, q10, q11, q12, q13, q14, q15, cap, thr, win, fh', fc', r0', r1, mp', mk', ic, he0, he1, pc, K', Y', V', N', Lk', H', D', U', sg, ok, oy, oa, lg, fo, rk, rv, st, cu)) : wpX_upkeep post (q1, q2, q3, q4, q5, q6, q7, q8, q9, q10, q11, q12, q13, q14, q15, cap, thr, win, fh, fc, r0, r1, mp, mk, ic, he0, he1, pc, K, Y, V, N, Lk, H, D, U, sg, ok, oy, oa, lg, fo, rk, rv, st, cu) key := by
  have hsame : post (q1, q2, q3, q4, q5, q6, q7, q8, q9, q10, q11, q12, q13, q14, q15, cap, thr, win, fh, fc, r0, r1, mp, mk, ic, he0, he1, pc, K, Y, V, N, Lk, H, D, U, sg, ok, oy, oa, lg, fo, rk, rv, st, cu) := hp fh fc r0 mp mk K Y V N Lk H D U own n hL bw_Kp_rf (Or.inl rfl)
  obtain ⟨P, F, R0, lf, b, mq, mK, hR, hT, hmp, hU, hn⟩ := hL
  have hfc : fc = nI F.length ∧ F.length ≤ 4096 := by
    obtain ⟨hd, h, _⟩ := hR
    have := h.2.2.2.2.2.1
    exact ⟨h.2.1, by omega⟩
  refine br_c (fun le => ?_) (fun _ => hsame)
  have hF : 1024 ≤ F.length := by
    rw [hfc.1] at le
    exact (nI_leI (a := 1024) (by decide) (by omega)).mp le
  have done : ∀ (fh' fc' r0' mp' mk' : Int32) (K' Y' V' N' Lk' H' D' U' : Nat → Int32) (own' : Nat → Nat) (n' : Nat), bw_LE fh' fc' r0' r1 mp' mk' K' Y' V' N' Lk' H' D' U' R1 own' n' M → bw_Kp K Y V N H own K' Y' V' N' H' own' → F.length ≤ n' + 70 → post (q1, q2, q3, q4, q5, q6, q7, q8, q9, q10, q11, q12, q13, q14, q15, cap, thr, win, fh', fc', r0', r1, mp', mk', ic, he0, he1, pc, K', Y', V', N', Lk', H', D', U', sg, ok, oy, oa, lg, fo, rk, rv, st, cu) :=
    fun fh' fc' r0' mp' mk' K' Y' V' N' Lk' H' D' U' own' n' l k hb => hp fh' fc' r0' mp' mk' K' Y' V' N' Lk' H' D' U' own' n' l k (Or.inr (by omega))
  refine bw_finishMerge hR hT hmp hU (by omega) (fun e => br_t rfl ?_) (fun fh' fc' r0' mp' mk' K' Y' V' N' Lk' H' D' U' own' n' l k hb => br_f (by decide) (done fh' fc' r0' mp' mk' K' Y' V' N' Lk' H' D' U' own' n' l k hb))
  subst e
  refine bw_postIndex hR hT hmp hU (by omega) (br_t rfl ?_) (fun fh' fc' r0' mp' mk' K' Y' V' N' Lk' H' D' U' own' n' l k hb => br_f (by decide) (done fh' fc' r0' mp' mk' K' Y' V' N' Lk' H' D' U' own' n' l k hb))
  refine bw_leafFor (ro := 0) (bw_Rs_row hR) hT fun p hpl => ?_
  refine bw_tidy (p := 0) hR hT hmp hU (by omega) hM (Or.inl rfl) (br_t rfl ?_) (fun fh' fc' r0' mp' mk' K' Y' V' N' Lk' H' D' U' own' n' l k hb => br_f (by decide) (done fh' fc' r0' mp' mk' K' Y' V' N' Lk' H' D' U' own' n' l k hb))
  refine bw_tidy (p := p) hR hT hmp hU (by omega) hM (Or.inr hpl.1) (br_t rfl ?_) (fun fh' fc' r0' mp' mk' K' Y' V' N' Lk' H' D' U' own' n' l k hb => br_f (by decide) (done fh' fc' r0' mp' mk' K' Y' V' N' Lk' H' D' U' own' n' l k hb))
  refine bw_split hR hT hmp hU (by omega) hM hpl.1 (br_t rfl ?_) (fun fh' fc' r0' mp' mk' K' Y' V' N' Lk' H' D' U' own' n' l k hb => br_f (by decide) (done fh' fc' r0' mp' mk' K' Y' V' N' Lk' H' D' U' own' n' l k hb))
  exact bw_merge hR hT hmp hU (by omega) hM hpl.1 hsame done
end bw_S11
end
section
/-! the reference -/
def bw_My (yu yk yv : Nat → Int32) (M : Int → Option Int32) : Prop :=
  (∀ i, i < 32 → yu i = 0 ∨ yu i = 1) ∧ (∀ i, i < 32 → yu i ≠ 0 → M (yk i).toInt = some (yv i)) ∧ (∀ k v, M k = some v → ∃ i, i < 32 ∧ yu i ≠ 0 ∧ (yk i).toInt = k) ∧ (∀ i j, i < 32 → j < 32 → yu i ≠ 0 → yu j ≠ 0 → yk i = yk j → i = j)
theorem bw_My_few {yu yk yv : Nat → Int32} {M : Int → Option Int32} (h : bw_My yu yk yv M) : bw_fewM M := by
  intro ks h1 h2
  refine bw_pigeon 32 ks (fun k i => (yk i).toInt = k) (bw_pw_nodup h1) (fun k hk => ?_) (fun k k' q a b => a.symm.trans b)
  cases hc : M k with
  | none => exact absurd hc (h2 k hk)
  | some v =>
    obtain ⟨i, h3, _, h5⟩ := h.2.2.1 k v hc
    exact ⟨i, h3, h5⟩
theorem bw_Int64_max : (4294967296 : Int64).toInt = 4294967296 := by decide
/-- what next answers -/
def bw_NS (M : Int → Option Int32) (key : Int) (r : Int64) : Prop :=
  (r = 4294967296 ∧ ∀ k, key ≤ k → M k = none) ∨ ∃ x : Int32, r = x.toInt64 ∧ key ≤ x.toInt ∧ M x.toInt ≠ none ∧ ∀ k, key ≤ k → k < x.toInt → M k = none
theorem bw_NS_u {M : Int → Option Int32} {key : Int} {r s : Int64} (h : bw_NS M key r) (h' : bw_NS M key s) : r = s := by
  rcases h with ⟨a1, a2⟩ | ⟨x, a1, a2, a3, a4⟩ <;> rcases h' with ⟨b1, b2⟩ | ⟨y, b1, b2, b3, b4⟩
  · rw [a1, b1]
  · exact absurd (a2 _ b2) b3
  · exact absurd (b2 _ a2) a3
  · have e : x.toInt = y.toInt := by
      rcases Int.lt_trichotomy x.toInt y.toInt with z | z | z
      · exact absurd (b4 _ a2 z) a3
      · exact z
      · exact absurd (a4 _ b2 z) b3
    rw [a1, b1, Int32.toInt_inj.mp e]
section bw_S12
variable {q1 q2 q3 q4 q5 q6 q7 q8 q9 q10 q11 q12 q13 q14 q15 cap thr win fh fc r0 r1 mp mk ic he0 he1 pc : Int32} {K Y V N Lk H D U sg ok oy oa lg fo rk rv st : Nat → Int32} {cu : Nat → Int64}
variable {yu yk yv zu zk zv zg : Nat → Int32}
variable {M : Int → Option Int32}
theorem bw_slot_l {post : Int32 → Prop} {key : Int32} (hM : bw_My yu yk yv M) (hn : M key.toInt = none → post (-1)) (hs : ∀ i, i < 32 → yu i = 1 → yk i = key → M key.toInt = some (yv i) → post (nI i)) : ∀ (m i n : Nat), i + m = 32 → m < n → (∀ j, j < i → yu j ≠ 0 → ¬ yk j = key) → wY_slotOf_2 post key cap thr win ic he0 he1 yu yk yv sg ok oy oa lg fo rk rv st zu zk zv zg n (nI i) := by
  intro m
  induction m with
  | zero =>
    intro i n hi hn' hno
    obtain ⟨n, rfl⟩ : ∃ m, n = m + 1 := ⟨n - 1, by omega⟩
    refine br_t (nI_le (a := 32) (by omega) (by omega)) (hn ?_)
    cases hc : M key.toInt with
    | none => rfl
    | some v =>
      obtain ⟨j, h3, h4, h5⟩ := hM.2.2.1 _ v hc
      exact absurd (Int32.toInt_inj.mp h5) (hno j (by omega) h4)
  | succ m ih =>
    intro i n hi hn' hno
    obtain ⟨n, rfl⟩ : ∃ m, n = m + 1 := ⟨n - 1, by omega⟩
    have cl : (nI i).toNatClampNeg = i := nI_clamp (by omega)
    have hin : vp_in (nI i) 32 := vp_in_nI (by omega) (by decide)
    refine br_f (nI_ge (b := 32) (by omega) (by decide)) ⟨hin, br_c (fun e => nm_e ?_) (fun e => ⟨hin, br_c (fun ek => ?_) (fun ek => nm_e ?_)⟩)⟩
    · rw [nI_1]
      rw [cl] at e
      refine ih (i + 1) n (by omega) (by omega) fun j hj hu => ?_
      rcases Nat.lt_or_ge j i with z | z
      · exact hno j z hu
      · have ej : j = i := by omega
        subst ej
        exact absurd e hu
    · rw [cl] at e ek
      have h1 : yu i = 1 := (hM.1 i (by omega)).resolve_left e
      exact hs i (by omega) h1 ek (by rw [← ek]; exact hM.2.1 i (by omega) e)
    · rw [nI_1]
      rw [cl] at ek
      refine ih (i + 1) n (by omega) (by omega) fun j hj hu => ?_
      rcases Nat.lt_or_ge j i with z | z
      · exact hno j z hu
      · have ej : j = i := by omega
        subst ej
        exact ek
theorem bw_slot {post : Int32 → Prop} {key : Int32} (hM : bw_My yu yk yv M) (hn : M key.toInt = none → post (-1)) (hs : ∀ i, i < 32 → yu i = 1 → yk i = key → M key.toInt = some (yv i) → post (nI i)) : wpY_slotOf post (cap, thr, win, ic, he0, he1, yu, yk, yv, sg, ok, oy, oa, lg, fo, rk, rv, st, zu, zk, zv, zg) key :=
  ⟨33, bw_slot_l hM hn hs 32 0 33 (by omega) (by omega) (fun j hj => by omega)⟩
theorem bw_size_l {post : Int32 → Prop} (hp : post (nI (bw_cn (fun i => yu i ≠ 0) 32))) : ∀ (m i n : Nat), i + m = 32 → m < n → wY_size_4 post cap thr win ic he0 he1 yu yk yv sg ok oy oa lg fo rk rv st zu zk zv zg n (nI (bw_cn (fun i => yu i ≠ 0) i)) (nI i) := by
  intro m
  induction m with
  | zero =>
    intro i n hi hn'
    obtain ⟨n, rfl⟩ : ∃ m, n = m + 1 := ⟨n - 1, by omega⟩
    have e : i = 32 := by omega
    subst e
    exact br_t (nI_le (a := 32) (by omega) (by omega)) hp
  | succ m ih =>
    intro i n hi hn'
    obtain ⟨n, rfl⟩ : ∃ m, n = m + 1 := ⟨n - 1, by omega⟩
    have cl : (nI i).toNatClampNeg = i := nI_clamp (by omega)
    have hin : vp_in (nI i) 32 := vp_in_nI (by omega) (by decide)
    have W := ih (i + 1) n (by omega) (by omega)
    refine br_f (nI_ge (b := 32) (by omega) (by decide)) ⟨hin, br_c (fun e => nm_e ?_) (fun e => nm_e (nm_e ?_))⟩
    · rw [nI_1]
      rw [cl] at e
      rw [bw_cn, bw_b01_f (fun z => z e)] at W
      exact W
    · rw [nI_1, nI_1]
      rw [cl] at e
      rw [bw_cn, bw_b01_t e] at W
      exact W
theorem bw_size {post : Int32 → Prop} (hp : post (nI (bw_cn (fun i => yu i ≠ 0) 32))) : wpY_size post (cap, thr, win, ic, he0, he1, yu, yk, yv, sg, ok, oy, oa, lg, fo, rk, rv, st, zu, zk, zv, zg) := ⟨33, bw_size_l hp 32 0 33 (by omega) (by omega)⟩
def bw_NI (yu yk : Nat → Int32) (key : Int) (i : Nat) (r : Int64) : Prop :=
  (r = 4294967296 ∧ ∀ j, j < i → yu j ≠ 0 → (yk j).toInt < key) ∨ ∃ q, q < 32 ∧ yu q ≠ 0 ∧ r = (yk q).toInt64 ∧ key ≤ (yk q).toInt ∧ ∀ j, j < i → yu j ≠ 0 → key ≤ (yk j).toInt → (yk q).toInt ≤ (yk j).toInt
theorem bw_next_l {post : Int64 → Prop} {key : Int32} (hp : ∀ r, bw_NI yu yk key.toInt 32 r → post r) : ∀ (m i n : Nat) (r : Int64), i + m = 32 → m < n → bw_NI yu yk key.toInt i r → wY_next_7 post key cap thr win ic he0 he1 yu yk yv sg ok oy oa lg fo rk rv st zu zk zv zg n r (nI i) := by
  intro m
  induction m with
  | zero =>
    intro i n r hi hn' hr
    obtain ⟨n, rfl⟩ : ∃ m, n = m + 1 := ⟨n - 1, by omega⟩
    have e : i = 32 := by omega
    subst e
    exact br_t (nI_le (a := 32) (by omega) (by omega)) (hp r hr)
  | succ m ih =>
    intro i n r hi hn' hr
    obtain ⟨n, rfl⟩ : ∃ m, n = m + 1 := ⟨n - 1, by omega⟩
    have cl : (nI i).toNatClampNeg = i := nI_clamp (by omega)
    have hin : vp_in (nI i) 32 := vp_in_nI (by omega) (by decide)
    have keep : (yu i ≠ 0 → key.toInt ≤ (yk i).toInt → ∃ q, q < 32 ∧ r = (yk q).toInt64 ∧ (yk q).toInt ≤ (yk i).toInt) → wY_next_7 post key cap thr win ic he0 he1 yu yk yv sg ok oy oa lg fo rk rv st zu zk zv zg n r (nI i + 1) := by
      intro h
      rw [nI_1]
      refine ih (i + 1) n r (by omega) (by omega) ?_
      rcases hr with ⟨a1, a2⟩ | ⟨q, a1, a2, a3, a4, a5⟩
      · refine Or.inl ⟨a1, fun j hj hu => ?_⟩
        rcases Nat.lt_or_ge j i with z | z
        · exact a2 j z hu
        · have ej : j = i := by omega
          subst ej
          rcases bw_lge (yk j).toInt key.toInt with w | w
          · exact w
          · obtain ⟨q, _, q2, _⟩ := h hu w
            have e1 := congrArg Int64.toInt (a1.symm.trans q2)
            rw [bw_Int64_max, Int32.toInt_toInt64] at e1
            have := (bw_irg (yk q)).2
            omega
      · refine Or.inr ⟨q, a1, a2, a3, a4, fun j hj hu hk => ?_⟩
        rcases Nat.lt_or_ge j i with z | z
        · exact a5 j z hu hk
        · have ej : j = i := by omega
          subst ej
          obtain ⟨q', _, q2, q3⟩ := h hu hk
          have e1 := congrArg Int64.toInt (a3.symm.trans q2)
          rw [Int32.toInt_toInt64, Int32.toInt_toInt64] at e1
          omega
    refine br_f (nI_ge (b := 32) (by omega) (by decide)) ⟨hin, br_c (fun e => nm_e (keep fun hu => ?_)) (fun e => ⟨hin, br_c (fun ek => nm_e (keep fun _ hk => ?_)) (fun ek => ⟨hin, br_c (fun el => nm_e (keep fun _ hk => ?_)) (fun el => ⟨hin, nm_e (nm_e ?_)⟩)⟩)⟩)⟩
    · rw [cl] at e
      exact absurd e hu
    · rw [cl] at ek
      have := bw_ilt.mp ek
      omega
    · rw [cl] at el ek
      have h1 := Int64.le_iff_toInt_le.mp el
      rw [Int32.toInt_toInt64] at h1
      rcases hr with ⟨a1, a2⟩ | ⟨q, a1, a2, a3, a4, a5⟩
      · rw [a1, bw_Int64_max] at h1
        have := (bw_irg (yk i)).2
        omega
      · refine ⟨q, a1, a3, ?_⟩
        rw [a3, Int32.toInt_toInt64] at h1
        exact h1
    · rw [cl, nI_1]
      rw [cl] at e ek el
      have hk : key.toInt ≤ (yk i).toInt := by
        have : ¬ _ := fun z => ek (bw_ilt.mpr z)
        omega
      refine ih (i + 1) n _ (by omega) (by omega) (Or.inr ⟨i, by omega, e, rfl, hk, fun j hj hu hkj => ?_⟩)
      have h1 : ¬ _ := fun z => el (Int64.le_iff_toInt_le.mpr z)
      rw [Int32.toInt_toInt64] at h1
      rcases Nat.lt_or_ge j i with z | z
      · rcases hr with ⟨a1, a2⟩ | ⟨q, a1, a2, a3, a4, a5⟩
        · have := a2 j z hu
          omega
        · have := a5 j z hu hkj
          rw [a3, Int32.toInt_toInt64] at h1
          omega
      · have ej : j = i := by omega
        subst ej
        exact Int.le_refl _
theorem bw_nextY {post : Int64 → Prop} {key : Int32} (hM : bw_My yu yk yv M) (hp : ∀ r, bw_NS M key.toInt r → post r) : wpY_next post (cap, thr, win, ic, he0, he1, yu, yk, yv, sg, ok, oy, oa, lg, fo, rk, rv, st, zu, zk, zv, zg) key := by
  refine ⟨33, bw_next_l (fun r hr => hp r ?_) 32 0 33 4294967296 (by omega) (by omega) (Or.inl ⟨rfl, fun j hj => by omega⟩)⟩
  rcases hr with ⟨a1, a2⟩ | ⟨q, a1, a2, a3, a4, a5⟩
  · refine Or.inl ⟨a1, fun k hk => ?_⟩
    cases hc : M k with
    | none => rfl
    | some v =>
      obtain ⟨j, h3, h4, h5⟩ := hM.2.2.1 _ v hc
      have := a2 j h3 h4
      omega
  · refine Or.inr ⟨yk q, a3, a4, by rw [hM.2.1 q a1 a2]; exact fun z => (by cases z), fun k k1 k2 => ?_⟩
    cases hc : M k with
    | none => rfl
    | some v =>
      obtain ⟨j, h3, h4, h5⟩ := hM.2.2.1 _ v hc
      have := a5 j h3 h4 (by omega)
      omega
/-! load's copy -/
theorem bw_boo {x : Int32} (h : x = 0 ∨ x = 1) : vp_nar .boolean x = x := by
  rcases h with h | h <;> subst h <;> rfl
theorem bw_cpy_y {post : Int32 → SY → Prop} {t : Nat} {zu0 zk0 zv0 zg0 : Nat → Int32} (ht : t < 4) (hb : ∀ i, i < 32 → yu i = 0 ∨ yu i = 1)
    (hp : ∀ (zu zk zv zg : Nat → Int32), (∀ i, i < 32 → zu (t * 32 + i) = yu i ∧ zk (t * 32 + i) = yk i ∧ zv (t * 32 + i) = yv i ∧ zg (t * 32 + i) = 0) → (∀ j, (j < t * 32 ∨ t * 32 + 32 ≤ j) → zu j = zu0 j ∧ zk j = zk0 j ∧ zv j = zv0 j ∧ zg j = zg0 j) → post 2 (cap, thr, win, ic, he0, he1, yu, yk, yv, sg, ok, oy, oa, lg, fo, rk, rv, st, zu, zk, zv, zg)) :
    ∀ (m i n : Nat) (zu zk zv zg : Nat → Int32), i + m = 32 → m < n → (∀ j, j < i → zu (t * 32 + j) = yu j ∧ zk (t * 32 + j) = yk j ∧ zv (t * 32 + j) = yv j ∧ zg (t * 32 + j) = 0) → (∀ j, (j < t * 32 ∨ t * 32 + 32 ≤ j) → zu j = zu0 j ∧ zk j = zk0 j ∧ zv j = zv0 j ∧ zg j = zg0 j) → wY_load_29 post (nI t) cap thr win ic he0 he1 n (nI i) yu yk yv sg ok oy oa lg fo rk rv st zu zk zv zg := by
  intro m
  induction m with
  | zero =>
    intro i n zu zk zv zg hi hn' h1 h2
    obtain ⟨n, rfl⟩ : ∃ m, n = m + 1 := ⟨n - 1, by omega⟩
    have e : i = 32 := by omega
    subst e
    exact br_t (nI_le (a := 32) (by omega) (by omega)) (hp zu zk zv zg h1 h2)
  | succ m ih =>
    intro i n zu zk zv zg hi hn' h1 h2
    obtain ⟨n, rfl⟩ : ∃ m, n = m + 1 := ⟨n - 1, by omega⟩
    have cl : (nI i).toNatClampNeg = i := nI_clamp (by omega)
    have hin : vp_in (nI i) 32 := vp_in_nI (by omega) (by decide)
    have ep : nI t * 32 + nI i = nI (t * 32 + i) := by
      rw [show (32 : Int32) = nI 32 from rfl, pk_mul, nI_add]
    have cp : (nI (t * 32 + i)).toNatClampNeg = t * 32 + i := nI_clamp (by omega)
    have hip : vp_in (nI (t * 32 + i)) 128 := vp_in_nI (by omega) (by decide)
    refine br_f (nI_ge (b := 32) (by omega) (by decide)) (nm_r ep ⟨hin, hip, nm_e ⟨hin, hip, nm_e ⟨hin, hip, nm_e ⟨hip, nm_e (nm_e ?_)⟩⟩⟩⟩)
    rw [cp, cl, nI_1, bw_boo (hb i (by omega)), bw_bo0]
    refine ih (i + 1) n _ _ _ _ (by omega) (by omega) (fun j hj => ?_) (fun j hj => ?_)
    · rcases Nat.lt_or_ge j i with z | z
      · have ne : t * 32 + j ≠ t * 32 + i := by omega
        rw [pk_un ne, pk_un ne, pk_un ne, pk_un ne]
        exact h1 j z
      · have ej : j = i := by omega
        subst ej
        rw [pk_us, pk_us, pk_us, pk_us]
        exact ⟨rfl, rfl, rfl, rfl⟩
    · have ne : j ≠ t * 32 + i := by omega
      rw [pk_un ne, pk_un ne, pk_un ne, pk_un ne]
      exact h2 j hj
/-! give -/
def bw_GI (zu zk zg : Nat → Int32) (t : Nat) (lo hi : Int) (i : Nat) : Option Nat → Prop
  | none => ∀ j, j < i → zu (t * 32 + j) ≠ 0 → zg (t * 32 + j) = 0 → lo ≤ (zk (t * 32 + j)).toInt → ¬ (zk (t * 32 + j)).toInt ≤ hi
  | some q => q < 32 ∧ zu (t * 32 + q) ≠ 0 ∧ zg (t * 32 + q) = 0 ∧ lo ≤ (zk (t * 32 + q)).toInt ∧ (zk (t * 32 + q)).toInt ≤ hi ∧ ∀ j, j < i → zu (t * 32 + j) ≠ 0 → zg (t * 32 + j) = 0 → lo ≤ (zk (t * 32 + j)).toInt → (zk (t * 32 + j)).toInt ≤ hi → (zk (t * 32 + q)).toInt ≤ (zk (t * 32 + j)).toInt
def bw_pI (t : Nat) : Option Nat → Int32
  | none => -1
  | some q => nI (t * 32 + q)
theorem bw_give_l {post : Int32 → SY → Prop} {t : Nat} (ht : t < 4)
    (hn : bw_GI zu zk zg t (oy t).toInt (oa t).toInt 32 none → post 3 (cap, thr, win, ic, he0, he1, yu, yk, yv, upd sg t 0, ok, oy, oa, lg, upd fo t 0, upd rk t 0, upd rv t 0, st, zu, zk, zv, zg))
    (hs : ∀ q, bw_GI zu zk zg t (oy t).toInt (oa t).toInt 32 (some q) → post 5 (cap, thr, win, ic, he0, he1, yu, yk, yv, sg, ok, oy, oa, lg, upd fo t 1, upd rk t (zk (t * 32 + q)), upd rv t (zv (t * 32 + q)), st, zu, zk, zv, upd zg (t * 32 + q) 1)) :
    ∀ (m i n : Nat) (o : Option Nat), i + m = 32 → m < n → bw_GI zu zk zg t (oy t).toInt (oa t).toInt i o → wY_give_4 post (nI t) cap thr win ic he0 he1 yu yk yv sg ok oy oa lg fo rk rv st zu zk zv zg n (bw_pI t o) (nI i) := by
  have ct : (nI t).toNatClampNeg = t := nI_clamp (by omega)
  have hit : vp_in (nI t) 4 := vp_in_nI ht (by decide)
  intro m
  induction m with
  | zero =>
    intro i n o hi hn' ho
    obtain ⟨n, rfl⟩ : ∃ m, n = m + 1 := ⟨n - 1, by omega⟩
    have e : i = 32 := by omega
    subst e
    refine br_t (nI_le (a := 32) (by omega) (by omega)) ?_
    cases o with
    | none =>
      have W := hn ho
      refine br_f bw_nneg1 ⟨hit, nm_e ⟨hit, nm_e ⟨hit, nm_e ⟨hit, nm_e ?_⟩⟩⟩⟩
      rw [ct, bw_bo0]
      exact W
    | some q =>
      have W := hs q ho
      have hq := ho.1
      have cp : (nI (t * 32 + q)).toNatClampNeg = t * 32 + q := nI_clamp (by omega)
      have hip : vp_in (nI (t * 32 + q)) 128 := vp_in_nI (by omega) (by decide)
      refine br_t (nI_pos' (n := t * 32 + q) (by omega)) ⟨hip, nm_e ⟨hit, nm_e ⟨hip, hit, nm_e ⟨hip, hit, nm_e ?_⟩⟩⟩⟩
      show post 5 _
      unfold bw_pI
      rw [ct, cp, bw_bo1]
      exact W
  | succ m ih =>
    intro i n o hi hn' ho
    obtain ⟨n, rfl⟩ : ∃ m, n = m + 1 := ⟨n - 1, by omega⟩
    have ep : nI t * 32 + nI i = nI (t * 32 + i) := by
      rw [show (32 : Int32) = nI 32 from rfl, pk_mul, nI_add]
    have cp : (nI (t * 32 + i)).toNatClampNeg = t * 32 + i := nI_clamp (by omega)
    have hip : vp_in (nI (t * 32 + i)) 128 := vp_in_nI (by omega) (by decide)
    have keep : (zu (t * 32 + i) ≠ 0 → zg (t * 32 + i) = 0 → (oy t).toInt ≤ (zk (t * 32 + i)).toInt → (zk (t * 32 + i)).toInt ≤ (oa t).toInt → ∃ q, o = some q ∧ (zk (t * 32 + q)).toInt ≤ (zk (t * 32 + i)).toInt) → wY_give_4 post (nI t) cap thr win ic he0 he1 yu yk yv sg ok oy oa lg fo rk rv st zu zk zv zg n (bw_pI t o) (nI i + 1) := by
      intro h
      rw [nI_1]
      refine ih (i + 1) n o (by omega) (by omega) ?_
      cases o with
      | none =>
        intro j hj h1 h2 h3 h4
        rcases Nat.lt_or_ge j i with z | z
        · exact ho j z h1 h2 h3 h4
        · have ej : j = i := by omega
          subst ej
          obtain ⟨q, hq, _⟩ := h h1 h2 h3 h4
          cases hq
      | some q =>
        obtain ⟨a1, a2, a3, a4, a5, a6⟩ := ho
        refine ⟨a1, a2, a3, a4, a5, fun j hj h1 h2 h3 h4 => ?_⟩
        rcases Nat.lt_or_ge j i with z | z
        · exact a6 j z h1 h2 h3 h4
        · have ej : j = i := by omega
          subst ej
          obtain ⟨q', hq, hle⟩ := h h1 h2 h3 h4
          cases hq
          exact hle
    have take : zu (t * 32 + i) ≠ 0 → zg (t * 32 + i) = 0 → (oy t).toInt ≤ (zk (t * 32 + i)).toInt → (zk (t * 32 + i)).toInt ≤ (oa t).toInt → (∀ q, o = some q → (zk (t * 32 + i)).toInt < (zk (t * 32 + q)).toInt) → wY_give_4 post (nI t) cap thr win ic he0 he1 yu yk yv sg ok oy oa lg fo rk rv st zu zk zv zg n (nI (t * 32 + i)) (nI i + 1) := by
      intro h1 h2 h3 h4 hq
      rw [nI_1]
      refine ih (i + 1) n (some i) (by omega) (by omega) ⟨by omega, h1, h2, h3, h4, fun j hj g1 g2 g3 g4 => ?_⟩
      rcases Nat.lt_or_ge j i with z | z
      · cases o with
        | none => exact absurd g4 (ho j z g1 g2 g3)
        | some q =>
          have := ho.2.2.2.2.2 j z g1 g2 g3 g4
          have := hq q rfl
          omega
      · have ej : j = i := by omega
        subst ej
        exact Int.le_refl _
    refine br_f (nI_ge (b := 32) (by omega) (by decide)) (nm_r ep ⟨hip, ?_⟩)
    rw [cp, ct]
    refine br_c (fun e => nm_e (keep fun h => absurd e h)) (fun e => ⟨hip, br_c (fun eg => ⟨hip, hit, br_c (fun lt => nm_e (keep fun _ _ h => ?_)) (fun nlt => ⟨hip, hit, br_c (fun gt => nm_e (keep fun _ _ _ h => ?_)) (fun ngt => ?_)⟩)⟩) (fun eg => nm_e (keep fun _ h => absurd h eg))⟩)
    · have := bw_ilt.mp lt
      omega
    · have := bw_ilt.mp gt
      omega
    · have h3 : (oy t).toInt ≤ (zk (t * 32 + i)).toInt := by
        have : ¬ _ := fun z => nlt (bw_ilt.mpr z)
        omega
      have h4 : (zk (t * 32 + i)).toInt ≤ (oa t).toInt := by
        have : ¬ _ := fun z => ngt (bw_ilt.mpr z)
        omega
      cases o with
      | none => exact br_t bw_neg1 (nm_e (take e eg h3 h4 fun q hq => by cases hq))
      | some q =>
        have hq := ho.1
        have cq : (nI (t * 32 + q)).toNatClampNeg = t * 32 + q := nI_clamp (by omega)
        have hiq : vp_in (nI (t * 32 + q)) 128 := vp_in_nI (by omega) (by decide)
        refine br_f (nI_pos (n := t * 32 + q) (by omega)) ⟨hip, hiq, br_c (fun le => nm_e (keep fun _ _ _ _ => ⟨q, rfl, ?_⟩)) (fun nle => nm_e (take e eg h3 h4 fun q' hq' => ?_))⟩
        · have := bw_ile.mp le
          change (zk (nI (t * 32 + q)).toNatClampNeg).toInt ≤ _ at this
          rw [cq] at this
          exact this
        · cases hq'
          have : ¬ _ := fun z => nle (bw_ile.mpr z)
          change ¬ (zk (nI (t * 32 + q)).toNatClampNeg).toInt ≤ _ at this
          rw [cq] at this
          omega
theorem bw_give {post : Int32 → SY → Prop} {t : Nat} (ht : t < 4)
    (hn : bw_GI zu zk zg t (oy t).toInt (oa t).toInt 32 none → post 3 (cap, thr, win, ic, he0, he1, yu, yk, yv, upd sg t 0, ok, oy, oa, lg, upd fo t 0, upd rk t 0, upd rv t 0, st, zu, zk, zv, zg))
    (hs : ∀ q, bw_GI zu zk zg t (oy t).toInt (oa t).toInt 32 (some q) → post 5 (cap, thr, win, ic, he0, he1, yu, yk, yv, sg, ok, oy, oa, lg, upd fo t 1, upd rk t (zk (t * 32 + q)), upd rv t (zv (t * 32 + q)), st, zu, zk, zv, upd zg (t * 32 + q) 1)) : wpY_give post (cap, thr, win, ic, he0, he1, yu, yk, yv, sg, ok, oy, oa, lg, fo, rk, rv, st, zu, zk, zv, zg) (nI t) :=
  ⟨33, bw_give_l ht hn hs 32 0 33 none (by omega) (by omega) (fun j hj => by omega)⟩
/-! a free slot -/
theorem bw_free_l {post : Int32 → SY → Prop} {x1 x2 : Int32} (hp : ∀ j, j < 32 → yu j = 0 → wY_install_195 post x1 x2 (nI j) cap thr win ic he0 he1 yu yk yv sg ok oy oa lg fo rk rv st zu zk zv zg) : ∀ (m i n : Nat) (x : Int32), i + m = 32 → m < n → ((∃ j, j < 32 ∧ yu j = 0 ∧ x = nI j) ∨ ∃ j, i ≤ j ∧ j < 32 ∧ yu j = 0) → wY_install_169 post x1 x2 cap thr win ic he0 he1 yu yk yv sg ok oy oa lg fo rk rv st zu zk zv zg n x (nI i) := by
  intro m
  induction m with
  | zero =>
    intro i n x hi hn' hx
    obtain ⟨n, rfl⟩ : ∃ m, n = m + 1 := ⟨n - 1, by omega⟩
    refine br_t (nI_le (a := 32) (by omega) (by omega)) ?_
    rcases hx with ⟨j, h1, h2, h3⟩ | ⟨j, h1, h2, h3⟩
    · subst h3
      exact hp j h1 h2
    · omega
  | succ m ih =>
    intro i n x hi hn' hx
    obtain ⟨n, rfl⟩ : ∃ m, n = m + 1 := ⟨n - 1, by omega⟩
    have cl : (nI i).toNatClampNeg = i := nI_clamp (by omega)
    have hin : vp_in (nI i) 32 := vp_in_nI (by omega) (by decide)
    refine br_f (nI_ge (b := 32) (by omega) (by decide)) ⟨hin, br_c (fun e => nm_e ?_) (fun e => nm_e ?_)⟩
    · rw [nI_1]
      rw [cl] at e
      exact ih (i + 1) n _ (by omega) (by omega) (Or.inl ⟨i, by omega, e, rfl⟩)
    · rw [nI_1]
      rw [cl] at e
      refine ih (i + 1) n x (by omega) (by omega) ?_
      rcases hx with hx | ⟨j, h1, h2, h3⟩
      · exact Or.inl hx
      · refine Or.inr ⟨j, ?_, h2, h3⟩
        rcases Nat.lt_or_ge i j with z | z
        · omega
        · have ej : i = j := by omega
          subst ej
          exact absurd h3 e
end bw_S12
end
section
/-! the relation -/
/-- what the scan of thread t may still read -/
def bw_Sn (K Y V N H : Nat → Int32) (own : Nat → Nat) (zu zk zv zg : Nat → Int32) (t : Nat) (y a l : Int32) (c : Int64) : Prop :=
  ∃ Q lf b mq mK Mz, bw_Row K Y V N H (16 * (t + 1)) Q ∧ (∀ p, p < 16 → ∀ r, r ∈ Q p → own r.1 ≠ 16 ∧ (l = 0 → own r.1 ≠ 18)) ∧ bw_Tree Q lf b mq mK Mz ∧
    bw_My (fun i => zu (t * 32 + i)) (fun i => zk (t * 32 + i)) (fun i => zv (t * 32 + i)) Mz ∧ (y.toInt ≤ c.toInt ∧ c.toInt ≤ 2147483648) ∧
    (∀ i, i < 32 → zu (t * 32 + i) ≠ 0 → y.toInt ≤ (zk (t * 32 + i)).toInt → (zk (t * 32 + i)).toInt ≤ a.toInt → (zg (t * 32 + i) = 0 ↔ c.toInt ≤ (zk (t * 32 + i)).toInt))
def bw_Th (K Y V N H : Nat → Int32) (own : Nat → Nat) (zu zk zv zg : Nat → Int32) (t : Nat) (s k y a l f : Int32) (c : Int64) : Prop :=
  (f = 0 ∨ f = 1) ∧ (s = 0 ∨ s = 1 ∨ s = 2) ∧ (l = 0 ∨ l = 1) ∧ (s ≠ 0 → k = 1 ∨ k = 2 ∨ k = 3 ∨ k = 4 ∨ k = 5) ∧ (s = 2 → k = 5 → bw_Sn K Y V N H own zu zk zv zg t y a l c)
def bw_Rl (cap thr win fh fc r0 r1 mp mk he0 he1 pc : Int32) (K Y V N Lk H D U sg ok oy oa lg fo : Nat → Int32) (cu : Nat → Int64) (yu yk yv zu zk zv zg : Nat → Int32) : Prop :=
  ∃ (R1 : List Nat) (own : Nat → Nat) (n : Nat) (M : Int → Option Int32) (C T W A B : Nat), bw_LE fh fc r0 r1 mp mk K Y V N Lk H D U R1 own n M ∧ bw_My yu yk yv M ∧
    (cap = nI C ∧ thr = nI T ∧ win = nI W ∧ he0 = nI A ∧ he1 = nI B ∧ pc = nI (bw_cn (fun i => yu i ≠ 0) 32)) ∧
    (8 ≤ C ∧ C ≤ 32 ∧ 1 ≤ T ∧ T ≤ 4 ∧ 4 ≤ W ∧ W ≤ 16 ∧ A + B ≤ W ∧ 954 ≤ n + 45 * (A + B) ∧ 954 ≤ n + R1.length + 45 * A ∧ bw_cn (fun i => yu i ≠ 0) 32 ≤ C) ∧
    (∀ t, T ≤ t → t < 4 → sg t = 0) ∧ (∀ t, t < 4 → bw_Th K Y V N H own zu zk zv zg t (sg t) (ok t) (oy t) (oa t) (lg t) (fo t) (cu t))
/-- the relation: the shared fields are equal, the trees give the reference's map -/
def i_Rel (_ : Nat) (u : SX) (v : SY) : Prop := match u with
  | (q1, q2, q3, q4, q5, q6, q7, q8, q9, q10, q11, q12, q13, q14, q15, cap, thr, win, fh, fc, r0, r1, mp, mk0, ic, he0, he1, pc, K, Y, V, N, Lk, H, D, U, sg, ok, oy, oa, lg, fo, rk, rv, st, cu) => match v with
    | (cap', thr', win', ic', he0', he1', yu, yk, yv, sg', ok', oy', oa', lg', fo', rk', rv', st', zu, zk, zv, zg) =>
      (cap = cap' ∧ thr = thr' ∧ win = win' ∧ ic = ic' ∧ he0 = he0' ∧ he1 = he1' ∧ sg = sg' ∧ ok = ok' ∧ oy = oy' ∧ oa = oa' ∧ lg = lg' ∧ fo = fo' ∧ rk = rk' ∧ rv = rv' ∧ st = st') ∧ bw_Rl cap thr win fh fc r0 r1 mp mk0 he0 he1 pc K Y V N Lk H D U sg ok oy oa lg fo cu yu yk yv zu zk zv zg
theorem i_up {k : Nat} {u : SX} {v : SY} (h : i_Rel k u v) : i_Rel (k + 5) u v := h
theorem bw_el {k : Nat} {Q : SX → SY → Prop} (h : ∀ (q1 q2 q3 q4 q5 q6 q7 q8 q9 q10 q11 q12 q13 q14 q15 cap thr win fh fc r0 r1 mp mk ic he0 he1 pc : Int32) (K Y V N Lk H D U sg ok oy oa lg fo rk rv st : Nat → Int32) (cu : Nat → Int64) (yu yk yv zu zk zv zg : Nat → Int32), bw_Rl cap thr win fh fc r0 r1 mp mk he0 he1 pc K Y V N Lk H D U sg ok oy oa lg fo cu yu yk yv zu zk zv zg → Q (q1, q2, q3, q4, q5, q6, q7, q8, q9, q10, q11, q12, q13, q14, q15, cap, thr, win, fh, fc, r0, r1, mp, mk, ic, he0, he1, pc, K, Y, V, N, Lk, H, D, U, sg, ok, oy, oa, lg, fo, rk, rv, st, cu) (cap, thr, win, ic, he0, he1, yu, yk, yv, sg, ok, oy, oa, lg, fo, rk, rv, st, zu, zk, zv, zg)) : ∀ {u : SX} {v : SY}, i_Rel k u v → Q u v
  | (q1, q2, q3, q4, q5, q6, q7, q8, q9, q10, q11, q12, q13, q14, q15, cap, thr, win, fh, fc, r0, r1, mp, mk0, ic, he0, he1, pc, K, Y, V, N, Lk, H, D, U, sg, ok, oy, oa, lg, fo, rk, rv, st, cu), (_, _, _, _, _, _, yu, yk, yv, _, _, _, _, _, _, _, _, _, zu, zk, zv, zg), ⟨⟨rfl, rfl, rfl, rfl, rfl, rfl, rfl, rfl, rfl, rfl, rfl, rfl, rfl, rfl, rfl⟩, hR⟩ => h q1 q2 q3 q4 q5 q6 q7 q8 q9 q10 q11 q12 q13 q14 q15 cap thr win fh fc r0 r1 mp mk0 ic he0 he1 pc K Y V N Lk H D U sg ok oy oa lg fo rk rv st cu yu yk yv zu zk zv zg hR
section bw_S13
variable {q1 q2 q3 q4 q5 q6 q7 q8 q9 q10 q11 q12 q13 q14 q15 cap thr win fh fc r0 r1 mp mk ic he0 he1 pc : Int32} {K Y V N Lk H D U sg ok oy oa lg fo rk rv st : Nat → Int32} {cu : Nat → Int64}
variable {yu yk yv zu zk zv zg : Nat → Int32}
theorem bw_in {k : Nat} (h : bw_Rl cap thr win fh fc r0 r1 mp mk he0 he1 pc K Y V N Lk H D U sg ok oy oa lg fo cu yu yk yv zu zk zv zg) : i_Rel k (q1, q2, q3, q4, q5, q6, q7, q8, q9, q10, q11, q12, q13, q14, q15, cap, thr, win, fh, fc, r0, r1, mp, mk, ic, he0, he1, pc, K, Y, V, N, Lk, H, D, U, sg, ok, oy, oa, lg, fo, rk, rv, st, cu) (cap, thr, win, ic, he0, he1, yu, yk, yv, sg, ok, oy, oa, lg, fo, rk, rv, st, zu, zk, zv, zg) := ⟨⟨rfl, rfl, rfl, rfl, rfl, rfl, rfl, rfl, rfl, rfl, rfl, rfl, rfl, rfl, rfl⟩, h⟩
theorem bw_tc (v1 : Int32) {T : Nat} (hT : T ≤ 4) : (v1 < 0 ∨ ¬ v1 < nI T) ∨ ∃ t, t < T ∧ v1 = nI t ∧ ¬ nI t < 0 ∧ nI t < nI T := by
  rcases pk_ix v1 (n := T) (by omega) with z | z | ⟨t, h1, h2⟩
  · exact Or.inl (Or.inl z)
  · exact Or.inl (Or.inr (Int32.not_lt.mpr z))
  · exact Or.inr ⟨t, h1, h2, nI_pos (by omega), nI_lt h1 (by omega)⟩
theorem bw_bdX {post : Int32 → Prop} {v1 : Int32} (hb : v1 < 0 ∨ ¬ v1 < thr) (hp : post 1) : wpX_badThread post (q1, q2, q3, q4, q5, q6, q7, q8, q9, q10, q11, q12, q13, q14, q15, cap, thr, win, fh, fc, r0, r1, mp, mk, ic, he0, he1, pc, K, Y, V, N, Lk, H, D, U, sg, ok, oy, oa, lg, fo, rk, rv, st, cu) v1 := by
  by_cases h : v1 < 0
  · exact br_t h hp
  · exact br_f h (br_f (hb.resolve_left h) hp)
theorem bw_bdY {post : Int32 → Prop} {v1 : Int32} (hb : v1 < 0 ∨ ¬ v1 < thr) (hp : post 1) : wpY_bad post (cap, thr, win, ic, he0, he1, yu, yk, yv, sg, ok, oy, oa, lg, fo, rk, rv, st, zu, zk, zv, zg) v1 := by
  by_cases h : v1 < 0
  · exact br_t h hp
  · exact br_f h (br_f (hb.resolve_left h) hp)
theorem bw_gdX {post : Int32 → Prop} {v1 : Int32} (h0 : ¬ v1 < 0) (h1 : v1 < thr) (hp : post 0) : wpX_badThread post (q1, q2, q3, q4, q5, q6, q7, q8, q9, q10, q11, q12, q13, q14, q15, cap, thr, win, fh, fc, r0, r1, mp, mk, ic, he0, he1, pc, K, Y, V, N, Lk, H, D, U, sg, ok, oy, oa, lg, fo, rk, rv, st, cu) v1 := br_f h0 (br_t h1 hp)
theorem bw_gdY {post : Int32 → Prop} {v1 : Int32} (h0 : ¬ v1 < 0) (h1 : v1 < thr) (hp : post 0) : wpY_bad post (cap, thr, win, ic, he0, he1, yu, yk, yv, sg, ok, oy, oa, lg, fo, rk, rv, st, zu, zk, zv, zg) v1 := br_f h0 (br_t h1 hp)
theorem bw_clrX {post : SX → Prop} {t : Nat} (ht : t < 4) (hp : post (q1, q2, q3, q4, q5, q6, q7, q8, q9, q10, q11, q12, q13, q14, q15, cap, thr, win, fh, fc, r0, r1, mp, mk, ic, he0, he1, pc, K, Y, V, N, Lk, H, D, U, sg, ok, oy, oa, lg, upd fo t 0, upd rk t 0, upd rv t 0, upd st t (-1), cu)) : wpX_clearResults post (q1, q2, q3, q4, q5, q6, q7, q8, q9, q10, q11, q12, q13, q14, q15, cap, thr, win, fh, fc, r0, r1, mp, mk, ic, he0, he1, pc, K, Y, V, N, Lk, H, D, U, sg, ok, oy, oa, lg, fo, rk, rv, st, cu) (nI t) := by
  have ct : (nI t).toNatClampNeg = t := nI_clamp (by omega)
  have hit : vp_in (nI t) 4 := vp_in_nI ht (by decide)
  refine And.intro hit (nm_e ⟨hit, nm_e ⟨hit, nm_e ⟨hit, nm_e ?_⟩⟩⟩)
  rw [ct, bw_bo0]
  exact hp
theorem bw_clrY {post : SY → Prop} {t : Nat} (ht : t < 4) (hp : post (cap, thr, win, ic, he0, he1, yu, yk, yv, sg, ok, oy, oa, lg, upd fo t 0, upd rk t 0, upd rv t 0, upd st t (-1), zu, zk, zv, zg)) : wpY_clear post (cap, thr, win, ic, he0, he1, yu, yk, yv, sg, ok, oy, oa, lg, fo, rk, rv, st, zu, zk, zv, zg) (nI t) := by
  have ct : (nI t).toNatClampNeg = t := nI_clamp (by omega)
  have hit : vp_in (nI t) 4 := vp_in_nI ht (by decide)
  refine And.intro hit (nm_e ⟨hit, nm_e ⟨hit, nm_e ⟨hit, nm_e ?_⟩⟩⟩)
  rw [ct, bw_bo0]
  exact hp
end bw_S13
theorem bw_Row_kp {K Y V N H K' Y' V' N' H' : Nat → Int32} {own own' : Nat → Nat} {ro : Nat} {Q : Nat → List bw_Rc} (h : bw_Row K Y V N H ro Q) (k : ∀ a, own a ≠ 16 → K' a = K a ∧ Y' a = Y a ∧ V' a = V a ∧ N' a = N a ∧ own' a ≠ 16 ∧ (own a ≠ 18 → own' a ≠ 18)) (hH : ∀ p, p < 16 → H' (ro + p) = H (ro + p)) (ho : ∀ p, p < 16 → ∀ r, r ∈ Q p → own r.1 ≠ 16) : bw_Row K' Y' V' N' H' ro Q := by
  refine ⟨h.1, fun p hp => ⟨?_, (h.2 p hp).2⟩⟩
  rw [hH p hp]
  refine bw_ch_congr (h.2 p hp).1 fun r hr => ?_
  obtain ⟨a1, a2, a3, a4, _⟩ := k r.1 (ho p hp r hr)
  exact ⟨a1, a2, a3, a4⟩
theorem bw_Sn_kp {K Y V N H K' Y' V' N' H' : Nat → Int32} {own own' : Nat → Nat} {zu zk zv zg : Nat → Int32} {t : Nat} {y a l : Int32} {c : Int64} (h : bw_Sn K Y V N H own zu zk zv zg t y a l c) (k : ∀ a, own a ≠ 16 → K' a = K a ∧ Y' a = Y a ∧ V' a = V a ∧ N' a = N a ∧ own' a ≠ 16 ∧ (own a ≠ 18 → own' a ≠ 18)) (hH : ∀ p, p < 16 → H' (16 * (t + 1) + p) = H (16 * (t + 1) + p)) : bw_Sn K' Y' V' N' H' own' zu zk zv zg t y a l c := by
  obtain ⟨Q, lf, b, mq, mK, Mz, h1, h2, h3⟩ := h
  refine ⟨Q, lf, b, mq, mK, Mz, bw_Row_kp h1 k hH fun p hp r hr => (h2 p hp r hr).1, fun p hp r hr => ?_, h3⟩
  obtain ⟨a1, a2⟩ := h2 p hp r hr
  obtain ⟨_, _, _, _, b5, b6⟩ := k r.1 a1
  exact ⟨b5, fun e => b6 (a2 e)⟩
theorem bw_Th_kp {K Y V N H K' Y' V' N' H' : Nat → Int32} {own own' : Nat → Nat} {zu zk zv zg : Nat → Int32} {t : Nat} {s kd y a l f : Int32} {c : Int64} (h : bw_Th K Y V N H own zu zk zv zg t s kd y a l f c) (k : bw_Kp K Y V N H own K' Y' V' N' H' own') : bw_Th K' Y' V' N' H' own' zu zk zv zg t s kd y a l f c := by
  obtain ⟨a1, a2, a3, a4, a5⟩ := h
  exact ⟨a1, a2, a3, a4, fun e1 e2 => bw_Sn_kp (a5 e1 e2) k.1 fun p hp => k.2 _ (by omega)⟩
theorem bw_My_cg {yu yk yv yu' yk' yv' : Nat → Int32} {M : Int → Option Int32} (h : bw_My yu yk yv M) (e : ∀ i, i < 32 → yu' i = yu i ∧ yk' i = yk i ∧ yv' i = yv i) : bw_My yu' yk' yv' M := by
  obtain ⟨h1, h2, h3, h4⟩ := h
  refine ⟨fun i hi => by rw [(e i hi).1]; exact h1 i hi, fun i hi hu => ?_, fun k v hk => ?_, fun i j hi hj hu hv ee => ?_⟩
  · rw [(e i hi).1] at hu
    rw [(e i hi).2.1, (e i hi).2.2]
    exact h2 i hi hu
  · obtain ⟨i, a1, a2, a3⟩ := h3 k v hk
    exact ⟨i, a1, by rw [(e i a1).1]; exact a2, by rw [(e i a1).2.1]; exact a3⟩
  · rw [(e i hi).1] at hu
    rw [(e j hj).1] at hv
    rw [(e i hi).2.1, (e j hj).2.1] at ee
    exact h4 i j hi hj hu hv ee
/-- a scan's facts when the copies of other threads change -/
theorem bw_Th_z {K Y V N H H' : Nat → Int32} {own : Nat → Nat} {zu zk zv zg zu' zk' zv' zg' : Nat → Int32} {t : Nat} {s kd y a l f : Int32} {c : Int64} (h : bw_Th K Y V N H own zu zk zv zg t s kd y a l f c) (e : ∀ i, i < 32 → zu' (t * 32 + i) = zu (t * 32 + i) ∧ zk' (t * 32 + i) = zk (t * 32 + i) ∧ zv' (t * 32 + i) = zv (t * 32 + i) ∧ zg' (t * 32 + i) = zg (t * 32 + i)) (hH : ∀ p, p < 16 → H' (16 * (t + 1) + p) = H (16 * (t + 1) + p)) : bw_Th K Y V N H' own zu' zk' zv' zg' t s kd y a l f c := by
  obtain ⟨a1, a2, a3, a4, a5⟩ := h
  refine ⟨a1, a2, a3, a4, fun e1 e2 => ?_⟩
  obtain ⟨Q, lf, b, mq, mK, Mz, h1, h2, h3, h4, h5, h6⟩ := a5 e1 e2
  refine ⟨Q, lf, b, mq, mK, Mz, ⟨h1.1, fun p hp => by rw [hH p hp]; exact h1.2 p hp⟩, h2, h3, bw_My_cg h4 fun i hi => ⟨(e i hi).1, (e i hi).2.1, (e i hi).2.2.1⟩, h5, fun i hi => ?_⟩
  rw [(e i hi).1, (e i hi).2.1, (e i hi).2.2.2]
  exact h6 i hi
theorem bw_LE_H {fh fc r0 r1 mp mk : Int32} {K Y V N Lk H D U H' : Nat → Int32} {R1 : List Nat} {own : Nat → Nat} {n : Nat} {M : Int → Option Int32} (h : bw_LE fh fc r0 r1 mp mk K Y V N Lk H D U R1 own n M) (e : ∀ p, p < 16 → H' p = H p) : bw_LE fh fc r0 r1 mp mk K Y V N Lk H' D U R1 own n M := by
  obtain ⟨P, F, R0, lf, b, mq, mK, ⟨hd, a1, a2, a3⟩, h2⟩ := h
  exact ⟨P, F, R0, lf, b, mq, mK, ⟨hd, a1, fun p hp => by rw [e p hp]; exact a2 p hp, a3⟩, h2⟩
end
section
/-! the owed theorems, first half (printed by mk14.py) -/
theorem i_vc_stage {k : Nat} {u : SX} {v : SY} (I : i_Rel k u v) (hk : k + 5 ≤ 2563) (v1 : Int32) : wpX_stage (fun r => wpY_stage (fun r' => r' = r ∧ i_Rel (k + 5) u v) v v1) u v1 := by
  refine bw_el (Q := fun u v => wpX_stage (fun r => wpY_stage (fun r' => r' = r ∧ i_Rel (k + 5) u v) v v1) u v1) ?_ I
  intro q1 q2 q3 q4 q5 q6 q7 q8 q9 q10 q11 q12 q13 q14 q15 cap thr win fh fc r0 r1 mp mk ic he0 he1 pc K Y V N Lk H D U sg ok oy oa lg fo rk rv st cu yu yk yv zu zk zv zg hR
  have hI : i_Rel (k + 5) (q1, q2, q3, q4, q5, q6, q7, q8, q9, q10, q11, q12, q13, q14, q15, cap, thr, win, fh, fc, r0, r1, mp, mk, ic, he0, he1, pc, K, Y, V, N, Lk, H, D, U, sg, ok, oy, oa, lg, fo, rk, rv, st, cu) (cap, thr, win, ic, he0, he1, yu, yk, yv, sg, ok, oy, oa, lg, fo, rk, rv, st, zu, zk, zv, zg) := bw_in hR
  obtain ⟨R1, own, n, M, C, T, W, A, B, hL, hM, ⟨e1, e2, e3, e4, e5, e6⟩, ⟨n1, n2, n3, n4, n5, n6, n7, n8, n9, n10⟩, hs, ht⟩ := hR
  subst e2
  rcases bw_tc v1 n4 with hb | ⟨t, t1, rfl, t2, t3⟩
  · unfold wpX_stage
    dsimp only
    refine bw_bdX hb (br_f (by decide) ?_)
    unfold wpY_stage
    dsimp only
    exact bw_bdY hb (br_f (by decide) ⟨rfl, hI⟩)
  · have ct : (nI t).toNatClampNeg = t := nI_clamp (by omega)
    have hit : vp_in (nI t) 4 := vp_in_nI (by omega) (by decide)
    unfold wpX_stage
    dsimp only
    refine bw_gdX t2 t3 (br_t rfl ?_)
    refine ⟨hit, ?_⟩
    unfold wpY_stage
    dsimp only
    exact bw_gdY t2 t3 (br_t rfl ⟨hit, rfl, hI⟩)
theorem i_vc_resultKey {k : Nat} {u : SX} {v : SY} (I : i_Rel k u v) (hk : k + 5 ≤ 2563) (v1 : Int32) : wpX_resultKey (fun r => wpY_resultKey (fun r' => r' = r ∧ i_Rel (k + 5) u v) v v1) u v1 := by
  refine bw_el (Q := fun u v => wpX_resultKey (fun r => wpY_resultKey (fun r' => r' = r ∧ i_Rel (k + 5) u v) v v1) u v1) ?_ I
  intro q1 q2 q3 q4 q5 q6 q7 q8 q9 q10 q11 q12 q13 q14 q15 cap thr win fh fc r0 r1 mp mk ic he0 he1 pc K Y V N Lk H D U sg ok oy oa lg fo rk rv st cu yu yk yv zu zk zv zg hR
  have hI : i_Rel (k + 5) (q1, q2, q3, q4, q5, q6, q7, q8, q9, q10, q11, q12, q13, q14, q15, cap, thr, win, fh, fc, r0, r1, mp, mk, ic, he0, he1, pc, K, Y, V, N, Lk, H, D, U, sg, ok, oy, oa, lg, fo, rk, rv, st, cu) (cap, thr, win, ic, he0, he1, yu, yk, yv, sg, ok, oy, oa, lg, fo, rk, rv, st, zu, zk, zv, zg) := bw_in hR
  obtain ⟨R1, own, n, M, C, T, W, A, B, hL, hM, ⟨e1, e2, e3, e4, e5, e6⟩, ⟨n1, n2, n3, n4, n5, n6, n7, n8, n9, n10⟩, hs, ht⟩ := hR
  subst e2
  rcases bw_tc v1 n4 with hb | ⟨t, t1, rfl, t2, t3⟩
  · unfold wpX_resultKey
    dsimp only
    refine bw_bdX hb (br_f (by decide) ?_)
    unfold wpY_resultKey
    dsimp only
    exact bw_bdY hb (br_f (by decide) ⟨rfl, hI⟩)
  · have ct : (nI t).toNatClampNeg = t := nI_clamp (by omega)
    have hit : vp_in (nI t) 4 := vp_in_nI (by omega) (by decide)
    unfold wpX_resultKey
    dsimp only
    refine bw_gdX t2 t3 (br_t rfl ?_)
    refine ⟨hit, ?_⟩
    unfold wpY_resultKey
    dsimp only
    exact bw_gdY t2 t3 (br_t rfl ⟨hit, rfl, hI⟩)
theorem i_vc_resultValue {k : Nat} {u : SX} {v : SY} (I : i_Rel k u v) (hk : k + 5 ≤ 2563) (v1 : Int32) : wpX_resultValue (fun r => wpY_resultValue (fun r' => r' = r ∧ i_Rel (k + 5) u v) v v1) u v1 := by
  refine bw_el (Q := fun u v => wpX_resultValue (fun r => wpY_resultValue (fun r' => r' = r ∧ i_Rel (k + 5) u v) v v1) u v1) ?_ I
  intro q1 q2 q3 q4 q5 q6 q7 q8 q9 q10 q11 q12 q13 q14 q15 cap thr win fh fc r0 r1 mp mk ic he0 he1 pc K Y V N Lk H D U sg ok oy oa lg fo rk rv st cu yu yk yv zu zk zv zg hR
  have hI : i_Rel (k + 5) (q1, q2, q3, q4, q5, q6, q7, q8, q9, q10, q11, q12, q13, q14, q15, cap, thr, win, fh, fc, r0, r1, mp, mk, ic, he0, he1, pc, K, Y, V, N, Lk, H, D, U, sg, ok, oy, oa, lg, fo, rk, rv, st, cu) (cap, thr, win, ic, he0, he1, yu, yk, yv, sg, ok, oy, oa, lg, fo, rk, rv, st, zu, zk, zv, zg) := bw_in hR
  obtain ⟨R1, own, n, M, C, T, W, A, B, hL, hM, ⟨e1, e2, e3, e4, e5, e6⟩, ⟨n1, n2, n3, n4, n5, n6, n7, n8, n9, n10⟩, hs, ht⟩ := hR
  subst e2
  rcases bw_tc v1 n4 with hb | ⟨t, t1, rfl, t2, t3⟩
  · unfold wpX_resultValue
    dsimp only
    refine bw_bdX hb (br_f (by decide) ?_)
    unfold wpY_resultValue
    dsimp only
    exact bw_bdY hb (br_f (by decide) ⟨rfl, hI⟩)
  · have ct : (nI t).toNatClampNeg = t := nI_clamp (by omega)
    have hit : vp_in (nI t) 4 := vp_in_nI (by omega) (by decide)
    unfold wpX_resultValue
    dsimp only
    refine bw_gdX t2 t3 (br_t rfl ?_)
    refine ⟨hit, ?_⟩
    unfold wpY_resultValue
    dsimp only
    exact bw_gdY t2 t3 (br_t rfl ⟨hit, rfl, hI⟩)
theorem i_vc_stamp {k : Nat} {u : SX} {v : SY} (I : i_Rel k u v) (hk : k + 5 ≤ 2563) (v1 : Int32) : wpX_stamp (fun r => wpY_stamp (fun r' => r' = r ∧ i_Rel (k + 5) u v) v v1) u v1 := by
  refine bw_el (Q := fun u v => wpX_stamp (fun r => wpY_stamp (fun r' => r' = r ∧ i_Rel (k + 5) u v) v v1) u v1) ?_ I
  intro q1 q2 q3 q4 q5 q6 q7 q8 q9 q10 q11 q12 q13 q14 q15 cap thr win fh fc r0 r1 mp mk ic he0 he1 pc K Y V N Lk H D U sg ok oy oa lg fo rk rv st cu yu yk yv zu zk zv zg hR
  have hI : i_Rel (k + 5) (q1, q2, q3, q4, q5, q6, q7, q8, q9, q10, q11, q12, q13, q14, q15, cap, thr, win, fh, fc, r0, r1, mp, mk, ic, he0, he1, pc, K, Y, V, N, Lk, H, D, U, sg, ok, oy, oa, lg, fo, rk, rv, st, cu) (cap, thr, win, ic, he0, he1, yu, yk, yv, sg, ok, oy, oa, lg, fo, rk, rv, st, zu, zk, zv, zg) := bw_in hR
  obtain ⟨R1, own, n, M, C, T, W, A, B, hL, hM, ⟨e1, e2, e3, e4, e5, e6⟩, ⟨n1, n2, n3, n4, n5, n6, n7, n8, n9, n10⟩, hs, ht⟩ := hR
  subst e2
  rcases bw_tc v1 n4 with hb | ⟨t, t1, rfl, t2, t3⟩
  · unfold wpX_stamp
    dsimp only
    refine bw_bdX hb (br_f (by decide) ?_)
    unfold wpY_stamp
    dsimp only
    exact bw_bdY hb (br_f (by decide) ⟨rfl, hI⟩)
  · have ct : (nI t).toNatClampNeg = t := nI_clamp (by omega)
    have hit : vp_in (nI t) 4 := vp_in_nI (by omega) (by decide)
    unfold wpX_stamp
    dsimp only
    refine bw_gdX t2 t3 (br_t rfl ?_)
    refine ⟨hit, ?_⟩
    unfold wpY_stamp
    dsimp only
    exact bw_gdY t2 t3 (br_t rfl ⟨hit, rfl, hI⟩)
theorem i_vc_found {k : Nat} {u : SX} {v : SY} (I : i_Rel k u v) (hk : k + 5 ≤ 2563) (v1 : Int32) : wpX_found (fun r => wpY_found (fun r' => r' = r ∧ i_Rel (k + 5) u v) v v1) u v1 := by
  refine bw_el (Q := fun u v => wpX_found (fun r => wpY_found (fun r' => r' = r ∧ i_Rel (k + 5) u v) v v1) u v1) ?_ I
  intro q1 q2 q3 q4 q5 q6 q7 q8 q9 q10 q11 q12 q13 q14 q15 cap thr win fh fc r0 r1 mp mk ic he0 he1 pc K Y V N Lk H D U sg ok oy oa lg fo rk rv st cu yu yk yv zu zk zv zg hR
  have hI : i_Rel (k + 5) (q1, q2, q3, q4, q5, q6, q7, q8, q9, q10, q11, q12, q13, q14, q15, cap, thr, win, fh, fc, r0, r1, mp, mk, ic, he0, he1, pc, K, Y, V, N, Lk, H, D, U, sg, ok, oy, oa, lg, fo, rk, rv, st, cu) (cap, thr, win, ic, he0, he1, yu, yk, yv, sg, ok, oy, oa, lg, fo, rk, rv, st, zu, zk, zv, zg) := bw_in hR
  obtain ⟨R1, own, n, M, C, T, W, A, B, hL, hM, ⟨e1, e2, e3, e4, e5, e6⟩, ⟨n1, n2, n3, n4, n5, n6, n7, n8, n9, n10⟩, hs, ht⟩ := hR
  subst e2
  rcases bw_tc v1 n4 with hb | ⟨t, t1, rfl, t2, t3⟩
  · unfold wpX_found
    dsimp only
    refine bw_bdX hb (br_f (by decide) ?_)
    unfold wpY_found
    dsimp only
    exact bw_bdY hb (br_f (by decide) ⟨rfl, hI⟩)
  · have ct : (nI t).toNatClampNeg = t := nI_clamp (by omega)
    have hit : vp_in (nI t) 4 := vp_in_nI (by omega) (by decide)
    unfold wpX_found
    dsimp only
    refine bw_gdX t2 t3 (br_t rfl ?_)
    refine ⟨hit, ?_⟩
    rw [ct]
    unfold wpY_found
    dsimp only
    rcases (ht t (by omega)).1 with e | e
    · rw [e]
      refine br_t rfl (bw_gdY t2 t3 (br_t rfl ⟨hit, ?_⟩))
      rw [ct, e]
      exact ⟨rfl, rfl, hI⟩
    · rw [e]
      refine br_f (by decide) (bw_gdY t2 t3 (br_t rfl ⟨hit, ?_⟩))
      rw [ct, e]
      exact ⟨rfl, rfl, hI⟩
theorem i_vc_lag {k : Nat} {u : SX} {v : SY} (I : i_Rel k u v) (hk : k + 5 ≤ 2563) (v1 : Int32) : wpX_lag (fun r => wpY_lag (fun r' => r' = r ∧ i_Rel (k + 5) u v) v v1) u v1 := by
  refine bw_el (Q := fun u v => wpX_lag (fun r => wpY_lag (fun r' => r' = r ∧ i_Rel (k + 5) u v) v v1) u v1) ?_ I
  intro q1 q2 q3 q4 q5 q6 q7 q8 q9 q10 q11 q12 q13 q14 q15 cap thr win fh fc r0 r1 mp mk ic he0 he1 pc K Y V N Lk H D U sg ok oy oa lg fo rk rv st cu yu yk yv zu zk zv zg hR
  have hI : i_Rel (k + 5) (q1, q2, q3, q4, q5, q6, q7, q8, q9, q10, q11, q12, q13, q14, q15, cap, thr, win, fh, fc, r0, r1, mp, mk, ic, he0, he1, pc, K, Y, V, N, Lk, H, D, U, sg, ok, oy, oa, lg, fo, rk, rv, st, cu) (cap, thr, win, ic, he0, he1, yu, yk, yv, sg, ok, oy, oa, lg, fo, rk, rv, st, zu, zk, zv, zg) := bw_in hR
  obtain ⟨R1, own, n, M, C, T, W, A, B, hL, hM, ⟨e1, e2, e3, e4, e5, e6⟩, ⟨n1, n2, n3, n4, n5, n6, n7, n8, n9, n10⟩, hs, ht⟩ := hR
  subst e2
  rcases bw_tc v1 n4 with hb | ⟨t, t1, rfl, t2, t3⟩
  · unfold wpX_lag
    dsimp only
    refine bw_bdX hb (br_f (by decide) ?_)
    unfold wpY_lag
    dsimp only
    exact bw_bdY hb (br_f (by decide) ⟨rfl, hI⟩)
  · have ct : (nI t).toNatClampNeg = t := nI_clamp (by omega)
    have hit : vp_in (nI t) 4 := vp_in_nI (by omega) (by decide)
    unfold wpX_lag
    dsimp only
    refine bw_gdX t2 t3 (br_t rfl ?_)
    refine ⟨hit, ?_⟩
    rw [ct]
    unfold wpY_lag
    dsimp only
    refine br_c (fun e => bw_gdY t2 t3 (br_t rfl ⟨hit, br_t (by rw [ct]; exact e) ⟨rfl, hI⟩⟩)) (fun e => ⟨hit, bw_gdY t2 t3 (br_t rfl ⟨hit, br_f (by rw [ct]; exact e) ⟨hit, by rw [ct], hI⟩⟩)⟩)
theorem i_vc_installs {k : Nat} {u : SX} {v : SY} (I : i_Rel k u v) (hk : k + 5 ≤ 2563) : wpX_installs (fun r => wpY_installs (fun r' => r' = r ∧ i_Rel (k + 5) u v) v) u := by
  refine bw_el (Q := fun u v => wpX_installs (fun r => wpY_installs (fun r' => r' = r ∧ i_Rel (k + 5) u v) v) u) ?_ I
  intro q1 q2 q3 q4 q5 q6 q7 q8 q9 q10 q11 q12 q13 q14 q15 cap thr win fh fc r0 r1 mp mk ic he0 he1 pc K Y V N Lk H D U sg ok oy oa lg fo rk rv st cu yu yk yv zu zk zv zg hR
  have hI : i_Rel (k + 5) (q1, q2, q3, q4, q5, q6, q7, q8, q9, q10, q11, q12, q13, q14, q15, cap, thr, win, fh, fc, r0, r1, mp, mk, ic, he0, he1, pc, K, Y, V, N, Lk, H, D, U, sg, ok, oy, oa, lg, fo, rk, rv, st, cu) (cap, thr, win, ic, he0, he1, yu, yk, yv, sg, ok, oy, oa, lg, fo, rk, rv, st, zu, zk, zv, zg) := bw_in hR
  exact And.intro rfl hI
theorem i_vc_size {k : Nat} {u : SX} {v : SY} (I : i_Rel k u v) (hk : k + 5 ≤ 2563) : wpX_size (fun r => wpY_size (fun r' => r' = r ∧ i_Rel (k + 5) u v) v) u := by
  refine bw_el (Q := fun u v => wpX_size (fun r => wpY_size (fun r' => r' = r ∧ i_Rel (k + 5) u v) v) u) ?_ I
  intro q1 q2 q3 q4 q5 q6 q7 q8 q9 q10 q11 q12 q13 q14 q15 cap thr win fh fc r0 r1 mp mk ic he0 he1 pc K Y V N Lk H D U sg ok oy oa lg fo rk rv st cu yu yk yv zu zk zv zg hR
  have hI : i_Rel (k + 5) (q1, q2, q3, q4, q5, q6, q7, q8, q9, q10, q11, q12, q13, q14, q15, cap, thr, win, fh, fc, r0, r1, mp, mk, ic, he0, he1, pc, K, Y, V, N, Lk, H, D, U, sg, ok, oy, oa, lg, fo, rk, rv, st, cu) (cap, thr, win, ic, he0, he1, yu, yk, yv, sg, ok, oy, oa, lg, fo, rk, rv, st, zu, zk, zv, zg) := bw_in hR
  obtain ⟨R1, own, n, M, C, T, W, A, B, hL, hM, ⟨e1, e2, e3, e4, e5, e6⟩, ⟨n1, n2, n3, n4, n5, n6, n7, n8, n9, n10⟩, hs, ht⟩ := hR
  subst e6
  exact bw_size ⟨rfl, hI⟩
theorem i_vc_held {k : Nat} {u : SX} {v : SY} (I : i_Rel k u v) (hk : k + 5 ≤ 2563) (v1 : Int32) : wpX_held (fun r => wpY_held (fun r' => r' = r ∧ i_Rel (k + 5) u v) v v1) u v1 := by
  refine bw_el (Q := fun u v => wpX_held (fun r => wpY_held (fun r' => r' = r ∧ i_Rel (k + 5) u v) v v1) u v1) ?_ I
  intro q1 q2 q3 q4 q5 q6 q7 q8 q9 q10 q11 q12 q13 q14 q15 cap thr win fh fc r0 r1 mp mk ic he0 he1 pc K Y V N Lk H D U sg ok oy oa lg fo rk rv st cu yu yk yv zu zk zv zg hR
  have hI : i_Rel (k + 5) (q1, q2, q3, q4, q5, q6, q7, q8, q9, q10, q11, q12, q13, q14, q15, cap, thr, win, fh, fc, r0, r1, mp, mk, ic, he0, he1, pc, K, Y, V, N, Lk, H, D, U, sg, ok, oy, oa, lg, fo, rk, rv, st, cu) (cap, thr, win, ic, he0, he1, yu, yk, yv, sg, ok, oy, oa, lg, fo, rk, rv, st, zu, zk, zv, zg) := bw_in hR
  refine br_c (fun h => br_t h ⟨rfl, hI⟩) (fun h => br_c (fun h' => br_f h (br_t h' ⟨rfl, hI⟩)) (fun h' => br_f h (br_f h' ⟨rfl, hI⟩)))
theorem i_vc_next {k : Nat} {u : SX} {v : SY} (I : i_Rel k u v) (hk : k + 5 ≤ 2563) (v1 : Int32) : wpX_next (fun r => wpY_next (fun r' => r' = r ∧ i_Rel (k + 5) u v) v v1) u v1 := by
  refine bw_el (Q := fun u v => wpX_next (fun r => wpY_next (fun r' => r' = r ∧ i_Rel (k + 5) u v) v v1) u v1) ?_ I
  intro q1 q2 q3 q4 q5 q6 q7 q8 q9 q10 q11 q12 q13 q14 q15 cap thr win fh fc r0 r1 mp mk ic he0 he1 pc K Y V N Lk H D U sg ok oy oa lg fo rk rv st cu yu yk yv zu zk zv zg hR
  have hI : i_Rel (k + 5) (q1, q2, q3, q4, q5, q6, q7, q8, q9, q10, q11, q12, q13, q14, q15, cap, thr, win, fh, fc, r0, r1, mp, mk, ic, he0, he1, pc, K, Y, V, N, Lk, H, D, U, sg, ok, oy, oa, lg, fo, rk, rv, st, cu) (cap, thr, win, ic, he0, he1, yu, yk, yv, sg, ok, oy, oa, lg, fo, rk, rv, st, zu, zk, zv, zg) := bw_in hR
  obtain ⟨R1, own, n, M, C, T, W, A, B, hL, hM, ⟨e1, e2, e3, e4, e5, e6⟩, ⟨n1, n2, n3, n4, n5, n6, n7, n8, n9, n10⟩, hs, ht⟩ := hR
  obtain ⟨P, F, R0, lf, b, mq, mK, l1, l2, l3, l4, l5⟩ := hL
  have fin : ∀ r, bw_NS M v1.toInt r → wpY_next (fun r' => r' = r ∧ i_Rel (k + 5) (q1, q2, q3, q4, q5, q6, q7, q8, q9, q10, q11, q12, q13, q14, q15, cap, thr, win, fh, fc, r0, r1, mp, mk, ic, he0, he1, pc, K, Y, V, N, Lk, H, D, U, sg, ok, oy, oa, lg, fo, rk, rv, st, cu) (cap, thr, win, ic, he0, he1, yu, yk, yv, sg, ok, oy, oa, lg, fo, rk, rv, st, zu, zk, zv, zg)) (cap, thr, win, ic, he0, he1, yu, yk, yv, sg, ok, oy, oa, lg, fo, rk, rv, st, zu, zk, zv, zg) v1 := fun r hr => bw_nextY hM (fun s hs => ⟨bw_NS_u hs hr, hI⟩)
  unfold wpX_next
  dsimp only
  refine bw_seek (ro := 0) (bw_Rs_row l1) l2 (fun hn => br_f bw_nneg1 (fin _ (Or.inl ⟨rfl, hn⟩))) (fun a a1 a2 a3 a4 => br_t (nI_pos' (by omega)) ⟨vp_in_nI a1 (by decide), ?_⟩)
  have ca : (nI a).toNatClampNeg = a := nI_clamp (by omega)
  rw [ca]
  exact fin _ (Or.inr ⟨Y a, rfl, a2, by rw [a3]; exact fun z => (by cases z), a4⟩)
theorem i_vc_value {k : Nat} {u : SX} {v : SY} (I : i_Rel k u v) (hk : k + 5 ≤ 2563) (v1 : Int32) : wpX_value (fun r => wpY_value (fun r' => r' = r ∧ i_Rel (k + 5) u v) v v1) u v1 := by
  refine bw_el (Q := fun u v => wpX_value (fun r => wpY_value (fun r' => r' = r ∧ i_Rel (k + 5) u v) v v1) u v1) ?_ I
  intro q1 q2 q3 q4 q5 q6 q7 q8 q9 q10 q11 q12 q13 q14 q15 cap thr win fh fc r0 r1 mp mk ic he0 he1 pc K Y V N Lk H D U sg ok oy oa lg fo rk rv st cu yu yk yv zu zk zv zg hR
  have hI : i_Rel (k + 5) (q1, q2, q3, q4, q5, q6, q7, q8, q9, q10, q11, q12, q13, q14, q15, cap, thr, win, fh, fc, r0, r1, mp, mk, ic, he0, he1, pc, K, Y, V, N, Lk, H, D, U, sg, ok, oy, oa, lg, fo, rk, rv, st, cu) (cap, thr, win, ic, he0, he1, yu, yk, yv, sg, ok, oy, oa, lg, fo, rk, rv, st, zu, zk, zv, zg) := bw_in hR
  obtain ⟨R1, own, n, M, C, T, W, A, B, hL, hM, ⟨e1, e2, e3, e4, e5, e6⟩, ⟨n1, n2, n3, n4, n5, n6, n7, n8, n9, n10⟩, hs, ht⟩ := hR
  obtain ⟨P, F, R0, lf, b, mq, mK, l1, l2, l3, l4, l5⟩ := hL
  unfold wpX_value
  dsimp only
  refine bw_lookup (bw_Rs_row l1) l2 (fun hn => br_f bw_nneg1 ?_) (fun a a1 a2 => br_t (nI_pos' (by omega)) ⟨vp_in_nI a1 (by decide), ?_⟩)
  · unfold wpY_value
    dsimp only
    refine bw_slot hM (fun _ => br_f bw_nneg1 ⟨rfl, hI⟩) (fun i _ _ _ hs => ?_)
    rw [hn] at hs
    cases hs
  · have ca : (nI a).toNatClampNeg = a := nI_clamp (by omega)
    rw [ca]
    unfold wpY_value
    dsimp only
    refine bw_slot hM (fun hn => ?_) (fun i hi _ _ hs => br_t (nI_pos' (by omega)) ⟨vp_in_nI hi (by decide), ?_⟩)
    · rw [hn] at a2
      cases a2
    · have ci : (nI i).toNatClampNeg = i := nI_clamp (by omega)
      rw [ci]
      rw [a2] at hs
      exact ⟨(Option.some.inj hs).symm, hI⟩
section bw_S14
variable {q1 q2 q3 q4 q5 q6 q7 q8 q9 q10 q11 q12 q13 q14 q15 cap thr win fh fc r0 r1 mp mk ic he0 he1 pc : Int32} {K Y V N Lk H D U sg ok oy oa lg fo rk rv st : Nat → Int32} {cu : Nat → Int64}
variable {yu yk yv zu zk zv zg : Nat → Int32}
/-- thread t changes: its own facts anew, the others as they were -/
theorem bw_thr1 {t : Nat} {own : Nat → Nat} {s k y a l f : Int32} (h : ∀ t', t' < 4 → bw_Th K Y V N H own zu zk zv zg t' (sg t') (ok t') (oy t') (oa t') (lg t') (fo t') (cu t')) (h1 : t < 4 → bw_Th K Y V N H own zu zk zv zg t s k y a l f (cu t)) :
    ∀ t', t' < 4 → bw_Th K Y V N H own zu zk zv zg t' (upd sg t s t') (upd ok t k t') (upd oy t y t') (upd oa t a t') (upd lg t l t') (upd fo t f t') (cu t') := by
  intro t' ht'
  by_cases e : t' = t
  · subst e
    rw [pk_us, pk_us, pk_us, pk_us, pk_us, pk_us]
    exact h1 ht'
  · rw [pk_un e, pk_un e, pk_un e, pk_un e, pk_un e, pk_un e]
    exact h t' ht'
theorem bw_upd_id {f : Nat → Int32} {t : Nat} : upd f t (f t) = f := by
  funext x
  by_cases e : x = t
  · subst e; exact pk_us
  · exact pk_un e
end bw_S14
theorem i_vc_begin {k : Nat} {u : SX} {v : SY} (I : i_Rel k u v) (hk : k + 5 ≤ 2563) (v1 : Int32) (v2 : Int32) (v3 : Int32) (v4 : Int32) : wpX_begin (fun r u' => wpY_begin (fun r' v' => r' = r ∧ i_Rel (k + 5) u' v') v v1 v2 v3 v4) u v1 v2 v3 v4 := by
  refine bw_el (Q := fun u v => wpX_begin (fun r u' => wpY_begin (fun r' v' => r' = r ∧ i_Rel (k + 5) u' v') v v1 v2 v3 v4) u v1 v2 v3 v4) ?_ I
  intro q1 q2 q3 q4 q5 q6 q7 q8 q9 q10 q11 q12 q13 q14 q15 cap thr win fh fc r0 r1 mp mk ic he0 he1 pc K Y V N Lk H D U sg ok oy oa lg fo rk rv st cu yu yk yv zu zk zv zg hR
  have hI : i_Rel (k + 5) (q1, q2, q3, q4, q5, q6, q7, q8, q9, q10, q11, q12, q13, q14, q15, cap, thr, win, fh, fc, r0, r1, mp, mk, ic, he0, he1, pc, K, Y, V, N, Lk, H, D, U, sg, ok, oy, oa, lg, fo, rk, rv, st, cu) (cap, thr, win, ic, he0, he1, yu, yk, yv, sg, ok, oy, oa, lg, fo, rk, rv, st, zu, zk, zv, zg) := bw_in hR
  obtain ⟨R1, own, n, M, C, T, W, A, B, hL, hM, ⟨e1, e2, e3, e4, e5, e6⟩, ⟨n1, n2, n3, n4, n5, n6, n7, n8, n9, n10⟩, hs, ht⟩ := hR
  subst e2
  rcases bw_tc v1 n4 with hb | ⟨t, t1, rfl, t2, t3⟩
  · unfold wpX_begin
    dsimp only
    refine bw_bdX hb (br_f (by decide) ?_)
    unfold wpY_begin
    dsimp only
    exact bw_bdY hb (br_f (by decide) ⟨rfl, hI⟩)
  · have ct : (nI t).toNatClampNeg = t := nI_clamp (by omega)
    have hit : vp_in (nI t) 4 := vp_in_nI (by omega) (by decide)
    unfold wpX_begin
    dsimp only
    refine bw_gdX t2 t3 (br_t rfl ⟨hit, ?_⟩)
    rw [ct]
    refine br_c (fun hs0 => br_c (fun k1 => ?_) (fun k1 => br_c (fun k5 => ?_) (fun k5 => ?_))) (fun hs0 => ?_)
    · unfold wpY_begin
      dsimp only
      refine bw_gdY t2 t3 (br_t rfl ⟨hit, br_t (by rw [ct]; exact hs0) (br_t k1 ⟨rfl, hI⟩)⟩)
    · refine ⟨hit, nm_e ⟨hit, nm_e ⟨hit, nm_e (bw_clrX (by omega) ⟨hit, nm_e ⟨hit, nm_e ?_⟩⟩)⟩⟩⟩
      unfold wpY_begin
      dsimp only
      refine bw_gdY t2 t3 (br_t rfl ⟨hit, br_t (by rw [ct]; exact hs0) (br_f k1 (br_t k5 ⟨hit, nm_e ⟨hit, nm_e ⟨hit, nm_e (bw_clrY (by omega) ⟨hit, nm_e ⟨hit, nm_e ⟨rfl, ?_⟩⟩⟩)⟩⟩⟩))⟩)
      rw [ct]
      refine bw_in ⟨R1, own, n, M, C, T, W, A, B, hL, hM, ⟨e1, rfl, e3, e4, e5, e6⟩, ⟨n1, n2, n3, n4, n5, n6, n7, n8, n9, n10⟩, fun t' a1 a2 => ?_, bw_thr1 ht fun _ => ⟨Or.inl rfl, Or.inr (Or.inl rfl), Or.inl rfl, fun _ => ?_, fun z => ?_⟩⟩
      · rw [pk_un (by omega)]
        exact hs t' a1 a2
      · have a1 : 1 ≤ v2.toInt := by
          have : ¬ _ := fun z => k1 (bw_ilt.mpr z)
          have e : (1 : Int32).toInt = 1 := by decide
          omega
        have a2 : v2.toInt ≤ 5 := by
          have := bw_ile.mp k5
          have e : (5 : Int32).toInt = 5 := by decide
          omega
        have a3 : v2.toInt = 1 ∨ v2.toInt = 2 ∨ v2.toInt = 3 ∨ v2.toInt = 4 ∨ v2.toInt = 5 := by omega
        rcases a3 with e | e | e | e | e
        · exact Or.inl (Int32.toInt_inj.mp e)
        · exact Or.inr (Or.inl (Int32.toInt_inj.mp e))
        · exact Or.inr (Or.inr (Or.inl (Int32.toInt_inj.mp e)))
        · exact Or.inr (Or.inr (Or.inr (Or.inl (Int32.toInt_inj.mp e))))
        · exact Or.inr (Or.inr (Or.inr (Or.inr (Int32.toInt_inj.mp e))))
      · exact absurd z (by decide)
    · unfold wpY_begin
      dsimp only
      refine bw_gdY t2 t3 (br_t rfl ⟨hit, br_t (by rw [ct]; exact hs0) (br_f k1 (br_f k5 ⟨rfl, hI⟩))⟩)
    · unfold wpY_begin
      dsimp only
      refine bw_gdY t2 t3 (br_t rfl ⟨hit, br_f (by rw [ct]; exact hs0) ⟨rfl, hI⟩⟩)
theorem i_vc_abort {k : Nat} {u : SX} {v : SY} (I : i_Rel k u v) (hk : k + 5 ≤ 2563) (v1 : Int32) : wpX_abort (fun r u' => wpY_abort (fun r' v' => r' = r ∧ i_Rel (k + 5) u' v') v v1) u v1 := by
  refine bw_el (Q := fun u v => wpX_abort (fun r u' => wpY_abort (fun r' v' => r' = r ∧ i_Rel (k + 5) u' v') v v1) u v1) ?_ I
  intro q1 q2 q3 q4 q5 q6 q7 q8 q9 q10 q11 q12 q13 q14 q15 cap thr win fh fc r0 r1 mp mk ic he0 he1 pc K Y V N Lk H D U sg ok oy oa lg fo rk rv st cu yu yk yv zu zk zv zg hR
  have hI : i_Rel (k + 5) (q1, q2, q3, q4, q5, q6, q7, q8, q9, q10, q11, q12, q13, q14, q15, cap, thr, win, fh, fc, r0, r1, mp, mk, ic, he0, he1, pc, K, Y, V, N, Lk, H, D, U, sg, ok, oy, oa, lg, fo, rk, rv, st, cu) (cap, thr, win, ic, he0, he1, yu, yk, yv, sg, ok, oy, oa, lg, fo, rk, rv, st, zu, zk, zv, zg) := bw_in hR
  obtain ⟨R1, own, n, M, C, T, W, A, B, hL, hM, ⟨e1, e2, e3, e4, e5, e6⟩, ⟨n1, n2, n3, n4, n5, n6, n7, n8, n9, n10⟩, hs, ht⟩ := hR
  subst e2
  rcases bw_tc v1 n4 with hb | ⟨t, t1, rfl, t2, t3⟩
  · unfold wpX_abort
    dsimp only
    refine bw_bdX hb (br_f (by decide) ?_)
    unfold wpY_abort
    dsimp only
    exact bw_bdY hb (br_f (by decide) ⟨rfl, hI⟩)
  · have ct : (nI t).toNatClampNeg = t := nI_clamp (by omega)
    have hit : vp_in (nI t) 4 := vp_in_nI (by omega) (by decide)
    unfold wpX_abort
    dsimp only
    refine bw_gdX t2 t3 (br_t rfl ⟨hit, ?_⟩)
    rw [ct]
    refine br_c (fun hs0 => ?_) (fun hs0 => bw_clrX (by omega) ⟨hit, nm_e ?_⟩)
    · unfold wpY_abort
      dsimp only
      refine bw_gdY t2 t3 (br_t rfl ⟨hit, br_t (by rw [ct]; exact hs0) ⟨rfl, hI⟩⟩)
    · unfold wpY_abort
      dsimp only
      refine bw_gdY t2 t3 (br_t rfl ⟨hit, br_f (by rw [ct]; exact hs0) (bw_clrY (by omega) ⟨hit, nm_e ⟨rfl, ?_⟩⟩)⟩)
      rw [ct]
      have W1 := bw_thr1 (t := t) (s := 0) (k := ok t) (y := oy t) (a := oa t) (l := lg t) (f := 0) ht fun h4 => ⟨Or.inl rfl, Or.inl rfl, (ht t h4).2.2.1, fun z => absurd rfl z, fun z => absurd z (by decide)⟩
      rw [bw_upd_id, bw_upd_id, bw_upd_id, bw_upd_id] at W1
      refine bw_in ⟨R1, own, n, M, C, T, W, A, B, hL, hM, ⟨e1, rfl, e3, e4, e5, e6⟩, ⟨n1, n2, n3, n4, n5, n6, n7, n8, n9, n10⟩, fun t' a1 a2 => ?_, W1⟩
      rw [pk_un (by omega)]
      exact hs t' a1 a2
theorem i_vc_tend {k : Nat} {u : SX} {v : SY} (I : i_Rel k u v) (hk : k + 5 ≤ 2563) (v1 : Int32) : wpX_tend (fun r u' => wpY_tend (fun r' => r' = r ∧ i_Rel (k + 5) u' v) v v1) u v1 := by
  refine bw_el (Q := fun u v => wpX_tend (fun r u' => wpY_tend (fun r' => r' = r ∧ i_Rel (k + 5) u' v) v v1) u v1) ?_ I
  intro q1 q2 q3 q4 q5 q6 q7 q8 q9 q10 q11 q12 q13 q14 q15 cap thr win fh fc r0 r1 mp mk ic he0 he1 pc K Y V N Lk H D U sg ok oy oa lg fo rk rv st cu yu yk yv zu zk zv zg hR
  have hI : i_Rel (k + 5) (q1, q2, q3, q4, q5, q6, q7, q8, q9, q10, q11, q12, q13, q14, q15, cap, thr, win, fh, fc, r0, r1, mp, mk, ic, he0, he1, pc, K, Y, V, N, Lk, H, D, U, sg, ok, oy, oa, lg, fo, rk, rv, st, cu) (cap, thr, win, ic, he0, he1, yu, yk, yv, sg, ok, oy, oa, lg, fo, rk, rv, st, zu, zk, zv, zg) := bw_in hR
  obtain ⟨R1, own, n, M, C, T, W, A, B, hL, hM, ⟨e1, e2, e3, e4, e5, e6⟩, ⟨n1, n2, n3, n4, n5, n6, n7, n8, n9, n10⟩, hs, ht⟩ := hR
  subst e2
  rcases bw_tc v1 n4 with hb | ⟨t, t1, rfl, t2, t3⟩
  · unfold wpX_tend
    dsimp only
    refine bw_bdX hb (br_f (by decide) ?_)
    unfold wpY_tend
    dsimp only
    exact bw_bdY hb (br_f (by decide) ⟨rfl, hI⟩)
  · have ct : (nI t).toNatClampNeg = t := nI_clamp (by omega)
    have hit : vp_in (nI t) 4 := vp_in_nI (by omega) (by decide)
    unfold wpX_tend
    dsimp only
    refine bw_gdX t2 t3 (br_t rfl ⟨hit, ?_⟩)
    rw [ct]
    refine br_c (fun hs0 => ?_) (fun hs0 => ⟨hit, bw_upkeep hL (bw_My_few hM) (fun fh' fc' r0' mp' mk' K' Y' V' N' Lk' H' D' U' own' n' l kp hb => ?_)⟩)
    · unfold wpY_tend
      dsimp only
      refine bw_gdY t2 t3 (br_t rfl ⟨hit, br_t (by rw [ct]; exact hs0) ⟨rfl, hI⟩⟩)
    · unfold wpY_tend
      dsimp only
      refine bw_gdY t2 t3 (br_t rfl ⟨hit, br_f (by rw [ct]; exact hs0) ⟨rfl, ?_⟩⟩)
      exact bw_in ⟨R1, own', n', M, C, T, W, A, B, l, hM, ⟨e1, rfl, e3, e4, e5, e6⟩, ⟨n1, n2, n3, n4, n5, n6, n7, by omega, by omega, n10⟩, hs, fun t' h' => bw_Th_kp (ht t' h') kp⟩
end
section
/-! the component's steps of a thread -/
section bw_S15
variable {q1 q2 q3 q4 q5 q6 q7 q8 q9 q10 q11 q12 q13 q14 q15 cap thr win fh fc r0 r1 mp mk ic he0 he1 pc : Int32} {K Y V N Lk H D U sg ok oy oa lg fo rk rv st : Nat → Int32} {cu : Nat → Int64}
variable {P : Nat → List bw_Rc} {F R0 R1 : List Nat} {own : Nat → Nat} {lf : Nat → Prop} {b : Nat → Int} {mq : Option Nat} {mK : Int} {M M' : Int → Option Int32}
theorem bw_rem_l {post : SX → Prop} {t : Nat} {H0 : Nat → Int32} (ht : t < 4) (hp : ∀ H : Nat → Int32, (∀ x, (x < 16 * (t + 1) ∨ 16 * (t + 1) + 16 ≤ x) → H x = H0 x) → (∀ p, p < 16 → H (16 * (t + 1) + p) = H0 p) → post (q1, q2, q3, q4, q5, q6, q7, q8, q9, q10, q11, q12, q13, q14, q15, cap, thr, win, fh, fc, r0, r1, mp, mk, ic, he0, he1, pc, K, Y, V, N, Lk, H, D, U, sg, ok, oy, oa, lg, fo, rk, rv, st, vp_updL cu t (oy t).toInt64)) :
    ∀ (m i n : Nat) (H : Nat → Int32), i + m = 16 → m < n → (∀ x, (x < 16 * (t + 1) ∨ 16 * (t + 1) + 16 ≤ x) → H x = H0 x) → (∀ p, p < i → H (16 * (t + 1) + p) = H0 p) → wX_remember_9 post (nI t) (nI (16 * (t + 1))) q1 q2 q3 q4 q5 q6 q7 q8 q9 q10 q11 q12 q13 q14 q15 cap thr win fh fc r0 r1 mp mk ic he0 he1 pc n (nI i) K Y V N Lk H D U sg ok oy oa lg fo rk rv st cu := by
  have ct : (nI t).toNatClampNeg = t := nI_clamp (by omega)
  have hit : vp_in (nI t) 4 := vp_in_nI ht (by decide)
  intro m
  induction m with
  | zero =>
    intro i n H hi hn h1 h2
    obtain ⟨n, rfl⟩ : ∃ m, n = m + 1 := ⟨n - 1, by omega⟩
    have e : i = 16 := by omega
    subst e
    have W := hp H h1 h2
    refine br_t (nI_le (a := 16) (by omega) (by omega)) ⟨hit, hit, nm_e ?_⟩
    rw [ct]
    exact W
  | succ m ih =>
    intro i n H hi hn h1 h2
    obtain ⟨n, rfl⟩ : ∃ m, n = m + 1 := ⟨n - 1, by omega⟩
    have ci : (nI i).toNatClampNeg = i := nI_clamp (by omega)
    have ep : nI (16 * (t + 1)) + nI i = nI (16 * (t + 1) + i) := nI_add _ _
    have cp : (nI (16 * (t + 1) + i)).toNatClampNeg = 16 * (t + 1) + i := nI_clamp (by omega)
    refine br_f (nI_ge (b := 16) (by omega) (by decide)) ⟨vp_in_nI (by omega) (by decide), ?_, nm_e (nm_e ?_)⟩
    · rw [ep]
      exact vp_in_nI (by omega) (by decide)
    · rw [ep, cp, ci, nI_1]
      refine ih (i + 1) n _ (by omega) (by omega) (fun x hx => ?_) (fun p hp' => ?_)
      · rw [pk_un (by omega)]
        exact h1 x hx
      · rcases Nat.lt_or_ge p i with z | z
        · rw [pk_un (by omega)]
          exact h2 p z
        · have e : p = i := by omega
          subst e
          rw [pk_us]
          exact h1 p (by omega)
theorem bw_row16 {t : Nat} : (nI t + 1) * 16 = nI (16 * (t + 1)) := by
  rw [nI_1, show (16 : Int32) = nI 16 from rfl, pk_mul, Nat.mul_comm]
theorem bw_remember {post : SX → Prop} {t : Nat} (ht : t < 4) (hp : ∀ H' : Nat → Int32, (∀ x, (x < 16 * (t + 1) ∨ 16 * (t + 1) + 16 ≤ x) → H' x = H x) → (∀ p, p < 16 → H' (16 * (t + 1) + p) = H p) → post (q1, q2, q3, q4, q5, q6, q7, q8, q9, q10, q11, q12, q13, q14, q15, cap, thr, win, fh, fc, r0, r1, mp, mk, ic, he0, he1, pc, K, Y, V, N, Lk, H', D, U, sg, ok, oy, oa, lg, fo, rk, rv, st, vp_updL cu t (oy t).toInt64)) : wpX_remember post (q1, q2, q3, q4, q5, q6, q7, q8, q9, q10, q11, q12, q13, q14, q15, cap, thr, win, fh, fc, r0, r1, mp, mk, ic, he0, he1, pc, K, Y, V, N, Lk, H, D, U, sg, ok, oy, oa, lg, fo, rk, rv, st, cu) (nI t) :=
  nm_r bw_row16 ⟨17, bw_rem_l ht hp 16 0 17 H (by omega) (by omega) (fun _ _ => rfl) (fun p hp => by omega)⟩
theorem bw_scan58 {post : Int32 → SX → Prop} {t : Nat} (ht : t < 4) (hp : post 3 (q1, q2, q3, q4, q5, q6, q7, q8, q9, q10, q11, q12, q13, q14, q15, cap, thr, win, fh, fc, r0, r1, mp, mk, ic, he0, he1, pc, K, Y, V, N, Lk, H, D, U, upd sg t 0, ok, oy, oa, lg, upd fo t 0, upd rk t 0, upd rv t 0, st, cu)) : wX_scan_58 post (nI t) q1 q2 q3 q4 q5 q6 q7 q8 q9 q10 q11 q12 q13 q14 q15 cap thr win fh fc r0 r1 mp mk ic he0 he1 pc K Y V N Lk H D U sg ok oy oa lg fo rk rv st cu := by
  have ct : (nI t).toNatClampNeg = t := nI_clamp (by omega)
  have hit : vp_in (nI t) 4 := vp_in_nI ht (by decide)
  refine And.intro hit (nm_e ⟨hit, nm_e ⟨hit, nm_e ⟨hit, nm_e ?_⟩⟩⟩)
  rw [ct, bw_bo0]
  exact hp
theorem bw_to32 {x : Int64} (h1 : -2147483648 ≤ x.toInt) (h2 : x.toInt ≤ 2147483647) : x.toInt32.toInt = x.toInt := by
  rw [Int64.toInt_toInt32]
  exact Int.bmod_eq_of_le (by omega) (by omega)
theorem bw_scanX {post : Int32 → SX → Prop} {t : Nat} (ht : t < 4) (hR : bw_Row K Y V N H (16 * (t + 1)) P) (hT : bw_Tree P lf b mq mK M) (hc : (oy t).toInt ≤ (cu t).toInt)
    (hd : (∀ k, (cu t).toInt ≤ k → k ≤ (oa t).toInt → M k = none) → post 3 (q1, q2, q3, q4, q5, q6, q7, q8, q9, q10, q11, q12, q13, q14, q15, cap, thr, win, fh, fc, r0, r1, mp, mk, ic, he0, he1, pc, K, Y, V, N, Lk, H, D, U, upd sg t 0, ok, oy, oa, lg, upd fo t 0, upd rk t 0, upd rv t 0, st, cu))
    (he : ∀ a, a < 4096 → (cu t).toInt ≤ (Y a).toInt → (Y a).toInt ≤ (oa t).toInt → M (Y a).toInt = some (V a) → (∀ k, (cu t).toInt ≤ k → k < (Y a).toInt → M k = none) → post 5 (q1, q2, q3, q4, q5, q6, q7, q8, q9, q10, q11, q12, q13, q14, q15, cap, thr, win, fh, fc, r0, r1, mp, mk, ic, he0, he1, pc, K, Y, V, N, Lk, H, D, U, sg, ok, oy, oa, lg, upd fo t 1, upd rk t (Y a), upd rv t (V a), st, vp_updL cu t ((Y a).toInt64 + 1))) : wpX_scan post (q1, q2, q3, q4, q5, q6, q7, q8, q9, q10, q11, q12, q13, q14, q15, cap, thr, win, fh, fc, r0, r1, mp, mk, ic, he0, he1, pc, K, Y, V, N, Lk, H, D, U, sg, ok, oy, oa, lg, fo, rk, rv, st, cu) (nI t) := by
  have ct : (nI t).toNatClampNeg = t := nI_clamp (by omega)
  have hit : vp_in (nI t) 4 := vp_in_nI ht (by decide)
  refine And.intro hit ⟨hit, br_c (fun lt => ?_) (fun nlt => ⟨hit, nm_e ?_⟩)⟩
  · refine br_t bw_neg1 (bw_scan58 ht (hd fun k h1 h2 => ?_))
    rw [ct] at lt
    have := Int64.lt_iff_toInt_lt.mp lt
    rw [Int32.toInt_toInt64] at this
    omega
  · rw [ct] at nlt
    rw [ct, bw_row16]
    have hle : (cu t).toInt ≤ (oa t).toInt := by
      have : ¬ _ := fun z => nlt (Int64.lt_iff_toInt_lt.mpr z)
      rw [Int32.toInt_toInt64] at this
      omega
    have o1 := bw_irg (oa t)
    have o2 := bw_irg (oy t)
    have ec : (cu t).toInt32.toInt = (cu t).toInt := bw_to32 (by omega) (by omega)
    refine bw_seek hR hT (fun hn => br_t bw_neg1 (bw_scan58 ht (hd fun k h1 h2 => hn k (by rw [ec]; exact h1)))) (fun a a1 a2 a3 a4 => ?_)
    rw [ec] at a2 a4
    have ca : (nI a).toNatClampNeg = a := nI_clamp (by omega)
    have hia : vp_in (nI a) 4096 := vp_in_nI a1 (by decide)
    refine br_f (nI_pos (by omega)) ⟨hia, hit, br_c (fun le => ?_) (fun nle => bw_scan58 ht (hd fun k h1 h2 => ?_))⟩
    · rw [ca, ct] at le
      have W := he a a1 a2 (bw_ile.mp le) a3 a4
      refine ⟨hit, nm_e ⟨hia, hit, nm_e ⟨hia, hit, nm_e ⟨hia, hit, nm_e ?_⟩⟩⟩⟩
      rw [ct, ca, bw_bo1]
      exact W
    · rw [ca, ct] at nle
      have : ¬ _ := fun z => nle (bw_ile.mpr z)
      exact a4 k h1 (by omega)
/-! change -/
theorem bw_chg50 {post : Int32 → SX → Prop} {t : Nat} (ht : t < 4) (hp : post 6 (q1, q2, q3, q4, q5, q6, q7, q8, q9, q10, q11, q12, q13, q14, q15, cap, thr, win, fh, fc, r0, r1, mp, mk, ic, he0, he1, pc, K, Y, V, N, Lk, H, D, U, upd sg t 1, ok, oy, oa, lg, upd fo t 0, upd rk t 0, upd rv t 0, upd st t (-1), cu)) : wX_change_50 post (nI t) q1 q2 q3 q4 q5 q6 q7 q8 q9 q10 q11 q12 q13 q14 q15 cap thr win fh fc r0 r1 mp mk ic he0 he1 pc K Y V N Lk H D U sg ok oy oa lg fo rk rv st cu := by
  have ct : (nI t).toNatClampNeg = t := nI_clamp (by omega)
  have hit : vp_in (nI t) 4 := vp_in_nI ht (by decide)
  unfold wX_change_50
  refine bw_clrX ht ?_
  dsimp only
  refine ⟨hit, nm_e ?_⟩
  rw [ct]
  exact hp
theorem bw_chg_n {post : Int32 → SX → Prop} {t : Nat} (ht : t < 4) (hR : bw_Row K Y V N H 0 P) (hT : bw_Tree P lf b mq mK M) (hM : M (oy t).toInt = none)
    (h1 : ¬ fo t = 0 → wX_change_50 post (nI t) q1 q2 q3 q4 q5 q6 q7 q8 q9 q10 q11 q12 q13 q14 q15 cap thr win fh fc r0 r1 mp mk ic he0 he1 pc K Y V N Lk H D U sg ok oy oa lg fo rk rv st cu) (h2 : fo t = 0 → wX_change_65 post (nI t) 0 q1 q2 q3 q4 q5 q6 q7 q8 q9 q10 q11 q12 q13 q14 q15 cap thr win fh fc r0 r1 mp mk ic he0 he1 pc K Y V N Lk H D U sg ok oy oa lg fo rk rv st cu) : wpX_change post (q1, q2, q3, q4, q5, q6, q7, q8, q9, q10, q11, q12, q13, q14, q15, cap, thr, win, fh, fc, r0, r1, mp, mk, ic, he0, he1, pc, K, Y, V, N, Lk, H, D, U, sg, ok, oy, oa, lg, fo, rk, rv, st, cu) (nI t) := by
  have ct : (nI t).toNatClampNeg = t := nI_clamp (by omega)
  have hit : vp_in (nI t) 4 := vp_in_nI ht (by decide)
  refine And.intro hit ?_
  rw [ct]
  refine bw_lookup hR hT (fun _ => br_t bw_neg1 ?_) (fun a _ a2 => ?_)
  · refine And.intro hit ?_
    rw [ct]
    exact br_c (fun e => br_t rfl (h2 e.symm)) (fun e => h1 (fun z => e z.symm))
  · rw [hM] at a2
    cases a2
theorem bw_chg_s {post : Int32 → SX → Prop} {t : Nat} {v : Int32} (ht : t < 4) (hR : bw_Row K Y V N H 0 P) (hT : bw_Tree P lf b mq mK M) (hM : M (oy t).toInt = some v)
    (h1 : ¬ (fo t = 1 ∧ v = rv t) → wX_change_50 post (nI t) q1 q2 q3 q4 q5 q6 q7 q8 q9 q10 q11 q12 q13 q14 q15 cap thr win fh fc r0 r1 mp mk ic he0 he1 pc K Y V N Lk H D U sg ok oy oa lg fo rk rv st cu) (h2 : fo t = 1 ∧ v = rv t → wX_change_65 post (nI t) 1 q1 q2 q3 q4 q5 q6 q7 q8 q9 q10 q11 q12 q13 q14 q15 cap thr win fh fc r0 r1 mp mk ic he0 he1 pc K Y V N Lk H D U sg ok oy oa lg fo rk rv st cu) : wpX_change post (q1, q2, q3, q4, q5, q6, q7, q8, q9, q10, q11, q12, q13, q14, q15, cap, thr, win, fh, fc, r0, r1, mp, mk, ic, he0, he1, pc, K, Y, V, N, Lk, H, D, U, sg, ok, oy, oa, lg, fo, rk, rv, st, cu) (nI t) := by
  have ct : (nI t).toNatClampNeg = t := nI_clamp (by omega)
  have hit : vp_in (nI t) 4 := vp_in_nI ht (by decide)
  refine And.intro hit ?_
  rw [ct]
  refine bw_lookup hR hT (fun hn => ?_) (fun a a1 a2 => br_f (nI_pos (by omega)) ?_)
  · rw [hM] at hn
    cases hn
  · rw [hM] at a2
    have ev : v = V a := Option.some.inj a2
    have ca : (nI a).toNatClampNeg = a := nI_clamp (by omega)
    have hia : vp_in (nI a) 4096 := vp_in_nI a1 (by decide)
    refine And.intro hit ?_
    rw [ct]
    refine br_c (fun e => br_f (by decide) ⟨hia, hit, ?_⟩) (fun e => h1 fun z => e z.1.symm)
    rw [ca]
    exact br_c (fun e' => h2 ⟨e.symm, ev.trans e'⟩) (fun e' => h1 fun z => e' (ev.symm.trans z.2))
/-! install -/
theorem bw_putX {post : SX → Prop} {p : Nat} {kd v key : Int32} (hR : bw_Rs fh fc r0 r1 K Y V N Lk H D P F R0 R1 own) (hT : bw_Tree P lf b mq mK M) (hmp : bw_Mp mp mk mq mK) (hU : bw_Us U P lf mq) (hF : 40 ≤ F.length) (hM : bw_fewM M) (hl : bw_lfor lf b key.toInt p) (hkd : kd = 1 ∨ kd = 2) (hz : ∀ k, k ≠ key.toInt → M' k = M k) (hz1 : kd = 1 → M' key.toInt = some v) (hz2 : kd = 2 → M' key.toInt = none)
    (hp : ∀ (fh' fc' r0' : Int32) (K' Y' V' N' Lk' H' D' : Nat → Int32) (own' : Nat → Nat) (n' : Nat), bw_LE fh' fc' r0' r1 mp mk K' Y' V' N' Lk' H' D' U R1 own' n' M' → bw_Kp K Y V N H own K' Y' V' N' H' own' → F.length ≤ n' + 34 → post (q1, q2, q3, q4, q5, q6, q7, q8, q9, q10, q11, q12, q13, q14, q15, cap, thr, win, fh', fc', r0', r1, mp, mk, ic, he0, he1, pc, K', Y', V', N', Lk', H', D', U, sg, ok, oy, oa, lg, fo, rk, rv, st, cu)) : wpX_prepend post (q1, q2, q3, q4, q5, q6, q7, q8, q9, q10, q11, q12, q13, q14, q15, cap, thr, win, fh, fc, r0, r1, mp, mk, ic, he0, he1, pc, K, Y, V, N, Lk, H, D, U, sg, ok, oy, oa, lg, fo, rk, rv, st, cu) (nI p) kd key v := by
  have hk : vp_nar .byte kd.toInt8.toInt32 = kd := by
    rcases hkd with e | e <;> rw [e]
    · exact bw_nb1
    · exact bw_nb2
  refine bw_prepend hR (hT.2.1 p hl.1).2.1 (bw_few_leaf hT hM hl.1) hF hk (fun fh' fc' r0' K' Y' V' N' Lk' H' D' P' F' R0' own' a L' c1 c2 c3 c4 c5 c6 => ?_)
  have hT1 := bw_T_same (P' := bw_up P p L') hT bw_up_ag (by rw [bw_up_s]; exact c5) (Or.inr hl.1)
  have hT2 := bw_T_put (P' := P') (a := a) (kd := kd) (v := v) (M' := M') hT1 hl (fun x hx => by rw [bw_up_n hx]; exact c3 x hx) (by rw [bw_up_s]; exact c4) hkd hz hz1 hz2
  exact hp fh' fc' r0' K' Y' V' N' Lk' H' D' own' F'.length ⟨P', F', R0', lf, b, mq, mK, c1, hT2, hmp, bw_Us_ag hU c3 (Or.inr hl.1), rfl⟩ c2 c6
theorem bw_107 {post : SX → Prop} {t n : Nat} {key : Int32} (ht : t < 4) (hL : bw_LE fh fc r0 r1 mp mk K Y V N Lk H D U R1 own n M) (hM : bw_fewM M)
    (hp : ∀ (fh' fc' r0' mp' mk' : Int32) (K' Y' V' N' Lk' H' D' U' : Nat → Int32) (own' : Nat → Nat) (n' : Nat), bw_LE fh' fc' r0' r1 mp' mk' K' Y' V' N' Lk' H' D' U' R1 own' n' M → bw_Kp K Y V N H own K' Y' V' N' H' own' → (n' = n ∨ 954 ≤ n') → post (q1, q2, q3, q4, q5, q6, q7, q8, q9, q10, q11, q12, q13, q14, q15, cap, thr, win, fh', fc', r0', r1, mp', mk', ic + 1, he0 + 1, he1, pc, K', Y', V', N', Lk', H', D', U', upd sg t 0, ok, oy, oa, lg, fo, rk, rv, upd st t (ic + 1), cu)) : wX_install_107 post (nI t) key q1 q2 q3 q4 q5 q6 q7 q8 q9 q10 q11 q12 q13 q14 q15 cap thr win fh fc r0 r1 mp mk ic he0 he1 pc K Y V N Lk H D U sg ok oy oa lg fo rk rv st cu := by
  have ct : (nI t).toNatClampNeg = t := nI_clamp (by omega)
  have hit : vp_in (nI t) 4 := vp_in_nI ht (by decide)
  refine nm_e (nm_e ⟨hit, nm_e ⟨hit, nm_e ?_⟩⟩)
  rw [ct]
  exact bw_upkeep hL hM hp
theorem bw_instX {post : SX → Prop} {t n : Nat} {pc' : Int32} (ht : t < 4) (hL : bw_LE fh fc r0 r1 mp mk K Y V N Lk H D U R1 own n M) (hF : 40 ≤ n) (hM : bw_fewM M) (hM' : bw_fewM M') (hz : ∀ k, k ≠ (oy t).toInt → M' k = M k)
    (hk : (ok t = 3 ∧ pc' = pc - 1 ∧ M' (oy t).toInt = none) ∨ (¬ ok t = 3 ∧ (ok t = 2 → M' (oy t).toInt = some (oa t)) ∧ (¬ ok t = 2 → M' (oy t).toInt = some (rv t + oa t)) ∧ (fo t = 0 → pc' = pc + 1) ∧ (¬ fo t = 0 → pc' = pc)))
    (hp : ∀ (fh' fc' r0' mp' mk' : Int32) (K' Y' V' N' Lk' H' D' U' : Nat → Int32) (own' : Nat → Nat) (n' : Nat), bw_LE fh' fc' r0' r1 mp' mk' K' Y' V' N' Lk' H' D' U' R1 own' n' M' → bw_Kp K Y V N H own K' Y' V' N' H' own' → (n ≤ n' + 34 ∨ 954 ≤ n') → post (q1, q2, q3, q4, q5, q6, q7, q8, q9, q10, q11, q12, q13, q14, q15, cap, thr, win, fh', fc', r0', r1, mp', mk', ic + 1, he0 + 1, he1, pc', K', Y', V', N', Lk', H', D', U', upd sg t 0, ok, oy, oa, lg, fo, rk, rv, upd st t (ic + 1), cu)) : wpX_install post (q1, q2, q3, q4, q5, q6, q7, q8, q9, q10, q11, q12, q13, q14, q15, cap, thr, win, fh, fc, r0, r1, mp, mk, ic, he0, he1, pc, K, Y, V, N, Lk, H, D, U, sg, ok, oy, oa, lg, fo, rk, rv, st, cu) (nI t) := by
  have ct : (nI t).toNatClampNeg = t := nI_clamp (by omega)
  have hit : vp_in (nI t) 4 := vp_in_nI ht (by decide)
  obtain ⟨P, F, R0, lf, b, mq, mK, l1, l2, l3, l4, l5⟩ := hL
  have s77 : ∀ (p : Nat) (v : Int32), bw_lfor lf b (oy t).toInt p → M' (oy t).toInt = some v → (fo t = 0 → pc' = pc + 1) → (¬ fo t = 0 → pc' = pc) → wX_install_77 post (nI t) (oy t) (nI p) v q1 q2 q3 q4 q5 q6 q7 q8 q9 q10 q11 q12 q13 q14 q15 cap thr win fh fc r0 r1 mp mk ic he0 he1 pc K Y V N Lk H D U sg ok oy oa lg fo rk rv st cu := by
    intro p v hl hv f1 f2
    unfold wX_install_77
    refine bw_putX (M' := M') l1 l2 l3 l4 (by omega) hM hl (Or.inl rfl) hz (fun _ => hv) (fun z => absurd z (by decide)) (fun fh1 fc1 r01 K1 Y1 V1 N1 Lk1 H1 D1 own1 n1 g1 g2 g3 => ?_)
    dsimp only
    refine ⟨hit, ?_⟩
    rw [ct]
    refine br_c (fun e => ?_) (fun e => ?_)
    · rw [← f1 e]
      exact nm_e (bw_107 ht g1 hM' (fun fh' fc' r0' mp' mk' K' Y' V' N' Lk' H' D' U' own' n' w1 w2 w3 => hp fh' fc' r0' mp' mk' K' Y' V' N' Lk' H' D' U' own' n' w1 (bw_Kp_tr g2 w2) (by omega)))
    · rw [← f2 e]
      exact bw_107 ht g1 hM' (fun fh' fc' r0' mp' mk' K' Y' V' N' Lk' H' D' U' own' n' w1 w2 w3 => hp fh' fc' r0' mp' mk' K' Y' V' N' Lk' H' D' U' own' n' w1 (bw_Kp_tr g2 w2) (by omega))
  refine And.intro hit (nm_e ?_)
  rw [ct]
  refine bw_leafFor (ro := 0) (bw_Rs_row l1) l2 fun p hl => ⟨hit, ?_⟩
  rcases hk with ⟨k3, k4, k5⟩ | ⟨k3, k4, k5, k6, k7⟩
  · refine br_t k3 (bw_putX (M' := M') l1 l2 l3 l4 (by omega) hM hl (Or.inr rfl) hz (fun z => absurd z (by decide)) (fun _ => k5) (fun fh1 fc1 r01 K1 Y1 V1 N1 Lk1 H1 D1 own1 n1 g1 g2 g3 => ?_))
    dsimp only
    rw [← k4]
    exact nm_e (bw_107 ht g1 hM' (fun fh' fc' r0' mp' mk' K' Y' V' N' Lk' H' D' U' own' n' w1 w2 w3 => hp fh' fc' r0' mp' mk' K' Y' V' N' Lk' H' D' U' own' n' w1 (bw_Kp_tr g2 w2) (by omega)))
  · refine br_f k3 ⟨hit, ?_⟩
    refine br_c (fun k2 => ⟨hit, ?_⟩) (fun k2 => ⟨hit, hit, ?_⟩)
    · exact s77 p (oa t) hl (k4 k2) k6 k7
    · exact s77 p _ hl (k5 k2) k6 k7
end bw_S15
end
section
/-! the reference's steps of a thread -/
section bw_S16
variable {q1 q2 q3 q4 q5 q6 q7 q8 q9 q10 q11 q12 q13 q14 q15 cap thr win fh fc r0 r1 mp mk ic he0 he1 pc : Int32} {K Y V N Lk H D U sg ok oy oa lg fo rk rv st : Nat → Int32} {cu : Nat → Int64}
variable {yu yk yv zu zk zv zg : Nat → Int32}
variable {M : Int → Option Int32}
theorem bw_Yld5 {post : Int32 → SY → Prop} {t : Nat} (ht : t < 4) (hb : ∀ i, i < 32 → yu i = 0 ∨ yu i = 1) (h5 : ok t = 5)
    (hp : ∀ (zu' zk' zv' zg' : Nat → Int32), (∀ i, i < 32 → zu' (t * 32 + i) = yu i ∧ zk' (t * 32 + i) = yk i ∧ zv' (t * 32 + i) = yv i ∧ zg' (t * 32 + i) = 0) → (∀ j, (j < t * 32 ∨ t * 32 + 32 ≤ j) → zu' j = zu j ∧ zk' j = zk j ∧ zv' j = zv j ∧ zg' j = zg j) → post 2 (cap, thr, win, ic, he0, he1, yu, yk, yv, upd sg t 2, ok, oy, oa, lg, fo, rk, rv, upd st t ic, zu', zk', zv', zg')) : wpY_load post (cap, thr, win, ic, he0, he1, yu, yk, yv, sg, ok, oy, oa, lg, fo, rk, rv, st, zu, zk, zv, zg) (nI t) := by
  have ct : (nI t).toNatClampNeg = t := nI_clamp (by omega)
  have hit : vp_in (nI t) 4 := vp_in_nI ht (by decide)
  refine And.intro hit (nm_e ⟨hit, nm_e ⟨hit, ?_⟩⟩)
  rw [ct]
  exact br_t h5 ⟨33, bw_cpy_y ht hb hp 32 0 33 zu zk zv zg (by omega) (by omega) (fun j hj => by omega) (fun j _ => ⟨rfl, rfl, rfl, rfl⟩)⟩
theorem bw_Yldn {post : Int32 → SY → Prop} {t : Nat} (ht : t < 4) (hM : bw_My yu yk yv M) (h5 : ¬ ok t = 5)
    (hn : M (oy t).toInt = none → post 2 (cap, thr, win, ic, he0, he1, yu, yk, yv, upd sg t 2, ok, oy, oa, lg, upd fo t 0, upd rk t (oy t), upd rv t 0, upd st t ic, zu, zk, zv, zg))
    (hs : ∀ v, M (oy t).toInt = some v → post 2 (cap, thr, win, ic, he0, he1, yu, yk, yv, upd sg t 2, ok, oy, oa, lg, upd fo t 1, upd rk t (oy t), upd rv t v, upd st t ic, zu, zk, zv, zg)) : wpY_load post (cap, thr, win, ic, he0, he1, yu, yk, yv, sg, ok, oy, oa, lg, fo, rk, rv, st, zu, zk, zv, zg) (nI t) := by
  have ct : (nI t).toNatClampNeg = t := nI_clamp (by omega)
  have hit : vp_in (nI t) 4 := vp_in_nI ht (by decide)
  refine And.intro hit (nm_e ⟨hit, nm_e ⟨hit, ?_⟩⟩)
  rw [ct]
  refine br_f h5 ⟨hit, bw_slot hM (fun h => br_t bw_neg1 ?_) (fun i hi h1 h2 h3 => br_f (nI_pos (by omega)) ?_)⟩
  · have W := hn h
    refine And.intro hit (nm_e ⟨hit, hit, nm_e (br_t bw_neg1 ⟨hit, nm_e ?_⟩)⟩)
    rw [ct, bw_bo0]
    exact W
  · have W := hs _ h3
    have ci : (nI i).toNatClampNeg = i := nI_clamp (by omega)
    refine And.intro hit (nm_e ⟨hit, hit, nm_e (br_f (nI_pos (by omega)) ⟨vp_in_nI hi (by decide), hit, nm_e ?_⟩)⟩)
    rw [ct, ci, bw_bo1]
    exact W
theorem bw_Yclr69 {post : Int32 → SY → Prop} {t : Nat} {x2 x3 x4 : Int32} (ht : t < 4) (hp : post 6 (cap, thr, win, ic, he0, he1, yu, yk, yv, upd sg t 1, ok, oy, oa, lg, upd fo t 0, upd rk t 0, upd rv t 0, upd st t (-1), zu, zk, zv, zg)) : wY_install_69 post (nI t) x2 x3 x4 1 cap thr win ic he0 he1 yu yk yv sg ok oy oa lg fo rk rv st zu zk zv zg := by
  have ct : (nI t).toNatClampNeg = t := nI_clamp (by omega)
  have hit : vp_in (nI t) 4 := vp_in_nI ht (by decide)
  refine br_f (by decide) (bw_clrY ht ?_)
  dsimp only
  refine ⟨hit, nm_e ?_⟩
  rw [ct]
  exact hp
theorem bw_insY_n {post : Int32 → SY → Prop} {t : Nat} (ht : t < 4) (hM : bw_My yu yk yv M) (hMk : M (oy t).toInt = none)
    (h1 : ¬ fo t = 0 → post 6 (cap, thr, win, ic, he0, he1, yu, yk, yv, upd sg t 1, ok, oy, oa, lg, upd fo t 0, upd rk t 0, upd rv t 0, upd st t (-1), zu, zk, zv, zg))
    (h2 : fo t = 0 → ¬ ok t = 2 → post 3 (cap, thr, win, ic, he0, he1, yu, yk, yv, upd sg t 0, ok, oy, oa, lg, fo, rk, rv, upd st t ic, zu, zk, zv, zg))
    (h3 : fo t = 0 → ok t = 2 → wY_install_118 post (nI t) (ok t) (-1) 0 cap thr win ic he0 he1 yu yk yv sg ok oy oa lg fo rk rv st zu zk zv zg) : wpY_install post (cap, thr, win, ic, he0, he1, yu, yk, yv, sg, ok, oy, oa, lg, fo, rk, rv, st, zu, zk, zv, zg) (nI t) := by
  have ct : (nI t).toNatClampNeg = t := nI_clamp (by omega)
  have hit : vp_in (nI t) 4 := vp_in_nI ht (by decide)
  refine And.intro hit (nm_e ⟨hit, ?_⟩)
  rw [ct]
  refine bw_slot hM (fun _ => br_t bw_neg1 ?_) (fun i _ _ _ h => ?_)
  · refine And.intro hit ?_
    rw [ct]
    refine br_c (fun e => br_t bw_neg1 (br_t rfl (br_c (fun k => h3 e.symm k) (fun k => br_t rfl ⟨hit, nm_e ⟨hit, nm_e ?_⟩⟩)))) (fun e => br_t bw_neg1 (bw_Yclr69 ht (h1 fun z => e z.symm)))
    rw [ct]
    exact h2 e.symm k
  · rw [hMk] at h
    cases h
theorem bw_insY_s {post : Int32 → SY → Prop} {t : Nat} {v : Int32} (ht : t < 4) (hM : bw_My yu yk yv M) (hMk : M (oy t).toInt = some v)
    (h1 : ¬ (fo t = 1 ∧ v = rv t) → post 6 (cap, thr, win, ic, he0, he1, yu, yk, yv, upd sg t 1, ok, oy, oa, lg, upd fo t 0, upd rk t 0, upd rv t 0, upd st t (-1), zu, zk, zv, zg))
    (h2 : fo t = 1 ∧ v = rv t → ∀ i, i < 32 → yu i = 1 → yk i = oy t → yv i = v → wY_install_118 post (nI t) (ok t) (nI i) 1 cap thr win ic he0 he1 yu yk yv sg ok oy oa lg fo rk rv st zu zk zv zg) : wpY_install post (cap, thr, win, ic, he0, he1, yu, yk, yv, sg, ok, oy, oa, lg, fo, rk, rv, st, zu, zk, zv, zg) (nI t) := by
  have ct : (nI t).toNatClampNeg = t := nI_clamp (by omega)
  have hit : vp_in (nI t) 4 := vp_in_nI ht (by decide)
  refine And.intro hit (nm_e ⟨hit, ?_⟩)
  rw [ct]
  refine bw_slot hM (fun h => ?_) (fun i hi hu hk h => br_f (nI_pos (by omega)) ?_)
  · rw [hMk] at h
    cases h
  · have ci : (nI i).toNatClampNeg = i := nI_clamp (by omega)
    have hii : vp_in (nI i) 32 := vp_in_nI hi (by decide)
    rw [hMk] at h
    have ev : v = yv i := Option.some.inj h
    refine And.intro hit ?_
    rw [ct]
    refine br_c (fun e => br_f (nI_pos (by omega)) ⟨hii, hit, ?_⟩) (fun e => br_f (nI_pos (by omega)) ⟨hii, hit, ?_⟩)
    · rw [ci, ct]
      refine br_c (fun e' => br_t rfl ?_) (fun e' => bw_Yclr69 ht (h1 fun z => e' (ev.symm.trans z.2)))
      have W := h2 ⟨e.symm, ev.trans e'⟩ i hi hu hk ev.symm
      exact br_c (fun _ => W) (fun _ => br_f (by decide) W)
    · have W := bw_Yclr69 (x2 := ok t) (x3 := nI i) (x4 := 1) ht (h1 fun z => e z.1.symm)
      exact br_c (fun _ => W) (fun _ => W)
theorem bw_195 {post : Int32 → SY → Prop} {t i : Nat} (ht : t < 4) (hi : i < 32) (hk : ok t = 2 ∨ ok t = 3 ∨ ok t = 4)
    (h3 : ok t = 3 → post 4 (cap, thr, win, ic + 1, he0 + 1, he1, upd yu i 0, upd yk i (oy t), yv, upd sg t 0, ok, oy, oa, lg, fo, rk, rv, upd st t (ic + 1), zu, zk, zv, zg))
    (h2 : ok t = 2 → post 4 (cap, thr, win, ic + 1, he0 + 1, he1, upd yu i 1, upd yk i (oy t), upd yv i (oa t), upd sg t 0, ok, oy, oa, lg, fo, rk, rv, upd st t (ic + 1), zu, zk, zv, zg))
    (h4 : ok t = 4 → post 4 (cap, thr, win, ic + 1, he0 + 1, he1, upd yu i 1, upd yk i (oy t), upd yv i (yv i + oa t), upd sg t 0, ok, oy, oa, lg, fo, rk, rv, upd st t (ic + 1), zu, zk, zv, zg)) : wY_install_195 post (nI t) (ok t) (nI i) cap thr win ic he0 he1 yu yk yv sg ok oy oa lg fo rk rv st zu zk zv zg := by
  have ct : (nI t).toNatClampNeg = t := nI_clamp (by omega)
  have hit : vp_in (nI t) 4 := vp_in_nI ht (by decide)
  have ci : (nI i).toNatClampNeg = i := nI_clamp (by omega)
  have hii : vp_in (nI i) 32 := vp_in_nI hi (by decide)
  refine br_f (nI_pos (by omega)) ?_
  rcases hk with k | k | k
  · have W := h2 k
    refine br_f (by rw [k]; decide) ⟨hii, nm_e ⟨hit, hii, nm_e (br_t k ⟨hit, hii, nm_e (br_f (by rw [k]; decide) (nm_e (nm_e ⟨hit, nm_e ⟨hit, nm_e ?_⟩⟩)))⟩)⟩⟩
    rw [ct, ci, bw_bo1]
    exact W
  · have W := h3 k
    refine br_t k ⟨hii, nm_e ⟨hit, hii, nm_e (br_f (by rw [k]; decide) (br_f (by rw [k]; decide) (nm_e (nm_e ⟨hit, nm_e ⟨hit, nm_e ?_⟩⟩))))⟩⟩
    rw [ct, ci, bw_bo0]
    exact W
  · have W := h4 k
    refine br_f (by rw [k]; decide) ⟨hii, nm_e ⟨hit, hii, nm_e (br_f (by rw [k]; decide) (br_t k ⟨hii, hit, hii, nm_e (nm_e (nm_e ⟨hit, nm_e ⟨hit, nm_e ?_⟩⟩))⟩))⟩⟩
    rw [ct, ci, bw_bo1]
    exact W
/-! the map behind the slots -/
def bw_mu1 (M : Int → Option Int32) (key : Int) (o : Option Int32) : Int → Option Int32 := fun k => if k = key then o else M k
theorem bw_mu1_s {key : Int} {o : Option Int32} : bw_mu1 M key o key = o := if_pos rfl
theorem bw_mu1_n {key k : Int} {o : Option Int32} (h : k ≠ key) : bw_mu1 M key o k = M k := if_neg h
theorem bw_My_put {i : Nat} {key v : Int32} (h : bw_My yu yk yv M) (hi : i < 32) (hc : (yu i = 0 ∧ M key.toInt = none) ∨ (yu i = 1 ∧ yk i = key)) : bw_My (upd yu i 1) (upd yk i key) (upd yv i v) (bw_mu1 M key.toInt (some v)) := by
  obtain ⟨h1, h2, h3, h4⟩ := h
  have nk : ∀ j, j < 32 → j ≠ i → yu j ≠ 0 → (yk j).toInt ≠ key.toInt := by
    intro j hj hne hu e
    rcases hc with ⟨_, c2⟩ | ⟨c1, c2⟩
    · have := h2 j hj hu
      rw [e, c2] at this
      cases this
    · exact hne (h4 j i hj hi hu (by rw [c1]; decide) (by rw [c2]; exact Int32.toInt_inj.mp e))
  refine ⟨fun j hj => ?_, fun j hj hu => ?_, fun k w hk => ?_, fun j j' hj hj' hu hu' e => ?_⟩
  · by_cases ej : j = i
    · subst ej; rw [pk_us]; exact Or.inr rfl
    · rw [pk_un ej]; exact h1 j hj
  · by_cases ej : j = i
    · subst ej; rw [pk_us, pk_us]; exact bw_mu1_s
    · rw [pk_un ej] at hu
      rw [pk_un ej, pk_un ej, bw_mu1_n (nk j hj ej hu)]
      exact h2 j hj hu
  · by_cases ek : k = key.toInt
    · exact ⟨i, hi, by rw [pk_us]; decide, by rw [pk_us]; exact ek.symm⟩
    · rw [bw_mu1_n ek] at hk
      obtain ⟨j, j1, j2, j3⟩ := h3 k w hk
      by_cases ej : j = i
      · subst ej
        rcases hc with ⟨c1, _⟩ | ⟨_, c2⟩
        · exact absurd c1 j2
        · rw [c2] at j3
          exact absurd j3.symm ek
      · exact ⟨j, j1, by rw [pk_un ej]; exact j2, by rw [pk_un ej]; exact j3⟩
  · by_cases ej : j = i
    · by_cases ej' : j' = i
      · rw [ej, ej']
      · subst ej
        rw [pk_un ej'] at hu'
        rw [pk_us, pk_un ej'] at e
        exact absurd (congrArg Int32.toInt e.symm) (nk j' hj' ej' hu')
    · by_cases ej' : j' = i
      · subst ej'
        rw [pk_un ej] at hu
        rw [pk_us, pk_un ej] at e
        exact absurd (congrArg Int32.toInt e) (nk j hj ej hu)
      · rw [pk_un ej] at hu
        rw [pk_un ej'] at hu'
        rw [pk_un ej, pk_un ej'] at e
        exact h4 j j' hj hj' hu hu' e
theorem bw_My_del {i : Nat} {key : Int32} (h : bw_My yu yk yv M) (hi : i < 32) (c1 : yu i = 1) (c2 : yk i = key) : bw_My (upd yu i 0) (upd yk i key) yv (bw_mu1 M key.toInt none) := by
  obtain ⟨h1, h2, h3, h4⟩ := h
  have nk : ∀ j, j < 32 → j ≠ i → yu j ≠ 0 → (yk j).toInt ≠ key.toInt := by
    intro j hj hne hu e
    exact hne (h4 j i hj hi hu (by rw [c1]; decide) (by rw [c2]; exact Int32.toInt_inj.mp e))
  have un : ∀ j, upd yu i 0 j ≠ 0 → j ≠ i := fun j hu e => hu (by rw [e]; exact pk_us)
  refine ⟨fun j hj => ?_, fun j hj hu => ?_, fun k w hk => ?_, fun j j' hj hj' hu hu' e => ?_⟩
  · by_cases ej : j = i
    · subst ej; rw [pk_us]; exact Or.inl rfl
    · rw [pk_un ej]; exact h1 j hj
  · have ej := un j hu
    rw [pk_un ej] at hu
    rw [pk_un ej, bw_mu1_n (nk j hj ej hu)]
    exact h2 j hj hu
  · by_cases ek : k = key.toInt
    · rw [ek, bw_mu1_s] at hk
      cases hk
    · rw [bw_mu1_n ek] at hk
      obtain ⟨j, j1, j2, j3⟩ := h3 k w hk
      by_cases ej : j = i
      · subst ej
        rw [c2] at j3
        exact absurd j3.symm ek
      · exact ⟨j, j1, by rw [pk_un ej]; exact j2, by rw [pk_un ej]; exact j3⟩
  · have ej := un j hu
    have ej' := un j' hu'
    rw [pk_un ej] at hu
    rw [pk_un ej'] at hu'
    rw [pk_un ej, pk_un ej'] at e
    exact h4 j j' hj hj' hu hu' e
theorem bw_cn_on {i : Nat} (hi : i < 32) (h : yu i = 0) : bw_cn (fun j => upd yu i 1 j ≠ 0) 32 = bw_cn (fun j => yu j ≠ 0) 32 + 1 := by
  rw [← bw_cn_add (P := fun j => yu j ≠ 0) (a := i) (fun z => z h) hi]
  refine bw_cn_eq fun j _ => ?_
  by_cases e : j = i
  · subst e
    rw [pk_us]
    exact ⟨fun _ => Or.inr rfl, fun _ => by decide⟩
  · rw [pk_un e]
    exact ⟨Or.inl, fun z => z.resolve_right e⟩
theorem bw_cn_same {i : Nat} (h : yu i = 1) : bw_cn (fun j => upd yu i 1 j ≠ 0) 32 = bw_cn (fun j => yu j ≠ 0) 32 := by
  refine bw_cn_eq fun j _ => ?_
  by_cases e : j = i
  · subst e
    rw [pk_us, h]
  · rw [pk_un e]
theorem bw_cn_off {i : Nat} (hi : i < 32) (h : yu i = 1) : bw_cn (fun j => upd yu i 0 j ≠ 0) 32 + 1 = bw_cn (fun j => yu j ≠ 0) 32 := by
  rw [← bw_cn_add (P := fun j => upd yu i 0 j ≠ 0) (a := i) (fun z => z pk_us) hi]
  refine bw_cn_eq fun j _ => ?_
  by_cases e : j = i
  · subst e
    rw [h]
    exact ⟨fun _ => by decide, fun _ => Or.inr rfl⟩
  · rw [pk_un e]
    exact ⟨fun z => z.resolve_right e, Or.inl⟩
/-- fewer than 32 used: one is free -/
theorem bw_cn_free (hb : bw_cn (fun j => yu j ≠ 0) 32 < 32) : ∃ j, j < 32 ∧ yu j = 0 := by
  rcases Classical.em (∃ j, j < 32 ∧ yu j = 0) with z | z
  · exact z
  · have h1 : bw_cn (fun _ => True) 32 ≤ bw_cn (fun j => yu j ≠ 0) 32 := bw_cn_mono fun j hj _ e => z ⟨j, hj, e⟩
    have h2 : ∀ N, bw_cn (fun _ => True) N = N := by
      intro N
      induction N with
      | zero => rfl
      | succ N ih => rw [bw_cn, ih, bw_b01_t trivial]
    rw [h2] at h1
    omega
end bw_S16
end
section
/-! the step of a thread: load and scan (printed by mk17.py) -/
section bw_S17
variable {q1 q2 q3 q4 q5 q6 q7 q8 q9 q10 q11 q12 q13 q14 q15 cap thr win fh fc r0 r1 mp mk ic he0 he1 pc : Int32} {K Y V N Lk H D U sg ok oy oa lg fo rk rv st : Nat → Int32} {cu : Nat → Int64}
variable {yu yk yv zu zk zv zg : Nat → Int32}
theorem bw_st_load {k t : Nat} (hR : bw_Rl cap thr win fh fc r0 r1 mp mk he0 he1 pc K Y V N Lk H D U sg ok oy oa lg fo cu yu yk yv zu zk zv zg) (t4 : t < 4) (t2 : ¬ nI t < 0) (t3 : nI t < thr) (s1 : sg t = 1) : wpX_step (fun r u' => wpY_step (fun r' v' => r' = r ∧ i_Rel (k + 5) u' v') (cap, thr, win, ic, he0, he1, yu, yk, yv, sg, ok, oy, oa, lg, fo, rk, rv, st, zu, zk, zv, zg) (nI t)) (q1, q2, q3, q4, q5, q6, q7, q8, q9, q10, q11, q12, q13, q14, q15, cap, thr, win, fh, fc, r0, r1, mp, mk, ic, he0, he1, pc, K, Y, V, N, Lk, H, D, U, sg, ok, oy, oa, lg, fo, rk, rv, st, cu) (nI t) := by
  obtain ⟨R1, own, n, M, C, T, W, A, B, hL, hM, ⟨e1, e2, e3, e4, e5, e6⟩, ⟨n1, n2, n3, n4, n5, n6, n7, n8, n9, n10⟩, hs, ht⟩ := hR
  have ct : (nI t).toNatClampNeg = t := nI_clamp (by omega)
  have hit : vp_in (nI t) 4 := vp_in_nI t4 (by decide)
  have tT : t < T := by
    rw [e2] at t3
    exact (nI_ltI (by omega) (by omega)).mp t3
  have sg0 : ∀ s t', T ≤ t' → t' < 4 → upd sg t s t' = 0 := by
    intro s t' a1 a2
    rw [pk_un (by omega)]
    exact hs t' a1 a2
  unfold wpX_step
  dsimp only
  refine bw_gdX t2 t3 (br_t rfl ⟨hit, ?_⟩)
  rw [ct]
  refine br_f (by rw [s1]; decide) ⟨hit, br_t s1 ?_⟩
  refine And.intro hit ?_
  rw [ct]
  refine bw_upkeep hL (bw_My_few hM) (fun fh' fc' r0' mp' mk' K' Y' V' N' Lk' H' D' U' own' n' l kp hb => ?_)
  dsimp only
  refine ⟨hit, nm_e ⟨hit, nm_e ⟨hit, br_c (fun h5 => ?_) (fun h5 => ⟨hit, ?_⟩)⟩⟩⟩
  · refine bw_remember t4 (fun H2 g1 g2 => ?_)
    dsimp only
    unfold wpY_step
    dsimp only
    refine bw_gdY t2 t3 (br_t rfl ⟨hit, ?_⟩)
    rw [ct]
    refine br_f (by rw [s1]; decide) ⟨hit, br_t s1 ?_⟩
    refine bw_Yld5 t4 hM.1 h5 (fun zu' zk' zv' zg' z1 z2 => ⟨rfl, ?_⟩)
    refine bw_in ⟨R1, own', n', M, C, T, W, A, B, bw_LE_H l (fun p hp => g1 p (by omega)), hM, ⟨e1, e2, e3, e4, e5, e6⟩, ⟨n1, n2, n3, n4, n5, n6, n7, by omega, by omega, n10⟩, sg0 2, fun t' h' => ?_⟩
    by_cases e : t' = t
    · subst e
      rw [pk_us, pk_uLs]
      obtain ⟨a1, a2, a3, a4, a5⟩ := ht t' t4
      refine ⟨a1, Or.inr (Or.inr rfl), a3, fun _ => a4 (by rw [s1]; decide), fun _ _ => ?_⟩
      obtain ⟨P, F, R0, lf, b, mq, mK, l1, l2, l3, l4, l5⟩ := l
      have hrow := bw_Rs_row l1
      refine ⟨P, lf, b, mq, mK, M, ⟨by omega, fun p hp => ?_⟩, fun p hp r hr => ?_, l2, bw_My_cg hM fun i hi => ⟨(z1 i hi).1, (z1 i hi).2.1, (z1 i hi).2.2.1⟩, ?_, fun i hi _ y1 _ => ?_⟩
      · rw [g2 p hp]
        have := hrow.2 p hp
        rw [Nat.zero_add] at this
        exact this
      · obtain ⟨hd, l1, _⟩ := l1
        have := bw_Hp_n16 l1 (p := p) (by omega) hr
        exact ⟨this.2.1, fun _ => this.2.2.2⟩
      · rw [Int32.toInt_toInt64]
        have := (bw_irg (oy t')).2
        exact ⟨Int.le_refl _, by omega⟩
      · rw [Int32.toInt_toInt64]
        exact ⟨fun _ => y1, fun _ => (z1 i hi).2.2.2⟩
    · rw [pk_un e, pk_uLn e]
      exact bw_Th_z (bw_Th_kp (ht t' h') kp) (fun i hi => z2 _ (by omega)) (fun p hp => g1 _ (by omega))
  · have hL' := l
    obtain ⟨P, F, R0, lf, b, mq, mK, l1, l2, l3, l4, l5⟩ := hL'
    have fin : ∀ f v : Int32, (f = 0 ∨ f = 1) → i_Rel (k + 5) (q1, q2, q3, q4, q5, q6, q7, q8, q9, q10, q11, q12, q13, q14, q15, cap, thr, win, fh', fc', r0', r1, mp', mk', ic, he0, he1, pc, K', Y', V', N', Lk', H', D', U', upd sg t 2, ok, oy, oa, lg, upd fo t f, upd rk t (oy t), upd rv t v, upd st t ic, cu) (cap, thr, win, ic, he0, he1, yu, yk, yv, upd sg t 2, ok, oy, oa, lg, upd fo t f, upd rk t (oy t), upd rv t v, upd st t ic, zu, zk, zv, zg) := by
      intro f v hf
      have W1 := bw_thr1 (t := t) (s := 2) (k := ok t) (y := oy t) (a := oa t) (l := lg t) (f := f) (fun t' h' => bw_Th_kp (ht t' h') kp) fun h4 => ⟨hf, Or.inr (Or.inr rfl), (ht t h4).2.2.1, fun _ => (ht t h4).2.2.2.1 (by rw [s1]; decide), fun _ z => absurd z h5⟩
      rw [bw_upd_id, bw_upd_id, bw_upd_id, bw_upd_id] at W1
      exact bw_in ⟨R1, own', n', M, C, T, W, A, B, l, hM, ⟨e1, e2, e3, e4, e5, e6⟩, ⟨n1, n2, n3, n4, n5, n6, n7, by omega, by omega, n10⟩, sg0 2, W1⟩
    refine bw_lookup (bw_Rs_row l1) l2 (fun hn => br_t bw_neg1 ?_) (fun a a1 a2 => br_f (nI_pos (by omega)) ?_)
    · refine And.intro hit (nm_e ⟨hit, hit, nm_e (br_f bw_nneg1 ⟨hit, nm_e ?_⟩)⟩)
      rw [ct, bw_bo0]
      unfold wpY_step
      dsimp only
      refine bw_gdY t2 t3 (br_t rfl ⟨hit, ?_⟩)
      rw [ct]
      refine br_f (by rw [s1]; decide) ⟨hit, br_t s1 ?_⟩
      refine bw_Yldn t4 hM h5 (fun _ => ⟨rfl, fin 0 0 (Or.inl rfl)⟩) (fun v hv => ?_)
      rw [hn] at hv
      cases hv
    · have ca : (nI a).toNatClampNeg = a := nI_clamp (by omega)
      refine And.intro hit (nm_e ⟨hit, hit, nm_e (br_t (nI_pos' (by omega)) ⟨vp_in_nI a1 (by decide), hit, nm_e ?_⟩)⟩)
      rw [ct, ca, bw_bo1]
      unfold wpY_step
      dsimp only
      refine bw_gdY t2 t3 (br_t rfl ⟨hit, ?_⟩)
      rw [ct]
      refine br_f (by rw [s1]; decide) ⟨hit, br_t s1 ?_⟩
      refine bw_Yldn t4 hM h5 (fun hn => ?_) (fun v hv => ⟨rfl, ?_⟩)
      · rw [hn] at a2
        cases a2
      · have ev : v = V' a := by
          rw [a2] at hv
          exact (Option.some.inj hv).symm
        rw [ev]
        exact fin 1 _ (Or.inr rfl)
theorem bw_st_scan {k t : Nat} (hR : bw_Rl cap thr win fh fc r0 r1 mp mk he0 he1 pc K Y V N Lk H D U sg ok oy oa lg fo cu yu yk yv zu zk zv zg) (t4 : t < 4) (t2 : ¬ nI t < 0) (t3 : nI t < thr) (s2 : sg t = 2) (k5 : ok t = 5) : wpX_step (fun r u' => wpY_step (fun r' v' => r' = r ∧ i_Rel (k + 5) u' v') (cap, thr, win, ic, he0, he1, yu, yk, yv, sg, ok, oy, oa, lg, fo, rk, rv, st, zu, zk, zv, zg) (nI t)) (q1, q2, q3, q4, q5, q6, q7, q8, q9, q10, q11, q12, q13, q14, q15, cap, thr, win, fh, fc, r0, r1, mp, mk, ic, he0, he1, pc, K, Y, V, N, Lk, H, D, U, sg, ok, oy, oa, lg, fo, rk, rv, st, cu) (nI t) := by
  obtain ⟨R1, own, n, M, C, T, W, A, B, hL, hM, ⟨e1, e2, e3, e4, e5, e6⟩, ⟨n1, n2, n3, n4, n5, n6, n7, n8, n9, n10⟩, hs, ht⟩ := hR
  have ct : (nI t).toNatClampNeg = t := nI_clamp (by omega)
  have hit : vp_in (nI t) 4 := vp_in_nI t4 (by decide)
  have tT : t < T := by
    rw [e2] at t3
    exact (nI_ltI (by omega) (by omega)).mp t3
  have sg0 : ∀ s t', T ≤ t' → t' < 4 → upd sg t s t' = 0 := by
    intro s t' a1 a2
    rw [pk_un (by omega)]
    exact hs t' a1 a2
  obtain ⟨h1, h2, h3, h4, h5⟩ := ht t t4
  obtain ⟨Q, lf, b, mq, mK, Mz, w1, w2, w3, w4, ⟨w5, w6⟩, w7⟩ := h5 s2 k5
  unfold wpX_step
  dsimp only
  refine bw_gdX t2 t3 (br_t rfl ⟨hit, ?_⟩)
  rw [ct]
  refine br_f (by rw [s2]; decide) ⟨hit, br_f (by rw [s2]; decide) ⟨hit, br_f (by rw [k5]; decide) ⟨hit, br_t k5 ?_⟩⟩⟩
  refine bw_scanX t4 w1 w3 w5 (fun hno => ?_) (fun a a1 a2 a3 a4 a5 => ?_)
  · dsimp only
    unfold wpY_step
    dsimp only
    refine bw_gdY t2 t3 (br_t rfl ⟨hit, ?_⟩)
    rw [ct]
    refine br_f (by rw [s2]; decide) ⟨hit, br_f (by rw [s2]; decide) ⟨hit, br_f (by rw [k5]; decide) ⟨hit, br_t k5 ?_⟩⟩⟩
    refine bw_give t4 (fun _ => ⟨rfl, ?_⟩) (fun q g => ?_)
    · have W1 := bw_thr1 (t := t) (s := 0) (k := ok t) (y := oy t) (a := oa t) (l := lg t) (f := 0) ht fun _ => ⟨Or.inl rfl, Or.inl rfl, h3, fun z => absurd rfl z, fun z => absurd z (by decide)⟩
      rw [bw_upd_id, bw_upd_id, bw_upd_id, bw_upd_id] at W1
      exact bw_in ⟨R1, own, n, M, C, T, W, A, B, hL, hM, ⟨e1, e2, e3, e4, e5, e6⟩, ⟨n1, n2, n3, n4, n5, n6, n7, n8, n9, n10⟩, sg0 0, W1⟩
    · obtain ⟨g1, g2, g3, g4, g5, g6⟩ := g
      have a1 := (w7 q g1 g2 g4 g5).mp g3
      have a2 := w4.2.1 q g1 g2
      dsimp only at a2
      rw [hno _ a1 g5] at a2
      cases a2
  · dsimp only
    unfold wpY_step
    dsimp only
    refine bw_gdY t2 t3 (br_t rfl ⟨hit, ?_⟩)
    rw [ct]
    refine br_f (by rw [s2]; decide) ⟨hit, br_f (by rw [s2]; decide) ⟨hit, br_f (by rw [k5]; decide) ⟨hit, br_t k5 ?_⟩⟩⟩
    obtain ⟨i, i1, i2, i3⟩ := w4.2.2.1 _ _ a4
    dsimp only at i2 i3
    have iz : zg (t * 32 + i) = 0 := (w7 i i1 i2 (by omega) (by omega)).mpr (by omega)
    refine bw_give t4 (fun g => ?_) (fun q g => ⟨rfl, ?_⟩)
    · exact absurd (by omega) (g i i1 i2 iz (by omega))
    · obtain ⟨g1, g2, g3, g4, g5, g6⟩ := g
      have b1 := (w7 q g1 g2 g4 g5).mp g3
      have b2 := g6 i i1 i2 iz (by omega) (by omega)
      have b3 := w4.2.1 q g1 g2
      dsimp only at b3
      have ek : (zk (t * 32 + q)).toInt = (Y a).toInt := by
        rcases bw_lge (zk (t * 32 + q)).toInt (Y a).toInt with z | z
        · rw [a5 _ b1 z] at b3
          cases b3
        · omega
      have ek' : zk (t * 32 + q) = Y a := Int32.toInt_inj.mp ek
      have ev : zv (t * 32 + q) = V a := by
        rw [ek, a4] at b3
        exact (Option.some.inj b3).symm
      dsimp only
      rw [ek', ev]
      refine bw_in ⟨R1, own, n, M, C, T, W, A, B, hL, hM, ⟨e1, e2, e3, e4, e5, e6⟩, ⟨n1, n2, n3, n4, n5, n6, n7, n8, n9, n10⟩, hs, fun t' h' => ?_⟩
      by_cases e : t' = t
      · subst e
        rw [pk_us, pk_uLs]
        have ec : ((Y a).toInt64 + 1).toInt = (Y a).toInt + 1 := by
          have := bw_irg (Y a)
          rw [Int64.toInt_add, Int32.toInt_toInt64, show (1 : Int64).toInt = 1 from by decide]
          exact Int.bmod_eq_of_le (by omega) (by omega)
        have ya := bw_irg (Y a)
        refine ⟨Or.inr rfl, h2, h3, h4, fun _ _ => ⟨Q, lf, b, mq, mK, Mz, w1, w2, w3, w4, ?_, fun j hj y1 y2 y3 => ?_⟩⟩
        · rw [ec]
          exact ⟨by omega, by omega⟩
        · rw [ec]
          by_cases ej : j = q
          · subst ej
            rw [pk_us, ek]
            exact ⟨fun z => absurd z (by decide), fun z => by omega⟩
          · rw [pk_un (by omega), w7 j hj y1 y2 y3]
            constructor
            · intro z
              have c1 := g6 j hj y1 ((w7 j hj y1 y2 y3).mpr z) y2 y3
              have c2 : (zk (t' * 32 + j)).toInt ≠ (zk (t' * 32 + q)).toInt := fun ee => ej (w4.2.2.2 j q hj g1 y1 g2 (Int32.toInt_inj.mp ee))
              omega
            · intro z
              omega
      · rw [pk_un e, pk_uLn e]
        exact bw_Th_z (ht t' h') (fun i hi => ⟨rfl, rfl, rfl, pk_un (by omega)⟩) (fun _ _ => rfl)
end bw_S17
end
section
/-! the step of a thread: change; i_vc_step (printed by mk18.py) -/
section bw_S18
variable {q1 q2 q3 q4 q5 q6 q7 q8 q9 q10 q11 q12 q13 q14 q15 cap thr win fh fc r0 r1 mp mk ic he0 he1 pc : Int32} {K Y V N Lk H D U sg ok oy oa lg fo rk rv st : Nat → Int32} {cu : Nat → Int64}
variable {yu yk yv zu zk zv zg : Nat → Int32}
theorem bw_st_chg {k t : Nat} (hR : bw_Rl cap thr win fh fc r0 r1 mp mk he0 he1 pc K Y V N Lk H D U sg ok oy oa lg fo cu yu yk yv zu zk zv zg) (t4 : t < 4) (t2 : ¬ nI t < 0) (t3 : nI t < thr) (s2 : sg t = 2) (k1 : ¬ ok t = 1) (k5 : ¬ ok t = 5) : wpX_step (fun r u' => wpY_step (fun r' v' => r' = r ∧ i_Rel (k + 5) u' v') (cap, thr, win, ic, he0, he1, yu, yk, yv, sg, ok, oy, oa, lg, fo, rk, rv, st, zu, zk, zv, zg) (nI t)) (q1, q2, q3, q4, q5, q6, q7, q8, q9, q10, q11, q12, q13, q14, q15, cap, thr, win, fh, fc, r0, r1, mp, mk, ic, he0, he1, pc, K, Y, V, N, Lk, H, D, U, sg, ok, oy, oa, lg, fo, rk, rv, st, cu) (nI t) := by
  have hI : i_Rel (k + 5) (q1, q2, q3, q4, q5, q6, q7, q8, q9, q10, q11, q12, q13, q14, q15, cap, thr, win, fh, fc, r0, r1, mp, mk, ic, he0, he1, pc, K, Y, V, N, Lk, H, D, U, sg, ok, oy, oa, lg, fo, rk, rv, st, cu) (cap, thr, win, ic, he0, he1, yu, yk, yv, sg, ok, oy, oa, lg, fo, rk, rv, st, zu, zk, zv, zg) := bw_in hR
  obtain ⟨R1, own, n, M, C, T, W, A, B, hL, hM, ⟨e1, e2, e3, e4, e5, e6⟩, ⟨n1, n2, n3, n4, n5, n6, n7, n8, n9, n10⟩, hs, ht⟩ := hR
  have ct : (nI t).toNatClampNeg = t := nI_clamp (by omega)
  have hit : vp_in (nI t) 4 := vp_in_nI t4 (by decide)
  have tT : t < T := by
    rw [e2] at t3
    exact (nI_ltI (by omega) (by omega)).mp t3
  have sg0 : ∀ s t', T ≤ t' → t' < 4 → upd sg t s t' = 0 := by
    intro s t' a1 a2
    rw [pk_un (by omega)]
    exact hs t' a1 a2
  obtain ⟨h1, h2, h3, h4, h5⟩ := ht t t4
  have hk : ok t = 2 ∨ ok t = 3 ∨ ok t = 4 := by
    rcases h4 (by rw [s2]; decide) with z | z | z | z | z
    · exact absurd z k1
    · exact Or.inl z
    · exact Or.inr (Or.inl z)
    · exact Or.inr (Or.inr z)
    · exact absurd z k5
  have retry : i_Rel (k + 5) (q1, q2, q3, q4, q5, q6, q7, q8, q9, q10, q11, q12, q13, q14, q15, cap, thr, win, fh, fc, r0, r1, mp, mk, ic, he0, he1, pc, K, Y, V, N, Lk, H, D, U, upd sg t 1, ok, oy, oa, lg, upd fo t 0, upd rk t 0, upd rv t 0, upd st t (-1), cu) (cap, thr, win, ic, he0, he1, yu, yk, yv, upd sg t 1, ok, oy, oa, lg, upd fo t 0, upd rk t 0, upd rv t 0, upd st t (-1), zu, zk, zv, zg) := by
    have W1 := bw_thr1 (t := t) (s := 1) (k := ok t) (y := oy t) (a := oa t) (l := lg t) (f := 0) ht fun _ => ⟨Or.inl rfl, Or.inr (Or.inl rfl), h3, fun _ => h4 (by rw [s2]; decide), fun z => absurd z (by decide)⟩
    rw [bw_upd_id, bw_upd_id, bw_upd_id, bw_upd_id] at W1
    exact bw_in ⟨R1, own, n, M, C, T, W, A, B, hL, hM, ⟨e1, e2, e3, e4, e5, e6⟩, ⟨n1, n2, n3, n4, n5, n6, n7, n8, n9, n10⟩, sg0 1, W1⟩
  have done : i_Rel (k + 5) (q1, q2, q3, q4, q5, q6, q7, q8, q9, q10, q11, q12, q13, q14, q15, cap, thr, win, fh, fc, r0, r1, mp, mk, ic, he0, he1, pc, K, Y, V, N, Lk, H, D, U, upd sg t 0, ok, oy, oa, lg, fo, rk, rv, upd st t ic, cu) (cap, thr, win, ic, he0, he1, yu, yk, yv, upd sg t 0, ok, oy, oa, lg, fo, rk, rv, upd st t ic, zu, zk, zv, zg) := by
    have W1 := bw_thr1 (t := t) (s := 0) (k := ok t) (y := oy t) (a := oa t) (l := lg t) (f := fo t) ht fun _ => ⟨h1, Or.inl rfl, h3, fun z => absurd rfl z, fun z => absurd z (by decide)⟩
    rw [bw_upd_id, bw_upd_id, bw_upd_id, bw_upd_id, bw_upd_id] at W1
    exact bw_in ⟨R1, own, n, M, C, T, W, A, B, hL, hM, ⟨e1, e2, e3, e4, e5, e6⟩, ⟨n1, n2, n3, n4, n5, n6, n7, n8, n9, n10⟩, sg0 0, W1⟩
  have fin : ∀ (fh' fc' r0' mp' mk' : Int32) (K' Y' V' N' Lk' H' D' U' : Nat → Int32) (own' : Nat → Nat) (n' : Nat) (M' : Int → Option Int32) (yu' yk' yv' : Nat → Int32) (pc' : Int32), bw_LE fh' fc' r0' r1 mp' mk' K' Y' V' N' Lk' H' D' U' R1 own' n' M' → bw_Kp K Y V N H own K' Y' V' N' H' own' → (n ≤ n' + 34 ∨ 954 ≤ n') → bw_My yu' yk' yv' M' → pc' = nI (bw_cn (fun i => yu' i ≠ 0) 32) → bw_cn (fun i => yu' i ≠ 0) 32 ≤ C → A + B < W → i_Rel (k + 5) (q1, q2, q3, q4, q5, q6, q7, q8, q9, q10, q11, q12, q13, q14, q15, cap, thr, win, fh', fc', r0', r1, mp', mk', ic + 1, he0 + 1, he1, pc', K', Y', V', N', Lk', H', D', U', upd sg t 0, ok, oy, oa, lg, fo, rk, rv, upd st t (ic + 1), cu) (cap, thr, win, ic + 1, he0 + 1, he1, yu', yk', yv', upd sg t 0, ok, oy, oa, lg, fo, rk, rv, upd st t (ic + 1), zu, zk, zv, zg) := by
    intro fh' fc' r0' mp' mk' K' Y' V' N' Lk' H' D' U' own' n' M' yu' yk' yv' pc' l kp hb hM' hpc hcn hlt
    have W1 := bw_thr1 (t := t) (s := 0) (k := ok t) (y := oy t) (a := oa t) (l := lg t) (f := fo t) (fun t' h' => bw_Th_kp (ht t' h') kp) fun _ => ⟨h1, Or.inl rfl, h3, fun z => absurd rfl z, fun z => absurd z (by decide)⟩
    rw [bw_upd_id, bw_upd_id, bw_upd_id, bw_upd_id, bw_upd_id] at W1
    exact bw_in ⟨R1, own', n', M', C, T, W, A + 1, B, l, hM', ⟨e1, e2, e3, by rw [e4, nI_1], e5, hpc⟩, ⟨n1, n2, n3, n4, n5, n6, by omega, by omega, by omega, hcn⟩, sg0 0, W1⟩
  have hsum : he0 + he1 = nI (A + B) := by rw [e4, e5, nI_add]
  have toY : ∀ post : Int32 → SY → Prop, (∀ post' : Int32 → SY → Prop, (∀ r v', post r v' → post' r v') → wpY_install post' (cap, thr, win, ic, he0, he1, yu, yk, yv, sg, ok, oy, oa, lg, fo, rk, rv, st, zu, zk, zv, zg) (nI t)) → wpY_step post (cap, thr, win, ic, he0, he1, yu, yk, yv, sg, ok, oy, oa, lg, fo, rk, rv, st, zu, zk, zv, zg) (nI t) := by
    intro post h
    unfold wpY_step
    dsimp only
    refine bw_gdY t2 t3 (br_t rfl ⟨hit, ?_⟩)
    rw [ct]
    refine br_f (by rw [s2]; decide) ⟨hit, br_f (by rw [s2]; decide) ⟨hit, br_f k1 ⟨hit, br_f k5 (h _ ?_)⟩⟩⟩
    rintro r ⟨_, _, _, _, _, _, _, _, _, _, _, _, _, _, _, _, _, _, _, _, _, _⟩ hq
    exact hq
  have hfew := bw_My_few hM
  have hL' := hL
  obtain ⟨P, F, R0, lf, b, mq, mK, l1, l2, l3, l4, l5⟩ := hL'
  unfold wpX_step
  dsimp only
  refine bw_gdX t2 t3 (br_t rfl ⟨hit, ?_⟩)
  rw [ct]
  refine br_f (by rw [s2]; decide) ⟨hit, br_f (by rw [s2]; decide) ⟨hit, br_f k1 ⟨hit, br_f k5 ?_⟩⟩⟩
  cases hMk : M (oy t).toInt with
  | none =>
    refine bw_chg_n t4 (bw_Rs_row l1) l2 hMk (fun f => bw_chg50 t4 ?_) (fun f => ?_)
    · dsimp only
      exact toY _ (fun post' hp' => bw_insY_n t4 hM hMk (fun _ => hp' _ _ ⟨rfl, retry⟩) (fun z => absurd z f) (fun z => absurd z f))
    · refine br_t rfl ⟨hit, ?_⟩
      rw [ct]
      refine br_c (fun k2 => br_t rfl (br_c (fun lt => ?_) (fun nlt => ?_))) (fun k2 => ⟨hit, nm_e ⟨hit, nm_e ?_⟩⟩)
      · have hcn : bw_cn (fun i => yu i ≠ 0) 32 < C := by
          rw [e6, e1] at lt
          exact (nI_ltI (by omega) (by omega)).mp lt
        obtain ⟨j0, j1, j2⟩ := bw_cn_free (yu := yu) (by omega)
        refine br_c (fun hlt => ?_) (fun hge => ?_)
        · have hlt' : A + B < W := by
            rw [hsum, e3] at hlt
            exact (nI_ltI (by omega) (by omega)).mp hlt
          refine bw_instX (M' := bw_mu1 M (oy t).toInt (some (oa t))) (pc' := pc + 1) t4 hL (by omega) hfew (bw_My_few (bw_My_put hM j1 (Or.inl ⟨j2, hMk⟩))) (fun k hk => bw_mu1_n hk) (Or.inr ⟨by rw [k2]; decide, fun _ => bw_mu1_s, fun z => absurd k2 z, fun _ => rfl, fun z => absurd f z⟩) (fun fh' fc' r0' mp' mk' K' Y' V' N' Lk' H' D' U' own' n' l kp hb => ?_)
          dsimp only
          refine toY _ (fun post' hp' => bw_insY_n t4 hM hMk (fun z => absurd f z) (fun _ z => absurd k2 z) (fun _ _ => ?_))
          refine br_t k2 (br_t rfl (bw_size (br_f ?_ (br_f ?_ (br_t rfl ⟨33, bw_free_l (fun j hj hu => bw_195 t4 hj hk (fun z => ?_) (fun _ => hp' _ _ ⟨rfl, ?_⟩) (fun z => ?_)) 32 0 33 (-1) (by omega) (by omega) (Or.inr ⟨j0, by omega, j1, j2⟩)⟩)))))
          · rw [e1]
            exact fun z => by have := (nI_eq (by omega) (by omega)).mp z; omega
          · rw [hsum, e3]
            exact fun z => by have := (nI_eq (by omega) (by omega)).mp z; omega
          · rw [k2] at z; exact absurd z (by decide)
          · exact fin fh' fc' r0' mp' mk' K' Y' V' N' Lk' H' D' U' own' n' _ _ _ _ _ l kp hb (bw_My_put hM hj (Or.inl ⟨hu, hMk⟩)) (by rw [bw_cn_on hj hu, e6, nI_1]) (by rw [bw_cn_on hj hu]; omega) hlt'
          · rw [k2] at z; exact absurd z (by decide)
        · have hge' : A + B = W := by
            rw [hsum, e3] at hge
            have : ¬ A + B < W := fun z => hge (nI_lt z (by omega))
            omega
          dsimp only
          refine toY _ (fun post' hp' => bw_insY_n t4 hM hMk (fun z => absurd f z) (fun _ z => absurd k2 z) (fun _ _ => ?_))
          refine br_t k2 (br_t rfl (bw_size (br_f ?_ (br_t ?_ (hp' _ _ ⟨rfl, hI⟩)))))
          · rw [e1]
            exact fun z => by have := (nI_eq (by omega) (by omega)).mp z; omega
          · rw [hsum, e3, hge']
      · have hcn : bw_cn (fun i => yu i ≠ 0) 32 = C := by
          rw [e6, e1] at nlt
          have : ¬ bw_cn (fun i => yu i ≠ 0) 32 < C := fun z => nlt (nI_lt z (by omega))
          omega
        dsimp only
        refine toY _ (fun post' hp' => bw_insY_n t4 hM hMk (fun z => absurd f z) (fun _ z => absurd k2 z) (fun _ _ => ?_))
        exact br_t k2 (br_t rfl (bw_size (br_t (by rw [e1, hcn]) (hp' _ _ ⟨rfl, hI⟩))))
      · dsimp only
        exact toY _ (fun post' hp' => bw_insY_n t4 hM hMk (fun z => absurd f z) (fun _ _ => hp' _ _ ⟨rfl, done⟩) (fun _ z => absurd z k2))
  | some v =>
    refine bw_chg_s t4 (bw_Rs_row l1) l2 hMk (fun f => bw_chg50 t4 ?_) (fun f => ?_)
    · dsimp only
      exact toY _ (fun post' hp' => bw_insY_s t4 hM hMk (fun _ => hp' _ _ ⟨rfl, retry⟩) (fun z => absurd z f))
    · obtain ⟨f1, f2⟩ := f
      have f0 : ¬ fo t = 0 := by rw [f1]; decide
      obtain ⟨j, j1, j2, j3⟩ := hM.2.2.1 _ _ hMk
      have j2' : yu j = 1 := (hM.1 j j1).resolve_left j2
      have j3' : yk j = oy t := Int32.toInt_inj.mp j3
      refine br_f (by decide) (br_f (by decide) (br_c (fun hlt => ?_) (fun hge => ?_)))
      · have hlt' : A + B < W := by
          rw [hsum, e3] at hlt
          exact (nI_ltI (by omega) (by omega)).mp hlt
        have ne : ¬ he0 + he1 = win := by
          rw [hsum, e3]
          exact fun z => by have := (nI_eq (by omega) (by omega)).mp z; omega
        have y142 : ∀ (post' : Int32 → SY → Prop) (i : Nat), wY_install_195 post' (nI t) (ok t) (nI i) cap thr win ic he0 he1 yu yk yv sg ok oy oa lg fo rk rv st zu zk zv zg → wY_install_118 post' (nI t) (ok t) (nI i) 1 cap thr win ic he0 he1 yu yk yv sg ok oy oa lg fo rk rv st zu zk zv zg := by
          intro post' i h
          have W2 : wY_install_142 post' (nI t) (ok t) (nI i) 1 cap thr win ic he0 he1 yu yk yv sg ok oy oa lg fo rk rv st zu zk zv zg := br_f ne (br_f (by decide) h)
          exact br_c (fun _ => br_f (by decide) W2) (fun _ => W2)
        rcases hk with k2 | k3 | k4
        · refine bw_instX (M' := bw_mu1 M (oy t).toInt (some (oa t))) (pc' := pc) t4 hL (by omega) hfew (bw_My_few (bw_My_put hM j1 (Or.inr ⟨j2', j3'⟩))) (fun k hk => bw_mu1_n hk) (Or.inr ⟨by rw [k2]; decide, fun _ => bw_mu1_s, fun z => absurd k2 z, fun z => absurd z f0, fun _ => rfl⟩) (fun fh' fc' r0' mp' mk' K' Y' V' N' Lk' H' D' U' own' n' l kp hb => ?_)
          dsimp only
          refine toY _ (fun post' hp' => bw_insY_s t4 hM hMk (fun z => absurd ⟨f1, f2⟩ z) (fun _ i i1 i2 i3 i4 => y142 post' i (bw_195 t4 i1 (Or.inl k2) (fun z => ?_) (fun _ => hp' _ _ ⟨rfl, ?_⟩) (fun z => ?_))))
          · rw [k2] at z; exact absurd z (by decide)
          · exact fin fh' fc' r0' mp' mk' K' Y' V' N' Lk' H' D' U' own' n' _ _ _ _ _ l kp hb (bw_My_put hM i1 (Or.inr ⟨i2, i3⟩)) (by rw [bw_cn_same i2, e6]) (by rw [bw_cn_same i2]; omega) hlt'
          · rw [k2] at z; exact absurd z (by decide)
        · refine bw_instX (M' := bw_mu1 M (oy t).toInt none) (pc' := pc - 1) t4 hL (by omega) hfew (bw_My_few (bw_My_del hM j1 j2' j3')) (fun k hk => bw_mu1_n hk) (Or.inl ⟨k3, rfl, bw_mu1_s⟩) (fun fh' fc' r0' mp' mk' K' Y' V' N' Lk' H' D' U' own' n' l kp hb => ?_)
          dsimp only
          refine toY _ (fun post' hp' => bw_insY_s t4 hM hMk (fun z => absurd ⟨f1, f2⟩ z) (fun _ i i1 i2 i3 i4 => y142 post' i (bw_195 t4 i1 (Or.inr (Or.inl k3)) (fun _ => hp' _ _ ⟨rfl, ?_⟩) (fun z => ?_) (fun z => ?_))))
          · have ec := bw_cn_off i1 i2
            refine fin fh' fc' r0' mp' mk' K' Y' V' N' Lk' H' D' U' own' n' _ _ _ _ _ l kp hb (bw_My_del hM i1 i2 i3) ?_ (by omega) hlt'
            rw [e6, ← ec]
            exact nI_pred _
          · rw [k3] at z; exact absurd z (by decide)
          · rw [k3] at z; exact absurd z (by decide)
        · refine bw_instX (M' := bw_mu1 M (oy t).toInt (some (rv t + oa t))) (pc' := pc) t4 hL (by omega) hfew (bw_My_few (bw_My_put hM j1 (Or.inr ⟨j2', j3'⟩))) (fun k hk => bw_mu1_n hk) (Or.inr ⟨by rw [k4]; decide, fun z => ?_, fun _ => bw_mu1_s, fun z => absurd z f0, fun _ => rfl⟩) (fun fh' fc' r0' mp' mk' K' Y' V' N' Lk' H' D' U' own' n' l kp hb => ?_)
          · rw [k4] at z; exact absurd z (by decide)
          · dsimp only
            refine toY _ (fun post' hp' => bw_insY_s t4 hM hMk (fun z => absurd ⟨f1, f2⟩ z) (fun _ i i1 i2 i3 i4 => y142 post' i (bw_195 t4 i1 (Or.inr (Or.inr k4)) (fun z => ?_) (fun z => ?_) (fun _ => hp' _ _ ⟨rfl, ?_⟩))))
            · rw [k4] at z; exact absurd z (by decide)
            · rw [k4] at z; exact absurd z (by decide)
            · rw [i4, f2]
              exact fin fh' fc' r0' mp' mk' K' Y' V' N' Lk' H' D' U' own' n' _ _ _ _ _ l kp hb (bw_My_put hM i1 (Or.inr ⟨i2, i3⟩)) (by rw [bw_cn_same i2, e6]) (by rw [bw_cn_same i2]; omega) hlt'
      · have hge' : A + B = W := by
          rw [hsum, e3] at hge
          have : ¬ A + B < W := fun z => hge (nI_lt z (by omega))
          omega
        dsimp only
        refine toY _ (fun post' hp' => bw_insY_s t4 hM hMk (fun z => absurd ⟨f1, f2⟩ z) (fun _ i i1 i2 i3 i4 => ?_))
        have W2 : wY_install_142 post' (nI t) (ok t) (nI i) 1 cap thr win ic he0 he1 yu yk yv sg ok oy oa lg fo rk rv st zu zk zv zg := br_t (by rw [hsum, e3, hge']) (hp' _ _ ⟨rfl, hI⟩)
        exact br_c (fun _ => br_f (by decide) W2) (fun _ => W2)
end bw_S18
theorem i_vc_step {k : Nat} {u : SX} {v : SY} (I : i_Rel k u v) (hk : k + 5 ≤ 2563) (v1 : Int32) : wpX_step (fun r u' => wpY_step (fun r' v' => r' = r ∧ i_Rel (k + 5) u' v') v v1) u v1 := by
  refine bw_el (Q := fun u v => wpX_step (fun r u' => wpY_step (fun r' v' => r' = r ∧ i_Rel (k + 5) u' v') v v1) u v1) ?_ I
  intro q1 q2 q3 q4 q5 q6 q7 q8 q9 q10 q11 q12 q13 q14 q15 cap thr win fh fc r0 r1 mp mk ic he0 he1 pc K Y V N Lk H D U sg ok oy oa lg fo rk rv st cu yu yk yv zu zk zv zg hR
  have hI : i_Rel (k + 5) (q1, q2, q3, q4, q5, q6, q7, q8, q9, q10, q11, q12, q13, q14, q15, cap, thr, win, fh, fc, r0, r1, mp, mk, ic, he0, he1, pc, K, Y, V, N, Lk, H, D, U, sg, ok, oy, oa, lg, fo, rk, rv, st, cu) (cap, thr, win, ic, he0, he1, yu, yk, yv, sg, ok, oy, oa, lg, fo, rk, rv, st, zu, zk, zv, zg) := bw_in hR
  have hR0 := hR
  obtain ⟨R1, own, n, M, C, T, W, A, B, hL, hM, ⟨e1, e2, e3, e4, e5, e6⟩, ⟨n1, n2, n3, n4, n5, n6, n7, n8, n9, n10⟩, hs, ht⟩ := hR
  rcases bw_tc v1 n4 with hb | ⟨t, t1, rfl, t2, t3⟩
  · rw [← e2] at hb
    unfold wpX_step
    dsimp only
    refine bw_bdX hb (br_f (by decide) ?_)
    unfold wpY_step
    dsimp only
    exact bw_bdY hb (br_f (by decide) ⟨rfl, hI⟩)
  · rw [← e2] at t3
    have t4 : t < 4 := by omega
    have ct : (nI t).toNatClampNeg = t := nI_clamp (by omega)
    have hit : vp_in (nI t) 4 := vp_in_nI t4 (by decide)
    rcases (ht t t4).2.1 with s | s | s
    · unfold wpX_step
      dsimp only
      refine bw_gdX t2 t3 (br_t rfl ⟨hit, br_t (by rw [ct]; exact s) ?_⟩)
      unfold wpY_step
      dsimp only
      exact bw_gdY t2 t3 (br_t rfl ⟨hit, br_t (by rw [ct]; exact s) ⟨rfl, hI⟩⟩)
    · exact bw_st_load hR0 t4 t2 t3 s
    · by_cases k1 : ok t = 1
      · unfold wpX_step
        dsimp only
        refine bw_gdX t2 t3 (br_t rfl ⟨hit, ?_⟩)
        rw [ct]
        refine br_f (by rw [s]; decide) ⟨hit, br_f (by rw [s]; decide) ⟨hit, br_t k1 ⟨hit, nm_e ?_⟩⟩⟩
        unfold wpY_step
        dsimp only
        refine bw_gdY t2 t3 (br_t rfl ⟨hit, ?_⟩)
        rw [ct]
        refine br_f (by rw [s]; decide) ⟨hit, br_f (by rw [s]; decide) ⟨hit, br_t k1 ⟨hit, nm_e ⟨rfl, ?_⟩⟩⟩⟩
        obtain ⟨h1, h2, h3, h4, h5⟩ := ht t t4
        have W1 := bw_thr1 (t := t) (s := 0) (k := ok t) (y := oy t) (a := oa t) (l := lg t) (f := fo t) ht fun _ => ⟨h1, Or.inl rfl, h3, fun z => absurd rfl z, fun z => absurd z (by decide)⟩
        rw [bw_upd_id, bw_upd_id, bw_upd_id, bw_upd_id, bw_upd_id] at W1
        refine bw_in ⟨R1, own, n, M, C, T, W, A, B, hL, hM, ⟨e1, e2, e3, e4, e5, e6⟩, ⟨n1, n2, n3, n4, n5, n6, n7, n8, n9, n10⟩, fun t' a1 a2 => ?_, W1⟩
        rw [pk_un (by omega)]
        exact hs t' a1 a2
      · by_cases k5 : ok t = 5
        · exact bw_st_scan hR0 t4 t2 t3 s k5
        · exact bw_st_chg hR0 t4 t2 t3 s k1 k5
end
section
/-! advance (printed by mk19.py) -/
theorem bw_Hp_rec {fh fc r0 r1 fh' fc' : Int32} {K Y V N Lk Lk' hd : Nat → Int32} {P : Nat → List bw_Rc} {F R0 R1 : List Nat} {own : Nat → Nat} (h : bw_Hp fh fc r0 r1 K Y V N Lk hd P F R0 R1 own) (hl : bw_lc Lk' fh' (R1.reverse ++ F)) (hc : fc' = nI (R1.reverse ++ F).length) (hk : ∀ a, a ∉ R1 → Lk' a = Lk a) :
    bw_Hp fh' fc' (-1) r0 K Y V N Lk' hd P (R1.reverse ++ F) [] R0 (fun a => if own a = 18 then 16 else if own a = 17 then 18 else own a) := by
  have hn := fun p (hp : p < 21) r (hr : r ∈ P p) => bw_Hp_n16 h hp hr
  obtain ⟨⟨l1, l2, l3⟩, hc0, hch, ⟨o1, o2, o3, o4⟩, ⟨n1, n2, n3, n4⟩, hs, e16⟩ := h
  refine ⟨⟨hl, rfl, bw_lc_congr l2 fun a ha => hk a fun hm => ?_⟩, hc, hch, ⟨fun a ha => ?_, fun a ha => (by cases ha), fun a ha => ?_, fun p hp r hr => ?_⟩, ⟨?_, List.nodup_nil, n2, n4⟩, ?_, e16⟩
  · have a1 := o2 a ha
    have a2 := o3 a hm
    omega
  · show (if own a = 18 then 16 else if own a = 17 then 18 else own a) = 16
    rcases List.mem_append.mp ha with ha | ha
    · rw [if_pos (o3 a (List.mem_reverse.mp ha))]
    · have := o1 a ha
      rw [if_neg (by omega), if_neg (by omega)]
      exact this
  · show (if own a = 18 then 16 else if own a = 17 then 18 else own a) = 18
    have := o2 a ha
    rw [if_neg (by omega), if_pos this]
  · show (if own r.1 = 18 then 16 else if own r.1 = 17 then 18 else own r.1) = p
    have := hn p hp r hr
    rw [if_neg this.2.2.2, if_neg this.2.2.1]
    exact this.1
  · refine List.nodup_append.mpr ⟨bw_nd_rev n3, n1, fun a ha c hb e => ?_⟩
    have a1 := o3 a (List.mem_reverse.mp ha)
    have a2 := o1 c hb
    rw [e] at a1
    omega
  · rw [List.length_append, List.length_reverse, List.length_nil]
    omega
def bw_lgf (sg lg : Nat → Int32) : Nat → (Nat → Int32)
  | 0 => lg
  | i + 1 => if sg i = 0 then bw_lgf sg lg i else upd (bw_lgf sg lg i) i 1
theorem bw_lgf_end {sg lg : Nat → Int32} {T : Nat} (h : ∀ t, T ≤ t → t < 4 → sg t = 0) : ∀ d, T + d ≤ 4 → bw_lgf sg lg (T + d) = bw_lgf sg lg T
  | 0, _ => rfl
  | d + 1, hd => by
    show bw_lgf sg lg (T + d + 1) = _
    rw [bw_lgf, if_pos (h (T + d) (by omega) (by omega))]
    exact bw_lgf_end h d (by omega)
theorem bw_lgf_v {sg lg : Nat → Int32} {t : Nat} : ∀ N, (sg t = 0 → bw_lgf sg lg N t = lg t) ∧ (sg t ≠ 0 → t < N → bw_lgf sg lg N t = 1) ∧ (N ≤ t → bw_lgf sg lg N t = lg t)
  | 0 => ⟨fun _ => rfl, fun _ h => by omega, fun _ => rfl⟩
  | N + 1 => by
    obtain ⟨h1, h2, h3⟩ := bw_lgf_v (sg := sg) (lg := lg) (t := t) N
    by_cases e : sg N = 0
    · rw [bw_lgf, if_pos e]
      refine ⟨h1, fun hs ht => h2 hs ?_, fun ht => h3 (by omega)⟩
      rcases Nat.lt_or_ge t N with z | z
      · exact z
      · have et : t = N := by omega
        rw [et] at hs
        exact absurd e hs
    · rw [bw_lgf, if_neg e]
      by_cases et : t = N
      · subst et
        rw [pk_us]
        exact ⟨fun z => absurd z e, fun _ _ => rfl, fun z => by omega⟩
      · rw [pk_un et]
        exact ⟨h1, fun hs ht => h2 hs (by omega), fun ht => h3 (by omega)⟩
section bw_S19
variable {q1 q2 q3 q4 q5 q6 q7 q8 q9 q10 q11 q12 q13 q14 q15 cap thr win fh fc r0 r1 mp mk ic he0 he1 pc : Int32} {K Y V N Lk H D U sg ok oy oa lg fo rk rv st : Nat → Int32} {cu : Nat → Int64}
variable {yu yk yv zu zk zv zg : Nat → Int32}
variable {R1 : List Nat} {own : Nat → Nat} {M : Int → Option Int32}
theorem bw_rec_l {post : SX → Prop} : ∀ (L : List Nat) (x fh fc : Int32) (Lk : Nat → Int32) (F : List Nat) (i n : Nat), bw_lc Lk x L → bw_lc Lk fh F → fc = nI F.length → L.Nodup → (∀ a, a ∈ L → a ∉ F) → i + L.length ≤ 4096 → L.length < n →
    (∀ (fh' fc' : Int32) (Lk' : Nat → Int32), bw_lc Lk' fh' (L.reverse ++ F) → fc' = nI (L.reverse ++ F).length → (∀ a, a ∉ L → Lk' a = Lk a) → wX_reclaim_60 post q1 q2 q3 q4 q5 q6 q7 q8 q9 q10 q11 q12 q13 q14 q15 cap thr win fh' fc' r0 r1 mp mk ic he0 he1 pc K Y V N Lk' H D U sg ok oy oa lg fo rk rv st cu) →
    wX_reclaim_7 post q1 q2 q3 q4 q5 q6 q7 q8 q9 q10 q11 q12 q13 q14 q15 cap thr win r0 r1 mp mk ic he0 he1 pc n x (nI i) fh fc K Y V N Lk H D U sg ok oy oa lg fo rk rv st cu := by
  intro L
  induction L with
  | nil =>
    intro x fh fc Lk F i n hc hl hf hnd hdj hi hn hp
    rw [List.length_nil] at hn
    obtain ⟨m, rfl⟩ : ∃ m, n = m + 1 := ⟨n - 1, by omega⟩
    have hx : x = -1 := hc
    subst hx
    have W := hp fh fc Lk hl hf (fun _ _ => rfl)
    exact br_c (fun _ => W) (fun _ => br_t bw_neg1 W)
  | cons a l ih =>
    intro x fh fc Lk F i n hc hl hf hnd hdj hi hn hp
    obtain ⟨h0, h1, h5⟩ := hc
    subst h0
    rw [List.length_cons] at hi hn
    obtain ⟨m, rfl⟩ : ∃ m, n = m + 1 := ⟨n - 1, by omega⟩
    have cl : (nI a).toNatClampNeg = a := nI_clamp (by omega)
    have hin : vp_in (nI a) 4096 := vp_in_nI h1 (by decide)
    obtain ⟨d1, d2⟩ := List.nodup_cons.mp hnd
    have ha : a ∉ F := hdj a List.mem_cons_self
    refine br_f (nI_ge (b := 4096) (by omega) (by decide)) (br_f (nI_pos (by omega)) ⟨hin, nm_e ⟨hin, nm_e (nm_e (nm_e ?_))⟩⟩)
    rw [cl, nI_1]
    refine ih (Lk a) (nI a) (fc + 1) (upd Lk a fh) (a :: F) (i + 1) m (bw_lc_congr h5 fun c hc => pk_un fun e => d1 (by rw [← e]; exact hc)) ⟨rfl, h1, ?_⟩ ?_ d2 ?_ (by omega) (by omega) ?_
    · rw [pk_us]
      exact bw_lc_congr hl fun c hc => pk_un fun e => ha (by rw [← e]; exact hc)
    · rw [hf, nI_1, List.length_cons]
    · intro c hc hm
      rcases List.mem_cons.mp hm with e | hm
      · exact d1 (by rw [← e]; exact hc)
      · exact hdj c (List.mem_cons_of_mem _ hc) hm
    · intro fh' fc' Lk' g1 g2 g3
      refine hp fh' fc' Lk' ?_ ?_ fun c hc => ?_
      · rw [List.reverse_cons, List.append_assoc]
        exact g1
      · rw [List.reverse_cons, List.append_assoc]
        exact g2
      · rw [g3 c fun hm => hc (List.mem_cons_of_mem _ hm)]
        exact pk_un fun e => hc (by rw [e]; exact List.mem_cons_self)
theorem bw_reclaim {post : SX → Prop} {n : Nat} (hL : bw_LE fh fc r0 r1 mp mk K Y V N Lk H D U R1 own n M)
    (hp : ∀ (fh' fc' : Int32) (Lk' : Nat → Int32) (R1' : List Nat) (own' : Nat → Nat), bw_LE fh' fc' (-1) r0 mp mk K Y V N Lk' H D U R1' own' (n + R1.length) M → (∀ a, own a ≠ 16 → own a ≠ 18 → own' a ≠ 16) → 954 ≤ n + R1.length + R1'.length → post (q1, q2, q3, q4, q5, q6, q7, q8, q9, q10, q11, q12, q13, q14, q15, cap, thr, win, fh', fc', (-1), r0, mp, mk, ic, he0, he1, pc, K, Y, V, N, Lk', H, D, U, sg, ok, oy, oa, lg, fo, rk, rv, st, cu)) : wpX_reclaim post (q1, q2, q3, q4, q5, q6, q7, q8, q9, q10, q11, q12, q13, q14, q15, cap, thr, win, fh, fc, r0, r1, mp, mk, ic, he0, he1, pc, K, Y, V, N, Lk, H, D, U, sg, ok, oy, oa, lg, fo, rk, rv, st, cu) := by
  obtain ⟨P, F, R0, lf, b, mq, mK, ⟨hd, h, hH, ⟨e19, e20⟩, hD⟩, l2, l3, l4, l5⟩ := hL
  have hn := h.2.2.2.2.2.1
  refine ⟨4097, bw_rec_l R1 r1 fh fc Lk F 0 4097 h.1.2.2 h.1.1 h.2.1 h.2.2.2.2.1.2.2.1 (fun a ha hf => ?_) (by omega) (by omega) (fun fh' fc' Lk' g1 g2 g3 => ?_)⟩
  · have a1 := h.2.2.2.1.2.2.1 a ha
    have a2 := h.2.2.2.1.1 a hf
    omega
  · have h' := bw_Hp_rec h g1 g2 g3
    refine hp fh' fc' Lk' R0 _ ⟨P, R1.reverse ++ F, [], lf, b, mq, mK, ⟨hd, h', hH, ⟨e19, e20⟩, hD⟩, l2, l3, l4, ?_⟩ (fun a h16 h18 => ?_) ?_
    · rw [List.length_append, List.length_reverse]
      omega
    · show (if own a = 18 then 16 else if own a = 17 then 18 else own a) ≠ 16
      rw [if_neg h18]
      split
      · omega
      · exact h16
    · have hsm : bw_sm (fun p => (P p).length) 21 ≤ 21 * 41 := by
        refine bw_sm_le fun x hx => ?_
        show (P x).length ≤ 41
        obtain ⟨x16, x17, x18⟩ := h.2.2.2.2.2.2
        rcases Nat.lt_or_ge x 16 with z | z
        · obtain ⟨d, d1, _, d3⟩ := hD x z
          omega
        · have ex : x = 16 ∨ x = 17 ∨ x = 18 ∨ x = 19 ∨ x = 20 := by omega
          have hz : ([] : List bw_Rc).length ≤ 41 := by decide
          rcases ex with e | e | e | e | e <;> subst e
          · rw [x16]; exact hz
          · rw [x17]; exact hz
          · rw [x18]; exact hz
          · rw [e19]; exact hz
          · rw [e20]; exact hz
      omega
theorem bw_ad2X {post : Int32 → SX → Prop} {T : Nat} (hT : T ≤ 4) (e2 : thr = nI T) (hl : (∃ t, t < T ∧ sg t ≠ 0 ∧ lg t = 1) → post (-7) (q1, q2, q3, q4, q5, q6, q7, q8, q9, q10, q11, q12, q13, q14, q15, cap, thr, win, fh, fc, r0, r1, mp, mk, ic, he0, he1, pc, K, Y, V, N, Lk, H, D, U, sg, ok, oy, oa, lg, fo, rk, rv, st, cu)) (hg : (∀ t, t < T → sg t ≠ 0 → lg t ≠ 1) → ∀ n, wX_advance_2 post q1 q2 q3 q4 q5 q6 q7 q8 q9 q10 q11 q12 q13 q14 q15 cap thr win fh fc r0 r1 mp mk ic he0 he1 pc K Y V N Lk H D U sg ok oy oa lg fo rk rv st cu (n + 1) (nI T)) :
    ∀ (m i n : Nat), i + m = T → m < n → (∀ t, t < i → sg t ≠ 0 → lg t ≠ 1) → wX_advance_2 post q1 q2 q3 q4 q5 q6 q7 q8 q9 q10 q11 q12 q13 q14 q15 cap thr win fh fc r0 r1 mp mk ic he0 he1 pc K Y V N Lk H D U sg ok oy oa lg fo rk rv st cu n (nI i) := by
  intro m
  induction m with
  | zero =>
    intro i n hi hn h
    obtain ⟨n, rfl⟩ : ∃ m, n = m + 1 := ⟨n - 1, by omega⟩
    have e : i = T := by omega
    subst e
    exact hg h n
  | succ m ih =>
    intro i n hi hn h
    obtain ⟨n, rfl⟩ : ∃ m, n = m + 1 := ⟨n - 1, by omega⟩
    have ci : (nI i).toNatClampNeg = i := nI_clamp (by omega)
    have hii : vp_in (nI i) 4 := vp_in_nI (by omega) (by decide)
    refine br_f (by rw [e2]; exact nI_ge (by omega) (by omega)) ⟨hii, ?_⟩
    rw [ci]
    refine br_c (fun e => nm_e ?_) (fun e => ⟨hii, br_c (fun e' => hl ⟨i, by omega, e, e'⟩) (fun e' => nm_e ?_)⟩)
    · rw [nI_1]
      refine ih (i + 1) n (by omega) (by omega) fun t ht hs => ?_
      rcases Nat.lt_or_ge t i with z | z
      · exact h t z hs
      · have et : t = i := by omega
        subst et
        exact absurd e hs
    · rw [nI_1]
      refine ih (i + 1) n (by omega) (by omega) fun t ht hs => ?_
      rcases Nat.lt_or_ge t i with z | z
      · exact h t z hs
      · have et : t = i := by omega
        subst et
        exact e'
theorem bw_ad2Y {post : Int32 → SY → Prop} (hl : (∃ t, t < 4 ∧ sg t ≠ 0 ∧ lg t = 1) → post (-7) (cap, thr, win, ic, he0, he1, yu, yk, yv, sg, ok, oy, oa, lg, fo, rk, rv, st, zu, zk, zv, zg)) (hg : (∀ t, t < 4 → sg t ≠ 0 → lg t ≠ 1) → ∀ n, wY_advance_2 post cap thr win ic he0 he1 yu yk yv sg ok oy oa lg fo rk rv st zu zk zv zg (n + 1) (nI 4)) :
    ∀ (m i n : Nat), i + m = 4 → m < n → (∀ t, t < i → sg t ≠ 0 → lg t ≠ 1) → wY_advance_2 post cap thr win ic he0 he1 yu yk yv sg ok oy oa lg fo rk rv st zu zk zv zg n (nI i) := by
  intro m
  induction m with
  | zero =>
    intro i n hi hn h
    obtain ⟨n, rfl⟩ : ∃ m, n = m + 1 := ⟨n - 1, by omega⟩
    have e : i = 4 := by omega
    subst e
    exact hg h n
  | succ m ih =>
    intro i n hi hn h
    obtain ⟨n, rfl⟩ : ∃ m, n = m + 1 := ⟨n - 1, by omega⟩
    have ci : (nI i).toNatClampNeg = i := nI_clamp (by omega)
    have hii : vp_in (nI i) 4 := vp_in_nI (by omega) (by decide)
    refine br_f (nI_ge (b := 4) (by omega) (by decide)) ⟨hii, ?_⟩
    rw [ci]
    refine br_c (fun e => nm_e ?_) (fun e => ⟨hii, br_c (fun e' => hl ⟨i, by omega, e, e'⟩) (fun e' => nm_e ?_)⟩)
    · rw [nI_1]
      refine ih (i + 1) n (by omega) (by omega) fun t ht hs => ?_
      rcases Nat.lt_or_ge t i with z | z
      · exact h t z hs
      · have et : t = i := by omega
        subst et
        exact absurd e hs
    · rw [nI_1]
      refine ih (i + 1) n (by omega) (by omega) fun t ht hs => ?_
      rcases Nat.lt_or_ge t i with z | z
      · exact h t z hs
      · have et : t = i := by omega
        subst et
        exact e'
theorem bw_ad62X {post : Int32 → SX → Prop} {T : Nat} {x : Int32} (hT : T ≤ 4) (e2 : thr = nI T) (hp : post x (q1, q2, q3, q4, q5, q6, q7, q8, q9, q10, q11, q12, q13, q14, q15, cap, thr, win, fh, fc, r0, r1, mp, mk, ic, he0, he1, pc, K, Y, V, N, Lk, H, D, U, sg, ok, oy, oa, bw_lgf sg lg T, fo, rk, rv, st, cu)) :
    ∀ (m i n : Nat), i + m = T → m < n → wX_advance_62 post x q1 q2 q3 q4 q5 q6 q7 q8 q9 q10 q11 q12 q13 q14 q15 cap thr win fh fc r0 r1 mp mk ic he0 he1 pc n (nI i) K Y V N Lk H D U sg ok oy oa (bw_lgf sg lg i) fo rk rv st cu := by
  intro m
  induction m with
  | zero =>
    intro i n hi hn
    obtain ⟨n, rfl⟩ : ∃ m, n = m + 1 := ⟨n - 1, by omega⟩
    have e : i = T := by omega
    subst e
    exact br_t (by rw [e2]; exact nI_le (by omega) (by omega)) hp
  | succ m ih =>
    intro i n hi hn
    obtain ⟨n, rfl⟩ : ∃ m, n = m + 1 := ⟨n - 1, by omega⟩
    have ci : (nI i).toNatClampNeg = i := nI_clamp (by omega)
    have hii : vp_in (nI i) 4 := vp_in_nI (by omega) (by decide)
    have W := ih (i + 1) n (by omega) (by omega)
    refine br_f (by rw [e2]; exact nI_ge (by omega) (by omega)) ⟨hii, ?_⟩
    rw [ci]
    refine br_c (fun e => nm_e ?_) (fun e => ⟨hii, nm_e (nm_e ?_)⟩)
    · rw [nI_1]
      rw [bw_lgf, if_pos e] at W
      exact W
    · rw [nI_1]
      rw [bw_lgf, if_neg e] at W
      exact W
theorem bw_ad55Y {post : Int32 → SY → Prop} {x : Int32} (hp : post x (cap, thr, win, ic, he0, he1, yu, yk, yv, sg, ok, oy, oa, bw_lgf sg lg 4, fo, rk, rv, st, zu, zk, zv, zg)) :
    ∀ (m i n : Nat), i + m = 4 → m < n → wY_advance_55 post x cap thr win ic he0 he1 n (nI i) yu yk yv sg ok oy oa (bw_lgf sg lg i) fo rk rv st zu zk zv zg := by
  intro m
  induction m with
  | zero =>
    intro i n hi hn
    obtain ⟨n, rfl⟩ : ∃ m, n = m + 1 := ⟨n - 1, by omega⟩
    have e : i = 4 := by omega
    subst e
    exact br_t (nI_le (a := 4) (by omega) (by omega)) hp
  | succ m ih =>
    intro i n hi hn
    obtain ⟨n, rfl⟩ : ∃ m, n = m + 1 := ⟨n - 1, by omega⟩
    have ci : (nI i).toNatClampNeg = i := nI_clamp (by omega)
    have hii : vp_in (nI i) 4 := vp_in_nI (by omega) (by decide)
    have W := ih (i + 1) n (by omega) (by omega)
    refine br_f (nI_ge (b := 4) (by omega) (by decide)) ⟨hii, ?_⟩
    rw [ci]
    refine br_c (fun e => nm_e ?_) (fun e => ⟨hii, nm_e (nm_e ?_)⟩)
    · rw [nI_1]
      rw [bw_lgf, if_pos e] at W
      exact W
    · rw [nI_1]
      rw [bw_lgf, if_neg e] at W
      exact W
end bw_S19
theorem i_vc_advance {k : Nat} {u : SX} {v : SY} (I : i_Rel k u v) (hk : k + 5 ≤ 2563) : wpX_advance (fun r u' => wpY_advance (fun r' v' => r' = r ∧ i_Rel (k + 5) u' v') v) u := by
  refine bw_el (Q := fun u v => wpX_advance (fun r u' => wpY_advance (fun r' v' => r' = r ∧ i_Rel (k + 5) u' v') v) u) ?_ I
  intro q1 q2 q3 q4 q5 q6 q7 q8 q9 q10 q11 q12 q13 q14 q15 cap thr win fh fc r0 r1 mp mk ic he0 he1 pc K Y V N Lk H D U sg ok oy oa lg fo rk rv st cu yu yk yv zu zk zv zg hR
  have hI : i_Rel (k + 5) (q1, q2, q3, q4, q5, q6, q7, q8, q9, q10, q11, q12, q13, q14, q15, cap, thr, win, fh, fc, r0, r1, mp, mk, ic, he0, he1, pc, K, Y, V, N, Lk, H, D, U, sg, ok, oy, oa, lg, fo, rk, rv, st, cu) (cap, thr, win, ic, he0, he1, yu, yk, yv, sg, ok, oy, oa, lg, fo, rk, rv, st, zu, zk, zv, zg) := bw_in hR
  obtain ⟨R1, own, n, M, C, T, W, A, B, hL, hM, ⟨e1, e2, e3, e4, e5, e6⟩, ⟨n1, n2, n3, n4, n5, n6, n7, n8, n9, n10⟩, hs, ht⟩ := hR
  refine ⟨5, bw_ad2X n4 e2 (fun hl => ?_) (fun hg m => ?_) T 0 5 (by omega) (by omega) (fun t z => by omega)⟩
  · obtain ⟨t, a1, a2, a3⟩ := hl
    refine ⟨5, bw_ad2Y (fun _ => ⟨rfl, hI⟩) (fun hg' _ => absurd a3 (hg' t (by omega) a2)) 4 0 5 (by omega) (by omega) (fun t z => by omega)⟩
  · have hg4 : ∀ t, t < 4 → sg t ≠ 0 → lg t ≠ 1 := by
      intro t h4 hs0
      rcases Nat.lt_or_ge t T with z | z
      · exact hg t z hs0
      · exact absurd (hs t z h4) hs0
    refine br_t (by rw [e2]; exact nI_le (by omega) (by omega)) (bw_reclaim hL (fun fh' fc' Lk' R1' own' l ho hb => ?_))
    dsimp only
    refine ⟨5, bw_ad62X (T := T) n4 e2 ?_ T 0 5 (by omega) (by omega)⟩
    refine ⟨5, bw_ad2Y (fun hl => ?_) (fun _ m' => ?_) 4 0 5 (by omega) (by omega) (fun t z => by omega)⟩
    · obtain ⟨t, a1, a2, a3⟩ := hl
      exact absurd a3 (hg4 t a1 a2)
    · refine br_t (nI_le (a := 4) (b := 4) (by omega) (by omega)) ⟨5, bw_ad55Y ⟨rfl, ?_⟩ 4 0 5 (by omega) (by omega)⟩
      have el : bw_lgf sg lg 4 = bw_lgf sg lg T := by
        have := bw_lgf_end (sg := sg) (lg := lg) hs (4 - T) (by omega)
        rw [show T + (4 - T) = 4 from by omega] at this
        exact this
      rw [← el]
      refine bw_in ⟨R1', own', n + R1.length, M, C, T, W, 0, A, l, hM, ⟨e1, e2, e3, rfl, e4, e6⟩, ⟨n1, n2, n3, n4, n5, n6, by omega, by omega, by omega, n10⟩, hs, fun t h4 => ?_⟩
      obtain ⟨v1, v2, v3⟩ := bw_lgf_v (sg := sg) (lg := lg) (t := t) 4
      obtain ⟨h1, h2, h3, h4', h5⟩ := ht t h4
      by_cases es : sg t = 0
      · rw [v1 es]
        exact ⟨h1, h2, h3, h4', fun z => by rw [es] at z; exact absurd z (by decide)⟩
      · rw [v2 es h4]
        refine ⟨h1, h2, Or.inr rfl, h4', fun z1 z2 => ?_⟩
        obtain ⟨Q, lf, b, mq, mK, Mz, w1, w2, w3⟩ := h5 z1 z2
        have l0 : lg t = 0 := h3.resolve_right (hg4 t h4 es)
        exact ⟨Q, lf, b, mq, mK, Mz, w1, fun p hp r hr => ⟨ho _ (w2 p hp r hr).1 ((w2 p hp r hr).2 l0), fun z => absurd z (by decide)⟩, w3⟩
end
section
/-! the constructors (printed by mk20.py) -/
def bw_cl (lo hi v : Int32) : Int32 := if lo ≤ v then (if v ≤ hi then v else hi) else lo
theorem bw_brcl {v lo hi : Int32} {A : Int32 → Prop} (h : A (bw_cl lo hi v)) : (lo ≤ v → ((v ≤ hi → A v) ∧ (¬ v ≤ hi → A hi))) ∧ (¬ lo ≤ v → A lo) := by
  refine ⟨fun h1 => ⟨fun h2 => ?_, fun h2 => ?_⟩, fun h1 => ?_⟩
  · rw [bw_cl, if_pos h1, if_pos h2] at h
    exact h
  · rw [bw_cl, if_pos h1, if_neg h2] at h
    exact h
  · rw [bw_cl, if_neg h1] at h
    exact h
theorem bw_cl_n {v lo hi : Int32} {a c : Nat} (h1 : lo = nI a) (h2 : hi = nI c) (hac : a ≤ c) (hc : c < 2 ^ 31) : ∃ d, bw_cl lo hi v = nI d ∧ a ≤ d ∧ d ≤ c := by
  subst h1 h2
  by_cases g1 : nI a ≤ v
  · by_cases g2 : v ≤ nI c
    · have a1 := bw_ile.mp g1
      have a2 := bw_ile.mp g2
      rw [nI_toInt (by omega)] at a1 a2
      refine ⟨v.toInt.toNat, ?_, by omega, by omega⟩
      rw [bw_cl, if_pos g1, if_pos g2]
      apply Int32.toInt_inj.mp
      rw [nI_toInt (by omega)]
      omega
    · exact ⟨c, by rw [bw_cl, if_pos g1, if_neg g2], hac, Nat.le_refl _⟩
  · exact ⟨a, by rw [bw_cl, if_neg g1], Nat.le_refl _, hac⟩
def bw_stf : Nat → (Nat → Int32)
  | 0 => fun _ => 0
  | i + 1 => upd (bw_stf i) i (-1)
theorem bw_lc0 {Lk : Nat → Int32} : ∀ m, m ≤ 4096 → (∀ i, i < m → Lk i = nI i - 1) → bw_lc Lk (nI m - 1) (List.range m).reverse
  | 0, _, _ => by
    show nI 0 - 1 = -1
    decide
  | m + 1, hm, h => by
    rw [List.range_succ, List.reverse_append, nI_pred]
    refine ⟨rfl, by omega, ?_⟩
    rw [h m (by omega)]
    exact bw_lc0 m (by omega) fun i hi => h i (by omega)
section bw_S20
variable {q1 q2 q3 q4 q5 q6 q7 q8 q9 q10 q11 q12 q13 q14 q15 cap thr win fh fc r0 r1 mp mk ic he0 he1 pc : Int32} {K Y V N Lk H D U sg ok oy oa lg fo rk rv st : Nat → Int32} {cu : Nat → Int64}
variable {yu yk yv zu zk zv zg : Nat → Int32}
theorem bw_clX {post : Int32 → Prop} {v lo hi : Int32} (hp : post (bw_cl lo hi v)) : wpX_clamp post (q1, q2, q3, q4, q5, q6, q7, q8, q9, q10, q11, q12, q13, q14, q15, cap, thr, win, fh, fc, r0, r1, mp, mk, ic, he0, he1, pc, K, Y, V, N, Lk, H, D, U, sg, ok, oy, oa, lg, fo, rk, rv, st, cu) v lo hi := bw_brcl (A := post) hp
theorem bw_i220 {post : SY → Prop} (hp : post (cap, thr, win, ic, he0, he1, yu, yk, yv, sg, ok, oy, oa, lg, fo, rk, rv, bw_stf 4, zu, zk, zv, zg)) : ∀ (m i n : Nat), i + m = 4 → m < n → wY_init_220 post cap thr win ic he0 he1 n (nI i) yu yk yv sg ok oy oa lg fo rk rv (bw_stf i) zu zk zv zg := by
  intro m
  induction m with
  | zero =>
    intro i n hi hn
    obtain ⟨n, rfl⟩ : ∃ m, n = m + 1 := ⟨n - 1, by omega⟩
    have e : i = 4 := by omega
    subst e
    exact br_t (nI_le (a := 4) (by omega) (by omega)) hp
  | succ m ih =>
    intro i n hi hn
    obtain ⟨n, rfl⟩ : ∃ m, n = m + 1 := ⟨n - 1, by omega⟩
    have ci : (nI i).toNatClampNeg = i := nI_clamp (by omega)
    have W := ih (i + 1) n (by omega) (by omega)
    refine br_f (nI_ge (b := 4) (by omega) (by decide)) ⟨vp_in_nI (by omega) (by decide), nm_e (nm_e ?_)⟩
    rw [ci, nI_1]
    exact W
theorem bw_iY {post : SY → Prop} {p0 p1 p2 : Int32} (h : ∃ n, wY_init_220 post (bw_cl 8 32 p0) (bw_cl 1 4 p1) (bw_cl 4 16 p2) 0 0 0 n 0 (fun _ => 0) (fun _ => 0) (fun _ => 0) (fun _ => 0) (fun _ => 0) (fun _ => 0) (fun _ => 0) (fun _ => 0) (fun _ => 0) (fun _ => 0) (fun _ => 0) (fun _ => 0) (fun _ => 0) (fun _ => 0) (fun _ => 0) (fun _ => 0)) : wpY_init post p0 p1 p2 :=
  bw_brcl (A := fun z => wY_init_166 post p1 p2 z 0 0 0 0 0 0 (fun _ => 0) (fun _ => 0) (fun _ => 0) (fun _ => 0) (fun _ => 0) (fun _ => 0) (fun _ => 0) (fun _ => 0) (fun _ => 0) (fun _ => 0) (fun _ => 0) (fun _ => 0) (fun _ => 0) (fun _ => 0) (fun _ => 0) (fun _ => 0)) (bw_brcl (A := fun z => wY_init_189 post p2 z (bw_cl 8 32 p0) 0 0 0 0 0 (fun _ => 0) (fun _ => 0) (fun _ => 0) (fun _ => 0) (fun _ => 0) (fun _ => 0) (fun _ => 0) (fun _ => 0) (fun _ => 0) (fun _ => 0) (fun _ => 0) (fun _ => 0) (fun _ => 0) (fun _ => 0) (fun _ => 0) (fun _ => 0)) (bw_brcl (A := fun z => ∃ n, wY_init_220 post (bw_cl 8 32 p0) (bw_cl 1 4 p1) z 0 0 0 n 0 (fun _ => 0) (fun _ => 0) (fun _ => 0) (fun _ => 0) (fun _ => 0) (fun _ => 0) (fun _ => 0) (fun _ => 0) (fun _ => 0) (fun _ => 0) (fun _ => 0) (fun _ => 0) (fun _ => 0) (fun _ => 0) (fun _ => 0) (fun _ => 0)) h))
theorem bw_i356 {post : SX → Prop} (hp : ∀ n, wX_init_356 post q1 q2 q3 q4 q5 q6 q7 q8 q9 q10 q11 q12 q13 q14 q15 cap thr win fh fc r0 r1 mp mk ic he0 he1 pc (n + 1) (nI 4) K Y V N Lk H D U sg ok oy oa lg fo rk rv (bw_stf 4) cu) : ∀ (m i n : Nat), i + m = 4 → m < n → wX_init_356 post q1 q2 q3 q4 q5 q6 q7 q8 q9 q10 q11 q12 q13 q14 q15 cap thr win fh fc r0 r1 mp mk ic he0 he1 pc n (nI i) K Y V N Lk H D U sg ok oy oa lg fo rk rv (bw_stf i) cu := by
  intro m
  induction m with
  | zero =>
    intro i n hi hn
    obtain ⟨n, rfl⟩ : ∃ m, n = m + 1 := ⟨n - 1, by omega⟩
    have e : i = 4 := by omega
    subst e
    exact hp n
  | succ m ih =>
    intro i n hi hn
    obtain ⟨n, rfl⟩ : ∃ m, n = m + 1 := ⟨n - 1, by omega⟩
    have ci : (nI i).toNatClampNeg = i := nI_clamp (by omega)
    have W := ih (i + 1) n (by omega) (by omega)
    refine br_f (nI_ge (b := 4) (by omega) (by decide)) ⟨vp_in_nI (by omega) (by decide), nm_e (nm_e ?_)⟩
    rw [ci, nI_1]
    exact W
theorem bw_i329 {post : SX → Prop} (hp : ∀ H : Nat → Int32, (∀ x, x < 80 → H x = -1) → ∀ n, wX_init_329 post q1 q2 q3 q4 q5 q6 q7 q8 q9 q10 q11 q12 q13 q14 q15 cap thr win fh fc r0 r1 mp mk ic he0 he1 pc (n + 1) (nI 80) K Y V N Lk H D U sg ok oy oa lg fo rk rv st cu) : ∀ (m i n : Nat) (H : Nat → Int32), i + m = 80 → m < n → (∀ x, x < i → H x = -1) → wX_init_329 post q1 q2 q3 q4 q5 q6 q7 q8 q9 q10 q11 q12 q13 q14 q15 cap thr win fh fc r0 r1 mp mk ic he0 he1 pc n (nI i) K Y V N Lk H D U sg ok oy oa lg fo rk rv st cu := by
  intro m
  induction m with
  | zero =>
    intro i n H hi hn h
    obtain ⟨n, rfl⟩ : ∃ m, n = m + 1 := ⟨n - 1, by omega⟩
    have e : i = 80 := by omega
    subst e
    exact hp H h n
  | succ m ih =>
    intro i n H hi hn h
    obtain ⟨n, rfl⟩ : ∃ m, n = m + 1 := ⟨n - 1, by omega⟩
    have ci : (nI i).toNatClampNeg = i := nI_clamp (by omega)
    refine br_f (nI_ge (b := 80) (by omega) (by decide)) ⟨vp_in_nI (by omega) (by decide), nm_e (nm_e ?_)⟩
    rw [ci, nI_1]
    refine ih (i + 1) n _ (by omega) (by omega) fun x hx => ?_
    by_cases e : x = i
    · subst e; exact pk_us
    · rw [pk_un e]; exact h x (by omega)
theorem bw_i264 {post : SX → Prop} (hp : ∀ Lk : Nat → Int32, (∀ x, x < 4096 → Lk x = nI x - 1) → ∀ n, wX_init_264 post q1 q2 q3 q4 q5 q6 q7 q8 q9 q10 q11 q12 q13 q14 q15 cap thr win fh fc r0 r1 mp mk ic he0 he1 pc (n + 1) (nI 4096) K Y V N Lk H D U sg ok oy oa lg fo rk rv st cu) : ∀ (m i n : Nat) (Lk : Nat → Int32), i + m = 4096 → m < n → (∀ x, x < i → Lk x = nI x - 1) → wX_init_264 post q1 q2 q3 q4 q5 q6 q7 q8 q9 q10 q11 q12 q13 q14 q15 cap thr win fh fc r0 r1 mp mk ic he0 he1 pc n (nI i) K Y V N Lk H D U sg ok oy oa lg fo rk rv st cu := by
  intro m
  induction m with
  | zero =>
    intro i n Lk hi hn h
    obtain ⟨n, rfl⟩ : ∃ m, n = m + 1 := ⟨n - 1, by omega⟩
    have e : i = 4096 := by omega
    subst e
    exact hp Lk h n
  | succ m ih =>
    intro i n Lk hi hn h
    obtain ⟨n, rfl⟩ : ∃ m, n = m + 1 := ⟨n - 1, by omega⟩
    have ci : (nI i).toNatClampNeg = i := nI_clamp (by omega)
    refine br_f (nI_ge (b := 4096) (by omega) (by decide)) ⟨vp_in_nI (by omega) (by decide), nm_e (nm_e ?_)⟩
    rw [ci, nI_1]
    refine ih (i + 1) n _ (by omega) (by omega) fun x hx => ?_
    by_cases e : x = i
    · subst e; exact pk_us
    · rw [pk_un e]; exact h x (by omega)
end bw_S20
theorem bw_cn0 {P : Nat → Prop} (h : ∀ i, ¬ P i) : ∀ N, bw_cn P N = 0
  | 0 => rfl
  | N + 1 => by rw [bw_cn, bw_cn0 h N, bw_b01_f (h N)]
/-- the first pool -/
theorem bw_Hp0 {K Y V N Lk : Nat → Int32} (h : ∀ x, x < 4096 → Lk x = nI x - 1) : bw_Hp (nI 4096 - 1) (nI 4096) (-1) (-1) K Y V N Lk (fun _ => -1) (fun _ => []) (List.range 4096).reverse [] [] (fun _ => 16) := by
  refine ⟨⟨bw_lc0 4096 (by omega) h, rfl, rfl⟩, ?_, fun _ _ => rfl, ⟨fun _ _ => rfl, fun a ha => (by cases ha), fun a ha => (by cases ha), fun p _ r hr => (by cases hr)⟩, ⟨bw_nd_rev List.nodup_range, List.nodup_nil, List.nodup_nil, fun _ _ => List.nodup_nil⟩, ?_, rfl, rfl, rfl⟩
  · rw [List.length_reverse, List.length_range]
  · rw [List.length_reverse, List.length_range]
    rfl
theorem bw_T0 {P : Nat → List bw_Rc} {a : Nat} {mK : Int} (h0 : P 0 = [(a, 1, -2147483648, 1)]) (h1 : ∀ p, p ≠ 0 → P p = []) : bw_Tree P (fun p => p = 1) (fun _ => -2147483648) none mK (fun _ => none) := by
  have hc : bw_con (P 0) (-2147483648) = some (nI 1) := by
    rw [h0]
    exact bw_con_s (r := (a, 1, -2147483648, 1)) (bw_pr_t (Or.inr (Or.inl rfl))) rfl
  have hn : ∀ k, k ≠ -2147483648 → bw_con (P 0) k = none := by
    intro k hk
    rw [h0]
    refine (bw_con_cons_n ?_).trans rfl
    rintro (z | z | ⟨z, _⟩)
    · exact absurd z (by show ¬ (1 : Int32) = 4; decide)
    · exact hk z
    · exact absurd z (by show ¬ (1 : Int32) = 3; decide)
  refine ⟨⟨rfl, rfl⟩, fun p hp => ?_, fun p q hp hq _ => hp.trans hq.symm, fun p hp => ?_, fun p k hp _ _ => ?_, fun r hr => ?_, hc, fun k v hk => ?_, fun q hq => (by cases hq)⟩
  · subst hp
    exact ⟨by omega, by omega, Int.le_refl _⟩
  · subst hp
    refine Or.inl ⟨fun r hr => ?_, fun q _ => Int.le_refl _⟩
    rw [h1 1 (by omega)] at hr
    cases hr
  · subst hp
    rw [h1 1 (by omega)]
    rfl
  · rw [h0] at hr
    have e := List.mem_singleton.mp hr
    subst e
    exact ⟨Int.le_refl _, Or.inl rfl⟩
  · by_cases e : k = -2147483648
    · subst e
      rw [hc] at hk
      exact ⟨1, (Option.some.inj hk).symm, Or.inl ⟨rfl, rfl⟩⟩
    · rw [hn k e] at hk
      cases hk
theorem i_vc0 (k0 : Int32) (k1 : Int32) (k2 : Int32) : wpX_init (fun u => wpY_init (fun v => i_Rel 3 u v) k0 k1 k2) k0 k1 k2 := by
  unfold wpX_init
  refine bw_clX (bw_clX (bw_clX ⟨4097, bw_i264 (fun Lk hLk n => br_t (nI_le (a := 4096) (b := 4096) (by omega) (by omega)) (nm_e (nm_e ⟨81, bw_i329 (fun H hH n => br_t (nI_le (a := 80) (b := 80) (by omega) (by omega)) ⟨5, bw_i356 (fun n => br_t (nI_le (a := 4) (b := 4) (by omega) (by omega)) (nm_e (nm_e ?_))) 4 0 5 (by omega) (by omega)⟩) 80 0 81 (fun _ => 0) (by omega) (by omega) (fun x hx => by omega)⟩))) 4096 0 4097 (fun _ => 0) (by omega) (by omega) (fun x hx => by omega)⟩))
  have m1 : (-2147483648 : Int32).toInt = -2147483648 := by decide
  rw [bw_bo1]
  refine bw_newNode (q := 0) (bw_Hp0 hLk) (by rw [List.length_reverse, List.length_range]; omega) (by omega) (by omega) bw_nb1 rfl (fun fh' fc' K' Y' V' N' hd' P' F' own' a f1 f2 f3 f4 f5 h' k' => ?_)
  dsimp only
  refine nm_e (bw_iY ⟨5, bw_i220 ?_ 4 0 5 (by omega) (by omega)⟩)
  obtain ⟨C, c1, c2, c3⟩ := bw_cl_n (v := k0) (lo := 8) (hi := 32) (a := 8) (c := 32) rfl rfl (by omega) (by omega)
  obtain ⟨T, t1, t2, t3⟩ := bw_cl_n (v := k1) (lo := 1) (hi := 4) (a := 1) (c := 4) rfl rfl (by omega) (by omega)
  obtain ⟨W, w1, w2, w3⟩ := bw_cl_n (v := k2) (lo := 4) (hi := 16) (a := 4) (c := 16) rfl rfl (by omega) (by omega)
  rw [List.length_reverse, List.length_range] at f1
  rw [m1] at f3
  have hP : ∀ p, p ≠ 0 → P' p = [] := fun p hp => f2 p hp
  have cn0 : bw_cn (fun i => (0 : Int32) ≠ 0) 32 = 0 := bw_cn0 (fun _ z => z rfl) 32
  refine bw_in ⟨[], own', 4095, fun _ => none, C, T, W, 0, 0, ⟨P', F', [], fun p => p = 1, fun _ => -2147483648, none, 0, ⟨hd', h', fun p hp => ?_, ⟨hP 19 (by omega), hP 20 (by omega)⟩, fun p hp => ?_⟩, bw_T0 f3 hP, Or.inl ⟨rfl, rfl⟩, fun p hp => ?_, by omega⟩, ⟨fun i _ => Or.inl rfl, fun i _ z => absurd rfl z, fun k v z => (by cases z), fun i j _ _ z => absurd rfl z⟩, ⟨c1, t1, w1, rfl, rfl, ?_⟩, ⟨c2, c3, t2, t3, w2, w3, by omega, by omega, by omega, ?_⟩, fun _ _ _ => rfl, fun t _ => ⟨Or.inl rfl, Or.inl rfl, Or.inl rfl, fun z => absurd rfl z, fun z => absurd z (by show ¬ (0 : Int32) = 2; decide)⟩⟩
  · by_cases e : p = 0
    · subst e
      rw [f5]
      exact pk_us.symm
    · rw [f4 p e, pk_un e]
      exact (hH p (by omega)).symm
  · refine ⟨0, by omega, rfl, ?_⟩
    by_cases e : p = 0
    · subst e
      rw [f3]
      show 1 ≤ _
      omega
    · rw [hP p e]
      exact Nat.zero_le _
  · by_cases e : p = 0
    · subst e
      exact Or.inl ⟨by rw [pk_un (by omega), pk_us], Or.inl rfl⟩
    · by_cases e1 : p = 1
      · subst e1
        exact Or.inl ⟨pk_us, Or.inr (Or.inl rfl)⟩
      · refine Or.inr ⟨by rw [pk_un e1, pk_un e], hP p e, e, e1, fun z => (by cases z)⟩
  · rw [cn0]
    rfl
  · rw [cn0]
    omega
end
