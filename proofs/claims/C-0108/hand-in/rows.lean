section
/-! counting below a bound -/
theorem th_us {f : Nat → Int32} {k : Nat} {x : Int32} : upd f k x k = x := if_pos rfl
theorem th_un {f : Nat → Int32} {k j : Nat} {x : Int32} (h : j ≠ k) : upd f k x j = f j := if_neg h
theorem th_mul (a b : Nat) : nI a * nI b = nI (a * b) := (Int32.ofNat_mul a b).symm
noncomputable def th_b (p : Prop) : Nat := @ite Nat p (Classical.propDecidable p) 1 0
theorem th_b1 {p : Prop} (h : p) : th_b p = 1 := by unfold th_b; rw [if_pos h]
theorem th_b0 {p : Prop} (h : ¬ p) : th_b p = 0 := by unfold th_b; rw [if_neg h]
noncomputable def th_cn (p : Nat → Prop) : Nat → Nat
  | 0 => 0
  | n + 1 => th_cn p n + th_b (p n)
theorem th_cn_s (p : Nat → Prop) (n : Nat) : th_cn p (n + 1) = th_cn p n + th_b (p n) := rfl
theorem th_cn_le (p : Nat → Prop) (n : Nat) : th_cn p n ≤ n := by
  induction n with
  | zero => exact Nat.le_refl 0
  | succ n ih =>
    rw [th_cn_s]
    by_cases h : p n
    · rw [th_b1 h]; omega
    · rw [th_b0 h]; omega
theorem th_cn_mono {p q : Nat → Prop} (n : Nat) (h : ∀ c, c < n → p c → q c) : th_cn p n ≤ th_cn q n := by
  induction n with
  | zero => exact Nat.le_refl 0
  | succ n ih =>
    have i := ih (fun c hc => h c (Nat.lt_succ_of_lt hc))
    rw [th_cn_s, th_cn_s]
    by_cases hp : p n
    · rw [th_b1 hp, th_b1 (h n (Nat.lt_succ_self n) hp)]; omega
    · rw [th_b0 hp]; omega
theorem th_cn_congr {p q : Nat → Prop} (n : Nat) (h : ∀ c, c < n → (p c ↔ q c)) : th_cn p n = th_cn q n :=
  Nat.le_antisymm (th_cn_mono n fun c hc => (h c hc).mp) (th_cn_mono n fun c hc => (h c hc).mpr)
theorem th_cn_rm {q : Nat → Prop} {i0 : Nat} (hq : q i0) (m : Nat) : i0 < m → th_cn q m = th_cn (fun i => q i ∧ i ≠ i0) m + 1 := by
  induction m with
  | zero => intro h; omega
  | succ m ih =>
    intro h
    rw [th_cn_s, th_cn_s]
    by_cases e : m = i0
    · have j : th_cn q m = th_cn (fun i => q i ∧ i ≠ i0) m := th_cn_congr m (fun c hc => ⟨fun z => ⟨z, by omega⟩, fun z => z.1⟩)
      have a : th_b (q m) = 1 := th_b1 (by rw [e]; exact hq)
      have b : th_b (q m ∧ m ≠ i0) = 0 := th_b0 (fun z => z.2 e)
      rw [a, b, j]
    · have i := ih (by omega)
      by_cases hm : q m
      · have b : th_b (q m ∧ m ≠ i0) = 1 := th_b1 ⟨hm, e⟩
        rw [th_b1 hm, b]; omega
      · have b : th_b (q m ∧ m ≠ i0) = 0 := th_b0 (fun z => hm z.1)
        rw [th_b0 hm, b]; omega
theorem th_cn_lt {p q : Nat → Prop} {n i0 : Nat} (h : ∀ c, c < n → p c → q c) (hi : i0 < n) (hq : q i0) (hp : ¬ p i0) : th_cn p n < th_cn q n := by
  have e := th_cn_rm hq n hi
  have l : th_cn p n ≤ th_cn (fun i => q i ∧ i ≠ i0) n := th_cn_mono n (fun c hc z => ⟨h c hc z, fun y => hp (y ▸ z)⟩)
  omega
theorem th_cn_inj (f : Nat → Nat) (m : Nat) (p : Nat → Prop) (n : Nat) : ∀ q : Nat → Prop, (∀ c, c < n → p c → f c < m ∧ q (f c)) → (∀ c d, c < n → d < n → p c → p d → f c = f d → c = d) → th_cn p n ≤ th_cn q m := by
  induction n with
  | zero => intro q _ _; exact Nat.zero_le _
  | succ n ih =>
    intro q h1 h2
    rw [th_cn_s]
    by_cases hp : p n
    · have a := h1 n (Nat.lt_succ_self n) hp
      have i := ih (fun i => q i ∧ i ≠ f n) (fun c hc pc => ⟨(h1 c (by omega) pc).1, (h1 c (by omega) pc).2, fun z => by have := h2 c n (by omega) (by omega) pc hp z; omega⟩) (fun c d hc hd => h2 c d (by omega) (by omega))
      have e := th_cn_rm a.2 m a.1
      rw [th_b1 hp]; omega
    · rw [th_b0 hp]
      exact ih q (fun c hc => h1 c (by omega)) (fun c d hc hd => h2 c d (by omega) (by omega))
theorem th_cn_bij (f : Nat → Nat) (n m : Nat) (p q : Nat → Prop) (h1 : ∀ c, c < n → p c → f c < m ∧ q (f c)) (h2 : ∀ c d, c < n → d < n → p c → p d → f c = f d → c = d) (h3 : ∀ i, i < m → q i → ∃ c, c < n ∧ p c ∧ f c = i) : th_cn p n = th_cn q m := by
  apply Nat.le_antisymm (th_cn_inj f m p n q h1 h2)
  have hg : ∀ i, ∃ c, i < m → q i → c < n ∧ p c ∧ f c = i := fun i => by
    by_cases z : i < m ∧ q i
    · obtain ⟨c, hc⟩ := h3 i z.1 z.2
      exact ⟨c, fun _ _ => hc⟩
    · exact ⟨0, fun a b => absurd ⟨a, b⟩ z⟩
  refine th_cn_inj (fun i => (hg i).choose) n q m p (fun i hi qi => ⟨((hg i).choose_spec hi qi).1, ((hg i).choose_spec hi qi).2.1⟩) (fun i j hi hj qi qj e => ?_)
  have a := ((hg i).choose_spec hi qi).2.2
  have b := ((hg j).choose_spec hj qj).2.2
  exact a.symm.trans ((congrArg f e).trans b)
theorem th_cn_all {p : Nat → Prop} {n : Nat} (h : ∀ c, c < n → p c) : th_cn p n = n := by
  induction n with
  | zero => rfl
  | succ n ih =>
    rw [th_cn_s, ih (fun c hc => h c (by omega)), th_b1 (h n (by omega))]
theorem th_cn_some {p : Nat → Prop} {n i0 : Nat} (hi : i0 < n) (h : ¬ p i0) : th_cn p n < n := by
  have a : th_cn p n < th_cn (fun _ => True) n := th_cn_lt (fun _ _ _ => trivial) hi trivial h
  have b : th_cn (fun _ => True) n = n := th_cn_all (fun _ _ => trivial)
  omega
/-- Int32 facts -/
theorem th_ix (t r : Nat) : nI t * 4 + nI r = nI (t * 4 + r) := by
  show nI t * nI 4 + nI r = _
  rw [th_mul, nI_add]
theorem th_iy (t r : Nat) : 4 * nI t + nI r = nI (t * 4 + r) := by
  show nI 4 * nI t + nI r = _
  rw [th_mul, nI_add, Nat.mul_comm]
theorem th_neg {c : Nat} (h : c < 2 ^ 31) : ¬ (-1 : Int32) = nI c := by
  intro e
  have a := congrArg Int32.toInt e
  rw [nI_toInt h] at a
  have b : (-1 : Int32).toInt = -1 := by decide
  omega
theorem th_inj {a b : Nat} (ha : a < 2 ^ 31) (hb : b < 2 ^ 31) (h : nI a = nI b) : a = b := (nI_eq ha hb).mp h
end
section
/-! the heap's shape, what is reached, what is protected -/
def th_ok (n : Nat) (x : Int32) : Prop := x = -1 ∨ ∃ c, c < n ∧ x = nI c
def th_ch (n : Nat) (l0 l1 : Nat → Int32) (c d : Nat) : Prop := c < n ∧ d < n ∧ (l0 c = nI d ∨ l1 c = nI d)
def th_rt (n : Nat) (rg gl : Nat → Int32) (c : Nat) : Prop := c < n ∧ ((∃ i, i < 12 ∧ rg i = nI c) ∨ (∃ i, i < 2 ∧ gl i = nI c))
def th_cl (n : Nat) (l0 l1 rg gl : Nat → Int32) (S : Nat → Prop) : Prop := (∀ c, th_rt n rg gl c → S c) ∧ (∀ c d, th_ch n l0 l1 c d → S c → S d)
def th_R (n : Nat) (l0 l1 rg gl : Nat → Int32) (c : Nat) : Prop := ∀ S : Nat → Prop, th_cl n l0 l1 rg gl S → S c
def th_hp (n : Nat) (l0 l1 rg gl : Nat → Int32) : Prop := (∀ c, c < n → th_ok n (l0 c) ∧ th_ok n (l1 c)) ∧ (∀ i, i < 12 → th_ok n (rg i)) ∧ (∀ i, i < 2 → th_ok n (gl i))
def th_bt (ans : Int32) (t : Nat) : Prop := ((ans >>> (nI t &&& 31)) &&& 1) = 1
def th_AN (ans : Int32) : Prop := ∃ a : Nat, a < 8 ∧ ans = nI a
/-- the roots that the collector has still to look at in the third signal's phase -/
def th_pd (n : Nat) (rg gl : Nat → Int32) (ans : Int32) (c : Nat) : Prop := c < n ∧ ((∃ t r, t < 3 ∧ r < 4 ∧ ¬ th_bt ans t ∧ rg (t * 4 + r) = nI c) ∨ (∃ i, i < 2 ∧ gl i = nI c))
def th_Pr (bl : Int32) (col : Nat → Int32) (ch : Nat → Nat → Prop) (P R : Nat → Prop) : Prop :=
  ∀ T : Nat → Prop, (∀ c, P c → col c = 3 - bl → T c) → (∀ c d, ch c d → (col c = 3 ∨ (col c = 3 - bl ∧ T c)) → col d = 3 - bl → T d) → ∀ x, R x → col x = 3 - bl → T x
/-- col' is col with some white cells of S made gray -/
def th_Gr (bl : Int32) (col col' : Nat → Int32) (S : Nat → Prop) : Prop := ∀ c, col' c = col c ∨ (col c = 3 - bl ∧ col' c = 3 ∧ S c)
/-- the collector's invariant; e: what is gray or black is reached -/
def th_G (e : Prop) (n : Nat) (l0 l1 rg gl : Nat → Int32) (ans ph bl sw : Int32) (col : Nat → Int32) : Prop :=
  (bl = 1 ∨ bl = 2) ∧
  (∀ c, c < n → col c = 0 ∨ col c = 3 ∨ col c = bl ∨ col c = 3 - bl) ∧
  (∀ c, th_R n l0 l1 rg gl c → col c ≠ 0) ∧
  (e → ∀ c, c < n → (col c = 3 ∨ col c = bl) → th_R n l0 l1 rg gl c) ∧
  ((ph = 0 ∧ (∀ c, c < n → col c ≠ 3 ∧ col c ≠ 3 - bl))
   ∨ ((ph = 1 ∨ ph = 2) ∧ th_AN ans ∧ (∀ c, c < n → col c ≠ bl))
   ∨ (ph = 3 ∧ th_AN ans ∧ (∀ c, c < n → col c ≠ bl) ∧ th_Pr bl col (th_ch n l0 l1) (th_pd n rg gl ans) (th_R n l0 l1 rg gl))
   ∨ (ph = 4 ∧ th_Pr bl col (th_ch n l0 l1) (fun _ => False) (th_R n l0 l1 rg gl))
   ∨ (ph = 5 ∧ ∃ s, s < n ∧ sw = nI s ∧ (∀ c, c < n → col c ≠ 3) ∧ (∀ c, c < s → col c ≠ 3 - bl) ∧ (∀ c, th_R n l0 l1 rg gl c → col c ≠ 3 - bl)))

theorem th_ok_mono {n k : Nat} {x : Int32} (h : n ≤ k) (o : th_ok n x) : th_ok k x := by
  rcases o with o | ⟨c, hc, o⟩
  · exact Or.inl o
  · exact Or.inr ⟨c, by omega, o⟩
section
variable {n : Nat} {l0 l1 rg gl : Nat → Int32}
theorem th_R_lt {c : Nat} (h : th_R n l0 l1 rg gl c) : c < n := h (fun c => c < n) ⟨fun _ z => z.1, fun _ _ z _ => z.2.1⟩
theorem th_R_cl : th_cl n l0 l1 rg gl (th_R n l0 l1 rg gl) := ⟨fun c h _ hS => hS.1 c h, fun c d h hc S hS => hS.2 c d h (hc S hS)⟩
theorem th_R_reg {i c : Nat} (hi : i < 12) (hc : c < n) (e : rg i = nI c) : th_R n l0 l1 rg gl c := th_R_cl.1 c ⟨hc, Or.inl ⟨i, hi, e⟩⟩
theorem th_R_glo {i c : Nat} (hi : i < 2) (hc : c < n) (e : gl i = nI c) : th_R n l0 l1 rg gl c := th_R_cl.1 c ⟨hc, Or.inr ⟨i, hi, e⟩⟩
theorem th_R_l0 {c d : Nat} (h : th_R n l0 l1 rg gl c) (hd : d < n) (e : l0 c = nI d) : th_R n l0 l1 rg gl d := th_R_cl.2 c d ⟨th_R_lt h, hd, Or.inl e⟩ h
theorem th_R_l1 {c d : Nat} (h : th_R n l0 l1 rg gl c) (hd : d < n) (e : l1 c = nI d) : th_R n l0 l1 rg gl d := th_R_cl.2 c d ⟨th_R_lt h, hd, Or.inr e⟩ h
end
theorem th_Pr_mono {bl : Int32} {col col' : Nat → Int32} {ch ch' : Nat → Nat → Prop} {P P' R R' : Nat → Prop} (h : th_Pr bl col ch P R)
    (h1 : ∀ x, R' x → col' x = 3 - bl → R x ∧ col x = 3 - bl)
    (h2 : ∀ c, P c → col c = 3 - bl → col' c = 3 - bl → P' c)
    (h3 : ∀ c d, ch c d → col' d = 3 - bl → (col c = 3 → col' c = 3 ∧ ch' c d) ∧ (col c = 3 - bl → (col' c = 3 ∨ col' c = 3 - bl) ∧ ch' c d)) :
    th_Pr bl col' ch' P' R' := by
  intro T' hP hE x hx wx
  obtain ⟨rx, wx'⟩ := h1 x hx wx
  refine h (fun d => col' d = 3 - bl → T' d) (fun c pc wc wc' => hP c (h2 c pc wc wc') wc') (fun c d e g wd wd' => ?_) x rx wx' wx
  obtain ⟨a, b⟩ := h3 c d e wd'
  rcases g with g | ⟨g, t⟩
  · exact hE c d (a g).2 (Or.inl (a g).1) wd'
  · obtain ⟨y, z⟩ := b g
    rcases y with y | y
    · exact hE c d z (Or.inl y) wd'
    · exact hE c d z (Or.inr ⟨y, t y⟩) wd'
/-- colours are different -/
theorem th_3w {bl : Int32} (h : bl = 1 ∨ bl = 2) : ¬ (3 : Int32) = 3 - bl := by rcases h with rfl | rfl <;> decide
theorem th_3b {bl : Int32} (h : bl = 1 ∨ bl = 2) : ¬ (3 : Int32) = bl := by rcases h with rfl | rfl <;> decide
theorem th_bw {bl : Int32} (h : bl = 1 ∨ bl = 2) : ¬ bl = 3 - bl := by rcases h with rfl | rfl <;> decide
theorem th_b0' {bl : Int32} (h : bl = 1 ∨ bl = 2) : ¬ bl = 0 := by rcases h with rfl | rfl <;> decide
theorem th_w0 {bl : Int32} (h : bl = 1 ∨ bl = 2) : ¬ 3 - bl = 0 := by rcases h with rfl | rfl <;> decide
theorem th_ww {bl : Int32} (h : bl = 1 ∨ bl = 2) : 3 - bl = 1 ∨ 3 - bl = 2 := by rcases h with rfl | rfl <;> decide
theorem th_www {bl : Int32} (h : bl = 1 ∨ bl = 2) : 3 - (3 - bl) = bl := by rcases h with rfl | rfl <;> decide
theorem th_Gr_rf {bl : Int32} {col : Nat → Int32} {S : Nat → Prop} : th_Gr bl col col S := fun _ => Or.inl rfl
theorem th_Gr_sub {bl : Int32} {col col' : Nat → Int32} {S S' : Nat → Prop} (h : th_Gr bl col col' S) (hs : ∀ c, S c → S' c) : th_Gr bl col col' S' := fun c => by
  rcases h c with a | ⟨a, b, d⟩
  · exact Or.inl a
  · exact Or.inr ⟨a, b, hs c d⟩
theorem th_Gr_nw {bl : Int32} {col col' : Nat → Int32} {S : Nat → Prop} (hb : bl = 1 ∨ bl = 2) (h : th_Gr bl col col' S) {c : Nat} (z : col' c = 3 - bl) : col c = 3 - bl := by
  rcases h c with a | ⟨a, b, d⟩
  · rw [← a]; exact z
  · exact a
theorem th_Gr_tr {bl : Int32} {col col' col'' : Nat → Int32} {S : Nat → Prop} (hb : bl = 1 ∨ bl = 2) (h : th_Gr bl col col' S) (h' : th_Gr bl col' col'' S) : th_Gr bl col col'' S := fun c => by
  rcases h c with a | ⟨a, b, d⟩
  · rcases h' c with a' | ⟨a', b', d'⟩
    · exact Or.inl (a'.trans a)
    · exact Or.inr ⟨a ▸ a', b', d'⟩
  · rcases h' c with a' | ⟨a', b', d'⟩
    · exact Or.inr ⟨a, a'.trans b, d⟩
    · exact absurd (b.symm.trans a') (th_3w hb)
theorem th_Gr_3 {bl : Int32} {col col' : Nat → Int32} {S : Nat → Prop} (hb : bl = 1 ∨ bl = 2) (h : th_Gr bl col col' S) {c : Nat} (z : col c = 3) : col' c = 3 := by
  rcases h c with a | ⟨a, b, d⟩
  · exact a.trans z
  · exact b
theorem th_Gr_w {bl : Int32} {col col' : Nat → Int32} {S : Nat → Prop} (h : th_Gr bl col col' S) {c : Nat} (z : col c = 3 - bl) : col' c = 3 ∨ col' c = 3 - bl := by
  rcases h c with a | ⟨a, b, d⟩
  · exact Or.inr (a.trans z)
  · exact Or.inl b
/-- bits of answered -/
theorem th_AN_0 : th_AN 0 := ⟨0, by decide, rfl⟩
theorem th_bits : ∀ a : Fin 8, ∀ t : Fin 3, ∃ b : Fin 8, (nI a.val ||| ((1 : Int32) <<< (nI t.val &&& 31))) = nI b.val ∧ (∀ u : Fin 3, (((nI b.val >>> (nI u.val &&& 31)) &&& 1) = 1 ↔ (((nI a.val >>> (nI u.val &&& 31)) &&& 1) = 1 ∨ u = t))) := by decide +kernel
theorem th_bt_set {ans : Int32} {t : Nat} (h : th_AN ans) (ht : t < 3) : th_AN (ans ||| ((1 : Int32) <<< (nI t &&& 31))) ∧ ∀ u, u < 3 → (th_bt (ans ||| ((1 : Int32) <<< (nI t &&& 31))) u ↔ (th_bt ans u ∨ u = t)) := by
  obtain ⟨a, ha, rfl⟩ := h
  obtain ⟨b, e, f⟩ := th_bits ⟨a, ha⟩ ⟨t, ht⟩
  have e' : (nI a ||| ((1 : Int32) <<< (nI t &&& 31))) = nI b.val := e
  rw [e']
  refine ⟨⟨b.val, b.isLt, rfl⟩, fun u hu => ?_⟩
  have z := f ⟨u, hu⟩
  rw [Fin.mk.injEq] at z
  exact z
theorem th_bits7 : ∀ a : Fin 8, (nI a.val = 7 ↔ ∀ u : Fin 3, ((nI a.val >>> (nI u.val &&& 31)) &&& 1) = 1) := by decide +kernel
theorem th_bt_7 {ans : Int32} (h : th_AN ans) : ans = 7 ↔ ∀ u, u < 3 → th_bt ans u := by
  obtain ⟨a, ha, rfl⟩ := h
  exact (th_bits7 ⟨a, ha⟩).trans ⟨fun z u hu => z ⟨u, hu⟩, fun z u => z u.val u.isLt⟩
theorem th_bits0 : ∀ u : Fin 3, ¬ (((0 : Int32) >>> (nI u.val &&& 31)) &&& 1) = 1 := by decide +kernel
theorem th_bt_0 {u : Nat} (h : u < 3) : ¬ th_bt 0 u := th_bits0 ⟨u, h⟩
end
section
/-! the collector's steps keep its invariant -/
section
variable {e : Prop} {n : Nat} {l0 l1 rg gl : Nat → Int32} {ans ph bl sw : Int32} {col col' : Nat → Int32}
theorem th_G_e0 (g : th_G e n l0 l1 rg gl ans ph bl sw col) : th_G False n l0 l1 rg gl ans ph bl sw col := ⟨g.1, g.2.1, g.2.2.1, fun z => z.elim, g.2.2.2.2⟩
theorem th_G_gr {S : Nat → Prop} (g : th_G e n l0 l1 rg gl ans ph bl sw col) (h : th_Gr bl col col' S) (hS : ∀ c, S c → c < n) (hR : ∀ c, S c → (e ∨ ¬ ph = 4) → th_R n l0 l1 rg gl c) : th_G e n l0 l1 rg gl ans ph bl sw col' := by
  obtain ⟨hb, hc, h0, he, hp⟩ := g
  have hc' : ∀ c, c < n → col' c = 0 ∨ col' c = 3 ∨ col' c = bl ∨ col' c = 3 - bl := fun c hcn => by
    rcases h c with a | ⟨a, b, d⟩
    · rw [a]; exact hc c hcn
    · exact Or.inr (Or.inl b)
  have h0' : ∀ c, th_R n l0 l1 rg gl c → col' c ≠ 0 := fun c hr => by
    rcases h c with a | ⟨a, b, d⟩
    · rw [a]; exact h0 c hr
    · rw [b]; decide
  have he' : e → ∀ c, c < n → (col' c = 3 ∨ col' c = bl) → th_R n l0 l1 rg gl c := fun e1 c hcn z => by
    rcases h c with a | ⟨a, b, d⟩
    · rw [a] at z; exact he e1 c hcn z
    · exact hR c d (Or.inl e1)
  have hbl : (∀ c, c < n → col c ≠ bl) → ∀ c, c < n → col' c ≠ bl := fun q c hcn => by
    rcases h c with a | ⟨a, b, d⟩
    · rw [a]; exact q c hcn
    · rw [b]; exact th_3b hb
  have hpr : ∀ P : Nat → Prop, th_Pr bl col (th_ch n l0 l1) P (th_R n l0 l1 rg gl) → th_Pr bl col' (th_ch n l0 l1) P (th_R n l0 l1 rg gl) := fun P q =>
    th_Pr_mono q (fun x rx wx => ⟨rx, th_Gr_nw hb h wx⟩) (fun c pc _ _ => pc) (fun c d hcd _ => ⟨fun z => ⟨th_Gr_3 hb h z, hcd⟩, fun z => ⟨th_Gr_w h z, hcd⟩⟩)
  have same : (∀ c, S c → col c ≠ 3 - bl) → col' = col := fun q => funext fun c => by
    rcases h c with a | ⟨a, b, d⟩
    · exact a
    · exact absurd a (q c d)
  refine ⟨hb, hc', h0', he', ?_⟩
  rcases hp with ⟨p, q⟩ | ⟨p, q, r⟩ | ⟨p, q, r, s⟩ | ⟨p, q⟩ | ⟨p, s, hs, e1, q1, q2, q3⟩
  · rw [same (fun c hsc => (q c (hS c hsc)).2)]; exact Or.inl ⟨p, q⟩
  · exact Or.inr (Or.inl ⟨p, q, hbl r⟩)
  · exact Or.inr (Or.inr (Or.inl ⟨p, q, hbl r, hpr _ s⟩))
  · exact Or.inr (Or.inr (Or.inr (Or.inl ⟨p, hpr _ q⟩)))
  · rw [same (fun c hsc => q3 c (hR c hsc (Or.inr (by rw [p]; decide))))]
    exact Or.inr (Or.inr (Or.inr (Or.inr ⟨p, s, hs, e1, q1, q2, q3⟩)))
theorem th_G_ans {t : Nat} (ht : t < 3) (g : th_G e n l0 l1 rg gl ans ph bl sw col) (hw : ph = 3 → ∀ r c, r < 4 → c < n → rg (t * 4 + r) = nI c → col c ≠ 3 - bl) : th_G e n l0 l1 rg gl (ans ||| ((1 : Int32) <<< (nI t &&& 31))) ph bl sw col := by
  obtain ⟨hb, hc, h0, he, hp⟩ := g
  refine ⟨hb, hc, h0, he, ?_⟩
  rcases hp with ⟨p, q⟩ | ⟨p, q, r⟩ | ⟨p, q, r, s⟩ | ⟨p, q⟩ | ⟨p, q⟩
  · exact Or.inl ⟨p, q⟩
  · exact Or.inr (Or.inl ⟨p, (th_bt_set q ht).1, r⟩)
  · refine Or.inr (Or.inr (Or.inl ⟨p, (th_bt_set q ht).1, r, th_Pr_mono s (fun x rx wx => ⟨rx, wx⟩) (fun c pc wc _ => ?_) (fun c d hcd _ => ⟨fun z => ⟨z, hcd⟩, fun z => ⟨Or.inr z, hcd⟩⟩)⟩))
    rcases pc with ⟨hcn, ⟨u, k, hu, hk, nb, ee⟩ | gg⟩
    · refine ⟨hcn, Or.inl ⟨u, k, hu, hk, fun z => ?_, ee⟩⟩
      rcases ((th_bt_set q ht).2 u hu).mp z with z | z
      · exact nb z
      · subst z; exact hw p k c hk hcn ee wc
    · exact ⟨hcn, Or.inr gg⟩
  · exact Or.inr (Or.inr (Or.inr (Or.inl ⟨p, q⟩)))
  · exact Or.inr (Or.inr (Or.inr (Or.inr ⟨p, q⟩)))
theorem th_G_p0 (g : th_G e n l0 l1 rg gl ans 0 bl sw col) : ∀ c, c < n → col c ≠ 3 ∧ col c ≠ 3 - bl := by
  rcases g.2.2.2.2 with ⟨p, q⟩ | ⟨p, q, r⟩ | ⟨p, q, r, s⟩ | ⟨p, q⟩ | ⟨p, q⟩
  · exact q
  · exact absurd p (by decide)
  · exact absurd p (by decide)
  · exact absurd p (by decide)
  · exact absurd p (by decide)
theorem th_G_p12 (h : ph = 1 ∨ ph = 2) (g : th_G e n l0 l1 rg gl ans ph bl sw col) : th_AN ans ∧ (∀ c, c < n → col c ≠ bl) := by
  rcases g.2.2.2.2 with ⟨p, q⟩ | ⟨p, q, r⟩ | ⟨p, q, r, s⟩ | ⟨p, q⟩ | ⟨p, q⟩
  · exact absurd p (by rcases h with rfl | rfl <;> decide)
  · exact ⟨q, r⟩
  · exact absurd p (by rcases h with rfl | rfl <;> decide)
  · exact absurd p (by rcases h with rfl | rfl <;> decide)
  · exact absurd p (by rcases h with rfl | rfl <;> decide)
theorem th_G_p3 (g : th_G e n l0 l1 rg gl ans 3 bl sw col) : th_AN ans ∧ (∀ c, c < n → col c ≠ bl) ∧ th_Pr bl col (th_ch n l0 l1) (th_pd n rg gl ans) (th_R n l0 l1 rg gl) := by
  rcases g.2.2.2.2 with ⟨p, q⟩ | ⟨p, q, r⟩ | ⟨p, q, r, s⟩ | ⟨p, q⟩ | ⟨p, q⟩
  · exact absurd p (by decide)
  · exact absurd p (by decide)
  · exact ⟨q, r, s⟩
  · exact absurd p (by decide)
  · exact absurd p (by decide)
theorem th_G_p4 (g : th_G e n l0 l1 rg gl ans 4 bl sw col) : th_Pr bl col (th_ch n l0 l1) (fun _ => False) (th_R n l0 l1 rg gl) := by
  rcases g.2.2.2.2 with ⟨p, q⟩ | ⟨p, q, r⟩ | ⟨p, q, r, s⟩ | ⟨p, q⟩ | ⟨p, q⟩
  · exact absurd p (by decide)
  · exact absurd p (by decide)
  · exact absurd p (by decide)
  · exact q
  · exact absurd p (by decide)
theorem th_G_p5 (g : th_G e n l0 l1 rg gl ans 5 bl sw col) : ∃ s, s < n ∧ sw = nI s ∧ (∀ c, c < n → col c ≠ 3) ∧ (∀ c, c < s → col c ≠ 3 - bl) ∧ (∀ c, th_R n l0 l1 rg gl c → col c ≠ 3 - bl) := by
  rcases g.2.2.2.2 with ⟨p, q⟩ | ⟨p, q, r⟩ | ⟨p, q, r, s⟩ | ⟨p, q⟩ | ⟨p, q⟩
  · exact absurd p (by decide)
  · exact absurd p (by decide)
  · exact absurd p (by decide)
  · exact absurd p (by decide)
  · exact q
theorem th_G_flip (e' : Prop) (g : th_G e n l0 l1 rg gl ans 0 bl sw col) : th_G e' n l0 l1 rg gl 0 1 (3 - bl) sw col := by
  have q := th_G_p0 g
  obtain ⟨hb, hc, h0, he, hp⟩ := g
  refine ⟨th_ww hb, fun c hcn => ?_, h0, fun _ c hcn z => ?_, Or.inr (Or.inl ⟨Or.inl rfl, th_AN_0, fun c hcn => (q c hcn).2⟩)⟩
  · rw [th_www hb]
    rcases hc c hcn with a | a | a | a
    · exact Or.inl a
    · exact Or.inr (Or.inl a)
    · exact Or.inr (Or.inr (Or.inr a))
    · exact Or.inr (Or.inr (Or.inl a))
  · rcases z with z | z
    · exact absurd z (q c hcn).1
    · exact absurd z (q c hcn).2
theorem th_G_s12 (g : th_G e n l0 l1 rg gl ans 1 bl sw col) : th_G e n l0 l1 rg gl 0 2 bl sw col := by
  have q := th_G_p12 (Or.inl rfl) g
  exact ⟨g.1, g.2.1, g.2.2.1, g.2.2.2.1, Or.inr (Or.inl ⟨Or.inr rfl, th_AN_0, q.2⟩)⟩
theorem th_G_s23 (g : th_G e n l0 l1 rg gl ans 2 bl sw col) : th_G e n l0 l1 rg gl 0 3 bl sw col := by
  have q := th_G_p12 (Or.inr rfl) g
  obtain ⟨hb, hc, h0, he, hp⟩ := g
  refine ⟨hb, hc, h0, he, Or.inr (Or.inr (Or.inl ⟨rfl, th_AN_0, q.2, ?_⟩))⟩
  intro T hP hE x hx wx
  refine (hx (fun c => th_R n l0 l1 rg gl c ∧ (col c = 3 - bl → T c)) ⟨fun c hr => ⟨th_R_cl.1 c hr, fun wc => hP c ?_ wc⟩, fun c d hcd hS => ⟨th_R_cl.2 c d hcd hS.1, fun wd => hE c d hcd ?_ wd⟩⟩).2 wx
  · rcases hr with ⟨hcn, ⟨i, hi, ei⟩ | gg⟩
    · refine ⟨hcn, Or.inl ⟨i / 4, i % 4, by omega, by omega, th_bt_0 (by omega), ?_⟩⟩
      have : i / 4 * 4 + i % 4 = i := by omega
      rw [this]; exact ei
    · exact ⟨hcn, Or.inr gg⟩
  · rcases hc c hcd.1 with a | a | a | a
    · exact absurd a (h0 c hS.1)
    · exact Or.inl a
    · exact absurd a (q.2 c hcd.1)
    · exact Or.inr ⟨a, hS.2 a⟩
theorem th_G_s34 (g : th_G e n l0 l1 rg gl 7 3 bl sw col) (hw : ∀ i c, i < 2 → c < n → gl i = nI c → col c ≠ 3 - bl) : th_G e n l0 l1 rg gl 0 4 bl sw col := by
  have q := th_G_p3 g
  have b7 := (th_bt_7 q.1).mp rfl
  refine ⟨g.1, g.2.1, g.2.2.1, g.2.2.2.1, Or.inr (Or.inr (Or.inr (Or.inl ⟨rfl, th_Pr_mono q.2.2 (fun x rx wx => ⟨rx, wx⟩) (fun c pc wc _ => ?_) (fun c d hcd _ => ⟨fun z => ⟨z, hcd⟩, fun z => ⟨Or.inr z, hcd⟩⟩)⟩)))⟩
  rcases pc with ⟨hcn, ⟨u, k, hu, hk, nb, ee⟩ | ⟨i, hi, ei⟩⟩
  · exact nb (b7 u hu)
  · exact hw i c hi hcn ei wc
theorem th_G_blk {f : Nat} (g : th_G e n l0 l1 rg gl ans 4 bl sw col) (hf : f < n) (h3 : col f = 3) (hw : ∀ d, th_ch n l0 l1 f d → col d ≠ 3 - bl) : th_G e n l0 l1 rg gl ans 4 bl sw (upd col f bl) := by
  have q := th_G_p4 g
  obtain ⟨hb, hc, h0, he, hp⟩ := g
  refine ⟨hb, fun c hcn => ?_, fun c hr => ?_, fun e1 c hcn z => ?_, Or.inr (Or.inr (Or.inr (Or.inl ⟨rfl, th_Pr_mono q (fun x rx wx => ⟨rx, ?_⟩) (fun c pc _ _ => pc) (fun c d hcd wd => ?_)⟩)))⟩
  · by_cases z : c = f
    · rw [z, th_us]; exact Or.inr (Or.inr (Or.inl rfl))
    · rw [th_un z]; exact hc c hcn
  · by_cases z : c = f
    · rw [z, th_us]; exact th_b0' hb
    · rw [th_un z]; exact h0 c hr
  · by_cases y : c = f
    · rw [y]; exact he e1 f hf (Or.inl h3)
    · rw [th_un y] at z; exact he e1 c hcn z
  · by_cases z : x = f
    · rw [z, th_us] at wx; exact absurd wx (th_bw hb)
    · rw [th_un z] at wx; exact wx
  · have wd' : col d = 3 - bl := by
      by_cases z : d = f
      · rw [z, th_us] at wd; exact absurd wd (th_bw hb)
      · rw [th_un z] at wd; exact wd
    by_cases z : c = f
    · subst z; exact absurd wd' (hw d hcd)
    · rw [th_un z]
      exact ⟨fun y => ⟨y, hcd⟩, fun y => ⟨Or.inr y, hcd⟩⟩
theorem th_G_s45 (hn : 0 < n) (g : th_G e n l0 l1 rg gl ans 4 bl sw col) (h : ∀ c, c < n → col c ≠ 3) : th_G e n l0 l1 rg gl ans 5 bl 0 col := by
  have q := th_G_p4 g
  refine ⟨g.1, g.2.1, g.2.2.1, g.2.2.2.1, Or.inr (Or.inr (Or.inr (Or.inr ⟨rfl, 0, hn, rfl, h, fun c hc => absurd hc (Nat.not_lt_zero c), fun c hr wc => ?_⟩)))⟩
  refine q (fun _ => False) (fun c pc _ => pc) (fun c d hcd z _ => ?_) c hr wc
  rcases z with z | z
  · exact h c hcd.1 z
  · exact z.2
theorem th_G_sw {s : Nat} (g : th_G e n l0 l1 rg gl ans 5 bl (nI s) col) (hn : n ≤ 16) (hs : s < n) (h : (col s = 3 - bl ∧ col' = upd col s 0) ∨ (col s ≠ 3 - bl ∧ col' = col)) : (s + 1 = n → th_G e n l0 l1 rg gl ans 0 bl 0 col') ∧ (s + 1 < n → th_G e n l0 l1 rg gl ans 5 bl (nI (s + 1)) col') := by
  obtain ⟨s', hs', es, q1, q2, q3⟩ := th_G_p5 g
  have e1 : s = s' := th_inj (by omega) (by omega) es
  subst e1
  obtain ⟨hb, hc, h0, he, hp⟩ := g
  have key : ∀ c, col' c = col c ∨ (c = s ∧ col' c = 0 ∧ col s = 3 - bl) := fun c => by
    rcases h with ⟨a, b⟩ | ⟨a, b⟩
    · by_cases z : c = s
      · exact Or.inr ⟨z, by rw [b, z, th_us], a⟩
      · exact Or.inl (by rw [b, th_un z])
    · exact Or.inl (by rw [b])
  have ks : col' s ≠ 3 - bl := by
    rcases h with ⟨a, b⟩ | ⟨a, b⟩
    · rw [b, th_us]; exact fun z => th_w0 hb z.symm
    · rw [b]; exact a
  have hc' : ∀ c, c < n → col' c = 0 ∨ col' c = 3 ∨ col' c = bl ∨ col' c = 3 - bl := fun c hcn => by
    rcases key c with a | ⟨_, a, _⟩
    · rw [a]; exact hc c hcn
    · exact Or.inl a
  have h0' : ∀ c, th_R n l0 l1 rg gl c → col' c ≠ 0 := fun c hr => by
    rcases key c with a | ⟨a, _, b⟩
    · rw [a]; exact h0 c hr
    · subst a; exact absurd b (q3 c hr)
  have he' : e → ∀ c, c < n → (col' c = 3 ∨ col' c = bl) → th_R n l0 l1 rg gl c := fun e1 c hcn z => by
    rcases key c with a | ⟨_, a, _⟩
    · rw [a] at z; exact he e1 c hcn z
    · rw [a] at z
      rcases z with z | z
      · exact absurd z (by decide)
      · exact absurd z.symm (th_b0' hb)
  have n3 : ∀ c, c < n → col' c ≠ 3 := fun c hcn => by
    rcases key c with a | ⟨_, a, _⟩
    · rw [a]; exact q1 c hcn
    · rw [a]; decide
  have nw : ∀ c, c < s + 1 → col' c ≠ 3 - bl := fun c hcs => by
    by_cases z : c = s
    · rw [z]; exact ks
    · rcases key c with a | ⟨a, _, _⟩
      · rw [a]; exact q2 c (by omega)
      · exact absurd a z
  have nr : ∀ c, th_R n l0 l1 rg gl c → col' c ≠ 3 - bl := fun c hr => by
    rcases key c with a | ⟨a, _, _⟩
    · rw [a]; exact q3 c hr
    · rw [a]; exact ks
  exact ⟨fun z => ⟨hb, hc', h0', he', Or.inl ⟨rfl, fun c hcn => ⟨n3 c hcn, nw c (by omega)⟩⟩⟩, fun z => ⟨hb, hc', h0', he', Or.inr (Or.inr (Or.inr (Or.inr ⟨rfl, s + 1, z, rfl, n3, nw, nr⟩)))⟩⟩
end
end
section
/-! what the threads do keeps the collector's invariant -/
section
variable {n : Nat} {l0 l1 rg gl l0' l1' rg' gl' : Nat → Int32} {ans ph bl sw : Int32} {col : Nat → Int32}
theorem th_R_le (h1 : ∀ i c, i < 12 → c < n → rg' i = nI c → th_R n l0 l1 rg gl c) (h2 : ∀ i c, i < 2 → c < n → gl' i = nI c → th_R n l0 l1 rg gl c) (h3 : ∀ c d, th_ch n l0' l1' c d → th_R n l0 l1 rg gl c → th_R n l0 l1 rg gl d) {c : Nat} (h : th_R n l0' l1' rg' gl' c) : th_R n l0 l1 rg gl c := by
  refine h (th_R n l0 l1 rg gl) ⟨fun d hd => ?_, h3⟩
  rcases hd with ⟨hdn, ⟨i, hi, ei⟩ | ⟨i, hi, ei⟩⟩
  · exact h1 i d hi hdn ei
  · exact h2 i d hi hdn ei
theorem th_G_mut (g : th_G False n l0 l1 rg gl ans ph bl sw col)
    (hR : ∀ c, th_R n l0' l1' rg' gl' c → th_R n l0 l1 rg gl c)
    (hP : ph = 3 → ∀ c, th_pd n rg gl ans c → col c = 3 - bl → th_pd n rg' gl' ans c)
    (hE : ∀ c d, th_ch n l0 l1 c d → col d = 3 - bl → th_ch n l0' l1' c d) : th_G False n l0' l1' rg' gl' ans ph bl sw col := by
  obtain ⟨hb, hc, h0, he, hp⟩ := g
  refine ⟨hb, hc, fun c r => h0 c (hR c r), fun z => z.elim, ?_⟩
  rcases hp with ⟨p, q⟩ | ⟨p, q, r⟩ | ⟨p, q, r, s⟩ | ⟨p, q⟩ | ⟨p, s, hs, e1, q1, q2, q3⟩
  · exact Or.inl ⟨p, q⟩
  · exact Or.inr (Or.inl ⟨p, q, r⟩)
  · exact Or.inr (Or.inr (Or.inl ⟨p, q, r, th_Pr_mono s (fun x rx wx => ⟨hR x rx, wx⟩) (fun c pc wc _ => hP p c pc wc) (fun c d hcd wd => ⟨fun z => ⟨z, hE c d hcd wd⟩, fun z => ⟨Or.inr z, hE c d hcd wd⟩⟩)⟩))
  · exact Or.inr (Or.inr (Or.inr (Or.inl ⟨p, th_Pr_mono q (fun x rx wx => ⟨hR x rx, wx⟩) (fun c pc _ _ => pc) (fun c d hcd wd => ⟨fun z => ⟨z, hE c d hcd wd⟩, fun z => ⟨Or.inr z, hE c d hcd wd⟩⟩)⟩)))
  · exact Or.inr (Or.inr (Or.inr (Or.inr ⟨p, s, hs, e1, q1, q2, fun c r => q3 c (hR c r)⟩)))
theorem th_G_new {c0 : Nat} {k : Int32} (g : th_G False n l0 l1 rg gl ans ph bl sw col) (hc0 : c0 < n) (hf : col c0 = 0)
    (hk1 : (ph = 0 ∨ ph = 5) → k = bl) (hk2 : ¬ (ph = 0 ∨ ph = 5) → k = 3)
    (hR : ∀ c, th_R n l0' l1' rg' gl' c → th_R n l0 l1 rg gl c ∨ c = c0)
    (hP : ph = 3 → ∀ c, th_pd n rg gl ans c → th_pd n rg' gl' ans c)
    (hE : ∀ c d, th_ch n l0 l1 c d → c ≠ c0 → th_ch n l0' l1' c d) : th_G False n l0' l1' rg' gl' ans ph bl sw (upd col c0 k) := by
  obtain ⟨hb, hc, h0, he, hp⟩ := g
  have kk : k = bl ∨ k = 3 := by
    by_cases z : ph = 0 ∨ ph = 5
    · exact Or.inl (hk1 z)
    · exact Or.inr (hk2 z)
  have kw : k ≠ 3 - bl := by
    rcases kk with z | z
    · rw [z]; exact th_bw hb
    · rw [z]; exact th_3w hb
  have pr : k = 3 → ∀ P P' : Nat → Prop, (∀ c, P c → P' c) → th_Pr bl col (th_ch n l0 l1) P (th_R n l0 l1 rg gl) → th_Pr bl (upd col c0 k) (th_ch n l0' l1') P' (th_R n l0' l1' rg' gl') := fun k3 P P' hPP s => by
    refine th_Pr_mono s (fun x rx wx => ?_) (fun c pc _ _ => hPP c pc) (fun c d hcd wd => ?_)
    · by_cases z : x = c0
      · rw [z, th_us] at wx; exact absurd wx kw
      · rw [th_un z] at wx
        rcases hR x rx with y | y
        · exact ⟨y, wx⟩
        · exact absurd y z
    · by_cases z : c = c0
      · rw [z]
        exact ⟨fun y => absurd (hf.symm.trans y) (by decide), fun y => absurd (hf.symm.trans y).symm (th_w0 hb)⟩
      · rw [th_un z]
        exact ⟨fun y => ⟨y, hE c d hcd z⟩, fun y => ⟨Or.inr y, hE c d hcd z⟩⟩
  refine ⟨hb, fun c hcn => ?_, fun c r => ?_, fun z => z.elim, ?_⟩
  · by_cases z : c = c0
    · rw [z, th_us]
      rcases kk with y | y
      · exact Or.inr (Or.inr (Or.inl y))
      · exact Or.inr (Or.inl y)
    · rw [th_un z]; exact hc c hcn
  · by_cases z : c = c0
    · rw [z, th_us]
      rcases kk with y | y
      · rw [y]; exact th_b0' hb
      · rw [y]; decide
    · rw [th_un z]
      rcases hR c r with y | y
      · exact h0 c y
      · exact absurd y z
  · rcases hp with ⟨p, q⟩ | ⟨p, q, r⟩ | ⟨p, q, r, s⟩ | ⟨p, q⟩ | ⟨p, s, hs, e1, q1, q2, q3⟩
    · refine Or.inl ⟨p, fun c hcn => ?_⟩
      have kb := hk1 (Or.inl p)
      by_cases z : c = c0
      · rw [z, th_us, kb]; exact ⟨fun y => th_3b hb y.symm, th_bw hb⟩
      · rw [th_un z]; exact q c hcn
    · have k3 := hk2 (by rcases p with p | p <;> rw [p] <;> decide)
      refine Or.inr (Or.inl ⟨p, q, fun c hcn => ?_⟩)
      by_cases z : c = c0
      · rw [z, th_us, k3]; exact th_3b hb
      · rw [th_un z]; exact r c hcn
    · have k3 := hk2 (by rw [p]; decide)
      refine Or.inr (Or.inr (Or.inl ⟨p, q, fun c hcn => ?_, pr k3 _ _ (hP p) s⟩))
      by_cases z : c = c0
      · rw [z, th_us, k3]; exact th_3b hb
      · rw [th_un z]; exact r c hcn
    · have k3 := hk2 (by rw [p]; decide)
      exact Or.inr (Or.inr (Or.inr (Or.inl ⟨p, pr k3 _ _ (fun _ z => z) q⟩)))
    · have kb := hk1 (Or.inr p)
      refine Or.inr (Or.inr (Or.inr (Or.inr ⟨p, s, hs, e1, fun c hcn => ?_, fun c hcs => ?_, fun c hr => ?_⟩)))
      · by_cases z : c = c0
        · rw [z, th_us, kb]; exact fun y => th_3b hb y.symm
        · rw [th_un z]; exact q1 c hcn
      · by_cases z : c = c0
        · rw [z, th_us]; exact kw
        · rw [th_un z]; exact q2 c hcs
      · by_cases z : c = c0
        · rw [z, th_us]; exact kw
        · rw [th_un z]
          rcases hR c hr with y | y
          · exact q3 c y
          · exact absurd y z
/-- a register of a thread that has answered isn't pending -/
theorem th_pd_rg (h : ∀ i, i < 12 → ¬ th_bt ans (i / 4) → rg' i = rg i) {c : Nat} (p : th_pd n rg gl ans c) : th_pd n rg' gl ans c := by
  rcases p with ⟨hcn, ⟨u, k, hu, hk, nb, ee⟩ | gg⟩
  · refine ⟨hcn, Or.inl ⟨u, k, hu, hk, nb, ?_⟩⟩
    have ne : (u * 4 + k) / 4 = u := by omega
    rw [h (u * 4 + k) (by omega) (by rw [ne]; exact nb)]; exact ee
  · exact ⟨hcn, Or.inr gg⟩
end
end
section
/-! walks of the component's own methods -/
theorem th_ok_lt {n c : Nat} {x : Int32} (o : th_ok n x) (hn : n ≤ 16) (hc : c < 16) (e : x = nI c) : c < n := by
  rcases o with o | ⟨d, hd, o⟩
  · exact absurd (o.symm.trans e) (th_neg (by omega))
  · have : d = c := th_inj (by omega) (by omega) (o.symm.trans e)
    omega
theorem th_G_an {e : Prop} {n : Nat} {l0 l1 rg gl : Nat → Int32} {ans ph bl sw : Int32} {col : Nat → Int32} (h : ph = 1 ∨ ph = 2 ∨ ph = 3) (g : th_G e n l0 l1 rg gl ans ph bl sw col) : th_AN ans := by
  rcases h with h | h | h
  · exact (th_G_p12 (Or.inl h) g).1
  · exact (th_G_p12 (Or.inr h) g).1
  · subst h; exact (th_G_p3 g).1
theorem th_G_ph {e : Prop} {n : Nat} {l0 l1 rg gl : Nat → Int32} {ans ph bl sw : Int32} {col : Nat → Int32} (g : th_G e n l0 l1 rg gl ans ph bl sw col) : ph = 0 ∨ (ph = 1 ∨ ph = 2 ∨ ph = 3) ∨ ph = 4 ∨ ph = 5 := by
  rcases g.2.2.2.2 with ⟨p, q⟩ | ⟨p | p, q, r⟩ | ⟨p, q, r, s⟩ | ⟨p, q⟩ | ⟨p, q⟩
  · exact Or.inl p
  · exact Or.inr (Or.inl (Or.inl p))
  · exact Or.inr (Or.inl (Or.inr (Or.inl p)))
  · exact Or.inr (Or.inl (Or.inr (Or.inr p)))
  · exact Or.inr (Or.inr (Or.inl p))
  · exact Or.inr (Or.inr (Or.inr p))
section
variable (cells ans ph bl sw cnt : Int32) (col l0 l1 val tag rg gl st : Nat → Int32)
theorem th_w_reach {x : Int32} (hx : th_ok 16 x) (hb : bl = 1 ∨ bl = 2) : ∃ col', th_Gr bl col col' (fun c => c < 16 ∧ x = nI c) ∧ (∀ c, c < 16 → x = nI c → col' c ≠ 3 - bl) ∧ ∀ post : SX → Prop, post (cells, ans, ph, bl, sw, cnt, col', l0, l1, val, tag, rg, gl, st) → wpX_reach post (cells, ans, ph, bl, sw, cnt, col, l0, l1, val, tag, rg, gl, st) x := by
  rcases hx with rfl | ⟨c, hc, rfl⟩
  · exact ⟨col, th_Gr_rf, fun c hc z => absurd z (th_neg (by omega)), fun post h => br_t (by decide) h⟩
  · have cl : (nI c).toNatClampNeg = c := nI_clamp (by omega)
    by_cases w : col c = 3 - bl
    · refine ⟨upd col c 3, fun d => ?_, fun d hd ed => ?_, fun post h => br_f (nI_pos (by omega)) ⟨vp_in_nI hc (by decide), br_t (by rw [cl]; exact w) ⟨vp_in_nI hc (by decide), nm_r (e' := upd col c 3) (by rw [cl]) h⟩⟩⟩
      · by_cases z : d = c
        · subst z; exact Or.inr ⟨w, th_us, hc, rfl⟩
        · exact Or.inl (th_un z)
      · have y : c = d := th_inj (by omega) (by omega) ed
        rw [← y, th_us]; exact th_3w hb
    · refine ⟨col, th_Gr_rf, fun d hd ed => ?_, fun post h => br_f (nI_pos (by omega)) ⟨vp_in_nI hc (by decide), br_f (by rw [cl]; exact w) h⟩⟩
      have y : c = d := th_inj (by omega) (by omega) ed
      rw [← y]; exact w
theorem th_w_ansl {t : Nat} (ht : t < 3) (hb : bl = 1 ∨ bl = 2) (hr : ∀ i, i < 12 → th_ok 16 (rg i)) : ∀ (k r : Nat) (col : Nat → Int32), r + k = 4 → ∃ col', th_Gr bl col col' (fun c => c < 16 ∧ ∃ i, i < 4 ∧ rg (t * 4 + i) = nI c) ∧ (∀ i c, r ≤ i → i < 4 → c < 16 → rg (t * 4 + i) = nI c → col' c ≠ 3 - bl) ∧ ∀ post : SX → Prop, post (cells, ans, ph, bl, sw, cnt, col', l0, l1, val, tag, rg, gl, st) → wX_answer_61 post (nI t) (k + 1) (nI r) cells ans ph bl sw cnt col l0 l1 val tag rg gl st := by
  intro k
  induction k with
  | zero =>
    intro r col hk
    have e4 : r = 4 := by omega
    subst e4
    exact ⟨col, th_Gr_rf, fun i c h1 h2 => by omega, fun post h => br_t (by decide) h⟩
  | succ k ih =>
    intro r col hk
    obtain ⟨col1, g1, w1, x1⟩ := th_w_reach cells ans ph bl sw cnt col l0 l1 val tag rg gl st (hr (t * 4 + r) (by omega)) hb
    obtain ⟨col2, g2, w2, x2⟩ := ih (r + 1) col1 (by omega)
    have cl : (nI t * 4 + nI r).toNatClampNeg = t * 4 + r := by rw [th_ix]; exact nI_clamp (by omega)
    have vi : vp_in (nI t * 4 + nI r) 12 := by rw [th_ix]; exact vp_in_nI (by omega) (by decide)
    refine ⟨col2, th_Gr_tr hb (th_Gr_sub g1 (fun c z => ⟨z.1, r, by omega, z.2⟩)) g2, fun i c h1 h2 h3 h4 => ?_, fun post h => br_f (nI_ge (a := r) (b := 4) (by omega) (by decide)) ⟨vi, ?_⟩⟩
    · by_cases z : i = r
      · subst z; exact fun y => w1 c h3 h4 (th_Gr_nw hb g2 y)
      · exact w2 i c (by omega) h2 h3 h4
    · rw [cl]
      exact x1 _ (nm_r (nI_1 r) (x2 post h))
theorem th_w_answer {e : Prop} {n t : Nat} (ht : t < 3) (hn : n ≤ 16) (hh : th_hp n l0 l1 rg gl) (g : th_G e n l0 l1 rg gl ans ph bl sw col) : ∃ ans' col' st', th_G e n l0 l1 rg gl ans' ph bl sw col' ∧ ((ph = 1 ∨ ph = 2 ∨ ph = 3) → th_AN ans' ∧ th_bt ans' t ∧ ∀ u, u < 3 → th_bt ans u → th_bt ans' u) ∧ (¬ (ph = 1 ∨ ph = 2 ∨ ph = 3) → ans' = ans ∧ col' = col) ∧ ∀ post : SX → Prop, post (cells, ans', ph, bl, sw, cnt, col', l0, l1, val, tag, rg, gl, st') → wpX_answer post (cells, ans, ph, bl, sw, cnt, col, l0, l1, val, tag, rg, gl, st) (nI t) := by
  by_cases h13 : ph = 1 ∨ ph = 2 ∨ ph = 3
  · have q1 : ¬ ph < 1 := by rcases h13 with rfl | rfl | rfl <;> decide
    have q3 : ¬ 3 < ph := by rcases h13 with rfl | rfl | rfl <;> decide
    have an : th_AN ans := th_G_an h13 g
    by_cases b : th_bt ans t
    · exact ⟨ans, col, st, g, fun _ => ⟨an, b, fun _ _ z => z⟩, fun z => absurd h13 z, fun post h => br_f q1 (br_f q3 (br_t b h))⟩
    · have S := th_bt_set an ht
      have V : vp_in (nI t) 3 := vp_in_nI ht (by decide)
      have cl : (nI t).toNatClampNeg = t := nI_clamp (by omega)
      have fin : ((ph = 1 ∨ ph = 2 ∨ ph = 3) → th_AN (ans ||| ((1 : Int32) <<< (nI t &&& 31))) ∧ th_bt (ans ||| ((1 : Int32) <<< (nI t &&& 31))) t ∧ ∀ u, u < 3 → th_bt ans u → th_bt (ans ||| ((1 : Int32) <<< (nI t &&& 31))) u) := fun _ => ⟨S.1, (S.2 t ht).mpr (Or.inr rfl), fun u hu z => (S.2 u hu).mpr (Or.inl z)⟩
      by_cases p3 : ph = 3
      · obtain ⟨col', g1, w1, x1⟩ := th_w_ansl cells (ans ||| ((1 : Int32) <<< (nI t &&& 31))) ph bl sw cnt l0 l1 val tag rg gl (upd st t ph) ht g.1 (fun i hi => th_ok_mono hn (hh.2.1 i hi)) 4 0 col rfl
        have g2 : th_G e n l0 l1 rg gl ans ph bl sw col' := th_G_gr g g1 (fun c z => by
            obtain ⟨a, i, hi, ei⟩ := z
            exact th_ok_lt (hh.2.1 (t * 4 + i) (by omega)) hn a ei) (fun c z _ => by
            obtain ⟨a, i, hi, ei⟩ := z
            exact th_R_reg (i := t * 4 + i) (by omega) (th_ok_lt (hh.2.1 (t * 4 + i) (by omega)) hn a ei) ei)
        exact ⟨ans ||| ((1 : Int32) <<< (nI t &&& 31)), col', upd st t ph, th_G_ans ht g2 (fun _ r c hr hc er => w1 r c (Nat.zero_le _) hr (by omega) er), fin, fun z => absurd h13 z, fun post h => br_f q1 (br_f q3 (br_f b (nm_e ⟨V, nm_r (e' := upd st t ph) (by rw [cl]) (br_t p3 ⟨5, x1 post h⟩)⟩)))⟩
      · exact ⟨ans ||| ((1 : Int32) <<< (nI t &&& 31)), col, upd st t ph, th_G_ans ht g (fun z => absurd z p3), fin, fun z => absurd h13 z, fun post h => br_f q1 (br_f q3 (br_f b (nm_e ⟨V, nm_r (e' := upd st t ph) (by rw [cl]) (br_f p3 h)⟩)))⟩
  · refine ⟨ans, col, st, g, fun z => absurd z h13, fun _ => ⟨rfl, rfl⟩, fun post h => ?_⟩
    by_cases q1 : ph < 1
    · exact br_t q1 h
    · have q3 : 3 < ph := by
        rcases th_G_ph g with p | p | p | p
        · exact absurd (by rw [p]; decide) q1
        · exact absurd p h13
        · rw [p]; decide
        · rw [p]; decide
      exact br_f q1 (br_t q3 h)
theorem th_w_watch {t : Nat} (ht : t < 3) {x y : Int32} (hx : th_ok 16 x) (hy : th_ok 16 y) (hb : bl = 1 ∨ bl = 2) : ∃ col', th_Gr bl col col' (fun c => c < 16 ∧ (x = nI c ∨ y = nI c)) ∧ (∀ c, c < 16 → x = nI c → col' c ≠ 3 - bl) ∧ ∀ post : SX → Prop, post (cells, ans, ph, bl, sw, cnt, col', l0, l1, val, tag, rg, gl, st) → wpX_watch post (cells, ans, ph, bl, sw, cnt, col, l0, l1, val, tag, rg, gl, st) (nI t) x y := by
  obtain ⟨col1, g1, w1, x1⟩ := th_w_reach cells ans ph bl sw cnt col l0 l1 val tag rg gl st hx hb
  obtain ⟨col2, g2, w2, x2⟩ := th_w_reach cells ans ph bl sw cnt col1 l0 l1 val tag rg gl st hy hb
  have V : vp_in (nI t) 3 := vp_in_nI ht (by decide)
  have G1 : th_Gr bl col col1 (fun c => c < 16 ∧ (x = nI c ∨ y = nI c)) := th_Gr_sub g1 (fun c z => ⟨z.1, Or.inl z.2⟩)
  have G2 : th_Gr bl col col2 (fun c => c < 16 ∧ (x = nI c ∨ y = nI c)) := th_Gr_tr hb G1 (th_Gr_sub g2 (fun c z => ⟨z.1, Or.inr z.2⟩))
  have W2 : ∀ c, c < 16 → x = nI c → col2 c ≠ 3 - bl := fun c hc z y => w1 c hc z (th_Gr_nw hb g2 y)
  by_cases s1 : st (nI t).toNatClampNeg = 1
  · exact ⟨col2, G2, W2, fun post h => by
      unfold wpX_watch
      refine x1 _ ⟨V, br_t s1 ?_⟩
      unfold wX_watch_25
      exact x2 _ h⟩
  · by_cases s2 : st (nI t).toNatClampNeg = 2
    · exact ⟨col2, G2, W2, fun post h => by
        unfold wpX_watch
        refine x1 _ ⟨V, br_f s1 ⟨V, br_t s2 ?_⟩⟩
        unfold wX_watch_25
        exact x2 _ h⟩
    · exact ⟨col1, G1, w1, fun post h => by
        unfold wpX_watch
        exact x1 _ ⟨V, br_f s1 ⟨V, br_f s2 h⟩⟩⟩
end
end
section
/-! walks of the collector: one step, a drive, a whole collection -/
noncomputable def th_mu (n : Nat) (ph bl sw : Int32) (col : Nat → Int32) : Nat :=
  if ph = 0 then 0 else if ph = 5 then n - sw.toNatClampNeg else if ph = 4 then 17 + th_cn (fun c => col c = 3 ∨ col c = 3 - bl) n else if ph = 3 then 34 else if ph = 2 then 35 else 36
section
variable (n : Nat) (bl sw : Int32) (col : Nat → Int32)
theorem th_mu0 : th_mu n 0 bl sw col = 0 := by unfold th_mu; rw [if_pos rfl]
theorem th_mu5 : th_mu n 5 bl sw col = n - sw.toNatClampNeg := by unfold th_mu; rw [if_neg (by decide), if_pos rfl]
theorem th_mu4 : th_mu n 4 bl sw col = 17 + th_cn (fun c => col c = 3 ∨ col c = 3 - bl) n := by unfold th_mu; rw [if_neg (by decide), if_neg (by decide), if_pos rfl]
theorem th_mu3 : th_mu n 3 bl sw col = 34 := by unfold th_mu; rw [if_neg (by decide), if_neg (by decide), if_neg (by decide), if_pos rfl]
theorem th_mu2 : th_mu n 2 bl sw col = 35 := by unfold th_mu; rw [if_neg (by decide), if_neg (by decide), if_neg (by decide), if_neg (by decide), if_pos rfl]
theorem th_mu1 : th_mu n 1 bl sw col = 36 := by unfold th_mu; rw [if_neg (by decide), if_neg (by decide), if_neg (by decide), if_neg (by decide), if_neg (by decide)]
end
theorem th_mu13 {n : Nat} {ph bl sw : Int32} {col col' : Nat → Int32} (h : ph = 1 ∨ ph = 2 ∨ ph = 3) : th_mu n ph bl sw col' = th_mu n ph bl sw col := by
  rcases h with rfl | rfl | rfl
  · rw [th_mu1, th_mu1]
  · rw [th_mu2, th_mu2]
  · rw [th_mu3, th_mu3]
theorem th_mu_le {e : Prop} {n : Nat} {l0 l1 rg gl : Nat → Int32} {ans ph bl sw : Int32} {col : Nat → Int32} (hn : n ≤ 16) (g : th_G e n l0 l1 rg gl ans ph bl sw col) : th_mu n ph bl sw col ≤ 36 := by
  rcases th_G_ph g with rfl | (rfl | rfl | rfl) | rfl | rfl
  · rw [th_mu0]; omega
  · rw [th_mu1]; omega
  · rw [th_mu2]; omega
  · rw [th_mu3]; omega
  · rw [th_mu4]
    have := th_cn_le (fun c => col c = 3 ∨ col c = 3 - bl) n
    omega
  · rw [th_mu5]; omega
theorem th_mu_z {e : Prop} {n : Nat} {l0 l1 rg gl : Nat → Int32} {ans ph bl sw : Int32} {col : Nat → Int32} (hn : n ≤ 16) (g : th_G e n l0 l1 rg gl ans ph bl sw col) (h : th_mu n ph bl sw col ≤ 0) : ph = 0 := by
  rcases th_G_ph g with p | (rfl | rfl | rfl) | rfl | rfl
  · exact p
  · rw [th_mu1] at h; omega
  · rw [th_mu2] at h; omega
  · rw [th_mu3] at h; omega
  · rw [th_mu4] at h; omega
  · obtain ⟨s, hs, es, _⟩ := th_G_p5 g
    rw [th_mu5, es, nI_clamp (by omega)] at h; omega
section
variable (cells ans ph bl sw cnt : Int32) (col l0 l1 val tag rg gl st : Nat → Int32)
theorem th_w_signal {e : Prop} {n : Nat} (hn : n ≤ 16) (hh : th_hp n l0 l1 rg gl) (h13 : ph = 1 ∨ ph = 2 ∨ ph = 3) (g : th_G e n l0 l1 rg gl ans ph bl sw col) : ∃ ans' ph' col', th_G e n l0 l1 rg gl ans' ph' bl sw col' ∧ (ans = 7 → th_mu n ph' bl sw col' < th_mu n ph bl sw col) ∧ ∀ post : SX → Prop, post (cells, ans', ph', bl, sw, cnt, col', l0, l1, val, tag, rg, gl, st) → wpX_signalStep post (cells, ans, ph, bl, sw, cnt, col, l0, l1, val, tag, rg, gl, st) := by
  by_cases h7 : ans = 7
  · rcases h13 with rfl | rfl | rfl
    · exact ⟨0, 2, col, th_G_s12 g, fun _ => by rw [th_mu1, th_mu2]; omega, fun post h => br_t h7 (nm_r (e' := 2) (by decide) (br_f (by decide) h))⟩
    · exact ⟨0, 3, col, th_G_s23 g, fun _ => by rw [th_mu2, th_mu3]; omega, fun post h => br_t h7 (nm_r (e' := 3) (by decide) (br_f (by decide) h))⟩
    · have hb := g.1
      obtain ⟨col1, g1, w1, x1⟩ := th_w_reach cells 0 4 bl sw cnt col l0 l1 val tag rg gl st (th_ok_mono hn (hh.2.2 0 (by decide))) hb
      obtain ⟨col2, g2, w2, x2⟩ := th_w_reach cells 0 4 bl sw cnt col1 l0 l1 val tag rg gl st (th_ok_mono hn (hh.2.2 1 (by decide))) hb
      have G : th_Gr bl col col2 (fun c => c < n ∧ ∃ i, i < 2 ∧ gl i = nI c) := th_Gr_tr hb (th_Gr_sub g1 (fun c z => ⟨th_ok_lt (hh.2.2 0 (by decide)) hn z.1 z.2, 0, by decide, z.2⟩)) (th_Gr_sub g2 (fun c z => ⟨th_ok_lt (hh.2.2 1 (by decide)) hn z.1 z.2, 1, by decide, z.2⟩))
      have G2 : th_G e n l0 l1 rg gl ans 3 bl sw col2 := th_G_gr g G (fun c z => z.1) (fun c z _ => by
        obtain ⟨a, i, hi, ei⟩ := z
        exact th_R_glo hi a ei)
      subst h7
      refine ⟨0, 4, col2, th_G_s34 G2 (fun i c hi hc ei => ?_), fun _ => ?_, fun post h => br_t rfl (nm_r (e' := 4) (by decide) (br_t rfl (x1 _ (x2 _ h))))⟩
      · have z : i = 0 ∨ i = 1 := by omega
        rcases z with rfl | rfl
        · exact fun y => w1 c (by omega) ei (th_Gr_nw hb g2 y)
        · exact w2 c (by omega) ei
      · rw [th_mu3, th_mu4]
        have := th_cn_le (fun c => col2 c = 3 ∨ col2 c = 3 - bl) n
        omega
  · exact ⟨ans, ph, col, g, fun z => absurd z h7, fun post h => br_f h7 h⟩
theorem th_w_trl {n : Nat} (hn : n ≤ 16) : ∀ (k i : Nat) (x : Int32), i + k = n → ((x = -1 ∧ ∀ c, c < i → col c ≠ 3) ∨ ∃ c, c < n ∧ col c = 3 ∧ x = nI c) → ∃ x', ((x' = -1 ∧ ∀ c, c < n → col c ≠ 3) ∨ ∃ c, c < n ∧ col c = 3 ∧ x' = nI c) ∧ ∀ post : SX → Prop, wX_traceStep_4 post (nI n) ans ph bl sw cnt col l0 l1 val tag rg gl st 1 x' (nI n) → wX_traceStep_4 post (nI n) ans ph bl sw cnt col l0 l1 val tag rg gl st (k + 1) x (nI i) := by
  intro k
  induction k with
  | zero =>
    intro i x hk h
    have e1 : i = n := by omega
    subst e1
    exact ⟨x, h, fun post z => z⟩
  | succ k ih =>
    intro i x hk h
    have nl : ¬ nI n ≤ nI i := nI_ge (by omega) (by omega)
    have vi : vp_in (nI i) 16 := vp_in_nI (by omega) (by decide)
    have cl : (nI i).toNatClampNeg = i := nI_clamp (by omega)
    by_cases c3 : col i = 3
    · obtain ⟨x', hx', X⟩ := ih (i + 1) (nI i) (by omega) (Or.inr ⟨i, by omega, c3, rfl⟩)
      exact ⟨x', hx', fun post z => br_f nl ⟨vi, br_t (by rw [cl]; exact c3) (nm_r (nI_1 i) (X post z))⟩⟩
    · obtain ⟨x', hx', X⟩ := ih (i + 1) x (by omega) (by
        rcases h with ⟨a, b⟩ | h
        · refine Or.inl ⟨a, fun c hc => ?_⟩
          by_cases z : c = i
          · rw [z]; exact c3
          · exact b c (by omega)
        · exact Or.inr h)
      exact ⟨x', hx', fun post z => br_f nl ⟨vi, br_f (by rw [cl]; exact c3) (nm_r (nI_1 i) (X post z))⟩⟩
theorem th_w_trace {e : Prop} {n : Nat} (h0 : 0 < n) (hn : n ≤ 16) (hh : th_hp n l0 l1 rg gl) (g : th_G e n l0 l1 rg gl ans 4 bl sw col) : ∃ ph' sw' col', th_G e n l0 l1 rg gl ans ph' bl sw' col' ∧ th_mu n ph' bl sw' col' < th_mu n 4 bl sw col ∧ ∀ post : SX → Prop, post (nI n, ans, ph', bl, sw', cnt, col', l0, l1, val, tag, rg, gl, st) → wpX_traceStep post (nI n, ans, 4, bl, sw, cnt, col, l0, l1, val, tag, rg, gl, st) := by
  obtain ⟨x', hx', X⟩ := th_w_trl ans 4 bl sw cnt col l0 l1 val tag rg gl st hn n 0 (-1) (by omega) (Or.inl ⟨rfl, fun c hc => absurd hc (Nat.not_lt_zero c)⟩)
  have lf : nI n ≤ nI n := nI_le (Nat.le_refl n) (by omega)
  rcases hx' with ⟨rfl, ng⟩ | ⟨f, hf, cf, rfl⟩
  · refine ⟨5, 0, col, th_G_s45 h0 g ng, ?_, fun post h => Exists.intro (n + 1) (X post (br_t lf (br_f (by decide) h)))⟩
    rw [th_mu4, th_mu5]
    omega
  · have hb := g.1
    obtain ⟨col1, g1, w1, x1⟩ := th_w_reach (nI n) ans 4 bl sw cnt col l0 l1 val tag rg gl st (th_ok_mono hn (hh.1 f hf).1) hb
    obtain ⟨col2, g2, w2, x2⟩ := th_w_reach (nI n) ans 4 bl sw cnt col1 l0 l1 val tag rg gl st (th_ok_mono hn (hh.1 f hf).2) hb
    have G : th_Gr bl col col2 (th_ch n l0 l1 f) := th_Gr_tr hb (th_Gr_sub g1 (fun c z => ⟨hf, th_ok_lt (hh.1 f hf).1 hn z.1 z.2, Or.inl z.2⟩)) (th_Gr_sub g2 (fun c z => ⟨hf, th_ok_lt (hh.1 f hf).2 hn z.1 z.2, Or.inr z.2⟩))
    have G2 : th_G e n l0 l1 rg gl ans 4 bl sw col2 := th_G_gr g G (fun c z => z.2.1) (fun c z q => by
      rcases q with q | q
      · exact th_R_cl.2 f c z (g.2.2.2.1 q f hf (Or.inl cf))
      · exact absurd rfl q)
    have cl : (nI f).toNatClampNeg = f := nI_clamp (by omega)
    have vi : vp_in (nI f) 16 := vp_in_nI (by omega) (by decide)
    refine ⟨4, sw, upd col2 f bl, th_G_blk G2 hf (th_Gr_3 hb G cf) (fun d hd => ?_), ?_, fun post h => Exists.intro (n + 1) (X post (br_t lf (br_t (nI_pos' (by omega)) ⟨vi, ?_⟩)))⟩
    · rcases hd with ⟨_, hdn, q | q⟩
      · exact fun y => w1 d (by omega) q (th_Gr_nw hb g2 y)
      · exact w2 d (by omega) q
    · rw [th_mu4, th_mu4]
      have lt : th_cn (fun c => upd col2 f bl c = 3 ∨ upd col2 f bl c = 3 - bl) n < th_cn (fun c => col c = 3 ∨ col c = 3 - bl) n := by
        refine th_cn_lt (fun c hc z => ?_) hf (Or.inl cf) (fun z => ?_)
        · by_cases y : c = f
          · rw [y]; exact Or.inl cf
          · rw [th_un y] at z
            rcases G c with a | ⟨a, _, _⟩
            · rw [a] at z; exact z
            · exact Or.inr a
        · rw [th_us] at z
          rcases z with z | z
          · exact th_3b hb z.symm
          · exact th_bw hb z
      omega
    · rw [cl]
      exact x1 _ ⟨vi, x2 _ ⟨vi, nm_e h⟩⟩
theorem th_w_sw28 {n s : Nat} (hn : n ≤ 16) (hs : s < n) : ∃ ph' sw', ((s + 1 = n ∧ ph' = 0 ∧ sw' = 0) ∨ (s + 1 < n ∧ ph' = 5 ∧ sw' = nI (s + 1))) ∧ ∀ post : SX → Prop, post (nI n, ans, ph', bl, sw', cnt, col, l0, l1, val, tag, rg, gl, st) → wX_sweepStep_28 post (nI n) ans 5 bl (nI s) cnt col l0 l1 val tag rg gl st := by
  by_cases z : s + 1 = n
  · exact ⟨0, 0, Or.inl ⟨z, rfl, rfl⟩, fun post h => nm_r (nI_1 s) (br_t (by rw [z]) h)⟩
  · exact ⟨5, nI (s + 1), Or.inr ⟨by omega, rfl, rfl⟩, fun post h => nm_r (nI_1 s) (br_f (fun y => z (th_inj (by omega) (by omega) y)) h)⟩
theorem th_w_sweep {e : Prop} {n : Nat} (hn : n ≤ 16) (g : th_G e n l0 l1 rg gl ans 5 bl sw col) : ∃ ph' sw' col', th_G e n l0 l1 rg gl ans ph' bl sw' col' ∧ th_mu n ph' bl sw' col' < th_mu n 5 bl sw col ∧ ∀ post : SX → Prop, post (nI n, ans, ph', bl, sw', cnt, col', l0, l1, val, tag, rg, gl, st) → wpX_sweepStep post (nI n, ans, 5, bl, sw, cnt, col, l0, l1, val, tag, rg, gl, st) := by
  obtain ⟨s, hs, rfl, _⟩ := th_G_p5 g
  have cl : (nI s).toNatClampNeg = s := nI_clamp (by omega)
  have vi : vp_in (nI s) 16 := vp_in_nI (by omega) (by decide)
  have mu : ∀ col' ph' sw', ((s + 1 = n ∧ ph' = 0 ∧ sw' = 0) ∨ (s + 1 < n ∧ ph' = 5 ∧ sw' = nI (s + 1))) → th_mu n ph' bl sw' col' < th_mu n 5 bl (nI s) col := fun col' ph' sw' z => by
    rw [th_mu5, cl]
    rcases z with ⟨a, rfl, rfl⟩ | ⟨a, rfl, rfl⟩
    · rw [th_mu0]; omega
    · rw [th_mu5, nI_clamp (by omega)]; omega
  have gg : ∀ col' ph' sw', ((col s = 3 - bl ∧ col' = upd col s 0) ∨ (col s ≠ 3 - bl ∧ col' = col)) → ((s + 1 = n ∧ ph' = 0 ∧ sw' = 0) ∨ (s + 1 < n ∧ ph' = 5 ∧ sw' = nI (s + 1))) → th_G e n l0 l1 rg gl ans ph' bl sw' col' := fun col' ph' sw' q z => by
    rcases z with ⟨a, rfl, rfl⟩ | ⟨a, rfl, rfl⟩
    · exact (th_G_sw g hn hs q).1 a
    · exact (th_G_sw g hn hs q).2 a
  by_cases w : col s = 3 - bl
  · obtain ⟨ph', sw', z, X⟩ := th_w_sw28 ans bl cnt (upd col s 0) l0 l1 val tag rg gl st hn hs
    exact ⟨ph', sw', upd col s 0, gg _ _ _ (Or.inl ⟨w, rfl⟩) z, mu _ _ _ z, fun post h => And.intro vi (br_t (by rw [cl]; exact w) ⟨vi, nm_r (e' := upd col s 0) (by rw [cl]) (X post h)⟩)⟩
  · obtain ⟨ph', sw', z, X⟩ := th_w_sw28 ans bl cnt col l0 l1 val tag rg gl st hn hs
    exact ⟨ph', sw', col, gg _ _ _ (Or.inr ⟨w, rfl⟩) z, mu _ _ _ z, fun post h => And.intro vi (br_f (by rw [cl]; exact w) (X post h))⟩
theorem th_w_flip : ∀ post : SX → Prop, post (cells, 0, 1, 3 - bl, sw, cnt, col, l0, l1, val, tag, rg, gl, st) → wpX_step post (cells, ans, 0, bl, sw, cnt, col, l0, l1, val, tag, rg, gl, st) := fun post h => br_t rfl (nm_e h)
theorem th_w_step {e : Prop} {n : Nat} (h0 : 0 < n) (hn : n ≤ 16) (hh : th_hp n l0 l1 rg gl) (g : th_G e n l0 l1 rg gl ans ph bl sw col) (hp : ph ≠ 0) : ∃ ans' ph' sw' col', th_G e n l0 l1 rg gl ans' ph' bl sw' col' ∧ (((ph = 1 ∨ ph = 2 ∨ ph = 3) → ans = 7) → th_mu n ph' bl sw' col' < th_mu n ph bl sw col) ∧ ∀ post : SX → Prop, post (nI n, ans', ph', bl, sw', cnt, col', l0, l1, val, tag, rg, gl, st) → wpX_step post (nI n, ans, ph, bl, sw, cnt, col, l0, l1, val, tag, rg, gl, st) := by
  rcases th_G_ph g with p | p | p | p
  · exact absurd p hp
  · obtain ⟨ans', ph', col', G, M, X⟩ := th_w_signal (nI n) ans ph bl sw cnt col l0 l1 val tag rg gl st hn hh p g
    exact ⟨ans', ph', sw, col', G, fun z => M (z p), fun post h => br_f hp (br_f (by rcases p with rfl | rfl | rfl <;> decide) (X _ h))⟩
  · subst p
    obtain ⟨ph', sw', col', G, M, X⟩ := th_w_trace ans bl sw cnt col l0 l1 val tag rg gl st h0 hn hh g
    exact ⟨ans, ph', sw', col', G, fun _ => M, fun post h => br_f hp (br_t (by decide) (br_t rfl (X _ h)))⟩
  · subst p
    obtain ⟨ph', sw', col', G, M, X⟩ := th_w_sweep ans bl sw cnt col l0 l1 val tag rg gl st hn g
    exact ⟨ans, ph', sw', col', G, fun _ => M, fun post h => br_f hp (br_t (by decide) (br_f (by decide) (X _ h)))⟩
theorem th_w_drive {e : Prop} {n : Nat} (h0 : 0 < n) (hn : n ≤ 16) (hh : th_hp n l0 l1 rg gl) (g : th_G e n l0 l1 rg gl ans ph bl sw col) (hp : ph ≠ 0) : ∃ ans' ph' sw' col' st', th_G e n l0 l1 rg gl ans' ph' bl sw' col' ∧ th_mu n ph' bl sw' col' < th_mu n ph bl sw col ∧ ∀ post : SX → Prop, post (nI n, ans', ph', bl, sw', cnt, col', l0, l1, val, tag, rg, gl, st') → wpX_drive post (nI n, ans, ph, bl, sw, cnt, col, l0, l1, val, tag, rg, gl, st) := by
  obtain ⟨a1, c1, s1, g1, p1, q1, x1⟩ := th_w_answer (nI n) ans ph bl sw cnt col l0 l1 val tag rg gl st (t := 0) (by decide) hn hh g
  obtain ⟨a2, c2, s2, g2, p2, q2, x2⟩ := th_w_answer (nI n) a1 ph bl sw cnt c1 l0 l1 val tag rg gl s1 (t := 1) (by decide) hn hh g1
  obtain ⟨a3, c3, s3, g3, p3, q3, x3⟩ := th_w_answer (nI n) a2 ph bl sw cnt c2 l0 l1 val tag rg gl s2 (t := 2) (by decide) hn hh g2
  obtain ⟨a4, ph', sw', c4, g4, m4, x4⟩ := th_w_step a3 ph bl sw cnt c3 l0 l1 val tag rg gl s3 h0 hn hh g3 hp
  have m : th_mu n ph bl sw c3 = th_mu n ph bl sw col := by
    by_cases z : ph = 1 ∨ ph = 2 ∨ ph = 3
    · exact th_mu13 z
    · rw [(q3 z).2, (q2 z).2, (q1 z).2]
  have a7 : (ph = 1 ∨ ph = 2 ∨ ph = 3) → a3 = 7 := fun z => by
    refine (th_bt_7 (p3 z).1).mpr (fun u hu => ?_)
    have y : u = 0 ∨ u = 1 ∨ u = 2 := by omega
    rcases y with rfl | rfl | rfl
    · exact (p3 z).2.2 0 hu ((p2 z).2.2 0 hu (p1 z).2.1)
    · exact (p3 z).2.2 1 hu (p2 z).2.1
    · exact (p3 z).2.1
  have m' := m4 a7
  refine ⟨a4, ph', sw', c4, s3, g4, by omega, fun post h => ?_⟩
  unfold wpX_drive
  exact x1 _ (x2 _ (x3 _ (x4 _ h)))
end
end
section
/-! collectAll, freeCell, the component's count -/
section
variable (cells ans ph bl sw cnt : Int32) (col l0 l1 val tag rg gl st : Nat → Int32)
theorem th_w_ca {e : Prop} {n : Nat} (h0 : 0 < n) (hn : n ≤ 16) (hh : th_hp n l0 l1 rg gl) : ∀ (k i : Nat) (ans ph sw : Int32) (col st : Nat → Int32), i + k = 80 → th_mu n ph bl sw col ≤ k → th_G e n l0 l1 rg gl ans ph bl sw col → ∃ ans' sw' col' st', th_G e n l0 l1 rg gl ans' 0 bl sw' col' ∧ (∀ post : SX → Prop, post (nI n, ans', 0, bl, sw', cnt, col', l0, l1, val, tag, rg, gl, st') → wX_collectAll_31 post (k + 1) (nI i) (nI n) ans ph bl sw cnt col l0 l1 val tag rg gl st) ∧ (∀ post : SX → Prop, wX_collectAll_25 post (nI n) ans' 0 bl sw' cnt col' l0 l1 val tag rg gl st' → wX_collectAll_2 post (k + 1) (nI i) (nI n) ans ph bl sw cnt col l0 l1 val tag rg gl st) := by
  intro k
  induction k with
  | zero =>
    intro i ans ph sw col st hk hm g
    have p := th_mu_z hn g hm
    have e1 : i = 80 := by omega
    subst p e1
    exact ⟨ans, sw, col, st, g, fun post h => br_t (by decide) h, fun post h => br_t (by decide) h⟩
  | succ k ih =>
    intro i ans ph sw col st hk hm g
    have nl : ¬ (80 : Int32) ≤ nI i := nI_ge (b := 80) (by omega) (by decide)
    by_cases p : ph = 0
    · subst p
      exact ⟨ans, sw, col, st, g, fun post h => br_f nl (br_t rfl h), fun post h => br_f nl (br_t rfl h)⟩
    · obtain ⟨a1, ph1, sw1, c1, s1, g1, m1, x1⟩ := th_w_drive ans ph bl sw cnt col l0 l1 val tag rg gl st h0 hn hh g p
      obtain ⟨a2, sw2, c2, s2, g2, x2, y2⟩ := ih (i + 1) a1 ph1 sw1 c1 s1 (by omega) (by omega) g1
      exact ⟨a2, sw2, c2, s2, g2, fun post h => br_f nl (br_f p (x1 _ (nm_r (nI_1 i) (x2 post h)))), fun post h => br_f nl (br_f p (x1 _ (nm_r (nI_1 i) (y2 post h))))⟩
theorem th_w_collect {e : Prop} {n : Nat} (h0 : 0 < n) (hn : n ≤ 16) (hh : th_hp n l0 l1 rg gl) (g : th_G e n l0 l1 rg gl ans ph bl sw col) : ∃ ans' bl' sw' col' st', th_G True n l0 l1 rg gl ans' 0 bl' sw' col' ∧ ∀ post : SX → Prop, post (nI n, ans', 0, bl', sw', cnt, col', l0, l1, val, tag, rg, gl, st') → wpX_collectAll post (nI n, ans, ph, bl, sw, cnt, col, l0, l1, val, tag, rg, gl, st) := by
  obtain ⟨a1, sw1, c1, s1, g1, _, y1⟩ := th_w_ca bl cnt l0 l1 val tag rg gl h0 hn hh 80 0 ans ph sw col st rfl (Nat.le_trans (th_mu_le hn g) (by decide)) g
  have g2 := th_G_flip True g1
  obtain ⟨a3, sw3, c3, s3, g3, x3, _⟩ := th_w_ca (3 - bl) cnt l0 l1 val tag rg gl h0 hn hh 80 0 0 1 sw1 c1 s1 rfl (Nat.le_trans (th_mu_le hn g2) (by decide)) g2
  refine ⟨a3, 3 - bl, sw3, c3, s3, g3, fun post h => Exists.intro 81 (y1 post ?_)⟩
  unfold wX_collectAll_25
  exact th_w_flip (nI n) a1 bl sw1 cnt c1 l0 l1 val tag rg gl s1 _ ⟨81, x3 post h⟩
theorem th_exact {n : Nat} (g : th_G True n l0 l1 rg gl ans 0 bl sw col) : ∀ c, c < n → (col c ≠ 0 ↔ th_R n l0 l1 rg gl c) := fun c hc => by
  have q := th_G_p0 g c hc
  refine ⟨fun z => g.2.2.2.1 trivial c hc ?_, g.2.2.1 c⟩
  rcases g.2.1 c hc with a | a | a | a
  · exact absurd a z
  · exact Or.inl a
  · exact Or.inr a
  · exact absurd a q.2
theorem th_w_frl {n : Nat} (hn : n ≤ 16) : ∀ k i : Nat, i + k = n → (∀ c, c < i → col c ≠ 0) → ∃ x, ((x = -1 ∧ ∀ c, c < n → col c ≠ 0) ∨ ∃ c, c < n ∧ col c = 0 ∧ x = nI c) ∧ ∀ post : Int32 → Prop, post x → wX_freeCell_2 post (nI n) ans ph bl sw cnt col l0 l1 val tag rg gl st (k + 1) (nI i) := by
  intro k
  induction k with
  | zero =>
    intro i hk h
    have e1 : i = n := by omega
    subst e1
    exact ⟨-1, Or.inl ⟨rfl, h⟩, fun post z => br_t (nI_le (Nat.le_refl i) (by omega)) z⟩
  | succ k ih =>
    intro i hk h
    have nl : ¬ nI n ≤ nI i := nI_ge (by omega) (by omega)
    have vi : vp_in (nI i) 16 := vp_in_nI (by omega) (by decide)
    have cl : (nI i).toNatClampNeg = i := nI_clamp (by omega)
    by_cases c3 : col i = 0
    · exact ⟨nI i, Or.inr ⟨i, by omega, c3, rfl⟩, fun post z => br_f nl ⟨vi, br_t (by rw [cl]; exact c3) z⟩⟩
    · obtain ⟨x, hx, X⟩ := ih (i + 1) (by omega) (fun c hc => by
        by_cases z : c = i
        · rw [z]; exact c3
        · exact h c (by omega))
      exact ⟨x, hx, fun post z => br_f nl ⟨vi, br_f (by rw [cl]; exact c3) (nm_r (nI_1 i) (X post z))⟩⟩
theorem th_w_free {n : Nat} (hn : n ≤ 16) : ∃ x, ((x = -1 ∧ ∀ c, c < n → col c ≠ 0) ∨ ∃ c, c < n ∧ col c = 0 ∧ x = nI c) ∧ ∀ post : Int32 → Prop, post x → wpX_freeCell post (nI n, ans, ph, bl, sw, cnt, col, l0, l1, val, tag, rg, gl, st) := by
  obtain ⟨x, hx, X⟩ := th_w_frl ans ph bl sw cnt col l0 l1 val tag rg gl st hn n 0 (by omega) (fun c hc => absurd hc (Nat.not_lt_zero c))
  exact ⟨x, hx, fun post z => Exists.intro (n + 1) (X post z)⟩
theorem th_w_lvl {n : Nat} (hn : n ≤ 16) (post : Int32 → SX → Prop) (h : post (nI (th_cn (fun c => col c ≠ 0) n)) (nI n, ans, ph, bl, sw, cnt, col, l0, l1, val, tag, rg, gl, st)) : ∀ k i : Nat, i + k = n → wX_live_8 post (nI n) ans ph bl sw cnt col l0 l1 val tag rg gl st (k + 1) (nI (th_cn (fun c => col c ≠ 0) i)) (nI i) := by
  intro k
  induction k with
  | zero =>
    intro i hk
    have e1 : i = n := by omega
    subst e1
    exact br_t (nI_le (Nat.le_refl i) (by omega)) h
  | succ k ih =>
    intro i hk
    have nl : ¬ nI n ≤ nI i := nI_ge (by omega) (by omega)
    have vi : vp_in (nI i) 16 := vp_in_nI (by omega) (by decide)
    have cl : (nI i).toNatClampNeg = i := nI_clamp (by omega)
    have I := ih (i + 1) (by omega)
    rw [th_cn_s] at I
    by_cases c3 : col i = 0
    · have b : th_b (col i ≠ 0) = 0 := th_b0 (fun z => z c3)
      rw [b, Nat.add_zero] at I
      exact br_f nl ⟨vi, br_t (by rw [cl]; exact c3) (nm_r (nI_1 i) I)⟩
    · have b : th_b (col i ≠ 0) = 1 := th_b1 c3
      rw [b] at I
      exact br_f nl ⟨vi, br_f (by rw [cl]; exact c3) (nm_r (nI_1 _) (nm_r (nI_1 i) I))⟩
theorem th_w_live {e : Prop} {n : Nat} (h0 : 0 < n) (hn : n ≤ 16) (hh : th_hp n l0 l1 rg gl) (g : th_G e n l0 l1 rg gl ans ph bl sw col) : ∃ ans' bl' sw' col' st', th_G True n l0 l1 rg gl ans' 0 bl' sw' col' ∧ ∀ post : Int32 → SX → Prop, post (nI (th_cn (th_R n l0 l1 rg gl) n)) (nI n, ans', 0, bl', sw', cnt, col', l0, l1, val, tag, rg, gl, st') → wpX_live post (nI n, ans, ph, bl, sw, cnt, col, l0, l1, val, tag, rg, gl, st) := by
  obtain ⟨a1, bl1, sw1, c1, s1, g1, x1⟩ := th_w_collect ans ph bl sw cnt col l0 l1 val tag rg gl st h0 hn hh g
  refine ⟨a1, bl1, sw1, c1, s1, g1, fun post h => ?_⟩
  have ex := th_exact a1 bl1 sw1 c1 l0 l1 rg gl g1
  rw [← th_cn_congr n ex] at h
  unfold wpX_live
  exact x1 _ ⟨n + 1, th_w_lvl a1 0 bl1 sw1 cnt c1 l0 l1 val tag rg gl s1 hn post h n 0 (by omega)⟩
end
end
section
/-! the reference's live, against a target set Q -/
def th_ne (rea : Nat → Int32) (s : Nat) : Prop := rea s ≠ 0
def th_Qr (m : Nat) (fld regs gls : Nat → Int32) (Q : Nat → Prop) : Prop :=
  Q 0 ∧ (∀ j, j < 12 → ∃ s, s ≤ m ∧ regs j = nI s ∧ Q s) ∧ (∀ j, j < 2 → ∃ s, s ≤ m ∧ gls j = nI s ∧ Q s) ∧
  (∀ i, 1 ≤ i → i ≤ m → Q i → ∃ a b, a ≤ m ∧ b ≤ m ∧ fld (2 * i) = nI a ∧ fld (2 * i + 1) = nI b ∧ Q a ∧ Q b) ∧
  (∀ S : Nat → Prop, S 0 → (∀ j s, j < 12 → s ≤ m → regs j = nI s → S s) → (∀ j s, j < 2 → s ≤ m → gls j = nI s → S s) →
    (∀ i a, 1 ≤ i → i ≤ m → a ≤ m → S i → (fld (2 * i) = nI a ∨ fld (2 * i + 1) = nI a) → S a) → ∀ s, s ≤ m → Q s → S s)
theorem th_bo0 : vp_nar .boolean 0 = 0 := rfl
theorem th_bo1 : vp_nar .boolean 1 = 1 := rfl
theorem th_st_m {rea : Nat → Int32} {a j : Nat} (h : th_ne rea j) : th_ne (upd rea a 1) j := by
  unfold th_ne
  by_cases z : j = a
  · rw [z, th_us]; decide
  · rw [th_un z]; exact h
theorem th_st_s {rea : Nat → Int32} {a : Nat} : th_ne (upd rea a 1) a := by
  unfold th_ne
  rw [th_us]; decide
theorem th_st_o {rea : Nat → Int32} {a j : Nat} (h : th_ne (upd rea a 1) j) : th_ne rea j ∨ j = a := by
  by_cases z : j = a
  · exact Or.inr z
  · unfold th_ne at h
    rw [th_un z] at h
    exact Or.inl h
noncomputable def th_U (m : Nat) (rea : Nat → Int32) : Nat := th_cn (fun j => ¬ th_ne rea j) (m + 1)
theorem th_U_le {m : Nat} {rea rea' : Nat → Int32} (h : ∀ j, th_ne rea j → th_ne rea' j) : th_U m rea' ≤ th_U m rea := th_cn_mono _ (fun c _ z y => z (h c y))
theorem th_U_lt {m a : Nat} {rea rea' : Nat → Int32} (ha : a ≤ m) (h : ∀ j, th_ne rea j → th_ne rea' j) (h1 : ¬ th_ne rea a) (h2 : th_ne rea' a) : th_U m rea' < th_U m rea :=
  th_cn_lt (i0 := a) (fun c _ z y => z (h c y)) (by omega) h1 (fun z => z h2)
section
variable (m : Nat) (rm : Int32) (fld num regs gls : Nat → Int32) (Q : Nat → Prop) (hm : m ≤ 511)
theorem th_y_clr : ∀ (k i : Nat) (rea : Nat → Int32), m ≤ 511 → i + k = m + 1 → (∀ j, j < i → rea j = 0) → ∃ rea', (∀ j, j ≤ m → rea' j = 0) ∧ ∀ post : SY → Prop, (∃ n25, wY_reachRoots_25 post (nI m) rm n25 0 fld num rea' regs gls) → wY_reachRoots_2 post (nI m) rm (k + 1) (nI i) fld num rea regs gls := by
  intro k
  induction k with
  | zero =>
    intro i rea hm hk h
    have e1 : i = m + 1 := by omega
    subst e1
    exact ⟨rea, fun j hj => h j (by omega), fun post z => br_t (nI_lt (by omega) (by omega)) z⟩
  | succ k ih =>
    intro i rea hm hk h
    have cl : (nI i).toNatClampNeg = i := nI_clamp (by omega)
    obtain ⟨rea', h1, X⟩ := ih (i + 1) (upd rea i 0) hm (by omega) (fun j hj => by
      by_cases z : j = i
      · rw [z, th_us]
      · rw [th_un z]; exact h j (by omega))
    exact ⟨rea', h1, fun post z => br_f (nI_nlt (by omega) (by omega)) ⟨vp_in_nI (by omega) (by decide), nm_r (e' := upd rea i 0) (by rw [cl, th_bo0]) (nm_r (nI_1 i) (X post z))⟩⟩
theorem th_y_rts (hm : m ≤ 511) (q : th_Qr m fld regs gls Q) : ∀ (k i : Nat) (rea : Nat → Int32), i + k = 12 → (∀ j, j ≤ m → th_ne rea j → Q j) → ∃ rea', (∀ j, j ≤ m → th_ne rea' j → Q j) ∧ (∀ j, th_ne rea j → th_ne rea' j) ∧ (∀ j s, i ≤ j → j < 12 → s ≤ m → regs j = nI s → th_ne rea' s) ∧ (∀ j s, j < 2 → s ≤ m → gls j = nI s → th_ne rea' s) ∧ ∀ post : SY → Prop, post (nI m, rm, fld, num, rea', regs, gls) → wY_reachRoots_25 post (nI m) rm (k + 1) (nI i) fld num rea regs gls := by
  obtain ⟨q0, qr, qg, _, _⟩ := q
  intro k
  induction k with
  | zero =>
    intro i rea hk h
    have e1 : i = 12 := by omega
    subst e1
    obtain ⟨a, ha, ea, qa⟩ := qg 0 (by decide)
    obtain ⟨b, hb, eb, qb⟩ := qg 1 (by decide)
    have ca : (nI a).toNatClampNeg = a := nI_clamp (by omega)
    have cb : (nI b).toNatClampNeg = b := nI_clamp (by omega)
    refine ⟨upd (upd rea a 1) b 1, fun j hj z => ?_, fun j z => th_st_m (th_st_m z), fun j s h1 h2 => by omega, fun j s hj hs es => ?_, fun post z => br_t (by decide) ⟨by rw [ea]; exact vp_in_nI (by omega) (by decide), nm_r (e' := upd rea a 1) (by rw [ea, ca, th_bo1]) ⟨by rw [eb]; exact vp_in_nI (by omega) (by decide), nm_r (e' := upd (upd rea a 1) b 1) (by rw [eb, cb, th_bo1]) z⟩⟩⟩
    · rcases th_st_o z with z | z
      · rcases th_st_o z with z | z
        · exact h j hj z
        · rw [z]; exact qa
      · rw [z]; exact qb
    · have jj : j = 0 ∨ j = 1 := by omega
      rcases jj with rfl | rfl
      · have y : a = s := th_inj (by omega) (by omega) (ea.symm.trans es)
        rw [← y]; exact th_st_m th_st_s
      · have y : b = s := th_inj (by omega) (by omega) (eb.symm.trans es)
        rw [← y]; exact th_st_s
  | succ k ih =>
    intro i rea hk h
    obtain ⟨a, ha, ea, qa⟩ := qr i (by omega)
    have ca : (nI a).toNatClampNeg = a := nI_clamp (by omega)
    have cl : (nI i).toNatClampNeg = i := nI_clamp (by omega)
    obtain ⟨rea', h1, h2, h3, h4, X⟩ := ih (i + 1) (upd rea a 1) (by omega) (fun j hj z => by
      rcases th_st_o z with z | z
      · exact h j hj z
      · rw [z]; exact qa)
    refine ⟨rea', h1, fun j z => h2 j (th_st_m z), fun j s g1 g2 g3 g4 => ?_, h4, fun post z => br_f (nI_ge (a := i) (b := 12) (by omega) (by decide)) ⟨vp_in_nI (by omega) (by decide), by rw [cl, ea]; exact vp_in_nI (by omega) (by decide), nm_r (e' := upd rea a 1) (by rw [cl, ea, ca, th_bo1]) (nm_r (nI_1 i) (X post z))⟩⟩
    by_cases y : j = i
    · subst y
      have y : a = s := th_inj (by omega) (by omega) (ea.symm.trans g4)
      rw [← y]; exact h2 a th_st_s
    · exact h3 j s (by omega) g2 g3 g4
theorem th_y_flds (hm : m ≤ 511) (q : th_Qr m fld regs gls Q) : ∀ (k i : Nat) (mo : Int32) (rea : Nat → Int32), i + k = m + 1 → 1 ≤ i → (mo = 0 ∨ mo = 1) → (∀ j, j ≤ m → th_ne rea j → Q j) → ∃ (mo' : Int32) (rea' : Nat → Int32), (mo' = 0 ∨ mo' = 1) ∧ (∀ j, j ≤ m → th_ne rea' j → Q j) ∧ (∀ j, th_ne rea j → th_ne rea' j) ∧
    (mo' = 0 → mo = 0 ∧ rea' = rea ∧ ∀ j a, i ≤ j → j ≤ m → a ≤ m → th_ne rea j → (fld (2 * j) = nI a ∨ fld (2 * j + 1) = nI a) → th_ne rea a) ∧
    (mo' = 1 → mo = 1 ∨ th_U m rea' < th_U m rea) ∧ ∀ post : Int32 → SY → Prop, post mo' (nI m, rm, fld, num, rea', regs, gls) → wY_reachFields_4 post (nI m) rm (k + 1) mo (nI i) fld num rea regs gls := by
  intro k
  induction k with
  | zero =>
    intro i mo rea hk hi hmo h
    have e1 : i = m + 1 := by omega
    subst e1
    exact ⟨mo, rea, hmo, h, fun _ z => z, fun z => ⟨z, rfl, fun j a g1 g2 => by omega⟩, fun z => Or.inl z, fun post z => br_t (nI_lt (by omega) (by omega)) ⟨by rcases hmo with rfl | rfl <;> rfl, z⟩⟩
  | succ k ih =>
    intro i mo rea hk hi hmo h
    have nl : ¬ nI m < nI i := nI_nlt (by omega) (by omega)
    have e2 : (2 : Int32) * nI i = nI (2 * i) := th_mul 2 i
    have c2 : ((2 : Int32) * nI i).toNatClampNeg = 2 * i := by rw [e2]; exact nI_clamp (by omega)
    have c3 : ((2 : Int32) * nI i + 1).toNatClampNeg = 2 * i + 1 := by rw [e2, nI_1]; exact nI_clamp (by omega)
    have v2 : vp_in ((2 : Int32) * nI i) 1026 := by rw [e2]; exact vp_in_nI (by omega) (by decide)
    have v3 : vp_in ((2 : Int32) * nI i + 1) 1026 := by rw [e2, nI_1]; exact vp_in_nI (by omega) (by decide)
    have vi : vp_in (nI i) 513 := vp_in_nI (by omega) (by decide)
    have cl : (nI i).toNatClampNeg = i := nI_clamp (by omega)
    by_cases r0 : rea i = 0
    · obtain ⟨mo', rea', a1, a2, a3, a4, a5, X⟩ := ih (i + 1) mo rea (by omega) (by omega) hmo h
      refine ⟨mo', rea', a1, a2, a3, fun z => ⟨(a4 z).1, (a4 z).2.1, fun j a g1 g2 g3 g4 g5 => ?_⟩, a5, fun post z => br_f nl ⟨v2, nm_e ⟨v3, nm_e ⟨vi, br_t (by rw [cl]; exact r0) (nm_r (nI_1 i) (X post z))⟩⟩⟩⟩
      by_cases y : j = i
      · subst y; exact absurd r0 g4
      · exact (a4 z).2.2 j a (by omega) g2 g3 g4 g5
    · obtain ⟨a, b, ha, hb, ea, eb, qa, qb⟩ := q.2.2.2.1 i hi (by omega) (h i (by omega) r0)
      have ca : (nI a).toNatClampNeg = a := nI_clamp (by omega)
      have cb : (nI b).toNatClampNeg = b := nI_clamp (by omega)
      have va : vp_in (nI a) 513 := vp_in_nI (by omega) (by decide)
      have vb : vp_in (nI b) 513 := vp_in_nI (by omega) (by decide)
      have ea' : fld ((2 : Int32) * nI i).toNatClampNeg = nI a := by rw [c2]; exact ea
      have eb' : fld ((2 : Int32) * nI i + 1).toNatClampNeg = nI b := by rw [c3]; exact eb
      have r0' : ¬ rea (nI i).toNatClampNeg = 0 := by rw [cl]; exact r0
      have up : ¬ (th_ne rea a ∧ th_ne rea b) → ∃ (mo' : Int32) (rea' : Nat → Int32), (mo' = 0 ∨ mo' = 1) ∧ (∀ j, j ≤ m → th_ne rea' j → Q j) ∧ (∀ j, th_ne rea j → th_ne rea' j) ∧
          (mo' = 0 → mo = 0 ∧ rea' = rea ∧ ∀ j a, i ≤ j → j ≤ m → a ≤ m → th_ne rea j → (fld (2 * j) = nI a ∨ fld (2 * j + 1) = nI a) → th_ne rea a) ∧
          (mo' = 1 → mo = 1 ∨ th_U m rea' < th_U m rea) ∧ ∀ post : Int32 → SY → Prop, post mo' (nI m, rm, fld, num, rea', regs, gls) → wY_reachFields_61 post (wY_reachFields_4 post (nI m) rm (k + 1)) (nI i) (nI a) (nI b) (nI m) rm fld num rea regs gls := fun nab => by
        obtain ⟨mo', rea', a1, a2, a3, a4, a5, X⟩ := ih (i + 1) 1 (upd (upd rea a 1) b 1) (by omega) (by omega) (Or.inr rfl) (fun j hj z => by
          rcases th_st_o z with z | z
          · rcases th_st_o z with z | z
            · exact h j hj z
            · rw [z]; exact qa
          · rw [z]; exact qb)
        have mono : ∀ j, th_ne rea j → th_ne rea' j := fun j z => a3 j (th_st_m (th_st_m z))
        refine ⟨mo', rea', a1, a2, mono, fun z => absurd (a4 z).1 (by decide), fun _ => Or.inr ?_, fun post z => And.intro va (nm_r (e' := upd rea a 1) (by rw [ca, th_bo1]) ⟨vb, nm_r (e' := upd (upd rea a 1) b 1) (by rw [cb, th_bo1]) (nm_r (nI_1 i) (X post z))⟩)⟩
        by_cases na : th_ne rea a
        · exact th_U_lt hb mono (fun nb => nab ⟨na, nb⟩) (a3 b th_st_s)
        · exact th_U_lt ha mono na (a3 a (th_st_m th_st_s))
      by_cases na : rea a = 0
      · obtain ⟨mo', rea', a1, a2, a3, a4, a5, X⟩ := up (fun z => z.1 na)
        exact ⟨mo', rea', a1, a2, a3, a4, a5, fun post z => br_f nl ⟨v2, nm_r ea' ⟨v3, nm_r eb' ⟨vi, br_f r0' ⟨va, br_t (by rw [ca]; exact na) (X post z)⟩⟩⟩⟩⟩
      · by_cases nb : rea b = 0
        · obtain ⟨mo', rea', a1, a2, a3, a4, a5, X⟩ := up (fun z => z.2 nb)
          exact ⟨mo', rea', a1, a2, a3, a4, a5, fun post z => br_f nl ⟨v2, nm_r ea' ⟨v3, nm_r eb' ⟨vi, br_f r0' ⟨va, br_f (by rw [ca]; exact na) ⟨vb, br_t (by rw [cb]; exact nb) (X post z)⟩⟩⟩⟩⟩⟩
        · obtain ⟨mo', rea', a1, a2, a3, a4, a5, X⟩ := ih (i + 1) mo rea (by omega) (by omega) hmo h
          refine ⟨mo', rea', a1, a2, a3, fun z => ⟨(a4 z).1, (a4 z).2.1, fun j d g1 g2 g3 g4 g5 => ?_⟩, a5, fun post z => br_f nl ⟨v2, nm_r ea' ⟨v3, nm_r eb' ⟨vi, br_f r0' ⟨va, br_f (by rw [ca]; exact na) ⟨vb, br_f (by rw [cb]; exact nb) (nm_r (nI_1 i) (X post z))⟩⟩⟩⟩⟩⟩
          by_cases y : j = i
          · subst y
            rcases g5 with g5 | g5
            · have y : a = d := th_inj (by omega) (by omega) (ea.symm.trans g5)
              rw [← y]; exact na
            · have y : b = d := th_inj (by omega) (by omega) (eb.symm.trans g5)
              rw [← y]; exact nb
          · exact (a4 z).2.2 j d (by omega) g2 g3 g4 g5
theorem th_y_rnd (hm : m ≤ 511) (q : th_Qr m fld regs gls Q) : ∀ (k r : Nat) (mo : Int32) (rea : Nat → Int32), r + k = 512 → (mo = 0 ∨ mo = 1) → (∀ j, j ≤ m → th_ne rea j → Q j) → th_ne rea 0 → (∀ j s, j < 12 → s ≤ m → regs j = nI s → th_ne rea s) → (∀ j s, j < 2 → s ≤ m → gls j = nI s → th_ne rea s) →
    (mo = 0 → ∀ j a, 1 ≤ j → j ≤ m → a ≤ m → th_ne rea j → (fld (2 * j) = nI a ∨ fld (2 * j + 1) = nI a) → th_ne rea a) → (mo = 1 → th_U m rea + r ≤ m) →
    ∃ rea', (∀ j, j ≤ m → (th_ne rea' j ↔ Q j)) ∧ ∀ post : Int32 → SY → Prop, (∃ n41, wY_live_41 post (nI m) rm fld num rea' regs gls n41 0 1) → wY_live_15 post (k + 1) mo (nI r) (nI m) rm fld num rea regs gls := by
  intro k
  induction k with
  | zero =>
    intro r mo rea hk hmo h h0 hr hg hc hu
    have e1 : r = 512 := by omega
    subst e1
    have mz : mo = 0 := by
      rcases hmo with z | z
      · exact z
      · have := hu z; omega
    exact ⟨rea, fun j hj => ⟨h j hj, fun qj => q.2.2.2.2 (th_ne rea) h0 hr hg (hc mz) j hj qj⟩, fun post z => br_t (by decide) z⟩
  | succ k ih =>
    intro r mo rea hk hmo h h0 hr hg hc hu
    have nl : ¬ (512 : Int32) ≤ nI r := nI_ge (b := 512) (by omega) (by decide)
    by_cases mz : mo = 0
    · exact ⟨rea, fun j hj => ⟨h j hj, fun qj => q.2.2.2.2 (th_ne rea) h0 hr hg (hc mz) j hj qj⟩, fun post z => br_f nl (br_t mz z)⟩
    · have m1 : mo = 1 := by
        rcases hmo with z | z
        · exact absurd z mz
        · exact z
      have hu' := hu m1
      obtain ⟨mo', rea', a1, a2, a3, a4, a5, X⟩ := th_y_flds m rm fld num regs gls Q hm q m 1 0 rea (by omega) (Nat.le_refl 1) (Or.inl rfl) h
      obtain ⟨rea2, b1, Y⟩ := ih (r + 1) mo' rea' (by omega) a1 a2 (a3 0 h0) (fun j s g1 g2 g3 => a3 s (hr j s g1 g2 g3)) (fun j s g1 g2 g3 => a3 s (hg j s g1 g2 g3)) (fun z j a g1 g2 g3 g4 g5 => by
          obtain ⟨_, y, w⟩ := a4 z
          subst y
          exact w j a g1 g2 g3 g4 g5) (fun z => by
          rcases a5 z with y | y
          · exact absurd y (by decide)
          · omega)
      exact ⟨rea2, b1, fun post z => br_f nl (br_f mz (Exists.intro (m + 1) (X _ (nm_r (nI_1 r) (Y post z)))))⟩
theorem th_y_cnt (hm : m ≤ 511) (rea : Nat → Int32) (post : Int32 → SY → Prop) (h : post (nI (th_cn (fun j => 1 ≤ j ∧ th_ne rea j) (m + 1))) (nI m, rm, fld, num, rea, regs, gls)) : ∀ k i : Nat, 1 ≤ i → i + k = m + 1 → wY_live_41 post (nI m) rm fld num rea regs gls (k + 1) (nI (th_cn (fun j => 1 ≤ j ∧ th_ne rea j) i)) (nI i) := by
  intro k
  induction k with
  | zero =>
    intro i hi hk
    have e1 : i = m + 1 := by omega
    subst e1
    exact br_t (nI_lt (by omega) (by omega)) h
  | succ k ih =>
    intro i hi hk
    have nl : ¬ nI m < nI i := nI_nlt (by omega) (by omega)
    have vi : vp_in (nI i) 513 := vp_in_nI (by omega) (by decide)
    have cl : (nI i).toNatClampNeg = i := nI_clamp (by omega)
    have I := ih (i + 1) (by omega) (by omega)
    rw [th_cn_s] at I
    by_cases c3 : rea i = 0
    · have b : th_b (1 ≤ i ∧ th_ne rea i) = 0 := th_b0 (fun z => z.2 c3)
      rw [b, Nat.add_zero] at I
      exact br_f nl ⟨vi, br_t (by rw [cl]; exact c3) (nm_r (nI_1 i) I)⟩
    · have b : th_b (1 ≤ i ∧ th_ne rea i) = 1 := th_b1 ⟨hi, c3⟩
      rw [b] at I
      exact br_f nl ⟨vi, br_f (by rw [cl]; exact c3) (nm_r (nI_1 _) (nm_r (nI_1 i) I))⟩
theorem th_y_live (hm : m ≤ 511) (q : th_Qr m fld regs gls Q) (rea : Nat → Int32) : ∃ rea', ∀ post : Int32 → SY → Prop, post (nI (th_cn (fun j => 1 ≤ j ∧ Q j) (m + 1))) (nI m, rm, fld, num, rea', regs, gls) → wpY_live post (nI m, rm, fld, num, rea, regs, gls) := by
  obtain ⟨rea1, h1, X1⟩ := th_y_clr m rm fld num regs gls (m + 1) 0 rea hm (by omega) (fun j hj => absurd hj (Nat.not_lt_zero j))
  obtain ⟨rea2, h2, _, r2, g2, X2⟩ := th_y_rts m rm fld num regs gls Q hm q 12 0 rea1 (by omega) (fun j hj z => absurd (h1 j hj) z)
  have z0 : th_ne (upd rea2 0 1) 0 := th_st_s
  obtain ⟨rea3, h3, X3⟩ := th_y_rnd m rm fld num regs gls Q hm q 512 0 1 (upd rea2 0 1) (by omega) (Or.inr rfl) (fun j hj z => by
      rcases th_st_o z with z | z
      · exact h2 j hj z
      · rw [z]; exact q.1) z0 (fun j s a b c => th_st_m (r2 j s (Nat.zero_le j) a b c)) (fun j s a b c => th_st_m (g2 j s a b c)) (fun z => absurd z (by decide)) (fun _ => by
      have : th_U m (upd rea2 0 1) < m + 1 := th_cn_some (i0 := 0) (by omega) (fun z => z z0)
      omega)
  refine ⟨rea3, fun post h => ?_⟩
  have e1 : th_cn (fun j => 1 ≤ j ∧ Q j) (m + 1) = th_cn (fun j => 1 ≤ j ∧ th_ne rea3 j) (m + 1) := th_cn_congr _ (fun c hc => ⟨fun z => ⟨z.1, (h3 c (by omega)).mpr z.2⟩, fun z => ⟨z.1, (h3 c (by omega)).mp z.2⟩⟩)
  rw [e1] at h
  have C := th_y_cnt m rm fld num regs gls hm rea3 post h m 1 (Nat.le_refl 1) (by omega)
  have b : th_b (1 ≤ 0 ∧ th_ne rea3 0) = 0 := th_b0 (fun z => absurd z.1 (by decide))
  have c1 : th_cn (fun j => 1 ≤ j ∧ th_ne rea3 j) 1 = 0 := by
    rw [th_cn_s, b]; rfl
  rw [c1] at C
  unfold wpY_live wpY_reachRoots
  exact Exists.intro (m + 1 + 1) (X1 _ ⟨13, X2 _ (nm_r (e' := upd rea2 0 1) (by rw [th_bo1]) ⟨513, X3 post ⟨m + 1, C⟩⟩)⟩)
end
end
section
/-! the relation; what each change does to it -/
def th_tau (tag : Nat → Int32) (x : Int32) : Int32 := if x < 0 then 0 else tag x.toNatClampNeg
theorem th_tau_m {tag : Nat → Int32} : th_tau tag (-1) = 0 := if_pos (by decide)
theorem th_tau_c {tag : Nat → Int32} {c : Nat} (h : c < 16) : th_tau tag (nI c) = tag c := by
  unfold th_tau
  rw [if_neg (nI_pos (by omega)), nI_clamp (by omega)]
def th_Y (m : Nat) (R : Nat → Prop) (l0 l1 val tag rg gl fld num regs gls : Nat → Int32) : Prop :=
  (∀ i, i < 12 → regs i = th_tau tag (rg i)) ∧ (∀ i, i < 2 → gls i = th_tau tag (gl i)) ∧
  (∀ c, R c → ∃ s, 1 ≤ s ∧ s ≤ m ∧ tag c = nI s ∧ fld (2 * s) = th_tau tag (l0 c) ∧ fld (2 * s + 1) = th_tau tag (l1 c) ∧ num s = val c) ∧
  (∀ c d, R c → R d → tag c = tag d → c = d)
/-- the relation at the head of a turn whose first cell is k -/
def i_Rel (k : Nat) (u : SX) (v : SY) : Prop := match u with
  | (cells, ans, ph, bl, sw, cnt, col, l0, l1, val, tag, rg, gl, st) => match v with
    | (md, rm, fld, num, rea, regs, gls) => ∃ n m : Nat, cells = nI n ∧ rm = nI n ∧ cnt = nI m ∧ md = nI m ∧ 4 ≤ n ∧ n ≤ 16 ∧ 5 * m + 1 ≤ k ∧ th_hp n l0 l1 rg gl ∧ th_G False n l0 l1 rg gl ans ph bl sw col ∧ th_Y m (th_R n l0 l1 rg gl) l0 l1 val tag rg gl fld num regs gls
theorem i_up {k : Nat} {u : SX} {v : SY} (h : i_Rel k u v) : i_Rel (k + 5) u v := by
  obtain ⟨cells, ans, ph, bl, sw, cnt, col, l0, l1, val, tag, rg, gl, st⟩ := u
  obtain ⟨md, rm, fld, num, rea, regs, gls⟩ := v
  obtain ⟨n, m, e1, e2, e3, e4, h4, hn, hk, hh, g, y⟩ := h
  exact Exists.intro n (Exists.intro m ⟨e1, e2, e3, e4, h4, hn, by omega, hh, g, y⟩)
theorem th_mk {k n m : Nat} {ans ph bl sw : Int32} {col l0 l1 val tag rg gl st fld num rea regs gls : Nat → Int32} (h4 : 4 ≤ n) (hn : n ≤ 16) (hk : 5 * m + 1 ≤ k) (h : th_hp n l0 l1 rg gl ∧ th_G False n l0 l1 rg gl ans ph bl sw col ∧ th_Y m (th_R n l0 l1 rg gl) l0 l1 val tag rg gl fld num regs gls) : i_Rel k (nI n, ans, ph, bl, sw, nI m, col, l0, l1, val, tag, rg, gl, st) (nI m, nI n, fld, num, rea, regs, gls) :=
  Exists.intro n (Exists.intro m ⟨rfl, rfl, rfl, rfl, h4, hn, hk, h.1, h.2.1, h.2.2⟩)
section
variable {n m : Nat} {ans ph bl sw : Int32} {col l0 l1 val tag rg gl fld num regs gls : Nat → Int32}
/-- a value of the component that only shows reached cells -/
def th_rv (n : Nat) (R : Nat → Prop) (x : Int32) : Prop := x = -1 ∨ ∃ c, c < n ∧ x = nI c ∧ R c
theorem th_rv_ok {R : Nat → Prop} {x : Int32} (h : th_rv n R x) : th_ok n x := by
  rcases h with h | ⟨c, hc, e, _⟩
  · exact Or.inl h
  · exact Or.inr ⟨c, hc, e⟩
theorem th_rv_R {R : Nat → Prop} {x : Int32} (hn : n ≤ 16) (h : th_rv n R x) {c : Nat} (hc : c < n) (e : x = nI c) : R c := by
  rcases h with h | ⟨d, hd, f, r⟩
  · exact absurd (h.symm.trans e) (th_neg (by omega))
  · have y : d = c := th_inj (by omega) (by omega) (f.symm.trans e)
    rw [← y]; exact r
theorem th_rv_of {R : Nat → Prop} {x : Int32} (o : th_ok n x) (h : ∀ c, c < n → x = nI c → R c) : th_rv n R x := by
  rcases o with o | ⟨c, hc, e⟩
  · exact Or.inl o
  · exact Or.inr ⟨c, hc, e, h c hc e⟩
theorem th_rv_rg (hh : th_hp n l0 l1 rg gl) {i : Nat} (hi : i < 12) : th_rv n (th_R n l0 l1 rg gl) (rg i) := th_rv_of (hh.2.1 i hi) (fun _ hc e => th_R_reg hi hc e)
theorem th_rv_gl (hh : th_hp n l0 l1 rg gl) {i : Nat} (hi : i < 2) : th_rv n (th_R n l0 l1 rg gl) (gl i) := th_rv_of (hh.2.2 i hi) (fun _ hc e => th_R_glo hi hc e)
theorem th_rv_l0 (hh : th_hp n l0 l1 rg gl) {c : Nat} (h : th_R n l0 l1 rg gl c) : th_rv n (th_R n l0 l1 rg gl) (l0 c) := th_rv_of (hh.1 c (th_R_lt h)).1 (fun _ hc e => th_R_l0 h hc e)
theorem th_rv_l1 (hh : th_hp n l0 l1 rg gl) {c : Nat} (h : th_R n l0 l1 rg gl c) : th_rv n (th_R n l0 l1 rg gl) (l1 c) := th_rv_of (hh.1 c (th_R_lt h)).2 (fun _ hc e => th_R_l1 h hc e)
theorem th_tau_u {R : Nat → Prop} {x z : Int32} {c0 : Nat} (hn : n ≤ 16) (h : th_rv n R x) (h0 : ¬ R c0) : th_tau (upd tag c0 z) x = th_tau tag x := by
  rcases h with rfl | ⟨c, hc, rfl, r⟩
  · rw [th_tau_m, th_tau_m]
  · have ne : c ≠ c0 := fun e => h0 (e ▸ r)
    rw [th_tau_c (by omega), th_tau_c (by omega), th_un ne]
/-- what the two sides hold in places that agree -/
def th_pt (m : Nat) (R : Nat → Prop) (l0 l1 val tag fld num : Nat → Int32) (c s : Nat) : Prop := R c ∧ c < 16 ∧ 1 ≤ s ∧ s ≤ m ∧ tag c = nI s ∧ fld (2 * s) = th_tau tag (l0 c) ∧ fld (2 * s + 1) = th_tau tag (l1 c) ∧ num s = val c
theorem th_val (hn : n ≤ 16) (y : th_Y m (th_R n l0 l1 rg gl) l0 l1 val tag rg gl fld num regs gls) {x : Int32} (h : th_rv n (th_R n l0 l1 rg gl) x) : (x = -1 ∧ th_tau tag x = 0) ∨ ∃ c s, x = nI c ∧ th_tau tag x = nI s ∧ th_pt m (th_R n l0 l1 rg gl) l0 l1 val tag fld num c s := by
  rcases h with rfl | ⟨c, hc, rfl, r⟩
  · exact Or.inl ⟨rfl, th_tau_m⟩
  · obtain ⟨s, a1, a2, a3, a4⟩ := y.2.2.1 c r
    exact Or.inr ⟨c, s, rfl, by rw [th_tau_c (by omega)]; exact a3, r, by omega, a1, a2, a3, a4⟩
theorem th_Y_sub {R R' : Nat → Prop} (h : ∀ c, R' c → R c) (y : th_Y m R l0 l1 val tag rg gl fld num regs gls) : th_Y m R' l0 l1 val tag rg gl fld num regs gls := ⟨y.1, y.2.1, fun c r => y.2.2.1 c (h c r), fun c d r r' => y.2.2.2 c d (h c r) (h d r')⟩
theorem th_m_rg {rg' regs' : Nat → Int32} (hn : n ≤ 16) (hh : th_hp n l0 l1 rg gl) (g : th_G False n l0 l1 rg gl ans ph bl sw col) (y : th_Y m (th_R n l0 l1 rg gl) l0 l1 val tag rg gl fld num regs gls)
    (h1 : ∀ i, i < 12 → th_rv n (th_R n l0 l1 rg gl) (rg' i)) (h2 : ph = 3 → ∀ i, i < 12 → ¬ th_bt ans (i / 4) → rg' i = rg i) (h3 : ∀ i, i < 12 → regs' i = th_tau tag (rg' i)) :
    th_hp n l0 l1 rg' gl ∧ th_G False n l0 l1 rg' gl ans ph bl sw col ∧ th_Y m (th_R n l0 l1 rg' gl) l0 l1 val tag rg' gl fld num regs' gls := by
  have hR : ∀ c, th_R n l0 l1 rg' gl c → th_R n l0 l1 rg gl c := fun c => th_R_le (fun i c hi hc e => th_rv_R hn (h1 i hi) hc e) (fun i c hi hc e => th_R_glo hi hc e) th_R_cl.2
  refine ⟨⟨hh.1, fun i hi => th_rv_ok (h1 i hi), hh.2.2⟩, th_G_mut g hR (fun p c z _ => th_pd_rg (h2 p) z) (fun _ _ z _ => z), ?_⟩
  exact th_Y_sub hR ⟨h3, y.2.1, y.2.2.1, y.2.2.2⟩
theorem th_m_r1 {j : Nat} {x x' : Int32} (hn : n ≤ 16) (hh : th_hp n l0 l1 rg gl) (g : th_G False n l0 l1 rg gl ans ph bl sw col) (y : th_Y m (th_R n l0 l1 rg gl) l0 l1 val tag rg gl fld num regs gls)
    (hx : th_rv n (th_R n l0 l1 rg gl) x) (hx' : x' = th_tau tag x) (hb : ph = 3 → th_bt ans (j / 4)) :
    th_hp n l0 l1 (upd rg j x) gl ∧ th_G False n l0 l1 (upd rg j x) gl ans ph bl sw col ∧ th_Y m (th_R n l0 l1 (upd rg j x) gl) l0 l1 val tag (upd rg j x) gl fld num (upd regs j x') gls := by
  refine th_m_rg hn hh g y (fun i hi => ?_) (fun p i hi nb => ?_) (fun i hi => ?_)
  · by_cases z : i = j
    · rw [z, th_us]; exact hx
    · rw [th_un z]; exact th_rv_rg hh hi
  · by_cases z : i = j
    · rw [z] at nb; exact absurd (hb p) nb
    · exact th_un z
  · by_cases z : i = j
    · rw [z, th_us, th_us]; exact hx'
    · rw [th_un z, th_un z]; exact y.1 i hi
theorem th_m_gl {f : Nat} {x x' : Int32} (hn : n ≤ 16) (hf : f < 2) (hh : th_hp n l0 l1 rg gl) (g : th_G False n l0 l1 rg gl ans ph bl sw col) (y : th_Y m (th_R n l0 l1 rg gl) l0 l1 val tag rg gl fld num regs gls)
    (hx : th_rv n (th_R n l0 l1 rg gl) x) (hx' : x' = th_tau tag x) (hw : ∀ c, c < n → gl f = nI c → col c ≠ 3 - bl) :
    th_hp n l0 l1 rg (upd gl f x) ∧ th_G False n l0 l1 rg (upd gl f x) ans ph bl sw col ∧ th_Y m (th_R n l0 l1 rg (upd gl f x)) l0 l1 val tag rg (upd gl f x) fld num regs (upd gls f x') := by
  have hR : ∀ c, th_R n l0 l1 rg (upd gl f x) c → th_R n l0 l1 rg gl c := fun c => th_R_le (fun i c hi hc e => th_R_reg hi hc e) (fun i c hi hc e => by
    by_cases z : i = f
    · rw [z, th_us] at e; exact th_rv_R hn hx hc e
    · rw [th_un z] at e; exact th_R_glo hi hc e) th_R_cl.2
  refine ⟨⟨hh.1, hh.2.1, fun i hi => ?_⟩, th_G_mut g hR (fun p c z w => ?_) (fun _ _ z _ => z), ?_⟩
  · by_cases z : i = f
    · rw [z, th_us]; exact th_rv_ok hx
    · rw [th_un z]; exact hh.2.2 i hi
  · rcases z with ⟨hcn, a | ⟨i, hi, ei⟩⟩
    · exact ⟨hcn, Or.inl a⟩
    · refine ⟨hcn, Or.inr ⟨i, hi, ?_⟩⟩
      by_cases z : i = f
      · rw [z] at ei; exact absurd w (hw c hcn ei)
      · rw [th_un z]; exact ei
  · refine th_Y_sub hR ⟨y.1, fun i hi => ?_, y.2.2.1, y.2.2.2⟩
    by_cases z : i = f
    · rw [z, th_us, th_us]; exact hx'
    · rw [th_un z, th_un z]; exact y.2.1 i hi
theorem th_m_l0 {c s : Nat} {x x' : Int32} (hn : n ≤ 16) (hm : m ≤ 511) (hh : th_hp n l0 l1 rg gl) (g : th_G False n l0 l1 rg gl ans ph bl sw col) (y : th_Y m (th_R n l0 l1 rg gl) l0 l1 val tag rg gl fld num regs gls)
    (pt : th_pt m (th_R n l0 l1 rg gl) l0 l1 val tag fld num c s) (hx : th_rv n (th_R n l0 l1 rg gl) x) (hx' : x' = th_tau tag x) (hw : ∀ d, d < n → l0 c = nI d → col d ≠ 3 - bl) :
    th_hp n (upd l0 c x) l1 rg gl ∧ th_G False n (upd l0 c x) l1 rg gl ans ph bl sw col ∧ th_Y m (th_R n (upd l0 c x) l1 rg gl) (upd l0 c x) l1 val tag rg gl (upd fld (2 * s) x') num regs gls := by
  obtain ⟨rc, c16, s1, sm, ts, _⟩ := pt
  have hR : ∀ a, th_R n (upd l0 c x) l1 rg gl a → th_R n l0 l1 rg gl a := fun a => th_R_le (fun i c hi hc e => th_R_reg hi hc e) (fun i c hi hc e => th_R_glo hi hc e) (fun a d hcd ra => by
    rcases hcd with ⟨h1, h2, h3 | h3⟩
    · by_cases z : a = c
      · rw [z, th_us] at h3; exact th_rv_R hn hx h2 h3
      · rw [th_un z] at h3; exact th_R_l0 ra h2 h3
    · exact th_R_l1 ra h2 h3)
  refine ⟨⟨fun a ha => ⟨?_, (hh.1 a ha).2⟩, hh.2⟩, th_G_mut g hR (fun _ _ z _ => z) (fun a d hcd w => ?_), ?_⟩
  · by_cases z : a = c
    · rw [z, th_us]; exact th_rv_ok hx
    · rw [th_un z]; exact (hh.1 a ha).1
  · rcases hcd with ⟨h1, h2, h3 | h3⟩
    · refine ⟨h1, h2, Or.inl ?_⟩
      by_cases z : a = c
      · rw [z] at h3; exact absurd w (hw d h2 h3)
      · rw [th_un z]; exact h3
    · exact ⟨h1, h2, Or.inr h3⟩
  · refine ⟨y.1, y.2.1, fun a ra => ?_, fun a b ra rb => y.2.2.2 a b (hR a ra) (hR b rb)⟩
    obtain ⟨q, q1, qm, tq, f0, f1, nv⟩ := y.2.2.1 a (hR a ra)
    refine ⟨q, q1, qm, tq, ?_, ?_, nv⟩
    · by_cases z : a = c
      · have e : q = s := th_inj (by omega) (by omega) (tq.symm.trans (z ▸ ts))
        rw [e, z, th_us, th_us]; exact hx'
      · have e : q ≠ s := fun e => z (y.2.2.2 a c (hR a ra) rc (by rw [tq, ts, e]))
        rw [th_un (by omega), th_un z]; exact f0
    · rw [th_un (by omega)]; exact f1
theorem th_m_l1 {c s : Nat} {x x' : Int32} (hn : n ≤ 16) (hm : m ≤ 511) (hh : th_hp n l0 l1 rg gl) (g : th_G False n l0 l1 rg gl ans ph bl sw col) (y : th_Y m (th_R n l0 l1 rg gl) l0 l1 val tag rg gl fld num regs gls)
    (pt : th_pt m (th_R n l0 l1 rg gl) l0 l1 val tag fld num c s) (hx : th_rv n (th_R n l0 l1 rg gl) x) (hx' : x' = th_tau tag x) (hw : ∀ d, d < n → l1 c = nI d → col d ≠ 3 - bl) :
    th_hp n l0 (upd l1 c x) rg gl ∧ th_G False n l0 (upd l1 c x) rg gl ans ph bl sw col ∧ th_Y m (th_R n l0 (upd l1 c x) rg gl) l0 (upd l1 c x) val tag rg gl (upd fld (2 * s + 1) x') num regs gls := by
  obtain ⟨rc, c16, s1, sm, ts, _⟩ := pt
  have hR : ∀ a, th_R n l0 (upd l1 c x) rg gl a → th_R n l0 l1 rg gl a := fun a => th_R_le (fun i c hi hc e => th_R_reg hi hc e) (fun i c hi hc e => th_R_glo hi hc e) (fun a d hcd ra => by
    rcases hcd with ⟨h1, h2, h3 | h3⟩
    · exact th_R_l0 ra h2 h3
    · by_cases z : a = c
      · rw [z, th_us] at h3; exact th_rv_R hn hx h2 h3
      · rw [th_un z] at h3; exact th_R_l1 ra h2 h3)
  refine ⟨⟨fun a ha => ⟨(hh.1 a ha).1, ?_⟩, hh.2⟩, th_G_mut g hR (fun _ _ z _ => z) (fun a d hcd w => ?_), ?_⟩
  · by_cases z : a = c
    · rw [z, th_us]; exact th_rv_ok hx
    · rw [th_un z]; exact (hh.1 a ha).2
  · rcases hcd with ⟨h1, h2, h3 | h3⟩
    · exact ⟨h1, h2, Or.inl h3⟩
    · refine ⟨h1, h2, Or.inr ?_⟩
      by_cases z : a = c
      · rw [z] at h3; exact absurd w (hw d h2 h3)
      · rw [th_un z]; exact h3
  · refine ⟨y.1, y.2.1, fun a ra => ?_, fun a b ra rb => y.2.2.2 a b (hR a ra) (hR b rb)⟩
    obtain ⟨q, q1, qm, tq, f0, f1, nv⟩ := y.2.2.1 a (hR a ra)
    refine ⟨q, q1, qm, tq, ?_, ?_, nv⟩
    · rw [th_un (by omega)]; exact f0
    · by_cases z : a = c
      · have e : q = s := th_inj (by omega) (by omega) (tq.symm.trans (z ▸ ts))
        rw [e, z, th_us, th_us]; exact hx'
      · have e : q ≠ s := fun e => z (y.2.2.2 a c (hR a ra) rc (by rw [tq, ts, e]))
        rw [th_un (by omega), th_un z]; exact f1
theorem th_m_val {c s : Nat} {v : Int32} (hm : m ≤ 511) (y : th_Y m (th_R n l0 l1 rg gl) l0 l1 val tag rg gl fld num regs gls) (pt : th_pt m (th_R n l0 l1 rg gl) l0 l1 val tag fld num c s) : th_Y m (th_R n l0 l1 rg gl) l0 l1 (upd val c v) tag rg gl fld (upd num s v) regs gls := by
  obtain ⟨rc, c16, s1, sm, ts, _⟩ := pt
  refine ⟨y.1, y.2.1, fun a ra => ?_, y.2.2.2⟩
  obtain ⟨q, q1, qm, tq, f0, f1, nv⟩ := y.2.2.1 a ra
  refine ⟨q, q1, qm, tq, f0, f1, ?_⟩
  by_cases z : a = c
  · have e : q = s := th_inj (by omega) (by omega) (tq.symm.trans (z ▸ ts))
    rw [e, z, th_us, th_us]
  · have e : q ≠ s := fun e => z (y.2.2.2 a c ra rc (by rw [tq, ts, e]))
    rw [th_un e, th_un z]; exact nv
theorem th_m_new {c0 j : Nat} {k v : Int32} (hn : n ≤ 16) (hm : m ≤ 511) (hh : th_hp n l0 l1 rg gl) (g : th_G False n l0 l1 rg gl ans ph bl sw col) (y : th_Y m (th_R n l0 l1 rg gl) l0 l1 val tag rg gl fld num regs gls)
    (hc0 : c0 < n) (hf : col c0 = 0) (hb : ph = 3 → th_bt ans (j / 4)) (hk1 : (ph = 0 ∨ ph = 5) → k = bl) (hk2 : ¬ (ph = 0 ∨ ph = 5) → k = 3) :
    th_hp n (upd l0 c0 (-1)) (upd l1 c0 (-1)) (upd rg j (nI c0)) gl ∧ th_G False n (upd l0 c0 (-1)) (upd l1 c0 (-1)) (upd rg j (nI c0)) gl ans ph bl sw (upd col c0 k) ∧
    th_Y (m + 1) (th_R n (upd l0 c0 (-1)) (upd l1 c0 (-1)) (upd rg j (nI c0)) gl) (upd l0 c0 (-1)) (upd l1 c0 (-1)) (upd val c0 v) (upd tag c0 (nI (m + 1))) (upd rg j (nI c0)) gl (upd (upd fld (2 * (m + 1)) 0) (2 * (m + 1) + 1) 0) (upd num (m + 1) v) (upd regs j (nI (m + 1))) gls := by
  have r0 : ¬ th_R n l0 l1 rg gl c0 := fun z => g.2.2.1 c0 z hf
  have hR : ∀ c, th_R n (upd l0 c0 (-1)) (upd l1 c0 (-1)) (upd rg j (nI c0)) gl c → th_R n l0 l1 rg gl c ∨ c = c0 := fun c z => by
    refine z (fun c => th_R n l0 l1 rg gl c ∨ c = c0) ⟨fun d hd => ?_, fun a d hd ra => ?_⟩
    · rcases hd with ⟨hdn, ⟨i, hi, ei⟩ | ⟨i, hi, ei⟩⟩
      · by_cases q : i = j
        · rw [q, th_us] at ei
          exact Or.inr (th_inj (by omega) (by omega) ei).symm
        · rw [th_un q] at ei; exact Or.inl (th_R_reg hi hdn ei)
      · exact Or.inl (th_R_glo hi hdn ei)
    · rcases hd with ⟨h1, h2, h3⟩
      by_cases q : a = c0
      · rw [q, th_us, th_us] at h3
        rcases h3 with h3 | h3
        · exact absurd h3 (th_neg (by omega))
        · exact absurd h3 (th_neg (by omega))
      · rw [th_un q, th_un q] at h3
        rcases ra with ra | ra
        · exact Or.inl (th_R_cl.2 a d ⟨h1, h2, h3⟩ ra)
        · exact absurd ra q
  refine ⟨⟨fun a ha => ?_, fun i hi => ?_, hh.2.2⟩, th_G_new g hc0 hf hk1 hk2 hR (fun p c z => th_pd_rg (fun i hi nb => ?_) z) (fun c d hd q => ?_), ⟨fun i hi => ?_, fun i hi => ?_, fun a ra => ?_, fun a b ra rb e => ?_⟩⟩
  · by_cases q : a = c0
    · rw [q, th_us, th_us]; exact ⟨Or.inl rfl, Or.inl rfl⟩
    · rw [th_un q, th_un q]; exact hh.1 a ha
  · by_cases q : i = j
    · rw [q, th_us]; exact Or.inr ⟨c0, hc0, rfl⟩
    · rw [th_un q]; exact hh.2.1 i hi
  · by_cases q : i = j
    · rw [q] at nb; exact absurd (hb p) nb
    · exact th_un q
  · rcases hd with ⟨h1, h2, h3⟩
    refine ⟨h1, h2, ?_⟩
    rw [th_un q, th_un q]; exact h3
  · by_cases q : i = j
    · rw [q, th_us, th_us, th_tau_c (by omega), th_us]
    · rw [th_un q, th_un q, th_tau_u hn (th_rv_rg hh hi) r0]; exact y.1 i hi
  · rw [th_tau_u hn (th_rv_gl hh hi) r0]; exact y.2.1 i hi
  · by_cases q : a = c0
    · refine ⟨m + 1, by omega, Nat.le_refl _, by rw [q, th_us], ?_, ?_, ?_⟩
      · rw [q, th_us, th_tau_m, th_un (by omega), th_us]
      · rw [q, th_us, th_us, th_tau_m]
      · rw [q, th_us, th_us]
    · have ra' : th_R n l0 l1 rg gl a := by
        rcases hR a ra with z | z
        · exact z
        · exact absurd z q
      obtain ⟨s, s1, sm, ts, f0, f1, nv⟩ := y.2.2.1 a ra'
      refine ⟨s, s1, by omega, by rw [th_un q]; exact ts, ?_, ?_, ?_⟩
      · rw [th_un q, th_tau_u hn (th_rv_l0 hh ra') r0, th_un (by omega), th_un (by omega)]; exact f0
      · rw [th_un q, th_tau_u hn (th_rv_l1 hh ra') r0, th_un (by omega), th_un (by omega)]; exact f1
      · rw [th_un q, th_un (by omega)]; exact nv
  · by_cases qa : a = c0
    · by_cases qb : b = c0
      · rw [qa, qb]
      · have rb' : th_R n l0 l1 rg gl b := by
          rcases hR b rb with z | z
          · exact z
          · exact absurd z qb
        obtain ⟨s, s1, sm, ts, _⟩ := y.2.2.1 b rb'
        rw [qa, th_us, th_un qb, ts] at e
        have := th_inj (by omega) (by omega) e
        omega
    · have ra' : th_R n l0 l1 rg gl a := by
        rcases hR a ra with z | z
        · exact z
        · exact absurd z qa
      by_cases qb : b = c0
      · obtain ⟨s, s1, sm, ts, _⟩ := y.2.2.1 a ra'
        rw [qb, th_us, th_un qa, ts] at e
        have := th_inj (by omega) (by omega) e
        omega
      · have rb' : th_R n l0 l1 rg gl b := by
          rcases hR b rb with z | z
          · exact z
          · exact absurd z qb
        rw [th_un qa, th_un qb] at e
        exact y.2.2.2 a b ra' rb' e
/-- the reference's live counts the component's reached cells -/
theorem th_lv (hn : n ≤ 16) (hm : m ≤ 511) (hh : th_hp n l0 l1 rg gl) (y : th_Y m (th_R n l0 l1 rg gl) l0 l1 val tag rg gl fld num regs gls) (rm : Int32) (rea : Nat → Int32) : ∃ rea', ∀ post : Int32 → SY → Prop, post (nI (th_cn (th_R n l0 l1 rg gl) n)) (nI m, rm, fld, num, rea', regs, gls) → wpY_live post (nI m, rm, fld, num, rea, regs, gls) := by
  have tq : ∀ x, th_rv n (th_R n l0 l1 rg gl) x → ∃ s, s ≤ m ∧ th_tau tag x = nI s ∧ (s = 0 ∨ ∃ c, th_R n l0 l1 rg gl c ∧ tag c = nI s) := fun x hx => by
    rcases th_val hn y hx with ⟨_, e⟩ | ⟨c, s, _, e, pt⟩
    · exact ⟨0, Nat.zero_le m, e, Or.inl rfl⟩
    · exact ⟨s, pt.2.2.2.1, e, Or.inr ⟨c, pt.1, pt.2.2.2.2.1⟩⟩
  have q : th_Qr m fld regs gls (fun s => s = 0 ∨ ∃ c, th_R n l0 l1 rg gl c ∧ tag c = nI s) := by
    refine ⟨Or.inl rfl, fun j hj => ?_, fun j hj => ?_, fun i hi him qi => ?_, fun S S0 Sr Sg Sc s hs qs => ?_⟩
    · rw [y.1 j hj]; exact tq _ (th_rv_rg hh hj)
    · rw [y.2.1 j hj]; exact tq _ (th_rv_gl hh hj)
    · rcases qi with z | ⟨c, rc, tc⟩
      · omega
      · obtain ⟨s, s1, sm, ts, f0, f1, _⟩ := y.2.2.1 c rc
        have e : s = i := th_inj (by omega) (by omega) (ts.symm.trans tc)
        subst e
        obtain ⟨a, ha, ea, qa⟩ := tq _ (th_rv_l0 hh rc)
        obtain ⟨b, hb, eb, qb⟩ := tq _ (th_rv_l1 hh rc)
        exact ⟨a, b, ha, hb, f0.trans ea, f1.trans eb, qa, qb⟩
    · rcases qs with z | ⟨c, rc, tc⟩
      · rw [z]; exact S0
      · refine (rc (fun c => th_R n l0 l1 rg gl c ∧ ∀ s, s ≤ m → tag c = nI s → S s) ⟨fun c hr => ⟨th_R_cl.1 c hr, fun s hs tc => ?_⟩, fun c d hcd hS => ⟨th_R_cl.2 c d hcd hS.1, fun a ha ta => ?_⟩⟩).2 s hs tc
        · rcases hr with ⟨hcn, ⟨i, hi, ei⟩ | ⟨i, hi, ei⟩⟩
          · exact Sr i s hi hs (by rw [y.1 i hi, ei, th_tau_c (by omega)]; exact tc)
          · exact Sg i s hi hs (by rw [y.2.1 i hi, ei, th_tau_c (by omega)]; exact tc)
        · obtain ⟨i, i1, im, ti, f0, f1, _⟩ := y.2.2.1 c hS.1
          refine Sc i a i1 im ha (hS.2 i im ti) ?_
          rcases hcd with ⟨h1, h2, h3 | h3⟩
          · exact Or.inl (by rw [f0, h3, th_tau_c (by omega)]; exact ta)
          · exact Or.inr (by rw [f1, h3, th_tau_c (by omega)]; exact ta)
  obtain ⟨rea', X⟩ := th_y_live m rm fld num regs gls _ hm q rea
  refine ⟨rea', fun post h => X post ?_⟩
  have e : th_cn (th_R n l0 l1 rg gl) n = th_cn (fun j => 1 ≤ j ∧ (j = 0 ∨ ∃ c, th_R n l0 l1 rg gl c ∧ tag c = nI j)) (m + 1) := by
    refine th_cn_bij (fun c => (tag c).toNatClampNeg) n (m + 1) _ _ (fun c hc rc => ?_) (fun c d hc hd rc rd e => ?_) (fun i hi qi => ?_)
    · obtain ⟨s, s1, sm, ts, _⟩ := y.2.2.1 c rc
      have e : (tag c).toNatClampNeg = s := by rw [ts]; exact nI_clamp (by omega)
      rw [e]
      exact ⟨by omega, s1, Or.inr ⟨c, rc, ts⟩⟩
    · obtain ⟨s, s1, sm, ts, _⟩ := y.2.2.1 c rc
      obtain ⟨s', s1', sm', ts', _⟩ := y.2.2.1 d rd
      rw [ts, ts', nI_clamp (by omega), nI_clamp (by omega)] at e
      exact y.2.2.2 c d rc rd (by rw [ts, ts', e])
    · rcases qi with ⟨i1, z | ⟨c, rc, tc⟩⟩
      · omega
      · exact ⟨c, th_R_lt rc, rc, by rw [tc]; exact nI_clamp (by omega)⟩
  rw [← e]; exact h
end
end
section
/-! arguments, indices, the constructors, reading calls -/
theorem th_vx {t r : Nat} (ht : t < 3) (hr : r < 4) : vp_in (nI t * 4 + nI r) 12 := by rw [th_ix]; exact vp_in_nI (by omega) (by decide)
theorem th_cx {t r : Nat} (ht : t < 3) (hr : r < 4) : (nI t * 4 + nI r).toNatClampNeg = t * 4 + r := by rw [th_ix]; exact nI_clamp (by omega)
theorem th_vy {t r : Nat} (ht : t < 3) (hr : r < 4) : vp_in (4 * nI t + nI r) 12 := by rw [th_iy]; exact vp_in_nI (by omega) (by decide)
theorem th_cy {t r : Nat} (ht : t < 3) (hr : r < 4) : (4 * nI t + nI r).toNatClampNeg = t * 4 + r := by rw [th_iy]; exact nI_clamp (by omega)
theorem th_fe (q f : Nat) : 2 * nI q + nI f = nI (2 * q + f) := by
  show nI 2 * nI q + nI f = _
  rw [th_mul, nI_add]
theorem th_fv {q f : Nat} (hq : q ≤ 512) (hf : f < 2) : vp_in (2 * nI q + nI f) 1026 := by rw [th_fe]; exact vp_in_nI (by omega) (by decide)
theorem th_fc {q f : Nat} (hq : q ≤ 512) (hf : f < 2) : (2 * nI q + nI f).toNatClampNeg = 2 * q + f := by rw [th_fe]; exact nI_clamp (by omega)
theorem th_reg (t r : Int32) : (∃ a b : Nat, a < 3 ∧ b < 4 ∧ t = nI a ∧ r = nI b ∧ (∀ (post : Int32 → Prop) (u : SX), post 0 → wpX_bad post u t r) ∧ (∀ (post : Int32 → Prop) (v : SY), post 1 → wpY_isRegister post v t r)) ∨ ((∀ (post : Int32 → Prop) (u : SX), post 1 → wpX_bad post u t r) ∧ (∀ (post : Int32 → Prop) (v : SY), post 0 → wpY_isRegister post v t r)) := by
  by_cases h1 : t < 0
  · refine Or.inr ⟨fun post u h => ?_, fun post v h => ?_⟩
    · obtain ⟨cells, ans, ph, bl, sw, cnt, col, l0, l1, val, tag, rg, gl, st⟩ := u
      exact br_t h1 h
    · obtain ⟨md, rm, fld, num, rea, regs, gls⟩ := v
      exact br_t h1 h
  by_cases h2 : 2 < t
  · refine Or.inr ⟨fun post u h => ?_, fun post v h => ?_⟩
    · obtain ⟨cells, ans, ph, bl, sw, cnt, col, l0, l1, val, tag, rg, gl, st⟩ := u
      exact br_f h1 (br_t h2 h)
    · obtain ⟨md, rm, fld, num, rea, regs, gls⟩ := v
      exact br_f h1 (br_t h2 h)
  by_cases h3 : r < 0
  · refine Or.inr ⟨fun post u h => ?_, fun post v h => ?_⟩
    · obtain ⟨cells, ans, ph, bl, sw, cnt, col, l0, l1, val, tag, rg, gl, st⟩ := u
      exact br_f h1 (br_f h2 (br_t h3 h))
    · obtain ⟨md, rm, fld, num, rea, regs, gls⟩ := v
      exact br_f h1 (br_f h2 (br_t h3 h))
  by_cases h5 : 3 < r
  · refine Or.inr ⟨fun post u h => ?_, fun post v h => ?_⟩
    · obtain ⟨cells, ans, ph, bl, sw, cnt, col, l0, l1, val, tag, rg, gl, st⟩ := u
      exact br_f h1 (br_f h2 (br_f h3 (br_f (Int32.not_le.mpr h5) h)))
    · obtain ⟨md, rm, fld, num, rea, regs, gls⟩ := v
      exact br_f h1 (br_f h2 (br_f h3 (br_t h5 h)))
  obtain ⟨a, ha, ea⟩ := nI_of2 (x := t) (M := 2) (n := 2) (by decide) h1 (Int32.not_lt.mp h2)
  obtain ⟨b, hb, eb⟩ := nI_of2 (x := r) (M := 3) (n := 3) (by decide) h3 (Int32.not_lt.mp h5)
  refine Or.inl ⟨a, b, by omega, by omega, ea, eb, fun post u h => ?_, fun post v h => ?_⟩
  · obtain ⟨cells, ans, ph, bl, sw, cnt, col, l0, l1, val, tag, rg, gl, st⟩ := u
    exact br_f h1 (br_f h2 (br_f h3 (br_t (Int32.not_lt.mp h5) h)))
  · obtain ⟨md, rm, fld, num, rea, regs, gls⟩ := v
    exact br_f h1 (br_f h2 (br_f h3 (br_f h5 h)))
theorem th_bit (f : Int32) : (∃ a : Nat, a < 2 ∧ f = nI a ∧ (∀ (post : Int32 → Prop) (u : SX), post 0 → wpX_badBit post u f) ∧ (∀ (post : Int32 → Prop) (v : SY), post 1 → wpY_isBit post v f)) ∨ ((∀ (post : Int32 → Prop) (u : SX), post 1 → wpX_badBit post u f) ∧ (∀ (post : Int32 → Prop) (v : SY), post 0 → wpY_isBit post v f)) := by
  by_cases h0 : f = 0
  · subst h0
    refine Or.inl ⟨0, by decide, nI_0.symm, fun post u h => ?_, fun post v h => ?_⟩
    · obtain ⟨cells, ans, ph, bl, sw, cnt, col, l0, l1, val, tag, rg, gl, st⟩ := u
      exact br_f (by decide) (br_t (by decide) h)
    · obtain ⟨md, rm, fld, num, rea, regs, gls⟩ := v
      exact br_t rfl h
  by_cases h1 : f = 1
  · subst h1
    refine Or.inl ⟨1, by decide, by decide, fun post u h => ?_, fun post v h => ?_⟩
    · obtain ⟨cells, ans, ph, bl, sw, cnt, col, l0, l1, val, tag, rg, gl, st⟩ := u
      exact br_f (by decide) (br_t (by decide) h)
    · obtain ⟨md, rm, fld, num, rea, regs, gls⟩ := v
      exact br_f (by decide) (br_t rfl h)
  refine Or.inr ⟨fun post u h => ?_, fun post v h => ?_⟩
  · obtain ⟨cells, ans, ph, bl, sw, cnt, col, l0, l1, val, tag, rg, gl, st⟩ := u
    by_cases h2 : f < 0
    · exact br_t h2 h
    · refine br_f h2 (br_f (fun z => ?_) h)
      obtain ⟨a, ha, ea⟩ := nI_of2 (x := f) (M := 1) (n := 1) (by decide) h2 z
      have y : a = 0 ∨ a = 1 := by omega
      rcases y with rfl | rfl
      · exact h0 (ea.trans nI_0)
      · exact h1 (ea.trans (by decide))
  · obtain ⟨md, rm, fld, num, rea, regs, gls⟩ := v
    exact br_f h0 (br_f h1 h)
section
variable (cells ans ph bl sw cnt : Int32) (col l0 l1 val tag rg gl st : Nat → Int32)
theorem th_w_tag {x : Int32} (hx : th_ok 16 x) (post : Int32 → Prop) (h : post (th_tau tag x)) : wpX_tagOf post (cells, ans, ph, bl, sw, cnt, col, l0, l1, val, tag, rg, gl, st) x := by
  rcases hx with rfl | ⟨c, hc, rfl⟩
  · rw [th_tau_m] at h
    exact br_f (by decide) h
  · rw [th_tau_c hc] at h
    exact br_t (nI_pos' (by omega)) ⟨vp_in_nI hc (by decide), by rw [nI_clamp (by omega)]; exact h⟩
theorem th_w_ini : ∀ (k i : Nat) (rg : Nat → Int32), i + k = 12 → (∀ j, j < i → rg j = -1) → ∃ rg', (∀ j, j < 12 → rg' j = -1) ∧ ∀ post : SX → Prop, post (cells, ans, ph, bl, sw, cnt, col, l0, l1, val, tag, rg', upd (upd gl 0 (-1)) 1 (-1), st) → wX_init_96 post cells ans ph bl sw cnt (k + 1) (nI i) col l0 l1 val tag rg gl st := by
  intro k
  induction k with
  | zero =>
    intro i rg hk h
    have e1 : i = 12 := by omega
    subst e1
    exact ⟨rg, h, fun post z => br_t (by decide) (nm_e (nm_e z))⟩
  | succ k ih =>
    intro i rg hk h
    have cl : (nI i).toNatClampNeg = i := nI_clamp (by omega)
    obtain ⟨rg', h1, X⟩ := ih (i + 1) (upd rg i (-1)) (by omega) (fun j hj => by
      by_cases z : j = i
      · rw [z, th_us]
      · rw [th_un z]; exact h j (by omega))
    exact ⟨rg', h1, fun post z => br_f (nI_ge (a := i) (b := 12) (by omega) (by decide)) ⟨vp_in_nI (by omega) (by decide), nm_r (e' := upd rg i (-1)) (by rw [cl]) (nm_r (nI_1 i) (X post z))⟩⟩
end
theorem th_ini {n : Nat} (h4 : 4 ≤ n) (hn : n ≤ 16) (post : SX → Prop) (h : ∀ u : SX, i_Rel 1 u (0, nI n, (fun _ => 0), (fun _ => 0), (fun _ => 0), (fun _ => 0), (fun _ => 0)) → post u) : wX_init_84 post (nI n) 0 0 0 0 0 0 (fun _ => 0) (fun _ => 0) (fun _ => 0) (fun _ => 0) (fun _ => 0) (fun _ => 0) (fun _ => 0) (fun _ => 0) := by
  obtain ⟨rg', h1, X⟩ := th_w_ini (nI n) 0 0 1 0 0 (fun _ => 0) (fun _ => 0) (fun _ => 0) (fun _ => 0) (fun _ => 0) (fun _ => 0) (fun _ => 0) 12 0 (fun _ => 0) (by omega) (fun j hj => absurd hj (Nat.not_lt_zero j))
  refine Exists.intro 13 (X post (h _ ?_))
  have gm : ∀ i, i < 2 → upd (upd (fun _ => (0 : Int32)) 0 (-1)) 1 (-1) i = -1 := fun i hi => by
    have y : i = 0 ∨ i = 1 := by omega
    rcases y with rfl | rfl
    · rw [th_un (by decide), th_us]
    · rw [th_us]
  have r0 : ∀ c, ¬ th_R n (fun _ => 0) (fun _ => 0) rg' (upd (upd (fun _ => (0 : Int32)) 0 (-1)) 1 (-1)) c := fun c z => by
    refine z (fun _ => False) ⟨fun d hd => ?_, fun a d _ q => q⟩
    rcases hd with ⟨hdn, ⟨i, hi, ei⟩ | ⟨i, hi, ei⟩⟩
    · rw [h1 i hi] at ei; exact th_neg (by omega) ei
    · rw [gm i hi] at ei; exact th_neg (by omega) ei
  have z0 : th_ok n 0 := Or.inr ⟨0, by omega, nI_0.symm⟩
  refine th_mk (n := n) (m := 0) h4 hn (by omega) ⟨⟨fun c hc => ⟨z0, z0⟩, fun i hi => Or.inl (h1 i hi), fun i hi => Or.inl (gm i hi)⟩, ⟨Or.inl rfl, fun c hc => Or.inl rfl, fun c z => absurd z (r0 c), fun z => z.elim, Or.inl ⟨rfl, fun c hc => ⟨(by decide : (0 : Int32) ≠ 3), (by decide : (0 : Int32) ≠ 3 - 1)⟩⟩⟩, ⟨fun i hi => ?_, fun i hi => ?_, fun c z => absurd z (r0 c), fun c d z => absurd z (r0 c)⟩⟩
  · rw [h1 i hi, th_tau_m]
  · rw [gm i hi, th_tau_m]
theorem i_vc0 (k0 : Int32) : wpX_init (fun u => wpY_init (fun v => i_Rel 1 u v) k0) k0 := by
  by_cases h4 : 4 ≤ k0
  · by_cases h16 : k0 ≤ 16
    · obtain ⟨n, hn, rfl⟩ := nI_of2 (x := k0) (M := 16) (n := 16) (by decide) (fun z => absurd (Int32.lt_of_lt_of_le z (by decide : (0 : Int32) ≤ 4)) (Int32.not_lt.mpr h4)) h16
      have h4' : 4 ≤ n := (nI_leI (a := 4) (by decide) (by omega)).mp h4
      exact br_t h4 (br_t h16 (th_ini h4' hn _ (fun u z => br_t h4 (br_t h16 z))))
    · exact br_t h4 (br_f h16 (th_ini (n := 16) (by decide) (by decide) _ (fun u z => br_t h4 (br_f h16 z))))
  · exact br_f h4 (br_t (by decide) (th_ini (n := 4) (by decide) (by decide) _ (fun u z => br_f h4 z)))
theorem i_vc_made {k : Nat} {u : SX} {v : SY} (I : i_Rel k u v) (hk : k + 5 ≤ 2561) : wpX_made (fun r => wpY_made (fun r' => r' = r ∧ i_Rel (k + 5) u v) v) u := by
  obtain ⟨cells, ans, ph, bl, sw, cnt, col, l0, l1, val, tag, rg, gl, st⟩ := u
  obtain ⟨md, rm, fld, num, rea, regs, gls⟩ := v
  have J := i_up I
  obtain ⟨n, m, rfl, rfl, rfl, rfl, h4, hn, hk5, hh, g, y⟩ := I
  exact And.intro rfl J
theorem i_vc_serial {k : Nat} {u : SX} {v : SY} (I : i_Rel k u v) (hk : k + 5 ≤ 2561) (v1 : Int32) (v2 : Int32) : wpX_serial (fun r => wpY_serial (fun r' => r' = r ∧ i_Rel (k + 5) u v) v v1 v2) u v1 v2 := by
  obtain ⟨cells, ans, ph, bl, sw, cnt, col, l0, l1, val, tag, rg, gl, st⟩ := u
  obtain ⟨md, rm, fld, num, rea, regs, gls⟩ := v
  have J := i_up I
  obtain ⟨n, m, rfl, rfl, rfl, rfl, h4, hn, hk5, hh, g, y⟩ := I
  unfold wpX_serial
  rcases th_reg v1 v2 with ⟨t, r, ht, hr, rfl, rfl, X1, Y1⟩ | ⟨X1, Y1⟩
  · refine X1 _ _ (br_t rfl ⟨th_vx ht hr, ?_⟩)
    rw [th_cx ht hr]
    refine th_w_tag (nI n) ans ph bl sw (nI m) col l0 l1 val tag rg gl st (th_ok_mono hn (hh.2.1 _ (by omega))) _ ?_
    unfold wpY_serial
    refine Y1 _ _ (br_f (by decide) ⟨th_vy ht hr, ?_⟩)
    rw [th_cy ht hr]
    exact ⟨y.1 _ (by omega), J⟩
  · refine X1 _ _ (br_f (by decide) ?_)
    unfold wpY_serial
    exact Y1 _ _ (br_t rfl ⟨rfl, J⟩)
theorem i_vc_serialOf {k : Nat} {u : SX} {v : SY} (I : i_Rel k u v) (hk : k + 5 ≤ 2561) (v1 : Int32) : wpX_serialOf (fun r => wpY_serialOf (fun r' => r' = r ∧ i_Rel (k + 5) u v) v v1) u v1 := by
  obtain ⟨cells, ans, ph, bl, sw, cnt, col, l0, l1, val, tag, rg, gl, st⟩ := u
  obtain ⟨md, rm, fld, num, rea, regs, gls⟩ := v
  have J := i_up I
  obtain ⟨n, m, rfl, rfl, rfl, rfl, h4, hn, hk5, hh, g, y⟩ := I
  unfold wpX_serialOf
  rcases th_bit v1 with ⟨f, hf, rfl, X1, Y1⟩ | ⟨X1, Y1⟩
  · refine X1 _ _ (br_t rfl ⟨vp_in_nI hf (by decide), ?_⟩)
    have cl : (nI f).toNatClampNeg = f := nI_clamp (by omega)
    rw [cl]
    refine th_w_tag (nI n) ans ph bl sw (nI m) col l0 l1 val tag rg gl st (th_ok_mono hn (hh.2.2 _ hf)) _ ?_
    unfold wpY_serialOf
    refine Y1 _ _ (br_f (by decide) ⟨vp_in_nI hf (by decide), ?_⟩)
    rw [cl]
    exact ⟨y.2.1 _ hf, J⟩
  · refine X1 _ _ (br_f (by decide) ?_)
    unfold wpY_serialOf
    exact Y1 _ _ (br_t rfl ⟨rfl, J⟩)
theorem i_vc_number {k : Nat} {u : SX} {v : SY} (I : i_Rel k u v) (hk : k + 5 ≤ 2561) (v1 : Int32) (v2 : Int32) : wpX_number (fun r => wpY_number (fun r' => r' = r ∧ i_Rel (k + 5) u v) v v1 v2) u v1 v2 := by
  obtain ⟨cells, ans, ph, bl, sw, cnt, col, l0, l1, val, tag, rg, gl, st⟩ := u
  obtain ⟨md, rm, fld, num, rea, regs, gls⟩ := v
  have J := i_up I
  obtain ⟨n, m, rfl, rfl, rfl, rfl, h4, hn, hk5, hh, g, y⟩ := I
  unfold wpX_number
  rcases th_reg v1 v2 with ⟨t, r, ht, hr, rfl, rfl, X1, Y1⟩ | ⟨X1, Y1⟩
  · refine X1 _ _ (br_t rfl ⟨th_vx ht hr, ?_⟩)
    rw [th_cx ht hr]
    have yr := y.1 (t * 4 + r) (by omega)
    rcases th_val hn y (th_rv_rg hh (i := t * 4 + r) (by omega)) with ⟨e, e'⟩ | ⟨c, q, e, e', rc, c16, q1, qm, tq, f0, f1, nv⟩
    · refine nm_r e (br_f (by decide) ?_)
      unfold wpY_number
      refine Y1 _ _ (br_f (by decide) ⟨th_vy ht hr, ?_⟩)
      rw [th_cy ht hr]
      exact br_t (yr.trans e') ⟨rfl, J⟩
    · refine nm_r e (br_t (nI_pos' (by omega)) ⟨vp_in_nI c16 (by decide), ?_⟩)
      rw [nI_clamp (by omega)]
      unfold wpY_number
      refine Y1 _ _ (br_f (by decide) ⟨th_vy ht hr, ?_⟩)
      rw [th_cy ht hr, yr, e']
      refine br_f (nI_ne0 (by omega) (by omega)) ⟨th_vy ht hr, vp_in_nI (by omega) (by decide), ?_⟩
      rw [nI_clamp (by omega)]
      exact ⟨nv, J⟩
  · refine X1 _ _ (br_f (by decide) ?_)
    unfold wpY_number
    exact Y1 _ _ (br_t rfl ⟨rfl, J⟩)
theorem i_vc_serialIn {k : Nat} {u : SX} {v : SY} (I : i_Rel k u v) (hk : k + 5 ≤ 2561) (v1 : Int32) (v2 : Int32) (v3 : Int32) : wpX_serialIn (fun r => wpY_serialIn (fun r' => r' = r ∧ i_Rel (k + 5) u v) v v1 v2 v3) u v1 v2 v3 := by
  obtain ⟨cells, ans, ph, bl, sw, cnt, col, l0, l1, val, tag, rg, gl, st⟩ := u
  obtain ⟨md, rm, fld, num, rea, regs, gls⟩ := v
  have J := i_up I
  obtain ⟨n, m, rfl, rfl, rfl, rfl, h4, hn, hk5, hh, g, y⟩ := I
  unfold wpX_serialIn
  rcases th_reg v1 v2 with ⟨t, r, ht, hr, rfl, rfl, X1, Y1⟩ | ⟨X1, Y1⟩
  · rcases th_bit v3 with ⟨f, hf, rfl, X3, Y3⟩ | ⟨X3, Y3⟩
    · refine X1 _ _ (br_t rfl (X3 _ _ (br_t rfl ⟨th_vx ht hr, ?_⟩)))
      rw [th_cx ht hr]
      have yr := y.1 (t * 4 + r) (by omega)
      rcases th_val hn y (th_rv_rg hh (i := t * 4 + r) (by omega)) with ⟨e, e'⟩ | ⟨c, q, e, e', rc, c16, q1, qm, tq, f0, f1, nv⟩
      · refine nm_r e (br_f (by decide) ?_)
        unfold wpY_serialIn
        refine Y1 _ _ (br_f (by decide) (Y3 _ _ (br_f (by decide) ⟨th_vy ht hr, ?_⟩)))
        rw [th_cy ht hr]
        exact nm_r (yr.trans e') (br_t rfl ⟨rfl, J⟩)
      · refine nm_r e (br_t (nI_pos' (by omega)) ?_)
        have cl : (nI c).toNatClampNeg = c := nI_clamp (by omega)
        have Yk : ∀ a, fld (2 * q + f) = a → wpY_serialIn (fun r' => r' = a ∧ i_Rel (k + 5) (nI n, ans, ph, bl, sw, nI m, col, l0, l1, val, tag, rg, gl, st) (nI m, nI n, fld, num, rea, regs, gls)) (nI m, nI n, fld, num, rea, regs, gls) (nI t) (nI r) (nI f) := fun a ea => by
          unfold wpY_serialIn
          refine Y1 _ _ (br_f (by decide) (Y3 _ _ (br_f (by decide) ⟨th_vy ht hr, ?_⟩)))
          rw [th_cy ht hr]
          refine nm_r (yr.trans e') (br_f (nI_ne0 (by omega) (by omega)) ⟨th_fv (by omega) hf, ?_⟩)
          rw [th_fc (by omega) hf]
          exact ⟨ea, J⟩
        have f01 : f = 0 ∨ f = 1 := by omega
        rcases f01 with rfl | rfl
        · refine br_t nI_0 ⟨vp_in_nI c16 (by decide), ?_⟩
          rw [cl]
          unfold wX_serialIn_61
          exact th_w_tag (nI n) ans ph bl sw (nI m) col l0 l1 val tag rg gl st (th_ok_mono hn (hh.1 c (th_R_lt rc)).1) _ (Yk _ f0)
        · refine br_f (nI_ne0 (by decide) (by decide)) ⟨vp_in_nI c16 (by decide), ?_⟩
          rw [cl]
          unfold wX_serialIn_61
          exact th_w_tag (nI n) ans ph bl sw (nI m) col l0 l1 val tag rg gl st (th_ok_mono hn (hh.1 c (th_R_lt rc)).2) _ (Yk _ f1)
    · refine X1 _ _ (br_t rfl (X3 _ _ (br_f (by decide) ?_)))
      unfold wpY_serialIn
      exact Y1 _ _ (br_f (by decide) (Y3 _ _ (br_t rfl ⟨rfl, J⟩)))
  · refine X1 _ _ (br_f (by decide) ?_)
    unfold wpY_serialIn
    exact Y1 _ _ (br_t rfl ⟨rfl, J⟩)
end
section
/-! the calls that write -/
theorem th_pb {ph a : Int32} {t r : Nat} {A C : Prop} (hr : r < 4) (p : (ph = 1 ∨ ph = 2 ∨ ph = 3) → A ∧ th_bt a t ∧ C) : ph = 3 → th_bt a ((t * 4 + r) / 4) := fun z => by
  have e : (t * 4 + r) / 4 = t := by omega
  rw [e]
  exact (p (Or.inr (Or.inr z))).2.1
theorem i_vc_pause {k : Nat} {u : SX} {v : SY} (I : i_Rel k u v) (hk : k + 5 ≤ 2561) (v1 : Int32) : wpX_pause (fun r u' => wpY_pause (fun r' => r' = r ∧ i_Rel (k + 5) u' v) v v1) u v1 := by
  obtain ⟨cells, ans, ph, bl, sw, cnt, col, l0, l1, val, tag, rg, gl, st⟩ := u
  obtain ⟨md, rm, fld, num, rea, regs, gls⟩ := v
  have J := i_up I
  obtain ⟨n, m, rfl, rfl, rfl, rfl, h4, hn, hk5, hh, g, y⟩ := I
  by_cases h1 : v1 < 0
  · exact br_t h1 (br_t h1 ⟨rfl, J⟩)
  · by_cases h2 : v1 ≤ 2
    · obtain ⟨t, ht, rfl⟩ := nI_of2 (x := v1) (M := 2) (n := 2) (by decide) h1 h2
      obtain ⟨a1, c1, s1, g1, p1, _, x1⟩ := th_w_answer (nI n) ans ph bl sw (nI m) col l0 l1 val tag rg gl st (t := t) (by omega) hn hh g
      exact br_f h1 (br_t h2 (x1 _ (br_f h1 (br_t h2 ⟨rfl, th_mk h4 hn (by omega) ⟨hh, g1, y⟩⟩))))
    · exact br_f h1 (br_f h2 (br_f h1 (br_f h2 ⟨rfl, J⟩)))
theorem i_vc_live {k : Nat} {u : SX} {v : SY} (I : i_Rel k u v) (hk : k + 5 ≤ 2561) : wpX_live (fun r u' => wpY_live (fun r' v' => r' = r ∧ i_Rel (k + 5) u' v') v) u := by
  obtain ⟨cells, ans, ph, bl, sw, cnt, col, l0, l1, val, tag, rg, gl, st⟩ := u
  obtain ⟨md, rm, fld, num, rea, regs, gls⟩ := v
  have J := i_up I
  obtain ⟨n, m, rfl, rfl, rfl, rfl, h4, hn, hk5, hh, g, y⟩ := I
  obtain ⟨a1, b1, w1, c1, s1, g1, x1⟩ := th_w_live ans ph bl sw (nI m) col l0 l1 val tag rg gl st (by omega) hn hh g
  obtain ⟨rea', X⟩ := th_lv hn (by omega) hh y (nI n) rea
  exact x1 _ (X _ ⟨rfl, th_mk h4 hn (by omega) ⟨hh, th_G_e0 g1, y⟩⟩)
theorem th_w_rst {n : Nat} (h0 : 0 < n) (hn : n ≤ 16) (cnt : Int32) (l0 l1 val tag rg gl st : Nat → Int32) (hh : th_hp n l0 l1 rg gl) (e : Nat) (he : e ≤ 63) : ∀ (k i : Nat) (ans ph bl sw : Int32) (col : Nat → Int32), i + k = e → th_G False n l0 l1 rg gl ans ph bl sw col → ∃ ans' ph' bl' sw' col', th_G False n l0 l1 rg gl ans' ph' bl' sw' col' ∧ ∀ post : SX → Prop, post (nI n, ans', ph', bl', sw', cnt, col', l0, l1, val, tag, rg, gl, st) → wX_rest_15 post (nI e) (k + 1) (nI i) (nI n) ans ph bl sw cnt col l0 l1 val tag rg gl st := by
  intro k
  induction k with
  | zero =>
    intro i ans ph bl sw col hk g
    have e1 : i = e := by omega
    subst e1
    exact ⟨ans, ph, bl, sw, col, g, fun post z => br_t (nI_le (Nat.le_refl i) (by omega)) z⟩
  | succ k ih =>
    intro i ans ph bl sw col hk g
    have nl : ¬ nI e ≤ nI i := nI_ge (by omega) (by omega)
    by_cases p : ph = 0
    · subst p
      obtain ⟨a2, ph2, b2, w2, c2, g2, X⟩ := ih (i + 1) 0 1 (3 - bl) sw col (by omega) (th_G_flip False g)
      exact ⟨a2, ph2, b2, w2, c2, g2, fun post z => br_f nl (th_w_flip (nI n) ans bl sw cnt col l0 l1 val tag rg gl st _ (nm_r (nI_1 i) (X post z)))⟩
    · obtain ⟨a1, ph1, w1, c1, g1, _, x1⟩ := th_w_step ans ph bl sw cnt col l0 l1 val tag rg gl st h0 hn hh g p
      obtain ⟨a2, ph2, b2, w2, c2, g2, X⟩ := ih (i + 1) a1 ph1 bl w1 c1 (by omega) g1
      exact ⟨a2, ph2, b2, w2, c2, g2, fun post z => br_f nl (x1 _ (nm_r (nI_1 i) (X post z)))⟩
theorem i_vc_rest {k : Nat} {u : SX} {v : SY} (I : i_Rel k u v) (hk : k + 5 ≤ 2561) (v1 : Int32) : wpX_rest (fun u' => wpY_rest (fun v' => i_Rel (k + 5) u' v') v v1) u v1 := by
  obtain ⟨cells, ans, ph, bl, sw, cnt, col, l0, l1, val, tag, rg, gl, st⟩ := u
  obtain ⟨md, rm, fld, num, rea, regs, gls⟩ := v
  have J := i_up I
  obtain ⟨n, m, rfl, rfl, rfl, rfl, h4, hn, hk5, hh, g, y⟩ := I
  by_cases h1 : v1 ≤ 63
  · by_cases h2 : v1 < 0
    · exact br_t h1 (Exists.intro 1 (br_t (Int32.le_of_lt h2) J))
    · obtain ⟨e, he, rfl⟩ := nI_of2 (x := v1) (M := 63) (n := 63) (by decide) h2 h1
      obtain ⟨a2, ph2, b2, w2, c2, g2, X⟩ := th_w_rst (n := n) (by omega) hn (nI m) l0 l1 val tag rg gl st hh e he e 0 ans ph bl sw col (by omega) g
      exact br_t h1 (Exists.intro (e + 1) (X _ (th_mk (st := st) (rea := rea) h4 hn (by omega) ⟨hh, g2, y⟩)))
  · obtain ⟨a2, ph2, b2, w2, c2, g2, X⟩ := th_w_rst (n := n) (by omega) hn (nI m) l0 l1 val tag rg gl st hh 63 (by omega) 63 0 ans ph bl sw col (by omega) g
    exact br_f h1 (Exists.intro 64 (X _ (th_mk (st := st) (rea := rea) h4 hn (by omega) ⟨hh, g2, y⟩)))
theorem i_vc_drop {k : Nat} {u : SX} {v : SY} (I : i_Rel k u v) (hk : k + 5 ≤ 2561) (v1 : Int32) (v2 : Int32) : wpX_drop (fun r u' => wpY_drop (fun r' v' => r' = r ∧ i_Rel (k + 5) u' v') v v1 v2) u v1 v2 := by
  obtain ⟨cells, ans, ph, bl, sw, cnt, col, l0, l1, val, tag, rg, gl, st⟩ := u
  obtain ⟨md, rm, fld, num, rea, regs, gls⟩ := v
  have J := i_up I
  obtain ⟨n, m, rfl, rfl, rfl, rfl, h4, hn, hk5, hh, g, y⟩ := I
  unfold wpX_drop
  rcases th_reg v1 v2 with ⟨t, r, ht, hr, rfl, rfl, X1, Y1⟩ | ⟨X1, Y1⟩
  · obtain ⟨a1, c1, s1, g1, p1, _, x1⟩ := th_w_answer (nI n) ans ph bl sw (nI m) col l0 l1 val tag rg gl st ht hn hh g
    refine X1 _ _ (br_t rfl (x1 _ ⟨th_vx ht hr, ?_⟩))
    rw [th_cx ht hr]
    refine nm_e ?_
    unfold wpY_drop
    refine Y1 _ _ (br_f (by decide) ⟨th_vy ht hr, ?_⟩)
    rw [th_cy ht hr]
    exact nm_e ⟨rfl, th_mk h4 hn (by omega) (th_m_r1 hn hh g1 y (Or.inl rfl) th_tau_m.symm (th_pb hr p1))⟩
  · refine X1 _ _ (br_f (by decide) ?_)
    unfold wpY_drop
    exact Y1 _ _ (br_t rfl ⟨rfl, J⟩)
theorem i_vc_copy {k : Nat} {u : SX} {v : SY} (I : i_Rel k u v) (hk : k + 5 ≤ 2561) (v1 : Int32) (v2 : Int32) (v3 : Int32) : wpX_copy (fun r u' => wpY_copy (fun r' v' => r' = r ∧ i_Rel (k + 5) u' v') v v1 v2 v3) u v1 v2 v3 := by
  obtain ⟨cells, ans, ph, bl, sw, cnt, col, l0, l1, val, tag, rg, gl, st⟩ := u
  obtain ⟨md, rm, fld, num, rea, regs, gls⟩ := v
  have J := i_up I
  obtain ⟨n, m, rfl, rfl, rfl, rfl, h4, hn, hk5, hh, g, y⟩ := I
  unfold wpX_copy
  rcases th_reg v1 v2 with ⟨t, r, ht, hr, rfl, rfl, X1, Y1⟩ | ⟨X1, Y1⟩
  · rcases th_reg (nI t) v3 with ⟨_, s, _, hs, _, rfl, X2, Y2⟩ | ⟨X2, Y2⟩
    · obtain ⟨a1, c1, s1, g1, p1, _, x1⟩ := th_w_answer (nI n) ans ph bl sw (nI m) col l0 l1 val tag rg gl st ht hn hh g
      refine X1 _ _ (br_t rfl (X2 _ _ (br_t rfl (x1 _ ⟨th_vx ht hs, th_vx ht hr, ?_⟩))))
      rw [th_cx ht hr, th_cx ht hs]
      refine nm_e ?_
      unfold wpY_copy
      refine Y1 _ _ (br_f (by decide) (Y2 _ _ (br_f (by decide) ⟨th_vy ht hs, th_vy ht hr, ?_⟩)))
      rw [th_cy ht hr, th_cy ht hs]
      exact nm_e ⟨rfl, th_mk h4 hn (by omega) (th_m_r1 hn hh g1 y (th_rv_rg hh (by omega)) (y.1 _ (by omega)) (th_pb hr p1))⟩
    · refine X1 _ _ (br_t rfl (X2 _ _ (br_f (by decide) ?_)))
      unfold wpY_copy
      exact Y1 _ _ (br_f (by decide) (Y2 _ _ (br_t rfl ⟨rfl, J⟩)))
  · refine X1 _ _ (br_f (by decide) ?_)
    unfold wpY_copy
    exact Y1 _ _ (br_t rfl ⟨rfl, J⟩)
theorem i_vc_get {k : Nat} {u : SX} {v : SY} (I : i_Rel k u v) (hk : k + 5 ≤ 2561) (v1 : Int32) (v2 : Int32) (v3 : Int32) : wpX_get (fun r u' => wpY_get (fun r' v' => r' = r ∧ i_Rel (k + 5) u' v') v v1 v2 v3) u v1 v2 v3 := by
  obtain ⟨cells, ans, ph, bl, sw, cnt, col, l0, l1, val, tag, rg, gl, st⟩ := u
  obtain ⟨md, rm, fld, num, rea, regs, gls⟩ := v
  have J := i_up I
  obtain ⟨n, m, rfl, rfl, rfl, rfl, h4, hn, hk5, hh, g, y⟩ := I
  unfold wpX_get
  rcases th_reg v1 v2 with ⟨t, r, ht, hr, rfl, rfl, X1, Y1⟩ | ⟨X1, Y1⟩
  · rcases th_bit v3 with ⟨f, hf, rfl, X2, Y2⟩ | ⟨X2, Y2⟩
    · obtain ⟨a1, c1, s1, g1, p1, _, x1⟩ := th_w_answer (nI n) ans ph bl sw (nI m) col l0 l1 val tag rg gl st ht hn hh g
      have cl : (nI f).toNatClampNeg = f := nI_clamp (by omega)
      refine X1 _ _ (br_t rfl (X2 _ _ (br_t rfl (x1 _ ⟨vp_in_nI hf (by decide), th_vx ht hr, ?_⟩))))
      rw [th_cx ht hr, cl]
      refine nm_e ?_
      unfold wpY_get
      refine Y1 _ _ (br_f (by decide) (Y2 _ _ (br_f (by decide) ⟨vp_in_nI hf (by decide), th_vy ht hr, ?_⟩)))
      rw [th_cy ht hr, cl]
      exact nm_e ⟨rfl, th_mk h4 hn (by omega) (th_m_r1 hn hh g1 y (th_rv_gl hh hf) (y.2.1 _ hf) (th_pb hr p1))⟩
    · refine X1 _ _ (br_t rfl (X2 _ _ (br_f (by decide) ?_)))
      unfold wpY_get
      exact Y1 _ _ (br_f (by decide) (Y2 _ _ (br_t rfl ⟨rfl, J⟩)))
  · refine X1 _ _ (br_f (by decide) ?_)
    unfold wpY_get
    exact Y1 _ _ (br_t rfl ⟨rfl, J⟩)
theorem i_vc_load {k : Nat} {u : SX} {v : SY} (I : i_Rel k u v) (hk : k + 5 ≤ 2561) (v1 : Int32) (v2 : Int32) (v3 : Int32) (v4 : Int32) : wpX_load (fun r u' => wpY_load (fun r' v' => r' = r ∧ i_Rel (k + 5) u' v') v v1 v2 v3 v4) u v1 v2 v3 v4 := by
  obtain ⟨cells, ans, ph, bl, sw, cnt, col, l0, l1, val, tag, rg, gl, st⟩ := u
  obtain ⟨md, rm, fld, num, rea, regs, gls⟩ := v
  have J := i_up I
  obtain ⟨n, m, rfl, rfl, rfl, rfl, h4, hn, hk5, hh, g, y⟩ := I
  unfold wpX_load
  rcases th_reg v1 v2 with ⟨t, r, ht, hr, rfl, rfl, X1, Y1⟩ | ⟨X1, Y1⟩
  · rcases th_reg (nI t) v3 with ⟨_, s, _, hs, _, rfl, X2, Y2⟩ | ⟨X2, Y2⟩
    · rcases th_bit v4 with ⟨f, hf, rfl, X3, Y3⟩ | ⟨X3, Y3⟩
      · obtain ⟨a1, c1, s1, g1, p1, _, x1⟩ := th_w_answer (nI n) ans ph bl sw (nI m) col l0 l1 val tag rg gl st ht hn hh g
        refine X1 _ _ (br_t rfl (X2 _ _ (br_t rfl (X3 _ _ (br_t rfl (x1 _ ⟨th_vx ht hs, ?_⟩))))))
        rw [th_cx ht hr, th_cx ht hs]
        have yr := y.1 (t * 4 + s) (by omega)
        rcases th_val hn y (th_rv_rg hh (i := t * 4 + s) (by omega)) with ⟨e, e'⟩ | ⟨c, q, e, e', rc, c16, q1, qm, tq, f0, f1, nv⟩
        · refine nm_r e (br_f (by decide) ?_)
          unfold wpY_load
          refine Y1 _ _ (br_f (by decide) (Y2 _ _ (br_f (by decide) (Y3 _ _ (br_f (by decide) ⟨th_vy ht hs, ?_⟩)))))
          rw [th_cy ht hs]
          exact nm_r (yr.trans e') (br_t rfl ⟨rfl, th_mk h4 hn (by omega) ⟨hh, g1, y⟩⟩)
        · have cl : (nI c).toNatClampNeg = c := nI_clamp (by omega)
          have Yk : ∀ x : Int32, th_rv n (th_R n l0 l1 rg gl) x → fld (2 * q + f) = th_tau tag x → wpY_load (fun r' v' => r' = 0 ∧ i_Rel (k + 5) (nI n, a1, ph, bl, sw, nI m, c1, l0, l1, val, tag, upd rg (t * 4 + r) x, gl, s1) v') (nI m, nI n, fld, num, rea, regs, gls) (nI t) (nI r) (nI s) (nI f) := fun x hx ex => by
            unfold wpY_load
            refine Y1 _ _ (br_f (by decide) (Y2 _ _ (br_f (by decide) (Y3 _ _ (br_f (by decide) ⟨th_vy ht hs, ?_⟩)))))
            rw [th_cy ht hs, th_cy ht hr]
            refine nm_r (yr.trans e') (br_f (nI_ne0 (by omega) (by omega)) ⟨th_fv (by omega) hf, th_vy ht hr, ?_⟩)
            rw [th_fc (by omega) hf]
            exact nm_e ⟨rfl, th_mk h4 hn (by omega) (th_m_r1 hn hh g1 y hx ex (th_pb hr p1))⟩
          have f01 : f = 0 ∨ f = 1 := by omega
          rcases f01 with rfl | rfl
          · refine nm_r e (br_t (nI_pos' (by omega)) (br_t nI_0 ⟨vp_in_nI c16 (by decide), th_vx ht hr, ?_⟩))
            rw [cl]
            exact nm_e (Yk _ (th_rv_l0 hh rc) f0)
          · refine nm_r e (br_t (nI_pos' (by omega)) (br_f (nI_ne0 (by decide) (by decide)) ⟨vp_in_nI c16 (by decide), th_vx ht hr, ?_⟩))
            rw [cl]
            exact nm_e (Yk _ (th_rv_l1 hh rc) f1)
      · refine X1 _ _ (br_t rfl (X2 _ _ (br_t rfl (X3 _ _ (br_f (by decide) ?_)))))
        unfold wpY_load
        exact Y1 _ _ (br_f (by decide) (Y2 _ _ (br_f (by decide) (Y3 _ _ (br_t rfl ⟨rfl, J⟩)))))
    · refine X1 _ _ (br_t rfl (X2 _ _ (br_f (by decide) ?_)))
      unfold wpY_load
      exact Y1 _ _ (br_f (by decide) (Y2 _ _ (br_t rfl ⟨rfl, J⟩)))
  · refine X1 _ _ (br_f (by decide) ?_)
    unfold wpY_load
    exact Y1 _ _ (br_t rfl ⟨rfl, J⟩)
theorem i_vc_setNumber {k : Nat} {u : SX} {v : SY} (I : i_Rel k u v) (hk : k + 5 ≤ 2561) (v1 : Int32) (v2 : Int32) (v3 : Int32) : wpX_setNumber (fun r u' => wpY_setNumber (fun r' v' => r' = r ∧ i_Rel (k + 5) u' v') v v1 v2 v3) u v1 v2 v3 := by
  obtain ⟨cells, ans, ph, bl, sw, cnt, col, l0, l1, val, tag, rg, gl, st⟩ := u
  obtain ⟨md, rm, fld, num, rea, regs, gls⟩ := v
  have J := i_up I
  obtain ⟨n, m, rfl, rfl, rfl, rfl, h4, hn, hk5, hh, g, y⟩ := I
  unfold wpX_setNumber
  rcases th_reg v1 v2 with ⟨t, r, ht, hr, rfl, rfl, X1, Y1⟩ | ⟨X1, Y1⟩
  · obtain ⟨a1, c1, s1, g1, p1, _, x1⟩ := th_w_answer (nI n) ans ph bl sw (nI m) col l0 l1 val tag rg gl st ht hn hh g
    refine X1 _ _ (br_t rfl (x1 _ ⟨th_vx ht hr, ?_⟩))
    rw [th_cx ht hr]
    have yr := y.1 (t * 4 + r) (by omega)
    rcases th_val hn y (th_rv_rg hh (i := t * 4 + r) (by omega)) with ⟨e, e'⟩ | ⟨c, q, e, e', pt⟩
    · refine nm_r e (br_f (by decide) ?_)
      unfold wpY_setNumber
      refine Y1 _ _ (br_f (by decide) ⟨th_vy ht hr, ?_⟩)
      rw [th_cy ht hr]
      exact nm_r (yr.trans e') (br_t rfl ⟨rfl, th_mk h4 hn (by omega) ⟨hh, g1, y⟩⟩)
    · have q1 := pt.2.2.1
      have qm := pt.2.2.2.1
      refine nm_r e (br_t (nI_pos' (by have := pt.2.1; omega)) ⟨vp_in_nI pt.2.1 (by decide), ?_⟩)
      rw [nI_clamp (by have := pt.2.1; omega)]
      refine nm_e ?_
      unfold wpY_setNumber
      refine Y1 _ _ (br_f (by decide) ⟨th_vy ht hr, ?_⟩)
      rw [th_cy ht hr]
      refine nm_r (yr.trans e') (br_f (nI_ne0 (by omega) (by omega)) ⟨vp_in_nI (by omega) (by decide), ?_⟩)
      rw [nI_clamp (by omega)]
      exact nm_e ⟨rfl, th_mk h4 hn (by omega) ⟨hh, g1, th_m_val (by omega) y pt⟩⟩
  · refine X1 _ _ (br_f (by decide) ?_)
    unfold wpY_setNumber
    exact Y1 _ _ (br_t rfl ⟨rfl, J⟩)
end
section
/-! put, store, swap, make -/
theorem i_vc_put {k : Nat} {u : SX} {v : SY} (I : i_Rel k u v) (hk : k + 5 ≤ 2561) (v1 : Int32) (v2 : Int32) (v3 : Int32) : wpX_put (fun r u' => wpY_put (fun r' v' => r' = r ∧ i_Rel (k + 5) u' v') v v1 v2 v3) u v1 v2 v3 := by
  obtain ⟨cells, ans, ph, bl, sw, cnt, col, l0, l1, val, tag, rg, gl, st⟩ := u
  obtain ⟨md, rm, fld, num, rea, regs, gls⟩ := v
  have J := i_up I
  obtain ⟨n, m, rfl, rfl, rfl, rfl, h4, hn, hk5, hh, g, y⟩ := I
  unfold wpX_put
  rcases th_reg v1 v3 with ⟨t, r, ht, hr, rfl, rfl, X1, Y1⟩ | ⟨X1, Y1⟩
  · rcases th_bit v2 with ⟨f, hf, rfl, X2, Y2⟩ | ⟨X2, Y2⟩
    · obtain ⟨a1, c1, s1, g1, p1, _, x1⟩ := th_w_answer (nI n) ans ph bl sw (nI m) col l0 l1 val tag rg gl st ht hn hh g
      have cl : (nI f).toNatClampNeg = f := nI_clamp (by omega)
      have R1 := th_rv_rg hh (i := t * 4 + r) (by omega)
      have R2 := th_rv_gl hh hf
      obtain ⟨c2, G2, W2, x2⟩ := th_w_watch (nI n) a1 ph bl sw (nI m) c1 l0 l1 val tag rg gl s1 ht (th_ok_mono hn (th_rv_ok R2)) (th_ok_mono hn (th_rv_ok R1)) g1.1
      have g2 : th_G False n l0 l1 rg gl a1 ph bl sw c2 := th_G_gr g1 G2 (fun c z => by
          rcases z with ⟨z1, z | z⟩
          · exact th_ok_lt (th_rv_ok R2) hn z1 z
          · exact th_ok_lt (th_rv_ok R1) hn z1 z) (fun c z _ => by
          rcases z with ⟨z1, z | z⟩
          · exact th_rv_R hn R2 (th_ok_lt (th_rv_ok R2) hn z1 z) z
          · exact th_rv_R hn R1 (th_ok_lt (th_rv_ok R1) hn z1 z) z)
      refine X1 _ _ (br_t rfl (X2 _ _ (br_t rfl (x1 _ ⟨th_vx ht hr, ?_⟩))))
      rw [th_cx ht hr, cl]
      refine nm_e ⟨vp_in_nI hf (by decide), x2 _ ⟨vp_in_nI hf (by decide), nm_e ?_⟩⟩
      unfold wpY_put
      refine Y1 _ _ (br_f (by decide) (Y2 _ _ (br_f (by decide) ⟨th_vy ht hr, vp_in_nI hf (by decide), ?_⟩)))
      rw [th_cy ht hr, cl]
      exact nm_e ⟨rfl, th_mk h4 hn (by omega) (th_m_gl hn hf hh g2 y R1 (y.1 _ (by omega)) (fun c hc z => W2 c (by omega) z))⟩
    · refine X1 _ _ (br_t rfl (X2 _ _ (br_f (by decide) ?_)))
      unfold wpY_put
      exact Y1 _ _ (br_f (by decide) (Y2 _ _ (br_t rfl ⟨rfl, J⟩)))
  · refine X1 _ _ (br_f (by decide) ?_)
    unfold wpY_put
    exact Y1 _ _ (br_t rfl ⟨rfl, J⟩)
theorem i_vc_swap {k : Nat} {u : SX} {v : SY} (I : i_Rel k u v) (hk : k + 5 ≤ 2561) (v1 : Int32) (v2 : Int32) (v3 : Int32) (v4 : Int32) : wpX_swap (fun r u' => wpY_swap (fun r' v' => r' = r ∧ i_Rel (k + 5) u' v') v v1 v2 v3 v4) u v1 v2 v3 v4 := by
  obtain ⟨cells, ans, ph, bl, sw, cnt, col, l0, l1, val, tag, rg, gl, st⟩ := u
  obtain ⟨md, rm, fld, num, rea, regs, gls⟩ := v
  have J := i_up I
  obtain ⟨n, m, rfl, rfl, rfl, rfl, h4, hn, hk5, hh, g, y⟩ := I
  unfold wpX_swap
  rcases th_reg v1 v2 with ⟨t, r, ht, hr, rfl, rfl, X1, Y1⟩ | ⟨X1, Y1⟩
  · rcases th_reg v3 v4 with ⟨w, s, hw, hs, rfl, rfl, X2, Y2⟩ | ⟨X2, Y2⟩
    · obtain ⟨a1, c1, s1, g1, p1, _, x1⟩ := th_w_answer (nI n) ans ph bl sw (nI m) col l0 l1 val tag rg gl st ht hn hh g
      obtain ⟨a2, c2, s2, g2, p2, _, x2⟩ := th_w_answer (nI n) a1 ph bl sw (nI m) c1 l0 l1 val tag rg gl s1 hw hn hh g1
      refine X1 _ _ (br_t rfl (X2 _ _ (br_t rfl (x1 _ (x2 _ ⟨th_vx ht hr, ?_⟩)))))
      rw [th_cx ht hr, th_cx hw hs]
      refine nm_e ⟨th_vx hw hs, th_vx ht hr, nm_e ⟨th_vx hw hs, nm_e ?_⟩⟩
      unfold wpY_swap
      refine Y1 _ _ (br_f (by decide) (Y2 _ _ (br_f (by decide) ⟨th_vy ht hr, ?_⟩)))
      rw [th_cy ht hr, th_cy hw hs]
      refine nm_e ⟨th_vy hw hs, th_vy ht hr, nm_e ⟨th_vy hw hs, nm_e ⟨rfl, th_mk h4 hn (by omega) (th_m_rg hn hh g2 y (fun i hi => ?_) (fun p i hi nb => ?_) (fun i hi => ?_))⟩⟩⟩
      · by_cases z : i = w * 4 + s
        · rw [z, th_us]; exact th_rv_rg hh (by omega)
        · by_cases z' : i = t * 4 + r
          · rw [th_un z, z', th_us]; exact th_rv_rg hh (by omega)
          · rw [th_un z, th_un z']; exact th_rv_rg hh hi
      · by_cases z : i = w * 4 + s
        · have e : i / 4 = w := by omega
          rw [e] at nb
          exact absurd (p2 (Or.inr (Or.inr p))).2.1 nb
        · by_cases z' : i = t * 4 + r
          · have e : i / 4 = t := by omega
            rw [e] at nb
            exact absurd ((p2 (Or.inr (Or.inr p))).2.2 t ht (p1 (Or.inr (Or.inr p))).2.1) nb
          · rw [th_un z, th_un z']
      · by_cases z : i = w * 4 + s
        · rw [z, th_us, th_us]; exact y.1 _ (by omega)
        · by_cases z' : i = t * 4 + r
          · rw [th_un z, th_un z, z', th_us, th_us]; exact y.1 _ (by omega)
          · rw [th_un z, th_un z, th_un z', th_un z']; exact y.1 i hi
    · refine X1 _ _ (br_t rfl (X2 _ _ (br_f (by decide) ?_)))
      unfold wpY_swap
      exact Y1 _ _ (br_f (by decide) (Y2 _ _ (br_t rfl ⟨rfl, J⟩)))
  · refine X1 _ _ (br_f (by decide) ?_)
    unfold wpY_swap
    exact Y1 _ _ (br_t rfl ⟨rfl, J⟩)
theorem i_vc_store {k : Nat} {u : SX} {v : SY} (I : i_Rel k u v) (hk : k + 5 ≤ 2561) (v1 : Int32) (v2 : Int32) (v3 : Int32) (v4 : Int32) : wpX_store (fun r u' => wpY_store (fun r' v' => r' = r ∧ i_Rel (k + 5) u' v') v v1 v2 v3 v4) u v1 v2 v3 v4 := by
  obtain ⟨cells, ans, ph, bl, sw, cnt, col, l0, l1, val, tag, rg, gl, st⟩ := u
  obtain ⟨md, rm, fld, num, rea, regs, gls⟩ := v
  have J := i_up I
  obtain ⟨n, m, rfl, rfl, rfl, rfl, h4, hn, hk5, hh, g, y⟩ := I
  unfold wpX_store
  rcases th_reg v1 v2 with ⟨t, s, ht, hs, rfl, rfl, X1, Y1⟩ | ⟨X1, Y1⟩
  · rcases th_reg (nI t) v4 with ⟨_, r, _, hr, _, rfl, X2, Y2⟩ | ⟨X2, Y2⟩
    · rcases th_bit v3 with ⟨f, hf, rfl, X3, Y3⟩ | ⟨X3, Y3⟩
      · obtain ⟨a1, c1, s1, g1, p1, _, x1⟩ := th_w_answer (nI n) ans ph bl sw (nI m) col l0 l1 val tag rg gl st ht hn hh g
        refine X1 _ _ (br_t rfl (X2 _ _ (br_t rfl (X3 _ _ (br_t rfl (x1 _ ⟨th_vx ht hs, ?_⟩))))))
        rw [th_cx ht hr, th_cx ht hs]
        have yr := y.1 (t * 4 + s) (by omega)
        have R1 := th_rv_rg hh (i := t * 4 + r) (by omega)
        rcases th_val hn y (th_rv_rg hh (i := t * 4 + s) (by omega)) with ⟨e, e'⟩ | ⟨c, q, e, e', pt⟩
        · refine nm_r e (br_f (by decide) ?_)
          unfold wpY_store
          refine Y2 _ _ (br_f (by decide) (Y1 _ _ (br_f (by decide) (Y3 _ _ (br_f (by decide) ⟨th_vy ht hs, ?_⟩)))))
          rw [th_cy ht hs]
          exact nm_r (yr.trans e') (br_t rfl ⟨rfl, th_mk h4 hn (by omega) ⟨hh, g1, y⟩⟩)
        · have c16 := pt.2.1
          have q1 := pt.2.2.1
          have qm := pt.2.2.2.1
          have cl : (nI c).toNatClampNeg = c := nI_clamp (by omega)
          have vc : vp_in (nI c) 16 := vp_in_nI c16 (by decide)
          have gw : ∀ x : Int32, th_rv n (th_R n l0 l1 rg gl) x → ∀ c2, th_Gr bl c1 c2 (fun c => c < 16 ∧ (x = nI c ∨ rg (t * 4 + r) = nI c)) → th_G False n l0 l1 rg gl a1 ph bl sw c2 := fun x R2 c2 G2 => th_G_gr g1 G2 (fun c z => by
              rcases z with ⟨z1, z | z⟩
              · exact th_ok_lt (th_rv_ok R2) hn z1 z
              · exact th_ok_lt (th_rv_ok R1) hn z1 z) (fun c z _ => by
              rcases z with ⟨z1, z | z⟩
              · exact th_rv_R hn R2 (th_ok_lt (th_rv_ok R2) hn z1 z) z
              · exact th_rv_R hn R1 (th_ok_lt (th_rv_ok R1) hn z1 z) z)
          have f01 : f = 0 ∨ f = 1 := by omega
          rcases f01 with rfl | rfl
          · have R2 := th_rv_l0 hh pt.1
            obtain ⟨c2, G2, W2, x2⟩ := th_w_watch (nI n) a1 ph bl sw (nI m) c1 l0 l1 val tag rg gl s1 ht (th_ok_mono hn (th_rv_ok R2)) (th_ok_mono hn (th_rv_ok R1)) g1.1
            refine nm_r e (br_t (nI_pos' (by omega)) ⟨th_vx ht hr, nm_e (br_t nI_0 ⟨vc, ?_⟩)⟩)
            rw [cl]
            refine x2 _ ⟨vc, nm_e ?_⟩
            unfold wpY_store
            refine Y2 _ _ (br_f (by decide) (Y1 _ _ (br_f (by decide) (Y3 _ _ (br_f (by decide) ⟨th_vy ht hs, ?_⟩)))))
            rw [th_cy ht hs, th_cy ht hr]
            refine nm_r (yr.trans e') (br_f (nI_ne0 (by omega) (by omega)) ⟨th_vy ht hr, th_fv (by omega) hf, ?_⟩)
            rw [th_fc (by omega) hf]
            exact nm_e ⟨rfl, th_mk h4 hn (by omega) (th_m_l0 hn (by omega) hh (gw _ R2 c2 G2) y pt R1 (y.1 _ (by omega)) (fun d hd z => W2 d (by omega) z))⟩
          · have R2 := th_rv_l1 hh pt.1
            obtain ⟨c2, G2, W2, x2⟩ := th_w_watch (nI n) a1 ph bl sw (nI m) c1 l0 l1 val tag rg gl s1 ht (th_ok_mono hn (th_rv_ok R2)) (th_ok_mono hn (th_rv_ok R1)) g1.1
            refine nm_r e (br_t (nI_pos' (by omega)) ⟨th_vx ht hr, nm_e (br_f (nI_ne0 (by decide) (by decide)) ⟨vc, ?_⟩)⟩)
            rw [cl]
            refine x2 _ ⟨vc, nm_e ?_⟩
            unfold wpY_store
            refine Y2 _ _ (br_f (by decide) (Y1 _ _ (br_f (by decide) (Y3 _ _ (br_f (by decide) ⟨th_vy ht hs, ?_⟩)))))
            rw [th_cy ht hs, th_cy ht hr]
            refine nm_r (yr.trans e') (br_f (nI_ne0 (by omega) (by omega)) ⟨th_vy ht hr, th_fv (by omega) hf, ?_⟩)
            rw [th_fc (by omega) hf]
            exact nm_e ⟨rfl, th_mk h4 hn (by omega) (th_m_l1 hn (by omega) hh (gw _ R2 c2 G2) y pt R1 (y.1 _ (by omega)) (fun d hd z => W2 d (by omega) z))⟩
      · refine X1 _ _ (br_t rfl (X2 _ _ (br_t rfl (X3 _ _ (br_f (by decide) ?_)))))
        unfold wpY_store
        exact Y2 _ _ (br_f (by decide) (Y1 _ _ (br_f (by decide) (Y3 _ _ (br_t rfl ⟨rfl, J⟩)))))
    · refine X1 _ _ (br_t rfl (X2 _ _ (br_f (by decide) ?_)))
      unfold wpY_store
      exact Y2 _ _ (br_t rfl ⟨rfl, J⟩)
  · refine X1 _ _ (br_f (by decide) ?_)
    unfold wpY_store
    rcases th_reg v1 v4 with ⟨_, _, _, _, _, _, _, Y2⟩ | ⟨_, Y2⟩
    · exact Y2 _ _ (br_f (by decide) (Y1 _ _ (br_t rfl ⟨rfl, J⟩)))
    · exact Y2 _ _ (br_t rfl ⟨rfl, J⟩)
theorem th_uu {f : Nat → Int32} {a : Nat} {x z : Int32} : upd (upd f a x) a z = upd f a z := funext fun j => by
  by_cases h : j = a
  · rw [h, th_us, th_us]
  · rw [th_un h, th_un h, th_un h]
theorem th_w_mk {e : Prop} {n m t r c0 : Nat} {v : Int32} (ans ph bl sw : Int32) (col l0 l1 val tag rg gl st : Nat → Int32) (hn : n ≤ 16) (ht : t < 3) (hr : r < 4) (hc : c0 < n) (g : th_G e n l0 l1 rg gl ans ph bl sw col) : ∃ kc, ((ph = 0 ∨ ph = 5) → kc = bl) ∧ (¬ (ph = 0 ∨ ph = 5) → kc = 3) ∧ ∀ post : Int32 → SX → Prop, post (nI (m + 1)) (nI n, ans, ph, bl, sw, nI (m + 1), upd col c0 kc, upd l0 c0 (-1), upd l1 c0 (-1), upd val c0 v, upd tag c0 (nI (m + 1)), upd rg (t * 4 + r) (nI c0), gl, st) → wX_make_37 post (nI t) (nI r) v (nI c0) (nI n) ans ph bl sw (nI m) col l0 l1 val tag rg gl st := by
  have cl : (nI c0).toNatClampNeg = c0 := nI_clamp (by omega)
  have vc : vp_in (nI c0) 16 := vp_in_nI (by omega) (by decide)
  have m90 : ∀ (col' : Nat → Int32) (post : Int32 → SX → Prop), post (nI (m + 1)) (nI n, ans, ph, bl, sw, nI (m + 1), col', upd l0 c0 (-1), upd l1 c0 (-1), upd val c0 v, upd tag c0 (nI (m + 1)), upd rg (t * 4 + r) (nI c0), gl, st) → wX_make_90 post (nI t) (nI r) v (nI c0) (nI n) ans ph bl sw (nI (m + 1)) col' l0 l1 val tag rg gl st := fun col' post h => by
    unfold wX_make_90
    rw [cl, th_cx ht hr]
    exact ⟨vc, nm_e ⟨vc, nm_e ⟨vc, nm_e ⟨vc, nm_e ⟨th_vx ht hr, nm_e h⟩⟩⟩⟩⟩
  have p0 : 0 ≤ nI c0 := nI_pos' (by omega)
  by_cases z : ph = 0 ∨ ph = 5
  · refine ⟨bl, fun _ => rfl, fun y => absurd z y, fun post h => br_t p0 (nm_r (nI_1 m) ⟨vc, nm_r (e' := upd col c0 bl) (by rw [cl]) ?_⟩)⟩
    rcases z with z | z
    · exact br_t (by rw [z]; decide) (m90 _ post h)
    · exact br_f (by rw [z]; decide) (br_t (by rw [z]; decide) (m90 _ post h))
  · have q : ¬ ph < 1 ∧ ¬ 4 < ph := by
      rcases th_G_ph g with p | (p | p | p) | p | p
      · exact absurd (Or.inl p) z
      · rw [p]; decide
      · rw [p]; decide
      · rw [p]; decide
      · rw [p]; decide
      · exact absurd (Or.inr p) z
    exact ⟨3, fun y => absurd y z, fun _ => rfl, fun post h => br_t p0 (nm_r (nI_1 m) ⟨vc, nm_r (e' := upd col c0 bl) (by rw [cl]) (br_f q.1 (br_f q.2 ⟨vc, nm_r (e' := upd col c0 3) (by rw [cl, th_uu]) (m90 _ post h)⟩))⟩)⟩
end
section
/-! make -/
theorem th_go {k n m t r c0 : Nat} {v : Int32} {ans ph bl sw : Int32} {col l0 l1 val tag rg gl st fld num regs gls : Nat → Int32} (rea : Nat → Int32) (h4 : 4 ≤ n) (hn : n ≤ 16) (hk5 : 5 * m + 1 ≤ k) (hk : k + 5 ≤ 2561) (ht : t < 3) (hr : r < 4) (hh : th_hp n l0 l1 rg gl) (g : th_G False n l0 l1 rg gl ans ph bl sw col) (y : th_Y m (th_R n l0 l1 rg gl) l0 l1 val tag rg gl fld num regs gls) (hc : c0 < n) (hf : col c0 = 0) (hb : ph = 3 → th_bt ans ((t * 4 + r) / 4))
    (Y1 : ∀ (post : Int32 → Prop) (v : SY), post 1 → wpY_isRegister post v (nI t) (nI r)) :
    wX_make_37 (fun r1 u' => wpY_make (fun r' v' => r' = r1 ∧ i_Rel (k + 5) u' v') (nI m, nI n, fld, num, rea, regs, gls) (nI t) (nI r) v) (nI t) (nI r) v (nI c0) (nI n) ans ph bl sw (nI m) col l0 l1 val tag rg gl st := by
  obtain ⟨kc, k1, k2, X⟩ := th_w_mk (m := m) (v := v) ans ph bl sw col l0 l1 val tag rg gl st hn ht hr hc g
  obtain ⟨rea', L⟩ := th_lv hn (by omega) hh y (nI n) rea
  have lt : th_cn (th_R n l0 l1 rg gl) n < n := th_cn_some hc (fun z => g.2.2.1 c0 z hf)
  have e2 : (2 : Int32) * nI (m + 1) = nI (2 * (m + 1)) := th_mul 2 (m + 1)
  have c2 : ((2 : Int32) * nI (m + 1)).toNatClampNeg = 2 * (m + 1) := by rw [e2]; exact nI_clamp (by omega)
  have c3 : ((2 : Int32) * nI (m + 1) + 1).toNatClampNeg = 2 * (m + 1) + 1 := by rw [e2, nI_1]; exact nI_clamp (by omega)
  have v2 : vp_in ((2 : Int32) * nI (m + 1)) 1026 := by rw [e2]; exact vp_in_nI (by omega) (by decide)
  have v3 : vp_in ((2 : Int32) * nI (m + 1) + 1) 1026 := by rw [e2, nI_1]; exact vp_in_nI (by omega) (by decide)
  refine X _ ?_
  unfold wpY_make
  refine Y1 _ _ (br_f (by decide) (L _ (br_f (nI_ge lt (by omega)) (br_f (fun z => ?_) (nm_r (nI_1 m) ⟨v2, ?_⟩)))))
  · have := th_inj (a := m) (b := 512) (by omega) (by decide) z
    omega
  · rw [c2, c3, th_cy ht hr, nI_clamp (by omega)]
    exact nm_e ⟨v3, nm_e ⟨vp_in_nI (by omega) (by decide), nm_e ⟨th_vy ht hr, nm_e ⟨rfl, th_mk h4 hn (by omega) (th_m_new hn (by omega) hh g y hc hf hb k1 k2)⟩⟩⟩⟩
theorem i_vc_make {k : Nat} {u : SX} {v : SY} (I : i_Rel k u v) (hk : k + 5 ≤ 2561) (v1 : Int32) (v2 : Int32) (v3 : Int32) : wpX_make (fun r u' => wpY_make (fun r' v' => r' = r ∧ i_Rel (k + 5) u' v') v v1 v2 v3) u v1 v2 v3 := by
  obtain ⟨cells, ans, ph, bl, sw, cnt, col, l0, l1, val, tag, rg, gl, st⟩ := u
  obtain ⟨md, rm, fld, num, rea, regs, gls⟩ := v
  have J := i_up I
  obtain ⟨n, m, rfl, rfl, rfl, rfl, h4, hn, hk5, hh, g, y⟩ := I
  unfold wpX_make
  rcases th_reg v1 v2 with ⟨t, r, ht, hr, rfl, rfl, X1, Y1⟩ | ⟨X1, Y1⟩
  · obtain ⟨a1, c1, s1, g1, p1, _, x1⟩ := th_w_answer (nI n) ans ph bl sw (nI m) col l0 l1 val tag rg gl st ht hn hh g
    obtain ⟨f1, F1, y1⟩ := th_w_free a1 ph bl sw (nI m) c1 l0 l1 val tag rg gl s1 hn
    refine X1 _ _ (br_t rfl (x1 _ (y1 _ ?_)))
    rcases F1 with ⟨rfl, F1⟩ | ⟨c0, hc, hf, rfl⟩
    · obtain ⟨a2, b2, w2, c2, s2, g2, x2⟩ := th_w_collect a1 ph bl sw (nI m) c1 l0 l1 val tag rg gl s1 (by omega) hn hh g1
      obtain ⟨f2, F2, y2⟩ := th_w_free a2 0 b2 w2 (nI m) c2 l0 l1 val tag rg gl s2 hn
      refine br_f (by decide) (x2 _ (y2 _ ?_))
      rcases F2 with ⟨rfl, F2⟩ | ⟨c0, hc, hf, rfl⟩
      · refine br_f (by decide) ?_
        obtain ⟨rea', L⟩ := th_lv hn (by omega) hh y (nI n) rea
        have al : th_cn (th_R n l0 l1 rg gl) n = n := th_cn_all (fun c hc => (th_exact a2 b2 w2 c2 l0 l1 rg gl g2 c hc).mp (F2 c hc))
        unfold wpY_make
        refine Y1 _ _ (br_f (by decide) (L _ ?_))
        rw [al]
        exact br_t (nI_le (Nat.le_refl n) (by omega)) ⟨rfl, th_mk h4 hn (by omega) ⟨hh, th_G_e0 g2, y⟩⟩
      · exact th_go rea h4 hn hk5 hk ht hr hh (th_G_e0 g2) y hc hf (fun z => absurd z (by decide)) Y1
    · exact br_t (nI_pos' (by omega)) (th_go rea h4 hn hk5 hk ht hr hh g1 y hc hf (th_pb hr p1) Y1)
  · refine X1 _ _ (br_f (by decide) ?_)
    unfold wpY_make
    exact Y1 _ _ (br_t rfl ⟨rfl, J⟩)
end
