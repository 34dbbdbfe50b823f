section
/-! rows pasted from the rows to paste (a starting text) -/
theorem pk_us {f : Nat → Int32} {k : Nat} {x : Int32} : upd f k x k = x := if_pos rfl
theorem pk_un {f : Nat → Int32} {k j : Nat} {x : Int32} (h : j ≠ k) : upd f k x j = f j := if_neg h
theorem pk_sub {a b : Nat} (h : b ≤ a) : nI a - nI b = nI (a - b) := by
  obtain ⟨c, rfl⟩ : ∃ c, a = c + b := ⟨a - b, by omega⟩
  rw [← nI_add, Int32.add_sub_cancel, Nat.add_sub_cancel]
theorem pk_mul (a b : Nat) : nI a * nI b = nI (a * b) := (Int32.ofNat_mul a b).symm
theorem pk_div {a d : Nat} (ha : a < 2 ^ 31) (h0 : 0 < d) (hd : d < 2 ^ 31) : nI a / nI d = nI (a / d) := by
  apply Int32.toInt_inj.mp
  rw [lg_idiv_nonneg (by rw [nI_toInt ha]; omega) (by rw [nI_toInt hd]; omega), nI_toInt ha, nI_toInt hd, nI_toInt (Nat.lt_of_le_of_lt (Nat.div_le_self a d) ha)]
  first | rfl | exact (Int.natCast_ediv _ _).symm
theorem pk_rem {a d : Nat} (ha : a < 2 ^ 31) (h0 : 0 < d) (hd : d < 2 ^ 31) : nI a - nI a / nI d * nI d = nI (a % d) := by
  rw [pk_div ha h0 hd, pk_mul, pk_sub (Nat.div_mul_le_self a d)]
  exact congrArg nI (by have := Nat.div_add_mod' a d; omega)
theorem pk_ix (x : Int32) {n : Nat} (hn : n < 2 ^ 31) : x < 0 ∨ nI n ≤ x ∨ ∃ j : Nat, j < n ∧ x = nI j := by
  by_cases h : x < 0
  · exact Or.inl h
  · obtain ⟨j, hj, rfl⟩ := nI_of h
    by_cases h2 : j < n
    · exact Or.inr (Or.inr ⟨j, h2, rfl⟩)
    · exact Or.inr (Or.inl (nI_le (by omega) hj))
theorem pk_le {x y : Int32} {A B : Prop} (a b : Nat) (f : a ≤ b → A) (g : b < a → B) (hx : x = nI a := by rfl) (hy : y = nI b := by rfl) (ha : a < 2 ^ 31 := by omega) (hb : b < 2 ^ 31 := by omega) : (x ≤ y → A) ∧ (¬ x ≤ y → B) := by
  subst hx hy
  rw [nI_leI ha hb]
  exact ⟨f, fun z => g (by omega)⟩
theorem pk_lt {x y : Int32} {A B : Prop} (a b : Nat) (f : a < b → A) (g : b ≤ a → B) (hx : x = nI a := by rfl) (hy : y = nI b := by rfl) (ha : a < 2 ^ 31 := by omega) (hb : b < 2 ^ 31 := by omega) : (x < y → A) ∧ (¬ x < y → B) := by
  subst hx hy
  rw [nI_ltI ha hb]
  exact ⟨f, fun z => g (by omega)⟩
theorem pk_eq {x y : Int32} {A B : Prop} (a b : Nat) (f : a = b → A) (g : a ≠ b → B) (hx : x = nI a := by rfl) (hy : y = nI b := by rfl) (ha : a < 2 ^ 31 := by omega) (hb : b < 2 ^ 31 := by omega) : (x = y → A) ∧ (¬ x = y → B) := by
  subst hx hy
  rw [nI_eq ha hb]
  exact ⟨f, g⟩
theorem pk_tn {n : Nat} (h : n < 2 ^ 32) : (nI n).toBitVec.toNat = n := Nat.mod_eq_of_lt h
theorem pk_and (x : Int32) {m : Int32} (k : Nat) (hm : m.toBitVec.toNat = 2 ^ k - 1) : x &&& m = nI (x.toBitVec.toNat % 2 ^ k) := by
  apply Int32.toBitVec_inj.mp
  apply BitVec.eq_of_toNat_eq
  rw [Int32.toBitVec_and, BitVec.toNat_and, hm, Nat.and_two_pow_sub_one_eq_mod]
  show _ = (BitVec.ofNat 32 _).toNat
  rw [BitVec.toNat_ofNat]
  exact (Nat.mod_eq_of_lt (Nat.lt_of_le_of_lt (Nat.mod_le _ _) x.toBitVec.isLt)).symm
theorem pk_andN {n : Nat} (h : n < 2 ^ 32) {m : Int32} (k : Nat) (hm : m.toBitVec.toNat = 2 ^ k - 1) : nI n &&& m = nI (n % 2 ^ k) := by
  rw [pk_and _ k hm, pk_tn h]
theorem pk_shr (a s : Int32) (k : Nat) (hs : (s.toBitVec.smod 32).toNat = k) : (a >>> s).toInt = a.toInt >>> k := by
  show (a.toBitVec.sshiftRight (s.toBitVec.smod 32).toNat).toInt = _
  rw [hs, BitVec.toInt_sshiftRight]
  rfl
theorem pk_shrN {n : Nat} (h : n < 2 ^ 31) (s : Int32) (k : Nat) (hs : (s.toBitVec.smod 32).toNat = k) : nI n >>> s = nI (n / 2 ^ k) := by
  apply Int32.toInt_inj.mp
  have h2 : n / 2 ^ k ≤ n := Nat.div_le_self _ _
  rw [pk_shr _ _ k hs, nI_toInt h, nI_toInt (by omega), Int.shiftRight_eq_div_pow]
  rfl
theorem pk_vb (z : Int32) : vp_nar .byte z.toInt8.toInt32 = z.toInt8.toInt32 := by rw [vp_nar_byte]; simp
theorem pk_vs (z : Int32) : vp_nar .short z.toInt16.toInt32 = z.toInt16.toInt32 := by rw [vp_nar_short]; simp
end
section
/-- four cells in a row, from p on -/
def wc_4 (f : Nat → Int32) (p : Nat) (g : Nat → Int32) : Nat → Int32 := upd (upd (upd (upd f p (g 0)) (p + 1) (g 1)) (p + 2) (g 2)) (p + 3) (g 3)
theorem wc_4i {f g : Nat → Int32} {p i : Nat} (h : i < 4) : wc_4 f p g (p + i) = g i := by
  unfold wc_4
  match i, h with
  | 0, _ => rw [pk_un (by omega), pk_un (by omega), pk_un (by omega)]; exact pk_us
  | 1, _ => rw [pk_un (by omega), pk_un (by omega)]; exact pk_us
  | 2, _ => rw [pk_un (by omega)]; exact pk_us
  | 3, _ => exact pk_us
theorem wc_4o {f g : Nat → Int32} {p j : Nat} (h : j < p ∨ p + 4 ≤ j) : wc_4 f p g j = f j := by
  unfold wc_4
  rw [pk_un (by omega), pk_un (by omega), pk_un (by omega), pk_un (by omega)]
/-- the rows of the program, as both sides hold them -/
def wc_P (ops regs ra rb rc : Nat → Int32) : Prop := ∀ j, (∃ o, o < 8 ∧ ops j = nI o) ∧ ∃ m, m < 512 ∧ regs j = nI m ∧ ra j = nI (m % 8) ∧ rb j = nI (m / 8 % 8) ∧ rc j = nI (m / 64)
/-- c: the present call; l: the lowest block in the ring; cell t of the long row is in memory below 4 l, else in the ring at t mod 16 -/
def wc_M (c l : Nat) (ring mem row : Nat → Int32) : Prop := l ≤ c ∧ c < l + 3 ∧ c ≤ 29 ∧ (∀ t, t < 4 * l → mem t = row t) ∧ ∀ t, 4 * l ≤ t → t < 4 * c + 8 → ring (t % 16) = row t
section
variable {c l : Nat} {ring mem row : Nat → Int32}
theorem wc_Mget (M : wc_M c l ring mem row) {r : Nat} (hr : r < 8) : ring ((4 * c + r) % 16) = row (4 * c + r) :=
  M.2.2.2.2 _ (by have := M.1; omega) (by omega)
theorem wc_Mset (M : wc_M c l ring mem row) {r : Nat} (hr : r < 8) (v : Int32) : wc_M c l (upd ring ((4 * c + r) % 16) v) mem (upd row (4 * c + r) v) := by
  obtain ⟨h1, h2, h3, hm, hr'⟩ := M
  refine ⟨h1, h2, h3, ?_, ?_⟩
  · intro t ht
    rw [pk_un (by omega)]
    exact hm t ht
  · intro t ha hb
    by_cases e : t = 4 * c + r
    · rw [e, pk_us, pk_us]
    · rw [pk_un (by omega), pk_un e]
      exact hr' t ha hb
theorem wc_MenterA (M : wc_M c l ring mem row) (hc : c < 29) (h : c + 2 < l + 4) : wc_M (c + 1) l (wc_4 ring ((c + 2) % 4 * 4) (fun _ => 0)) mem (wc_4 row (4 * (c + 1) + 4) (fun _ => 0)) := by
  obtain ⟨h1, h2, h3, hm, hr⟩ := M
  refine ⟨by omega, by omega, by omega, ?_, ?_⟩
  · intro t ht
    rw [wc_4o (by omega)]
    exact hm t ht
  · intro t ha hb
    by_cases e : t < 4 * c + 8
    · rw [wc_4o (by omega), wc_4o (by omega)]
      exact hr t ha e
    · obtain ⟨i, hi, rfl⟩ : ∃ i, i < 4 ∧ t = 4 * (c + 1) + 4 + i := ⟨t - (4 * c + 8), by omega, by omega⟩
      have e2 : (4 * (c + 1) + 4 + i) % 16 = (c + 2) % 4 * 4 + i := by omega
      rw [e2, wc_4i hi, wc_4i hi]
theorem wc_MenterB (M : wc_M c l ring mem row) (hc : c < 29) (h : l + 4 ≤ c + 2) : wc_M (c + 1) (l + 1) (wc_4 ring ((c + 2) % 4 * 4) (fun _ => 0)) (wc_4 mem (l * 4) (fun i => ring (l % 4 * 4 + i))) (wc_4 row (4 * (c + 1) + 4) (fun _ => 0)) := by
  obtain ⟨h1, h2, h3, hm, hr⟩ := M
  refine ⟨by omega, by omega, by omega, ?_, ?_⟩
  · intro t ht
    rw [wc_4o (f := row) (by omega)]
    by_cases e : t < 4 * l
    · rw [wc_4o (by omega)]
      exact hm t e
    · obtain ⟨i, hi, rfl⟩ : ∃ i, i < 4 ∧ t = l * 4 + i := ⟨t - 4 * l, by omega, by omega⟩
      rw [wc_4i hi]
      have e2 : (l * 4 + i) % 16 = l % 4 * 4 + i := by omega
      have e3 := hr (l * 4 + i) (by omega) (by omega)
      rw [e2] at e3
      exact e3
  · intro t ha hb
    by_cases e : t < 4 * c + 8
    · rw [wc_4o (by omega), wc_4o (by omega)]
      exact hr t (by omega) e
    · obtain ⟨i, hi, rfl⟩ : ∃ i, i < 4 ∧ t = 4 * (c + 1) + 4 + i := ⟨t - (4 * c + 8), by omega, by omega⟩
      have e2 : (4 * (c + 1) + 4 + i) % 16 = (c + 2) % 4 * 4 + i := by omega
      rw [e2, wc_4i hi, wc_4i hi]
theorem wc_MleaveA (M : wc_M (c + 1) l ring mem row) (h : l ≤ c) : wc_M c l ring mem row := by
  obtain ⟨h1, h2, h3, hm, hr⟩ := M
  exact ⟨h, by omega, by omega, hm, fun t ha hb => hr t ha (by omega)⟩
theorem wc_MleaveB (M : wc_M (c + 1) (l + 1) ring mem row) (h : c < l + 1) : wc_M c l (wc_4 ring (l % 4 * 4) (fun i => mem (l * 4 + i))) mem row := by
  obtain ⟨h1, h2, h3, hm, hr⟩ := M
  refine ⟨by omega, by omega, by omega, fun t ht => hm t (by omega), ?_⟩
  intro t ha hb
  by_cases e : t < 4 * l + 4
  · obtain ⟨i, hi, rfl⟩ : ∃ i, i < 4 ∧ t = l * 4 + i := ⟨t - 4 * l, by omega, by omega⟩
    have e2 : (l * 4 + i) % 16 = l % 4 * 4 + i := by omega
    rw [e2, wc_4i hi]
    exact hm _ (by omega)
  · rw [wc_4o (by omega)]
    exact hr t (by omega) (by omega)
theorem wc_M0 (hz : ∀ t, t < 124 → row t = 0) : wc_M 0 0 (wc_4 (wc_4 ring (0 % 4 * 4) (fun _ => 0)) (1 % 4 * 4) (fun _ => 0)) mem row := by
  refine ⟨by omega, by omega, by omega, fun t ht => absurd ht (by omega), ?_⟩
  intro t ha hb
  rw [hz t (by omega)]
  by_cases e : t < 4
  · rw [wc_4o (by omega)]
    obtain ⟨i, hi, e2⟩ : ∃ i, i < 4 ∧ t % 16 = 0 % 4 * 4 + i := ⟨t, e, by omega⟩
    rw [e2, wc_4i hi]
  · obtain ⟨i, hi, e2⟩ : ∃ i, i < 4 ∧ t % 16 = 1 % 4 * 4 + i := ⟨t - 4, by omega, by omega⟩
    rw [e2, wc_4i hi]
end
end
section
/-! the component's own methods, each once -/
theorem wc_and3 {r : Nat} (h : r < 8) : nI r &&& 3 = nI (r % 4) := pk_andN (by omega) 2 (by decide)
theorem wc_blk {k r : Nat} (h : r < 8) : nI k + (nI r >>> ((2 : Int32) &&& 31)) = nI (k + r / 4) := by
  have e : nI r >>> ((2 : Int32) &&& 31) = nI (r / 4) := pk_shrN (by omega) _ 2 (by decide)
  rw [e, nI_add]
theorem wc_x4 (l i : Nat) : nI l * 4 + nI i = nI (l * 4 + i) := by
  show nI l * nI 4 + nI i = _
  rw [pk_mul, nI_add]
theorem wc_placeOf {post : Int32 → Prop} {b : Nat} (hb : b < 1000) (h : post (nI (b % 4 * 4))) : wpX_placeOf post (nI b) := by
  refine And.intro (by decide) ?_
  have e : (nI b - nI b / 4 * 4) * 4 = nI (b % 4 * 4) := by
    have := pk_rem (a := b) (d := 4) (by omega) (by decide) (by decide)
    show (nI b - nI b / nI 4 * nI 4) * nI 4 = _
    rw [this, pk_mul]
  rw [e]
  exact h
theorem wc_cellOf {post : Int32 → Prop} {k r : Nat} (hk : k < 900) (hr : r < 8) (h : post (nI ((4 * k + r) % 16))) : wpX_cellOf post (nI k) (nI r) := by
  unfold wpX_cellOf
  refine nm_r (e' := nI (k + r / 4)) (wc_blk hr) ?_
  refine wc_placeOf (by omega) ?_
  show post (nI ((k + r / 4) % 4 * 4) + (nI r &&& 3))
  have e : (k + r / 4) % 4 * 4 + r % 4 = (4 * k + r) % 16 := by omega
  rw [wc_and3 hr, nI_add, e]
  exact h
section
variable {sz q st cx ca lo : Int32} {ops regs num ring mem ret row : Nat → Int32}
theorem wc_get {post : Int32 → Prop} {c l r : Nat} (M : wc_M c l ring mem row) (hr : r < 8) (h : post (row (4 * c + r))) : wpX_get post (sz, q, st, cx, nI c, lo, ops, regs, num, ring, mem, ret) (nI r) := by
  have hc := M.2.2.1
  unfold wpX_get
  dsimp only
  refine wc_cellOf (by omega) hr ?_
  refine And.intro (vp_in_nI (by omega) (by decide)) ?_
  rw [nI_clamp (by omega), wc_Mget M hr]
  exact h
theorem wc_set {post : SX → Prop} {c r : Nat} {v : Int32} (hc : c ≤ 29) (hr : r < 8) (h : post (sz, q, st, cx, nI c, lo, ops, regs, num, upd ring ((4 * c + r) % 16) v, mem, ret)) : wpX_set post (sz, q, st, cx, nI c, lo, ops, regs, num, ring, mem, ret) (nI r) v := by
  unfold wpX_set
  dsimp only
  refine wc_cellOf (by omega) hr ?_
  refine And.intro (vp_in_nI (by omega) (by decide)) ?_
  intro y ey
  rw [ey, nI_clamp (by omega)]
  exact h
theorem wc_registerOf {post : Int32 → Prop} {c l k r : Nat} (M : wc_M c l ring mem row) (hk : k ≤ c) (hr : r < 8) (h : post (row (4 * k + r))) : wpX_registerOf post (sz, q, st, cx, ca, nI l, ops, regs, num, ring, mem, ret) (nI k) (nI r) := by
  obtain ⟨h1, h2, h3, hm, hg⟩ := M
  unfold wpX_registerOf
  dsimp only
  refine nm_r (e' := nI (k + r / 4)) (wc_blk hr) ?_
  refine pk_lt (k + r / 4) l ?_ ?_
  · intro hlt
    have e2 : nI (k + r / 4) * 4 + (nI r &&& 3) = nI (4 * k + r) := by
      have e3 : (k + r / 4) * 4 + r % 4 = 4 * k + r := by omega
      rw [wc_and3 hr, wc_x4, e3]
    rw [e2]
    refine And.intro (vp_in_nI (by omega) (by decide)) ?_
    rw [nI_clamp (by omega), hm _ (by omega)]
    exact h
  · intro hge
    refine wc_cellOf (by omega) hr ?_
    refine And.intro (vp_in_nI (by omega) (by decide)) ?_
    rw [nI_clamp (by omega), hg _ (by omega) (by omega)]
    exact h
theorem wc_clr7s {post : SX → Prop} {p i n : Nat} (hp : p + 4 ≤ 16) (hi : i < 4) (h : wX_clearBlock_7 post (nI p) sz q st cx ca lo n (nI (i + 1)) ops regs num (upd ring (p + i) 0) mem ret) : wX_clearBlock_7 post (nI p) sz q st cx ca lo (n + 1) (nI i) ops regs num ring mem ret := by
  refine br_f (nI_ge (b := 4) hi (by decide)) ?_
  rw [nI_add p i]
  refine And.intro (vp_in_nI (by omega) (by decide)) ?_
  rw [nI_clamp (n := p + i) (by omega)]
  exact nm_e (nm_r (nI_1 i) h)
theorem wc_clr7 {post : SX → Prop} {p : Nat} (hp : p + 4 ≤ 16) (h : post (sz, q, st, cx, ca, lo, ops, regs, num, wc_4 ring p (fun _ => 0), mem, ret)) : wX_clearBlock_7 post (nI p) sz q st cx ca lo 5 0 ops regs num ring mem ret := by
  refine wc_clr7s (n := 4) (i := 0) hp (by decide) ?_
  refine wc_clr7s (n := 3) (i := 1) hp (by decide) ?_
  refine wc_clr7s (n := 2) (i := 2) hp (by decide) ?_
  refine wc_clr7s (n := 1) (i := 3) hp (by decide) ?_
  exact br_t (nI_le (a := 4) (b := 4) (by decide) (by decide)) h
theorem wc_clearBlock {post : SX → Prop} {b : Nat} (hb : b < 1000) (h : post (sz, q, st, cx, ca, lo, ops, regs, num, wc_4 ring (b % 4 * 4) (fun _ => 0), mem, ret)) : wpX_clearBlock post (sz, q, st, cx, ca, lo, ops, regs, num, ring, mem, ret) (nI b) := by
  unfold wpX_clearBlock
  dsimp only
  refine wc_placeOf hb ?_
  exact ⟨5, wc_clr7 (by omega) h⟩
theorem wc_enter77 {post : SX → Prop} {c : Nat} (hc : c < 900) (h : post (sz, q, st, cx, nI c, lo, ops, regs, num, wc_4 ring ((c + 1) % 4 * 4) (fun _ => 0), mem, ret)) : wX_enter_77 post sz q st cx (nI c) lo ops regs num ring mem ret := by
  unfold wX_enter_77
  rw [nI_1]
  exact wc_clearBlock (by omega) h
theorem wc_ent35s {post : SX → Prop} {p l i n : Nat} (hp : p + 4 ≤ 16) (hl : l < 30) (hi : i < 4) (h : wX_enter_35 post (nI p) sz q st cx ca (nI l) n (nI (i + 1)) ops regs num ring (upd mem (l * 4 + i) (ring (p + i))) ret) : wX_enter_35 post (nI p) sz q st cx ca (nI l) (n + 1) (nI i) ops regs num ring mem ret := by
  refine br_f (nI_ge (b := 4) hi (by decide)) ?_
  rw [nI_add p i, wc_x4 l i]
  refine And.intro (vp_in_nI (by omega) (by decide)) (And.intro (vp_in_nI (by omega) (by decide)) ?_)
  rw [nI_clamp (n := p + i) (by omega), nI_clamp (n := l * 4 + i) (by omega)]
  exact nm_e (nm_r (nI_1 i) h)
theorem wc_ent35 {post : SX → Prop} {p l : Nat} (hp : p + 4 ≤ 16) (hl : l < 30) (h : wX_enter_77 post sz q st cx ca (nI (l + 1)) ops regs num ring (wc_4 mem (l * 4) (fun i => ring (p + i))) ret) : wX_enter_35 post (nI p) sz q st cx ca (nI l) 5 0 ops regs num ring mem ret := by
  refine wc_ent35s (n := 4) (i := 0) hp hl (by decide) ?_
  refine wc_ent35s (n := 3) (i := 1) hp hl (by decide) ?_
  refine wc_ent35s (n := 2) (i := 2) hp hl (by decide) ?_
  refine wc_ent35s (n := 1) (i := 3) hp hl (by decide) ?_
  exact br_t (nI_le (a := 4) (b := 4) (by decide) (by decide)) (nm_r (nI_1 l) h)
theorem wc_lv41s {post : SX → Prop} {p l i n : Nat} (hp : p + 4 ≤ 16) (hl : l < 30) (hi : i < 4) (h : wX_leave_41 post (nI p) sz q st cx ca (nI l) n (nI (i + 1)) ops regs num (upd ring (p + i) (mem (l * 4 + i))) mem ret) : wX_leave_41 post (nI p) sz q st cx ca (nI l) (n + 1) (nI i) ops regs num ring mem ret := by
  refine br_f (nI_ge (b := 4) hi (by decide)) ?_
  rw [nI_add p i, wc_x4 l i]
  refine And.intro (vp_in_nI (by omega) (by decide)) (And.intro (vp_in_nI (by omega) (by decide)) ?_)
  rw [nI_clamp (n := p + i) (by omega), nI_clamp (n := l * 4 + i) (by omega)]
  exact nm_e (nm_r (nI_1 i) h)
theorem wc_lv41 {post : SX → Prop} {p l : Nat} (hp : p + 4 ≤ 16) (hl : l < 30) (h : post (sz, q, st, cx, ca, nI l, ops, regs, num, wc_4 ring p (fun i => mem (l * 4 + i)), mem, ret)) : wX_leave_41 post (nI p) sz q st cx ca (nI l) 5 0 ops regs num ring mem ret := by
  refine wc_lv41s (n := 4) (i := 0) hp hl (by decide) ?_
  refine wc_lv41s (n := 3) (i := 1) hp hl (by decide) ?_
  refine wc_lv41s (n := 2) (i := 2) hp hl (by decide) ?_
  refine wc_lv41s (n := 1) (i := 3) hp hl (by decide) ?_
  exact br_t (nI_le (a := 4) (b := 4) (by decide) (by decide)) h
/-- a call: the two new states belong together -/
theorem wc_enter {c l : Nat} (M : wc_M c l ring mem row) (hc : c < 29) : ∃ (l' : Nat) (ring' mem' : Nat → Int32), wc_M (c + 1) l' ring' mem' (wc_4 row (4 * (c + 1) + 4) (fun _ => 0)) ∧ ∀ (sz q st cx : Int32) (ops regs num ret : Nat → Int32) (post : SX → Prop), post (sz, q, st, cx, nI (c + 1), nI l', ops, regs, num, ring', mem', ret) → wpX_enter post (sz, q, st, cx, nI c, nI l, ops, regs, num, ring, mem, ret) := by
  have h1 := M.1
  by_cases h : c + 2 < l + 4
  · refine ⟨l, _, _, wc_MenterA M hc h, fun sz q st cx ops regs num ret post hp => ?_⟩
    unfold wpX_enter
    dsimp only
    refine nm_r (nI_1 c) ?_
    refine br_t ?_ (wc_enter77 (by omega) hp)
    show nI (c + 1) + 1 < nI l + nI 4
    rw [nI_1, nI_add]
    exact nI_lt h (by omega)
  · refine ⟨l + 1, _, _, wc_MenterB M hc (by omega), fun sz q st cx ops regs num ret post hp => ?_⟩
    unfold wpX_enter
    dsimp only
    refine nm_r (nI_1 c) ?_
    refine br_f ?_ ?_
    · show ¬ nI (c + 1) + 1 < nI l + nI 4
      rw [nI_1, nI_add]
      exact nI_nlt (by omega) (by omega)
    · refine wc_placeOf (by omega) ?_
      exact ⟨5, wc_ent35 (by omega) (by omega) (wc_enter77 (by omega) hp)⟩
/-- a return: the two new states belong together -/
theorem wc_leave {c l : Nat} (M : wc_M (c + 1) l ring mem row) : ∃ (l' : Nat) (ring' : Nat → Int32), wc_M c l' ring' mem row ∧ ∀ (sz q st cx : Int32) (ops regs num ret : Nat → Int32) (post : SX → Prop), post (sz, q, st, cx, nI c, nI l', ops, regs, num, ring', mem, ret) → wpX_leave post (sz, q, st, cx, nI (c + 1), nI l, ops, regs, num, ring, mem, ret) := by
  have h1 := M.1
  have h3 := M.2.2.1
  by_cases h : l ≤ c
  · refine ⟨l, _, wc_MleaveA M h, fun sz q st cx ops regs num ret post hp => ?_⟩
    unfold wpX_leave
    dsimp only
    refine nm_r (nI_pred c) ?_
    exact br_t (nI_le h (by omega)) hp
  · obtain ⟨k, rfl⟩ : ∃ k, l = k + 1 := ⟨l - 1, by omega⟩
    refine ⟨k, _, wc_MleaveB M (by omega), fun sz q st cx ops regs num ret post hp => ?_⟩
    unfold wpX_leave
    dsimp only
    refine nm_r (nI_pred c) ?_
    refine br_f (nI_ge (by omega) (by omega)) ?_
    refine nm_r (nI_pred k) ?_
    refine wc_placeOf (by omega) ?_
    exact ⟨5, wc_lv41 (by omega) (by omega) hp⟩
end
end
section
/-! the component's step, op by op -/
theorem wc_nb {a : Nat} (h : a < 24) : vp_nar .byte ((nI (a + 1)).toInt8.toInt32) = nI (a + 1) := by
  rw [pk_vb]
  exact lg_i2b_small (by rw [nI_toInt (by omega)]; omega) (by rw [nI_toInt (by omega)]; omega)
theorem wc_ra {m : Nat} (hm : m < 512) : nI m &&& 7 = nI (m % 8) := pk_andN (by omega) 3 (by decide)
theorem wc_rb {m : Nat} (hm : m < 512) : (nI m >>> ((3 : Int32) &&& 31)) &&& 7 = nI (m / 8 % 8) := by
  rw [pk_shrN (by omega) _ 3 (by decide)]
  exact pk_andN (by omega) 3 (by decide)
theorem wc_rc {m : Nat} (hm : m < 512) : nI m >>> ((6 : Int32) &&& 31) = nI (m / 64) := pk_shrN (by omega) _ 6 (by decide)
section
variable {sz st cx lo : Int32} {ops regs num ring mem ret row : Nat → Int32}
theorem wc_X0 {post : Int32 → SX → Prop} {a c l m : Nat} (ha : a < 24) (M : wc_M c l ring mem row) (hm : m < 512) (eo : ops a = nI 0) (er : regs a = nI m) (h : post 1 (sz, nI (a + 1), st, cx, nI c, lo, ops, regs, num, upd ring ((4 * c + m % 8) % 16) (num a), mem, ret)) : wX_step_49 post sz (nI a) st cx (nI c) lo ops regs num ring mem ret := by
  have hv : vp_in (nI a) 24 := vp_in_nI ha (by decide)
  have hl : (nI a).toNatClampNeg = a := nI_clamp (by omega)
  unfold wX_step_49
  refine And.intro hv (nm_r (e' := nI 0) (by rw [hl, eo]) (And.intro hv (nm_r (e' := nI (m % 8)) (by rw [hl, er, wc_ra hm]) (And.intro hv (nm_r (e' := nI (m / 8 % 8)) (by rw [hl, er, wc_rb hm]) (And.intro hv (nm_r (e' := nI (m / 64)) (by rw [hl, er, wc_rc hm]) (And.intro hv (nm_r (e' := num a) (by rw [hl]) ?_)))))))))
  refine br_f (by decide) (br_f (by decide) (br_f (by decide) (br_f (by decide) ?_)))
  refine wc_get M (by omega) ?_
  refine wc_get M (by omega) ?_
  unfold wpX_value
  refine br_t (by decide) ?_
  refine wc_set M.2.2.1 (by omega) ?_
  dsimp only
  exact nm_r (nI_1 a) h
theorem wc_X1 {post : Int32 → SX → Prop} {a c l m : Nat} (ha : a < 24) (M : wc_M c l ring mem row) (hm : m < 512) (eo : ops a = nI 1) (er : regs a = nI m) (h : post 1 (sz, nI (a + 1), st, cx, nI c, lo, ops, regs, num, upd ring ((4 * c + m % 8) % 16) (row (4 * c + m / 8 % 8) + row (4 * c + m / 64)), mem, ret)) : wX_step_49 post sz (nI a) st cx (nI c) lo ops regs num ring mem ret := by
  have hv : vp_in (nI a) 24 := vp_in_nI ha (by decide)
  have hl : (nI a).toNatClampNeg = a := nI_clamp (by omega)
  unfold wX_step_49
  refine And.intro hv (nm_r (e' := nI 1) (by rw [hl, eo]) (And.intro hv (nm_r (e' := nI (m % 8)) (by rw [hl, er, wc_ra hm]) (And.intro hv (nm_r (e' := nI (m / 8 % 8)) (by rw [hl, er, wc_rb hm]) (And.intro hv (nm_r (e' := nI (m / 64)) (by rw [hl, er, wc_rc hm]) (And.intro hv (nm_r (e' := num a) (by rw [hl]) ?_)))))))))
  refine br_f (by decide) (br_f (by decide) (br_f (by decide) (br_f (by decide) ?_)))
  refine wc_get M (by omega) ?_
  refine wc_get M (by omega) ?_
  unfold wpX_value
  refine br_f (by decide) (br_t (by decide) ?_)
  refine wc_set M.2.2.1 (by omega) ?_
  dsimp only
  exact nm_r (nI_1 a) h
theorem wc_X2 {post : Int32 → SX → Prop} {a c l m : Nat} (ha : a < 24) (M : wc_M c l ring mem row) (hm : m < 512) (eo : ops a = nI 2) (er : regs a = nI m) (h : post 1 (sz, nI (a + 1), st, cx, nI c, lo, ops, regs, num, upd ring ((4 * c + m % 8) % 16) (row (4 * c + m / 8 % 8) - row (4 * c + m / 64)), mem, ret)) : wX_step_49 post sz (nI a) st cx (nI c) lo ops regs num ring mem ret := by
  have hv : vp_in (nI a) 24 := vp_in_nI ha (by decide)
  have hl : (nI a).toNatClampNeg = a := nI_clamp (by omega)
  unfold wX_step_49
  refine And.intro hv (nm_r (e' := nI 2) (by rw [hl, eo]) (And.intro hv (nm_r (e' := nI (m % 8)) (by rw [hl, er, wc_ra hm]) (And.intro hv (nm_r (e' := nI (m / 8 % 8)) (by rw [hl, er, wc_rb hm]) (And.intro hv (nm_r (e' := nI (m / 64)) (by rw [hl, er, wc_rc hm]) (And.intro hv (nm_r (e' := num a) (by rw [hl]) ?_)))))))))
  refine br_f (by decide) (br_f (by decide) (br_f (by decide) (br_f (by decide) ?_)))
  refine wc_get M (by omega) ?_
  refine wc_get M (by omega) ?_
  unfold wpX_value
  refine br_f (by decide) (br_f (by decide) (br_t (by decide) ?_))
  refine wc_set M.2.2.1 (by omega) ?_
  dsimp only
  exact nm_r (nI_1 a) h
theorem wc_X4 {post : Int32 → SX → Prop} {a c l m : Nat} (ha : a < 24) (M : wc_M c l ring mem row) (hm : m < 512) (eo : ops a = nI 4) (er : regs a = nI m) (h : post 1 (sz, nI (a + 1), st, cx, nI c, lo, ops, regs, num, upd ring ((4 * c + m % 8) % 16) (row (4 * c + m / 8 % 8)), mem, ret)) : wX_step_49 post sz (nI a) st cx (nI c) lo ops regs num ring mem ret := by
  have hv : vp_in (nI a) 24 := vp_in_nI ha (by decide)
  have hl : (nI a).toNatClampNeg = a := nI_clamp (by omega)
  unfold wX_step_49
  refine And.intro hv (nm_r (e' := nI 4) (by rw [hl, eo]) (And.intro hv (nm_r (e' := nI (m % 8)) (by rw [hl, er, wc_ra hm]) (And.intro hv (nm_r (e' := nI (m / 8 % 8)) (by rw [hl, er, wc_rb hm]) (And.intro hv (nm_r (e' := nI (m / 64)) (by rw [hl, er, wc_rc hm]) (And.intro hv (nm_r (e' := num a) (by rw [hl]) ?_)))))))))
  refine br_f (by decide) (br_f (by decide) (br_f (by decide) (br_f (by decide) ?_)))
  refine wc_get M (by omega) ?_
  refine wc_get M (by omega) ?_
  unfold wpX_value
  refine br_f (by decide) (br_f (by decide) (br_f (by decide) ?_))
  refine wc_set M.2.2.1 (by omega) ?_
  dsimp only
  exact nm_r (nI_1 a) h
theorem wc_X3 {post : Int32 → SX → Prop} {a c l m : Nat} (ha : a < 24) (M : wc_M c l ring mem row) (hm : m < 512) (eo : ops a = nI 3) (er : regs a = nI m) (h : post 1 (sz, num a, st, cx, nI c, lo, ops, regs, num, ring, mem, ret)) : wX_step_49 post sz (nI a) st cx (nI c) lo ops regs num ring mem ret := by
  have hv : vp_in (nI a) 24 := vp_in_nI ha (by decide)
  have hl : (nI a).toNatClampNeg = a := nI_clamp (by omega)
  unfold wX_step_49
  refine And.intro hv (nm_r (e' := nI 3) (by rw [hl, eo]) (And.intro hv (nm_r (e' := nI (m % 8)) (by rw [hl, er, wc_ra hm]) (And.intro hv (nm_r (e' := nI (m / 8 % 8)) (by rw [hl, er, wc_rb hm]) (And.intro hv (nm_r (e' := nI (m / 64)) (by rw [hl, er, wc_rc hm]) (And.intro hv (nm_r (e' := num a) (by rw [hl]) ?_)))))))))
  refine br_f (by decide) (br_f (by decide) (br_t (by decide) ?_))
  unfold wX_step_172
  exact br_t (by decide) h
theorem wc_X7 {post : Int32 → SX → Prop} {a c l m : Nat} (ha : a < 24) (M : wc_M c l ring mem row) (hm : m < 512) (eo : ops a = nI 7) (er : regs a = nI m) (h : post 1 (sz, (if row (4 * c + m % 8) = 0 then num a else nI (a + 1)), st, cx, nI c, lo, ops, regs, num, ring, mem, ret)) : wX_step_49 post sz (nI a) st cx (nI c) lo ops regs num ring mem ret := by
  have hv : vp_in (nI a) 24 := vp_in_nI ha (by decide)
  have hl : (nI a).toNatClampNeg = a := nI_clamp (by omega)
  unfold wX_step_49
  refine And.intro hv (nm_r (e' := nI 7) (by rw [hl, eo]) (And.intro hv (nm_r (e' := nI (m % 8)) (by rw [hl, er, wc_ra hm]) (And.intro hv (nm_r (e' := nI (m / 8 % 8)) (by rw [hl, er, wc_rb hm]) (And.intro hv (nm_r (e' := nI (m / 64)) (by rw [hl, er, wc_rc hm]) (And.intro hv (nm_r (e' := num a) (by rw [hl]) ?_)))))))))
  refine br_f (by decide) (br_f (by decide) (br_f (by decide) (br_t (by decide) ?_)))
  unfold wX_step_172
  refine br_f (by decide) ?_
  refine wc_get M (by omega) ?_
  by_cases z : row (4 * c + m % 8) = 0
  · rw [if_pos z] at h
    exact br_t z h
  · rw [if_neg z] at h
    exact br_f z (nm_r (nI_1 a) h)
theorem wc_X5 {post : Int32 → SX → Prop} {a c m : Nat} {lo' : Int32} {ring' mem' : Nat → Int32} (ha : a < 24) (hc : c < 29) (hm : m < 512) (eo : ops a = nI 5) (er : regs a = nI m) (hE : ∀ (sz q st cx : Int32) (ops regs num ret : Nat → Int32) (post : SX → Prop), post (sz, q, st, cx, nI (c + 1), lo', ops, regs, num, ring', mem', ret) → wpX_enter post (sz, q, st, cx, nI c, lo, ops, regs, num, ring, mem, ret)) (h : post 1 (sz, num a, st, cx, nI (c + 1), lo', ops, regs, num, ring', mem', upd ret (c + 1) (nI (a + 1)))) : wX_step_49 post sz (nI a) st cx (nI c) lo ops regs num ring mem ret := by
  have hv : vp_in (nI a) 24 := vp_in_nI ha (by decide)
  have hl : (nI a).toNatClampNeg = a := nI_clamp (by omega)
  unfold wX_step_49
  refine And.intro hv (nm_r (e' := nI 5) (by rw [hl, eo]) (And.intro hv (nm_r (e' := nI (m % 8)) (by rw [hl, er, wc_ra hm]) (And.intro hv (nm_r (e' := nI (m / 8 % 8)) (by rw [hl, er, wc_rb hm]) (And.intro hv (nm_r (e' := nI (m / 64)) (by rw [hl, er, wc_rc hm]) (And.intro hv (nm_r (e' := num a) (by rw [hl]) ?_)))))))))
  refine br_t (by decide) ?_
  rw [nI_1 c, nI_1 a]
  refine And.intro (vp_in_nI (by omega) (by decide)) ?_
  rw [nI_clamp (n := c + 1) (by omega), wc_nb ha]
  refine nm_e ?_
  exact hE _ _ _ _ _ _ _ _ _ h
theorem wc_X60 {post : Int32 → SX → Prop} {a m : Nat} (ha : a < 24) (hm : m < 512) (eo : ops a = nI 6) (er : regs a = nI m) (h : post 1 (sz, nI a, 1, cx, nI 0, lo, ops, regs, num, ring, mem, ret)) : wX_step_49 post sz (nI a) st cx (nI 0) lo ops regs num ring mem ret := by
  have hv : vp_in (nI a) 24 := vp_in_nI ha (by decide)
  have hl : (nI a).toNatClampNeg = a := nI_clamp (by omega)
  unfold wX_step_49
  refine And.intro hv (nm_r (e' := nI 6) (by rw [hl, eo]) (And.intro hv (nm_r (e' := nI (m % 8)) (by rw [hl, er, wc_ra hm]) (And.intro hv (nm_r (e' := nI (m / 8 % 8)) (by rw [hl, er, wc_rb hm]) (And.intro hv (nm_r (e' := nI (m / 64)) (by rw [hl, er, wc_rc hm]) (And.intro hv (nm_r (e' := num a) (by rw [hl]) ?_)))))))))
  refine br_f (by decide) (br_t (by decide) ?_)
  unfold wpX_goBack
  dsimp only
  exact br_t nI_0 h
theorem wc_X61 {post : Int32 → SX → Prop} {a c m : Nat} {lo' : Int32} {ring' : Nat → Int32} (ha : a < 24) (hc : c < 29) (hm : m < 512) (eo : ops a = nI 6) (er : regs a = nI m) (hL : ∀ (sz q st cx : Int32) (ops regs num ret : Nat → Int32) (post : SX → Prop), post (sz, q, st, cx, nI c, lo', ops, regs, num, ring', mem, ret) → wpX_leave post (sz, q, st, cx, nI (c + 1), lo, ops, regs, num, ring, mem, ret)) (h : post 1 (sz, ret (c + 1), st, cx, nI c, lo', ops, regs, num, ring', mem, ret)) : wX_step_49 post sz (nI a) st cx (nI (c + 1)) lo ops regs num ring mem ret := by
  have hv : vp_in (nI a) 24 := vp_in_nI ha (by decide)
  have hl : (nI a).toNatClampNeg = a := nI_clamp (by omega)
  unfold wX_step_49
  refine And.intro hv (nm_r (e' := nI 6) (by rw [hl, eo]) (And.intro hv (nm_r (e' := nI (m % 8)) (by rw [hl, er, wc_ra hm]) (And.intro hv (nm_r (e' := nI (m / 8 % 8)) (by rw [hl, er, wc_rb hm]) (And.intro hv (nm_r (e' := nI (m / 64)) (by rw [hl, er, wc_rc hm]) (And.intro hv (nm_r (e' := num a) (by rw [hl]) ?_)))))))))
  refine br_f (by decide) (br_t (by decide) ?_)
  unfold wpX_goBack
  dsimp only
  refine br_f (nI_ne0 (by omega) (by omega)) ?_
  refine And.intro (vp_in_nI (by omega) (by decide)) ?_
  refine nm_r (e' := ret (c + 1)) (by rw [nI_clamp (by omega)]) ?_
  exact hL _ _ _ _ _ _ _ _ _ h
end
end
section
/-! the reference's step, op by op -/
section
variable {sz q st cy : Int32} {ops ra rb rc num row ret : Nat → Int32}
theorem wc_4x (c i : Nat) : 4 * nI c + nI i = nI (4 * c + i) := by
  show nI 4 * nI c + nI i = _
  rw [pk_mul, nI_add]
theorem wc_Y182s {post : SY → Prop} {x6 : Int32} {c i n : Nat} (hc : c ≤ 29) (hi : i < 8) (h : wY_step_182 post x6 sz (nI c) q st cy n (nI (i + 1)) ops ra rb rc num (upd row (4 * c + i) 0) ret) : wY_step_182 post x6 sz (nI c) q st cy (n + 1) (nI i) ops ra rb rc num row ret := by
  refine br_f (nI_ge (b := 8) hi (by decide)) ?_
  rw [wc_4x c i]
  refine And.intro (vp_in_nI (by omega) (by decide)) ?_
  rw [nI_clamp (n := 4 * c + i) (by omega)]
  exact nm_e (nm_r (nI_1 i) h)
theorem wc_Y182 {post : SY → Prop} {x6 : Int32} {c : Nat} (hc : c ≤ 29) (h : post (sz, nI c, x6, st, cy + 1, ops, ra, rb, rc, num, wc_4 row (4 * c + 4) (fun _ => 0), ret)) : wY_step_182 post x6 sz (nI c) q st cy 5 4 ops ra rb rc num row ret := by
  refine wc_Y182s (n := 4) (i := 4) hc (by decide) ?_
  refine wc_Y182s (n := 3) (i := 5) hc (by decide) ?_
  refine wc_Y182s (n := 2) (i := 6) hc (by decide) ?_
  refine wc_Y182s (n := 1) (i := 7) hc (by decide) ?_
  refine br_t (nI_le (a := 8) (b := 8) (by decide) (by decide)) ?_
  unfold wY_step_311
  exact nm_e h
end
section
variable {sz st cy : Int32} {ops ra rb rc num row ret : Nat → Int32}
theorem wc_Y0 {post : SY → Prop} {a c A B C : Nat} (ha : a < 24) (hc : c ≤ 29) (hA : A < 8) (hB : B < 8) (hC : C < 8) (eo : ops a = nI 0) (ea : ra a = nI A) (eb : rb a = nI B) (ec : rc a = nI C) (h : post (sz, nI c, nI (a + 1), st, cy + 1, ops, ra, rb, rc, num, upd row (4 * c + A) (num a), ret)) : wpY_step post (sz, nI c, nI a, st, cy, ops, ra, rb, rc, num, row, ret) := by
  have hv : vp_in (nI a) 24 := vp_in_nI ha (by decide)
  have hl : (nI a).toNatClampNeg = a := nI_clamp (by omega)
  have eB : nI (4 * c) + rb (nI a).toNatClampNeg = nI (4 * c + B) := by rw [hl, eb, nI_add]
  have eC : nI (4 * c) + rc (nI a).toNatClampNeg = nI (4 * c + C) := by rw [hl, ec, nI_add]
  have iB : vp_in (nI (4 * c) + rb (nI a).toNatClampNeg) 124 := by rw [eB]; exact vp_in_nI (by omega) (by decide)
  have iC : vp_in (nI (4 * c) + rc (nI a).toNatClampNeg) 124 := by rw [eC]; exact vp_in_nI (by omega) (by decide)
  unfold wpY_step
  dsimp only
  refine And.intro hv (nm_r (e' := nI 0) (by rw [hl, eo]) (nm_r (e' := nI (4 * c)) (pk_mul 4 _) (And.intro hv (nm_r (e' := nI (4 * c + A)) (by rw [hl, ea, nI_add]) (And.intro hv (And.intro iB (nm_r (e' := row (4 * c + B)) (by rw [eB, nI_clamp (by omega)]) (And.intro hv (And.intro iC (nm_r (e' := row (4 * c + C)) (by rw [eC, nI_clamp (by omega)]) (And.intro hv (nm_r (e' := num a) (by rw [hl]) (nm_r (e' := nI (a + 1)) (nI_1 a) ?_)))))))))))))
  refine br_t (by decide) ?_
  refine And.intro (vp_in_nI (by omega) (by decide)) ?_
  rw [nI_clamp (n := 4 * c + A) (by omega)]
  refine nm_e ?_
  unfold wY_step_311
  exact nm_e h
theorem wc_Y1 {post : SY → Prop} {a c A B C : Nat} (ha : a < 24) (hc : c ≤ 29) (hA : A < 8) (hB : B < 8) (hC : C < 8) (eo : ops a = nI 1) (ea : ra a = nI A) (eb : rb a = nI B) (ec : rc a = nI C) (h : post (sz, nI c, nI (a + 1), st, cy + 1, ops, ra, rb, rc, num, upd row (4 * c + A) (row (4 * c + B) + row (4 * c + C)), ret)) : wpY_step post (sz, nI c, nI a, st, cy, ops, ra, rb, rc, num, row, ret) := by
  have hv : vp_in (nI a) 24 := vp_in_nI ha (by decide)
  have hl : (nI a).toNatClampNeg = a := nI_clamp (by omega)
  have eB : nI (4 * c) + rb (nI a).toNatClampNeg = nI (4 * c + B) := by rw [hl, eb, nI_add]
  have eC : nI (4 * c) + rc (nI a).toNatClampNeg = nI (4 * c + C) := by rw [hl, ec, nI_add]
  have iB : vp_in (nI (4 * c) + rb (nI a).toNatClampNeg) 124 := by rw [eB]; exact vp_in_nI (by omega) (by decide)
  have iC : vp_in (nI (4 * c) + rc (nI a).toNatClampNeg) 124 := by rw [eC]; exact vp_in_nI (by omega) (by decide)
  unfold wpY_step
  dsimp only
  refine And.intro hv (nm_r (e' := nI 1) (by rw [hl, eo]) (nm_r (e' := nI (4 * c)) (pk_mul 4 _) (And.intro hv (nm_r (e' := nI (4 * c + A)) (by rw [hl, ea, nI_add]) (And.intro hv (And.intro iB (nm_r (e' := row (4 * c + B)) (by rw [eB, nI_clamp (by omega)]) (And.intro hv (And.intro iC (nm_r (e' := row (4 * c + C)) (by rw [eC, nI_clamp (by omega)]) (And.intro hv (nm_r (e' := num a) (by rw [hl]) (nm_r (e' := nI (a + 1)) (nI_1 a) ?_)))))))))))))
  refine br_f (by decide) (br_t (by decide) ?_)
  refine And.intro (vp_in_nI (by omega) (by decide)) ?_
  rw [nI_clamp (n := 4 * c + A) (by omega)]
  refine nm_e ?_
  unfold wY_step_311
  exact nm_e h
theorem wc_Y2 {post : SY → Prop} {a c A B C : Nat} (ha : a < 24) (hc : c ≤ 29) (hA : A < 8) (hB : B < 8) (hC : C < 8) (eo : ops a = nI 2) (ea : ra a = nI A) (eb : rb a = nI B) (ec : rc a = nI C) (h : post (sz, nI c, nI (a + 1), st, cy + 1, ops, ra, rb, rc, num, upd row (4 * c + A) (row (4 * c + B) - row (4 * c + C)), ret)) : wpY_step post (sz, nI c, nI a, st, cy, ops, ra, rb, rc, num, row, ret) := by
  have hv : vp_in (nI a) 24 := vp_in_nI ha (by decide)
  have hl : (nI a).toNatClampNeg = a := nI_clamp (by omega)
  have eB : nI (4 * c) + rb (nI a).toNatClampNeg = nI (4 * c + B) := by rw [hl, eb, nI_add]
  have eC : nI (4 * c) + rc (nI a).toNatClampNeg = nI (4 * c + C) := by rw [hl, ec, nI_add]
  have iB : vp_in (nI (4 * c) + rb (nI a).toNatClampNeg) 124 := by rw [eB]; exact vp_in_nI (by omega) (by decide)
  have iC : vp_in (nI (4 * c) + rc (nI a).toNatClampNeg) 124 := by rw [eC]; exact vp_in_nI (by omega) (by decide)
  unfold wpY_step
  dsimp only
  refine And.intro hv (nm_r (e' := nI 2) (by rw [hl, eo]) (nm_r (e' := nI (4 * c)) (pk_mul 4 _) (And.intro hv (nm_r (e' := nI (4 * c + A)) (by rw [hl, ea, nI_add]) (And.intro hv (And.intro iB (nm_r (e' := row (4 * c + B)) (by rw [eB, nI_clamp (by omega)]) (And.intro hv (And.intro iC (nm_r (e' := row (4 * c + C)) (by rw [eC, nI_clamp (by omega)]) (And.intro hv (nm_r (e' := num a) (by rw [hl]) (nm_r (e' := nI (a + 1)) (nI_1 a) ?_)))))))))))))
  refine br_f (by decide) (br_f (by decide) (br_t (by decide) ?_))
  refine And.intro (vp_in_nI (by omega) (by decide)) ?_
  rw [nI_clamp (n := 4 * c + A) (by omega)]
  refine nm_e ?_
  unfold wY_step_311
  exact nm_e h
theorem wc_Y4 {post : SY → Prop} {a c A B C : Nat} (ha : a < 24) (hc : c ≤ 29) (hA : A < 8) (hB : B < 8) (hC : C < 8) (eo : ops a = nI 4) (ea : ra a = nI A) (eb : rb a = nI B) (ec : rc a = nI C) (h : post (sz, nI c, nI (a + 1), st, cy + 1, ops, ra, rb, rc, num, upd row (4 * c + A) (row (4 * c + B)), ret)) : wpY_step post (sz, nI c, nI a, st, cy, ops, ra, rb, rc, num, row, ret) := by
  have hv : vp_in (nI a) 24 := vp_in_nI ha (by decide)
  have hl : (nI a).toNatClampNeg = a := nI_clamp (by omega)
  have eB : nI (4 * c) + rb (nI a).toNatClampNeg = nI (4 * c + B) := by rw [hl, eb, nI_add]
  have eC : nI (4 * c) + rc (nI a).toNatClampNeg = nI (4 * c + C) := by rw [hl, ec, nI_add]
  have iB : vp_in (nI (4 * c) + rb (nI a).toNatClampNeg) 124 := by rw [eB]; exact vp_in_nI (by omega) (by decide)
  have iC : vp_in (nI (4 * c) + rc (nI a).toNatClampNeg) 124 := by rw [eC]; exact vp_in_nI (by omega) (by decide)
  unfold wpY_step
  dsimp only
  refine And.intro hv (nm_r (e' := nI 4) (by rw [hl, eo]) (nm_r (e' := nI (4 * c)) (pk_mul 4 _) (And.intro hv (nm_r (e' := nI (4 * c + A)) (by rw [hl, ea, nI_add]) (And.intro hv (And.intro iB (nm_r (e' := row (4 * c + B)) (by rw [eB, nI_clamp (by omega)]) (And.intro hv (And.intro iC (nm_r (e' := row (4 * c + C)) (by rw [eC, nI_clamp (by omega)]) (And.intro hv (nm_r (e' := num a) (by rw [hl]) (nm_r (e' := nI (a + 1)) (nI_1 a) ?_)))))))))))))
  refine br_f (by decide) (br_f (by decide) (br_f (by decide) (br_t (by decide) ?_)))
  refine And.intro (vp_in_nI (by omega) (by decide)) ?_
  rw [nI_clamp (n := 4 * c + A) (by omega)]
  refine nm_e ?_
  unfold wY_step_311
  exact nm_e h
theorem wc_Y3 {post : SY → Prop} {a c A B C : Nat} (ha : a < 24) (hc : c ≤ 29) (hA : A < 8) (hB : B < 8) (hC : C < 8) (eo : ops a = nI 3) (ea : ra a = nI A) (eb : rb a = nI B) (ec : rc a = nI C) (h : post (sz, nI c, num a, st, cy + 1, ops, ra, rb, rc, num, row, ret)) : wpY_step post (sz, nI c, nI a, st, cy, ops, ra, rb, rc, num, row, ret) := by
  have hv : vp_in (nI a) 24 := vp_in_nI ha (by decide)
  have hl : (nI a).toNatClampNeg = a := nI_clamp (by omega)
  have eB : nI (4 * c) + rb (nI a).toNatClampNeg = nI (4 * c + B) := by rw [hl, eb, nI_add]
  have eC : nI (4 * c) + rc (nI a).toNatClampNeg = nI (4 * c + C) := by rw [hl, ec, nI_add]
  have iB : vp_in (nI (4 * c) + rb (nI a).toNatClampNeg) 124 := by rw [eB]; exact vp_in_nI (by omega) (by decide)
  have iC : vp_in (nI (4 * c) + rc (nI a).toNatClampNeg) 124 := by rw [eC]; exact vp_in_nI (by omega) (by decide)
  unfold wpY_step
  dsimp only
  refine And.intro hv (nm_r (e' := nI 3) (by rw [hl, eo]) (nm_r (e' := nI (4 * c)) (pk_mul 4 _) (And.intro hv (nm_r (e' := nI (4 * c + A)) (by rw [hl, ea, nI_add]) (And.intro hv (And.intro iB (nm_r (e' := row (4 * c + B)) (by rw [eB, nI_clamp (by omega)]) (And.intro hv (And.intro iC (nm_r (e' := row (4 * c + C)) (by rw [eC, nI_clamp (by omega)]) (And.intro hv (nm_r (e' := num a) (by rw [hl]) (nm_r (e' := nI (a + 1)) (nI_1 a) ?_)))))))))))))
  refine br_f (by decide) (br_f (by decide) (br_f (by decide) (br_f (by decide) (br_f (by decide) (br_f (by decide) (br_t (by decide) ?_))))))
  unfold wY_step_302 wY_step_309 wY_step_311
  exact nm_e h
theorem wc_Y7 {post : SY → Prop} {a c A B C : Nat} (ha : a < 24) (hc : c ≤ 29) (hA : A < 8) (hB : B < 8) (hC : C < 8) (eo : ops a = nI 7) (ea : ra a = nI A) (eb : rb a = nI B) (ec : rc a = nI C) (h : post (sz, nI c, (if row (4 * c + A) = 0 then num a else nI (a + 1)), st, cy + 1, ops, ra, rb, rc, num, row, ret)) : wpY_step post (sz, nI c, nI a, st, cy, ops, ra, rb, rc, num, row, ret) := by
  have hv : vp_in (nI a) 24 := vp_in_nI ha (by decide)
  have hl : (nI a).toNatClampNeg = a := nI_clamp (by omega)
  have eB : nI (4 * c) + rb (nI a).toNatClampNeg = nI (4 * c + B) := by rw [hl, eb, nI_add]
  have eC : nI (4 * c) + rc (nI a).toNatClampNeg = nI (4 * c + C) := by rw [hl, ec, nI_add]
  have iB : vp_in (nI (4 * c) + rb (nI a).toNatClampNeg) 124 := by rw [eB]; exact vp_in_nI (by omega) (by decide)
  have iC : vp_in (nI (4 * c) + rc (nI a).toNatClampNeg) 124 := by rw [eC]; exact vp_in_nI (by omega) (by decide)
  unfold wpY_step
  dsimp only
  refine And.intro hv (nm_r (e' := nI 7) (by rw [hl, eo]) (nm_r (e' := nI (4 * c)) (pk_mul 4 _) (And.intro hv (nm_r (e' := nI (4 * c + A)) (by rw [hl, ea, nI_add]) (And.intro hv (And.intro iB (nm_r (e' := row (4 * c + B)) (by rw [eB, nI_clamp (by omega)]) (And.intro hv (And.intro iC (nm_r (e' := row (4 * c + C)) (by rw [eC, nI_clamp (by omega)]) (And.intro hv (nm_r (e' := num a) (by rw [hl]) (nm_r (e' := nI (a + 1)) (nI_1 a) ?_)))))))))))))
  refine br_f (by decide) (br_f (by decide) (br_f (by decide) (br_f (by decide) (br_f (by decide) (br_f (by decide) (br_f (by decide) (?_)))))))
  refine And.intro (vp_in_nI (by omega) (by decide)) ?_
  rw [nI_clamp (n := 4 * c + A) (by omega)]
  by_cases z : row (4 * c + A) = 0
  · rw [if_pos z] at h
    refine br_t z ?_
    unfold wY_step_302 wY_step_309 wY_step_311
    exact nm_e h
  · rw [if_neg z] at h
    refine br_f z ?_
    unfold wY_step_309 wY_step_311
    exact nm_e h
theorem wc_Y5 {post : SY → Prop} {a c A B C : Nat} (ha : a < 24) (hc : c < 29) (hA : A < 8) (hB : B < 8) (hC : C < 8) (eo : ops a = nI 5) (ea : ra a = nI A) (eb : rb a = nI B) (ec : rc a = nI C) (h : post (sz, nI (c + 1), num a, st, cy + 1, ops, ra, rb, rc, num, wc_4 row (4 * (c + 1) + 4) (fun _ => 0), upd ret (c + 1) (nI (a + 1)))) : wpY_step post (sz, nI c, nI a, st, cy, ops, ra, rb, rc, num, row, ret) := by
  have hv : vp_in (nI a) 24 := vp_in_nI ha (by decide)
  have hl : (nI a).toNatClampNeg = a := nI_clamp (by omega)
  have eB : nI (4 * c) + rb (nI a).toNatClampNeg = nI (4 * c + B) := by rw [hl, eb, nI_add]
  have eC : nI (4 * c) + rc (nI a).toNatClampNeg = nI (4 * c + C) := by rw [hl, ec, nI_add]
  have iB : vp_in (nI (4 * c) + rb (nI a).toNatClampNeg) 124 := by rw [eB]; exact vp_in_nI (by omega) (by decide)
  have iC : vp_in (nI (4 * c) + rc (nI a).toNatClampNeg) 124 := by rw [eC]; exact vp_in_nI (by omega) (by decide)
  unfold wpY_step
  dsimp only
  refine And.intro hv (nm_r (e' := nI 5) (by rw [hl, eo]) (nm_r (e' := nI (4 * c)) (pk_mul 4 _) (And.intro hv (nm_r (e' := nI (4 * c + A)) (by rw [hl, ea, nI_add]) (And.intro hv (And.intro iB (nm_r (e' := row (4 * c + B)) (by rw [eB, nI_clamp (by omega)]) (And.intro hv (And.intro iC (nm_r (e' := row (4 * c + C)) (by rw [eC, nI_clamp (by omega)]) (And.intro hv (nm_r (e' := num a) (by rw [hl]) (nm_r (e' := nI (a + 1)) (nI_1 a) ?_)))))))))))))
  refine br_f (by decide) (br_f (by decide) (br_f (by decide) (br_f (by decide) (br_t (by decide) ?_))))
  refine nm_r (nI_1 c) ?_
  refine And.intro (vp_in_nI (by omega) (by decide)) ?_
  rw [nI_clamp (n := c + 1) (by omega)]
  refine nm_e ?_
  exact ⟨5, wc_Y182 (by omega) h⟩
theorem wc_Y60 {post : SY → Prop} {a A B C : Nat} (ha : a < 24) (hc : 0 ≤ 29) (hA : A < 8) (hB : B < 8) (hC : C < 8) (eo : ops a = nI 6) (ea : ra a = nI A) (eb : rb a = nI B) (ec : rc a = nI C) (h : post (sz, nI 0, nI a, 1, cy + 1, ops, ra, rb, rc, num, row, ret)) : wpY_step post (sz, nI 0, nI a, st, cy, ops, ra, rb, rc, num, row, ret) := by
  have hv : vp_in (nI a) 24 := vp_in_nI ha (by decide)
  have hl : (nI a).toNatClampNeg = a := nI_clamp (by omega)
  have eB : nI (4 * 0) + rb (nI a).toNatClampNeg = nI (4 * 0 + B) := by rw [hl, eb, nI_add]
  have eC : nI (4 * 0) + rc (nI a).toNatClampNeg = nI (4 * 0 + C) := by rw [hl, ec, nI_add]
  have iB : vp_in (nI (4 * 0) + rb (nI a).toNatClampNeg) 124 := by rw [eB]; exact vp_in_nI (by omega) (by decide)
  have iC : vp_in (nI (4 * 0) + rc (nI a).toNatClampNeg) 124 := by rw [eC]; exact vp_in_nI (by omega) (by decide)
  unfold wpY_step
  dsimp only
  refine And.intro hv (nm_r (e' := nI 6) (by rw [hl, eo]) (nm_r (e' := nI (4 * 0)) (pk_mul 4 _) (And.intro hv (nm_r (e' := nI (4 * 0 + A)) (by rw [hl, ea, nI_add]) (And.intro hv (And.intro iB (nm_r (e' := row (4 * 0 + B)) (by rw [eB, nI_clamp (by omega)]) (And.intro hv (And.intro iC (nm_r (e' := row (4 * 0 + C)) (by rw [eC, nI_clamp (by omega)]) (And.intro hv (nm_r (e' := num a) (by rw [hl]) (nm_r (e' := nI (a + 1)) (nI_1 a) ?_)))))))))))))
  refine br_f (by decide) (br_f (by decide) (br_f (by decide) (br_f (by decide) (br_f (by decide) (br_t (by decide) ?_)))))
  refine br_t nI_0 ?_
  unfold wY_step_236
  refine And.intro narrow_b1 (And.intro (by decide) ?_)
  refine br_f (by decide) ?_
  unfold wY_step_262
  refine br_f (by decide) ?_
  unfold wY_step_282 wY_step_311
  exact nm_e h
theorem wc_Y61 {post : SY → Prop} {a c A B C : Nat} (ha : a < 24) (hc : c < 29) (hA : A < 8) (hB : B < 8) (hC : C < 8) (eo : ops a = nI 6) (ea : ra a = nI A) (eb : rb a = nI B) (ec : rc a = nI C) (h : post (sz, nI c, ret (c + 1), 0, cy + 1, ops, ra, rb, rc, num, row, ret)) : wpY_step post (sz, nI (c + 1), nI a, st, cy, ops, ra, rb, rc, num, row, ret) := by
  have hv : vp_in (nI a) 24 := vp_in_nI ha (by decide)
  have hl : (nI a).toNatClampNeg = a := nI_clamp (by omega)
  have eB : nI (4 * (c + 1)) + rb (nI a).toNatClampNeg = nI (4 * (c + 1) + B) := by rw [hl, eb, nI_add]
  have eC : nI (4 * (c + 1)) + rc (nI a).toNatClampNeg = nI (4 * (c + 1) + C) := by rw [hl, ec, nI_add]
  have iB : vp_in (nI (4 * (c + 1)) + rb (nI a).toNatClampNeg) 124 := by rw [eB]; exact vp_in_nI (by omega) (by decide)
  have iC : vp_in (nI (4 * (c + 1)) + rc (nI a).toNatClampNeg) 124 := by rw [eC]; exact vp_in_nI (by omega) (by decide)
  unfold wpY_step
  dsimp only
  refine And.intro hv (nm_r (e' := nI 6) (by rw [hl, eo]) (nm_r (e' := nI (4 * (c + 1))) (pk_mul 4 _) (And.intro hv (nm_r (e' := nI (4 * (c + 1) + A)) (by rw [hl, ea, nI_add]) (And.intro hv (And.intro iB (nm_r (e' := row (4 * (c + 1) + B)) (by rw [eB, nI_clamp (by omega)]) (And.intro hv (And.intro iC (nm_r (e' := row (4 * (c + 1) + C)) (by rw [eC, nI_clamp (by omega)]) (And.intro hv (nm_r (e' := num a) (by rw [hl]) (nm_r (e' := nI (a + 1)) (nI_1 a) ?_)))))))))))))
  refine br_f (by decide) (br_f (by decide) (br_f (by decide) (br_f (by decide) (br_f (by decide) (br_t (by decide) ?_)))))
  refine br_f (nI_ne0 (by omega) (by omega)) ?_
  unfold wY_step_236
  refine And.intro narrow_b0 (And.intro (by decide) ?_)
  refine br_t rfl ?_
  refine And.intro (vp_in_nI (by omega) (by decide)) ?_
  rw [nI_clamp (n := c + 1) (by omega)]
  unfold wY_step_262
  refine br_t rfl ?_
  rw [nI_pred c]
  unfold wY_step_282 wY_step_311
  exact nm_e h
end
end
section
/-- the relation, with the component's count cx and the reference's cy -/
def wc_R (cx cy : Int32) (u : SX) (v : SY) : Prop := ∃ (sz c l : Nat) (q st : Int32) (ops regs num ring mem ret ra rb rc row : Nat → Int32), u = (nI sz, q, st, cx, nI c, nI l, ops, regs, num, ring, mem, ret) ∧ v = (nI sz, nI c, q, st, cy, ops, ra, rb, rc, num, row, ret) ∧ sz ≤ 24 ∧ (st = 0 ∨ st = 1) ∧ wc_P ops regs ra rb rc ∧ wc_M c l ring mem row
theorem wc_Ri {cx cy : Int32} {sz c l : Nat} {q st : Int32} {ops regs num ring mem ret ra rb rc row : Nat → Int32} (hs : sz ≤ 24) (hst : st = 0 ∨ st = 1) (P : wc_P ops regs ra rb rc) (M : wc_M c l ring mem row) : wc_R cx cy (nI sz, q, st, cx, nI c, nI l, ops, regs, num, ring, mem, ret) (nI sz, nI c, q, st, cy, ops, ra, rb, rc, num, row, ret) :=
  ⟨sz, c, l, q, st, ops, regs, num, ring, mem, ret, ra, rb, rc, row, rfl, rfl, hs, hst, P, M⟩
theorem wc_el {T : SX → SY → Prop} {cx cy : Int32} {u : SX} {v : SY} (h : ∀ (sz c l : Nat) (q st : Int32) (ops regs num ring mem ret ra rb rc row : Nat → Int32), sz ≤ 24 → (st = 0 ∨ st = 1) → wc_P ops regs ra rb rc → wc_M c l ring mem row → T (nI sz, q, st, cx, nI c, nI l, ops, regs, num, ring, mem, ret) (nI sz, nI c, q, st, cy, ops, ra, rb, rc, num, row, ret)) (I : wc_R cx cy u v) : T u v := by
  obtain ⟨sz, c, l, q, st, ops, regs, num, ring, mem, ret, ra, rb, rc, row, rfl, rfl, h1, h2, h3, h4⟩ := I
  exact h sz c l q st ops regs num ring mem ret ra rb rc row h1 h2 h3 h4
/-- one instruction, on both sides -/
theorem wc_step {sz a c l : Nat} {cx cy : Int32} {ops regs num ring mem ret ra rb rc row : Nat → Int32} (hs : sz ≤ 24) (ha : a < sz) (P : wc_P ops regs ra rb rc) (M : wc_M c l ring mem row) (h5 : ¬ (ops a = 5 ∧ c = 29)) : ∃ (u' : SX) (v' : SY), wc_R cx (cy + 1) u' v' ∧ (∀ post : Int32 → SX → Prop, post 1 u' → wX_step_49 post (nI sz) (nI a) 0 cx (nI c) (nI l) ops regs num ring mem ret) ∧ (∀ post : SY → Prop, post v' → wpY_step post (nI sz, nI c, nI a, 0, cy, ops, ra, rb, rc, num, row, ret)) := by
  obtain ⟨⟨o, ho, eo⟩, m, hm, er, ea, eb, ec⟩ := P a
  have hc := M.2.2.1
  have hA : m % 8 < 8 := by omega
  have hB : m / 8 % 8 < 8 := by omega
  have hC : m / 64 < 8 := by omega
  have h24 : a < 24 := by omega
  match o, ho, eo with
  | 0, _, eo => exact ⟨_, _, wc_Ri (q := nI (a + 1)) (num := num) (ret := ret) hs (Or.inl rfl) P (wc_Mset M hA (num a)), fun post h => wc_X0 h24 M hm eo er h, fun post h => wc_Y0 h24 hc hA hB hC eo ea eb ec h⟩
  | 1, _, eo => exact ⟨_, _, wc_Ri (q := nI (a + 1)) (num := num) (ret := ret) hs (Or.inl rfl) P (wc_Mset M hA (row (4 * c + m / 8 % 8) + row (4 * c + m / 64))), fun post h => wc_X1 h24 M hm eo er h, fun post h => wc_Y1 h24 hc hA hB hC eo ea eb ec h⟩
  | 2, _, eo => exact ⟨_, _, wc_Ri (q := nI (a + 1)) (num := num) (ret := ret) hs (Or.inl rfl) P (wc_Mset M hA (row (4 * c + m / 8 % 8) - row (4 * c + m / 64))), fun post h => wc_X2 h24 M hm eo er h, fun post h => wc_Y2 h24 hc hA hB hC eo ea eb ec h⟩
  | 3, _, eo => exact ⟨_, _, wc_Ri (q := num a) (num := num) (ret := ret) hs (Or.inl rfl) P M, fun post h => wc_X3 h24 M hm eo er h, fun post h => wc_Y3 h24 hc hA hB hC eo ea eb ec h⟩
  | 4, _, eo => exact ⟨_, _, wc_Ri (q := nI (a + 1)) (num := num) (ret := ret) hs (Or.inl rfl) P (wc_Mset M hA (row (4 * c + m / 8 % 8))), fun post h => wc_X4 h24 M hm eo er h, fun post h => wc_Y4 h24 hc hA hB hC eo ea eb ec h⟩
  | 5, _, eo =>
    have hc29 : c < 29 := by
      rcases Nat.lt_or_ge c 29 with h | h
      · exact h
      · exact absurd (And.intro eo (by omega)) h5
    obtain ⟨l', ring', mem', M', hE⟩ := wc_enter M hc29
    exact ⟨_, _, wc_Ri (q := num a) (num := num) (ret := upd ret (c + 1) (nI (a + 1))) hs (Or.inl rfl) P M', fun post h => wc_X5 h24 hc29 hm eo er hE h, fun post h => wc_Y5 h24 hc29 hA hB hC eo ea eb ec h⟩
  | 6, _, eo =>
    cases c with
    | zero => exact ⟨_, _, wc_Ri (q := nI a) (num := num) (ret := ret) hs (Or.inr rfl) P M, fun post h => wc_X60 h24 hm eo er h, fun post h => wc_Y60 h24 (by decide) hA hB hC eo ea eb ec h⟩
    | succ d =>
      obtain ⟨l', ring', M', hL⟩ := wc_leave M
      exact ⟨_, _, wc_Ri (q := ret (d + 1)) (num := num) (ret := ret) hs (Or.inl rfl) P M', fun post h => wc_X61 h24 (by omega) hm eo er hL h, fun post h => wc_Y61 h24 (by omega) hA hB hC eo ea eb ec h⟩
  | 7, _, eo => exact ⟨_, _, wc_Ri (q := if row (4 * c + m % 8) = 0 then num a else nI (a + 1)) (num := num) (ret := ret) hs (Or.inl rfl) P M, fun post h => wc_X7 h24 M hm eo er h, fun post h => wc_Y7 h24 hc hA hB hC eo ea eb ec h⟩
  | n + 8, h, _ => exact absurd h (by omega)
section
variable {sz q st cx cy ca lo : Int32} {ops regs num ring mem ret ra rb rc row : Nat → Int32}
theorem wc_stopX {post : Int32 → SX → Prop} {g d : Int32} {n : Nat} (h : post d (sz, q, 1, cx + d, ca, lo, ops, regs, num, ring, mem, ret)) : wX_run_25 post g (n + 1) d sz q 1 cx ca lo ops regs num ring mem ret := by
  have K : wX_run_55 post d sz q 1 cx ca lo ops regs num ring mem ret := by
    unfold wX_run_55
    exact nm_e h
  exact br_c (fun _ => K) (fun _ => br_f (by decide) K)
theorem wc_stopY {post : Int32 → SY → Prop} {g d : Int32} {n : Nat} (h : post d (sz, ca, q, 1, cy, ops, ra, rb, rc, num, row, ret)) : wY_run_17 post g (n + 1) d sz ca q 1 cy ops ra rb rc num row ret :=
  br_c (fun _ => h) (fun _ => br_f (by decide) h)
theorem wc_haltX {post : Int32 → SX → Prop} {g d : Int32} {n : Nat} (hg : ¬ g ≤ d) (hstep : ∀ post : Int32 → SX → Prop, post 0 (sz, q, 1, cx, ca, lo, ops, regs, num, ring, mem, ret) → wpX_step post (sz, q, 0, cx, ca, lo, ops, regs, num, ring, mem, ret)) (h : post d (sz, q, 1, cx + d, ca, lo, ops, regs, num, ring, mem, ret)) : wX_run_25 post g (n + 2) d sz q 0 cx ca lo ops regs num ring mem ret := by
  refine br_f hg (br_t rfl ?_)
  refine hstep _ ?_
  refine br_t rfl ?_
  refine nm_r (Int32.add_zero d) ?_
  exact wc_stopX h
theorem wc_goX {post : Int32 → SX → Prop} {g d : Int32} {n : Nat} {s1 s2 s3 s4 s5 s6 : Int32} {t1 t2 t3 t4 t5 t6 : Nat → Int32} (hg : ¬ g ≤ d) (hstep : ∀ post : Int32 → SX → Prop, post 1 (s1, s2, s3, s4, s5, s6, t1, t2, t3, t4, t5, t6) → wpX_step post (sz, q, 0, cx, ca, lo, ops, regs, num, ring, mem, ret)) (h : wX_run_25 post g n (d + 1) s1 s2 s3 s4 s5 s6 t1 t2 t3 t4 t5 t6) : wX_run_25 post g (n + 1) d sz q 0 cx ca lo ops regs num ring mem ret := by
  refine br_f hg (br_t rfl ?_)
  refine hstep _ ?_
  refine br_f (by decide) ?_
  exact nm_e h
theorem wc_Y47 {post : Int32 → SY → Prop} {J : Int32 → Int32 → Int32 → Int32 → Int32 → Int32 → (Nat → Int32) → (Nat → Int32) → (Nat → Int32) → (Nat → Int32) → (Nat → Int32) → (Nat → Int32) → (Nat → Int32) → Prop} {x2 x3 : Int32} (h : J x3 sz ca q 1 cy ops ra rb rc num row ret) : wY_run_47 post J x2 x3 sz ca q st cy ops ra rb rc num row ret := by
  unfold wY_run_47 wY_run_52 wY_run_85 wY_run_86
  exact br_f (by decide) (br_f (by decide) h)
theorem wc_Y52f {post : Int32 → SY → Prop} {J : Int32 → Int32 → Int32 → Int32 → Int32 → Int32 → (Nat → Int32) → (Nat → Int32) → (Nat → Int32) → (Nat → Int32) → (Nat → Int32) → (Nat → Int32) → (Nat → Int32) → Prop} {x2 x3 : Int32} {a : Nat} (ha : a < 24) (eo : ops a = 5) (h : J x3 sz (nI 29) (nI a) 1 cy ops ra rb rc num row ret) : wY_run_52 post J x2 x3 0 sz (nI 29) (nI a) st cy ops ra rb rc num row ret := by
  unfold wY_run_52 wY_run_86
  refine br_t rfl (And.intro (vp_in_nI ha (by decide)) ?_)
  rw [nI_clamp (n := a) (by omega)]
  exact br_t eo (br_t rfl (br_t rfl (br_f (by decide) h)))
theorem wc_Y52s {post : Int32 → SY → Prop} {J : Int32 → Int32 → Int32 → Int32 → Int32 → Int32 → (Nat → Int32) → (Nat → Int32) → (Nat → Int32) → (Nat → Int32) → (Nat → Int32) → (Nat → Int32) → (Nat → Int32) → Prop} {x2 x3 : Int32} {a c : Nat} {s1 s2 s3 s4 s5 : Int32} {t1 t2 t3 t4 t5 t6 t7 : Nat → Int32} (ha : a < 24) (hc : c ≤ 29) (h5 : ¬ (ops a = 5 ∧ c = 29)) (hstep : ∀ post : SY → Prop, post (s1, s2, s3, s4, s5, t1, t2, t3, t4, t5, t6, t7) → wpY_step post (sz, nI c, nI a, st, cy, ops, ra, rb, rc, num, row, ret)) (h : J (x3 + 1) s1 s2 s3 s4 s5 t1 t2 t3 t4 t5 t6 t7) : wY_run_52 post J x2 x3 0 sz (nI c) (nI a) st cy ops ra rb rc num row ret := by
  have K : wY_run_85 post J x2 x3 0 sz (nI c) (nI a) st cy ops ra rb rc num row ret := by
    unfold wY_run_85 wY_run_86
    refine br_t rfl (br_t rfl ?_)
    refine hstep _ ?_
    exact nm_e h
  unfold wY_run_52
  refine br_t rfl (And.intro (vp_in_nI ha (by decide)) ?_)
  rw [nI_clamp (n := a) (by omega)]
  refine br_c (fun e5 => br_f (fun e29 => h5 ⟨e5, ?_⟩) K) (fun _ => K)
  exact (nI_eq (a := c) (b := 29) (by omega) (by decide)).mp e29
theorem wc_stepX {post : Int32 → SX → Prop} {z a c : Nat} (hz : z ≤ 24) (ha : a < z) (hc : c ≤ 29) (h5 : ¬ (ops a = 5 ∧ c = 29)) (K : wX_step_49 post (nI z) (nI a) st cx (nI c) lo ops regs num ring mem ret) : wpX_step post (nI z, nI a, st, cx, nI c, lo, ops, regs, num, ring, mem, ret) := by
  unfold wpX_step
  dsimp only
  refine br_f (nI_pos (by omega)) (br_f (nI_ge ha (by omega)) (And.intro (vp_in_nI (by omega) (by decide)) ?_))
  rw [nI_clamp (n := a) (by omega)]
  refine br_c (fun e5 => br_t ?_ K) (fun _ => K)
  rw [nI_1]
  refine nI_lt (b := 30) ?_ (by decide)
  rcases Nat.lt_or_ge c 29 with h | h
  · omega
  · exact absurd (And.intro e5 (by omega)) h5
end
section
/-- the run's loop, on both sides -/
theorem wc_run {g : Nat} (hg : g ≤ 200) : ∀ (k d : Nat), d + k = g → ∀ (sz c l : Nat) (q st cx cy : Int32) (ops regs num ring mem ret ra rb rc row : Nat → Int32), sz ≤ 24 → (st = 0 ∨ st = 1) → wc_P ops regs ra rb rc → wc_M c l ring mem row → cy = cx + nI d → ∃ (r : Int32) (u' : SX) (v' : SY), (∃ e, wc_R e e u' v') ∧ (∀ post : Int32 → SX → Prop, post r u' → wX_run_25 post (nI g) (k + 2) (nI d) (nI sz) q st cx (nI c) (nI l) ops regs num ring mem ret) ∧ (∀ post : Int32 → SY → Prop, post r v' → wY_run_17 post (nI g) (k + 2) (nI d) (nI sz) (nI c) q st cy ops ra rb rc num row ret) := by
  intro k
  induction k with
  | zero =>
    intro d hd sz c l q st cx cy ops regs num ring mem ret ra rb rc row hs hst P M hcy
    subst hcy
    have hgd : nI g ≤ nI d := nI_le (by omega) (by omega)
    exact ⟨nI d, _, _, ⟨cx + nI d, wc_Ri (q := q) (num := num) (ret := ret) hs hst P M⟩, fun post h => br_t hgd (nm_e h), fun post h => br_t hgd h⟩
  | succ k ih =>
    intro d hd sz c l q st cx cy ops regs num ring mem ret ra rb rc row hs hst P M hcy
    subst hcy
    have hgd : ¬ nI g ≤ nI d := nI_ge (by omega) (by omega)
    have hc := M.2.2.1
    rcases hst with rfl | rfl
    · rcases pk_ix q (n := sz) (by omega) with h | h | ⟨a, ha, rfl⟩
      · exact ⟨nI d, _, _, ⟨cx + nI d, wc_Ri (q := q) (num := num) (ret := ret) hs (Or.inr rfl) P M⟩, fun post p => wc_haltX hgd (fun post p => br_t h p) p, fun post p => br_f hgd (br_t rfl (br_t h (wc_Y47 (wc_stopY p))))⟩
      · have h0 : ¬ q < 0 := Int32.not_lt.mpr (Int32.le_trans (nI_pos' (by omega)) h)
        have h1 : ¬ q < nI sz := Int32.not_lt.mpr h
        exact ⟨nI d, _, _, ⟨cx + nI d, wc_Ri (q := q) (num := num) (ret := ret) hs (Or.inr rfl) P M⟩, fun post p => wc_haltX hgd (fun post p => br_f h0 (br_t h p)) p, fun post p => br_f hgd (br_t rfl (br_f h0 (br_f h1 (wc_Y47 (wc_stopY p)))))⟩
      · have h0 : ¬ nI a < 0 := nI_pos (by omega)
        have h1 : nI a < nI sz := nI_lt ha (by omega)
        have h2 : ¬ nI sz ≤ nI a := nI_ge ha (by omega)
        by_cases h5 : ops a = 5 ∧ c = 29
        · obtain ⟨e5, rfl⟩ := h5
          refine ⟨nI d, _, _, ⟨cx + nI d, wc_Ri (q := nI a) (num := num) (ret := ret) hs (Or.inr rfl) P M⟩, fun post p => wc_haltX hgd (fun post p => br_f h0 (br_f h2 (And.intro (vp_in_nI (by omega) (by decide)) ?_))) p, fun post p => br_f hgd (br_t rfl (br_f h0 (br_t h1 (wc_Y52f (by omega) e5 (wc_stopY p)))))⟩
          rw [nI_clamp (n := a) (by omega)]
          exact br_t e5 (br_f (by decide) p)
        · obtain ⟨u1, v1, R, hX, hY⟩ := wc_step (cx := cx) (cy := cx + nI d) (num := num) (ret := ret) hs ha P M h5
          obtain ⟨sz1, c1, l1, q1, st1, ops1, regs1, num1, ring1, mem1, ret1, ra1, rb1, rc1, row1, rfl, rfl, g1, g2, g3, g4⟩ := R
          have e : cx + nI d + 1 = cx + nI (d + 1) := by rw [Int32.add_assoc, nI_1]
          obtain ⟨r, u', v', R', hX', hY'⟩ := ih (d + 1) (by omega) sz1 c1 l1 q1 st1 cx (cx + nI d + 1) ops1 regs1 num1 ring1 mem1 ret1 ra1 rb1 rc1 row1 g1 g2 g3 g4 e
          have e1 : nI d + 1 = nI (d + 1) := nI_1 d
          rw [← e1] at hX' hY'
          exact ⟨r, u', v', R', fun post p => wc_goX hgd (fun post p => wc_stepX hs ha hc h5 (hX post p)) (hX' post p), fun post p => br_f hgd (br_t rfl (br_f h0 (br_t h1 (wc_Y52s (by omega) hc h5 hY (hY' post p)))))⟩
    · exact ⟨nI d, _, _, ⟨cx + nI d, wc_Ri (q := q) (num := num) (ret := ret) hs (Or.inr rfl) P M⟩, fun post h => wc_stopX h, fun post h => wc_stopY h⟩
end
end
section
section
variable {sz q st cx cy ca : Int32} {ops regs num ring mem ret ra rb rc row : Nat → Int32}
/-! the digest's loops -/
theorem wc_dig14 {c l k : Nat} (M : wc_M c l ring mem row) (hk : k ≤ c) : ∀ (e r : Nat) (x : Int32), r + e = 8 → ∃ y : Int32, (∀ (post : Int32 → Prop) (J : Int32 → Int32 → Prop), J y (nI (k + 1)) → wX_digest_14 post J (nI k) sz q st cx (nI c) (nI l) ops regs num ring mem ret (e + 1) x (nI r)) ∧ (∀ (post : Int32 → Prop) (J : Int32 → Int32 → Prop), J y (nI (k + 1)) → wY_digest_14 post J (nI k) sz (nI c) q st cy ops ra rb rc num row ret (e + 1) x (nI r)) := by
  have hc := M.2.2.1
  intro e
  induction e with
  | zero =>
    intro r x hr
    have h8 : (8 : Int32) ≤ nI r := nI_le (a := 8) (by omega) (by omega)
    exact ⟨x, fun post J h => br_t h8 (nm_r (nI_1 k) h), fun post J h => br_t h8 (nm_r (nI_1 k) h)⟩
  | succ e ih =>
    intro r x hr
    have h8 : ¬ (8 : Int32) ≤ nI r := nI_ge (b := 8) (by omega) (by decide)
    obtain ⟨y, hX, hY⟩ := ih (r + 1) (x + ((8 * nI k + nI r) + 1) * row (4 * k + r)) (by omega)
    refine ⟨y, fun post J h => br_f h8 ?_, fun post J h => br_f h8 ?_⟩
    · refine wc_registerOf M hk (by omega) ?_
      exact nm_e (nm_r (nI_1 r) (hX post J h))
    · rw [wc_4x k r]
      refine And.intro (vp_in_nI (by omega) (by decide)) ?_
      rw [nI_clamp (n := 4 * k + r) (by omega)]
      exact nm_e (nm_r (nI_1 r) (hY post J h))
theorem wc_dig4 {c l : Nat} (M : wc_M c l ring mem row) : ∀ (e k : Nat) (x : Int32), k + e = c + 1 → ∃ y : Int32, (∀ post : Int32 → Prop, post y → wX_digest_4 post sz q st cx (nI c) (nI l) ops regs num ring mem ret (e + 1) x (nI k)) ∧ (∀ post : Int32 → Prop, post y → wY_digest_4 post sz (nI c) q st cy ops ra rb rc num row ret (e + 1) x (nI k)) := by
  have hc := M.2.2.1
  intro e
  induction e with
  | zero =>
    intro k x hk
    have h : nI c < nI k := nI_lt (by omega) (by omega)
    exact ⟨x, fun post p => br_t h p, fun post p => br_t h p⟩
  | succ e ih =>
    intro k x hk
    have h : ¬ nI c < nI k := nI_nlt (by omega) (by omega)
    obtain ⟨y1, hX1, hY1⟩ := wc_dig14 (sz := sz) (q := q) (st := st) (cx := cx) (cy := cy) (ops := ops) (regs := regs) (num := num) (ret := ret) (ra := ra) (rb := rb) (rc := rc) M (show k ≤ c by omega) 8 0 x rfl
    obtain ⟨y, hX, hY⟩ := ih (k + 1) y1 (by omega)
    exact ⟨y, fun post p => br_f h ⟨9, hX1 post _ (hX post p)⟩, fun post p => br_f h ⟨9, hY1 post _ (hY post p)⟩⟩
/-! the reference's restart -/
theorem wc_rst {post : SY → Prop} (h : ∀ row' : Nat → Int32, (∀ t, t < 124 → row' t = 0) → post (sz, 0, 0, 0, 0, ops, ra, rb, rc, num, row', ret)) : ∃ n, wY_restart_2 post sz ca q st cy n 0 ops ra rb rc num row ret := by
  refine loop_0 (fun n i s => wY_restart_2 post sz ca q st cy n (nI i) ops ra rb rc num s ret) (fun i s => ∀ t, t < i → s t = 0) 124 row (fun t ht => absurd ht (Nat.not_lt_zero t)) ?_ ?_
  · intro n s hI
    exact br_t (nI_le (a := 124) (b := 124) (by decide) (by decide)) (h s hI)
  · intro n i s hi hI hk
    refine br_f (nI_ge (b := 124) hi (by decide)) (And.intro (vp_in_nI hi (by decide)) ?_)
    rw [nI_clamp (n := i) (by omega)]
    refine nm_e (nm_r (nI_1 i) ?_)
    refine hk (upd s i 0) ?_
    intro t ht
    by_cases e : t = i
    · rw [e, pk_us]
    · rw [pk_un e]
      exact hI t (by omega)
/-! the registers' bounds -/
theorem wc_isX0 {post : Int32 → Prop} {v : Int32} (h : v < 0 ∨ nI 8 ≤ v) (p : post 0) : wpX_isRegister post v := by
  unfold wpX_isRegister
  rcases h with h | h
  · exact br_t h p
  · exact br_f (Int32.not_lt.mpr (Int32.le_trans (nI_pos' (by decide)) h)) (br_t h p)
theorem wc_isX1 {post : Int32 → Prop} {r : Nat} (h : r < 8) (p : post 1) : wpX_isRegister post (nI r) := by
  unfold wpX_isRegister
  exact br_f (nI_pos (by omega)) (br_f (nI_ge (b := 8) h (by decide)) p)
theorem wc_isY0 {post : Int32 → Prop} {v : Int32} (h : v < 0 ∨ nI 8 ≤ v) (p : post 0) : wpY_isRegister post (sz, ca, q, st, cy, ops, ra, rb, rc, num, row, ret) v := by
  unfold wpY_isRegister
  dsimp only
  rcases h with h | h
  · exact br_t h p
  · refine br_f (Int32.not_lt.mpr (Int32.le_trans (nI_pos' (by decide)) h)) (br_t ?_ p)
    have e : (nI 8).toInt = 8 := by decide
    have e7 : (7 : Int32).toInt = 7 := by decide
    rw [Int32.lt_iff_toInt_lt, e7]
    rw [Int32.le_iff_toInt_le, e] at h
    omega
theorem wc_isY1 {post : Int32 → Prop} {r : Nat} (h : r < 8) (p : post 1) : wpY_isRegister post (sz, ca, q, st, cy, ops, ra, rb, rc, num, row, ret) (nI r) := by
  unfold wpY_isRegister
  dsimp only
  exact br_f (nI_pos (by omega)) (br_f (nI_nlt (b := r) (a := 7) (by omega) (by decide)) p)
theorem wc_reg (v : Int32) : (v < 0 ∨ nI 8 ≤ v) ∨ ∃ r, r < 8 ∧ v = nI r := by
  rcases pk_ix v (n := 8) (by decide) with h | h | h
  · exact Or.inl (Or.inl h)
  · exact Or.inl (Or.inr h)
  · exact Or.inr h
end
/-! one more row of the program -/
theorem wc_Pset {ops regs ra rb rc : Nat → Int32} {o m : Nat} (P : wc_P ops regs ra rb rc) (ho : o < 8) (hm : m < 512) (k : Nat) : wc_P (upd ops k (nI o)) (upd regs k (nI m)) (upd ra k (nI (m % 8))) (upd rb k (nI (m / 8 % 8))) (upd rc k (nI (m / 64))) := by
  intro j
  by_cases e : j = k
  · rw [e, pk_us, pk_us, pk_us, pk_us, pk_us]
    exact ⟨⟨o, ho, rfl⟩, m, hm, rfl, rfl, rfl, rfl⟩
  · rw [pk_un e, pk_un e, pk_un e, pk_un e, pk_un e]
    exact P j
theorem wc_nb8 {o : Nat} (h : o < 8) : vp_nar .byte ((nI o).toInt8.toInt32) = nI o := by
  rw [pk_vb]
  exact lg_i2b_small (by rw [nI_toInt (by omega)]; omega) (by rw [nI_toInt (by omega)]; omega)
theorem wc_ns {m : Nat} (h : m < 512) : vp_nar .short ((nI m).toInt16.toInt32) = nI m := by
  rw [pk_vs]
  exact lg_i2s_small (by rw [nI_toInt (by omega)]; omega) (by rw [nI_toInt (by omega)]; omega)
end
section
def i_Rel (k : Nat) (u : SX) (v : SY) : Prop := ∃ e : Int32, wc_R e e u v
theorem i_up {k : Nat} {u : SX} {v : SY} (h : i_Rel k u v) : i_Rel (k + 4) u v := h
theorem i_vc0 : wpX_init (fun u => wpY_init (fun v => i_Rel 0 u v)) := by
  have M : wc_M 0 0 (fun _ => 0) (fun _ => 0) (fun _ => 0) := ⟨by omega, by omega, by omega, fun t ht => rfl, fun t ha hb => rfl⟩
  have P : wc_P (fun _ => 0) (fun _ => 0) (fun _ => 0) (fun _ => 0) (fun _ => 0) := fun j => ⟨⟨0, by decide, nI_0.symm⟩, 0, by decide, nI_0.symm, nI_0.symm, nI_0.symm, nI_0.symm⟩
  exact ⟨0, wc_Ri (sz := 0) (c := 0) (l := 0) (q := 0) (num := fun _ => 0) (ret := fun _ => 0) (by omega) (Or.inl rfl) P M⟩
theorem i_vc_emit {k : Nat} {u : SX} {v : SY} (I : i_Rel k u v) (hk : k + 4 ≤ 2048) (v1 : Int32) (v2 : Int32) (v3 : Int32) : wpX_emit (fun r u' => wpY_emit (fun r' v' => r' = r ∧ i_Rel (k + 4) u' v') v v1 v2 v3) u v1 v2 v3 := by
  obtain ⟨e, R⟩ := I
  refine wc_el (T := fun u v => wpX_emit (fun r u' => wpY_emit (fun r' v' => r' = r ∧ i_Rel (k + 4) u' v') v v1 v2 v3) u v1 v2 v3) ?_ R
  intro sz c l q st ops regs num ring mem ret ra rb rc row hs hst P M
  have hc := M.2.2.1
  have R0 : i_Rel (k + 4) (nI sz, q, st, e, nI c, nI l, ops, regs, num, ring, mem, ret) (nI sz, nI c, q, st, e, ops, ra, rb, rc, num, row, ret) := ⟨e, wc_Ri hs hst P M⟩
  by_cases a1 : v1 < 0
  · exact br_t a1 (br_t a1 ⟨rfl, R0⟩)
  by_cases a2 : 7 < v1
  · exact br_f a1 (br_t a2 (br_f a1 (br_t a2 ⟨rfl, R0⟩)))
  by_cases a3 : v2 < 0
  · exact br_f a1 (br_f a2 (br_t a3 (br_f a1 (br_f a2 (br_t a3 ⟨rfl, R0⟩)))))
  by_cases a4 : v2 ≤ 511
  · by_cases a5 : sz < 24
    · have f : nI sz < 24 := nI_lt (b := 24) a5 (by decide)
      have hv : vp_in (nI sz) 24 := vp_in_nI a5 (by decide)
      obtain ⟨o, ho, rfl⟩ := nI_of2 (M := 7) (n := 7) (by decide) a1 (Int32.not_lt.mp a2)
      obtain ⟨m, hm, rfl⟩ := nI_of2 (M := 511) (n := 511) (by decide) a3 a4
      unfold wpX_emit
      dsimp only
      refine br_f a1 (br_f a2 (br_f a3 (br_t a4 (br_t f ?_))))
      rw [nI_clamp (n := sz) (by omega), wc_nb8 (by omega), wc_ns (by omega)]
      refine And.intro hv (nm_e (And.intro hv (nm_e (And.intro hv (nm_e (nm_r (nI_1 sz) ?_))))))
      unfold wpY_emit
      dsimp only
      refine br_f a1 (br_f a2 (br_f a3 (br_t a4 (br_t f ?_))))
      rw [nI_clamp (n := sz) (by omega), wc_ra (by omega), wc_rb (by omega), wc_rc (by omega)]
      refine And.intro hv (nm_e (And.intro hv (nm_e (And.intro hv (nm_e (And.intro hv (nm_e (And.intro hv (nm_e (nm_r (nI_1 sz) ?_))))))))))
      exact ⟨rfl, e, wc_Ri (by omega) hst (wc_Pset P (by omega) (by omega) sz) M⟩
    · have f : ¬ nI sz < 24 := nI_nlt (b := 24) (by omega) (by omega)
      exact br_f a1 (br_f a2 (br_f a3 (br_t a4 (br_f f (br_f a1 (br_f a2 (br_f a3 (br_t a4 (br_f f ⟨rfl, R0⟩)))))))))
  · exact br_f a1 (br_f a2 (br_f a3 (br_f a4 (br_f a1 (br_f a2 (br_f a3 (br_f a4 ⟨rfl, R0⟩)))))))
theorem i_vc_drop {k : Nat} {u : SX} {v : SY} (I : i_Rel k u v) (hk : k + 4 ≤ 2048) : wpX_drop (fun r u' => wpY_drop (fun r' v' => r' = r ∧ i_Rel (k + 4) u' v') v) u := by
  obtain ⟨e, R⟩ := I
  refine wc_el (T := fun u v => wpX_drop (fun r u' => wpY_drop (fun r' v' => r' = r ∧ i_Rel (k + 4) u' v') v) u) ?_ R
  intro sz c l q st ops regs num ring mem ret ra rb rc row hs hst P M
  have hc := M.2.2.1
  have R0 : i_Rel (k + 4) (nI sz, q, st, e, nI c, nI l, ops, regs, num, ring, mem, ret) (nI sz, nI c, q, st, e, ops, ra, rb, rc, num, row, ret) := ⟨e, wc_Ri hs hst P M⟩
  cases sz with
  | zero => exact br_t nI_0 (br_t nI_0 ⟨rfl, R0⟩)
  | succ n =>
    have f : ¬ nI (n + 1) = 0 := nI_ne0 (by omega) (by omega)
    exact br_f f (nm_r (nI_pred n) (br_f f (nm_r (nI_pred n) ⟨rfl, e, wc_Ri (by omega) hst P M⟩)))
theorem i_vc_restart {k : Nat} {u : SX} {v : SY} (I : i_Rel k u v) (hk : k + 4 ≤ 2048) : wpX_restart (fun u' => wpY_restart (fun v' => i_Rel (k + 4) u' v') v) u := by
  obtain ⟨e, R⟩ := I
  refine wc_el (T := fun u v => wpX_restart (fun u' => wpY_restart (fun v' => i_Rel (k + 4) u' v') v) u) ?_ R
  intro sz c l q st ops regs num ring mem ret ra rb rc row hs hst P M
  have hc := M.2.2.1
  have R0 : i_Rel (k + 4) (nI sz, q, st, e, nI c, nI l, ops, regs, num, ring, mem, ret) (nI sz, nI c, q, st, e, ops, ra, rb, rc, num, row, ret) := ⟨e, wc_Ri hs hst P M⟩
  unfold wpX_restart
  dsimp only
  refine wc_clearBlock (b := 0) (by decide) ?_
  dsimp only
  refine wc_clearBlock (b := 1) (by decide) ?_
  dsimp only
  unfold wpY_restart
  dsimp only
  refine wc_rst ?_
  intro row' hz
  exact ⟨0, wc_Ri (sz := sz) (c := 0) (l := 0) hs (Or.inl rfl) P (wc_M0 hz)⟩
theorem i_vc_run {k : Nat} {u : SX} {v : SY} (I : i_Rel k u v) (hk : k + 4 ≤ 2048) (v1 : Int32) : wpX_run (fun r u' => wpY_run (fun r' v' => r' = r ∧ i_Rel (k + 4) u' v') v v1) u v1 := by
  obtain ⟨e, R⟩ := I
  refine wc_el (T := fun u v => wpX_run (fun r u' => wpY_run (fun r' v' => r' = r ∧ i_Rel (k + 4) u' v') v v1) u v1) ?_ R
  intro sz c l q st ops regs num ring mem ret ra rb rc row hs hst P M
  have hc := M.2.2.1
  have R0 : i_Rel (k + 4) (nI sz, q, st, e, nI c, nI l, ops, regs, num, ring, mem, ret) (nI sz, nI c, q, st, e, ops, ra, rb, rc, num, row, ret) := ⟨e, wc_Ri hs hst P M⟩
  by_cases h0 : 0 ≤ v1
  · by_cases h2 : v1 ≤ 200
    · obtain ⟨g, hg, rfl⟩ := nI_of2 (M := 200) (n := 200) (by decide) (Int32.not_lt.mpr h0) h2
      obtain ⟨r, u', v', R', hX, hY⟩ := wc_run hg g 0 (by omega) sz c l q st e e ops regs num ring mem ret ra rb rc row hs hst P M (by rw [nI_0, Int32.add_zero])
      exact br_t h0 (br_t h2 ⟨_, hX _ (br_t h2 ⟨_, hY _ ⟨rfl, R'⟩⟩)⟩)
    · obtain ⟨r, u', v', R', hX, hY⟩ := wc_run (g := 200) (by decide) 200 0 (by decide) sz c l q st e e ops regs num ring mem ret ra rb rc row hs hst P M (by rw [nI_0, Int32.add_zero])
      exact br_t h0 (br_f h2 ⟨_, hX _ (br_f h2 ⟨_, hY _ ⟨rfl, R'⟩⟩)⟩)
  · have h1 : v1 < 0 := Int32.not_le.mp h0
    have h2 : v1 ≤ 0 := Int32.le_of_lt h1
    have h3 : v1 ≤ 200 := Int32.le_trans h2 (by decide)
    exact br_f h0 ⟨1, br_t (by decide) (nm_r (Int32.add_zero e) (br_t h3 ⟨1, br_t h2 ⟨rfl, R0⟩⟩))⟩
theorem i_vc_halted {k : Nat} {u : SX} {v : SY} (I : i_Rel k u v) (hk : k + 4 ≤ 2048) : wpX_halted (fun r => wpY_halted (fun r' => r' = r ∧ i_Rel (k + 4) u v) v) u := by
  obtain ⟨e, R⟩ := I
  refine wc_el (T := fun u v => wpX_halted (fun r => wpY_halted (fun r' => r' = r ∧ i_Rel (k + 4) u v) v) u) ?_ R
  intro sz c l q st ops regs num ring mem ret ra rb rc row hs hst P M
  have hc := M.2.2.1
  have R0 : i_Rel (k + 4) (nI sz, q, st, e, nI c, nI l, ops, regs, num, ring, mem, ret) (nI sz, nI c, q, st, e, ops, ra, rb, rc, num, row, ret) := ⟨e, wc_Ri hs hst P M⟩
  rcases hst with rfl | rfl
  · exact ⟨narrow_b0, ⟨narrow_b0, ⟨rfl, R0⟩⟩⟩
  · exact ⟨narrow_b1, ⟨narrow_b1, ⟨rfl, R0⟩⟩⟩
theorem i_vc_position {k : Nat} {u : SX} {v : SY} (I : i_Rel k u v) (hk : k + 4 ≤ 2048) : wpX_position (fun r => wpY_position (fun r' => r' = r ∧ i_Rel (k + 4) u v) v) u := by
  obtain ⟨e, R⟩ := I
  refine wc_el (T := fun u v => wpX_position (fun r => wpY_position (fun r' => r' = r ∧ i_Rel (k + 4) u v) v) u) ?_ R
  intro sz c l q st ops regs num ring mem ret ra rb rc row hs hst P M
  have hc := M.2.2.1
  have R0 : i_Rel (k + 4) (nI sz, q, st, e, nI c, nI l, ops, regs, num, ring, mem, ret) (nI sz, nI c, q, st, e, ops, ra, rb, rc, num, row, ret) := ⟨e, wc_Ri hs hst P M⟩
  exact ⟨rfl, R0⟩
theorem i_vc_depth {k : Nat} {u : SX} {v : SY} (I : i_Rel k u v) (hk : k + 4 ≤ 2048) : wpX_depth (fun r => wpY_depth (fun r' => r' = r ∧ i_Rel (k + 4) u v) v) u := by
  obtain ⟨e, R⟩ := I
  refine wc_el (T := fun u v => wpX_depth (fun r => wpY_depth (fun r' => r' = r ∧ i_Rel (k + 4) u v) v) u) ?_ R
  intro sz c l q st ops regs num ring mem ret ra rb rc row hs hst P M
  have hc := M.2.2.1
  have R0 : i_Rel (k + 4) (nI sz, q, st, e, nI c, nI l, ops, regs, num, ring, mem, ret) (nI sz, nI c, q, st, e, ops, ra, rb, rc, num, row, ret) := ⟨e, wc_Ri hs hst P M⟩
  exact ⟨rfl, R0⟩
theorem i_vc_register {k : Nat} {u : SX} {v : SY} (I : i_Rel k u v) (hk : k + 4 ≤ 2048) (v1 : Int32) : wpX_register (fun r => wpY_register (fun r' => r' = r ∧ i_Rel (k + 4) u v) v v1) u v1 := by
  obtain ⟨e, R⟩ := I
  refine wc_el (T := fun u v => wpX_register (fun r => wpY_register (fun r' => r' = r ∧ i_Rel (k + 4) u v) v v1) u v1) ?_ R
  intro sz c l q st ops regs num ring mem ret ra rb rc row hs hst P M
  have hc := M.2.2.1
  have R0 : i_Rel (k + 4) (nI sz, q, st, e, nI c, nI l, ops, regs, num, ring, mem, ret) (nI sz, nI c, q, st, e, ops, ra, rb, rc, num, row, ret) := ⟨e, wc_Ri hs hst P M⟩
  have z1 : ¬ (0 : Int32) < 0 := by decide
  have z2 : ¬ nI c < 0 := nI_pos (by omega)
  unfold wpX_register wpY_register wpY_below
  dsimp only
  rcases wc_reg v1 with h | ⟨r, hr, rfl⟩
  · refine wc_isX0 h (br_t rfl ?_)
    exact br_f z1 (br_f z2 (wc_isY0 h (br_t rfl ⟨rfl, R0⟩)))
  · refine wc_isX1 hr (br_f (by decide) ?_)
    refine wc_get M hr ?_
    refine br_f z1 (br_f z2 (wc_isY1 hr (br_f (by decide) ?_)))
    rw [Int32.sub_zero, wc_4x c r]
    refine And.intro (vp_in_nI (by omega) (by decide)) ?_
    rw [nI_clamp (n := 4 * c + r) (by omega)]
    exact ⟨rfl, R0⟩
theorem i_vc_below {k : Nat} {u : SX} {v : SY} (I : i_Rel k u v) (hk : k + 4 ≤ 2048) (v1 : Int32) (v2 : Int32) : wpX_below (fun r => wpY_below (fun r' => r' = r ∧ i_Rel (k + 4) u v) v v1 v2) u v1 v2 := by
  obtain ⟨e, R⟩ := I
  refine wc_el (T := fun u v => wpX_below (fun r => wpY_below (fun r' => r' = r ∧ i_Rel (k + 4) u v) v v1 v2) u v1 v2) ?_ R
  intro sz c l q st ops regs num ring mem ret ra rb rc row hs hst P M
  have hc := M.2.2.1
  have R0 : i_Rel (k + 4) (nI sz, q, st, e, nI c, nI l, ops, regs, num, ring, mem, ret) (nI sz, nI c, q, st, e, ops, ra, rb, rc, num, row, ret) := ⟨e, wc_Ri hs hst P M⟩
  unfold wpX_below wpY_below
  dsimp only
  by_cases h1 : v1 < 0
  · rcases wc_reg v2 with h | ⟨r, hr, rfl⟩
    · exact wc_isX0 h (br_t rfl (br_t h1 ⟨rfl, R0⟩))
    · exact wc_isX1 hr (br_f (by decide) (br_t h1 (br_t h1 ⟨rfl, R0⟩)))
  by_cases h2 : nI c < v1
  · rcases wc_reg v2 with h | ⟨r, hr, rfl⟩
    · exact wc_isX0 h (br_t rfl (br_f h1 (br_t h2 ⟨rfl, R0⟩)))
    · exact wc_isX1 hr (br_f (by decide) (br_f h1 (br_t h2 (br_f h1 (br_t h2 ⟨rfl, R0⟩)))))
  rcases wc_reg v2 with h | ⟨r, hr, rfl⟩
  · exact wc_isX0 h (br_t rfl (br_f h1 (br_f h2 (wc_isY0 h (br_t rfl ⟨rfl, R0⟩)))))
  · obtain ⟨d, hd, rfl⟩ := nI_of h1
    have hdc : d ≤ c := Nat.not_lt.mp fun z => h2 (nI_lt z hd)
    refine wc_isX1 hr (br_f (by decide) (br_f h1 (br_f h2 ?_)))
    rw [pk_sub hdc]
    refine wc_registerOf M (by omega) hr ?_
    refine br_f h1 (br_f h2 (wc_isY1 hr (br_f (by decide) ?_)))
    rw [wc_4x (c - d) r]
    refine And.intro (vp_in_nI (by omega) (by decide)) ?_
    rw [nI_clamp (n := 4 * (c - d) + r) (by omega)]
    exact ⟨rfl, R0⟩
theorem i_vc_put {k : Nat} {u : SX} {v : SY} (I : i_Rel k u v) (hk : k + 4 ≤ 2048) (v1 : Int32) (v2 : Int32) : wpX_put (fun r u' => wpY_put (fun r' v' => r' = r ∧ i_Rel (k + 4) u' v') v v1 v2) u v1 v2 := by
  obtain ⟨e, R⟩ := I
  refine wc_el (T := fun u v => wpX_put (fun r u' => wpY_put (fun r' v' => r' = r ∧ i_Rel (k + 4) u' v') v v1 v2) u v1 v2) ?_ R
  intro sz c l q st ops regs num ring mem ret ra rb rc row hs hst P M
  have hc := M.2.2.1
  have R0 : i_Rel (k + 4) (nI sz, q, st, e, nI c, nI l, ops, regs, num, ring, mem, ret) (nI sz, nI c, q, st, e, ops, ra, rb, rc, num, row, ret) := ⟨e, wc_Ri hs hst P M⟩
  unfold wpX_put wpY_put
  dsimp only
  rcases wc_reg v1 with h | ⟨r, hr, rfl⟩
  · refine wc_isX0 h (br_t rfl ?_)
    exact wc_isY0 h (br_t rfl ⟨rfl, R0⟩)
  · refine wc_isX1 hr (br_f (by decide) ?_)
    refine wc_set hc hr ?_
    dsimp only
    refine wc_isY1 hr (br_f (by decide) ?_)
    rw [wc_4x c r]
    refine And.intro (vp_in_nI (by omega) (by decide)) ?_
    rw [nI_clamp (n := 4 * c + r) (by omega)]
    exact nm_e ⟨rfl, e, wc_Ri hs hst P (wc_Mset M hr v2)⟩
theorem i_vc_backTo {k : Nat} {u : SX} {v : SY} (I : i_Rel k u v) (hk : k + 4 ≤ 2048) (v1 : Int32) : wpX_backTo (fun r => wpY_backTo (fun r' => r' = r ∧ i_Rel (k + 4) u v) v v1) u v1 := by
  obtain ⟨e, R⟩ := I
  refine wc_el (T := fun u v => wpX_backTo (fun r => wpY_backTo (fun r' => r' = r ∧ i_Rel (k + 4) u v) v v1) u v1) ?_ R
  intro sz c l q st ops regs num ring mem ret ra rb rc row hs hst P M
  have hc := M.2.2.1
  have R0 : i_Rel (k + 4) (nI sz, q, st, e, nI c, nI l, ops, regs, num, ring, mem, ret) (nI sz, nI c, q, st, e, ops, ra, rb, rc, num, row, ret) := ⟨e, wc_Ri hs hst P M⟩
  unfold wpX_backTo wpY_backTo
  dsimp only
  by_cases h1 : v1 < 0
  · exact br_t h1 (br_t h1 ⟨rfl, R0⟩)
  by_cases h2 : nI c ≤ v1
  · exact br_f h1 (br_t h2 (br_f h1 (br_t h2 ⟨rfl, R0⟩)))
  obtain ⟨d, hd, rfl⟩ := nI_of h1
  have hdc : d < c := Nat.not_le.mp fun z => h2 (nI_le z hd)
  have hv : vp_in (nI c - nI d) 30 := by
    rw [pk_sub (by omega)]
    exact vp_in_nI (by omega) (by decide)
  exact br_f h1 (br_f h2 (And.intro hv (br_f h1 (br_f h2 (And.intro hv ⟨rfl, R0⟩)))))
theorem i_vc_digest {k : Nat} {u : SX} {v : SY} (I : i_Rel k u v) (hk : k + 4 ≤ 2048) : wpX_digest (fun r => wpY_digest (fun r' => r' = r ∧ i_Rel (k + 4) u v) v) u := by
  obtain ⟨e, R⟩ := I
  refine wc_el (T := fun u v => wpX_digest (fun r => wpY_digest (fun r' => r' = r ∧ i_Rel (k + 4) u v) v) u) ?_ R
  intro sz c l q st ops regs num ring mem ret ra rb rc row hs hst P M
  have hc := M.2.2.1
  have R0 : i_Rel (k + 4) (nI sz, q, st, e, nI c, nI l, ops, regs, num, ring, mem, ret) (nI sz, nI c, q, st, e, ops, ra, rb, rc, num, row, ret) := ⟨e, wc_Ri hs hst P M⟩
  obtain ⟨y, hX, hY⟩ := wc_dig4 (sz := nI sz) (q := q) (st := st) (cx := e) (cy := e) (ops := ops) (regs := regs) (num := num) (ret := ret) (ra := ra) (rb := rb) (rc := rc) M (c + 1) 0 0 (by omega)
  exact ⟨_, hX _ ⟨_, hY _ ⟨rfl, R0⟩⟩⟩
theorem i_vc_done {k : Nat} {u : SX} {v : SY} (I : i_Rel k u v) (hk : k + 4 ≤ 2048) : wpX_done (fun r => wpY_done (fun r' => r' = r ∧ i_Rel (k + 4) u v) v) u := by
  obtain ⟨e, R⟩ := I
  refine wc_el (T := fun u v => wpX_done (fun r => wpY_done (fun r' => r' = r ∧ i_Rel (k + 4) u v) v) u) ?_ R
  intro sz c l q st ops regs num ring mem ret ra rb rc row hs hst P M
  have hc := M.2.2.1
  have R0 : i_Rel (k + 4) (nI sz, q, st, e, nI c, nI l, ops, regs, num, ring, mem, ret) (nI sz, nI c, q, st, e, ops, ra, rb, rc, num, row, ret) := ⟨e, wc_Ri hs hst P M⟩
  exact ⟨rfl, R0⟩
end
