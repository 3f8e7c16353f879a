section
/-! rows of kit/rows/PURE-ROWS (starting text) -/
theorem pk_us {f : Nat → Int32} {k : Nat} {x : Int32} : upd f k x k = x := if_pos rfl
theorem pk_un {f : Nat → Int32} {k j : Nat} {x : Int32} (h : j ≠ k) : upd f k x j = f j := if_neg h
theorem pk_sub {a b : Nat} (h : b ≤ a) : nI a - nI b = nI (a - b) := by
  obtain ⟨c, rfl⟩ : ∃ c, a = c + b := ⟨a - b, by omega⟩
  rw [← nI_add, Int32.add_sub_cancel, Nat.add_sub_cancel]
theorem pk_m1 (n : Nat) : nI (n + 1) + (-1) = nI n := by
  rw [← nI_1, Int32.add_assoc, show (1 : Int32) + (-1) = 0 from rfl, Int32.add_zero]
theorem pk_mul (a b : Nat) : nI a * nI b = nI (a * b) := (Int32.ofNat_mul a b).symm
theorem pk_sub_toInt {a b : Nat} (ha : a < 2 ^ 30) (hb : b < 2 ^ 30) : (nI a - nI b).toInt = (a : Int) - b := by
  rw [Int32.toInt_sub, nI_toInt (by omega), nI_toInt (by omega)]
  exact Int.bmod_eq_of_le (by omega) (by omega)
theorem pk_ix (x : Int32) {n : Nat} (hn : n < 2 ^ 31) : x < 0 ∨ nI n ≤ x ∨ ∃ j : Nat, j < n ∧ x = nI j := by
  by_cases h : x < 0
  · exact Or.inl h
  · obtain ⟨j, hj, rfl⟩ := nI_of h
    by_cases h2 : j < n
    · exact Or.inr (Or.inr ⟨j, h2, rfl⟩)
    · exact Or.inr (Or.inl (nI_le (by omega) hj))
theorem pk_le {x y : Int32} {A B : Prop} (a b : Nat) (f : a ≤ b → A) (g : b < a → B) (hx : x = nI a := by rfl) (hy : y = nI b := by rfl) (ha : a < 2 ^ 31 := by omega) (hb : b < 2 ^ 31 := by omega) : (x ≤ y → A) ∧ (¬ x ≤ y → B) := by
  subst hx hy
  rw [nI_leI ha hb]
  exact ⟨f, fun z => g (by omega)⟩
theorem pk_lt {x y : Int32} {A B : Prop} (a b : Nat) (f : a < b → A) (g : b ≤ a → B) (hx : x = nI a := by rfl) (hy : y = nI b := by rfl) (ha : a < 2 ^ 31 := by omega) (hb : b < 2 ^ 31 := by omega) : (x < y → A) ∧ (¬ x < y → B) := by
  subst hx hy
  rw [nI_ltI ha hb]
  exact ⟨f, fun z => g (by omega)⟩
theorem pk_eq {x y : Int32} {A B : Prop} (a b : Nat) (f : a = b → A) (g : a ≠ b → B) (hx : x = nI a := by rfl) (hy : y = nI b := by rfl) (ha : a < 2 ^ 31 := by omega) (hb : b < 2 ^ 31 := by omega) : (x = y → A) ∧ (¬ x = y → B) := by
  subst hx hy
  rw [nI_eq ha hb]
  exact ⟨f, g⟩
theorem pk_in {x : Int32} (n N : Nat) (h : n < N) (hx : x = nI n := by rfl) (hN : N < 2 ^ 31 := by omega) : vp_in x N := by
  subst hx
  exact vp_in_nI h hN
theorem pk_cl {x : Int32} (n : Nat) (hx : x = nI n := by rfl) (h : n < 2 ^ 31 := by omega) : x.toNatClampNeg = n := by
  subst hx
  exact nI_clamp h
theorem pk_tn {n : Nat} (h : n < 2 ^ 32) : (nI n).toBitVec.toNat = n := Nat.mod_eq_of_lt h
theorem pk_and (x : Int32) {m : Int32} (k : Nat) (hm : m.toBitVec.toNat = 2 ^ k - 1) : x &&& m = nI (x.toBitVec.toNat % 2 ^ k) := by
  apply Int32.toBitVec_inj.mp
  apply BitVec.eq_of_toNat_eq
  rw [Int32.toBitVec_and, BitVec.toNat_and, hm, Nat.and_two_pow_sub_one_eq_mod]
  show _ = (BitVec.ofNat 32 _).toNat
  rw [BitVec.toNat_ofNat]
  exact (Nat.mod_eq_of_lt (Nat.lt_of_le_of_lt (Nat.mod_le _ _) x.toBitVec.isLt)).symm
theorem pk_andN {n : Nat} (h : n < 2 ^ 32) {m : Int32} (k : Nat) (hm : m.toBitVec.toNat = 2 ^ k - 1) : nI n &&& m = nI (n % 2 ^ k) := by
  rw [pk_and _ k hm, pk_tn h]
theorem pk_andE (x : Int32) {m : Int32} (k : Nat) (hm : m.toBitVec.toNat = 2 ^ k - 1) : ∃ j : Nat, j < 2 ^ k ∧ x &&& m = nI j := ⟨_, Nat.mod_lt _ (Nat.two_pow_pos k), pk_and x k hm⟩
theorem pk_andIn (x : Int32) {m : Int32} (k : Nat) (hm : m.toBitVec.toNat = 2 ^ k - 1) (hk : k ≤ 30) : vp_in (x &&& m) (2 ^ k) := by
  obtain ⟨j, hj, e⟩ := pk_andE x k hm
  rw [e]
  exact vp_in_nI hj (Nat.lt_of_le_of_lt (Nat.pow_le_pow_right (by decide) hk) (by decide))
theorem pk_nb (z : Int32) : narrow .byte (.int z.toInt8.toInt32) = .int z.toInt8.toInt32 := congrArg Value.int (by simp)
theorem pk_vb (z : Int32) : vp_nar .byte z.toInt8.toInt32 = z.toInt8.toInt32 := by rw [vp_nar_byte]; simp
theorem pk_loop {σ : Type} (W : Nat → Nat → σ → Prop) (I : Nat → σ → Prop) (e i0 : Nat) (s : σ) (hi : i0 ≤ e) (h0 : I i0 s) (hx : ∀ n s, I e s → W (n + 1) e s)
    (hs : ∀ n i s, i < e → I i s → (∀ s', I (i + 1) s' → W n (i + 1) s') → W (n + 1) i s) : ∃ n, W n i0 s :=
  ⟨e + 1, loop_i W I e hx hs (e + 1) i0 s hi (by omega) h0⟩
theorem pk_loopD {σ : Type} (W : Nat → Nat → σ → Prop) (I : Nat → σ → Prop) (hx : ∀ n s, I 0 s → W (n + 1) 0 s)
    (hs : ∀ n i s, I (i + 1) s → (∀ s', I i s' → W n i s') → W (n + 1) (i + 1) s) : ∀ (e : Nat) (s : σ), I e s → W (e + 1) e s := by
  intro e
  induction e with
  | zero => exact fun s h => hx 0 s h
  | succ e ih => exact fun s h => hs (e + 1) e s h (fun s' h' => ih s' h')
theorem pk_least (P : Nat → Prop) (h : ∃ k, P k) : ∃ k, P k ∧ ∀ j, j < k → ¬ P j := by
  obtain ⟨k, hk⟩ := h
  induction k using Nat.strongRecOn with
  | ind k ih =>
    by_cases e : ∃ j, j < k ∧ P j
    · obtain ⟨j, hj, pj⟩ := e
      exact ih j hj pj
    · exact ⟨k, hk, fun j hj pj => e ⟨j, hj, pj⟩⟩
end
section
/-! what an operation is; the decoded fields of a word -/
abbrev wm_W (o : Nat) : Prop := (0 < o ∧ o < 6) ∨ (8 < o ∧ o < 14)
abbrev wm_R1 (o : Nat) : Prop := 0 < o ∧ o ≠ 7 ∧ o < 14
abbrev wm_R2 (o : Nat) : Prop := (0 < o ∧ o < 4) ∨ o = 6 ∨ (8 < o ∧ o < 12) ∨ o = 13
abbrev wm_E (o : Nat) : Prop := o = 0 ∨ o = 7 ∨ o = 8 ∨ 13 < o
abbrev wm_M (o : Nat) : Prop := o = 5 ∨ o = 6
abbrev wm_S (o : Nat) : Prop := o = 3 ∨ o = 13
abbrev wm_MM (p o : Nat) : Prop := (o = 5 ∧ p = 6) ∨ (o = 6 ∧ (p = 5 ∨ p = 6))
def wm_L (o : Nat) : Nat := if o = 5 then 2 else if o = 3 then 3 else if o = 13 then 4 else 1
theorem wm_L_pos (o : Nat) : 1 ≤ wm_L o := by unfold wm_L; split; omega; split; omega; split <;> omega
theorem wm_L_le (o : Nat) : wm_L o ≤ 4 := by unfold wm_L; split; omega; split; omega; split <;> omega
def wm_o (w : Int32) : Nat := (w &&& 15).toNatClampNeg
def wm_d (w : Int32) : Nat := ((w >>> ((4 : Int32) &&& 31)) &&& 7).toNatClampNeg
def wm_a (w : Int32) : Nat := ((w >>> ((7 : Int32) &&& 31)) &&& 7).toNatClampNeg
def wm_b (w : Int32) : Nat := ((w >>> ((10 : Int32) &&& 31)) &&& 7).toNatClampNeg
def wm_n (w : Int32) : Int32 := w >>> ((13 : Int32) &&& 31)
theorem wm_mask (x m : Int32) (k : Nat) (hm : m.toBitVec.toNat = 2 ^ k - 1) (hk : 2 ^ k < 2 ^ 31) : x &&& m = nI (x &&& m).toNatClampNeg ∧ (x &&& m).toNatClampNeg < 2 ^ k := by
  obtain ⟨j, hj, e⟩ := pk_andE x k hm
  rw [e, nI_clamp (Nat.lt_trans hj hk)]
  exact ⟨rfl, hj⟩
theorem wm_oe (w : Int32) : w &&& 15 = nI (wm_o w) := (wm_mask w 15 4 (by decide) (by decide)).1
theorem wm_ol (w : Int32) : wm_o w < 16 := (wm_mask w 15 4 (by decide) (by decide)).2
theorem wm_de (w : Int32) : (w >>> ((4 : Int32) &&& 31)) &&& 7 = nI (wm_d w) := (wm_mask _ 7 3 (by decide) (by decide)).1
theorem wm_dl (w : Int32) : wm_d w < 8 := (wm_mask (w >>> ((4 : Int32) &&& 31)) 7 3 (by decide) (by decide)).2
theorem wm_ae (w : Int32) : (w >>> ((7 : Int32) &&& 31)) &&& 7 = nI (wm_a w) := (wm_mask _ 7 3 (by decide) (by decide)).1
theorem wm_al (w : Int32) : wm_a w < 8 := (wm_mask (w >>> ((7 : Int32) &&& 31)) 7 3 (by decide) (by decide)).2
theorem wm_be (w : Int32) : (w >>> ((10 : Int32) &&& 31)) &&& 7 = nI (wm_b w) := (wm_mask _ 7 3 (by decide) (by decide)).1
theorem wm_bl (w : Int32) : wm_b w < 8 := (wm_mask (w >>> ((10 : Int32) &&& 31)) 7 3 (by decide) (by decide)).2
theorem wm_63 (x : Int32) : x &&& 63 = nI (x &&& 63).toNatClampNeg ∧ (x &&& 63).toNatClampNeg < 64 := wm_mask x 63 6 (by decide) (by decide)
theorem wm_by {n : Nat} (h : n < 128) : (nI n).toInt8.toInt32 = nI n := lg_i2b_small (by rw [nI_toInt (by omega)]; omega) (by rw [nI_toInt (by omega)]; omega)
theorem wm_nb {n : Nat} (h : n < 128) : vp_nar .byte (nI n) = nI n := by rw [vp_nar_byte, wm_by h]
theorem wm_nbb {n : Nat} (h : n < 128) : vp_nar .byte (nI n).toInt8.toInt32 = nI n := by rw [wm_by h, wm_nb h]
theorem wm_m1 : vp_nar .byte (-1) = -1 := by rw [vp_nar_byte]; decide
theorem wm_m1neg : (-1 : Int32) < 0 := by decide
theorem wm_m1ne (n : Nat) (h : n < 2 ^ 31) : ¬ nI n = -1 := fun e => nI_pos h (by rw [e]; decide)
theorem wm_m1ne' (n : Nat) (h : n < 2 ^ 31) : ¬ (-1 : Int32) = nI n := fun e => wm_m1ne n h e.symm
/-- within: an int against a literal length -/
theorem wm_cases (x : Int32) (N : Nat) (hN : N < 2 ^ 31) : (∃ j, j < N ∧ x = nI j) ∨ (¬ ∃ j, j < N ∧ x = nI j) := Classical.em _
theorem xx_in {post : Int32 → Prop} {x : Int32} {N : Nat} (hN : N < 2 ^ 31) (h1 : ∀ j, j < N → x = nI j → post 1) (h0 : (¬ ∃ j, j < N ∧ x = nI j) → post 0) : wpX_in post x (nI N) := by
  refine br_c (fun h => h0 ?_) (fun h => ?_)
  · rintro ⟨j, hj, rfl⟩
    exact nI_pos (by omega) h
  · obtain ⟨j, hj, rfl⟩ := nI_of h
    exact pk_le N j (fun z => h0 (by rintro ⟨i, hi, e⟩; rw [nI_eq hj (by omega)] at e; omega)) (fun z => h1 j z rfl)
theorem yy_in {post : Int32 → Prop} {x : Int32} {N : Nat} (hN : N < 2 ^ 31) (h1 : ∀ j, j < N → x = nI j → post 1) (h0 : (¬ ∃ j, j < N ∧ x = nI j) → post 0) : wpY_in post x (nI N) := by
  refine br_c (fun h => h0 ?_) (fun h => ?_)
  · rintro ⟨j, hj, rfl⟩
    exact nI_pos (by omega) h
  · obtain ⟨j, hj, rfl⟩ := nI_of h
    exact pk_le N j (fun z => h0 (by rintro ⟨i, hi, e⟩; rw [nI_eq hj (by omega)] at e; omega)) (fun z => h1 j z rfl)
section
variable {post : Int32 → Prop} {o : Nat}
theorem xx_w10 (ho : o < 16) (h1 : 8 < o ∧ o < 14 → post 1) (h0 : ¬ (8 < o ∧ o < 14) → post 0) : wX_writes_10 post (nI o) :=
  pk_le o 8 (fun h => h0 (by omega)) (fun h => pk_le 14 o (fun h' => h0 (by omega)) (fun h' => h1 (by omega)))
theorem xx_writes (ho : o < 16) (h1 : wm_W o → post 1) (h0 : ¬ wm_W o → post 0) : wpX_writes post (nI o) :=
  pk_le o 0 (fun h => xx_w10 ho (fun h' => h1 (by omega)) (fun h' => h0 (by omega))) (fun h => pk_lt o 6 (fun h' => h1 (by omega)) (fun h' => xx_w10 ho (fun h'' => h1 (by omega)) (fun h'' => h0 (by omega))))
theorem xx_readsOne (ho : o < 16) (h1 : wm_R1 o → post 1) (h0 : ¬ wm_R1 o → post 0) : wpX_readsOne post (nI o) :=
  pk_le o 0 (fun h => h0 (by omega)) (fun h => pk_eq o 7 (fun h' => h0 (by omega)) (fun h' => pk_le 14 o (fun h'' => h0 (by omega)) (fun h'' => h1 (by omega))))
theorem xx_r27 (ho : o < 16) (h1 : o = 13 → post 1) (h0 : ¬ o = 13 → post 0) : wX_readsTwo_27 post (nI o) := pk_eq o 13 h1 h0
theorem xx_r9 (ho : o < 16) (h1 : o = 6 ∨ (8 < o ∧ o < 12) ∨ o = 13 → post 1) (h0 : ¬ (o = 6 ∨ (8 < o ∧ o < 12) ∨ o = 13) → post 0) : wX_readsTwo_9 post (nI o) :=
  pk_eq o 6 (fun h => h1 (by omega)) (fun h => pk_le o 8 (fun h' => xx_r27 ho (fun z => h1 (by omega)) (fun z => h0 (by omega))) (fun h' => pk_lt o 12 (fun h'' => h1 (by omega)) (fun h'' => xx_r27 ho (fun z => h1 (by omega)) (fun z => h0 (by omega)))))
theorem xx_readsTwo (ho : o < 16) (h1 : wm_R2 o → post 1) (h0 : ¬ wm_R2 o → post 0) : wpX_readsTwo post (nI o) :=
  pk_le o 0 (fun h => xx_r9 ho (fun z => h1 (by omega)) (fun z => h0 (by omega))) (fun h => pk_lt o 4 (fun h' => h1 (by omega)) (fun h' => xx_r9 ho (fun z => h1 (by omega)) (fun z => h0 (by omega))))
theorem xx_ends (ho : o < 16) (h1 : wm_E o → post 1) (h0 : ¬ wm_E o → post 0) : wpX_ends post (nI o) :=
  pk_eq o 0 (fun h => h1 (by omega)) (fun h => pk_eq o 7 (fun h' => h1 (by omega)) (fun h' => pk_eq o 8 (fun h'' => h1 (by omega)) (fun h'' => pk_le o 13 (fun z => h0 (by omega)) (fun z => h1 (by omega)))))
theorem xx_latency (ho : o < 16) (h : post (nI (wm_L o))) : wpX_latency post (nI o) := by
  unfold wm_L at h
  refine pk_eq o 5 (fun e => ?_) (fun e => pk_eq o 3 (fun e' => ?_) (fun e' => pk_eq o 13 (fun e'' => ?_) (fun e'' => ?_)))
  · rw [if_pos e] at h; exact h
  · rw [if_neg e, if_pos e'] at h; exact h
  · rw [if_neg e, if_neg e', if_pos e''] at h; exact h
  · rw [if_neg e, if_neg e', if_neg e''] at h; exact h
theorem yy_latency (ho : o < 16) (h : post (nI (wm_L o))) : wpY_latency post (nI o) := by
  unfold wm_L at h
  refine pk_eq o 5 (fun e => ?_) (fun e => pk_eq o 3 (fun e' => ?_) (fun e' => pk_eq o 13 (fun e'' => ?_) (fun e'' => ?_)))
  · rw [if_pos e] at h; exact h
  · rw [if_neg e, if_pos e'] at h; exact h
  · rw [if_neg e, if_neg e', if_pos e''] at h; exact h
  · rw [if_neg e, if_neg e', if_neg e''] at h; exact h
end
/-! the reference's decoded fields -/
section
variable {post : Int32 → Prop} {p r : Nat}
variable {g_pc g_wide g_many g_cut : Int32} {b_registers b_words b_counts b_begins b_cycles : Nat → Int32}
theorem yy_op (hp : p < 64) (h : post (nI (wm_o (b_words p)))) : wpY_op post (g_pc, g_wide, g_many, g_cut, b_registers, b_words, b_counts, b_begins, b_cycles) (nI p) := by
  refine And.intro (vp_in_nI hp (by decide)) ?_
  rw [nI_clamp (by omega), wm_oe]; exact h
theorem yy_d (hp : p < 64) (h : post (nI (wm_d (b_words p)))) : wpY_d post (g_pc, g_wide, g_many, g_cut, b_registers, b_words, b_counts, b_begins, b_cycles) (nI p) := by
  refine And.intro (vp_in_nI hp (by decide)) ?_
  rw [nI_clamp (by omega), wm_de]; exact h
theorem yy_a (hp : p < 64) (h : post (nI (wm_a (b_words p)))) : wpY_a post (g_pc, g_wide, g_many, g_cut, b_registers, b_words, b_counts, b_begins, b_cycles) (nI p) := by
  refine And.intro (vp_in_nI hp (by decide)) ?_
  rw [nI_clamp (by omega), wm_ae]; exact h
theorem yy_b (hp : p < 64) (h : post (nI (wm_b (b_words p)))) : wpY_b post (g_pc, g_wide, g_many, g_cut, b_registers, b_words, b_counts, b_begins, b_cycles) (nI p) := by
  refine And.intro (vp_in_nI hp (by decide)) ?_
  rw [nI_clamp (by omega), wm_be]; exact h
theorem yy_n (hp : p < 64) (h : post (wm_n (b_words p))) : wpY_n post (g_pc, g_wide, g_many, g_cut, b_registers, b_words, b_counts, b_begins, b_cycles) (nI p) := by
  refine And.intro (vp_in_nI hp (by decide)) ?_
  rw [nI_clamp (by omega)]; exact h
theorem yy_isLast (hp : p < 64) (h1 : wm_E (wm_o (b_words p)) → post 1) (h0 : ¬ wm_E (wm_o (b_words p)) → post 0) : wpY_isLast post (g_pc, g_wide, g_many, g_cut, b_registers, b_words, b_counts, b_begins, b_cycles) (nI p) := by
  have ho := wm_ol (b_words p)
  unfold wpY_isLast
  refine yy_op hp ?_
  refine pk_eq (wm_o (b_words p)) 0 (fun h => h1 (by omega)) (fun h => ?_)
  refine yy_op hp ?_
  refine pk_eq (wm_o (b_words p)) 7 (fun h => h1 (by omega)) (fun h => ?_)
  refine yy_op hp ?_
  refine pk_eq (wm_o (b_words p)) 8 (fun h => h1 (by omega)) (fun h => ?_)
  refine yy_op hp ?_
  exact pk_le (wm_o (b_words p)) 13 (fun h => h0 (by omega)) (fun h => h1 (by omega))
theorem yy_writes (hp : p < 64) (hr : r < 8) (h1 : wm_W (wm_o (b_words p)) → wm_d (b_words p) = r → post 1) (h0 : ¬ (wm_W (wm_o (b_words p)) ∧ wm_d (b_words p) = r) → post 0) : wpY_writes post (g_pc, g_wide, g_many, g_cut, b_registers, b_words, b_counts, b_begins, b_cycles) (nI p) (nI r) := by
  have ho := wm_ol (b_words p)
  have hd := wm_dl (b_words p)
  have k25 : wm_d (b_words p) = r → ¬ (0 < wm_o (b_words p) ∧ wm_o (b_words p) < 6) → wY_writes_25 post (nI (wm_o (b_words p))) g_pc g_wide g_many g_cut b_registers b_words b_counts b_begins b_cycles := fun e n =>
    pk_lt (wm_o (b_words p)) 9 (fun h => h0 (by omega)) (fun h => pk_lt 13 (wm_o (b_words p)) (fun h' => h0 (by omega)) (fun h' => h1 (by omega) e))
  unfold wpY_writes
  refine yy_op hp ?_
  refine yy_d hp ?_
  refine pk_eq (wm_d (b_words p)) r (fun e => ?_) (fun e => h0 (by omega))
  exact pk_lt (wm_o (b_words p)) 1 (fun h => k25 e (by omega)) (fun h => pk_le (wm_o (b_words p)) 5 (fun h' => h1 (by omega) e) (fun h' => k25 e (by omega)))
theorem yy_reads (hp : p < 64) (hr : r < 8) (h1 : (wm_R1 (wm_o (b_words p)) ∧ wm_a (b_words p) = r) ∨ (wm_R2 (wm_o (b_words p)) ∧ wm_b (b_words p) = r) → post 1) (h0 : ¬ ((wm_R1 (wm_o (b_words p)) ∧ wm_a (b_words p) = r) ∨ (wm_R2 (wm_o (b_words p)) ∧ wm_b (b_words p) = r)) → post 0) : wpY_reads post (g_pc, g_wide, g_many, g_cut, b_registers, b_words, b_counts, b_begins, b_cycles) (nI p) (nI r) := by
  have ho := wm_ol (b_words p)
  have ha := wm_al (b_words p)
  have hb := wm_bl (b_words p)
  have k77 : ¬ (wm_R1 (wm_o (b_words p)) ∧ wm_a (b_words p) = r) → wm_R2 (wm_o (b_words p)) → wY_reads_77 post (nI p) (nI r) 1 g_pc g_wide g_many g_cut b_registers b_words b_counts b_begins b_cycles := fun n e => by
    refine br_f (by decide) ?_
    refine yy_b hp ?_
    exact pk_eq (wm_b (b_words p)) r (fun h => h1 (Or.inr ⟨e, h⟩)) (fun h => h0 (by omega))
  have k77' : ¬ (wm_R1 (wm_o (b_words p)) ∧ wm_a (b_words p) = r) → ¬ wm_R2 (wm_o (b_words p)) → wY_reads_77 post (nI p) (nI r) 0 g_pc g_wide g_many g_cut b_registers b_words b_counts b_begins b_cycles := fun n e => br_t rfl (h0 (by omega))
  have k61 : wm_R1 (wm_o (b_words p)) → wm_R2 (wm_o (b_words p)) → wY_reads_61 post (nI p) (nI r) 1 1 g_pc g_wide g_many g_cut b_registers b_words b_counts b_begins b_cycles := fun e1 e2 => by
    refine br_f (by decide) ?_
    refine yy_a hp ?_
    exact pk_eq (wm_a (b_words p)) r (fun h => h1 (Or.inl ⟨e1, h⟩)) (fun h => k77 (fun z => h z.2) e2)
  have k60 : wm_R1 (wm_o (b_words p)) → ¬ wm_R2 (wm_o (b_words p)) → wY_reads_60 post (nI p) (nI r) 1 g_pc g_wide g_many g_cut b_registers b_words b_counts b_begins b_cycles := fun e1 e2 => by
    unfold wY_reads_60
    refine br_f (by decide) ?_
    refine yy_a hp ?_
    exact pk_eq (wm_a (b_words p)) r (fun h => h1 (Or.inl ⟨e1, h⟩)) (fun h => k77' (fun z => h z.2) e2)
  have k26 : ¬ wm_R1 (wm_o (b_words p)) → wY_reads_26 post (nI p) (nI r) (nI (wm_o (b_words p))) g_pc g_wide g_many g_cut b_registers b_words b_counts b_begins b_cycles := fun e1 => by
    unfold wY_reads_26
    refine br_t rfl ?_
    unfold wY_reads_60
    refine br_t rfl ?_
    exact k77' (fun z => e1 z.1) (by omega)
  unfold wpY_reads
  refine yy_op hp ?_
  refine pk_eq (wm_o (b_words p)) 0 (fun h => k26 (by omega)) (fun h => pk_eq (wm_o (b_words p)) 7 (fun h' => k26 (by omega)) (fun h' => pk_lt 13 (wm_o (b_words p)) (fun h'' => k26 (by omega)) (fun h'' => ?_)))
  refine br_f (by decide) ?_
  exact pk_eq (wm_o (b_words p)) 4 (fun z => k60 (by omega) (by omega)) (fun z4 => pk_eq (wm_o (b_words p)) 5 (fun z => k60 (by omega) (by omega)) (fun z5 => pk_eq (wm_o (b_words p)) 8 (fun z => k60 (by omega) (by omega)) (fun z8 => pk_eq (wm_o (b_words p)) 12 (fun z => k60 (by omega) (by omega)) (fun z12 => k61 (by omega) (by omega)))))
end
end
section
/-! the plan of a block, as a law: the least cycle that fits, instruction by instruction -/
abbrev wm_wr (O D : Nat → Nat) (j r : Nat) : Prop := wm_W (O j) ∧ D j = r
abbrev wm_rd (O A B : Nat → Nat) (j r : Nat) : Prop := (wm_R1 (O j) ∧ A j = r) ∨ (wm_R2 (O j) ∧ B j = r)
def wm_rdy (O D cy : Nat → Nat) (r : Nat) : Nat → Nat
  | 0 => 0
  | j + 1 => if wm_wr O D j r then cy j + wm_L (O j) else wm_rdy O D cy r j
def wm_cnt (cy : Nat → Nat) (c : Nat) : Nat → Nat
  | 0 => 0
  | j + 1 => wm_cnt cy c j + if cy j = c then 1 else 0
def wm_ask (O D A B cy : Nat → Nat) (j k c : Nat) : Prop :=
  (wm_W (O k) → wm_W (O j) → D j = D k → cy j + wm_L (O j) < c + wm_L (O k)) ∧ (wm_W (O k) → wm_rd O A B j (D k) → cy j ≤ c) ∧ (wm_MM (O j) (O k) → cy j < c) ∧ (wm_E (O k) → cy j ≤ c)
def wm_Lo (O D A B cy : Nat → Nat) (k c : Nat) : Prop := (∀ j, j < k → wm_ask O D A B cy j k c) ∧ ∀ r, wm_rd O A B k r → wm_rdy O D cy r k ≤ c
def wm_Room (O cy : Nat → Nat) (w k c : Nat) : Prop := wm_cnt cy c k < w ∧ ∀ j, j < k → cy j = c → (wm_M (O k) → ¬ wm_M (O j)) ∧ (wm_S (O k) → ¬ wm_S (O j))
def wm_Fit (O D A B : Nat → Nat) (w : Nat) (cy : Nat → Nat) (k c : Nat) : Prop := wm_Lo O D A B cy k c ∧ wm_Room O cy w k c
def wm_Sch (O D A B : Nat → Nat) (w n : Nat) (cy : Nat → Nat) : Prop := ∀ k, k < n → 1 ≤ cy k ∧ wm_Fit O D A B w cy k (cy k) ∧ ∀ c, 1 ≤ c → c < cy k → ¬ wm_Fit O D A B w cy k c
theorem wm_rdy_t {O D cy : Nat → Nat} {r j : Nat} (h : wm_wr O D j r) : wm_rdy O D cy r (j + 1) = cy j + wm_L (O j) := if_pos h
theorem wm_rdy_f {O D cy : Nat → Nat} {r j : Nat} (h : ¬ wm_wr O D j r) : wm_rdy O D cy r (j + 1) = wm_rdy O D cy r j := if_neg h
theorem wm_cnt_t {cy : Nat → Nat} {c j : Nat} (h : cy j = c) : wm_cnt cy c (j + 1) = wm_cnt cy c j + 1 := by rw [wm_cnt, if_pos h]
theorem wm_cnt_f {cy : Nat → Nat} {c j : Nat} (h : ¬ cy j = c) : wm_cnt cy c (j + 1) = wm_cnt cy c j := by rw [wm_cnt, if_neg h, Nat.add_zero]
theorem wm_rdy_congr {O D O' D' cy cy' : Nat → Nat} {r : Nat} : ∀ k, (∀ i, i < k → O' i = O i ∧ D' i = D i ∧ cy' i = cy i) → wm_rdy O' D' cy' r k = wm_rdy O D cy r k := by
  intro k
  induction k with
  | zero => intro _; rfl
  | succ k ih =>
    intro h
    obtain ⟨a, b, c⟩ := h k (by omega)
    have i := ih (fun i hi => h i (by omega))
    by_cases z : wm_wr O D k r
    · rw [wm_rdy_t z, wm_rdy_t (by unfold wm_wr; rw [a, b]; exact z), a, c]
    · rw [wm_rdy_f z, wm_rdy_f (by unfold wm_wr; rw [a, b]; exact z), i]
theorem wm_cnt_congr {cy cy' : Nat → Nat} {c : Nat} : ∀ k, (∀ i, i < k → cy' i = cy i) → wm_cnt cy' c k = wm_cnt cy c k := by
  intro k
  induction k with
  | zero => intro _; rfl
  | succ k ih =>
    intro h
    rw [wm_cnt, wm_cnt, ih (fun i hi => h i (by omega)), h k (by omega)]
theorem wm_cnt_0 {cy : Nat → Nat} {c : Nat} : ∀ k, (∀ i, i < k → cy i ≠ c) → wm_cnt cy c k = 0 := by
  intro k
  induction k with
  | zero => intro _; rfl
  | succ k ih =>
    intro h
    rw [wm_cnt_f (h k (by omega)), ih (fun i hi => h i (by omega))]
theorem wm_Fit_congr {O D A B O' D' A' B' : Nat → Nat} {w : Nat} {cy cy' : Nat → Nat} {k c : Nat} (hO : ∀ i, i ≤ k → O' i = O i ∧ D' i = D i ∧ A' i = A i ∧ B' i = B i) (hc : ∀ i, i < k → cy' i = cy i) (h : wm_Fit O D A B w cy k c) : wm_Fit O' D' A' B' w cy' k c := by
  obtain ⟨⟨h1, h2⟩, h3, h4⟩ := h
  obtain ⟨eO, eD, eA, eB⟩ := hO k (Nat.le_refl k)
  refine ⟨⟨fun j hj => ?_, fun r hr => ?_⟩, ?_, fun j hj e => ?_⟩
  · obtain ⟨fO, fD, fA, fB⟩ := hO j (by omega)
    have g := h1 j hj
    unfold wm_ask wm_rd at g ⊢
    rw [eO, eD, fO, fD, fA, fB, hc j hj]
    exact g
  · unfold wm_rd at hr
    rw [eO, eA, eB] at hr
    rw [wm_rdy_congr k (fun i hi => ⟨(hO i (by omega)).1, (hO i (by omega)).2.1, hc i hi⟩)]
    exact h2 r hr
  · rw [wm_cnt_congr k hc]; exact h3
  · rw [hc j hj] at e
    have g := h4 j hj e
    rw [eO, (hO j (by omega)).1]
    exact g
theorem wm_Sch_congr {O D A B O' D' A' B' : Nat → Nat} {w n : Nat} {cy cy' : Nat → Nat} (hO : ∀ i, i < n → O' i = O i ∧ D' i = D i ∧ A' i = A i ∧ B' i = B i) (hc : ∀ i, i < n → cy' i = cy i) (h : wm_Sch O D A B w n cy) : wm_Sch O' D' A' B' w n cy' := by
  intro k hk
  obtain ⟨a, b, c⟩ := h k hk
  rw [hc k hk]
  refine ⟨a, wm_Fit_congr (fun i hi => hO i (by omega)) (fun i hi => hc i (by omega)) b, fun x h1 h2 f => c x h1 h2 ?_⟩
  refine wm_Fit_congr (fun i hi => ?_) (fun i hi => (hc i (by omega)).symm) f
  obtain ⟨p, q, r, s⟩ := hO i (by omega)
  exact ⟨p.symm, q.symm, r.symm, s.symm⟩
theorem wm_Sch_uniq {O D A B : Nat → Nat} {w n : Nat} {cy cy' : Nat → Nat} (h : wm_Sch O D A B w n cy) (h' : wm_Sch O D A B w n cy') : ∀ k, k < n → cy' k = cy k := by
  intro k
  induction k using Nat.strongRecOn with
  | ind k ih =>
    intro hk
    have hc : ∀ i, i < k → cy' i = cy i := fun i hi => ih i hi (by omega)
    obtain ⟨a, b, c⟩ := h k hk
    obtain ⟨a', b', c'⟩ := h' k hk
    rcases Nat.lt_trichotomy (cy' k) (cy k) with z | z | z
    · exact absurd (wm_Fit_congr (fun i _ => ⟨rfl, rfl, rfl, rfl⟩) (fun i hi => (hc i hi).symm) b') (c _ a' z)
    · exact z
    · exact absurd (wm_Fit_congr (fun i _ => ⟨rfl, rfl, rfl, rfl⟩) hc b) (c' _ a z)
theorem wm_rdy_le {O D cy : Nat → Nat} {r : Nat} : ∀ k, (∀ j, j < k → cy j ≤ 4 * j + 1) → wm_rdy O D cy r k ≤ 4 * k + 1 := by
  intro k
  induction k with
  | zero => intro _; exact Nat.zero_le _
  | succ k ih =>
    intro h
    have i := ih (fun j hj => h j (by omega))
    by_cases z : wm_wr O D k r
    · rw [wm_rdy_t z]
      have := h k (by omega)
      have := wm_L_le (O k)
      omega
    · rw [wm_rdy_f z]; omega
theorem wm_Fit_top {O D A B : Nat → Nat} {w : Nat} {cy : Nat → Nat} {k : Nat} (hw : 1 ≤ w) (h : ∀ j, j < k → cy j ≤ 4 * j + 1) : wm_Fit O D A B w cy k (4 * k + 1) := by
  refine ⟨⟨fun j hj => ?_, fun r _ => wm_rdy_le k h⟩, ?_, fun j hj e => ?_⟩
  · have a := h j hj
    have b := wm_L_le (O j)
    have c := wm_L_pos (O k)
    refine ⟨fun _ _ _ => by omega, fun _ _ => by omega, fun _ => by omega, fun _ => by omega⟩
  · rw [wm_cnt_0 k (fun i hi => by have := h i hi; omega)]; omega
  · have := h j hj; omega
/-- the next instruction's cycle -/
theorem wm_next {O D A B : Nat → Nat} {w : Nat} {cy : Nat → Nat} {k : Nat} (hw : 1 ≤ w) (h : ∀ j, j < k → cy j ≤ 4 * j + 1) : ∃ c, 1 ≤ c ∧ c ≤ 4 * k + 1 ∧ wm_Fit O D A B w cy k c ∧ ∀ x, 1 ≤ x → x < c → ¬ wm_Fit O D A B w cy k x := by
  obtain ⟨c, ⟨h1, h2⟩, h3⟩ := pk_least (fun c => 1 ≤ c ∧ wm_Fit O D A B w cy k c) ⟨4 * k + 1, by omega, wm_Fit_top hw h⟩
  refine ⟨c, h1, ?_, h2, fun x hx hl f => h3 x hl ⟨hx, f⟩⟩
  rcases Nat.lt_or_ge (4 * k + 1) c with z | z
  · exact absurd ⟨by omega, wm_Fit_top hw h⟩ (h3 _ z)
  · exact z
theorem wm_Sch_le {O D A B : Nat → Nat} {w n : Nat} {cy : Nat → Nat} (hw : 1 ≤ w) (h : wm_Sch O D A B w n cy) : ∀ k, k < n → cy k ≤ 4 * k + 1 := by
  intro k
  induction k using Nat.strongRecOn with
  | ind k ih =>
    intro hk
    rcases Nat.lt_or_ge (4 * k + 1) (cy k) with z | z
    · exact absurd (wm_Fit_top hw (fun j hj => ih j hj (by omega))) ((h k hk).2.2 _ (by omega) z)
    · exact z
theorem wm_Sch_cnt {O D A B : Nat → Nat} {w n : Nat} {cy : Nat → Nat} (h : wm_Sch O D A B w n cy) (c : Nat) : ∀ k, k ≤ n → wm_cnt cy c k ≤ w := by
  intro k
  induction k with
  | zero => intro _; exact Nat.zero_le _
  | succ k ih =>
    intro hk
    by_cases z : cy k = c
    · rw [wm_cnt_t z]
      have := (h k (by omega)).2.1.2.1
      rw [z] at this
      omega
    · rw [wm_cnt_f z]; exact ih (by omega)
section
variable {O D A B : Nat → Nat} {w n : Nat} {cy : Nat → Nat} {j k r : Nat}
theorem wm_Sch_waw (h : wm_Sch O D A B w n cy) (hj : j < k) (hk : k < n) (a : wm_wr O D j r) (b : wm_wr O D k r) : cy j + wm_L (O j) < cy k + wm_L (O k) := ((h k hk).2.1.1.1 j hj).1 b.1 a.1 (a.2.trans b.2.symm)
theorem wm_Sch_war (h : wm_Sch O D A B w n cy) (hj : j < k) (hk : k < n) (a : wm_rd O A B j r) (b : wm_wr O D k r) : cy j ≤ cy k := ((h k hk).2.1.1.1 j hj).2.1 b.1 (b.2 ▸ a)
theorem wm_Sch_mem (h : wm_Sch O D A B w n cy) (hj : j < k) (hk : k < n) (a : wm_MM (O j) (O k)) : cy j < cy k := ((h k hk).2.1.1.1 j hj).2.2.1 a
theorem wm_Sch_end (h : wm_Sch O D A B w n cy) (hj : j < k) (hk : k < n) (a : wm_E (O k)) : cy j ≤ cy k := ((h k hk).2.1.1.1 j hj).2.2.2 a
theorem wm_rdy_ge (h : wm_Sch O D A B w n cy) : ∀ m, m ≤ n → ∀ j, j < m → wm_wr O D j r → cy j + wm_L (O j) ≤ wm_rdy O D cy r m := by
  intro m
  induction m with
  | zero => intro _ j hj; omega
  | succ m ih =>
    intro hm j hj a
    by_cases z : wm_wr O D m r
    · rw [wm_rdy_t z]
      rcases Nat.lt_or_ge j m with l | l
      · exact Nat.le_of_lt (wm_Sch_waw h l (by omega) a z)
      · have : j = m := by omega
        subst this
        exact Nat.le_refl _
    · rw [wm_rdy_f z]
      rcases Nat.lt_or_ge j m with l | l
      · exact ih (by omega) j l a
      · have : j = m := by omega
        subst this
        exact absurd a z
theorem wm_Sch_raw (h : wm_Sch O D A B w n cy) (hj : j < k) (hk : k < n) (a : wm_wr O D j r) (b : wm_rd O A B k r) : cy j + wm_L (O j) ≤ cy k :=
  Nat.le_trans (wm_rdy_ge h k (by omega) j hj a) ((h k hk).2.1.1.2 r b)
end
/-- the time that a block takes -/
def wm_tm (O cy : Nat → Nat) : Nat → Nat
  | 0 => 0
  | i + 1 => if cy i + wm_L (O i) - 1 ≤ wm_tm O cy i then wm_tm O cy i else cy i + wm_L (O i) - 1
theorem wm_tm_t {O cy : Nat → Nat} {i : Nat} (h : cy i + wm_L (O i) - 1 ≤ wm_tm O cy i) : wm_tm O cy (i + 1) = wm_tm O cy i := if_pos h
theorem wm_tm_f {O cy : Nat → Nat} {i : Nat} (h : ¬ cy i + wm_L (O i) - 1 ≤ wm_tm O cy i) : wm_tm O cy (i + 1) = cy i + wm_L (O i) - 1 := if_neg h
theorem wm_tm_s (O cy : Nat → Nat) (i : Nat) : wm_tm O cy i ≤ wm_tm O cy (i + 1) ∧ cy i + wm_L (O i) ≤ wm_tm O cy (i + 1) + 1 := by
  by_cases h : cy i + wm_L (O i) - 1 ≤ wm_tm O cy i
  · rw [wm_tm_t h]; omega
  · rw [wm_tm_f h]; omega
theorem wm_tm_ge (O cy : Nat → Nat) : ∀ n i, i < n → cy i + wm_L (O i) ≤ wm_tm O cy n + 1 := by
  intro n
  induction n with
  | zero => intro i hi; omega
  | succ n ih =>
    intro i hi
    have a := wm_tm_s O cy n
    rcases Nat.lt_or_ge i n with z | z
    · have := ih i z; omega
    · have : i = n := by omega
      subst this
      exact a.2
theorem wm_tm_le {O cy : Nat → Nat} : ∀ n, (∀ i, i < n → cy i ≤ 4 * i + 1) → wm_tm O cy n ≤ 4 * n := by
  intro n
  induction n with
  | zero => intro _; exact Nat.zero_le _
  | succ n ih =>
    intro h
    have a := ih (fun i hi => h i (by omega))
    have b := h n (by omega)
    have c := wm_L_le (O n)
    by_cases z : cy n + wm_L (O n) - 1 ≤ wm_tm O cy n
    · rw [wm_tm_t z]; omega
    · rw [wm_tm_f z]; omega
theorem wm_tm_congr {O O' cy cy' : Nat → Nat} : ∀ n, (∀ i, i < n → O' i = O i ∧ cy' i = cy i) → wm_tm O' cy' n = wm_tm O cy n := by
  intro n
  induction n with
  | zero => intro _; rfl
  | succ n ih =>
    intro h
    rw [wm_tm, wm_tm, ih (fun i hi => h i (by omega)), (h n (by omega)).1, (h n (by omega)).2]
/-- how long the block at b is -/
def wm_Len (W : Nat → Int32) (b n : Nat) : Prop := 1 ≤ n ∧ n ≤ 8 ∧ b + n ≤ 64 ∧ (∀ i, i + 1 < n → ¬ wm_E (wm_o (W (b + i)))) ∧ (n = 8 ∨ b + n = 64 ∨ wm_E (wm_o (W (b + n - 1))))
theorem wm_Len_ex (W : Nat → Int32) {b : Nat} (hb : b < 64) : ∃ n, wm_Len W b n := by
  obtain ⟨n, ⟨h1, h2⟩, h3⟩ := pk_least (fun n => 1 ≤ n ∧ (n = 8 ∨ b + n = 64 ∨ wm_E (wm_o (W (b + n - 1))))) ⟨8, by omega, Or.inl rfl⟩
  have a : n ≤ 8 := by
    rcases Nat.lt_or_ge 8 n with z | z
    · exact absurd ⟨by omega, Or.inl rfl⟩ (h3 8 z)
    · exact z
  have c : b + n ≤ 64 := by
    rcases Nat.lt_or_ge 64 (b + n) with z | z
    · exact absurd ⟨by omega, Or.inr (Or.inl (by omega))⟩ (h3 (64 - b) (by omega))
    · exact z
  refine ⟨n, h1, a, c, fun i hi e => ?_, h2⟩
  exact h3 (i + 1) hi ⟨by omega, Or.inr (Or.inr (by rw [show b + (i + 1) - 1 = b + i from by omega]; exact e))⟩
theorem wm_Len_uniq {W : Nat → Int32} {b n m : Nat} (h : wm_Len W b n) (h' : wm_Len W b m) : n = m := by
  obtain ⟨a1, a2, a3, a4, a5⟩ := h
  obtain ⟨b1, b2, b3, b4, b5⟩ := h'
  rcases Nat.lt_trichotomy n m with z | z | z
  · rcases a5 with e | e | e
    · omega
    · omega
    · exact absurd (by rw [show b + (n - 1) = b + n - 1 from by omega]; exact e) (b4 (n - 1) (by omega))
  · exact z
  · rcases b5 with e | e | e
    · omega
    · omega
    · exact absurd (by rw [show b + (m - 1) = b + m - 1 from by omega]; exact e) (a4 (m - 1) (by omega))
theorem wm_Len_congr {W W' : Nat → Int32} {b n : Nat} (h : wm_Len W b n) (e : ∀ i, i < n → W' (b + i) = W (b + i)) : wm_Len W' b n := by
  obtain ⟨a1, a2, a3, a4, a5⟩ := h
  refine ⟨a1, a2, a3, fun i hi => ?_, ?_⟩
  · rw [e i (by omega)]; exact a4 i hi
  · have := e (n - 1) (by omega)
    rw [show b + (n - 1) = b + n - 1 from by omega] at this
    rw [this]; exact a5
/-- the order by cycles, then by words -/
def wm_Ord (cy : Nat → Nat) (n : Nat) (π : Nat → Nat) : Prop := (∀ q, q < n → π q < n) ∧ (∀ p q, p < q → q < n → cy (π p) < cy (π q) ∨ (cy (π p) = cy (π q) ∧ π p < π q)) ∧ ∀ j, j < n → ∃ q, q < n ∧ π q = j
theorem wm_Ord_ins {cy : Nat → Nat} {n : Nat} {π π' : Nat → Nat} (h : wm_Ord cy n π) (m : Nat) (hm : m ≤ n) (lo : ∀ q, q < m → cy (π q) ≤ cy n) (hi : ∀ q, m ≤ q → q < n → cy n < cy (π q)) (e1 : ∀ q, q < m → π' q = π q) (e2 : π' m = n) (e3 : ∀ q, m ≤ q → q < n → π' (q + 1) = π q) : wm_Ord cy (n + 1) π' := by
  obtain ⟨h1, h2, h3⟩ := h
  refine ⟨fun q hq => ?_, fun p q hpq hq => ?_, fun j hj => ?_⟩
  · rcases Nat.lt_trichotomy q m with z | z | z
    · rw [e1 q z]; have := h1 q (by omega); omega
    · rw [z, e2]; omega
    · obtain ⟨q, rfl⟩ : ∃ x, q = x + 1 := ⟨q - 1, by omega⟩
      rw [e3 q (by omega) (by omega)]; have := h1 q (by omega); omega
  · rcases Nat.lt_trichotomy q m with z | z | z
    · rw [e1 q z, e1 p (by omega)]; exact h2 p q hpq (by omega)
    · have a := lo p (by omega)
      have b := h1 p (by omega)
      rw [z, e2, e1 p (by omega)]; omega
    · obtain ⟨q, rfl⟩ : ∃ x, q = x + 1 := ⟨q - 1, by omega⟩
      rw [e3 q (by omega) (by omega)]
      rcases Nat.lt_trichotomy p m with y | y | y
      · rw [e1 p y]; exact h2 p q (by omega) (by omega)
      · rw [y, e2]; exact Or.inl (hi q (by omega) (by omega))
      · obtain ⟨p, rfl⟩ : ∃ x, p = x + 1 := ⟨p - 1, by omega⟩
        rw [e3 p (by omega) (by omega)]; exact h2 p q (by omega) (by omega)
  · rcases Nat.lt_or_ge j n with z | z
    · obtain ⟨q, hq, rfl⟩ := h3 j z
      rcases Nat.lt_or_ge q m with y | y
      · exact ⟨q, by omega, e1 q y⟩
      · exact ⟨q + 1, by omega, e3 q y hq⟩
    · exact ⟨m, by omega, by rw [e2]; omega⟩
theorem wm_Ord_0 (cy π : Nat → Nat) : wm_Ord cy 0 π := ⟨fun q h => absurd h (Nat.not_lt_zero q), fun p q _ h => absurd h (Nat.not_lt_zero q), fun j h => absurd h (Nat.not_lt_zero j)⟩
theorem wm_Ord_congr {cy cy' π π' : Nat → Nat} {n : Nat} (h : wm_Ord cy n π) (e : ∀ q, q < n → π' q = π q) (ec : ∀ q, q < n → cy' q = cy q) : wm_Ord cy' n π' := by
  obtain ⟨h1, h2, h3⟩ := h
  refine ⟨fun q hq => by rw [e q hq]; exact h1 q hq, fun p q hpq hq => ?_, fun j hj => ?_⟩
  · rw [e q hq, e p (by omega), ec _ (h1 q hq), ec _ (h1 p (by omega))]; exact h2 p q hpq hq
  · obtain ⟨q, hq, rfl⟩ := h3 j hj
    exact ⟨q, hq, e q hq⟩
theorem wm_Sch_ex (O D A B : Nat → Nat) {w : Nat} (hw : 1 ≤ w) : ∀ n, ∃ cy, wm_Sch O D A B w n cy := by
  intro n
  induction n with
  | zero => exact ⟨fun _ => 0, fun k hk => absurd hk (Nat.not_lt_zero k)⟩
  | succ n ih =>
    obtain ⟨cy, h⟩ := ih
    obtain ⟨c, c1, _, c3, c4⟩ := wm_next (O := O) (D := D) (A := A) (B := B) hw (wm_Sch_le hw h)
    have e1 : ∀ i, i < n → (fun j => if j = n then c else cy j) i = cy i := fun i hi => if_neg (by omega)
    have e2 : (fun j => if j = n then c else cy j) n = c := if_pos rfl
    refine ⟨fun j => if j = n then c else cy j, fun k hk => ?_⟩
    rcases Nat.lt_or_ge k n with z | z
    · exact wm_Sch_congr (fun i _ => ⟨rfl, rfl, rfl, rfl⟩) e1 h k z
    · have : k = n := by omega
      subst this
      rw [e2]
      exact ⟨c1, wm_Fit_congr (fun i _ => ⟨rfl, rfl, rfl, rfl⟩) e1 c3, fun x h1 h2 f => c4 x h1 h2 (wm_Fit_congr (fun i _ => ⟨rfl, rfl, rfl, rfl⟩) (fun i hi => (e1 i hi).symm) f)⟩
abbrev wm_fo (V : Nat → Int32) (b : Nat) : Nat → Nat := fun i => wm_o (V (b + i))
abbrev wm_fd (V : Nat → Int32) (b : Nat) : Nat → Nat := fun i => wm_d (V (b + i))
abbrev wm_fa (V : Nat → Int32) (b : Nat) : Nat → Nat := fun i => wm_a (V (b + i))
abbrev wm_fb (V : Nat → Int32) (b : Nat) : Nat → Nat := fun i => wm_b (V (b + i))
abbrev wm_fn (V : Nat → Int32) (b : Nat) : Nat → Int32 := fun i => wm_n (V (b + i))
/-- an array with n values written from an offset on -/
def wm_put (off n : Nat) (f : Nat → Int32) (a : Nat → Int32) : Nat → Int32 := fun j => if off ≤ j ∧ j < off + n then f (j - off) else a j
theorem wm_put_i {off n : Nat} {f a : Nat → Int32} {i : Nat} (h : i < n) : wm_put off n f a (off + i) = f i := by
  unfold wm_put
  rw [if_pos (by omega), Nat.add_sub_cancel_left]
theorem wm_put_o {off n : Nat} {f a : Nat → Int32} {j : Nat} (h : j < off ∨ off + n ≤ j) : wm_put off n f a j = a j := if_neg (by omega)
theorem wm_put_0 (off : Nat) (f a : Nat → Int32) : wm_put off 0 f a = a := funext fun j => if_neg (by omega)
theorem wm_put_s (off n : Nat) (f a : Nat → Int32) : upd (wm_put off n f a) (off + n) (f n) = wm_put off (n + 1) f a := by
  funext j
  by_cases e : j = off + n
  · subst e
    rw [pk_us, wm_put_i (by omega)]
  · rw [pk_un e]
    by_cases z : off ≤ j ∧ j < off + n
    · unfold wm_put
      rw [if_pos z, if_pos (by omega)]
    · unfold wm_put
      rw [if_neg z, if_neg (by omega)]
end
section
/-! a block word by word, and by its cycles: the two agree -/
def wm_rk (o : Nat) (x y n : Int32) : Int32 := if o = 1 then x + y else if o = 2 then x - y else if o = 3 then x * y else if o = 4 then x + n else if o = 9 then (if y ≤ x then 0 else 1) else if o = 10 then x &&& y else if o = 11 then x ^^^ y else if o = 12 then x <<< (n &&& 31) else if o = 13 then (if y = 0 then 0 else x / y) else x
theorem wm_rk_y {o : Nat} (h : ¬ wm_R2 o) (x y z n : Int32) : wm_rk o x y n = wm_rk o x z n := by
  unfold wm_rk
  rw [if_neg (show ¬ o = 1 by omega), if_neg (show ¬ o = 2 by omega), if_neg (show ¬ o = 3 by omega), if_neg (show ¬ o = 1 by omega), if_neg (show ¬ o = 2 by omega), if_neg (show ¬ o = 3 by omega), if_neg (show ¬ o = 9 by omega), if_neg (show ¬ o = 10 by omega), if_neg (show ¬ o = 11 by omega), if_neg (show ¬ o = 13 by omega), if_neg (show ¬ o = 9 by omega), if_neg (show ¬ o = 10 by omega), if_neg (show ¬ o = 11 by omega), if_neg (show ¬ o = 13 by omega)]
def wm_va (o a b : Nat) (nn : Int32) (R W : Nat → Int32) : Int32 := wm_rk o (if o = 5 then W (R a + nn).toNatClampNeg else R a) (R b) nn
def wm_eR (o d a b : Nat) (nn : Int32) (R W : Nat → Int32) : Nat → Int32 := if wm_W o then upd R d (wm_va o a b nn R W) else R
def wm_eW (o a b : Nat) (nn : Int32) (R W : Nat → Int32) : Nat → Int32 := if o = 6 then upd W (R a + nn).toNatClampNeg (R b) else W
def wm_ok (o a b : Nat) (nn : Int32) (R : Nat → Int32) : Prop := ¬ 13 < o ∧ ¬ (o = 13 ∧ R b = 0) ∧ (wm_M o → ∃ x, x < 64 ∧ R a + nn = nI x)
def wm_nx (o a : Nat) (nn : Int32) (R : Nat → Int32) (p n : Nat) : Int32 := if o = 7 ∨ (o = 8 ∧ R a = 0) then nn &&& 63 else if o = 0 then nI p + nI n - 1 else (nI p + nI n) &&& 63
def wm_sq (O D A B : Nat → Nat) (N : Nat → Int32) (R W : Nat → Int32) : Nat → (Nat → Int32) × (Nat → Int32)
  | 0 => (R, W)
  | i + 1 => (wm_eR (O i) (D i) (A i) (B i) (N i) (wm_sq O D A B N R W i).1 (wm_sq O D A B N R W i).2, wm_eW (O i) (A i) (B i) (N i) (wm_sq O D A B N R W i).1 (wm_sq O D A B N R W i).2)
def wm_Sq (O D A B : Nat → Nat) (N : Nat → Int32) (S : Nat → (Nat → Int32) × (Nat → Int32)) : Prop := ∀ i, (S (i + 1)).1 = wm_eR (O i) (D i) (A i) (B i) (N i) (S i).1 (S i).2 ∧ (S (i + 1)).2 = wm_eW (O i) (A i) (B i) (N i) (S i).1 (S i).2
theorem wm_sq_Sq (O D A B : Nat → Nat) (N R W : Nat → Int32) : wm_Sq O D A B N (wm_sq O D A B N R W) := fun _ => ⟨rfl, rfl⟩
def wm_iss (π : Nat → Nat) (q0 j : Nat) : Prop := ∃ q, q < q0 ∧ π q = j
def wm_IT (cy π : Nat → Nat) (n t q0 : Nat) : Prop := q0 ≤ n ∧ (∀ q, q < q0 → cy (π q) ≤ t) ∧ ∀ q, q0 ≤ q → q < n → t ≤ cy (π q)
def wm_IR (O D cy : Nat → Nat) (S : Nat → (Nat → Int32) × (Nat → Int32)) (n t : Nat) (R : Nat → Int32) : Prop := ∀ r m, m ≤ n → (∀ j, j < m → wm_wr O D j r → cy j + wm_L (O j) ≤ t) → (∀ j, m ≤ j → j < n → wm_wr O D j r → t < cy j + wm_L (O j)) → R r = (S m).1 r
def wm_IW (O : Nat → Nat) (S : Nat → (Nat → Int32) × (Nat → Int32)) (n : Nat) (is : Nat → Prop) (W : Nat → Int32) : Prop := ∀ m, m ≤ n → (∀ j, j < m → O j = 6 → is j) → (∀ j, m ≤ j → j < n → O j = 6 → ¬ is j) → W = (S m).2
def wm_ce (O D cy : Nat → Nat) (S : Nat → (Nat → Int32) × (Nat → Int32)) (j : Nat) (ar rs tg : Nat → Int32) (c : Nat) : Prop := ar c = nI (cy j + wm_L (O j) - 1) ∧ tg c = nI (D j) ∧ rs c = (S (j + 1)).1 (D j)
def wm_IC (O D cy : Nat → Nat) (S : Nat → (Nat → Int32) × (Nat → Int32)) (is : Nat → Prop) (cm : Nat) (ar rs tg : Nat → Int32) : Prop := (∀ c, c < cm → ∃ j, is j ∧ wm_W (O j) ∧ wm_ce O D cy S j ar rs tg c) ∧ ∀ j, is j → wm_W (O j) → ∃ c, c < cm ∧ wm_ce O D cy S j ar rs tg c
def wm_IL (O A : Nat → Nat) (N : Nat → Int32) (S : Nat → (Nat → Int32) × (Nat → Int32)) (is : Nat → Prop) (lg : Nat) (la : Nat → Int32) : Prop := (∀ q, q < lg → ∃ j, is j ∧ O j = 6 ∧ la q = (S j).1 (A j) + N j) ∧ ∀ j, is j → O j = 6 → ∃ q, q < lg ∧ la q = (S j).1 (A j) + N j
def wm_undo (la lv : Nat → Int32) : Nat → (Nat → Int32) → (Nat → Int32)
  | 0, W => W
  | q + 1, W => wm_undo la lv q (upd W (la q).toNatClampNeg (lv q))
def wm_IK (O A B : Nat → Nat) (N : Nat → Int32) (S : Nat → (Nat → Int32) × (Nat → Int32)) (b n : Nat) (is : Nat → Prop) : Prop := ∀ j, is j → wm_ok (O j) (A j) (B j) (N j) (S j).1 ∧ (O j = 6 → ∀ x, x < 64 → (S j).1 (A j) + N j = nI x → ¬ (b ≤ x ∧ x < b + n))
def wm_IN (O A : Nat → Nat) (N : Nat → Int32) (S : Nat → (Nat → Int32) × (Nat → Int32)) (p n : Nat) (is : Nat → Prop) (nx : Int32) : Prop := (¬ is (n - 1) → nx = (nI p + nI n) &&& 63) ∧ (is (n - 1) → nx = wm_nx (O (n - 1)) (A (n - 1)) (N (n - 1)) (S (n - 1)).1 p n)
section
variable {O D A B : Nat → Nat} {N : Nat → Int32} {w n : Nat} {cy π : Nat → Nat} {S : Nat → (Nat → Int32) × (Nat → Int32)}
theorem wm_S_r (hS : wm_Sq O D A B N S) {r : Nat} : ∀ d m, (∀ j, m ≤ j → j < m + d → ¬ wm_wr O D j r) → (S (m + d)).1 r = (S m).1 r := by
  intro d
  induction d with
  | zero => intro m _; rfl
  | succ d ih =>
    intro m h
    rw [← ih m (fun j h1 h2 => h j h1 (by omega))]
    show (S (m + d + 1)).1 r = _
    rw [(hS (m + d)).1]
    unfold wm_eR
    by_cases z : wm_W (O (m + d))
    · rw [if_pos z]
      refine pk_un (fun e => ?_)
      exact h (m + d) (by omega) (by omega) ⟨z, e.symm⟩
    · rw [if_neg z]
theorem wm_S_w (hS : wm_Sq O D A B N S) : ∀ d m, (∀ j, m ≤ j → j < m + d → ¬ O j = 6) → (S (m + d)).2 = (S m).2 := by
  intro d
  induction d with
  | zero => intro m _; rfl
  | succ d ih =>
    intro m h
    rw [← ih m (fun j h1 h2 => h j h1 (by omega))]
    show (S (m + d + 1)).2 = _
    rw [(hS (m + d)).2]
    unfold wm_eW
    rw [if_neg (h (m + d) (by omega) (by omega))]
theorem wm_S_d (hS : wm_Sq O D A B N S) {j : Nat} (h : wm_W (O j)) : (S (j + 1)).1 (D j) = wm_va (O j) (A j) (B j) (N j) (S j).1 (S j).2 := by
  rw [(hS j).1]
  unfold wm_eR
  rw [if_pos h]
  exact pk_us
/-- what is issued -/
theorem wm_iss_s {q0 j : Nat} : wm_iss π (q0 + 1) j ↔ wm_iss π q0 j ∨ j = π q0 := by
  constructor
  · rintro ⟨q, hq, e⟩
    rcases Nat.lt_or_ge q q0 with z | z
    · exact Or.inl ⟨q, z, e⟩
    · have : q = q0 := by omega
      subst this
      exact Or.inr e.symm
  · rintro (⟨q, hq, e⟩ | e)
    · exact ⟨q, by omega, e⟩
    · exact ⟨q0, by omega, e.symm⟩
theorem wm_iss_lt (hO : wm_Ord cy n π) {t q0 j : Nat} (hT : wm_IT cy π n t q0) (hj : j < n) (h : cy j < t) : wm_iss π q0 j := by
  obtain ⟨q, hq, e⟩ := hO.2.2 j hj
  rcases Nat.lt_or_ge q q0 with z | z
  · exact ⟨q, z, e⟩
  · have := hT.2.2 q z hq
    rw [e] at this
    omega
theorem wm_iss_le (hO : wm_Ord cy n π) {t q0 j : Nat} (hT : wm_IT cy π n t q0) (hx : q0 < n → t < cy (π q0)) (hj : j < n) (h : cy j ≤ t) : wm_iss π q0 j := by
  obtain ⟨q, hq, e⟩ := hO.2.2 j hj
  rcases Nat.lt_or_ge q q0 with z | z
  · exact ⟨q, z, e⟩
  · have a := hx (by omega)
    rcases Nat.eq_or_lt_of_le z with y | y
    · subst y
      rw [e] at a
      omega
    · have := hO.2.1 q0 q y hq
      rw [e] at this
      omega
theorem wm_iss_gt {t q0 j : Nat} (hT : wm_IT cy π n t q0) (h : t < cy j) : ¬ wm_iss π q0 j := by
  rintro ⟨q, hq, e⟩
  have := hT.2.1 q hq
  rw [e] at this
  omega
theorem wm_iss_n (hO : wm_Ord cy n π) {q0 : Nat} (h : q0 < n) : ¬ wm_iss π q0 (π q0) := by
  rintro ⟨q, hq, e⟩
  have := hO.2.1 q q0 hq h
  rw [e] at this
  omega
theorem wm_iss_b (hO : wm_Ord cy n π) {t q0 j : Nat} (hT : wm_IT cy π n t q0) (h : wm_iss π q0 j) : j < n := by
  obtain ⟨q, hq, e⟩ := h
  rw [← e]
  exact hO.1 q (by have := hT.1; omega)
/-- a turn of the inner loop -/
theorem wm_IT_s (hO : wm_Ord cy n π) {t q0 : Nat} (hT : wm_IT cy π n t q0) (h : q0 < n) (e : cy (π q0) = t) : wm_IT cy π n t (q0 + 1) := by
  refine ⟨h, fun q hq => ?_, fun q h1 h2 => hT.2.2 q (by omega) h2⟩
  rcases Nat.lt_or_ge q q0 with z | z
  · exact hT.2.1 q z
  · have : q = q0 := by omega
    subst this
    omega
theorem wm_IT_t (hO : wm_Ord cy n π) {t q0 : Nat} (hT : wm_IT cy π n t q0) (hx : q0 < n → t < cy (π q0)) : wm_IT cy π n (t + 1) q0 := by
  refine ⟨hT.1, fun q hq => by have := hT.2.1 q hq; omega, fun q h1 h2 => ?_⟩
  have a := hx (by omega)
  rcases Nat.eq_or_lt_of_le h1 with y | y
  · subst y; omega
  · have := hO.2.1 q0 q y h2
    omega
/-- what an instruction reads as it is issued -/
theorem wm_read (h : wm_Sch O D A B w n cy) {t k r : Nat} {R : Nat → Int32} (hR : wm_IR O D cy S n t R) (hk : k < n) (e : cy k = t) (hr : wm_rd O A B k r) : R r = (S k).1 r := by
  refine hR r k (by omega) (fun j hj a => ?_) (fun j h1 h2 a => ?_)
  · rw [← e]; exact wm_Sch_raw h hj hk a hr
  · have l := wm_L_pos (O j)
    rcases Nat.eq_or_lt_of_le h1 with y | y
    · subst y; omega
    · have := wm_Sch_war h y h2 hr a
      omega
theorem wm_readW (h : wm_Sch O D A B w n cy) (hO : wm_Ord cy n π) {t q0 : Nat} {W : Nat → Int32} (hT : wm_IT cy π n t q0) (hW : wm_IW O S n (wm_iss π q0) W) (hq : q0 < n) (e : cy (π q0) = t) (hm : wm_M (O (π q0))) : W = (S (π q0)).2 := by
  have hk := hO.1 q0 hq
  refine hW _ (by omega) (fun j hj a => ?_) (fun j h1 h2 a => ?_)
  · refine wm_iss_lt hO hT (by omega) ?_
    rw [← e]
    exact wm_Sch_mem h hj hk (by omega)
  · rcases Nat.eq_or_lt_of_le h1 with y | y
    · subst y; exact wm_iss_n hO hq
    · refine wm_iss_gt hT ?_
      rw [← e]
      exact wm_Sch_mem h y h2 (by omega)
/-- the parts of the invariant over one more instruction -/
theorem wm_IW_o {is is' : Nat → Prop} {k : Nat} {W : Nat → Int32} (hi : ∀ j, is' j ↔ is j ∨ j = k) (ho : ¬ O k = 6) (h : wm_IW O S n is W) : wm_IW O S n is' W := by
  intro m hm h1 h2
  refine h m hm (fun j hj a => ?_) (fun j hj hl a z => h2 j hj hl a ((hi j).mpr (Or.inl z)))
  rcases (hi j).mp (h1 j hj a) with z | z
  · exact z
  · subst z; exact absurd a ho
theorem wm_IW_s (hS : wm_Sq O D A B N S) {is is' : Nat → Prop} {k : Nat} {W : Nat → Int32} (hi : ∀ j, is' j ↔ is j ∨ j = k) (ho : O k = 6) (hk : k < n) (hn : ∀ j, k < j → j < n → O j = 6 → ¬ is j) (e : W = (S k).2) : wm_IW O S n is' (upd W ((S k).1 (A k) + N k).toNatClampNeg ((S k).1 (B k))) := by
  intro m hm h1 h2
  have km : k < m := by
    rcases Nat.lt_or_ge k m with z | z
    · exact z
    · exact absurd ((hi k).mpr (Or.inr rfl)) (h2 k z hk ho)
  have a : (S (k + 1)).2 = upd W ((S k).1 (A k) + N k).toNatClampNeg ((S k).1 (B k)) := by
    rw [(hS k).2, e]
    unfold wm_eW
    rw [if_pos ho]
  rw [← a]
  have c := wm_S_w hS (m - (k + 1)) (k + 1) (fun j p q z => ?_)
  · rw [show k + 1 + (m - (k + 1)) = m from by omega] at c
    exact c.symm
  · rcases (hi j).mp (h1 j (by omega) z) with y | y
    · exact hn j (by omega) (by omega) z y
    · omega
theorem wm_ce_u {j c cm : Nat} {ar rs tg : Nat → Int32} {x y z : Int32} (h : c < cm) (e : wm_ce O D cy S j ar rs tg c) : wm_ce O D cy S j (upd ar cm x) (upd rs cm y) (upd tg cm z) c := by
  unfold wm_ce
  rw [pk_un (show c ≠ cm by omega), pk_un (show c ≠ cm by omega), pk_un (show c ≠ cm by omega)]
  exact e
theorem wm_IC_o {is is' : Nat → Prop} {k cm : Nat} {ar rs tg : Nat → Int32} (hi : ∀ j, is' j ↔ is j ∨ j = k) (ho : ¬ wm_W (O k)) (h : wm_IC O D cy S is cm ar rs tg) : wm_IC O D cy S is' cm ar rs tg := by
  refine ⟨fun c hc => ?_, fun j hj a => ?_⟩
  · obtain ⟨j, p, q⟩ := h.1 c hc
    exact ⟨j, (hi j).mpr (Or.inl p), q⟩
  · rcases (hi j).mp hj with z | z
    · exact h.2 j z a
    · subst z; exact absurd a ho
theorem wm_IC_s {is is' : Nat → Prop} {k cm : Nat} {ar rs tg : Nat → Int32} (hi : ∀ j, is' j ↔ is j ∨ j = k) (ho : wm_W (O k)) (h : wm_IC O D cy S is cm ar rs tg) {x y z : Int32} (ex : x = nI (cy k + wm_L (O k) - 1)) (ez : z = nI (D k)) (ey : y = (S (k + 1)).1 (D k)) : wm_IC O D cy S is' (cm + 1) (upd ar cm x) (upd rs cm y) (upd tg cm z) := by
  have new : wm_ce O D cy S k (upd ar cm x) (upd rs cm y) (upd tg cm z) cm := by
    unfold wm_ce
    rw [pk_us, pk_us, pk_us]
    exact ⟨ex, ez, ey⟩
  refine ⟨fun c hc => ?_, fun j hj a => ?_⟩
  · rcases Nat.lt_or_ge c cm with l | l
    · obtain ⟨j, p, q, e⟩ := h.1 c l
      exact ⟨j, (hi j).mpr (Or.inl p), q, wm_ce_u l e⟩
    · have : c = cm := by omega
      subst this
      exact ⟨k, (hi k).mpr (Or.inr rfl), ho, new⟩
  · rcases (hi j).mp hj with l | l
    · obtain ⟨c, hc, e⟩ := h.2 j l a
      exact ⟨c, by omega, wm_ce_u hc e⟩
    · subst l
      exact ⟨cm, by omega, new⟩
theorem wm_IL_o {is is' : Nat → Prop} {k lg : Nat} {la : Nat → Int32} (hi : ∀ j, is' j ↔ is j ∨ j = k) (ho : ¬ O k = 6) (h : wm_IL O A N S is lg la) : wm_IL O A N S is' lg la := by
  refine ⟨fun c hc => ?_, fun j hj a => ?_⟩
  · obtain ⟨j, p, q⟩ := h.1 c hc
    exact ⟨j, (hi j).mpr (Or.inl p), q⟩
  · rcases (hi j).mp hj with z | z
    · exact h.2 j z a
    · subst z; exact absurd a ho
theorem wm_IL_s {is is' : Nat → Prop} {k lg : Nat} {la : Nat → Int32} (hi : ∀ j, is' j ↔ is j ∨ j = k) (ho : O k = 6) (h : wm_IL O A N S is lg la) {x : Int32} (ex : x = (S k).1 (A k) + N k) : wm_IL O A N S is' (lg + 1) (upd la lg x) := by
  refine ⟨fun c hc => ?_, fun j hj a => ?_⟩
  · rcases Nat.lt_or_ge c lg with l | l
    · obtain ⟨j, p, q, e⟩ := h.1 c l
      exact ⟨j, (hi j).mpr (Or.inl p), q, by rw [pk_un (by omega)]; exact e⟩
    · have : c = lg := by omega
      subst this
      exact ⟨k, (hi k).mpr (Or.inr rfl), ho, by rw [pk_us]; exact ex⟩
  · rcases (hi j).mp hj with l | l
    · obtain ⟨c, hc, e⟩ := h.2 j l a
      exact ⟨c, by omega, by rw [pk_un (by omega)]; exact e⟩
    · subst l
      exact ⟨lg, by omega, by rw [pk_us]; exact ex⟩
theorem wm_undo_congr {la lv la' lv' : Nat → Int32} : ∀ (lg : Nat) (W : Nat → Int32), (∀ q, q < lg → la' q = la q ∧ lv' q = lv q) → wm_undo la' lv' lg W = wm_undo la lv lg W := by
  intro lg
  induction lg with
  | zero => intro W _; rfl
  | succ lg ih =>
    intro W h
    unfold wm_undo
    rw [(h lg (by omega)).1, (h lg (by omega)).2]
    exact ih _ (fun q hq => h q (by omega))
theorem wm_undo_s (la lv W : Nat → Int32) (lg a : Nat) (x v : Int32) (hx : x.toNatClampNeg = a) : wm_undo (upd la lg x) (upd lv lg (W a)) (lg + 1) (upd W a v) = wm_undo la lv lg W := by
  show wm_undo (upd la lg x) (upd lv lg (W a)) lg (upd (upd W a v) (upd la lg x lg).toNatClampNeg (upd lv lg (W a) lg)) = _
  rw [pk_us, pk_us, hx]
  have e : upd (upd W a v) a (W a) = W := by
    funext j
    by_cases z : j = a
    · subst z; exact pk_us
    · rw [pk_un z, pk_un z]
  rw [e]
  exact wm_undo_congr lg W (fun q hq => ⟨pk_un (Nat.ne_of_lt hq), pk_un (Nat.ne_of_lt hq)⟩)
theorem wm_IK_s {b : Nat} {is is' : Nat → Prop} {k : Nat} (hi : ∀ j, is' j ↔ is j ∨ j = k) (h : wm_IK O A B N S b n is) (h1 : wm_ok (O k) (A k) (B k) (N k) (S k).1) (h2 : O k = 6 → ∀ x, x < 64 → (S k).1 (A k) + N k = nI x → ¬ (b ≤ x ∧ x < b + n)) : wm_IK O A B N S b n is' := by
  intro j hj
  rcases (hi j).mp hj with z | z
  · exact h j z
  · subst z; exact ⟨h1, h2⟩
theorem wm_IN_o {p : Nat} {is is' : Nat → Prop} {k : Nat} {nx : Int32} (hi : ∀ j, is' j ↔ is j ∨ j = k) (hn : ¬ is k) (ho : ¬ wm_E (O k)) (h : wm_IN O A N S p n is nx) : wm_IN O A N S p n is' nx := by
  refine ⟨fun z => h.1 (fun y => z ((hi _).mpr (Or.inl y))), fun z => ?_⟩
  rcases (hi _).mp z with y | y
  · exact h.2 y
  · rw [h.1 (by rw [y]; exact hn), y]
    unfold wm_nx
    rw [if_neg (by omega), if_neg (by omega)]
theorem wm_IN_e {p : Nat} {is is' : Nat → Prop} {k : Nat} {nx : Int32} (hi : ∀ j, is' j ↔ is j ∨ j = k) (ek : k = n - 1) (e : nx = wm_nx (O k) (A k) (N k) (S k).1 p n) : wm_IN O A N S p n is' nx := by
  subst ek
  exact ⟨fun z => absurd ((hi _).mpr (Or.inr rfl)) z, fun _ => e⟩
/-- results that come at the end of a cycle -/
theorem wm_IC_uniq (h : wm_Sch O D A B w n cy) (hw : 1 ≤ w) (h8 : n ≤ 8) (hD : ∀ j, D j < 8) {is : Nat → Prop} (hb : ∀ j, is j → j < n) {cm t r : Nat} {ar rs tg : Nat → Int32} (hC : wm_IC O D cy S is cm ar rs tg) (ht : t < 100) {c c' : Nat} (hc : c < cm) (hc' : c' < cm) (e1 : ar c = nI t) (e2 : (tg c).toNatClampNeg = r) (e1' : ar c' = nI t) (e2' : (tg c').toNatClampNeg = r) : rs c = rs c' := by
  obtain ⟨j, i1, w1, a1, b1, d1⟩ := hC.1 c hc
  obtain ⟨k, i2, w2, a2, b2, d2⟩ := hC.1 c' hc'
  have l1 := wm_Sch_le hw h j (hb j i1)
  have l2 := wm_Sch_le hw h k (hb k i2)
  have m1 := wm_L_le (O j)
  have m2 := wm_L_le (O k)
  have n1 := hb j i1
  have n2 := hb k i2
  have p1 := wm_L_pos (O j)
  have p2 := wm_L_pos (O k)
  have q1 := hD j
  have q2 := hD k
  rw [a1, nI_eq (by omega) (by omega)] at e1
  rw [a2, nI_eq (by omega) (by omega)] at e1'
  rw [b1, nI_clamp (by omega)] at e2
  rw [b2, nI_clamp (by omega)] at e2'
  have : j = k := by
    rcases Nat.lt_trichotomy j k with z | z | z
    · have := wm_Sch_waw h z n2 ⟨w1, e2⟩ ⟨w2, e2'⟩; omega
    · exact z
    · have := wm_Sch_waw h z n1 ⟨w2, e2'⟩ ⟨w1, e2⟩; omega
  subst this
  rw [d1, d2]
theorem wm_arrive (hS : wm_Sq O D A B N S) (h : wm_Sch O D A B w n cy) (hO : wm_Ord cy n π) (hw : 1 ≤ w) (h8 : n ≤ 8) (hD : ∀ j, D j < 8) {t q0 cm : Nat} {ar rs tg R R' : Nat → Int32} (ht : t < 100) (hT : wm_IT cy π n t q0) (hx : q0 < n → t < cy (π q0)) (hC : wm_IC O D cy S (wm_iss π q0) cm ar rs tg) (hR : wm_IR O D cy S n t R) (k1 : ∀ r, ∀ c, c < cm → ar c = nI t → (tg c).toNatClampNeg = r → R' r = rs c) (k2 : ∀ r, (∀ c, c < cm → ¬ (ar c = nI t ∧ (tg c).toNatClampNeg = r)) → R' r = R r) : wm_IR O D cy S n (t + 1) R' := by
  intro r m hm h1 h2
  by_cases z : ∃ j, j < n ∧ wm_wr O D j r ∧ cy j + wm_L (O j) = t + 1
  · obtain ⟨j, hj, a, e⟩ := z
    have p := wm_L_pos (O j)
    have jm : j < m := by
      rcases Nat.lt_or_ge j m with y | y
      · exact y
      · have := h2 j y hj a; omega
    have is := wm_iss_le hO hT hx hj (by omega)
    obtain ⟨c, hc, c1, c2, c3⟩ := hC.2 j is a.1
    rw [k1 r c hc (by rw [c1]; congr 1; omega) (by rw [c2, a.2, nI_clamp (by have := hD j; omega)]), c3, a.2]
    have s := wm_S_r hS (r := r) (m - (j + 1)) (j + 1) (fun i g1 g2 y => ?_)
    · rw [show j + 1 + (m - (j + 1)) = m from by omega] at s
      exact s.symm
    · have g := wm_Sch_waw h (show j < i by omega) (by omega) a y
      have := h1 i (by omega) y
      omega
  · have no : ∀ c, c < cm → ¬ (ar c = nI t ∧ (tg c).toNatClampNeg = r) := by
      rintro c hc ⟨e1, e2⟩
      obtain ⟨j, i1, w1, a1, b1, d1⟩ := hC.1 c hc
      have nj := wm_iss_b hO hT i1
      have l1 := wm_Sch_le hw h j nj
      have m1 := wm_L_le (O j)
      have p1 := wm_L_pos (O j)
      have q1 := hD j
      rw [a1, nI_eq (by omega) (by omega)] at e1
      rw [b1, nI_clamp (by omega)] at e2
      exact z ⟨j, nj, ⟨w1, e2⟩, by omega⟩
    rw [k2 r no]
    refine hR r m hm (fun j hj a => ?_) (fun j g1 g2 a => by have := h2 j g1 g2 a; omega)
    have g := h1 j hj a
    rcases Nat.eq_or_lt_of_le g with y | y
    · exact absurd ⟨j, by omega, a, y⟩ z
    · omega
theorem wm_fin_q {t q0 : Nat} (hO : wm_Ord cy n π) (hT : wm_IT cy π n t q0) (ht : wm_tm O cy n < t) : q0 = n := by
  rcases Nat.lt_or_ge q0 n with z | z
  · have a := hT.2.2 q0 (Nat.le_refl _) z
    have b := wm_tm_ge O cy n (π q0) (hO.1 q0 z)
    have c := wm_L_pos (O (π q0))
    omega
  · have := hT.1; omega
theorem wm_fin_i (hO : wm_Ord cy n π) {j : Nat} (hj : j < n) : wm_iss π n j := by
  obtain ⟨q, hq, e⟩ := hO.2.2 j hj
  exact ⟨q, hq, e⟩
theorem wm_fin_R {t : Nat} {R : Nat → Int32} (hR : wm_IR O D cy S n t R) (ht : wm_tm O cy n < t) : R = (S n).1 := by
  funext r
  refine hR r n (Nat.le_refl _) (fun j hj a => ?_) (fun j h1 h2 => by omega)
  have := wm_tm_ge O cy n j hj
  omega
theorem wm_fin_W (hO : wm_Ord cy n π) {W : Nat → Int32} (hW : wm_IW O S n (wm_iss π n) W) : W = (S n).2 :=
  hW n (Nat.le_refl _) (fun j hj _ => wm_fin_i hO hj) (fun j h1 h2 => by omega)
theorem wm_beg_R (hS : wm_Sq O D A B N S) (h : ∀ k, k < n → 1 ≤ cy k) : wm_IR O D cy S n 1 (S 0).1 := by
  intro r m hm h1 h2
  have s := wm_S_r hS (r := r) m 0 (fun j _ hj a => ?_)
  · rw [Nat.zero_add] at s; exact s.symm
  · have a1 := h1 j (by omega) a
    have a2 := h j (by omega)
    have a3 := wm_L_pos (O j)
    omega
theorem wm_iss_0 {j : Nat} : ¬ wm_iss π 0 j := by rintro ⟨q, hq, _⟩; omega
theorem wm_beg_W (hS : wm_Sq O D A B N S) : wm_IW O S n (wm_iss π 0) (S 0).2 := by
  intro m hm h1 h2
  have s := wm_S_w hS m 0 (fun j _ hj a => wm_iss_0 (h1 j (by omega) a))
  rw [Nat.zero_add] at s
  exact s.symm
theorem wm_beg_C {ar rs tg : Nat → Int32} : wm_IC O D cy S (wm_iss π 0) 0 ar rs tg := ⟨fun c hc => absurd hc (Nat.not_lt_zero c), fun j hj => absurd hj wm_iss_0⟩
theorem wm_beg_L {la : Nat → Int32} : wm_IL O A N S (wm_iss π 0) 0 la := ⟨fun c hc => absurd hc (Nat.not_lt_zero c), fun j hj => absurd hj wm_iss_0⟩
theorem wm_beg_K {b : Nat} : wm_IK O A B N S b n (wm_iss π 0) := fun j hj => absurd hj wm_iss_0
theorem wm_beg_N {p : Nat} : wm_IN O A N S p n (wm_iss π 0) ((nI p + nI n) &&& 63) := ⟨fun _ => rfl, fun h => absurd h wm_iss_0⟩
theorem wm_beg_T {cy π : Nat → Nat} (hO : wm_Ord cy n π) (h : ∀ k, k < n → 1 ≤ cy k) : wm_IT cy π n 1 0 := ⟨Nat.zero_le _, fun q hq => absurd hq (Nat.not_lt_zero q), fun q _ h2 => h _ (hO.1 q h2)⟩
end
end
section
/-! the reference's plan of a block -/
section
variable {g_pc g_wide g_many g_cut : Int32} {b_registers b_words b_counts b_begins b_cycles : Nat → Int32}
theorem yy_len_l {post : Int32 → Prop} {b n : Nat} (L : wm_Len b_words b n) (hp : post (nI n)) : ∀ f k, 1 ≤ k → k ≤ n → n < k + f → wY_length_2 post (nI b) g_pc g_wide g_many g_cut b_registers b_words b_counts b_begins b_cycles f (nI k) := by
  obtain ⟨a1, a2, a3, a4, a5⟩ := L
  intro f
  induction f with
  | zero => intro k _ _ h; omega
  | succ f ih =>
    intro k h1 h2 h3
    have e : nI b + nI k - 1 = nI (b + k - 1) := by rw [nI_add]; exact pk_sub (a := b + k) (b := 1) (by omega)
    refine pk_le 8 k (fun z => ?_) (fun z => ?_)
    · have : k = n := by omega
      subst this; exact hp
    · refine pk_le 63 (b + k - 1) (fun y => ?_) (fun y => ?_) rfl e
      · have : k = n := by omega
        subst this; exact hp
      · rw [e]
        refine yy_isLast (by omega) (fun E => br_f (by decide) ?_) (fun E => br_t rfl ?_)
        · have : k = n := by
            rcases Nat.eq_or_lt_of_le h2 with q | q
            · exact q
            · exact absurd (by rw [show b + (k - 1) = b + k - 1 from by omega]; exact E) (a4 (k - 1) (by omega))
          subst this; exact hp
        · have kn : k < n := by
            rcases Nat.eq_or_lt_of_le h2 with q | q
            · subst q
              rcases a5 with a | a | a
              · omega
              · omega
              · exact absurd a E
            · exact q
          exact nm_r (nI_1 k) (ih (k + 1) (by omega) kn (by omega))
theorem yy_length {post : Int32 → Prop} {b n : Nat} (L : wm_Len b_words b n) (hp : post (nI n)) : wpY_length post (g_pc, g_wide, g_many, g_cut, b_registers, b_words, b_counts, b_begins, b_cycles) (nI b) :=
  ⟨9, yy_len_l L hp 9 1 (by omega) L.1 (by have := L.2.1; omega)⟩
section
variable {post : Int32 → Prop} {b j k r c : Nat} {cy : Nat → Nat}
theorem yy_wr (hp : b + j < 64) (hr : r < 8) (h1 : wm_wr (wm_fo b_words b) (wm_fd b_words b) j r → post 1) (h0 : ¬ wm_wr (wm_fo b_words b) (wm_fd b_words b) j r → post 0) : wpY_writes post (g_pc, g_wide, g_many, g_cut, b_registers, b_words, b_counts, b_begins, b_cycles) (nI b + nI j) (nI r) := by
  rw [nI_add]; exact yy_writes hp hr (fun a b => h1 ⟨a, b⟩) h0
theorem yy_rd (hp : b + j < 64) (hr : r < 8) (h1 : wm_rd (wm_fo b_words b) (wm_fa b_words b) (wm_fb b_words b) j r → post 1) (h0 : ¬ wm_rd (wm_fo b_words b) (wm_fa b_words b) (wm_fb b_words b) j r → post 0) : wpY_reads post (g_pc, g_wide, g_many, g_cut, b_registers, b_words, b_counts, b_begins, b_cycles) (nI b + nI j) (nI r) := by
  rw [nI_add]; exact yy_reads hp hr h1 h0
theorem yy_opj (hp : b + j < 64) (h : post (nI ((wm_fo b_words b) j))) : wpY_op post (g_pc, g_wide, g_many, g_cut, b_registers, b_words, b_counts, b_begins, b_cycles) (nI b + nI j) := by
  rw [nI_add]; exact yy_op hp h
theorem yy_lastj (hp : b + j < 64) (h1 : wm_E ((wm_fo b_words b) j) → post 1) (h0 : ¬ wm_E ((wm_fo b_words b) j) → post 0) : wpY_isLast post (g_pc, g_wide, g_many, g_cut, b_registers, b_words, b_counts, b_begins, b_cycles) (nI (b + j)) := yy_isLast hp h1 h0
variable {J : Int32 → Int32 → Prop} {x5 x6 : Int32}
theorem yy_rf92 (hp : b + j < 64) (hr : r < 8) (hj : j < 8) (hcy : b_cycles j = nI (cy j)) (l1 : cy j < 100) (l2 : c < 100) (hJ : (wm_rd (wm_fo b_words b) (wm_fa b_words b) (wm_fb b_words b) j r → cy j ≤ c) → J x5 (nI (j + 1))) (h0 : ¬ (wm_rd (wm_fo b_words b) (wm_fa b_words b) (wm_fb b_words b) j r → cy j ≤ c) → post 0) : wY_registersFit_92 post J (nI b) (nI k) (nI c) (nI r) x5 x6 (nI j) g_pc g_wide g_many g_cut b_registers b_words b_counts b_begins b_cycles := by
  refine yy_rd hp hr (fun a => br_f (by decide) ?_) (fun a => br_t rfl (nm_r (nI_1 j) (hJ (fun z => absurd z a))))
  refine And.intro (vp_in_nI hj (by decide)) ?_
  exact pk_le (cy j) c (fun z => nm_r (nI_1 j) (hJ (fun _ => z))) (fun z => h0 (fun y => by have := y a; omega)) (by rw [nI_clamp (by omega)]; exact hcy)
theorem yy_rf66 (hp : b + j < 64) (hk : b + k < 64) (hr : r < 8) (hj : j < 8) (hcy : b_cycles j = nI (cy j)) (l1 : cy j < 100) (l2 : c < 100) {x8 : Int32} (e8 : (x8 = 1 ∧ wm_wr (wm_fo b_words b) (wm_fd b_words b) j r) ∨ (x8 = 0 ∧ ¬ wm_wr (wm_fo b_words b) (wm_fd b_words b) j r))
    (hJ : (wm_wr (wm_fo b_words b) (wm_fd b_words b) k r → (wm_wr (wm_fo b_words b) (wm_fd b_words b) j r → cy j + wm_L ((wm_fo b_words b) j) < c + wm_L ((wm_fo b_words b) k)) ∧ (wm_rd (wm_fo b_words b) (wm_fa b_words b) (wm_fb b_words b) j r → cy j ≤ c)) → J x5 (nI (j + 1)))
    (h0 : ¬ (wm_wr (wm_fo b_words b) (wm_fd b_words b) k r → (wm_wr (wm_fo b_words b) (wm_fd b_words b) j r → cy j + wm_L ((wm_fo b_words b) j) < c + wm_L ((wm_fo b_words b) k)) ∧ (wm_rd (wm_fo b_words b) (wm_fa b_words b) (wm_fb b_words b) j r → cy j ≤ c)) → post 0) :
    wY_registersFit_66 post J (nI b) (nI k) (nI c) (nI r) x5 (nI (wm_L ((wm_fo b_words b) k))) (nI j) x8 (nI (cy j + wm_L ((wm_fo b_words b) j))) g_pc g_wide g_many g_cut b_registers b_words b_counts b_begins b_cycles := by
  have m1 := wm_L_le ((wm_fo b_words b) j)
  have m2 := wm_L_le ((wm_fo b_words b) k)
  refine yy_wr hk hr (fun a => br_f (by decide) ?_) (fun a => br_t rfl (nm_r (nI_1 j) (hJ (fun z => absurd z a))))
  rcases e8 with ⟨rfl, w8⟩ | ⟨rfl, w8⟩
  · refine br_f (by decide) ?_
    refine pk_le (c + wm_L ((wm_fo b_words b) k)) (cy j + wm_L ((wm_fo b_words b) j)) (fun z => h0 (fun y => by have := (y a).1 w8; omega)) (fun z => ?_) (nI_add _ _)
    exact yy_rf92 hp hr hj hcy l1 l2 (fun y => hJ (fun _ => ⟨fun _ => z, y⟩)) (fun y => h0 (fun q => y (q a).2))
  · refine br_t rfl ?_
    exact yy_rf92 hp hr hj hcy l1 l2 (fun y => hJ (fun _ => ⟨fun q => absurd q w8, y⟩)) (fun y => h0 (fun q => y (q a).2))
def wm_Qr (O D A B cy : Nat → Nat) (k r c j : Nat) : Prop := (∀ i, j ≤ i → i < k → wm_wr O D k r → (wm_wr O D i r → cy i + wm_L (O i) < c + wm_L (O k)) ∧ (wm_rd O A B i r → cy i ≤ c)) ∧ (wm_rd O A B k r → wm_rdy O D cy r k ≤ c)
theorem wm_Qr_s {O D A B cy : Nat → Nat} {k r c j : Nat} (h : wm_wr O D k r → (wm_wr O D j r → cy j + wm_L (O j) < c + wm_L (O k)) ∧ (wm_rd O A B j r → cy j ≤ c)) (q : wm_Qr O D A B cy k r c (j + 1)) : wm_Qr O D A B cy k r c j := by
  refine ⟨fun i h1 h2 => ?_, q.2⟩
  rcases Nat.eq_or_lt_of_le h1 with e | e
  · subst e; exact h
  · exact q.1 i e h2
theorem yy_rf18 (hk : b + k < 64) (k8 : k < 8) (hr : r < 8) (l2 : c < 100) (hcy : ∀ i, i < k → b_cycles i = nI (cy i) ∧ cy i < 100) : ∀ f j, j ≤ k → k < j + f → (wm_Qr (wm_fo b_words b) (wm_fd b_words b) (wm_fa b_words b) (wm_fb b_words b) cy k r c j → post 1) → (¬ wm_Qr (wm_fo b_words b) (wm_fd b_words b) (wm_fa b_words b) (wm_fb b_words b) cy k r c j → post 0) → wY_registersFit_18 post (nI b) (nI k) (nI c) (nI r) (nI (wm_L ((wm_fo b_words b) k))) g_pc g_wide g_many g_cut b_registers b_words b_counts b_begins b_cycles f (nI (wm_rdy (wm_fo b_words b) (wm_fd b_words b) cy r j)) (nI j) := by
  intro f
  induction f with
  | zero => intro j h1 h2; omega
  | succ f ih =>
    intro j h1 h2 p1 p0
    have rl : ∀ i, i ≤ k → wm_rdy (wm_fo b_words b) (wm_fd b_words b) cy r i < 104 := by
      intro i
      induction i with
      | zero => intro _; show 0 < 104; omega
      | succ i ii =>
        intro hi
        have m := wm_L_le ((wm_fo b_words b) i)
        have := (hcy i (by omega)).2
        by_cases z : wm_wr (wm_fo b_words b) (wm_fd b_words b) i r
        · rw [wm_rdy_t z]; omega
        · rw [wm_rdy_f z]; exact ii (by omega)
    refine pk_le k j (fun z => ?_) (fun z => ?_)
    · have : j = k := by omega
      subst this
      refine yy_rd hk hr (fun a => br_f (by decide) ?_) (fun a => br_t rfl (p1 ⟨fun i h3 h4 => by omega, fun y => absurd y a⟩))
      have := rl j (by omega)
      exact pk_lt c (wm_rdy (wm_fo b_words b) (wm_fd b_words b) cy r j) (fun y => p0 (fun q => by have := q.2 a; omega)) (fun y => p1 ⟨fun i h3 h4 => by omega, fun _ => y⟩)
    · have cj := hcy j z
      have no : ¬ (wm_wr (wm_fo b_words b) (wm_fd b_words b) k r → (wm_wr (wm_fo b_words b) (wm_fd b_words b) j r → cy j + wm_L ((wm_fo b_words b) j) < c + wm_L ((wm_fo b_words b) k)) ∧ (wm_rd (wm_fo b_words b) (wm_fa b_words b) (wm_fb b_words b) j r → cy j ≤ c)) → ¬ wm_Qr (wm_fo b_words b) (wm_fd b_words b) (wm_fa b_words b) (wm_fb b_words b) cy k r c j := fun n q => n (q.1 j (by omega) z)
      have yes : (wm_wr (wm_fo b_words b) (wm_fd b_words b) k r → (wm_wr (wm_fo b_words b) (wm_fd b_words b) j r → cy j + wm_L ((wm_fo b_words b) j) < c + wm_L ((wm_fo b_words b) k)) ∧ (wm_rd (wm_fo b_words b) (wm_fa b_words b) (wm_fb b_words b) j r → cy j ≤ c)) → wY_registersFit_18 post (nI b) (nI k) (nI c) (nI r) (nI (wm_L ((wm_fo b_words b) k))) g_pc g_wide g_many g_cut b_registers b_words b_counts b_begins b_cycles f (nI (wm_rdy (wm_fo b_words b) (wm_fd b_words b) cy r (j + 1))) (nI (j + 1)) := fun h => ih (j + 1) z (by omega) (fun q => p1 (wm_Qr_s h q)) (fun q => p0 (fun q' => q ⟨fun i h3 h4 => q'.1 i (by omega) h4, q'.2⟩))
      refine yy_wr (by omega) hr (fun a => ?_) (fun a => ?_)
      · refine And.intro (vp_in_nI (by omega) (by decide)) ?_
        refine yy_opj (by omega) ?_
        refine yy_latency (wm_ol _) ?_
        refine nm_r (e' := nI (cy j + wm_L ((wm_fo b_words b) j))) (by rw [nI_clamp (by omega), cj.1, nI_add]) ?_
        refine br_f (by decide) ?_
        refine yy_rf66 (by omega) hk hr (by omega) cj.1 cj.2 l2 (Or.inl ⟨rfl, a⟩) (fun h => ?_) (fun h => p0 (no h))
        rw [← wm_rdy_t a]
        exact yes h
      · refine And.intro (vp_in_nI (by omega) (by decide)) ?_
        refine yy_opj (by omega) ?_
        refine yy_latency (wm_ol _) ?_
        refine nm_r (e' := nI (cy j + wm_L ((wm_fo b_words b) j))) (by rw [nI_clamp (by omega), cj.1, nI_add]) ?_
        refine br_t rfl ?_
        refine yy_rf66 (by omega) hk hr (by omega) cj.1 cj.2 l2 (Or.inr ⟨rfl, a⟩) (fun h => ?_) (fun h => p0 (no h))
        rw [← wm_rdy_f (cy := cy) a]
        exact yes h
theorem yy_regFit (hk : b + k < 64) (k8 : k < 8) (hr : r < 8) (l2 : c < 100) (hcy : ∀ i, i < k → b_cycles i = nI (cy i) ∧ cy i < 100) (p1 : wm_Qr (wm_fo b_words b) (wm_fd b_words b) (wm_fa b_words b) (wm_fb b_words b) cy k r c 0 → post 1) (p0 : ¬ wm_Qr (wm_fo b_words b) (wm_fd b_words b) (wm_fa b_words b) (wm_fb b_words b) cy k r c 0 → post 0) : wpY_registersFit post (g_pc, g_wide, g_many, g_cut, b_registers, b_words, b_counts, b_begins, b_cycles) (nI b) (nI k) (nI c) (nI r) := by
  unfold wpY_registersFit
  refine yy_opj hk ?_
  refine yy_latency (wm_ol _) ?_
  exact ⟨k + 1, yy_rf18 hk k8 hr l2 hcy (k + 1) 0 (by omega) (by omega) p1 p0⟩
/-! room in a cycle, memory, ends -/
def wm_Q1 (O cy : Nat → Nat) (k c i : Nat) : Prop := (wm_MM (O i) (O k) → cy i < c) ∧ (wm_E (O k) → cy i ≤ c) ∧ (cy i = c → (wm_M (O k) → ¬ wm_M (O i)) ∧ (wm_S (O k) → ¬ wm_S (O i)))
variable {x8 x7 : Int32}
theorem yy_f208 {x10 : Nat} (hx : x10 < 16) {x1 x2 x3 x4 x5 : Int32} {ok : Nat} (e8 : (x8 = 1 ∧ wm_S ok) ∨ (x8 = 0 ∧ ¬ wm_S ok)) (hJ : (wm_S ok → ¬ wm_S x10) → J x6 (nI (j + 1))) (h0 : ¬ (wm_S ok → ¬ wm_S x10) → post 0) : wY_fits_208 post J x1 x2 x3 x4 x5 x6 x7 x8 (nI j) (nI x10) g_pc g_wide g_many g_cut b_registers b_words b_counts b_begins b_cycles := by
  rcases e8 with ⟨rfl, w8⟩ | ⟨rfl, w8⟩
  · refine br_f (by decide) ?_
    exact pk_eq x10 3 (fun z => h0 (fun y => y w8 (by omega))) (fun z => pk_eq x10 13 (fun z' => h0 (fun y => y w8 (by omega))) (fun z' => nm_r (nI_1 j) (hJ (fun _ => by omega))))
  · exact br_t rfl (nm_r (nI_1 j) (hJ (fun z => absurd z w8)))
theorem yy_f173 {x1 x2 x4 x5 : Int32} {m : Nat} (hj : j < 8) (hcy : b_cycles j = nI (cy j)) (l1 : cy j < 100) (l2 : c < 100) (e7 : (x7 = 1 ∧ wm_M ((wm_fo b_words b) k)) ∨ (x7 = 0 ∧ ¬ wm_M ((wm_fo b_words b) k))) (e8 : (x8 = 1 ∧ wm_S ((wm_fo b_words b) k)) ∨ (x8 = 0 ∧ ¬ wm_S ((wm_fo b_words b) k)))
    (hJ : (cy j = c → (wm_M ((wm_fo b_words b) k) → ¬ wm_M ((wm_fo b_words b) j)) ∧ (wm_S ((wm_fo b_words b) k) → ¬ wm_S ((wm_fo b_words b) j))) → J (nI (wm_cnt cy c (j + 1))) (nI (j + 1))) (h0 : ¬ (cy j = c → (wm_M ((wm_fo b_words b) k) → ¬ wm_M ((wm_fo b_words b) j)) ∧ (wm_S ((wm_fo b_words b) k) → ¬ wm_S ((wm_fo b_words b) j))) → post 0) :
    wY_fits_173 post J x1 x2 (nI c) x4 x5 (nI (wm_cnt cy c j)) x7 x8 (nI j) (nI ((wm_fo b_words b) j)) g_pc g_wide g_many g_cut b_registers b_words b_counts b_begins b_cycles := by
  have ho : (wm_fo b_words b) j < 16 := wm_ol _
  refine And.intro (vp_in_nI hj (by decide)) ?_
  refine pk_eq (cy j) c (fun z => ?_) (fun z => ?_) (by rw [nI_clamp (by omega)]; exact hcy)
  · refine nm_r (nI_1 _) ?_
    rw [← wm_cnt_t z]
    rcases e7 with ⟨rfl, w7⟩ | ⟨rfl, w7⟩
    · refine br_f (by decide) ?_
      refine pk_eq ((wm_fo b_words b) j) 5 (fun y => h0 (fun q => (q z).1 w7 (Or.inl y))) (fun y => pk_eq ((wm_fo b_words b) j) 6 (fun y' => h0 (fun q => (q z).1 w7 (Or.inr y'))) (fun y' => ?_))
      exact yy_f208 ho e8 (fun h => hJ (fun _ => ⟨fun _ q => q.elim y y', h⟩)) (fun h => h0 (fun q => h (q z).2))
    · refine br_t rfl ?_
      exact yy_f208 ho e8 (fun h => hJ (fun _ => ⟨fun q => absurd q w7, h⟩)) (fun h => h0 (fun q => h (q z).2))
  · refine nm_r (nI_1 j) ?_
    rw [← wm_cnt_f z]
    exact hJ (fun q => absurd q z)
theorem yy_f151 {x1 x2 x5 : Int32} (hk : b + k < 64) (hj : j < 8) (hcy : b_cycles j = nI (cy j)) (l1 : cy j < 100) (l2 : c < 100) (e7 : (x7 = 1 ∧ wm_M ((wm_fo b_words b) k)) ∨ (x7 = 0 ∧ ¬ wm_M ((wm_fo b_words b) k))) (e8 : (x8 = 1 ∧ wm_S ((wm_fo b_words b) k)) ∨ (x8 = 0 ∧ ¬ wm_S ((wm_fo b_words b) k))) (hm : wm_MM ((wm_fo b_words b) j) ((wm_fo b_words b) k) → cy j < c)
    (hJ : wm_Q1 (wm_fo b_words b) cy k c j → J (nI (wm_cnt cy c (j + 1))) (nI (j + 1))) (h0 : ¬ wm_Q1 (wm_fo b_words b) cy k c j → post 0) :
    wY_fits_151 post J x1 x2 (nI c) (nI (b + k)) x5 (nI (wm_cnt cy c j)) x7 x8 (nI j) (nI ((wm_fo b_words b) j)) g_pc g_wide g_many g_cut b_registers b_words b_counts b_begins b_cycles := by
  refine yy_lastj hk (fun a => br_f (by decide) ?_) (fun a => br_t rfl ?_)
  · refine And.intro (vp_in_nI hj (by decide)) ?_
    refine pk_le (cy j) c (fun z => ?_) (fun z => h0 (fun q => by have := q.2.1 a; omega)) (by rw [nI_clamp (by omega)]; exact hcy)
    exact yy_f173 (m := 0) hj hcy l1 l2 e7 e8 (fun h => hJ ⟨hm, fun _ => z, h⟩) (fun h => h0 (fun q => h q.2.2))
  · exact yy_f173 (m := 0) hj hcy l1 l2 e7 e8 (fun h => hJ ⟨hm, fun q => absurd q a, h⟩) (fun h => h0 (fun q => h q.2.2))
theorem yy_f138 {x1 x2 x5 : Int32} (hk : b + k < 64) (hj : j < 8) (hcy : b_cycles j = nI (cy j)) (l1 : cy j < 100) (l2 : c < 100) (e7 : (x7 = 1 ∧ wm_M ((wm_fo b_words b) k)) ∨ (x7 = 0 ∧ ¬ wm_M ((wm_fo b_words b) k))) (e8 : (x8 = 1 ∧ wm_S ((wm_fo b_words b) k)) ∨ (x8 = 0 ∧ ¬ wm_S ((wm_fo b_words b) k))) (hm : wm_MM ((wm_fo b_words b) j) ((wm_fo b_words b) k))
    (hJ : wm_Q1 (wm_fo b_words b) cy k c j → J (nI (wm_cnt cy c (j + 1))) (nI (j + 1))) (h0 : ¬ wm_Q1 (wm_fo b_words b) cy k c j → post 0) :
    wY_fits_138 post J x1 x2 (nI c) (nI (b + k)) x5 (nI (wm_cnt cy c j)) x7 x8 (nI j) (nI ((wm_fo b_words b) j)) g_pc g_wide g_many g_cut b_registers b_words b_counts b_begins b_cycles := by
  refine And.intro (vp_in_nI hj (by decide)) ?_
  refine pk_lt (cy j) c (fun z => ?_) (fun z => h0 (fun q => by have := q.1 hm; omega)) (by rw [nI_clamp (by omega)]; exact hcy)
  exact yy_f151 hk hj hcy l1 l2 e7 e8 (fun _ => z) hJ h0
theorem yy_f118 {x1 x2 : Int32} (hk : b + k < 64) (hj : j < 8) (hcy : b_cycles j = nI (cy j)) (l1 : cy j < 100) (l2 : c < 100) (e7 : (x7 = 1 ∧ wm_M ((wm_fo b_words b) k)) ∨ (x7 = 0 ∧ ¬ wm_M ((wm_fo b_words b) k))) (e8 : (x8 = 1 ∧ wm_S ((wm_fo b_words b) k)) ∨ (x8 = 0 ∧ ¬ wm_S ((wm_fo b_words b) k))) (hm : ¬ ((wm_fo b_words b) k = 5 ∧ (wm_fo b_words b) j = 6))
    (hJ : wm_Q1 (wm_fo b_words b) cy k c j → J (nI (wm_cnt cy c (j + 1))) (nI (j + 1))) (h0 : ¬ wm_Q1 (wm_fo b_words b) cy k c j → post 0) :
    wY_fits_118 post J x1 x2 (nI c) (nI (b + k)) (nI ((wm_fo b_words b) k)) (nI (wm_cnt cy c j)) x7 x8 (nI j) (nI ((wm_fo b_words b) j)) g_pc g_wide g_many g_cut b_registers b_words b_counts b_begins b_cycles := by
  have ho : (wm_fo b_words b) j < 16 := wm_ol _
  have ho' : (wm_fo b_words b) k < 16 := wm_ol _
  have h138 : wm_MM ((wm_fo b_words b) j) ((wm_fo b_words b) k) → wY_fits_138 post J x1 x2 (nI c) (nI (b + k)) (nI ((wm_fo b_words b) k)) (nI (wm_cnt cy c j)) x7 x8 (nI j) (nI ((wm_fo b_words b) j)) g_pc g_wide g_many g_cut b_registers b_words b_counts b_begins b_cycles := fun q => yy_f138 hk hj hcy l1 l2 e7 e8 q hJ h0
  have h151 : ¬ wm_MM ((wm_fo b_words b) j) ((wm_fo b_words b) k) → wY_fits_151 post J x1 x2 (nI c) (nI (b + k)) (nI ((wm_fo b_words b) k)) (nI (wm_cnt cy c j)) x7 x8 (nI j) (nI ((wm_fo b_words b) j)) g_pc g_wide g_many g_cut b_registers b_words b_counts b_begins b_cycles := fun q => yy_f151 hk hj hcy l1 l2 e7 e8 (fun z => absurd z q) hJ h0
  exact pk_eq ((wm_fo b_words b) k) 6 (fun z => pk_eq ((wm_fo b_words b) j) 5 (fun y => h138 (Or.inr ⟨z, Or.inl y⟩)) (fun y => pk_eq ((wm_fo b_words b) j) 6 (fun y' => h138 (Or.inr ⟨z, Or.inr y'⟩)) (fun y' => h151 (fun q => q.elim hm (fun q' => q'.2.elim y y'))))) (fun z => h151 (fun q => q.elim hm (fun q' => z q'.1)))
theorem yy_f89 {w : Nat} (hw : g_wide = nI w) (w4 : w ≤ 4) (hk : b + k < 64) (k8 : k < 8) (l2 : c < 100) (hcy : ∀ i, i < k → b_cycles i = nI (cy i) ∧ cy i < 100) (e7 : (x7 = 1 ∧ wm_M ((wm_fo b_words b) k)) ∨ (x7 = 0 ∧ ¬ wm_M ((wm_fo b_words b) k))) (e8 : (x8 = 1 ∧ wm_S ((wm_fo b_words b) k)) ∨ (x8 = 0 ∧ ¬ wm_S ((wm_fo b_words b) k))) :
    ∀ f j, j ≤ k → k < j + f → ((∀ i, j ≤ i → i < k → wm_Q1 (wm_fo b_words b) cy k c i) ∧ wm_cnt cy c k < w → post 1) → (¬ ((∀ i, j ≤ i → i < k → wm_Q1 (wm_fo b_words b) cy k c i) ∧ wm_cnt cy c k < w) → post 0) →
    wY_fits_89 post (nI b) (nI k) (nI c) (nI (b + k)) (nI ((wm_fo b_words b) k)) x7 x8 g_pc g_wide g_many g_cut b_registers b_words b_counts b_begins b_cycles f (nI (wm_cnt cy c j)) (nI j) := by
  have cl : ∀ i, wm_cnt cy c i ≤ i := by
    intro i
    induction i with
    | zero => exact Nat.le_refl _
    | succ i ii =>
      by_cases z : cy i = c
      · rw [wm_cnt_t z]; omega
      · rw [wm_cnt_f z]; omega
  intro f
  induction f with
  | zero => intro j h1 h2; omega
  | succ f ih =>
    intro j h1 h2 p1 p0
    refine pk_le k j (fun z => ?_) (fun z => ?_)
    · have : j = k := by omega
      subst this
      have := cl j
      exact pk_le w (wm_cnt cy c j) (fun y => p0 (fun q => by have := q.2; omega)) (fun y => p1 ⟨fun i h3 h4 => by omega, y⟩) hw
    · have cj := hcy j z
      have ho : (wm_fo b_words b) j < 16 := wm_ol _
      have ho' : (wm_fo b_words b) k < 16 := wm_ol _
      have no : ¬ wm_Q1 (wm_fo b_words b) cy k c j → post 0 := fun n => p0 (fun q => n (q.1 j (Nat.le_refl _) z))
      have yes : wm_Q1 (wm_fo b_words b) cy k c j → wY_fits_89 post (nI b) (nI k) (nI c) (nI (b + k)) (nI ((wm_fo b_words b) k)) x7 x8 g_pc g_wide g_many g_cut b_registers b_words b_counts b_begins b_cycles f (nI (wm_cnt cy c (j + 1))) (nI (j + 1)) := fun h => ih (j + 1) z (by omega) (fun q => p1 ⟨fun i h3 h4 => (Nat.eq_or_lt_of_le h3).elim (fun e => e ▸ h) (fun e => q.1 i e h4), q.2⟩) (fun q => p0 (fun q' => q ⟨fun i h3 h4 => q'.1 i (by omega) h4, q'.2⟩))
      refine yy_opj (by omega) ?_
      have h118 : ¬ ((wm_fo b_words b) k = 5 ∧ (wm_fo b_words b) j = 6) → wY_fits_118 post (wY_fits_89 post (nI b) (nI k) (nI c) (nI (b + k)) (nI ((wm_fo b_words b) k)) x7 x8 g_pc g_wide g_many g_cut b_registers b_words b_counts b_begins b_cycles f) (nI b) (nI k) (nI c) (nI (b + k)) (nI ((wm_fo b_words b) k)) (nI (wm_cnt cy c j)) x7 x8 (nI j) (nI ((wm_fo b_words b) j)) g_pc g_wide g_many g_cut b_registers b_words b_counts b_begins b_cycles := fun q => yy_f118 hk (by omega) cj.1 cj.2 l2 e7 e8 q yes no
      exact pk_eq ((wm_fo b_words b) k) 5 (fun y => pk_eq ((wm_fo b_words b) j) 6 (fun y' => yy_f138 hk (by omega) cj.1 cj.2 l2 e7 e8 (Or.inl ⟨y, y'⟩) yes no) (fun y' => h118 (fun q => y' q.2))) (fun y => h118 (fun q => y q.1))
theorem yy_f59 {w : Nat} (hw : g_wide = nI w) (w4 : w ≤ 4) (hk : b + k < 64) (k8 : k < 8) (l2 : c < 100) (hcy : ∀ i, i < k → b_cycles i = nI (cy i) ∧ cy i < 100) (e7 : (x7 = 1 ∧ wm_M ((wm_fo b_words b) k)) ∨ (x7 = 0 ∧ ¬ wm_M ((wm_fo b_words b) k))) (e8 : (x8 = 1 ∧ wm_S ((wm_fo b_words b) k)) ∨ (x8 = 0 ∧ ¬ wm_S ((wm_fo b_words b) k))) :
    ∀ f r, r ≤ 8 → 8 < r + f → ((∀ q, r ≤ q → q < 8 → wm_Qr (wm_fo b_words b) (wm_fd b_words b) (wm_fa b_words b) (wm_fb b_words b) cy k q c 0) ∧ (∀ i, i < k → wm_Q1 (wm_fo b_words b) cy k c i) ∧ wm_cnt cy c k < w → post 1) → (¬ ((∀ q, r ≤ q → q < 8 → wm_Qr (wm_fo b_words b) (wm_fd b_words b) (wm_fa b_words b) (wm_fb b_words b) cy k q c 0) ∧ (∀ i, i < k → wm_Q1 (wm_fo b_words b) cy k c i) ∧ wm_cnt cy c k < w) → post 0) →
    wY_fits_59 post (nI b) (nI k) (nI c) (nI (b + k)) (nI ((wm_fo b_words b) k)) 0 x7 x8 g_pc g_wide g_many g_cut b_registers b_words b_counts b_begins b_cycles f (nI r) := by
  intro f
  induction f with
  | zero => intro r h1 h2; omega
  | succ f ih =>
    intro r h1 h2 p1 p0
    refine pk_le 8 r (fun z => ?_) (fun z => ?_)
    · exact ⟨k + 1, yy_f89 hw w4 hk k8 l2 hcy e7 e8 (k + 1) 0 (by omega) (by omega) (fun q => p1 ⟨fun q' h3 h4 => by omega, fun i hi => q.1 i (by omega) hi, q.2⟩) (fun q => p0 (fun q' => q ⟨fun i _ hi => q'.2.1 i hi, q'.2.2⟩))⟩
    · refine yy_regFit hk k8 z l2 hcy (fun h => br_f (by decide) ?_) (fun h => br_t rfl (p0 (fun q => h (q.1 r (Nat.le_refl _) z))))
      exact nm_r (nI_1 r) (ih (r + 1) z (by omega) (fun q => p1 ⟨fun i h3 h4 => (Nat.eq_or_lt_of_le h3).elim (fun e => e ▸ h) (fun e => q.1 i e h4), q.2⟩) (fun q => p0 (fun q' => q ⟨fun i h3 h4 => q'.1 i (by omega) h4, q'.2⟩)))
theorem wm_Fit_iff {O D A B cy : Nat → Nat} {w : Nat} (hD : ∀ i, D i < 8) (hA : ∀ i, A i < 8) (hB : ∀ i, B i < 8) : wm_Fit O D A B w cy k c ↔ (∀ q, 0 ≤ q → q < 8 → wm_Qr O D A B cy k q c 0) ∧ (∀ i, i < k → wm_Q1 O cy k c i) ∧ wm_cnt cy c k < w := by
  constructor
  · rintro ⟨⟨h1, h2⟩, h3, h4⟩
    refine ⟨fun q _ hq => ⟨fun i _ hi wk => ⟨fun wi => (h1 i hi).1 wk.1 wi.1 (wi.2.trans wk.2.symm), fun ri => (h1 i hi).2.1 wk.1 (wk.2 ▸ ri)⟩, h2 q⟩, fun i hi => ⟨(h1 i hi).2.2.1, (h1 i hi).2.2.2, fun e => h4 i hi e⟩, h3⟩
  · rintro ⟨h1, h2, h3⟩
    refine ⟨⟨fun j hj => ⟨fun a b e => ?_, fun a b => ?_, (h2 j hj).1, (h2 j hj).2.1⟩, fun r hr => ?_⟩, h3, fun j hj e => (h2 j hj).2.2 e⟩
    · exact ((h1 (D k) (Nat.zero_le _) (hD k)).1 j (Nat.zero_le _) hj ⟨a, rfl⟩).1 ⟨b, e⟩
    · exact ((h1 (D k) (Nat.zero_le _) (hD k)).1 j (Nat.zero_le _) hj ⟨a, rfl⟩).2 b
    · refine (h1 r (Nat.zero_le _) ?_).2 hr
      rcases hr with ⟨_, e⟩ | ⟨_, e⟩
      · rw [← e]; exact hA k
      · rw [← e]; exact hB k
theorem yy_fits {w : Nat} (hw : g_wide = nI w) (w4 : w ≤ 4) (hk : b + k < 64) (k8 : k < 8) (l2 : c < 100) (hcy : ∀ i, i < k → b_cycles i = nI (cy i) ∧ cy i < 100) (p1 : wm_Fit (wm_fo b_words b) (wm_fd b_words b) (wm_fa b_words b) (wm_fb b_words b) w cy k c → post 1) (p0 : ¬ wm_Fit (wm_fo b_words b) (wm_fd b_words b) (wm_fa b_words b) (wm_fb b_words b) w cy k c → post 0) : wpY_fits post (g_pc, g_wide, g_many, g_cut, b_registers, b_words, b_counts, b_begins, b_cycles) (nI b) (nI k) (nI c) := by
  have ho : (wm_fo b_words b) k < 16 := wm_ol _
  have F := wm_Fit_iff (O := (wm_fo b_words b)) (D := (wm_fd b_words b)) (A := (wm_fa b_words b)) (B := (wm_fb b_words b)) (cy := cy) (w := w) (k := k) (c := c) (fun i => wm_dl _) (fun i => wm_al _) (fun i => wm_bl _)
  have h59 : ∀ x7 x8 : Int32, ((x7 = 1 ∧ wm_M ((wm_fo b_words b) k)) ∨ (x7 = 0 ∧ ¬ wm_M ((wm_fo b_words b) k))) → ((x8 = 1 ∧ wm_S ((wm_fo b_words b) k)) ∨ (x8 = 0 ∧ ¬ wm_S ((wm_fo b_words b) k))) → wY_fits_59 post (nI b) (nI k) (nI c) (nI (b + k)) (nI ((wm_fo b_words b) k)) 0 x7 x8 g_pc g_wide g_many g_cut b_registers b_words b_counts b_begins b_cycles 9 0 := fun x7 x8 e7 e8 => yy_f59 hw w4 hk k8 l2 hcy e7 e8 9 0 (by omega) (by omega) (fun q => p1 (F.mpr q)) (fun q => p0 (fun z => q (F.mp z)))
  have h34 : ∀ x7 : Int32, ((x7 = 1 ∧ wm_M ((wm_fo b_words b) k)) ∨ (x7 = 0 ∧ ¬ wm_M ((wm_fo b_words b) k))) → wY_fits_34 post (nI b) (nI k) (nI c) (nI (b + k)) (nI ((wm_fo b_words b) k)) 0 x7 g_pc g_wide g_many g_cut b_registers b_words b_counts b_begins b_cycles := fun x7 e7 =>
    pk_eq ((wm_fo b_words b) k) 3 (fun z => ⟨9, h59 x7 1 e7 (Or.inl ⟨rfl, Or.inl z⟩)⟩) (fun z => pk_eq ((wm_fo b_words b) k) 13 (fun z' => ⟨9, h59 x7 1 e7 (Or.inl ⟨rfl, Or.inr z'⟩)⟩) (fun z' => ⟨9, h59 x7 0 e7 (Or.inr ⟨rfl, fun q => q.elim z z'⟩)⟩))
  unfold wpY_fits
  refine nm_r (nI_add b k) ?_
  refine yy_op hk ?_
  refine pk_eq ((wm_fo b_words b) k) 5 (fun z => ?_) (fun z => pk_eq ((wm_fo b_words b) k) 6 (fun z' => ?_) (fun z' => ?_))
  · exact h34 1 (Or.inl ⟨rfl, Or.inl z⟩)
  · exact h34 1 (Or.inl ⟨rfl, Or.inr z'⟩)
  · exact h34 0 (Or.inr ⟨rfl, fun q => q.elim z z'⟩)
end
section
variable {b n w : Nat} {cy : Nat → Nat}
theorem yy_s16 {post : SY → Prop} {J : Int32 → (Nat → Int32) → (Nat → Int32) → (Nat → Int32) → (Nat → Int32) → (Nat → Int32) → Prop} {k : Nat} {x2 : Int32} (hw : g_wide = nI w) (w4 : w ≤ 4) (hk : b + k < 64) (k8 : k < 8) (hcy : ∀ i, i < k → b_cycles i = nI (cy i) ∧ cy i < 100) (l : cy k < 100) (f1 : wm_Fit (wm_fo b_words b) (wm_fd b_words b) (wm_fa b_words b) (wm_fb b_words b) w cy k (cy k)) (f0 : ∀ c, 1 ≤ c → c < cy k → ¬ wm_Fit (wm_fo b_words b) (wm_fd b_words b) (wm_fa b_words b) (wm_fb b_words b) w cy k c)
    (hJ : J (nI (k + 1)) b_registers b_words b_counts b_begins (upd b_cycles k (nI (cy k)))) : ∀ f c, 1 ≤ c → c ≤ cy k → cy k < c + f → wY_schedule_16 post J (nI b) x2 (nI k) g_pc g_wide g_many g_cut b_registers b_words b_counts b_begins b_cycles f (nI c) := by
  intro f
  induction f with
  | zero => intro c h1 h2 h3; omega
  | succ f ih =>
    intro c h1 h2 h3
    refine yy_fits hw w4 hk k8 (by omega) hcy (fun F => br_f (by decide) ?_) (fun F => br_t rfl ?_)
    · have : c = cy k := by
        rcases Nat.eq_or_lt_of_le h2 with e | e
        · exact e
        · exact absurd F (f0 c h1 e)
      subst this
      refine And.intro (vp_in_nI k8 (by decide)) ?_
      refine nm_r (by rw [nI_clamp (by omega)]) ?_
      exact nm_r (nI_1 k) hJ
    · have : c < cy k := by
        rcases Nat.eq_or_lt_of_le h2 with e | e
        · subst e; exact absurd f1 F
        · exact e
      exact nm_r (nI_1 c) (ih (c + 1) (by omega) this (by omega))
theorem yy_s8 {post : SY → Prop} (hw : g_wide = nI w) (w1 : 1 ≤ w) (w4 : w ≤ 4) (hb : b + n ≤ 64) (n8 : n ≤ 8) (hS : wm_Sch (wm_fo b_words b) (wm_fd b_words b) (wm_fa b_words b) (wm_fb b_words b) w n cy) (hp : post (g_pc, g_wide, g_many, g_cut, b_registers, b_words, b_counts, b_begins, (wm_put 0 n (fun i => nI (cy i)) b_cycles))) : ∀ f k, k ≤ n → n < k + f → wY_schedule_8 post (nI b) (nI n) g_pc g_wide g_many g_cut f (nI k) b_registers b_words b_counts b_begins (wm_put 0 k (fun i => nI (cy i)) b_cycles) := by
  have le := wm_Sch_le w1 hS
  intro f
  induction f with
  | zero => intro k h1 h2; omega
  | succ f ih =>
    intro k h1 h2
    refine pk_le n k (fun z => ?_) (fun z => ?_)
    · have : k = n := by omega
      subst this
      exact hp
    · have lk := le k z
      refine ⟨cy k, yy_s16 (cy := cy) hw w4 (by omega) (by omega) (fun i hi => ⟨?_, ?_⟩) (by omega) (hS k z).2.1 (hS k z).2.2 ?_ (cy k) 1 (by omega) (hS k z).1 (by omega)⟩
      · have := wm_put_i (off := 0) (f := fun i => nI (cy i)) (a := b_cycles) hi
        rw [Nat.zero_add] at this
        exact this
      · have := le i (by omega); omega
      · have e := wm_put_s 0 k (fun i => nI (cy i)) b_cycles
        rw [Nat.zero_add] at e
        rw [e]
        exact ih (k + 1) z (by omega)
theorem yy_schedule {post : SY → Prop} (hw : g_wide = nI w) (w1 : 1 ≤ w) (w4 : w ≤ 4) (L : wm_Len b_words b n) (hS : wm_Sch (wm_fo b_words b) (wm_fd b_words b) (wm_fa b_words b) (wm_fb b_words b) w n cy) (hp : post (g_pc, g_wide, g_many, g_cut, b_registers, b_words, b_counts, b_begins, (wm_put 0 n (fun i => nI (cy i)) b_cycles))) : wpY_schedule post (g_pc, g_wide, g_many, g_cut, b_registers, b_words, b_counts, b_begins, b_cycles) (nI b) := by
  unfold wpY_schedule
  refine yy_length L ?_
  refine ⟨n + 1, ?_⟩
  have := yy_s8 (post := post) hw w1 w4 L.2.2.1 L.2.1 hS hp (n + 1) 0 (by omega) (by omega)
  rw [wm_put_0] at this
  exact this
theorem yy_time_l {post : Int32 → Prop} (L : wm_Len b_words b n) (hcy : ∀ i, i < n → b_cycles i = nI (cy i) ∧ 1 ≤ cy i ∧ cy i ≤ 4 * i + 1) (hp : post (nI (wm_tm (wm_fo b_words b) cy n))) : ∀ f k, k ≤ n → n < k + f → wY_time_4 post (nI b) g_pc g_wide g_many g_cut b_registers b_words b_counts b_begins b_cycles f (nI (wm_tm (wm_fo b_words b) cy k)) (nI k) := by
  have hb := L.2.2.1
  have n8 := L.2.1
  intro f
  induction f with
  | zero => intro k h1 h2; omega
  | succ f ih =>
    intro k h1 h2
    refine yy_length L ?_
    refine pk_le n k (fun z => ?_) (fun z => ?_)
    · have : k = n := by omega
      subst this
      exact hp
    · obtain ⟨ck, c1, c2⟩ := hcy k z
      have m := wm_L_le ((wm_fo b_words b) k)
      have mp := wm_L_pos ((wm_fo b_words b) k)
      have t := wm_tm_le (O := (wm_fo b_words b)) (cy := cy) k (fun i hi => (hcy i (by omega)).2.2)
      refine And.intro (vp_in_nI (by omega) (by decide)) ?_
      refine yy_opj (by omega) ?_
      refine yy_latency (wm_ol _) ?_
      refine nm_r (e' := nI (cy k + wm_L ((wm_fo b_words b) k) - 1)) (by rw [nI_clamp (by omega), ck, nI_add]; exact pk_sub (b := 1) (by omega)) ?_
      refine pk_le (cy k + wm_L ((wm_fo b_words b) k) - 1) (wm_tm (wm_fo b_words b) cy k) (fun y => ?_) (fun y => ?_)
      · refine nm_r (nI_1 k) ?_
        rw [← wm_tm_t y]
        exact ih (k + 1) z (by omega)
      · refine nm_r (nI_1 k) ?_
        rw [← wm_tm_f (Nat.not_le.mpr y)]
        exact ih (k + 1) z (by omega)
theorem yy_time {post : Int32 → Prop} (L : wm_Len b_words b n) (hcy : ∀ i, i < n → b_cycles i = nI (cy i) ∧ 1 ≤ cy i ∧ cy i ≤ 4 * i + 1) (hp : post (nI (wm_tm (wm_fo b_words b) cy n))) : wpY_time post (g_pc, g_wide, g_many, g_cut, b_registers, b_words, b_counts, b_begins, b_cycles) (nI b) :=
  ⟨n + 1, yy_time_l L hcy hp (n + 1) 0 (by omega) (by omega)⟩
end
end
end
section
/-! the component's plan of a block -/
def wm_XB (O D A B : Nat → Nat) (s n : Nat) (op go lf ri : Nat → Int32) : Prop := ∀ i, i < n → op (8 * s + i) = nI (O i) ∧ go (8 * s + i) = nI (D i) ∧ lf (8 * s + i) = nI (A i) ∧ ri (8 * s + i) = nI (B i)
def wm_XS (O D A B : Nat → Nat) : Prop := ∀ i, O i < 16 ∧ D i < 8 ∧ A i < 8 ∧ B i < 8
def wm_XC (cy : Nat → Nat) (s n : Nat) (ca : Nat → Int32) : Prop := ∀ i, i < n → ca (8 * s + i) = nI (cy i) ∧ 1 ≤ cy i ∧ cy i ≤ 4 * i + 1
def wm_Th (x : Int32) (P : Nat → Prop) : Prop := ∀ c, 1 ≤ c → c < 1000 → (x ≤ nI c ↔ P c)
theorem wm_Th_c {x : Int32} {P Q : Nat → Prop} (h : wm_Th x P) (e : ∀ c, 1 ≤ c → c < 1000 → (P c ↔ Q c)) : wm_Th x Q := fun c h1 h2 => (h c h1 h2).trans (e c h1 h2)
theorem wm_Th_1 {x : Int32} {P : Nat → Prop} {v : Nat} (hv : v < 100) (h : wm_Th x P) (g : nI v ≤ x) : wm_Th x (fun c => P c ∧ v ≤ c) := fun c h1 h2 => by
  refine ⟨fun z => ⟨(h c h1 h2).mp z, ?_⟩, fun z => (h c h1 h2).mpr z.1⟩
  have := Int32.le_trans g z
  rw [nI_leI (by omega) (by omega)] at this
  exact this
theorem wm_Th_2 {x : Int32} {P : Nat → Prop} {v : Nat} (hv : v < 200) (h : wm_Th x P) (g : ¬ nI v ≤ x) : wm_Th (nI v) (fun c => P c ∧ v ≤ c) := fun c h1 h2 => by
  rw [nI_leI (by omega) (by omega)]
  refine ⟨fun z => ⟨(h c h1 h2).mp ?_, z⟩, fun z => z.2⟩
  have a : nI v ≤ nI c := nI_le z (by omega)
  rw [Int32.le_iff_toInt_le] at g a ⊢
  omega
theorem wm_Th_n {x : Int32} {P : Nat → Prop} (h : wm_Th x P) {q : Prop} {v : Nat → Prop} (nq : ¬ q) : wm_Th x (fun c => P c ∧ (q → v c)) := wm_Th_c h (fun c _ _ => ⟨fun z => ⟨z, fun y => absurd y nq⟩, fun z => z.1⟩)
theorem wm_Th_y {x : Int32} {P : Nat → Prop} {q : Prop} {v : Nat → Prop} (yq : q) (h : wm_Th x (fun c => P c ∧ v c)) : wm_Th x (fun c => P c ∧ (q → v c)) := wm_Th_c h (fun c _ _ => ⟨fun z => ⟨z.1, fun _ => z.2⟩, fun z => ⟨z.1, z.2 yq⟩⟩)
theorem xx_ix (s k : Nat) : 8 * nI s + nI k = nI (8 * s + k) := by rw [show (8 : Int32) = nI 8 from rfl, pk_mul, nI_add]
theorem xx_8 (s : Nat) : 8 * nI s = nI (8 * s) := by rw [show (8 : Int32) = nI 8 from rfl, pk_mul]
theorem xx_at {a : Nat → Int32} {s j : Nat} {v : Int32} (hs : s < 5) (hj : j < 8) (h : a (8 * s + j) = v) : a (nI (8 * s + j)).toNatClampNeg = v := by rw [nI_clamp (by omega)]; exact h
theorem xx_in40 {s j : Nat} (hs : s < 5) (hj : j < 8) : vp_in (nI (8 * s + j)) 40 := vp_in_nI (by omega) (by decide)
section
variable {post : Int32 → Prop} {s j k n : Nat} {O D A B cy : Nat → Nat} {x5 : Int32} {P : Nat → Prop}
variable {f_pc f_wide f_logged f_coming f_next f_time f_makingTime f_made f_reused f_started f_done : Int32} {a_registers a_words a_begins a_lengths a_times a_begun a_ops a_goal a_left a_right a_numbers a_cycles a_order a_before a_logAt a_logValue a_arrives a_result a_target : Nat → Int32}
theorem xx_a219 (hs : s < 5) (hj : j < 8) (ho : O k < 16) (hc : a_cycles (8 * s + j) = nI (cy j)) (l : cy j < 50) (hP : wm_Th x5 P) (hp : ∀ r, wm_Th r (fun c => P c ∧ (wm_E (O k) → cy j ≤ c)) → post r) : wX_allowed_219 post (nI (8 * s + j)) (nI (O k)) x5 f_pc f_wide f_logged f_coming f_next f_time f_makingTime f_made f_reused f_started f_done a_registers a_words a_begins a_lengths a_times a_begun a_ops a_goal a_left a_right a_numbers a_cycles a_order a_before a_logAt a_logValue a_arrives a_result a_target := by
  refine xx_ends ho (fun e => br_f (by decide) ?_) (fun e => br_t rfl (hp _ (wm_Th_n hP e)))
  have hc' := xx_at hs hj hc
  refine And.intro (xx_in40 hs hj) ?_
  rw [hc']
  exact br_c (fun z => hp _ (wm_Th_y e (wm_Th_1 (by omega) hP z))) (fun z => And.intro (xx_in40 hs hj) (hp _ (wm_Th_y e (wm_Th_2 (by omega) hP z))))
theorem xx_a189 (hs : s < 5) (hj : j < 8) (ho : O k < 16) (hc : a_cycles (8 * s + j) = nI (cy j)) (l : cy j < 50) {z0 : Int32} {M : Prop} (ez : (z0 = 1 ∧ M) ∨ (z0 = 0 ∧ ¬ M)) (hP : wm_Th x5 P) (hp : ∀ r, wm_Th r (fun c => (P c ∧ (M → cy j < c)) ∧ (wm_E (O k) → cy j ≤ c)) → post r) : wX_allowed_189 post (nI (8 * s + j)) (nI (O k)) x5 z0 f_pc f_wide f_logged f_coming f_next f_time f_makingTime f_made f_reused f_started f_done a_registers a_words a_begins a_lengths a_times a_begun a_ops a_goal a_left a_right a_numbers a_cycles a_order a_before a_logAt a_logValue a_arrives a_result a_target := by
  have hc' := xx_at hs hj hc
  rcases ez with ⟨rfl, m⟩ | ⟨rfl, m⟩
  · refine br_f (by decide) ?_
    refine And.intro (xx_in40 hs hj) ?_
    rw [hc', nI_1]
    refine br_c (fun z => ?_) (fun z => And.intro (xx_in40 hs hj) (nm_e ?_))
    · exact xx_a219 hs hj ho hc l (wm_Th_y m (wm_Th_c (wm_Th_1 (by omega) hP z) (fun c _ _ => Iff.rfl))) hp
    · exact xx_a219 hs hj ho hc l (wm_Th_y m (wm_Th_c (wm_Th_2 (by omega) hP z) (fun c _ _ => Iff.rfl))) hp
  · exact br_t rfl (xx_a219 hs hj ho hc l (wm_Th_n hP m) hp)
theorem xx_a153 (hs : s < 5) (hj : j < 8) (ho : O k < 16) (hq : O j < 16) (hc : a_cycles (8 * s + j) = nI (cy j)) (l : cy j < 50) (hP : wm_Th x5 P) (hp : ∀ r, wm_Th r (fun c => (P c ∧ (wm_MM (O j) (O k) → cy j < c)) ∧ (wm_E (O k) → cy j ≤ c)) → post r) : wX_allowed_153 post (nI (8 * s + j)) (nI (O k)) (nI (O j)) x5 f_pc f_wide f_logged f_coming f_next f_time f_makingTime f_made f_reused f_started f_done a_registers a_words a_begins a_lengths a_times a_begun a_ops a_goal a_left a_right a_numbers a_cycles a_order a_before a_logAt a_logValue a_arrives a_result a_target := by
  have k184 : wm_MM (O j) (O k) → wX_allowed_184 post (nI (8 * s + j)) (nI (O k)) x5 f_pc f_wide f_logged f_coming f_next f_time f_makingTime f_made f_reused f_started f_done a_registers a_words a_begins a_lengths a_times a_begun a_ops a_goal a_left a_right a_numbers a_cycles a_order a_before a_logAt a_logValue a_arrives a_result a_target := fun m => xx_a189 hs hj ho hc l (Or.inl ⟨rfl, m⟩) hP hp
  have k188 : ¬ wm_MM (O j) (O k) → wX_allowed_188 post (nI (8 * s + j)) (nI (O k)) x5 f_pc f_wide f_logged f_coming f_next f_time f_makingTime f_made f_reused f_started f_done a_registers a_words a_begins a_lengths a_times a_begun a_ops a_goal a_left a_right a_numbers a_cycles a_order a_before a_logAt a_logValue a_arrives a_result a_target := fun m => xx_a189 hs hj ho hc l (Or.inr ⟨rfl, m⟩) hP hp
  have k165 : ¬ (O k = 5 ∧ O j = 6) → wX_allowed_165 post (nI (8 * s + j)) (nI (O k)) (nI (O j)) x5 f_pc f_wide f_logged f_coming f_next f_time f_makingTime f_made f_reused f_started f_done a_registers a_words a_begins a_lengths a_times a_begun a_ops a_goal a_left a_right a_numbers a_cycles a_order a_before a_logAt a_logValue a_arrives a_result a_target := fun m =>
    pk_eq (O k) 6 (fun z => pk_eq (O j) 5 (fun y => k184 (by omega)) (fun y => pk_eq (O j) 6 (fun y' => k184 (by omega)) (fun y' => k188 (by omega)))) (fun z => k188 (by omega))
  exact pk_eq (O k) 5 (fun z => pk_eq (O j) 6 (fun y => k184 (by omega)) (fun y => k165 (by omega))) (fun z => k165 (by omega))
theorem xx_a120 (hs : s < 5) (hj : j < 8) (ho : O k < 16) (hq : O j < 16) (hc : a_cycles (8 * s + j) = nI (cy j)) (l : cy j < 50) {z0 : Int32} {R : Prop} (ez : (z0 = 1 ∧ R) ∨ (z0 = 0 ∧ ¬ R)) (hP : wm_Th x5 P) (hp : ∀ r, wm_Th r (fun c => ((P c ∧ (wm_W (O k) ∧ R → cy j ≤ c)) ∧ (wm_MM (O j) (O k) → cy j < c)) ∧ (wm_E (O k) → cy j ≤ c)) → post r) : wX_allowed_120 post (nI (8 * s + j)) (nI (O k)) (nI (O j)) x5 z0 f_pc f_wide f_logged f_coming f_next f_time f_makingTime f_made f_reused f_started f_done a_registers a_words a_begins a_lengths a_times a_begun a_ops a_goal a_left a_right a_numbers a_cycles a_order a_before a_logAt a_logValue a_arrives a_result a_target := by
  have hc' := xx_at hs hj hc
  refine xx_writes ho (fun w => br_f (by decide) ?_) (fun w => br_t rfl (xx_a153 hs hj ho hq hc l (wm_Th_n hP (fun z => w z.1)) hp))
  rcases ez with ⟨rfl, m⟩ | ⟨rfl, m⟩
  · refine br_f (by decide) ?_
    refine And.intro (xx_in40 hs hj) ?_
    rw [hc']
    refine br_c (fun z => ?_) (fun z => And.intro (xx_in40 hs hj) (nm_e ?_))
    · exact xx_a153 hs hj ho hq hc l (wm_Th_y ⟨w, m⟩ (wm_Th_1 (by omega) hP z)) hp
    · exact xx_a153 hs hj ho hq hc l (wm_Th_y ⟨w, m⟩ (wm_Th_2 (by omega) hP z)) hp
  · exact br_t rfl (xx_a153 hs hj ho hq hc l (wm_Th_n hP (fun z => m z.2)) hp)
theorem xx_a69 (hs : s < 5) (hj : j < 8) (hk : k < 8) (ho : O k < 16) (hq : O j < 16) (hd : D k < 8) (ha : A j < 8) (hb : B j < 8) (eg : a_goal (8 * s + k) = nI (D k)) (el : a_left (8 * s + j) = nI (A j)) (er : a_right (8 * s + j) = nI (B j)) (hc : a_cycles (8 * s + j) = nI (cy j)) (l : cy j < 50) (hP : wm_Th x5 P) (hp : ∀ r, wm_Th r (fun c => ((P c ∧ (wm_W (O k) ∧ wm_rd O A B j (D k) → cy j ≤ c)) ∧ (wm_MM (O j) (O k) → cy j < c)) ∧ (wm_E (O k) → cy j ≤ c)) → post r) : wX_allowed_69 post (nI (8 * s + j)) (nI (8 * s + k)) (nI (O k)) (nI (O j)) x5 f_pc f_wide f_logged f_coming f_next f_time f_makingTime f_made f_reused f_started f_done a_registers a_words a_begins a_lengths a_times a_begun a_ops a_goal a_left a_right a_numbers a_cycles a_order a_before a_logAt a_logValue a_arrives a_result a_target := by
  have k115 : wm_rd O A B j (D k) → wX_allowed_115 post (nI (8 * s + j)) (nI (O k)) (nI (O j)) x5 f_pc f_wide f_logged f_coming f_next f_time f_makingTime f_made f_reused f_started f_done a_registers a_words a_begins a_lengths a_times a_begun a_ops a_goal a_left a_right a_numbers a_cycles a_order a_before a_logAt a_logValue a_arrives a_result a_target := fun m => xx_a120 hs hj ho hq hc l (Or.inl ⟨rfl, m⟩) hP hp
  have k119 : ¬ wm_rd O A B j (D k) → wX_allowed_119 post (nI (8 * s + j)) (nI (O k)) (nI (O j)) x5 f_pc f_wide f_logged f_coming f_next f_time f_makingTime f_made f_reused f_started f_done a_registers a_words a_begins a_lengths a_times a_begun a_ops a_goal a_left a_right a_numbers a_cycles a_order a_before a_logAt a_logValue a_arrives a_result a_target := fun m => xx_a120 hs hj ho hq hc l (Or.inr ⟨rfl, m⟩) hP hp
  have k92 : ¬ (wm_R1 (O j) ∧ A j = D k) → wX_allowed_92 post (nI (8 * s + j)) (nI (8 * s + k)) (nI (O k)) (nI (O j)) x5 f_pc f_wide f_logged f_coming f_next f_time f_makingTime f_made f_reused f_started f_done a_registers a_words a_begins a_lengths a_times a_begun a_ops a_goal a_left a_right a_numbers a_cycles a_order a_before a_logAt a_logValue a_arrives a_result a_target := fun m => by
    refine xx_readsTwo hq (fun e => br_f (by decide) ?_) (fun e => br_t rfl (k119 (fun z => z.elim m (fun z' => e z'.1))))
    refine And.intro (xx_in40 hs hj) (And.intro (xx_in40 hs hk) ?_)
    exact pk_eq (B j) (D k) (fun z => k115 (Or.inr ⟨e, z⟩)) (fun z => k119 (fun y => y.elim m (fun y' => z y'.2))) (xx_at hs hj er) (xx_at hs hk eg)
  refine xx_readsOne hq (fun e => br_f (by decide) ?_) (fun e => br_t rfl (k92 (fun z => e z.1)))
  refine And.intro (xx_in40 hs hj) (And.intro (xx_in40 hs hk) ?_)
  exact pk_eq (A j) (D k) (fun z => k115 (Or.inl ⟨e, z⟩)) (fun z => k92 (fun y => z y.2)) (xx_at hs hj el) (xx_at hs hk eg)
theorem xx_allowed (hs : s < 5) (hj : j < k) (hk : k < 8) (kn : k < n) (hS : wm_XS O D A B) (hB : wm_XB O D A B s n a_ops a_goal a_left a_right) (hc : a_cycles (8 * s + j) = nI (cy j)) (l : cy j < 50) (hp : ∀ r, wm_Th r (fun c => wm_ask O D A B cy j k c) → post r) : wpX_allowed post (f_pc, f_wide, f_logged, f_coming, f_next, f_time, f_makingTime, f_made, f_reused, f_started, f_done, a_registers, a_words, a_begins, a_lengths, a_times, a_begun, a_ops, a_goal, a_left, a_right, a_numbers, a_cycles, a_order, a_before, a_logAt, a_logValue, a_arrives, a_result, a_target) (nI (8 * s + j)) (nI (8 * s + k)) := by
  have j8 : j < 8 := by omega
  obtain ⟨bo, bd, ba, bb⟩ := hB j (by omega)
  obtain ⟨co, cd, ca, cb⟩ := hB k kn
  obtain ⟨so, sd, sa, sb⟩ := hS j
  obtain ⟨uo, ud, ua, ub⟩ := hS k
  have k69 : ∀ x5 : Int32, wm_Th x5 (fun c => wm_W (O k) → wm_W (O j) → D j = D k → cy j + wm_L (O j) < c + wm_L (O k)) → wX_allowed_69 post (nI (8 * s + j)) (nI (8 * s + k)) (nI (O k)) (nI (O j)) x5 f_pc f_wide f_logged f_coming f_next f_time f_makingTime f_made f_reused f_started f_done a_registers a_words a_begins a_lengths a_times a_begun a_ops a_goal a_left a_right a_numbers a_cycles a_order a_before a_logAt a_logValue a_arrives a_result a_target := fun x5 h =>
    xx_a69 hs j8 hk uo so ud sa sb cd ba bb hc l h (fun r hr => hp r (wm_Th_c hr (fun c _ _ => ⟨fun z => ⟨z.1.1.1, fun p q => z.1.1.2 ⟨p, q⟩, z.1.2, z.2⟩, fun z => ⟨⟨⟨z.1, fun p => z.2.1 p.1 p.2⟩, z.2.2.1⟩, z.2.2.2⟩⟩)))
  have t1 : ¬ (wm_W (O k) ∧ wm_W (O j) ∧ D j = D k) → wm_Th 1 (fun c => wm_W (O k) → wm_W (O j) → D j = D k → cy j + wm_L (O j) < c + wm_L (O k)) := fun m c h1 h2 => ⟨fun _ p q e => absurd ⟨p, q, e⟩ m, fun _ => nI_le (a := 1) h1 (by omega)⟩
  refine And.intro (xx_in40 hs hk) (nm_r (xx_at hs hk co) ?_)
  refine And.intro (xx_in40 hs j8) (nm_r (xx_at hs j8 bo) ?_)
  refine xx_writes uo (fun w => br_f (by decide) ?_) (fun w => br_t rfl (k69 1 (t1 (fun z => w z.1))))
  refine xx_writes so (fun w' => br_f (by decide) ?_) (fun w' => br_t rfl (k69 1 (t1 (fun z => w' z.2.1))))
  refine And.intro (xx_in40 hs j8) (And.intro (xx_in40 hs hk) ?_)
  refine pk_eq (D j) (D k) (fun e => ?_) (fun e => k69 1 (t1 (fun z => e z.2.2))) (xx_at hs j8 bd) (xx_at hs hk cd)
  refine And.intro (xx_in40 hs j8) ?_
  refine xx_latency so ?_
  refine xx_latency uo ?_
  refine nm_e (k69 _ (fun c h1 h2 => ?_))
  have m1 := wm_L_le (O j)
  have m2 := wm_L_le (O k)
  have m3 := wm_L_pos (O j)
  rw [xx_at hs j8 hc, nI_add, Int32.le_iff_toInt_le, nI_toInt (by omega)]
  have e1 : (nI (cy j + wm_L (O j)) - nI (wm_L (O k)) + 1).toInt = (cy j + wm_L (O j) : Int) - wm_L (O k) + 1 := by
    rw [Int32.toInt_add, pk_sub_toInt (by omega) (by omega), show (1 : Int32).toInt = 1 from by decide]
    rw [Int.bmod_eq_of_le (by omega) (by omega)]
    omega
  rw [e1]
  exact ⟨fun z _ _ _ => by omega, fun z => by have := z w w' e; omega⟩
end
end
section
def wm_FS (O cy : Nat → Nat) (s k : Nat) (x : Int32) (v : Nat) : Prop := (x = -1 ∧ v = 0) ∨ ∃ f, f < k ∧ x = nI (8 * s + f) ∧ v = cy f + wm_L (O f)
def wm_v1 (O D A cy : Nat → Nat) (k j : Nat) : Nat := if wm_R1 (O k) then wm_rdy O D cy (A k) j else 0
def wm_v2 (O D B cy : Nat → Nat) (k j : Nat) : Nat := if wm_R2 (O k) then wm_rdy O D cy (B k) j else 0
theorem wm_v1_t {O D A cy : Nat → Nat} {k j : Nat} (h : wm_R1 (O k)) (h' : wm_wr O D j (A k)) : wm_v1 O D A cy k (j + 1) = cy j + wm_L (O j) := by
  unfold wm_v1; rw [if_pos h, wm_rdy_t h']
theorem wm_v1_f {O D A cy : Nat → Nat} {k j : Nat} (h : ¬ (wm_R1 (O k) ∧ wm_wr O D j (A k))) : wm_v1 O D A cy k (j + 1) = wm_v1 O D A cy k j := by
  unfold wm_v1
  by_cases z : wm_R1 (O k)
  · rw [if_pos z, if_pos z, wm_rdy_f (fun y => h ⟨z, y⟩)]
  · rw [if_neg z, if_neg z]
theorem wm_v2_t {O D B cy : Nat → Nat} {k j : Nat} (h : wm_R2 (O k)) (h' : wm_wr O D j (B k)) : wm_v2 O D B cy k (j + 1) = cy j + wm_L (O j) := by
  unfold wm_v2; rw [if_pos h, wm_rdy_t h']
theorem wm_v2_f {O D B cy : Nat → Nat} {k j : Nat} (h : ¬ (wm_R2 (O k) ∧ wm_wr O D j (B k))) : wm_v2 O D B cy k (j + 1) = wm_v2 O D B cy k j := by
  unfold wm_v2
  by_cases z : wm_R2 (O k)
  · rw [if_pos z, if_pos z, wm_rdy_f (fun y => h ⟨z, y⟩)]
  · rw [if_neg z, if_neg z]
section
variable {s j k n w : Nat} {O D A B cy : Nat → Nat}
variable {f_pc f_wide f_logged f_coming f_next f_time f_makingTime f_made f_reused f_started f_done : Int32} {a_registers a_words a_begins a_lengths a_times a_begun a_ops a_goal a_left a_right a_numbers a_cycles a_order a_before a_logAt a_logValue a_arrives a_result a_target : Nat → Int32}
theorem xx_after {post : Int32 → Prop} {x : Int32} {v c0 : Nat} (hs : s < 5) (hk : k < 8) (kn : k ≤ n) (hS : wm_XS O D A B) (hB : wm_XB O D A B s n a_ops a_goal a_left a_right) (hC : wm_XC cy s k a_cycles) (hc0 : c0 < 1000) (hF : wm_FS O cy s k x v) (hp : ∀ e, (∀ c, e ≤ c ↔ c0 ≤ c ∧ v ≤ c) → post (nI e)) : wpX_after post (f_pc, f_wide, f_logged, f_coming, f_next, f_time, f_makingTime, f_made, f_reused, f_started, f_done, a_registers, a_words, a_begins, a_lengths, a_times, a_begun, a_ops, a_goal, a_left, a_right, a_numbers, a_cycles, a_order, a_before, a_logAt, a_logValue, a_arrives, a_result, a_target) (nI c0) x := by
  rcases hF with ⟨rfl, rfl⟩ | ⟨f, hf, rfl, rfl⟩
  · exact br_f (by decide) (hp c0 (fun c => by omega))
  · have f8 : f < 8 := by omega
    obtain ⟨c1, c2, c3⟩ := hC f hf
    have m := wm_L_le (O f)
    refine br_t (nI_pos' (by omega)) ?_
    refine And.intro (xx_in40 hs f8) (And.intro (xx_in40 hs f8) ?_)
    rw [xx_at hs f8 (hB f (by omega)).1]
    refine xx_latency (hS f).1 ?_
    refine nm_r (e' := nI (cy f + wm_L (O f))) (by rw [xx_at hs f8 c1, nI_add]) ?_
    exact pk_le (cy f + wm_L (O f)) c0 (fun z => hp c0 (fun c => by omega)) (fun z => hp _ (fun c => by omega))
section
variable {post : Int32 → Prop} {J : Int32 → Int32 → Int32 → Int32 → Prop} {x5 x6 x7 : Int32}
theorem xx_e100 (hs : s < 5) (hj : j < k) (hk : k < 8) (kn : k < n) (hS : wm_XS O D A B) (hB : wm_XB O D A B s n a_ops a_goal a_left a_right) (wj : wm_W (O j)) (h7 : wm_FS O cy s k x7 (wm_v2 O D B cy k j)) (hJ : ∀ x7, wm_FS O cy s k x7 (wm_v2 O D B cy k (j + 1)) → J x5 x6 x7 (nI (8 * s + (j + 1)))) : wX_earliest_100 post J (nI (8 * s + k)) (nI (O k)) x5 x6 x7 (nI (8 * s + j)) f_pc f_wide f_logged f_coming f_next f_time f_makingTime f_made f_reused f_started f_done a_registers a_words a_begins a_lengths a_times a_begun a_ops a_goal a_left a_right a_numbers a_cycles a_order a_before a_logAt a_logValue a_arrives a_result a_target := by
  have j8 : j < 8 := by omega
  refine xx_readsTwo (hS k).1 (fun e => br_f (by decide) ?_) (fun e => br_t rfl (nm_r (nI_1 _) (hJ x7 (by rw [wm_v2_f (fun z => e z.1)]; exact h7))))
  refine And.intro (xx_in40 hs j8) (And.intro (xx_in40 hs hk) ?_)
  have d8 := (hS j).2.1
  have b8 := (hS k).2.2.2
  refine pk_eq (D j) (B k) (fun z => nm_r (nI_1 _) (hJ _ (Or.inr ⟨j, hj, rfl, ?_⟩))) (fun z => nm_r (nI_1 _) (hJ x7 ?_)) (xx_at hs j8 (hB j (by omega)).2.1) (xx_at hs hk (hB k kn).2.2.2)
  · exact wm_v2_t e ⟨wj, z⟩
  · rw [wm_v2_f (fun y => z y.2.2)]; exact h7
theorem xx_e56 (hs : s < 5) (hj : j < k) (hk : k < 8) (kn : k < n) (hS : wm_XS O D A B) (hB : wm_XB O D A B s n a_ops a_goal a_left a_right) (h6 : wm_FS O cy s k x6 (wm_v1 O D A cy k j)) (h7 : wm_FS O cy s k x7 (wm_v2 O D B cy k j)) (hJ : ∀ x6 x7, wm_FS O cy s k x6 (wm_v1 O D A cy k (j + 1)) → wm_FS O cy s k x7 (wm_v2 O D B cy k (j + 1)) → J x5 x6 x7 (nI (8 * s + (j + 1)))) : wX_earliest_56 post J (nI (8 * s + k)) (nI (O k)) x5 x6 x7 (nI (8 * s + j)) f_pc f_wide f_logged f_coming f_next f_time f_makingTime f_made f_reused f_started f_done a_registers a_words a_begins a_lengths a_times a_begun a_ops a_goal a_left a_right a_numbers a_cycles a_order a_before a_logAt a_logValue a_arrives a_result a_target := by
  have j8 : j < 8 := by omega
  refine And.intro (xx_in40 hs j8) ?_
  rw [xx_at hs j8 (hB j (by omega)).1]
  refine xx_writes (hS j).1 (fun wj => br_f (by decide) ?_) (fun wj => br_t rfl (nm_r (nI_1 _) (hJ x6 x7 (by rw [wm_v1_f (fun z => wj z.2.1)]; exact h6) (by rw [wm_v2_f (fun z => wj z.2.1)]; exact h7))))
  refine xx_readsOne (hS k).1 (fun e => br_f (by decide) ?_) (fun e => br_t rfl (xx_e100 hs hj hk kn hS hB wj h7 (fun x7 h => hJ x6 x7 (by rw [wm_v1_f (fun z => e z.1)]; exact h6) h)))
  refine And.intro (xx_in40 hs j8) (And.intro (xx_in40 hs hk) ?_)
  have d8 := (hS j).2.1
  have a8 := (hS k).2.2.1
  refine pk_eq (D j) (A k) (fun z => ?_) (fun z => ?_) (xx_at hs j8 (hB j (by omega)).2.1) (xx_at hs hk (hB k kn).2.2.1)
  · exact xx_e100 hs hj hk kn hS hB wj h7 (fun x7 h => hJ _ x7 (Or.inr ⟨j, hj, rfl, wm_v1_t e ⟨wj, z⟩⟩) h)
  · exact xx_e100 hs hj hk kn hS hB wj h7 (fun x7 h => hJ x6 x7 (by rw [wm_v1_f (fun y => z y.2.2)]; exact h6) h)
theorem wm_ask_200 {c : Nat} (l : cy j < 50) (h : 200 ≤ c) : wm_ask O D A B cy j k c := by
  have m1 := wm_L_le (O j)
  have m2 := wm_L_pos (O k)
  exact ⟨fun _ _ _ => by omega, fun _ _ => by omega, fun _ => by omega, fun _ => by omega⟩
theorem xx_e30 (hs : s < 5) (hk : k < 8) (kn : k < n) (hS : wm_XS O D A B) (hB : wm_XB O D A B s n a_ops a_goal a_left a_right) (hC : wm_XC cy s k a_cycles) (hp : ∀ e, 1 ≤ e → e < 1000 → (∀ c, 1 ≤ c → c < 1000 → (e ≤ c ↔ wm_Lo O D A B cy k c)) → post (nI e)) :
    ∀ f j c0 x6 x7, j ≤ k → k < j + f → 1 ≤ c0 → c0 ≤ 200 → (∀ c, 1 ≤ c → c < 1000 → (c0 ≤ c ↔ ∀ i, i < j → wm_ask O D A B cy i k c)) → wm_FS O cy s k x6 (wm_v1 O D A cy k j) → wm_FS O cy s k x7 (wm_v2 O D B cy k j) →
    wX_earliest_30 post (nI (8 * s + k)) (nI (O k)) f_pc f_wide f_logged f_coming f_next f_time f_makingTime f_made f_reused f_started f_done a_registers a_words a_begins a_lengths a_times a_begun a_ops a_goal a_left a_right a_numbers a_cycles a_order a_before a_logAt a_logValue a_arrives a_result a_target f (nI c0) x6 x7 (nI (8 * s + j)) := by
  intro f
  induction f with
  | zero => intro j c0 x6 x7 h1 h2; omega
  | succ f ih =>
    intro j c0 x6 x7 h1 h2 q1 q2 h3 h6 h7
    refine pk_le (8 * s + k) (8 * s + j) (fun z => ?_) (fun z => ?_)
    · have : j = k := by omega
      subst this
      have cl : ∀ i, i < j → cy i < 50 := fun i hi => by have := (hC i hi).2.2; omega
      have vb : ∀ (x : Int32) (v : Nat), wm_FS O cy s j x v → v < 200 := by
        rintro x v (⟨_, rfl⟩ | ⟨g, hg, _, rfl⟩)
        · omega
        · have := cl g hg
          have := wm_L_le (O g)
          omega
      have b6 := vb _ _ h6
      have b7 := vb _ _ h7
      refine xx_after hs hk (by omega) hS hB hC (by omega) h6 (fun e he => ?_)
      have e1 := (he 300).mpr ⟨by omega, by omega⟩
      refine xx_after hs hk (by omega) hS hB hC (by omega) h7 (fun e' he' => ?_)
      have e2 := (he' 400).mpr ⟨by omega, by omega⟩
      have e3 := (he e).mp (Nat.le_refl _)
      have e4 := (he' e').mp (Nat.le_refl _)
      refine hp e' (by omega) (by omega) (fun c c1 c2 => ?_)
      rw [he', he, h3 c c1 c2]
      unfold wm_v1 wm_v2
      constructor
      · rintro ⟨⟨p, q⟩, t⟩
        refine ⟨p, fun r hr => ?_⟩
        rcases hr with ⟨r1, rfl⟩ | ⟨r1, rfl⟩
        · rw [if_pos r1] at q; exact q
        · rw [if_pos r1] at t; exact t
      · rintro ⟨p, q⟩
        refine ⟨⟨p, ?_⟩, ?_⟩
        · by_cases r1 : wm_R1 (O j)
          · rw [if_pos r1]; exact q _ (Or.inl ⟨r1, rfl⟩)
          · rw [if_neg r1]; omega
        · by_cases r1 : wm_R2 (O j)
          · rw [if_pos r1]; exact q _ (Or.inr ⟨r1, rfl⟩)
          · rw [if_neg r1]; omega
    · have jk : j < k := by omega
      have cj := hC j jk
      refine xx_allowed hs jk hk kn hS hB cj.1 (by omega) (fun r hr => ?_)
      have r200 : r ≤ nI 200 := (hr 200 (by omega) (by omega)).mpr (wm_ask_200 (by omega) (by omega))
      refine br_c (fun y => ?_) (fun y => ?_)
      · refine xx_e56 hs jk hk kn hS hB h6 h7 (fun x6' x7' g6 g7 => ih (j + 1) c0 x6' x7' jk (by omega) q1 q2 (fun c c1 c2 => ?_) g6 g7)
        rw [h3 c c1 c2]
        refine ⟨fun p => lt_s p ((hr c c1 c2).mp ?_), fun p i hi => p i (by omega)⟩
        exact Int32.le_trans y (nI_le ((h3 c c1 c2).mpr p) (by omega))
      · have r0 : ¬ r < 0 := by
          have p1 := nI_pos' (n := c0) (by omega)
          rw [Int32.le_iff_toInt_le] at y p1
          rw [Int32.lt_iff_toInt_lt]
          omega
        obtain ⟨c1, l1, rfl⟩ := nI_of r0
        rw [nI_leI l1 (by omega)] at y r200
        refine xx_e56 hs jk hk kn hS hB h6 h7 (fun x6' x7' g6 g7 => ih (j + 1) c1 x6' x7' jk (by omega) (by omega) r200 (fun c d1 d2 => ?_) g6 g7)
        have g := hr c d1 d2
        rw [nI_leI l1 (by omega)] at g
        refine ⟨fun p => lt_s ((h3 c d1 d2).mp (by omega)) (g.mp p), fun p => g.mpr (p j (by omega))⟩
theorem xx_earliest (hs : s < 5) (hk : k < 8) (kn : k < n) (hS : wm_XS O D A B) (hB : wm_XB O D A B s n a_ops a_goal a_left a_right) (hC : wm_XC cy s k a_cycles) (hp : ∀ e, 1 ≤ e → e < 1000 → (∀ c, 1 ≤ c → c < 1000 → (e ≤ c ↔ wm_Lo O D A B cy k c)) → post (nI e)) : wpX_earliest post (f_pc, f_wide, f_logged, f_coming, f_next, f_time, f_makingTime, f_made, f_reused, f_started, f_done, a_registers, a_words, a_begins, a_lengths, a_times, a_begun, a_ops, a_goal, a_left, a_right, a_numbers, a_cycles, a_order, a_before, a_logAt, a_logValue, a_arrives, a_result, a_target) (nI s) (nI k) := by
  refine nm_r (xx_ix s k) ?_
  refine And.intro (xx_in40 hs hk) ?_
  refine nm_r (xx_at hs hk (hB k kn).1) ?_
  refine nm_r (xx_8 s) ?_
  refine ⟨k + 1, ?_⟩
  have v1 : wm_v1 O D A cy k 0 = 0 := by unfold wm_v1; split <;> rfl
  have v2 : wm_v2 O D B cy k 0 = 0 := by unfold wm_v2; split <;> rfl
  exact xx_e30 hs hk kn hS hB hC hp (k + 1) 0 1 (-1) (-1) (by omega) (by omega) (by omega) (by omega) (fun c c1 c2 => ⟨fun _ i hi => by omega, fun _ => c1⟩) (Or.inl ⟨rfl, v1⟩) (Or.inl ⟨rfl, v2⟩)
end
/-! whether a cycle has no room -/
section
variable {post : Int32 → Prop} {c : Nat}
theorem xx_f130 {m2 : Nat} {R : Prop} (l2 : m2 ≤ 8) (ho : O k < 16) (hR : R ↔ (wm_S (O k) → m2 = 0)) (h0 : R → post 0) (h1 : ¬ R → post 1) : wX_full_130 post (nI m2) (nI (O k)) f_pc f_wide f_logged f_coming f_next f_time f_makingTime f_made f_reused f_started f_done a_registers a_words a_begins a_lengths a_times a_begun a_ops a_goal a_left a_right a_numbers a_cycles a_order a_before a_logAt a_logValue a_arrives a_result a_target :=
  pk_le m2 0 (fun z => h0 (hR.mpr (fun _ => by omega))) (fun z => pk_eq (O k) 3 (fun y => h1 (fun q => by have := hR.mp q (Or.inl y); omega)) (fun y => pk_eq (O k) 13 (fun y' => h1 (fun q => by have := hR.mp q (Or.inr y'); omega)) (fun y' => h0 (hR.mpr (fun q => by omega)))))
theorem xx_f28 (hs : s < 5) (hk : k < 8) (kn : k < n) (hS : wm_XS O D A B) (hB : wm_XB O D A B s n a_ops a_goal a_left a_right) (hC : wm_XC cy s k a_cycles) (hw : f_wide = nI w) (w4 : w ≤ 4) (hcw : wm_cnt cy c k ≤ w) (c5 : c < 1000) (h0 : wm_Room O cy w k c → post 0) (h1 : ¬ wm_Room O cy w k c → post 1) :
    ∀ f j m1 m2, j ≤ k → k < j + f → wm_cnt cy c j ≤ j → m1 ≤ j → m2 ≤ j → (m1 = 0 ↔ ∀ i, i < j → cy i = c → ¬ wm_M (O i)) → (m2 = 0 ↔ ∀ i, i < j → cy i = c → ¬ wm_S (O i)) →
    wX_full_28 post (nI s) (nI k) (nI c) (nI (O k)) f_pc f_wide f_logged f_coming f_next f_time f_makingTime f_made f_reused f_started f_done a_registers a_words a_begins a_lengths a_times a_begun a_ops a_goal a_left a_right a_numbers a_cycles a_order a_before a_logAt a_logValue a_arrives a_result a_target f (nI (wm_cnt cy c j)) (nI m1) (nI m2) (nI (8 * s + j)) := by
  intro f
  induction f with
  | zero => intro j m1 m2 g1 g2; omega
  | succ f ih =>
    intro j m1 m2 g1 g2 g3 g4 g5 e1 e2
    refine pk_le (8 * s + k) (8 * s + j) (fun z => ?_) (fun z => ?_) (xx_ix s k)
    · have : j = k := by omega
      subst this
      have ho := (hS j).1
      refine pk_eq (wm_cnt cy c j) w (fun y => h1 (fun q => by have := q.1; omega)) (fun y => ?_) rfl hw
      have k130 : (wm_M (O j) → m1 = 0) → wX_full_130 post (nI m2) (nI (O j)) f_pc f_wide f_logged f_coming f_next f_time f_makingTime f_made f_reused f_started f_done a_registers a_words a_begins a_lengths a_times a_begun a_ops a_goal a_left a_right a_numbers a_cycles a_order a_before a_logAt a_logValue a_arrives a_result a_target := fun hm => by
        refine xx_f130 (R := wm_Room O cy w j c) (by omega) ho ⟨fun q p => e2.mpr (fun i hi e => (q.2 i hi e).2 p), fun q => ⟨by omega, fun i hi e => ⟨fun p => e1.mp (hm p) i hi e, fun p => e2.mp (q p) i hi e⟩⟩⟩ h0 h1
      refine pk_le m1 0 (fun y' => k130 (fun _ => by omega)) (fun y' => ?_)
      exact pk_eq (O j) 5 (fun x => h1 (fun q => absurd (e1.mpr (fun i hi e => (q.2 i hi e).1 (Or.inl x))) (by omega))) (fun x => pk_eq (O j) 6 (fun x' => h1 (fun q => absurd (e1.mpr (fun i hi e => (q.2 i hi e).1 (Or.inr x'))) (by omega))) (fun x' => k130 (fun q => by omega)))
    · have jk : j < k := by omega
      have j8 : j < 8 := by omega
      have cj := hC j jk
      have ho := (hS j).1
      refine And.intro (xx_in40 hs j8) ?_
      refine pk_eq (cy j) c (fun y => ?_) (fun y => ?_) (xx_at hs j8 cj.1)
      · refine nm_r (nI_1 _) ?_
        rw [← wm_cnt_t y]
        refine And.intro (xx_in40 hs j8) ?_
        refine nm_r (xx_at hs j8 (hB j (by omega)).1) ?_
        have g3' : wm_cnt cy c (j + 1) ≤ j + 1 := by rw [wm_cnt_t y]; omega
        have k81 : ∀ m1', m1' ≤ j + 1 → (m1' = 0 ↔ ∀ i, i < j + 1 → cy i = c → ¬ wm_M (O i)) → wX_full_81 post (wX_full_28 post (nI s) (nI k) (nI c) (nI (O k)) f_pc f_wide f_logged f_coming f_next f_time f_makingTime f_made f_reused f_started f_done a_registers a_words a_begins a_lengths a_times a_begun a_ops a_goal a_left a_right a_numbers a_cycles a_order a_before a_logAt a_logValue a_arrives a_result a_target f) (nI s) (nI k) (nI c) (nI (wm_cnt cy c (j + 1))) (nI m1') (nI m2) (nI (O k)) (nI (8 * s + j)) (nI (O j)) f_pc f_wide f_logged f_coming f_next f_time f_makingTime f_made f_reused f_started f_done a_registers a_words a_begins a_lengths a_times a_begun a_ops a_goal a_left a_right a_numbers a_cycles a_order a_before a_logAt a_logValue a_arrives a_result a_target := fun m1' l1 e1' => by
          have yes : wm_S (O j) → wX_full_28 post (nI s) (nI k) (nI c) (nI (O k)) f_pc f_wide f_logged f_coming f_next f_time f_makingTime f_made f_reused f_started f_done a_registers a_words a_begins a_lengths a_times a_begun a_ops a_goal a_left a_right a_numbers a_cycles a_order a_before a_logAt a_logValue a_arrives a_result a_target f (nI (wm_cnt cy c (j + 1))) (nI m1') (nI (m2 + 1)) (nI (8 * s + (j + 1))) := fun sj => ih (j + 1) m1' (m2 + 1) jk (by omega) g3' l1 (by omega) e1' ⟨fun q => by omega, fun q => absurd sj (q j (by omega) y)⟩
          refine pk_eq (O j) 3 (fun x => nm_r (nI_1 _) (nm_r (nI_1 _) (yes (Or.inl x)))) (fun x => pk_eq (O j) 13 (fun x' => nm_r (nI_1 _) (nm_r (nI_1 _) (yes (Or.inr x')))) (fun x' => nm_r (nI_1 _) (ih (j + 1) m1' m2 jk (by omega) g3' l1 (by omega) e1' ?_)))
          exact ⟨fun q => lt_s (e2.mp q) (fun _ z => z.elim x x'), fun q => e2.mpr (fun i hi => q i (by omega))⟩
        have k78 : wm_M (O j) → wX_full_78 post (wX_full_28 post (nI s) (nI k) (nI c) (nI (O k)) f_pc f_wide f_logged f_coming f_next f_time f_makingTime f_made f_reused f_started f_done a_registers a_words a_begins a_lengths a_times a_begun a_ops a_goal a_left a_right a_numbers a_cycles a_order a_before a_logAt a_logValue a_arrives a_result a_target f) (nI s) (nI k) (nI c) (nI (wm_cnt cy c (j + 1))) (nI m1) (nI m2) (nI (O k)) (nI (8 * s + j)) (nI (O j)) f_pc f_wide f_logged f_coming f_next f_time f_makingTime f_made f_reused f_started f_done a_registers a_words a_begins a_lengths a_times a_begun a_ops a_goal a_left a_right a_numbers a_cycles a_order a_before a_logAt a_logValue a_arrives a_result a_target := fun mj => nm_r (nI_1 _) (k81 (m1 + 1) (by omega) ⟨fun q => by omega, fun q => absurd mj (q j (by omega) y)⟩)
        exact pk_eq (O j) 5 (fun x => k78 (Or.inl x)) (fun x => pk_eq (O j) 6 (fun x' => k78 (Or.inr x')) (fun x' => k81 m1 (by omega) ⟨fun q => lt_s (e1.mp q) (fun _ z => z.elim x x'), fun q => e1.mpr (fun i hi => q i (by omega))⟩))
      · refine nm_r (nI_1 _) ?_
        rw [← wm_cnt_f y]
        exact ih (j + 1) m1 m2 jk (by omega) (by rw [wm_cnt_f y]; omega) (by omega) (by omega) ⟨fun q => lt_s (e1.mp q) (fun z => absurd z y), fun q => e1.mpr (fun i hi => q i (by omega))⟩ ⟨fun q => lt_s (e2.mp q) (fun z => absurd z y), fun q => e2.mpr (fun i hi => q i (by omega))⟩
theorem xx_full (hs : s < 5) (hk : k < 8) (kn : k < n) (hS : wm_XS O D A B) (hB : wm_XB O D A B s n a_ops a_goal a_left a_right) (hC : wm_XC cy s k a_cycles) (hw : f_wide = nI w) (w4 : w ≤ 4) (hcw : wm_cnt cy c k ≤ w) (c5 : c < 1000) (h0 : wm_Room O cy w k c → post 0) (h1 : ¬ wm_Room O cy w k c → post 1) : wpX_full post (f_pc, f_wide, f_logged, f_coming, f_next, f_time, f_makingTime, f_made, f_reused, f_started, f_done, a_registers, a_words, a_begins, a_lengths, a_times, a_begun, a_ops, a_goal, a_left, a_right, a_numbers, a_cycles, a_order, a_before, a_logAt, a_logValue, a_arrives, a_result, a_target) (nI s) (nI k) (nI c) := by
  unfold wpX_full
  rw [xx_ix]
  refine And.intro (xx_in40 hs hk) ?_
  refine nm_r (xx_at hs hk (hB k kn).1) ?_
  refine nm_r (xx_8 s) ?_
  exact ⟨k + 1, xx_f28 hs hk kn hS hB hC hw w4 hcw c5 h0 h1 (k + 1) 0 0 0 (by omega) (by omega) (by show (0 : Nat) ≤ 0; omega) (by omega) (by omega) ⟨fun _ i hi => by omega, fun _ => rfl⟩ ⟨fun _ i hi => by omega, fun _ => rfl⟩⟩
end
end
end
section
section
variable {s b k n w : Nat} {O D A B cy : Nat → Nat}
variable {f_pc f_wide f_logged f_coming f_next f_time f_makingTime f_made f_reused f_started f_done : Int32} {a_registers a_words a_begins a_lengths a_times a_begun a_ops a_goal a_left a_right a_numbers a_cycles a_order a_before a_logAt a_logValue a_arrives a_result a_target : Nat → Int32}
theorem xx_p20 {post : SX → Prop} {J : Int32 → Int32 → (Nat → Int32) → (Nat → Int32) → (Nat → Int32) → (Nat → Int32) → (Nat → Int32) → (Nat → Int32) → (Nat → Int32) → (Nat → Int32) → (Nat → Int32) → (Nat → Int32) → (Nat → Int32) → (Nat → Int32) → (Nat → Int32) → (Nat → Int32) → (Nat → Int32) → (Nat → Int32) → (Nat → Int32) → (Nat → Int32) → (Nat → Int32) → Prop} {x2 : Int32} {e : Nat} (hs : s < 5) (hk : k < 8) (kn : k < n) (hS : wm_XS O D A B) (hB : wm_XB O D A B s n a_ops a_goal a_left a_right) (hC : wm_XC cy s k a_cycles) (hw : f_wide = nI w) (w1 : 1 ≤ w) (w4 : w ≤ 4) (hSch : wm_Sch O D A B w n cy) (he : ∀ c, 1 ≤ c → c < 1000 → (e ≤ c ↔ wm_Lo O D A B cy k c)) (e1 : 1 ≤ e)
    (hJ : J (nI (wm_tm O cy (k + 1))) (nI (k + 1)) a_registers a_words a_begins a_lengths a_times a_begun a_ops a_goal a_left a_right a_numbers (upd a_cycles (8 * s + k) (nI (cy k))) a_order a_before a_logAt a_logValue a_arrives a_result a_target) : ∀ f c, e ≤ c → c ≤ cy k → cy k < c + f → wX_plan_20 post J (nI s) x2 (nI (wm_tm O cy k)) (nI k) f_pc f_wide f_logged f_coming f_next f_time f_makingTime f_made f_reused f_started f_done a_registers a_words a_begins a_lengths a_times a_begun a_ops a_goal a_left a_right a_numbers a_cycles a_order a_before a_logAt a_logValue a_arrives a_result a_target f (nI c) := by
  have lk := wm_Sch_le w1 hSch k kn
  obtain ⟨k1, k2, k3⟩ := hSch k kn
  intro f
  induction f with
  | zero => intro c h1 h2 h3; omega
  | succ f ih =>
    intro c h1 h2 h3
    have lo : wm_Lo O D A B cy k c := (he c (by omega) (by omega)).mp h1
    refine xx_full hs hk kn hS hB hC hw w4 (wm_Sch_cnt hSch c k (by omega)) (by omega) (fun R => br_t rfl ?_) (fun R => br_f (by decide) ?_)
    · have : c = cy k := by
        rcases Nat.eq_or_lt_of_le h2 with z | z
        · exact z
        · exact absurd ⟨lo, R⟩ (k3 c (by omega) z)
      subst this
      have t := wm_tm_le (O := O) (cy := cy) k (fun i hi => (hC i hi).2.2)
      have m := wm_L_le (O k)
      have mp := wm_L_pos (O k)
      rw [xx_ix]
      refine And.intro (xx_in40 hs hk) (nm_r (e' := upd a_cycles (8 * s + k) (nI (cy k))) (by rw [nI_clamp (by omega), wm_nbb (by omega)]) (And.intro (xx_in40 hs hk) ?_))
      rw [xx_at hs hk (hB k kn).1]
      refine xx_latency (hS k).1 ?_
      refine nm_r (e' := nI (cy k + wm_L (O k) - 1)) (by rw [nI_add]; exact pk_sub (b := 1) (by omega)) ?_
      refine pk_le (cy k + wm_L (O k) - 1) (wm_tm O cy k) (fun y => nm_r (nI_1 k) ?_) (fun y => nm_r (nI_1 k) ?_)
      · rw [← wm_tm_t y]; exact hJ
      · rw [← wm_tm_f (Nat.not_le.mpr y)]; exact hJ
    · have : c < cy k := by
        rcases Nat.eq_or_lt_of_le h2 with z | z
        · subst z; exact absurd k2.2 R
        · exact z
      exact nm_r (nI_1 c) (ih (c + 1) (by omega) this (by omega))
theorem xx_p5 {post : SX → Prop} (hs : s < 5) (n8 : n ≤ 8) (hS : wm_XS O D A B) (hB : wm_XB O D A B s n a_ops a_goal a_left a_right) (hw : f_wide = nI w) (w1 : 1 ≤ w) (w4 : w ≤ 4) (hSch : wm_Sch O D A B w n cy)
    (hp : ∃ n100, wX_plan_100 post (nI s) (nI n) f_pc f_wide f_logged f_coming f_next f_time f_makingTime f_made f_reused f_started f_done n100 0 a_registers a_words a_begins a_lengths (upd a_times s (nI (wm_tm O cy n))) a_begun a_ops a_goal a_left a_right a_numbers (wm_put (8 * s) n (fun i => nI (cy i)) a_cycles) a_order a_before a_logAt a_logValue a_arrives a_result a_target) : ∀ f k, k ≤ n → n < k + f → wX_plan_5 post (nI s) (nI n) f_pc f_wide f_logged f_coming f_next f_time f_makingTime f_made f_reused f_started f_done f (nI (wm_tm O cy k)) (nI k) a_registers a_words a_begins a_lengths a_times a_begun a_ops a_goal a_left a_right a_numbers (wm_put (8 * s) k (fun i => nI (cy i)) a_cycles) a_order a_before a_logAt a_logValue a_arrives a_result a_target := by
  intro f
  induction f with
  | zero => intro k h1 h2; omega
  | succ f ih =>
    intro k h1 h2
    refine pk_le n k (fun z => ?_) (fun z => ?_)
    · have : k = n := by omega
      subst this
      refine And.intro (vp_in_nI hs (by decide)) (nm_r (e' := upd a_times s (nI (wm_tm O cy k))) (by rw [nI_clamp (by omega)]) hp)
    · have hC : wm_XC cy s k (wm_put (8 * s) k (fun i => nI (cy i)) a_cycles) := fun i hi => ⟨wm_put_i hi, (hSch i (by omega)).1, wm_Sch_le w1 hSch i (by omega)⟩
      refine xx_earliest hs (by omega) z hS hB hC (fun e e1 e2 he => ?_)
      have lk := wm_Sch_le w1 hSch k z
      have ek : e ≤ cy k := (he (cy k) (hSch k z).1 (by omega)).mpr (hSch k z).2.1.1
      refine ⟨cy k, xx_p20 hs (by omega) z hS hB hC hw w1 w4 hSch he e1 ?_ (cy k) e (Nat.le_refl _) ek (by omega)⟩
      rw [wm_put_s (8 * s) k (fun i => nI (cy i)) a_cycles]
      exact ih (k + 1) z (by omega)
/-! the order -/
theorem xx_p115 {post : SX → Prop} {J : Int32 → (Nat → Int32) → (Nat → Int32) → (Nat → Int32) → (Nat → Int32) → (Nat → Int32) → (Nat → Int32) → (Nat → Int32) → (Nat → Int32) → (Nat → Int32) → (Nat → Int32) → (Nat → Int32) → (Nat → Int32) → (Nat → Int32) → (Nat → Int32) → (Nat → Int32) → (Nat → Int32) → (Nat → Int32) → (Nat → Int32) → (Nat → Int32) → Prop} {x2 : Int32} {i m : Nat} {π π' : Nat → Nat} (hs : s < 5) (n8 : n ≤ 8) (hi : i < n) (hC : wm_XC cy s n a_cycles) (hm : m ≤ i) (hπ : ∀ q, q < i → π q < i) (lo : ∀ q, q < m → cy (π q) ≤ cy i) (up : ∀ q, m ≤ q → q < i → cy i < cy (π q)) (e1 : ∀ q, q < m → π' q = π q) (e2 : π' m = i) (e3 : ∀ q, m ≤ q → q < i → π' (q + 1) = π q)
    (hJ : J (nI (i + 1)) a_registers a_words a_begins a_lengths a_times a_begun a_ops a_goal a_left a_right a_numbers a_cycles (wm_put (8 * s) (i + 1) (fun q => nI (π' q)) a_order) a_before a_logAt a_logValue a_arrives a_result a_target) : ∀ f h (od : Nat → Int32), m ≤ h → h ≤ i → h < m + f → (∀ q, q < h → od (8 * s + q) = nI (π q)) → (∀ q, h ≤ q → q < i → od (8 * s + q + 1) = nI (π q)) → (∀ j, j < 8 * s ∨ 8 * s + i < j → od j = a_order j) → wX_plan_115 post J (nI s) x2 (nI i) f_pc f_wide f_logged f_coming f_next f_time f_makingTime f_made f_reused f_started f_done f (nI (8 * s + h)) a_registers a_words a_begins a_lengths a_times a_begun a_ops a_goal a_left a_right a_numbers a_cycles od a_before a_logAt a_logValue a_arrives a_result a_target := by
  intro f
  induction f with
  | zero => intro h od h1 h2 h3; omega
  | succ f ih =>
    intro h od h1 h2 h3 H1 H2 H3
    have ci := hC i hi
    have i8 : i < 8 := by omega
    have k180 : h = m → wX_plan_180 post J (nI s) x2 (nI i) (nI (8 * s + h)) f_pc f_wide f_logged f_coming f_next f_time f_makingTime f_made f_reused f_started f_done a_registers a_words a_begins a_lengths a_times a_begun a_ops a_goal a_left a_right a_numbers a_cycles od a_before a_logAt a_logValue a_arrives a_result a_target := fun e => by
      subst e
      refine And.intro (xx_in40 hs (by omega)) (nm_r (e' := wm_put (8 * s) (i + 1) (fun q => nI (π' q)) a_order) ?_ (nm_r (nI_1 i) hJ))
      rw [nI_clamp (by omega), wm_nbb (by omega)]
      funext j
      by_cases z : j = 8 * s + h
      · subst z; rw [pk_us, wm_put_i (by omega), e2]
      · rw [pk_un z]
        by_cases y : j < 8 * s ∨ 8 * s + i < j
        · rw [H3 j y, wm_put_o (by omega)]
        · by_cases x : j < 8 * s + h
          · obtain ⟨q, rfl⟩ : ∃ q, j = 8 * s + q := ⟨j - 8 * s, by omega⟩
            rw [H1 q (by omega), wm_put_i (by omega), e1 q (by omega)]
          · obtain ⟨q, rfl⟩ : ∃ q, j = 8 * s + q + 1 := ⟨j - 8 * s - 1, by omega⟩
            rw [H2 q (by omega) (by omega), show 8 * s + q + 1 = 8 * s + (q + 1) from rfl, wm_put_i (by omega), e3 q (by omega) (by omega)]
    refine pk_le (8 * s + h) (8 * s) (fun z => k180 (by omega)) (fun z => ?_) rfl (xx_8 s)
    obtain ⟨g, rfl⟩ : ∃ g, h = g + 1 := ⟨h - 1, by omega⟩
    have em : nI (8 * s + (g + 1)) - 1 = nI (8 * s + g) := pk_sub (a := 8 * s + (g + 1)) (b := 1) (by omega)
    have g8 : g < 8 := by omega
    have og := xx_at hs g8 (H1 g (by omega))
    have pg := hπ g (by omega)
    have cg := hC (π g) (by omega)
    rw [em, og, xx_ix, xx_ix]
    refine And.intro (xx_in40 hs g8) (And.intro (xx_in40 hs (by omega)) (And.intro (xx_in40 hs i8) ?_))
    refine pk_le (cy (π g)) (cy i) (fun y => k180 ?_) (fun y => ?_) (xx_at hs (by omega) cg.1) (xx_at hs i8 ci.1)
    · rcases Nat.eq_or_lt_of_le h1 with x | x
      · exact x.symm
      · have := up g (by omega) (by omega); omega
    · have gm : m ≤ g := by
        rcases Nat.lt_or_ge g m with x | x
        · have := lo g x; omega
        · exact x
      refine And.intro (xx_in40 hs g8) (And.intro (xx_in40 hs (by omega)) (nm_r (e' := upd od (8 * s + (g + 1)) (nI (π g))) (by rw [nI_clamp (by omega), wm_nb (by omega)]) ?_))
      refine nm_r (pk_m1 (8 * s + g)) ?_
      refine ih g _ gm (by omega) (by omega) (fun q hq => ?_) (fun q h4 h5 => ?_) (fun j hj => ?_)
      · rw [pk_un (by omega)]; exact H1 q (by omega)
      · by_cases x : q = g
        · subst x; exact pk_us
        · rw [pk_un (by omega)]; exact H2 q (by omega) h5
      · rw [pk_un (by omega)]; exact H3 j hj
theorem wm_ins {i : Nat} {π : Nat → Nat} (hO : wm_Ord cy i π) : ∃ m π', m ≤ i ∧ (∀ q, q < m → cy (π q) ≤ cy i) ∧ (∀ q, m ≤ q → q < i → cy i < cy (π q)) ∧ (∀ q, q < m → π' q = π q) ∧ π' m = i ∧ (∀ q, m ≤ q → q < i → π' (q + 1) = π q) ∧ wm_Ord cy (i + 1) π' := by
  obtain ⟨m, h1, h2⟩ := pk_least (fun m => ∀ q, m ≤ q → q < i → cy i < cy (π q)) ⟨i, fun q a b => by omega⟩
  have mi : m ≤ i := by
    rcases Nat.lt_or_ge i m with z | z
    · exact absurd (fun q a b => by omega) (h2 i z)
    · exact z
  have lo : ∀ q, q < m → cy (π q) ≤ cy i := by
    intro q hq
    rcases Nat.lt_or_ge (cy i) (cy (π q)) with z | z
    · refine absurd (fun p a b => ?_) (h2 q hq)
      rcases Nat.eq_or_lt_of_le a with y | y
      · subst y; exact z
      · have := hO.2.1 q p y b; omega
    · exact z
  have e1 : ∀ q, q < m → (fun q => if q < m then π q else if q = m then i else π (q - 1)) q = π q := fun q hq => if_pos hq
  have e2 : (fun q => if q < m then π q else if q = m then i else π (q - 1)) m = i := by
    show (if m < m then π m else if m = m then i else π (m - 1)) = i
    rw [if_neg (by omega), if_pos rfl]
  have e3 : ∀ q, m ≤ q → q < i → (fun q => if q < m then π q else if q = m then i else π (q - 1)) (q + 1) = π q := fun q a b => by
    show (if q + 1 < m then π (q + 1) else if q + 1 = m then i else π (q + 1 - 1)) = π q
    rw [if_neg (by omega), if_neg (by omega), Nat.add_sub_cancel]
  exact ⟨m, _, mi, lo, h1, e1, e2, e3, wm_Ord_ins hO m mi lo h1 e1 e2 e3⟩
theorem xx_p100 (hs : s < 5) (n8 : n ≤ 8) (hC : wm_XC cy s n a_cycles) : ∀ d i (π : Nat → Nat), i + d = n → wm_Ord cy i π → ∃ π', wm_Ord cy n π' ∧ ∀ (post : SX → Prop), post (f_pc, f_wide, f_logged, f_coming, f_next, f_time, f_makingTime, f_made, f_reused, f_started, f_done, a_registers, a_words, a_begins, a_lengths, a_times, a_begun, a_ops, a_goal, a_left, a_right, a_numbers, a_cycles, (wm_put (8 * s) n (fun q => nI (π' q)) a_order), a_before, a_logAt, a_logValue, a_arrives, a_result, a_target) → ∀ f, d < f → wX_plan_100 post (nI s) (nI n) f_pc f_wide f_logged f_coming f_next f_time f_makingTime f_made f_reused f_started f_done f (nI i) a_registers a_words a_begins a_lengths a_times a_begun a_ops a_goal a_left a_right a_numbers a_cycles (wm_put (8 * s) i (fun q => nI (π q)) a_order) a_before a_logAt a_logValue a_arrives a_result a_target := by
  intro d
  induction d with
  | zero =>
    intro i π hi hO
    have : i = n := by omega
    subst this
    refine ⟨π, hO, fun post hp f hf => ?_⟩
    obtain ⟨f, rfl⟩ : ∃ g, f = g + 1 := ⟨f - 1, by omega⟩
    exact pk_le i i (fun _ => hp) (fun z => by omega)
  | succ d ih =>
    intro i π hi hO
    obtain ⟨m, π1, mi, lo, up, e1, e2, e3, hO1⟩ := wm_ins hO
    obtain ⟨π2, h2, h3⟩ := ih (i + 1) π1 (by omega) hO1
    refine ⟨π2, h2, fun post hp f hf => ?_⟩
    obtain ⟨f, rfl⟩ : ∃ g, f = g + 1 := ⟨f - 1, by omega⟩
    refine pk_le n i (fun z => by omega) (fun z => ?_)
    refine nm_r (xx_ix s i) ?_
    refine ⟨i + 1, ?_⟩
    have K := h3 post hp f (by omega)
    refine xx_p115 (a_order := wm_put (8 * s) i (fun q => nI (π q)) a_order) (π' := π1) hs n8 z hC mi hO.1 lo up e1 e2 e3 ?_ (i + 1) i _ mi (Nat.le_refl _) (by omega) (fun q hq => wm_put_i hq) (fun q a b => by omega) (fun j _ => rfl)
    have e : wm_put (8 * s) (i + 1) (fun q => nI (π1 q)) (wm_put (8 * s) i (fun q => nI (π q)) a_order) = wm_put (8 * s) (i + 1) (fun q => nI (π1 q)) a_order := by
      funext j
      by_cases y : 8 * s ≤ j ∧ j < 8 * s + (i + 1)
      · obtain ⟨q, rfl⟩ : ∃ q, j = 8 * s + q := ⟨j - 8 * s, by omega⟩
        rw [wm_put_i (by omega), wm_put_i (by omega)]
      · rw [wm_put_o (by omega), wm_put_o (by omega), wm_put_o (by omega)]
    rw [e]
    exact K
theorem xx_plan (hs : s < 5) (n8 : n ≤ 8) (hS : wm_XS O D A B) (hB : wm_XB O D A B s n a_ops a_goal a_left a_right) (hw : f_wide = nI w) (w1 : 1 ≤ w) (w4 : w ≤ 4) (hSch : wm_Sch O D A B w n cy) : ∃ π, wm_Ord cy n π ∧ ∀ (post : SX → Prop), post (f_pc, f_wide, f_logged, f_coming, f_next, f_time, f_makingTime, f_made, f_reused, f_started, f_done, a_registers, a_words, a_begins, a_lengths, (upd a_times s (nI (wm_tm O cy n))), a_begun, a_ops, a_goal, a_left, a_right, a_numbers, (wm_put (8 * s) n (fun i => nI (cy i)) a_cycles), (wm_put (8 * s) n (fun q => nI (π q)) a_order), a_before, a_logAt, a_logValue, a_arrives, a_result, a_target) → wpX_plan post (f_pc, f_wide, f_logged, f_coming, f_next, f_time, f_makingTime, f_made, f_reused, f_started, f_done, a_registers, a_words, a_begins, a_lengths, a_times, a_begun, a_ops, a_goal, a_left, a_right, a_numbers, a_cycles, a_order, a_before, a_logAt, a_logValue, a_arrives, a_result, a_target) (nI s) (nI n) := by
  have hC : wm_XC cy s n (wm_put (8 * s) n (fun i => nI (cy i)) a_cycles) := fun i hi => ⟨wm_put_i hi, (hSch i hi).1, wm_Sch_le w1 hSch i hi⟩
  obtain ⟨π, h1, h2⟩ := xx_p100 (a_order := a_order) hs n8 hC n 0 (fun _ => 0) (by omega) (wm_Ord_0 cy _)
  refine ⟨π, h1, fun post hp => ?_⟩
  have K := h2 post hp (n + 1) (by omega)
  rw [wm_put_0] at K
  have K2 := xx_p5 (a_cycles := a_cycles) (a_times := a_times) hs n8 hS hB hw w1 w4 hSch ⟨n + 1, K⟩ (n + 1) 0 (by omega) (by omega)
  rw [wm_put_0] at K2
  exact ⟨n + 1, K2⟩
end
/-! a block is taken apart -/
section
variable {s b n w : Nat} {cy : Nat → Nat}
variable {f_pc f_wide f_logged f_coming f_next f_time f_makingTime f_made f_reused f_started f_done : Int32} {a_registers a_words a_begins a_lengths a_times a_begun a_ops a_goal a_left a_right a_numbers a_cycles a_order a_before a_logAt a_logValue a_arrives a_result a_target : Nat → Int32}
theorem xx_m13 {post : SX → Prop} (hs : s < 5) (L : wm_Len a_words b n) (hp : wpX_plan post (f_pc, f_wide, f_logged, f_coming, f_next, f_time, f_makingTime, f_made, f_reused, f_started, f_done, a_registers, a_words, a_begins, (upd a_lengths s (nI n)), a_times, a_begun, (wm_put (8 * s) n (fun q => nI ((wm_fo a_words b) q)) a_ops), (wm_put (8 * s) n (fun q => nI (wm_fd a_words b q)) a_goal), (wm_put (8 * s) n (fun q => nI (wm_fa a_words b q)) a_left), (wm_put (8 * s) n (fun q => nI (wm_fb a_words b q)) a_right), (wm_put (8 * s) n (wm_fn a_words b) a_numbers), a_cycles, a_order, a_before, a_logAt, a_logValue, a_arrives, a_result, a_target) (nI s) (nI n)) : ∀ f i, i < n → n + 1 < i + f → wX_make_13 post (nI s) (nI b) f_pc f_wide f_logged f_coming f_next f_time f_makingTime f_made f_reused f_started f_done f (nI i) 1 a_registers a_words a_begins a_lengths a_times a_begun (wm_put (8 * s) i (fun q => nI ((wm_fo a_words b) q)) a_ops) (wm_put (8 * s) i (fun q => nI (wm_fd a_words b q)) a_goal) (wm_put (8 * s) i (fun q => nI (wm_fa a_words b q)) a_left) (wm_put (8 * s) i (fun q => nI (wm_fb a_words b q)) a_right) (wm_put (8 * s) i (wm_fn a_words b) a_numbers) a_cycles a_order a_before a_logAt a_logValue a_arrives a_result a_target := by
  obtain ⟨a1, a2, a3, a4, a5⟩ := L
  have fin : ∀ f, 0 < f → wX_make_13 post (nI s) (nI b) f_pc f_wide f_logged f_coming f_next f_time f_makingTime f_made f_reused f_started f_done f (nI n) 0 a_registers a_words a_begins a_lengths a_times a_begun (wm_put (8 * s) n (fun q => nI ((wm_fo a_words b) q)) a_ops) (wm_put (8 * s) n (fun q => nI (wm_fd a_words b q)) a_goal) (wm_put (8 * s) n (fun q => nI (wm_fa a_words b q)) a_left) (wm_put (8 * s) n (fun q => nI (wm_fb a_words b q)) a_right) (wm_put (8 * s) n (wm_fn a_words b) a_numbers) a_cycles a_order a_before a_logAt a_logValue a_arrives a_result a_target := fun f hf => by
    obtain ⟨f, rfl⟩ : ∃ g, f = g + 1 := ⟨f - 1, by omega⟩
    refine br_t rfl ?_
    refine And.intro (vp_in_nI hs (by decide)) (nm_r (e' := upd a_lengths s (nI n)) (by rw [nI_clamp (by omega), wm_nbb (by omega)]) ?_)
    exact hp
  intro f
  induction f with
  | zero => intro i h1 h2; omega
  | succ f ih =>
    intro i h1 h2
    have i8 : i < 8 := by omega
    refine br_f (by decide) ?_
    refine And.intro (pk_in (b + i) 64 (by omega) (nI_add b i)) ?_
    refine nm_r (e' := a_words (b + i)) (by rw [nI_add, nI_clamp (by omega)]) ?_
    refine nm_r (xx_ix s i) ?_
    refine And.intro (xx_in40 hs i8) (nm_r (e' := wm_put (8 * s) (i + 1) (fun q => nI ((wm_fo a_words b) q)) a_ops) ?_ ?_)
    · have := wm_ol (a_words (b + i))
      rw [nI_clamp (by omega), wm_oe, wm_nbb (by omega)]
      exact wm_put_s (8 * s) i (fun q => nI ((wm_fo a_words b) q)) a_ops
    refine And.intro (xx_in40 hs i8) (nm_r (e' := wm_put (8 * s) (i + 1) (fun q => nI (wm_fd a_words b q)) a_goal) ?_ ?_)
    · have := wm_dl (a_words (b + i))
      rw [nI_clamp (by omega), wm_de, wm_nbb (by omega)]
      exact wm_put_s (8 * s) i (fun q => nI (wm_fd a_words b q)) a_goal
    refine And.intro (xx_in40 hs i8) (nm_r (e' := wm_put (8 * s) (i + 1) (fun q => nI (wm_fa a_words b q)) a_left) ?_ ?_)
    · have := wm_al (a_words (b + i))
      rw [nI_clamp (by omega), wm_ae, wm_nbb (by omega)]
      exact wm_put_s (8 * s) i (fun q => nI (wm_fa a_words b q)) a_left
    refine And.intro (xx_in40 hs i8) (nm_r (e' := wm_put (8 * s) (i + 1) (fun q => nI (wm_fb a_words b q)) a_right) ?_ ?_)
    · have := wm_bl (a_words (b + i))
      rw [nI_clamp (by omega), wm_be, wm_nbb (by omega)]
      exact wm_put_s (8 * s) i (fun q => nI (wm_fb a_words b q)) a_right
    refine And.intro (xx_in40 hs i8) (nm_r (e' := wm_put (8 * s) (i + 1) (wm_fn a_words b) a_numbers) ?_ ?_)
    · rw [nI_clamp (by omega)]
      exact wm_put_s (8 * s) i (wm_fn a_words b) a_numbers
    refine nm_r (nI_1 i) ?_
    refine And.intro (xx_in40 hs i8) ?_
    rw [xx_at hs i8 (wm_put_i (f := fun q => nI ((wm_fo a_words b) q)) (a := a_ops) (show i < i + 1 by omega))]
    have last : i + 1 = n → wX_make_13 post (nI s) (nI b) f_pc f_wide f_logged f_coming f_next f_time f_makingTime f_made f_reused f_started f_done f (nI (i + 1)) 0 a_registers a_words a_begins a_lengths a_times a_begun (wm_put (8 * s) (i + 1) (fun q => nI ((wm_fo a_words b) q)) a_ops) (wm_put (8 * s) (i + 1) (fun q => nI (wm_fd a_words b q)) a_goal) (wm_put (8 * s) (i + 1) (fun q => nI (wm_fa a_words b q)) a_left) (wm_put (8 * s) (i + 1) (fun q => nI (wm_fb a_words b q)) a_right) (wm_put (8 * s) (i + 1) (wm_fn a_words b) a_numbers) a_cycles a_order a_before a_logAt a_logValue a_arrives a_result a_target := fun e => by subst e; exact fin f (by omega)
    refine xx_ends (wm_ol _) (fun E => br_f (by decide) (last ?_)) (fun E => br_t rfl ?_)
    · rcases Nat.eq_or_lt_of_le (show i + 1 ≤ n from h1) with e | e
      · exact e
      · exact absurd E (a4 i e)
    · have en : i + 1 = n → n = 8 ∨ b + n = 64 := fun e => by
        rcases a5 with a | a | a
        · exact Or.inl a
        · exact Or.inr a
        · exact absurd (by rw [← e] at a; exact a) E
      refine pk_le 8 (i + 1) (fun z => last (by omega)) (fun z => ?_)
      refine pk_le 64 (b + (i + 1)) (fun y => last (by omega)) (fun y => ?_) rfl (nI_add _ _)
      exact ih (i + 1) (by rcases Nat.eq_or_lt_of_le (show i + 1 ≤ n from h1) with e | e; have := en e; omega; exact e) (by omega)
theorem xx_make (hs : s < 5) (hw : f_wide = nI w) (w1 : 1 ≤ w) (w4 : w ≤ 4) (L : wm_Len a_words b n) (hSch : wm_Sch (wm_fo a_words b) (wm_fd a_words b) (wm_fa a_words b) (wm_fb a_words b) w n cy) : ∃ π, wm_Ord cy n π ∧ ∀ (post : SX → Prop), post (f_pc, f_wide, f_logged, f_coming, f_next, f_time, f_makingTime, f_made, f_reused, f_started, f_done, a_registers, a_words, (upd a_begins s (nI b)), (upd a_lengths s (nI n)), (upd a_times s (nI (wm_tm (wm_fo a_words b) cy n))), a_begun, (wm_put (8 * s) n (fun q => nI ((wm_fo a_words b) q)) a_ops), (wm_put (8 * s) n (fun q => nI (wm_fd a_words b q)) a_goal), (wm_put (8 * s) n (fun q => nI (wm_fa a_words b q)) a_left), (wm_put (8 * s) n (fun q => nI (wm_fb a_words b q)) a_right), (wm_put (8 * s) n (wm_fn a_words b) a_numbers), (wm_put (8 * s) n (fun i => nI (cy i)) a_cycles), (wm_put (8 * s) n (fun q => nI (π q)) a_order), a_before, a_logAt, a_logValue, a_arrives, a_result, a_target) → wpX_make post (f_pc, f_wide, f_logged, f_coming, f_next, f_time, f_makingTime, f_made, f_reused, f_started, f_done, a_registers, a_words, a_begins, a_lengths, a_times, a_begun, a_ops, a_goal, a_left, a_right, a_numbers, a_cycles, a_order, a_before, a_logAt, a_logValue, a_arrives, a_result, a_target) (nI s) (nI b) := by
  have hS : wm_XS (wm_fo a_words b) (wm_fd a_words b) (wm_fa a_words b) (wm_fb a_words b) := fun i => ⟨wm_ol _, wm_dl _, wm_al _, wm_bl _⟩
  have hB : wm_XB (wm_fo a_words b) (wm_fd a_words b) (wm_fa a_words b) (wm_fb a_words b) s n (wm_put (8 * s) n (fun q => nI ((wm_fo a_words b) q)) a_ops) (wm_put (8 * s) n (fun q => nI (wm_fd a_words b q)) a_goal) (wm_put (8 * s) n (fun q => nI (wm_fa a_words b q)) a_left) (wm_put (8 * s) n (fun q => nI (wm_fb a_words b q)) a_right) := fun i hi => ⟨wm_put_i hi, wm_put_i hi, wm_put_i hi, wm_put_i hi⟩
  obtain ⟨π, h1, h2⟩ := xx_plan (f_pc := f_pc) (f_wide := f_wide) (f_logged := f_logged) (f_coming := f_coming) (f_next := f_next) (f_time := f_time) (f_makingTime := f_makingTime) (f_made := f_made) (f_reused := f_reused) (f_started := f_started) (f_done := f_done) (a_registers := a_registers) (a_words := a_words) (a_begins := upd a_begins s (nI b)) (a_lengths := upd a_lengths s (nI n)) (a_times := a_times) (a_begun := a_begun) (a_numbers := wm_put (8 * s) n (wm_fn a_words b) a_numbers) (a_cycles := a_cycles) (a_order := a_order) (a_before := a_before) (a_logAt := a_logAt) (a_logValue := a_logValue) (a_arrives := a_arrives) (a_result := a_result) (a_target := a_target) hs L.2.1 hS hB hw w1 w4 hSch
  refine ⟨π, h1, fun post hp => ?_⟩
  have b64 : b < 64 := by have := L.1; have := L.2.2.1; omega
  refine And.intro (vp_in_nI hs (by decide)) (nm_r (e' := upd a_begins s (nI b)) (by rw [nI_clamp (by omega), wm_nbb (by omega)]) ?_)
  have K := xx_m13 (a_begins := upd a_begins s (nI b)) (a_lengths := a_lengths) (a_ops := a_ops) (a_goal := a_goal) (a_left := a_left) (a_right := a_right) (a_numbers := a_numbers) (post := post) hs L (h2 post hp) (n + 2) 0 L.1 (by omega)
  rw [wm_put_0, wm_put_0, wm_put_0, wm_put_0, wm_put_0] at K
  exact ⟨n + 2, K⟩
end
end
section
/-! what is kept: a list of slots, the one begun last first -/
def wm_YL (bg : Nat → Nat) (L : List Nat) (be : Nat → Int32) : Prop := ∀ k s, L[k]? = some s → be k = nI (bg s)
def wm_KX (L : List Nat) (bg bu : Nat → Nat) (st : Nat) (be bn : Nat → Int32) : Prop :=
  (∀ s, s ∈ L → s < 4 ∧ bg s < 64 ∧ be s = nI (bg s) ∧ bn s = nI (bu s) ∧ bu s ≤ st) ∧ (∀ s, s < 4 → ¬ s ∈ L → be s = -1) ∧ L.Pairwise (fun s t => bu t < bu s) ∧ (∀ s t, s ∈ L → t ∈ L → bg s = bg t → s = t)
def wm_ct (L : List Nat) : Nat → Nat
  | 0 => 0
  | m + 1 => wm_ct L m + if m ∈ L then 1 else 0
theorem wm_ct_t {L : List Nat} {m : Nat} (h : m ∈ L) : wm_ct L (m + 1) = wm_ct L m + 1 := by rw [wm_ct, if_pos h]
theorem wm_ct_f {L : List Nat} {m : Nat} (h : ¬ m ∈ L) : wm_ct L (m + 1) = wm_ct L m := by rw [wm_ct, if_neg h, Nat.add_zero]
theorem wm_ct_le (L : List Nat) (m : Nat) : wm_ct L m ≤ m := by
  induction m with
  | zero => exact Nat.le_refl _
  | succ m ih =>
    by_cases h : m ∈ L
    · rw [wm_ct_t h]; omega
    · rw [wm_ct_f h]; omega
theorem wm_ct_cons {a : Nat} {L : List Nat} (h : ¬ a ∈ L) (m : Nat) : wm_ct (a :: L) m = wm_ct L m + if a < m then 1 else 0 := by
  induction m with
  | zero => rfl
  | succ m ih =>
    by_cases e : m = a
    · subst e
      rw [wm_ct_t (List.mem_cons_self), ih, wm_ct_f h, if_neg (by omega), if_pos (by omega)]
    · by_cases z : m ∈ L
      · rw [wm_ct_t (List.mem_cons_of_mem _ z), wm_ct_t z, ih]
        by_cases y : a < m
        · rw [if_pos y, if_pos (by omega)]
        · rw [if_neg y, if_neg (by omega)]
      · rw [wm_ct_f (fun q => (List.mem_cons.mp q).elim e z), wm_ct_f z, ih]
        by_cases y : a < m
        · rw [if_pos y, if_pos (by omega)]
        · rw [if_neg y, if_neg (by omega)]
theorem wm_ct_len {bu : Nat → Nat} : ∀ {L : List Nat}, L.Pairwise (fun s t => bu t < bu s) → (∀ s, s ∈ L → s < 4) → wm_ct L 4 = L.length := by
  intro L
  induction L with
  | nil => intro _ _; rfl
  | cons a L ih =>
    intro h h4
    obtain ⟨h1, h2⟩ := List.pairwise_cons.mp h
    rw [wm_ct_cons (fun z => by have := h1 a z; omega), ih h2 (fun s hs => h4 s (List.mem_cons_of_mem _ hs)), if_pos (h4 a List.mem_cons_self), List.length_cons]
theorem wm_ct_all {L : List Nat} : ∀ m, (∀ t, t < m → t ∈ L) → wm_ct L m = m := by
  intro m
  induction m with
  | zero => intro _; rfl
  | succ m ih => intro h; rw [wm_ct_t (h m (by omega)), ih (fun t ht => h t (by omega))]
theorem wm_ct_not {L : List Nat} {s : Nat} (hs : ¬ s ∈ L) : ∀ m, s < m → wm_ct L m < m := by
  intro m
  induction m with
  | zero => intro h; omega
  | succ m ih =>
    intro h
    by_cases e : m = s
    · subst e; rw [wm_ct_f hs]; have := wm_ct_le L m; omega
    · by_cases z : m ∈ L
      · rw [wm_ct_t z]; have := ih (by omega); omega
      · rw [wm_ct_f z]; have := wm_ct_le L m; omega
section
variable {L : List Nat} {bg bu : Nat → Nat} {st : Nat} {be bn : Nat → Int32}
theorem wm_KX_len (h : wm_KX L bg bu st be bn) : wm_ct L 4 = L.length := wm_ct_len h.2.2.1 (fun s hs => (h.1 s hs).1)
theorem wm_KX_le (h : wm_KX L bg bu st be bn) : L.length ≤ 4 := by rw [← wm_KX_len h]; exact wm_ct_le L 4
/-- whether a slot is kept, as the code asks -/
theorem wm_KX_neg (h : wm_KX L bg bu st be bn) {s : Nat} (hs : s < 4) : be s < 0 ↔ ¬ s ∈ L := by
  constructor
  · intro z m
    have := h.1 s m
    rw [this.2.2.1] at z
    exact nI_pos (by omega) z
  · intro z
    rw [h.2.1 s hs z]
    decide
theorem wm_KX_eq (h : wm_KX L bg bu st be bn) {s a : Nat} (hs : s < 4) (ha : a < 64) : be s = nI a ↔ s ∈ L ∧ bg s = a := by
  by_cases m : s ∈ L
  · have := h.1 s m
    rw [this.2.2.1, nI_eq (by omega) (by omega)]
    exact ⟨fun z => ⟨m, z⟩, fun z => z.2⟩
  · rw [h.2.1 s hs m]
    exact ⟨fun z => absurd z (wm_m1ne' a (by omega)), fun z => absurd z.1 m⟩
theorem wm_KX_nil {be : Nat → Int32} (h : ∀ s, s < 4 → be s = -1) : wm_KX [] bg bu st be bn := ⟨fun s hs => (nomatch hs), fun s hs _ => h s hs, List.Pairwise.nil, fun s t hs => (nomatch hs)⟩
def wm_hit (bg ln : Nat → Nat) (a s : Nat) : Bool := decide (bg s ≤ a ∧ a < bg s + ln s)
def wm_tc (L : List Nat) (bg ln : Nat → Nat) (a m : Nat) (be : Nat → Int32) : Nat → Int32 := fun j => if j < m ∧ j ∈ L ∧ wm_hit bg ln a j = true then -1 else be j
theorem wm_tc_t {ln : Nat → Nat} {a m j : Nat} (h : j < m ∧ j ∈ L ∧ wm_hit bg ln a j = true) : wm_tc L bg ln a m be j = -1 := if_pos h
theorem wm_tc_f {ln : Nat → Nat} {a m j : Nat} (h : ¬ (j < m ∧ j ∈ L ∧ wm_hit bg ln a j = true)) : wm_tc L bg ln a m be j = be j := if_neg h
theorem wm_KX_tc (h : wm_KX L bg bu st be bn) (ln : Nat → Nat) (a : Nat) : wm_KX (L.filter (fun s => !wm_hit bg ln a s)) bg bu st (wm_tc L bg ln a 4 be) bn := by
  have hf : ∀ s, s ∈ L.filter (fun s => !wm_hit bg ln a s) ↔ s ∈ L ∧ ¬ wm_hit bg ln a s = true := fun s => by
    rw [List.mem_filter]
    cases wm_hit bg ln a s <;> simp
  refine ⟨fun s hs => ?_, fun s hs m => ?_, h.2.2.1.filter _, fun s t hs ht => h.2.2.2 s t ((hf s).mp hs).1 ((hf t).mp ht).1⟩
  · obtain ⟨m, z⟩ := (hf s).mp hs
    obtain ⟨p1, p2, p3, p4, p5⟩ := h.1 s m
    exact ⟨p1, p2, by rw [wm_tc_f (fun q => z q.2.2)]; exact p3, p4, p5⟩
  · by_cases q : s ∈ L ∧ wm_hit bg ln a s = true
    · exact wm_tc_t ⟨hs, q⟩
    · rw [wm_tc_f (fun y => q y.2)]
      refine h.2.1 s hs (fun y => m ((hf s).mpr ⟨y, fun x => q ⟨y, x⟩⟩))
/-- a slot is begun -/
theorem wm_KX_beg {L1 : List Nat} {s b : Nat} (h : wm_KX L bg bu st be bn) (hs : s < 4) (hb : b < 64) (h1 : ∀ t, t ∈ L1 → t ∈ L ∧ t ≠ s) (h2 : ∀ t, t ∈ L → t ≠ s → t ∈ L1) (h3 : List.Pairwise (fun s t => bu t < bu s) L1) (h4 : ∀ t, t ∈ L1 → bg t ≠ b) :
    wm_KX (s :: L1) (fun t => if t = s then b else bg t) (fun t => if t = s then st + 1 else bu t) (st + 1) (upd be s (nI b)) (upd bn s (nI (st + 1))) := by
  have e1 : ∀ t, t ∈ L1 → (if t = s then b else bg t) = bg t := fun t ht => if_neg (h1 t ht).2
  have e2 : ∀ t, t ∈ L1 → (if t = s then st + 1 else bu t) = bu t := fun t ht => if_neg (h1 t ht).2
  refine ⟨fun t ht => ?_, fun t ht m => ?_, List.pairwise_cons.mpr ⟨fun t ht => ?_, ?_⟩, fun t u ht hu e => ?_⟩
  · rcases List.mem_cons.mp ht with z | z
    · subst z
      refine ⟨hs, ?_, ?_, ?_, ?_⟩
      · show (if t = t then b else bg t) < 64; rw [if_pos rfl]; exact hb
      · show upd be t (nI b) t = nI (if t = t then b else bg t); rw [if_pos rfl]; exact pk_us
      · show upd bn t (nI (st + 1)) t = nI (if t = t then st + 1 else bu t); rw [if_pos rfl]; exact pk_us
      · show (if t = t then st + 1 else bu t) ≤ st + 1; rw [if_pos rfl]; omega
    · obtain ⟨p1, p2, p3, p4, p5⟩ := h.1 t (h1 t z).1
      refine ⟨p1, ?_, ?_, ?_, ?_⟩
      · show (if t = s then b else bg t) < 64; rw [e1 t z]; exact p2
      · show upd be s (nI b) t = nI (if t = s then b else bg t); rw [e1 t z, pk_un (h1 t z).2]; exact p3
      · show upd bn s (nI (st + 1)) t = nI (if t = s then st + 1 else bu t); rw [e2 t z, pk_un (h1 t z).2]; exact p4
      · show (if t = s then st + 1 else bu t) ≤ st + 1; rw [e2 t z]; omega
  · have ts : t ≠ s := fun e => m (by rw [e]; exact List.mem_cons_self)
    rw [pk_un ts]
    exact h.2.1 t ht (fun y => m (List.mem_cons_of_mem _ (h2 t y ts)))
  · show (if t = s then st + 1 else bu t) < (if s = s then st + 1 else bu s)
    rw [e2 t ht, if_pos rfl]
    have := (h.1 t (h1 t ht).1).2.2.2.2
    omega
  · refine List.Pairwise.imp_of_mem (fun {x y} hx hy z => ?_) h3
    show (if y = s then st + 1 else bu y) < (if x = s then st + 1 else bu x)
    rw [e2 x hx, e2 y hy]; exact z
  · rcases List.mem_cons.mp ht with z | z <;> rcases List.mem_cons.mp hu with y | y
    · rw [z, y]
    · exfalso
      rw [z] at e
      simp only [if_true] at e
      rw [e1 u y] at e
      exact h4 u y e.symm
    · exfalso
      rw [y] at e
      simp only [if_true] at e
      rw [e1 t z] at e
      exact h4 t z e
    · simp only [e1 t z, e1 u y] at e
      exact h.2.2.2 t u (h1 t z).1 (h1 u y).1 e
end
/-! the reference's list -/
def wm_fg (k m : Nat) (be : Nat → Int32) : Nat → Int32 := fun j => if k ≤ j ∧ j < m then be (j + 1) else be j
theorem wm_fg_s {k j : Nat} {be : Nat → Int32} (h : k ≤ j) : upd (wm_fg k j be) j (wm_fg k j be (j + 1)) = wm_fg k (j + 1) be := by
  funext i
  by_cases e : i = j
  · subst e
    rw [pk_us]
    unfold wm_fg
    rw [if_neg (by omega), if_pos (by omega)]
  · rw [pk_un e]
    unfold wm_fg
    by_cases z : k ≤ i ∧ i < j
    · rw [if_pos z, if_pos (by omega)]
    · rw [if_neg z, if_neg (by omega)]
theorem wm_YL_fg {bg : Nat → Nat} {l1 l2 : List Nat} {s : Nat} {be : Nat → Int32} (h : wm_YL bg (l1 ++ s :: l2) be) : wm_YL bg (l1 ++ l2) (wm_fg l1.length (l1.length + l2.length) be) := by
  intro k t e
  rcases Nat.lt_or_ge k l1.length with z | z
  · rw [List.getElem?_append_left z] at e
    unfold wm_fg
    rw [if_neg (by omega)]
    exact h k t (by rw [List.getElem?_append_left z]; exact e)
  · rw [List.getElem?_append_right z] at e
    have lt : k - l1.length < l2.length := by
      rcases Nat.lt_or_ge (k - l1.length) l2.length with y | y
      · exact y
      · rw [List.getElem?_eq_none y] at e; exact (nomatch e)
    unfold wm_fg
    rw [if_pos (by omega)]
    refine h (k + 1) t ?_
    rw [List.getElem?_append_right (by omega), show k + 1 - l1.length = (k - l1.length) + 1 from by omega, List.getElem?_cons_succ]
    exact e
def wm_sh (j m : Nat) (be : Nat → Int32) : Nat → Int32 := fun i => if j < i ∧ i ≤ m then be (i - 1) else be i
def wm_fr (x : Int32) (m : Nat) (be : Nat → Int32) : Nat → Int32 := upd (wm_sh 0 m be) 0 x
theorem wm_sh_s {j m : Nat} {be : Nat → Int32} (h : j + 1 ≤ m) : upd (wm_sh (j + 1) m be) (j + 1) (wm_sh (j + 1) m be j) = wm_sh j m be := by
  funext i
  by_cases e : i = j + 1
  · subst e
    rw [pk_us]
    unfold wm_sh
    rw [if_neg (by omega), if_pos (by omega), Nat.add_sub_cancel]
  · rw [pk_un e]
    unfold wm_sh
    by_cases z : j + 1 < i ∧ i ≤ m
    · rw [if_pos z, if_pos (by omega)]
    · rw [if_neg z, if_neg (by omega)]
theorem wm_YL_fr {bg : Nat → Nat} {L : List Nat} {s : Nat} {be : Nat → Int32} (h : wm_YL bg L be) : wm_YL bg (s :: L) (wm_fr (nI (bg s)) L.length be) := by
  intro k t e
  cases k with
  | zero =>
    rw [List.getElem?_cons_zero] at e
    cases e
    exact pk_us
  | succ k =>
    rw [List.getElem?_cons_succ] at e
    have lt : k < L.length := by
      rcases Nat.lt_or_ge k L.length with y | y
      · exact y
      · rw [List.getElem?_eq_none y] at e; exact (nomatch e)
    unfold wm_fr
    rw [pk_un (by omega)]
    unfold wm_sh
    rw [if_pos (by omega)]
    exact h k t e
theorem wm_YL_congr {bg bg' : Nat → Nat} {L : List Nat} {be : Nat → Int32} (h : wm_YL bg L be) (e : ∀ s, s ∈ L → bg' s = bg s) : wm_YL bg' L be := fun k s q => by rw [e s (List.mem_of_getElem? q)]; exact h k s q
theorem wm_YL_pre {bg : Nat → Nat} {l1 l2 : List Nat} {be : Nat → Int32} (h : wm_YL bg (l1 ++ l2) be) : wm_YL bg l1 be := fun k s q => by
  have lt : k < l1.length := by
    rcases Nat.lt_or_ge k l1.length with y | y
    · exact y
    · rw [List.getElem?_eq_none y] at q; exact (nomatch q)
  exact h k s (by rw [List.getElem?_append_left lt]; exact q)
section
variable {g_pc g_wide g_many g_cut : Int32} {b_registers b_words b_counts b_begins b_cycles : Nat → Int32}
variable {m k a : Nat}
theorem yy_place_l {post : Int32 → Prop} (hm : g_many = nI m) (m4 : m ≤ 4) : ∀ f i, i ≤ m → m < i + f → (∀ k, i ≤ k → k < m → b_begins k = nI a → (∀ j, i ≤ j → j < k → ¬ b_begins j = nI a) → post (nI k)) → ((∀ j, i ≤ j → j < m → ¬ b_begins j = nI a) → post (-1)) → wY_place_2 post (nI a) g_pc g_wide g_many g_cut b_registers b_words b_counts b_begins b_cycles f (nI i) := by
  intro f
  induction f with
  | zero => intro i h1 h2; omega
  | succ f ih =>
    intro i h1 h2 p1 p0
    refine pk_le m i (fun z => p0 (fun j h3 h4 => by omega)) (fun z => ?_) hm
    refine And.intro (vp_in_nI (by omega) (by decide)) ?_
    rw [nI_clamp (by omega)]
    refine br_c (fun e => p1 i (Nat.le_refl _) z e (fun j h3 h4 => by omega)) (fun e => nm_r (nI_1 i) (ih (i + 1) z (by omega) (fun k h3 h4 h5 h6 => p1 k (by omega) h4 h5 (fun j h7 h8 => ?_)) (fun h => p0 (fun j h3 h4 => ?_))))
    · rcases Nat.eq_or_lt_of_le h7 with y | y
      · rw [← y]; exact e
      · exact h6 j y h8
    · rcases Nat.eq_or_lt_of_le h3 with y | y
      · rw [← y]; exact e
      · exact h j y h4
theorem yy_place {post : Int32 → Prop} (hm : g_many = nI m) (m4 : m ≤ 4) (p1 : ∀ k, k < m → b_begins k = nI a → (∀ j, j < k → ¬ b_begins j = nI a) → post (nI k)) (p0 : (∀ j, j < m → ¬ b_begins j = nI a) → post (-1)) : wpY_place post (g_pc, g_wide, g_many, g_cut, b_registers, b_words, b_counts, b_begins, b_cycles) (nI a) :=
  ⟨m + 1, yy_place_l hm m4 (m + 1) 0 (by omega) (by omega) (fun k _ h1 h2 h3 => p1 k h1 h2 (fun j hj => h3 j (Nat.zero_le _) hj)) (fun h => p0 (fun j hj => h j (Nat.zero_le _) hj))⟩
theorem yy_fg_l {post : SY → Prop} (m4 : m < 4) (hp : post (g_pc, g_wide, (nI m), g_cut, b_registers, b_words, b_counts, (wm_fg k m b_begins), b_cycles)) : ∀ f j, k ≤ j → j ≤ m → m < j + f → wY_forget_12 post g_pc g_wide (nI m) g_cut f (nI j) b_registers b_words b_counts (wm_fg k j b_begins) b_cycles := by
  intro f
  induction f with
  | zero => intro j h1 h2 h3; omega
  | succ f ih =>
    intro j h1 h2 h3
    refine pk_le m j (fun z => ?_) (fun z => ?_)
    · have : j = m := by omega
      subst this
      exact hp
    · rw [nI_1 j]
      refine And.intro (vp_in_nI (by omega) (by decide)) (And.intro (vp_in_nI (by omega) (by decide)) (nm_r (e' := wm_fg k (j + 1) b_begins) ?_ ?_))
      · rw [nI_clamp (by omega), nI_clamp (by omega)]; exact wm_fg_s h1
      · exact nm_e (ih (j + 1) (by omega) z (by omega))
theorem yy_forget {post : SY → Prop} (hm : g_many = nI (m + 1)) (m4 : m < 4) (hk : k ≤ m) (hp : post (g_pc, g_wide, (nI m), g_cut, b_registers, b_words, b_counts, (wm_fg k m b_begins), b_cycles)) : wpY_forget post (g_pc, g_wide, g_many, g_cut, b_registers, b_words, b_counts, b_begins, b_cycles) (nI k) := by
  subst hm
  refine nm_r (nI_pred m) ?_
  have K := yy_fg_l (b_begins := b_begins) m4 hp (m + 1) k (Nat.le_refl _) hk (by omega)
  have e : wm_fg k k b_begins = b_begins := funext fun j => if_neg (by omega)
  rw [e] at K
  exact ⟨m + 1, K⟩
theorem yy_fr_l {post : SY → Prop} {x : Int32} (hm : g_many = nI m) (m4 : m < 4) (hp : post (g_pc, g_wide, (nI (m + 1)), g_cut, b_registers, b_words, b_counts, (wm_fr x m b_begins), b_cycles)) : ∀ j f, j ≤ m → j < f → wY_first_5 post x g_pc g_wide g_many g_cut f (nI j) b_registers b_words b_counts (wm_sh j m b_begins) b_cycles := by
  intro j
  induction j with
  | zero =>
    intro f h1 h2
    obtain ⟨f, rfl⟩ : ∃ g, f = g + 1 := ⟨f - 1, by omega⟩
    refine br_t (by decide) (nm_e (nm_r (e' := nI (m + 1)) (by rw [hm, nI_1]) hp))
  | succ j ih =>
    intro f h1 h2
    obtain ⟨f, rfl⟩ : ∃ g, f = g + 1 := ⟨f - 1, by omega⟩
    refine br_f (nI_nle (by omega) (by omega)) ?_
    rw [nI_pred]
    refine And.intro (vp_in_nI (by omega) (by decide)) (And.intro (vp_in_nI (by omega) (by decide)) (nm_r (e' := wm_sh j m b_begins) ?_ ?_))
    · rw [nI_clamp (by omega), nI_clamp (by omega)]; exact wm_sh_s h1
    · exact nm_r (pk_m1 j) (ih f (by omega) (by omega))
theorem yy_first {post : SY → Prop} {x : Int32} (hm : g_many = nI m) (m4 : m < 4) (hp : post (g_pc, g_wide, (nI (m + 1)), g_cut, b_registers, b_words, b_counts, (wm_fr x m b_begins), b_cycles)) : wpY_first post (g_pc, g_wide, g_many, g_cut, b_registers, b_words, b_counts, b_begins, b_cycles) x := by
  have K := yy_fr_l (b_begins := b_begins) (x := x) hm m4 hp m (m + 1) (Nat.le_refl _) (by omega)
  have e : wm_sh m m b_begins = b_begins := funext fun j => if_neg (by omega)
  rw [e] at K
  refine ⟨m + 1, ?_⟩
  rw [hm] at K ⊢
  exact K
end
section
variable {g_pc g_wide g_many g_cut : Int32} {b_registers b_words b_counts b_begins b_cycles : Nat → Int32}
variable {bg ln : Nat → Nat} {a : Nat}
theorem yy_ch_l {v : Int32} (ha : a < 64) : ∀ (n : Nat) (l1 l2 : List Nat) (g_many : Int32) (b_begins : Nat → Int32), l1.length = n → l1.length + l2.length ≤ 4 → (∀ s, s ∈ l1 → bg s < 64 ∧ wm_Len b_words (bg s) (ln s)) → g_many = nI (l1.length + l2.length) → wm_YL bg (l1 ++ l2) b_begins →
    ∃ be, wm_YL bg (l1.filter (fun s => !wm_hit bg ln a s) ++ l2) be ∧ ∀ (post : SY → Prop), post (g_pc, g_wide, (nI ((l1.filter (fun s => !wm_hit bg ln a s)).length + l2.length)), g_cut, b_registers, (upd b_words a v), b_counts, be, b_cycles) → ∀ f, n < f → wY_change_7 post (nI a) v f (nI n - 1) g_pc g_wide g_many g_cut b_registers b_words b_counts b_begins b_cycles := by
  intro n
  induction n with
  | zero =>
    intro l1 l2 gm bb h1 h2 h3 h4 h5
    have e := List.eq_nil_of_length_eq_zero h1
    subst e
    refine ⟨bb, h5, fun post hp f hf => ?_⟩
    obtain ⟨f, rfl⟩ : ∃ g, f = g + 1 := ⟨f - 1, by omega⟩
    subst h4
    refine br_t (by decide) (And.intro (vp_in_nI ha (by decide)) (nm_r (e' := upd b_words a v) (by rw [nI_clamp (by omega)]) hp))
  | succ n ih =>
    intro l1 l2 gm bb h1 h2 h3 h4 h5
    obtain ⟨l, s, e⟩ : ∃ l s, l1 = l ++ [s] := by
      rcases List.eq_nil_or_concat l1 with z | ⟨l, s, z⟩
      · rw [z] at h1; exact (nomatch h1)
      · exact ⟨l, s, by rw [z, List.concat_eq_append]⟩
    subst e
    have ll : l.length = n := by rw [List.length_append, List.length_singleton] at h1; omega
    have em : nI (n + 1) - 1 = nI n := nI_pred n
    have en : nI n + (-1) = nI n - 1 := (Int32.sub_eq_add_neg _ _).symm
    obtain ⟨b64, hL⟩ := h3 s (List.mem_append_right _ List.mem_cons_self)
    have hL1 := hL.1
    have hL2 := hL.2.2.1
    have hL3 := hL.2.1
    have hb : bb n = nI (bg s) := h5 n s (by rw [List.append_assoc, List.getElem?_append_right (by omega), ll, Nat.sub_self]; rfl)
    have n4 : n < 4 := by rw [List.length_append, List.length_singleton] at h2; omega
    have hl : l.length + (s :: l2).length ≤ 4 := by rw [List.length_cons]; rw [List.length_append, List.length_singleton] at h2; omega
    by_cases hit : wm_hit bg ln a s = true
    · have hh : bg s ≤ a ∧ a < bg s + ln s := of_decide_eq_true hit
      have ef : (l ++ [s]).filter (fun s => !wm_hit bg ln a s) = l.filter (fun s => !wm_hit bg ln a s) := by
        rw [List.filter_append]
        simp [hit]
      rw [ef]
      have gm' : gm = nI (l.length + l2.length + 1) := by rw [h4, List.length_append, List.length_singleton]; congr 1; omega
      obtain ⟨be, k1, k2⟩ := ih l l2 (nI (l.length + l2.length)) (wm_fg l.length (l.length + l2.length) bb) ll (by rw [List.length_cons] at hl; omega) (fun t ht => h3 t (List.mem_append_left _ ht)) rfl (wm_YL_fg (s := s) (by rw [List.append_assoc] at h5; exact h5))
      refine ⟨be, k1, fun post hp f hf => ?_⟩
      obtain ⟨f, rfl⟩ : ∃ g, f = g + 1 := ⟨f - 1, by omega⟩
      rw [em]
      refine br_f (nI_pos (by omega)) ?_
      refine And.intro (vp_in_nI n4 (by decide)) ?_
      rw [nI_clamp (by omega), hb]
      refine br_f (nI_nlt hh.1 (by omega)) ?_
      refine And.intro (vp_in_nI n4 (by decide)) (And.intro (vp_in_nI n4 (by decide)) ?_)
      refine yy_length hL ?_
      rw [nI_add]
      refine br_f (nI_ge hh.2 (by omega)) ?_
      rw [List.length_cons] at hl
      have K := k2 post hp f (by omega)
      rw [← ll] at K ⊢
      refine yy_forget (m := l.length + l2.length) gm' (by omega) (by omega) ?_
      exact nm_r (by rw [Int32.sub_eq_add_neg]) K
    · have hh : ¬ (bg s ≤ a ∧ a < bg s + ln s) := fun q => hit (decide_eq_true q)
      have ef : (l ++ [s]).filter (fun s => !wm_hit bg ln a s) ++ l2 = l.filter (fun s => !wm_hit bg ln a s) ++ s :: l2 := by
        rw [List.filter_append]
        simp [hit]
      have ef2 : ((l ++ [s]).filter (fun s => !wm_hit bg ln a s)).length + l2.length = (l.filter (fun s => !wm_hit bg ln a s)).length + (s :: l2).length := by
        rw [← List.length_append, ef, List.length_append]
      rw [ef, ef2]
      obtain ⟨be, k1, k2⟩ := ih l (s :: l2) gm bb ll hl (fun t ht => h3 t (List.mem_append_left _ ht)) (by rw [h4, List.length_append, List.length_singleton, List.length_cons]; congr 1; omega) (by rw [List.append_assoc] at h5; exact h5)
      refine ⟨be, k1, fun post hp f hf => ?_⟩
      obtain ⟨f, rfl⟩ : ∃ g, f = g + 1 := ⟨f - 1, by omega⟩
      have K := k2 post hp f (by omega)
      rw [em]
      refine br_f (nI_pos (by omega)) ?_
      refine And.intro (vp_in_nI n4 (by decide)) ?_
      rw [nI_clamp (by omega), hb]
      refine pk_lt a (bg s) (fun z => nm_r en K) (fun z => ?_)
      refine And.intro (vp_in_nI n4 (by decide)) (And.intro (vp_in_nI n4 (by decide)) ?_)
      refine yy_length hL ?_
      rw [nI_add]
      exact pk_le (bg s + ln s) a (fun z => nm_r en K) (fun z' => absurd ⟨z, z'⟩ hh)
theorem yy_change {v : Int32} {L : List Nat} (ha : a < 64) (h4 : L.length ≤ 4) (h3 : ∀ s, s ∈ L → bg s < 64 ∧ wm_Len b_words (bg s) (ln s)) (hm : g_many = nI L.length) (hY : wm_YL bg L b_begins) :
    ∃ be, wm_YL bg (L.filter (fun s => !wm_hit bg ln a s)) be ∧ ∀ (post : SY → Prop), post (g_pc, g_wide, (nI (L.filter (fun s => !wm_hit bg ln a s)).length), g_cut, b_registers, (upd b_words a v), b_counts, be, b_cycles) → wpY_change post (g_pc, g_wide, g_many, g_cut, b_registers, b_words, b_counts, b_begins, b_cycles) (nI a) v := by
  obtain ⟨be, k1, k2⟩ := yy_ch_l (g_pc := g_pc) (g_wide := g_wide) (g_cut := g_cut) (b_registers := b_registers) (b_words := b_words) (b_counts := b_counts) (b_cycles := b_cycles) (v := v) ha L.length L [] g_many b_begins rfl h4 h3 hm (by rw [List.append_nil]; exact hY)
  rw [List.append_nil] at k1
  refine ⟨be, k1, fun post hp => ?_⟩
  refine nm_e ⟨L.length + 1, ?_⟩
  have K := k2 post hp (L.length + 1) (by omega)
  subst hm
  exact K
end
end
section
section
variable {f_pc f_wide f_logged f_coming f_next f_time f_makingTime f_made f_reused f_started f_done : Int32} {a_registers a_words a_begins a_lengths a_times a_begun a_ops a_goal a_left a_right a_numbers a_cycles a_order a_before a_logAt a_logValue a_arrives a_result a_target : Nat → Int32}
variable {L : List Nat} {bg bu ln : Nat → Nat} {st a : Nat}
theorem xx_so_l {post : Int32 → Prop} (hK : wm_KX L bg bu st a_begins a_begun) (ha : a < 64) (p1 : ∀ s, s ∈ L → bg s = a → post (nI s)) (p0 : (∀ s, s ∈ L → bg s ≠ a) → post (-1)) : ∀ f i, i ≤ 4 → 4 < i + f → (∀ s, s ∈ L → s < i → bg s ≠ a) → wX_slotOf_2 post (nI a) f_pc f_wide f_logged f_coming f_next f_time f_makingTime f_made f_reused f_started f_done a_registers a_words a_begins a_lengths a_times a_begun a_ops a_goal a_left a_right a_numbers a_cycles a_order a_before a_logAt a_logValue a_arrives a_result a_target f (nI i) := by
  intro f
  induction f with
  | zero => intro i h1 h2; omega
  | succ f ih =>
    intro i h1 h2 h3
    refine pk_le 4 i (fun z => p0 (fun s hs => h3 s hs (by have := (hK.1 s hs).1; omega))) (fun z => ?_)
    refine And.intro (vp_in_nI (by omega) (by decide)) ?_
    rw [nI_clamp (by omega), wm_KX_eq hK z ha]
    refine br_c (fun e => p1 i e.1 e.2) (fun e => nm_r (nI_1 i) (ih (i + 1) (by omega) (by omega) (fun s hs hl q => ?_)))
    rcases Nat.lt_or_ge s i with y | y
    · exact h3 s hs y q
    · have : s = i := by omega
      subst this
      exact e ⟨hs, q⟩
theorem xx_slotOf {post : Int32 → Prop} (hK : wm_KX L bg bu st a_begins a_begun) (ha : a < 64) (p1 : ∀ s, s ∈ L → bg s = a → post (nI s)) (p0 : (∀ s, s ∈ L → bg s ≠ a) → post (-1)) : wpX_slotOf post (f_pc, f_wide, f_logged, f_coming, f_next, f_time, f_makingTime, f_made, f_reused, f_started, f_done, a_registers, a_words, a_begins, a_lengths, a_times, a_begun, a_ops, a_goal, a_left, a_right, a_numbers, a_cycles, a_order, a_before, a_logAt, a_logValue, a_arrives, a_result, a_target) (nI a) :=
  ⟨5, xx_so_l hK ha p1 p0 5 0 (by omega) (by omega) (fun s _ h => by omega)⟩
theorem xx_t_l {post : SX → Prop} (hK : wm_KX L bg bu st a_begins a_begun) (hl : ∀ s, s ∈ L → a_lengths s = nI (ln s) ∧ ln s ≤ 8) (ha : a < 64) (hp : post (f_pc, f_wide, f_logged, f_coming, f_next, f_time, f_makingTime, f_made, f_reused, f_started, f_done, a_registers, a_words, (wm_tc L bg ln a 4 a_begins), a_lengths, a_times, a_begun, a_ops, a_goal, a_left, a_right, a_numbers, a_cycles, a_order, a_before, a_logAt, a_logValue, a_arrives, a_result, a_target)) : ∀ f i, i ≤ 4 → 4 < i + f → wX_touched_2 post (nI a) f_pc f_wide f_logged f_coming f_next f_time f_makingTime f_made f_reused f_started f_done f (nI i) a_registers a_words (wm_tc L bg ln a i a_begins) a_lengths a_times a_begun a_ops a_goal a_left a_right a_numbers a_cycles a_order a_before a_logAt a_logValue a_arrives a_result a_target := by
  intro f
  induction f with
  | zero => intro i h1 h2; omega
  | succ f ih =>
    intro i h1 h2
    refine pk_le 4 i (fun z => ?_) (fun z => ?_)
    · have : i = 4 := by omega
      subst this
      exact hp
    · have K := ih (i + 1) (by omega) (by omega)
      have ri : wm_tc L bg ln a i a_begins i = a_begins i := wm_tc_f (fun q => by omega)
      have no : ¬ (i ∈ L ∧ wm_hit bg ln a i = true) → wm_tc L bg ln a (i + 1) a_begins = wm_tc L bg ln a i a_begins := fun q => by
        funext j
        by_cases y : j < i ∧ j ∈ L ∧ wm_hit bg ln a j = true
        · rw [wm_tc_t y, wm_tc_t ⟨by omega, y.2⟩]
        · rw [wm_tc_f y, wm_tc_f (fun x => ?_)]
          rcases Nat.lt_or_ge j i with u | u
          · exact y ⟨u, x.2⟩
          · have : j = i := by omega
            subst this
            exact q x.2
      refine And.intro (vp_in_nI (by omega) (by decide)) ?_
      rw [nI_clamp (by omega), ri, wm_KX_neg hK z]
      refine br_c (fun m => nm_r (nI_1 i) (by rw [no (fun q => m q.1)] at K; exact K)) (fun m => ?_)
      have m := Classical.not_not.mp m
      obtain ⟨k1, k2, k3, k4, k5⟩ := hK.1 i m
      obtain ⟨l1, l2⟩ := hl i m
      rw [k3]
      refine And.intro (vp_in_nI (by omega) (by decide)) ?_
      refine pk_lt a (bg i) (fun y => nm_r (nI_1 i) (by rw [no (fun q => by have := of_decide_eq_true q.2; omega)] at K; exact K)) (fun y => ?_)
      refine And.intro (vp_in_nI (by omega) (by decide)) (And.intro (vp_in_nI (by omega) (by decide)) ?_)
      rw [l1, nI_add]
      refine pk_le (bg i + ln i) a (fun x => nm_r (nI_1 i) (by rw [no (fun q => by have := of_decide_eq_true q.2; omega)] at K; exact K)) (fun x => ?_)
      refine And.intro (vp_in_nI (by omega) (by decide)) (nm_r (e' := wm_tc L bg ln a (i + 1) a_begins) ?_ (nm_r (nI_1 i) K))
      rw [wm_m1]
      funext j
      by_cases e : j = i
      · subst e
        rw [pk_us, wm_tc_t ⟨by omega, m, decide_eq_true ⟨y, x⟩⟩]
      · rw [pk_un e]
        by_cases u : j < i ∧ j ∈ L ∧ wm_hit bg ln a j = true
        · rw [wm_tc_t u, wm_tc_t ⟨by omega, u.2⟩]
        · rw [wm_tc_f u, wm_tc_f (fun q => u ⟨by omega, q.2⟩)]
theorem xx_touched {post : SX → Prop} (hK : wm_KX L bg bu st a_begins a_begun) (hl : ∀ s, s ∈ L → a_lengths s = nI (ln s) ∧ ln s ≤ 8) (ha : a < 64) (hp : post (f_pc, f_wide, f_logged, f_coming, f_next, f_time, f_makingTime, f_made, f_reused, f_started, f_done, a_registers, a_words, (wm_tc L bg ln a 4 a_begins), a_lengths, a_times, a_begun, a_ops, a_goal, a_left, a_right, a_numbers, a_cycles, a_order, a_before, a_logAt, a_logValue, a_arrives, a_result, a_target)) : wpX_touched post (f_pc, f_wide, f_logged, f_coming, f_next, f_time, f_makingTime, f_made, f_reused, f_started, f_done, a_registers, a_words, a_begins, a_lengths, a_times, a_begun, a_ops, a_goal, a_left, a_right, a_numbers, a_cycles, a_order, a_before, a_logAt, a_logValue, a_arrives, a_result, a_target) (nI a) := by
  have K := xx_t_l hK hl ha hp 5 0 (by omega) (by omega)
  have e : wm_tc L bg ln a 0 a_begins = a_begins := funext fun j => wm_tc_f (fun q => by omega)
  rw [e] at K
  exact ⟨5, K⟩
theorem xx_fl_l {post : Int32 → SX → Prop} (hK : wm_KX L bg bu st a_begins a_begun) (hp : post (nI L.length) (f_pc, f_wide, f_logged, f_coming, f_next, f_time, f_makingTime, f_made, f_reused, f_started, f_done, a_registers, a_words, (wm_put 0 4 (fun _ => -1) a_begins), a_lengths, a_times, a_begun, a_ops, a_goal, a_left, a_right, a_numbers, a_cycles, a_order, a_before, a_logAt, a_logValue, a_arrives, a_result, a_target)) : ∀ f i, i ≤ 4 → 4 < i + f → wX_flush_4 post f_pc f_wide f_logged f_coming f_next f_time f_makingTime f_made f_reused f_started f_done f (nI (wm_ct L i)) (nI i) a_registers a_words (wm_put 0 i (fun _ => -1) a_begins) a_lengths a_times a_begun a_ops a_goal a_left a_right a_numbers a_cycles a_order a_before a_logAt a_logValue a_arrives a_result a_target := by
  intro f
  induction f with
  | zero => intro i h1 h2; omega
  | succ f ih =>
    intro i h1 h2
    refine pk_le 4 i (fun z => ?_) (fun z => ?_)
    · have : i = 4 := by omega
      subst this
      rw [wm_KX_len hK]
      exact hp
    · have K := ih (i + 1) (by omega) (by omega)
      have e := wm_put_s 0 i (fun _ => -1) a_begins
      rw [Nat.zero_add] at e
      refine And.intro (vp_in_nI (by omega) (by decide)) ?_
      rw [nI_clamp (by omega), wm_put_o (by omega), wm_KX_neg hK z, wm_m1, e]
      refine br_c (fun m => ?_) (fun m => ?_)
      · rw [wm_ct_f m] at K
        exact And.intro (vp_in_nI (by omega) (by decide)) (nm_e (nm_r (nI_1 i) K))
      · rw [wm_ct_t (Classical.not_not.mp m)] at K
        exact nm_r (nI_1 _) (And.intro (vp_in_nI (by omega) (by decide)) (nm_e (nm_r (nI_1 i) K)))
theorem xx_flush {post : Int32 → SX → Prop} (hK : wm_KX L bg bu st a_begins a_begun) (hp : post (nI L.length) (f_pc, f_wide, f_logged, f_coming, f_next, f_time, f_makingTime, f_made, f_reused, f_started, f_done, a_registers, a_words, (wm_put 0 4 (fun _ => -1) a_begins), a_lengths, a_times, a_begun, a_ops, a_goal, a_left, a_right, a_numbers, a_cycles, a_order, a_before, a_logAt, a_logValue, a_arrives, a_result, a_target)) : wpX_flush post (f_pc, f_wide, f_logged, f_coming, f_next, f_time, f_makingTime, f_made, f_reused, f_started, f_done, a_registers, a_words, a_begins, a_lengths, a_times, a_begun, a_ops, a_goal, a_left, a_right, a_numbers, a_cycles, a_order, a_before, a_logAt, a_logValue, a_arrives, a_result, a_target) := by
  have K := xx_fl_l hK hp 5 0 (by omega) (by omega)
  rw [wm_put_0] at K
  exact ⟨5, K⟩
/-! the k-th of the kept -/
theorem xx_k18y {post : Int32 → Prop} {J : Int32 → Prop} {s x : Nat} {l1 l2 : List Nat} (hK : wm_KX L bg bu st a_begins a_begun) (st5 : st < 2 ^ 31) (e : L = l1 ++ s :: l2) (x5 : x < 2 ^ 31) (h1 : l1.length = x → post (nI (bg s))) (h0 : l1.length ≠ x → J (nI (s + 1))) : ∀ f t, t ≤ 4 → 4 < t + f → wX_kept_18 post J (nI x) (nI s) f_pc f_wide f_logged f_coming f_next f_time f_makingTime f_made f_reused f_started f_done a_registers a_words a_begins a_lengths a_times a_begun a_ops a_goal a_left a_right a_numbers a_cycles a_order a_before a_logAt a_logValue a_arrives a_result a_target f (nI (wm_ct l1 t)) (nI t) := by
  have ms : s ∈ L := by rw [e]; exact List.mem_append_right _ List.mem_cons_self
  obtain ⟨k1, k2, k3, k4, k5⟩ := hK.1 s ms
  have pw := hK.2.2.1
  rw [e, List.pairwise_append] at pw
  obtain ⟨pw1, pw2, pw3⟩ := pw
  have pw4 := (List.pairwise_cons.mp pw2).1
  have len : wm_ct l1 4 = l1.length := wm_ct_len pw1 (fun t ht => (hK.1 t (by rw [e]; exact List.mem_append_left _ ht)).1)
  intro f
  induction f with
  | zero => intro t q1 q2; omega
  | succ f ih =>
    intro t q1 q2
    have cl := wm_ct_le l1 t
    refine pk_le 4 t (fun z => ?_) (fun z => ?_)
    · have : t = 4 := by omega
      subst this
      refine And.intro (vp_in_nI (by omega) (by decide)) ?_
      rw [nI_clamp (by omega), k3, len]
      rw [len] at cl
      refine br_f (nI_pos (by omega)) ?_
      exact pk_eq l1.length x (fun y => And.intro (vp_in_nI (by omega) (by decide)) (h1 y)) (fun y => nm_r (nI_1 s) (h0 y))
    · have K := ih (t + 1) (by omega) (by omega)
      refine And.intro (vp_in_nI (by omega) (by decide)) ?_
      rw [nI_clamp (by omega), nI_clamp (by omega), wm_KX_neg hK z]
      refine br_c (fun m => ?_) (fun m => ?_)
      · rw [wm_ct_f (fun y => m (by rw [e]; exact List.mem_append_left _ y))] at K
        exact nm_r (nI_1 t) K
      · have m := Classical.not_not.mp m
        have kt := hK.1 t m
        refine And.intro (vp_in_nI (by omega) (by decide)) (And.intro (vp_in_nI (by omega) (by decide)) ?_)
        rw [kt.2.2.2.1, k4]
        rw [e] at m
        refine pk_le (bu t) (bu s) (fun y => ?_) (fun y => ?_) rfl rfl (by omega) (by omega)
        · rw [wm_ct_f (fun q => by have := pw3 t q s List.mem_cons_self; omega)] at K
          exact nm_r (nI_1 t) K
        · have : t ∈ l1 := by
            rcases List.mem_append.mp m with q | q
            · exact q
            · rcases List.mem_cons.mp q with q | q
              · subst q; omega
              · have := pw4 t q; omega
          rw [wm_ct_t this] at K
          exact nm_r (nI_1 _) (nm_r (nI_1 t) K)
theorem xx_k18n {post : Int32 → Prop} {J : Int32 → Prop} {s : Nat} {x : Int32} (hK : wm_KX L bg bu st a_begins a_begun) (hs : s < 4) (ns : ¬ s ∈ L) (h0 : J (nI (s + 1))) : ∀ f t (x3 : Int32), t ≤ 4 → 4 < t + f → wX_kept_18 post J x (nI s) f_pc f_wide f_logged f_coming f_next f_time f_makingTime f_made f_reused f_started f_done a_registers a_words a_begins a_lengths a_times a_begun a_ops a_goal a_left a_right a_numbers a_cycles a_order a_before a_logAt a_logValue a_arrives a_result a_target f x3 (nI t) := by
  intro f
  induction f with
  | zero => intro t x3 q1 q2; omega
  | succ f ih =>
    intro t x3 q1 q2
    refine pk_le 4 t (fun z => ?_) (fun z => ?_)
    · refine And.intro (vp_in_nI (by omega) (by decide)) ?_
      rw [nI_clamp (by omega), wm_KX_neg hK hs]
      exact br_t ns (nm_r (nI_1 s) h0)
    · refine And.intro (vp_in_nI (by omega) (by decide)) ?_
      exact br_c (fun m => nm_r (nI_1 t) (ih (t + 1) _ (by omega) (by omega))) (fun m => And.intro (vp_in_nI (by omega) (by decide)) (And.intro (vp_in_nI (by omega) (by decide)) (br_c (fun y => nm_r (nI_1 t) (ih (t + 1) _ (by omega) (by omega))) (fun y => nm_e (nm_r (nI_1 t) (ih (t + 1) _ (by omega) (by omega)))))))
theorem xx_k8 {post : Int32 → Prop} {x : Nat} (hK : wm_KX L bg bu st a_begins a_begun) (st5 : st < 2 ^ 31) (x5 : x < 2 ^ 31) (h1 : ∀ s, L[x]? = some s → post (nI (bg s))) (h0 : L[x]? = none → post (-1)) : ∀ f i, i ≤ 4 → 4 < i + f → (∀ s, L[x]? = some s → i ≤ s) → wX_kept_8 post (nI x) f_pc f_wide f_logged f_coming f_next f_time f_makingTime f_made f_reused f_started f_done a_registers a_words a_begins a_lengths a_times a_begun a_ops a_goal a_left a_right a_numbers a_cycles a_order a_before a_logAt a_logValue a_arrives a_result a_target f (nI i) := by
  intro f
  induction f with
  | zero => intro i q1 q2; omega
  | succ f ih =>
    intro i q1 q2 q3
    refine pk_le 4 i (fun z => h0 ?_) (fun z => ?_)
    · rcases e : L[x]? with _ | s
      · rfl
      · have a := q3 s e
        have b := (hK.1 s (List.mem_of_getElem? e)).1
        omega
    · by_cases m : i ∈ L
      · obtain ⟨l1, l2, e⟩ := List.append_of_mem m
        have ei : L[l1.length]? = some i := by rw [e, List.getElem?_append_right (Nat.le_refl _), Nat.sub_self]; rfl
        have K := xx_k18y (f_pc := f_pc) (f_wide := f_wide) (f_logged := f_logged) (f_coming := f_coming) (f_next := f_next) (f_time := f_time) (f_makingTime := f_makingTime) (f_made := f_made) (f_reused := f_reused) (f_started := f_started) (f_done := f_done) (a_registers := a_registers) (a_words := a_words) (a_lengths := a_lengths) (a_times := a_times) (a_ops := a_ops) (a_goal := a_goal) (a_left := a_left) (a_right := a_right) (a_numbers := a_numbers) (a_cycles := a_cycles) (a_order := a_order) (a_before := a_before) (a_logAt := a_logAt) (a_logValue := a_logValue) (a_arrives := a_arrives) (a_result := a_result) (a_target := a_target) (post := post) (J := wX_kept_8 post (nI x) f_pc f_wide f_logged f_coming f_next f_time f_makingTime f_made f_reused f_started f_done a_registers a_words a_begins a_lengths a_times a_begun a_ops a_goal a_left a_right a_numbers a_cycles a_order a_before a_logAt a_logValue a_arrives a_result a_target f) hK st5 e x5 (fun y => h1 i (by rw [← y]; exact ei)) (fun y => ih (i + 1) (by omega) (by omega) (fun s hs => ?_)) 5 0 (by omega) (by omega)
        · exact ⟨5, K⟩
        · rcases Nat.eq_or_lt_of_le (q3 s hs) with q | q
          · exfalso
            subst q
            have nd : L.Pairwise (fun s t => bu t < bu s) := hK.2.2.1
            rcases Nat.lt_trichotomy l1.length x with u | u | u
            · have g := List.getElem?_eq_some_iff.mp hs
              have g' := List.getElem?_eq_some_iff.mp ei
              have := List.pairwise_iff_getElem.mp nd l1.length x g'.1 g.1 u
              rw [g.2, g'.2] at this
              omega
            · exact y u
            · have g := List.getElem?_eq_some_iff.mp hs
              have g' := List.getElem?_eq_some_iff.mp ei
              have := List.pairwise_iff_getElem.mp nd x l1.length g.1 g'.1 u
              rw [g.2, g'.2] at this
              omega
          · exact q
      · refine ⟨5, xx_k18n hK z m (ih (i + 1) (by omega) (by omega) (fun s hs => ?_)) 5 0 0 (by omega) (by omega)⟩
        rcases Nat.eq_or_lt_of_le (q3 s hs) with q | q
        · subst q; exact absurd (List.mem_of_getElem? hs) m
        · exact q
theorem xx_kept {post : Int32 → Prop} {x : Nat} (hK : wm_KX L bg bu st a_begins a_begun) (st5 : st < 2 ^ 31) (x5 : x < 2 ^ 31) (h1 : ∀ s, L[x]? = some s → post (nI (bg s))) (h0 : L[x]? = none → post (-1)) : wpX_kept post (f_pc, f_wide, f_logged, f_coming, f_next, f_time, f_makingTime, f_made, f_reused, f_started, f_done, a_registers, a_words, a_begins, a_lengths, a_times, a_begun, a_ops, a_goal, a_left, a_right, a_numbers, a_cycles, a_order, a_before, a_logAt, a_logValue, a_arrives, a_result, a_target) (nI x) :=
  br_t (nI_pos' x5) ⟨5, xx_k8 hK st5 x5 h1 h0 5 0 (by omega) (by omega) (fun s _ => Nat.zero_le _)⟩
/-! the slot of a block that is begun -/
theorem xx_b27 {x : Int32} (hK : wm_KX L bg bu st a_begins a_begun) (st5 : st < 2 ^ 31) : ∀ d i q, i + d = 4 → q < i → (¬ q ∈ L ∨ ∀ t, t < i → t ∈ L ∧ bu q ≤ bu t) → ∃ s, s < 4 ∧ (¬ s ∈ L ∨ ∀ t, t < 4 → t ∈ L ∧ bu s ≤ bu t) ∧ ∀ (post : Int32 → SX → Prop), (∀ g, wX_begin_27 post x f_pc f_wide f_logged f_coming f_next f_time f_makingTime f_made f_reused f_started f_done a_registers a_words a_begins a_lengths a_times a_begun a_ops a_goal a_left a_right a_numbers a_cycles a_order a_before a_logAt a_logValue a_arrives a_result a_target (g + 1) (nI s) (nI 4)) → ∀ f, d < f → wX_begin_27 post x f_pc f_wide f_logged f_coming f_next f_time f_makingTime f_made f_reused f_started f_done a_registers a_words a_begins a_lengths a_times a_begun a_ops a_goal a_left a_right a_numbers a_cycles a_order a_before a_logAt a_logValue a_arrives a_result a_target f (nI q) (nI i) := by
  intro d
  induction d with
  | zero =>
    intro i q h1 h2 h3
    have : i = 4 := by omega
    subst this
    refine ⟨q, h2, h3, fun post hp f hf => ?_⟩
    obtain ⟨f, rfl⟩ : ∃ g, f = g + 1 := ⟨f - 1, by omega⟩
    exact hp f
  | succ d ih =>
    intro i q h1 h2 h3
    have q4 : q < 4 := by omega
    have i4 : i < 4 := by omega
    by_cases mq : q ∈ L
    · have h3 := h3.resolve_left (fun z => z mq)
      have kq := hK.1 q mq
      by_cases mi : i ∈ L
      · have ki := hK.1 i mi
        by_cases le : bu q ≤ bu i
        · obtain ⟨s, s1, s2, s3⟩ := ih (i + 1) q (by omega) (by omega) (Or.inr (lt_s h3 ⟨mi, le⟩))
          refine ⟨s, s1, s2, fun post hp f hf => ?_⟩
          obtain ⟨f, rfl⟩ : ∃ g, f = g + 1 := ⟨f - 1, by omega⟩
          have K := s3 post hp f (by omega)
          refine br_f (nI_ge (b := 4) i4 (by decide)) ?_
          refine And.intro (vp_in_nI (by omega) (by decide)) ?_
          rw [nI_clamp (show q < 2 ^ 31 by omega), nI_clamp (show i < 2 ^ 31 by omega), wm_KX_neg hK q4, wm_KX_neg hK i4]
          refine br_f (fun z => z mq) (And.intro (vp_in_nI (by omega) (by decide)) (br_f (fun z => z mi) (And.intro (vp_in_nI (by omega) (by decide)) (And.intro (vp_in_nI (by omega) (by decide)) ?_))))
          rw [kq.2.2.2.1, ki.2.2.2.1]
          exact br_t (nI_le le (by omega)) (nm_r (nI_1 i) K)
        · obtain ⟨s, s1, s2, s3⟩ := ih (i + 1) i (by omega) (by omega) (Or.inr (lt_s (fun t ht => ⟨(h3 t ht).1, by have := (h3 t ht).2; omega⟩) ⟨mi, Nat.le_refl _⟩))
          refine ⟨s, s1, s2, fun post hp f hf => ?_⟩
          obtain ⟨f, rfl⟩ : ∃ g, f = g + 1 := ⟨f - 1, by omega⟩
          have K := s3 post hp f (by omega)
          refine br_f (nI_ge (b := 4) i4 (by decide)) ?_
          refine And.intro (vp_in_nI (by omega) (by decide)) ?_
          rw [nI_clamp (show q < 2 ^ 31 by omega), nI_clamp (show i < 2 ^ 31 by omega), wm_KX_neg hK q4, wm_KX_neg hK i4]
          refine br_f (fun z => z mq) (And.intro (vp_in_nI (by omega) (by decide)) (br_f (fun z => z mi) (And.intro (vp_in_nI (by omega) (by decide)) (And.intro (vp_in_nI (by omega) (by decide)) ?_))))
          rw [kq.2.2.2.1, ki.2.2.2.1]
          exact br_f (nI_ge (by omega) (by omega)) (nm_r (nI_1 i) K)
      · obtain ⟨s, s1, s2, s3⟩ := ih (i + 1) i (by omega) (by omega) (Or.inl mi)
        refine ⟨s, s1, s2, fun post hp f hf => ?_⟩
        obtain ⟨f, rfl⟩ : ∃ g, f = g + 1 := ⟨f - 1, by omega⟩
        have K := s3 post hp f (by omega)
        refine br_f (nI_ge (b := 4) i4 (by decide)) ?_
        refine And.intro (vp_in_nI (by omega) (by decide)) ?_
        rw [nI_clamp (show q < 2 ^ 31 by omega), nI_clamp (show i < 2 ^ 31 by omega), wm_KX_neg hK q4, wm_KX_neg hK i4]
        exact br_f (fun z => z mq) (And.intro (vp_in_nI (by omega) (by decide)) (br_t mi (nm_r (nI_1 i) K)))
    · obtain ⟨s, s1, s2, s3⟩ := ih (i + 1) q (by omega) (by omega) (Or.inl mq)
      refine ⟨s, s1, s2, fun post hp f hf => ?_⟩
      obtain ⟨f, rfl⟩ : ∃ g, f = g + 1 := ⟨f - 1, by omega⟩
      have K := s3 post hp f (by omega)
      refine br_f (nI_ge (b := 4) i4 (by decide)) ?_
      refine And.intro (vp_in_nI (by omega) (by decide)) ?_
      rw [nI_clamp (show q < 2 ^ 31 by omega), wm_KX_neg hK q4]
      exact br_t mq (nm_r (nI_1 i) K)
theorem xx_begin_old {post : Int32 → SX → Prop} {s : Nat} (hK : wm_KX L bg bu st a_begins a_begun) (ha : a < 64) (ms : s ∈ L) (es : bg s = a) (hst : f_started = nI st) (hp : post (nI s) (f_pc, f_wide, f_logged, f_coming, f_next, f_time, f_makingTime, f_made, (f_reused + 1), (nI (st + 1)), f_done, a_registers, a_words, a_begins, a_lengths, a_times, (upd a_begun s (nI (st + 1))), a_ops, a_goal, a_left, a_right, a_numbers, a_cycles, a_order, a_before, a_logAt, a_logValue, a_arrives, a_result, a_target)) : wpX_begin post (f_pc, f_wide, f_logged, f_coming, f_next, f_time, f_makingTime, f_made, f_reused, f_started, f_done, a_registers, a_words, a_begins, a_lengths, a_times, a_begun, a_ops, a_goal, a_left, a_right, a_numbers, a_cycles, a_order, a_before, a_logAt, a_logValue, a_arrives, a_result, a_target) (nI a) := by
  unfold wpX_begin
  refine xx_slotOf hK ha (fun t mt et => ?_) (fun h => absurd es (h s ms))
  have : t = s := hK.2.2.2 t s mt ms (et.trans es.symm)
  subst this
  have k := hK.1 t mt
  refine br_f (nI_pos (by omega)) (nm_e ?_)
  refine nm_r (e' := nI (st + 1)) (by rw [hst, nI_1]) ?_
  exact And.intro (vp_in_nI (by omega) (by decide)) (nm_r (e' := upd a_begun t (nI (st + 1))) (by rw [nI_clamp (by omega)]) hp)
theorem xx_begin_new {n w : Nat} {cy : Nat → Nat} (hK : wm_KX L bg bu st a_begins a_begun) (st5 : st < 2 ^ 31) (ha : a < 64) (na : ∀ s, s ∈ L → bg s ≠ a) (hst : f_started = nI st) (hw : f_wide = nI w) (w1 : 1 ≤ w) (w4 : w ≤ 4) (Ln : wm_Len a_words a n) (hSch : wm_Sch (wm_fo a_words a) (wm_fd a_words a) (wm_fa a_words a) (wm_fb a_words a) w n cy) :
    ∃ s π, s < 4 ∧ (¬ s ∈ L ∨ ∀ t, t < 4 → t ∈ L ∧ bu s ≤ bu t) ∧ wm_Ord cy n π ∧ ∀ (post : Int32 → SX → Prop), post (nI s) (f_pc, f_wide, f_logged, f_coming, f_next, (f_time + 3 * nI n), (f_makingTime + 3 * nI n), (f_made + 1), f_reused, (nI (st + 1)), f_done, a_registers, a_words, (upd a_begins s (nI a)), (upd a_lengths s (nI n)), (upd a_times s (nI (wm_tm (wm_fo a_words a) cy n))), (upd a_begun s (nI (st + 1))), (wm_put (8 * s) n (fun q => nI (wm_fo a_words a q)) a_ops), (wm_put (8 * s) n (fun q => nI (wm_fd a_words a q)) a_goal), (wm_put (8 * s) n (fun q => nI (wm_fa a_words a q)) a_left), (wm_put (8 * s) n (fun q => nI (wm_fb a_words a q)) a_right), (wm_put (8 * s) n (wm_fn a_words a) a_numbers), (wm_put (8 * s) n (fun i => nI (cy i)) a_cycles), (wm_put (8 * s) n (fun q => nI (π q)) a_order), a_before, a_logAt, a_logValue, a_arrives, a_result, a_target) → wpX_begin post (f_pc, f_wide, f_logged, f_coming, f_next, f_time, f_makingTime, f_made, f_reused, f_started, f_done, a_registers, a_words, a_begins, a_lengths, a_times, a_begun, a_ops, a_goal, a_left, a_right, a_numbers, a_cycles, a_order, a_before, a_logAt, a_logValue, a_arrives, a_result, a_target) (nI a) := by
  obtain ⟨s, s1, s2, s3⟩ := xx_b27 (f_pc := f_pc) (f_wide := f_wide) (f_logged := f_logged) (f_coming := f_coming) (f_next := f_next) (f_time := f_time) (f_makingTime := f_makingTime) (f_made := f_made) (f_reused := f_reused) (f_started := f_started) (f_done := f_done) (a_registers := a_registers) (a_words := a_words) (a_lengths := a_lengths) (a_times := a_times) (a_ops := a_ops) (a_goal := a_goal) (a_left := a_left) (a_right := a_right) (a_numbers := a_numbers) (a_cycles := a_cycles) (a_order := a_order) (a_before := a_before) (a_logAt := a_logAt) (a_logValue := a_logValue) (a_arrives := a_arrives) (a_result := a_result) (a_target := a_target) (x := nI a) hK st5 3 1 0 rfl (by omega) (by
    by_cases z : 0 ∈ L
    · exact Or.inr (fun t ht => by have : t = 0 := by omega
                                   subst this
                                   exact ⟨z, Nat.le_refl _⟩)
    · exact Or.inl z)
  obtain ⟨π, p1, p2⟩ := xx_make (f_pc := f_pc) (f_logged := f_logged) (f_coming := f_coming) (f_next := f_next) (f_time := f_time) (f_makingTime := f_makingTime) (f_made := f_made) (f_reused := f_reused) (f_started := f_started) (f_done := f_done) (a_registers := a_registers) (a_begins := a_begins) (a_begun := a_begun) (a_lengths := a_lengths) (a_times := a_times) (a_ops := a_ops) (a_goal := a_goal) (a_left := a_left) (a_right := a_right) (a_numbers := a_numbers) (a_cycles := a_cycles) (a_order := a_order) (a_before := a_before) (a_logAt := a_logAt) (a_logValue := a_logValue) (a_arrives := a_arrives) (a_result := a_result) (a_target := a_target) (s := s) (by omega) hw w1 w4 Ln hSch
  refine ⟨s, π, s1, s2, p1, fun post hp => ?_⟩
  unfold wpX_begin
  refine xx_slotOf hK ha (fun t mt et => absurd et (na t mt)) (fun _ => br_t (by decide) ⟨4, ?_⟩)
  refine s3 post (fun g => ?_) 4 (by omega)
  refine br_t (Int32.le_refl _) ?_
  refine p2 _ ?_
  refine nm_e (And.intro (vp_in_nI (by omega) (by decide)) ?_)
  refine nm_r (e' := 3 * nI n) (by rw [nI_clamp (by omega), pk_us]) (nm_e (nm_e ?_))
  refine nm_r (e' := nI (st + 1)) (by rw [hst, nI_1]) ?_
  exact And.intro (vp_in_nI (by omega) (by decide)) (nm_r (e' := upd a_begun s (nI (st + 1))) (by rw [nI_clamp (by omega)]) hp)
end
end
section
theorem wm_rk_d {o : Nat} (h : o = 0 ∨ 13 < o ∨ (4 < o ∧ o < 9)) (x y n : Int32) : wm_rk o x y n = x := by
  unfold wm_rk
  rw [if_neg (show ¬ o = 1 by omega), if_neg (show ¬ o = 2 by omega), if_neg (show ¬ o = 3 by omega), if_neg (show ¬ o = 4 by omega), if_neg (show ¬ o = 9 by omega), if_neg (show ¬ o = 10 by omega), if_neg (show ¬ o = 11 by omega), if_neg (show ¬ o = 12 by omega), if_neg (show ¬ o = 13 by omega)]
theorem wm_rk9 (x y n : Int32) : wm_rk 9 x y n = if y ≤ x then 0 else 1 := rfl
theorem wm_rk13 (x y n : Int32) : wm_rk 13 x y n = if y = 0 then 0 else x / y := rfl
theorem xx_reckon {post : Int32 → Prop} {o : Nat} {x y n : Int32} (ho : o < 16) (h : post (wm_rk o x y n)) : wpX_reckon post (nI o) x y n := by
  have dd : (o = 0 ∨ 13 < o ∨ (4 < o ∧ o < 9)) → post x := fun q => by rw [wm_rk_d q] at h; exact h
  refine pk_lt o 1 (fun z => dd (by omega)) (fun z => pk_lt 13 o (fun z' => dd (by omega)) (fun z' => ?_))
  refine pk_eq o 1 (fun e => by subst e; exact h) (fun _ => ?_)
  refine pk_eq o 2 (fun e => by subst e; exact h) (fun _ => ?_)
  refine pk_eq o 3 (fun e => by subst e; exact h) (fun _ => ?_)
  refine pk_eq o 4 (fun e => by subst e; exact h) (fun _ => ?_)
  refine pk_eq o 5 (fun e => dd (by omega)) (fun _ => ?_)
  refine pk_eq o 6 (fun e => dd (by omega)) (fun _ => ?_)
  refine pk_eq o 7 (fun e => dd (by omega)) (fun _ => ?_)
  refine pk_eq o 8 (fun e => dd (by omega)) (fun _ => ?_)
  refine pk_eq o 9 (fun e => ?_) (fun _ => ?_)
  · subst e
    rw [wm_rk9] at h
    exact br_c (fun q => by rw [if_pos q] at h; exact h) (fun q => by rw [if_neg q] at h; exact h)
  refine pk_eq o 10 (fun e => by subst e; exact h) (fun _ => ?_)
  refine pk_eq o 11 (fun e => by subst e; exact h) (fun _ => ?_)
  refine pk_eq o 12 (fun e => by subst e; exact h) (fun _ => ?_)
  refine pk_eq o 13 (fun e => ?_) (fun _ => trivial)
  subst e
  rw [wm_rk13] at h
  exact br_c (fun q => by rw [if_pos q] at h; exact h) (fun q => And.intro q (by rw [if_neg q] at h; exact h))
/-! arrivals -/
def wm_arr (ar rs tg : Nat → Int32) (t : Int32) : Nat → (Nat → Int32) → (Nat → Int32)
  | 0, R => R
  | c + 1, R => if ar c = t then upd (wm_arr ar rs tg t c R) (tg c).toNatClampNeg (rs c) else wm_arr ar rs tg t c R
theorem wm_arr_t {ar rs tg R : Nat → Int32} {t : Int32} {c : Nat} (h : ar c = t) : wm_arr ar rs tg t (c + 1) R = upd (wm_arr ar rs tg t c R) (tg c).toNatClampNeg (rs c) := if_pos h
theorem wm_arr_f {ar rs tg R : Nat → Int32} {t : Int32} {c : Nat} (h : ¬ ar c = t) : wm_arr ar rs tg t (c + 1) R = wm_arr ar rs tg t c R := if_neg h
theorem wm_arr_2 {ar rs tg R : Nat → Int32} {t : Int32} {r : Nat} : ∀ cm, (∀ c, c < cm → ¬ (ar c = t ∧ (tg c).toNatClampNeg = r)) → wm_arr ar rs tg t cm R r = R r := by
  intro cm
  induction cm with
  | zero => intro _; rfl
  | succ c ih =>
    intro h
    have i := ih (fun c hc => h c (by omega))
    by_cases z : ar c = t
    · rw [wm_arr_t z, pk_un (fun e => h c (by omega) ⟨z, e.symm⟩)]; exact i
    · rw [wm_arr_f z]; exact i
theorem wm_arr_1 {ar rs tg R : Nat → Int32} {t : Int32} {r : Nat} : ∀ cm, (∀ c c', c < cm → c' < cm → ar c = t → (tg c).toNatClampNeg = r → ar c' = t → (tg c').toNatClampNeg = r → rs c = rs c') → ∀ c, c < cm → ar c = t → (tg c).toNatClampNeg = r → wm_arr ar rs tg t cm R r = rs c := by
  intro cm
  induction cm with
  | zero => intro _ c hc; omega
  | succ m ih =>
    intro u c hc e1 e2
    have i := ih (fun c c' h1 h2 => u c c' (by omega) (by omega))
    by_cases z : ar m = t
    · rw [wm_arr_t z]
      by_cases y : (tg m).toNatClampNeg = r
      · rw [y, pk_us]
        exact u m c (by omega) hc z y e1 e2
      · rw [pk_un (fun q => y q.symm)]
        have : c ≠ m := fun q => y (by rw [← q]; exact e2)
        exact i c (by omega) e1 e2
    · rw [wm_arr_f z]
      have : c ≠ m := fun q => z (by rw [← q]; exact e1)
      exact i c (by omega) e1 e2
section
variable {f_pc f_wide f_logged f_coming f_next f_time f_makingTime f_made f_reused f_started f_done : Int32} {a_registers a_words a_begins a_lengths a_times a_begun a_ops a_goal a_left a_right a_numbers a_cycles a_order a_before a_logAt a_logValue a_arrives a_result a_target : Nat → Int32}
theorem xx_ar_l {post : SX → Prop} {t : Int32} {cm : Nat} (hcm : f_coming = nI cm) (c8 : cm ≤ 8) (htg : ∀ c, c < cm → vp_in (a_target c) 8) (hp : post (f_pc, f_wide, f_logged, f_coming, f_next, f_time, f_makingTime, f_made, f_reused, f_started, f_done, (wm_arr a_arrives a_result a_target t cm a_registers), a_words, a_begins, a_lengths, a_times, a_begun, a_ops, a_goal, a_left, a_right, a_numbers, a_cycles, a_order, a_before, a_logAt, a_logValue, a_arrives, a_result, a_target)) : ∀ f c, c ≤ cm → cm < c + f → wX_arrive_2 post t f_pc f_wide f_logged f_coming f_next f_time f_makingTime f_made f_reused f_started f_done f (nI c) (wm_arr a_arrives a_result a_target t c a_registers) a_words a_begins a_lengths a_times a_begun a_ops a_goal a_left a_right a_numbers a_cycles a_order a_before a_logAt a_logValue a_arrives a_result a_target := by
  intro f
  induction f with
  | zero => intro c h1 h2; omega
  | succ f ih =>
    intro c h1 h2
    refine pk_le cm c (fun z => ?_) (fun z => ?_) hcm
    · have : c = cm := by omega
      subst this
      exact hp
    · have K := ih (c + 1) z (by omega)
      refine And.intro (vp_in_nI (by omega) (by decide)) ?_
      rw [nI_clamp (by omega)]
      refine br_c (fun e => ?_) (fun e => nm_r (nI_1 c) (by rw [wm_arr_f e] at K; exact K))
      rw [wm_arr_t e] at K
      exact And.intro (vp_in_nI (by omega) (by decide)) (And.intro (vp_in_nI (by omega) (by decide)) (And.intro (htg c z) (nm_e (nm_r (nI_1 c) K))))
theorem xx_arrive {post : SX → Prop} {t : Int32} {cm : Nat} (hcm : f_coming = nI cm) (c8 : cm ≤ 8) (htg : ∀ c, c < cm → vp_in (a_target c) 8) (hp : post (f_pc, f_wide, f_logged, f_coming, f_next, f_time, f_makingTime, f_made, f_reused, f_started, f_done, (wm_arr a_arrives a_result a_target t cm a_registers), a_words, a_begins, a_lengths, a_times, a_begun, a_ops, a_goal, a_left, a_right, a_numbers, a_cycles, a_order, a_before, a_logAt, a_logValue, a_arrives, a_result, a_target)) : wpX_arrive post (f_pc, f_wide, f_logged, f_coming, f_next, f_time, f_makingTime, f_made, f_reused, f_started, f_done, a_registers, a_words, a_begins, a_lengths, a_times, a_begun, a_ops, a_goal, a_left, a_right, a_numbers, a_cycles, a_order, a_before, a_logAt, a_logValue, a_arrives, a_result, a_target) t :=
  ⟨cm + 1, xx_ar_l hcm c8 htg hp (cm + 1) 0 (by omega) (by omega)⟩
variable {post : Int32 → SX → Prop} {s b n k t lg cm : Nat}
theorem xx_keep {x : Nat} {v : Int32} (hs : s < 5) (hb : a_begins s = nI b) (hl : a_lengths s = nI n) (b64 : b < 64) (n8 : n ≤ 8) (hx : x < 64) (l8 : lg < 8) (hlg : f_logged = nI lg) (h1 : ¬ (b ≤ x ∧ x < b + n) → post 1 (f_pc, f_wide, (nI (lg + 1)), f_coming, f_next, f_time, f_makingTime, f_made, f_reused, f_started, f_done, a_registers, (upd a_words x v), a_begins, a_lengths, a_times, a_begun, a_ops, a_goal, a_left, a_right, a_numbers, a_cycles, a_order, a_before, (upd a_logAt lg (nI x)), (upd a_logValue lg (a_words x)), a_arrives, a_result, a_target)) (h0 : b ≤ x ∧ x < b + n → post 0 (f_pc, f_wide, f_logged, f_coming, f_next, f_time, f_makingTime, f_made, f_reused, f_started, f_done, a_registers, a_words, a_begins, a_lengths, a_times, a_begun, a_ops, a_goal, a_left, a_right, a_numbers, a_cycles, a_order, a_before, a_logAt, a_logValue, a_arrives, a_result, a_target)) : wpX_keep post (f_pc, f_wide, f_logged, f_coming, f_next, f_time, f_makingTime, f_made, f_reused, f_started, f_done, a_registers, a_words, a_begins, a_lengths, a_times, a_begun, a_ops, a_goal, a_left, a_right, a_numbers, a_cycles, a_order, a_before, a_logAt, a_logValue, a_arrives, a_result, a_target) (nI s) (nI x) v := by
  subst hlg
  have k29 : ¬ (b ≤ x ∧ x < b + n) → wX_keep_29 post (nI x) v f_pc f_wide (nI lg) f_coming f_next f_time f_makingTime f_made f_reused f_started f_done a_registers a_words a_begins a_lengths a_times a_begun a_ops a_goal a_left a_right a_numbers a_cycles a_order a_before a_logAt a_logValue a_arrives a_result a_target := fun q => by
    refine And.intro (vp_in_nI l8 (by decide)) (nm_r (e' := upd a_logAt lg (nI x)) (by rw [nI_clamp (by omega)]) (nm_r (nI_1 lg) ?_))
    refine And.intro (vp_in_nI hx (by decide)) (And.intro (vp_in_nI l8 (by decide)) (nm_r (e' := upd a_logValue lg (a_words x)) (by rw [nI_clamp (show lg < 2 ^ 31 by omega), nI_clamp (show x < 2 ^ 31 by omega)]) ?_))
    exact And.intro (vp_in_nI hx (by decide)) (nm_r (e' := upd a_words x v) (by rw [nI_clamp (by omega)]) (h1 q))
  refine And.intro (vp_in_nI hs (by decide)) ?_
  rw [nI_clamp (show s < 2 ^ 31 by omega), hb, hl]
  refine pk_lt x b (fun z => k29 (by omega)) (fun z => ?_)
  refine And.intro (vp_in_nI hs (by decide)) (And.intro (vp_in_nI hs (by decide)) ?_)
  rw [nI_add]
  exact pk_le (b + n) x (fun y => k29 (by omega)) (fun y => h0 ⟨z, y⟩)
variable {O D A B : Nat → Nat} {N : Nat → Int32}
theorem xx_i117 {x y : Int32} (hs : s < 5) (hk : k < 8) (hl : a_lengths s = nI n) (c8 : cm < 8) (hcm : f_coming = nI cm) (so : O k < 16) (sd : D k < 8) (eg : a_goal (8 * s + k) = nI (D k)) (en : a_numbers (8 * s + k) = N k) (n13 : ¬ 13 < O k)
    (fW : wm_W (O k) → post 1 (f_pc, f_wide, f_logged, (nI (cm + 1)), f_next, f_time, f_makingTime, f_made, f_reused, f_started, f_done, a_registers, a_words, a_begins, a_lengths, a_times, a_begun, a_ops, a_goal, a_left, a_right, a_numbers, a_cycles, a_order, a_before, a_logAt, a_logValue, (upd a_arrives cm (nI (t + wm_L (O k) - 1))), (upd a_result cm (wm_rk (O k) x y (N k))), (upd a_target cm (nI (D k)))))
    (fN : ¬ wm_W (O k) → post 1 (f_pc, f_wide, f_logged, f_coming, (if O k = 7 ∨ (O k = 8 ∧ x = 0) then N k &&& 63 else if O k = 0 then f_pc + nI n - 1 else f_next), f_time, f_makingTime, f_made, f_reused, f_started, f_done, a_registers, a_words, a_begins, a_lengths, a_times, a_begun, a_ops, a_goal, a_left, a_right, a_numbers, a_cycles, a_order, a_before, a_logAt, a_logValue, a_arrives, a_result, a_target)) : wX_issue_117 post (nI s) (nI (8 * s + k)) (nI t) (nI (O k)) x y f_pc f_wide f_logged f_coming f_next f_time f_makingTime f_made f_reused f_started f_done a_registers a_words a_begins a_lengths a_times a_begun a_ops a_goal a_left a_right a_numbers a_cycles a_order a_before a_logAt a_logValue a_arrives a_result a_target := by
  subst hcm
  refine xx_writes so (fun w => br_f (by decide) ?_) (fun w => br_t rfl ?_)
  · refine xx_latency so ?_
    refine And.intro (vp_in_nI c8 (by decide)) (nm_r (e' := upd a_arrives cm (nI (t + wm_L (O k) - 1))) (by rw [nI_clamp (show cm < 2 ^ 31 by omega), nI_add]; exact congrArg (upd a_arrives cm) (pk_sub (b := 1) (by have := wm_L_pos (O k); omega))) ?_)
    refine And.intro (xx_in40 hs hk) (And.intro (vp_in_nI c8 (by decide)) (nm_r (e' := upd a_target cm (nI (D k))) (by rw [nI_clamp (show cm < 2 ^ 31 by omega), xx_at hs hk eg, wm_nb (by omega)]) (nm_r (nI_1 cm) (And.intro (xx_in40 hs hk) ?_))))
    rw [xx_at hs hk en]
    refine xx_reckon so ?_
    exact And.intro (vp_in_nI c8 (by decide)) (nm_r (e' := upd a_result cm (wm_rk (O k) x y (N k))) (by rw [nI_clamp (show cm < 2 ^ 31 by omega)]) (fW w))
  · have F := fN w
    have k211 : (O k = 7 ∨ (O k = 8 ∧ x = 0)) → wX_issue_211 post (nI (8 * s + k)) f_pc f_wide f_logged (nI cm) f_next f_time f_makingTime f_made f_reused f_started f_done a_registers a_words a_begins a_lengths a_times a_begun a_ops a_goal a_left a_right a_numbers a_cycles a_order a_before a_logAt a_logValue a_arrives a_result a_target := fun q => by
      rw [if_pos q] at F
      exact And.intro (xx_in40 hs hk) (nm_r (e' := N k &&& 63) (by rw [xx_at hs hk en]) F)
    have k227 : ¬ (O k = 7 ∨ (O k = 8 ∧ x = 0)) → wX_issue_227 post (nI s) (nI (O k)) f_pc f_wide f_logged (nI cm) f_next f_time f_makingTime f_made f_reused f_started f_done a_registers a_words a_begins a_lengths a_times a_begun a_ops a_goal a_left a_right a_numbers a_cycles a_order a_before a_logAt a_logValue a_arrives a_result a_target := fun q => by
      rw [if_neg q] at F
      refine pk_eq (O k) 0 (fun z => ?_) (fun z => ?_)
      · rw [if_pos z] at F
        exact And.intro (vp_in_nI hs (by decide)) (nm_r (e' := f_pc + nI n - 1) (by rw [nI_clamp (show s < 2 ^ 31 by omega), hl]) F)
      · rw [if_neg z] at F
        exact F
    exact pk_eq (O k) 7 (fun z => k211 (Or.inl z)) (fun z => pk_eq (O k) 8 (fun z' => br_c (fun q => k211 (Or.inr ⟨z', q⟩)) (fun q => k227 (fun u => u.elim z (fun u' => q u'.2)))) (fun z' => k227 (fun u => u.elim z (fun u' => z' u'.1))))
theorem xx_issue (hs : s < 5) (hk : k < 8) (hb : a_begins s = nI b) (hl : a_lengths s = nI n) (b64 : b < 64) (n8 : n ≤ 8) (l8 : lg < 8) (hlg : f_logged = nI lg) (c8 : cm < 8) (hcm : f_coming = nI cm) (so : O k < 16) (sd : D k < 8) (sa : A k < 8) (sb : B k < 8) (eo : a_ops (8 * s + k) = nI (O k)) (eg : a_goal (8 * s + k) = nI (D k)) (ea : a_left (8 * s + k) = nI (A k)) (eb : a_right (8 * s + k) = nI (B k)) (en : a_numbers (8 * s + k) = N k)
    (f0 : ¬ (wm_ok (O k) (A k) (B k) (N k) a_registers ∧ (O k = 6 → ∀ x, x < 64 → a_registers (A k) + N k = nI x → ¬ (b ≤ x ∧ x < b + n))) → post 0 (f_pc, f_wide, f_logged, f_coming, f_next, f_time, f_makingTime, f_made, f_reused, f_started, f_done, a_registers, a_words, a_begins, a_lengths, a_times, a_begun, a_ops, a_goal, a_left, a_right, a_numbers, a_cycles, a_order, a_before, a_logAt, a_logValue, a_arrives, a_result, a_target))
    (fS : O k = 6 → ∀ x, x < 64 → a_registers (A k) + N k = nI x → ¬ (b ≤ x ∧ x < b + n) → post 1 (f_pc, f_wide, (nI (lg + 1)), f_coming, f_next, f_time, f_makingTime, f_made, f_reused, f_started, f_done, a_registers, (upd a_words x (a_registers (B k))), a_begins, a_lengths, a_times, a_begun, a_ops, a_goal, a_left, a_right, a_numbers, a_cycles, a_order, a_before, (upd a_logAt lg (nI x)), (upd a_logValue lg (a_words x)), a_arrives, a_result, a_target))
    (fW : wm_W (O k) → wm_ok (O k) (A k) (B k) (N k) a_registers → post 1 (f_pc, f_wide, f_logged, (nI (cm + 1)), f_next, f_time, f_makingTime, f_made, f_reused, f_started, f_done, a_registers, a_words, a_begins, a_lengths, a_times, a_begun, a_ops, a_goal, a_left, a_right, a_numbers, a_cycles, a_order, a_before, a_logAt, a_logValue, (upd a_arrives cm (nI (t + wm_L (O k) - 1))), (upd a_result cm (wm_va (O k) (A k) (B k) (N k) a_registers a_words)), (upd a_target cm (nI (D k)))))
    (fN : ¬ wm_W (O k) → O k ≠ 6 → ¬ 13 < O k → post 1 (f_pc, f_wide, f_logged, f_coming, (if O k = 7 ∨ (O k = 8 ∧ a_registers (A k) = 0) then N k &&& 63 else if O k = 0 then f_pc + nI n - 1 else f_next), f_time, f_makingTime, f_made, f_reused, f_started, f_done, a_registers, a_words, a_begins, a_lengths, a_times, a_begun, a_ops, a_goal, a_left, a_right, a_numbers, a_cycles, a_order, a_before, a_logAt, a_logValue, a_arrives, a_result, a_target)) : wpX_issue post (f_pc, f_wide, f_logged, f_coming, f_next, f_time, f_makingTime, f_made, f_reused, f_started, f_done, a_registers, a_words, a_begins, a_lengths, a_times, a_begun, a_ops, a_goal, a_left, a_right, a_numbers, a_cycles, a_order, a_before, a_logAt, a_logValue, a_arrives, a_result, a_target) (nI s) (nI (8 * s + k)) (nI t) := by
  have e5 : ¬ O k = 5 → wm_va (O k) (A k) (B k) (N k) a_registers a_words = wm_rk (O k) (a_registers (A k)) (a_registers (B k)) (N k) := fun q => by unfold wm_va; rw [if_neg q]
  refine And.intro (xx_in40 hs hk) (nm_r (xx_at hs hk eo) (And.intro (xx_in40 hs hk) ?_))
  rw [xx_at hs hk ea, nI_clamp (show A k < 2 ^ 31 by omega), xx_at hs hk eb, nI_clamp (show B k < 2 ^ 31 by omega)]
  refine And.intro (vp_in_nI sa (by decide)) (nm_e (And.intro (xx_in40 hs hk) (And.intro (vp_in_nI sb (by decide)) (nm_e ?_))))
  refine pk_lt 13 (O k) (fun z => f0 (fun q => q.1.1 z)) (fun z => ?_)
  have z := Nat.not_lt.mpr z
  have k68 : wm_M (O k) → wX_issue_68 post (nI s) (nI (8 * s + k)) (nI t) (nI (O k)) (a_registers (A k)) (a_registers (B k)) f_pc f_wide f_logged f_coming f_next f_time f_makingTime f_made f_reused f_started f_done a_registers a_words a_begins a_lengths a_times a_begun a_ops a_goal a_left a_right a_numbers a_cycles a_order a_before a_logAt a_logValue a_arrives a_result a_target := fun m => by
    refine And.intro (xx_in40 hs hk) (nm_r (e' := a_registers (A k) + N k) (by rw [xx_at hs hk en]) ?_)
    refine xx_in (N := 64) (by decide) (fun x hx e => br_f (by decide) ?_) (fun q => br_t rfl (f0 (fun u => q (u.1.2.2 m))))
    rw [e]
    refine pk_eq (O k) 6 (fun o6 => ?_) (fun o6 => ?_)
    · refine xx_keep hs hb hl b64 n8 hx l8 hlg (fun q => And.intro rfl (fS o6 x hx e q)) (fun q => And.intro rfl (f0 (fun u => u.2 o6 x hx e q)))
    · have o5 : O k = 5 := by omega
      refine And.intro (vp_in_nI hx (by decide)) (nm_r (e' := a_words x) (by rw [nI_clamp (by omega)]) ?_)
      refine xx_i117 hs hk hl c8 hcm so sd eg en z (fun w => ?_) (fun w => by omega)
      have F := fW w ⟨z, fun q => by omega, fun _ => ⟨x, hx, e⟩⟩
      unfold wm_va at F
      rw [if_pos o5, e, nI_clamp (show x < 2 ^ 31 by omega)] at F
      exact F
  have k55 : ¬ (O k = 13 ∧ a_registers (B k) = 0) → wX_issue_55 post (nI s) (nI (8 * s + k)) (nI t) (nI (O k)) (a_registers (A k)) (a_registers (B k)) f_pc f_wide f_logged f_coming f_next f_time f_makingTime f_made f_reused f_started f_done a_registers a_words a_begins a_lengths a_times a_begun a_ops a_goal a_left a_right a_numbers a_cycles a_order a_before a_logAt a_logValue a_arrives a_result a_target := fun d =>
    pk_eq (O k) 5 (fun q => k68 (Or.inl q)) (fun q5 => pk_eq (O k) 6 (fun q => k68 (Or.inr q)) (fun q6 => xx_i117 hs hk hl c8 hcm so sd eg en z (fun w => by rw [← e5 q5]; exact fW w ⟨z, d, fun m => by omega⟩) (fun w => fN w q6 z)))
  exact pk_eq (O k) 13 (fun q => br_c (fun y => f0 (fun u => u.1.2.1 ⟨q, y⟩)) (fun y => k55 (fun u => y u.2))) (fun q => k55 (fun u => q u.1))
end
end
section
/-! the invariant of a run by cycles -/
def wm_Inv (O D A B : Nat → Nat) (N : Nat → Int32) (S : Nat → (Nat → Int32) × (Nat → Int32)) (cy π : Nat → Nat) (n b p t q0 lg cm : Nat) (nx : Int32) (R W la lv ar rs tg : Nat → Int32) : Prop :=
  wm_IT cy π n t q0 ∧ wm_IR O D cy S n t R ∧ wm_IW O S n (wm_iss π q0) W ∧ wm_IC O D cy S (wm_iss π q0) cm ar rs tg ∧ cm ≤ q0 ∧ wm_IL O A N S (wm_iss π q0) lg la ∧ lg ≤ q0 ∧ wm_undo la lv lg W = (S 0).2 ∧ wm_IK O A B N S b n (wm_iss π q0) ∧ wm_IN O A N S p n (wm_iss π q0) nx ∧ ∀ j, 8 ≤ j → R j = (S 0).1 j
section
variable {O D A B : Nat → Nat} {N : Nat → Int32} {S : Nat → (Nat → Int32) × (Nat → Int32)} {cy π : Nat → Nat} {w n b p t q0 lg cm : Nat} {nx : Int32} {R W la lv ar rs tg : Nat → Int32}
theorem wm_ok_eq {o a c : Nat} {nn : Int32} {R R' : Nat → Int32} (h : ∀ r, (wm_R1 o ∧ a = r) ∨ (wm_R2 o ∧ c = r) → R r = R' r) : wm_ok o a c nn R ↔ wm_ok o a c nn R' := by
  have k : ∀ {R R' : Nat → Int32}, (∀ r, (wm_R1 o ∧ a = r) ∨ (wm_R2 o ∧ c = r) → R r = R' r) → wm_ok o a c nn R → wm_ok o a c nn R' := fun {R R'} h q => by
    refine ⟨q.1, fun z => q.2.1 ⟨z.1, by rw [h c (Or.inr ⟨by omega, rfl⟩)]; exact z.2⟩, fun m => ?_⟩
    obtain ⟨x, hx, e⟩ := q.2.2 m
    exact ⟨x, hx, by rw [← h a (Or.inl ⟨by omega, rfl⟩)]; exact e⟩
  exact ⟨k h, k (fun r hr => (h r hr).symm)⟩
theorem wm_va_eq {o a c : Nat} {nn : Int32} {R R' W W' : Nat → Int32} (hw : wm_W o) (h : ∀ r, (wm_R1 o ∧ a = r) ∨ (wm_R2 o ∧ c = r) → R r = R' r) (h5 : o = 5 → W = W') : wm_va o a c nn R W = wm_va o a c nn R' W' := by
  unfold wm_va
  have ea := h a (Or.inl ⟨by omega, rfl⟩)
  have x : (if o = 5 then W (R a + nn).toNatClampNeg else R a) = (if o = 5 then W' (R' a + nn).toNatClampNeg else R' a) := by
    by_cases z : o = 5
    · rw [if_pos z, if_pos z, ea, h5 z]
    · rw [if_neg z, if_neg z, ea]
  rw [x]
  by_cases z : wm_R2 o
  · rw [h c (Or.inr ⟨z, rfl⟩)]
  · exact wm_rk_y z _ _ _ _
theorem wm_Inv_rd (hSch : wm_Sch O D A B w n cy) (hO : wm_Ord cy n π) (I : wm_Inv O D A B N S cy π n b p t q0 lg cm nx R W la lv ar rs tg) (hq : q0 < n) (e : cy (π q0) = t) : ∀ r, wm_rd O A B (π q0) r → R r = (S (π q0)).1 r := fun r hr => wm_read hSch I.2.1 (hO.1 q0 hq) e hr
theorem wm_Inv_W (hS : wm_Sq O D A B N S) (hSch : wm_Sch O D A B w n cy) (hO : wm_Ord cy n π) (hL : ∀ i, i + 1 < n → ¬ wm_E (O i)) (I : wm_Inv O D A B N S cy π n b p t q0 lg cm nx R W la lv ar rs tg) (hq : q0 < n) (e : cy (π q0) = t) (hw : wm_W (O (π q0))) (ok : wm_ok (O (π q0)) (A (π q0)) (B (π q0)) (N (π q0)) R) :
    wm_Inv O D A B N S cy π n b p t (q0 + 1) lg (cm + 1) nx R W la lv (upd ar cm (nI (t + wm_L (O (π q0)) - 1))) (upd rs cm (wm_va (O (π q0)) (A (π q0)) (B (π q0)) (N (π q0)) R W)) (upd tg cm (nI (D (π q0)))) := by
  have rd := wm_Inv_rd hSch hO I hq e
  obtain ⟨iT, iR, iW, iC, c1, iL, l1, iU, iK, iN, i8⟩ := I
  have hi : ∀ j, wm_iss π (q0 + 1) j ↔ wm_iss π q0 j ∨ j = π q0 := fun j => wm_iss_s
  refine ⟨wm_IT_s hO iT hq e, iR, wm_IW_o hi (by omega) iW, wm_IC_s hi hw iC (by rw [e]) rfl ?_, by omega, wm_IL_o hi (by omega) iL, by omega, iU, wm_IK_s hi iK ((wm_ok_eq rd).mp ok) (fun z => by omega), wm_IN_o hi (wm_iss_n hO hq) (by omega) iN, i8⟩
  rw [wm_S_d hS hw]
  exact wm_va_eq hw rd (fun z => wm_readW hSch hO iT iW hq e (Or.inl z))
theorem wm_Inv_S (hS : wm_Sq O D A B N S) (hSch : wm_Sch O D A B w n cy) (hO : wm_Ord cy n π) (I : wm_Inv O D A B N S cy π n b p t q0 lg cm nx R W la lv ar rs tg) (hq : q0 < n) (e : cy (π q0) = t) (h6 : O (π q0) = 6) {x : Nat} (hx : x < 64) (ex : R (A (π q0)) + N (π q0) = nI x) (nh : ¬ (b ≤ x ∧ x < b + n)) :
    wm_Inv O D A B N S cy π n b p t (q0 + 1) (lg + 1) cm nx R (upd W x (R (B (π q0)))) (upd la lg (nI x)) (upd lv lg (W x)) ar rs tg := by
  have rd := wm_Inv_rd hSch hO I hq e
  obtain ⟨iT, iR, iW, iC, c1, iL, l1, iU, iK, iN, i8⟩ := I
  have hi : ∀ j, wm_iss π (q0 + 1) j ↔ wm_iss π q0 j ∨ j = π q0 := fun j => wm_iss_s
  have rA := rd (A (π q0)) (Or.inl ⟨by omega, rfl⟩)
  have rB := rd (B (π q0)) (Or.inr ⟨by omega, rfl⟩)
  have ex' : (S (π q0)).1 (A (π q0)) + N (π q0) = nI x := by rw [← rA]; exact ex
  refine ⟨wm_IT_s hO iT hq e, iR, ?_, wm_IC_o hi (by omega) iC, by omega, wm_IL_s hi h6 iL ex'.symm, by omega, ?_, wm_IK_s hi iK ?_ (fun _ y hy ey => ?_), wm_IN_o hi (wm_iss_n hO hq) (by omega) iN, i8⟩
  · have k := wm_IW_s hS hi h6 (hO.1 q0 hq) (W := W) (fun j h1 h2 h3 => ?_) (wm_readW hSch hO iT iW hq e (Or.inr h6))
    · rw [ex', nI_clamp (by omega), ← rB] at k
      exact k
    · refine wm_iss_gt iT ?_
      rw [← e]
      exact wm_Sch_mem hSch h1 h2 (by omega)
  · rw [wm_undo_s la lv W lg x (nI x) _ (nI_clamp (by omega))]; exact iU
  · exact ⟨by omega, fun z => by omega, fun _ => ⟨x, hx, ex'⟩⟩
  · have : y = x := by
      rw [ex', nI_eq (by omega) (by omega)] at ey
      exact ey.symm
    rw [this]; exact nh
theorem wm_Inv_N (hSch : wm_Sch O D A B w n cy) (hO : wm_Ord cy n π) (hL : ∀ i, i + 1 < n → ¬ wm_E (O i)) (I : wm_Inv O D A B N S cy π n b p t q0 lg cm nx R W la lv ar rs tg) (hq : q0 < n) (e : cy (π q0) = t) (nw : ¬ wm_W (O (π q0))) (n6 : O (π q0) ≠ 6) (n13 : ¬ 13 < O (π q0)) :
    wm_Inv O D A B N S cy π n b p t (q0 + 1) lg cm (if O (π q0) = 7 ∨ (O (π q0) = 8 ∧ R (A (π q0)) = 0) then N (π q0) &&& 63 else if O (π q0) = 0 then nI p + nI n - 1 else nx) R W la lv ar rs tg := by
  have rd := wm_Inv_rd hSch hO I hq e
  obtain ⟨iT, iR, iW, iC, c1, iL, l1, iU, iK, iN, i8⟩ := I
  have hi : ∀ j, wm_iss π (q0 + 1) j ↔ wm_iss π q0 j ∨ j = π q0 := fun j => wm_iss_s
  have E : wm_E (O (π q0)) := by omega
  have kn := hO.1 q0 hq
  have kl : π q0 = n - 1 := by
    rcases Nat.lt_or_ge (π q0 + 1) n with z | z
    · exact absurd E (hL _ z)
    · omega
  refine ⟨wm_IT_s hO iT hq e, iR, wm_IW_o hi n6 iW, wm_IC_o hi nw iC, by omega, wm_IL_o hi n6 iL, by omega, iU, wm_IK_s hi iK ⟨n13, fun z => by omega, fun z => by omega⟩ (fun z => absurd z n6), wm_IN_e hi kl ?_, i8⟩
  unfold wm_nx
  by_cases z7 : O (π q0) = 7
  · rw [if_pos (Or.inl z7), if_pos (Or.inl z7)]
  · by_cases z8 : O (π q0) = 8
    · rw [rd (A (π q0)) (Or.inl ⟨by omega, rfl⟩), if_neg (show ¬ O (π q0) = 0 by omega), if_neg (show ¬ O (π q0) = 0 by omega), iN.1 (by rw [← kl]; exact wm_iss_n hO hq)]
    · have z0 : O (π q0) = 0 := by omega
      have g1 : ¬ (O (π q0) = 7 ∨ (O (π q0) = 8 ∧ R (A (π q0)) = 0)) := fun u => u.elim z7 (fun v => z8 v.1)
      have g2 : ¬ (O (π q0) = 7 ∨ (O (π q0) = 8 ∧ (S (π q0)).1 (A (π q0)) = 0)) := fun u => u.elim z7 (fun v => z8 v.1)
      rw [if_neg g1, if_neg g2, if_pos z0, if_pos z0]
theorem wm_Inv_A (hS : wm_Sq O D A B N S) (hSch : wm_Sch O D A B w n cy) (hO : wm_Ord cy n π) (hw : 1 ≤ w) (h8 : n ≤ 8) (hD : ∀ j, D j < 8) (ht : t < 100) (I : wm_Inv O D A B N S cy π n b p t q0 lg cm nx R W la lv ar rs tg) (hx : q0 < n → t < cy (π q0)) :
    wm_Inv O D A B N S cy π n b p (t + 1) q0 lg cm nx (wm_arr ar rs tg (nI t) cm R) W la lv ar rs tg := by
  obtain ⟨iT, iR, iW, iC, c1, iL, l1, iU, iK, iN, i8⟩ := I
  refine ⟨wm_IT_t hO iT hx, ?_, iW, iC, c1, iL, l1, iU, iK, iN, fun j hj => ?_⟩
  · refine wm_arrive hS hSch hO hw h8 hD ht iT hx iC iR (fun r c hc e1 e2 => ?_) (fun r h => wm_arr_2 cm h)
    exact wm_arr_1 cm (fun c c' h1 h2 g1 g2 g3 g4 => wm_IC_uniq hSch hw h8 hD (fun j hj => wm_iss_b hO iT hj) iC ht h1 h2 g1 g2 g3 g4) c hc e1 e2
  · rw [wm_arr_2 cm (fun c hc z => ?_)]
    · exact i8 j hj
    · obtain ⟨i, _, _, _, e, _⟩ := iC.1 c hc
      have := hD i
      have z2 := z.2
      rw [e, nI_clamp (by omega)] at z2
      omega
theorem wm_Inv_tg (hD : ∀ j, D j < 8) (I : wm_Inv O D A B N S cy π n b p t q0 lg cm nx R W la lv ar rs tg) : ∀ c, c < cm → vp_in (tg c) 8 := by
  obtain ⟨iT, iR, iW, iC, c1, iL, l1, iU, iK, iN, i8⟩ := I
  intro c hc
  obtain ⟨j, _, _, _, e, _⟩ := iC.1 c hc
  rw [e]
  exact vp_in_nI (hD j) (by decide)
/-- what a taking back needs -/
def wm_WK (S : Nat → (Nat → Int32) × (Nat → Int32)) (lg : Nat) (R W la lv : Nat → Int32) : Prop := lg ≤ 8 ∧ (∀ q, q < lg → ∃ x, x < 64 ∧ la q = nI x) ∧ wm_undo la lv lg W = (S 0).2 ∧ ∀ j, 8 ≤ j → R j = (S 0).1 j
theorem wm_Inv_la (I : wm_Inv O D A B N S cy π n b p t q0 lg cm nx R W la lv ar rs tg) : ∀ q, q < lg → ∃ x, x < 64 ∧ la q = nI x := by
  obtain ⟨iT, iR, iW, iC, c1, iL, l1, iU, iK, iN, i8⟩ := I
  intro q hq
  obtain ⟨j, ij, o6, e⟩ := iL.1 q hq
  obtain ⟨x, hx, ex⟩ := (iK j ij).1.2.2 (Or.inr o6)
  exact ⟨x, hx, e.trans ex⟩
theorem wm_Inv_WK (h8 : n ≤ 8) (hD : ∀ j, D j < 8) (I : wm_Inv O D A B N S cy π n b p t q0 lg cm nx R W la lv ar rs tg) (t' : Int32) : wm_WK S lg (wm_arr ar rs tg t' cm R) W la lv := by
  have l := wm_Inv_la I
  obtain ⟨iT, iR, iW, iC, c1, iL, l1, iU, iK, iN, i8⟩ := I
  refine ⟨by have := iT.1; omega, l, iU, fun j hj => ?_⟩
  rw [wm_arr_2 cm (fun c hc z => ?_)]
  · exact i8 j hj
  · obtain ⟨i, _, _, _, e, _⟩ := iC.1 c hc
    have := hD i
    have z2 := z.2
    rw [e, nI_clamp (by omega)] at z2
    omega
theorem wm_Inv_0 (hS : wm_Sq O D A B N S) (hO : wm_Ord cy n π) (h1 : ∀ k, k < n → 1 ≤ cy k) : wm_Inv O D A B N S cy π n b p 1 0 0 0 ((nI p + nI n) &&& 63) (S 0).1 (S 0).2 la lv ar rs tg :=
  ⟨wm_beg_T hO h1, wm_beg_R hS h1, wm_beg_W hS, wm_beg_C, Nat.le_refl _, wm_beg_L, Nat.le_refl _, rfl, wm_beg_K, wm_beg_N, fun _ _ => rfl⟩
end
/-! which of the kept blocks are left -/
def wm_ps (bg ln : Nat → Nat) (ad : Nat → Nat) : Nat → Nat → Nat → Bool
  | _, 0, _ => true
  | q, d + 1, s => wm_ps bg ln ad (q + 1) d s && !wm_hit bg ln (ad q) s
theorem wm_ps_iff {bg ln ad : Nat → Nat} {s : Nat} : ∀ d q, wm_ps bg ln ad q d s = true ↔ ∀ i, q ≤ i → i < q + d → wm_hit bg ln (ad i) s = false := by
  intro d
  induction d with
  | zero => intro q; exact ⟨fun _ i h1 h2 => by omega, fun _ => rfl⟩
  | succ d ih =>
    intro q
    show (wm_ps bg ln ad (q + 1) d s && !wm_hit bg ln (ad q) s) = true ↔ _
    rw [Bool.and_eq_true, ih (q + 1), Bool.not_eq_true']
    constructor
    · rintro ⟨h1, h2⟩ i h3 h4
      rcases Nat.eq_or_lt_of_le h3 with e | e
      · rw [← e]; exact h2
      · exact h1 i e (by omega)
    · intro h
      exact ⟨fun i h3 h4 => h i (by omega) (by omega), h q (Nat.le_refl _) (by omega)⟩
def wm_pq (bg ln O ad : Nat → Nat) : Nat → Nat → Bool
  | 0, _ => true
  | j + 1, s => (if O j = 6 then !wm_hit bg ln (ad j) s else true) && wm_pq bg ln O ad j s
theorem wm_pq_iff {bg ln O ad : Nat → Nat} {s : Nat} : ∀ j, wm_pq bg ln O ad j s = true ↔ ∀ i, i < j → O i = 6 → wm_hit bg ln (ad i) s = false := by
  intro j
  induction j with
  | zero => exact ⟨fun _ i h1 => by omega, fun _ => rfl⟩
  | succ j ih =>
    show ((if O j = 6 then !wm_hit bg ln (ad j) s else true) && wm_pq bg ln O ad j s) = true ↔ _
    rw [Bool.and_eq_true, ih]
    by_cases z : O j = 6
    · rw [if_pos z, Bool.not_eq_true']
      exact ⟨fun h => lt_s h.2 (fun _ => h.1), fun h => ⟨h j (by omega) z, fun i hi => h i (by omega)⟩⟩
    · rw [if_neg z]
      exact ⟨fun h => lt_s h.2 (fun y => absurd y z), fun h => ⟨rfl, fun i hi => h i (by omega)⟩⟩
theorem wm_pq_6 {bg ln O ad : Nat → Nat} {j : Nat} {L : List Nat} (h : O j = 6) : (L.filter (wm_pq bg ln O ad j)).filter (fun s => !wm_hit bg ln (ad j) s) = L.filter (wm_pq bg ln O ad (j + 1)) := by
  rw [List.filter_filter]
  refine List.filter_congr (fun s _ => ?_)
  show _ = ((if O j = 6 then !wm_hit bg ln (ad j) s else true) && wm_pq bg ln O ad j s)
  rw [if_pos h]
theorem wm_pq_n {bg ln O ad : Nat → Nat} {j : Nat} {L : List Nat} (h : ¬ O j = 6) : L.filter (wm_pq bg ln O ad j) = L.filter (wm_pq bg ln O ad (j + 1)) := by
  refine List.filter_congr (fun s _ => ?_)
  show _ = ((if O j = 6 then !wm_hit bg ln (ad j) s else true) && wm_pq bg ln O ad j s)
  rw [if_neg h]
  rfl
theorem wm_pq_0 {bg ln O ad : Nat → Nat} {L : List Nat} : L.filter (wm_pq bg ln O ad 0) = L := List.filter_eq_self.mpr (fun _ _ => rfl)
theorem wm_ps_pq {bg ln O A : Nat → Nat} {N : Nat → Int32} {S : Nat → (Nat → Int32) × (Nat → Int32)} {π cy : Nat → Nat} {n lg : Nat} {la : Nat → Int32} {L : List Nat} (hO : wm_Ord cy n π) (h : wm_IL O A N S (wm_iss π n) lg la) : L.filter (wm_ps bg ln (fun q => (la q).toNatClampNeg) 0 lg) = L.filter (wm_pq bg ln O (fun j => ((S j).1 (A j) + N j).toNatClampNeg) n) := by
  refine List.filter_congr (fun s _ => ?_)
  rw [Bool.eq_iff_iff, wm_ps_iff, wm_pq_iff]
  constructor
  · intro g j hj o6
    obtain ⟨q, hq, e⟩ := h.2 j (wm_fin_i hO hj) o6
    have := g q (Nat.zero_le _) (by omega)
    simp only [e] at this
    exact this
  · intro g q _ hq
    obtain ⟨j, ij, o6, e⟩ := h.1 q (by omega)
    obtain ⟨i, hi, ei⟩ := ij
    have := g j (by rw [← ei]; exact hO.1 i hi) o6
    simp only [e]
    exact this
end
section
def wm_XE (O D A B : Nat → Nat) (N : Nat → Int32) (cy π : Nat → Nat) (s n : Nat) (op go lf ri nu ca od : Nat → Int32) : Prop := ∀ i, i < n → op (8 * s + i) = nI (O i) ∧ go (8 * s + i) = nI (D i) ∧ lf (8 * s + i) = nI (A i) ∧ ri (8 * s + i) = nI (B i) ∧ nu (8 * s + i) = N i ∧ ca (8 * s + i) = nI (cy i) ∧ od (8 * s + i) = nI (π i)
def wm_SU (O D A B : Nat → Nat) (N : Nat → Int32) (S : Nat → (Nat → Int32) × (Nat → Int32)) (cy π : Nat → Nat) (s b n w : Nat) (be le ti op go lf ri nu ca od : Nat → Int32) : Prop :=
  s < 5 ∧ 1 ≤ n ∧ n ≤ 8 ∧ b < 64 ∧ 1 ≤ w ∧ wm_Sq O D A B N S ∧ wm_Sch O D A B w n cy ∧ wm_Ord cy n π ∧ (∀ i, i + 1 < n → ¬ wm_E (O i)) ∧ wm_XS O D A B ∧ wm_XE O D A B N cy π s n op go lf ri nu ca od ∧ be s = nI b ∧ le s = nI n ∧ ti s = nI (wm_tm O cy n)
section
variable {f_pc f_wide f_logged f_coming f_next f_time f_makingTime f_made f_reused f_started f_done : Int32} {a_registers a_words a_begins a_lengths a_times a_begun a_ops a_goal a_left a_right a_numbers a_cycles a_order a_before a_logAt a_logValue a_arrives a_result a_target : Nat → Int32}
variable {O D A B : Nat → Nat} {N : Nat → Int32} {S : Nat → (Nat → Int32) × (Nat → Int32)} {cy π : Nat → Nat} {s b n w p : Nat}
theorem xx_a80b {post : Int32 → SX → Prop} {J : (Int32 → Int32 → Int32 → Int32 → Int32 → Int32 → Int32 → Int32 → Int32 → Int32 → Int32 → Int32 → Int32 → Int32 → (Nat → Int32) → (Nat → Int32) → (Nat → Int32) → (Nat → Int32) → (Nat → Int32) → (Nat → Int32) → (Nat → Int32) → (Nat → Int32) → (Nat → Int32) → (Nat → Int32) → (Nat → Int32) → (Nat → Int32) → (Nat → Int32) → (Nat → Int32) → (Nat → Int32) → (Nat → Int32) → (Nat → Int32) → (Nat → Int32) → (Nat → Int32) → Prop)} {t q f : Nat} (U : wm_SU O D A B N S cy π s b n w a_begins a_lengths a_times a_ops a_goal a_left a_right a_numbers a_cycles a_order) (hq : q ≤ n) (h : wX_ahead_147 post J (nI s) (nI n) (nI q) 0 (nI t) f_pc f_wide f_logged f_coming f_next f_time f_makingTime f_made f_reused f_started f_done a_registers a_words a_begins a_lengths a_times a_begun a_ops a_goal a_left a_right a_numbers a_cycles a_order a_before a_logAt a_logValue a_arrives a_result a_target) : wX_ahead_80 post J (nI s) (nI n) (nI t) (f + 1) (nI q) 0 f_pc f_wide f_logged f_coming f_next f_time f_makingTime f_made f_reused f_started f_done a_registers a_words a_begins a_lengths a_times a_begun a_ops a_goal a_left a_right a_numbers a_cycles a_order a_before a_logAt a_logValue a_arrives a_result a_target := by
  obtain ⟨u1, u2, u3, u4, u5, uS, uSch, uO, uL, uX, uE, u6, u7, u8⟩ := U
  refine pk_le n q (fun z => h) (fun z => ?_)
  have eq := uE q z
  have eo := xx_at u1 (by omega) eq.2.2.2.2.2.2
  have pq := uO.1 q z
  rw [xx_ix, eo, xx_ix]
  exact And.intro (xx_in40 u1 (by omega)) (And.intro (xx_in40 u1 (by omega)) (br_c (fun _ => br_t rfl h) (fun _ => h)))
theorem xx_a80 {t : Nat} {R : Nat → Int32} (U : wm_SU O D A B N S cy π s b n w a_begins a_lengths a_times a_ops a_goal a_left a_right a_numbers a_cycles a_order) (hpc : f_pc = nI p) (ht : t < 100) : ∀ d q0 lg cm (nx : Int32) (W la lv ar rs tg : Nat → Int32), q0 + d = n → wm_Inv O D A B N S cy π n b p t q0 lg cm nx R W la lv ar rs tg →
    ∃ (g : Int32) (q1 x3 lg1 cm1 : Nat) (nx1 : Int32) (W1 la1 lv1 ar1 rs1 tg1 : Nat → Int32), ((g = 1 ∧ x3 = q1 ∧ (q1 < n → t < cy (π q1))) ∨ g = 0) ∧ wm_Inv O D A B N S cy π n b p t q1 lg1 cm1 nx1 R W1 la1 lv1 ar1 rs1 tg1 ∧
      ∀ (post : Int32 → SX → Prop) (J : (Int32 → Int32 → Int32 → Int32 → Int32 → Int32 → Int32 → Int32 → Int32 → Int32 → Int32 → Int32 → Int32 → Int32 → (Nat → Int32) → (Nat → Int32) → (Nat → Int32) → (Nat → Int32) → (Nat → Int32) → (Nat → Int32) → (Nat → Int32) → (Nat → Int32) → (Nat → Int32) → (Nat → Int32) → (Nat → Int32) → (Nat → Int32) → (Nat → Int32) → (Nat → Int32) → (Nat → Int32) → (Nat → Int32) → (Nat → Int32) → (Nat → Int32) → (Nat → Int32) → Prop)), wX_ahead_147 post J (nI s) (nI n) (nI x3) g (nI t) f_pc f_wide (nI lg1) (nI cm1) nx1 f_time f_makingTime f_made f_reused f_started f_done R W1 a_begins a_lengths a_times a_begun a_ops a_goal a_left a_right a_numbers a_cycles a_order a_before la1 lv1 ar1 rs1 tg1 → ∀ f, d + 1 < f → wX_ahead_80 post J (nI s) (nI n) (nI t) f (nI q0) 1 f_pc f_wide (nI lg) (nI cm) nx f_time f_makingTime f_made f_reused f_started f_done R W a_begins a_lengths a_times a_begun a_ops a_goal a_left a_right a_numbers a_cycles a_order a_before la lv ar rs tg := by
  subst hpc
  have UU := U
  obtain ⟨u1, u2, u3, u4, u5, uS, uSch, uO, uL, uX, uE, u6, u7, u8⟩ := U
  intro d
  induction d with
  | zero =>
    intro q0 lg cm nx W la lv ar rs tg hd I
    refine ⟨1, q0, q0, lg, cm, nx, W, la, lv, ar, rs, tg, Or.inl ⟨rfl, rfl, fun z => by omega⟩, I, fun post J h f hf => ?_⟩
    obtain ⟨f, rfl⟩ : ∃ g, f = g + 1 := ⟨f - 1, by omega⟩
    exact pk_le n q0 (fun _ => h) (fun z => by omega)
  | succ d ih =>
    intro q0 lg cm nx W la lv ar rs tg hd I
    have hq : q0 < n := by omega
    have kn := uO.1 q0 hq
    have k8 : π q0 < 8 := by omega
    have eq := uE q0 hq
    have ek := uE (π q0) kn
    have eo := xx_at u1 (by omega) eq.2.2.2.2.2.2
    have ec := xx_at u1 k8 ek.2.2.2.2.2.1
    have lk := wm_Sch_le u5 uSch (π q0) kn
    have cl : cm < 8 := by have := I.2.2.2.2.1; omega
    have ll : lg < 8 := by have := I.2.2.2.2.2.2.1; omega
    have nle : ¬ nI n ≤ nI q0 := nI_ge hq (by omega)
    by_cases e : cy (π q0) = t
    · by_cases good : wm_ok (O (π q0)) (A (π q0)) (B (π q0)) (N (π q0)) R ∧ (O (π q0) = 6 → ∀ x, x < 64 → R (A (π q0)) + N (π q0) = nI x → ¬ (b ≤ x ∧ x < b + n))
      · by_cases o6 : O (π q0) = 6
        · obtain ⟨x, hx, ex⟩ := good.1.2.2 (Or.inr o6)
          have nh := good.2 o6 x hx ex
          obtain ⟨g, q1, x3, lg1, cm1, nx1, W1, la1, lv1, ar1, rs1, tg1, h1, h2, h3⟩ := ih (q0 + 1) _ _ _ _ _ _ _ _ _ (by omega) (wm_Inv_S uS uSch uO I hq e o6 hx ex nh)
          refine ⟨g, q1, x3, lg1, cm1, nx1, W1, la1, lv1, ar1, rs1, tg1, h1, h2, fun post J h f hf => ?_⟩
          obtain ⟨f, rfl⟩ : ∃ g, f = g + 1 := ⟨f - 1, by omega⟩
          have K := h3 post J h f (by omega)
          refine br_f nle ?_
          rw [xx_ix, eo, xx_ix, ec]
          refine And.intro (xx_in40 u1 (by omega)) (And.intro (xx_in40 u1 k8) (br_t (by rw [e]) (br_f (by decide) (And.intro (xx_in40 u1 (by omega)) ?_))))
          refine xx_issue (lg := lg) (cm := cm) (O := O) (D := D) (A := A) (B := B) (N := N) u1 k8 u6 u7 u4 u3 ll rfl cl rfl (uX _).1 (uX _).2.1 (uX _).2.2.1 (uX _).2.2.2 ek.1 ek.2.1 ek.2.2.1 ek.2.2.2.1 ek.2.2.2.2.1 (fun z => absurd good z) (fun _ y hy ey _ => ?_) (fun z => by omega) (fun _ z => absurd o6 z)
          have : y = x := by
            rw [ex, nI_eq (by omega) (by omega)] at ey
            exact ey.symm
          subst this
          exact nm_r (nI_1 q0) K
        · by_cases w6 : wm_W (O (π q0))
          · obtain ⟨g, q1, x3, lg1, cm1, nx1, W1, la1, lv1, ar1, rs1, tg1, h1, h2, h3⟩ := ih (q0 + 1) _ _ _ _ _ _ _ _ _ (by omega) (wm_Inv_W uS uSch uO uL I hq e w6 good.1)
            refine ⟨g, q1, x3, lg1, cm1, nx1, W1, la1, lv1, ar1, rs1, tg1, h1, h2, fun post J h f hf => ?_⟩
            obtain ⟨f, rfl⟩ : ∃ g, f = g + 1 := ⟨f - 1, by omega⟩
            have K := h3 post J h f (by omega)
            refine br_f nle ?_
            rw [xx_ix, eo, xx_ix, ec]
            refine And.intro (xx_in40 u1 (by omega)) (And.intro (xx_in40 u1 k8) (br_t (by rw [e]) (br_f (by decide) (And.intro (xx_in40 u1 (by omega)) ?_))))
            refine xx_issue (lg := lg) (cm := cm) (O := O) (D := D) (A := A) (B := B) (N := N) u1 k8 u6 u7 u4 u3 ll rfl cl rfl (uX _).1 (uX _).2.1 (uX _).2.2.1 (uX _).2.2.2 ek.1 ek.2.1 ek.2.2.1 ek.2.2.2.1 ek.2.2.2.2.1 (fun z => absurd good z) (fun z => absurd z o6) (fun _ _ => ?_) (fun z => absurd w6 z)
            exact nm_r (nI_1 q0) K
          · obtain ⟨g, q1, x3, lg1, cm1, nx1, W1, la1, lv1, ar1, rs1, tg1, h1, h2, h3⟩ := ih (q0 + 1) _ _ _ _ _ _ _ _ _ (by omega) (wm_Inv_N uSch uO uL I hq e w6 o6 good.1.1)
            refine ⟨g, q1, x3, lg1, cm1, nx1, W1, la1, lv1, ar1, rs1, tg1, h1, h2, fun post J h f hf => ?_⟩
            obtain ⟨f, rfl⟩ : ∃ g, f = g + 1 := ⟨f - 1, by omega⟩
            have K := h3 post J h f (by omega)
            refine br_f nle ?_
            rw [xx_ix, eo, xx_ix, ec]
            refine And.intro (xx_in40 u1 (by omega)) (And.intro (xx_in40 u1 k8) (br_t (by rw [e]) (br_f (by decide) (And.intro (xx_in40 u1 (by omega)) ?_))))
            refine xx_issue (lg := lg) (cm := cm) (O := O) (D := D) (A := A) (B := B) (N := N) u1 k8 u6 u7 u4 u3 ll rfl cl rfl (uX _).1 (uX _).2.1 (uX _).2.2.1 (uX _).2.2.2 ek.1 ek.2.1 ek.2.2.1 ek.2.2.2.1 ek.2.2.2.2.1 (fun z => absurd good z) (fun z => absurd z o6) (fun z => absurd z w6) (fun _ _ _ => ?_)
            exact nm_r (nI_1 q0) K
      · refine ⟨0, q0, q0 + 1, lg, cm, nx, W, la, lv, ar, rs, tg, Or.inr rfl, I, fun post J h f hf => ?_⟩
        obtain ⟨f, rfl⟩ : ∃ g, f = g + 2 := ⟨f - 2, by omega⟩
        refine br_f nle ?_
        rw [xx_ix, eo, xx_ix, ec]
        refine And.intro (xx_in40 u1 (by omega)) (And.intro (xx_in40 u1 k8) (br_t (by rw [e]) (br_f (by decide) (And.intro (xx_in40 u1 (by omega)) ?_))))
        refine xx_issue (lg := lg) (cm := cm) (O := O) (D := D) (A := A) (B := B) (N := N) u1 k8 u6 u7 u4 u3 ll rfl cl rfl (uX _).1 (uX _).2.1 (uX _).2.2.1 (uX _).2.2.2 ek.1 ek.2.1 ek.2.2.1 ek.2.2.2.1 ek.2.2.2.2.1 (fun _ => ?_) (fun o6 x hx ex nh => ?_) (fun w6 ok => ?_) (fun nw n6 n13 => ?_)
        · exact nm_r (nI_1 q0) (xx_a80b UU (by omega) h)
        · exfalso
          refine good ⟨⟨by omega, fun z => by omega, fun _ => ⟨x, hx, ex⟩⟩, fun _ y hy ey => ?_⟩
          have : y = x := by
            rw [ex, nI_eq (by omega) (by omega)] at ey
            exact ey.symm
          rw [this]; exact nh
        · exact absurd ⟨ok, fun z => by omega⟩ good
        · exact absurd ⟨⟨n13, fun z => by omega, fun z => by omega⟩, fun z => absurd z n6⟩ good
    · refine ⟨1, q0, q0, lg, cm, nx, W, la, lv, ar, rs, tg, Or.inl ⟨rfl, rfl, fun z => ?_⟩, I, fun post J h f hf => ?_⟩
      · have := I.1.2.2 q0 (Nat.le_refl _) hq; omega
      · obtain ⟨f, rfl⟩ : ∃ g, f = g + 1 := ⟨f - 1, by omega⟩
        refine br_f nle ?_
        rw [xx_ix, eo, xx_ix, ec]
        exact And.intro (xx_in40 u1 (by omega)) (And.intro (xx_in40 u1 k8) (br_f (by rw [nI_eq (by omega) (by omega)]; exact e) h))
theorem xx_a64 (U : wm_SU O D A B N S cy π s b n w a_begins a_lengths a_times a_ops a_goal a_left a_right a_numbers a_cycles a_order) (hpc : f_pc = nI p) : ∀ d t q0 lg cm (nx : Int32) (R W la lv ar rs tg : Nat → Int32), t + d = wm_tm O cy n + 1 → wm_Inv O D A B N S cy π n b p t q0 lg cm nx R W la lv ar rs tg →
    ∃ (g : Int32) (lg1 cm1 : Nat) (nx1 : Int32) (R1 W1 la1 lv1 ar1 rs1 tg1 : Nat → Int32), ((g = 1 ∧ wm_Inv O D A B N S cy π n b p (wm_tm O cy n + 1) n lg1 cm1 nx1 R1 W1 la1 lv1 ar1 rs1 tg1) ∨ (g = 0 ∧ wm_WK S lg1 R1 W1 la1 lv1)) ∧
      ∀ (post : Int32 → SX → Prop), wX_ahead_159 post g f_pc f_wide (nI lg1) (nI cm1) nx1 f_time f_makingTime f_made f_reused f_started f_done R1 W1 a_begins a_lengths a_times a_begun a_ops a_goal a_left a_right a_numbers a_cycles a_order a_before la1 lv1 ar1 rs1 tg1 → ∀ f, d + 1 < f → wX_ahead_64 post (nI s) (nI n) f (nI q0) 1 (nI t) f_pc f_wide (nI lg) (nI cm) nx f_time f_makingTime f_made f_reused f_started f_done R W a_begins a_lengths a_times a_begun a_ops a_goal a_left a_right a_numbers a_cycles a_order a_before la lv ar rs tg := by
  have UU := U
  obtain ⟨u1, u2, u3, u4, u5, uS, uSch, uO, uL, uX, uE, u6, u7, u8⟩ := U
  have tl := wm_tm_le (O := O) (cy := cy) n (fun i hi => wm_Sch_le u5 uSch i hi)
  intro d
  induction d with
  | zero =>
    intro t q0 lg cm nx R W la lv ar rs tg hd I
    have qn := wm_fin_q (O := O) uO I.1 (by omega)
    refine ⟨1, lg, cm, nx, R, W, la, lv, ar, rs, tg, Or.inl ⟨rfl, ?_⟩, fun post h f hf => ?_⟩
    · rw [qn, show t = wm_tm O cy n + 1 from by omega] at I; exact I
    · obtain ⟨f, rfl⟩ : ∃ g, f = g + 1 := ⟨f - 1, by omega⟩
      refine And.intro (vp_in_nI u1 (by decide)) ?_
      rw [nI_clamp (by omega), u8]
      exact br_t (nI_lt (by omega) (by omega)) h
  | succ d ih =>
    intro t q0 lg cm nx R W la lv ar rs tg hd I
    have t1 : t < 100 := by omega
    have hD : ∀ j, D j < 8 := fun j => (uX j).2.1
    have q1 := I.1.1
    obtain ⟨g, q1, x3, lg1, cm1, nx1, W1, la1, lv1, ar1, rs1, tg1, h1, h2, h3⟩ := xx_a80 (f_time := f_time) (f_makingTime := f_makingTime) (f_made := f_made) (f_reused := f_reused) (f_started := f_started) (f_done := f_done) (f_wide := f_wide) (a_begun := a_begun) (a_before := a_before) (R := R) UU hpc t1 (n - q0) q0 lg cm nx W la lv ar rs tg (by omega) I
    have c8 : cm1 ≤ 8 := by have := h2.2.2.2.2.1; have := h2.1.1; omega
    rcases h1 with ⟨rfl, rfl, hx⟩ | rfl
    · obtain ⟨g, lg2, cm2, nx2, R2, W2, la2, lv2, ar2, rs2, tg2, k1, k2⟩ := ih (t + 1) x3 lg1 cm1 nx1 _ W1 la1 lv1 ar1 rs1 tg1 (by omega) (wm_Inv_A uS uSch uO u5 u3 hD t1 h2 hx)
      refine ⟨g, lg2, cm2, nx2, R2, W2, la2, lv2, ar2, rs2, tg2, k1, fun post h f hf => ?_⟩
      obtain ⟨f, rfl⟩ : ∃ g, f = g + 1 := ⟨f - 1, by omega⟩
      have K := k2 post h f (by omega)
      refine And.intro (vp_in_nI u1 (by decide)) ?_
      rw [nI_clamp (show s < 2 ^ 31 by omega), u8]
      refine br_f (nI_nlt (by omega) (by omega)) (br_f (by decide) ⟨n - q0 + 2, h3 post _ ?_ (n - q0 + 2) (by omega)⟩)
      unfold wX_ahead_147
      exact xx_arrive rfl c8 (wm_Inv_tg hD h2) (nm_r (nI_1 t) K)
    · refine ⟨0, lg1, cm1, nx1, wm_arr ar1 rs1 tg1 (nI t) cm1 R, W1, la1, lv1, ar1, rs1, tg1, Or.inr ⟨rfl, wm_Inv_WK u3 hD h2 _⟩, fun post h f hf => ?_⟩
      obtain ⟨f, rfl⟩ : ∃ g, f = g + 2 := ⟨f - 2, by omega⟩
      refine And.intro (vp_in_nI u1 (by decide)) ?_
      rw [nI_clamp (show s < 2 ^ 31 by omega), u8]
      refine br_f (nI_nlt (by omega) (by omega)) (br_f (by decide) ⟨n - q0 + 2, h3 post _ ?_ (n - q0 + 2) (by omega)⟩)
      unfold wX_ahead_147
      refine xx_arrive rfl c8 (wm_Inv_tg hD h2) (nm_r (nI_1 t) ?_)
      exact And.intro (vp_in_nI u1 (by decide)) (br_c (fun _ => h) (fun _ => br_t rfl h))
/-! all is taken back -/
theorem xx_a226 {post : Int32 → SX → Prop} : ∀ lg (W : Nat → Int32), lg ≤ 8 → (∀ q, q < lg → ∃ x, x < 64 ∧ a_logAt q = nI x) → post 0 (f_pc, f_wide, (nI 0), f_coming, f_next, f_time, f_makingTime, f_made, f_reused, f_started, f_done, a_registers, (wm_undo a_logAt a_logValue lg W), a_begins, a_lengths, a_times, a_begun, a_ops, a_goal, a_left, a_right, a_numbers, a_cycles, a_order, a_before, a_logAt, a_logValue, a_arrives, a_result, a_target) → ∀ f, lg < f → wX_ahead_226 post 0 f_pc f_wide f_coming f_next f_time f_makingTime f_made f_reused f_started f_done f (nI lg) a_registers W a_begins a_lengths a_times a_begun a_ops a_goal a_left a_right a_numbers a_cycles a_order a_before a_logAt a_logValue a_arrives a_result a_target := by
  intro lg
  induction lg with
  | zero =>
    intro W l8 hl hp f hf
    obtain ⟨f, rfl⟩ : ∃ g, f = g + 1 := ⟨f - 1, by omega⟩
    exact br_t (by decide) (And.intro rfl hp)
  | succ lg ih =>
    intro W l8 hl hp f hf
    obtain ⟨f, rfl⟩ : ∃ g, f = g + 1 := ⟨f - 1, by omega⟩
    obtain ⟨x, hx, ex⟩ := hl lg (by omega)
    refine br_f (nI_nle (by omega) (by omega)) (nm_r (nI_pred lg) ?_)
    rw [nI_clamp (show lg < 2 ^ 31 by omega)]
    refine And.intro (vp_in_nI (by omega) (by decide)) (And.intro (vp_in_nI (by omega) (by decide)) (And.intro (by rw [ex]; exact vp_in_nI hx (by decide)) (nm_e ?_)))
    exact ih _ (by omega) (fun q hq => hl q (by omega)) hp f (by omega)
theorem xx_a199 {post : Int32 → SX → Prop} {x4 : Int32} (hp : ∃ f, wX_ahead_226 post x4 f_pc f_wide f_coming f_next f_time f_makingTime f_made f_reused f_started f_done f f_logged (wm_put 0 8 a_before a_registers) a_words a_begins a_lengths a_times a_begun a_ops a_goal a_left a_right a_numbers a_cycles a_order a_before a_logAt a_logValue a_arrives a_result a_target) : ∀ f i, i ≤ 8 → 8 < i + f → wX_ahead_199 post x4 f_pc f_wide f_logged f_coming f_next f_time f_makingTime f_made f_reused f_started f_done f (nI i) (wm_put 0 i a_before a_registers) a_words a_begins a_lengths a_times a_begun a_ops a_goal a_left a_right a_numbers a_cycles a_order a_before a_logAt a_logValue a_arrives a_result a_target := by
  intro f
  induction f with
  | zero => intro i h1 h2; omega
  | succ f ih =>
    intro i h1 h2
    refine pk_le 8 i (fun z => ?_) (fun z => ?_)
    · have : i = 8 := by omega
      subst this
      exact hp
    · have e := wm_put_s 0 i a_before a_registers
      rw [Nat.zero_add] at e
      rw [nI_clamp (by omega), e]
      exact And.intro (vp_in_nI z (by decide)) (And.intro (vp_in_nI z (by decide)) (nm_e (nm_r (nI_1 i) (ih (i + 1) (by omega) (by omega)))))
theorem xx_a9 {post : Int32 → SX → Prop} (hp : ∃ f, wX_ahead_64 post (nI s) (nI n) f 0 1 1 f_pc f_wide 0 0 ((f_pc + nI n) &&& 63) f_time f_makingTime f_made f_reused f_started f_done a_registers a_words a_begins a_lengths a_times a_begun a_ops a_goal a_left a_right a_numbers a_cycles a_order (wm_put 0 8 a_registers a_before) a_logAt a_logValue a_arrives a_result a_target) : ∀ f i, i ≤ 8 → 8 < i + f → wX_ahead_9 post (nI s) (nI n) f_pc f_wide f_logged f_coming f_next f_time f_makingTime f_made f_reused f_started f_done f (nI i) a_registers a_words a_begins a_lengths a_times a_begun a_ops a_goal a_left a_right a_numbers a_cycles a_order (wm_put 0 i a_registers a_before) a_logAt a_logValue a_arrives a_result a_target := by
  intro f
  induction f with
  | zero => intro i h1 h2; omega
  | succ f ih =>
    intro i h1 h2
    refine pk_le 8 i (fun z => ?_) (fun z => ?_)
    · have : i = 8 := by omega
      subst this
      exact nm_e hp
    · have e := wm_put_s 0 i a_registers a_before
      rw [Nat.zero_add] at e
      rw [nI_clamp (by omega), e]
      exact And.intro (vp_in_nI z (by decide)) (And.intro (vp_in_nI z (by decide)) (nm_e (nm_r (nI_1 i) (ih (i + 1) (by omega) (by omega)))))
theorem xx_a167 {L : List Nat} {bg bu ln : Nat → Nat} {st lg : Nat} (l8 : lg ≤ 8) (hla : ∀ q, q < lg → ∃ x, x < 64 ∧ a_logAt q = nI x) (hl : ∀ s, s ∈ L → a_lengths s = nI (ln s) ∧ ln s ≤ 8) : ∀ d q (L1 : List Nat) (be : Nat → Int32), q + d = lg → (∀ s, s ∈ L1 → s ∈ L) → wm_KX L1 bg bu st be a_begun →
    ∃ be1, wm_KX (L1.filter (wm_ps bg ln (fun q => (a_logAt q).toNatClampNeg) q d)) bg bu st be1 a_begun ∧ ∀ (post : Int32 → SX → Prop), post 1 (f_pc, f_wide, (nI lg), f_coming, f_next, f_time, f_makingTime, f_made, f_reused, f_started, f_done, a_registers, a_words, be1, a_lengths, a_times, a_begun, a_ops, a_goal, a_left, a_right, a_numbers, a_cycles, a_order, a_before, a_logAt, a_logValue, a_arrives, a_result, a_target) → ∀ f, d < f → wX_ahead_167 post 1 f (nI q) f_pc f_wide (nI lg) f_coming f_next f_time f_makingTime f_made f_reused f_started f_done a_registers a_words be a_lengths a_times a_begun a_ops a_goal a_left a_right a_numbers a_cycles a_order a_before a_logAt a_logValue a_arrives a_result a_target := by
  intro d
  induction d with
  | zero =>
    intro q L1 be hq hs hK
    refine ⟨be, ?_, fun post hp f hf => ?_⟩
    · have e : L1.filter (wm_ps bg ln (fun q => (a_logAt q).toNatClampNeg) q 0) = L1 := List.filter_eq_self.mpr (fun _ _ => rfl)
      rw [e]; exact hK
    · obtain ⟨f, rfl⟩ : ∃ g, f = g + 1 := ⟨f - 1, by omega⟩
      exact pk_le lg q (fun _ => And.intro rfl hp) (fun z => by omega)
  | succ d ih =>
    intro q L1 be hq hs hK
    obtain ⟨x, hx, ex⟩ := hla q (by omega)
    obtain ⟨be1, k1, k2⟩ := ih (q + 1) _ _ (by omega) (fun s h => hs s (List.mem_filter.mp h).1) (wm_KX_tc hK ln x)
    refine ⟨be1, ?_, fun post hp f hf => ?_⟩
    · rw [List.filter_filter] at k1
      have e : L1.filter (wm_ps bg ln (fun q => (a_logAt q).toNatClampNeg) q (d + 1)) = L1.filter (fun s => wm_ps bg ln (fun q => (a_logAt q).toNatClampNeg) (q + 1) d s && !wm_hit bg ln x s) := by
        refine List.filter_congr (fun s _ => ?_)
        show (wm_ps bg ln (fun q => (a_logAt q).toNatClampNeg) (q + 1) d s && !wm_hit bg ln (a_logAt q).toNatClampNeg s) = _
        rw [ex, nI_clamp (by omega)]
      rw [e]; exact k1
    · obtain ⟨f, rfl⟩ : ∃ g, f = g + 1 := ⟨f - 1, by omega⟩
      refine pk_le lg q (fun z => by omega) (fun z => ?_)
      rw [nI_clamp (by omega), ex]
      refine And.intro (vp_in_nI (by omega) (by decide)) ?_
      exact xx_touched hK (fun s h => hl s (hs s h)) hx (nm_r (nI_1 q) (k2 post hp f (by omega)))
/-- a block by its cycles -/
theorem xx_ahead {L : List Nat} {bg bu ln : Nat → Nat} {st : Nat} (U : wm_SU O D A B N S cy π s b n w a_begins a_lengths a_times a_ops a_goal a_left a_right a_numbers a_cycles a_order) (hpc : f_pc = nI p) (e0 : a_registers = (S 0).1) (e1 : a_words = (S 0).2) (hK : wm_KX L bg bu st a_begins a_begun) (hl : ∀ s, s ∈ L → a_lengths s = nI (ln s) ∧ ln s ≤ 8) :
    ∃ (g lgv cmv nx : Int32) (R1 W1 be bf la lv ar rs tg : Nat → Int32), ((g = 1 ∧ R1 = (S n).1 ∧ W1 = (S n).2 ∧ nx = wm_nx (O (n - 1)) (A (n - 1)) (N (n - 1)) (S (n - 1)).1 p n ∧ (∀ j, j < n → wm_ok (O j) (A j) (B j) (N j) (S j).1 ∧ (O j = 6 → ∀ x, x < 64 → (S j).1 (A j) + N j = nI x → ¬ (b ≤ x ∧ x < b + n))) ∧ wm_KX (L.filter (wm_pq bg ln O (fun j => ((S j).1 (A j) + N j).toNatClampNeg) n)) bg bu st be a_begun) ∨ (g = 0 ∧ R1 = a_registers ∧ W1 = a_words ∧ be = a_begins)) ∧
      ∀ (post : Int32 → SX → Prop), post g (f_pc, f_wide, lgv, cmv, nx, f_time, f_makingTime, f_made, f_reused, f_started, f_done, R1, W1, be, a_lengths, a_times, a_begun, a_ops, a_goal, a_left, a_right, a_numbers, a_cycles, a_order, bf, la, lv, ar, rs, tg) → wpX_ahead post (f_pc, f_wide, f_logged, f_coming, f_next, f_time, f_makingTime, f_made, f_reused, f_started, f_done, a_registers, a_words, a_begins, a_lengths, a_times, a_begun, a_ops, a_goal, a_left, a_right, a_numbers, a_cycles, a_order, a_before, a_logAt, a_logValue, a_arrives, a_result, a_target) (nI s) := by
  have UU := U
  obtain ⟨u1, u2, u3, u4, u5, uS, uSch, uO, uL, uX, uE, u6, u7, u8⟩ := U
  obtain ⟨g, lg1, cm1, nx1, R1, W1, la1, lv1, ar1, rs1, tg1, k1, k2⟩ := xx_a64 (f_time := f_time) (f_makingTime := f_makingTime) (f_made := f_made) (f_reused := f_reused) (f_started := f_started) (f_done := f_done) (f_wide := f_wide) (a_begun := a_begun) (a_before := wm_put 0 8 a_registers a_before) UU hpc (wm_tm O cy n) 1 0 0 0 _ _ _ a_logAt a_logValue a_arrives a_result a_target (by omega) (wm_Inv_0 (b := b) (p := p) uS uO (fun k hk => (uSch k hk).1))
  have start : ∀ post : Int32 → SX → Prop, wX_ahead_159 post g f_pc f_wide (nI lg1) (nI cm1) nx1 f_time f_makingTime f_made f_reused f_started f_done R1 W1 a_begins a_lengths a_times a_begun a_ops a_goal a_left a_right a_numbers a_cycles a_order (wm_put 0 8 a_registers a_before) la1 lv1 ar1 rs1 tg1 → wpX_ahead post (f_pc, f_wide, f_logged, f_coming, f_next, f_time, f_makingTime, f_made, f_reused, f_started, f_done, a_registers, a_words, a_begins, a_lengths, a_times, a_begun, a_ops, a_goal, a_left, a_right, a_numbers, a_cycles, a_order, a_before, a_logAt, a_logValue, a_arrives, a_result, a_target) (nI s) := fun post h => by
    have K := k2 post h (wm_tm O cy n + 2) (by omega)
    rw [← e0, ← e1, ← hpc] at K
    refine And.intro (vp_in_nI u1 (by decide)) (nm_r (e' := nI n) (by rw [nI_clamp (by omega), u7]) ?_)
    have K9 := xx_a9 (f_logged := f_logged) (f_coming := f_coming) (f_next := f_next) (a_before := a_before) (s := s) (n := n) ⟨_, K⟩ 9 0 (by omega) (by omega)
    rw [wm_put_0] at K9
    exact ⟨9, K9⟩
  rcases k1 with ⟨rfl, I⟩ | ⟨rfl, l8, hla, hu, h8⟩
  · have l8 : lg1 ≤ 8 := by have := I.2.2.2.2.2.2.1; omega
    obtain ⟨be1, m1, m2⟩ := xx_a167 (f_pc := f_pc) (f_wide := f_wide) (f_coming := nI cm1) (f_next := nx1) (f_time := f_time) (f_makingTime := f_makingTime) (f_made := f_made) (f_reused := f_reused) (f_started := f_started) (f_done := f_done) (a_registers := R1) (a_words := W1) (a_times := a_times) (a_ops := a_ops) (a_goal := a_goal) (a_left := a_left) (a_right := a_right) (a_numbers := a_numbers) (a_cycles := a_cycles) (a_order := a_order) (a_before := wm_put 0 8 a_registers a_before) (a_logAt := la1) (a_logValue := lv1) (a_arrives := ar1) (a_result := rs1) (a_target := tg1) l8 (wm_Inv_la I) hl lg1 0 L a_begins (by omega) (fun _ h => h) hK
    rw [wm_ps_pq uO I.2.2.2.2.2.1] at m1
    refine ⟨1, nI lg1, nI cm1, nx1, R1, W1, be1, wm_put 0 8 a_registers a_before, la1, lv1, ar1, rs1, tg1, Or.inl ⟨rfl, wm_fin_R I.2.1 (by omega), wm_fin_W uO I.2.2.1, I.2.2.2.2.2.2.2.2.2.1.2 (wm_fin_i uO (by omega)), fun j hj => I.2.2.2.2.2.2.2.2.1 j (wm_fin_i uO hj), m1⟩, fun post hp => start post ?_⟩
    exact br_f (by decide) ⟨lg1 + 1, m2 post hp (lg1 + 1) (by omega)⟩
  · refine ⟨0, nI 0, nI cm1, nx1, a_registers, a_words, a_begins, wm_put 0 8 a_registers a_before, la1, lv1, ar1, rs1, tg1, Or.inr ⟨rfl, rfl, rfl, rfl⟩, fun post hp => start post ?_⟩
    refine br_t rfl ⟨9, ?_⟩
    have er : wm_put 0 8 (wm_put 0 8 a_registers a_before) R1 = a_registers := by
      funext j
      rcases Nat.lt_or_ge j 8 with z | z
      · have q1 := wm_put_i (off := 0) (n := 8) (f := wm_put 0 8 a_registers a_before) (a := R1) z
        have q2 := wm_put_i (off := 0) (n := 8) (f := a_registers) (a := a_before) z
        rw [Nat.zero_add] at q1 q2
        rw [q1, q2]
      · rw [wm_put_o (by omega), h8 j z, e0]
    have K := xx_a226 (f_pc := f_pc) (f_wide := f_wide) (f_coming := nI cm1) (f_next := nx1) (f_time := f_time) (f_makingTime := f_makingTime) (f_made := f_made) (f_reused := f_reused) (f_started := f_started) (f_done := f_done) (a_registers := wm_put 0 8 (wm_put 0 8 a_registers a_before) R1) (a_begins := a_begins) (a_lengths := a_lengths) (a_times := a_times) (a_begun := a_begun) (a_ops := a_ops) (a_goal := a_goal) (a_left := a_left) (a_right := a_right) (a_numbers := a_numbers) (a_cycles := a_cycles) (a_order := a_order) (a_before := wm_put 0 8 a_registers a_before) (a_logAt := la1) (a_logValue := lv1) (a_arrives := ar1) (a_result := rs1) (a_target := tg1) (post := post) lg1 W1 l8 hla (by rw [hu, ← e1, er]; exact hp) (lg1 + 1) (by omega)
    have K2 := xx_a199 (a_registers := R1) (a_before := wm_put 0 8 a_registers a_before) ⟨_, K⟩ 9 0 (by omega) (by omega)
    rw [wm_put_0] at K2
    exact K2
end
end
section
def wm_cut (x p e : Nat) : Int32 := if x ≤ p ∨ e ≤ x then 0 else 1
theorem wm_31 (n : Int32) : (n &&& 31) &&& 31 = n &&& 31 := by rw [Int32.and_assoc, Int32.and_self]
section
variable {g_pc g_wide g_many g_cut : Int32} {b_registers b_words b_counts b_begins b_cycles : Nat → Int32}
variable {post : Int32 → SY → Prop} {p e : Nat}
theorem yy_step (hp : p < 64) (he : e ≤ 64) (f3 : 13 < wm_o (b_words p) → post 3 (g_pc, g_wide, g_many, g_cut, b_registers, b_words, b_counts, b_begins, b_cycles)) (f2 : wm_o (b_words p) = 13 → b_registers (wm_b (b_words p)) = 0 → post 2 (g_pc, g_wide, g_many, g_cut, b_registers, b_words, b_counts, b_begins, b_cycles)) (f1 : wm_M (wm_o (b_words p)) → (¬ ∃ x, x < 64 ∧ b_registers (wm_a (b_words p)) + wm_n (b_words p) = nI x) → post 1 (g_pc, g_wide, g_many, g_cut, b_registers, b_words, b_counts, b_begins, b_cycles)) (fE : wm_o (b_words p) = 0 ∨ wm_o (b_words p) = 7 ∨ wm_o (b_words p) = 8 → post 0 (g_pc, g_wide, g_many, g_cut, b_registers, b_words, b_counts, b_begins, b_cycles))
    (fW : wm_W (wm_o (b_words p)) → wm_ok (wm_o (b_words p)) (wm_a (b_words p)) (wm_b (b_words p)) (wm_n (b_words p)) b_registers → post 0 (g_pc, g_wide, g_many, g_cut, (upd b_registers (wm_d (b_words p)) (wm_va (wm_o (b_words p)) (wm_a (b_words p)) (wm_b (b_words p)) (wm_n (b_words p)) b_registers b_words)), b_words, b_counts, b_begins, b_cycles))
    (fS : wm_o (b_words p) = 6 → ∀ x, x < 64 → b_registers (wm_a (b_words p)) + wm_n (b_words p) = nI x → ∃ (gm : Int32) (W be : Nat → Int32), (∀ post' : SY → Prop, post' (g_pc, g_wide, gm, g_cut, b_registers, W, b_counts, be, b_cycles) → wpY_change post' (g_pc, g_wide, g_many, g_cut, b_registers, b_words, b_counts, b_begins, b_cycles) (nI x) (b_registers (wm_b (b_words p)))) ∧ post 0 (g_pc, g_wide, gm, (wm_cut x p e), b_registers, W, b_counts, be, b_cycles)) : wpY_step post (g_pc, g_wide, g_many, g_cut, b_registers, b_words, b_counts, b_begins, b_cycles) (nI p) (nI e) := by
  have ho := wm_ol (b_words p)
  have hd := wm_dl (b_words p)
  have ha := wm_al (b_words p)
  have hb := wm_bl (b_words p)
  have g : ∀ (c : Nat) (v : Int32), wm_o (b_words p) = c → wm_va c (wm_a (b_words p)) (wm_b (b_words p)) (wm_n (b_words p)) b_registers b_words = v → wm_W c → wm_ok c (wm_a (b_words p)) (wm_b (b_words p)) (wm_n (b_words p)) b_registers → (vp_in (nI (wm_d (b_words p))) 8 ∧ ∀ rr : Nat → Int32, rr = upd b_registers (nI (wm_d (b_words p))).toNatClampNeg v → post 0 (g_pc, g_wide, g_many, g_cut, rr, b_words, b_counts, b_begins, b_cycles)) := fun c v ec ev wc ok => by
    subst ec
    subst ev
    exact And.intro (vp_in_nI hd (by decide)) (nm_r (by rw [nI_clamp (show wm_d (b_words p) < 2 ^ 31 by omega)]) (fW wc ok))
  have ok0 : ∀ c, ¬ 13 < c → ¬ c = 13 → ¬ wm_M c → wm_ok c (wm_a (b_words p)) (wm_b (b_words p)) (wm_n (b_words p)) b_registers := fun c h1 h2 h3 => ⟨h1, fun z => h2 z.1, fun z => absurd z h3⟩
  unfold wpY_step
  refine yy_op hp ?_
  refine yy_a hp ?_
  refine And.intro (vp_in_nI ha (by decide)) (nm_r (e' := b_registers (wm_a (b_words p))) (by rw [nI_clamp (show wm_a (b_words p) < 2 ^ 31 by omega)]) ?_)
  refine yy_b hp ?_
  refine And.intro (vp_in_nI hb (by decide)) (nm_r (e' := b_registers (wm_b (b_words p))) (by rw [nI_clamp (show wm_b (b_words p) < 2 ^ 31 by omega)]) ?_)
  refine yy_n hp ?_
  refine yy_d hp ?_
  refine nm_e ?_
  refine br_f (nI_pos (by omega)) ?_
  refine pk_lt 13 (wm_o (b_words p)) (fun z => f3 z) (fun z => ?_)
  refine pk_eq (wm_o (b_words p)) 0 (fun z => fE (Or.inl z)) (fun z0 => ?_)
  refine pk_eq (wm_o (b_words p)) 1 (fun z => g 1 _ z rfl (by decide) (ok0 1 (by decide) (by decide) (by decide))) (fun z1 => ?_)
  refine pk_eq (wm_o (b_words p)) 2 (fun z => g 2 _ z rfl (by decide) (ok0 2 (by decide) (by decide) (by decide))) (fun z2 => ?_)
  refine pk_eq (wm_o (b_words p)) 3 (fun z => g 3 _ z rfl (by decide) (ok0 3 (by decide) (by decide) (by decide))) (fun z3 => ?_)
  refine pk_eq (wm_o (b_words p)) 4 (fun z => g 4 _ z rfl (by decide) (ok0 4 (by decide) (by decide) (by decide))) (fun z4 => ?_)
  refine pk_eq (wm_o (b_words p)) 5 (fun z => ?_) (fun z5 => ?_)
  · refine yy_in (N := 64) (by decide) (fun x hx ex => br_f (by decide) ?_) (fun q => br_t rfl (f1 (Or.inl z) q))
    rw [ex]
    refine And.intro (vp_in_nI hx (by decide)) ?_
    refine g 5 _ z ?_ (by decide) ⟨by decide, fun y => absurd y.1 (by decide), fun _ => ⟨x, hx, ex⟩⟩
    show wm_rk 5 (b_words (b_registers (wm_a (b_words p)) + wm_n (b_words p)).toNatClampNeg) _ _ = _
    rw [ex]
    rfl
  refine pk_eq (wm_o (b_words p)) 6 (fun z => ?_) (fun z6 => ?_)
  · refine yy_in (N := 64) (by decide) (fun x hx ex => br_f (by decide) ?_) (fun q => br_t rfl (f1 (Or.inr z) q))
    obtain ⟨gm, W, be, h1, h2⟩ := fS z x hx ex
    rw [ex]
    refine h1 _ ?_
    unfold wm_cut at h2
    refine pk_le x p (fun y => ?_) (fun y => pk_le e x (fun y' => ?_) (fun y' => ?_))
    · rw [if_pos (Or.inl y)] at h2; exact h2
    · rw [if_pos (Or.inr y')] at h2; exact h2
    · rw [if_neg (by omega)] at h2; exact h2
  refine pk_eq (wm_o (b_words p)) 7 (fun z => fE (Or.inr (Or.inl z))) (fun z7 => ?_)
  refine pk_eq (wm_o (b_words p)) 8 (fun z => fE (Or.inr (Or.inr z))) (fun z8 => ?_)
  refine pk_eq (wm_o (b_words p)) 9 (fun z => ?_) (fun z9 => ?_)
  · have G := fun v ev => g 9 v z ev (by decide) (ok0 9 (by decide) (by decide) (by decide))
    exact br_c (fun y => G 0 (by show (if b_registers (wm_b (b_words p)) ≤ b_registers (wm_a (b_words p)) then (0 : Int32) else 1) = 0; rw [if_pos y])) (fun y => G 1 (by show (if b_registers (wm_b (b_words p)) ≤ b_registers (wm_a (b_words p)) then (0 : Int32) else 1) = 1; rw [if_neg y]))
  refine pk_eq (wm_o (b_words p)) 10 (fun z => g 10 _ z rfl (by decide) (ok0 10 (by decide) (by decide) (by decide))) (fun z10 => ?_)
  refine pk_eq (wm_o (b_words p)) 11 (fun z => g 11 _ z rfl (by decide) (ok0 11 (by decide) (by decide) (by decide))) (fun z11 => ?_)
  refine pk_eq (wm_o (b_words p)) 12 (fun z => g 12 _ z (by rw [wm_31]; rfl) (by decide) (ok0 12 (by decide) (by decide) (by decide))) (fun z12 => ?_)
  refine pk_eq (wm_o (b_words p)) 13 (fun z => ?_) (fun _ => trivial)
  refine br_c (fun y => f2 z y) (fun y => And.intro y (g 13 _ z ?_ (by decide) ⟨by decide, fun u => y u.2, fun u => absurd u (by decide)⟩))
  show (if b_registers (wm_b (b_words p)) = 0 then (0 : Int32) else b_registers (wm_a (b_words p)) / b_registers (wm_b (b_words p))) = _
  rw [if_neg y]
end
end
section
/-! one turn of the reference's loop -/
section
variable {g_pc g_wide g_many g_cut : Int32} {b_registers b_words b_counts b_begins b_cycles : Nat → Int32}
variable {post : Int32 → SY → Prop} {s0 j n f : Nat} {x4 x5 x6 x7 x8 : Int32} {cj : Nat}
theorem yy_gs {v : Int32} (hv : b_words (s0 + j) = v) (hj : j < n) (n8 : n ≤ 8) (h64 : s0 + n ≤ 64) (hc : g_cut = 0) (hcy : b_cycles j = nI cj)
    (f3 : 13 < wm_o v → post 3 ((nI (s0 + j)), g_wide, g_many, g_cut, b_registers, b_words, (upd b_counts 0 (b_counts 0 + nI cj)), b_begins, b_cycles)) (f2 : wm_o v = 13 → b_registers (wm_b v) = 0 → post 2 ((nI (s0 + j)), g_wide, g_many, g_cut, b_registers, b_words, (upd b_counts 0 (b_counts 0 + nI cj)), b_begins, b_cycles)) (f1 : wm_M (wm_o v) → (¬ ∃ x, x < 64 ∧ b_registers (wm_a v) + wm_n v = nI x) → post 1 ((nI (s0 + j)), g_wide, g_many, g_cut, b_registers, b_words, (upd b_counts 0 (b_counts 0 + nI cj)), b_begins, b_cycles))
    (f0 : wm_o v = 0 → post 0 ((nI (s0 + j)), g_wide, g_many, 0, b_registers, b_words, (upd (upd b_counts 5 (b_counts 5 + 1)) 0 ((upd b_counts 5 (b_counts 5 + 1)) 0 + x4)), b_begins, b_cycles))
    (fE : wm_o v = 7 ∨ wm_o v = 8 → wY_go_155 post (nI s0) (nI n) x4 x5 x6 x7 x8 f (nI (j + 1)) g_pc g_wide g_many 0 b_registers b_words (upd b_counts 5 (b_counts 5 + 1)) b_begins b_cycles)
    (fW : wm_W (wm_o v) → wm_ok (wm_o v) (wm_a v) (wm_b v) (wm_n v) b_registers → wY_go_155 post (nI s0) (nI n) x4 x5 x6 x7 x8 f (nI (j + 1)) g_pc g_wide g_many 0 (upd b_registers (wm_d v) (wm_va (wm_o v) (wm_a v) (wm_b v) (wm_n v) b_registers b_words)) b_words (upd b_counts 5 (b_counts 5 + 1)) b_begins b_cycles)
    (fS : wm_o v = 6 → ∀ x, x < 64 → b_registers (wm_a v) + wm_n v = nI x → ∃ (gm : Int32) (W be : Nat → Int32), (∀ post' : SY → Prop, post' (g_pc, g_wide, gm, 0, b_registers, W, b_counts, be, b_cycles) → wpY_change post' (g_pc, g_wide, g_many, 0, b_registers, b_words, b_counts, b_begins, b_cycles) (nI x) (b_registers (wm_b v))) ∧ ((x ≤ s0 + j ∨ s0 + n ≤ x) → wY_go_155 post (nI s0) (nI n) x4 x5 x6 x7 x8 f (nI (j + 1)) g_pc g_wide gm 0 b_registers W (upd b_counts 5 (b_counts 5 + 1)) be b_cycles) ∧ (¬ (x ≤ s0 + j ∨ s0 + n ≤ x) → post (-1) ((nI (s0 + j + 1)), g_wide, gm, 1, b_registers, W, (upd (upd b_counts 5 (b_counts 5 + 1)) 0 ((upd b_counts 5 (b_counts 5 + 1)) 0 + nI cj)), be, b_cycles))) :
    wY_go_155 post (nI s0) (nI n) x4 x5 x6 x7 x8 (f + 1) (nI j) g_pc g_wide g_many g_cut b_registers b_words b_counts b_begins b_cycles := by
  subst hc
  subst hv
  have ho := wm_ol (b_words (s0 + j))
  have jc : (nI j).toNatClampNeg = j := nI_clamp (by omega)
  refine br_f (nI_ge hj (by omega)) ?_
  refine nm_r (nI_add s0 j) ?_
  refine yy_op (by omega) ?_
  rw [nI_add s0 n]
  have cont : ¬ wm_o (b_words (s0 + j)) = 0 → ¬ nI (wm_o (b_words (s0 + j))) = 0 := fun z => nI_ne0 (by omega) (by omega)
  refine yy_step (by omega) h64 (fun z => ?_) (fun z z' => ?_) (fun z z' => ?_) (fun z => ?_) (fun z z' => ?_) (fun z x hx ex => ?_)
  · exact br_f (by decide) (And.intro (vp_in_nI (by omega) (by decide)) (nm_r (by rw [jc, hcy]) (f3 z)))
  · exact br_f (by decide) (And.intro (vp_in_nI (by omega) (by decide)) (nm_r (by rw [jc, hcy]) (f2 z z')))
  · exact br_f (by decide) (And.intro (vp_in_nI (by omega) (by decide)) (nm_r (by rw [jc, hcy]) (f1 z z')))
  · refine br_t (by decide) (nm_e (br_t rfl ?_))
    by_cases z0 : wm_o (b_words (s0 + j)) = 0
    · refine br_t (by rw [z0]; rfl) ?_
      refine br_t rfl ?_
      exact And.intro (vp_in_nI (n := 0) (by decide) (by decide)) (nm_e (br_t rfl (br_t rfl (f0 z0))))
    · refine br_f (cont z0) (nm_r (nI_1 j) (fE (z.resolve_left z0)))
  · exact br_t (by decide) (nm_e (br_t rfl (br_f (cont (by omega)) (nm_r (nI_1 j) (fW z z')))))
  · obtain ⟨gm, W, be, h1, h2, h3⟩ := fS z x hx ex
    refine ⟨gm, W, be, h1, ?_⟩
    unfold wm_cut
    refine br_t (by decide) (nm_e ?_)
    by_cases q : x ≤ s0 + j ∨ s0 + n ≤ x
    · rw [if_pos q]
      exact br_t rfl (br_f (cont (by omega)) (nm_r (nI_1 j) (h2 q)))
    · rw [if_neg q]
      refine br_f (by decide) (br_f (by decide) (And.intro (vp_in_nI (by omega) (by decide)) ?_))
      rw [jc, hcy]
      refine And.intro (vp_in_nI (n := 0) (by decide) (by decide)) (nm_e (br_f (by decide) ?_))
      refine br_f (by decide) ?_
      rw [nI_1 (s0 + j)]
      exact h3 q
theorem yy_gx {o a : Nat} (ho : o < 16) (ha : a < 8) (h1 : 1 ≤ s0 + n) (n8 : n ≤ 8) (hp : post (-1) ((if o = 7 ∨ (o = 8 ∧ b_registers a = 0) then x8 else nI (s0 + n) &&& 63), g_wide, g_many, g_cut, b_registers, b_words, (upd b_counts 0 (b_counts 0 + x4)), b_begins, b_cycles)) : wY_go_155 post (nI s0) (nI n) x4 (nI (s0 + n - 1)) (nI o) (nI a) x8 (f + 1) (nI n) g_pc g_wide g_many g_cut b_registers b_words b_counts b_begins b_cycles := by
  have e : nI (s0 + n - 1) + 1 = nI (s0 + n) := by rw [nI_1]; congr 1; omega
  refine br_t (Int32.le_refl _) (nm_e ?_)
  have k340 : (o = 7 ∨ (o = 8 ∧ b_registers a = 0)) → wY_go_340 post (nI (s0 + n - 1)) x8 g_pc g_wide g_many g_cut b_registers b_words (upd b_counts 0 (b_counts 0 + x4)) b_begins b_cycles := fun q => by
    rw [if_pos q] at hp
    exact br_f (by decide) hp
  have k344 : ¬ (o = 7 ∨ (o = 8 ∧ b_registers a = 0)) → wY_go_344 post (nI (s0 + n - 1)) x8 g_pc g_wide g_many g_cut b_registers b_words (upd b_counts 0 (b_counts 0 + x4)) b_begins b_cycles := fun q => by
    rw [if_neg q] at hp
    exact br_t rfl (nm_r (by rw [e]) hp)
  refine pk_eq o 7 (fun z => k340 (Or.inl z)) (fun z => pk_eq o 8 (fun z' => And.intro (vp_in_nI ha (by decide)) ?_) (fun z' => k344 (fun q => q.elim z (fun q' => z' q'.1))))
  rw [nI_clamp (by omega)]
  exact br_c (fun y => k340 (Or.inr ⟨z', y⟩)) (fun y => k344 (fun q => q.elim z (fun q' => y q'.2)))
end
/-! the block at the PC -/
section
variable {g_pc g_wide g_many g_cut : Int32} {b_registers b_words b_counts b_begins b_cycles : Nat → Int32}
variable {post : Int32 → SY → Prop} {a n m w : Nat} {cy : Nat → Nat}
theorem yy_g86 (hm : g_many = nI m) (m4 : m < 4) (hw : g_wide = nI w) (w1 : 1 ≤ w) (w4 : w ≤ 4) (L : wm_Len b_words a n) (hS : wm_Sch (wm_fo b_words a) (wm_fd b_words a) (wm_fa b_words a) (wm_fb b_words a) w n cy)
    (hp : ∃ f, wY_go_155 post (nI a) (nI n) (nI (wm_tm (wm_fo b_words a) cy n)) (nI (a + n - 1)) (nI ((wm_fo b_words a) (n - 1))) (nI ((wm_fa b_words a) (n - 1))) (wm_fn b_words a (n - 1) &&& 63) f 0 g_pc g_wide (nI (m + 1)) 0 b_registers b_words (upd b_counts 4 (b_counts 4 + 1)) (wm_fr (nI a) m b_begins) (wm_put 0 n (fun i => nI (cy i)) b_cycles)) : wY_go_86 post (nI a) (nI n) g_pc g_wide g_many g_cut b_registers b_words b_counts b_begins b_cycles := by
  have n1 := L.1
  have n8 := L.2.1
  have n64 := L.2.2.1
  have ei : a + (n - 1) = a + n - 1 := by omega
  unfold wY_go_86
  refine yy_first hm m4 ?_
  refine nm_e ?_
  refine yy_schedule hw w1 w4 L hS ?_
  refine yy_time L (cy := cy) (fun i hi => ⟨?_, (hS i hi).1, wm_Sch_le w1 hS i hi⟩) ?_
  · have := wm_put_i (off := 0) (f := fun i => nI (cy i)) (a := b_cycles) hi
    rw [Nat.zero_add] at this
    exact this
  refine nm_r (e' := nI (a + n - 1)) (by rw [nI_add]; exact pk_sub (b := 1) (by omega)) ?_
  refine yy_op (by omega) ?_
  refine yy_a (by omega) ?_
  refine yy_n (by omega) ?_
  refine nm_e ?_
  rw [← ei] at hp ⊢
  exact hp
theorem yy_go_old {k : Nat} (hpc : g_pc = nI a) (hm : g_many = nI (m + 1)) (m4 : m < 4) (km : k < m + 1) (hk : b_begins k = nI a) (hno : ∀ j, j < k → ¬ b_begins j = nI a) (hw : g_wide = nI w) (w1 : 1 ≤ w) (w4 : w ≤ 4) (L : wm_Len b_words a n) (hS : wm_Sch (wm_fo b_words a) (wm_fd b_words a) (wm_fa b_words a) (wm_fb b_words a) w n cy)
    (hp : ∃ f, wY_go_155 post (nI a) (nI n) (nI (wm_tm (wm_fo b_words a) cy n)) (nI (a + n - 1)) (nI ((wm_fo b_words a) (n - 1))) (nI ((wm_fa b_words a) (n - 1))) (wm_fn b_words a (n - 1) &&& 63) f 0 g_pc g_wide (nI (m + 1)) 0 b_registers b_words (upd (upd b_counts 3 (b_counts 3 + 1)) 4 ((upd b_counts 3 (b_counts 3 + 1)) 4 + 1)) (wm_fr (nI a) m (wm_fg k m b_begins)) (wm_put 0 n (fun i => nI (cy i)) b_cycles)) : wpY_go post (g_pc, g_wide, g_many, g_cut, b_registers, b_words, b_counts, b_begins, b_cycles) := by
  have a64 : a < 64 := by have := L.1; have := L.2.2.1; omega
  subst hpc
  unfold wpY_go
  refine yy_place hm (by omega) (fun k' h1 h2 h3 => ?_) (fun h => absurd hk (h k km))
  have : k' = k := by
    rcases Nat.lt_trichotomy k' k with z | z | z
    · exact absurd h2 (hno k' z)
    · exact z
    · exact absurd hk (h3 k z)
  subst this
  refine yy_length L ?_
  refine br_f (nI_pos (by omega)) (nm_e ?_)
  refine yy_forget hm m4 (by omega) ?_
  exact yy_g86 rfl m4 hw w1 w4 L hS hp
theorem yy_go_new {m1 : Nat} (hpc : g_pc = nI a) (hm : g_many = nI m1) (m4 : m1 ≤ 4) (e1 : m = if m1 = 4 then 3 else m1) (hno : ∀ j, j < m1 → ¬ b_begins j = nI a) (hw : g_wide = nI w) (w1 : 1 ≤ w) (w4 : w ≤ 4) (L : wm_Len b_words a n) (hS : wm_Sch (wm_fo b_words a) (wm_fd b_words a) (wm_fa b_words a) (wm_fb b_words a) w n cy)
    (hp : ∃ f, wY_go_155 post (nI a) (nI n) (nI (wm_tm (wm_fo b_words a) cy n)) (nI (a + n - 1)) (nI ((wm_fo b_words a) (n - 1))) (nI ((wm_fa b_words a) (n - 1))) (wm_fn b_words a (n - 1) &&& 63) f 0 g_pc g_wide (nI (m + 1)) 0 b_registers b_words (upd (upd (upd (upd b_counts 0 (b_counts 0 + 3 * nI n)) 1 ((upd b_counts 0 (b_counts 0 + 3 * nI n)) 1 + 3 * nI n)) 2 ((upd (upd b_counts 0 (b_counts 0 + 3 * nI n)) 1 ((upd b_counts 0 (b_counts 0 + 3 * nI n)) 1 + 3 * nI n)) 2 + 1)) 4 ((upd (upd (upd b_counts 0 (b_counts 0 + 3 * nI n)) 1 ((upd b_counts 0 (b_counts 0 + 3 * nI n)) 1 + 3 * nI n)) 2 ((upd (upd b_counts 0 (b_counts 0 + 3 * nI n)) 1 ((upd b_counts 0 (b_counts 0 + 3 * nI n)) 1 + 3 * nI n)) 2 + 1)) 4 + 1)) (wm_fr (nI a) m b_begins) (wm_put 0 n (fun i => nI (cy i)) b_cycles)) : wpY_go post (g_pc, g_wide, g_many, g_cut, b_registers, b_words, b_counts, b_begins, b_cycles) := by
  have a64 : a < 64 := by have := L.1; have := L.2.2.1; omega
  subst hpc
  unfold wpY_go
  refine yy_place hm m4 (fun k' h1 h2 h3 => absurd h2 (hno k' h1)) (fun h => ?_)
  refine yy_length L ?_
  refine br_t (by decide) (nm_e (nm_e (nm_e ?_)))
  subst hm
  refine pk_eq m1 4 (fun z => ?_) (fun z => ?_)
  · rw [if_pos z] at e1
    subst e1
    exact yy_g86 (m := 3) rfl (by omega) hw w1 w4 L hS hp
  · rw [if_neg z] at e1
    subst e1
    exact yy_g86 rfl (by omega) hw w1 w4 L hS hp
end
end
section
/-! the component word by word -/
section
variable {f_pc f_wide f_logged f_coming f_next f_time f_makingTime f_made f_reused f_started f_done : Int32} {a_registers a_words a_begins a_lengths a_times a_begun a_ops a_goal a_left a_right a_numbers a_cycles a_order a_before a_logAt a_logValue a_arrives a_result a_target : Nat → Int32}
variable {post : Int32 → SX → Prop} {J : (Int32 → Int32 → Int32 → Int32 → Int32 → Int32 → Int32 → Int32 → Int32 → Int32 → Int32 → Int32 → (Nat → Int32) → (Nat → Int32) → (Nat → Int32) → (Nat → Int32) → (Nat → Int32) → (Nat → Int32) → (Nat → Int32) → (Nat → Int32) → (Nat → Int32) → (Nat → Int32) → (Nat → Int32) → (Nat → Int32) → (Nat → Int32) → (Nat → Int32) → (Nat → Int32) → (Nat → Int32) → (Nat → Int32) → (Nat → Int32) → (Nat → Int32) → Prop)} {s a n j cj : Nat} {o d ra rb : Nat} {nn : Int32} {L : List Nat} {bg bu ln : Nat → Nat} {st : Nat}
theorem xx_s151f {x6 x7 x8 x9 z0 : Int32} (hs : s < 5) (hj : j < 8) (hz : ¬ z0 = 0) (ec : a_cycles (8 * s + j) = nI cj) (hp : post z0 ((nI (a + j)), f_wide, f_logged, f_coming, f_next, (f_time + nI cj), f_makingTime, f_made, f_reused, f_started, f_done, a_registers, a_words, a_begins, a_lengths, a_times, a_begun, a_ops, a_goal, a_left, a_right, a_numbers, a_cycles, a_order, a_before, a_logAt, a_logValue, a_arrives, a_result, a_target)) : wX_slowly_151 post J (nI s) (nI n) (nI (8 * s)) (nI a) (nI j) x6 x7 x8 x9 z0 f_pc f_wide f_logged f_coming f_next f_time f_makingTime f_made f_reused f_started f_done a_registers a_words a_begins a_lengths a_times a_begun a_ops a_goal a_left a_right a_numbers a_cycles a_order a_before a_logAt a_logValue a_arrives a_result a_target := by
  unfold wX_slowly_151
  rw [nI_add (8 * s) j]
  refine nm_r (nI_add a j) (br_f hz ?_)
  exact And.intro (xx_in40 hs hj) (nm_r (by rw [xx_at hs hj ec]) hp)
theorem xx_s313 {x z1 z2 : Int32} {R2 : Int32} (hs : s < 5) (hj : j < 8) (ho : o < 16) (e1 : z1 = nI o) (e2 : z2 = nI d) (hd : d < 8) (en : a_numbers (8 * s + j) = nn) (hp : J (nI (j + 1)) f_pc f_wide f_logged f_coming f_next f_time f_makingTime f_made f_reused f_started f_done (upd a_registers d (wm_rk o x R2 nn)) a_words a_begins a_lengths a_times a_begun a_ops a_goal a_left a_right a_numbers a_cycles a_order a_before a_logAt a_logValue a_arrives a_result a_target) : wX_slowly_313 post J (nI s) (nI n) (nI (8 * s)) (nI a) (nI j) R2 x z1 z2 f_pc f_wide f_logged f_coming f_next f_time f_makingTime f_made f_reused f_started f_done a_registers a_words a_begins a_lengths a_times a_begun a_ops a_goal a_left a_right a_numbers a_cycles a_order a_before a_logAt a_logValue a_arrives a_result a_target := by
  subst e1
  subst e2
  unfold wX_slowly_313
  rw [nI_add (8 * s) j, xx_at hs hj en]
  refine And.intro (xx_in40 hs hj) (xx_reckon ho ?_)
  exact And.intro (vp_in_nI hd (by decide)) (nm_r (by rw [nI_clamp (by omega)]) (nm_r (nI_1 j) hp))
theorem xx_s150 {x9 : Int32} (hs : s < 5) (hj : j < 8) (jn : j < n) (n8 : n ≤ 8) (h64 : a + n ≤ 64) (ho : o < 16) (hd : d < 8) (n13 : ¬ 13 < o) (eg : a_goal (8 * s + j) = nI d) (en : a_numbers (8 * s + j) = nn) (ec : a_cycles (8 * s + j) = nI cj) (hK : wm_KX L bg bu st a_begins a_begun) (hl : ∀ s, s ∈ L → a_lengths s = nI (ln s) ∧ ln s ≤ 8) (e9 : x9 = a_registers ra + nn) (h9 : wm_M o → ∃ x, x < 64 ∧ x9 = nI x)
    (fS : o = 6 → ∀ x, x < 64 → x9 = nI x → ((x ≤ a + j ∨ a + n ≤ x) → J (nI (j + 1)) ((nI (a + j) + 1) &&& 63) f_wide f_logged f_coming f_next f_time f_makingTime f_made f_reused f_started (f_done + 1) a_registers (upd a_words x (a_registers rb)) (wm_tc L bg ln x 4 a_begins) a_lengths a_times a_begun a_ops a_goal a_left a_right a_numbers a_cycles a_order a_before a_logAt a_logValue a_arrives a_result a_target) ∧ (¬ (x ≤ a + j ∨ a + n ≤ x) → post (-1) (((nI (a + j) + 1) &&& 63), f_wide, f_logged, f_coming, f_next, (f_time + nI cj), f_makingTime, f_made, f_reused, f_started, (f_done + 1), a_registers, (upd a_words x (a_registers rb)), (wm_tc L bg ln x 4 a_begins), a_lengths, a_times, a_begun, a_ops, a_goal, a_left, a_right, a_numbers, a_cycles, a_order, a_before, a_logAt, a_logValue, a_arrives, a_result, a_target)))
    (fW : wm_W o → J (nI (j + 1)) ((nI (a + j) + 1) &&& 63) f_wide f_logged f_coming f_next f_time f_makingTime f_made f_reused f_started (f_done + 1) (upd a_registers d (wm_va o ra rb nn a_registers a_words)) a_words a_begins a_lengths a_times a_begun a_ops a_goal a_left a_right a_numbers a_cycles a_order a_before a_logAt a_logValue a_arrives a_result a_target)
    (fJ : o = 7 ∨ (o = 8 ∧ a_registers ra = 0) → J (nI (j + 1)) (nn &&& 63) f_wide f_logged f_coming f_next f_time f_makingTime f_made f_reused f_started (f_done + 1) a_registers a_words a_begins a_lengths a_times a_begun a_ops a_goal a_left a_right a_numbers a_cycles a_order a_before a_logAt a_logValue a_arrives a_result a_target)
    (fZ : o = 8 → ¬ a_registers ra = 0 → J (nI (j + 1)) ((nI (a + j) + 1) &&& 63) f_wide f_logged f_coming f_next f_time f_makingTime f_made f_reused f_started (f_done + 1) a_registers a_words a_begins a_lengths a_times a_begun a_ops a_goal a_left a_right a_numbers a_cycles a_order a_before a_logAt a_logValue a_arrives a_result a_target)
    (f0 : o = 0 → J (nI (j + 1)) (nI (a + j)) f_wide f_logged f_coming f_next f_time f_makingTime f_made f_reused f_started (f_done + 1) a_registers a_words a_begins a_lengths a_times a_begun a_ops a_goal a_left a_right a_numbers a_cycles a_order a_before a_logAt a_logValue a_arrives a_result a_target) : wX_slowly_150 post J (nI s) (nI n) (nI (8 * s)) (nI a) (nI j) (nI o) (a_registers ra) (a_registers rb) x9 f_pc f_wide f_logged f_coming f_next f_time f_makingTime f_made f_reused f_started f_done a_registers a_words a_begins a_lengths a_times a_begun a_ops a_goal a_left a_right a_numbers a_cycles a_order a_before a_logAt a_logValue a_arrives a_result a_target := by
  unfold wX_slowly_150 wX_slowly_151
  rw [nI_add (8 * s) j]
  refine nm_r (nI_add a j) (br_t rfl (nm_e (nm_e ?_)))
  refine pk_eq o 6 (fun z => ?_) (fun z => ?_)
  · obtain ⟨x, hx, ex⟩ := h9 (Or.inr z)
    obtain ⟨s1, s2⟩ := fS z x hx ex
    rw [ex]
    refine And.intro (vp_in_nI hx (by decide)) (nm_r (e' := upd a_words x (a_registers rb)) (by rw [nI_clamp (by omega)]) ?_)
    refine xx_touched hK hl hx ?_
    refine pk_le x (a + j) (fun y => nm_r (nI_1 j) (s1 (Or.inl y))) (fun y => ?_) rfl (nI_add a j)
    refine pk_le (a + n) x (fun y' => nm_r (nI_1 j) (s1 (Or.inr y'))) (fun y' => ?_) (nI_add a n) rfl
    exact And.intro (xx_in40 hs hj) (nm_r (by rw [xx_at hs hj ec]) (s2 (by omega)))
  · refine xx_writes ho (fun w => br_f (by decide) ?_) (fun w => br_t rfl ?_)
    · have F := fW w
      unfold wm_va at F
      refine And.intro (xx_in40 hs hj) ?_
      rw [xx_at hs hj eg]
      refine pk_eq o 5 (fun y => ?_) (fun y => ?_)
      · obtain ⟨x, hx, ex⟩ := h9 (Or.inl y)
        rw [if_pos y, ← e9, ex, nI_clamp (show x < 2 ^ 31 by omega)] at F
        rw [ex]
        refine And.intro (vp_in_nI hx (by decide)) ?_
        rw [nI_clamp (show x < 2 ^ 31 by omega)]
        exact xx_s313 hs hj ho rfl rfl hd en F
      · rw [if_neg y] at F
        exact xx_s313 hs hj ho rfl rfl hd en F
    · have k350 : (o = 7 ∨ (o = 8 ∧ a_registers ra = 0)) → wX_slowly_350 post J (nI s) (nI n) (nI (8 * s)) (nI a) (nI j) ((nI (a + j) + 1) &&& 63) f_wide f_logged f_coming f_next f_time f_makingTime f_made f_reused f_started (f_done + 1) a_registers a_words a_begins a_lengths a_times a_begun a_ops a_goal a_left a_right a_numbers a_cycles a_order a_before a_logAt a_logValue a_arrives a_result a_target := fun q => by
        unfold wX_slowly_350
        rw [nI_add (8 * s) j]
        exact And.intro (xx_in40 hs hj) (nm_r (by rw [xx_at hs hj en]) (nm_r (nI_1 j) (fJ q)))
      refine pk_eq o 7 (fun y => k350 (Or.inl y)) (fun y => pk_eq o 8 (fun y' => br_c (fun q => k350 (Or.inr ⟨y', q⟩)) (fun q => ?_)) (fun y' => ?_))
      · exact pk_eq o 0 (fun u => by omega) (fun u => nm_r (nI_1 j) (fZ y' q))
      · exact pk_eq o 0 (fun u => nm_r (nI_add a j) (nm_r (nI_1 j) (f0 u))) (fun u => by omega)
end
section
variable {f_pc f_wide f_logged f_coming f_next f_time f_makingTime f_made f_reused f_started f_done : Int32} {a_registers a_words a_begins a_lengths a_times a_begun a_ops a_goal a_left a_right a_numbers a_cycles a_order a_before a_logAt a_logValue a_arrives a_result a_target : Nat → Int32}
variable {post : Int32 → SX → Prop} {s a n j f : Nat} {O D A B : Nat → Nat} {N : Nat → Int32} {cy π : Nat → Nat} {L : List Nat} {bg bu ln : Nat → Nat} {st : Nat}
theorem xx_ss (hs : s < 5) (jn : j < n) (n8 : n ≤ 8) (h64 : a + n ≤ 64) (hX : wm_XS O D A B) (hE : wm_XE O D A B N cy π s n a_ops a_goal a_left a_right a_numbers a_cycles a_order) (hK : wm_KX L bg bu st a_begins a_begun) (hl : ∀ s, s ∈ L → a_lengths s = nI (ln s) ∧ ln s ≤ 8)
    (f3 : 13 < O j → post 3 ((nI (a + j)), f_wide, f_logged, f_coming, f_next, (f_time + nI (cy j)), f_makingTime, f_made, f_reused, f_started, f_done, a_registers, a_words, a_begins, a_lengths, a_times, a_begun, a_ops, a_goal, a_left, a_right, a_numbers, a_cycles, a_order, a_before, a_logAt, a_logValue, a_arrives, a_result, a_target)) (f2 : O j = 13 → a_registers (B j) = 0 → post 2 ((nI (a + j)), f_wide, f_logged, f_coming, f_next, (f_time + nI (cy j)), f_makingTime, f_made, f_reused, f_started, f_done, a_registers, a_words, a_begins, a_lengths, a_times, a_begun, a_ops, a_goal, a_left, a_right, a_numbers, a_cycles, a_order, a_before, a_logAt, a_logValue, a_arrives, a_result, a_target)) (f1 : wm_M (O j) → (¬ ∃ x, x < 64 ∧ a_registers (A j) + N j = nI x) → post 1 ((nI (a + j)), f_wide, f_logged, f_coming, f_next, (f_time + nI (cy j)), f_makingTime, f_made, f_reused, f_started, f_done, a_registers, a_words, a_begins, a_lengths, a_times, a_begun, a_ops, a_goal, a_left, a_right, a_numbers, a_cycles, a_order, a_before, a_logAt, a_logValue, a_arrives, a_result, a_target))
    (fS : O j = 6 → ∀ x, x < 64 → a_registers (A j) + N j = nI x → ((x ≤ a + j ∨ a + n ≤ x) → wX_slowly_21 post (nI s) (nI n) (nI (8 * s)) (nI a) f (nI (j + 1)) ((nI (a + j) + 1) &&& 63) f_wide f_logged f_coming f_next f_time f_makingTime f_made f_reused f_started (f_done + 1) a_registers (upd a_words x (a_registers (B j))) (wm_tc L bg ln x 4 a_begins) a_lengths a_times a_begun a_ops a_goal a_left a_right a_numbers a_cycles a_order a_before a_logAt a_logValue a_arrives a_result a_target) ∧ (¬ (x ≤ a + j ∨ a + n ≤ x) → post (-1) (((nI (a + j) + 1) &&& 63), f_wide, f_logged, f_coming, f_next, (f_time + nI (cy j)), f_makingTime, f_made, f_reused, f_started, (f_done + 1), a_registers, (upd a_words x (a_registers (B j))), (wm_tc L bg ln x 4 a_begins), a_lengths, a_times, a_begun, a_ops, a_goal, a_left, a_right, a_numbers, a_cycles, a_order, a_before, a_logAt, a_logValue, a_arrives, a_result, a_target)))
    (fW : wm_W (O j) → wm_ok (O j) (A j) (B j) (N j) a_registers → wX_slowly_21 post (nI s) (nI n) (nI (8 * s)) (nI a) f (nI (j + 1)) ((nI (a + j) + 1) &&& 63) f_wide f_logged f_coming f_next f_time f_makingTime f_made f_reused f_started (f_done + 1) (upd a_registers (D j) (wm_va (O j) (A j) (B j) (N j) a_registers a_words)) a_words a_begins a_lengths a_times a_begun a_ops a_goal a_left a_right a_numbers a_cycles a_order a_before a_logAt a_logValue a_arrives a_result a_target)
    (fJ : O j = 7 ∨ (O j = 8 ∧ a_registers (A j) = 0) → wX_slowly_21 post (nI s) (nI n) (nI (8 * s)) (nI a) f (nI (j + 1)) (N j &&& 63) f_wide f_logged f_coming f_next f_time f_makingTime f_made f_reused f_started (f_done + 1) a_registers a_words a_begins a_lengths a_times a_begun a_ops a_goal a_left a_right a_numbers a_cycles a_order a_before a_logAt a_logValue a_arrives a_result a_target)
    (fZ : O j = 8 → ¬ a_registers (A j) = 0 → wX_slowly_21 post (nI s) (nI n) (nI (8 * s)) (nI a) f (nI (j + 1)) ((nI (a + j) + 1) &&& 63) f_wide f_logged f_coming f_next f_time f_makingTime f_made f_reused f_started (f_done + 1) a_registers a_words a_begins a_lengths a_times a_begun a_ops a_goal a_left a_right a_numbers a_cycles a_order a_before a_logAt a_logValue a_arrives a_result a_target)
    (f0 : O j = 0 → wX_slowly_21 post (nI s) (nI n) (nI (8 * s)) (nI a) f (nI (j + 1)) (nI (a + j)) f_wide f_logged f_coming f_next f_time f_makingTime f_made f_reused f_started (f_done + 1) a_registers a_words a_begins a_lengths a_times a_begun a_ops a_goal a_left a_right a_numbers a_cycles a_order a_before a_logAt a_logValue a_arrives a_result a_target) : wX_slowly_21 post (nI s) (nI n) (nI (8 * s)) (nI a) (f + 1) (nI j) f_pc f_wide f_logged f_coming f_next f_time f_makingTime f_made f_reused f_started f_done a_registers a_words a_begins a_lengths a_times a_begun a_ops a_goal a_left a_right a_numbers a_cycles a_order a_before a_logAt a_logValue a_arrives a_result a_target := by
  have j8 : j < 8 := by omega
  obtain ⟨e1, e2, e3, e4, e5, e6, e7⟩ := hE j jn
  obtain ⟨so, sd, sa, sb⟩ := hX j
  refine br_f (nI_ge jn (by omega)) ?_
  rw [nI_add (8 * s) j]
  refine And.intro (xx_in40 hs j8) (nm_r (xx_at hs j8 e1) (And.intro (xx_in40 hs j8) ?_))
  rw [xx_at hs j8 e3, nI_clamp (show A j < 2 ^ 31 by omega), xx_at hs j8 e4, nI_clamp (show B j < 2 ^ 31 by omega), xx_at hs j8 e5]
  refine And.intro (vp_in_nI sa (by decide)) (nm_e (And.intro (xx_in40 hs j8) (And.intro (vp_in_nI sb (by decide)) (nm_e (And.intro (xx_in40 hs j8) (nm_e ?_))))))
  have k150 : ¬ 13 < O j → ¬ (O j = 13 ∧ a_registers (B j) = 0) → (wm_M (O j) → ∃ x, x < 64 ∧ a_registers (A j) + N j = nI x) → wX_slowly_150 post (wX_slowly_21 post (nI s) (nI n) (nI (8 * s)) (nI a) f) (nI s) (nI n) (nI (8 * s)) (nI a) (nI j) (nI (O j)) (a_registers (A j)) (a_registers (B j)) (a_registers (A j) + N j) f_pc f_wide f_logged f_coming f_next f_time f_makingTime f_made f_reused f_started f_done a_registers a_words a_begins a_lengths a_times a_begun a_ops a_goal a_left a_right a_numbers a_cycles a_order a_before a_logAt a_logValue a_arrives a_result a_target := fun h1 h2 h3 =>
    xx_s150 hs j8 jn n8 h64 so sd h1 e2 e5 e6 hK hl rfl h3 fS (fun w => fW w ⟨h1, h2, h3⟩) fJ fZ f0
  have k151 : ∀ z0 : Int32, ¬ z0 = 0 → post z0 ((nI (a + j)), f_wide, f_logged, f_coming, f_next, (f_time + nI (cy j)), f_makingTime, f_made, f_reused, f_started, f_done, a_registers, a_words, a_begins, a_lengths, a_times, a_begun, a_ops, a_goal, a_left, a_right, a_numbers, a_cycles, a_order, a_before, a_logAt, a_logValue, a_arrives, a_result, a_target) → wX_slowly_151 post (wX_slowly_21 post (nI s) (nI n) (nI (8 * s)) (nI a) f) (nI s) (nI n) (nI (8 * s)) (nI a) (nI j) (nI (O j)) (a_registers (A j)) (a_registers (B j)) (a_registers (A j) + N j) z0 f_pc f_wide f_logged f_coming f_next f_time f_makingTime f_made f_reused f_started f_done a_registers a_words a_begins a_lengths a_times a_begun a_ops a_goal a_left a_right a_numbers a_cycles a_order a_before a_logAt a_logValue a_arrives a_result a_target := fun z0 hz hp => xx_s151f hs j8 hz e6 hp
  have k131 : ∀ x10 : Int32, ((x10 = 1 ∧ wm_M (O j)) ∨ (x10 = 0 ∧ ¬ wm_M (O j))) → ¬ 13 < O j → ¬ (O j = 13 ∧ a_registers (B j) = 0) → wX_slowly_131 post (wX_slowly_21 post (nI s) (nI n) (nI (8 * s)) (nI a) f) (nI s) (nI n) (nI (8 * s)) (nI a) (nI j) (nI (O j)) (a_registers (A j)) (a_registers (B j)) (a_registers (A j) + N j) x10 f_pc f_wide f_logged f_coming f_next f_time f_makingTime f_made f_reused f_started f_done a_registers a_words a_begins a_lengths a_times a_begun a_ops a_goal a_left a_right a_numbers a_cycles a_order a_before a_logAt a_logValue a_arrives a_result a_target := fun x10 h1 h2 h3 => by
    rcases h1 with ⟨rfl, m⟩ | ⟨rfl, m⟩
    · refine br_f (by decide) ?_
      exact xx_in (N := 64) (by decide) (fun x hx ex => br_f (by decide) (k150 h2 h3 (fun _ => ⟨x, hx, ex⟩))) (fun q => br_t rfl (k151 1 (by decide) (f1 m q)))
    · exact br_t rfl (k150 h2 h3 (fun q => absurd q m))
  have k102 : ∀ x10 : Int32, ((x10 = 1 ∧ wm_M (O j)) ∨ (x10 = 0 ∧ ¬ wm_M (O j))) → wX_slowly_102 post (wX_slowly_21 post (nI s) (nI n) (nI (8 * s)) (nI a) f) (nI s) (nI n) (nI (8 * s)) (nI a) (nI j) (nI (O j)) (a_registers (A j)) (a_registers (B j)) (a_registers (A j) + N j) x10 f_pc f_wide f_logged f_coming f_next f_time f_makingTime f_made f_reused f_started f_done a_registers a_words a_begins a_lengths a_times a_begun a_ops a_goal a_left a_right a_numbers a_cycles a_order a_before a_logAt a_logValue a_arrives a_result a_target := fun x10 h1 =>
    pk_le (O j) 13 (fun z => pk_eq (O j) 13 (fun y => br_c (fun q => k151 2 (by decide) (f2 y q)) (fun q => k131 x10 h1 (by omega) (fun u => q u.2))) (fun y => k131 x10 h1 (by omega) (fun u => y u.1))) (fun z => k151 3 (by decide) (f3 z))
  exact pk_eq (O j) 5 (fun z => k102 1 (Or.inl ⟨rfl, Or.inl z⟩)) (fun z => pk_eq (O j) 6 (fun z' => k102 1 (Or.inl ⟨rfl, Or.inr z'⟩)) (fun z' => k102 0 (Or.inr ⟨rfl, fun q => q.elim z z'⟩)))
theorem xx_sx {tm : Nat} (hs : s < 5) (n1 : 1 ≤ n) (n8 : n ≤ 8) (ho : O (n - 1) < 16) (eo : a_ops (8 * s + (n - 1)) = nI (O (n - 1))) (et : a_times s = nI tm) (h0 : O (n - 1) = 0 → post 0 (f_pc, f_wide, f_logged, f_coming, f_next, (f_time + nI tm), f_makingTime, f_made, f_reused, f_started, f_done, a_registers, a_words, a_begins, a_lengths, a_times, a_begun, a_ops, a_goal, a_left, a_right, a_numbers, a_cycles, a_order, a_before, a_logAt, a_logValue, a_arrives, a_result, a_target)) (h1 : ¬ O (n - 1) = 0 → post (-1) (f_pc, f_wide, f_logged, f_coming, f_next, (f_time + nI tm), f_makingTime, f_made, f_reused, f_started, f_done, a_registers, a_words, a_begins, a_lengths, a_times, a_begun, a_ops, a_goal, a_left, a_right, a_numbers, a_cycles, a_order, a_before, a_logAt, a_logValue, a_arrives, a_result, a_target)) : wX_slowly_21 post (nI s) (nI n) (nI (8 * s)) (nI a) (f + 1) (nI n) f_pc f_wide f_logged f_coming f_next f_time f_makingTime f_made f_reused f_started f_done a_registers a_words a_begins a_lengths a_times a_begun a_ops a_goal a_left a_right a_numbers a_cycles a_order a_before a_logAt a_logValue a_arrives a_result a_target := by
  have e : nI (8 * s) + nI n - 1 = nI (8 * s + (n - 1)) := by rw [nI_add, show 8 * s + (n - 1) = 8 * s + n - 1 from by omega]; exact pk_sub (b := 1) (by omega)
  refine br_t (Int32.le_refl _) ?_
  rw [e, nI_clamp (show s < 2 ^ 31 by omega), et, xx_at hs (by omega) eo]
  refine And.intro (vp_in_nI hs (by decide)) (nm_e (And.intro (xx_in40 hs (by omega)) ?_))
  exact pk_eq (O (n - 1)) 0 h0 h1
theorem xx_finish {tm : Nat} (hs : s < 5) (n1 : 1 ≤ n) (n8 : n ≤ 8) (ho : O (n - 1) < 16) (eo : a_ops (8 * s + (n - 1)) = nI (O (n - 1))) (el : a_lengths s = nI n) (et : a_times s = nI tm) (h0 : O (n - 1) = 0 → post 0 (f_next, f_wide, f_logged, f_coming, f_next, (f_time + nI tm), f_makingTime, f_made, f_reused, f_started, (f_done + nI n), a_registers, a_words, a_begins, a_lengths, a_times, a_begun, a_ops, a_goal, a_left, a_right, a_numbers, a_cycles, a_order, a_before, a_logAt, a_logValue, a_arrives, a_result, a_target)) (h1 : ¬ O (n - 1) = 0 → post (-1) (f_next, f_wide, f_logged, f_coming, f_next, (f_time + nI tm), f_makingTime, f_made, f_reused, f_started, (f_done + nI n), a_registers, a_words, a_begins, a_lengths, a_times, a_begun, a_ops, a_goal, a_left, a_right, a_numbers, a_cycles, a_order, a_before, a_logAt, a_logValue, a_arrives, a_result, a_target)) : wpX_finish post (f_pc, f_wide, f_logged, f_coming, f_next, f_time, f_makingTime, f_made, f_reused, f_started, f_done, a_registers, a_words, a_begins, a_lengths, a_times, a_begun, a_ops, a_goal, a_left, a_right, a_numbers, a_cycles, a_order, a_before, a_logAt, a_logValue, a_arrives, a_result, a_target) (nI s) := by
  have e : 8 * nI s + nI n - 1 = nI (8 * s + (n - 1)) := by rw [xx_ix, show 8 * s + (n - 1) = 8 * s + n - 1 from by omega]; exact pk_sub (b := 1) (by omega)
  have sc : (nI s).toNatClampNeg = s := nI_clamp (by omega)
  refine And.intro (vp_in_nI hs (by decide)) (nm_r (e' := nI n) (by rw [sc, el]) (And.intro (vp_in_nI hs (by decide)) (nm_r (e' := f_time + nI tm) (by rw [sc, et]) (nm_e ?_))))
  rw [e, xx_at hs (by omega) eo]
  exact And.intro (xx_in40 hs (by omega)) (pk_eq (O (n - 1)) 0 h0 h1)
end
end
section
/-! a kept block's data; both sides' counts -/
def wm_BK (V : Nat → Int32) (w s b n : Nat) (cy π : Nat → Nat) (le ti op go lf ri nu ca od : Nat → Int32) : Prop :=
  wm_Len V b n ∧ wm_Sch (wm_fo V b) (wm_fd V b) (wm_fa V b) (wm_fb V b) w n cy ∧ wm_Ord cy n π ∧ le s = nI n ∧ ti s = nI (wm_tm (wm_fo V b) cy n) ∧ wm_XE (wm_fo V b) (wm_fd V b) (wm_fa V b) (wm_fb V b) (wm_fn V b) cy π s n op go lf ri nu ca od
theorem wm_BK_congr {V V' : Nat → Int32} {w s b n : Nat} {cy π : Nat → Nat} {le ti op go lf ri nu ca od : Nat → Int32} (h : wm_BK V w s b n cy π le ti op go lf ri nu ca od) (e : ∀ i, i < n → V' (b + i) = V (b + i)) : wm_BK V' w s b n cy π le ti op go lf ri nu ca od := by
  obtain ⟨h1, h2, h3, h4, h5, h6⟩ := h
  have eo : ∀ i, i < n → wm_fo V' b i = wm_fo V b i ∧ wm_fd V' b i = wm_fd V b i ∧ wm_fa V' b i = wm_fa V b i ∧ wm_fb V' b i = wm_fb V b i := fun i hi => by
    unfold wm_fo wm_fd wm_fa wm_fb
    rw [e i hi]
    exact ⟨rfl, rfl, rfl, rfl⟩
  refine ⟨wm_Len_congr h1 e, wm_Sch_congr eo (fun _ _ => rfl) h2, h3, h4, ?_, fun i hi => ?_⟩
  · rw [h5, wm_tm_congr n (fun i hi => ⟨(eo i hi).1, rfl⟩)]
  · obtain ⟨a1, a2, a3, a4⟩ := eo i hi
    have a5 : wm_fn V' b i = wm_fn V b i := by unfold wm_fn; rw [e i hi]
    rw [a1, a2, a3, a4, a5]
    exact h6 i hi
def wm_RC (w : Nat) (V : Nat → Int32) (L : List Nat) (bg bu ln : Nat → Nat) (st : Nat) (be bn le ti op go lf ri nu ca od : Nat → Int32) : Prop := wm_KX L bg bu st be bn ∧ ∀ s, s ∈ L → ∃ cy π, wm_BK V w s (bg s) (ln s) cy π le ti op go lf ri nu ca od
section
variable {w : Nat} {V : Nat → Int32} {L : List Nat} {bg bu ln : Nat → Nat} {st : Nat} {be bn le ti op go lf ri nu ca od : Nat → Int32}
theorem wm_RC_l (h : wm_RC w V L bg bu ln st be bn le ti op go lf ri nu ca od) : ∀ s, s ∈ L → le s = nI (ln s) ∧ ln s ≤ 8 := fun s hs => by
  obtain ⟨cy, π, k⟩ := h.2 s hs
  exact ⟨k.2.2.2.1, k.1.2.1⟩
theorem wm_RC_L (h : wm_RC w V L bg bu ln st be bn le ti op go lf ri nu ca od) : ∀ s, s ∈ L → bg s < 64 ∧ wm_Len V (bg s) (ln s) := fun s hs => by
  obtain ⟨cy, π, k⟩ := h.2 s hs
  exact ⟨(h.1.1 s hs).2.1, k.1⟩
theorem wm_RC_q {V' be' : Nat → Int32} {P : Nat → Bool} (h : wm_RC w V L bg bu ln st be bn le ti op go lf ri nu ca od) (hK : wm_KX (L.filter P) bg bu st be' bn) (e : ∀ s, s ∈ L → P s = true → ∀ i, i < ln s → V' (bg s + i) = V (bg s + i)) : wm_RC w V' (L.filter P) bg bu ln st be' bn le ti op go lf ri nu ca od := by
  refine ⟨hK, fun s hs => ?_⟩
  obtain ⟨m, p⟩ := List.mem_filter.mp hs
  obtain ⟨cy, π, k⟩ := h.2 s m
  exact ⟨cy, π, wm_BK_congr k (e s m p)⟩
theorem wm_RC_st (h : wm_RC w V L bg bu ln st be bn le ti op go lf ri nu ca od) (x : Nat) (v : Int32) : wm_RC w (upd V x v) (L.filter (fun s => !wm_hit bg ln x s)) bg bu ln st (wm_tc L bg ln x 4 be) bn le ti op go lf ri nu ca od := by
  refine wm_RC_q h (wm_KX_tc h.1 ln x) (fun s m p i hi => pk_un (fun z => ?_))
  have q : wm_hit bg ln x s = false := by cases hh : wm_hit bg ln x s with
    | false => rfl
    | true => rw [hh] at p; exact (nomatch p)
  have q2 := of_decide_eq_false q
  omega
end
def wm_CT (ct : Nat → Int32) (c0 c1 c2 c3 c4 c5 : Int32) : Prop := ct 0 = c0 ∧ ct 1 = c1 ∧ ct 2 = c2 ∧ ct 3 = c3 ∧ ct 4 = c4 ∧ ct 5 = c5
section
variable {ct : Nat → Int32} {c0 c1 c2 c3 c4 c5 : Int32}
theorem wm_CT_0 (h : wm_CT ct c0 c1 c2 c3 c4 c5) (v : Int32) : wm_CT (upd ct 0 (ct 0 + v)) (c0 + v) c1 c2 c3 c4 c5 := by
  obtain ⟨h0, h1, h2, h3, h4, h5⟩ := h
  exact ⟨by rw [pk_us, h0], by rw [pk_un (by decide), h1], by rw [pk_un (by decide), h2], by rw [pk_un (by decide), h3], by rw [pk_un (by decide), h4], by rw [pk_un (by decide), h5]⟩
theorem wm_CT_1 (h : wm_CT ct c0 c1 c2 c3 c4 c5) (v : Int32) : wm_CT (upd ct 1 (ct 1 + v)) c0 (c1 + v) c2 c3 c4 c5 := by
  obtain ⟨h0, h1, h2, h3, h4, h5⟩ := h
  exact ⟨by rw [pk_un (by decide), h0], by rw [pk_us, h1], by rw [pk_un (by decide), h2], by rw [pk_un (by decide), h3], by rw [pk_un (by decide), h4], by rw [pk_un (by decide), h5]⟩
theorem wm_CT_2 (h : wm_CT ct c0 c1 c2 c3 c4 c5) (v : Int32) : wm_CT (upd ct 2 (ct 2 + v)) c0 c1 (c2 + v) c3 c4 c5 := by
  obtain ⟨h0, h1, h2, h3, h4, h5⟩ := h
  exact ⟨by rw [pk_un (by decide), h0], by rw [pk_un (by decide), h1], by rw [pk_us, h2], by rw [pk_un (by decide), h3], by rw [pk_un (by decide), h4], by rw [pk_un (by decide), h5]⟩
theorem wm_CT_3 (h : wm_CT ct c0 c1 c2 c3 c4 c5) (v : Int32) : wm_CT (upd ct 3 (ct 3 + v)) c0 c1 c2 (c3 + v) c4 c5 := by
  obtain ⟨h0, h1, h2, h3, h4, h5⟩ := h
  exact ⟨by rw [pk_un (by decide), h0], by rw [pk_un (by decide), h1], by rw [pk_un (by decide), h2], by rw [pk_us, h3], by rw [pk_un (by decide), h4], by rw [pk_un (by decide), h5]⟩
theorem wm_CT_4 (h : wm_CT ct c0 c1 c2 c3 c4 c5) (v : Int32) : wm_CT (upd ct 4 (ct 4 + v)) c0 c1 c2 c3 (c4 + v) c5 := by
  obtain ⟨h0, h1, h2, h3, h4, h5⟩ := h
  exact ⟨by rw [pk_un (by decide), h0], by rw [pk_un (by decide), h1], by rw [pk_un (by decide), h2], by rw [pk_un (by decide), h3], by rw [pk_us, h4], by rw [pk_un (by decide), h5]⟩
theorem wm_CT_5 (h : wm_CT ct c0 c1 c2 c3 c4 c5) (v : Int32) : wm_CT (upd ct 5 (ct 5 + v)) c0 c1 c2 c3 c4 (c5 + v) := by
  obtain ⟨h0, h1, h2, h3, h4, h5⟩ := h
  exact ⟨by rw [pk_un (by decide), h0], by rw [pk_un (by decide), h1], by rw [pk_un (by decide), h2], by rw [pk_un (by decide), h3], by rw [pk_un (by decide), h4], by rw [pk_us, h5]⟩
end
theorem wm_c5 (c : Int32) (d : Nat) : c + 1 + nI d = c + nI (d + 1) := by rw [Int32.add_assoc, Int32.add_comm 1, nI_1]
theorem wm_c50 (c : Int32) : c + nI 0 = c := Int32.add_zero c
/-- words that no store meets -/
theorem wm_S_keep {O D A B : Nat → Nat} {N : Nat → Int32} {S : Nat → (Nat → Int32) × (Nat → Int32)} (hS : wm_Sq O D A B N S) {x : Nat} : ∀ j, (∀ i, i < j → O i = 6 → ((S i).1 (A i) + N i).toNatClampNeg ≠ x) → (S j).2 x = (S 0).2 x := by
  intro j
  induction j with
  | zero => intro _; rfl
  | succ j ih =>
    intro h
    rw [(hS j).2, ← ih (fun i hi => h i (by omega))]
    unfold wm_eW
    by_cases z : O j = 6
    · rw [if_pos z]; exact pk_un (fun e => h j (by omega) z e.symm)
    · rw [if_neg z]
section
variable {g_pc g_wide g_many g_cut : Int32} {b_registers b_words b_counts b_begins b_cycles : Nat → Int32}
variable {post : Int32 → SY → Prop} {s0 j n f : Nat} {x4 x5 x6 x7 x8 : Int32} {cj : Nat} {o d ra rb : Nat} {nn : Int32}
theorem yy_gt (e1 : o = wm_o (b_words (s0 + j))) (e2 : d = wm_d (b_words (s0 + j))) (e3 : ra = wm_a (b_words (s0 + j))) (e4 : rb = wm_b (b_words (s0 + j))) (e5 : nn = wm_n (b_words (s0 + j))) (hj : j < n) (n8 : n ≤ 8) (h64 : s0 + n ≤ 64) (hc : g_cut = 0) (hcy : b_cycles j = nI cj)
    (f3 : 13 < o → post 3 ((nI (s0 + j)), g_wide, g_many, g_cut, b_registers, b_words, (upd b_counts 0 (b_counts 0 + nI cj)), b_begins, b_cycles)) (f2 : o = 13 → b_registers rb = 0 → post 2 ((nI (s0 + j)), g_wide, g_many, g_cut, b_registers, b_words, (upd b_counts 0 (b_counts 0 + nI cj)), b_begins, b_cycles)) (f1 : wm_M o → (¬ ∃ x, x < 64 ∧ b_registers ra + nn = nI x) → post 1 ((nI (s0 + j)), g_wide, g_many, g_cut, b_registers, b_words, (upd b_counts 0 (b_counts 0 + nI cj)), b_begins, b_cycles))
    (f0 : o = 0 → post 0 ((nI (s0 + j)), g_wide, g_many, 0, b_registers, b_words, (upd (upd b_counts 5 (b_counts 5 + 1)) 0 ((upd b_counts 5 (b_counts 5 + 1)) 0 + x4)), b_begins, b_cycles))
    (fE : o = 7 ∨ o = 8 → wY_go_155 post (nI s0) (nI n) x4 x5 x6 x7 x8 f (nI (j + 1)) g_pc g_wide g_many 0 b_registers b_words (upd b_counts 5 (b_counts 5 + 1)) b_begins b_cycles)
    (fW : wm_W o → wm_ok o ra rb nn b_registers → wY_go_155 post (nI s0) (nI n) x4 x5 x6 x7 x8 f (nI (j + 1)) g_pc g_wide g_many 0 (upd b_registers d (wm_va o ra rb nn b_registers b_words)) b_words (upd b_counts 5 (b_counts 5 + 1)) b_begins b_cycles)
    (fS : o = 6 → ∀ x, x < 64 → b_registers ra + nn = nI x → ∃ (gm : Int32) (W be : Nat → Int32), (∀ post' : SY → Prop, post' (g_pc, g_wide, gm, 0, b_registers, W, b_counts, be, b_cycles) → wpY_change post' (g_pc, g_wide, g_many, 0, b_registers, b_words, b_counts, b_begins, b_cycles) (nI x) (b_registers rb)) ∧ ((x ≤ s0 + j ∨ s0 + n ≤ x) → wY_go_155 post (nI s0) (nI n) x4 x5 x6 x7 x8 f (nI (j + 1)) g_pc g_wide gm 0 b_registers W (upd b_counts 5 (b_counts 5 + 1)) be b_cycles) ∧ (¬ (x ≤ s0 + j ∨ s0 + n ≤ x) → post (-1) ((nI (s0 + j + 1)), g_wide, gm, 1, b_registers, W, (upd (upd b_counts 5 (b_counts 5 + 1)) 0 ((upd b_counts 5 (b_counts 5 + 1)) 0 + nI cj)), be, b_cycles))) :
    wY_go_155 post (nI s0) (nI n) x4 x5 x6 x7 x8 (f + 1) (nI j) g_pc g_wide g_many g_cut b_registers b_words b_counts b_begins b_cycles := by
  subst e1
  subst e2
  subst e3
  subst e4
  subst e5
  exact yy_gs rfl hj n8 h64 hc hcy f3 f2 f1 f0 fE fW fS
end
end
section
/-! the reference over a block that meets nothing in between -/
section
variable {g_pc g_wide g_many g_cut : Int32} {b_registers b_words b_counts b_begins b_cycles : Nat → Int32}
variable {V : Nat → Int32} {O D A B : Nat → Nat} {N : Nat → Int32} {S : Nat → (Nat → Int32) × (Nat → Int32)} {cy : Nat → Nat} {a n tm : Nat} {L : List Nat} {bg ln : Nat → Nat} {c1 c2 c3 c4 : Int32}
theorem yy_good (hdec : ∀ i, O i = wm_o (V (a + i)) ∧ D i = wm_d (V (a + i)) ∧ A i = wm_a (V (a + i)) ∧ B i = wm_b (V (a + i)) ∧ N i = wm_n (V (a + i))) (hS : wm_Sq O D A B N S) (e0 : (S 0).2 = V) (hLen : wm_Len V a n) (hok : ∀ j, j < n → wm_ok (O j) (A j) (B j) (N j) (S j).1 ∧ (O j = 6 → ∀ x, x < 64 → (S j).1 (A j) + N j = nI x → ¬ (a ≤ x ∧ x < a + n))) (hcy : ∀ i, i < n → b_cycles i = nI (cy i)) (h4 : L.length ≤ 4) (hL : ∀ s, s ∈ L → bg s < 64 ∧ wm_Len V (bg s) (ln s)) :
    ∀ d j (bb ct : Nat → Int32) (c0 c5 : Int32), j + d = n → (d = 0 → O (n - 1) ≠ 0) → wm_YL bg (L.filter (wm_pq bg ln O (fun j => ((S j).1 (A j) + N j).toNatClampNeg) j)) bb → wm_CT ct c0 c1 c2 c3 c4 c5 →
    ∃ bb' ct', wm_YL bg (L.filter (wm_pq bg ln O (fun j => ((S j).1 (A j) + N j).toNatClampNeg) n)) bb' ∧ wm_CT ct' (c0 + nI tm) c1 c2 c3 c4 (c5 + nI d) ∧ ∀ (post : Int32 → SY → Prop), post (if O (n - 1) = 0 then 0 else -1) ((wm_nx (O (n - 1)) (A (n - 1)) (N (n - 1)) (S (n - 1)).1 a n), g_wide, (nI (L.filter (wm_pq bg ln O (fun j => ((S j).1 (A j) + N j).toNatClampNeg) n)).length), 0, ((S n).1), ((S n).2), ct', bb', b_cycles) →
      ∀ f, d < f → wY_go_155 post (nI a) (nI n) (nI tm) (nI (a + n - 1)) (nI (O (n - 1))) (nI (A (n - 1))) (N (n - 1) &&& 63) f (nI j) g_pc g_wide (nI (L.filter (wm_pq bg ln O (fun j => ((S j).1 (A j) + N j).toNatClampNeg) j)).length) 0 ((S j).1) ((S j).2) ct bb b_cycles := by
  obtain ⟨n1, n8, n64, hE, hE'⟩ := hLen
  have hO : ∀ i, O i < 16 := fun i => by rw [(hdec i).1]; exact wm_ol _
  have hA : ∀ i, A i < 8 := fun i => by rw [(hdec i).2.2.1]; exact wm_al _
  have own : ∀ j, j ≤ n → ∀ i, i < n → (S j).2 (a + i) = V (a + i) := fun j hj i hi => by
    rw [← e0]
    refine wm_S_keep hS j (fun k hk o6 e => ?_)
    obtain ⟨x, hx, ex⟩ := (hok k (by omega)).1.2.2 (Or.inr o6)
    have nh := (hok k (by omega)).2 o6 x hx ex
    rw [ex, nI_clamp (by omega)] at e
    omega
  have lens : ∀ j, j ≤ n → ∀ s, s ∈ (L.filter (wm_pq bg ln O (fun j => ((S j).1 (A j) + N j).toNatClampNeg) j)) → bg s < 64 ∧ wm_Len (S j).2 (bg s) (ln s) := fun j hj s hs => by
    obtain ⟨m, p⟩ := List.mem_filter.mp hs
    refine ⟨(hL s m).1, wm_Len_congr (hL s m).2 (fun i hi => ?_)⟩
    rw [← e0]
    refine wm_S_keep hS j (fun k hk o6 e => ?_)
    have q := of_decide_eq_false ((wm_pq_iff j).mp p k hk o6)
    rw [e] at q
    omega
  have l4 : ∀ j, (L.filter (wm_pq bg ln O (fun j => ((S j).1 (A j) + N j).toNatClampNeg) j)).length ≤ 4 := fun j => Nat.le_trans (List.length_filter_le _ _) h4
  have nE : ∀ j, j < n → (O j = 0 ∨ O j = 7 ∨ O j = 8) → j = n - 1 := fun j hj z => by
    rcases Nat.lt_or_ge (j + 1) n with q | q
    · have := hE j q
      rw [← (hdec j).1] at this
      omega
    · omega
  intro d
  induction d with
  | zero =>
    intro j bb ct c0 c5 hd h0 hY hC
    have e : j = n := by omega
    subst e
    have o0 := h0 rfl
    refine ⟨bb, upd ct 0 (ct 0 + nI tm), hY, by rw [wm_c50]; exact wm_CT_0 hC _, fun post hp f hf => ?_⟩
    obtain ⟨f, rfl⟩ : ∃ g, f = g + 1 := ⟨f - 1, by omega⟩
    rw [if_neg o0] at hp
    refine yy_gx (hO _) (hA _) (by omega) n8 ?_
    have ep : wm_nx (O (j - 1)) (A (j - 1)) (N (j - 1)) (S (j - 1)).1 a j = (if O (j - 1) = 7 ∨ (O (j - 1) = 8 ∧ (S j).1 (A (j - 1)) = 0) then N (j - 1) &&& 63 else nI (a + j) &&& 63) := by
      unfold wm_nx
      rw [if_neg o0, nI_add]
      by_cases z8 : O (j - 1) = 8
      · have es : (S j).1 = (S (j - 1)).1 := by
          have := (hS (j - 1)).1
          rw [show j - 1 + 1 = j from by omega] at this
          rw [this]
          unfold wm_eR
          rw [if_neg (by omega)]
        rw [es]
      · by_cases z7 : O (j - 1) = 7
        · rw [if_pos (Or.inl z7), if_pos (Or.inl z7)]
        · have g1 : ¬ (O (j - 1) = 7 ∨ (O (j - 1) = 8 ∧ (S (j - 1)).1 (A (j - 1)) = 0)) := fun u => u.elim z7 (fun v => z8 v.1)
          have g2 : ¬ (O (j - 1) = 7 ∨ (O (j - 1) = 8 ∧ (S j).1 (A (j - 1)) = 0)) := fun u => u.elim z7 (fun v => z8 v.1)
          rw [if_neg g1, if_neg g2]
    rw [ep] at hp
    exact hp
  | succ d ih =>
    intro j bb ct c0 c5 hd h0 hY hC
    have jn : j < n := by omega
    obtain ⟨g1, g2, g3, g4, g5⟩ := hdec j
    rw [← own j (by omega) j jn] at g1 g2 g3 g4 g5
    obtain ⟨ok, nh⟩ := hok j jn
    obtain ⟨sR, sW⟩ := hS j
    have C5 := wm_CT_5 hC 1
    by_cases o0 : O j = 0
    · have jl := nE j jn (Or.inl o0)
      have ej : j + 1 = n := by omega
      have eR : (S n).1 = (S j).1 := by rw [← ej, sR]; unfold wm_eR; rw [if_neg (by omega)]
      have eW : (S n).2 = (S j).2 := by rw [← ej, sW]; unfold wm_eW; rw [if_neg (by omega)]
      have eL : (L.filter (wm_pq bg ln O (fun j => ((S j).1 (A j) + N j).toNatClampNeg) n)) = (L.filter (wm_pq bg ln O (fun j => ((S j).1 (A j) + N j).toNatClampNeg) j)) := by rw [← ej, ← wm_pq_n (by omega)]
      refine ⟨bb, upd (upd ct 5 (ct 5 + 1)) 0 ((upd ct 5 (ct 5 + 1)) 0 + nI tm), by rw [eL]; exact hY, ?_, fun post hp f hf => ?_⟩
      · have := wm_CT_0 C5 (nI tm)
        rw [show d = 0 from by omega]
        exact this
      · obtain ⟨f, rfl⟩ : ∃ g, f = g + 1 := ⟨f - 1, by omega⟩
        have ep : wm_nx (O (n - 1)) (A (n - 1)) (N (n - 1)) (S (n - 1)).1 a n = nI (a + j) := by
          rw [← jl]
          unfold wm_nx
          rw [if_neg (by omega), if_pos o0, nI_add, show a + j = a + n - 1 from by omega]
          exact pk_sub (b := 1) (by omega)
        rw [eR, eW, eL, ep, if_pos (by rw [← jl]; exact o0)] at hp
        refine yy_gt g1 g2 g3 g4 g5 jn n8 n64 rfl (hcy j jn) (fun z => by omega) (fun z => by omega) (fun z => by omega) (fun _ => hp) (fun z => by omega) (fun z => by omega) (fun z => by omega)
    · have fin : d = 0 → O (n - 1) ≠ 0 := fun z => by
        rw [show n - 1 = j from by omega]; exact o0
      by_cases w : wm_W (O j)
      · have eR : upd (S j).1 (D j) (wm_va (O j) (A j) (B j) (N j) (S j).1 (S j).2) = (S (j + 1)).1 := by rw [sR]; unfold wm_eR; rw [if_pos w]
        have eW : (S j).2 = (S (j + 1)).2 := by rw [sW]; unfold wm_eW; rw [if_neg (by omega)]
        have eL : (L.filter (wm_pq bg ln O (fun j => ((S j).1 (A j) + N j).toNatClampNeg) j)) = L.filter (wm_pq bg ln O (fun j => ((S j).1 (A j) + N j).toNatClampNeg) (j + 1)) := wm_pq_n (by omega)
        obtain ⟨bb', ct', k1, k2, k3⟩ := ih (j + 1) bb _ _ _ (by omega) fin (by rw [← eL]; exact hY) C5
        refine ⟨bb', ct', k1, by rw [← wm_c5]; exact k2, fun post hp f hf => ?_⟩
        obtain ⟨f, rfl⟩ : ∃ g, f = g + 1 := ⟨f - 1, by omega⟩
        have K := k3 post hp f (by omega)
        refine yy_gt g1 g2 g3 g4 g5 jn n8 n64 rfl (hcy j jn) (fun z => absurd z ok.1) (fun z z' => absurd ⟨z, z'⟩ ok.2.1) (fun z z' => absurd (ok.2.2 z) z') (fun z => absurd z o0) (fun z => by omega) (fun _ _ => ?_) (fun z => by omega)
        rw [eR, eL]
        rw [← eW] at K
        exact K
      · have eR : (S j).1 = (S (j + 1)).1 := by rw [sR]; unfold wm_eR; rw [if_neg w]
        by_cases o6 : O j = 6
        · obtain ⟨x, hx, ex⟩ := ok.2.2 (Or.inr o6)
          have nx := nh o6 x hx ex
          have eW : upd (S j).2 x ((S j).1 (B j)) = (S (j + 1)).2 := by rw [sW]; unfold wm_eW; rw [if_pos o6, ex, nI_clamp (by omega)]
          have eL : (L.filter (wm_pq bg ln O (fun j => ((S j).1 (A j) + N j).toNatClampNeg) j)).filter (fun s => !wm_hit bg ln x s) = L.filter (wm_pq bg ln O (fun j => ((S j).1 (A j) + N j).toNatClampNeg) (j + 1)) := by
            have q := wm_pq_6 (bg := bg) (ln := ln) (O := O) (ad := (fun j => ((S j).1 (A j) + N j).toNatClampNeg)) (L := L) o6
            simp only [ex, nI_clamp (show x < 2 ^ 31 by omega)] at q
            exact q
          obtain ⟨be, q1, q2⟩ := yy_change (g_pc := g_pc) (g_wide := g_wide) (g_many := nI (L.filter (wm_pq bg ln O (fun j => ((S j).1 (A j) + N j).toNatClampNeg) j)).length) (g_cut := 0) (b_registers := (S j).1) (b_counts := ct) (b_begins := bb) (b_cycles := b_cycles) (v := (S j).1 (B j)) hx (l4 j) (lens j (by omega)) rfl hY
          obtain ⟨bb', ct', k1, k2, k3⟩ := ih (j + 1) be _ _ _ (by omega) fin (by rw [← eL]; exact q1) C5
          refine ⟨bb', ct', k1, by rw [← wm_c5]; exact k2, fun post hp f hf => ?_⟩
          obtain ⟨f, rfl⟩ : ∃ g, f = g + 1 := ⟨f - 1, by omega⟩
          have K := k3 post hp f (by omega)
          refine yy_gt g1 g2 g3 g4 g5 jn n8 n64 rfl (hcy j jn) (fun z => absurd z ok.1) (fun z z' => absurd ⟨z, z'⟩ ok.2.1) (fun z z' => absurd (ok.2.2 z) z') (fun z => absurd z o0) (fun z => by omega) (fun z => absurd z w) (fun _ y hy ey => ?_)
          have : y = x := by
            rw [ex, nI_eq (by omega) (by omega)] at ey
            exact ey.symm
          subst this
          refine ⟨_, _, be, q2, fun _ => ?_, fun z => absurd ?_ z⟩
          · rw [eL, eW]
            rw [← eR] at K
            exact K
          · omega
        · have eW : (S j).2 = (S (j + 1)).2 := by rw [sW]; unfold wm_eW; rw [if_neg o6]
          have eL : (L.filter (wm_pq bg ln O (fun j => ((S j).1 (A j) + N j).toNatClampNeg) j)) = L.filter (wm_pq bg ln O (fun j => ((S j).1 (A j) + N j).toNatClampNeg) (j + 1)) := wm_pq_n o6
          obtain ⟨bb', ct', k1, k2, k3⟩ := ih (j + 1) bb _ _ _ (by omega) fin (by rw [← eL]; exact hY) C5
          refine ⟨bb', ct', k1, by rw [← wm_c5]; exact k2, fun post hp f hf => ?_⟩
          obtain ⟨f, rfl⟩ : ∃ g, f = g + 1 := ⟨f - 1, by omega⟩
          have K := k3 post hp f (by omega)
          refine yy_gt g1 g2 g3 g4 g5 jn n8 n64 rfl (hcy j jn) (fun z => absurd z ok.1) (fun z z' => absurd ⟨z, z'⟩ ok.2.1) (fun z z' => absurd (ok.2.2 z) z') (fun z => absurd z o0) (fun _ => ?_) (fun z => absurd z w) (fun z => absurd z o6)
          rw [eL]
          rw [← eR, ← eW] at K
          exact K
end
end
section
/-! word by word, both together -/
def wm_px (o ra : Nat) (nn : Int32) (R : Nat → Int32) (a n : Nat) : Int32 := if o = 7 ∨ (o = 8 ∧ R ra = 0) then nn &&& 63 else nI (a + n) &&& 63
theorem wm_px_e {o ra a n : Nat} {nn : Int32} {R : Nat → Int32} (h : ¬ (o = 7 ∨ (o = 8 ∧ R ra = 0))) : wm_px o ra nn R a n = nI (a + n) &&& 63 := if_neg h
theorem wm_px_j {o ra a n : Nat} {nn : Int32} {R : Nat → Int32} (h : o = 7 ∨ (o = 8 ∧ R ra = 0)) : wm_px o ra nn R a n = nn &&& 63 := if_pos h
theorem wm_px_n (o ra : Nat) (nn : Int32) (R : Nat → Int32) (a n : Nat) : ∃ p, p < 64 ∧ wm_px o ra nn R a n = nI p := by
  unfold wm_px
  split
  · exact ⟨_, (wm_63 _).2, (wm_63 _).1⟩
  · exact ⟨_, (wm_63 _).2, (wm_63 _).1⟩
theorem wm_and63 {n : Nat} (h : n < 64) : nI n &&& 63 = nI n := by
  rw [pk_andN (k := 6) (by omega) (by decide), Nat.mod_eq_of_lt h]
section
variable {f_pc f_wide f_logged f_coming f_next f_time f_makingTime f_made f_reused f_started f_done : Int32} {a_registers a_words a_begins a_lengths a_times a_begun a_ops a_goal a_left a_right a_numbers a_cycles a_order a_before a_logAt a_logValue a_arrives a_result a_target : Nat → Int32}
variable {g_pc g_wide g_many g_cut : Int32} {b_registers b_words b_counts b_begins b_cycles : Nat → Int32}
variable {V : Nat → Int32} {O D A B : Nat → Nat} {N : Nat → Int32} {cy π : Nat → Nat} {s a n tm w : Nat} {bg bu ln : Nat → Nat} {st : Nat} {c1 c2 c3 c4 : Int32}
theorem xy_slow (hdec : ∀ i, O i = wm_o (V (a + i)) ∧ D i = wm_d (V (a + i)) ∧ A i = wm_a (V (a + i)) ∧ B i = wm_b (V (a + i)) ∧ N i = wm_n (V (a + i))) (hLen : wm_Len V a n) (hs : s < 5) (hE : wm_XE O D A B N cy π s n a_ops a_goal a_left a_right a_numbers a_cycles a_order) (ht : a_times s = nI tm) (hcy : ∀ i, i < n → b_cycles i = nI (cy i)) :
    ∀ d j (R W be bb ct : Nat → Int32) (L1 : List Nat) (c0 c5 pcx : Int32), j + d = n → wm_RC w W L1 bg bu ln st be a_begun a_lengths a_times a_ops a_goal a_left a_right a_numbers a_cycles a_order → wm_YL bg L1 bb → wm_CT ct c0 c1 c2 c3 c4 c5 → (∀ i, j ≤ i → i < n → W (a + i) = V (a + i)) → (d = 0 → O (n - 1) ≠ 0 ∧ pcx = wm_px (O (n - 1)) (A (n - 1)) (N (n - 1)) R a n) →
    ∃ (r : Int32) (p1 : Nat) (R1 W1 be1 bb1 ct1 : Nat → Int32) (L2 : List Nat) (d0 d5 cu : Int32), (r = -1 ∨ ∃ φ, φ < 4 ∧ r = nI φ) ∧ p1 < 64 ∧ wm_RC w W1 L2 bg bu ln st be1 a_begun a_lengths a_times a_ops a_goal a_left a_right a_numbers a_cycles a_order ∧ wm_YL bg L2 bb1 ∧ wm_CT ct1 d0 c1 c2 c3 c4 d5 ∧
      (∀ (post : Int32 → SX → Prop), post r ((nI p1), f_wide, f_logged, f_coming, f_next, d0, f_makingTime, f_made, f_reused, f_started, d5, R1, W1, be1, a_lengths, a_times, a_begun, a_ops, a_goal, a_left, a_right, a_numbers, a_cycles, a_order, a_before, a_logAt, a_logValue, a_arrives, a_result, a_target) → ∀ f, d < f → wX_slowly_21 post (nI s) (nI n) (nI (8 * s)) (nI a) f (nI j) pcx f_wide f_logged f_coming f_next c0 f_makingTime f_made f_reused f_started c5 R W be a_lengths a_times a_begun a_ops a_goal a_left a_right a_numbers a_cycles a_order a_before a_logAt a_logValue a_arrives a_result a_target) ∧ (∀ (post : Int32 → SY → Prop), post r ((nI p1), g_wide, (nI L2.length), cu, R1, W1, ct1, bb1, b_cycles) → ∀ f, d < f → wY_go_155 post (nI a) (nI n) (nI tm) (nI (a + n - 1)) (nI (O (n - 1))) (nI (A (n - 1))) (N (n - 1) &&& 63) f (nI j) g_pc g_wide (nI L1.length) 0 R W ct bb b_cycles) := by
  obtain ⟨n1, n8, n64, hL, hL'⟩ := hLen
  have hX : wm_XS O D A B := fun i => by
    obtain ⟨q1, q2, q3, q4, q5⟩ := hdec i
    rw [q1, q2, q3, q4]
    exact ⟨wm_ol _, wm_dl _, wm_al _, wm_bl _⟩
  have nE : ∀ j, j < n → (O j = 0 ∨ O j = 7 ∨ O j = 8) → j = n - 1 := fun j hj z => by
    rcases Nat.lt_or_ge (j + 1) n with q | q
    · have := hL j q
      rw [← (hdec j).1] at this
      omega
    · omega
  intro d
  induction d with
  | zero =>
    intro j R W be bb ct L1 c0 c5 pcx hd hR hY hC hW h0
    have e : j = n := by omega
    subst e
    obtain ⟨o0, ep⟩ := h0 rfl
    obtain ⟨p1, p64, epx⟩ := wm_px_n (O (j - 1)) (A (j - 1)) (N (j - 1)) R a j
    refine ⟨-1, p1, R, W, be, bb, upd ct 0 (ct 0 + nI tm), L1, c0 + nI tm, c5, 0, Or.inl rfl, p64, hR, hY, wm_CT_0 hC _, fun post hp f hf => ?_, fun post hp f hf => ?_⟩
    · obtain ⟨f, rfl⟩ : ∃ g, f = g + 1 := ⟨f - 1, by omega⟩
      rw [ep, epx]
      exact xx_sx (O := O) hs n1 n8 (hX _).1 (hE _ (by omega)).1 ht (fun z => absurd z o0) (fun _ => hp)
    · obtain ⟨f, rfl⟩ : ∃ g, f = g + 1 := ⟨f - 1, by omega⟩
      refine yy_gx (hX _).1 (hX _).2.2.1 (by omega) n8 ?_
      unfold wm_px at epx
      rw [epx]
      exact hp
  | succ d ih =>
    intro j R W be bb ct L1 c0 c5 pcx hd hR hY hC hW h0
    have jn : j < n := by omega
    obtain ⟨g1, g2, g3, g4, g5⟩ := hdec j
    rw [← hW j (Nat.le_refl _) jn] at g1 g2 g3 g4 g5
    have C5 := wm_CT_5 hC 1
    have hl := wm_RC_l hR
    have hK := hR.1
    have cj := hcy j jn
    have W' : ∀ i, j + 1 ≤ i → i < n → W (a + i) = V (a + i) := fun i h1 h2 => hW i (by omega) h2
    have ej1 : d = 0 → n - 1 = j := fun z => by omega
    by_cases b3 : 13 < O j
    · refine ⟨3, a + j, R, W, be, bb, upd ct 0 (ct 0 + nI (cy j)), L1, c0 + nI (cy j), c5, 0, Or.inr ⟨3, by omega, rfl⟩, by omega, hR, hY, wm_CT_0 hC _, fun post hp f hf => ?_, fun post hp f hf => ?_⟩
      · obtain ⟨f, rfl⟩ : ∃ g, f = g + 1 := ⟨f - 1, by omega⟩
        exact xx_ss hs jn n8 n64 hX hE hK hl (fun _ => hp) (fun z => by omega) (fun z => by omega) (fun z => by omega) (fun z => by omega) (fun z => by omega) (fun z => by omega) (fun z => by omega)
      · obtain ⟨f, rfl⟩ : ∃ g, f = g + 1 := ⟨f - 1, by omega⟩
        exact yy_gt g1 g2 g3 g4 g5 jn n8 n64 rfl cj (fun _ => hp) (fun z => by omega) (fun z => by omega) (fun z => by omega) (fun z => by omega) (fun z => by omega) (fun z => by omega)
    by_cases b2 : O j = 13 ∧ R (B j) = 0
    · refine ⟨2, a + j, R, W, be, bb, upd ct 0 (ct 0 + nI (cy j)), L1, c0 + nI (cy j), c5, 0, Or.inr ⟨2, by omega, rfl⟩, by omega, hR, hY, wm_CT_0 hC _, fun post hp f hf => ?_, fun post hp f hf => ?_⟩
      · obtain ⟨f, rfl⟩ : ∃ g, f = g + 1 := ⟨f - 1, by omega⟩
        exact xx_ss hs jn n8 n64 hX hE hK hl (fun z => absurd z b3) (fun _ _ => hp) (fun z => by omega) (fun z => by omega) (fun _ k => absurd b2 k.2.1) (fun z => by omega) (fun z => by omega) (fun z => by omega)
      · obtain ⟨f, rfl⟩ : ∃ g, f = g + 1 := ⟨f - 1, by omega⟩
        exact yy_gt g1 g2 g3 g4 g5 jn n8 n64 rfl cj (fun z => absurd z b3) (fun _ _ => hp) (fun z => by omega) (fun z => by omega) (fun z => by omega) (fun _ k => absurd b2 k.2.1) (fun z => by omega)
    by_cases b1 : wm_M (O j) → ∃ x, x < 64 ∧ R (A j) + N j = nI x
    case neg =>
      have bm : wm_M (O j) := Classical.byContradiction (fun q => b1 (fun z => absurd z q))
      have bx : ¬ ∃ x, x < 64 ∧ R (A j) + N j = nI x := fun q => b1 (fun _ => q)
      refine ⟨1, a + j, R, W, be, bb, upd ct 0 (ct 0 + nI (cy j)), L1, c0 + nI (cy j), c5, 0, Or.inr ⟨1, by omega, rfl⟩, by omega, hR, hY, wm_CT_0 hC _, fun post hp f hf => ?_, fun post hp f hf => ?_⟩
      · obtain ⟨f, rfl⟩ : ∃ g, f = g + 1 := ⟨f - 1, by omega⟩
        exact xx_ss hs jn n8 n64 hX hE hK hl (fun z => absurd z b3) (fun z z' => absurd ⟨z, z'⟩ b2) (fun _ _ => hp) (fun _ x hx ex => absurd ⟨x, hx, ex⟩ bx) (fun _ k => absurd (k.2.2 bm) bx) (fun z => by omega) (fun z => by omega) (fun z => by omega)
      · obtain ⟨f, rfl⟩ : ∃ g, f = g + 1 := ⟨f - 1, by omega⟩
        exact yy_gt g1 g2 g3 g4 g5 jn n8 n64 rfl cj (fun z => absurd z b3) (fun z z' => absurd ⟨z, z'⟩ b2) (fun _ _ => hp) (fun z => by omega) (fun z => by omega) (fun _ k => absurd (k.2.2 bm) bx) (fun _ x hx ex => absurd ⟨x, hx, ex⟩ bx)
    by_cases o0 : O j = 0
    · have jl := nE j jn (Or.inl o0)
      have ej : n = j + 1 := by omega
      refine ⟨0, a + j, R, W, be, bb, upd (upd ct 5 (ct 5 + 1)) 0 ((upd ct 5 (ct 5 + 1)) 0 + nI tm), L1, c0 + nI tm, c5 + 1, 0, Or.inr ⟨0, by omega, rfl⟩, by omega, hR, hY, wm_CT_0 C5 _, fun post hp f hf => ?_, fun post hp f hf => ?_⟩
      · obtain ⟨f, rfl⟩ : ∃ g, f = g + 2 := ⟨f - 2, by omega⟩
        have K := xx_sx (f_pc := nI (a + j)) (f_wide := f_wide) (f_logged := f_logged) (f_coming := f_coming) (f_next := f_next) (f_time := c0) (f_makingTime := f_makingTime) (f_made := f_made) (f_reused := f_reused) (f_started := f_started) (f_done := c5 + 1) (a_registers := R) (a_words := W) (a_begins := be) (a_lengths := a_lengths) (a_begun := a_begun) (a_goal := a_goal) (a_left := a_left) (a_right := a_right) (a_numbers := a_numbers) (a_cycles := a_cycles) (a_order := a_order) (a_before := a_before) (a_logAt := a_logAt) (a_logValue := a_logValue) (a_arrives := a_arrives) (a_result := a_result) (a_target := a_target) (post := post) (a := a) (f := f) (O := O) hs n1 n8 (hX _).1 (hE _ (by omega)).1 ht (fun _ => hp) (fun z => absurd (by rw [← jl]; exact o0) z)
        have en : nI n = nI (j + 1) := by rw [ej]
        have K2 : wX_slowly_21 post (nI s) (nI n) (nI (8 * s)) (nI a) (f + 1) (nI (j + 1)) (nI (a + j)) f_wide f_logged f_coming f_next c0 f_makingTime f_made f_reused f_started (c5 + 1) R W be a_lengths a_times a_begun a_ops a_goal a_left a_right a_numbers a_cycles a_order a_before a_logAt a_logValue a_arrives a_result a_target := by
          rw [← ej]; exact K
        exact xx_ss hs jn n8 n64 hX hE hK hl (fun z => absurd z b3) (fun z z' => absurd ⟨z, z'⟩ b2) (fun z => by omega) (fun z => by omega) (fun z => by omega) (fun z => by omega) (fun z => by omega) (fun _ => K2)
      · obtain ⟨f, rfl⟩ : ∃ g, f = g + 1 := ⟨f - 1, by omega⟩
        exact yy_gt g1 g2 g3 g4 g5 jn n8 n64 rfl cj (fun z => absurd z b3) (fun z z' => absurd ⟨z, z'⟩ b2) (fun z => by omega) (fun _ => hp) (fun z => by omega) (fun z => by omega) (fun z => by omega)
    have epn : d = 0 → ¬ (O j = 7 ∨ (O j = 8 ∧ R (A j) = 0)) → ∀ R' : Nat → Int32, (O j = 8 → R' (A j) = R (A j)) → O (n - 1) ≠ 0 ∧ (nI (a + j) + 1) &&& 63 = wm_px (O (n - 1)) (A (n - 1)) (N (n - 1)) R' a n := fun z q R' hr => by
      rw [ej1 z]
      refine ⟨o0, ?_⟩
      rw [wm_px_e (fun u => q (u.elim Or.inl (fun v => Or.inr ⟨v.1, by rw [← hr v.1]; exact v.2⟩))), nI_1, show a + j + 1 = a + n from by omega]
    by_cases o6 : O j = 6
    · obtain ⟨x, hx, ex⟩ := b1 (Or.inr o6)
      have uniq : ∀ y, y < 64 → R (A j) + N j = nI y → y = x := fun y hy ey => by
        rw [ex, nI_eq (by omega) (by omega)] at ey
        exact ey.symm
      obtain ⟨bb2, q1, q2⟩ := yy_change (g_pc := g_pc) (g_wide := g_wide) (g_many := nI L1.length) (g_cut := 0) (b_registers := R) (b_words := W) (b_counts := ct) (b_begins := bb) (b_cycles := b_cycles) (v := R (B j)) hx (wm_KX_le hK) (wm_RC_L hR) rfl hY
      have R2 := wm_RC_st hR x (R (B j))
      by_cases cut : x ≤ a + j ∨ a + n ≤ x
      · obtain ⟨r, p1, R1, W1, be1, bb1, ct1, L2, d0, d5, cu, k1, k2, k3, k4, k5, k6, k7⟩ := ih (j + 1) R (upd W x (R (B j))) (wm_tc L1 bg ln x 4 be) bb2 _ _ _ _ ((nI (a + j) + 1) &&& 63) (by omega) R2 q1 C5 (fun i h1 h2 => by rw [pk_un (by omega)]; exact W' i h1 h2) (fun z => epn z (by omega) R (fun _ => rfl))
        refine ⟨r, p1, R1, W1, be1, bb1, ct1, L2, d0, d5, cu, k1, k2, k3, k4, k5, fun post hp f hf => ?_, fun post hp f hf => ?_⟩
        · obtain ⟨f, rfl⟩ : ∃ g, f = g + 1 := ⟨f - 1, by omega⟩
          have K := k6 post hp f (by omega)
          refine xx_ss hs jn n8 n64 hX hE hK hl (fun z => absurd z b3) (fun z z' => absurd ⟨z, z'⟩ b2) (fun z z' => absurd (b1 z) z') (fun _ y hy ey => ?_) (fun z => by omega) (fun z => by omega) (fun z => by omega) (fun z => by omega)
          have := uniq y hy ey
          subst this
          exact ⟨fun _ => K, fun z => absurd cut z⟩
        · obtain ⟨f, rfl⟩ : ∃ g, f = g + 1 := ⟨f - 1, by omega⟩
          have K := k7 post hp f (by omega)
          refine yy_gt g1 g2 g3 g4 g5 jn n8 n64 rfl cj (fun z => absurd z b3) (fun z z' => absurd ⟨z, z'⟩ b2) (fun z z' => absurd (b1 z) z') (fun z => by omega) (fun z => by omega) (fun z => by omega) (fun _ y hy ey => ?_)
          have := uniq y hy ey
          subst this
          exact ⟨_, _, _, q2, fun _ => K, fun z => absurd cut z⟩
      · refine ⟨-1, a + j + 1, R, upd W x (R (B j)), wm_tc L1 bg ln x 4 be, bb2, upd (upd ct 5 (ct 5 + 1)) 0 ((upd ct 5 (ct 5 + 1)) 0 + nI (cy j)), _, c0 + nI (cy j), c5 + 1, 1, Or.inl rfl, by omega, R2, q1, wm_CT_0 C5 _, fun post hp f hf => ?_, fun post hp f hf => ?_⟩
        · obtain ⟨f, rfl⟩ : ∃ g, f = g + 1 := ⟨f - 1, by omega⟩
          refine xx_ss hs jn n8 n64 hX hE hK hl (fun z => absurd z b3) (fun z z' => absurd ⟨z, z'⟩ b2) (fun z z' => absurd (b1 z) z') (fun _ y hy ey => ?_) (fun z => by omega) (fun z => by omega) (fun z => by omega) (fun z => by omega)
          have := uniq y hy ey
          subst this
          refine ⟨fun z => absurd z cut, fun _ => ?_⟩
          rw [nI_1 (a + j), wm_and63 (by omega)]
          exact hp
        · obtain ⟨f, rfl⟩ : ∃ g, f = g + 1 := ⟨f - 1, by omega⟩
          refine yy_gt g1 g2 g3 g4 g5 jn n8 n64 rfl cj (fun z => absurd z b3) (fun z z' => absurd ⟨z, z'⟩ b2) (fun z z' => absurd (b1 z) z') (fun z => by omega) (fun z => by omega) (fun z => by omega) (fun _ y hy ey => ?_)
          have := uniq y hy ey
          subst this
          exact ⟨_, _, _, q2, fun z => absurd z cut, fun _ => hp⟩
    by_cases wo : wm_W (O j)
    · obtain ⟨r, p1, R1, W1, be1, bb1, ct1, L2, d0, d5, cu, k1, k2, k3, k4, k5, k6, k7⟩ := ih (j + 1) (upd R (D j) (wm_va (O j) (A j) (B j) (N j) R W)) W be bb _ L1 _ _ ((nI (a + j) + 1) &&& 63) (by omega) hR hY C5 W' (fun z => epn z (by omega) _ (fun q => by omega))
      refine ⟨r, p1, R1, W1, be1, bb1, ct1, L2, d0, d5, cu, k1, k2, k3, k4, k5, fun post hp f hf => ?_, fun post hp f hf => ?_⟩
      · obtain ⟨f, rfl⟩ : ∃ g, f = g + 1 := ⟨f - 1, by omega⟩
        have K := k6 post hp f (by omega)
        exact xx_ss hs jn n8 n64 hX hE hK hl (fun z => absurd z b3) (fun z z' => absurd ⟨z, z'⟩ b2) (fun z z' => absurd (b1 z) z') (fun z => absurd z o6) (fun _ _ => K) (fun z => by omega) (fun z => by omega) (fun z => by omega)
      · obtain ⟨f, rfl⟩ : ∃ g, f = g + 1 := ⟨f - 1, by omega⟩
        have K := k7 post hp f (by omega)
        exact yy_gt g1 g2 g3 g4 g5 jn n8 n64 rfl cj (fun z => absurd z b3) (fun z z' => absurd ⟨z, z'⟩ b2) (fun z z' => absurd (b1 z) z') (fun z => absurd z o0) (fun z => by omega) (fun _ _ => K) (fun z => absurd z o6)
    · by_cases jp : O j = 7 ∨ (O j = 8 ∧ R (A j) = 0)
      · have jl := nE j jn (by omega)
        obtain ⟨r, p1, R1, W1, be1, bb1, ct1, L2, d0, d5, cu, k1, k2, k3, k4, k5, k6, k7⟩ := ih (j + 1) R W be bb _ L1 _ _ (N j &&& 63) (by omega) hR hY C5 W' (fun z => by rw [ej1 z]; exact ⟨o0, by rw [wm_px_j jp]⟩)
        refine ⟨r, p1, R1, W1, be1, bb1, ct1, L2, d0, d5, cu, k1, k2, k3, k4, k5, fun post hp f hf => ?_, fun post hp f hf => ?_⟩
        · obtain ⟨f, rfl⟩ : ∃ g, f = g + 1 := ⟨f - 1, by omega⟩
          have K := k6 post hp f (by omega)
          exact xx_ss hs jn n8 n64 hX hE hK hl (fun z => absurd z b3) (fun z z' => absurd ⟨z, z'⟩ b2) (fun z z' => absurd (b1 z) z') (fun z => absurd z o6) (fun z => absurd z wo) (fun _ => K) (fun z z' => absurd jp (fun u => u.elim (fun v => by omega) (fun v => z' v.2))) (fun z => absurd z o0)
        · obtain ⟨f, rfl⟩ : ∃ g, f = g + 1 := ⟨f - 1, by omega⟩
          have K := k7 post hp f (by omega)
          exact yy_gt g1 g2 g3 g4 g5 jn n8 n64 rfl cj (fun z => absurd z b3) (fun z z' => absurd ⟨z, z'⟩ b2) (fun z z' => absurd (b1 z) z') (fun z => absurd z o0) (fun _ => K) (fun z => absurd z wo) (fun z => absurd z o6)
      · obtain ⟨r, p1, R1, W1, be1, bb1, ct1, L2, d0, d5, cu, k1, k2, k3, k4, k5, k6, k7⟩ := ih (j + 1) R W be bb _ L1 _ _ ((nI (a + j) + 1) &&& 63) (by omega) hR hY C5 W' (fun z => epn z jp R (fun _ => rfl))
        refine ⟨r, p1, R1, W1, be1, bb1, ct1, L2, d0, d5, cu, k1, k2, k3, k4, k5, fun post hp f hf => ?_, fun post hp f hf => ?_⟩
        · obtain ⟨f, rfl⟩ : ∃ g, f = g + 1 := ⟨f - 1, by omega⟩
          have K := k6 post hp f (by omega)
          exact xx_ss hs jn n8 n64 hX hE hK hl (fun z => absurd z b3) (fun z z' => absurd ⟨z, z'⟩ b2) (fun z z' => absurd (b1 z) z') (fun z => absurd z o6) (fun z => absurd z wo) (fun z => absurd z jp) (fun _ _ => K) (fun z => absurd z o0)
        · obtain ⟨f, rfl⟩ : ∃ g, f = g + 1 := ⟨f - 1, by omega⟩
          have K := k7 post hp f (by omega)
          exact yy_gt g1 g2 g3 g4 g5 jn n8 n64 rfl cj (fun z => absurd z b3) (fun z z' => absurd ⟨z, z'⟩ b2) (fun z z' => absurd (b1 z) z') (fun z => absurd z o0) (fun _ => K) (fun z => absurd z wo) (fun z => absurd z o6)
end
end
section
/-! the relation -/
def wm_RR (k : Nat) (f_pc f_wide f_time f_makingTime f_made f_reused f_started f_done : Int32) (a_registers a_words a_begins a_begun a_lengths a_times a_ops a_goal a_left a_right a_numbers a_cycles a_order : Nat → Int32) (g_pc g_wide g_many : Int32) (b_registers b_words b_counts b_begins : Nat → Int32) : Prop :=
  ∃ (p w st : Nat) (L : List Nat) (bg bu ln : Nat → Nat), f_pc = nI p ∧ p < 64 ∧ g_pc = nI p ∧ f_wide = nI w ∧ g_wide = nI w ∧ 1 ≤ w ∧ w ≤ 4 ∧ f_started = nI st ∧ st ≤ k ∧ b_registers = a_registers ∧ b_words = a_words ∧ wm_CT b_counts f_time f_makingTime f_made f_reused f_started f_done ∧ wm_RC w a_words L bg bu ln st a_begins a_begun a_lengths a_times a_ops a_goal a_left a_right a_numbers a_cycles a_order ∧ g_many = nI L.length ∧ wm_YL bg L b_begins
def wm_RT (k : Nat) (u : SX) (v : SY) : Prop := match u, v with
  | (f_pc, f_wide, f_logged, f_coming, f_next, f_time, f_makingTime, f_made, f_reused, f_started, f_done, a_registers, a_words, a_begins, a_lengths, a_times, a_begun, a_ops, a_goal, a_left, a_right, a_numbers, a_cycles, a_order, a_before, a_logAt, a_logValue, a_arrives, a_result, a_target), (g_pc, g_wide, g_many, g_cut, b_registers, b_words, b_counts, b_begins, b_cycles) => wm_RR k f_pc f_wide f_time f_makingTime f_made f_reused f_started f_done a_registers a_words a_begins a_begun a_lengths a_times a_ops a_goal a_left a_right a_numbers a_cycles a_order g_pc g_wide g_many b_registers b_words b_counts b_begins
theorem wm_RR_up {k k' : Nat} (h : k ≤ k') (f_pc f_wide f_logged f_coming f_next f_time f_makingTime f_made f_reused f_started f_done : Int32) (a_registers a_words a_begins a_lengths a_times a_begun a_ops a_goal a_left a_right a_numbers a_cycles a_order a_before a_logAt a_logValue a_arrives a_result a_target : Nat → Int32) (g_pc g_wide g_many g_cut : Int32) (b_registers b_words b_counts b_begins b_cycles : Nat → Int32) (H : wm_RR k f_pc f_wide f_time f_makingTime f_made f_reused f_started f_done a_registers a_words a_begins a_begun a_lengths a_times a_ops a_goal a_left a_right a_numbers a_cycles a_order g_pc g_wide g_many b_registers b_words b_counts b_begins) : wm_RR k' f_pc f_wide f_time f_makingTime f_made f_reused f_started f_done a_registers a_words a_begins a_begun a_lengths a_times a_ops a_goal a_left a_right a_numbers a_cycles a_order g_pc g_wide g_many b_registers b_words b_counts b_begins := by
  obtain ⟨p, w, st, L, bg, bu, ln, h1, h2, h3, h4, h5, h6, h7, h8, h9, h10⟩ := H
  exact ⟨p, w, st, L, bg, bu, ln, h1, h2, h3, h4, h5, h6, h7, h8, by omega, h10⟩
theorem wm_el {k : Nat} {P : SX → SY → Prop} (h : ∀ (f_pc f_wide f_logged f_coming f_next f_time f_makingTime f_made f_reused f_started f_done : Int32) (a_registers a_words a_begins a_lengths a_times a_begun a_ops a_goal a_left a_right a_numbers a_cycles a_order a_before a_logAt a_logValue a_arrives a_result a_target : Nat → Int32) (g_pc g_wide g_many g_cut : Int32) (b_registers b_words b_counts b_begins b_cycles : Nat → Int32), wm_RR k f_pc f_wide f_time f_makingTime f_made f_reused f_started f_done a_registers a_words a_begins a_begun a_lengths a_times a_ops a_goal a_left a_right a_numbers a_cycles a_order g_pc g_wide g_many b_registers b_words b_counts b_begins → P (f_pc, f_wide, f_logged, f_coming, f_next, f_time, f_makingTime, f_made, f_reused, f_started, f_done, a_registers, a_words, a_begins, a_lengths, a_times, a_begun, a_ops, a_goal, a_left, a_right, a_numbers, a_cycles, a_order, a_before, a_logAt, a_logValue, a_arrives, a_result, a_target) (g_pc, g_wide, g_many, g_cut, b_registers, b_words, b_counts, b_begins, b_cycles)) : ∀ u v, wm_RT k u v → P u v
  | (f_pc, f_wide, f_logged, f_coming, f_next, f_time, f_makingTime, f_made, f_reused, f_started, f_done, a_registers, a_words, a_begins, a_lengths, a_times, a_begun, a_ops, a_goal, a_left, a_right, a_numbers, a_cycles, a_order, a_before, a_logAt, a_logValue, a_arrives, a_result, a_target), (g_pc, g_wide, g_many, g_cut, b_registers, b_words, b_counts, b_begins, b_cycles), I => h f_pc f_wide f_logged f_coming f_next f_time f_makingTime f_made f_reused f_started f_done a_registers a_words a_begins a_lengths a_times a_begun a_ops a_goal a_left a_right a_numbers a_cycles a_order a_before a_logAt a_logValue a_arrives a_result a_target g_pc g_wide g_many g_cut b_registers b_words b_counts b_begins b_cycles I
theorem wm_RT_up {k k' : Nat} (h : k ≤ k') {u : SX} {v : SY} (I : wm_RT k u v) : wm_RT k' u v := wm_el (P := fun u v => wm_RT k' u v) (fun f_pc f_wide f_logged f_coming f_next f_time f_makingTime f_made f_reused f_started f_done a_registers a_words a_begins a_lengths a_times a_begun a_ops a_goal a_left a_right a_numbers a_cycles a_order a_before a_logAt a_logValue a_arrives a_result a_target g_pc g_wide g_many g_cut b_registers b_words b_counts b_begins b_cycles H => wm_RR_up h f_pc f_wide f_logged f_coming f_next f_time f_makingTime f_made f_reused f_started f_done a_registers a_words a_begins a_lengths a_times a_begun a_ops a_goal a_left a_right a_numbers a_cycles a_order a_before a_logAt a_logValue a_arrives a_result a_target g_pc g_wide g_many g_cut b_registers b_words b_counts b_begins b_cycles H) u v I
theorem wm_nx_n (o ra : Nat) (nn : Int32) (R : Nat → Int32) (p n : Nat) (h1 : 1 ≤ n) (h : p + n ≤ 64) : ∃ q, q < 64 ∧ wm_nx o ra nn R p n = nI q := by
  unfold wm_nx
  split
  · exact ⟨_, (wm_63 _).2, (wm_63 _).1⟩
  · split
    · exact ⟨p + n - 1, by omega, by rw [nI_add]; exact pk_sub (b := 1) (by omega)⟩
    · exact ⟨_, (wm_63 _).2, (wm_63 _).1⟩
section
variable {f_pc f_wide f_logged f_coming f_next f_time f_makingTime f_made f_reused f_started f_done : Int32} {a_registers a_words a_begins a_lengths a_times a_begun a_ops a_goal a_left a_right a_numbers a_cycles a_order a_before a_logAt a_logValue a_arrives a_result a_target : Nat → Int32}
variable {g_pc g_wide g_many g_cut : Int32} {b_registers b_words b_counts b_begins b_cycles : Nat → Int32}
variable {k : Nat} {cy π : Nat → Nat} {s a n w : Nat} {L : List Nat} {bg bu ln : Nat → Nat} {st : Nat}
theorem xy_exec (hRC : wm_RC w a_words L bg bu ln st a_begins a_begun a_lengths a_times a_ops a_goal a_left a_right a_numbers a_cycles a_order) (ms : s ∈ L) (es : bg s = a) (hBK : wm_BK a_words w s a n cy π a_lengths a_times a_ops a_goal a_left a_right a_numbers a_cycles a_order) (w1 : 1 ≤ w) (w4 : w ≤ 4) (hpc : f_pc = nI a) (hst : f_started = nI st) (stk : st ≤ k) (hw : f_wide = nI w) (hgw : g_wide = nI w) (hm : g_many = nI L.length) (hc : g_cut = 0) (hr : b_registers = a_registers) (hbw : b_words = a_words) (hY : wm_YL bg L b_begins) (hCT : wm_CT b_counts f_time f_makingTime f_made f_reused f_started f_done) (hcy : ∀ i, i < n → b_cycles i = nI (cy i)) :
    ∃ (g : Int32) (u2 : SX) (r : Int32) (u3 : SX) (v3 : SY), (∀ post : Int32 → SX → Prop, post g u2 → wpX_ahead post (f_pc, f_wide, f_logged, f_coming, f_next, f_time, f_makingTime, f_made, f_reused, f_started, f_done, a_registers, a_words, a_begins, a_lengths, a_times, a_begun, a_ops, a_goal, a_left, a_right, a_numbers, a_cycles, a_order, a_before, a_logAt, a_logValue, a_arrives, a_result, a_target) (nI s)) ∧ ((g = 0 ∧ ∀ post : Int32 → SX → Prop, post r u3 → wpX_slowly post u2 (nI s)) ∨ (g = 1 ∧ ∀ post : Int32 → SX → Prop, post r u3 → wpX_finish post u2 (nI s))) ∧ wm_RT k u3 v3 ∧ (r = -1 ∨ ∃ φ, φ < 4 ∧ r = nI φ) ∧
      ∀ post : Int32 → SY → Prop, post r v3 → ∀ f, n < f → wY_go_155 post (nI a) (nI n) (nI (wm_tm (wm_fo a_words a) cy n)) (nI (a + n - 1)) (nI ((wm_fo a_words a) (n - 1))) (nI ((wm_fa a_words a) (n - 1))) ((wm_fn a_words a) (n - 1) &&& 63) f 0 g_pc g_wide g_many g_cut b_registers b_words b_counts b_begins b_cycles := by
  subst hr
  subst hbw
  subst hc
  subst hm
  obtain ⟨bL, bS, bO, bl, bt, bE⟩ := hBK
  have hK := hRC.1
  have ks := hK.1 s ms
  have hX : wm_XS (wm_fo b_words a) (wm_fd b_words a) (wm_fa b_words a) (wm_fb b_words a) := fun i => ⟨wm_ol _, wm_dl _, wm_al _, wm_bl _⟩
  have hS := wm_sq_Sq (wm_fo b_words a) (wm_fd b_words a) (wm_fa b_words a) (wm_fb b_words a) (wm_fn b_words a) b_registers b_words
  have hdec : ∀ i, (wm_fo b_words a) i = wm_o (b_words (a + i)) ∧ (wm_fd b_words a) i = wm_d (b_words (a + i)) ∧ (wm_fa b_words a) i = wm_a (b_words (a + i)) ∧ (wm_fb b_words a) i = wm_b (b_words (a + i)) ∧ (wm_fn b_words a) i = wm_n (b_words (a + i)) := fun i => ⟨rfl, rfl, rfl, rfl, rfl⟩
  have U : wm_SU (wm_fo b_words a) (wm_fd b_words a) (wm_fa b_words a) (wm_fb b_words a) (wm_fn b_words a) (wm_sq (wm_fo b_words a) (wm_fd b_words a) (wm_fa b_words a) (wm_fb b_words a) (wm_fn b_words a) b_registers b_words) cy π s a n w a_begins a_lengths a_times a_ops a_goal a_left a_right a_numbers a_cycles a_order :=
    ⟨by omega, bL.1, bL.2.1, by have := bL.1; have := bL.2.2.1; omega, w1, hS, bS, bO, bL.2.2.2.1, hX, bE, by rw [ks.2.2.1, es], bl, bt⟩
  obtain ⟨g, lgv, cmv, nx, R1, W1, be, bf, la, lv, ar, rs, tg, q1, q2⟩ := xx_ahead (f_wide := f_wide) (f_logged := f_logged) (f_coming := f_coming) (f_next := f_next) (f_time := f_time) (f_makingTime := f_makingTime) (f_made := f_made) (f_reused := f_reused) (f_started := f_started) (f_done := f_done) (a_before := a_before) (a_logAt := a_logAt) (a_logValue := a_logValue) (a_arrives := a_arrives) (a_result := a_result) (a_target := a_target) U hpc rfl rfl hK (wm_RC_l hRC)
  have n1 := bL.1
  have n8 := bL.2.1
  have n64 := bL.2.2.1
  rcases q1 with ⟨rfl, eR, eW, eN, hok, hK2⟩ | ⟨rfl, eR, eW, eB⟩
  · obtain ⟨bb1, ct1, y1, y2, y3⟩ := yy_good (g_pc := g_pc) (g_wide := g_wide) (tm := wm_tm (wm_fo b_words a) cy n) (bg := bg) hdec hS rfl bL hok hcy (wm_KX_le hK) (wm_RC_L hRC) n 0 b_begins b_counts f_time f_done (by omega) (fun z => by omega) (by rw [wm_pq_0]; exact hY) hCT
    obtain ⟨p1, p64, ep⟩ := wm_nx_n (wm_fo b_words a (n - 1)) (wm_fa b_words a (n - 1)) (wm_fn b_words a (n - 1)) (wm_sq (wm_fo b_words a) (wm_fd b_words a) (wm_fa b_words a) (wm_fb b_words a) (wm_fn b_words a) b_registers b_words (n - 1)).1 a n n1 n64
    have RC2 := wm_RC_q hRC hK2 (V' := W1) (fun t mt pt i hi => by
      rw [eW]
      refine wm_S_keep hS n (fun j hj o6 e => ?_)
      have q := of_decide_eq_false ((wm_pq_iff n).mp pt j hj o6)
      rw [e] at q
      omega)
    rw [← eN] at ep
    rw [← eR, ← eW, ← eN, wm_pq_0] at y3
    generalize hLN : L.filter (wm_pq bg ln (wm_fo b_words a) (fun j => ((wm_sq (wm_fo b_words a) (wm_fd b_words a) (wm_fa b_words a) (wm_fb b_words a) (wm_fn b_words a) b_registers b_words j).1 (wm_fa b_words a j) + wm_fn b_words a j).toNatClampNeg) n) = LN at y1 y3 RC2
    refine ⟨1, (f_pc, f_wide, lgv, cmv, nx, f_time, f_makingTime, f_made, f_reused, f_started, f_done, R1, W1, be, a_lengths, a_times, a_begun, a_ops, a_goal, a_left, a_right, a_numbers, a_cycles, a_order, bf, la, lv, ar, rs, tg), if wm_fo b_words a (n - 1) = 0 then 0 else -1, (nx, f_wide, lgv, cmv, nx, (f_time + nI (wm_tm (wm_fo b_words a) cy n)), f_makingTime, f_made, f_reused, f_started, (f_done + nI n), R1, W1, be, a_lengths, a_times, a_begun, a_ops, a_goal, a_left, a_right, a_numbers, a_cycles, a_order, bf, la, lv, ar, rs, tg), (nx, g_wide, (nI LN.length), 0, R1, W1, ct1, bb1, b_cycles), q2, Or.inr ⟨rfl, fun post hp => ?_⟩, ?_, ?_, fun post hp f hf => y3 post hp f hf⟩
    · exact xx_finish (O := wm_fo b_words a) (tm := wm_tm (wm_fo b_words a) cy n) (by omega) n1 n8 (wm_ol _) (bE _ (by omega)).1 bl bt (fun z => by rw [if_pos z] at hp; exact hp) (fun z => by rw [if_neg z] at hp; exact hp)
    · exact ⟨p1, w, st, LN, bg, bu, ln, ep, p64, ep, hw, hgw, w1, w4, hst, stk, rfl, rfl, y2, RC2, rfl, y1⟩
    · by_cases z : wm_fo b_words a (n - 1) = 0
      · rw [if_pos z]; exact Or.inr ⟨0, by omega, rfl⟩
      · rw [if_neg z]; exact Or.inl rfl
  · rw [eR, eW, eB] at q2
    obtain ⟨r, p1, R1, W1, be1, bb1, ct1, L2, d0, d5, cu, k1, k2, k3, k4, k5, k6, k7⟩ := xy_slow (f_wide := f_wide) (f_logged := lgv) (f_coming := cmv) (f_next := nx) (f_makingTime := f_makingTime) (f_made := f_made) (f_reused := f_reused) (f_started := f_started) (a_before := bf) (a_logAt := la) (a_logValue := lv) (a_arrives := ar) (a_result := rs) (a_target := tg) (g_pc := g_pc) (g_wide := g_wide) hdec bL (show s < 5 by omega) bE bt hcy n 0 b_registers b_words a_begins b_begins b_counts L f_time f_done f_pc (by omega) hRC hY hCT (fun i _ _ => rfl) (fun z => by omega)
    refine ⟨0, (f_pc, f_wide, lgv, cmv, nx, f_time, f_makingTime, f_made, f_reused, f_started, f_done, b_registers, b_words, a_begins, a_lengths, a_times, a_begun, a_ops, a_goal, a_left, a_right, a_numbers, a_cycles, a_order, bf, la, lv, ar, rs, tg), r, ((nI p1), f_wide, lgv, cmv, nx, d0, f_makingTime, f_made, f_reused, f_started, d5, R1, W1, be1, a_lengths, a_times, a_begun, a_ops, a_goal, a_left, a_right, a_numbers, a_cycles, a_order, bf, la, lv, ar, rs, tg), ((nI p1), g_wide, (nI L2.length), cu, R1, W1, ct1, bb1, b_cycles), q2, Or.inl ⟨rfl, fun post hp => ?_⟩, ?_, k1, fun post hp f hf => k7 post hp f hf⟩
    · have K := k6 post hp (n + 1) (by omega)
      refine And.intro (vp_in_nI (by omega) (by decide)) (nm_r (e' := nI n) (by rw [nI_clamp (by omega), bl]) (nm_r (xx_8 s) ?_))
      subst hpc
      exact ⟨n + 1, K⟩
    · exact ⟨p1, w, st, L2, bg, bu, ln, rfl, k2, rfl, hw, hgw, w1, w4, hst, stk, rfl, rfl, k5, k3, rfl, k4⟩
end
end
section
/-! one block: begun, run -/
theorem wm_BK_put {V : Nat → Int32} {w t s b m n : Nat} {cy π : Nat → Nat} {le ti op go lf ri nu ca od : Nat → Int32} (h : wm_BK V w t b m cy π le ti op go lf ri nu ca od) (ts : t ≠ s) (n8 : n ≤ 8) (x y : Int32) (f1 f2 f3 f4 f5 f6 f7 : Nat → Int32) : wm_BK V w t b m cy π (upd le s x) (upd ti s y) (wm_put (8 * s) n f1 op) (wm_put (8 * s) n f2 go) (wm_put (8 * s) n f3 lf) (wm_put (8 * s) n f4 ri) (wm_put (8 * s) n f5 nu) (wm_put (8 * s) n f6 ca) (wm_put (8 * s) n f7 od) := by
  obtain ⟨h1, h2, h3, h4, h5, h6⟩ := h
  have m8 := h1.2.1
  refine ⟨h1, h2, h3, by rw [pk_un ts]; exact h4, by rw [pk_un ts]; exact h5, fun i hi => ?_⟩
  rw [wm_put_o (by omega), wm_put_o (by omega), wm_put_o (by omega), wm_put_o (by omega), wm_put_o (by omega), wm_put_o (by omega), wm_put_o (by omega)]
  exact h6 i hi
theorem wm_BK_new {V : Nat → Int32} {w s b n : Nat} {cy π : Nat → Nat} (le ti op go lf ri nu ca od : Nat → Int32) (h1 : wm_Len V b n) (h2 : wm_Sch (wm_fo V b) (wm_fd V b) (wm_fa V b) (wm_fb V b) w n cy) (h3 : wm_Ord cy n π) : wm_BK V w s b n cy π (upd le s (nI n)) (upd ti s (nI (wm_tm (wm_fo V b) cy n))) (wm_put (8 * s) n (fun q => nI (wm_fo V b q)) op) (wm_put (8 * s) n (fun q => nI (wm_fd V b q)) go) (wm_put (8 * s) n (fun q => nI (wm_fa V b q)) lf) (wm_put (8 * s) n (fun q => nI (wm_fb V b q)) ri) (wm_put (8 * s) n (wm_fn V b) nu) (wm_put (8 * s) n (fun i => nI (cy i)) ca) (wm_put (8 * s) n (fun q => nI (π q)) od) :=
  ⟨h1, h2, h3, pk_us, pk_us, fun i hi => ⟨wm_put_i hi, wm_put_i hi, wm_put_i hi, wm_put_i hi, wm_put_i hi, wm_put_i hi, wm_put_i hi⟩⟩
theorem wm_mid {bu : Nat → Nat} {l1 l2 : List Nat} {s : Nat} (h : List.Pairwise (fun s t => bu t < bu s) (l1 ++ s :: l2)) : (∀ t, t ∈ l1 → t ≠ s) ∧ (∀ t, t ∈ l2 → bu t < bu s) ∧ List.Pairwise (fun s t => bu t < bu s) (l1 ++ l2) := by
  obtain ⟨p1, p2, p3⟩ := List.pairwise_append.mp h
  obtain ⟨p4, p5⟩ := List.pairwise_cons.mp p2
  refine ⟨fun t ht e => ?_, p4, List.pairwise_append.mpr ⟨p1, p5, fun x hx y hy => p3 x hx y (List.mem_cons_of_mem _ hy)⟩⟩
  have := p3 t ht s List.mem_cons_self
  rw [e] at this
  omega
/-- the slot that is begun anew, and the others -/
theorem wm_rest {L : List Nat} {bg bu : Nat → Nat} {st s : Nat} {be bn bb : Nat → Int32} (hK : wm_KX L bg bu st be bn) (hs : s < 4) (h2 : ¬ s ∈ L ∨ ∀ t, t < 4 → t ∈ L ∧ bu s ≤ bu t) (hY : wm_YL bg L bb) : ∃ L1 : List Nat, (∀ t, t ∈ L1 → t ∈ L ∧ t ≠ s) ∧ (∀ t, t ∈ L → t ≠ s → t ∈ L1) ∧ List.Pairwise (fun s t => bu t < bu s) L1 ∧ wm_YL bg L1 bb ∧ L1.length < 4 ∧ L1.length = if L.length = 4 then 3 else L.length := by
  have len := wm_KX_len hK
  rcases h2 with h | h
  · have := wm_ct_not h 4 hs
    refine ⟨L, fun t ht => ⟨ht, fun e => h (e ▸ ht)⟩, fun t ht _ => ht, hK.2.2.1, hY, by omega, ?_⟩
    rw [if_neg (by omega)]
  · have ms := (h s hs).1
    have all := wm_ct_all 4 (fun t ht => (h t ht).1)
    obtain ⟨l1, l2, e⟩ := List.append_of_mem ms
    have pw := hK.2.2.1
    rw [e] at pw
    obtain ⟨m1, m2, m3⟩ := wm_mid pw
    have l2n : l2 = [] := by
      rcases l2 with _ | ⟨t, l⟩
      · rfl
      · exfalso
        have q := m2 t List.mem_cons_self
        have mt : t ∈ L := by rw [e]; exact List.mem_append_right _ (List.mem_cons_of_mem _ List.mem_cons_self)
        have := (h t (hK.1 t mt).1).2
        omega
    subst l2n
    rw [List.append_nil] at m3
    have ll : L.length = l1.length + 1 := by rw [e, List.length_append, List.length_singleton]
    refine ⟨l1, fun t ht => ⟨by rw [e]; exact List.mem_append_left _ ht, m1 t ht⟩, fun t ht ts => ?_, m3, ?_, by omega, ?_⟩
    · rw [e] at ht
      rcases List.mem_append.mp ht with z | z
      · exact z
      · exact absurd (List.mem_singleton.mp z) ts
    · rw [e] at hY; exact wm_YL_pre hY
    · rw [if_pos (by omega)]; omega
section
variable {f_pc f_wide f_logged f_coming f_next f_time f_makingTime f_made f_reused f_started f_done : Int32} {a_registers a_words a_begins a_lengths a_times a_begun a_ops a_goal a_left a_right a_numbers a_cycles a_order a_before a_logAt a_logValue a_arrives a_result a_target : Nat → Int32}
variable {g_pc g_wide g_many g_cut : Int32} {b_registers b_words b_counts b_begins b_cycles : Nat → Int32}
theorem xy_block {k : Nat} (H : wm_RR k f_pc f_wide f_time f_makingTime f_made f_reused f_started f_done a_registers a_words a_begins a_begun a_lengths a_times a_ops a_goal a_left a_right a_numbers a_cycles a_order g_pc g_wide g_many b_registers b_words b_counts b_begins) (hk : k + 1 < 2 ^ 31) :
    ∃ (sx : Int32) (u1 : SX) (g : Int32) (u2 : SX) (r : Int32) (u3 : SX) (v3 : SY), (∀ post : Int32 → SX → Prop, post sx u1 → wpX_begin post (f_pc, f_wide, f_logged, f_coming, f_next, f_time, f_makingTime, f_made, f_reused, f_started, f_done, a_registers, a_words, a_begins, a_lengths, a_times, a_begun, a_ops, a_goal, a_left, a_right, a_numbers, a_cycles, a_order, a_before, a_logAt, a_logValue, a_arrives, a_result, a_target) f_pc) ∧ (∀ post : Int32 → SX → Prop, post g u2 → wpX_ahead post u1 sx) ∧ ((g = 0 ∧ ∀ post : Int32 → SX → Prop, post r u3 → wpX_slowly post u2 sx) ∨ (g = 1 ∧ ∀ post : Int32 → SX → Prop, post r u3 → wpX_finish post u2 sx)) ∧ wm_RT (k + 1) u3 v3 ∧ (r = -1 ∨ ∃ φ, φ < 4 ∧ r = nI φ) ∧ ∀ post : Int32 → SY → Prop, post r v3 → wpY_go post (g_pc, g_wide, g_many, g_cut, b_registers, b_words, b_counts, b_begins, b_cycles) := by
  obtain ⟨p, w, st, L, bg, bu, ln, h1, p64, h3, h4, h5, w1, w4, h8, h9, h10, h11, h12, h13, h14, h15⟩ := H
  have hK := h13.1
  subst h1
  subst h10
  subst h11
  by_cases kept : ∃ s, s ∈ L ∧ bg s = p
  · obtain ⟨s, ms, es⟩ := kept
    obtain ⟨cy, π, BK⟩ := h13.2 s ms
    rw [es] at BK
    obtain ⟨l1, l2, e⟩ := List.append_of_mem ms
    have pw := hK.2.2.1
    rw [e] at pw
    obtain ⟨m1, m2, m3⟩ := wm_mid pw
    have ks := hK.1 s ms
    have inL : ∀ t, t ∈ l1 ++ l2 → t ∈ L ∧ t ≠ s := fun t ht => by
      rcases List.mem_append.mp ht with z | z
      · exact ⟨by rw [e]; exact List.mem_append_left _ z, m1 t z⟩
      · exact ⟨by rw [e]; exact List.mem_append_right _ (List.mem_cons_of_mem _ z), fun q => by have := m2 t z; rw [q] at this; omega⟩
    have K2 := wm_KX_beg (L1 := l1 ++ l2) hK ks.1 p64 inL (fun t ht ts => by
      rw [e] at ht
      rcases List.mem_append.mp ht with z | z
      · exact List.mem_append_left _ z
      · exact List.mem_append_right _ ((List.mem_cons.mp z).resolve_left ts)) m3 (fun t ht q => (inL t ht).2 (hK.2.2.2 t s (inL t ht).1 ms (q.trans es.symm)))
    have ebg : (fun t => if t = s then p else bg t) = bg := by
      funext t
      by_cases z : t = s
      · rw [if_pos z, z, es]
      · rw [if_neg z]
    have ebe : upd a_begins s (nI p) = a_begins := by
      funext t
      by_cases z : t = s
      · subst z; rw [pk_us, ks.2.2.1, es]
      · rw [pk_un z]
    rw [ebg, ebe] at K2
    have R2 : wm_RC w b_words (s :: (l1 ++ l2)) bg (fun t => if t = s then st + 1 else bu t) ln (st + 1) a_begins (upd a_begun s (nI (st + 1))) a_lengths a_times a_ops a_goal a_left a_right a_numbers a_cycles a_order :=
      ⟨K2, fun t ht => (List.mem_cons.mp ht).elim (fun q => h13.2 t (by rw [q]; exact ms)) (fun q => h13.2 t (inL t q).1)⟩
    have len : L.length = (l1.length + l2.length) + 1 := by rw [e, List.length_append, List.length_cons]; omega
    have len4 := wm_KX_le hK
    have bk : b_begins l1.length = nI p := by
      rw [← es]
      exact h15 l1.length s (by rw [e, List.getElem?_append_right (Nat.le_refl _), Nat.sub_self]; rfl)
    have bno : ∀ j, j < l1.length → ¬ b_begins j = nI p := fun j hj q => by
      have mj : l1[j] ∈ l1 := List.getElem_mem hj
      have bj := h15 j l1[j] (by rw [e, List.getElem?_append_left hj]; exact List.getElem?_eq_getElem hj)
      have tj := inL l1[j] (List.mem_append_left _ mj)
      have t64 := (hK.1 _ tj.1).2.1
      rw [bj, nI_eq (by omega) (by omega)] at q
      exact tj.2 (hK.2.2.2 _ s tj.1 ms (q.trans es.symm))
    have Y2 : wm_YL bg (s :: (l1 ++ l2)) (wm_fr (nI p) (l1.length + l2.length) (wm_fg l1.length (l1.length + l2.length) b_begins)) := by
      have q := wm_YL_fr (s := s) (wm_YL_fg (s := s) (by rw [e] at h15; exact h15))
      rw [es, List.length_append] at q
      exact q
    have C2 := wm_CT_4 (wm_CT_3 h12 1) 1
    obtain ⟨g, u2, r, u3, v3, x1, x2, x3, x4, x5⟩ := xy_exec (k := k + 1) (f_pc := nI p) (f_wide := f_wide) (f_logged := f_logged) (f_coming := f_coming) (f_next := f_next) (f_time := f_time) (f_makingTime := f_makingTime) (f_made := f_made) (f_reused := f_reused + 1) (f_started := nI (st + 1)) (f_done := f_done) (a_registers := b_registers) (a_before := a_before) (a_logAt := a_logAt) (a_logValue := a_logValue) (a_arrives := a_arrives) (a_result := a_result) (a_target := a_target) (g_pc := g_pc) (g_wide := g_wide) (g_many := nI (l1.length + l2.length + 1)) (g_cut := 0) (b_counts := upd (upd b_counts 3 (b_counts 3 + 1)) 4 ((upd b_counts 3 (b_counts 3 + 1)) 4 + 1)) (b_cycles := wm_put 0 (ln s) (fun i => nI (cy i)) b_cycles) R2 List.mem_cons_self es BK w1 w4 rfl rfl (by omega) h4 h5 (by rw [List.length_cons, List.length_append]) rfl rfl rfl Y2 (by rw [h8, nI_1] at C2; exact C2) (fun i hi => by
        have := wm_put_i (off := 0) (f := fun i => nI (cy i)) (a := b_cycles) hi
        rw [Nat.zero_add] at this
        exact this)
    refine ⟨nI s, ((nI p), f_wide, f_logged, f_coming, f_next, f_time, f_makingTime, f_made, (f_reused + 1), (nI (st + 1)), f_done, b_registers, b_words, a_begins, a_lengths, a_times, (upd a_begun s (nI (st + 1))), a_ops, a_goal, a_left, a_right, a_numbers, a_cycles, a_order, a_before, a_logAt, a_logValue, a_arrives, a_result, a_target), g, u2, r, u3, v3, fun post hp => xx_begin_old hK p64 ms es h8 hp, x1, x2, x3, x4, fun post hp => ?_⟩
    exact yy_go_old (m := l1.length + l2.length) (k := l1.length) h3 (by rw [h14, len]) (by omega) (by omega) bk bno h5 w1 w4 BK.1 BK.2.1 ⟨ln s + 1, x5 post hp (ln s + 1) (by omega)⟩
  · have na : ∀ s, s ∈ L → bg s ≠ p := fun s ms es => kept ⟨s, ms, es⟩
    obtain ⟨n, Ln⟩ := wm_Len_ex b_words p64
    obtain ⟨cy, Sc⟩ := wm_Sch_ex (wm_fo b_words p) (wm_fd b_words p) (wm_fa b_words p) (wm_fb b_words p) w1 n
    obtain ⟨s, π, s4, s2, hO, hb⟩ := xx_begin_new (f_pc := nI p) (f_logged := f_logged) (f_coming := f_coming) (f_next := f_next) (f_time := f_time) (f_makingTime := f_makingTime) (f_made := f_made) (f_reused := f_reused) (f_done := f_done) (a_registers := b_registers) (a_lengths := a_lengths) (a_times := a_times) (a_ops := a_ops) (a_goal := a_goal) (a_left := a_left) (a_right := a_right) (a_numbers := a_numbers) (a_cycles := a_cycles) (a_order := a_order) (a_before := a_before) (a_logAt := a_logAt) (a_logValue := a_logValue) (a_arrives := a_arrives) (a_result := a_result) (a_target := a_target) hK (by omega) p64 na h8 h4 w1 w4 Ln Sc
    obtain ⟨L1, i1, i2, i3, i4, i5, i6⟩ := wm_rest hK s4 s2 h15
    have K2 := wm_KX_beg hK s4 p64 i1 i2 i3 (fun t ht => na t (i1 t ht).1)
    have R2 : wm_RC w b_words (s :: L1) (fun t => if t = s then p else bg t) (fun t => if t = s then st + 1 else bu t) (fun t => if t = s then n else ln t) (st + 1) (upd a_begins s (nI p)) (upd a_begun s (nI (st + 1))) (upd a_lengths s (nI n)) (upd a_times s (nI (wm_tm (wm_fo b_words p) cy n))) (wm_put (8 * s) n (fun q => nI (wm_fo b_words p q)) a_ops) (wm_put (8 * s) n (fun q => nI (wm_fd b_words p q)) a_goal) (wm_put (8 * s) n (fun q => nI (wm_fa b_words p q)) a_left) (wm_put (8 * s) n (fun q => nI (wm_fb b_words p q)) a_right) (wm_put (8 * s) n (wm_fn b_words p) a_numbers) (wm_put (8 * s) n (fun i => nI (cy i)) a_cycles) (wm_put (8 * s) n (fun q => nI (π q)) a_order) := by
      refine ⟨K2, fun t ht => ?_⟩
      rcases List.mem_cons.mp ht with z | z
      · subst z
        refine ⟨cy, π, ?_⟩
        show wm_BK b_words w t (if t = t then p else bg t) (if t = t then n else ln t) cy π _ _ _ _ _ _ _ _ _
        rw [if_pos rfl, if_pos rfl]
        exact wm_BK_new _ _ _ _ _ _ _ _ _ Ln Sc hO
      · obtain ⟨c', π', B⟩ := h13.2 t (i1 t z).1
        refine ⟨c', π', ?_⟩
        show wm_BK b_words w t (if t = s then p else bg t) (if t = s then n else ln t) c' π' _ _ _ _ _ _ _ _ _
        rw [if_neg (i1 t z).2, if_neg (i1 t z).2]
        exact wm_BK_put B (i1 t z).2 Ln.2.1 _ _ _ _ _ _ _ _ _
    have Y2 : wm_YL (fun t => if t = s then p else bg t) (s :: L1) (wm_fr (nI p) L1.length b_begins) := by
      have q := wm_YL_fr (s := s) (wm_YL_congr (bg' := fun t => if t = s then p else bg t) i4 (fun t ht => if_neg (i1 t ht).2))
      simp only [if_true] at q
      exact q
    have C2 := wm_CT_4 (wm_CT_2 (wm_CT_1 (wm_CT_0 h12 (3 * nI n)) (3 * nI n)) 1) 1
    obtain ⟨g, u2, r, u3, v3, x1, x2, x3, x4, x5⟩ := xy_exec (k := k + 1) (f_pc := nI p) (f_wide := f_wide) (f_logged := f_logged) (f_coming := f_coming) (f_next := f_next) (f_time := f_time + 3 * nI n) (f_makingTime := f_makingTime + 3 * nI n) (f_made := f_made + 1) (f_reused := f_reused) (f_started := nI (st + 1)) (f_done := f_done) (a_registers := b_registers) (a_before := a_before) (a_logAt := a_logAt) (a_logValue := a_logValue) (a_arrives := a_arrives) (a_result := a_result) (a_target := a_target) (g_pc := g_pc) (g_wide := g_wide) (g_many := nI (L1.length + 1)) (g_cut := 0) (b_counts := _) (b_cycles := wm_put 0 n (fun i => nI (cy i)) b_cycles) R2 List.mem_cons_self (if_pos rfl) (wm_BK_new _ _ _ _ _ _ _ _ _ Ln Sc hO) w1 w4 rfl rfl (by omega) h4 h5 (by rw [List.length_cons]) rfl rfl rfl Y2 (by rw [h8, nI_1] at C2; exact C2) (fun i hi => by
        have := wm_put_i (off := 0) (f := fun i => nI (cy i)) (a := b_cycles) hi
        rw [Nat.zero_add] at this
        exact this)
    refine ⟨nI s, _, g, u2, r, u3, v3, hb, x1, x2, x3, x4, fun post hp => ?_⟩
    refine yy_go_new (m := L1.length) (m1 := L.length) h3 h14 (wm_KX_le hK) i6 (fun j hj q => ?_) h5 w1 w4 Ln Sc ⟨n + 1, x5 post hp (n + 1) (by omega)⟩
    have bj := h15 j L[j] (List.getElem?_eq_getElem hj)
    have t64 := (hK.1 _ (List.getElem_mem hj)).2.1
    rw [bj, nI_eq (by omega) (by omega)] at q
    exact na _ (List.getElem_mem hj) q
end
end
section
/-! a run: at most a hundred blocks -/
def wm_R13 (post : Int32 → SX → Prop) (f : Nat) (x : Int32) (u : SX) : Prop := match u with
  | (f_pc, f_wide, f_logged, f_coming, f_next, f_time, f_makingTime, f_made, f_reused, f_started, f_done, a_registers, a_words, a_begins, a_lengths, a_times, a_begun, a_ops, a_goal, a_left, a_right, a_numbers, a_cycles, a_order, a_before, a_logAt, a_logValue, a_arrives, a_result, a_target) => wX_run_13 post f x f_pc f_wide f_logged f_coming f_next f_time f_makingTime f_made f_reused f_started f_done a_registers a_words a_begins a_lengths a_times a_begun a_ops a_goal a_left a_right a_numbers a_cycles a_order a_before a_logAt a_logValue a_arrives a_result a_target
def wm_R15 (post : Int32 → SY → Prop) (f : Nat) (x : Int32) (v : SY) : Prop := match v with
  | (g_pc, g_wide, g_many, g_cut, b_registers, b_words, b_counts, b_begins, b_cycles) => wY_run_15 post f x g_pc g_wide g_many g_cut b_registers b_words b_counts b_begins b_cycles
theorem wm_eX {P : SX → Prop} (h : ∀ (f_pc f_wide f_logged f_coming f_next f_time f_makingTime f_made f_reused f_started f_done : Int32) (a_registers a_words a_begins a_lengths a_times a_begun a_ops a_goal a_left a_right a_numbers a_cycles a_order a_before a_logAt a_logValue a_arrives a_result a_target : Nat → Int32), P (f_pc, f_wide, f_logged, f_coming, f_next, f_time, f_makingTime, f_made, f_reused, f_started, f_done, a_registers, a_words, a_begins, a_lengths, a_times, a_begun, a_ops, a_goal, a_left, a_right, a_numbers, a_cycles, a_order, a_before, a_logAt, a_logValue, a_arrives, a_result, a_target)) : ∀ u, P u
  | (f_pc, f_wide, f_logged, f_coming, f_next, f_time, f_makingTime, f_made, f_reused, f_started, f_done, a_registers, a_words, a_begins, a_lengths, a_times, a_begun, a_ops, a_goal, a_left, a_right, a_numbers, a_cycles, a_order, a_before, a_logAt, a_logValue, a_arrives, a_result, a_target) => h f_pc f_wide f_logged f_coming f_next f_time f_makingTime f_made f_reused f_started f_done a_registers a_words a_begins a_lengths a_times a_begun a_ops a_goal a_left a_right a_numbers a_cycles a_order a_before a_logAt a_logValue a_arrives a_result a_target
theorem wm_eY {P : SY → Prop} (h : ∀ (g_pc g_wide g_many g_cut : Int32) (b_registers b_words b_counts b_begins b_cycles : Nat → Int32), P (g_pc, g_wide, g_many, g_cut, b_registers, b_words, b_counts, b_begins, b_cycles)) : ∀ v, P v
  | (g_pc, g_wide, g_many, g_cut, b_registers, b_words, b_counts, b_begins, b_cycles) => h g_pc g_wide g_many g_cut b_registers b_words b_counts b_begins b_cycles
theorem xy_x49 {r : Int32} (hr : r = -1 ∨ ∃ φ, φ < 4 ∧ r = nI φ) {post : Int32 → SX → Prop} {f i : Nat} (f_pc f_wide f_logged f_coming f_next f_time f_makingTime f_made f_reused f_started f_done : Int32) (a_registers a_words a_begins a_lengths a_times a_begun a_ops a_goal a_left a_right a_numbers a_cycles a_order a_before a_logAt a_logValue a_arrives a_result a_target : Nat → Int32) (h1 : r = -1 → wX_run_13 post f (nI (i + 1)) f_pc f_wide f_logged f_coming f_next f_time f_makingTime f_made f_reused f_started f_done a_registers a_words a_begins a_lengths a_times a_begun a_ops a_goal a_left a_right a_numbers a_cycles a_order a_before a_logAt a_logValue a_arrives a_result a_target) (h0 : ¬ r = -1 → post r (f_pc, f_wide, f_logged, f_coming, f_next, f_time, f_makingTime, f_made, f_reused, f_started, f_done, a_registers, a_words, a_begins, a_lengths, a_times, a_begun, a_ops, a_goal, a_left, a_right, a_numbers, a_cycles, a_order, a_before, a_logAt, a_logValue, a_arrives, a_result, a_target)) : wX_run_49 post (wX_run_13 post f) (nI i) r f_pc f_wide f_logged f_coming f_next f_time f_makingTime f_made f_reused f_started f_done a_registers a_words a_begins a_lengths a_times a_begun a_ops a_goal a_left a_right a_numbers a_cycles a_order a_before a_logAt a_logValue a_arrives a_result a_target := br_c (fun e => nm_r (nI_1 i) (h1 e)) h0
section
variable {f_pc f_wide f_logged f_coming f_next f_time f_makingTime f_made f_reused f_started f_done : Int32} {a_registers a_words a_begins a_lengths a_times a_begun a_ops a_goal a_left a_right a_numbers a_cycles a_order a_before a_logAt a_logValue a_arrives a_result a_target : Nat → Int32}
variable {g_pc g_wide g_many g_cut : Int32} {b_registers b_words b_counts b_begins b_cycles : Nat → Int32}
theorem xy_rs {k : Nat} (H : wm_RR k f_pc f_wide f_time f_makingTime f_made f_reused f_started f_done a_registers a_words a_begins a_begun a_lengths a_times a_ops a_goal a_left a_right a_numbers a_cycles a_order g_pc g_wide g_many b_registers b_words b_counts b_begins) (hk : k + 1 < 2 ^ 31) : ∃ (r : Int32) (u3 : SX) (v3 : SY), wm_RT (k + 1) u3 v3 ∧ (∀ (post : Int32 → SX → Prop) (f i : Nat), i < 100 → (r = -1 → wm_R13 post f (nI (i + 1)) u3) → (¬ r = -1 → post r u3) → wX_run_13 post (f + 1) (nI i) f_pc f_wide f_logged f_coming f_next f_time f_makingTime f_made f_reused f_started f_done a_registers a_words a_begins a_lengths a_times a_begun a_ops a_goal a_left a_right a_numbers a_cycles a_order a_before a_logAt a_logValue a_arrives a_result a_target) ∧ (∀ (post : Int32 → SY → Prop) (f i : Nat), i < 100 → (r = -1 → wm_R15 post f (nI (i + 1)) v3) → (¬ r = -1 → post r v3) → wY_run_15 post (f + 1) (nI i) g_pc g_wide g_many g_cut b_registers b_words b_counts b_begins b_cycles) ∧ (r = -1 ∨ ∃ φ, φ < 4 ∧ r = nI φ) := by
  obtain ⟨sx, u1, g, u2, r, u3, v3, h1, h2, h3, h4, h5, h6⟩ := xy_block (f_logged := f_logged) (f_coming := f_coming) (f_next := f_next) (a_before := a_before) (a_logAt := a_logAt) (a_logValue := a_logValue) (a_arrives := a_arrives) (a_result := a_result) (a_target := a_target) (g_cut := g_cut) (b_cycles := b_cycles) H hk
  refine ⟨r, u3, v3, h4, fun post f i hi k1 k0 => ?_, fun post f i hi k1 k0 => ?_, h5⟩
  · refine br_f (nI_ge (b := 100) hi (by decide)) ?_
    refine h1 _ ?_
    clear h1 h4 h6
    obtain ⟨z11, z12, z13, z14, z15, z16, z17, z18, z19, z110, z111, z112, z113, z114, z115, z116, z117, z118, z119, z120, z121, z122, z123, z124, z125, z126, z127, z128, z129, z130⟩ := u1
    refine h2 _ ?_
    clear h2
    obtain ⟨z21, z22, z23, z24, z25, z26, z27, z28, z29, z210, z211, z212, z213, z214, z215, z216, z217, z218, z219, z220, z221, z222, z223, z224, z225, z226, z227, z228, z229, z230⟩ := u2
    rcases h3 with ⟨rfl, h3⟩ | ⟨rfl, h3⟩
    · refine br_t rfl ?_
      refine h3 _ ?_
      obtain ⟨z31, z32, z33, z34, z35, z36, z37, z38, z39, z310, z311, z312, z313, z314, z315, z316, z317, z318, z319, z320, z321, z322, z323, z324, z325, z326, z327, z328, z329, z330⟩ := u3
      exact xy_x49 h5 _ _ _ _ _ _ _ _ _ _ _ _ _ _ _ _ _ _ _ _ _ _ _ _ _ _ _ _ _ _ k1 k0
    · refine br_f (by decide) ?_
      refine h3 _ ?_
      obtain ⟨z31, z32, z33, z34, z35, z36, z37, z38, z39, z310, z311, z312, z313, z314, z315, z316, z317, z318, z319, z320, z321, z322, z323, z324, z325, z326, z327, z328, z329, z330⟩ := u3
      exact xy_x49 h5 _ _ _ _ _ _ _ _ _ _ _ _ _ _ _ _ _ _ _ _ _ _ _ _ _ _ _ _ _ _ k1 k0
  · refine br_f (nI_ge (b := 100) hi (by decide)) ?_
    refine h6 _ ?_
    obtain ⟨y1, y2, y3, y4, y5, y6, y7, y8, y9⟩ := v3
    rcases h5 with e | ⟨φ, hφ, e⟩
    · subst e
      exact br_t (by decide) (nm_r (nI_1 i) (k1 rfl))
    · subst e
      exact br_f (nI_pos (by omega)) (k0 (wm_m1ne φ (by omega)))
end
theorem xy_run : ∀ d i k (u : SX) (v : SY), i + d = 100 → k + d < 2 ^ 31 → wm_RT k u v → ∃ (r : Int32) (u3 : SX) (v3 : SY), wm_RT (k + d) u3 v3 ∧ (∀ post : Int32 → SX → Prop, post r u3 → ∀ f, d < f → wm_R13 post f (nI i) u) ∧ (∀ post : Int32 → SY → Prop, post r v3 → ∀ f, d < f → wm_R15 post f (nI i) v) := by
  intro d
  induction d with
  | zero =>
    intro i k u v hi hk I
    refine ⟨4, u, v, I, ?_, ?_⟩
    · intro post
      refine wm_eX (P := fun u => post 4 u → ∀ f, 0 < f → wm_R13 post f (nI i) u) (fun f_pc f_wide f_logged f_coming f_next f_time f_makingTime f_made f_reused f_started f_done a_registers a_words a_begins a_lengths a_times a_begun a_ops a_goal a_left a_right a_numbers a_cycles a_order a_before a_logAt a_logValue a_arrives a_result a_target hp f hf => ?_) u
      obtain ⟨f, rfl⟩ : ∃ g, f = g + 1 := ⟨f - 1, by omega⟩
      exact br_t (nI_le (a := 100) (by omega) (by omega)) hp
    · intro post
      refine wm_eY (P := fun v => post 4 v → ∀ f, 0 < f → wm_R15 post f (nI i) v) (fun g_pc g_wide g_many g_cut b_registers b_words b_counts b_begins b_cycles hp f hf => ?_) v
      obtain ⟨f, rfl⟩ : ∃ g, f = g + 1 := ⟨f - 1, by omega⟩
      exact br_t (nI_le (a := 100) (by omega) (by omega)) hp
  | succ d ih =>
    intro i k u v hi hk I
    refine wm_el (P := fun u v => ∃ (r : Int32) (u3 : SX) (v3 : SY), wm_RT (k + (d + 1)) u3 v3 ∧ (∀ post : Int32 → SX → Prop, post r u3 → ∀ f, d + 1 < f → wm_R13 post f (nI i) u) ∧ (∀ post : Int32 → SY → Prop, post r v3 → ∀ f, d + 1 < f → wm_R15 post f (nI i) v)) ?_ u v I
    intro f_pc f_wide f_logged f_coming f_next f_time f_makingTime f_made f_reused f_started f_done a_registers a_words a_begins a_lengths a_times a_begun a_ops a_goal a_left a_right a_numbers a_cycles a_order a_before a_logAt a_logValue a_arrives a_result a_target g_pc g_wide g_many g_cut b_registers b_words b_counts b_begins b_cycles H
    obtain ⟨r, u3, v3, h1, h2, h3, h4⟩ := xy_rs (f_logged := f_logged) (f_coming := f_coming) (f_next := f_next) (a_before := a_before) (a_logAt := a_logAt) (a_logValue := a_logValue) (a_arrives := a_arrives) (a_result := a_result) (a_target := a_target) (g_cut := g_cut) (b_cycles := b_cycles) H (by omega)
    by_cases e : r = -1
    · obtain ⟨r', u4, v4, k1, k2, k3⟩ := ih (i + 1) (k + 1) u3 v3 (by omega) (by omega) h1
      refine ⟨r', u4, v4, by rw [show k + (d + 1) = k + 1 + d from by omega]; exact k1, fun post hp f hf => ?_, fun post hp f hf => ?_⟩
      · obtain ⟨f, rfl⟩ : ∃ g, f = g + 1 := ⟨f - 1, by omega⟩
        exact h2 post f i (by omega) (fun _ => k2 post hp f (by omega)) (fun z => absurd e z)
      · obtain ⟨f, rfl⟩ : ∃ g, f = g + 1 := ⟨f - 1, by omega⟩
        exact h3 post f i (by omega) (fun _ => k3 post hp f (by omega)) (fun z => absurd e z)
    · refine ⟨r, u3, v3, wm_RT_up (by omega) h1, fun post hp f hf => ?_, fun post hp f hf => ?_⟩
      · obtain ⟨f, rfl⟩ : ∃ g, f = g + 1 := ⟨f - 1, by omega⟩
        exact h2 post f i (by omega) (fun z => absurd z e) (fun _ => hp)
      · obtain ⟨f, rfl⟩ : ∃ g, f = g + 1 := ⟨f - 1, by omega⟩
        exact h3 post f i (by omega) (fun z => absurd z e) (fun _ => hp)
end
section
/-! what is owed -/
/-- the two machines hold the same words, registers, counts; kept slots are the reference's list, the block begun last first, each with its plan -/
def i_Rel (k : Nat) (u : SX) (v : SY) : Prop := wm_RT (100 * k) u v
theorem i_up {k : Nat} {u : SX} {v : SY} (h : i_Rel k u v) : i_Rel (k + 6) u v := wm_RT_up (by omega) h
theorem xx_i159 {post : SX → Prop} (f_pc f_wide f_logged f_coming f_next f_time f_makingTime f_made f_reused f_started f_done : Int32) (a_registers a_words a_begins a_lengths a_times a_begun a_ops a_goal a_left a_right a_numbers a_cycles a_order a_before a_logAt a_logValue a_arrives a_result a_target : Nat → Int32) (hp : post (f_pc, f_wide, f_logged, f_coming, f_next, f_time, f_makingTime, f_made, f_reused, f_started, f_done, a_registers, a_words, (wm_put 0 5 (fun _ => -1) a_begins), a_lengths, a_times, a_begun, a_ops, a_goal, a_left, a_right, a_numbers, a_cycles, a_order, a_before, a_logAt, a_logValue, a_arrives, a_result, a_target)) : ∀ f i, i ≤ 5 → 5 < i + f → wX_init_159 post f_pc f_wide f_logged f_coming f_next f_time f_makingTime f_made f_reused f_started f_done f (nI i) a_registers a_words (wm_put 0 i (fun _ => -1) a_begins) a_lengths a_times a_begun a_ops a_goal a_left a_right a_numbers a_cycles a_order a_before a_logAt a_logValue a_arrives a_result a_target := by
  intro f
  induction f with
  | zero => intro i h1 h2; omega
  | succ f ih =>
    intro i h1 h2
    refine pk_le 5 i (fun z => ?_) (fun z => ?_)
    · have : i = 5 := by omega
      subst this
      exact hp
    · have e := wm_put_s 0 i (fun _ => (-1 : Int32)) a_begins
      rw [Nat.zero_add] at e
      rw [nI_clamp (by omega), wm_m1, e]
      exact And.intro (vp_in_nI z (by decide)) (nm_e (nm_r (nI_1 i) (ih (i + 1) (by omega) (by omega))))
theorem i_vc0 : wpX_init (fun u => wpY_init (fun v => i_Rel 0 u v)) := by
  have K := xx_i159 (post := fun u => wpY_init (fun v => i_Rel 0 u v)) 0 2 0 0 0 0 0 0 0 0 0 (fun _ => 0) (fun _ => 0) (fun _ => 0) (fun _ => 0) (fun _ => 0) (fun _ => 0) (fun _ => 0) (fun _ => 0) (fun _ => 0) (fun _ => 0) (fun _ => 0) (fun _ => 0) (fun _ => 0) (fun _ => 0) (fun _ => 0) (fun _ => 0) (fun _ => 0) (fun _ => 0) (fun _ => 0) (by
    refine ⟨0, 2, 0, [], fun _ => 0, fun _ => 0, fun _ => 0, rfl, by decide, rfl, rfl, rfl, by decide, by decide, rfl, Nat.le_refl _, rfl, rfl, ⟨rfl, rfl, rfl, rfl, rfl, rfl⟩, ⟨wm_KX_nil (fun s hs => ?_), fun s hs => (nomatch hs)⟩, rfl, fun k s e => by rw [List.getElem?_nil] at e; exact (nomatch e)⟩
    have q := wm_put_i (off := 0) (n := 5) (f := fun _ => (-1 : Int32)) (a := fun _ => 0) (show s < 5 by omega)
    rw [Nat.zero_add] at q
    exact q) 6 0 (by omega) (by omega)
  rw [wm_put_0] at K
  exact ⟨6, K⟩
theorem i_vc_put {k : Nat} {u : SX} {v : SY} (I : i_Rel k u v) (hk : k + 6 ≤ 3072) (v1 : Int32) (v2 : Int32) : wpX_put (fun r u' => wpY_put (fun r' v' => r' = r ∧ i_Rel (k + 6) u' v') v v1 v2) u v1 v2 := by
  refine wm_el (P := fun u v => wpX_put (fun r u' => wpY_put (fun r' v' => r' = r ∧ i_Rel (k + 6) u' v') v v1 v2) u v1 v2) ?_ u v I
  intro f_pc f_wide f_logged f_coming f_next f_time f_makingTime f_made f_reused f_started f_done a_registers a_words a_begins a_lengths a_times a_begun a_ops a_goal a_left a_right a_numbers a_cycles a_order a_before a_logAt a_logValue a_arrives a_result a_target g_pc g_wide g_many g_cut b_registers b_words b_counts b_begins b_cycles H
  have H' := wm_RR_up (show 100 * k ≤ 100 * (k + 6) by omega) f_pc f_wide f_logged f_coming f_next f_time f_makingTime f_made f_reused f_started f_done a_registers a_words a_begins a_lengths a_times a_begun a_ops a_goal a_left a_right a_numbers a_cycles a_order a_before a_logAt a_logValue a_arrives a_result a_target g_pc g_wide g_many g_cut b_registers b_words b_counts b_begins b_cycles H
  obtain ⟨p, w, st, L, bg, bu, ln, h1, p64, h3, h4, h5, w1, w4, h8, h9, h10, h11, h12, h13, h14, h15⟩ := H
  subst h10
  subst h11
  unfold wpX_put
  refine xx_in (N := 64) (by decide) (fun j hj e => br_f (by decide) ?_) (fun q => br_t rfl ?_)
  · subst e
    obtain ⟨be, y1, y2⟩ := yy_change (g_pc := g_pc) (g_wide := g_wide) (g_cut := g_cut) (b_registers := b_registers) (b_counts := b_counts) (b_cycles := b_cycles) (v := v2) hj (wm_KX_le h13.1) (wm_RC_L h13) h14 h15
    refine And.intro (vp_in_nI hj (by decide)) (nm_r (e' := upd b_words j v2) (by rw [nI_clamp (by omega)]) ?_)
    refine xx_touched h13.1 (wm_RC_l h13) hj ?_
    show wpY_put _ (g_pc, g_wide, g_many, g_cut, b_registers, b_words, b_counts, b_begins, b_cycles) (nI j) v2
    unfold wpY_put
    refine yy_in (N := 64) (by decide) (fun i hi e => br_f (by decide) ?_) (fun q => absurd ⟨j, hj, rfl⟩ q)
    refine y2 _ ?_
    exact ⟨rfl, p, w, st, _, bg, bu, ln, h1, p64, h3, h4, h5, w1, w4, h8, by omega, rfl, rfl, h12, wm_RC_st h13 j v2, rfl, y1⟩
  · show wpY_put _ (g_pc, g_wide, g_many, g_cut, b_registers, b_words, b_counts, b_begins, b_cycles) v1 v2
    unfold wpY_put
    exact yy_in (N := 64) (by decide) (fun i hi e => absurd ⟨i, hi, e⟩ q) (fun _ => br_t rfl ⟨rfl, H'⟩)
theorem i_vc_code {k : Nat} {u : SX} {v : SY} (I : i_Rel k u v) (hk : k + 6 ≤ 3072) (v1 : Int32) (v2 : Int32) (v3 : Int32) (v4 : Int32) (v5 : Int32) : wpX_code (fun r => wpY_code (fun r' => r' = r ∧ i_Rel (k + 6) u v) v v1 v2 v3 v4 v5) u v1 v2 v3 v4 v5 := by
  have I' := i_up I
  revert I'
  generalize i_Rel (k + 6) u v = Q
  refine wm_el (P := fun u v => Q → wpX_code (fun r => wpY_code (fun r' => r' = r ∧ Q) v v1 v2 v3 v4 v5) u v1 v2 v3 v4 v5) ?_ u v I
  intro f_pc f_wide f_logged f_coming f_next f_time f_makingTime f_made f_reused f_started f_done a_registers a_words a_begins a_lengths a_times a_begun a_ops a_goal a_left a_right a_numbers a_cycles a_order a_before a_logAt a_logValue a_arrives a_result a_target g_pc g_wide g_many g_cut b_registers b_words b_counts b_begins b_cycles H q
  exact ⟨rfl, q⟩
theorem i_vc_set {k : Nat} {u : SX} {v : SY} (I : i_Rel k u v) (hk : k + 6 ≤ 3072) (v1 : Int32) (v2 : Int32) : wpX_set (fun r u' => wpY_set (fun r' v' => r' = r ∧ i_Rel (k + 6) u' v') v v1 v2) u v1 v2 := by
  refine wm_el (P := fun u v => wpX_set (fun r u' => wpY_set (fun r' v' => r' = r ∧ i_Rel (k + 6) u' v') v v1 v2) u v1 v2) ?_ u v I
  intro f_pc f_wide f_logged f_coming f_next f_time f_makingTime f_made f_reused f_started f_done a_registers a_words a_begins a_lengths a_times a_begun a_ops a_goal a_left a_right a_numbers a_cycles a_order a_before a_logAt a_logValue a_arrives a_result a_target g_pc g_wide g_many g_cut b_registers b_words b_counts b_begins b_cycles H
  have H' := wm_RR_up (show 100 * k ≤ 100 * (k + 6) by omega) f_pc f_wide f_logged f_coming f_next f_time f_makingTime f_made f_reused f_started f_done a_registers a_words a_begins a_lengths a_times a_begun a_ops a_goal a_left a_right a_numbers a_cycles a_order a_before a_logAt a_logValue a_arrives a_result a_target g_pc g_wide g_many g_cut b_registers b_words b_counts b_begins b_cycles H
  obtain ⟨p, w, st, L, bg, bu, ln, h1, p64, h3, h4, h5, w1, w4, h8, h9, h10, h11, h12, h13, h14, h15⟩ := H
  subst h10
  subst h11
  unfold wpX_set
  refine xx_in (N := 9) (by decide) (fun j hj e => br_f (by decide) ?_) (fun q => br_t rfl ?_)
  · subst e
    refine pk_eq j 8 (fun z => ?_) (fun z => ?_)
    · subst z
      refine xx_in (N := 64) (by decide) (fun i hi e => br_f (by decide) ?_) (fun q => br_t rfl ?_)
      · subst e
        refine br_t rfl ?_
        show wpY_set _ (g_pc, g_wide, g_many, g_cut, b_registers, b_words, b_counts, b_begins, b_cycles) (nI 8) (nI i)
        unfold wpY_set
        refine yy_in (N := 9) (by decide) (fun _ _ _ => br_f (by decide) (br_t rfl ?_)) (fun q => absurd ⟨8, hj, rfl⟩ q)
        refine yy_in (N := 64) (by decide) (fun _ _ _ => br_f (by decide) (br_t rfl ?_)) (fun q => absurd ⟨i, hi, rfl⟩ q)
        exact ⟨rfl, i, w, st, L, bg, bu, ln, rfl, hi, rfl, h4, h5, w1, w4, h8, by omega, rfl, rfl, h12, h13, h14, h15⟩
      · show wpY_set _ (g_pc, g_wide, g_many, g_cut, b_registers, b_words, b_counts, b_begins, b_cycles) (nI 8) v2
        unfold wpY_set
        refine yy_in (N := 9) (by decide) (fun _ _ _ => br_f (by decide) (br_t rfl ?_)) (fun q => absurd ⟨8, hj, rfl⟩ q)
        exact yy_in (N := 64) (by decide) (fun i hi e => absurd ⟨i, hi, e⟩ q) (fun _ => br_t rfl ⟨rfl, H'⟩)
    · have j8 : j < 8 := by omega
      have z8 : ¬ nI j = 8 := fun e => z ((nI_eq (b := 8) (by omega) (by omega)).mp e)
      refine br_f z8 ?_
      refine And.intro (vp_in_nI j8 (by decide)) (nm_r (e' := upd b_registers j v2) (by rw [nI_clamp (by omega)]) ?_)
      show wpY_set _ (g_pc, g_wide, g_many, g_cut, b_registers, b_words, b_counts, b_begins, b_cycles) (nI j) v2
      unfold wpY_set
      refine yy_in (N := 9) (by decide) (fun _ _ _ => br_f (by decide) (br_f z8 ?_)) (fun q => absurd ⟨j, hj, rfl⟩ q)
      refine br_f z8 ?_
      refine And.intro (vp_in_nI j8 (by decide)) (nm_r (e' := upd b_registers j v2) (by rw [nI_clamp (by omega)]) ?_)
      exact ⟨rfl, p, w, st, L, bg, bu, ln, h1, p64, h3, h4, h5, w1, w4, h8, by omega, rfl, rfl, h12, h13, h14, h15⟩
  · show wpY_set _ (g_pc, g_wide, g_many, g_cut, b_registers, b_words, b_counts, b_begins, b_cycles) v1 v2
    unfold wpY_set
    exact yy_in (N := 9) (by decide) (fun i hi e => absurd ⟨i, hi, e⟩ q) (fun _ => br_t rfl ⟨rfl, H'⟩)
theorem i_vc_width {k : Nat} {u : SX} {v : SY} (I : i_Rel k u v) (hk : k + 6 ≤ 3072) (v1 : Int32) : wpX_width (fun r u' => wpY_width (fun r' v' => r' = r ∧ i_Rel (k + 6) u' v') v v1) u v1 := by
  refine wm_el (P := fun u v => wpX_width (fun r u' => wpY_width (fun r' v' => r' = r ∧ i_Rel (k + 6) u' v') v v1) u v1) ?_ u v I
  intro f_pc f_wide f_logged f_coming f_next f_time f_makingTime f_made f_reused f_started f_done a_registers a_words a_begins a_lengths a_times a_begun a_ops a_goal a_left a_right a_numbers a_cycles a_order a_before a_logAt a_logValue a_arrives a_result a_target g_pc g_wide g_many g_cut b_registers b_words b_counts b_begins b_cycles H
  have H' := wm_RR_up (show 100 * k ≤ 100 * (k + 6) by omega) f_pc f_wide f_logged f_coming f_next f_time f_makingTime f_made f_reused f_started f_done a_registers a_words a_begins a_lengths a_times a_begun a_ops a_goal a_left a_right a_numbers a_cycles a_order a_before a_logAt a_logValue a_arrives a_result a_target g_pc g_wide g_many g_cut b_registers b_words b_counts b_begins b_cycles H
  obtain ⟨p, w, st, L, bg, bu, ln, h1, p64, h3, h4, h5, w1, w4, h8, h9, h10, h11, h12, h13, h14, h15⟩ := H
  subst h10
  subst h11
  have no : (¬ ∃ j, j < 4 ∧ v1 - 1 = nI j) → wpY_width (fun r' v' => r' = 0 ∧ i_Rel (k + 6) (f_pc, f_wide, f_logged, f_coming, f_next, f_time, f_makingTime, f_made, f_reused, f_started, f_done, b_registers, b_words, a_begins, a_lengths, a_times, a_begun, a_ops, a_goal, a_left, a_right, a_numbers, a_cycles, a_order, a_before, a_logAt, a_logValue, a_arrives, a_result, a_target) v') (g_pc, g_wide, g_many, g_cut, b_registers, b_words, b_counts, b_begins, b_cycles) v1 := fun q => by
    unfold wpY_width
    exact yy_in (N := 4) (by decide) (fun i hi e => absurd ⟨i, hi, e⟩ q) (fun _ => br_t rfl ⟨rfl, H'⟩)
  have back : ∀ i, v1 - 1 = nI i → v1 = nI (i + 1) := fun i e => by
    rw [← nI_1, ← e, Int32.sub_add_cancel]
  refine br_c (fun z => no ?_) (fun z => br_c (fun z' => ?_) (fun z' => no ?_))
  · rintro ⟨i, hi, e⟩
    rw [back i e] at z
    exact nI_nlt (a := i + 1) (b := 1) (by omega) (by omega) z
  · have n0 : ¬ v1 < 0 := fun y => z (by rw [Int32.lt_iff_toInt_lt] at y ⊢; have : (0 : Int32).toInt = 0 := by decide
                                         have : (1 : Int32).toInt = 1 := by decide
                                         omega)
    obtain ⟨j, j4, e⟩ := nI_of2 (M := 4) (n := 4) (by decide) n0 z'
    subst e
    have j1 : 1 ≤ j := by
      rcases Nat.eq_zero_or_pos j with y | y
      · subst y; exact absurd (by decide) z
      · exact y
    refine xx_flush h13.1 ?_
    show wpY_width _ (g_pc, g_wide, g_many, g_cut, b_registers, b_words, b_counts, b_begins, b_cycles) (nI j)
    unfold wpY_width
    have ej : nI j - 1 = nI (j - 1) := pk_sub (b := 1) j1
    refine yy_in (N := 4) (by decide) (fun _ _ _ => br_f (by decide) ?_) (fun q => absurd ⟨j - 1, by omega, ej⟩ q)
    refine ⟨rfl, p, j, st, [], bg, bu, ln, h1, p64, h3, rfl, rfl, j1, j4, h8, by omega, rfl, rfl, h12, ⟨wm_KX_nil (fun s hs => ?_), fun s hs => (nomatch hs)⟩, rfl, fun k s e => by rw [List.getElem?_nil] at e; exact (nomatch e)⟩
    have q := wm_put_i (off := 0) (n := 4) (f := fun _ => (-1 : Int32)) (a := a_begins) hs
    rw [Nat.zero_add] at q
    exact q
  · rintro ⟨i, hi, e⟩
    rw [back i e] at z'
    exact z' (nI_le (b := 4) (by omega) (by omega))
theorem i_vc_run {k : Nat} {u : SX} {v : SY} (I : i_Rel k u v) (hk : k + 6 ≤ 3072) : wpX_run (fun r u' => wpY_run (fun r' v' => r' = r ∧ i_Rel (k + 6) u' v') v) u := by
  obtain ⟨r, u3, v3, k1, k2, k3⟩ := xy_run 100 0 (100 * k) u v (by omega) (by omega) I
  have F : i_Rel (k + 6) u3 v3 := wm_RT_up (by omega) k1
  have k2 := fun post hp => k2 post hp 101 (by omega)
  have k3 := fun post hp => k3 post hp 101 (by omega)
  revert k2 k3
  refine wm_el (P := fun u v => (∀ post : Int32 → SX → Prop, post r u3 → wm_R13 post 101 (nI 0) u) → (∀ post : Int32 → SY → Prop, post r v3 → wm_R15 post 101 (nI 0) v) → wpX_run (fun r u' => wpY_run (fun r' v' => r' = r ∧ i_Rel (k + 6) u' v') v) u) ?_ u v I
  intro f_pc f_wide f_logged f_coming f_next f_time f_makingTime f_made f_reused f_started f_done a_registers a_words a_begins a_lengths a_times a_begun a_ops a_goal a_left a_right a_numbers a_cycles a_order a_before a_logAt a_logValue a_arrives a_result a_target g_pc g_wide g_many g_cut b_registers b_words b_counts b_begins b_cycles H k2 k3
  have H' := wm_RR_up (show 100 * k ≤ 100 * (k + 6) by omega) f_pc f_wide f_logged f_coming f_next f_time f_makingTime f_made f_reused f_started f_done a_registers a_words a_begins a_lengths a_times a_begun a_ops a_goal a_left a_right a_numbers a_cycles a_order a_before a_logAt a_logValue a_arrives a_result a_target g_pc g_wide g_many g_cut b_registers b_words b_counts b_begins b_cycles H
  obtain ⟨p, w, st, L, bg, bu, ln, h1, p64, h3, h4, h5, w1, w4, h8, h9, h10, h11, h12, h13, h14, h15⟩ := H
  have e0 : b_counts 0 = f_time := h12.1
  refine br_c (fun z => ⟨101, ?_⟩) (fun z => ?_)
  · refine k2 (fun r u' => wpY_run (fun r' v' => r' = r ∧ i_Rel (k + 6) u' v') (g_pc, g_wide, g_many, g_cut, b_registers, b_words, b_counts, b_begins, b_cycles)) ?_
    refine br_t (by rw [e0]; exact z) ⟨101, ?_⟩
    exact k3 (fun r' v' => r' = r ∧ i_Rel (k + 6) u3 v') ⟨rfl, F⟩
  · exact br_f (by rw [e0]; exact z) ⟨rfl, H'⟩
theorem i_vc_register {k : Nat} {u : SX} {v : SY} (I : i_Rel k u v) (hk : k + 6 ≤ 3072) (v1 : Int32) : wpX_register (fun r => wpY_register (fun r' => r' = r ∧ i_Rel (k + 6) u v) v v1) u v1 := by
  have I' := i_up I
  revert I'
  generalize i_Rel (k + 6) u v = Q
  refine wm_el (P := fun u v => Q → wpX_register (fun r => wpY_register (fun r' => r' = r ∧ Q) v v1) u v1) ?_ u v I
  intro f_pc f_wide f_logged f_coming f_next f_time f_makingTime f_made f_reused f_started f_done a_registers a_words a_begins a_lengths a_times a_begun a_ops a_goal a_left a_right a_numbers a_cycles a_order a_before a_logAt a_logValue a_arrives a_result a_target g_pc g_wide g_many g_cut b_registers b_words b_counts b_begins b_cycles H q0
  obtain ⟨p, w, st, L, bg, bu, ln, h1, p64, h3, h4, h5, w1, w4, h8, h9, h10, h11, h12, h13, h14, h15⟩ := H
  subst h10
  unfold wpX_register
  refine xx_in (N := 8) (by decide) (fun j hj e => br_f (by decide) ?_) (fun q => br_t rfl ?_)
  · subst e
    refine And.intro (vp_in_nI hj (by decide)) ?_
    unfold wpY_register
    exact yy_in (N := 8) (by decide) (fun _ _ _ => br_f (by decide) (And.intro (vp_in_nI hj (by decide)) ⟨rfl, q0⟩)) (fun q => absurd ⟨j, hj, rfl⟩ q)
  · refine br_c (fun z => ?_) (fun z => ?_)
    · unfold wpY_register
      exact yy_in (N := 8) (by decide) (fun i hi e => absurd ⟨i, hi, e⟩ q) (fun _ => br_t rfl (br_t z ⟨h3.trans h1.symm, q0⟩))
    · unfold wpY_register
      exact yy_in (N := 8) (by decide) (fun i hi e => absurd ⟨i, hi, e⟩ q) (fun _ => br_t rfl (br_f z ⟨rfl, q0⟩))
theorem i_vc_word {k : Nat} {u : SX} {v : SY} (I : i_Rel k u v) (hk : k + 6 ≤ 3072) (v1 : Int32) : wpX_word (fun r => wpY_word (fun r' => r' = r ∧ i_Rel (k + 6) u v) v v1) u v1 := by
  have I' := i_up I
  revert I'
  generalize i_Rel (k + 6) u v = Q
  refine wm_el (P := fun u v => Q → wpX_word (fun r => wpY_word (fun r' => r' = r ∧ Q) v v1) u v1) ?_ u v I
  intro f_pc f_wide f_logged f_coming f_next f_time f_makingTime f_made f_reused f_started f_done a_registers a_words a_begins a_lengths a_times a_begun a_ops a_goal a_left a_right a_numbers a_cycles a_order a_before a_logAt a_logValue a_arrives a_result a_target g_pc g_wide g_many g_cut b_registers b_words b_counts b_begins b_cycles H q0
  obtain ⟨p, w, st, L, bg, bu, ln, h1, p64, h3, h4, h5, w1, w4, h8, h9, h10, h11, h12, h13, h14, h15⟩ := H
  subst h11
  unfold wpX_word
  refine xx_in (N := 64) (by decide) (fun j hj e => br_f (by decide) ?_) (fun q => br_t rfl ?_)
  · subst e
    refine And.intro (vp_in_nI hj (by decide)) ?_
    unfold wpY_word
    exact yy_in (N := 64) (by decide) (fun _ _ _ => br_f (by decide) (And.intro (vp_in_nI hj (by decide)) ⟨rfl, q0⟩)) (fun q => absurd ⟨j, hj, rfl⟩ q)
  · unfold wpY_word
    exact yy_in (N := 64) (by decide) (fun i hi e => absurd ⟨i, hi, e⟩ q) (fun _ => br_t rfl ⟨rfl, q0⟩)
theorem i_vc_taken {k : Nat} {u : SX} {v : SY} (I : i_Rel k u v) (hk : k + 6 ≤ 3072) (v1 : Int32) : wpX_taken (fun r => wpY_taken (fun r' => r' = r ∧ i_Rel (k + 6) u v) v v1) u v1 := by
  have I' := i_up I
  revert I'
  generalize i_Rel (k + 6) u v = Q
  refine wm_el (P := fun u v => Q → wpX_taken (fun r => wpY_taken (fun r' => r' = r ∧ Q) v v1) u v1) ?_ u v I
  intro f_pc f_wide f_logged f_coming f_next f_time f_makingTime f_made f_reused f_started f_done a_registers a_words a_begins a_lengths a_times a_begun a_ops a_goal a_left a_right a_numbers a_cycles a_order a_before a_logAt a_logValue a_arrives a_result a_target g_pc g_wide g_many g_cut b_registers b_words b_counts b_begins b_cycles H q0
  obtain ⟨p, w, st, L, bg, bu, ln, h1, p64, h3, h4, h5, w1, w4, h8, h9, h10, h11, h12, h13, h14, h15⟩ := H
  obtain ⟨e0, e1, e2, e3, e4, e5⟩ := h12
  have no : (¬ ∃ j, j < 6 ∧ v1 = nI j) → wpY_taken (fun r' => r' = -1 ∧ Q) (g_pc, g_wide, g_many, g_cut, b_registers, b_words, b_counts, b_begins, b_cycles) v1 := fun q => by
    unfold wpY_taken
    exact yy_in (N := 6) (by decide) (fun i hi e => absurd ⟨i, hi, e⟩ q) (fun _ => br_t rfl ⟨rfl, q0⟩)
  have yes : ∀ j x, j < 6 → b_counts j = x → wpY_taken (fun r' => r' = x ∧ Q) (g_pc, g_wide, g_many, g_cut, b_registers, b_words, b_counts, b_begins, b_cycles) (nI j) := fun j x hj e => by
    unfold wpY_taken
    refine yy_in (N := 6) (by decide) (fun _ _ _ => br_f (by decide) (And.intro (vp_in_nI hj (by decide)) ?_)) (fun q => absurd ⟨j, hj, rfl⟩ q)
    rw [nI_clamp (by omega)]
    exact ⟨e, q0⟩
  refine br_c (fun z => no ?_) (fun z => ?_)
  · rintro ⟨i, hi, e⟩
    rw [e] at z
    exact nI_pos (by omega) z
  · obtain ⟨j, hj, rfl⟩ := nI_of z
    refine pk_lt 5 j (fun y => no ?_) (fun y => ?_)
    · rintro ⟨i, hi, e⟩
      rw [nI_eq hj (by omega)] at e
      omega
    · refine pk_eq j 0 (fun q => ?_) (fun q0' => pk_eq j 1 (fun q => ?_) (fun q1 => pk_eq j 2 (fun q => ?_) (fun q2 => pk_eq j 3 (fun q => ?_) (fun q3 => pk_eq j 4 (fun q => ?_) (fun q4 => pk_eq j 5 (fun q => ?_) (fun q5 => trivial))))))
      · subst q; exact yes 0 _ (by omega) e0
      · subst q; exact yes 1 _ (by omega) e1
      · subst q; exact yes 2 _ (by omega) e2
      · subst q; exact yes 3 _ (by omega) e3
      · subst q; exact yes 4 _ (by omega) e4
      · subst q; exact yes 5 _ (by omega) e5
theorem wm_KX_4 {L : List Nat} {bg bu : Nat → Nat} {st : Nat} {be bn : Nat → Int32} (h : wm_KX L bg bu st be bn) (x : Int32) : wm_KX L bg bu st (upd be 4 x) bn := by
  refine ⟨fun s hs => ?_, fun s hs m => by rw [pk_un (by omega)]; exact h.2.1 s hs m, h.2.2⟩
  obtain ⟨a1, a2, a3, a4⟩ := h.1 s hs
  exact ⟨a1, a2, by rw [pk_un (by omega)]; exact a3, a4⟩
section
variable {f_pc f_wide f_logged f_coming f_next f_time f_makingTime f_made f_reused f_started f_done : Int32} {a_registers a_words a_begins a_lengths a_times a_begun a_ops a_goal a_left a_right a_numbers a_cycles a_order a_before a_logAt a_logValue a_arrives a_result a_target : Nat → Int32}
variable {g_pc g_wide g_many g_cut : Int32} {b_registers b_words b_counts b_begins b_cycles : Nat → Int32}
/-- a block that is looked at -/
theorem xy_look {k b : Nat} (H : wm_RR k f_pc f_wide f_time f_makingTime f_made f_reused f_started f_done a_registers a_words a_begins a_begun a_lengths a_times a_ops a_goal a_left a_right a_numbers a_cycles a_order g_pc g_wide g_many b_registers b_words b_counts b_begins) (hb : b < 64) : ∃ (n : Nat) (cy π : Nat → Nat), wm_Len a_words b n ∧ (∀ i, i < n → 1 ≤ cy i ∧ cy i ≤ 4 * i + 1) ∧ (∀ post : SX → Prop, post (f_pc, f_wide, f_logged, f_coming, f_next, f_time, f_makingTime, f_made, f_reused, f_started, f_done, a_registers, a_words, (upd a_begins 4 (nI b)), (upd a_lengths 4 (nI n)), (upd a_times 4 (nI (wm_tm (wm_fo a_words b) cy n))), a_begun, (wm_put (8 * 4) n (fun q => nI (wm_fo a_words b q)) a_ops), (wm_put (8 * 4) n (fun q => nI (wm_fd a_words b q)) a_goal), (wm_put (8 * 4) n (fun q => nI (wm_fa a_words b q)) a_left), (wm_put (8 * 4) n (fun q => nI (wm_fb a_words b q)) a_right), (wm_put (8 * 4) n (wm_fn a_words b) a_numbers), (wm_put (8 * 4) n (fun i => nI (cy i)) a_cycles), (wm_put (8 * 4) n (fun q => nI (π q)) a_order), a_before, a_logAt, a_logValue, a_arrives, a_result, a_target) → wpX_make post (f_pc, f_wide, f_logged, f_coming, f_next, f_time, f_makingTime, f_made, f_reused, f_started, f_done, a_registers, a_words, a_begins, a_lengths, a_times, a_begun, a_ops, a_goal, a_left, a_right, a_numbers, a_cycles, a_order, a_before, a_logAt, a_logValue, a_arrives, a_result, a_target) (nI 4) (nI b)) ∧ (∀ post : SY → Prop, post (g_pc, g_wide, g_many, g_cut, b_registers, b_words, b_counts, b_begins, (wm_put 0 n (fun i => nI (cy i)) b_cycles)) → wpY_schedule post (g_pc, g_wide, g_many, g_cut, b_registers, b_words, b_counts, b_begins, b_cycles) (nI b)) ∧ wm_RT k (f_pc, f_wide, f_logged, f_coming, f_next, f_time, f_makingTime, f_made, f_reused, f_started, f_done, a_registers, a_words, (upd a_begins 4 (nI b)), (upd a_lengths 4 (nI n)), (upd a_times 4 (nI (wm_tm (wm_fo a_words b) cy n))), a_begun, (wm_put (8 * 4) n (fun q => nI (wm_fo a_words b q)) a_ops), (wm_put (8 * 4) n (fun q => nI (wm_fd a_words b q)) a_goal), (wm_put (8 * 4) n (fun q => nI (wm_fa a_words b q)) a_left), (wm_put (8 * 4) n (fun q => nI (wm_fb a_words b q)) a_right), (wm_put (8 * 4) n (wm_fn a_words b) a_numbers), (wm_put (8 * 4) n (fun i => nI (cy i)) a_cycles), (wm_put (8 * 4) n (fun q => nI (π q)) a_order), a_before, a_logAt, a_logValue, a_arrives, a_result, a_target) (g_pc, g_wide, g_many, g_cut, b_registers, b_words, b_counts, b_begins, (wm_put 0 n (fun i => nI (cy i)) b_cycles)) := by
  obtain ⟨p, w, st, L, bg, bu, ln, h1, p64, h3, h4, h5, w1, w4, h8, h9, h10, h11, h12, h13, h14, h15⟩ := H
  subst h10
  subst h11
  obtain ⟨n, Ln⟩ := wm_Len_ex b_words hb
  obtain ⟨cy, Sc⟩ := wm_Sch_ex (wm_fo b_words b) (wm_fd b_words b) (wm_fa b_words b) (wm_fb b_words b) w1 n
  obtain ⟨π, q1, q2⟩ := xx_make (f_pc := f_pc) (f_logged := f_logged) (f_coming := f_coming) (f_next := f_next) (f_time := f_time) (f_makingTime := f_makingTime) (f_made := f_made) (f_reused := f_reused) (f_started := f_started) (f_done := f_done) (a_registers := b_registers) (a_begins := a_begins) (a_lengths := a_lengths) (a_times := a_times) (a_begun := a_begun) (a_ops := a_ops) (a_goal := a_goal) (a_left := a_left) (a_right := a_right) (a_numbers := a_numbers) (a_cycles := a_cycles) (a_order := a_order) (a_before := a_before) (a_logAt := a_logAt) (a_logValue := a_logValue) (a_arrives := a_arrives) (a_result := a_result) (a_target := a_target) (s := 4) (by omega) h4 w1 w4 Ln Sc
  refine ⟨n, cy, π, Ln, fun i hi => ⟨(Sc i hi).1, wm_Sch_le w1 Sc i hi⟩, q2, fun post hp => yy_schedule h5 w1 w4 Ln Sc hp, p, w, st, L, bg, bu, ln, h1, p64, h3, h4, h5, w1, w4, h8, h9, rfl, rfl, h12, ⟨wm_KX_4 h13.1 _, fun t ht => ?_⟩, h14, h15⟩
  obtain ⟨c', π', B⟩ := h13.2 t ht
  have := (h13.1.1 t ht).1
  exact ⟨c', π', wm_BK_put B (by omega) Ln.2.1 _ _ _ _ _ _ _ _ _⟩
end
theorem i_vc_block {k : Nat} {u : SX} {v : SY} (I : i_Rel k u v) (hk : k + 6 ≤ 3072) (v1 : Int32) (v2 : Int32) : wpX_block (fun r u' => wpY_block (fun r' v' => r' = r ∧ i_Rel (k + 6) u' v') v v1 v2) u v1 v2 := by
  refine wm_el (P := fun u v => wpX_block (fun r u' => wpY_block (fun r' v' => r' = r ∧ i_Rel (k + 6) u' v') v v1 v2) u v1 v2) ?_ u v I
  intro f_pc f_wide f_logged f_coming f_next f_time f_makingTime f_made f_reused f_started f_done a_registers a_words a_begins a_lengths a_times a_begun a_ops a_goal a_left a_right a_numbers a_cycles a_order a_before a_logAt a_logValue a_arrives a_result a_target g_pc g_wide g_many g_cut b_registers b_words b_counts b_begins b_cycles H
  have H' := wm_RR_up (show 100 * k ≤ 100 * (k + 6) by omega) f_pc f_wide f_logged f_coming f_next f_time f_makingTime f_made f_reused f_started f_done a_registers a_words a_begins a_lengths a_times a_begun a_ops a_goal a_left a_right a_numbers a_cycles a_order a_before a_logAt a_logValue a_arrives a_result a_target g_pc g_wide g_many g_cut b_registers b_words b_counts b_begins b_cycles H
  unfold wpX_block
  refine xx_in (N := 64) (by decide) (fun b hb e => br_f (by decide) ?_) (fun q => br_t rfl ?_)
  · subst e
    refine xx_in (N := 3) (by decide) (fun c hc e => br_f (by decide) ?_) (fun q => br_t rfl ?_)
    · subst e
      obtain ⟨n, cy, π, Ln, hcy, x1, x2, x3⟩ := xy_look (f_logged := f_logged) (f_coming := f_coming) (f_next := f_next) (a_before := a_before) (a_logAt := a_logAt) (a_logValue := a_logValue) (a_arrives := a_arrives) (a_result := a_result) (a_target := a_target) (g_cut := g_cut) (b_cycles := b_cycles) H' hb
      have H2 := H
      obtain ⟨p, w, st, L, bg, bu, ln, h1, p64, h3, h4, h5, w1, w4, h8, h9, h10, h11, h12, h13, h14, h15⟩ := H
      subst h10
      subst h11
      refine pk_eq c 2 (fun z => ?_) (fun z => ?_)
      · subst z
        have fin : ∀ (x : Int32), ((∃ s, s ∈ L ∧ bg s = b) → x = 1) → ((∀ s, s ∈ L → bg s ≠ b) → x = 0) → wpY_block (fun r' v' => r' = x ∧ i_Rel (k + 6) (f_pc, f_wide, f_logged, f_coming, f_next, f_time, f_makingTime, f_made, f_reused, f_started, f_done, b_registers, b_words, a_begins, a_lengths, a_times, a_begun, a_ops, a_goal, a_left, a_right, a_numbers, a_cycles, a_order, a_before, a_logAt, a_logValue, a_arrives, a_result, a_target) v') (g_pc, g_wide, g_many, g_cut, b_registers, b_words, b_counts, b_begins, b_cycles) (nI b) (nI 2) := fun x e1 e0 => by
          have rel : i_Rel (k + 6) (f_pc, f_wide, f_logged, f_coming, f_next, f_time, f_makingTime, f_made, f_reused, f_started, f_done, b_registers, b_words, a_begins, a_lengths, a_times, a_begun, a_ops, a_goal, a_left, a_right, a_numbers, a_cycles, a_order, a_before, a_logAt, a_logValue, a_arrives, a_result, a_target) (g_pc, g_wide, g_many, g_cut, b_registers, b_words, b_counts, b_begins, (wm_put 0 n (fun i => nI (cy i)) b_cycles)) := ⟨p, w, st, L, bg, bu, ln, h1, p64, h3, h4, h5, w1, w4, h8, by omega, rfl, rfl, h12, h13, h14, h15⟩
          unfold wpY_block
          refine yy_in (N := 64) (by decide) (fun _ _ _ => br_f (by decide) ?_) (fun q => absurd ⟨b, hb, rfl⟩ q)
          refine yy_in (N := 3) (by decide) (fun _ _ _ => br_f (by decide) ?_) (fun q => absurd ⟨2, hc, rfl⟩ q)
          refine x2 _ ?_
          refine br_f (by decide) (br_f (by decide) ?_)
          refine yy_place h14 (wm_KX_le h13.1) (fun i hi q _ => ?_) (fun q => ?_)
          · have bi := h15 i L[i] (List.getElem?_eq_getElem hi)
            have t64 := (h13.1.1 _ (List.getElem_mem hi)).2.1
            rw [bi, nI_eq (by omega) (by omega)] at q
            have l4 := wm_KX_le h13.1
            exact br_f (nI_pos (by omega)) ⟨(e1 ⟨_, List.getElem_mem hi, q⟩).symm, rel⟩
          · refine br_t (by decide) ⟨(e0 (fun s hs es => ?_)).symm, rel⟩
            obtain ⟨i, ei⟩ := List.getElem?_of_mem hs
            have hi := (List.getElem?_eq_some_iff.mp ei).1
            exact q i hi (by rw [h15 i s ei, es])
        refine xx_slotOf h13.1 hb (fun s ms es => ?_) (fun q => ?_)
        · have s4 := (h13.1.1 s ms).1
          exact br_f (nI_pos (by omega)) (fin 1 (fun _ => rfl) (fun q => absurd es (q s ms)))
        · exact br_t (by decide) (fin 0 (fun y => y.elim (fun s y' => absurd y'.2 (q s y'.1))) (fun _ => rfl))
      · refine x1 _ ?_
        refine pk_eq c 0 (fun z0 => ?_) (fun z0 => ?_)
        · subst z0
          rw [pk_us]
          show wpY_block _ (g_pc, g_wide, g_many, g_cut, b_registers, b_words, b_counts, b_begins, b_cycles) (nI b) (nI 0)
          unfold wpY_block
          refine yy_in (N := 64) (by decide) (fun _ _ _ => br_f (by decide) ?_) (fun q => absurd ⟨b, hb, rfl⟩ q)
          refine yy_in (N := 3) (by decide) (fun _ _ _ => br_f (by decide) ?_) (fun q => absurd ⟨0, hc, rfl⟩ q)
          refine x2 _ ?_
          refine br_t rfl ?_
          refine yy_length Ln ?_
          exact ⟨rfl, x3⟩
        · have c1 : c = 1 := by omega
          subst c1
          rw [pk_us]
          show wpY_block _ (g_pc, g_wide, g_many, g_cut, b_registers, b_words, b_counts, b_begins, b_cycles) (nI b) (nI 1)
          unfold wpY_block
          refine yy_in (N := 64) (by decide) (fun _ _ _ => br_f (by decide) ?_) (fun q => absurd ⟨b, hb, rfl⟩ q)
          refine yy_in (N := 3) (by decide) (fun _ _ _ => br_f (by decide) ?_) (fun q => absurd ⟨1, hc, rfl⟩ q)
          refine x2 _ ?_
          refine br_f (by decide) (br_t rfl ?_)
          refine yy_time Ln (cy := cy) (fun i hi => ⟨?_, hcy i hi⟩) ?_
          · have := wm_put_i (off := 0) (f := fun i => nI (cy i)) (a := b_cycles) hi
            rw [Nat.zero_add] at this
            exact this
          · exact ⟨rfl, x3⟩
    · show wpY_block _ (g_pc, g_wide, g_many, g_cut, b_registers, b_words, b_counts, b_begins, b_cycles) (nI b) v2
      unfold wpY_block
      refine yy_in (N := 64) (by decide) (fun _ _ _ => br_f (by decide) ?_) (fun q => absurd ⟨b, hb, rfl⟩ q)
      exact yy_in (N := 3) (by decide) (fun i hi e => absurd ⟨i, hi, e⟩ q) (fun _ => br_t rfl ⟨rfl, H'⟩)
  · show wpY_block _ (g_pc, g_wide, g_many, g_cut, b_registers, b_words, b_counts, b_begins, b_cycles) v1 v2
    unfold wpY_block
    exact yy_in (N := 64) (by decide) (fun i hi e => absurd ⟨i, hi, e⟩ q) (fun _ => br_t rfl ⟨rfl, H'⟩)
theorem i_vc_cycle {k : Nat} {u : SX} {v : SY} (I : i_Rel k u v) (hk : k + 6 ≤ 3072) (v1 : Int32) (v2 : Int32) : wpX_cycle (fun r u' => wpY_cycle (fun r' v' => r' = r ∧ i_Rel (k + 6) u' v') v v1 v2) u v1 v2 := by
  refine wm_el (P := fun u v => wpX_cycle (fun r u' => wpY_cycle (fun r' v' => r' = r ∧ i_Rel (k + 6) u' v') v v1 v2) u v1 v2) ?_ u v I
  intro f_pc f_wide f_logged f_coming f_next f_time f_makingTime f_made f_reused f_started f_done a_registers a_words a_begins a_lengths a_times a_begun a_ops a_goal a_left a_right a_numbers a_cycles a_order a_before a_logAt a_logValue a_arrives a_result a_target g_pc g_wide g_many g_cut b_registers b_words b_counts b_begins b_cycles H
  have H' := wm_RR_up (show 100 * k ≤ 100 * (k + 6) by omega) f_pc f_wide f_logged f_coming f_next f_time f_makingTime f_made f_reused f_started f_done a_registers a_words a_begins a_lengths a_times a_begun a_ops a_goal a_left a_right a_numbers a_cycles a_order a_before a_logAt a_logValue a_arrives a_result a_target g_pc g_wide g_many g_cut b_registers b_words b_counts b_begins b_cycles H
  unfold wpX_cycle
  refine xx_in (N := 64) (by decide) (fun b hb e => br_f (by decide) ?_) (fun q => br_t rfl ?_)
  · subst e
    obtain ⟨n, cy, π, Ln, hcy, x1, x2, x3⟩ := xy_look (f_logged := f_logged) (f_coming := f_coming) (f_next := f_next) (a_before := a_before) (a_logAt := a_logAt) (a_logValue := a_logValue) (a_arrives := a_arrives) (a_result := a_result) (a_target := a_target) (g_cut := g_cut) (b_cycles := b_cycles) H' hb
    have ew : b_words = a_words := by
      obtain ⟨p, w, st, L, bg, bu, ln, h1, p64, h3, h4, h5, w1, w4, h8, h9, h10, h11, h12, h13, h14, h15⟩ := H
      exact h11
    have Ln' : wm_Len b_words b n := by rw [ew]; exact Ln
    have n8 := Ln.2.1
    refine x1 _ ?_
    show wpX_in _ v2 (upd a_lengths 4 (nI n) 4)
    rw [pk_us]
    refine xx_in (N := n) (by omega) (fun i hi e => br_f (by decide) ?_) (fun q => br_t rfl ?_)
    · subst e
      have e32 : (32 : Int32) + nI i = nI (8 * 4 + i) := nI_add 32 i
      rw [e32]
      refine And.intro (vp_in_nI (by omega) (by decide)) ?_
      rw [nI_clamp (show 8 * 4 + i < 2 ^ 31 by omega), wm_put_i hi]
      show wpY_cycle _ (g_pc, g_wide, g_many, g_cut, b_registers, b_words, b_counts, b_begins, b_cycles) (nI b) (nI i)
      unfold wpY_cycle
      refine yy_in (N := 64) (by decide) (fun _ _ _ => br_f (by decide) ?_) (fun q => absurd ⟨b, hb, rfl⟩ q)
      refine yy_length Ln' ?_
      refine yy_in (N := n) (by omega) (fun _ _ _ => br_f (by decide) ?_) (fun q => absurd ⟨i, hi, rfl⟩ q)
      refine x2 _ ?_
      refine And.intro (vp_in_nI (by omega) (by decide)) ?_
      rw [nI_clamp (show i < 2 ^ 31 by omega)]
      have e := wm_put_i (off := 0) (f := fun i => nI (cy i)) (a := b_cycles) hi
      rw [Nat.zero_add] at e
      exact ⟨e, x3⟩
    · show wpY_cycle _ (g_pc, g_wide, g_many, g_cut, b_registers, b_words, b_counts, b_begins, b_cycles) (nI b) v2
      unfold wpY_cycle
      refine yy_in (N := 64) (by decide) (fun _ _ _ => br_f (by decide) ?_) (fun q => absurd ⟨b, hb, rfl⟩ q)
      refine yy_length Ln' ?_
      refine yy_in (N := n) (by omega) (fun i hi e => absurd ⟨i, hi, e⟩ q) (fun _ => br_t rfl ⟨rfl, ?_⟩)
      exact x3
  · show wpY_cycle _ (g_pc, g_wide, g_many, g_cut, b_registers, b_words, b_counts, b_begins, b_cycles) v1 v2
    unfold wpY_cycle
    exact yy_in (N := 64) (by decide) (fun i hi e => absurd ⟨i, hi, e⟩ q) (fun _ => br_t rfl ⟨rfl, H'⟩)
theorem i_vc_kept {k : Nat} {u : SX} {v : SY} (I : i_Rel k u v) (hk : k + 6 ≤ 3072) (v1 : Int32) : wpX_kept (fun r => wpY_kept (fun r' => r' = r ∧ i_Rel (k + 6) u v) v v1) u v1 := by
  have I' := i_up I
  revert I'
  generalize i_Rel (k + 6) u v = Q
  refine wm_el (P := fun u v => Q → wpX_kept (fun r => wpY_kept (fun r' => r' = r ∧ Q) v v1) u v1) ?_ u v I
  intro f_pc f_wide f_logged f_coming f_next f_time f_makingTime f_made f_reused f_started f_done a_registers a_words a_begins a_lengths a_times a_begun a_ops a_goal a_left a_right a_numbers a_cycles a_order a_before a_logAt a_logValue a_arrives a_result a_target g_pc g_wide g_many g_cut b_registers b_words b_counts b_begins b_cycles H q0
  obtain ⟨p, w, st, L, bg, bu, ln, h1, p64, h3, h4, h5, w1, w4, h8, h9, h10, h11, h12, h13, h14, h15⟩ := H
  subst h14
  have l4 := wm_KX_le h13.1
  have no : (¬ ∃ j, j < L.length ∧ v1 = nI j) → wpY_kept (fun r' => r' = -1 ∧ Q) (g_pc, g_wide, (nI L.length), g_cut, b_registers, b_words, b_counts, b_begins, b_cycles) v1 := fun q => by
    unfold wpY_kept
    exact yy_in (N := L.length) (by omega) (fun i hi e => absurd ⟨i, hi, e⟩ q) (fun _ => br_t rfl ⟨rfl, q0⟩)
  by_cases z : v1 < 0
  · refine br_f (fun y => ?_) (no ?_)
    · rw [Int32.le_iff_toInt_le] at y
      rw [Int32.lt_iff_toInt_lt] at z
      omega
    · rintro ⟨i, hi, e⟩
      rw [e] at z
      exact nI_pos (by omega) z
  · obtain ⟨x, hx, rfl⟩ := nI_of z
    refine xx_kept h13.1 (by omega) hx (fun s es => ?_) (fun es => no ?_)
    · have hl := (List.getElem?_eq_some_iff.mp es).1
      unfold wpY_kept
      refine yy_in (N := L.length) (by omega) (fun _ _ _ => br_f (by decide) (And.intro (vp_in_nI (by omega) (by decide)) ?_)) (fun q => absurd ⟨x, hl, rfl⟩ q)
      rw [nI_clamp (by omega)]
      exact ⟨h15 x s es, q0⟩
    · rintro ⟨i, hi, e⟩
      rw [nI_eq hx (by omega)] at e
      subst e
      rw [List.getElem?_eq_getElem hi] at es
      exact (nomatch es)
theorem i_vc_flush {k : Nat} {u : SX} {v : SY} (I : i_Rel k u v) (hk : k + 6 ≤ 3072) : wpX_flush (fun r u' => wpY_flush (fun r' v' => r' = r ∧ i_Rel (k + 6) u' v') v) u := by
  refine wm_el (P := fun u v => wpX_flush (fun r u' => wpY_flush (fun r' v' => r' = r ∧ i_Rel (k + 6) u' v') v) u) ?_ u v I
  intro f_pc f_wide f_logged f_coming f_next f_time f_makingTime f_made f_reused f_started f_done a_registers a_words a_begins a_lengths a_times a_begun a_ops a_goal a_left a_right a_numbers a_cycles a_order a_before a_logAt a_logValue a_arrives a_result a_target g_pc g_wide g_many g_cut b_registers b_words b_counts b_begins b_cycles H
  obtain ⟨p, w, st, L, bg, bu, ln, h1, p64, h3, h4, h5, w1, w4, h8, h9, h10, h11, h12, h13, h14, h15⟩ := H
  refine xx_flush h13.1 ?_
  refine ⟨h14, p, w, st, [], bg, bu, ln, h1, p64, h3, h4, h5, w1, w4, h8, by omega, h10, h11, h12, ⟨wm_KX_nil (fun s hs => ?_), fun s hs => (nomatch hs)⟩, rfl, fun k s e => by rw [List.getElem?_nil] at e; exact (nomatch e)⟩
  have q := wm_put_i (off := 0) (n := 4) (f := fun _ => (-1 : Int32)) (a := a_begins) hs
  rw [Nat.zero_add] at q
  exact q
end
