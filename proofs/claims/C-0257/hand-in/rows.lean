section
/-! rows pasted from the kit's PURE-ROWS (a starting text) -/
theorem pk_us {f : Nat → Int32} {k : Nat} {x : Int32} : upd f k x k = x := if_pos rfl
theorem pk_un {f : Nat → Int32} {k j : Nat} {x : Int32} (h : j ≠ k) : upd f k x j = f j := if_neg h
theorem pk_sub {a b : Nat} (h : b ≤ a) : nI a - nI b = nI (a - b) := by
  obtain ⟨c, rfl⟩ : ∃ c, a = c + b := ⟨a - b, by omega⟩
  rw [← nI_add, Int32.add_sub_cancel, Nat.add_sub_cancel]
theorem pk_m1 (n : Nat) : nI (n + 1) + (-1) = nI n := by
  rw [← nI_1, Int32.add_assoc, show (1 : Int32) + (-1) = 0 from rfl, Int32.add_zero]
theorem pk_mul (a b : Nat) : nI a * nI b = nI (a * b) := (Int32.ofNat_mul a b).symm
theorem pk_div {a d : Nat} (ha : a < 2 ^ 31) (h0 : 0 < d) (hd : d < 2 ^ 31) : nI a / nI d = nI (a / d) := by
  apply Int32.toInt_inj.mp
  rw [lg_idiv_nonneg (by rw [nI_toInt ha]; omega) (by rw [nI_toInt hd]; omega), nI_toInt ha, nI_toInt hd, nI_toInt (Nat.lt_of_le_of_lt (Nat.div_le_self a d) ha)]
  first | rfl | exact (Int.natCast_ediv _ _).symm
theorem pk_rem {a d : Nat} (ha : a < 2 ^ 31) (h0 : 0 < d) (hd : d < 2 ^ 31) : nI a - nI a / nI d * nI d = nI (a % d) := by
  rw [pk_div ha h0 hd, pk_mul, pk_sub (Nat.div_mul_le_self a d)]
  exact congrArg nI (by have := Nat.div_add_mod' a d; omega)
theorem pk_ix (x : Int32) {n : Nat} (hn : n < 2 ^ 31) : x < 0 ∨ nI n ≤ x ∨ ∃ j : Nat, j < n ∧ x = nI j := by
  by_cases h : x < 0
  · exact Or.inl h
  · obtain ⟨j, hj, rfl⟩ := nI_of h
    by_cases h2 : j < n
    · exact Or.inr (Or.inr ⟨j, h2, rfl⟩)
    · exact Or.inr (Or.inl (nI_le (by omega) hj))
theorem pk_le {x y : Int32} {A B : Prop} (a b : Nat) (f : a ≤ b → A) (g : b < a → B) (hx : x = nI a := by rfl) (hy : y = nI b := by rfl) (ha : a < 2 ^ 31 := by omega) (hb : b < 2 ^ 31 := by omega) : (x ≤ y → A) ∧ (¬ x ≤ y → B) := by
  subst hx hy
  rw [nI_leI ha hb]
  exact ⟨f, fun z => g (by omega)⟩
theorem pk_lt {x y : Int32} {A B : Prop} (a b : Nat) (f : a < b → A) (g : b ≤ a → B) (hx : x = nI a := by rfl) (hy : y = nI b := by rfl) (ha : a < 2 ^ 31 := by omega) (hb : b < 2 ^ 31 := by omega) : (x < y → A) ∧ (¬ x < y → B) := by
  subst hx hy
  rw [nI_ltI ha hb]
  exact ⟨f, fun z => g (by omega)⟩
theorem pk_eq {x y : Int32} {A B : Prop} (a b : Nat) (f : a = b → A) (g : a ≠ b → B) (hx : x = nI a := by rfl) (hy : y = nI b := by rfl) (ha : a < 2 ^ 31 := by omega) (hb : b < 2 ^ 31 := by omega) : (x = y → A) ∧ (¬ x = y → B) := by
  subst hx hy
  rw [nI_eq ha hb]
  exact ⟨f, g⟩
theorem pk_in {x : Int32} (n N : Nat) (h : n < N) (hx : x = nI n := by rfl) (hN : N < 2 ^ 31 := by omega) : vp_in x N := by
  subst hx
  exact vp_in_nI h hN
theorem pk_cl {x : Int32} (n : Nat) (hx : x = nI n := by rfl) (h : n < 2 ^ 31 := by omega) : x.toNatClampNeg = n := by
  subst hx
  exact nI_clamp h
theorem pk_nb (z : Int32) : narrow .byte (.int z.toInt8.toInt32) = .int z.toInt8.toInt32 := congrArg Value.int (by simp)
theorem pk_ns (z : Int32) : narrow .short (.int z.toInt16.toInt32) = .int z.toInt16.toInt32 := congrArg Value.int (by simp)
theorem pk_vb (z : Int32) : vp_nar .byte z.toInt8.toInt32 = z.toInt8.toInt32 := by rw [vp_nar_byte]; simp
theorem pk_vs (z : Int32) : vp_nar .short z.toInt16.toInt32 = z.toInt16.toInt32 := by rw [vp_nar_short]; simp
/-! numbers that fit -/
def uw_B (x : Int32) : Prop := x.toInt8.toInt32 = x
def uw_S (x : Int32) : Prop := x.toInt16.toInt32 = x
theorem uw_bn {n : Nat} (h : n < 128) : uw_B (nI n) := lg_i2b_small (by rw [nI_toInt (by omega)]; omega) (by rw [nI_toInt (by omega)]; omega)
theorem uw_sn {n : Nat} (h : n < 32768) : uw_S (nI n) := lg_i2s_small (by rw [nI_toInt (by omega)]; omega) (by rw [nI_toInt (by omega)]; omega)
theorem uw_bm : uw_B (-1) := by unfold uw_B; decide
theorem uw_sm : uw_S (-1) := by unfold uw_S; decide
theorem uw_vb {x : Int32} (h : uw_B x) : vp_nar .byte x = x := by rw [vp_nar_byte]; exact h
theorem uw_vs {x : Int32} (h : uw_S x) : vp_nar .short x = x := by rw [vp_nar_short]; exact h
theorem uw_vbb {x : Int32} (h : uw_B x) : vp_nar .byte x.toInt8.toInt32 = x := by rw [pk_vb]; exact h
theorem uw_vss {x : Int32} (h : uw_S x) : vp_nar .short x.toInt16.toInt32 = x := by rw [pk_vs]; exact h
theorem uw_in {x : Int32} {n N : Nat} (hx : x = nI n) (h : n < N) (hN : N < 2 ^ 31) : vp_in x N := by rw [hx]; exact vp_in_nI h hN
theorem uw_cl {x : Int32} {n : Nat} (hx : x = nI n) (h : n < 2 ^ 31) : x.toNatClampNeg = n := by rw [hx]; exact nI_clamp h
/-! records -/
def uw_st (A : Nat → Nat → Int32) (i : Nat) (a : Nat → Int32) : Nat → Nat → Int32 := fun j => if j = i then a else A j
theorem uw_us {A : Nat → Nat → Int32} {i : Nat} {a : Nat → Int32} : uw_st A i a i = a := if_pos rfl
theorem uw_un {A : Nat → Nat → Int32} {i j : Nat} {a : Nat → Int32} (h : j ≠ i) : uw_st A i a j = A j := if_neg h
theorem uw_ui {A : Nat → Nat → Int32} {i j : Nat} {a : Nat → Int32} : uw_st A i a j = if j = i then a else A j := rfl
theorem uw_uj {a : Nat → Int32} {i j : Nat} {x : Int32} : upd a i x j = if j = i then x else a j := rfl
def XS (C : Nat → Int32) (A : Nat → Nat → Int32) : SX := ((C 0), (C 1), (C 2), (C 3), (C 4), (C 5), (C 6), (C 7), (C 8), (C 9), (C 10), (C 11), (C 12), (C 13), (C 14), (C 15), (C 16), (C 17), (C 18), (A 0), (A 1), (A 2), (A 3), (A 4), (A 5), (A 6), (A 7), (A 8), (A 9), (A 10), (A 11), (A 12), (A 13), (A 14), (A 15), (A 16), (A 17), (A 18), (A 19), (A 20), (A 21), (A 22), (A 23), (A 24), (A 25), (A 26), (A 27), (A 28), (A 29), (A 30), (A 31), (A 32), (A 33), (A 34), (A 35), (A 36), (A 37))
def YS (D : Nat → Int32) (B : Nat → Nat → Int32) : SY := ((D 0), (D 1), (D 2), (D 3), (D 4), (D 5), (D 6), (D 7), (D 8), (D 9), (D 10), (B 0), (B 1), (B 2), (B 3), (B 4), (B 5), (B 6), (B 7), (B 8), (B 9), (B 10), (B 11), (B 12), (B 13), (B 14), (B 15))
end
section
/-! the small writers of the compiler, over records -/
section
variable {C : Nat → Int32} {A : Nat → Nat → Int32}
theorem uw_emit {post : SX → Prop} {c : Nat} {o x y : Int32} (hc : (C 3) = nI c) (hl : c < 360) (ho : uw_B o) (hx : uw_S x) (hy : uw_S y)
    (K : post (XS (upd C 3 (nI (c + 1))) (uw_st (uw_st (uw_st A 9 (upd (A 9) c o)) 10 (upd (A 10) c x)) 11 (upd (A 11) c y)))) :
    wpX_emit post (XS C A) o x y := by
  have hin : vp_in (C 3) 360 := uw_in hc hl (by decide)
  have hcl : (C 3).toNatClampNeg = c := uw_cl hc (by omega)
  unfold wpX_emit XS
  refine ⟨hin, nm_r (e' := upd (A 9) c o) (by rw [hcl, uw_vbb ho]) ⟨hin, nm_r (e' := upd (A 10) c x) (by rw [hcl, uw_vss hx]) ⟨hin, nm_r (e' := upd (A 11) c y) (by rw [hcl, uw_vss hy]) (nm_r (e' := nI (c + 1)) (by rw [hc, nI_1]) ?_)⟩⟩⟩
  exact K
theorem uw_newLabel {post : Int32 → SX → Prop} {l : Nat} (hl : (C 4) = nI l) (K : post (nI l) (XS (upd C 4 (nI (l + 1))) A)) : wpX_newLabel post (XS C A) := by
  unfold wpX_newLabel XS
  refine nm_r (e' := nI (l + 1)) (by rw [hl, nI_1]) ?_
  rw [nI_pred]
  exact K
theorem uw_place {post : SX → Prop} {l c : Nat} (hc : (C 3) = nI c) (hl : c < 32768) (h : l < 128) (K : post (XS C (uw_st A 13 (upd (A 13) l (nI c))))) : wpX_place post (XS C A) (nI l) := by
  unfold wpX_place XS
  refine ⟨vp_in_nI h (by decide), nm_r (e' := upd (A 13) l (nI c)) (by rw [nI_clamp (by omega), hc, uw_vss (uw_sn hl)]) ?_⟩
  exact K
theorem uw_ask {post : SX → Prop} {w : Nat} {o x : Int32} (hw : (C 8) = nI w) (h : w < 128) (ho : uw_B o) (hx : uw_S x)
    (K : post (XS (upd C 8 (nI (w + 1))) (uw_st (uw_st A 22 (upd (A 22) w o)) 23 (upd (A 23) w x)))) : wpX_ask post (XS C A) o x := by
  have hin : vp_in (C 8) 128 := uw_in hw h (by decide)
  have hcl : (C 8).toNatClampNeg = w := uw_cl hw (by omega)
  unfold wpX_ask XS
  refine ⟨hin, nm_r (e' := upd (A 22) w o) (by rw [hcl, uw_vbb ho]) ⟨hin, nm_r (e' := upd (A 23) w x) (by rw [hcl, uw_vss hx]) (nm_r (e' := nI (w + 1)) (by rw [hw, nI_1]) ?_)⟩⟩
  exact K
theorem uw_newExit {post : Int32 → SX → Prop} {e : Nat} {x y z : Int32} (he : (C 6) = nI e) (h : e < 200) (hx : uw_B x) (hy : uw_S y) (hz : uw_S z)
    (K : post (nI e) (XS (upd C 6 (nI (e + 1))) (uw_st (uw_st (uw_st A 15 (upd (A 15) e x)) 16 (upd (A 16) e y)) 17 (upd (A 17) e z)))) : wpX_newExit post (XS C A) x y z := by
  have hin : vp_in (C 6) 200 := uw_in he h (by decide)
  have hcl : (C 6).toNatClampNeg = e := uw_cl he (by omega)
  unfold wpX_newExit XS
  refine ⟨hin, nm_r (e' := upd (A 15) e x) (by rw [hcl, uw_vbb hx]) ⟨hin, nm_r (e' := upd (A 16) e y) (by rw [hcl, uw_vss hy]) ⟨hin, nm_r (e' := upd (A 17) e z) (by rw [hcl, uw_vss hz]) (nm_r (e' := nI (e + 1)) (by rw [he, nI_1]) ?_)⟩⟩⟩
  rw [nI_pred]
  exact K
theorem uw_addRange {post : SX → Prop} {g c s a : Nat} {x y : Int32} (hg : (C 7) = nI g) (h : g < 30) (hc : (C 3) = nI c) (hl : c < 32768) (hs : s < 20) (hx : uw_S x) (hy : uw_B y) (ha : (A 24) s = nI a) (ha' : a < 32768)
    (K : post (XS (upd C 7 (nI (g + 1))) (uw_st (uw_st (uw_st (uw_st A 18 (upd (A 18) g (nI a))) 19 (upd (A 19) g (nI c))) 20 (upd (A 20) g x)) 21 (upd (A 21) g y)))) : wpX_addRange post (XS C A) (nI s) x y := by
  have hin : vp_in (C 7) 30 := uw_in hg h (by decide)
  have hcl : (C 7).toNatClampNeg = g := uw_cl hg (by omega)
  unfold wpX_addRange XS
  refine ⟨vp_in_nI hs (by decide), hin, nm_r (e' := upd (A 18) g (nI a)) (by rw [hcl, nI_clamp (by omega), ha, uw_vs (uw_sn ha')]) ⟨hin, nm_r (e' := upd (A 19) g (nI c)) (by rw [hcl, hc, uw_vss (uw_sn hl)]) ⟨hin, nm_r (e' := upd (A 20) g x) (by rw [hcl, uw_vss hx]) ⟨hin, nm_r (e' := upd (A 21) g y) (by rw [hcl, uw_vbb hy]) (nm_r (e' := nI (g + 1)) (by rw [hg, nI_1]) ?_)⟩⟩⟩⟩
  exact K
end
end
section
/-! statements as trees in postfix order: the subtree of s is [lo, s]; b the base of the region, w the whiles around -/
def uw_rg (A : Nat → Nat → Int32) (t : Nat) : Prop := ∃ r, r < 4 ∧ (A 1) t = nI r
def uw_lf (A : Nat → Nat → Int32) (w t k : Nat) : Prop :=
  (A 3) t = 0 ∧ (A 4) t = 0 ∧ uw_B ((A 2) t) ∧ ((1 ≤ k ∧ k ≤ 6) → uw_rg A t) ∧
  ((2 ≤ k ∧ k ≤ 4) → ∃ n, n < 4 ∧ (A 2) t = nI n) ∧ ((k = 7 ∨ k = 8) → ∃ n, n < 4 ∧ n < w ∧ (A 2) t = nI n) ∧ (k = 10 → ∃ n, n < 3 ∧ (A 2) t = nI n)
def uw_TR (A : Nat → Nat → Int32) (b : Nat) : Nat → Nat → Nat → Nat → Prop
  | 0 => fun _ _ _ => False
  | n + 1 => fun w lo s => s < 20 ∧
      ((lo = s ∧ ∃ k, k < 11 ∧ (A 0) (b + s) = nI k ∧ uw_lf A w (b + s) k) ∨
       ((A 0) (b + s) = nI 15 ∧ (A 4) (b + s) = 0 ∧ uw_rg A (b + s) ∧ ∃ m, s = m + 1 ∧ (A 3) (b + s) = nI m ∧ uw_TR A b n (w + 1) lo m) ∨
       (∃ k q m, 11 ≤ k ∧ k < 15 ∧ (A 0) (b + s) = nI k ∧ (k = 12 ∨ k = 13 → uw_rg A (b + s)) ∧ s = m + 1 ∧ q < m ∧ (A 3) (b + s) = nI q ∧ (A 4) (b + s) = nI m ∧
         uw_TR A b n w lo q ∧ uw_TR A b n w (q + 1) m))
theorem uw_TR_lo {A : Nat → Nat → Int32} {b : Nat} : ∀ n w lo s, uw_TR A b n w lo s → lo ≤ s := by
  intro n
  induction n with
  | zero => intro w lo s h; exact h.elim
  | succ n ih =>
    intro w lo s h
    rcases h.2 with ⟨e, _⟩ | ⟨_, _, _, m, e, _, h⟩ | ⟨k, q, m, _, _, _, _, e, hq, _, _, h, _⟩
    · omega
    · have := ih _ _ _ h; omega
    · have := ih _ _ _ h; omega
theorem uw_lf_w {A : Nat → Nat → Int32} {w w' t k : Nat} (hw : w ≤ w') (h : uw_lf A w t k) : uw_lf A w' t k := by
  obtain ⟨h1, h2, h3, h4, h5, h6, h7⟩ := h
  refine ⟨h1, h2, h3, h4, h5, fun z => ?_, h7⟩
  obtain ⟨n, a, b, c⟩ := h6 z
  exact ⟨n, a, by omega, c⟩
theorem uw_TR_w {A : Nat → Nat → Int32} {b : Nat} : ∀ n w w' lo s, w ≤ w' → uw_TR A b n w lo s → uw_TR A b n w' lo s := by
  intro n
  induction n with
  | zero => intro w w' lo s hw h; exact h.elim
  | succ n ih =>
    intro w w' lo s hw h
    refine ⟨h.1, ?_⟩
    rcases h.2 with ⟨e, k, hk, hk', h⟩ | ⟨h1, h2, h3, m, e, h4, h⟩ | ⟨k, q, m, h1, h2, h3, h4, e, h5, h6, h7, h8, h9⟩
    · exact Or.inl ⟨e, k, hk, hk', uw_lf_w hw h⟩
    · exact Or.inr (Or.inl ⟨h1, h2, h3, m, e, h4, ih _ _ _ _ (by omega) h⟩)
    · exact Or.inr (Or.inr ⟨k, q, m, h1, h2, h3, h4, e, h5, h6, h7, ih _ _ _ _ hw h8, ih _ _ _ _ hw h9⟩)
theorem uw_TR_f {A : Nat → Nat → Int32} {b : Nat} : ∀ n w lo s, uw_TR A b n w lo s → ∀ n', s < n' → uw_TR A b n' w lo s := by
  intro n
  induction n with
  | zero => intro w lo s h; exact h.elim
  | succ n ih =>
    intro w lo s h n' hn
    obtain ⟨k', rfl⟩ : ∃ k', n' = k' + 1 := ⟨n' - 1, by omega⟩
    refine ⟨h.1, ?_⟩
    rcases h.2 with ⟨e, k, hk, hk', h⟩ | ⟨h1, h2, h3, m, e, h4, h⟩ | ⟨k, q, m, h1, h2, h3, h4, e, h5, h6, h7, h8, h9⟩
    · exact Or.inl ⟨e, k, hk, hk', h⟩
    · exact Or.inr (Or.inl ⟨h1, h2, h3, m, e, h4, ih _ _ _ h _ (by omega)⟩)
    · exact Or.inr (Or.inr ⟨k, q, m, h1, h2, h3, h4, e, h5, h6, h7, ih _ _ _ h8 _ (by omega), ih _ _ _ h9 _ (by omega)⟩)
/-- two nodes are alike -/
def uw_al (A A' : Nat → Nat → Int32) (t t' : Nat) : Prop := (A' 0) t' = (A 0) t ∧ (A' 1) t' = (A 1) t ∧ (A' 2) t' = (A 2) t ∧ (A' 3) t' = (A 3) t ∧ (A' 4) t' = (A 4) t
theorem uw_lf_c {A A' : Nat → Nat → Int32} {w t t' k : Nat} (h : uw_al A A' t t') (H : uw_lf A w t k) : uw_lf A' w t' k := by
  obtain ⟨_, h2, h3, h4, h5⟩ := h
  unfold uw_lf uw_rg at H ⊢
  rw [h2, h3, h4, h5]
  exact H
theorem uw_TR_c {A A' : Nat → Nat → Int32} {b b' : Nat} : ∀ n w lo s, (∀ x, x ≤ s → uw_al A A' (b + x) (b' + x)) → uw_TR A b n w lo s → uw_TR A' b' n w lo s := by
  intro n
  induction n with
  | zero => intro w lo s _ h; exact h.elim
  | succ n ih =>
    intro w lo s hx h
    have g := hx s (Nat.le_refl _)
    have gg := g
    obtain ⟨g1, g2, g3, g4, g5⟩ := gg
    refine ⟨h.1, ?_⟩
    rcases h.2 with ⟨e, k, hk, hk', h⟩ | ⟨h1, h2, h3, m, e, h4, h⟩ | ⟨k, q, m, h1, h2, h3, h4, e, h5, h6, h7, h8, h9⟩
    · exact Or.inl ⟨e, k, hk, g1.trans hk', uw_lf_c g h⟩
    · obtain ⟨r, hr, hr'⟩ := h3
      exact Or.inr (Or.inl ⟨g1.trans h1, g5.trans h2, ⟨r, hr, g2.trans hr'⟩, m, e, g4.trans h4, ih _ _ _ (fun x z => hx x (by omega)) h⟩)
    · exact Or.inr (Or.inr ⟨k, q, m, h1, h2, g1.trans h3, fun z => (let ⟨r, hr, hr'⟩ := h4 z; ⟨r, hr, g2.trans hr'⟩), e, h5, g4.trans h6, g5.trans h7, ih _ _ _ (fun x z => hx x (by omega)) h8, ih _ _ _ (fun x z => hx x (by omega)) h9⟩)
/-! the reference's sorts -/
def uw_sg (k : Nat) : Nat := if k < 11 then k else if k = 15 then 11 else k + 1
def uw_AG (A B : Nat → Nat → Int32) (t : Nat) : Prop :=
  (B 3) t = (A 3) t ∧ (B 4) t = (A 4) t ∧ ∃ k, k < 16 ∧ (A 0) t = nI k ∧ (B 0) t = nI (uw_sg k) ∧
    ((1 ≤ k ∧ k ≤ 6) ∨ k = 12 ∨ k = 13 ∨ k = 15 → (B 1) t = (A 1) t) ∧ ((1 ≤ k ∧ k ≤ 4) ∨ k = 7 ∨ k = 8 ∨ k = 10 → (B 2) t = (A 2) t)
def uw_alY (B B' : Nat → Nat → Int32) (t t' : Nat) : Prop := (B' 0) t' = (B 0) t ∧ (B' 1) t' = (B 1) t ∧ (B' 2) t' = (B 2) t ∧ (B' 3) t' = (B 3) t ∧ (B' 4) t' = (B 4) t
theorem uw_AG_c {A A' B B' : Nat → Nat → Int32} {t t' : Nat} (h : uw_al A A' t t') (g : uw_alY B B' t t') (H : uw_AG A B t) : uw_AG A' B' t' := by
  obtain ⟨h1, h2, h3, h4, h5⟩ := h
  obtain ⟨g1, g2, g3, g4, g5⟩ := g
  unfold uw_AG at H ⊢
  rw [h1, h2, h3, h4, h5, g1, g2, g3, g4, g5]
  exact H
/-! the stack of what is being made: intervals side by side -/
def uw_SK (A : Nat → Nat → Int32) : Nat → Nat → Prop
  | 0 => fun m => m = 0
  | h + 1 => fun m => ∃ lo j, m = j + 1 ∧ (A 6) h = nI j ∧ uw_TR A 60 20 4 lo j ∧ uw_SK A h lo
theorem uw_SK_le {A : Nat → Nat → Int32} : ∀ h m, uw_SK A h m → h ≤ m := by
  intro h
  induction h with
  | zero => intro m _; omega
  | succ h ih =>
    intro m H
    obtain ⟨lo, j, e, _, g, H⟩ := H
    have := ih _ H
    have := uw_TR_lo _ _ _ _ g
    omega
theorem uw_SK_c {A A' : Nat → Nat → Int32} : ∀ h m, (∀ x, x < h → (A' 6) x = (A 6) x) → (∀ x, x < m → uw_al A A' (60 + x) (60 + x)) → uw_SK A h m → uw_SK A' h m := by
  intro h
  induction h with
  | zero => intro m _ _ H; exact H
  | succ h ih =>
    intro m hs hx H
    obtain ⟨lo, j, e, e2, g, H⟩ := H
    have := uw_TR_lo _ _ _ _ g
    exact ⟨lo, j, e, (hs h (by omega)).trans e2, uw_TR_c _ _ _ _ (fun x z => hx x (by omega)) g, ih _ (fun x z => hs x (by omega)) (fun x z => hx x (by omega)) H⟩
end
section
/-! making statements, on both sides -/
section
variable {C : Nat → Int32} {A : Nat → Nat → Int32} {D : Nat → Int32} {B : Nat → Nat → Int32}
def uw_mA (A : Nat → Nat → Int32) (t q : Nat) (o r n a b x : Int32) : Nat → Nat → Int32 :=
  uw_st (uw_st (uw_st (uw_st (uw_st (uw_st A 0 (upd (A 0) t o)) 1 (upd (A 1) t r)) 2 (upd (A 2) t n)) 3 (upd (A 3) t a)) 4 (upd (A 4) t b)) 6 (upd (A 6) q x)
def uw_mB (B : Nat → Nat → Int32) (t q : Nat) (o r n a b x y : Int32) : Nat → Nat → Int32 :=
  uw_st (uw_st (uw_st (uw_st (uw_st (uw_st (uw_st B 0 (upd (B 0) t o)) 1 (upd (B 1) t r)) 2 (upd (B 2) t n)) 3 (upd (B 3) t a)) 4 (upd (B 4) t b)) 6 (upd (B 6) q x)) 5 (upd (B 5) 3 y)
theorem uw_xmake {post : Int32 → SX → Prop} {m h k : Nat} {o r n pa pb : Int32} (hm : (C 0) = nI m) (hh : (C 1) = nI h) (hm' : m < 20) (hk : k ≤ h) (hh' : h ≤ m) (hk2 : k ≤ 2) (ho : uw_B o) (hr : uw_B r) (hn : uw_B n)
    (hpa : pa = if k = 0 then 0 else (A 6) (h - k)) (hpb : pb = if k ≤ 1 then 0 else (A 6) (h - k + 1)) (ha : uw_B pa) (hb : uw_B pb)
    (K : post (nI m) (XS (upd (upd C 1 (nI (h - k + 1))) 0 (nI (m + 1))) (uw_mA A (60 + m) (h - k) o r n pa pb (nI m)))) : wpX_make post (XS C A) o r n (nI k) := by
  have e1 : (60 : Int32) + (C 0) = nI (60 + m) := by rw [hm, ← nI_add]; rfl
  have e2 : (C 1) - nI k = nI (h - k) := by rw [hh, pk_sub hk]
  have i1 : vp_in (nI (60 + m)) 80 := vp_in_nI (by omega) (by decide)
  have c1 : (nI (60 + m)).toNatClampNeg = 60 + m := nI_clamp (by omega)
  have c2 : (nI (h - k)).toNatClampNeg = h - k := nI_clamp (by omega)
  have i2 : vp_in (nI (h - k)) 20 := vp_in_nI (by omega) (by decide)
  have c3 : nI (h - k) + 1 = nI (h - k + 1) := nI_1 _
  have fin : ∀ Ap : Nat → Int32, Ap = upd (A 3) (60 + m) pa → wX_make_99 post pb (nI (60 + m)) (C 0) (nI (h - k)) (C 2) (C 3) (C 4) (C 5) (C 6) (C 7) (C 8) (C 9) (C 10) (C 11) (C 12) (C 13) (C 14) (C 15) (C 16) (C 17) (C 18) (upd (A 0) (60 + m) o) (upd (A 1) (60 + m) r) (upd (A 2) (60 + m) n) Ap (A 4) (A 5) (A 6) (A 7) (A 8) (A 9) (A 10) (A 11) (A 12) (A 13) (A 14) (A 15) (A 16) (A 17) (A 18) (A 19) (A 20) (A 21) (A 22) (A 23) (A 24) (A 25) (A 26) (A 27) (A 28) (A 29) (A 30) (A 31) (A 32) (A 33) (A 34) (A 35) (A 36) (A 37) := by
    intro Ap hAp
    subst hAp
    unfold wX_make_99
    refine ⟨i1, nm_r (e' := upd (A 4) (60 + m) pb) (by rw [c1, uw_vb hb]) ⟨i2, nm_r (e' := upd (A 6) (h - k) (nI m)) (by rw [c2, hm, uw_vbb (uw_bn (by omega))]) (nm_r (e' := nI (h - k + 1)) c3 (nm_r (e' := nI (m + 1)) (by rw [hm, nI_1]) ?_))⟩⟩
    rw [nI_pred]
    exact K
  have mid : wX_make_71 post (nI k) (nI (60 + m)) pa (nI (60 + m)) (C 0) (nI (h - k)) (C 2) (C 3) (C 4) (C 5) (C 6) (C 7) (C 8) (C 9) (C 10) (C 11) (C 12) (C 13) (C 14) (C 15) (C 16) (C 17) (C 18) (upd (A 0) (60 + m) o) (upd (A 1) (60 + m) r) (upd (A 2) (60 + m) n) (A 3) (A 4) (A 5) (A 6) (A 7) (A 8) (A 9) (A 10) (A 11) (A 12) (A 13) (A 14) (A 15) (A 16) (A 17) (A 18) (A 19) (A 20) (A 21) (A 22) (A 23) (A 24) (A 25) (A 26) (A 27) (A 28) (A 29) (A 30) (A 31) (A 32) (A 33) (A 34) (A 35) (A 36) (A 37) := by
    unfold wX_make_71
    refine ⟨i1, nm_r (e' := upd (A 3) (60 + m) pa) (by rw [c1, uw_vb ha]) (pk_le k 1 (fun z => ?_) (fun z => ?_))⟩
    · have e : pb = 0 := by rw [hpb, if_pos z]
      rw [e] at fin
      exact fin _ rfl
    · have e : (A 6) (nI (h - k) + 1).toNatClampNeg = pb := by rw [hpb, if_neg (by omega), c3, nI_clamp (by omega)]
      refine ⟨by rw [c3]; exact vp_in_nI (by omega) (by decide), ?_⟩
      rw [e]
      exact fin _ rfl
  unfold wpX_make XS
  refine nm_r (e' := nI (60 + m)) e1 (nm_r (e' := nI (h - k)) e2 ⟨i1, nm_r (e' := upd (A 0) (60 + m) o) (by rw [c1, uw_vbb ho]) ⟨i1, nm_r (e' := upd (A 1) (60 + m) r) (by rw [c1, uw_vbb hr]) ⟨i1, nm_r (e' := upd (A 2) (60 + m) n) (by rw [c1, uw_vbb hn]) (pk_le k 0 (fun z => ?_) (fun z => ?_))⟩⟩⟩)
  · have e : pa = 0 := by rw [hpa, if_pos (by omega)]
    rw [e] at mid
    exact mid
  · have e : (A 6) (nI (h - k)).toNatClampNeg = pa := by rw [hpa, if_neg (by omega), c2]
    refine ⟨i2, ?_⟩
    rw [e]
    exact mid
theorem uw_ymake {post : Int32 → SY → Prop} {m d : Nat} {o r n a b : Int32} (hm : (B 5) 3 = nI m) (hd : (D 0) = nI d) (hm' : m < 20) (hd' : d < 20)
    (K : post (nI m) (YS (upd D 0 (nI (d + 1))) (uw_mB B (60 + m) d o r n a b (nI m) (nI (m + 1))))) : wpY_make post (YS D B) o r n a b := by
  have e1 : (60 : Int32) + nI m = nI (60 + m) := by rw [← nI_add]; rfl
  have c1 : ((60 : Int32) + nI m).toNatClampNeg = 60 + m := by rw [e1]; exact nI_clamp (by omega)
  have i1 : vp_in ((60 : Int32) + nI m) 80 := by rw [e1]; exact vp_in_nI (by omega) (by decide)
  unfold wpY_make YS
  refine nm_r (e' := nI m) hm ⟨i1, nm_r (e' := upd (B 0) (60 + m) o) (by rw [c1]) ⟨i1, nm_r (e' := upd (B 1) (60 + m) r) (by rw [c1]) ⟨i1, nm_r (e' := upd (B 2) (60 + m) n) (by rw [c1]) ⟨i1, nm_r (e' := upd (B 3) (60 + m) a) (by rw [c1]) ⟨i1, nm_r (e' := upd (B 4) (60 + m) b) (by rw [c1]) ⟨uw_in hd hd' (by decide), nm_r (e' := upd (B 6) d (nI m)) (by rw [uw_cl hd (by omega)]) (nm_r (e' := nI (d + 1)) (by rw [hd, nI_1]) (nm_r (e' := upd (B 5) 3 (nI (m + 1))) (by rw [hm, nI_1]) ?_))⟩⟩⟩⟩⟩⟩
  exact K
/-! registers -/
theorem uw_xbr0 {post : Int32 → Prop} {r : Nat} (h : r < 4) (K : post 0) : wpX_badRegister post (XS C A) (nI r) := by
  unfold wpX_badRegister XS
  exact br_f (nI_pos (by omega)) (br_t (nI_lt (b := 4) h (by decide)) K)
theorem uw_xbr1 {post : Int32 → Prop} {v : Int32} (h : v < 0 ∨ nI 4 ≤ v) (K : post 1) : wpX_badRegister post (XS C A) v := by
  unfold wpX_badRegister XS
  exact br_c (fun _ => K) (fun z => br_f (h.elim (fun y => absurd y z) (fun y => Int32.not_lt.mpr y)) K)
theorem uw_yir1 {post : Int32 → Prop} {r : Nat} (h : r < 4) (K : post 1) : wpY_isRegister post (YS D B) (nI r) := by
  unfold wpY_isRegister YS
  exact br_f (nI_pos (by omega)) (br_f (nI_nlt (a := 3) (b := r) (by omega) (by decide)) K)
theorem uw_34 {v : Int32} (h : nI 4 ≤ v) : (3 : Int32) < v := by
  rw [Int32.le_iff_toInt_le] at h
  rw [Int32.lt_iff_toInt_lt]
  have e : (nI 4).toInt = 4 := by decide
  have e' : (3 : Int32).toInt = 3 := by decide
  omega
theorem uw_yir0 {post : Int32 → Prop} {v : Int32} (h : v < 0 ∨ nI 4 ≤ v) (K : post 0) : wpY_isRegister post (YS D B) v := by
  unfold wpY_isRegister YS
  exact br_c (fun _ => K) (fun z => br_t (h.elim (fun y => absurd y z) uw_34) K)
end
end
section
/-! what is around, the innermost first: inl (break label, go on label) a loop; inr k the lastly number k of the procedure -/
def uw_XT (el : Nat) : List ((Nat × Nat) ⊕ Nat) → Nat → Nat → List Nat → Nat → Prop
  | [] => fun y _ L l => y = 4 ∧ L = [] ∧ l = el
  | Sum.inl x :: r => fun y n L l => (n = 0 ∧ L = [] ∧ ((y = 2 ∧ l = x.1) ∨ (y = 3 ∧ l = x.2))) ∨ ((y = 2 ∨ y = 3) ∧ ∃ m, n = m + 1 ∧ uw_XT el r y m L l) ∨ (y = 4 ∧ uw_XT el r y n L l)
  | Sum.inr k :: r => fun y n L l => ∃ L', L = k :: L' ∧ uw_XT el r y n L' l
/-- exit number x leads by way of the lastlies L to the label l -/
def uw_EX (A : Nat → Nat → Int32) (p N : Nat) : List Nat → Nat → Nat → Prop
  | [] => fun l x => x < N ∧ (A 15) x = -1 ∧ (A 17) x = nI l
  | k :: L => fun l x => x < N ∧ k < 10 ∧ (A 15) x = nI (10 * p + k) ∧ ∃ y, (A 16) x = nI y ∧ uw_EX A p N L l y
/-- the instruction at pc goes by way of L to l -/
def uw_GO (A : Nat → Nat → Int32) (p N : Nat) (L : List Nat) (l pc : Nat) : Prop :=
  match L with
  | [] => (A 9) pc = nI 9 ∧ (A 10) pc = nI l
  | k :: L => k < 10 ∧ (A 9) pc = nI 12 ∧ (A 10) pc = nI (10 * p + k) ∧ ∃ x, (A 11) pc = nI x ∧ uw_EX A p N L l x
def uw_LF (F : Nat → Nat → Int32) (M : Nat → Bool) (p el N : Nat) (X : List ((Nat × Nat) ⊕ Nat)) (s a e o : Nat) : Prop :=
  (o = 0 ∧ e = a + 1 ∧ M s = true) ∨
  (1 ≤ o ∧ o ≤ 6 ∧ e = a + 2 ∧ (F 9) (a + 1) = nI o ∧ (F 10) (a + 1) = (F 1) (20 * p + s) ∧ (F 11) (a + 1) = (F 2) (20 * p + s) ∧ (o = 6 ∨ M s = true)) ∨
  (o = 10 ∧ e = a + 2 ∧ (F 9) (a + 1) = nI 7 ∧ (F 10) (a + 1) = (F 2) (20 * p + s) ∧ M s = true) ∨
  (7 ≤ o ∧ o ≤ 9 ∧ e = a + 2 ∧ ∃ n L l, n < 4 ∧ (o ≠ 9 → (F 2) (20 * p + s) = nI n) ∧ (o = 9 → n = 0) ∧ l < 128 ∧ uw_XT el X (o - 5) n L l ∧ uw_GO F p N L l (a + 1))
/-- range number i of the table -/
def uw_RG (F : Nat → Nat → Int32) (i a b l : Nat) (y : Int32) : Prop := (F 18) i = nI a ∧ (F 19) i = nI b ∧ (F 20) i = nI l ∧ (F 21) i = y
/-- the code of statement s of procedure p is at [a, e), its ranges are [g, g'), its lastlies [k, k'); M says which statements may end -/
def uw_CC (F : Nat → Nat → Int32) (M : Nat → Bool) (p el N : Nat) : Nat → List ((Nat × Nat) ⊕ Nat) → Nat → Nat → Nat → Nat → Nat → Nat → Nat → Prop
  | 0 => fun _ _ _ _ _ _ _ _ => False
  | n + 1 => fun X s a e g g' k k' => s < 20 ∧ (F 9) a = nI 0 ∧ (F 10) a = nI (20 * p + s) ∧
    ((∃ o, o < 11 ∧ (F 0) (20 * p + s) = nI o ∧ g' = g ∧ k' = k ∧ uw_LF F M p el N X s a e o) ∨
     ((F 0) (20 * p + s) = nI 11 ∧ ∃ qa qb, qa < s ∧ qb < s ∧ (F 3) (20 * p + s) = nI qa ∧ (F 4) (20 * p + s) = nI qb ∧ M s = (M qa && M qb) ∧
       ((M qa = true ∧ ∃ m gm km, uw_CC F M p el N n X qa (a + 1) m g gm k km ∧ uw_CC F M p el N n X qb m e gm g' km k') ∨
        (M qa = false ∧ uw_CC F M p el N n X qa (a + 1) e g g' k k'))) ∨
     ((F 0) (20 * p + s) = nI 12 ∧ ∃ qa qb, qa < s ∧ qb < s ∧ (F 3) (20 * p + s) = nI qa ∧ (F 4) (20 * p + s) = nI qb ∧ M s = (M qa || M qb) ∧
       (F 9) (a + 1) = nI 10 ∧ (F 10) (a + 1) = (F 1) (20 * p + s) ∧ ∃ l1 l2 m m' gm km, l1 < 128 ∧ l2 < 128 ∧ (F 11) (a + 1) = nI l1 ∧
       uw_CC F M p el N n X qa (a + 2) m g gm k km ∧ ((M qa = true ∧ m' = m + 1 ∧ (F 9) m = nI 9 ∧ (F 10) m = nI l2) ∨ (M qa = false ∧ m' = m)) ∧ (F 13) l1 = nI m' ∧
       uw_CC F M p el N n X qb m' e gm g' km k' ∧ (F 13) l2 = nI e) ∨
     ((F 0) (20 * p + s) = nI 15 ∧ ∃ qa, qa < s ∧ (F 3) (20 * p + s) = nI qa ∧ M s = true ∧
       (F 9) (a + 1) = nI 10 ∧ (F 10) (a + 1) = (F 1) (20 * p + s) ∧ ∃ te en m, te < 128 ∧ en < 128 ∧ (F 13) te = nI (a + 1) ∧ (F 11) (a + 1) = nI en ∧
       uw_CC F M p el N n (Sum.inl (en, te) :: X) qa (a + 2) m g g' k k' ∧ (F 9) m = nI 9 ∧ (F 10) m = nI te ∧ e = m + 1 ∧ (F 13) en = nI e) ∨
     ((F 0) (20 * p + s) = nI 13 ∧ ∃ qa qb, qa < s ∧ qb < s ∧ (F 3) (20 * p + s) = nI qa ∧ (F 4) (20 * p + s) = nI qb ∧ M s = (M qa || M qb) ∧
       ∃ h le m m' gm km, h < 128 ∧ le < 128 ∧ uw_CC F M p el N n X qa (a + 1) m g gm k km ∧ uw_RG F gm (a + 1) m h (-1) ∧
       ((M qa = true ∧ m' = m + 1 ∧ (F 9) m = nI 9 ∧ (F 10) m = nI le) ∨ (M qa = false ∧ m' = m)) ∧ (F 13) h = nI m' ∧ (F 9) m' = nI 11 ∧ (F 10) m' = (F 1) (20 * p + s) ∧
       uw_CC F M p el N n X qb (m' + 1) e (gm + 1) g' km k' ∧ (F 13) le = nI e) ∨
     ((F 0) (20 * p + s) = nI 14 ∧ ∃ qa qb, qa < s ∧ qb < s ∧ (F 3) (20 * p + s) = nI qa ∧ (F 4) (20 * p + s) = nI qb ∧ M s = (M qa && M qb) ∧ k < 10 ∧
       ∃ bl le m m' gm km e', bl < 128 ∧ le < 128 ∧ uw_CC F M p el N n (Sum.inr k :: X) qa (a + 1) m g gm (k + 1) km ∧ uw_RG F gm (a + 1) m bl (nI (10 * p + k)) ∧ (F 14) (10 * p + k) = nI bl ∧
       ((M qa = true ∧ m' = m + 1 ∧ (F 9) m = nI 12 ∧ (F 10) m = nI (10 * p + k) ∧ ∃ x, (F 11) m = nI x ∧ uw_EX F p N [] le x) ∨ (M qa = false ∧ m' = m)) ∧ (F 13) bl = nI m' ∧
       uw_CC F M p el N n X qb m' e' (gm + 1) g' km k' ∧ (F 9) e' = nI 13 ∧ (F 10) e' = nI (10 * p + k) ∧ e = e' + 1 ∧ (F 13) le = nI e))
/-- the ranges of a statement lie within its code -/
theorem uw_CC_in {F : Nat → Nat → Int32} {M : Nat → Bool} {p el N : Nat} : ∀ n X s a e g g' k k', uw_CC F M p el N n X s a e g g' k k' →
    a < e ∧ g ≤ g' ∧ k ≤ k' ∧ ∀ i, g ≤ i → i < g' → ∃ x y, (F 18) i = nI x ∧ (F 19) i = nI y ∧ a < x ∧ x ≤ y ∧ y ≤ e := by
  intro n
  induction n with
  | zero => intro X s a e g g' k k' h; exact h.elim
  | succ n ih =>
    intro X s a e g g' k k' h
    obtain ⟨_, _, _, h⟩ := h
    rcases h with ⟨o, ho, _, rfl, rfl, h⟩ | ⟨_, qa, qb, _, _, _, _, _, h⟩ | ⟨_, qa, qb, _, _, _, _, _, _, _, l1, l2, m, m', gm, km, _, _, _, h1, h2, _, h3, _⟩ | ⟨_, qa, _, _, _, _, _, te, en, m, _, _, _, _, h1, _, _, e1, _⟩ | ⟨_, qa, qb, _, _, _, _, _, hl, le, m, m', gm, km, _, _, h1, hr, h2, _, _, _, h3, _⟩ | ⟨_, qa, qb, _, _, _, _, _, _, bl, le, m, m', gm, km, e', _, _, h1, hr, _, h2, _, h3, _, _, e1, _⟩
    · refine ⟨?_, Nat.le_refl _, Nat.le_refl _, fun i a b => by omega⟩
      rcases h with h | h | h | h <;> omega
    · rcases h with ⟨_, m, gm, km, h1, h2⟩ | ⟨_, h1⟩
      · obtain ⟨a1, a2, a3, a4⟩ := ih _ _ _ _ _ _ _ _ h1
        obtain ⟨b1, b2, b3, b4⟩ := ih _ _ _ _ _ _ _ _ h2
        refine ⟨by omega, by omega, by omega, fun i c d => ?_⟩
        rcases Nat.lt_or_ge i gm with z | z
        · obtain ⟨x, y, c1, c2, c3, c4, c5⟩ := a4 i c z
          exact ⟨x, y, c1, c2, by omega, c4, by omega⟩
        · obtain ⟨x, y, c1, c2, c3, c4, c5⟩ := b4 i z d
          exact ⟨x, y, c1, c2, by omega, c4, by omega⟩
      · obtain ⟨a1, a2, a3, a4⟩ := ih _ _ _ _ _ _ _ _ h1
        refine ⟨by omega, by omega, by omega, fun i c d => ?_⟩
        obtain ⟨x, y, c1, c2, c3, c4, c5⟩ := a4 i c d
        exact ⟨x, y, c1, c2, by omega, c4, by omega⟩
    · obtain ⟨a1, a2, a3, a4⟩ := ih _ _ _ _ _ _ _ _ h1
      obtain ⟨b1, b2, b3, b4⟩ := ih _ _ _ _ _ _ _ _ h3
      have hm : m ≤ m' := by rcases h2 with h2 | h2 <;> omega
      refine ⟨by omega, by omega, by omega, fun i c d => ?_⟩
      rcases Nat.lt_or_ge i gm with z | z
      · obtain ⟨x, y, c1, c2, c3, c4, c5⟩ := a4 i c z
        exact ⟨x, y, c1, c2, by omega, c4, by omega⟩
      · obtain ⟨x, y, c1, c2, c3, c4, c5⟩ := b4 i z d
        exact ⟨x, y, c1, c2, by omega, c4, by omega⟩
    · obtain ⟨a1, a2, a3, a4⟩ := ih _ _ _ _ _ _ _ _ h1
      refine ⟨by omega, by omega, by omega, fun i c d => ?_⟩
      obtain ⟨x, y, c1, c2, c3, c4, c5⟩ := a4 i c d
      exact ⟨x, y, c1, c2, by omega, c4, by omega⟩
    · obtain ⟨a1, a2, a3, a4⟩ := ih _ _ _ _ _ _ _ _ h1
      obtain ⟨b1, b2, b3, b4⟩ := ih _ _ _ _ _ _ _ _ h3
      have hm : m ≤ m' := by rcases h2 with h2 | h2 <;> omega
      refine ⟨by omega, by omega, by omega, fun i c d => ?_⟩
      rcases Nat.lt_or_ge i gm with z | z
      · obtain ⟨x, y, c1, c2, c3, c4, c5⟩ := a4 i c z
        exact ⟨x, y, c1, c2, by omega, c4, by omega⟩
      · rcases Nat.eq_or_lt_of_le z with rfl | z
        · exact ⟨a + 1, m, hr.1, hr.2.1, by omega, by omega, by omega⟩
        · obtain ⟨x, y, c1, c2, c3, c4, c5⟩ := b4 i (by omega) d
          exact ⟨x, y, c1, c2, by omega, c4, by omega⟩
    · obtain ⟨a1, a2, a3, a4⟩ := ih _ _ _ _ _ _ _ _ h1
      obtain ⟨b1, b2, b3, b4⟩ := ih _ _ _ _ _ _ _ _ h3
      have hm : m ≤ m' := by rcases h2 with h2 | h2 <;> omega
      refine ⟨by omega, by omega, by omega, fun i c d => ?_⟩
      rcases Nat.lt_or_ge i gm with z | z
      · obtain ⟨x, y, c1, c2, c3, c4, c5⟩ := a4 i c z
        exact ⟨x, y, c1, c2, by omega, c4, by omega⟩
      · rcases Nat.eq_or_lt_of_le z with rfl | z
        · exact ⟨a + 1, m, hr.1, hr.2.1, by omega, by omega, by omega⟩
        · obtain ⟨x, y, c1, c2, c3, c4, c5⟩ := b4 i (by omega) d
          exact ⟨x, y, c1, c2, by omega, c4, by omega⟩
end
section
/-! the compiler's counters as a record over the others C; which places are old; a run of the work loop -/
def uw_cc (C : Nat → Int32) (cz lb kt ex rg wk ar : Nat) : Nat → Int32 := fun i =>
  if i = 3 then nI cz else if i = 4 then nI lb else if i = 5 then nI kt else if i = 6 then nI ex else if i = 7 then nI rg else if i = 8 then nI wk else if i = 11 then nI ar else C i
theorem uw_c3 {C : Nat → Int32} {cz lb kt ex rg wk ar v : Nat} : upd (uw_cc C cz lb kt ex rg wk ar) 3 (nI v) = uw_cc C v lb kt ex rg wk ar := by
  funext i; unfold upd uw_cc; by_cases h : i = 3 <;> simp [h]
theorem uw_c4 {C : Nat → Int32} {cz lb kt ex rg wk ar v : Nat} : upd (uw_cc C cz lb kt ex rg wk ar) 4 (nI v) = uw_cc C cz v kt ex rg wk ar := by
  funext i; unfold upd uw_cc; by_cases h : i = 4 <;> simp [h]
theorem uw_c5 {C : Nat → Int32} {cz lb kt ex rg wk ar v : Nat} : upd (uw_cc C cz lb kt ex rg wk ar) 5 (nI v) = uw_cc C cz lb v ex rg wk ar := by
  funext i; unfold upd uw_cc; by_cases h : i = 5 <;> simp [h]
theorem uw_c6 {C : Nat → Int32} {cz lb kt ex rg wk ar v : Nat} : upd (uw_cc C cz lb kt ex rg wk ar) 6 (nI v) = uw_cc C cz lb kt v rg wk ar := by
  funext i; unfold upd uw_cc; by_cases h : i = 6 <;> simp [h]
theorem uw_c7 {C : Nat → Int32} {cz lb kt ex rg wk ar v : Nat} : upd (uw_cc C cz lb kt ex rg wk ar) 7 (nI v) = uw_cc C cz lb kt ex v wk ar := by
  funext i; unfold upd uw_cc; by_cases h : i = 7 <;> simp [h]
theorem uw_c8 {C : Nat → Int32} {cz lb kt ex rg wk ar v : Nat} : upd (uw_cc C cz lb kt ex rg wk ar) 8 (nI v) = uw_cc C cz lb kt ex rg v ar := by
  funext i; unfold upd uw_cc; by_cases h : i = 8 <;> simp [h]
theorem uw_c11 {C : Nat → Int32} {cz lb kt ex rg wk ar v : Nat} : upd (uw_cc C cz lb kt ex rg wk ar) 11 (nI v) = uw_cc C cz lb kt ex rg wk v := by
  funext i; unfold upd uw_cc; by_cases h : i = 11 <;> simp [h]
def uw_od (l0 cz lb kt ex rg wk sx ar i x : Nat) : Prop :=
  (9 ≤ i → i ≤ 11 → x < cz) ∧ (i = 13 → l0 ≤ x ∧ x < lb) ∧ (i = 14 → x < kt) ∧ (15 ≤ i → i ≤ 17 → x < ex) ∧ (18 ≤ i → i ≤ 21 → x < rg) ∧ (22 ≤ i → i ≤ 23 → x < wk) ∧ (24 ≤ i → i ≤ 26 → sx < x) ∧ (27 ≤ i → i ≤ 30 → x < ar)
def uw_KP (l0 cz lb kt ex rg wk sx ar : Nat) (A A' : Nat → Nat → Int32) : Prop := ∀ i x, uw_od l0 cz lb kt ex rg wk sx ar i x → A' i x = A i x
theorem uw_kr {l0 cz lb kt ex rg wk sx ar : Nat} {A : Nat → Nat → Int32} : uw_KP l0 cz lb kt ex rg wk sx ar A A := fun _ _ _ => rfl
theorem uw_ks {l0 cz lb kt ex rg wk sx ar : Nat} {A A' : Nat → Nat → Int32} {i x : Nat} {v : Int32} (h : uw_KP l0 cz lb kt ex rg wk sx ar A A') (hn : ¬ uw_od l0 cz lb kt ex rg wk sx ar i x) :
    uw_KP l0 cz lb kt ex rg wk sx ar A (uw_st A' i (upd (A' i) x v)) := by
  intro j y hy
  by_cases e : j = i
  · subst e
    rw [uw_us]
    by_cases e2 : y = x
    · subst e2; exact absurd hy hn
    · rw [pk_un e2]; exact h _ _ hy
  · rw [uw_un e]; exact h _ _ hy
theorem uw_kt {l0 cz lb kt ex rg wk sx ar : Nat} {A A' A'' : Nat → Nat → Int32} (h : uw_KP l0 cz lb kt ex rg wk sx ar A A') (h' : uw_KP l0 cz lb kt ex rg wk sx ar A' A'') : uw_KP l0 cz lb kt ex rg wk sx ar A A'' :=
  fun i x z => (h' i x z).trans (h i x z)
theorem uw_km {l0 cz lb kt ex rg wk sx ar l0' cz' lb' kt' ex' rg' wk' sx' ar' : Nat} {A A' : Nat → Nat → Int32} (h : uw_KP l0 cz lb kt ex rg wk sx ar A A')
    (e : l0 ≤ l0' ∧ cz' ≤ cz ∧ lb' ≤ lb ∧ kt' ≤ kt ∧ ex' ≤ ex ∧ rg' ≤ rg ∧ wk' ≤ wk ∧ sx ≤ sx' ∧ ar' ≤ ar) : uw_KP l0' cz' lb' kt' ex' rg' wk' sx' ar' A A' := by
  intro i x z
  refine h i x ?_
  unfold uw_od at z ⊢
  omega
def uw_LP (post : SX → Prop) (n : Nat) (x : Int32) (C : Nat → Int32) (A : Nat → Nat → Int32) : Prop := wX_compileProcedure_62 post n x (C 0) (C 1) (C 2) (C 3) (C 4) (C 5) (C 6) (C 7) (C 8) (C 9) (C 10) (C 11) (C 12) (C 13) (C 14) (C 15) (C 16) (C 17) (C 18) (A 0) (A 1) (A 2) (A 3) (A 4) (A 5) (A 6) (A 7) (A 8) (A 9) (A 10) (A 11) (A 12) (A 13) (A 14) (A 15) (A 16) (A 17) (A 18) (A 19) (A 20) (A 21) (A 22) (A 23) (A 24) (A 25) (A 26) (A 27) (A 28) (A 29) (A 30) (A 31) (A 32) (A 33) (A 34) (A 35) (A 36) (A 37)
def uw_RN (k : Nat) (C : Nat → Int32) (A : Nat → Nat → Int32) (C' : Nat → Int32) (A' : Nat → Nat → Int32) : Prop :=
  ∀ (post : SX → Prop) (n x : Nat), x + k ≤ 128 → uw_LP post n (nI (x + k)) C' A' → uw_LP post (n + k) (nI x) C A
theorem uw_rt {k k' : Nat} {C C' C'' : Nat → Int32} {A A' A'' : Nat → Nat → Int32} (h : uw_RN k C A C' A') (h' : uw_RN k' C' A' C'' A'') : uw_RN (k + k') C A C'' A'' := by
  intro post n x hx K
  have e : n + (k + k') = (n + k') + k := by omega
  rw [e]
  refine h post _ x (by omega) (h' post _ _ (by omega) ?_)
  rw [Nat.add_assoc]
  exact K
theorem uw_r1 {C C' : Nat → Int32} {A A' : Nat → Nat → Int32} {w : Nat} (hw : (C 8) = nI (w + 1)) (hw' : w < 128) (h : ∀ post : SX → Prop, post (XS C' A') → wpX_workOn post (XS C A)) : uw_RN 1 C A C' A' := by
  intro post n x hx K
  have h1 : ¬ (128 : Int32) ≤ nI x := nI_ge (b := 128) (by omega) (by decide)
  have h2 : ¬ (C 8) ≤ 0 := by rw [hw]; exact nI_nle (by omega) (by omega)
  refine br_f h1 (br_f h2 (h _ ?_))
  exact fun y hy => by rw [hy, nI_1]; exact K
end
section
/-! numbers and the way of each op to make (printed by gen07.py) -/
def uw_gn (k : Nat) (n : Int32) : Prop := (k = 1 → uw_B n) ∧ ((2 ≤ k ∧ k ≤ 4) ∨ k = 7 ∨ k = 8 → ∃ j, j < 4 ∧ n = nI j) ∧ (k = 10 → ∃ j, j < 3 ∧ n = nI j)
def uw_bnP (b : Int32) (k : Nat) (n : Int32) : Prop := (∀ (C : Nat → Int32) (A : Nat → Nat → Int32) (post : Int32 → Prop), post b → wpX_badNumber post (XS C A) (nI k) n) ∧ (∀ (D : Nat → Int32) (B : Nat → Nat → Int32) (post : Int32 → Prop), post b → wpY_badNumber post (YS D B) (nI k) n)
theorem uw_n100 {n : Int32} (h1 : ¬ n < -100) (h2 : n ≤ 100) : uw_B n := by
  rw [Int32.lt_iff_toInt_lt] at h1
  rw [Int32.le_iff_toInt_le] at h2
  have e1 : (-100 : Int32).toInt = -100 := by decide
  have e2 : (100 : Int32).toInt = 100 := by decide
  exact lg_i2b_small (by omega) (by omega)
theorem uw_n3 {n : Int32} (h : nI 3 ≤ n) : ¬ n ≤ 2 := by
  rw [Int32.le_iff_toInt_le] at h ⊢
  have e1 : (nI 3).toInt = 3 := by decide
  have e2 : (2 : Int32).toInt = 2 := by decide
  omega
theorem uw_n4 {n : Int32} (h : nI 4 ≤ n) : ¬ n ≤ 3 := Int32.not_le.mpr (uw_34 h)
theorem uw_bn1 (n : Int32) : uw_bnP 1 1 n ∨ (uw_bnP 0 1 n ∧ uw_gn 1 n) := by
  by_cases h1 : n < -100
  · exact Or.inl ⟨fun C A post K => by unfold wpX_badNumber XS; exact br_t (by decide) (br_t h1 K), fun D B post K => by unfold wpY_badNumber YS; exact br_t (by decide) (br_t h1 K)⟩
  · by_cases h2 : n ≤ 100
    · refine Or.inr ⟨⟨fun C A post K => by unfold wpX_badNumber XS; exact br_t (by decide) (br_f h1 (br_t h2 K)), fun D B post K => by unfold wpY_badNumber YS; exact br_t (by decide) (br_f h1 (br_t h2 K))⟩, fun _ => uw_n100 h1 h2, fun z => by omega, fun z => by omega⟩
    · exact Or.inl ⟨fun C A post K => by unfold wpX_badNumber XS; exact br_t (by decide) (br_f h1 (br_f h2 K)), fun D B post K => by unfold wpY_badNumber YS; exact br_t (by decide) (br_f h1 (br_f h2 K))⟩
theorem uw_bn10 (n : Int32) : uw_bnP 1 10 n ∨ (uw_bnP 0 10 n ∧ uw_gn 10 n) := by
  rcases pk_ix n (n := 3) (by decide) with h | h | ⟨j, hj, rfl⟩
  · exact Or.inl ⟨fun C A post K => by unfold wpX_badNumber XS; exact br_f (by decide) (br_t (by decide) (br_t h K)), fun D B post K => by unfold wpY_badNumber YS; exact br_f (by decide) (br_t (by decide) (br_t h K))⟩
  · exact Or.inl ⟨fun C A post K => by unfold wpX_badNumber XS; exact br_f (by decide) (br_t (by decide) (br_c (fun _ => K) fun _ => br_f (Int32.not_lt.mpr h) K)), fun D B post K => by unfold wpY_badNumber YS; exact br_f (by decide) (br_t (by decide) (br_c (fun _ => K) fun _ => br_f (uw_n3 h) K))⟩
  · exact Or.inr ⟨⟨fun C A post K => by unfold wpX_badNumber XS; exact br_f (by decide) (br_t (by decide) (br_f (nI_pos (by omega)) (br_t (nI_lt (b := 3) hj (by decide)) K))), fun D B post K => by unfold wpY_badNumber YS; exact br_f (by decide) (br_t (by decide) (br_f (nI_pos (by omega)) (br_t (nI_le (b := 2) (by omega) (by decide)) K)))⟩, fun z => by omega, fun z => by omega, fun _ => ⟨j, hj, rfl⟩⟩
theorem uw_bn2 (n : Int32) : uw_bnP 1 2 n ∨ (uw_bnP 0 2 n ∧ uw_gn 2 n) := by
  rcases pk_ix n (n := 4) (by decide) with h | h | ⟨j, hj, rfl⟩
  · exact Or.inl ⟨fun C A post K => by unfold wpX_badNumber XS; exact br_f (by decide) (br_f (by decide) (br_f (by decide) (br_t (by decide) (br_t h K)))), fun D B post K => by unfold wpY_badNumber YS; exact br_f (by decide) (br_f (by decide) (br_f (by decide) (br_t (by decide) (br_f (by decide) (br_t h K)))))⟩
  · exact Or.inl ⟨fun C A post K => by unfold wpX_badNumber XS; exact br_f (by decide) (br_f (by decide) (br_f (by decide) (br_t (by decide) (br_c (fun _ => K) fun _ => br_f (uw_n4 h) K)))), fun D B post K => by unfold wpY_badNumber YS; exact br_f (by decide) (br_f (by decide) (br_f (by decide) (br_t (by decide) (br_f (by decide) (br_c (fun _ => K) fun _ => br_f (uw_n4 h) K)))))⟩
  · exact Or.inr ⟨⟨fun C A post K => by unfold wpX_badNumber XS; exact br_f (by decide) (br_f (by decide) (br_f (by decide) (br_t (by decide) (br_f (nI_pos (by omega)) (br_t (nI_le (b := 3) (by omega) (by decide)) K))))), fun D B post K => by unfold wpY_badNumber YS; exact br_f (by decide) (br_f (by decide) (br_f (by decide) (br_t (by decide) (br_f (by decide) (br_f (nI_pos (by omega)) (br_t (nI_le (b := 3) (by omega) (by decide)) K))))))⟩, fun z => by omega, fun _ => ⟨j, hj, rfl⟩, fun z => by omega⟩
theorem uw_bn3 (n : Int32) : uw_bnP 1 3 n ∨ (uw_bnP 0 3 n ∧ uw_gn 3 n) := by
  rcases pk_ix n (n := 4) (by decide) with h | h | ⟨j, hj, rfl⟩
  · exact Or.inl ⟨fun C A post K => by unfold wpX_badNumber XS; exact br_f (by decide) (br_f (by decide) (br_f (by decide) (br_t (by decide) (br_t h K)))), fun D B post K => by unfold wpY_badNumber YS; exact br_f (by decide) (br_f (by decide) (br_f (by decide) (br_t (by decide) (br_f (by decide) (br_t h K)))))⟩
  · exact Or.inl ⟨fun C A post K => by unfold wpX_badNumber XS; exact br_f (by decide) (br_f (by decide) (br_f (by decide) (br_t (by decide) (br_c (fun _ => K) fun _ => br_f (uw_n4 h) K)))), fun D B post K => by unfold wpY_badNumber YS; exact br_f (by decide) (br_f (by decide) (br_f (by decide) (br_t (by decide) (br_f (by decide) (br_c (fun _ => K) fun _ => br_f (uw_n4 h) K)))))⟩
  · exact Or.inr ⟨⟨fun C A post K => by unfold wpX_badNumber XS; exact br_f (by decide) (br_f (by decide) (br_f (by decide) (br_t (by decide) (br_f (nI_pos (by omega)) (br_t (nI_le (b := 3) (by omega) (by decide)) K))))), fun D B post K => by unfold wpY_badNumber YS; exact br_f (by decide) (br_f (by decide) (br_f (by decide) (br_t (by decide) (br_f (by decide) (br_f (nI_pos (by omega)) (br_t (nI_le (b := 3) (by omega) (by decide)) K))))))⟩, fun z => by omega, fun _ => ⟨j, hj, rfl⟩, fun z => by omega⟩
theorem uw_bn4 (n : Int32) : uw_bnP 1 4 n ∨ (uw_bnP 0 4 n ∧ uw_gn 4 n) := by
  rcases pk_ix n (n := 4) (by decide) with h | h | ⟨j, hj, rfl⟩
  · exact Or.inl ⟨fun C A post K => by unfold wpX_badNumber XS; exact br_f (by decide) (br_f (by decide) (br_f (by decide) (br_t (by decide) (br_t h K)))), fun D B post K => by unfold wpY_badNumber YS; exact br_f (by decide) (br_f (by decide) (br_f (by decide) (br_t (by decide) (br_f (by decide) (br_t h K)))))⟩
  · exact Or.inl ⟨fun C A post K => by unfold wpX_badNumber XS; exact br_f (by decide) (br_f (by decide) (br_f (by decide) (br_t (by decide) (br_c (fun _ => K) fun _ => br_f (uw_n4 h) K)))), fun D B post K => by unfold wpY_badNumber YS; exact br_f (by decide) (br_f (by decide) (br_f (by decide) (br_t (by decide) (br_f (by decide) (br_c (fun _ => K) fun _ => br_f (uw_n4 h) K)))))⟩
  · exact Or.inr ⟨⟨fun C A post K => by unfold wpX_badNumber XS; exact br_f (by decide) (br_f (by decide) (br_f (by decide) (br_t (by decide) (br_f (nI_pos (by omega)) (br_t (nI_le (b := 3) (by omega) (by decide)) K))))), fun D B post K => by unfold wpY_badNumber YS; exact br_f (by decide) (br_f (by decide) (br_f (by decide) (br_t (by decide) (br_f (by decide) (br_f (nI_pos (by omega)) (br_t (nI_le (b := 3) (by omega) (by decide)) K))))))⟩, fun z => by omega, fun _ => ⟨j, hj, rfl⟩, fun z => by omega⟩
theorem uw_bn7 (n : Int32) : uw_bnP 1 7 n ∨ (uw_bnP 0 7 n ∧ uw_gn 7 n) := by
  rcases pk_ix n (n := 4) (by decide) with h | h | ⟨j, hj, rfl⟩
  · exact Or.inl ⟨fun C A post K => by unfold wpX_badNumber XS; exact br_f (by decide) (br_f (by decide) (br_f (by decide) (br_f (by decide) (br_t (by decide) (br_t h K))))), fun D B post K => by unfold wpY_badNumber YS; exact br_f (by decide) (br_f (by decide) (br_f (by decide) (br_f (by decide) (br_t (by decide) (br_f (by decide) (br_t h K))))))⟩
  · exact Or.inl ⟨fun C A post K => by unfold wpX_badNumber XS; exact br_f (by decide) (br_f (by decide) (br_f (by decide) (br_f (by decide) (br_t (by decide) (br_c (fun _ => K) fun _ => br_f (uw_n4 h) K))))), fun D B post K => by unfold wpY_badNumber YS; exact br_f (by decide) (br_f (by decide) (br_f (by decide) (br_f (by decide) (br_t (by decide) (br_f (by decide) (br_c (fun _ => K) fun _ => br_f (uw_n4 h) K))))))⟩
  · exact Or.inr ⟨⟨fun C A post K => by unfold wpX_badNumber XS; exact br_f (by decide) (br_f (by decide) (br_f (by decide) (br_f (by decide) (br_t (by decide) (br_f (nI_pos (by omega)) (br_t (nI_le (b := 3) (by omega) (by decide)) K)))))), fun D B post K => by unfold wpY_badNumber YS; exact br_f (by decide) (br_f (by decide) (br_f (by decide) (br_f (by decide) (br_t (by decide) (br_f (by decide) (br_f (nI_pos (by omega)) (br_t (nI_le (b := 3) (by omega) (by decide)) K)))))))⟩, fun z => by omega, fun _ => ⟨j, hj, rfl⟩, fun z => by omega⟩
theorem uw_bn8 (n : Int32) : uw_bnP 1 8 n ∨ (uw_bnP 0 8 n ∧ uw_gn 8 n) := by
  rcases pk_ix n (n := 4) (by decide) with h | h | ⟨j, hj, rfl⟩
  · exact Or.inl ⟨fun C A post K => by unfold wpX_badNumber XS; exact br_f (by decide) (br_f (by decide) (br_f (by decide) (br_f (by decide) (br_f (by decide) (br_t (by decide) (br_t h K)))))), fun D B post K => by unfold wpY_badNumber YS; exact br_f (by decide) (br_f (by decide) (br_f (by decide) (br_f (by decide) (br_f (by decide) (br_t (by decide) (br_f (by decide) (br_t h K)))))))⟩
  · exact Or.inl ⟨fun C A post K => by unfold wpX_badNumber XS; exact br_f (by decide) (br_f (by decide) (br_f (by decide) (br_f (by decide) (br_f (by decide) (br_t (by decide) (br_c (fun _ => K) fun _ => br_f (uw_n4 h) K)))))), fun D B post K => by unfold wpY_badNumber YS; exact br_f (by decide) (br_f (by decide) (br_f (by decide) (br_f (by decide) (br_f (by decide) (br_t (by decide) (br_f (by decide) (br_c (fun _ => K) fun _ => br_f (uw_n4 h) K)))))))⟩
  · exact Or.inr ⟨⟨fun C A post K => by unfold wpX_badNumber XS; exact br_f (by decide) (br_f (by decide) (br_f (by decide) (br_f (by decide) (br_f (by decide) (br_t (by decide) (br_f (nI_pos (by omega)) (br_t (nI_le (b := 3) (by omega) (by decide)) K))))))), fun D B post K => by unfold wpY_badNumber YS; exact br_f (by decide) (br_f (by decide) (br_f (by decide) (br_f (by decide) (br_f (by decide) (br_t (by decide) (br_f (by decide) (br_f (nI_pos (by omega)) (br_t (nI_le (b := 3) (by omega) (by decide)) K))))))))⟩, fun z => by omega, fun _ => ⟨j, hj, rfl⟩, fun z => by omega⟩
theorem uw_bn0 (n : Int32) : uw_bnP 1 0 n ∨ (uw_bnP 0 0 n ∧ uw_gn 0 n) := by
  exact Or.inr ⟨⟨fun C A post K => by unfold wpX_badNumber XS; exact br_f (by decide) (br_f (by decide) (br_t (by decide) (br_f (by decide) (br_f (by decide) K)))), fun D B post K => by unfold wpY_badNumber YS; exact br_f (by decide) (br_f (by decide) (br_t (by decide) (br_f (by decide) (br_f (by decide) (br_t rfl K)))))⟩, fun z => by omega, fun z => by omega, fun z => by omega⟩
theorem uw_bn5 (n : Int32) : uw_bnP 1 5 n ∨ (uw_bnP 0 5 n ∧ uw_gn 5 n) := by
  exact Or.inr ⟨⟨fun C A post K => by unfold wpX_badNumber XS; exact br_f (by decide) (br_f (by decide) (br_f (by decide) (br_f (by decide) (br_f (by decide) (br_f (by decide) K))))), fun D B post K => by unfold wpY_badNumber YS; exact br_f (by decide) (br_f (by decide) (br_f (by decide) (br_f (by decide) (br_f (by decide) (br_f (by decide) (br_t rfl K))))))⟩, fun z => by omega, fun z => by omega, fun z => by omega⟩
theorem uw_bn6 (n : Int32) : uw_bnP 1 6 n ∨ (uw_bnP 0 6 n ∧ uw_gn 6 n) := by
  exact Or.inr ⟨⟨fun C A post K => by unfold wpX_badNumber XS; exact br_f (by decide) (br_f (by decide) (br_f (by decide) (br_f (by decide) (br_f (by decide) (br_f (by decide) K))))), fun D B post K => by unfold wpY_badNumber YS; exact br_f (by decide) (br_f (by decide) (br_f (by decide) (br_f (by decide) (br_f (by decide) (br_f (by decide) (br_t rfl K))))))⟩, fun z => by omega, fun z => by omega, fun z => by omega⟩
theorem uw_bn9 (n : Int32) : uw_bnP 1 9 n ∨ (uw_bnP 0 9 n ∧ uw_gn 9 n) := by
  exact Or.inr ⟨⟨fun C A post K => by unfold wpX_badNumber XS; exact br_f (by decide) (br_f (by decide) (br_f (by decide) (br_f (by decide) (br_f (by decide) (br_f (by decide) K))))), fun D B post K => by unfold wpY_badNumber YS; exact br_f (by decide) (br_f (by decide) (br_f (by decide) (br_f (by decide) (br_f (by decide) (br_f (by decide) (br_t rfl K))))))⟩, fun z => by omega, fun z => by omega, fun z => by omega⟩
theorem uw_k11 {P : Nat → Prop} (h0 : P 0) (h1 : P 1) (h2 : P 2) (h3 : P 3) (h4 : P 4) (h5 : P 5) (h6 : P 6) (h7 : P 7) (h8 : P 8) (h9 : P 9) (h10 : P 10) : ∀ k, k < 11 → P k
  | 0, _ => h0
  | 1, _ => h1
  | 2, _ => h2
  | 3, _ => h3
  | 4, _ => h4
  | 5, _ => h5
  | 6, _ => h6
  | 7, _ => h7
  | 8, _ => h8
  | 9, _ => h9
  | 10, _ => h10
  | (k + 11), h => absurd h (by omega)
theorem uw_bnum {k : Nat} (hk : k < 11) (n : Int32) : uw_bnP 1 k n ∨ (uw_bnP 0 k n ∧ uw_gn k n) :=
  uw_k11 (P := fun k => uw_bnP 1 k n ∨ (uw_bnP 0 k n ∧ uw_gn k n)) (uw_bn0 n) (uw_bn1 n) (uw_bn2 n) (uw_bn3 n) (uw_bn4 n) (uw_bn5 n) (uw_bn6 n) (uw_bn7 n) (uw_bn8 n) (uw_bn9 n) (uw_bn10 n) k hk
def uw_nr (k : Nat) (r : Int32) : Int32 := if 1 ≤ k ∧ k ≤ 6 then r else 0
def uw_nn (k : Nat) (n : Int32) : Int32 := if (1 ≤ k ∧ k ≤ 4) ∨ k = 7 ∨ k = 8 ∨ k = 10 then n else 0
def uw_s29 (k : Nat) : Prop := ∀ (C : Nat → Int32) (A : Nat → Nat → Int32) (r n x : Int32) (C' : Nat → Int32) (A' : Nat → Nat → Int32) (post : Int32 → SX → Prop), uw_bnP 0 k n → ¬ (C 0) = 20 → (∀ q : Int32 → SX → Prop, q x (XS C' A') → wpX_make q (XS C A) (nI k) (uw_nr k r) (uw_nn k n) 0) → post x (XS C' A') → wX_simple_29 post (nI k) r n (C 0) (C 1) (C 2) (C 3) (C 4) (C 5) (C 6) (C 7) (C 8) (C 9) (C 10) (C 11) (C 12) (C 13) (C 14) (C 15) (C 16) (C 17) (C 18) (A 0) (A 1) (A 2) (A 3) (A 4) (A 5) (A 6) (A 7) (A 8) (A 9) (A 10) (A 11) (A 12) (A 13) (A 14) (A 15) (A 16) (A 17) (A 18) (A 19) (A 20) (A 21) (A 22) (A 23) (A 24) (A 25) (A 26) (A 27) (A 28) (A 29) (A 30) (A 31) (A 32) (A 33) (A 34) (A 35) (A 36) (A 37)
theorem uw_s29_0 : uw_s29 0 := by
  intro C A r n x C' A' post hb hm h K
  unfold wX_simple_29
  refine hb.1 C A _ (br_t rfl (br_f hm ?_))
  exact br_t (by decide) (br_t (by decide) (br_f (by decide) (br_f (by decide) (br_f (by decide) (br_t rfl (br_t rfl (h _ K)))))))
theorem uw_s29_1 : uw_s29 1 := by
  intro C A r n x C' A' post hb hm h K
  unfold wX_simple_29
  refine hb.1 C A _ (br_t rfl (br_f hm ?_))
  exact br_f (by decide) (br_f (by decide) (br_f (by decide) (br_t (by decide) (br_f (by decide) (br_f (by decide) (h _ K))))))
theorem uw_s29_2 : uw_s29 2 := by
  intro C A r n x C' A' post hb hm h K
  unfold wX_simple_29
  refine hb.1 C A _ (br_t rfl (br_f hm ?_))
  exact br_f (by decide) (br_f (by decide) (br_f (by decide) (br_t (by decide) (br_f (by decide) (br_f (by decide) (h _ K))))))
theorem uw_s29_3 : uw_s29 3 := by
  intro C A r n x C' A' post hb hm h K
  unfold wX_simple_29
  refine hb.1 C A _ (br_t rfl (br_f hm ?_))
  exact br_f (by decide) (br_f (by decide) (br_f (by decide) (br_t (by decide) (br_f (by decide) (br_f (by decide) (h _ K))))))
theorem uw_s29_4 : uw_s29 4 := by
  intro C A r n x C' A' post hb hm h K
  unfold wX_simple_29
  refine hb.1 C A _ (br_t rfl (br_f hm ?_))
  exact br_f (by decide) (br_f (by decide) (br_f (by decide) (br_t (by decide) (br_f (by decide) (br_f (by decide) (h _ K))))))
theorem uw_s29_5 : uw_s29 5 := by
  intro C A r n x C' A' post hb hm h K
  unfold wX_simple_29
  refine hb.1 C A _ (br_t rfl (br_f hm ?_))
  exact br_f (by decide) (br_f (by decide) (br_f (by decide) (br_f (by decide) (br_f (by decide) (br_f (by decide) (br_f (by decide) (br_f (by decide) (br_t rfl (h _ K)))))))))
theorem uw_s29_6 : uw_s29 6 := by
  intro C A r n x C' A' post hb hm h K
  unfold wX_simple_29
  refine hb.1 C A _ (br_t rfl (br_f hm ?_))
  exact br_f (by decide) (br_f (by decide) (br_f (by decide) (br_f (by decide) (br_f (by decide) (br_f (by decide) (br_f (by decide) (br_f (by decide) (br_t rfl (h _ K)))))))))
theorem uw_s29_7 : uw_s29 7 := by
  intro C A r n x C' A' post hb hm h K
  unfold wX_simple_29
  refine hb.1 C A _ (br_t rfl (br_f hm ?_))
  exact br_f (by decide) (br_t (by decide) (br_f (by decide) (br_f (by decide) (br_t (by decide) (br_t rfl (br_f (by decide) (h _ K)))))))
theorem uw_s29_8 : uw_s29 8 := by
  intro C A r n x C' A' post hb hm h K
  unfold wX_simple_29
  refine hb.1 C A _ (br_t rfl (br_f hm ?_))
  exact br_f (by decide) (br_t (by decide) (br_f (by decide) (br_f (by decide) (br_f (by decide) (br_t (by decide) (br_t rfl (br_f (by decide) (h _ K))))))))
theorem uw_s29_9 : uw_s29 9 := by
  intro C A r n x C' A' post hb hm h K
  unfold wX_simple_29
  refine hb.1 C A _ (br_t rfl (br_f hm ?_))
  exact br_f (by decide) (br_t (by decide) (br_f (by decide) (br_f (by decide) (br_f (by decide) (br_f (by decide) (br_f (by decide) (br_t rfl (br_t rfl (h _ K)))))))))
theorem uw_s29_10 : uw_s29 10 := by
  intro C A r n x C' A' post hb hm h K
  unfold wX_simple_29
  refine hb.1 C A _ (br_t rfl (br_f hm ?_))
  exact br_f (by decide) (br_t (by decide) (br_f (by decide) (br_f (by decide) (br_f (by decide) (br_f (by decide) (br_t (by decide) (br_t rfl (br_f (by decide) (h _ K)))))))))
theorem uw_s29_all {k : Nat} (hk : k < 11) : uw_s29 k := uw_k11 (P := uw_s29) uw_s29_0 uw_s29_1 uw_s29_2 uw_s29_3 uw_s29_4 uw_s29_5 uw_s29_6 uw_s29_7 uw_s29_8 uw_s29_9 uw_s29_10 k hk
end
section
/-! jumps, what a compiled program is, and the relation -/
def uw_JT (A : Nat → Nat → Int32) : Nat → Nat → Nat → Prop
  | 0 => fun pc t => pc = t
  | j + 1 => fun pc t => pc = t ∨ ((A 9) pc = nI 9 ∧ ∃ l q, l < 128 ∧ (A 10) pc = nI l ∧ q < 360 ∧ (A 13) l = nI q ∧ uw_JT A j q t)
def uw_SH (F A : Nat → Nat → Int32) (E : Nat) : Prop := ∀ l q j t, q ≤ E → (F 13) l = nI q → uw_JT F j q t → ¬ (F 9) t = nI 9 → ∃ q', q' ≤ E ∧ (A 13) l = nI q' ∧ uw_JT A j q' t
def uw_sp (i x : Nat) : Prop := (i < 5 ∧ x < 60) ∨ (i = 5 ∧ x < 3) ∨ (9 ≤ i ∧ i ≤ 12) ∨ (14 ≤ i ∧ i ≤ 21)
def uw_PK (F : Nat → Nat → Int32) (M : Nat → Bool) (p el a e z N rg E : Nat) : Prop := ∃ g g' k' n, z < 20 ∧ (F 5) p = nI (z + 1) ∧ (F 12) p = nI a ∧ e ≤ E ∧ uw_CC F M p el N n [] z a e g g' 0 k' ∧ k' ≤ 10 ∧ g' ≤ rg ∧
  (F 9) e = nI 8 ∧ el < 128 ∧ (F 13) el = nI e ∧ (∀ i, i < g → ∃ y, (F 19) i = nI y ∧ y ≤ a) ∧ (∀ i, g' ≤ i → i < rg → ∃ x, (F 18) i = nI x ∧ e ≤ x ∧ x < 360)
def uw_OK (A : Nat → Nat → Int32) (r : Int32) : Prop := ∃ (F : Nat → Nat → Int32) (M : Nat → Nat → Bool) (el be en sz : Nat → Nat) (N rg E : Nat), r = nI rg ∧ rg ≤ 30 ∧ N ≤ 200 ∧ E < 350 ∧ (∀ i x, uw_sp i x → A i x = F i x) ∧ uw_SH F A E ∧
  (∀ i, i < rg → ∃ x y, (F 18) i = nI x ∧ (F 19) i = nI y ∧ x < 360 ∧ y < 360) ∧ ∀ p, p < 3 → uw_PK F (M p) p (el p) (be p) (en p) (sz p) N rg E
theorem uw_JT_c {A A' : Nat → Nat → Int32} (h9 : ∀ x, (A' 9) x = (A 9) x) (h10 : ∀ x, (A' 10) x = (A 10) x) (h13 : ∀ x, (A' 13) x = (A 13) x) : ∀ j q t, uw_JT A j q t → uw_JT A' j q t := by
  intro j
  induction j with
  | zero => intro q t h; exact h
  | succ j ih =>
    intro q t h
    rcases h with h | ⟨h, l, q', a, b, c, d, e⟩
    · exact Or.inl h
    · exact Or.inr ⟨(h9 _).trans h, l, q', a, (h10 _).trans b, c, (h13 _).trans d, ih _ _ e⟩
theorem uw_OK_c {A A' : Nat → Nat → Int32} {r : Int32} (h : ∀ i x, uw_sp i x ∨ i = 13 → A' i x = A i x) (H : uw_OK A r) : uw_OK A' r := by
  obtain ⟨F, M, el, be, en, sz, N, rg, E, h1, h2, h3, hE, h4, h5, h6⟩ := H
  refine ⟨F, M, el, be, en, sz, N, rg, E, h1, h2, h3, hE, fun i x z => (h i x (Or.inl z)).trans (h4 i x z), ?_, h6⟩
  intro l q j t a b c d
  obtain ⟨q', e1, e2, e3⟩ := h5 l q j t a b c d
  exact ⟨q', e1, (h 13 l (Or.inr rfl)).trans e2, uw_JT_c (fun x => h 9 x (Or.inl (Or.inr (Or.inr (Or.inl (by omega)))))) (fun x => h 10 x (Or.inl (Or.inr (Or.inr (Or.inl (by omega)))))) (fun x => h 13 x (Or.inr rfl)) _ _ _ e3⟩
def uw_by (A : Nat → Nat → Int32) (t : Nat) : Prop := uw_B ((A 0) t) ∧ uw_B ((A 1) t) ∧ uw_B ((A 2) t) ∧ uw_B ((A 3) t) ∧ uw_B ((A 4) t)
def uw_RM (C : Nat → Int32) (A : Nat → Nat → Int32) (D : Nat → Int32) (B : Nat → Nat → Int32) : Prop := ∃ m h, m ≤ 20 ∧ (C 0) = nI m ∧ (B 5) 3 = nI m ∧ (C 1) = nI h ∧ (D 0) = nI h ∧ uw_SK A h m ∧ (B 6) = (A 6) ∧
  (∀ x, x < m → uw_AG A B (60 + x) ∧ uw_by A (60 + x)) ∧ (B 7) = (A 7) ∧ (∀ x, x < 20 → ∃ j, (A 7) x = nI j ∧ j + x ≤ 20)
def uw_RP (A B : Nat → Nat → Int32) : Prop := ∀ p, p < 3 → ∃ z, z < 20 ∧ (A 5) p = nI (z + 1) ∧ (B 5) p = nI (z + 1) ∧ uw_TR A (20 * p) 20 0 0 z ∧ ∀ x, x ≤ z → uw_AG A B (20 * p + x) ∧ (B 14) (20 * p + x) = (A 36) (20 * p + x)
def uw_RR (C : Nat → Int32) (A : Nat → Nat → Int32) (D : Nat → Int32) (B : Nat → Nat → Int32) : Prop := (B 8) = (A 31) ∧ (B 13) = (A 32) ∧ (D 6) = (C 14) ∧ (D 7) = (C 15) ∧ (D 8) = (C 16) ∧ (D 10) = (C 17) ∧
  (B 15) = (A 37) ∧ ∃ oc, oc ≤ 300 ∧ (C 18) = nI oc ∧ (D 9) = nI oc
def uw_RC (C : Nat → Int32) (A : Nat → Nat → Int32) : Prop := (C 2) = 0 ∨ (¬ (C 2) = 0 ∧ uw_OK A (C 7))
def uw_RL (C : Nat → Int32) (A : Nat → Nat → Int32) (D : Nat → Int32) (B : Nat → Nat → Int32) : Prop := uw_RM C A D B ∧ uw_RP A B ∧ uw_RR C A D B ∧ uw_RC C A
def i_Rel (k : Nat) (u : SX) (v : SY) : Prop := ∃ (C : Nat → Int32) (A : Nat → Nat → Int32) (D : Nat → Int32) (B : Nat → Nat → Int32), u = XS C A ∧ v = YS D B ∧ uw_RL C A D B
theorem i_up {k : Nat} {u : SX} {v : SY} (h : i_Rel k u v) : i_Rel (k + 4) u v := h
theorem i_vc_depth {k : Nat} {u : SX} {v : SY} (I : i_Rel k u v) (hk : k + 4 ≤ 2048) : wpX_depth (fun r => wpY_depth (fun r' => r' = r ∧ i_Rel (k + 4) u v) v) u := by
  obtain ⟨C, A, D, B, rfl, rfl, R⟩ := I
  unfold wpX_depth wpY_depth XS YS
  obtain ⟨m, h, _, _, _, h1, h2, _⟩ := R.1
  exact ⟨h2.trans h1.symm, C, A, D, B, rfl, rfl, R⟩
theorem i_vc_outcome {k : Nat} {u : SX} {v : SY} (I : i_Rel k u v) (hk : k + 4 ≤ 2048) : wpX_outcome (fun r => wpY_outcome (fun r' => r' = r ∧ i_Rel (k + 4) u v) v) u := by
  obtain ⟨C, A, D, B, rfl, rfl, R⟩ := I
  unfold wpX_outcome wpY_outcome XS YS
  exact ⟨R.2.2.1.2.2.1, C, A, D, B, rfl, rfl, R⟩
theorem i_vc_thrown {k : Nat} {u : SX} {v : SY} (I : i_Rel k u v) (hk : k + 4 ≤ 2048) : wpX_thrown (fun r => wpY_thrown (fun r' => r' = r ∧ i_Rel (k + 4) u v) v) u := by
  obtain ⟨C, A, D, B, rfl, rfl, R⟩ := I
  unfold wpX_thrown wpY_thrown XS YS
  exact ⟨R.2.2.1.2.2.2.1, C, A, D, B, rfl, rfl, R⟩
theorem i_vc_steps {k : Nat} {u : SX} {v : SY} (I : i_Rel k u v) (hk : k + 4 ≤ 2048) : wpX_steps (fun r => wpY_steps (fun r' => r' = r ∧ i_Rel (k + 4) u v) v) u := by
  obtain ⟨C, A, D, B, rfl, rfl, R⟩ := I
  unfold wpX_steps wpY_steps XS YS
  exact ⟨R.2.2.1.2.2.2.2.1, C, A, D, B, rfl, rfl, R⟩
theorem i_vc_deepest {k : Nat} {u : SX} {v : SY} (I : i_Rel k u v) (hk : k + 4 ≤ 2048) : wpX_deepest (fun r => wpY_deepest (fun r' => r' = r ∧ i_Rel (k + 4) u v) v) u := by
  obtain ⟨C, A, D, B, rfl, rfl, R⟩ := I
  unfold wpX_deepest wpY_deepest XS YS
  exact ⟨R.2.2.1.2.2.2.2.2.1, C, A, D, B, rfl, rfl, R⟩
theorem i_vc_outs {k : Nat} {u : SX} {v : SY} (I : i_Rel k u v) (hk : k + 4 ≤ 2048) : wpX_outs (fun r => wpY_outs (fun r' => r' = r ∧ i_Rel (k + 4) u v) v) u := by
  obtain ⟨C, A, D, B, rfl, rfl, R⟩ := I
  unfold wpX_outs wpY_outs XS YS
  obtain ⟨oc, _, h1, h2⟩ := R.2.2.1.2.2.2.2.2.2.2
  exact ⟨h2.trans h1.symm, C, A, D, B, rfl, rfl, R⟩
theorem i_vc_out {k : Nat} {u : SX} {v : SY} (I : i_Rel k u v) (hk : k + 4 ≤ 2048) (v1 : Int32) : wpX_out (fun r => wpY_out (fun r' => r' = r ∧ i_Rel (k + 4) u v) v v1) u v1 := by
  obtain ⟨C, A, D, B, rfl, rfl, R⟩ := I
  obtain ⟨oc, ho, h1, h2⟩ := R.2.2.1.2.2.2.2.2.2.2
  have hp := R.2.2.1.2.2.2.2.2.2.1
  have G : i_Rel (k + 4) (XS C A) (YS D B) := ⟨C, A, D, B, rfl, rfl, R⟩
  generalize hP : i_Rel (k + 4) (XS C A) (YS D B) = P at G ⊢
  unfold wpX_out wpY_out XS YS
  rcases pk_ix v1 (n := oc) (by omega) with z | z | ⟨j, hj, rfl⟩
  · exact br_t z (br_t z ⟨rfl, G⟩)
  · exact br_c (fun z => br_t z ⟨rfl, G⟩) (fun z' => br_f (by rw [h1]; exact Int32.not_lt.mpr z) (br_f z' (br_f (by rw [h2]; exact Int32.not_lt.mpr z) ⟨rfl, G⟩)))
  · have l : nI j < nI oc := nI_lt hj (by omega)
    have i := vp_in_nI (n := j) (N := 300) (by omega) (by decide)
    exact br_f (nI_pos (by omega)) (br_t (by rw [h1]; exact l) ⟨i, br_f (nI_pos (by omega)) (br_t (by rw [h2]; exact l) ⟨i, by rw [hp], G⟩)⟩)
theorem i_vc_register {k : Nat} {u : SX} {v : SY} (I : i_Rel k u v) (hk : k + 4 ≤ 2048) (v1 : Int32) : wpX_register (fun r => wpY_register (fun r' => r' = r ∧ i_Rel (k + 4) u v) v v1) u v1 := by
  obtain ⟨C, A, D, B, rfl, rfl, R⟩ := I
  have hp := R.2.2.1.2.1
  have G : i_Rel (k + 4) (XS C A) (YS D B) := ⟨C, A, D, B, rfl, rfl, R⟩
  generalize hP : i_Rel (k + 4) (XS C A) (YS D B) = P at G ⊢
  unfold wpX_register wpY_register
  rcases pk_ix v1 (n := 4) (by omega) with z | z | ⟨j, hj, rfl⟩
  · exact uw_xbr1 (Or.inl z) (br_f (by decide) (uw_yir0 (Or.inl z) (br_t rfl ⟨rfl, G⟩)))
  · exact uw_xbr1 (Or.inr z) (br_f (by decide) (uw_yir0 (Or.inr z) (br_t rfl ⟨rfl, G⟩)))
  · have i := vp_in_nI (n := j) (N := 4) (by omega) (by decide)
    exact uw_xbr0 hj (br_t rfl ⟨i, uw_yir1 hj (br_f (by decide) ⟨i, by rw [hp], G⟩)⟩)
theorem i_vc_begun {k : Nat} {u : SX} {v : SY} (I : i_Rel k u v) (hk : k + 4 ≤ 2048) (v1 : Int32) (v2 : Int32) : wpX_begun (fun r => wpY_begun (fun r' => r' = r ∧ i_Rel (k + 4) u v) v v1 v2) u v1 v2 := by
  obtain ⟨C, A, D, B, rfl, rfl, R⟩ := I
  have hp := R.2.1
  have G : i_Rel (k + 4) (XS C A) (YS D B) := ⟨C, A, D, B, rfl, rfl, R⟩
  generalize hP : i_Rel (k + 4) (XS C A) (YS D B) = P at G ⊢
  unfold wpX_begun wpY_begun XS YS
  rcases pk_ix v1 (n := 3) (by omega) with z | z | ⟨p, hp', rfl⟩
  · exact br_t z (br_t z ⟨rfl, G⟩)
  · exact br_c (fun y => br_t y ⟨rfl, G⟩) (fun y => br_t z (br_f y (br_t (Int32.not_le.mp (uw_n3 z)) ⟨rfl, G⟩)))
  · have n1 : ¬ nI p < 0 := nI_pos (by omega)
    have n2 : ¬ (3 : Int32) ≤ nI p := nI_ge (b := 3) hp' (by decide)
    have n3 : ¬ (2 : Int32) < nI p := nI_nlt (a := 2) (b := p) (by omega) (by decide)
    obtain ⟨s, hs, a1, a2, _, a3⟩ := hp p hp'
    have i3 : vp_in (nI p) 3 := vp_in_nI hp' (by decide)
    have i4 : vp_in (nI p) 4 := vp_in_nI (by omega) (by decide)
    have cp : (nI p).toNatClampNeg = p := nI_clamp (by omega)
    rcases pk_ix v2 (n := s + 1) (by omega) with y | y | ⟨j, hj, rfl⟩
    · exact br_f n1 (br_f n2 (br_t y (br_f n1 (br_f n3 (br_t y ⟨rfl, G⟩)))))
    · have l1 : ¬ v2 < (A 5) (nI p).toNatClampNeg := by rw [cp, a1]; exact Int32.not_lt.mpr y
      have l2 : ¬ v2 < (B 5) (nI p).toNatClampNeg := by rw [cp, a2]; exact Int32.not_lt.mpr y
      exact br_f n1 (br_f n2 (br_c (fun x => br_f n1 (br_f n3 (br_t x ⟨rfl, G⟩))) (fun x => ⟨i3, br_f l1 (br_f n1 (br_f n3 (br_f x ⟨i4, br_f l2 ⟨rfl, G⟩⟩)))⟩)))
    · have l1 : nI j < (A 5) (nI p).toNatClampNeg := by rw [cp, a1]; exact nI_lt hj (by omega)
      have l2 : nI j < (B 5) (nI p).toNatClampNeg := by rw [cp, a2]; exact nI_lt hj (by omega)
      have e : (20 : Int32) * nI p + nI j = nI (20 * p + j) := by rw [← nI_add, ← pk_mul]; rfl
      have i5 : vp_in ((20 : Int32) * nI p + nI j) 60 := by rw [e]; exact vp_in_nI (by omega) (by decide)
      have c5 : ((20 : Int32) * nI p + nI j).toNatClampNeg = 20 * p + j := by rw [e]; exact nI_clamp (by omega)
      have n0 : ¬ nI j < 0 := nI_pos (by omega)
      exact br_f n1 (br_f n2 (br_f n0 ⟨i3, br_t l1 ⟨i5, br_f n1 (br_f n3 (br_f n0 ⟨i4, br_t l2 ⟨i5, by rw [c5]; exact (a3 j (by omega)).2, G⟩⟩))⟩⟩))
end
section
/-! simple, loop, join, discard, load -/
theorem uw_al_mk {A : Nat → Nat → Int32} {t q x : Nat} {o r n a b y : Int32} (h : x ≠ t) : uw_al A (uw_mA A t q o r n a b y) x x := by
  refine ⟨?_, ?_, ?_, ?_, ?_⟩
  · show upd (A 0) t o x = _; exact pk_un h
  · show upd (A 1) t r x = _; exact pk_un h
  · show upd (A 2) t n x = _; exact pk_un h
  · show upd (A 3) t a x = _; exact pk_un h
  · show upd (A 4) t b x = _; exact pk_un h
theorem uw_alY_mk {B : Nat → Nat → Int32} {t q x : Nat} {o r n a b y z : Int32} (h : x ≠ t) : uw_alY B (uw_mB B t q o r n a b y z) x x := by
  refine ⟨?_, ?_, ?_, ?_, ?_⟩
  · show upd (B 0) t o x = _; exact pk_un h
  · show upd (B 1) t r x = _; exact pk_un h
  · show upd (B 2) t n x = _; exact pk_un h
  · show upd (B 3) t a x = _; exact pk_un h
  · show upd (B 4) t b x = _; exact pk_un h
theorem uw_RP_c {A A' B B' : Nat → Nat → Int32} (h : ∀ x, x < 60 → uw_al A A' x x) (h' : ∀ x, x < 60 → uw_alY B B' x x) (hs : ∀ p, p < 3 → (A' 5) p = (A 5) p ∧ (B' 5) p = (B 5) p) (hb : (A' 36) = (A 36)) (hb' : (B' 14) = (B 14)) (H : uw_RP A B) : uw_RP A' B' := by
  intro p hp
  obtain ⟨z, hz, a1, a2, a3, a4⟩ := H p hp
  refine ⟨z, hz, (hs p hp).1.trans a1, (hs p hp).2.trans a2, uw_TR_c _ _ _ _ (fun x y => h _ (by omega)) a3, fun x y => ⟨uw_AG_c (h _ (by omega)) (h' _ (by omega)) (a4 x y).1, ?_⟩⟩
  rw [hb, hb']
  exact (a4 x y).2
/-- a statement is made on both sides -/
theorem uw_mk_rel {C : Nat → Int32} {A : Nat → Nat → Int32} {D : Nat → Int32} {B : Nat → Nat → Int32} {m h h' lo : Nat} {o r n a b o' r' n' : Int32} (R : uw_RL C A D B) (hm : (C 0) = nI m) (hm' : m < 20) (hl : h' ≤ h) (hh : (C 1) = nI h) (hhm : h ≤ m)
    (sk : uw_SK A h' lo) (hlo : lo ≤ m)
    (tr : uw_TR (uw_mA A (60 + m) h' o r n a b (nI m)) 60 20 4 lo m) (ag : uw_AG (uw_mA A (60 + m) h' o r n a b (nI m)) (uw_mB B (60 + m) h' o' r' n' a b (nI m) (nI (m + 1))) (60 + m)) (bt : uw_by (uw_mA A (60 + m) h' o r n a b (nI m)) (60 + m)) :
    uw_RL (upd (upd C 1 (nI (h' + 1))) 0 (nI (m + 1))) (uw_mA A (60 + m) h' o r n a b (nI m)) (upd D 0 (nI (h' + 1))) (uw_mB B (60 + m) h' o' r' n' a b (nI m) (nI (m + 1))) := by
  obtain ⟨R1, R2, R3, R4⟩ := R
  obtain ⟨m0, h0, b1, b2, b3, b4, b5, b6, b7, b8, b9, b10⟩ := R1
  have em : m0 = m := (nI_eq (by omega) (by omega)).mp (b2.symm.trans hm)
  subst em
  refine ⟨⟨m0 + 1, h' + 1, by omega, rfl, rfl, rfl, rfl, ⟨lo, m0, rfl, ?_, tr, ?_⟩, ?_, ?_, b9, b10⟩, ?_, ?_, ?_⟩
  · show upd (A 6) h' (nI m0) h' = _; exact pk_us
  · refine uw_SK_c _ _ (fun x z => ?_) (fun x z => uw_al_mk (by omega)) sk
    show upd (A 6) h' (nI m0) x = _; exact pk_un (by omega)
  · show upd (B 6) h' (nI m0) = upd (A 6) h' (nI m0); rw [b7]
  · intro x hx
    rcases Nat.lt_or_ge x m0 with z | z
    · refine ⟨uw_AG_c (uw_al_mk (by omega)) (uw_alY_mk (by omega)) (b8 x z).1, ?_⟩
      obtain ⟨e1, e2, e3, e4, e5⟩ := @uw_al_mk A (60 + m0) h' (60 + x) o r n a b (nI m0) (by omega)
      unfold uw_by
      rw [e1, e2, e3, e4, e5]
      exact (b8 x z).2
    · have : x = m0 := by omega
      subst this; exact ⟨ag, bt⟩
  · refine uw_RP_c (fun x z => uw_al_mk (by omega)) (fun x z => uw_alY_mk (by omega)) (fun p hp => ⟨rfl, ?_⟩) rfl rfl R2
    show upd (B 5) 3 (nI (m0 + 1)) p = _; exact pk_un (by omega)
  · exact R3
  · refine R4.imp (fun z => z) (fun z => ⟨z.1, uw_OK_c (fun i x hx => ?_) z.2⟩)
    unfold uw_mA
    unfold uw_sp at hx
    simp only [uw_ui]
    split
    · omega
    · split
      · rename_i e; subst e; exact pk_un (by omega)
      · split
        · rename_i e; subst e; exact pk_un (by omega)
        · split
          · rename_i e; subst e; exact pk_un (by omega)
          · split
            · rename_i e; subst e; exact pk_un (by omega)
            · split
              · rename_i e; subst e; exact pk_un (by omega)
              · rfl
theorem uw_sk1 {A : Nat → Nat → Int32} {h m : Nat} (hh : 1 ≤ h) (H : uw_SK A h m) : ∃ lo j, m = j + 1 ∧ (A 6) (h - 1) = nI j ∧ j < 20 ∧ lo ≤ j ∧ uw_TR A 60 20 4 lo j ∧ uw_SK A (h - 1) lo := by
  obtain ⟨h, rfl⟩ : ∃ k, h = k + 1 := ⟨h - 1, by omega⟩
  obtain ⟨lo, j, a, b, c, d⟩ := H
  exact ⟨lo, j, a, b, c.1, uw_TR_lo _ _ _ _ c, c, d⟩
theorem uw_uu {a : Nat → Int32} {i : Nat} {x y : Int32} : upd (upd a i x) i y = upd a i y := by
  funext j; unfold upd; by_cases h : j = i <;> simp [h]
theorem uw_mAr {A : Nat → Nat → Int32} {t q : Nat} {o r n a b x : Int32} : (uw_mA A t q o r n a b x) 0 t = o ∧ (uw_mA A t q o r n a b x) 1 t = r ∧ (uw_mA A t q o r n a b x) 2 t = n ∧ (uw_mA A t q o r n a b x) 3 t = a ∧ (uw_mA A t q o r n a b x) 4 t = b := by
  refine ⟨?_, ?_, ?_, ?_, ?_⟩
  · show upd (A 0) t o t = _; exact pk_us
  · show upd (A 1) t r t = _; exact pk_us
  · show upd (A 2) t n t = _; exact pk_us
  · show upd (A 3) t a t = _; exact pk_us
  · show upd (A 4) t b t = _; exact pk_us
theorem uw_by_mk {A : Nat → Nat → Int32} {t q : Nat} {o r n a b x : Int32} (h1 : uw_B o) (h2 : uw_B r) (h3 : uw_B n) (h4 : uw_B a) (h5 : uw_B b) : uw_by (uw_mA A t q o r n a b x) t := by
  obtain ⟨a1, a2, a3, a4, a5⟩ := @uw_mAr A t q o r n a b x
  unfold uw_by
  rw [a1, a2, a3, a4, a5]
  exact ⟨h1, h2, h3, h4, h5⟩
theorem uw_mBr {B : Nat → Nat → Int32} {t q : Nat} {o r n a b x y : Int32} : (uw_mB B t q o r n a b x y) 0 t = o ∧ (uw_mB B t q o r n a b x y) 1 t = r ∧ (uw_mB B t q o r n a b x y) 2 t = n ∧ (uw_mB B t q o r n a b x y) 3 t = a ∧ (uw_mB B t q o r n a b x y) 4 t = b := by
  refine ⟨?_, ?_, ?_, ?_, ?_⟩
  · show upd (B 0) t o t = _; exact pk_us
  · show upd (B 1) t r t = _; exact pk_us
  · show upd (B 2) t n t = _; exact pk_us
  · show upd (B 3) t a t = _; exact pk_us
  · show upd (B 4) t b t = _; exact pk_us
theorem uw_AG_mk {A B : Nat → Nat → Int32} {t q k : Nat} {r n a b x r' n' y : Int32} (hk : k < 16) (hr : (1 ≤ k ∧ k ≤ 6) ∨ k = 12 ∨ k = 13 ∨ k = 15 → r' = r) (hn : (1 ≤ k ∧ k ≤ 4) ∨ k = 7 ∨ k = 8 ∨ k = 10 → n' = n) :
    uw_AG (uw_mA A t q (nI k) r n a b x) (uw_mB B t q (nI (uw_sg k)) r' n' a b x y) t := by
  obtain ⟨a1, a2, a3, a4, a5⟩ := @uw_mAr A t q (nI k) r n a b x
  obtain ⟨b1, b2, b3, b4, b5⟩ := @uw_mBr B t q (nI (uw_sg k)) r' n' a b x y
  exact ⟨b4.trans a4.symm, b5.trans a5.symm, k, hk, a1, b1, fun z => b2.trans ((hr z).trans a2.symm), fun z => b3.trans ((hn z).trans a3.symm)⟩
theorem uw_20 {x : Int32} {m : Nat} (h : x = nI m) (hm : m ≤ 20) : (x = 20 ∧ m = 20) ∨ (¬ x = 20 ∧ m < 20) := by
  subst h
  rcases Nat.lt_or_ge m 20 with z | z
  · right
    refine ⟨fun e => ?_, z⟩
    have := (nI_eq (a := m) (b := 20) (by omega) (by omega)).mp e
    omega
  · left
    have : m = 20 := by omega
    subst this; exact ⟨rfl, rfl⟩
theorem uw_s29o {C : Nat → Int32} {A : Nat → Nat → Int32} {D : Nat → Int32} {B : Nat → Nat → Int32} (R : uw_RL C A D B) {o : Nat} (ho : o < 11) (v2 v3 : Int32) (hreg : (1 ≤ o ∧ o ≤ 6) → ∃ r, r < 4 ∧ v2 = nI r) :
    ∃ x C' A' D' B', uw_RL C' A' D' B' ∧ (∀ post : Int32 → SX → Prop, post x (XS C' A') → wX_simple_29 post (nI o) v2 v3 (C 0) (C 1) (C 2) (C 3) (C 4) (C 5) (C 6) (C 7) (C 8) (C 9) (C 10) (C 11) (C 12) (C 13) (C 14) (C 15) (C 16) (C 17) (C 18) (A 0) (A 1) (A 2) (A 3) (A 4) (A 5) (A 6) (A 7) (A 8) (A 9) (A 10) (A 11) (A 12) (A 13) (A 14) (A 15) (A 16) (A 17) (A 18) (A 19) (A 20) (A 21) (A 22) (A 23) (A 24) (A 25) (A 26) (A 27) (A 28) (A 29) (A 30) (A 31) (A 32) (A 33) (A 34) (A 35) (A 36) (A 37)) ∧ (∀ post : Int32 → SY → Prop, post x (YS D' B') → wY_simple_33 post (nI o) v2 v3 (D 0) (D 1) (D 2) (D 3) (D 4) (D 5) (D 6) (D 7) (D 8) (D 9) (D 10) (B 0) (B 1) (B 2) (B 3) (B 4) (B 5) (B 6) (B 7) (B 8) (B 9) (B 10) (B 11) (B 12) (B 13) (B 14) (B 15)) := by
  rcases uw_bnum ho v3 with bad | ⟨good, gn⟩
  · refine ⟨-1, C, A, D, B, R, fun post K => ?_, fun post K => ?_⟩
    · unfold wX_simple_29; exact bad.1 C A _ (br_f (by decide) K)
    · unfold wY_simple_33; exact bad.2 D B _ (br_f (by decide) K)
  · have R1 := R.1
    obtain ⟨m, h, b1, b2, b3, b4, b5, b6, b7, b8, b9, b10⟩ := R1
    rcases uw_20 b2 b1 with ⟨e, em⟩ | ⟨e, em⟩
    · refine ⟨-2, C, A, D, B, R, fun post K => ?_, fun post K => ?_⟩
      · unfold wX_simple_29; exact good.1 C A _ (br_t rfl (br_t e K))
      · unfold wY_simple_33; exact good.2 D B _ (br_t rfl (br_t (by rw [b3, em]; rfl) K))
    · have hle := uw_SK_le _ _ b6
      have hB1 : uw_B (uw_nr o v2) := by
        unfold uw_nr
        split
        · rename_i z; obtain ⟨r, hr, e⟩ := hreg z; rw [e]; exact uw_bn (by omega)
        · exact uw_bn (n := 0) (by omega)
      have hB2 : uw_B (uw_nn o v3) := by
        unfold uw_nn
        split
        · rename_i z
          by_cases z1 : o = 1
          · exact gn.1 z1
          · by_cases z10 : o = 10
            · obtain ⟨j, hj, e⟩ := gn.2.2 z10; rw [e]; exact uw_bn (by omega)
            · obtain ⟨j, hj, e⟩ := gn.2.1 (by omega); rw [e]; exact uw_bn (by omega)
        · exact uw_bn (n := 0) (by omega)
      have ag : uw_AG (uw_mA A (60 + m) h (nI o) (uw_nr o v2) (uw_nn o v3) 0 0 (nI m)) (uw_mB B (60 + m) h (nI (uw_sg o)) v2 v3 0 0 (nI m) (nI (m + 1))) (60 + m) :=
        uw_AG_mk (by omega) (fun z => by unfold uw_nr; rw [if_pos (by omega)]) (fun z => by unfold uw_nn; rw [if_pos (by omega)])
      have es : uw_sg o = o := by unfold uw_sg; rw [if_pos ho]
      rw [es] at ag
      have tr : uw_TR (uw_mA A (60 + m) h (nI o) (uw_nr o v2) (uw_nn o v3) 0 0 (nI m)) 60 (19 + 1) 4 m m := by
        obtain ⟨a1, a2, a3, a4, a5⟩ := @uw_mAr A (60 + m) h (nI o) (uw_nr o v2) (uw_nn o v3) 0 0 (nI m)
        refine ⟨em, Or.inl ⟨rfl, o, ho, a1, a4, a5, by rw [a3]; exact hB2, fun z => ?_, fun z => ?_, fun z => ?_, fun z => ?_⟩⟩
        · obtain ⟨r, hr, e⟩ := hreg z
          refine ⟨r, hr, a2.trans ?_⟩
          unfold uw_nr; rw [if_pos z]; exact e
        · obtain ⟨j, hj, e⟩ := gn.2.1 (Or.inl z)
          refine ⟨j, hj, a3.trans ?_⟩
          unfold uw_nn; rw [if_pos (by omega)]; exact e
        · obtain ⟨j, hj, e⟩ := gn.2.1 (Or.inr z)
          refine ⟨j, hj, by omega, a3.trans ?_⟩
          unfold uw_nn; rw [if_pos (by omega)]; exact e
        · obtain ⟨j, hj, e⟩ := gn.2.2 z
          refine ⟨j, hj, a3.trans ?_⟩
          unfold uw_nn; rw [if_pos (by omega)]; exact e
      refine ⟨nI m, _, _, _, _, uw_mk_rel R b2 em (Nat.le_refl h) b4 hle b6 (Nat.le_refl m) tr ag (uw_by_mk (uw_bn (by omega)) hB1 hB2 (uw_bn (n := 0) (by omega)) (uw_bn (n := 0) (by omega))), fun post K => ?_, fun post K => ?_⟩
      · exact uw_s29_all ho C A v2 v3 (nI m) _ _ post good e (fun q K => uw_xmake (k := 0) b2 b4 em (Nat.zero_le _) hle (by omega) (uw_bn (by omega)) hB1 hB2 rfl rfl (uw_bn (n := 0) (by omega)) (uw_bn (n := 0) (by omega)) K) K
      · unfold wY_simple_33
        refine good.2 D B _ (br_t rfl (br_f (fun z => e (b2.trans (b3.symm.trans z))) ?_))
        exact uw_ymake (D := D) (B := B) b3 b5 em (by omega) K
theorem i_vc_simple {k : Nat} {u : SX} {v : SY} (I : i_Rel k u v) (hk : k + 4 ≤ 2048) (v1 : Int32) (v2 : Int32) (v3 : Int32) : wpX_simple (fun r u' => wpY_simple (fun r' v' => r' = r ∧ i_Rel (k + 4) u' v') v v1 v2 v3) u v1 v2 v3 := by
  obtain ⟨C, A, D, B, rfl, rfl, R⟩ := I
  have G : i_Rel (k + 4) (XS C A) (YS D B) := ⟨C, A, D, B, rfl, rfl, R⟩
  have g10 : ∀ x : Int32, nI 11 ≤ x → (10 : Int32) < x ∧ ¬ x ≤ 10 := by
    intro x hx
    rw [Int32.le_iff_toInt_le] at hx
    have e1 : (nI 11).toInt = 11 := by decide
    have e2 : (10 : Int32).toInt = 10 := by decide
    constructor
    · rw [Int32.lt_iff_toInt_lt]; omega
    · rw [Int32.le_iff_toInt_le]; omega
  rcases pk_ix v1 (n := 11) (by omega) with z | z | ⟨o, ho, rfl⟩
  · unfold wpX_simple wpY_simple
    exact br_t z (br_t z ⟨rfl, G⟩)
  · unfold wpX_simple wpY_simple
    exact br_c (fun y => br_t y ⟨rfl, G⟩) (fun y => br_t (g10 _ z).1 (br_f y (br_f (g10 _ z).2 ⟨rfl, G⟩)))
  · have n0 : ¬ nI o < 0 := nI_pos (by omega)
    have n10 : ¬ (10 : Int32) < nI o := nI_nlt (a := 10) (b := o) (by omega) (by decide)
    have n10' : nI o ≤ (10 : Int32) := nI_le (b := 10) (by omega) (by decide)
    by_cases named : 1 ≤ o ∧ o ≤ 6
    · have n1 : ¬ nI o < (1 : Int32) := nI_nlt (a := o) (b := 1) (by omega) (by omega)
      have n6 : ¬ (6 : Int32) < nI o := nI_nlt (a := 6) (b := o) (by omega) (by decide)
      rcases pk_ix v2 (n := 4) (by omega) with z | z | ⟨r, hr, rfl⟩
      · unfold wpX_simple wpY_simple
        exact br_f n0 (br_f n10 (br_f n1 (br_f n6 (uw_xbr1 (Or.inl z) (br_f (by decide) (br_f n0 (br_t n10' (br_f n1 (br_f n6 (uw_yir0 (Or.inl z) (br_t rfl ⟨rfl, G⟩)))))))))))
      · unfold wpX_simple wpY_simple
        exact br_f n0 (br_f n10 (br_f n1 (br_f n6 (uw_xbr1 (Or.inr z) (br_f (by decide) (br_f n0 (br_t n10' (br_f n1 (br_f n6 (uw_yir0 (Or.inr z) (br_t rfl ⟨rfl, G⟩)))))))))))
      · obtain ⟨x, C', A', D', B', R', hX, hY⟩ := uw_s29o R ho (nI r) v3 (fun _ => ⟨r, hr, rfl⟩)
        have G' : i_Rel (k + 4) (XS C' A') (YS D' B') := ⟨C', A', D', B', rfl, rfl, R'⟩
        unfold wpX_simple wpY_simple
        exact br_f n0 (br_f n10 (br_f n1 (br_f n6 (uw_xbr0 hr (br_t rfl (hX _ (br_f n0 (br_t n10' (br_f n1 (br_f n6 (uw_yir1 hr (br_f (by decide) (hY _ ⟨rfl, G'⟩)))))))))))))
    · obtain ⟨x, C', A', D', B', R', hX, hY⟩ := uw_s29o R ho v2 v3 (fun z => absurd z named)
      have G' : i_Rel (k + 4) (XS C' A') (YS D' B') := ⟨C', A', D', B', rfl, rfl, R'⟩
      unfold wpX_simple wpY_simple
      rcases Nat.lt_or_ge o 1 with z | z
      · have n1 : nI o < (1 : Int32) := nI_lt (b := 1) z (by decide)
        exact br_f n0 (br_f n10 (br_t n1 (hX _ (br_f n0 (br_t n10' (br_t n1 (hY _ ⟨rfl, G'⟩)))))))
      · have n1 : ¬ nI o < (1 : Int32) := nI_nlt (a := o) (b := 1) z (by omega)
        have n6 : (6 : Int32) < nI o := nI_lt (a := 6) (by omega) (by omega)
        exact br_f n0 (br_f n10 (br_f n1 (br_t n6 (hX _ (br_f n0 (br_t n10' (br_f n1 (br_t n6 (hY _ ⟨rfl, G'⟩)))))))))
theorem i_vc_loop {k : Nat} {u : SX} {v : SY} (I : i_Rel k u v) (hk : k + 4 ≤ 2048) (v1 : Int32) : wpX_loop (fun r u' => wpY_loop (fun r' v' => r' = r ∧ i_Rel (k + 4) u' v') v v1) u v1 := by
  obtain ⟨C, A, D, B, rfl, rfl, R⟩ := I
  have G : i_Rel (k + 4) (XS C A) (YS D B) := ⟨C, A, D, B, rfl, rfl, R⟩
  rcases pk_ix v1 (n := 4) (by omega) with z | z | ⟨r, hr, rfl⟩
  · unfold wpX_loop wpY_loop
    exact uw_xbr1 (Or.inl z) (br_f (by decide) (uw_yir0 (Or.inl z) (br_t rfl ⟨rfl, G⟩)))
  · unfold wpX_loop wpY_loop
    exact uw_xbr1 (Or.inr z) (br_f (by decide) (uw_yir0 (Or.inr z) (br_t rfl ⟨rfl, G⟩)))
  · have R1 := R.1
    obtain ⟨m, h, b1, b2, b3, b4, b5, b6, b7, b8, b9, b10⟩ := R1
    have hle := uw_SK_le _ _ b6
    rcases uw_20 b2 b1 with ⟨e, em⟩ | ⟨e, em⟩
    · have e' : (B 5) 3 = 20 := by rw [b3, em]; rfl
      unfold wpX_loop wpY_loop
      exact uw_xbr0 hr (br_t rfl (br_t e (uw_yir1 hr (br_f (by decide) (br_t e' ⟨rfl, G⟩)))))
    · have e' : ¬ (B 5) 3 = 20 := fun z => e (b2.trans (b3.symm.trans z))
      rcases Nat.lt_or_ge h 1 with z | z
      · have l1 : ¬ (1 : Int32) ≤ (C 1) := by rw [b4]; exact nI_ge (b := 1) z (by decide)
        have l2 : ¬ (1 : Int32) ≤ (D 0) := by rw [b5]; exact nI_ge (b := 1) z (by decide)
        unfold wpX_loop wpY_loop
        exact uw_xbr0 hr (br_t rfl (br_f e (br_f l1 (uw_yir1 hr (br_f (by decide) (br_f e' (br_f l2 ⟨rfl, G⟩)))))))
      · have l1 : (1 : Int32) ≤ (C 1) := by rw [b4]; exact nI_le (a := 1) z (by omega)
        have l2 : (1 : Int32) ≤ (D 0) := by rw [b5]; exact nI_le (a := 1) z (by omega)
        obtain ⟨lo, j, c1, c2, c3, c4, c5, c6⟩ := uw_sk1 z b6
        have hpa : nI j = if (1 : Nat) = 0 then 0 else (A 6) (h - 1) := by rw [if_neg (by decide), c2]
        have ag : uw_AG (uw_mA A (60 + m) (h - 1) (nI 15) (nI r) (nI 0) (nI j) (nI 0) (nI m)) (uw_mB B (60 + m) (h - 1) (nI (uw_sg 15)) (nI r) (nI 0) (nI j) (nI 0) (nI m) (nI (m + 1))) (60 + m) :=
          uw_AG_mk (by omega) (fun z => rfl) (fun z => rfl)
        have tr : uw_TR (uw_mA A (60 + m) (h - 1) (nI 15) (nI r) (nI 0) (nI j) (nI 0) (nI m)) 60 (19 + 1) 4 lo m := by
          obtain ⟨a1, a2, a3, a4, a5⟩ := @uw_mAr A (60 + m) (h - 1) (nI 15) (nI r) (nI 0) (nI j) (nI 0) (nI m)
          exact ⟨em, Or.inr (Or.inl ⟨a1, a5, ⟨r, hr, a2⟩, j, c1, a4, uw_TR_w _ _ _ _ _ (by omega) (uw_TR_f _ _ _ _ (uw_TR_c _ _ _ _ (fun x y => uw_al_mk (by omega)) c5) 19 (show j < 19 by omega))⟩)⟩
        have R' := uw_mk_rel R b2 em (Nat.sub_le h 1) b4 hle c6 (by omega) tr ag (uw_by_mk (uw_bn (by omega)) (uw_bn (by omega)) (uw_bn (by omega)) (uw_bn (by omega)) (uw_bn (by omega)))
        have G' := (⟨_, _, _, _, rfl, rfl, R'⟩ : i_Rel (k + 4) _ _)
        unfold wpX_loop wpY_loop
        refine uw_xbr0 hr (br_t rfl (br_f e (br_t l1 (uw_xmake (k := 1) (o := nI 15) (n := nI 0) (pa := nI j) (pb := nI 0) b2 b4 em z hle (by omega) (uw_bn (by omega)) (uw_bn (by omega)) (uw_bn (by omega)) hpa rfl (uw_bn (by omega)) (uw_bn (by omega)) ?_))))
        refine uw_yir1 hr (br_f (by decide) (br_f e' (br_t l2 (nm_r (e' := nI (h - 1)) (by rw [b5]; exact pk_sub (b := 1) z) ⟨vp_in_nI (by omega) (by decide), ?_⟩))))
        have es : (B 6) (nI (h - 1)).toNatClampNeg = nI j := by rw [nI_clamp (by omega), b7, c2]
        rw [es]
        refine uw_ymake (D := upd D 0 (nI (h - 1))) (B := B) (d := h - 1) (o := nI 11) (n := nI 0) (b := nI 0) b3 rfl em (by omega) ?_
        rw [uw_uu]
        exact ⟨rfl, G'⟩
theorem uw_sk2 {A : Nat → Nat → Int32} {h m : Nat} (hh : 2 ≤ h) (H : uw_SK A h m) : ∃ lo q j, m = j + 1 ∧ q < j ∧ (A 6) (h - 2) = nI q ∧ (A 6) (h - 2 + 1) = nI j ∧ j < 20 ∧ lo ≤ q ∧ uw_TR A 60 20 4 lo q ∧ uw_TR A 60 20 4 (q + 1) j ∧ uw_SK A (h - 2) lo := by
  obtain ⟨h, rfl⟩ : ∃ k, h = k + 2 := ⟨h - 2, by omega⟩
  obtain ⟨lo, j, a, b, c, d⟩ := H
  obtain ⟨lo', j', a', b', c', d'⟩ := d
  subst a'
  have := uw_TR_lo _ _ _ _ c
  have := uw_TR_lo _ _ _ _ c'
  exact ⟨lo', j', j, a, by omega, b', b, c.1, by omega, c', c, d'⟩
theorem uw_joino {C : Nat → Int32} {A : Nat → Nat → Int32} {D : Nat → Int32} {B : Nat → Nat → Int32} (R : uw_RL C A D B) {o : Nat} (ho : o < 4) (v2 : Int32) (hreg : (o = 1 ∨ o = 2) → ∃ r, r < 4 ∧ v2 = nI r) :
    ∃ x C' A' D' B', uw_RL C' A' D' B' ∧ (∀ (post : Int32 → SX → Prop) (z : Int32), (o = 1 ∨ o = 2 → ¬ z = 0) → (¬ (o = 1 ∨ o = 2) → z = 0) → post x (XS C' A') → wX_join_39 post (nI o) v2 z (C 0) (C 1) (C 2) (C 3) (C 4) (C 5) (C 6) (C 7) (C 8) (C 9) (C 10) (C 11) (C 12) (C 13) (C 14) (C 15) (C 16) (C 17) (C 18) (A 0) (A 1) (A 2) (A 3) (A 4) (A 5) (A 6) (A 7) (A 8) (A 9) (A 10) (A 11) (A 12) (A 13) (A 14) (A 15) (A 16) (A 17) (A 18) (A 19) (A 20) (A 21) (A 22) (A 23) (A 24) (A 25) (A 26) (A 27) (A 28) (A 29) (A 30) (A 31) (A 32) (A 33) (A 34) (A 35) (A 36) (A 37)) ∧ (∀ post : Int32 → SY → Prop, post x (YS D' B') → wY_join_31 post (nI o) v2 (D 0) (D 1) (D 2) (D 3) (D 4) (D 5) (D 6) (D 7) (D 8) (D 9) (D 10) (B 0) (B 1) (B 2) (B 3) (B 4) (B 5) (B 6) (B 7) (B 8) (B 9) (B 10) (B 11) (B 12) (B 13) (B 14) (B 15)) := by
  have R1 := R.1
  obtain ⟨m, h, b1, b2, b3, b4, b5, b6, b7, b8, b9, b10⟩ := R1
  have hle := uw_SK_le _ _ b6
  rcases uw_20 b2 b1 with ⟨e, em⟩ | ⟨e, em⟩
  · have e' : (B 5) 3 = 20 := by rw [b3, em]; rfl
    exact ⟨-2, C, A, D, B, R, fun post z _ _ K => br_t e K, fun post K => br_t e' K⟩
  · have e' : ¬ (B 5) 3 = 20 := fun z => e (b2.trans (b3.symm.trans z))
    rcases Nat.lt_or_ge h 2 with z | z
    · have l1 : ¬ (2 : Int32) ≤ (C 1) := by rw [b4]; exact nI_ge (b := 2) z (by decide)
      have l2 : ¬ (2 : Int32) ≤ (D 0) := by rw [b5]; exact nI_ge (b := 2) z (by decide)
      exact ⟨-3, C, A, D, B, R, fun post z _ _ K => br_f e (br_f l1 K), fun post K => br_f e' (br_f l2 K)⟩
    · have l1 : (2 : Int32) ≤ (C 1) := by rw [b4]; exact nI_le (a := 2) z (by omega)
      have l2 : (2 : Int32) ≤ (D 0) := by rw [b5]; exact nI_le (a := 2) z (by omega)
      obtain ⟨lo, q, j, c1, c2, c3, c4, c5, c6, c7, c8, c9⟩ := uw_sk2 z b6
      have hB1 : uw_B (if o = 1 ∨ o = 2 then v2 else nI 0) := by
        split
        · rename_i z; obtain ⟨r, hr, e⟩ := hreg z; rw [e]; exact uw_bn (by omega)
        · exact uw_bn (by omega)
      generalize hw : (if o = 1 ∨ o = 2 then v2 else nI 0) = w at hB1
      have hw1 : o = 1 ∨ o = 2 → w = v2 := fun z => by rw [← hw, if_pos z]
      have hpa : nI q = if (2 : Nat) = 0 then 0 else (A 6) (h - 2) := by rw [if_neg (by decide), c3]
      have hpb : nI j = if (2 : Nat) ≤ 1 then 0 else (A 6) (h - 2 + 1) := by rw [if_neg (by decide), c4]
      have ag : uw_AG (uw_mA A (60 + m) (h - 2) (nI (11 + o)) w (nI 0) (nI q) (nI j) (nI m)) (uw_mB B (60 + m) (h - 2) (nI (uw_sg (11 + o))) v2 (nI 0) (nI q) (nI j) (nI m) (nI (m + 1))) (60 + m) :=
        uw_AG_mk (by omega) (fun z => (hw1 (by omega)).symm) (fun z => rfl)
      have es : uw_sg (11 + o) = 12 + o := by unfold uw_sg; rw [if_neg (by omega), if_neg (by omega)]; omega
      rw [es] at ag
      have tr : uw_TR (uw_mA A (60 + m) (h - 2) (nI (11 + o)) w (nI 0) (nI q) (nI j) (nI m)) 60 (19 + 1) 4 lo m := by
        obtain ⟨a1, a2, a3, a4, a5⟩ := @uw_mAr A (60 + m) (h - 2) (nI (11 + o)) w (nI 0) (nI q) (nI j) (nI m)
        refine ⟨em, Or.inr (Or.inr ⟨11 + o, q, j, by omega, by omega, a1, fun z => ?_, c1, c2, a4, a5, uw_TR_f _ _ _ _ (uw_TR_c _ _ _ _ (fun x y => uw_al_mk (by omega)) c7) 19 (show q < 19 by omega), uw_TR_f _ _ _ _ (uw_TR_c _ _ _ _ (fun x y => uw_al_mk (by omega)) c8) 19 (show j < 19 by omega)⟩)⟩
        obtain ⟨r, hr, e⟩ := hreg (by omega)
        exact ⟨r, hr, a2.trans ((hw1 (by omega)).trans e)⟩
      refine ⟨nI m, _, _, _, _, uw_mk_rel R b2 em (Nat.sub_le h 2) b4 hle c9 (by omega) tr ag (uw_by_mk (uw_bn (by omega)) hB1 (uw_bn (by omega)) (uw_bn (by omega)) (uw_bn (by omega))), fun post y hy hy' K => ?_, fun post K => ?_⟩
      · have eo : (11 : Int32) + nI o = nI (11 + o) := by rw [← nI_add]; rfl
        have fin : wX_join_78 post w (nI (11 + o)) (C 0) (C 1) (C 2) (C 3) (C 4) (C 5) (C 6) (C 7) (C 8) (C 9) (C 10) (C 11) (C 12) (C 13) (C 14) (C 15) (C 16) (C 17) (C 18) (A 0) (A 1) (A 2) (A 3) (A 4) (A 5) (A 6) (A 7) (A 8) (A 9) (A 10) (A 11) (A 12) (A 13) (A 14) (A 15) (A 16) (A 17) (A 18) (A 19) (A 20) (A 21) (A 22) (A 23) (A 24) (A 25) (A 26) (A 27) (A 28) (A 29) (A 30) (A 31) (A 32) (A 33) (A 34) (A 35) (A 36) (A 37) := by
          unfold wX_join_78
          exact uw_xmake (C := C) (A := A) (k := 2) (n := nI 0) (pa := nI q) (pb := nI j) b2 b4 em z hle (by omega) (uw_bn (by omega)) hB1 (uw_bn (by omega)) hpa hpb (uw_bn (by omega)) (uw_bn (by omega)) K
        unfold wX_join_39
        rw [eo]
        by_cases n : o = 1 ∨ o = 2
        · have : w = v2 := hw1 n
          rw [this] at fin
          exact br_f e (br_t l1 (br_f (hy n) fin))
        · have : w = 0 := by rw [← hw, if_neg n]; rfl
          rw [this] at fin
          exact br_f e (br_t l1 (br_t (hy' n) fin))
      · have eo : (12 : Int32) + nI o = nI (12 + o) := by rw [← nI_add]; rfl
        unfold wY_join_31
        rw [eo]
        refine br_f e' (br_t l2 (nm_r (e' := nI (h - 2)) (by rw [b5]; exact pk_sub (b := 2) z) ⟨vp_in_nI (by omega) (by decide), by rw [nI_1]; exact vp_in_nI (by omega) (by decide), ?_⟩))
        have e1 : (B 6) (nI (h - 2)).toNatClampNeg = nI q := by rw [nI_clamp (by omega), b7, c3]
        have e2 : (B 6) (nI (h - 2) + 1).toNatClampNeg = nI j := by rw [nI_1, nI_clamp (by omega), b7, c4]
        rw [e1, e2]
        refine uw_ymake (D := upd D 0 (nI (h - 2))) (B := B) (d := h - 2) (n := nI 0) b3 rfl em (by omega) ?_
        rw [uw_uu]
        exact K
theorem i_vc_join {k : Nat} {u : SX} {v : SY} (I : i_Rel k u v) (hk : k + 4 ≤ 2048) (v1 : Int32) (v2 : Int32) : wpX_join (fun r u' => wpY_join (fun r' v' => r' = r ∧ i_Rel (k + 4) u' v') v v1 v2) u v1 v2 := by
  obtain ⟨C, A, D, B, rfl, rfl, R⟩ := I
  have G : i_Rel (k + 4) (XS C A) (YS D B) := ⟨C, A, D, B, rfl, rfl, R⟩
  rcases pk_ix v1 (n := 4) (by omega) with z | z | ⟨o, ho, rfl⟩
  · have n1 : ¬ v1 = 1 := fun e => by rw [e] at z; exact absurd z (by decide)
    have n2 : ¬ v1 = 2 := fun e => by rw [e] at z; exact absurd z (by decide)
    unfold wpX_join wpY_join
    exact br_f n1 (br_f n2 (br_t z (br_t z ⟨rfl, G⟩)))
  · have n1 : ¬ v1 = 1 := fun e => by rw [e] at z; exact absurd z (by decide)
    have n2 : ¬ v1 = 2 := fun e => by rw [e] at z; exact absurd z (by decide)
    unfold wpX_join wpY_join
    exact br_f n1 (br_f n2 (br_c (fun y => br_t y ⟨rfl, G⟩) (fun y => br_t (uw_34 z) (br_f y (br_f (uw_n4 z) ⟨rfl, G⟩)))))
  · have n0 : ¬ nI o < 0 := nI_pos (by omega)
    have n3 : ¬ (3 : Int32) < nI o := nI_nlt (a := 3) (b := o) (by omega) (by decide)
    have n3' : nI o ≤ (3 : Int32) := nI_le (b := 3) (by omega) (by decide)
    by_cases named : o = 1 ∨ o = 2
    · rcases pk_ix v2 (n := 4) (by omega) with z | z | ⟨r, hr, rfl⟩
      · have tail : wX_join_15 (fun r u' => wpY_join (fun r' v' => r' = r ∧ i_Rel (k + 4) u' v') (YS D B) (nI o) v2) (nI o) v2 1 (C 0) (C 1) (C 2) (C 3) (C 4) (C 5) (C 6) (C 7) (C 8) (C 9) (C 10) (C 11) (C 12) (C 13) (C 14) (C 15) (C 16) (C 17) (C 18) (A 0) (A 1) (A 2) (A 3) (A 4) (A 5) (A 6) (A 7) (A 8) (A 9) (A 10) (A 11) (A 12) (A 13) (A 14) (A 15) (A 16) (A 17) (A 18) (A 19) (A 20) (A 21) (A 22) (A 23) (A 24) (A 25) (A 26) (A 27) (A 28) (A 29) (A 30) (A 31) (A 32) (A 33) (A 34) (A 35) (A 36) (A 37) := by
          refine br_f n0 (br_f n3 (br_f (by decide) (uw_xbr1 (C := C) (A := A) (Or.inl z) (br_f (by decide) ?_))))
          unfold wpY_join
          rcases named with rfl | rfl
          · exact br_f n0 (br_t n3' (br_t rfl (uw_yir0 (D := D) (B := B) (Or.inl z) (br_t rfl ⟨rfl, G⟩))))
          · exact br_f n0 (br_t n3' (br_f (by decide) (br_t rfl (uw_yir0 (D := D) (B := B) (Or.inl z) (br_t rfl ⟨rfl, G⟩)))))
        unfold wpX_join
        rcases named with rfl | rfl
        · exact br_t rfl tail
        · exact br_f (by decide) (br_t rfl tail)
      · have tail : wX_join_15 (fun r u' => wpY_join (fun r' v' => r' = r ∧ i_Rel (k + 4) u' v') (YS D B) (nI o) v2) (nI o) v2 1 (C 0) (C 1) (C 2) (C 3) (C 4) (C 5) (C 6) (C 7) (C 8) (C 9) (C 10) (C 11) (C 12) (C 13) (C 14) (C 15) (C 16) (C 17) (C 18) (A 0) (A 1) (A 2) (A 3) (A 4) (A 5) (A 6) (A 7) (A 8) (A 9) (A 10) (A 11) (A 12) (A 13) (A 14) (A 15) (A 16) (A 17) (A 18) (A 19) (A 20) (A 21) (A 22) (A 23) (A 24) (A 25) (A 26) (A 27) (A 28) (A 29) (A 30) (A 31) (A 32) (A 33) (A 34) (A 35) (A 36) (A 37) := by
          refine br_f n0 (br_f n3 (br_f (by decide) (uw_xbr1 (C := C) (A := A) (Or.inr z) (br_f (by decide) ?_))))
          unfold wpY_join
          rcases named with rfl | rfl
          · exact br_f n0 (br_t n3' (br_t rfl (uw_yir0 (D := D) (B := B) (Or.inr z) (br_t rfl ⟨rfl, G⟩))))
          · exact br_f n0 (br_t n3' (br_f (by decide) (br_t rfl (uw_yir0 (D := D) (B := B) (Or.inr z) (br_t rfl ⟨rfl, G⟩)))))
        unfold wpX_join
        rcases named with rfl | rfl
        · exact br_t rfl tail
        · exact br_f (by decide) (br_t rfl tail)
      · obtain ⟨x, C', A', D', B', R', hX, hY⟩ := uw_joino R ho (nI r) (fun _ => ⟨r, hr, rfl⟩)
        have G' : i_Rel (k + 4) (XS C' A') (YS D' B') := ⟨C', A', D', B', rfl, rfl, R'⟩
        have tail : wX_join_15 (fun r_1 u' => wpY_join (fun r' v' => r' = r_1 ∧ i_Rel (k + 4) u' v') (YS D B) (nI o) (nI r)) (nI o) (nI r) 1 (C 0) (C 1) (C 2) (C 3) (C 4) (C 5) (C 6) (C 7) (C 8) (C 9) (C 10) (C 11) (C 12) (C 13) (C 14) (C 15) (C 16) (C 17) (C 18) (A 0) (A 1) (A 2) (A 3) (A 4) (A 5) (A 6) (A 7) (A 8) (A 9) (A 10) (A 11) (A 12) (A 13) (A 14) (A 15) (A 16) (A 17) (A 18) (A 19) (A 20) (A 21) (A 22) (A 23) (A 24) (A 25) (A 26) (A 27) (A 28) (A 29) (A 30) (A 31) (A 32) (A 33) (A 34) (A 35) (A 36) (A 37) := by
          refine br_f n0 (br_f n3 (br_f (by decide) (uw_xbr0 (C := C) (A := A) hr (br_t rfl (hX _ 1 (fun _ => by decide) (fun z => absurd named z) ?_)))))
          unfold wpY_join
          rcases named with rfl | rfl
          · exact br_f n0 (br_t n3' (br_t rfl (uw_yir1 (D := D) (B := B) hr (br_f (by decide) (hY _ ⟨rfl, G'⟩)))))
          · exact br_f n0 (br_t n3' (br_f (by decide) (br_t rfl (uw_yir1 (D := D) (B := B) hr (br_f (by decide) (hY _ ⟨rfl, G'⟩))))))
        unfold wpX_join
        rcases named with rfl | rfl
        · exact br_t rfl tail
        · exact br_f (by decide) (br_t rfl tail)
    · obtain ⟨x, C', A', D', B', R', hX, hY⟩ := uw_joino R ho v2 (fun z => absurd z named)
      have G' : i_Rel (k + 4) (XS C' A') (YS D' B') := ⟨C', A', D', B', rfl, rfl, R'⟩
      have n1 : ¬ nI o = 1 := fun e => named (Or.inl ((nI_eq (b := 1) (by omega) (by omega)).mp e))
      have n2 : ¬ nI o = 2 := fun e => named (Or.inr ((nI_eq (b := 2) (by omega) (by omega)).mp e))
      unfold wpX_join
      refine br_f n1 (br_f n2 (br_f n0 (br_f n3 (br_t rfl (hX _ 0 (fun z => absurd z named) (fun _ => rfl) ?_)))))
      unfold wpY_join
      exact br_f n0 (br_t n3' (br_f n1 (br_f n2 (hY _ ⟨rfl, G'⟩))))
theorem i_vc_discard {k : Nat} {u : SX} {v : SY} (I : i_Rel k u v) (hk : k + 4 ≤ 2048) : wpX_discard (fun r u' => wpY_discard (fun r' v' => r' = r ∧ i_Rel (k + 4) u' v') v) u := by
  obtain ⟨C, A, D, B, rfl, rfl, R⟩ := I
  obtain ⟨⟨m, h, b1, b2, b3, b4, b5, b6, b7, b8, b9, b10⟩, R2, R3, R4⟩ := R
  have G : i_Rel (k + 4) (XS (upd (upd C 1 (nI 0)) 0 (nI 0)) A) (YS (upd D 0 (nI 0)) (uw_st B 5 (upd (B 5) 3 (nI 0)))) := by
    refine ⟨_, _, _, _, rfl, rfl, ⟨0, 0, by omega, rfl, rfl, rfl, rfl, rfl, b7, fun x z => by omega, b9, b10⟩, ?_, R3, R4⟩
    refine uw_RP_c (A := A) (B := B) (fun x z => ⟨rfl, rfl, rfl, rfl, rfl⟩) (fun x z => ⟨rfl, rfl, rfl, rfl, rfl⟩) (fun p hp => ⟨rfl, ?_⟩) rfl rfl R2
    show upd (B 5) 3 (nI 0) p = _; exact pk_un (by omega)
  unfold wpX_discard wpY_discard XS YS
  refine nm_r (e' := upd (B 5) 3 (nI 0)) rfl ⟨b5.trans b4.symm, ?_⟩
  exact G
theorem i_vc_load {k : Nat} {u : SX} {v : SY} (I : i_Rel k u v) (hk : k + 4 ≤ 2048) (v1 : Int32) (v2 : Int32) : wpX_load (fun r u' => wpY_load (fun r' v' => r' = r ∧ i_Rel (k + 4) u' v') v v1 v2) u v1 v2 := by
  obtain ⟨C, A, D, B, rfl, rfl, R⟩ := I
  have G : i_Rel (k + 4) (XS C A) (YS D B) := ⟨C, A, D, B, rfl, rfl, R⟩
  unfold wpX_load wpY_load
  rcases pk_ix v1 (n := 4) (by omega) with z | z | ⟨r, hr, rfl⟩
  · exact uw_xbr1 (Or.inl z) (br_f (by decide) (uw_yir0 (Or.inl z) (br_t rfl ⟨rfl, G⟩)))
  · exact uw_xbr1 (Or.inr z) (br_f (by decide) (uw_yir0 (Or.inr z) (br_t rfl ⟨rfl, G⟩)))
  · obtain ⟨R1, R2, R3, R4⟩ := R
    have i4 : vp_in (nI r) 4 := vp_in_nI hr (by decide)
    have c4 : (nI r).toNatClampNeg = r := nI_clamp (by omega)
    have G' : i_Rel (k + 4) (XS C (uw_st A 31 (upd (A 31) r v2))) (YS D (uw_st B 8 (upd (B 8) r v2))) := by
      refine ⟨_, _, _, _, rfl, rfl, ?_, ?_, ?_, ?_⟩
      · obtain ⟨m, h, b1, b2, b3, b4, b5, b6, b7, b8, b9, b10⟩ := R1
        exact ⟨m, h, b1, b2, b3, b4, b5, uw_SK_c (A := A) _ _ (fun x z => rfl) (fun x z => ⟨rfl, rfl, rfl, rfl, rfl⟩) b6, b7, fun x z => b8 x z, b9, b10⟩
      · exact uw_RP_c (A := A) (B := B) (fun x z => ⟨rfl, rfl, rfl, rfl, rfl⟩) (fun x z => ⟨rfl, rfl, rfl, rfl, rfl⟩) (fun p hp => ⟨rfl, rfl⟩) rfl rfl R2
      · obtain ⟨c1, c2⟩ := R3
        refine ⟨?_, c2⟩
        show upd (B 8) r v2 = upd (A 31) r v2
        rw [c1]
      · refine R4.imp (fun z => z) (fun z => ⟨z.1, uw_OK_c (fun i x hx => ?_) z.2⟩)
        refine congrFun (uw_un ?_) x
        unfold uw_sp at hx
        omega
    refine uw_xbr0 hr (br_t rfl ⟨i4, nm_r (e' := upd (A 31) r v2) (by rw [c4]) (uw_yir1 hr (br_f (by decide) ⟨i4, nm_r (e' := upd (B 8) r v2) (by rw [c4]) ⟨rfl, ?_⟩⟩))⟩)
    exact G'
end
section
/-! looseJump and loopsFit in lockstep, down the interval of a subtree -/
def uw_XJ (post : Int32 → SX → Prop) (C : Nat → Int32) (A : Nat → Nat → Int32) (n : Nat) (z s : Int32) (W : Nat → Int32) : Prop := wX_looseJump_21 post (C 0) (C 1) (C 2) (C 3) (C 4) (C 5) (C 6) (C 7) (C 8) (C 9) (C 10) (C 11) (C 12) (C 13) (C 14) (C 15) (C 16) (C 17) (C 18) n z s (A 0) (A 1) (A 2) (A 3) (A 4) (A 5) (A 6) (W) (A 8) (A 9) (A 10) (A 11) (A 12) (A 13) (A 14) (A 15) (A 16) (A 17) (A 18) (A 19) (A 20) (A 21) (A 22) (A 23) (A 24) (A 25) (A 26) (A 27) (A 28) (A 29) (A 30) (A 31) (A 32) (A 33) (A 34) (A 35) (A 36) (A 37)
def uw_YJ (post : Int32 → SY → Prop) (D : Nat → Int32) (B : Nat → Nat → Int32) (n : Nat) (z s : Int32) (W : Nat → Int32) : Prop := wY_loopsFit_22 post (D 0) (D 1) (D 2) (D 3) (D 4) (D 5) (D 6) (D 7) (D 8) (D 9) (D 10) n z s (B 0) (B 1) (B 2) (B 3) (B 4) (B 5) (B 6) (W) (B 8) (B 9) (B 10) (B 11) (B 12) (B 13) (B 14) (B 15)
section
variable {C : Nat → Int32} {A : Nat → Nat → Int32} {D : Nat → Int32} {B : Nat → Nat → Int32} {W : Nat → Int32}
theorem uw_60 (s : Nat) : (60 : Int32) + nI s = nI (60 + s) := by rw [← nI_add]; rfl
def uw_bad (k nn w : Nat) : Prop := (k = 7 ∨ k = 8) ∧ ¬ nn < w
theorem uw_xj0 {post : Int32 → SX → Prop} {n s k z z' w : Nat} (hs : s < 20) (hk : k < 11) (hk' : (A 0) (60 + s) = nI k) (hw : W s = nI w) (hw' : w ≤ 20) (hz : z ≤ 1)
    (hn : k = 7 ∨ k = 8 → ∃ nn, nn < 4 ∧ (A 2) (60 + s) = nI nn ∧ (z' = 0 ↔ (z = 0 ∧ nn < w))) (hn' : ¬ (k = 7 ∨ k = 8) → z' = z) (hz' : z' ≤ 1) (K : uw_XJ post C A n (nI z') (nI s + (-1)) W) : uw_XJ post C A (n + 1) (nI z) (nI s) W := by
  have i8 : vp_in (nI (60 + s)) 80 := vp_in_nI (by omega) (by decide)
  have i2 : vp_in (nI s) 20 := vp_in_nI hs (by decide)
  have c8 : (nI (60 + s)).toNatClampNeg = 60 + s := nI_clamp (by omega)
  have c2 : (nI s).toNatClampNeg = s := nI_clamp (by omega)
  have k11 : nI k < (11 : Int32) := nI_lt (b := 11) hk (by decide)
  have fin : wX_looseJump_107 post (wX_looseJump_21 post (C 0) (C 1) (C 2) (C 3) (C 4) (C 5) (C 6) (C 7) (C 8) (C 9) (C 10) (C 11) (C 12) (C 13) (C 14) (C 15) (C 16) (C 17) (C 18) n) (nI z) (nI s) (nI (60 + s)) (nI k) (C 0) (C 1) (C 2) (C 3) (C 4) (C 5) (C 6) (C 7) (C 8) (C 9) (C 10) (C 11) (C 12) (C 13) (C 14) (C 15) (C 16) (C 17) (C 18) (A 0) (A 1) (A 2) (A 3) (A 4) (A 5) (A 6) (W) (A 8) (A 9) (A 10) (A 11) (A 12) (A 13) (A 14) (A 15) (A 16) (A 17) (A 18) (A 19) (A 20) (A 21) (A 22) (A 23) (A 24) (A 25) (A 26) (A 27) (A 28) (A 29) (A 30) (A 31) (A 32) (A 33) (A 34) (A 35) (A 36) (A 37) := by
    unfold wX_looseJump_107
    rcases Nat.eq_or_lt_of_le hz with e | e
    · subst e
      have ez : z' = 1 := by
        by_cases h : k = 7 ∨ k = 8
        · obtain ⟨nn, _, _, h3⟩ := hn h; omega
        · exact hn' h
      subst ez
      exact br_f (by decide) (nm_e K)
    · have e0 : z = 0 := by omega
      subst e0
      by_cases h : k = 7 ∨ k = 8
      · obtain ⟨nn, h1, h2, h3⟩ := hn h
        have j125 : wX_looseJump_125 post (wX_looseJump_21 post (C 0) (C 1) (C 2) (C 3) (C 4) (C 5) (C 6) (C 7) (C 8) (C 9) (C 10) (C 11) (C 12) (C 13) (C 14) (C 15) (C 16) (C 17) (C 18) n) (nI s) (nI (60 + s)) (C 0) (C 1) (C 2) (C 3) (C 4) (C 5) (C 6) (C 7) (C 8) (C 9) (C 10) (C 11) (C 12) (C 13) (C 14) (C 15) (C 16) (C 17) (C 18) (A 0) (A 1) (A 2) (A 3) (A 4) (A 5) (A 6) (W) (A 8) (A 9) (A 10) (A 11) (A 12) (A 13) (A 14) (A 15) (A 16) (A 17) (A 18) (A 19) (A 20) (A 21) (A 22) (A 23) (A 24) (A 25) (A 26) (A 27) (A 28) (A 29) (A 30) (A 31) (A 32) (A 33) (A 34) (A 35) (A 36) (A 37) := by
          unfold wX_looseJump_125
          refine ⟨i8, i2, ?_⟩
          rw [c8, c2, h2, hw]
          by_cases l : nn < w
          · have ez : z' = 0 := h3.mpr ⟨rfl, l⟩
            subst ez
            exact br_t (nI_lt l (by omega)) (nm_e K)
          · have ez : z' = 1 := by omega
            subst ez
            exact br_f (nI_nlt (by omega) (by omega)) (nm_e K)
        refine br_t rfl ?_
        rcases h with rfl | rfl
        · exact br_t rfl j125
        · exact br_f (by decide) (br_t rfl j125)
      · have ez := hn' h
        subst ez
        exact br_t rfl (br_f (fun e => h (Or.inl ((nI_eq (b := 7) (by omega) (by decide)).mp e))) (br_f (fun e => h (Or.inr ((nI_eq (b := 8) (by omega) (by decide)).mp e))) (nm_e K)))
  refine br_f (nI_pos (by omega)) (nm_r (uw_60 s) ⟨i8, nm_r (e' := nI k) (by rw [c8]; exact hk') (br_t k11 ?_)⟩)
  unfold wX_looseJump_76
  exact br_t k11 fin
theorem uw_yj0 {post : Int32 → SY → Prop} {n s k z z' w : Nat} (hs : s < 20) (hk : k < 11) (hk' : (B 0) (60 + s) = nI k) (hw : W s = nI w) (hw' : w ≤ 20) (hz : z ≤ 1)
    (hn : k = 7 ∨ k = 8 → ∃ nn, nn < 4 ∧ (B 2) (60 + s) = nI nn ∧ (z' = 0 ↔ (z = 0 ∧ nn < w))) (hn' : ¬ (k = 7 ∨ k = 8) → z' = z) (hz' : z' ≤ 1) (K : uw_YJ post D B n (nI (1 - z')) (nI s + (-1)) W) : uw_YJ post D B (n + 1) (nI (1 - z)) (nI s) W := by
  have i8 : vp_in ((60 : Int32) + nI s) 80 := by rw [uw_60]; exact vp_in_nI (by omega) (by decide)
  have i2 : vp_in (nI s) 20 := vp_in_nI hs (by decide)
  have c8 : ((60 : Int32) + nI s).toNatClampNeg = 60 + s := by rw [uw_60]; exact nI_clamp (by omega)
  have c2 : (nI s).toNatClampNeg = s := nI_clamp (by omega)
  have k11 : nI k ≤ (10 : Int32) := nI_le (b := 10) (by omega) (by decide)
  have k11' : nI k ≤ (11 : Int32) := nI_le (b := 11) (by omega) (by decide)
  have fin : wY_loopsFit_105 post (wY_loopsFit_22 post (D 0) (D 1) (D 2) (D 3) (D 4) (D 5) (D 6) (D 7) (D 8) (D 9) (D 10) n) (nI (1 - z)) (nI s) (nI k) (nI w) (D 0) (D 1) (D 2) (D 3) (D 4) (D 5) (D 6) (D 7) (D 8) (D 9) (D 10) (B 0) (B 1) (B 2) (B 3) (B 4) (B 5) (B 6) (W) (B 8) (B 9) (B 10) (B 11) (B 12) (B 13) (B 14) (B 15) := by
    unfold wY_loopsFit_105
    by_cases h : k = 7 ∨ k = 8
    · obtain ⟨nn, h1, h2, h3⟩ := hn h
      have j119 : wY_loopsFit_119 post (wY_loopsFit_22 post (D 0) (D 1) (D 2) (D 3) (D 4) (D 5) (D 6) (D 7) (D 8) (D 9) (D 10) n) (nI (1 - z)) (nI s) (nI w) (D 0) (D 1) (D 2) (D 3) (D 4) (D 5) (D 6) (D 7) (D 8) (D 9) (D 10) (B 0) (B 1) (B 2) (B 3) (B 4) (B 5) (B 6) (W) (B 8) (B 9) (B 10) (B 11) (B 12) (B 13) (B 14) (B 15) := by
        unfold wY_loopsFit_119
        refine ⟨i8, ?_⟩
        rw [c8, h2]
        by_cases l : nn < w
        · have ez : z' = z := by omega
          subst ez
          exact br_t (nI_lt l (by omega)) (nm_e K)
        · have ez : z' = 1 := by omega
          subst ez
          exact br_f (nI_nlt (by omega) (by omega)) (nm_e K)
      rcases h with rfl | rfl
      · exact br_t rfl j119
      · exact br_f (by decide) (br_t rfl j119)
    · have ez := hn' h
      subst ez
      exact br_f (fun e => h (Or.inl ((nI_eq (b := 7) (by omega) (by decide)).mp e))) (br_f (fun e => h (Or.inr ((nI_eq (b := 8) (by omega) (by decide)).mp e))) (nm_e K))
  refine br_f (nI_pos (by omega)) ⟨i8, nm_r (e' := nI k) (by rw [c8]; exact hk') ⟨i2, nm_r (e' := nI w) (by rw [c2]; exact hw) (br_t k11 ?_)⟩⟩
  unfold wY_loopsFit_82
  exact br_t k11' fin
theorem uw_xj107 {post : Int32 → SX → Prop} {n s k z : Nat} (hk : 11 ≤ k) (hk' : k < 16) (hz : z ≤ 1) (K : uw_XJ post C A n (nI z) (nI s + (-1)) W) : wX_looseJump_107 post (wX_looseJump_21 post (C 0) (C 1) (C 2) (C 3) (C 4) (C 5) (C 6) (C 7) (C 8) (C 9) (C 10) (C 11) (C 12) (C 13) (C 14) (C 15) (C 16) (C 17) (C 18) n) (nI z) (nI s) (nI (60 + s)) (nI k) (C 0) (C 1) (C 2) (C 3) (C 4) (C 5) (C 6) (C 7) (C 8) (C 9) (C 10) (C 11) (C 12) (C 13) (C 14) (C 15) (C 16) (C 17) (C 18) (A 0) (A 1) (A 2) (A 3) (A 4) (A 5) (A 6) (W) (A 8) (A 9) (A 10) (A 11) (A 12) (A 13) (A 14) (A 15) (A 16) (A 17) (A 18) (A 19) (A 20) (A 21) (A 22) (A 23) (A 24) (A 25) (A 26) (A 27) (A 28) (A 29) (A 30) (A 31) (A 32) (A 33) (A 34) (A 35) (A 36) (A 37) := by
  unfold wX_looseJump_107
  rcases Nat.eq_or_lt_of_le hz with e | e
  · subst e
    exact br_f (by decide) (nm_e K)
  · have e0 : z = 0 := by omega
    subst e0
    exact br_t rfl (br_f (fun e => by have := (nI_eq (b := 7) (by omega) (by decide)).mp e; omega) (br_f (fun e => by have := (nI_eq (b := 8) (by omega) (by decide)).mp e; omega) (nm_e K)))
theorem uw_yj105 {post : Int32 → SY → Prop} {n s k : Nat} {z x : Int32} (hk : 11 ≤ k) (hk' : k < 17) (K : uw_YJ post D B n z (nI s + (-1)) W) : wY_loopsFit_105 post (wY_loopsFit_22 post (D 0) (D 1) (D 2) (D 3) (D 4) (D 5) (D 6) (D 7) (D 8) (D 9) (D 10) n) z (nI s) (nI k) x (D 0) (D 1) (D 2) (D 3) (D 4) (D 5) (D 6) (D 7) (D 8) (D 9) (D 10) (B 0) (B 1) (B 2) (B 3) (B 4) (B 5) (B 6) (W) (B 8) (B 9) (B 10) (B 11) (B 12) (B 13) (B 14) (B 15) := by
  unfold wY_loopsFit_105
  exact br_f (fun e => by have := (nI_eq (b := 7) (by omega) (by decide)).mp e; omega) (br_f (fun e => by have := (nI_eq (b := 8) (by omega) (by decide)).mp e; omega) (nm_e K))
theorem uw_xj1 {post : Int32 → SX → Prop} {n s m z w : Nat} (hs : s < 20) (hk' : (A 0) (60 + s) = nI 15) (hw : W s = nI w) (hw' : w ≤ 20) (hz : z ≤ 1) (hm : m < 20) (hp : (A 3) (60 + s) = nI m)
    (K : uw_XJ post C A n (nI z) (nI s + (-1)) (upd W m (nI (w + 1)))) : uw_XJ post C A (n + 1) (nI z) (nI s) W := by
  have i8 : vp_in (nI (60 + s)) 80 := vp_in_nI (by omega) (by decide)
  have i2 : vp_in (nI s) 20 := vp_in_nI hs (by decide)
  have c8 : (nI (60 + s)).toNatClampNeg = 60 + s := nI_clamp (by omega)
  have c2 : (nI s).toNatClampNeg = s := nI_clamp (by omega)
  have fin := uw_xj107 (k := 15) (by omega) (by omega) hz K
  refine br_f (nI_pos (by omega)) (nm_r (uw_60 s) ⟨i8, nm_r (e' := nI 15) (by rw [c8]; exact hk') (br_f (by decide) ⟨i8, i2, br_t rfl ?_⟩)⟩)
  rw [c8, c2, hp, hw]
  unfold wX_looseJump_73
  refine ⟨vp_in_nI hm (by decide), nm_r (e' := upd W m (nI (w + 1))) (by rw [nI_clamp (by omega), nI_1, uw_vbb (uw_bn (by omega))]) ?_⟩
  unfold wX_looseJump_76
  exact br_f (by decide) (br_t rfl fin)
theorem uw_yj1 {post : Int32 → SY → Prop} {n s m w : Nat} {z : Int32} (hs : s < 20) (hk' : (B 0) (60 + s) = nI 11) (hw : W s = nI w) (hw' : w ≤ 20) (hm : m < 20) (hp : (B 3) (60 + s) = nI m)
    (K : uw_YJ post D B n z (nI s + (-1)) (upd W m (nI (w + 1)))) : uw_YJ post D B (n + 1) z (nI s) W := by
  have i8 : vp_in ((60 : Int32) + nI s) 80 := by rw [uw_60]; exact vp_in_nI (by omega) (by decide)
  have i2 : vp_in (nI s) 20 := vp_in_nI hs (by decide)
  have c8 : ((60 : Int32) + nI s).toNatClampNeg = 60 + s := by rw [uw_60]; exact nI_clamp (by omega)
  have c2 : (nI s).toNatClampNeg = s := nI_clamp (by omega)
  have fin := uw_yj105 (k := 11) (x := nI w) (by omega) (by omega) K
  refine br_f (nI_pos (by omega)) ⟨i8, nm_r (e' := nI 11) (by rw [c8]; exact hk') ⟨i2, nm_r (e' := nI w) (by rw [c2]; exact hw) (br_f (by decide) ⟨i8, br_t rfl ?_⟩)⟩⟩
  rw [c8, hp]
  unfold wY_loopsFit_81
  refine ⟨vp_in_nI hm (by decide), nm_r (e' := upd W m (nI (w + 1))) (by rw [nI_clamp (by omega), nI_1]) ?_⟩
  unfold wY_loopsFit_82
  exact br_t (by decide) fin
theorem uw_xj2 {post : Int32 → SX → Prop} {n s k q m z w : Nat} (hs : s < 20) (hk : 11 ≤ k) (hk2 : k < 15) (hk' : (A 0) (60 + s) = nI k) (hw : W s = nI w) (hw' : w ≤ 20) (hz : z ≤ 1) (hq : q < m) (hm : m < s) (hp : (A 3) (60 + s) = nI q) (hp' : (A 4) (60 + s) = nI m)
    (K : uw_XJ post C A n (nI z) (nI s + (-1)) (upd (upd W q (nI w)) m (nI w))) : uw_XJ post C A (n + 1) (nI z) (nI s) W := by
  have i8 : vp_in (nI (60 + s)) 80 := vp_in_nI (by omega) (by decide)
  have i2 : vp_in (nI s) 20 := vp_in_nI hs (by decide)
  have c8 : (nI (60 + s)).toNatClampNeg = 60 + s := nI_clamp (by omega)
  have c2 : (nI s).toNatClampNeg = s := nI_clamp (by omega)
  have n11 : ¬ nI k < (11 : Int32) := nI_nlt (a := k) (b := 11) hk (by omega)
  have n15 : ¬ nI k = (15 : Int32) := fun e => by have := (nI_eq (b := 15) (by omega) (by decide)).mp e; omega
  have fin := uw_xj107 (k := k) (by omega) (by omega) hz K
  refine br_f (nI_pos (by omega)) (nm_r (uw_60 s) ⟨i8, nm_r (e' := nI k) (by rw [c8]; exact hk') (br_f n11 ⟨i8, i2, br_f n15 ?_⟩)⟩)
  rw [c8, c2, hp, hw]
  unfold wX_looseJump_73
  refine ⟨vp_in_nI (by omega) (by decide), nm_r (e' := upd W q (nI w)) (by rw [nI_clamp (by omega), Int32.add_zero, uw_vbb (uw_bn (by omega))]) ?_⟩
  unfold wX_looseJump_76
  refine br_f n11 (br_f n15 ⟨i8, i2, ?_⟩)
  rw [c8, c2, hp', pk_un (by omega), hw]
  refine ⟨vp_in_nI (by omega) (by decide), nm_r (e' := upd (upd W q (nI w)) m (nI w)) (by rw [nI_clamp (by omega), uw_vb (uw_bn (by omega))]) fin⟩
theorem uw_yj2 {post : Int32 → SY → Prop} {n s k q m w : Nat} {z : Int32} (hs : s < 20) (hk : 12 ≤ k) (hk2 : k < 16) (hk' : (B 0) (60 + s) = nI k) (hw : W s = nI w) (hw' : w ≤ 20) (hq : q < m) (hm : m < s) (hp : (B 3) (60 + s) = nI q) (hp' : (B 4) (60 + s) = nI m)
    (K : uw_YJ post D B n z (nI s + (-1)) (upd (upd W q (nI w)) m (nI w))) : uw_YJ post D B (n + 1) z (nI s) W := by
  have i8 : vp_in ((60 : Int32) + nI s) 80 := by rw [uw_60]; exact vp_in_nI (by omega) (by decide)
  have i2 : vp_in (nI s) 20 := vp_in_nI hs (by decide)
  have c8 : ((60 : Int32) + nI s).toNatClampNeg = 60 + s := by rw [uw_60]; exact nI_clamp (by omega)
  have c2 : (nI s).toNatClampNeg = s := nI_clamp (by omega)
  have n10 : ¬ nI k ≤ (10 : Int32) := nI_ge (b := k) (a := 10) (by omega) (by omega)
  have n11 : ¬ nI k ≤ (11 : Int32) := nI_ge (b := k) (a := 11) (by omega) (by omega)
  have n11' : ¬ nI k = (11 : Int32) := fun e => by have := (nI_eq (b := 11) (by omega) (by decide)).mp e; omega
  have fin := uw_yj105 (k := k) (x := nI w) (by omega) (by omega) K
  refine br_f (nI_pos (by omega)) ⟨i8, nm_r (e' := nI k) (by rw [c8]; exact hk') ⟨i2, nm_r (e' := nI w) (by rw [c2]; exact hw) (br_f n10 ⟨i8, br_f n11' ?_⟩)⟩⟩
  rw [c8, hp]
  unfold wY_loopsFit_81
  refine ⟨vp_in_nI (by omega) (by decide), nm_r (e' := upd W q (nI w)) (by rw [nI_clamp (by omega)]) ?_⟩
  unfold wY_loopsFit_82
  refine br_f n11 ⟨i8, ?_⟩
  rw [c8, hp']
  exact ⟨vp_in_nI (by omega) (by decide), nm_r (e' := upd (upd W q (nI w)) m (nI w)) (by rw [nI_clamp (by omega)]) fin⟩
end
def uw_wb (W : Nat → Int32) : Prop := ∀ x, x < 20 → ∃ j, W x = nI j ∧ j + x ≤ 20
theorem uw_wbu {W : Nat → Int32} {q w : Nat} (h : uw_wb W) (hq : w + q ≤ 20) : uw_wb (upd W q (nI w)) := by
  intro x hx
  by_cases e : x = q
  · subst e; exact ⟨w, pk_us, hq⟩
  · rw [pk_un e]; exact h x hx
theorem uw_lj {C : Nat → Int32} {A : Nat → Nat → Int32} {D : Nat → Int32} {B : Nat → Nat → Int32} : ∀ n w' lo s, uw_TR A 60 n w' lo s → (∀ x, x ≤ s → uw_AG A B (60 + x)) → ∀ (W : Nat → Int32) (w z : Nat), W s = nI w → w + s ≤ 20 → uw_wb W → z ≤ 1 →
    ∃ W' z', z' ≤ 1 ∧ (∀ x, (s ≤ x ∨ x < lo) → W' x = W x) ∧ uw_wb W' ∧ (z' = 0 → z = 0 ∧ uw_TR A 60 n w lo s) ∧
      (∀ (post : Int32 → SX → Prop) (i : Nat), uw_XJ post C A i (nI z') (nI lo + (-1)) W' → uw_XJ post C A (i + (s + 1 - lo)) (nI z) (nI s) W) ∧
      (∀ (post : Int32 → SY → Prop) (i : Nat), uw_YJ post D B i (nI (1 - z')) (nI lo + (-1)) W' → uw_YJ post D B (i + (s + 1 - lo)) (nI (1 - z)) (nI s) W) := by
  intro n
  induction n with
  | zero => intro w' lo s h; exact h.elim
  | succ n ih =>
    intro w' lo s h ag W w z hW hw hb hz
    obtain ⟨hs, h⟩ := h
    have g := ag s (Nat.le_refl _)
    obtain ⟨g1, g2, k0, gk, g3, g4, g5, g6⟩ := g
    rcases h with ⟨e, k, hk, hk', h⟩ | ⟨h1, h2, h3, m, e, h4, h⟩ | ⟨k, q, m, h1, h2, h3, h4, e, h5, h6, h7, h8, h9⟩
    · subst e
      have ek : k0 = k := (nI_eq (by omega) (by omega)).mp (g3.symm.trans hk')
      subst ek
      have es : uw_sg k0 = k0 := by unfold uw_sg; rw [if_pos hk]
      rw [es] at g4
      have ef : ∀ i, i + (lo + 1 - lo) = i + 1 := fun i => by omega
      have hlf := h
      obtain ⟨l1, l2, l3, l4, l5, l6, l7⟩ := h
      by_cases br : k0 = 7 ∨ k0 = 8
      · obtain ⟨nn, n1, n2, n3⟩ := l6 br
        have nB : (B 2) (60 + lo) = nI nn := (g6 (by omega)).trans n3
        by_cases ok : z = 0 ∧ nn < w
        · refine ⟨W, 0, by omega, fun x _ => rfl, hb, fun _ => ⟨ok.1, hs, Or.inl ⟨rfl, k0, hk, hk', l1, l2, l3, l4, l5, fun _ => ⟨nn, n1, ok.2, n3⟩, l7⟩⟩, fun post i K => ?_, fun post i K => ?_⟩
          · rw [ef]; exact uw_xj0 hs hk hk' hW (by omega) hz (fun _ => ⟨nn, n1, n3, by omega⟩) (fun y => absurd br y) (by omega) K
          · rw [ef]; exact uw_yj0 hs hk g4 hW (by omega) hz (fun _ => ⟨nn, n1, nB, by omega⟩) (fun y => absurd br y) (by omega) K
        · refine ⟨W, 1, by omega, fun x _ => rfl, hb, fun y => by omega, fun post i K => ?_, fun post i K => ?_⟩
          · rw [ef]; exact uw_xj0 hs hk hk' hW (by omega) hz (fun _ => ⟨nn, n1, n3, by omega⟩) (fun y => absurd br y) (by omega) K
          · rw [ef]; exact uw_yj0 hs hk g4 hW (by omega) hz (fun _ => ⟨nn, n1, nB, by omega⟩) (fun y => absurd br y) (by omega) K
      · refine ⟨W, z, hz, fun x _ => rfl, hb, fun y => ⟨y, hs, Or.inl ⟨rfl, k0, hk, hk', l1, l2, l3, l4, l5, fun y => absurd y br, l7⟩⟩, fun post i K => ?_, fun post i K => ?_⟩
        · rw [ef]; exact uw_xj0 hs hk hk' hW (by omega) hz (fun y => absurd y br) (fun _ => rfl) hz K
        · rw [ef]; exact uw_yj0 hs hk g4 hW (by omega) hz (fun y => absurd y br) (fun _ => rfl) hz K
    · subst e
      have ek : k0 = 15 := (nI_eq (by omega) (by omega)).mp (g3.symm.trans h1)
      subst ek
      have hlo := uw_TR_lo _ _ _ _ h
      obtain ⟨W', z', a1, a2, a3, a4, a5, a6⟩ := ih _ _ _ h (fun x y => ag x (by omega)) (upd W m (nI (w + 1))) (w + 1) z pk_us (by omega) (uw_wbu hb (by omega)) hz
      have ef : ∀ i, i + (m + 1 + 1 - lo) = (i + (m + 1 - lo)) + 1 := fun i => by omega
      refine ⟨W', z', a1, fun x y => ?_, a3, fun y => ⟨(a4 y).1, hs, Or.inr (Or.inl ⟨h1, h2, h3, m, rfl, h4, (a4 y).2⟩)⟩, fun post i K => ?_, fun post i K => ?_⟩
      · rw [a2 x (by omega)]; exact pk_un (by omega)
      · rw [ef]; refine uw_xj1 hs h1 hW (by omega) hz (by omega) h4 ?_
        rw [pk_m1]; exact a5 post i K
      · rw [ef]; refine uw_yj1 hs g4 hW (by omega) (by omega) (g1.trans h4) ?_
        rw [pk_m1]; exact a6 post i K
    · subst e
      have ek : k0 = k := (nI_eq (by omega) (by omega)).mp (g3.symm.trans h3)
      subst ek
      have es : uw_sg k0 = k0 + 1 := by unfold uw_sg; rw [if_neg (by omega), if_neg (by omega)]
      rw [es] at g4
      have hlo := uw_TR_lo _ _ _ _ h8
      have hlo' := uw_TR_lo _ _ _ _ h9
      obtain ⟨W1, z1, a1, a2, a3, a4, a5, a6⟩ := ih _ _ _ h9 (fun x y => ag x (by omega)) (upd (upd W q (nI w)) m (nI w)) w z pk_us (by omega) (uw_wbu (uw_wbu hb (by omega)) (by omega)) hz
      have eq1 : W1 q = nI w := by rw [a2 q (by omega), pk_un (by omega), pk_us]
      obtain ⟨W2, z2, b1, b2, b3, b4, b5, b6⟩ := ih _ _ _ h8 (fun x y => ag x (by omega)) W1 w z1 eq1 (by omega) a3 a1
      have ef : ∀ i, i + (m + 1 + 1 - lo) = ((i + (q + 1 - lo)) + (m + 1 - (q + 1))) + 1 := fun i => by omega
      refine ⟨W2, z2, b1, fun x y => ?_, b3, fun y => ⟨(a4 (b4 y).1).1, hs, Or.inr (Or.inr ⟨k0, q, m, h1, h2, h3, h4, rfl, h5, h6, h7, (b4 y).2, (a4 (b4 y).1).2⟩)⟩, fun post i K => ?_, fun post i K => ?_⟩
      · rw [b2 x (by omega), a2 x (by omega), pk_un (by omega), pk_un (by omega)]
      · rw [ef]; refine uw_xj2 hs h1 h2 h3 hW (by omega) hz h5 (by omega) h6 h7 ?_
        rw [pk_m1]; refine a5 post _ ?_
        rw [pk_m1]; exact b5 post i K
      · rw [ef]; refine uw_yj2 hs (by omega) (by omega) g4 hW (by omega) h5 (by omega) (g1.trans h6) (g2.trans h7) ?_
        rw [pk_m1]; refine a6 post _ ?_
        rw [pk_m1]; exact b6 post i K
end
section
/-! procedure: the copy, and the call -/
def uw_cp (a : Nat → Int32) (p i : Nat) : Nat → Int32 := fun j => if 20 * p ≤ j ∧ j < 20 * p + i then a (60 + (j - 20 * p)) else a j
def uw_zp (a : Nat → Int32) (p i : Nat) : Nat → Int32 := fun j => if 20 * p ≤ j ∧ j < 20 * p + i then 0 else a j
theorem uw_cp0 (a : Nat → Int32) (p : Nat) : uw_cp a p 0 = a := by
  funext j; unfold uw_cp; rw [if_neg (by omega)]
theorem uw_zp0 (a : Nat → Int32) (p : Nat) : uw_zp a p 0 = a := by
  funext j; unfold uw_zp; rw [if_neg (by omega)]
theorem uw_cpn {a : Nat → Int32} {p i j : Nat} (h : ¬ (20 * p ≤ j ∧ j < 20 * p + i)) : uw_cp a p i j = a j := if_neg h
theorem uw_cpi {a : Nat → Int32} {p i x : Nat} (h : x < i) : uw_cp a p i (20 * p + x) = a (60 + x) := by
  unfold uw_cp; rw [if_pos (by omega)]
  exact congrArg a (by omega)
theorem uw_zpn {a : Nat → Int32} {p i j : Nat} (h : ¬ (20 * p ≤ j ∧ j < 20 * p + i)) : uw_zp a p i j = a j := if_neg h
theorem uw_zpi {a : Nat → Int32} {p i x : Nat} (h : x < i) : uw_zp a p i (20 * p + x) = 0 := by
  unfold uw_zp; rw [if_pos (by omega)]
theorem uw_cps {a : Nat → Int32} {p i : Nat} : upd (uw_cp a p i) (20 * p + i) (a (60 + i)) = uw_cp a p (i + 1) := by
  funext j
  by_cases e : j = 20 * p + i
  · subst e; rw [pk_us, uw_cpi (by omega)]
  · rw [pk_un e]
    unfold uw_cp
    by_cases h : 20 * p ≤ j ∧ j < 20 * p + i
    · rw [if_pos h, if_pos (by omega)]
    · rw [if_neg h, if_neg (by omega)]
theorem uw_zps {a : Nat → Int32} {p i : Nat} : upd (uw_zp a p i) (20 * p + i) 0 = uw_zp a p (i + 1) := by
  funext j
  by_cases e : j = 20 * p + i
  · subst e; rw [pk_us, uw_zpi (by omega)]
  · rw [pk_un e]
    unfold uw_zp
    by_cases h : 20 * p ≤ j ∧ j < 20 * p + i
    · rw [if_pos h, if_pos (by omega)]
    · rw [if_neg h, if_neg (by omega)]
def uw_pA (A : Nat → Nat → Int32) (p m : Nat) : Nat → Nat → Int32 :=
  uw_st (uw_st (uw_st (uw_st (uw_st (uw_st (uw_st A 0 (uw_cp (A 0) p m)) 1 (uw_cp (A 1) p m)) 2 (uw_cp (A 2) p m)) 3 (uw_cp (A 3) p m)) 4 (uw_cp (A 4) p m)) 36 (uw_zp (A 36) p m)) 5 (upd (A 5) p (nI m))
def uw_pB (B : Nat → Nat → Int32) (p m : Nat) : Nat → Nat → Int32 :=
  uw_st (uw_st (uw_st (uw_st (uw_st (uw_st (uw_st B 0 (uw_cp (B 0) p 20)) 1 (uw_cp (B 1) p 20)) 2 (uw_cp (B 2) p 20)) 3 (uw_cp (B 3) p 20)) 4 (uw_cp (B 4) p 20)) 14 (uw_zp (B 14) p 20)) 5 (upd (upd (B 5) p (nI m)) 3 (nI 0))
theorem uw_20p (p i : Nat) : (20 : Int32) * nI p + nI i = nI (20 * p + i) := by rw [← nI_add, ← pk_mul]; rfl
theorem uw_xcopy {C : Nat → Int32} {A : Nat → Nat → Int32} {post : Int32 → SX → Prop} {p m : Nat} (hp : p < 3) (hm : (C 0) = nI m) (hm' : m ≤ 20) (hb : ∀ x, x < m → uw_by A (60 + x))
    (K : post (nI m) (XS (upd (upd (upd C 2 (nI 0)) 1 (nI 0)) 0 (nI 0)) (uw_pA A p m))) : ∀ d i, i + d = m →
    wX_procedure_36 post (nI p) (C 0) (C 1) (C 2) (C 3) (C 4) (C 5) (C 6) (C 7) (C 8) (C 9) (C 10) (C 11) (C 12) (C 13) (C 14) (C 15) (C 16) (C 17) (C 18) (d + 1) (nI i) (uw_cp (A 0) p i) (uw_cp (A 1) p i) (uw_cp (A 2) p i) (uw_cp (A 3) p i) (uw_cp (A 4) p i) (A 5) (A 6) (A 7) (A 8) (A 9) (A 10) (A 11) (A 12) (A 13) (A 14) (A 15) (A 16) (A 17) (A 18) (A 19) (A 20) (A 21) (A 22) (A 23) (A 24) (A 25) (A 26) (A 27) (A 28) (A 29) (A 30) (A 31) (A 32) (A 33) (A 34) (A 35) (uw_zp (A 36) p i) (A 37) := by
  intro d
  induction d with
  | zero =>
    intro i hi
    have e : i = m := by omega
    subst e
    have l : (C 0) ≤ nI i := by rw [hm]; exact nI_le (Nat.le_refl _) (by omega)
    refine br_t l ⟨vp_in_nI hp (by decide), nm_r (e' := upd (A 5) p (nI i)) (by rw [nI_clamp (by omega), hm, uw_vbb (uw_bn (by omega))]) ?_⟩
    unfold wpX_discard
    rw [hm]
    exact K
  | succ d ih =>
    intro i hi
    have l : ¬ (C 0) ≤ nI i := by rw [hm]; exact nI_ge (by omega) (by omega)
    have e1 := uw_20p p i
    have e2 := uw_60 i
    have i8 : vp_in ((60 : Int32) + nI i) 80 := by rw [e2]; exact vp_in_nI (by omega) (by decide)
    have c8 : ((60 : Int32) + nI i).toNatClampNeg = 60 + i := by rw [e2]; exact nI_clamp (by omega)
    have j8 : vp_in (nI (20 * p + i)) 80 := vp_in_nI (by omega) (by decide)
    have j6 : vp_in (nI (20 * p + i)) 60 := vp_in_nI (by omega) (by decide)
    have d8 : (nI (20 * p + i)).toNatClampNeg = 20 * p + i := nI_clamp (by omega)
    obtain ⟨b0, b1, b2, b3, b4⟩ := hb i (by omega)
    have u0 : uw_cp (A 0) p i (60 + i) = A 0 (60 + i) := uw_cpn (by omega)
    have u1 : uw_cp (A 1) p i (60 + i) = A 1 (60 + i) := uw_cpn (by omega)
    have u2 : uw_cp (A 2) p i (60 + i) = A 2 (60 + i) := uw_cpn (by omega)
    have u3 : uw_cp (A 3) p i (60 + i) = A 3 (60 + i) := uw_cpn (by omega)
    have u4 : uw_cp (A 4) p i (60 + i) = A 4 (60 + i) := uw_cpn (by omega)
    have z0 : vp_nar .short 0 = 0 := uw_vs (uw_sn (n := 0) (by omega))
    have K1 := ih (i + 1) (by omega)
    refine br_f l (nm_r (e' := nI (20 * p + i)) e1 ⟨i8, j8, nm_r (e' := uw_cp (A 0) p (i + 1)) (by rw [c8, d8, u0, uw_vb b0, uw_cps]) ⟨i8, j8, nm_r (e' := uw_cp (A 1) p (i + 1)) (by rw [c8, d8, u1, uw_vb b1, uw_cps]) ⟨i8, j8, nm_r (e' := uw_cp (A 2) p (i + 1)) (by rw [c8, d8, u2, uw_vb b2, uw_cps]) ⟨i8, j8, nm_r (e' := uw_cp (A 3) p (i + 1)) (by rw [c8, d8, u3, uw_vb b3, uw_cps]) ⟨i8, j8, nm_r (e' := uw_cp (A 4) p (i + 1)) (by rw [c8, d8, u4, uw_vb b4, uw_cps]) ⟨j6, nm_r (e' := uw_zp (A 36) p (i + 1)) (by rw [d8, z0, uw_zps]) (nm_r (e' := nI (i + 1)) (nI_1 i) K1)⟩⟩⟩⟩⟩⟩)
theorem uw_ycopy {D : Nat → Int32} {B : Nat → Nat → Int32} {post : Int32 → SY → Prop} {p m : Nat} (hp : p < 3)
    (K : post (nI m) (YS (upd D 0 (nI 0)) (uw_pB B p m))) : ∀ d i, i + d = 20 →
    wY_procedure_41 post (nI p) (nI m) (D 0) (D 1) (D 2) (D 3) (D 4) (D 5) (D 6) (D 7) (D 8) (D 9) (D 10) (d + 1) (nI i) (uw_cp (B 0) p i) (uw_cp (B 1) p i) (uw_cp (B 2) p i) (uw_cp (B 3) p i) (uw_cp (B 4) p i) (B 5) (B 6) (B 7) (B 8) (B 9) (B 10) (B 11) (B 12) (B 13) (uw_zp (B 14) p i) (B 15) := by
  intro d
  induction d with
  | zero =>
    intro i hi
    have e : i = 20 := by omega
    subst e
    refine br_t (by decide) ⟨vp_in_nI (by omega) (by decide), nm_r (e' := upd (B 5) p (nI m)) (by rw [nI_clamp (by omega)]) (nm_r (e' := upd (upd (B 5) p (nI m)) 3 (nI 0)) rfl ?_)⟩
    exact K
  | succ d ih =>
    intro i hi
    have l : ¬ (20 : Int32) ≤ nI i := nI_ge (b := 20) (by omega) (by decide)
    have e1 := uw_20p p i
    have e2 := uw_60 i
    have i8 : vp_in ((60 : Int32) + nI i) 80 := by rw [e2]; exact vp_in_nI (by omega) (by decide)
    have c8 : ((60 : Int32) + nI i).toNatClampNeg = 60 + i := by rw [e2]; exact nI_clamp (by omega)
    have j8 : vp_in ((20 : Int32) * nI p + nI i) 80 := by rw [e1]; exact vp_in_nI (by omega) (by decide)
    have j6 : vp_in ((20 : Int32) * nI p + nI i) 60 := by rw [e1]; exact vp_in_nI (by omega) (by decide)
    have d8 : ((20 : Int32) * nI p + nI i).toNatClampNeg = 20 * p + i := by rw [e1]; exact nI_clamp (by omega)
    have u0 : uw_cp (B 0) p i (60 + i) = B 0 (60 + i) := uw_cpn (by omega)
    have u1 : uw_cp (B 1) p i (60 + i) = B 1 (60 + i) := uw_cpn (by omega)
    have u2 : uw_cp (B 2) p i (60 + i) = B 2 (60 + i) := uw_cpn (by omega)
    have u3 : uw_cp (B 3) p i (60 + i) = B 3 (60 + i) := uw_cpn (by omega)
    have u4 : uw_cp (B 4) p i (60 + i) = B 4 (60 + i) := uw_cpn (by omega)
    have K1 := ih (i + 1) (by omega)
    refine br_f l ⟨i8, j8, nm_r (e' := uw_cp (B 0) p (i + 1)) (by rw [c8, d8, u0, uw_cps]) ⟨i8, j8, nm_r (e' := uw_cp (B 1) p (i + 1)) (by rw [c8, d8, u1, uw_cps]) ⟨i8, j8, nm_r (e' := uw_cp (B 2) p (i + 1)) (by rw [c8, d8, u2, uw_cps]) ⟨i8, j8, nm_r (e' := uw_cp (B 3) p (i + 1)) (by rw [c8, d8, u3, uw_cps]) ⟨i8, j8, nm_r (e' := uw_cp (B 4) p (i + 1)) (by rw [c8, d8, u4, uw_cps]) ⟨j6, nm_r (e' := uw_zp (B 14) p (i + 1)) (by rw [d8, uw_zps]) (nm_r (e' := nI (i + 1)) (nI_1 i) K1)⟩⟩⟩⟩⟩⟩
/-- the two checks go to one outcome -/
theorem uw_ljo {C : Nat → Int32} {A : Nat → Nat → Int32} {D : Nat → Int32} {B : Nat → Nat → Int32} {j : Nat} (hm : (C 0) = nI (j + 1)) (hm' : (B 5) 3 = nI (j + 1)) (hj : j < 20) (tr : uw_TR A 60 20 4 0 j) (ag : ∀ x, x ≤ j → uw_AG A B (60 + x)) (hW : (B 7) = (A 7)) (hb : uw_wb (A 7)) :
    ∃ W' z', z' ≤ 1 ∧ uw_wb W' ∧ (z' = 0 → uw_TR A 60 20 0 0 j) ∧ (∀ post : Int32 → SX → Prop, post (nI z') (XS C (uw_st A 7 W')) → wpX_looseJump post (XS C A)) ∧
      (∀ post : Int32 → SY → Prop, post (nI (1 - z')) (YS D (uw_st B 7 W')) → wpY_loopsFit post (YS D B)) := by
  obtain ⟨W', z', a1, a2, a3, a4, a5, a6⟩ := uw_lj (C := C) (D := D) _ _ _ _ tr ag (upd (A 7) j (nI 0)) 0 0 pk_us (by omega) (uw_wbu hb (by omega)) (by omega)
  have nb : ∀ z, z ≤ 1 → narrow .boolean (.int (nI z)) = .int (nI z) := by
    intro z hz
    rcases Nat.eq_or_lt_of_le hz with e | e
    · subst e; exact narrow_b1
    · have : z = 0 := by omega
      subst this; exact narrow_b0
  refine ⟨W', z', a1, a3, fun y => (a4 y).2, fun post K => ?_, fun post K => ?_⟩
  · have e1 : (C 0) - 1 = nI j := by rw [hm]; exact nI_pred j
    have K1 : uw_XJ post C A (1 + (j + 1 - 0)) (nI 0) (nI j) (upd (A 7) j (nI 0)) := a5 post 1 (br_t (by decide) ⟨nb z' a1, K⟩)
    unfold wpX_looseJump XS
    dsimp only
    rw [e1]
    exact ⟨vp_in_nI hj (by decide), nm_r (e' := upd (A 7) j (nI 0)) (by rw [nI_clamp (by omega)]; exact congrArg (upd (A 7) j) (uw_vb (uw_bn (n := 0) (by omega)))) (nm_e ⟨_, K1⟩)⟩
  · have K1 : uw_YJ post D B (1 + (j + 1 - 0)) (nI (1 - 0)) (nI j) (upd (A 7) j (nI 0)) := a6 post 1 (br_t (by decide) ⟨nb (1 - z') (by omega), K⟩)
    unfold wpY_loopsFit YS
    refine nm_r (e' := nI (j + 1)) hm' ?_
    rw [nI_pred]
    exact ⟨vp_in_nI hj (by decide), nm_r (e' := upd (A 7) j (nI 0)) (by rw [nI_clamp (by omega), hW]; rfl) (nm_e ⟨_, K1⟩)⟩
theorem i_vc_procedure {k : Nat} {u : SX} {v : SY} (I : i_Rel k u v) (hk : k + 4 ≤ 2048) (v1 : Int32) : wpX_procedure (fun r u' => wpY_procedure (fun r' v' => r' = r ∧ i_Rel (k + 4) u' v') v v1) u v1 := by
  obtain ⟨C, A, D, B, rfl, rfl, R⟩ := I
  have G : i_Rel (k + 4) (XS C A) (YS D B) := ⟨C, A, D, B, rfl, rfl, R⟩
  rcases pk_ix v1 (n := 3) (by omega) with z | z | ⟨p, hp, rfl⟩
  · unfold wpX_procedure wpY_procedure
    exact br_t z (br_t z ⟨rfl, G⟩)
  · unfold wpX_procedure wpY_procedure
    exact br_c (fun y => br_t y ⟨rfl, G⟩) (fun y => br_f (Int32.not_lt.mpr z) (br_f y (br_f (uw_n3 z) ⟨rfl, G⟩)))
  · have n0 : ¬ nI p < 0 := nI_pos (by omega)
    have n3 : nI p < (3 : Int32) := nI_lt (b := 3) hp (by decide)
    have n2 : nI p ≤ (2 : Int32) := nI_le (b := 2) (by omega) (by decide)
    obtain ⟨⟨m, h, b1, b2, b3, b4, b5, b6, b7, b8, b9, b10⟩, R2, R3, R4⟩ := R
    have hle := uw_SK_le _ _ b6
    by_cases h1 : h = 1
    · subst h1
      obtain ⟨lo, j, e1, e2, e3, e4⟩ := b6
      have elo : lo = 0 := e4
      subst elo e1
      obtain ⟨W', z', a1, a2, a3, a4, a5⟩ := uw_ljo (C := C) (D := D) b2 b3 e3.1 e3 (fun x y => (b8 x (by omega)).1) b9 b10
      have hx1 : (C 1) = 1 := b4
      have hy1 : (D 0) = 1 := b5
      have hj := e3.1
      by_cases ez : z' = 0
      · subst ez
        have tr := a3 rfl
        have G' : i_Rel (k + 4) (XS (upd (upd (upd C 2 (nI 0)) 1 (nI 0)) 0 (nI 0)) (uw_pA (uw_st A 7 W') p (j + 1))) (YS (upd D 0 (nI 0)) (uw_pB (uw_st B 7 W') p (j + 1))) := by
          refine ⟨_, _, _, _, rfl, rfl, ⟨0, 0, by omega, rfl, rfl, rfl, rfl, rfl, b7, fun x z => by omega, rfl, a2⟩, ?_, R3, Or.inl rfl⟩
          intro q hq
          have ha : ∀ x, ¬ (20 * p ≤ x ∧ x < 20 * p + 20) → uw_al A (uw_pA (uw_st A 7 W') p (j + 1)) x x := fun x hx =>
            ⟨uw_cpn (a := A 0) (by omega), uw_cpn (a := A 1) (by omega), uw_cpn (a := A 2) (by omega), uw_cpn (a := A 3) (by omega), uw_cpn (a := A 4) (by omega)⟩
          have hb : ∀ x, ¬ (20 * p ≤ x ∧ x < 20 * p + 20) → uw_alY B (uw_pB (uw_st B 7 W') p (j + 1)) x x := fun x hx =>
            ⟨uw_cpn (a := B 0) hx, uw_cpn (a := B 1) hx, uw_cpn (a := B 2) hx, uw_cpn (a := B 3) hx, uw_cpn (a := B 4) hx⟩
          by_cases eq : q = p
          · subst eq
            have ha' : ∀ x, x ≤ j → uw_al A (uw_pA (uw_st A 7 W') q (j + 1)) (60 + x) (20 * q + x) := fun x hx =>
              ⟨uw_cpi (a := A 0) (by omega), uw_cpi (a := A 1) (by omega), uw_cpi (a := A 2) (by omega), uw_cpi (a := A 3) (by omega), uw_cpi (a := A 4) (by omega)⟩
            have hb' : ∀ x, x ≤ j → uw_alY B (uw_pB (uw_st B 7 W') q (j + 1)) (60 + x) (20 * q + x) := fun x hx =>
              ⟨uw_cpi (a := B 0) (by omega), uw_cpi (a := B 1) (by omega), uw_cpi (a := B 2) (by omega), uw_cpi (a := B 3) (by omega), uw_cpi (a := B 4) (by omega)⟩
            refine ⟨j, hj, ?_, ?_, uw_TR_c _ _ _ _ ha' tr, fun x hx => ⟨uw_AG_c (ha' x hx) (hb' x hx) (b8 x (by omega)).1, ?_⟩⟩
            · show upd (A 5) q (nI (j + 1)) q = _; exact pk_us
            · show upd (upd (B 5) q (nI (j + 1))) 3 (nI 0) q = _; rw [pk_un (by omega)]; exact pk_us
            · show uw_zp (B 14) q 20 (20 * q + x) = uw_zp (A 36) q (j + 1) (20 * q + x)
              rw [uw_zpi (by omega), uw_zpi (by omega)]
          · obtain ⟨y, hy, c1, c2, c3, c4⟩ := R2 q hq
            refine ⟨y, hy, ?_, ?_, uw_TR_c _ _ _ _ (fun x hx => ha _ (by omega)) c3, fun x hx => ⟨uw_AG_c (ha _ (by omega)) (hb _ (by omega)) (c4 x hx).1, ?_⟩⟩
            · show upd (A 5) p (nI (j + 1)) q = _; rw [pk_un eq]; exact c1
            · show upd (upd (B 5) p (nI (j + 1))) 3 (nI 0) q = _; rw [pk_un (by omega), pk_un eq]; exact c2
            · show uw_zp (B 14) p 20 (20 * q + x) = uw_zp (A 36) p (j + 1) (20 * q + x)
              rw [uw_zpn (by omega), uw_zpn (by omega)]; exact (c4 x hx).2
        unfold wpX_procedure
        refine br_f n0 (br_t n3 (br_t hx1 (a4 _ (br_t rfl ⟨(j + 1) + 1, ?_⟩))))
        have KY : wpY_procedure (fun r' v' => r' = nI (j + 1) ∧ i_Rel (k + 4) (XS (upd (upd (upd C 2 (nI 0)) 1 (nI 0)) 0 (nI 0)) (uw_pA (uw_st A 7 W') p (j + 1))) v') (YS D B) (nI p) := by
          unfold wpY_procedure
          refine br_f n0 (br_t n2 (br_t hy1 (a5 _ (br_f (by decide) (nm_r (e' := nI (j + 1)) b3 ⟨20 + 1, ?_⟩)))))
          have L := uw_ycopy (D := D) (B := uw_st B 7 W') (m := j + 1) hp (post := fun r' v' => r' = nI (j + 1) ∧ i_Rel (k + 4) (XS (upd (upd (upd C 2 (nI 0)) 1 (nI 0)) 0 (nI 0)) (uw_pA (uw_st A 7 W') p (j + 1))) v') ⟨rfl, G'⟩ 20 0 (by omega)
          rw [uw_cp0, uw_cp0, uw_cp0, uw_cp0, uw_cp0, uw_zp0] at L
          exact L
        have L := uw_xcopy (C := C) (A := uw_st A 7 W') (post := fun r u' => wpY_procedure (fun r' v' => r' = r ∧ i_Rel (k + 4) u' v') (YS D B) (nI p)) hp b2 b1 (fun x hx => (b8 x hx).2) KY (j + 1) 0 (by omega)
        rw [uw_cp0, uw_cp0, uw_cp0, uw_cp0, uw_cp0, uw_zp0] at L
        exact L
      · have ez1 : z' = 1 := by omega
        subst ez1
        have G' : i_Rel (k + 4) (XS C (uw_st A 7 W')) (YS D (uw_st B 7 W')) := by
          refine ⟨_, _, _, _, rfl, rfl, ⟨j + 1, 1, b1, b2, b3, b4, b5, ⟨0, j, rfl, e2, uw_TR_c (A := A) (b := 60) _ _ _ _ (fun x z => ⟨rfl, rfl, rfl, rfl, rfl⟩) e3, rfl⟩, b7, fun x z => b8 x z, rfl, a2⟩, ?_, R3, ?_⟩
          · exact uw_RP_c (A := A) (B := B) (fun x z => ⟨rfl, rfl, rfl, rfl, rfl⟩) (fun x z => ⟨rfl, rfl, rfl, rfl, rfl⟩) (fun p hp => ⟨rfl, rfl⟩) rfl rfl R2
          · refine R4.imp (fun z => z) (fun z => ⟨z.1, uw_OK_c (fun i x hx => ?_) z.2⟩)
            refine congrFun (uw_un ?_) x
            unfold uw_sp at hx
            omega
        unfold wpX_procedure wpY_procedure
        exact br_f n0 (br_t n3 (br_t hx1 (a4 _ (br_f (by decide) (br_f n0 (br_t n2 (br_t hy1 (a5 _ (br_t rfl ⟨rfl, G'⟩)))))))))
    · have hx1 : ¬ (C 1) = 1 := fun e => h1 ((nI_eq (b := 1) (by omega) (by decide)).mp (b4.symm.trans e))
      have hy1 : ¬ (D 0) = 1 := fun e => h1 ((nI_eq (b := 1) (by omega) (by decide)).mp (b5.symm.trans e))
      unfold wpX_procedure wpY_procedure
      exact br_f n0 (br_t n3 (br_f hx1 (br_f n0 (br_t n2 (br_f hy1 ⟨rfl, G⟩)))))
end
section
/-! the small writers over the counters; what they keep -/
def uw_em (A : Nat → Nat → Int32) (c : Nat) (o x y : Int32) : Nat → Nat → Int32 := uw_st (uw_st (uw_st A 9 (upd (A 9) c o)) 10 (upd (A 10) c x)) 11 (upd (A 11) c y)
def uw_ka (A : Nat → Nat → Int32) (w : Nat) (o x : Int32) : Nat → Nat → Int32 := uw_st (uw_st A 22 (upd (A 22) w o)) 23 (upd (A 23) w x)
def uw_pl (A : Nat → Nat → Int32) (l c : Nat) : Nat → Nat → Int32 := uw_st A 13 (upd (A 13) l (nI c))
def uw_nx (A : Nat → Nat → Int32) (e : Nat) (x y z : Int32) : Nat → Nat → Int32 := uw_st (uw_st (uw_st A 15 (upd (A 15) e x)) 16 (upd (A 16) e y)) 17 (upd (A 17) e z)
def uw_ra (A : Nat → Nat → Int32) (g a c : Nat) (x y : Int32) : Nat → Nat → Int32 := uw_st (uw_st (uw_st (uw_st A 18 (upd (A 18) g (nI a))) 19 (upd (A 19) g (nI c))) 20 (upd (A 20) g x)) 21 (upd (A 21) g y)
section
variable {C : Nat → Int32} {A : Nat → Nat → Int32} {cz lb kt ex rg wk ar : Nat}
theorem uw_cem {post : SX → Prop} {o x y : Int32} (hl : cz < 360) (ho : uw_B o) (hx : uw_S x) (hy : uw_S y) (K : post (XS (uw_cc C (cz + 1) lb kt ex rg wk ar) (uw_em A cz o x y))) : wpX_emit post (XS (uw_cc C cz lb kt ex rg wk ar) A) o x y := by
  refine uw_emit (c := cz) rfl hl ho hx hy ?_
  rw [uw_c3]; exact K
theorem uw_cka {post : SX → Prop} {o x : Int32} (h : wk < 128) (ho : uw_B o) (hx : uw_S x) (K : post (XS (uw_cc C cz lb kt ex rg (wk + 1) ar) (uw_ka A wk o x))) : wpX_ask post (XS (uw_cc C cz lb kt ex rg wk ar) A) o x := by
  refine uw_ask (w := wk) rfl h ho hx ?_
  rw [uw_c8]; exact K
theorem uw_cnl {post : Int32 → SX → Prop} (K : post (nI lb) (XS (uw_cc C cz (lb + 1) kt ex rg wk ar) A)) : wpX_newLabel post (XS (uw_cc C cz lb kt ex rg wk ar) A) := by
  refine uw_newLabel (l := lb) rfl ?_
  rw [uw_c4]; exact K
theorem uw_cpl {post : SX → Prop} {l : Nat} (hl : cz < 32768) (h : l < 128) (K : post (XS (uw_cc C cz lb kt ex rg wk ar) (uw_pl A l cz))) : wpX_place post (XS (uw_cc C cz lb kt ex rg wk ar) A) (nI l) :=
  uw_place (c := cz) rfl hl h K
theorem uw_cnx {post : Int32 → SX → Prop} {x y z : Int32} (h : ex < 200) (hx : uw_B x) (hy : uw_S y) (hz : uw_S z) (K : post (nI ex) (XS (uw_cc C cz lb kt (ex + 1) rg wk ar) (uw_nx A ex x y z))) : wpX_newExit post (XS (uw_cc C cz lb kt ex rg wk ar) A) x y z := by
  refine uw_newExit (e := ex) rfl h hx hy hz ?_
  rw [uw_c6]; exact K
theorem uw_cra {post : SX → Prop} {s a : Nat} {x y : Int32} (h : rg < 30) (hl : cz < 32768) (hs : s < 20) (hx : uw_S x) (hy : uw_B y) (ha : (A 24) s = nI a) (ha' : a < 32768)
    (K : post (XS (uw_cc C cz lb kt ex (rg + 1) wk ar) (uw_ra A rg a cz x y))) : wpX_addRange post (XS (uw_cc C cz lb kt ex rg wk ar) A) (nI s) x y := by
  refine uw_addRange (g := rg) (c := cz) rfl h rfl hl hs hx hy ha ha' ?_
  rw [uw_c7]; exact K
end
section
variable {l0 cz lb kt ex rg wk sx ar : Nat} {A A' : Nat → Nat → Int32}
theorem uw_k_em {c : Nat} {o x y : Int32} (hc : cz ≤ c) (h : uw_KP l0 cz lb kt ex rg wk sx ar A A') : uw_KP l0 cz lb kt ex rg wk sx ar A (uw_em A' c o x y) :=
  uw_ks (uw_ks (uw_ks h (by unfold uw_od; omega)) (by unfold uw_od; omega)) (by unfold uw_od; omega)
theorem uw_k_ka {w : Nat} {o x : Int32} (hc : wk ≤ w) (h : uw_KP l0 cz lb kt ex rg wk sx ar A A') : uw_KP l0 cz lb kt ex rg wk sx ar A (uw_ka A' w o x) :=
  uw_ks (uw_ks h (by unfold uw_od; omega)) (by unfold uw_od; omega)
theorem uw_k_pl {l c : Nat} (hc : l < l0 ∨ lb ≤ l) (h : uw_KP l0 cz lb kt ex rg wk sx ar A A') : uw_KP l0 cz lb kt ex rg wk sx ar A (uw_pl A' l c) :=
  uw_ks h (by unfold uw_od; omega)
theorem uw_k_nx {e : Nat} {x y z : Int32} (hc : ex ≤ e) (h : uw_KP l0 cz lb kt ex rg wk sx ar A A') : uw_KP l0 cz lb kt ex rg wk sx ar A (uw_nx A' e x y z) :=
  uw_ks (uw_ks (uw_ks h (by unfold uw_od; omega)) (by unfold uw_od; omega)) (by unfold uw_od; omega)
theorem uw_k_ra {g a c : Nat} {x y : Int32} (hc : rg ≤ g) (h : uw_KP l0 cz lb kt ex rg wk sx ar A A') : uw_KP l0 cz lb kt ex rg wk sx ar A (uw_ra A' g a c x y) :=
  uw_ks (uw_ks (uw_ks (uw_ks h (by unfold uw_od; omega)) (by unfold uw_od; omega)) (by unfold uw_od; omega)) (by unfold uw_od; omega)
theorem uw_k_so {i s : Nat} {v : Int32} (hi : 24 ≤ i) (hi' : i ≤ 26) (hs : s ≤ sx) (h : uw_KP l0 cz lb kt ex rg wk sx ar A A') : uw_KP l0 cz lb kt ex rg wk sx ar A (uw_st A' i (upd (A' i) s v)) :=
  uw_ks h (by unfold uw_od; omega)
theorem uw_k_an {i x : Nat} {v : Int32} (hi : 27 ≤ i) (hi' : i ≤ 30) (hs : ar ≤ x) (h : uw_KP l0 cz lb kt ex rg wk sx ar A A') : uw_KP l0 cz lb kt ex rg wk sx ar A (uw_st A' i (upd (A' i) x v)) :=
  uw_ks h (by unfold uw_od; omega)
theorem uw_k_bk {x : Nat} {v : Int32} (hs : kt ≤ x) (h : uw_KP l0 cz lb kt ex rg wk sx ar A A') : uw_KP l0 cz lb kt ex rg wk sx ar A (uw_st A' 14 (upd (A' 14) x v)) :=
  uw_ks h (by unfold uw_od; omega)
end
/-! the work loop's cases -/
section
variable {C : Nat → Int32} {A : Nat → Nat → Int32} {cz lb kt ex rg wk ar : Nat} {C' : Nat → Int32} {A' : Nat → Nat → Int32}
theorem uw_w0 {x : Int32} (hw : wk < 128) (h0 : (A 22) wk = nI 0) (ha : (A 23) wk = x) (h : ∀ q : SX → Prop, q (XS C' A') → wpX_writeStatement q (XS (uw_cc C cz lb kt ex rg wk ar) A) x) : uw_RN 1 (uw_cc C cz lb kt ex rg (wk + 1) ar) A C' A' := by
  refine uw_r1 (w := wk) rfl hw (fun post K => ?_)
  have cl : (nI wk).toNatClampNeg = wk := nI_clamp (by omega)
  unfold wpX_workOn XS
  refine nm_r (e' := nI wk) (nI_pred wk) ⟨vp_in_nI hw (by decide), nm_r (e' := nI 0) (by rw [cl]; exact h0) ⟨vp_in_nI hw (by decide), nm_r (e' := x) (by rw [cl]; exact ha) (br_t rfl ?_)⟩⟩
  exact h _ K
theorem uw_w1 {l : Nat} (hw : wk < 128) (h0 : (A 22) wk = nI 1) (ha : (A 23) wk = nI l) (hl : l < 128) (hc : cz < 32768) : uw_RN 1 (uw_cc C cz lb kt ex rg (wk + 1) ar) A (uw_cc C cz lb kt ex rg wk ar) (uw_pl A l cz) := by
  refine uw_r1 (w := wk) rfl hw (fun post K => ?_)
  have cl : (nI wk).toNatClampNeg = wk := nI_clamp (by omega)
  unfold wpX_workOn XS
  refine nm_r (e' := nI wk) (nI_pred wk) ⟨vp_in_nI hw (by decide), nm_r (e' := nI 1) (by rw [cl]; exact h0) ⟨vp_in_nI hw (by decide), nm_r (e' := nI l) (by rw [cl]; exact ha) (br_f (by decide) (br_t rfl ?_))⟩⟩
  exact uw_cpl (C := C) (A := A) (lb := lb) (kt := kt) (ex := ex) (rg := rg) (wk := wk) (ar := ar) hc hl K
theorem uw_w2 {l : Nat} (hw : wk < 128) (h0 : (A 22) wk = nI 2) (ha : (A 23) wk = nI l) (hl : l < 128) (hc : cz < 360) : uw_RN 1 (uw_cc C cz lb kt ex rg (wk + 1) ar) A (uw_cc C (cz + 1) lb kt ex rg wk ar) (uw_em A cz (nI 9) (nI l) (nI 0)) := by
  refine uw_r1 (w := wk) rfl hw (fun post K => ?_)
  have cl : (nI wk).toNatClampNeg = wk := nI_clamp (by omega)
  unfold wpX_workOn XS
  refine nm_r (e' := nI wk) (nI_pred wk) ⟨vp_in_nI hw (by decide), nm_r (e' := nI 2) (by rw [cl]; exact h0) ⟨vp_in_nI hw (by decide), nm_r (e' := nI l) (by rw [cl]; exact ha) (br_f (by decide) (br_f (by decide) (br_t rfl ?_)))⟩⟩
  exact uw_cem (C := C) (A := A) (lb := lb) (kt := kt) (ex := ex) (rg := rg) (wk := wk) (ar := ar) (o := nI 9) (x := nI l) (y := nI 0) hc (uw_bn (by omega)) (uw_sn (by omega)) (uw_sn (by omega)) K
theorem uw_w3 (hw : wk < 128) (h0 : (A 22) wk = nI 3) : uw_RN 1 (uw_cc C cz lb kt ex rg (wk + 1) (ar + 1)) A (uw_cc C cz lb kt ex rg wk ar) A := by
  refine uw_r1 (w := wk) rfl hw (fun post K => ?_)
  have cl : (nI wk).toNatClampNeg = wk := nI_clamp (by omega)
  unfold wpX_workOn XS
  refine nm_r (e' := nI wk) (nI_pred wk) ⟨vp_in_nI hw (by decide), nm_r (e' := nI 3) (by rw [cl]; exact h0) ⟨vp_in_nI hw (by decide), nm_e (br_f (by decide) (br_f (by decide) (br_f (by decide) (br_t rfl ?_))))⟩⟩
  refine nm_r (e' := nI ar) (nI_pred ar) ?_
  exact K
theorem uw_w4 {x : Int32} (hw : wk < 128) (h0 : (A 22) wk = nI 4) (ha : (A 23) wk = x) (h : ∀ q : SX → Prop, q (XS C' A') → wpX_writeCatcher q (XS (uw_cc C cz lb kt ex rg wk ar) A) x) : uw_RN 1 (uw_cc C cz lb kt ex rg (wk + 1) ar) A C' A' := by
  refine uw_r1 (w := wk) rfl hw (fun post K => ?_)
  have cl : (nI wk).toNatClampNeg = wk := nI_clamp (by omega)
  unfold wpX_workOn XS
  refine nm_r (e' := nI wk) (nI_pred wk) ⟨vp_in_nI hw (by decide), nm_r (e' := nI 4) (by rw [cl]; exact h0) ⟨vp_in_nI hw (by decide), nm_r (e' := x) (by rw [cl]; exact ha) (br_f (by decide) (br_f (by decide) (br_f (by decide) (br_f (by decide) (br_t rfl ?_)))))⟩⟩
  exact h _ K
theorem uw_w5 {x : Int32} (hw : wk < 128) (h0 : (A 22) wk = nI 5) (ha : (A 23) wk = x) (h : ∀ q : SX → Prop, q (XS C' A') → wpX_writeBack q (XS (uw_cc C cz lb kt ex rg wk ar) A) x) : uw_RN 1 (uw_cc C cz lb kt ex rg (wk + 1) ar) A C' A' := by
  refine uw_r1 (w := wk) rfl hw (fun post K => ?_)
  have cl : (nI wk).toNatClampNeg = wk := nI_clamp (by omega)
  unfold wpX_workOn XS
  refine nm_r (e' := nI wk) (nI_pred wk) ⟨vp_in_nI hw (by decide), nm_r (e' := nI 5) (by rw [cl]; exact h0) ⟨vp_in_nI hw (by decide), nm_r (e' := x) (by rw [cl]; exact ha) (br_f (by decide) (br_f (by decide) (br_f (by decide) (br_f (by decide) (br_f (by decide) (br_t rfl ?_))))))⟩⟩
  exact h _ K
theorem uw_w6 {s k l : Nat} (hw : wk < 128) (h0 : (A 22) wk = nI 6) (ha : (A 23) wk = nI s) (hs : s < 20) (hk : (A 26) s = nI k) (hk' : k < 128) (hl : (A 25) s = nI l) (hl' : l < 128) (hc : cz < 360) :
    uw_RN 1 (uw_cc C cz lb kt ex rg (wk + 1) ar) A (uw_cc C (cz + 1) lb kt ex rg wk ar) (uw_pl (uw_em A cz (nI 13) (nI k) (nI 0)) l (cz + 1)) := by
  refine uw_r1 (w := wk) rfl hw (fun post K => ?_)
  have cl : (nI wk).toNatClampNeg = wk := nI_clamp (by omega)
  have cs : (nI s).toNatClampNeg = s := nI_clamp (by omega)
  unfold wpX_workOn XS
  refine nm_r (e' := nI wk) (nI_pred wk) ⟨vp_in_nI hw (by decide), nm_r (e' := nI 6) (by rw [cl]; exact h0) ⟨vp_in_nI hw (by decide), nm_r (e' := nI s) (by rw [cl]; exact ha) (br_f (by decide) (br_f (by decide) (br_f (by decide) (br_f (by decide) (br_f (by decide) (br_f (by decide) ⟨vp_in_nI hs (by decide), ?_⟩))))))⟩⟩
  rw [cs, hk]
  refine uw_cem (C := C) (A := A) (lb := lb) (kt := kt) (ex := ex) (rg := rg) (wk := wk) (ar := ar) (o := nI 13) (x := nI k) (y := nI 0) hc (uw_bn (by omega)) (uw_sn (by omega)) (uw_sn (by omega)) ⟨vp_in_nI hs (by decide), ?_⟩
  have e : (uw_em A cz (nI 13) (nI k) (nI 0)) 25 s = nI l := hl
  rw [e]
  exact uw_cpl (C := C) (lb := lb) (kt := kt) (ex := ex) (rg := rg) (wk := wk) (ar := ar) (by omega) hl' K
end
end
section
/-! one step of the work loop at a statement, kind by kind -/
section
variable {C : Nat → Int32} {A : Nat → Nat → Int32} {cz lb kt ex rg wk ar p s : Nat} {C' : Nat → Int32} {A' : Nat → Nat → Int32}
/-- a statement's piece of work is on top -/
def uw_HS (C : Nat → Int32) (A : Nat → Nat → Int32) (p s wk : Nat) : Prop := (C 9) = nI p ∧ p < 3 ∧ s < 20 ∧ wk < 128 ∧ (A 22) wk = nI 0 ∧ (A 23) wk = nI s
theorem uw_t1 {k : Nat} (H : uw_HS C A p s wk) (hc : cz < 360) (hk : (A 0) (20 * p + s) = nI k) (hk' : k < 11)
    (h : ∀ q : SX → Prop, q (XS C' A') → wpX_writeSimple q (XS (uw_cc C (cz + 1) lb kt ex rg wk ar) (uw_em A cz (nI 0) (nI (20 * p + s)) (nI 0))) (nI (20 * p + s))) : uw_RN 1 (uw_cc C cz lb kt ex rg (wk + 1) ar) A C' A' := by
  obtain ⟨hp, hp', hs, hw, h0, ha⟩ := H
  refine uw_w0 hw h0 ha (fun q K => ?_)
  have e1 : (20 : Int32) * (C 9) + nI s = nI (20 * p + s) := by rw [hp]; exact uw_20p p s
  have i8 : vp_in (nI (20 * p + s)) 80 := vp_in_nI (by omega) (by decide)
  have c8 : (nI (20 * p + s)).toNatClampNeg = 20 * p + s := nI_clamp (by omega)
  have n11 : ¬ (11 : Int32) ≤ nI k := nI_ge (b := 11) hk' (by decide)
  unfold wpX_writeStatement XS
  refine nm_r (e' := nI (20 * p + s)) e1 ⟨i8, nm_r (e' := nI k) (by rw [c8]; exact hk) ?_⟩
  refine uw_cem (C := C) (A := A) (lb := lb) (kt := kt) (ex := ex) (rg := rg) (wk := wk) (ar := ar) (o := nI 0) (x := nI (20 * p + s)) (y := nI 0) hc (uw_bn (by omega)) (uw_sn (by omega)) (uw_sn (by omega)) (br_f n11 ?_)
  exact h _ K
theorem uw_t12 (H : uw_HS C A p s wk) (hc : cz < 360) (hk : (A 0) (20 * p + s) = nI 12)
    (h : ∀ q : SX → Prop, q (XS C' A') → wpX_writeIf q (XS (uw_cc C (cz + 1) lb kt ex rg wk ar) (uw_em A cz (nI 0) (nI (20 * p + s)) (nI 0))) (nI (20 * p + s))) : uw_RN 1 (uw_cc C cz lb kt ex rg (wk + 1) ar) A C' A' := by
  obtain ⟨hp, hp', hs, hw, h0, ha⟩ := H
  refine uw_w0 hw h0 ha (fun q K => ?_)
  have e1 : (20 : Int32) * (C 9) + nI s = nI (20 * p + s) := by rw [hp]; exact uw_20p p s
  have i8 : vp_in (nI (20 * p + s)) 80 := vp_in_nI (by omega) (by decide)
  have c8 : (nI (20 * p + s)).toNatClampNeg = 20 * p + s := nI_clamp (by omega)
  unfold wpX_writeStatement XS
  refine nm_r (e' := nI (20 * p + s)) e1 ⟨i8, nm_r (e' := nI 12) (by rw [c8]; exact hk) ?_⟩
  refine uw_cem (C := C) (A := A) (lb := lb) (kt := kt) (ex := ex) (rg := rg) (wk := wk) (ar := ar) (o := nI 0) (x := nI (20 * p + s)) (y := nI 0) hc (uw_bn (by omega)) (uw_sn (by omega)) (uw_sn (by omega)) (br_t (by decide) (br_f (by decide) (br_t rfl ?_)))
  exact h _ K
theorem uw_t15 (H : uw_HS C A p s wk) (hc : cz < 360) (hk : (A 0) (20 * p + s) = nI 15)
    (h : ∀ q : SX → Prop, q (XS C' A') → wpX_writeWhile q (XS (uw_cc C (cz + 1) lb kt ex rg wk ar) (uw_em A cz (nI 0) (nI (20 * p + s)) (nI 0))) (nI (20 * p + s))) : uw_RN 1 (uw_cc C cz lb kt ex rg (wk + 1) ar) A C' A' := by
  obtain ⟨hp, hp', hs, hw, h0, ha⟩ := H
  refine uw_w0 hw h0 ha (fun q K => ?_)
  have e1 : (20 : Int32) * (C 9) + nI s = nI (20 * p + s) := by rw [hp]; exact uw_20p p s
  have i8 : vp_in (nI (20 * p + s)) 80 := vp_in_nI (by omega) (by decide)
  have c8 : (nI (20 * p + s)).toNatClampNeg = 20 * p + s := nI_clamp (by omega)
  unfold wpX_writeStatement XS
  refine nm_r (e' := nI (20 * p + s)) e1 ⟨i8, nm_r (e' := nI 15) (by rw [c8]; exact hk) ?_⟩
  refine uw_cem (C := C) (A := A) (lb := lb) (kt := kt) (ex := ex) (rg := rg) (wk := wk) (ar := ar) (o := nI 0) (x := nI (20 * p + s)) (y := nI 0) hc (uw_bn (by omega)) (uw_sn (by omega)) (uw_sn (by omega)) (br_t (by decide) (br_f (by decide) (br_f (by decide) (br_t rfl ?_))))
  exact h _ K
theorem uw_t13 (H : uw_HS C A p s wk) (hc : cz < 360) (hk : (A 0) (20 * p + s) = nI 13)
    (h : ∀ q : SX → Prop, q (XS C' A') → wpX_writeCatch q (XS (uw_cc C (cz + 1) lb kt ex rg wk ar) (uw_em A cz (nI 0) (nI (20 * p + s)) (nI 0))) (nI s) (nI (20 * p + s))) : uw_RN 1 (uw_cc C cz lb kt ex rg (wk + 1) ar) A C' A' := by
  obtain ⟨hp, hp', hs, hw, h0, ha⟩ := H
  refine uw_w0 hw h0 ha (fun q K => ?_)
  have e1 : (20 : Int32) * (C 9) + nI s = nI (20 * p + s) := by rw [hp]; exact uw_20p p s
  have i8 : vp_in (nI (20 * p + s)) 80 := vp_in_nI (by omega) (by decide)
  have c8 : (nI (20 * p + s)).toNatClampNeg = 20 * p + s := nI_clamp (by omega)
  unfold wpX_writeStatement XS
  refine nm_r (e' := nI (20 * p + s)) e1 ⟨i8, nm_r (e' := nI 13) (by rw [c8]; exact hk) ?_⟩
  refine uw_cem (C := C) (A := A) (lb := lb) (kt := kt) (ex := ex) (rg := rg) (wk := wk) (ar := ar) (o := nI 0) (x := nI (20 * p + s)) (y := nI 0) hc (uw_bn (by omega)) (uw_sn (by omega)) (uw_sn (by omega)) (br_t (by decide) (br_f (by decide) (br_f (by decide) (br_f (by decide) (br_t rfl ?_)))))
  exact h _ K
theorem uw_t14 (H : uw_HS C A p s wk) (hc : cz < 360) (hk : (A 0) (20 * p + s) = nI 14)
    (h : ∀ q : SX → Prop, q (XS C' A') → wpX_writeLastly q (XS (uw_cc C (cz + 1) lb kt ex rg wk ar) (uw_em A cz (nI 0) (nI (20 * p + s)) (nI 0))) (nI s) (nI (20 * p + s))) : uw_RN 1 (uw_cc C cz lb kt ex rg (wk + 1) ar) A C' A' := by
  obtain ⟨hp, hp', hs, hw, h0, ha⟩ := H
  refine uw_w0 hw h0 ha (fun q K => ?_)
  have e1 : (20 : Int32) * (C 9) + nI s = nI (20 * p + s) := by rw [hp]; exact uw_20p p s
  have i8 : vp_in (nI (20 * p + s)) 80 := vp_in_nI (by omega) (by decide)
  have c8 : (nI (20 * p + s)).toNatClampNeg = 20 * p + s := nI_clamp (by omega)
  unfold wpX_writeStatement XS
  refine nm_r (e' := nI (20 * p + s)) e1 ⟨i8, nm_r (e' := nI 14) (by rw [c8]; exact hk) ?_⟩
  refine uw_cem (C := C) (A := A) (lb := lb) (kt := kt) (ex := ex) (rg := rg) (wk := wk) (ar := ar) (o := nI 0) (x := nI (20 * p + s)) (y := nI 0) hc (uw_bn (by omega)) (uw_sn (by omega)) (uw_sn (by omega)) (br_t (by decide) (br_f (by decide) (br_f (by decide) (br_f (by decide) (br_f (by decide) ?_)))))
  exact h _ K
/-- a skip -/
theorem uw_s0 (H : uw_HS C A p s wk) (hc : cz < 360) (hk : (A 0) (20 * p + s) = nI 0) :
    ∃ A1, uw_RN 1 (uw_cc C cz lb kt ex rg (wk + 1) ar) A (uw_cc C (cz + 1) lb kt ex rg wk ar) A1 ∧ uw_KP 0 cz lb kt ex rg wk s ar A A1 ∧ (A1 9) cz = nI 0 ∧ (A1 10) cz = nI (20 * p + s) := by
  have i8 : vp_in (nI (20 * p + s)) 80 := vp_in_nI (by have := H.2.1; have := H.2.2.1; omega) (by decide)
  have c8 : (nI (20 * p + s)).toNatClampNeg = 20 * p + s := nI_clamp (by have := H.2.1; have := H.2.2.1; omega)
  refine ⟨uw_em A cz (nI 0) (nI (20 * p + s)) (nI 0), uw_t1 H hc hk (by omega) (fun q K => ?_), uw_k_em (Nat.le_refl _) uw_kr, pk_us, pk_us⟩
  unfold wpX_writeSimple XS
  refine ⟨i8, nm_r (e' := nI 0) (by rw [c8]; exact hk) (br_f (by decide) (br_f (by decide) (br_f (by decide) (br_f (by decide) (br_t rfl ?_)))))⟩
  exact K
/-- one of set .. throw -/
theorem uw_s1 {k r : Nat} (H : uw_HS C A p s wk) (hc : cz + 1 < 360) (hk : (A 0) (20 * p + s) = nI k) (h1 : 1 ≤ k) (h6 : k ≤ 6) (hr : (A 1) (20 * p + s) = nI r) (hr' : r < 4) (hn : uw_B ((A 2) (20 * p + s))) :
    ∃ A1, uw_RN 1 (uw_cc C cz lb kt ex rg (wk + 1) ar) A (uw_cc C (cz + 2) lb kt ex rg wk ar) A1 ∧ uw_KP 0 cz lb kt ex rg wk s ar A A1 ∧ (A1 9) cz = nI 0 ∧ (A1 10) cz = nI (20 * p + s) ∧
      (A1 9) (cz + 1) = nI k ∧ (A1 10) (cz + 1) = nI r ∧ (A1 11) (cz + 1) = (A 2) (20 * p + s) := by
  have i8 : vp_in (nI (20 * p + s)) 80 := vp_in_nI (by have := H.2.1; have := H.2.2.1; omega) (by decide)
  have c8 : (nI (20 * p + s)).toNatClampNeg = 20 * p + s := nI_clamp (by have := H.2.1; have := H.2.2.1; omega)
  have hne : ∀ b : Nat, b < 20 → b ≠ k → ¬ nI k = nI b := fun b hb hbk e => hbk ((nI_eq (by omega) (by omega)).mp e).symm
  have hS : uw_S ((A 2) (20 * p + s)) := by
    have h8 : ∀ x : Int32, x.toInt8.toInt32 = x → x.toInt16.toInt32 = x := by
      intro x hx
      have r := lw_i8_r x
      unfold lw_i8 at r
      rw [hx] at r
      exact lg_i2s_small (by omega) (by omega)
    exact h8 _ hn
  refine ⟨uw_em (uw_em A cz (nI 0) (nI (20 * p + s)) (nI 0)) (cz + 1) (nI k) (nI r) ((A 2) (20 * p + s)), uw_t1 H (by omega) hk (by omega) (fun q K => ?_), uw_k_em (by omega) (uw_k_em (Nat.le_refl _) uw_kr), ?_, ?_, pk_us, pk_us, pk_us⟩
  · unfold wpX_writeSimple XS
    refine ⟨i8, nm_r (e' := nI k) (by rw [c8]; exact hk) (br_f (hne 7 (by omega) (by omega)) (br_f (hne 8 (by omega) (by omega)) (br_f (hne 9 (by omega) (by omega)) (br_f (hne 10 (by omega) (by omega)) (br_f (hne 0 (by omega) (by omega)) ⟨i8, i8, ?_⟩)))))⟩
    rw [c8]
    have er : uw_em A cz (nI 0) (nI (20 * p + s)) (nI 0) 1 (20 * p + s) = nI r := hr
    rw [er]
    exact uw_cem (C := C) (A := uw_em A cz (nI 0) (nI (20 * p + s)) (nI 0)) (cz := cz + 1) (lb := lb) (kt := kt) (ex := ex) (rg := rg) (wk := wk) (ar := ar) (by omega) (uw_bn (by omega)) (uw_sn (by omega)) hS K
  · exact (pk_un (by omega)).trans pk_us
  · exact (pk_un (by omega)).trans pk_us
/-- a call -/
theorem uw_s10 {r : Nat} (H : uw_HS C A p s wk) (hc : cz + 1 < 360) (hk : (A 0) (20 * p + s) = nI 10) (hr : (A 2) (20 * p + s) = nI r) (hr' : r < 3) :
    ∃ A1, uw_RN 1 (uw_cc C cz lb kt ex rg (wk + 1) ar) A (uw_cc C (cz + 2) lb kt ex rg wk ar) A1 ∧ uw_KP 0 cz lb kt ex rg wk s ar A A1 ∧ (A1 9) cz = nI 0 ∧ (A1 10) cz = nI (20 * p + s) ∧
      (A1 9) (cz + 1) = nI 7 ∧ (A1 10) (cz + 1) = nI r := by
  have i8 : vp_in (nI (20 * p + s)) 80 := vp_in_nI (by have := H.2.1; have := H.2.2.1; omega) (by decide)
  have c8 : (nI (20 * p + s)).toNatClampNeg = 20 * p + s := nI_clamp (by have := H.2.1; have := H.2.2.1; omega)
  refine ⟨uw_em (uw_em A cz (nI 0) (nI (20 * p + s)) (nI 0)) (cz + 1) (nI 7) (nI r) (nI 0), uw_t1 H (by omega) hk (by omega) (fun q K => ?_), uw_k_em (by omega) (uw_k_em (Nat.le_refl _) uw_kr), ?_, ?_, pk_us, pk_us⟩
  · unfold wpX_writeSimple XS
    refine ⟨i8, nm_r (e' := nI 10) (by rw [c8]; exact hk) (br_f (by decide) (br_f (by decide) (br_f (by decide) (br_t rfl ⟨i8, ?_⟩))))⟩
    rw [c8]
    have er : uw_em A cz (nI 0) (nI (20 * p + s)) (nI 0) 2 (20 * p + s) = nI r := hr
    rw [er]
    exact uw_cem (C := C) (A := uw_em A cz (nI 0) (nI (20 * p + s)) (nI 0)) (cz := cz + 1) (lb := lb) (kt := kt) (ex := ex) (rg := rg) (wk := wk) (ar := ar) (o := nI 7) (y := nI 0) (by omega) (uw_bn (by omega)) (uw_sn (by omega)) (uw_sn (by omega)) K
  · exact (pk_un (by omega)).trans pk_us
  · exact (pk_un (by omega)).trans pk_us
/-- a sequence whose first part may end -/
theorem uw_s11t {qa qb : Nat} (H : uw_HS C A p s wk) (hc : cz < 360) (hw : wk + 1 < 128) (hk : (A 0) (20 * p + s) = nI 11) (ha : (A 3) (20 * p + s) = nI qa) (ha' : qa < 20) (hb : (A 4) (20 * p + s) = nI qb) (hb' : qb < 20) (hm : ¬ (A 8) qa = 0) :
    ∃ A1, uw_RN 1 (uw_cc C cz lb kt ex rg (wk + 1) ar) A (uw_cc C (cz + 1) lb kt ex rg (wk + 2) ar) A1 ∧ uw_KP 0 cz lb kt ex rg wk s ar A A1 ∧ (A1 9) cz = nI 0 ∧ (A1 10) cz = nI (20 * p + s) ∧
      (A1 22) wk = nI 0 ∧ (A1 23) wk = nI qb ∧ (A1 22) (wk + 1) = nI 0 ∧ (A1 23) (wk + 1) = nI qa := by
  have H' := H
  obtain ⟨hp, hp', hs, hw', h0, hx⟩ := H
  have e1 : (20 : Int32) * (C 9) + nI s = nI (20 * p + s) := by rw [hp]; exact uw_20p p s
  have i8 : vp_in (nI (20 * p + s)) 80 := vp_in_nI (by omega) (by decide)
  have c8 : (nI (20 * p + s)).toNatClampNeg = 20 * p + s := nI_clamp (by omega)
  refine ⟨uw_ka (uw_ka (uw_em A cz (nI 0) (nI (20 * p + s)) (nI 0)) wk (nI 0) (nI qb)) (wk + 1) (nI 0) (nI qa), uw_w0 hw' h0 hx (fun q K => ?_), uw_k_ka (by omega) (uw_k_ka (Nat.le_refl _) (uw_k_em (Nat.le_refl _) uw_kr)), pk_us, pk_us, (pk_un (by omega)).trans pk_us, (pk_un (by omega)).trans pk_us, pk_us, pk_us⟩
  unfold wpX_writeStatement XS
  refine nm_r (e' := nI (20 * p + s)) e1 ⟨i8, nm_r (e' := nI 11) (by rw [c8]; exact hk) ?_⟩
  refine uw_cem (C := C) (A := A) (lb := lb) (kt := kt) (ex := ex) (rg := rg) (wk := wk) (ar := ar) (o := nI 0) (x := nI (20 * p + s)) (y := nI 0) hc (uw_bn (by omega)) (uw_sn (by omega)) (uw_sn (by omega)) (br_t (by decide) (br_t rfl ⟨i8, ?_⟩))
  rw [c8]
  have ea : uw_em A cz (nI 0) (nI (20 * p + s)) (nI 0) 3 (20 * p + s) = nI qa := ha
  have eb : uw_em A cz (nI 0) (nI (20 * p + s)) (nI 0) 4 (20 * p + s) = nI qb := hb
  have em : ¬ uw_em A cz (nI 0) (nI (20 * p + s)) (nI 0) 8 (nI qa).toNatClampNeg = 0 := by rw [nI_clamp (by omega)]; exact hm
  rw [ea, eb]
  refine ⟨vp_in_nI ha' (by decide), br_f em ⟨i8, uw_cka (C := C) (A := uw_em A cz (nI 0) (nI (20 * p + s)) (nI 0)) (cz := cz + 1) (lb := lb) (kt := kt) (ex := ex) (rg := rg) (wk := wk) (ar := ar) (o := nI 0) hw' (uw_bn (by omega)) (uw_sn (by omega)) ?_⟩⟩
  unfold wX_writeStatement_69
  refine ⟨i8, ?_⟩
  rw [c8]
  have ea' : uw_ka (uw_em A cz (nI 0) (nI (20 * p + s)) (nI 0)) wk (nI 0) (nI qb) 3 (20 * p + s) = nI qa := ha
  rw [ea']
  exact uw_cka (C := C) (A := uw_ka (uw_em A cz (nI 0) (nI (20 * p + s)) (nI 0)) wk (nI 0) (nI qb)) (cz := cz + 1) (lb := lb) (kt := kt) (ex := ex) (rg := rg) (wk := wk + 1) (ar := ar) (o := nI 0) (by omega) (uw_bn (by omega)) (uw_sn (by omega)) K
/-- a sequence whose first part never ends -/
theorem uw_s11f {qa : Nat} (H : uw_HS C A p s wk) (hc : cz < 360) (hk : (A 0) (20 * p + s) = nI 11) (ha : (A 3) (20 * p + s) = nI qa) (ha' : qa < 20) (hm : (A 8) qa = 0) :
    ∃ A1, uw_RN 1 (uw_cc C cz lb kt ex rg (wk + 1) ar) A (uw_cc C (cz + 1) lb kt ex rg (wk + 1) ar) A1 ∧ uw_KP 0 cz lb kt ex rg wk s ar A A1 ∧ (A1 9) cz = nI 0 ∧ (A1 10) cz = nI (20 * p + s) ∧
      (A1 22) wk = nI 0 ∧ (A1 23) wk = nI qa := by
  have H' := H
  obtain ⟨hp, hp', hs, hw', h0, hx⟩ := H
  have e1 : (20 : Int32) * (C 9) + nI s = nI (20 * p + s) := by rw [hp]; exact uw_20p p s
  have i8 : vp_in (nI (20 * p + s)) 80 := vp_in_nI (by omega) (by decide)
  have c8 : (nI (20 * p + s)).toNatClampNeg = 20 * p + s := nI_clamp (by omega)
  refine ⟨uw_ka (uw_em A cz (nI 0) (nI (20 * p + s)) (nI 0)) wk (nI 0) (nI qa), uw_w0 hw' h0 hx (fun q K => ?_), uw_k_ka (Nat.le_refl _) (uw_k_em (Nat.le_refl _) uw_kr), pk_us, pk_us, pk_us, pk_us⟩
  unfold wpX_writeStatement XS
  refine nm_r (e' := nI (20 * p + s)) e1 ⟨i8, nm_r (e' := nI 11) (by rw [c8]; exact hk) ?_⟩
  refine uw_cem (C := C) (A := A) (lb := lb) (kt := kt) (ex := ex) (rg := rg) (wk := wk) (ar := ar) (o := nI 0) (x := nI (20 * p + s)) (y := nI 0) hc (uw_bn (by omega)) (uw_sn (by omega)) (uw_sn (by omega)) (br_t (by decide) (br_t rfl ⟨i8, ?_⟩))
  rw [c8]
  have ea : uw_em A cz (nI 0) (nI (20 * p + s)) (nI 0) 3 (20 * p + s) = nI qa := ha
  have em : uw_em A cz (nI 0) (nI (20 * p + s)) (nI 0) 8 (nI qa).toNatClampNeg = 0 := by rw [nI_clamp (by omega)]; exact hm
  rw [ea]
  refine ⟨vp_in_nI ha' (by decide), br_t em ?_⟩
  unfold wX_writeStatement_69
  refine ⟨i8, ?_⟩
  rw [c8, ea]
  exact uw_cka (C := C) (A := uw_em A cz (nI 0) (nI (20 * p + s)) (nI 0)) (cz := cz + 1) (lb := lb) (kt := kt) (ex := ex) (rg := rg) (wk := wk) (ar := ar) (o := nI 0) hw' (uw_bn (by omega)) (uw_sn (by omega)) K
end
end
section
/-! one step of the work loop: if, while, catch, lastly, catcher, back (printed by gen14.py) -/
section
variable {C : Nat → Int32} {A : Nat → Nat → Int32} {cz lb kt ex rg wk ar p s : Nat} {C' : Nat → Int32} {A' : Nat → Nat → Int32}
theorem uw_vz0 : vp_nar .boolean 0 = nI 0 := rfl
theorem uw_vz1 : vp_nar .boolean 1 = nI 1 := rfl
theorem uw_s12t {qa qb r : Nat} (H : uw_HS C A p s wk) (hc : cz + 1 < 360) (hw : wk + 5 < 128) (hl : lb + 1 < 128) (hk : (A 0) (20 * p + s) = nI 12) (ha : (A 3) (20 * p + s) = nI qa) (ha' : qa < 20) (hb : (A 4) (20 * p + s) = nI qb) (hb' : qb < 20) (hr : (A 1) (20 * p + s) = nI r) (hr' : r < 4) (hm : ¬ (A 8) qa = 0) :
    ∃ A1, uw_RN 1 (uw_cc C cz lb kt ex rg (wk + 1) ar) A (uw_cc C (cz + 2) (lb + 2) kt ex rg (wk + 5) ar) A1 ∧ uw_KP 0 cz lb kt ex rg wk s ar A A1 ∧ (A1 9) cz = nI 0 ∧ (A1 10) cz = nI (20 * p + s) ∧ (A1 9) (cz + 1) = nI 10 ∧ (A1 10) (cz + 1) = nI r ∧ (A1 11) (cz + 1) = nI lb ∧
      (A1 22) wk = nI 1 ∧ (A1 23) wk = nI (lb + 1) ∧ (A1 22) (wk + 1) = nI 0 ∧ (A1 23) (wk + 1) = nI qb ∧ (A1 22) (wk + 2) = nI 1 ∧ (A1 23) (wk + 2) = nI lb ∧ (A1 22) (wk + 3) = nI 2 ∧ (A1 23) (wk + 3) = nI (lb + 1) ∧ (A1 22) (wk + 4) = nI 0 ∧ (A1 23) (wk + 4) = nI qa := by
  have hp' := H.2.1
  have hs := H.2.2.1
  have i8 : vp_in (nI (20 * p + s)) 80 := vp_in_nI (by omega) (by decide)
  have c8 : (nI (20 * p + s)).toNatClampNeg = 20 * p + s := nI_clamp (by omega)
  have i2 : vp_in (nI s) 20 := vp_in_nI hs (by decide)
  have c2 : (nI s).toNatClampNeg = s := nI_clamp (by omega)
  have hw := H.2.2.2.1
  refine ⟨uw_ka (uw_ka (uw_ka (uw_ka (uw_ka (uw_em (uw_em A cz (nI 0) (nI (20 * p + s)) (nI 0)) (cz + 1) (nI 10) (nI r) (nI (lb))) (wk) (nI 1) (nI (lb + 1))) (wk + 1) (nI 0) (nI qb)) (wk + 2) (nI 1) (nI (lb))) (wk + 3) (nI 2) (nI (lb + 1))) (wk + 4) (nI 0) (nI qa), uw_t12 H (by omega) hk (fun q K => ?_), uw_k_ka (by omega) (uw_k_ka (by omega) (uw_k_ka (by omega) (uw_k_ka (by omega) (uw_k_ka (by omega) (uw_k_em (by omega) (uw_k_em (by omega) (uw_kr))))))), (pk_un (by omega)).trans (pk_us), (pk_un (by omega)).trans (pk_us), pk_us, pk_us, pk_us, (pk_un (by omega)).trans ((pk_un (by omega)).trans ((pk_un (by omega)).trans ((pk_un (by omega)).trans (pk_us)))), (pk_un (by omega)).trans ((pk_un (by omega)).trans ((pk_un (by omega)).trans ((pk_un (by omega)).trans (pk_us)))), (pk_un (by omega)).trans ((pk_un (by omega)).trans ((pk_un (by omega)).trans (pk_us))), (pk_un (by omega)).trans ((pk_un (by omega)).trans ((pk_un (by omega)).trans (pk_us))), (pk_un (by omega)).trans ((pk_un (by omega)).trans (pk_us)), (pk_un (by omega)).trans ((pk_un (by omega)).trans (pk_us)), (pk_un (by omega)).trans (pk_us), (pk_un (by omega)).trans (pk_us), pk_us, pk_us⟩
  unfold wpX_writeIf
  refine uw_cnl (C := C) (A := (uw_em A cz (nI 0) (nI (20 * p + s)) (nI 0))) (cz := cz + 1) (lb := lb) (kt := kt) (ex := ex) (rg := rg) (wk := wk) (ar := ar) ?_
  refine uw_cnl (C := C) (A := (uw_em A cz (nI 0) (nI (20 * p + s)) (nI 0))) (cz := cz + 1) (lb := lb + 1) (kt := kt) (ex := ex) (rg := rg) (wk := wk) (ar := ar) ⟨i8, ?_⟩
  have f1 : (uw_em A cz (nI 0) (nI (20 * p + s)) (nI 0)) 1 (nI (20 * p + s)).toNatClampNeg = nI r := by rw [c8]; exact hr
  rw [f1]
  refine uw_cem (C := C) (A := (uw_em A cz (nI 0) (nI (20 * p + s)) (nI 0))) (cz := cz + 1) (lb := lb + 2) (kt := kt) (ex := ex) (rg := rg) (wk := wk) (ar := ar) (o := nI 10) (x := nI r) (y := nI (lb)) (by omega) (uw_bn (by omega)) (uw_sn (by omega)) (uw_sn (by omega)) ?_
  refine uw_cka (C := C) (A := (uw_em (uw_em A cz (nI 0) (nI (20 * p + s)) (nI 0)) (cz + 1) (nI 10) (nI r) (nI (lb)))) (cz := cz + 2) (lb := lb + 2) (kt := kt) (ex := ex) (rg := rg) (wk := wk) (ar := ar) (o := nI 1) (x := nI (lb + 1)) (by omega) (uw_bn (by omega)) (uw_sn (by omega)) ⟨i8, ?_⟩
  have f2 : (uw_ka (uw_em (uw_em A cz (nI 0) (nI (20 * p + s)) (nI 0)) (cz + 1) (nI 10) (nI r) (nI (lb))) (wk) (nI 1) (nI (lb + 1))) 4 (nI (20 * p + s)).toNatClampNeg = nI qb := by rw [c8]; exact hb
  rw [f2]
  refine uw_cka (C := C) (A := (uw_ka (uw_em (uw_em A cz (nI 0) (nI (20 * p + s)) (nI 0)) (cz + 1) (nI 10) (nI r) (nI (lb))) (wk) (nI 1) (nI (lb + 1)))) (cz := cz + 2) (lb := lb + 2) (kt := kt) (ex := ex) (rg := rg) (wk := wk + 1) (ar := ar) (o := nI 0) (x := nI qb) (by omega) (uw_bn (by omega)) (uw_sn (by omega)) ?_
  refine uw_cka (C := C) (A := (uw_ka (uw_ka (uw_em (uw_em A cz (nI 0) (nI (20 * p + s)) (nI 0)) (cz + 1) (nI 10) (nI r) (nI (lb))) (wk) (nI 1) (nI (lb + 1))) (wk + 1) (nI 0) (nI qb))) (cz := cz + 2) (lb := lb + 2) (kt := kt) (ex := ex) (rg := rg) (wk := wk + 2) (ar := ar) (o := nI 1) (x := nI (lb)) (by omega) (uw_bn (by omega)) (uw_sn (by omega)) ⟨i8, ?_⟩
  have f3 : (uw_ka (uw_ka (uw_ka (uw_em (uw_em A cz (nI 0) (nI (20 * p + s)) (nI 0)) (cz + 1) (nI 10) (nI r) (nI (lb))) (wk) (nI 1) (nI (lb + 1))) (wk + 1) (nI 0) (nI qb)) (wk + 2) (nI 1) (nI (lb))) 3 (nI (20 * p + s)).toNatClampNeg = nI qa := by rw [c8]; exact ha
  rw [f3]
  refine ⟨vp_in_nI ha' (by decide), ?_⟩
  have f4 : (uw_ka (uw_ka (uw_ka (uw_em (uw_em A cz (nI 0) (nI (20 * p + s)) (nI 0)) (cz + 1) (nI 10) (nI r) (nI (lb))) (wk) (nI 1) (nI (lb + 1))) (wk + 1) (nI 0) (nI qb)) (wk + 2) (nI 1) (nI (lb))) 8 (nI qa).toNatClampNeg = (A 8) qa := by rw [nI_clamp (by omega)]; rfl
  rw [f4]
  refine br_f hm (uw_cka (C := C) (A := (uw_ka (uw_ka (uw_ka (uw_em (uw_em A cz (nI 0) (nI (20 * p + s)) (nI 0)) (cz + 1) (nI 10) (nI r) (nI (lb))) (wk) (nI 1) (nI (lb + 1))) (wk + 1) (nI 0) (nI qb)) (wk + 2) (nI 1) (nI (lb)))) (cz := cz + 2) (lb := lb + 2) (kt := kt) (ex := ex) (rg := rg) (wk := wk + 3) (ar := ar) (o := nI 2) (x := nI (lb + 1)) (by omega) (uw_bn (by omega)) (uw_sn (by omega)) ?_)
  unfold wX_writeIf_66
  refine ⟨i8, ?_⟩
  have f5 : (uw_ka (uw_ka (uw_ka (uw_ka (uw_em (uw_em A cz (nI 0) (nI (20 * p + s)) (nI 0)) (cz + 1) (nI 10) (nI r) (nI (lb))) (wk) (nI 1) (nI (lb + 1))) (wk + 1) (nI 0) (nI qb)) (wk + 2) (nI 1) (nI (lb))) (wk + 3) (nI 2) (nI (lb + 1))) 3 (nI (20 * p + s)).toNatClampNeg = nI qa := by rw [c8]; exact ha
  rw [f5]
  exact uw_cka (C := C) (A := (uw_ka (uw_ka (uw_ka (uw_ka (uw_em (uw_em A cz (nI 0) (nI (20 * p + s)) (nI 0)) (cz + 1) (nI 10) (nI r) (nI (lb))) (wk) (nI 1) (nI (lb + 1))) (wk + 1) (nI 0) (nI qb)) (wk + 2) (nI 1) (nI (lb))) (wk + 3) (nI 2) (nI (lb + 1)))) (cz := cz + 2) (lb := lb + 2) (kt := kt) (ex := ex) (rg := rg) (wk := wk + 4) (ar := ar) (o := nI 0) (x := nI qa) (by omega) (uw_bn (by omega)) (uw_sn (by omega)) K
theorem uw_s12f {qa qb r : Nat} (H : uw_HS C A p s wk) (hc : cz + 1 < 360) (hw : wk + 4 < 128) (hl : lb + 1 < 128) (hk : (A 0) (20 * p + s) = nI 12) (ha : (A 3) (20 * p + s) = nI qa) (ha' : qa < 20) (hb : (A 4) (20 * p + s) = nI qb) (hb' : qb < 20) (hr : (A 1) (20 * p + s) = nI r) (hr' : r < 4) (hm : (A 8) qa = 0) :
    ∃ A1, uw_RN 1 (uw_cc C cz lb kt ex rg (wk + 1) ar) A (uw_cc C (cz + 2) (lb + 2) kt ex rg (wk + 4) ar) A1 ∧ uw_KP 0 cz lb kt ex rg wk s ar A A1 ∧ (A1 9) cz = nI 0 ∧ (A1 10) cz = nI (20 * p + s) ∧ (A1 9) (cz + 1) = nI 10 ∧ (A1 10) (cz + 1) = nI r ∧ (A1 11) (cz + 1) = nI lb ∧
      (A1 22) wk = nI 1 ∧ (A1 23) wk = nI (lb + 1) ∧ (A1 22) (wk + 1) = nI 0 ∧ (A1 23) (wk + 1) = nI qb ∧ (A1 22) (wk + 2) = nI 1 ∧ (A1 23) (wk + 2) = nI lb ∧ (A1 22) (wk + 3) = nI 0 ∧ (A1 23) (wk + 3) = nI qa := by
  have hp' := H.2.1
  have hs := H.2.2.1
  have i8 : vp_in (nI (20 * p + s)) 80 := vp_in_nI (by omega) (by decide)
  have c8 : (nI (20 * p + s)).toNatClampNeg = 20 * p + s := nI_clamp (by omega)
  have i2 : vp_in (nI s) 20 := vp_in_nI hs (by decide)
  have c2 : (nI s).toNatClampNeg = s := nI_clamp (by omega)
  have hw := H.2.2.2.1
  refine ⟨uw_ka (uw_ka (uw_ka (uw_ka (uw_em (uw_em A cz (nI 0) (nI (20 * p + s)) (nI 0)) (cz + 1) (nI 10) (nI r) (nI (lb))) (wk) (nI 1) (nI (lb + 1))) (wk + 1) (nI 0) (nI qb)) (wk + 2) (nI 1) (nI (lb))) (wk + 3) (nI 0) (nI qa), uw_t12 H (by omega) hk (fun q K => ?_), uw_k_ka (by omega) (uw_k_ka (by omega) (uw_k_ka (by omega) (uw_k_ka (by omega) (uw_k_em (by omega) (uw_k_em (by omega) (uw_kr)))))), (pk_un (by omega)).trans (pk_us), (pk_un (by omega)).trans (pk_us), pk_us, pk_us, pk_us, (pk_un (by omega)).trans ((pk_un (by omega)).trans ((pk_un (by omega)).trans (pk_us))), (pk_un (by omega)).trans ((pk_un (by omega)).trans ((pk_un (by omega)).trans (pk_us))), (pk_un (by omega)).trans ((pk_un (by omega)).trans (pk_us)), (pk_un (by omega)).trans ((pk_un (by omega)).trans (pk_us)), (pk_un (by omega)).trans (pk_us), (pk_un (by omega)).trans (pk_us), pk_us, pk_us⟩
  unfold wpX_writeIf
  refine uw_cnl (C := C) (A := (uw_em A cz (nI 0) (nI (20 * p + s)) (nI 0))) (cz := cz + 1) (lb := lb) (kt := kt) (ex := ex) (rg := rg) (wk := wk) (ar := ar) ?_
  refine uw_cnl (C := C) (A := (uw_em A cz (nI 0) (nI (20 * p + s)) (nI 0))) (cz := cz + 1) (lb := lb + 1) (kt := kt) (ex := ex) (rg := rg) (wk := wk) (ar := ar) ⟨i8, ?_⟩
  have f1 : (uw_em A cz (nI 0) (nI (20 * p + s)) (nI 0)) 1 (nI (20 * p + s)).toNatClampNeg = nI r := by rw [c8]; exact hr
  rw [f1]
  refine uw_cem (C := C) (A := (uw_em A cz (nI 0) (nI (20 * p + s)) (nI 0))) (cz := cz + 1) (lb := lb + 2) (kt := kt) (ex := ex) (rg := rg) (wk := wk) (ar := ar) (o := nI 10) (x := nI r) (y := nI (lb)) (by omega) (uw_bn (by omega)) (uw_sn (by omega)) (uw_sn (by omega)) ?_
  refine uw_cka (C := C) (A := (uw_em (uw_em A cz (nI 0) (nI (20 * p + s)) (nI 0)) (cz + 1) (nI 10) (nI r) (nI (lb)))) (cz := cz + 2) (lb := lb + 2) (kt := kt) (ex := ex) (rg := rg) (wk := wk) (ar := ar) (o := nI 1) (x := nI (lb + 1)) (by omega) (uw_bn (by omega)) (uw_sn (by omega)) ⟨i8, ?_⟩
  have f2 : (uw_ka (uw_em (uw_em A cz (nI 0) (nI (20 * p + s)) (nI 0)) (cz + 1) (nI 10) (nI r) (nI (lb))) (wk) (nI 1) (nI (lb + 1))) 4 (nI (20 * p + s)).toNatClampNeg = nI qb := by rw [c8]; exact hb
  rw [f2]
  refine uw_cka (C := C) (A := (uw_ka (uw_em (uw_em A cz (nI 0) (nI (20 * p + s)) (nI 0)) (cz + 1) (nI 10) (nI r) (nI (lb))) (wk) (nI 1) (nI (lb + 1)))) (cz := cz + 2) (lb := lb + 2) (kt := kt) (ex := ex) (rg := rg) (wk := wk + 1) (ar := ar) (o := nI 0) (x := nI qb) (by omega) (uw_bn (by omega)) (uw_sn (by omega)) ?_
  refine uw_cka (C := C) (A := (uw_ka (uw_ka (uw_em (uw_em A cz (nI 0) (nI (20 * p + s)) (nI 0)) (cz + 1) (nI 10) (nI r) (nI (lb))) (wk) (nI 1) (nI (lb + 1))) (wk + 1) (nI 0) (nI qb))) (cz := cz + 2) (lb := lb + 2) (kt := kt) (ex := ex) (rg := rg) (wk := wk + 2) (ar := ar) (o := nI 1) (x := nI (lb)) (by omega) (uw_bn (by omega)) (uw_sn (by omega)) ⟨i8, ?_⟩
  have f3 : (uw_ka (uw_ka (uw_ka (uw_em (uw_em A cz (nI 0) (nI (20 * p + s)) (nI 0)) (cz + 1) (nI 10) (nI r) (nI (lb))) (wk) (nI 1) (nI (lb + 1))) (wk + 1) (nI 0) (nI qb)) (wk + 2) (nI 1) (nI (lb))) 3 (nI (20 * p + s)).toNatClampNeg = nI qa := by rw [c8]; exact ha
  rw [f3]
  refine ⟨vp_in_nI ha' (by decide), ?_⟩
  have f4 : (uw_ka (uw_ka (uw_ka (uw_em (uw_em A cz (nI 0) (nI (20 * p + s)) (nI 0)) (cz + 1) (nI 10) (nI r) (nI (lb))) (wk) (nI 1) (nI (lb + 1))) (wk + 1) (nI 0) (nI qb)) (wk + 2) (nI 1) (nI (lb))) 8 (nI qa).toNatClampNeg = (A 8) qa := by rw [nI_clamp (by omega)]; rfl
  rw [f4]
  refine br_t hm ?_
  unfold wX_writeIf_66
  refine ⟨i8, ?_⟩
  have f5 : (uw_ka (uw_ka (uw_ka (uw_em (uw_em A cz (nI 0) (nI (20 * p + s)) (nI 0)) (cz + 1) (nI 10) (nI r) (nI (lb))) (wk) (nI 1) (nI (lb + 1))) (wk + 1) (nI 0) (nI qb)) (wk + 2) (nI 1) (nI (lb))) 3 (nI (20 * p + s)).toNatClampNeg = nI qa := by rw [c8]; exact ha
  rw [f5]
  exact uw_cka (C := C) (A := (uw_ka (uw_ka (uw_ka (uw_em (uw_em A cz (nI 0) (nI (20 * p + s)) (nI 0)) (cz + 1) (nI 10) (nI r) (nI (lb))) (wk) (nI 1) (nI (lb + 1))) (wk + 1) (nI 0) (nI qb)) (wk + 2) (nI 1) (nI (lb)))) (cz := cz + 2) (lb := lb + 2) (kt := kt) (ex := ex) (rg := rg) (wk := wk + 3) (ar := ar) (o := nI 0) (x := nI qa) (by omega) (uw_bn (by omega)) (uw_sn (by omega)) K
theorem uw_s15 {qa r : Nat} (H : uw_HS C A p s wk) (hc : cz + 1 < 360) (hw : wk + 4 < 128) (hl : lb + 1 < 128) (har : ar < 20) (hk : (A 0) (20 * p + s) = nI 15) (ha : (A 3) (20 * p + s) = nI qa) (ha' : qa < 20) (hr : (A 1) (20 * p + s) = nI r) (hr' : r < 4) :
    ∃ A1, uw_RN 1 (uw_cc C cz lb kt ex rg (wk + 1) ar) A (uw_cc C (cz + 2) (lb + 2) kt ex rg (wk + 4) (ar + 1)) A1 ∧ uw_KP 0 cz lb kt ex rg wk s ar A A1 ∧ (A1 9) cz = nI 0 ∧ (A1 10) cz = nI (20 * p + s) ∧ (A1 9) (cz + 1) = nI 10 ∧ (A1 10) (cz + 1) = nI r ∧ (A1 11) (cz + 1) = nI (lb + 1) ∧ (A1 13) lb = nI (cz + 1) ∧ (A1 27) ar = nI 1 ∧ (A1 28) ar = nI (lb + 1) ∧ (A1 29) ar = nI lb ∧
      (A1 22) wk = nI 1 ∧ (A1 23) wk = nI (lb + 1) ∧ (A1 22) (wk + 1) = nI 3 ∧ (A1 23) (wk + 1) = nI 0 ∧ (A1 22) (wk + 2) = nI 2 ∧ (A1 23) (wk + 2) = nI lb ∧ (A1 22) (wk + 3) = nI 0 ∧ (A1 23) (wk + 3) = nI qa := by
  have hp' := H.2.1
  have hs := H.2.2.1
  have i8 : vp_in (nI (20 * p + s)) 80 := vp_in_nI (by omega) (by decide)
  have c8 : (nI (20 * p + s)).toNatClampNeg = 20 * p + s := nI_clamp (by omega)
  have i2 : vp_in (nI s) 20 := vp_in_nI hs (by decide)
  have c2 : (nI s).toNatClampNeg = s := nI_clamp (by omega)
  have hw := H.2.2.2.1
  have iar : vp_in (nI ar) 20 := vp_in_nI har (by decide)
  have cear : (nI ar).toNatClampNeg = ar := nI_clamp (by omega)
  refine ⟨uw_ka (uw_ka (uw_ka (uw_ka (uw_st (uw_st (uw_st (uw_em (uw_pl (uw_em A cz (nI 0) (nI (20 * p + s)) (nI 0)) (lb) (cz + 1)) (cz + 1) (nI 10) (nI r) (nI (lb + 1))) 27 (upd ((uw_em (uw_pl (uw_em A cz (nI 0) (nI (20 * p + s)) (nI 0)) (lb) (cz + 1)) (cz + 1) (nI 10) (nI r) (nI (lb + 1))) 27) ar (nI 1))) 28 (upd ((uw_em (uw_pl (uw_em A cz (nI 0) (nI (20 * p + s)) (nI 0)) (lb) (cz + 1)) (cz + 1) (nI 10) (nI r) (nI (lb + 1))) 28) ar (nI (lb + 1)))) 29 (upd ((uw_em (uw_pl (uw_em A cz (nI 0) (nI (20 * p + s)) (nI 0)) (lb) (cz + 1)) (cz + 1) (nI 10) (nI r) (nI (lb + 1))) 29) ar (nI lb))) (wk) (nI 1) (nI (lb + 1))) (wk + 1) (nI 3) (nI 0)) (wk + 2) (nI 2) (nI (lb))) (wk + 3) (nI 0) (nI qa), uw_t15 H (by omega) hk (fun q K => ?_), uw_k_ka (by omega) (uw_k_ka (by omega) (uw_k_ka (by omega) (uw_k_ka (by omega) (uw_k_an (i := 29) (by omega) (by omega) (Nat.le_refl _) (uw_k_an (i := 28) (by omega) (by omega) (Nat.le_refl _) (uw_k_an (i := 27) (by omega) (by omega) (Nat.le_refl _) (uw_k_em (by omega) (uw_k_pl (Or.inr (by omega)) (uw_k_em (by omega) (uw_kr)))))))))), (pk_un (by omega)).trans (pk_us), (pk_un (by omega)).trans (pk_us), pk_us, pk_us, pk_us, pk_us, pk_us, pk_us, pk_us, (pk_un (by omega)).trans ((pk_un (by omega)).trans ((pk_un (by omega)).trans (pk_us))), (pk_un (by omega)).trans ((pk_un (by omega)).trans ((pk_un (by omega)).trans (pk_us))), (pk_un (by omega)).trans ((pk_un (by omega)).trans (pk_us)), (pk_un (by omega)).trans ((pk_un (by omega)).trans (pk_us)), (pk_un (by omega)).trans (pk_us), (pk_un (by omega)).trans (pk_us), pk_us, pk_us⟩
  unfold wpX_writeWhile
  refine uw_cnl (C := C) (A := (uw_em A cz (nI 0) (nI (20 * p + s)) (nI 0))) (cz := cz + 1) (lb := lb) (kt := kt) (ex := ex) (rg := rg) (wk := wk) (ar := ar) ?_
  refine uw_cnl (C := C) (A := (uw_em A cz (nI 0) (nI (20 * p + s)) (nI 0))) (cz := cz + 1) (lb := lb + 1) (kt := kt) (ex := ex) (rg := rg) (wk := wk) (ar := ar) ?_
  refine uw_cpl (C := C) (A := (uw_em A cz (nI 0) (nI (20 * p + s)) (nI 0))) (cz := cz + 1) (lb := lb + 2) (kt := kt) (ex := ex) (rg := rg) (wk := wk) (ar := ar) (l := lb) (by omega) (by omega) ⟨i8, ?_⟩
  have f1 : (uw_pl (uw_em A cz (nI 0) (nI (20 * p + s)) (nI 0)) (lb) (cz + 1)) 1 (nI (20 * p + s)).toNatClampNeg = nI r := by rw [c8]; exact hr
  rw [f1]
  refine uw_cem (C := C) (A := (uw_pl (uw_em A cz (nI 0) (nI (20 * p + s)) (nI 0)) (lb) (cz + 1))) (cz := cz + 1) (lb := lb + 2) (kt := kt) (ex := ex) (rg := rg) (wk := wk) (ar := ar) (o := nI 10) (x := nI r) (y := nI (lb + 1)) (by omega) (uw_bn (by omega)) (uw_sn (by omega)) (uw_sn (by omega)) ?_
  refine ⟨iar, nm_r (e' := upd ((uw_em (uw_pl (uw_em A cz (nI 0) (nI (20 * p + s)) (nI 0)) (lb) (cz + 1)) (cz + 1) (nI 10) (nI r) (nI (lb + 1))) 27) ar (nI 1)) (by exact congrArg (fun z => upd ((uw_em (uw_pl (uw_em A cz (nI 0) (nI (20 * p + s)) (nI 0)) (lb) (cz + 1)) (cz + 1) (nI 10) (nI r) (nI (lb + 1))) 27) z _) cear) ⟨iar, nm_r (e' := upd ((uw_em (uw_pl (uw_em A cz (nI 0) (nI (20 * p + s)) (nI 0)) (lb) (cz + 1)) (cz + 1) (nI 10) (nI r) (nI (lb + 1))) 28) ar (nI (lb + 1))) (by exact congrArg (fun z => upd ((uw_em (uw_pl (uw_em A cz (nI 0) (nI (20 * p + s)) (nI 0)) (lb) (cz + 1)) (cz + 1) (nI 10) (nI r) (nI (lb + 1))) 28) z _) cear |>.trans (congrArg (upd ((uw_em (uw_pl (uw_em A cz (nI 0) (nI (20 * p + s)) (nI 0)) (lb) (cz + 1)) (cz + 1) (nI 10) (nI r) (nI (lb + 1))) 28) ar) (uw_vss (uw_sn (by omega))))) ⟨iar, nm_r (e' := upd ((uw_em (uw_pl (uw_em A cz (nI 0) (nI (20 * p + s)) (nI 0)) (lb) (cz + 1)) (cz + 1) (nI 10) (nI r) (nI (lb + 1))) 29) ar (nI lb)) (by exact congrArg (fun z => upd ((uw_em (uw_pl (uw_em A cz (nI 0) (nI (20 * p + s)) (nI 0)) (lb) (cz + 1)) (cz + 1) (nI 10) (nI r) (nI (lb + 1))) 29) z _) cear |>.trans (congrArg (upd ((uw_em (uw_pl (uw_em A cz (nI 0) (nI (20 * p + s)) (nI 0)) (lb) (cz + 1)) (cz + 1) (nI 10) (nI r) (nI (lb + 1))) 29) ar) (uw_vss (uw_sn (by omega))))) (nm_r (e' := nI (ar + 1)) (nI_1 ar) ?_)⟩⟩⟩
  refine uw_cka (C := C) (A := (uw_st (uw_st (uw_st (uw_em (uw_pl (uw_em A cz (nI 0) (nI (20 * p + s)) (nI 0)) (lb) (cz + 1)) (cz + 1) (nI 10) (nI r) (nI (lb + 1))) 27 (upd ((uw_em (uw_pl (uw_em A cz (nI 0) (nI (20 * p + s)) (nI 0)) (lb) (cz + 1)) (cz + 1) (nI 10) (nI r) (nI (lb + 1))) 27) ar (nI 1))) 28 (upd ((uw_em (uw_pl (uw_em A cz (nI 0) (nI (20 * p + s)) (nI 0)) (lb) (cz + 1)) (cz + 1) (nI 10) (nI r) (nI (lb + 1))) 28) ar (nI (lb + 1)))) 29 (upd ((uw_em (uw_pl (uw_em A cz (nI 0) (nI (20 * p + s)) (nI 0)) (lb) (cz + 1)) (cz + 1) (nI 10) (nI r) (nI (lb + 1))) 29) ar (nI lb)))) (cz := cz + 2) (lb := lb + 2) (kt := kt) (ex := ex) (rg := rg) (wk := wk) (ar := ar + 1) (o := nI 1) (x := nI (lb + 1)) (by omega) (uw_bn (by omega)) (uw_sn (by omega)) ?_
  refine uw_cka (C := C) (A := (uw_ka (uw_st (uw_st (uw_st (uw_em (uw_pl (uw_em A cz (nI 0) (nI (20 * p + s)) (nI 0)) (lb) (cz + 1)) (cz + 1) (nI 10) (nI r) (nI (lb + 1))) 27 (upd ((uw_em (uw_pl (uw_em A cz (nI 0) (nI (20 * p + s)) (nI 0)) (lb) (cz + 1)) (cz + 1) (nI 10) (nI r) (nI (lb + 1))) 27) ar (nI 1))) 28 (upd ((uw_em (uw_pl (uw_em A cz (nI 0) (nI (20 * p + s)) (nI 0)) (lb) (cz + 1)) (cz + 1) (nI 10) (nI r) (nI (lb + 1))) 28) ar (nI (lb + 1)))) 29 (upd ((uw_em (uw_pl (uw_em A cz (nI 0) (nI (20 * p + s)) (nI 0)) (lb) (cz + 1)) (cz + 1) (nI 10) (nI r) (nI (lb + 1))) 29) ar (nI lb))) (wk) (nI 1) (nI (lb + 1)))) (cz := cz + 2) (lb := lb + 2) (kt := kt) (ex := ex) (rg := rg) (wk := wk + 1) (ar := ar + 1) (o := nI 3) (x := nI 0) (by omega) (uw_bn (by omega)) (uw_sn (by omega)) ?_
  refine uw_cka (C := C) (A := (uw_ka (uw_ka (uw_st (uw_st (uw_st (uw_em (uw_pl (uw_em A cz (nI 0) (nI (20 * p + s)) (nI 0)) (lb) (cz + 1)) (cz + 1) (nI 10) (nI r) (nI (lb + 1))) 27 (upd ((uw_em (uw_pl (uw_em A cz (nI 0) (nI (20 * p + s)) (nI 0)) (lb) (cz + 1)) (cz + 1) (nI 10) (nI r) (nI (lb + 1))) 27) ar (nI 1))) 28 (upd ((uw_em (uw_pl (uw_em A cz (nI 0) (nI (20 * p + s)) (nI 0)) (lb) (cz + 1)) (cz + 1) (nI 10) (nI r) (nI (lb + 1))) 28) ar (nI (lb + 1)))) 29 (upd ((uw_em (uw_pl (uw_em A cz (nI 0) (nI (20 * p + s)) (nI 0)) (lb) (cz + 1)) (cz + 1) (nI 10) (nI r) (nI (lb + 1))) 29) ar (nI lb))) (wk) (nI 1) (nI (lb + 1))) (wk + 1) (nI 3) (nI 0))) (cz := cz + 2) (lb := lb + 2) (kt := kt) (ex := ex) (rg := rg) (wk := wk + 2) (ar := ar + 1) (o := nI 2) (x := nI (lb)) (by omega) (uw_bn (by omega)) (uw_sn (by omega)) ⟨i8, ?_⟩
  have f5 : (uw_ka (uw_ka (uw_ka (uw_st (uw_st (uw_st (uw_em (uw_pl (uw_em A cz (nI 0) (nI (20 * p + s)) (nI 0)) (lb) (cz + 1)) (cz + 1) (nI 10) (nI r) (nI (lb + 1))) 27 (upd ((uw_em (uw_pl (uw_em A cz (nI 0) (nI (20 * p + s)) (nI 0)) (lb) (cz + 1)) (cz + 1) (nI 10) (nI r) (nI (lb + 1))) 27) ar (nI 1))) 28 (upd ((uw_em (uw_pl (uw_em A cz (nI 0) (nI (20 * p + s)) (nI 0)) (lb) (cz + 1)) (cz + 1) (nI 10) (nI r) (nI (lb + 1))) 28) ar (nI (lb + 1)))) 29 (upd ((uw_em (uw_pl (uw_em A cz (nI 0) (nI (20 * p + s)) (nI 0)) (lb) (cz + 1)) (cz + 1) (nI 10) (nI r) (nI (lb + 1))) 29) ar (nI lb))) (wk) (nI 1) (nI (lb + 1))) (wk + 1) (nI 3) (nI 0)) (wk + 2) (nI 2) (nI (lb))) 3 (nI (20 * p + s)).toNatClampNeg = nI qa := by rw [c8]; exact ha
  rw [f5]
  exact uw_cka (C := C) (A := (uw_ka (uw_ka (uw_ka (uw_st (uw_st (uw_st (uw_em (uw_pl (uw_em A cz (nI 0) (nI (20 * p + s)) (nI 0)) (lb) (cz + 1)) (cz + 1) (nI 10) (nI r) (nI (lb + 1))) 27 (upd ((uw_em (uw_pl (uw_em A cz (nI 0) (nI (20 * p + s)) (nI 0)) (lb) (cz + 1)) (cz + 1) (nI 10) (nI r) (nI (lb + 1))) 27) ar (nI 1))) 28 (upd ((uw_em (uw_pl (uw_em A cz (nI 0) (nI (20 * p + s)) (nI 0)) (lb) (cz + 1)) (cz + 1) (nI 10) (nI r) (nI (lb + 1))) 28) ar (nI (lb + 1)))) 29 (upd ((uw_em (uw_pl (uw_em A cz (nI 0) (nI (20 * p + s)) (nI 0)) (lb) (cz + 1)) (cz + 1) (nI 10) (nI r) (nI (lb + 1))) 29) ar (nI lb))) (wk) (nI 1) (nI (lb + 1))) (wk + 1) (nI 3) (nI 0)) (wk + 2) (nI 2) (nI (lb)))) (cz := cz + 2) (lb := lb + 2) (kt := kt) (ex := ex) (rg := rg) (wk := wk + 3) (ar := ar + 1) (o := nI 0) (x := nI qa) (by omega) (uw_bn (by omega)) (uw_sn (by omega)) K
theorem uw_s13 {qa qb : Nat} (H : uw_HS C A p s wk) (hc : cz < 360) (hw : wk + 4 < 128) (hl : lb < 128) (hk : (A 0) (20 * p + s) = nI 13) (ha : (A 3) (20 * p + s) = nI qa) (ha' : qa < 20) (hb : (A 4) (20 * p + s) = nI qb) (hb' : qb < 20) :
    ∃ A1, uw_RN 1 (uw_cc C cz lb kt ex rg (wk + 1) ar) A (uw_cc C (cz + 1) (lb + 1) kt ex rg (wk + 4) ar) A1 ∧ uw_KP 0 cz lb kt ex rg wk s ar A A1 ∧ (A1 9) cz = nI 0 ∧ (A1 10) cz = nI (20 * p + s) ∧ (A1 24) s = nI (cz + 1) ∧ (A1 25) s = nI lb ∧
      (A1 22) wk = nI 1 ∧ (A1 23) wk = nI lb ∧ (A1 22) (wk + 1) = nI 0 ∧ (A1 23) (wk + 1) = nI qb ∧ (A1 22) (wk + 2) = nI 4 ∧ (A1 23) (wk + 2) = nI s ∧ (A1 22) (wk + 3) = nI 0 ∧ (A1 23) (wk + 3) = nI qa := by
  have hp' := H.2.1
  have hs := H.2.2.1
  have i8 : vp_in (nI (20 * p + s)) 80 := vp_in_nI (by omega) (by decide)
  have c8 : (nI (20 * p + s)).toNatClampNeg = 20 * p + s := nI_clamp (by omega)
  have i2 : vp_in (nI s) 20 := vp_in_nI hs (by decide)
  have c2 : (nI s).toNatClampNeg = s := nI_clamp (by omega)
  have hw := H.2.2.2.1
  refine ⟨uw_ka (uw_ka (uw_ka (uw_ka (uw_st (uw_st (uw_em A cz (nI 0) (nI (20 * p + s)) (nI 0)) 24 (upd ((uw_em A cz (nI 0) (nI (20 * p + s)) (nI 0)) 24) s (nI (cz + 1)))) 25 (upd ((uw_st (uw_em A cz (nI 0) (nI (20 * p + s)) (nI 0)) 24 (upd ((uw_em A cz (nI 0) (nI (20 * p + s)) (nI 0)) 24) s (nI (cz + 1)))) 25) s (nI lb))) (wk) (nI 1) (nI lb)) (wk + 1) (nI 0) (nI qb)) (wk + 2) (nI 4) (nI s)) (wk + 3) (nI 0) (nI qa), uw_t13 H (by omega) hk (fun q K => ?_), uw_k_ka (by omega) (uw_k_ka (by omega) (uw_k_ka (by omega) (uw_k_ka (by omega) (uw_k_so (i := 25) (by omega) (by omega) (Nat.le_refl _) (uw_k_so (i := 24) (by omega) (by omega) (Nat.le_refl _) (uw_k_em (by omega) (uw_kr))))))), pk_us, pk_us, pk_us, pk_us, (pk_un (by omega)).trans ((pk_un (by omega)).trans ((pk_un (by omega)).trans (pk_us))), (pk_un (by omega)).trans ((pk_un (by omega)).trans ((pk_un (by omega)).trans (pk_us))), (pk_un (by omega)).trans ((pk_un (by omega)).trans (pk_us)), (pk_un (by omega)).trans ((pk_un (by omega)).trans (pk_us)), (pk_un (by omega)).trans (pk_us), (pk_un (by omega)).trans (pk_us), pk_us, pk_us⟩
  unfold wpX_writeCatch
  refine ⟨i2, nm_r (e' := upd ((uw_em A cz (nI 0) (nI (20 * p + s)) (nI 0)) 24) s (nI (cz + 1))) (by rw [c2]; exact congrArg (upd ((uw_em A cz (nI 0) (nI (20 * p + s)) (nI 0)) 24) s) (uw_vss (uw_sn (by omega)))) ?_⟩
  refine uw_cnl (C := C) (A := (uw_st (uw_em A cz (nI 0) (nI (20 * p + s)) (nI 0)) 24 (upd ((uw_em A cz (nI 0) (nI (20 * p + s)) (nI 0)) 24) s (nI (cz + 1))))) (cz := cz + 1) (lb := lb) (kt := kt) (ex := ex) (rg := rg) (wk := wk) (ar := ar) ⟨i2, nm_r (e' := upd ((uw_st (uw_em A cz (nI 0) (nI (20 * p + s)) (nI 0)) 24 (upd ((uw_em A cz (nI 0) (nI (20 * p + s)) (nI 0)) 24) s (nI (cz + 1)))) 25) s (nI lb)) (by rw [c2]; exact congrArg (upd ((uw_st (uw_em A cz (nI 0) (nI (20 * p + s)) (nI 0)) 24 (upd ((uw_em A cz (nI 0) (nI (20 * p + s)) (nI 0)) 24) s (nI (cz + 1)))) 25) s) (uw_vss (uw_sn (by omega)))) ⟨i2, ?_⟩⟩
  have f1 : upd ((uw_st (uw_em A cz (nI 0) (nI (20 * p + s)) (nI 0)) 24 (upd ((uw_em A cz (nI 0) (nI (20 * p + s)) (nI 0)) 24) s (nI (cz + 1)))) 25) s (nI lb) (nI s).toNatClampNeg = nI lb := by rw [c2]; exact pk_us
  rw [f1]
  refine uw_cka (C := C) (A := (uw_st (uw_st (uw_em A cz (nI 0) (nI (20 * p + s)) (nI 0)) 24 (upd ((uw_em A cz (nI 0) (nI (20 * p + s)) (nI 0)) 24) s (nI (cz + 1)))) 25 (upd ((uw_st (uw_em A cz (nI 0) (nI (20 * p + s)) (nI 0)) 24 (upd ((uw_em A cz (nI 0) (nI (20 * p + s)) (nI 0)) 24) s (nI (cz + 1)))) 25) s (nI lb)))) (cz := cz + 1) (lb := lb + 1) (kt := kt) (ex := ex) (rg := rg) (wk := wk) (ar := ar) (o := nI 1) (x := nI lb) (by omega) (uw_bn (by omega)) (uw_sn (by omega)) ⟨i8, ?_⟩
  have f2 : (uw_ka (uw_st (uw_st (uw_em A cz (nI 0) (nI (20 * p + s)) (nI 0)) 24 (upd ((uw_em A cz (nI 0) (nI (20 * p + s)) (nI 0)) 24) s (nI (cz + 1)))) 25 (upd ((uw_st (uw_em A cz (nI 0) (nI (20 * p + s)) (nI 0)) 24 (upd ((uw_em A cz (nI 0) (nI (20 * p + s)) (nI 0)) 24) s (nI (cz + 1)))) 25) s (nI lb))) (wk) (nI 1) (nI lb)) 4 (nI (20 * p + s)).toNatClampNeg = nI qb := by rw [c8]; exact hb
  rw [f2]
  refine uw_cka (C := C) (A := (uw_ka (uw_st (uw_st (uw_em A cz (nI 0) (nI (20 * p + s)) (nI 0)) 24 (upd ((uw_em A cz (nI 0) (nI (20 * p + s)) (nI 0)) 24) s (nI (cz + 1)))) 25 (upd ((uw_st (uw_em A cz (nI 0) (nI (20 * p + s)) (nI 0)) 24 (upd ((uw_em A cz (nI 0) (nI (20 * p + s)) (nI 0)) 24) s (nI (cz + 1)))) 25) s (nI lb))) (wk) (nI 1) (nI lb))) (cz := cz + 1) (lb := lb + 1) (kt := kt) (ex := ex) (rg := rg) (wk := wk + 1) (ar := ar) (o := nI 0) (x := nI qb) (by omega) (uw_bn (by omega)) (uw_sn (by omega)) ?_
  refine uw_cka (C := C) (A := (uw_ka (uw_ka (uw_st (uw_st (uw_em A cz (nI 0) (nI (20 * p + s)) (nI 0)) 24 (upd ((uw_em A cz (nI 0) (nI (20 * p + s)) (nI 0)) 24) s (nI (cz + 1)))) 25 (upd ((uw_st (uw_em A cz (nI 0) (nI (20 * p + s)) (nI 0)) 24 (upd ((uw_em A cz (nI 0) (nI (20 * p + s)) (nI 0)) 24) s (nI (cz + 1)))) 25) s (nI lb))) (wk) (nI 1) (nI lb)) (wk + 1) (nI 0) (nI qb))) (cz := cz + 1) (lb := lb + 1) (kt := kt) (ex := ex) (rg := rg) (wk := wk + 2) (ar := ar) (o := nI 4) (x := nI s) (by omega) (uw_bn (by omega)) (uw_sn (by omega)) ⟨i8, ?_⟩
  have f5 : (uw_ka (uw_ka (uw_ka (uw_st (uw_st (uw_em A cz (nI 0) (nI (20 * p + s)) (nI 0)) 24 (upd ((uw_em A cz (nI 0) (nI (20 * p + s)) (nI 0)) 24) s (nI (cz + 1)))) 25 (upd ((uw_st (uw_em A cz (nI 0) (nI (20 * p + s)) (nI 0)) 24 (upd ((uw_em A cz (nI 0) (nI (20 * p + s)) (nI 0)) 24) s (nI (cz + 1)))) 25) s (nI lb))) (wk) (nI 1) (nI lb)) (wk + 1) (nI 0) (nI qb)) (wk + 2) (nI 4) (nI s)) 3 (nI (20 * p + s)).toNatClampNeg = nI qa := by rw [c8]; exact ha
  rw [f5]
  exact uw_cka (C := C) (A := (uw_ka (uw_ka (uw_ka (uw_st (uw_st (uw_em A cz (nI 0) (nI (20 * p + s)) (nI 0)) 24 (upd ((uw_em A cz (nI 0) (nI (20 * p + s)) (nI 0)) 24) s (nI (cz + 1)))) 25 (upd ((uw_st (uw_em A cz (nI 0) (nI (20 * p + s)) (nI 0)) 24 (upd ((uw_em A cz (nI 0) (nI (20 * p + s)) (nI 0)) 24) s (nI (cz + 1)))) 25) s (nI lb))) (wk) (nI 1) (nI lb)) (wk + 1) (nI 0) (nI qb)) (wk + 2) (nI 4) (nI s))) (cz := cz + 1) (lb := lb + 1) (kt := kt) (ex := ex) (rg := rg) (wk := wk + 3) (ar := ar) (o := nI 0) (x := nI qa) (by omega) (uw_bn (by omega)) (uw_sn (by omega)) K
theorem uw_s14 {qa qb : Nat} (H : uw_HS C A p s wk) (hc : cz < 360) (hw : wk + 4 < 128) (hl : lb + 1 < 128) (har : ar < 20) (hkt : kt < 30) (hk : (A 0) (20 * p + s) = nI 14) (ha : (A 3) (20 * p + s) = nI qa) (ha' : qa < 20) (hb : (A 4) (20 * p + s) = nI qb) (hb' : qb < 20) :
    ∃ A1, uw_RN 1 (uw_cc C cz lb kt ex rg (wk + 1) ar) A (uw_cc C (cz + 1) (lb + 2) (kt + 1) ex rg (wk + 4) (ar + 1)) A1 ∧ uw_KP 0 cz lb kt ex rg wk s ar A A1 ∧ (A1 9) cz = nI 0 ∧ (A1 10) cz = nI (20 * p + s) ∧ (A1 24) s = nI (cz + 1) ∧ (A1 25) s = nI lb ∧ (A1 26) s = nI kt ∧ (A1 14) kt = nI (lb + 1) ∧ (A1 27) ar = nI 0 ∧ (A1 30) ar = nI kt ∧
      (A1 22) wk = nI 6 ∧ (A1 23) wk = nI s ∧ (A1 22) (wk + 1) = nI 0 ∧ (A1 23) (wk + 1) = nI qb ∧ (A1 22) (wk + 2) = nI 5 ∧ (A1 23) (wk + 2) = nI s ∧ (A1 22) (wk + 3) = nI 0 ∧ (A1 23) (wk + 3) = nI qa := by
  have hp' := H.2.1
  have hs := H.2.2.1
  have i8 : vp_in (nI (20 * p + s)) 80 := vp_in_nI (by omega) (by decide)
  have c8 : (nI (20 * p + s)).toNatClampNeg = 20 * p + s := nI_clamp (by omega)
  have i2 : vp_in (nI s) 20 := vp_in_nI hs (by decide)
  have c2 : (nI s).toNatClampNeg = s := nI_clamp (by omega)
  have hw := H.2.2.2.1
  have iar : vp_in (nI ar) 20 := vp_in_nI har (by decide)
  have cear : (nI ar).toNatClampNeg = ar := nI_clamp (by omega)
  have ikt : vp_in (nI kt) 30 := vp_in_nI hkt (by decide)
  have ckt : (nI kt).toNatClampNeg = kt := nI_clamp (by omega)
  refine ⟨uw_ka (uw_ka (uw_ka (uw_ka (uw_st (uw_st (uw_st (uw_st (uw_st (uw_st (uw_em A cz (nI 0) (nI (20 * p + s)) (nI 0)) 24 (upd ((uw_em A cz (nI 0) (nI (20 * p + s)) (nI 0)) 24) s (nI (cz + 1)))) 25 (upd ((uw_st (uw_em A cz (nI 0) (nI (20 * p + s)) (nI 0)) 24 (upd ((uw_em A cz (nI 0) (nI (20 * p + s)) (nI 0)) 24) s (nI (cz + 1)))) 25) s (nI lb))) 26 (upd ((uw_st (uw_em A cz (nI 0) (nI (20 * p + s)) (nI 0)) 24 (upd ((uw_em A cz (nI 0) (nI (20 * p + s)) (nI 0)) 24) s (nI (cz + 1)))) 26) s (nI kt))) 14 (upd ((uw_st (uw_st (uw_st (uw_em A cz (nI 0) (nI (20 * p + s)) (nI 0)) 24 (upd ((uw_em A cz (nI 0) (nI (20 * p + s)) (nI 0)) 24) s (nI (cz + 1)))) 25 (upd ((uw_st (uw_em A cz (nI 0) (nI (20 * p + s)) (nI 0)) 24 (upd ((uw_em A cz (nI 0) (nI (20 * p + s)) (nI 0)) 24) s (nI (cz + 1)))) 25) s (nI lb))) 26 (upd ((uw_st (uw_em A cz (nI 0) (nI (20 * p + s)) (nI 0)) 24 (upd ((uw_em A cz (nI 0) (nI (20 * p + s)) (nI 0)) 24) s (nI (cz + 1)))) 26) s (nI kt))) 14) kt (nI (lb + 1)))) 27 (upd ((uw_st (uw_st (uw_st (uw_em A cz (nI 0) (nI (20 * p + s)) (nI 0)) 24 (upd ((uw_em A cz (nI 0) (nI (20 * p + s)) (nI 0)) 24) s (nI (cz + 1)))) 25 (upd ((uw_st (uw_em A cz (nI 0) (nI (20 * p + s)) (nI 0)) 24 (upd ((uw_em A cz (nI 0) (nI (20 * p + s)) (nI 0)) 24) s (nI (cz + 1)))) 25) s (nI lb))) 26 (upd ((uw_st (uw_em A cz (nI 0) (nI (20 * p + s)) (nI 0)) 24 (upd ((uw_em A cz (nI 0) (nI (20 * p + s)) (nI 0)) 24) s (nI (cz + 1)))) 26) s (nI kt))) 27) ar (nI 0))) 30 (upd ((uw_st (uw_st (uw_st (uw_em A cz (nI 0) (nI (20 * p + s)) (nI 0)) 24 (upd ((uw_em A cz (nI 0) (nI (20 * p + s)) (nI 0)) 24) s (nI (cz + 1)))) 25 (upd ((uw_st (uw_em A cz (nI 0) (nI (20 * p + s)) (nI 0)) 24 (upd ((uw_em A cz (nI 0) (nI (20 * p + s)) (nI 0)) 24) s (nI (cz + 1)))) 25) s (nI lb))) 26 (upd ((uw_st (uw_em A cz (nI 0) (nI (20 * p + s)) (nI 0)) 24 (upd ((uw_em A cz (nI 0) (nI (20 * p + s)) (nI 0)) 24) s (nI (cz + 1)))) 26) s (nI kt))) 30) ar (nI kt))) (wk) (nI 6) (nI s)) (wk + 1) (nI 0) (nI qb)) (wk + 2) (nI 5) (nI s)) (wk + 3) (nI 0) (nI qa), uw_t14 H (by omega) hk (fun q K => ?_), uw_k_ka (by omega) (uw_k_ka (by omega) (uw_k_ka (by omega) (uw_k_ka (by omega) (uw_k_an (i := 30) (by omega) (by omega) (Nat.le_refl _) (uw_k_an (i := 27) (by omega) (by omega) (Nat.le_refl _) (uw_k_bk (Nat.le_refl _) (uw_k_so (i := 26) (by omega) (by omega) (Nat.le_refl _) (uw_k_so (i := 25) (by omega) (by omega) (Nat.le_refl _) (uw_k_so (i := 24) (by omega) (by omega) (Nat.le_refl _) (uw_k_em (by omega) (uw_kr))))))))))), pk_us, pk_us, pk_us, pk_us, pk_us, pk_us, pk_us, pk_us, (pk_un (by omega)).trans ((pk_un (by omega)).trans ((pk_un (by omega)).trans (pk_us))), (pk_un (by omega)).trans ((pk_un (by omega)).trans ((pk_un (by omega)).trans (pk_us))), (pk_un (by omega)).trans ((pk_un (by omega)).trans (pk_us)), (pk_un (by omega)).trans ((pk_un (by omega)).trans (pk_us)), (pk_un (by omega)).trans (pk_us), (pk_un (by omega)).trans (pk_us), pk_us, pk_us⟩
  unfold wpX_writeLastly
  refine nm_r (e' := nI (kt + 1)) (nI_1 kt) ⟨i2, nm_r (e' := upd ((uw_em A cz (nI 0) (nI (20 * p + s)) (nI 0)) 24) s (nI (cz + 1))) (by rw [c2]; exact congrArg (upd ((uw_em A cz (nI 0) (nI (20 * p + s)) (nI 0)) 24) s) (uw_vss (uw_sn (by omega)))) ?_⟩
  refine uw_cnl (C := C) (A := (uw_st (uw_em A cz (nI 0) (nI (20 * p + s)) (nI 0)) 24 (upd ((uw_em A cz (nI 0) (nI (20 * p + s)) (nI 0)) 24) s (nI (cz + 1))))) (cz := cz + 1) (lb := lb) (kt := kt + 1) (ex := ex) (rg := rg) (wk := wk) (ar := ar) ⟨i2, nm_r (e' := upd ((uw_st (uw_em A cz (nI 0) (nI (20 * p + s)) (nI 0)) 24 (upd ((uw_em A cz (nI 0) (nI (20 * p + s)) (nI 0)) 24) s (nI (cz + 1)))) 25) s (nI lb)) (by rw [c2]; exact congrArg (upd ((uw_st (uw_em A cz (nI 0) (nI (20 * p + s)) (nI 0)) 24 (upd ((uw_em A cz (nI 0) (nI (20 * p + s)) (nI 0)) 24) s (nI (cz + 1)))) 25) s) (uw_vss (uw_sn (by omega)))) ⟨i2, nm_r (e' := upd ((uw_st (uw_em A cz (nI 0) (nI (20 * p + s)) (nI 0)) 24 (upd ((uw_em A cz (nI 0) (nI (20 * p + s)) (nI 0)) 24) s (nI (cz + 1)))) 26) s (nI kt)) (by rw [c2]; exact congrArg (upd ((uw_st (uw_em A cz (nI 0) (nI (20 * p + s)) (nI 0)) 24 (upd ((uw_em A cz (nI 0) (nI (20 * p + s)) (nI 0)) 24) s (nI (cz + 1)))) 26) s) (uw_vbb (uw_bn (by omega)))) ?_⟩⟩
  refine uw_cnl (C := C) (A := (uw_st (uw_st (uw_st (uw_em A cz (nI 0) (nI (20 * p + s)) (nI 0)) 24 (upd ((uw_em A cz (nI 0) (nI (20 * p + s)) (nI 0)) 24) s (nI (cz + 1)))) 25 (upd ((uw_st (uw_em A cz (nI 0) (nI (20 * p + s)) (nI 0)) 24 (upd ((uw_em A cz (nI 0) (nI (20 * p + s)) (nI 0)) 24) s (nI (cz + 1)))) 25) s (nI lb))) 26 (upd ((uw_st (uw_em A cz (nI 0) (nI (20 * p + s)) (nI 0)) 24 (upd ((uw_em A cz (nI 0) (nI (20 * p + s)) (nI 0)) 24) s (nI (cz + 1)))) 26) s (nI kt)))) (cz := cz + 1) (lb := lb + 1) (kt := kt + 1) (ex := ex) (rg := rg) (wk := wk) (ar := ar) ⟨ikt, nm_r (e' := upd ((uw_st (uw_st (uw_st (uw_em A cz (nI 0) (nI (20 * p + s)) (nI 0)) 24 (upd ((uw_em A cz (nI 0) (nI (20 * p + s)) (nI 0)) 24) s (nI (cz + 1)))) 25 (upd ((uw_st (uw_em A cz (nI 0) (nI (20 * p + s)) (nI 0)) 24 (upd ((uw_em A cz (nI 0) (nI (20 * p + s)) (nI 0)) 24) s (nI (cz + 1)))) 25) s (nI lb))) 26 (upd ((uw_st (uw_em A cz (nI 0) (nI (20 * p + s)) (nI 0)) 24 (upd ((uw_em A cz (nI 0) (nI (20 * p + s)) (nI 0)) 24) s (nI (cz + 1)))) 26) s (nI kt))) 14) kt (nI (lb + 1))) (by exact congrArg (fun z => upd ((uw_st (uw_st (uw_st (uw_em A cz (nI 0) (nI (20 * p + s)) (nI 0)) 24 (upd ((uw_em A cz (nI 0) (nI (20 * p + s)) (nI 0)) 24) s (nI (cz + 1)))) 25 (upd ((uw_st (uw_em A cz (nI 0) (nI (20 * p + s)) (nI 0)) 24 (upd ((uw_em A cz (nI 0) (nI (20 * p + s)) (nI 0)) 24) s (nI (cz + 1)))) 25) s (nI lb))) 26 (upd ((uw_st (uw_em A cz (nI 0) (nI (20 * p + s)) (nI 0)) 24 (upd ((uw_em A cz (nI 0) (nI (20 * p + s)) (nI 0)) 24) s (nI (cz + 1)))) 26) s (nI kt))) 14) z _) ckt |>.trans (congrArg (upd ((uw_st (uw_st (uw_st (uw_em A cz (nI 0) (nI (20 * p + s)) (nI 0)) 24 (upd ((uw_em A cz (nI 0) (nI (20 * p + s)) (nI 0)) 24) s (nI (cz + 1)))) 25 (upd ((uw_st (uw_em A cz (nI 0) (nI (20 * p + s)) (nI 0)) 24 (upd ((uw_em A cz (nI 0) (nI (20 * p + s)) (nI 0)) 24) s (nI (cz + 1)))) 25) s (nI lb))) 26 (upd ((uw_st (uw_em A cz (nI 0) (nI (20 * p + s)) (nI 0)) 24 (upd ((uw_em A cz (nI 0) (nI (20 * p + s)) (nI 0)) 24) s (nI (cz + 1)))) 26) s (nI kt))) 14) kt) (uw_vss (uw_sn (by omega))))) ⟨iar, nm_r (e' := upd ((uw_st (uw_st (uw_st (uw_em A cz (nI 0) (nI (20 * p + s)) (nI 0)) 24 (upd ((uw_em A cz (nI 0) (nI (20 * p + s)) (nI 0)) 24) s (nI (cz + 1)))) 25 (upd ((uw_st (uw_em A cz (nI 0) (nI (20 * p + s)) (nI 0)) 24 (upd ((uw_em A cz (nI 0) (nI (20 * p + s)) (nI 0)) 24) s (nI (cz + 1)))) 25) s (nI lb))) 26 (upd ((uw_st (uw_em A cz (nI 0) (nI (20 * p + s)) (nI 0)) 24 (upd ((uw_em A cz (nI 0) (nI (20 * p + s)) (nI 0)) 24) s (nI (cz + 1)))) 26) s (nI kt))) 27) ar (nI 0)) (by exact congrArg (fun z => upd ((uw_st (uw_st (uw_st (uw_em A cz (nI 0) (nI (20 * p + s)) (nI 0)) 24 (upd ((uw_em A cz (nI 0) (nI (20 * p + s)) (nI 0)) 24) s (nI (cz + 1)))) 25 (upd ((uw_st (uw_em A cz (nI 0) (nI (20 * p + s)) (nI 0)) 24 (upd ((uw_em A cz (nI 0) (nI (20 * p + s)) (nI 0)) 24) s (nI (cz + 1)))) 25) s (nI lb))) 26 (upd ((uw_st (uw_em A cz (nI 0) (nI (20 * p + s)) (nI 0)) 24 (upd ((uw_em A cz (nI 0) (nI (20 * p + s)) (nI 0)) 24) s (nI (cz + 1)))) 26) s (nI kt))) 27) z _) cear) ⟨iar, nm_r (e' := upd ((uw_st (uw_st (uw_st (uw_em A cz (nI 0) (nI (20 * p + s)) (nI 0)) 24 (upd ((uw_em A cz (nI 0) (nI (20 * p + s)) (nI 0)) 24) s (nI (cz + 1)))) 25 (upd ((uw_st (uw_em A cz (nI 0) (nI (20 * p + s)) (nI 0)) 24 (upd ((uw_em A cz (nI 0) (nI (20 * p + s)) (nI 0)) 24) s (nI (cz + 1)))) 25) s (nI lb))) 26 (upd ((uw_st (uw_em A cz (nI 0) (nI (20 * p + s)) (nI 0)) 24 (upd ((uw_em A cz (nI 0) (nI (20 * p + s)) (nI 0)) 24) s (nI (cz + 1)))) 26) s (nI kt))) 30) ar (nI kt)) (by exact congrArg (fun z => upd ((uw_st (uw_st (uw_st (uw_em A cz (nI 0) (nI (20 * p + s)) (nI 0)) 24 (upd ((uw_em A cz (nI 0) (nI (20 * p + s)) (nI 0)) 24) s (nI (cz + 1)))) 25 (upd ((uw_st (uw_em A cz (nI 0) (nI (20 * p + s)) (nI 0)) 24 (upd ((uw_em A cz (nI 0) (nI (20 * p + s)) (nI 0)) 24) s (nI (cz + 1)))) 25) s (nI lb))) 26 (upd ((uw_st (uw_em A cz (nI 0) (nI (20 * p + s)) (nI 0)) 24 (upd ((uw_em A cz (nI 0) (nI (20 * p + s)) (nI 0)) 24) s (nI (cz + 1)))) 26) s (nI kt))) 30) z _) cear |>.trans (congrArg (upd ((uw_st (uw_st (uw_st (uw_em A cz (nI 0) (nI (20 * p + s)) (nI 0)) 24 (upd ((uw_em A cz (nI 0) (nI (20 * p + s)) (nI 0)) 24) s (nI (cz + 1)))) 25 (upd ((uw_st (uw_em A cz (nI 0) (nI (20 * p + s)) (nI 0)) 24 (upd ((uw_em A cz (nI 0) (nI (20 * p + s)) (nI 0)) 24) s (nI (cz + 1)))) 25) s (nI lb))) 26 (upd ((uw_st (uw_em A cz (nI 0) (nI (20 * p + s)) (nI 0)) 24 (upd ((uw_em A cz (nI 0) (nI (20 * p + s)) (nI 0)) 24) s (nI (cz + 1)))) 26) s (nI kt))) 30) ar) (uw_vbb (uw_bn (by omega))))) (nm_r (e' := nI (ar + 1)) (nI_1 ar) ?_)⟩⟩⟩
  refine uw_cka (C := C) (A := (uw_st (uw_st (uw_st (uw_st (uw_st (uw_st (uw_em A cz (nI 0) (nI (20 * p + s)) (nI 0)) 24 (upd ((uw_em A cz (nI 0) (nI (20 * p + s)) (nI 0)) 24) s (nI (cz + 1)))) 25 (upd ((uw_st (uw_em A cz (nI 0) (nI (20 * p + s)) (nI 0)) 24 (upd ((uw_em A cz (nI 0) (nI (20 * p + s)) (nI 0)) 24) s (nI (cz + 1)))) 25) s (nI lb))) 26 (upd ((uw_st (uw_em A cz (nI 0) (nI (20 * p + s)) (nI 0)) 24 (upd ((uw_em A cz (nI 0) (nI (20 * p + s)) (nI 0)) 24) s (nI (cz + 1)))) 26) s (nI kt))) 14 (upd ((uw_st (uw_st (uw_st (uw_em A cz (nI 0) (nI (20 * p + s)) (nI 0)) 24 (upd ((uw_em A cz (nI 0) (nI (20 * p + s)) (nI 0)) 24) s (nI (cz + 1)))) 25 (upd ((uw_st (uw_em A cz (nI 0) (nI (20 * p + s)) (nI 0)) 24 (upd ((uw_em A cz (nI 0) (nI (20 * p + s)) (nI 0)) 24) s (nI (cz + 1)))) 25) s (nI lb))) 26 (upd ((uw_st (uw_em A cz (nI 0) (nI (20 * p + s)) (nI 0)) 24 (upd ((uw_em A cz (nI 0) (nI (20 * p + s)) (nI 0)) 24) s (nI (cz + 1)))) 26) s (nI kt))) 14) kt (nI (lb + 1)))) 27 (upd ((uw_st (uw_st (uw_st (uw_em A cz (nI 0) (nI (20 * p + s)) (nI 0)) 24 (upd ((uw_em A cz (nI 0) (nI (20 * p + s)) (nI 0)) 24) s (nI (cz + 1)))) 25 (upd ((uw_st (uw_em A cz (nI 0) (nI (20 * p + s)) (nI 0)) 24 (upd ((uw_em A cz (nI 0) (nI (20 * p + s)) (nI 0)) 24) s (nI (cz + 1)))) 25) s (nI lb))) 26 (upd ((uw_st (uw_em A cz (nI 0) (nI (20 * p + s)) (nI 0)) 24 (upd ((uw_em A cz (nI 0) (nI (20 * p + s)) (nI 0)) 24) s (nI (cz + 1)))) 26) s (nI kt))) 27) ar (nI 0))) 30 (upd ((uw_st (uw_st (uw_st (uw_em A cz (nI 0) (nI (20 * p + s)) (nI 0)) 24 (upd ((uw_em A cz (nI 0) (nI (20 * p + s)) (nI 0)) 24) s (nI (cz + 1)))) 25 (upd ((uw_st (uw_em A cz (nI 0) (nI (20 * p + s)) (nI 0)) 24 (upd ((uw_em A cz (nI 0) (nI (20 * p + s)) (nI 0)) 24) s (nI (cz + 1)))) 25) s (nI lb))) 26 (upd ((uw_st (uw_em A cz (nI 0) (nI (20 * p + s)) (nI 0)) 24 (upd ((uw_em A cz (nI 0) (nI (20 * p + s)) (nI 0)) 24) s (nI (cz + 1)))) 26) s (nI kt))) 30) ar (nI kt)))) (cz := cz + 1) (lb := lb + 2) (kt := kt + 1) (ex := ex) (rg := rg) (wk := wk) (ar := ar + 1) (o := nI 6) (x := nI s) (by omega) (uw_bn (by omega)) (uw_sn (by omega)) ⟨i8, ?_⟩
  have f2 : (uw_ka (uw_st (uw_st (uw_st (uw_st (uw_st (uw_st (uw_em A cz (nI 0) (nI (20 * p + s)) (nI 0)) 24 (upd ((uw_em A cz (nI 0) (nI (20 * p + s)) (nI 0)) 24) s (nI (cz + 1)))) 25 (upd ((uw_st (uw_em A cz (nI 0) (nI (20 * p + s)) (nI 0)) 24 (upd ((uw_em A cz (nI 0) (nI (20 * p + s)) (nI 0)) 24) s (nI (cz + 1)))) 25) s (nI lb))) 26 (upd ((uw_st (uw_em A cz (nI 0) (nI (20 * p + s)) (nI 0)) 24 (upd ((uw_em A cz (nI 0) (nI (20 * p + s)) (nI 0)) 24) s (nI (cz + 1)))) 26) s (nI kt))) 14 (upd ((uw_st (uw_st (uw_st (uw_em A cz (nI 0) (nI (20 * p + s)) (nI 0)) 24 (upd ((uw_em A cz (nI 0) (nI (20 * p + s)) (nI 0)) 24) s (nI (cz + 1)))) 25 (upd ((uw_st (uw_em A cz (nI 0) (nI (20 * p + s)) (nI 0)) 24 (upd ((uw_em A cz (nI 0) (nI (20 * p + s)) (nI 0)) 24) s (nI (cz + 1)))) 25) s (nI lb))) 26 (upd ((uw_st (uw_em A cz (nI 0) (nI (20 * p + s)) (nI 0)) 24 (upd ((uw_em A cz (nI 0) (nI (20 * p + s)) (nI 0)) 24) s (nI (cz + 1)))) 26) s (nI kt))) 14) kt (nI (lb + 1)))) 27 (upd ((uw_st (uw_st (uw_st (uw_em A cz (nI 0) (nI (20 * p + s)) (nI 0)) 24 (upd ((uw_em A cz (nI 0) (nI (20 * p + s)) (nI 0)) 24) s (nI (cz + 1)))) 25 (upd ((uw_st (uw_em A cz (nI 0) (nI (20 * p + s)) (nI 0)) 24 (upd ((uw_em A cz (nI 0) (nI (20 * p + s)) (nI 0)) 24) s (nI (cz + 1)))) 25) s (nI lb))) 26 (upd ((uw_st (uw_em A cz (nI 0) (nI (20 * p + s)) (nI 0)) 24 (upd ((uw_em A cz (nI 0) (nI (20 * p + s)) (nI 0)) 24) s (nI (cz + 1)))) 26) s (nI kt))) 27) ar (nI 0))) 30 (upd ((uw_st (uw_st (uw_st (uw_em A cz (nI 0) (nI (20 * p + s)) (nI 0)) 24 (upd ((uw_em A cz (nI 0) (nI (20 * p + s)) (nI 0)) 24) s (nI (cz + 1)))) 25 (upd ((uw_st (uw_em A cz (nI 0) (nI (20 * p + s)) (nI 0)) 24 (upd ((uw_em A cz (nI 0) (nI (20 * p + s)) (nI 0)) 24) s (nI (cz + 1)))) 25) s (nI lb))) 26 (upd ((uw_st (uw_em A cz (nI 0) (nI (20 * p + s)) (nI 0)) 24 (upd ((uw_em A cz (nI 0) (nI (20 * p + s)) (nI 0)) 24) s (nI (cz + 1)))) 26) s (nI kt))) 30) ar (nI kt))) (wk) (nI 6) (nI s)) 4 (nI (20 * p + s)).toNatClampNeg = nI qb := by rw [c8]; exact hb
  rw [f2]
  refine uw_cka (C := C) (A := (uw_ka (uw_st (uw_st (uw_st (uw_st (uw_st (uw_st (uw_em A cz (nI 0) (nI (20 * p + s)) (nI 0)) 24 (upd ((uw_em A cz (nI 0) (nI (20 * p + s)) (nI 0)) 24) s (nI (cz + 1)))) 25 (upd ((uw_st (uw_em A cz (nI 0) (nI (20 * p + s)) (nI 0)) 24 (upd ((uw_em A cz (nI 0) (nI (20 * p + s)) (nI 0)) 24) s (nI (cz + 1)))) 25) s (nI lb))) 26 (upd ((uw_st (uw_em A cz (nI 0) (nI (20 * p + s)) (nI 0)) 24 (upd ((uw_em A cz (nI 0) (nI (20 * p + s)) (nI 0)) 24) s (nI (cz + 1)))) 26) s (nI kt))) 14 (upd ((uw_st (uw_st (uw_st (uw_em A cz (nI 0) (nI (20 * p + s)) (nI 0)) 24 (upd ((uw_em A cz (nI 0) (nI (20 * p + s)) (nI 0)) 24) s (nI (cz + 1)))) 25 (upd ((uw_st (uw_em A cz (nI 0) (nI (20 * p + s)) (nI 0)) 24 (upd ((uw_em A cz (nI 0) (nI (20 * p + s)) (nI 0)) 24) s (nI (cz + 1)))) 25) s (nI lb))) 26 (upd ((uw_st (uw_em A cz (nI 0) (nI (20 * p + s)) (nI 0)) 24 (upd ((uw_em A cz (nI 0) (nI (20 * p + s)) (nI 0)) 24) s (nI (cz + 1)))) 26) s (nI kt))) 14) kt (nI (lb + 1)))) 27 (upd ((uw_st (uw_st (uw_st (uw_em A cz (nI 0) (nI (20 * p + s)) (nI 0)) 24 (upd ((uw_em A cz (nI 0) (nI (20 * p + s)) (nI 0)) 24) s (nI (cz + 1)))) 25 (upd ((uw_st (uw_em A cz (nI 0) (nI (20 * p + s)) (nI 0)) 24 (upd ((uw_em A cz (nI 0) (nI (20 * p + s)) (nI 0)) 24) s (nI (cz + 1)))) 25) s (nI lb))) 26 (upd ((uw_st (uw_em A cz (nI 0) (nI (20 * p + s)) (nI 0)) 24 (upd ((uw_em A cz (nI 0) (nI (20 * p + s)) (nI 0)) 24) s (nI (cz + 1)))) 26) s (nI kt))) 27) ar (nI 0))) 30 (upd ((uw_st (uw_st (uw_st (uw_em A cz (nI 0) (nI (20 * p + s)) (nI 0)) 24 (upd ((uw_em A cz (nI 0) (nI (20 * p + s)) (nI 0)) 24) s (nI (cz + 1)))) 25 (upd ((uw_st (uw_em A cz (nI 0) (nI (20 * p + s)) (nI 0)) 24 (upd ((uw_em A cz (nI 0) (nI (20 * p + s)) (nI 0)) 24) s (nI (cz + 1)))) 25) s (nI lb))) 26 (upd ((uw_st (uw_em A cz (nI 0) (nI (20 * p + s)) (nI 0)) 24 (upd ((uw_em A cz (nI 0) (nI (20 * p + s)) (nI 0)) 24) s (nI (cz + 1)))) 26) s (nI kt))) 30) ar (nI kt))) (wk) (nI 6) (nI s))) (cz := cz + 1) (lb := lb + 2) (kt := kt + 1) (ex := ex) (rg := rg) (wk := wk + 1) (ar := ar + 1) (o := nI 0) (x := nI qb) (by omega) (uw_bn (by omega)) (uw_sn (by omega)) ?_
  refine uw_cka (C := C) (A := (uw_ka (uw_ka (uw_st (uw_st (uw_st (uw_st (uw_st (uw_st (uw_em A cz (nI 0) (nI (20 * p + s)) (nI 0)) 24 (upd ((uw_em A cz (nI 0) (nI (20 * p + s)) (nI 0)) 24) s (nI (cz + 1)))) 25 (upd ((uw_st (uw_em A cz (nI 0) (nI (20 * p + s)) (nI 0)) 24 (upd ((uw_em A cz (nI 0) (nI (20 * p + s)) (nI 0)) 24) s (nI (cz + 1)))) 25) s (nI lb))) 26 (upd ((uw_st (uw_em A cz (nI 0) (nI (20 * p + s)) (nI 0)) 24 (upd ((uw_em A cz (nI 0) (nI (20 * p + s)) (nI 0)) 24) s (nI (cz + 1)))) 26) s (nI kt))) 14 (upd ((uw_st (uw_st (uw_st (uw_em A cz (nI 0) (nI (20 * p + s)) (nI 0)) 24 (upd ((uw_em A cz (nI 0) (nI (20 * p + s)) (nI 0)) 24) s (nI (cz + 1)))) 25 (upd ((uw_st (uw_em A cz (nI 0) (nI (20 * p + s)) (nI 0)) 24 (upd ((uw_em A cz (nI 0) (nI (20 * p + s)) (nI 0)) 24) s (nI (cz + 1)))) 25) s (nI lb))) 26 (upd ((uw_st (uw_em A cz (nI 0) (nI (20 * p + s)) (nI 0)) 24 (upd ((uw_em A cz (nI 0) (nI (20 * p + s)) (nI 0)) 24) s (nI (cz + 1)))) 26) s (nI kt))) 14) kt (nI (lb + 1)))) 27 (upd ((uw_st (uw_st (uw_st (uw_em A cz (nI 0) (nI (20 * p + s)) (nI 0)) 24 (upd ((uw_em A cz (nI 0) (nI (20 * p + s)) (nI 0)) 24) s (nI (cz + 1)))) 25 (upd ((uw_st (uw_em A cz (nI 0) (nI (20 * p + s)) (nI 0)) 24 (upd ((uw_em A cz (nI 0) (nI (20 * p + s)) (nI 0)) 24) s (nI (cz + 1)))) 25) s (nI lb))) 26 (upd ((uw_st (uw_em A cz (nI 0) (nI (20 * p + s)) (nI 0)) 24 (upd ((uw_em A cz (nI 0) (nI (20 * p + s)) (nI 0)) 24) s (nI (cz + 1)))) 26) s (nI kt))) 27) ar (nI 0))) 30 (upd ((uw_st (uw_st (uw_st (uw_em A cz (nI 0) (nI (20 * p + s)) (nI 0)) 24 (upd ((uw_em A cz (nI 0) (nI (20 * p + s)) (nI 0)) 24) s (nI (cz + 1)))) 25 (upd ((uw_st (uw_em A cz (nI 0) (nI (20 * p + s)) (nI 0)) 24 (upd ((uw_em A cz (nI 0) (nI (20 * p + s)) (nI 0)) 24) s (nI (cz + 1)))) 25) s (nI lb))) 26 (upd ((uw_st (uw_em A cz (nI 0) (nI (20 * p + s)) (nI 0)) 24 (upd ((uw_em A cz (nI 0) (nI (20 * p + s)) (nI 0)) 24) s (nI (cz + 1)))) 26) s (nI kt))) 30) ar (nI kt))) (wk) (nI 6) (nI s)) (wk + 1) (nI 0) (nI qb))) (cz := cz + 1) (lb := lb + 2) (kt := kt + 1) (ex := ex) (rg := rg) (wk := wk + 2) (ar := ar + 1) (o := nI 5) (x := nI s) (by omega) (uw_bn (by omega)) (uw_sn (by omega)) ⟨i8, ?_⟩
  have f5 : (uw_ka (uw_ka (uw_ka (uw_st (uw_st (uw_st (uw_st (uw_st (uw_st (uw_em A cz (nI 0) (nI (20 * p + s)) (nI 0)) 24 (upd ((uw_em A cz (nI 0) (nI (20 * p + s)) (nI 0)) 24) s (nI (cz + 1)))) 25 (upd ((uw_st (uw_em A cz (nI 0) (nI (20 * p + s)) (nI 0)) 24 (upd ((uw_em A cz (nI 0) (nI (20 * p + s)) (nI 0)) 24) s (nI (cz + 1)))) 25) s (nI lb))) 26 (upd ((uw_st (uw_em A cz (nI 0) (nI (20 * p + s)) (nI 0)) 24 (upd ((uw_em A cz (nI 0) (nI (20 * p + s)) (nI 0)) 24) s (nI (cz + 1)))) 26) s (nI kt))) 14 (upd ((uw_st (uw_st (uw_st (uw_em A cz (nI 0) (nI (20 * p + s)) (nI 0)) 24 (upd ((uw_em A cz (nI 0) (nI (20 * p + s)) (nI 0)) 24) s (nI (cz + 1)))) 25 (upd ((uw_st (uw_em A cz (nI 0) (nI (20 * p + s)) (nI 0)) 24 (upd ((uw_em A cz (nI 0) (nI (20 * p + s)) (nI 0)) 24) s (nI (cz + 1)))) 25) s (nI lb))) 26 (upd ((uw_st (uw_em A cz (nI 0) (nI (20 * p + s)) (nI 0)) 24 (upd ((uw_em A cz (nI 0) (nI (20 * p + s)) (nI 0)) 24) s (nI (cz + 1)))) 26) s (nI kt))) 14) kt (nI (lb + 1)))) 27 (upd ((uw_st (uw_st (uw_st (uw_em A cz (nI 0) (nI (20 * p + s)) (nI 0)) 24 (upd ((uw_em A cz (nI 0) (nI (20 * p + s)) (nI 0)) 24) s (nI (cz + 1)))) 25 (upd ((uw_st (uw_em A cz (nI 0) (nI (20 * p + s)) (nI 0)) 24 (upd ((uw_em A cz (nI 0) (nI (20 * p + s)) (nI 0)) 24) s (nI (cz + 1)))) 25) s (nI lb))) 26 (upd ((uw_st (uw_em A cz (nI 0) (nI (20 * p + s)) (nI 0)) 24 (upd ((uw_em A cz (nI 0) (nI (20 * p + s)) (nI 0)) 24) s (nI (cz + 1)))) 26) s (nI kt))) 27) ar (nI 0))) 30 (upd ((uw_st (uw_st (uw_st (uw_em A cz (nI 0) (nI (20 * p + s)) (nI 0)) 24 (upd ((uw_em A cz (nI 0) (nI (20 * p + s)) (nI 0)) 24) s (nI (cz + 1)))) 25 (upd ((uw_st (uw_em A cz (nI 0) (nI (20 * p + s)) (nI 0)) 24 (upd ((uw_em A cz (nI 0) (nI (20 * p + s)) (nI 0)) 24) s (nI (cz + 1)))) 25) s (nI lb))) 26 (upd ((uw_st (uw_em A cz (nI 0) (nI (20 * p + s)) (nI 0)) 24 (upd ((uw_em A cz (nI 0) (nI (20 * p + s)) (nI 0)) 24) s (nI (cz + 1)))) 26) s (nI kt))) 30) ar (nI kt))) (wk) (nI 6) (nI s)) (wk + 1) (nI 0) (nI qb)) (wk + 2) (nI 5) (nI s)) 3 (nI (20 * p + s)).toNatClampNeg = nI qa := by rw [c8]; exact ha
  rw [f5]
  exact uw_cka (C := C) (A := (uw_ka (uw_ka (uw_ka (uw_st (uw_st (uw_st (uw_st (uw_st (uw_st (uw_em A cz (nI 0) (nI (20 * p + s)) (nI 0)) 24 (upd ((uw_em A cz (nI 0) (nI (20 * p + s)) (nI 0)) 24) s (nI (cz + 1)))) 25 (upd ((uw_st (uw_em A cz (nI 0) (nI (20 * p + s)) (nI 0)) 24 (upd ((uw_em A cz (nI 0) (nI (20 * p + s)) (nI 0)) 24) s (nI (cz + 1)))) 25) s (nI lb))) 26 (upd ((uw_st (uw_em A cz (nI 0) (nI (20 * p + s)) (nI 0)) 24 (upd ((uw_em A cz (nI 0) (nI (20 * p + s)) (nI 0)) 24) s (nI (cz + 1)))) 26) s (nI kt))) 14 (upd ((uw_st (uw_st (uw_st (uw_em A cz (nI 0) (nI (20 * p + s)) (nI 0)) 24 (upd ((uw_em A cz (nI 0) (nI (20 * p + s)) (nI 0)) 24) s (nI (cz + 1)))) 25 (upd ((uw_st (uw_em A cz (nI 0) (nI (20 * p + s)) (nI 0)) 24 (upd ((uw_em A cz (nI 0) (nI (20 * p + s)) (nI 0)) 24) s (nI (cz + 1)))) 25) s (nI lb))) 26 (upd ((uw_st (uw_em A cz (nI 0) (nI (20 * p + s)) (nI 0)) 24 (upd ((uw_em A cz (nI 0) (nI (20 * p + s)) (nI 0)) 24) s (nI (cz + 1)))) 26) s (nI kt))) 14) kt (nI (lb + 1)))) 27 (upd ((uw_st (uw_st (uw_st (uw_em A cz (nI 0) (nI (20 * p + s)) (nI 0)) 24 (upd ((uw_em A cz (nI 0) (nI (20 * p + s)) (nI 0)) 24) s (nI (cz + 1)))) 25 (upd ((uw_st (uw_em A cz (nI 0) (nI (20 * p + s)) (nI 0)) 24 (upd ((uw_em A cz (nI 0) (nI (20 * p + s)) (nI 0)) 24) s (nI (cz + 1)))) 25) s (nI lb))) 26 (upd ((uw_st (uw_em A cz (nI 0) (nI (20 * p + s)) (nI 0)) 24 (upd ((uw_em A cz (nI 0) (nI (20 * p + s)) (nI 0)) 24) s (nI (cz + 1)))) 26) s (nI kt))) 27) ar (nI 0))) 30 (upd ((uw_st (uw_st (uw_st (uw_em A cz (nI 0) (nI (20 * p + s)) (nI 0)) 24 (upd ((uw_em A cz (nI 0) (nI (20 * p + s)) (nI 0)) 24) s (nI (cz + 1)))) 25 (upd ((uw_st (uw_em A cz (nI 0) (nI (20 * p + s)) (nI 0)) 24 (upd ((uw_em A cz (nI 0) (nI (20 * p + s)) (nI 0)) 24) s (nI (cz + 1)))) 25) s (nI lb))) 26 (upd ((uw_st (uw_em A cz (nI 0) (nI (20 * p + s)) (nI 0)) 24 (upd ((uw_em A cz (nI 0) (nI (20 * p + s)) (nI 0)) 24) s (nI (cz + 1)))) 26) s (nI kt))) 30) ar (nI kt))) (wk) (nI 6) (nI s)) (wk + 1) (nI 0) (nI qb)) (wk + 2) (nI 5) (nI s))) (cz := cz + 1) (lb := lb + 2) (kt := kt + 1) (ex := ex) (rg := rg) (wk := wk + 3) (ar := ar + 1) (o := nI 0) (x := nI qa) (by omega) (uw_bn (by omega)) (uw_sn (by omega)) K
theorem uw_s4t {qa r a l : Nat} (hp : (C 9) = nI p) (hp' : p < 3) (hs : s < 20) (hw : wk < 128) (h0 : (A 22) wk = nI 4) (hx : (A 23) wk = nI s) (hc : cz + 1 < 360) (hl : lb < 128) (hrg : rg < 30) (ha : (A 3) (20 * p + s) = nI qa) (ha' : qa < 20) (hr : (A 1) (20 * p + s) = nI r) (hr' : r < 4) (ha0 : (A 24) s = nI a) (ha1 : a < 32768) (hl0 : (A 25) s = nI l) (hl1 : l < 128) (hm : ¬ (A 8) qa = 0) :
    ∃ A1, uw_RN 1 (uw_cc C cz lb kt ex rg (wk + 1) ar) A (uw_cc C (cz + 2) (lb + 1) kt ex (rg + 1) wk ar) A1 ∧ uw_KP 0 cz lb kt ex rg wk s ar A A1 ∧ uw_RG A1 rg a cz lb (-1) ∧ (A1 9) cz = nI 9 ∧ (A1 10) cz = nI l ∧ (A1 13) lb = nI (cz + 1) ∧ (A1 9) (cz + 1) = nI 11 ∧ (A1 10) (cz + 1) = nI r := by
  have i8 : vp_in (nI (20 * p + s)) 80 := vp_in_nI (by omega) (by decide)
  have c8 : (nI (20 * p + s)).toNatClampNeg = 20 * p + s := nI_clamp (by omega)
  have i2 : vp_in (nI s) 20 := vp_in_nI hs (by decide)
  have c2 : (nI s).toNatClampNeg = s := nI_clamp (by omega)
  have e1 : (20 : Int32) * (C 9) + nI s = nI (20 * p + s) := by rw [hp]; exact uw_20p p s
  refine ⟨uw_em (uw_pl (uw_em (uw_ra A rg a cz (nI lb) (-1)) (cz) (nI 9) (nI l) (nI 0)) (lb) (cz + 1)) (cz + 1) (nI 11) (nI r) (nI 0), uw_w4 hw h0 hx (fun q K => ?_), uw_k_em (by omega) (uw_k_pl (Or.inr (by omega)) (uw_k_em (by omega) (uw_k_ra (Nat.le_refl _) (uw_kr)))), ⟨pk_us, pk_us, pk_us, pk_us⟩, (pk_un (by omega)).trans (pk_us), (pk_un (by omega)).trans (pk_us), pk_us, pk_us, pk_us⟩
  unfold wpX_writeCatcher
  refine nm_r (e' := nI (20 * p + s)) e1 (uw_cnl (C := C) (A := A) (cz := cz) (lb := lb) (kt := kt) (ex := ex) (rg := rg) (wk := wk) (ar := ar) ?_)
  refine uw_cra (C := C) (A := A) (cz := cz) (lb := lb + 1) (kt := kt) (ex := ex) (rg := rg) (wk := wk) (ar := ar) (s := s) (a := a) (x := nI lb) (y := -1) (by omega) (by omega) hs (uw_sn (by omega)) uw_bm ha0 ha1 ⟨i8, ?_⟩
  have f3 : (uw_ra A rg a cz (nI lb) (-1)) 3 (nI (20 * p + s)).toNatClampNeg = nI qa := by rw [c8]; exact ha
  rw [f3]
  refine ⟨vp_in_nI ha' (by decide), ?_⟩
  have f4 : (uw_ra A rg a cz (nI lb) (-1)) 8 (nI qa).toNatClampNeg = (A 8) qa := by rw [nI_clamp (by omega)]; rfl
  rw [f4]
  refine br_f hm ⟨i2, ?_⟩
  have f5 : (uw_ra A rg a cz (nI lb) (-1)) 25 (nI s).toNatClampNeg = nI l := by rw [c2]; exact hl0
  rw [f5]
  refine uw_cem (C := C) (A := (uw_ra A rg a cz (nI lb) (-1))) (cz := cz) (lb := lb + 1) (kt := kt) (ex := ex) (rg := rg + 1) (wk := wk) (ar := ar) (o := nI 9) (x := nI l) (y := nI 0) (by omega) (uw_bn (by omega)) (uw_sn (by omega)) (uw_sn (by omega)) ?_
  unfold wX_writeCatcher_49
  refine uw_cpl (C := C) (A := (uw_em (uw_ra A rg a cz (nI lb) (-1)) (cz) (nI 9) (nI l) (nI 0))) (cz := cz + 1) (lb := lb + 1) (kt := kt) (ex := ex) (rg := rg + 1) (wk := wk) (ar := ar) (l := lb) (by omega) (by omega) ⟨i8, ?_⟩
  have f1 : (uw_pl (uw_em (uw_ra A rg a cz (nI lb) (-1)) (cz) (nI 9) (nI l) (nI 0)) (lb) (cz + 1)) 1 (nI (20 * p + s)).toNatClampNeg = nI r := by rw [c8]; exact hr
  rw [f1]
  exact uw_cem (C := C) (A := (uw_pl (uw_em (uw_ra A rg a cz (nI lb) (-1)) (cz) (nI 9) (nI l) (nI 0)) (lb) (cz + 1))) (cz := cz + 1) (lb := lb + 1) (kt := kt) (ex := ex) (rg := rg + 1) (wk := wk) (ar := ar) (o := nI 11) (x := nI r) (y := nI 0) (by omega) (uw_bn (by omega)) (uw_sn (by omega)) (uw_sn (by omega)) K
theorem uw_s4f {qa r a l : Nat} (hp : (C 9) = nI p) (hp' : p < 3) (hs : s < 20) (hw : wk < 128) (h0 : (A 22) wk = nI 4) (hx : (A 23) wk = nI s) (hc : cz + 1 < 360) (hl : lb < 128) (hrg : rg < 30) (ha : (A 3) (20 * p + s) = nI qa) (ha' : qa < 20) (hr : (A 1) (20 * p + s) = nI r) (hr' : r < 4) (ha0 : (A 24) s = nI a) (ha1 : a < 32768) (hl0 : (A 25) s = nI l) (hl1 : l < 128) (hm : (A 8) qa = 0) :
    ∃ A1, uw_RN 1 (uw_cc C cz lb kt ex rg (wk + 1) ar) A (uw_cc C (cz + 1) (lb + 1) kt ex (rg + 1) wk ar) A1 ∧ uw_KP 0 cz lb kt ex rg wk s ar A A1 ∧ uw_RG A1 rg a cz lb (-1) ∧ (A1 13) lb = nI (cz + 0) ∧ (A1 9) (cz + 0) = nI 11 ∧ (A1 10) (cz + 0) = nI r := by
  have i8 : vp_in (nI (20 * p + s)) 80 := vp_in_nI (by omega) (by decide)
  have c8 : (nI (20 * p + s)).toNatClampNeg = 20 * p + s := nI_clamp (by omega)
  have i2 : vp_in (nI s) 20 := vp_in_nI hs (by decide)
  have c2 : (nI s).toNatClampNeg = s := nI_clamp (by omega)
  have e1 : (20 : Int32) * (C 9) + nI s = nI (20 * p + s) := by rw [hp]; exact uw_20p p s
  refine ⟨uw_em (uw_pl (uw_ra A rg a cz (nI lb) (-1)) (lb) (cz)) (cz) (nI 11) (nI r) (nI 0), uw_w4 hw h0 hx (fun q K => ?_), uw_k_em (by omega) (uw_k_pl (Or.inr (by omega)) (uw_k_ra (Nat.le_refl _) (uw_kr))), ⟨pk_us, pk_us, pk_us, pk_us⟩, pk_us, pk_us, pk_us⟩
  unfold wpX_writeCatcher
  refine nm_r (e' := nI (20 * p + s)) e1 (uw_cnl (C := C) (A := A) (cz := cz) (lb := lb) (kt := kt) (ex := ex) (rg := rg) (wk := wk) (ar := ar) ?_)
  refine uw_cra (C := C) (A := A) (cz := cz) (lb := lb + 1) (kt := kt) (ex := ex) (rg := rg) (wk := wk) (ar := ar) (s := s) (a := a) (x := nI lb) (y := -1) (by omega) (by omega) hs (uw_sn (by omega)) uw_bm ha0 ha1 ⟨i8, ?_⟩
  have f3 : (uw_ra A rg a cz (nI lb) (-1)) 3 (nI (20 * p + s)).toNatClampNeg = nI qa := by rw [c8]; exact ha
  rw [f3]
  refine ⟨vp_in_nI ha' (by decide), ?_⟩
  have f4 : (uw_ra A rg a cz (nI lb) (-1)) 8 (nI qa).toNatClampNeg = (A 8) qa := by rw [nI_clamp (by omega)]; rfl
  rw [f4]
  refine br_t hm ?_
  unfold wX_writeCatcher_49
  refine uw_cpl (C := C) (A := (uw_ra A rg a cz (nI lb) (-1))) (cz := cz) (lb := lb + 1) (kt := kt) (ex := ex) (rg := rg + 1) (wk := wk) (ar := ar) (l := lb) (by omega) (by omega) ⟨i8, ?_⟩
  have f1 : (uw_pl (uw_ra A rg a cz (nI lb) (-1)) (lb) (cz)) 1 (nI (20 * p + s)).toNatClampNeg = nI r := by rw [c8]; exact hr
  rw [f1]
  exact uw_cem (C := C) (A := (uw_pl (uw_ra A rg a cz (nI lb) (-1)) (lb) (cz))) (cz := cz) (lb := lb + 1) (kt := kt) (ex := ex) (rg := rg + 1) (wk := wk) (ar := ar) (o := nI 11) (x := nI r) (y := nI 0) (by omega) (uw_bn (by omega)) (uw_sn (by omega)) (uw_sn (by omega)) K
theorem uw_s5t {qa a l k bl lc : Nat} (hp : (C 9) = nI p) (hp' : p < 3) (hs : s < 20) (hw : wk < 128) (h0 : (A 22) wk = nI 5) (hx : (A 23) wk = nI s) (hc : cz < 360) (hrg : rg < 30) (hex : ex < 200) (ha : (A 3) (20 * p + s) = nI qa) (ha' : qa < 20) (ha0 : (A 24) s = nI a) (ha1 : a < 32768) (hl0 : (A 25) s = nI l) (hl1 : l < 128) (hk0 : (A 26) s = nI k) (hk1 : k < 30) (hbl : (A 14) k = nI bl) (hbl1 : bl < 128) (hbl2 : lc ≤ bl) (hm : ¬ (A 8) qa = 0) :
    ∃ A1, uw_RN 1 (uw_cc C cz lb kt ex rg (wk + 1) (ar + 1)) A (uw_cc C (cz + 1) lb kt (ex + 1) (rg + 1) wk ar) A1 ∧ uw_KP 0 cz lc kt ex rg wk s ar A A1 ∧ (∀ x, x ≠ bl → (A1 13) x = (A 13) x) ∧ ((A1 25) = (A 25) ∧ (A1 26) = (A 26)) ∧ uw_RG A1 rg a cz bl (nI k) ∧ (A1 9) cz = nI 12 ∧ (A1 10) cz = nI k ∧ (A1 11) cz = nI ex ∧ (A1 15) ex = -1 ∧ (A1 17) ex = nI l ∧ (A1 13) bl = nI (cz + 1) := by
  have i8 : vp_in (nI (20 * p + s)) 80 := vp_in_nI (by omega) (by decide)
  have c8 : (nI (20 * p + s)).toNatClampNeg = 20 * p + s := nI_clamp (by omega)
  have i2 : vp_in (nI s) 20 := vp_in_nI hs (by decide)
  have c2 : (nI s).toNatClampNeg = s := nI_clamp (by omega)
  have ik : vp_in (nI k) 30 := vp_in_nI hk1 (by decide)
  have ck : (nI k).toNatClampNeg = k := nI_clamp (by omega)
  have e1 : (20 : Int32) * (C 9) + nI s = nI (20 * p + s) := by rw [hp]; exact uw_20p p s
  refine ⟨uw_pl (uw_em (uw_nx (uw_ra A rg a cz (nI bl) (nI k)) ex (-1) (-1) (nI l)) (cz) (nI 12) (nI k) (nI ex)) (bl) (cz + 1), uw_w5 (ar := ar + 1) hw h0 hx (fun q K => ?_), uw_k_pl (Or.inr hbl2) (uw_k_em (by omega) (uw_k_nx (Nat.le_refl _) (uw_k_ra (Nat.le_refl _) (uw_kr)))), fun x hx => pk_un hx, ⟨rfl, rfl⟩, ⟨pk_us, pk_us, pk_us, pk_us⟩, pk_us, pk_us, pk_us, pk_us, pk_us, pk_us⟩
  unfold wpX_writeBack
  refine nm_r (e' := nI (20 * p + s)) e1 ⟨i2, nm_r (e' := nI k) (by rw [c2]; exact hk0) (nm_r (e' := nI ar) (nI_pred ar) ⟨ik, ?_⟩)⟩
  have f0 : A 14 (nI k).toNatClampNeg = nI bl := by rw [ck]; exact hbl
  rw [f0]
  refine uw_cra (C := C) (A := A) (cz := cz) (lb := lb) (kt := kt) (ex := ex) (rg := rg) (wk := wk) (ar := ar) (s := s) (a := a) (x := nI bl) (y := nI k) (by omega) (by omega) hs (uw_sn (by omega)) (uw_bn (by omega)) ha0 ha1 ⟨i8, ?_⟩
  have f3 : (uw_ra A rg a cz (nI bl) (nI k)) 3 (nI (20 * p + s)).toNatClampNeg = nI qa := by rw [c8]; exact ha
  rw [f3]
  refine ⟨vp_in_nI ha' (by decide), ?_⟩
  have f4 : (uw_ra A rg a cz (nI bl) (nI k)) 8 (nI qa).toNatClampNeg = (A 8) qa := by rw [nI_clamp (by omega)]; rfl
  rw [f4]
  refine br_f hm ⟨i2, ?_⟩
  have f5 : (uw_ra A rg a cz (nI bl) (nI k)) 25 (nI s).toNatClampNeg = nI l := by rw [c2]; exact hl0
  rw [f5]
  refine uw_cnx (C := C) (A := (uw_ra A rg a cz (nI bl) (nI k))) (cz := cz) (lb := lb) (kt := kt) (ex := ex) (rg := rg + 1) (wk := wk) (ar := ar) (x := -1) (y := -1) (z := nI l) (by omega) uw_bm uw_sm (uw_sn (by omega)) ?_
  refine uw_cem (C := C) (A := (uw_nx (uw_ra A rg a cz (nI bl) (nI k)) ex (-1) (-1) (nI l))) (cz := cz) (lb := lb) (kt := kt) (ex := ex + 1) (rg := rg + 1) (wk := wk) (ar := ar) (o := nI 12) (x := nI k) (y := nI ex) (by omega) (uw_bn (by omega)) (uw_sn (by omega)) (uw_sn (by omega)) ?_
  unfold wX_writeBack_76
  refine ⟨ik, ?_⟩
  have f1 : (uw_em (uw_nx (uw_ra A rg a cz (nI bl) (nI k)) ex (-1) (-1) (nI l)) (cz) (nI 12) (nI k) (nI ex)) 14 (nI k).toNatClampNeg = nI bl := by rw [ck]; exact hbl
  rw [f1]
  exact uw_cpl (C := C) (A := (uw_em (uw_nx (uw_ra A rg a cz (nI bl) (nI k)) ex (-1) (-1) (nI l)) (cz) (nI 12) (nI k) (nI ex))) (cz := cz + 1) (lb := lb) (kt := kt) (ex := ex + 1) (rg := rg + 1) (wk := wk) (ar := ar) (l := bl) (by omega) (by omega) K
theorem uw_s5f {qa a l k bl lc : Nat} (hp : (C 9) = nI p) (hp' : p < 3) (hs : s < 20) (hw : wk < 128) (h0 : (A 22) wk = nI 5) (hx : (A 23) wk = nI s) (hc : cz < 360) (hrg : rg < 30) (hex : ex < 200) (ha : (A 3) (20 * p + s) = nI qa) (ha' : qa < 20) (ha0 : (A 24) s = nI a) (ha1 : a < 32768) (hl0 : (A 25) s = nI l) (hl1 : l < 128) (hk0 : (A 26) s = nI k) (hk1 : k < 30) (hbl : (A 14) k = nI bl) (hbl1 : bl < 128) (hbl2 : lc ≤ bl) (hm : (A 8) qa = 0) :
    ∃ A1, uw_RN 1 (uw_cc C cz lb kt ex rg (wk + 1) (ar + 1)) A (uw_cc C (cz + 0) lb kt (ex + 0) (rg + 1) wk ar) A1 ∧ uw_KP 0 cz lc kt ex rg wk s ar A A1 ∧ (∀ x, x ≠ bl → (A1 13) x = (A 13) x) ∧ ((A1 25) = (A 25) ∧ (A1 26) = (A 26)) ∧ uw_RG A1 rg a cz bl (nI k) ∧ (A1 13) bl = nI (cz + 0) := by
  have i8 : vp_in (nI (20 * p + s)) 80 := vp_in_nI (by omega) (by decide)
  have c8 : (nI (20 * p + s)).toNatClampNeg = 20 * p + s := nI_clamp (by omega)
  have i2 : vp_in (nI s) 20 := vp_in_nI hs (by decide)
  have c2 : (nI s).toNatClampNeg = s := nI_clamp (by omega)
  have ik : vp_in (nI k) 30 := vp_in_nI hk1 (by decide)
  have ck : (nI k).toNatClampNeg = k := nI_clamp (by omega)
  have e1 : (20 : Int32) * (C 9) + nI s = nI (20 * p + s) := by rw [hp]; exact uw_20p p s
  refine ⟨uw_pl (uw_ra A rg a cz (nI bl) (nI k)) (bl) (cz), uw_w5 (ar := ar + 1) hw h0 hx (fun q K => ?_), uw_k_pl (Or.inr hbl2) (uw_k_ra (Nat.le_refl _) (uw_kr)), fun x hx => pk_un hx, ⟨rfl, rfl⟩, ⟨pk_us, pk_us, pk_us, pk_us⟩, pk_us⟩
  unfold wpX_writeBack
  refine nm_r (e' := nI (20 * p + s)) e1 ⟨i2, nm_r (e' := nI k) (by rw [c2]; exact hk0) (nm_r (e' := nI ar) (nI_pred ar) ⟨ik, ?_⟩)⟩
  have f0 : A 14 (nI k).toNatClampNeg = nI bl := by rw [ck]; exact hbl
  rw [f0]
  refine uw_cra (C := C) (A := A) (cz := cz) (lb := lb) (kt := kt) (ex := ex) (rg := rg) (wk := wk) (ar := ar) (s := s) (a := a) (x := nI bl) (y := nI k) (by omega) (by omega) hs (uw_sn (by omega)) (uw_bn (by omega)) ha0 ha1 ⟨i8, ?_⟩
  have f3 : (uw_ra A rg a cz (nI bl) (nI k)) 3 (nI (20 * p + s)).toNatClampNeg = nI qa := by rw [c8]; exact ha
  rw [f3]
  refine ⟨vp_in_nI ha' (by decide), ?_⟩
  have f4 : (uw_ra A rg a cz (nI bl) (nI k)) 8 (nI qa).toNatClampNeg = (A 8) qa := by rw [nI_clamp (by omega)]; rfl
  rw [f4]
  refine br_t hm ?_
  unfold wX_writeBack_76
  refine ⟨ik, ?_⟩
  have f1 : (uw_ra A rg a cz (nI bl) (nI k)) 14 (nI k).toNatClampNeg = nI bl := by rw [ck]; exact hbl
  rw [f1]
  exact uw_cpl (C := C) (A := (uw_ra A rg a cz (nI bl) (nI k))) (cz := cz) (lb := lb) (kt := kt) (ex := ex) (rg := rg + 1) (wk := wk) (ar := ar) (l := bl) (by omega) (by omega) K
end
end
section
/-! what is around in the compiler's arrays; loopLevel; goOut -/
def uw_EN (A : Nat → Nat → Int32) (p r : Nat) (x : (Nat × Nat) ⊕ Nat) : Prop :=
  match x with
  | Sum.inl y => (A 27) r = nI 1 ∧ (A 28) r = nI y.1 ∧ (A 29) r = nI y.2 ∧ y.1 < 128 ∧ y.2 < 128
  | Sum.inr k => (A 27) r = nI 0 ∧ (A 30) r = nI (10 * p + k) ∧ k < 10
def uw_CX (A : Nat → Nat → Int32) (p : Nat) : List ((Nat × Nat) ⊕ Nat) → Nat → Prop
  | [] => fun r => r = 0
  | x :: X => fun r => ∃ q, r = q + 1 ∧ uw_EN A p q x ∧ uw_CX A p X q
def uw_lc : List ((Nat × Nat) ⊕ Nat) → Nat
  | [] => 0
  | Sum.inl _ :: X => uw_lc X + 1
  | Sum.inr _ :: X => uw_lc X
def uw_dc : List ((Nat × Nat) ⊕ Nat) → Nat
  | [] => 0
  | Sum.inl _ :: X => uw_dc X
  | Sum.inr _ :: X => uw_dc X + 1
def uw_ls (A : Nat → Nat → Int32) (p v : Nat) : Nat → List Nat
  | 0 => []
  | r + 1 => if r < v then [] else if (A 27) r = 0 then (((A 30) r).toNatClampNeg - 10 * p) :: uw_ls A p v r else uw_ls A p v r
def uw_sa (A A' : Nat → Nat → Int32) (ar : Nat) : Prop := ∀ r, r < ar → (A' 27) r = (A 27) r ∧ (A' 28) r = (A 28) r ∧ (A' 29) r = (A 29) r ∧ (A' 30) r = (A 30) r
theorem uw_CX_c {A A' : Nat → Nat → Int32} {p : Nat} : ∀ X r, uw_sa A A' r → uw_CX A p X r → uw_CX A' p X r := by
  intro X
  induction X with
  | nil => intro r _ h; exact h
  | cons x X ih =>
    intro r hs h
    obtain ⟨q, e, h1, h2⟩ := h
    obtain ⟨a1, a2, a3, a4⟩ := hs q (by omega)
    refine ⟨q, e, ?_, ih q (fun r hr => hs r (by omega)) h2⟩
    cases x with
    | inl y => exact ⟨a1.trans h1.1, a2.trans h1.2.1, a3.trans h1.2.2.1, h1.2.2.2⟩
    | inr k => exact ⟨a1.trans h1.1, a4.trans h1.2.1, h1.2.2⟩
theorem uw_ls_c {A A' : Nat → Nat → Int32} {p v : Nat} : ∀ r, uw_sa A A' r → uw_ls A' p v r = uw_ls A p v r := by
  intro r
  induction r with
  | zero => intro _; rfl
  | succ r ih =>
    intro hs
    obtain ⟨a1, a2, a3, a4⟩ := hs r (by omega)
    have e := ih (fun q hq => hs q (by omega))
    show (if r < v then [] else if (A' 27) r = 0 then (((A' 30) r).toNatClampNeg - 10 * p) :: uw_ls A' p v r else uw_ls A' p v r) = (if r < v then [] else if (A 27) r = 0 then (((A 30) r).toNatClampNeg - 10 * p) :: uw_ls A p v r else uw_ls A p v r)
    rw [a1, a4, e]
theorem uw_ls_n {A : Nat → Nat → Int32} {p v r : Nat} (h : r < v) : uw_ls A p v (r + 1) = [] := if_pos h
theorem uw_ls_l {A : Nat → Nat → Int32} {p v r : Nat} (h : v ≤ r) (h1 : (A 27) r = nI 1) : uw_ls A p v (r + 1) = uw_ls A p v r := by
  show (if r < v then [] else if (A 27) r = 0 then (((A 30) r).toNatClampNeg - 10 * p) :: uw_ls A p v r else uw_ls A p v r) = _
  rw [if_neg (by omega), h1, if_neg (by decide)]
theorem uw_ls_k {A : Nat → Nat → Int32} {p v r k : Nat} (hp : p < 3) (h : v ≤ r) (h1 : (A 27) r = nI 0) (h2 : (A 30) r = nI (10 * p + k)) (hk : k < 10) : uw_ls A p v (r + 1) = k :: uw_ls A p v r := by
  show (if r < v then [] else if (A 27) r = 0 then (((A 30) r).toNatClampNeg - 10 * p) :: uw_ls A p v r else uw_ls A p v r) = _
  rw [if_neg (by omega), h1, if_pos (by decide), h2, nI_clamp (by omega)]
  rw [show 10 * p + k - 10 * p = k by omega]
theorem uw_ls_v {A : Nat → Nat → Int32} {p : Nat} : ∀ v, uw_ls A p v v = [] := by
  intro v
  cases v with
  | zero => rfl
  | succ v => exact uw_ls_n (by omega)
/-- a return: all the lastlies around -/
theorem uw_xt4 {A : Nat → Nat → Int32} {p el : Nat} (hp : p < 3) : ∀ X r, uw_CX A p X r → uw_XT el X 4 0 (uw_ls A p 0 r) el ∧ (uw_ls A p 0 r).length ≤ uw_dc X := by
  intro X
  induction X with
  | nil => intro r h; cases h; exact ⟨⟨rfl, rfl, rfl⟩, Nat.le_refl _⟩
  | cons x X ih =>
    intro r h
    obtain ⟨q, e, h1, h2⟩ := h
    subst e
    have g := ih q h2
    cases x with
    | inl y => rw [uw_ls_l (by omega) h1.1]; exact ⟨Or.inr (Or.inr ⟨rfl, g.1⟩), g.2⟩
    | inr k => rw [uw_ls_k hp (by omega) h1.1 h1.2.1 h1.2.2]; exact ⟨⟨_, rfl, g.1⟩, Nat.succ_le_succ g.2⟩
/-- a break or go on -/
theorem uw_xt2 {C : Nat → Int32} {A : Nat → Nat → Int32} {p el : Nat} (hp : p < 3) : ∀ X r n, uw_CX A p X r → n < uw_lc X → n < 4 → r ≤ 20 → ∃ v y, v < r ∧ (A 28) v = nI (y : Nat × Nat).1 ∧ (A 29) v = nI y.2 ∧ y.1 < 128 ∧ y.2 < 128 ∧
    uw_XT el X 2 n (uw_ls A p (v + 1) r) y.1 ∧ uw_XT el X 3 n (uw_ls A p (v + 1) r) y.2 ∧ (uw_ls A p (v + 1) r).length ≤ uw_dc X ∧
    (∀ (post : Int32 → Prop) (m : Nat), post (nI v) → wX_loopLevel_9 post (C 0) (C 1) (C 2) (C 3) (C 4) (C 5) (C 6) (C 7) (C 8) (C 9) (C 10) (C 11) (C 12) (C 13) (C 14) (C 15) (C 16) (C 17) (C 18) (A 0) (A 1) (A 2) (A 3) (A 4) (A 5) (A 6) (A 7) (A 8) (A 9) (A 10) (A 11) (A 12) (A 13) (A 14) (A 15) (A 16) (A 17) (A 18) (A 19) (A 20) (A 21) (A 22) (A 23) (A 24) (A 25) (A 26) (A 27) (A 28) (A 29) (A 30) (A 31) (A 32) (A 33) (A 34) (A 35) (A 36) (A 37) (m + r + 1) (nI (n + 1)) (nI r)) := by
  intro X
  induction X with
  | nil => intro r n h hn; exact absurd hn (Nat.not_lt_zero _)
  | cons x X ih =>
    intro r n h hn h4 hr
    obtain ⟨q, e, h1, h2⟩ := h
    subst e
    have a1 : ¬ nI (q + 1) ≤ 0 := nI_nle (by omega) (by omega)
    have a2 : ¬ nI (n + 1) ≤ 0 := nI_nle (by omega) (by omega)
    have a3 : vp_in (nI q) 20 := vp_in_nI (by omega) (by decide)
    have a4 : (nI q).toNatClampNeg = q := nI_clamp (by omega)
    cases x with
    | inl y =>
      have l1 : ¬ (A 27) (nI q).toNatClampNeg = 0 := by rw [a4, h1.1]; decide
      cases n with
      | zero =>
        refine ⟨q, y, by omega, h1.2.1, h1.2.2.1, h1.2.2.2.1, h1.2.2.2.2, ?_, ?_, ?_, fun post m K => ?_⟩
        · rw [uw_ls_v]; exact Or.inl ⟨rfl, rfl, Or.inl ⟨rfl, rfl⟩⟩
        · rw [uw_ls_v]; exact Or.inl ⟨rfl, rfl, Or.inr ⟨rfl, rfl⟩⟩
        · rw [uw_ls_v]; exact Nat.zero_le _
        · refine br_f a1 (br_f a2 (nm_r (e' := nI q) (pk_m1 q) ⟨a3, br_f l1 (nm_r (e' := nI 0) (nI_pred 0) ?_)⟩))
          exact br_c (fun _ => K) (fun _ => br_t (by decide) K)
      | succ n =>
        obtain ⟨v, z, b1, b2, b3, b4, b5, b6, b7, b8, b9⟩ := ih q n h2 (Nat.lt_of_succ_lt_succ hn) (by omega) (by omega)
        refine ⟨v, z, by omega, b2, b3, b4, b5, ?_, ?_, ?_, fun post m K => ?_⟩
        · rw [uw_ls_l (by omega) h1.1]; exact Or.inr (Or.inl ⟨Or.inl rfl, n, rfl, b6⟩)
        · rw [uw_ls_l (by omega) h1.1]; exact Or.inr (Or.inl ⟨Or.inr rfl, n, rfl, b7⟩)
        · rw [uw_ls_l (by omega) h1.1]; exact b8
        · refine br_f a1 (br_f a2 (nm_r (e' := nI q) (pk_m1 q) ⟨a3, br_f l1 (nm_r (e' := nI (n + 1)) (nI_pred (n + 1)) ?_)⟩))
          exact b9 post m K
    | inr k =>
      have l1 : (A 27) (nI q).toNatClampNeg = 0 := by rw [a4, h1.1]; rfl
      obtain ⟨v, z, b1, b2, b3, b4, b5, b6, b7, b8, b9⟩ := ih q n h2 hn h4 (by omega)
      refine ⟨v, z, by omega, b2, b3, b4, b5, ?_, ?_, ?_, fun post m K => ?_⟩
      · rw [uw_ls_k hp (by omega) h1.1 h1.2.1 h1.2.2]; exact ⟨_, rfl, b6⟩
      · rw [uw_ls_k hp (by omega) h1.1 h1.2.1 h1.2.2]; exact ⟨_, rfl, b7⟩
      · rw [uw_ls_k hp (by omega) h1.1 h1.2.1 h1.2.2]; exact Nat.succ_le_succ b8
      · refine br_f a1 (br_f a2 (nm_r (e' := nI q) (pk_m1 q) ⟨a3, br_t l1 ?_⟩))
        exact b9 post m K
theorem uw_EX_c {A A' : Nat → Nat → Int32} {p N N' l : Nat} (hN : N ≤ N') (h : ∀ x, x < N → (A' 15) x = (A 15) x ∧ (A' 16) x = (A 16) x ∧ (A' 17) x = (A 17) x) : ∀ L x, uw_EX A p N L l x → uw_EX A' p N' L l x := by
  intro L
  induction L with
  | nil =>
    intro x g
    obtain ⟨a, b, c⟩ := h x g.1
    exact ⟨by have := g.1; omega, a.trans g.2.1, c.trans g.2.2⟩
  | cons k L ih =>
    intro x g
    obtain ⟨g1, g2, g3, y, g4, g5⟩ := g
    obtain ⟨a, b, c⟩ := h x g1
    exact ⟨by omega, g2, a.trans g3, y, b.trans g4, ih y g5⟩
def uw_EP (A : Nat → Nat → Int32) (p N l : Nat) (L : List Nat) (x y : Int32) : Prop :=
  match L with
  | [] => x = -1 ∧ y = -1
  | k :: L => k < 10 ∧ x = nI (10 * p + k) ∧ ∃ e, y = nI e ∧ uw_EX A p N L l e
def uw_EA (A : Nat → Nat → Int32) (p ar : Nat) : Prop := ∀ r, r < ar → (A 27) r = nI 1 ∨ ((A 27) r = nI 0 ∧ ∃ k, k < 10 ∧ (A 30) r = nI (10 * p + k))
theorem uw_CX_EA {A : Nat → Nat → Int32} {p : Nat} : ∀ X r, uw_CX A p X r → uw_EA A p r := by
  intro X
  induction X with
  | nil => intro r h; cases h; exact fun r hr => absurd hr (Nat.not_lt_zero _)
  | cons x X ih =>
    intro r h
    obtain ⟨q, e, h1, h2⟩ := h
    subst e
    intro r hr
    rcases Nat.lt_or_ge r q with z | z
    · exact ih q h2 r z
    · have : r = q := by omega
      subst this
      cases x with
      | inl y => exact Or.inl h1.1
      | inr k => exact Or.inr ⟨h1.1, k, h1.2.2, h1.2.1⟩
theorem uw_ls_mono {A : Nat → Nat → Int32} {p v : Nat} (hp : p < 3) : ∀ d i, v ≤ i → uw_EA A p (i + d) → (uw_ls A p v i).length ≤ (uw_ls A p v (i + d)).length := by
  intro d
  induction d with
  | zero => intro i _ _; exact Nat.le_refl _
  | succ d ih =>
    intro i hi h
    have g := ih i hi (fun r hr => h r (by omega))
    rcases h (i + d) (by omega) with a | ⟨a, k, b, c⟩
    · show _ ≤ (uw_ls A p v ((i + d) + 1)).length
      rw [uw_ls_l (by omega) a]; exact g
    · show _ ≤ (uw_ls A p v ((i + d) + 1)).length
      rw [uw_ls_k hp (by omega) a c b]; exact Nat.le_succ_of_le g
theorem uw_bk {p k : Nat} (hp : p < 3) (hk : k < 10) : 10 * p + k < 30 := by omega
/-- goOut from entry i on -/
theorem uw_go8 {C : Nat → Int32} {cz lb kt rg wk ar p l v sx : Nat} (hp : p < 3) (hl : l < 128) (hc : cz < 360) (har : ar ≤ 20) : ∀ (d i ex : Nat) (A : Nat → Nat → Int32) (x y : Int32), i + d = ar → v ≤ i → uw_EA A p ar → uw_EP A p ex l (uw_ls A p v i) x y → ex + (uw_ls A p v ar).length ≤ 200 + (uw_ls A p v i).length → ex ≤ 200 →
    ∃ ex' A', ex' + (uw_ls A p v i).length = ex + (uw_ls A p v ar).length ∧ uw_KP 0 cz lb kt ex rg wk sx ar A A' ∧ uw_GO A' p ex' (uw_ls A p v ar) l cz ∧
      (∀ (post : SX → Prop) (m : Nat), post (XS (uw_cc C (cz + 1) lb kt (ex') rg wk ar) A') → wX_goOut_8 post (nI l) (m + d + 1) x y (nI i) ((uw_cc C cz lb kt ex rg wk ar) 0) ((uw_cc C cz lb kt ex rg wk ar) 1) ((uw_cc C cz lb kt ex rg wk ar) 2) ((uw_cc C cz lb kt ex rg wk ar) 3) ((uw_cc C cz lb kt ex rg wk ar) 4) ((uw_cc C cz lb kt ex rg wk ar) 5) ((uw_cc C cz lb kt ex rg wk ar) 6) ((uw_cc C cz lb kt ex rg wk ar) 7) ((uw_cc C cz lb kt ex rg wk ar) 8) ((uw_cc C cz lb kt ex rg wk ar) 9) ((uw_cc C cz lb kt ex rg wk ar) 10) ((uw_cc C cz lb kt ex rg wk ar) 11) ((uw_cc C cz lb kt ex rg wk ar) 12) ((uw_cc C cz lb kt ex rg wk ar) 13) ((uw_cc C cz lb kt ex rg wk ar) 14) ((uw_cc C cz lb kt ex rg wk ar) 15) ((uw_cc C cz lb kt ex rg wk ar) 16) ((uw_cc C cz lb kt ex rg wk ar) 17) ((uw_cc C cz lb kt ex rg wk ar) 18) (A 0) (A 1) (A 2) (A 3) (A 4) (A 5) (A 6) (A 7) (A 8) (A 9) (A 10) (A 11) (A 12) (A 13) (A 14) (A 15) (A 16) (A 17) (A 18) (A 19) (A 20) (A 21) (A 22) (A 23) (A 24) (A 25) (A 26) (A 27) (A 28) (A 29) (A 30) (A 31) (A 32) (A 33) (A 34) (A 35) (A 36) (A 37)) := by
  intro d
  induction d with
  | zero =>
    intro i ex A x y hi hv ea ep hb hx
    have e : i = ar := by omega
    subst e
    have le : nI i ≤ nI i := Int32.le_refl _
    cases hL : uw_ls A p v i with
    | nil =>
      rw [hL] at ep
      obtain ⟨rfl, rfl⟩ := ep
      refine ⟨ex, uw_em A cz (nI 9) (nI l) (nI 0), rfl, uw_k_em (Nat.le_refl _) uw_kr, ⟨pk_us, pk_us⟩, fun post m K => br_t le (br_f (by decide) ?_)⟩
      exact uw_cem (C := C) (A := A) (lb := lb) (kt := kt) (ex := ex) (rg := rg) (wk := wk) (ar := i) (o := nI 9) (x := nI l) (y := nI 0) hc (uw_bn (by omega)) (uw_sn (by omega)) (uw_sn (by omega)) K
    | cons k L =>
      rw [hL] at ep
      obtain ⟨hk, rfl, e, rfl, ee⟩ := ep
      have he : e < 200 := by
        cases L with
        | nil => have := ee.1; omega
        | cons _ _ => have := ee.1; omega
      refine ⟨ex, uw_em A cz (nI 12) (nI (10 * p + k)) (nI e), rfl, uw_k_em (Nat.le_refl _) uw_kr, ⟨hk, pk_us, pk_us, e, pk_us, uw_EX_c (A := A) (A' := uw_em A cz (nI 12) (nI (10 * p + k)) (nI e)) (Nat.le_refl _) (fun _ _ => ⟨rfl, rfl, rfl⟩) _ _ ee⟩, fun post m K => br_t le (br_t (nI_pos' (by omega)) ?_)⟩
      exact uw_cem (C := C) (A := A) (lb := lb) (kt := kt) (ex := ex) (rg := rg) (wk := wk) (ar := i) (o := nI 12) hc (uw_bn (by omega)) (uw_sn (by omega)) (uw_sn (by omega)) K
  | succ d ih =>
    intro i ex A x y hi hv ea ep hb hx
    have n1 : ¬ nI ar ≤ nI i := nI_ge (by omega) (by omega)
    have i2 : vp_in (nI i) 20 := vp_in_nI (by omega) (by decide)
    have c2 : (nI i).toNatClampNeg = i := nI_clamp (by omega)
    rcases ea i (by omega) with a | ⟨a, k, b, c⟩
    · have e1 : uw_ls A p v (i + 1) = uw_ls A p v i := uw_ls_l hv a
      obtain ⟨ex', A', b1, b2, b3, b4⟩ := ih (i + 1) ex A x y (by omega) (by omega) ea (by rw [e1]; exact ep) (by rw [e1]; exact hb) hx
      rw [e1] at b1
      refine ⟨ex', A', b1, b2, b3, fun post m K => br_f n1 ⟨i2, br_f (by rw [c2, a]; decide) (nm_r (e' := nI (i + 1)) (nI_1 i) ?_)⟩⟩
      exact b4 post m K
    · have e1 : uw_ls A p v (i + 1) = k :: uw_ls A p v i := uw_ls_k hp hv a c b
      have hm := uw_ls_mono (A := A) (v := v) hp d (i + 1) (by omega) (by rw [show i + 1 + d = ar by omega]; exact ea)
      rw [show i + 1 + d = ar by omega, e1] at hm
      have hm' : (uw_ls A p v i).length + 1 ≤ (uw_ls A p v ar).length := hm
      have hex : ex < 200 := by omega
      have sa : uw_sa A (uw_nx A ex x y (nI l)) ar := fun r _ => ⟨rfl, rfl, rfl, rfl⟩
      have hxB : uw_B x ∧ uw_S y := by
        cases hL : uw_ls A p v i with
        | nil => rw [hL] at ep; obtain ⟨rfl, rfl⟩ := ep; exact ⟨uw_bm, uw_sm⟩
        | cons k' L' =>
          rw [hL] at ep
          obtain ⟨hk, rfl, e, rfl, ee⟩ := ep
          have he : e < 200 := by
            cases L' with
            | nil => have := ee.1; omega
            | cons _ _ => have := ee.1; omega
          exact ⟨uw_bn (by omega), uw_sn (by omega)⟩
      have ep' : uw_EP (uw_nx A ex x y (nI l)) p (ex + 1) l (k :: uw_ls A p v i) (nI (10 * p + k)) (nI ex) := by
        refine ⟨b, rfl, ex, rfl, ?_⟩
        cases hL : uw_ls A p v i with
        | nil => rw [hL] at ep; obtain ⟨rfl, rfl⟩ := ep; exact ⟨by omega, pk_us, pk_us⟩
        | cons k' L' =>
          rw [hL] at ep
          obtain ⟨hk, rfl, e, rfl, ee⟩ := ep
          exact ⟨by omega, hk, pk_us, e, pk_us, uw_EX_c (Nat.le_succ _) (fun z hz => ⟨pk_un (by omega), pk_un (by omega), pk_un (by omega)⟩) _ _ ee⟩
      have e2 : uw_ls (uw_nx A ex x y (nI l)) p v (i + 1) = k :: uw_ls A p v i := (uw_ls_c _ (fun r hr => sa r (by omega))).trans e1
      have e3 : uw_ls (uw_nx A ex x y (nI l)) p v ar = uw_ls A p v ar := uw_ls_c _ sa
      obtain ⟨ex', A', b1, b2, b3, b4⟩ := ih (i + 1) (ex + 1) (uw_nx A ex x y (nI l)) (nI (10 * p + k)) (nI ex) (by omega) (by omega) ea (by rw [e2]; exact ep') (by rw [e2, e3]; simp only [List.length_cons]; omega) (by omega)
      rw [e2, e3] at b1
      rw [e3] at b3
      simp only [List.length_cons] at b1
      refine ⟨ex', A', by omega, uw_kt (uw_k_nx (Nat.le_refl _) uw_kr) (uw_km b2 (by omega)), b3, fun post m K => br_f n1 ⟨i2, br_t (by rw [c2, a]; rfl) ?_⟩⟩
      refine uw_cnx (C := C) (A := A) (cz := cz) (lb := lb) (kt := kt) (ex := ex) (rg := rg) (wk := wk) (ar := ar) hex hxB.1 hxB.2 (uw_sn (by omega)) ⟨i2, nm_r (e' := nI (10 * p + k)) (by rw [c2]; exact c) (nm_r (e' := nI (i + 1)) (nI_1 i) ?_)⟩
      exact b4 post m K
/-! the steps at break, go on and return -/
section
variable {C : Nat → Int32} {A : Nat → Nat → Int32} {cz lb kt ex rg wk ar p s : Nat}
theorem uw_s9 {el : Nat} {X : List ((Nat × Nat) ⊕ Nat)} (H : uw_HS C A p s wk) (hc : cz + 1 < 360) (hk : (A 0) (20 * p + s) = nI 9) (hel : (C 10) = nI el) (hel' : el < 128) (hX : uw_CX A p X ar) (har : ar ≤ 20) (hex : ex + uw_dc X ≤ 200) :
    ∃ A1 L ex', uw_RN 1 (uw_cc C cz lb kt ex rg (wk + 1) ar) A (uw_cc C (cz + 2) lb kt (ex') rg wk ar) A1 ∧ uw_KP 0 cz lb kt ex rg wk s ar A A1 ∧ (A1 9) cz = nI 0 ∧ (A1 10) cz = nI (20 * p + s) ∧ ex ≤ ex' ∧ ex' ≤ ex + uw_dc X ∧ uw_XT el X 4 0 L el ∧ uw_GO A1 p ex' L el (cz + 1) := by
  have hp := H.2.1
  have hs := H.2.2.1
  have i8 : vp_in (nI (20 * p + s)) 80 := vp_in_nI (by omega) (by decide)
  have c8 : (nI (20 * p + s)).toNatClampNeg = 20 * p + s := nI_clamp (by omega)
  have hX1 : uw_CX (uw_em A cz (nI 0) (nI (20 * p + s)) (nI 0)) p X ar := uw_CX_c (A := A) _ _ (fun _ _ => ⟨rfl, rfl, rfl, rfl⟩) hX
  have g := uw_xt4 (el := el) hp X ar hX1
  obtain ⟨ex', A', b1, b2, b3, b4⟩ := uw_go8 (C := C) (cz := cz + 1) (lb := lb) (kt := kt) (rg := rg) (wk := wk) (v := 0) (sx := s) hp hel' hc har ar 0 ex _ (-1) (-1) (by omega) (by omega) (uw_CX_EA _ _ hX1) ⟨rfl, rfl⟩ (by have := g.2; omega) (by omega)
  have e0 : uw_ls (uw_em A cz (nI 0) (nI (20 * p + s)) (nI 0)) p 0 0 = [] := rfl
  rw [e0] at b1
  simp only [List.length_nil] at b1
  have q1 : uw_KP 0 cz lb kt ex rg wk s ar A A' := uw_kt (uw_k_em (Nat.le_refl _) uw_kr) (uw_km b2 (by omega))
  have q2 : ∀ j, 9 ≤ j → j ≤ 11 → A' j cz = (uw_em A cz (nI 0) (nI (20 * p + s)) (nI 0)) j cz := fun j h1 h2 => b2 j cz (by unfold uw_od; omega)
  refine ⟨A', _, ex', uw_t1 H (by omega) hk (by omega) (fun q K => ?_), q1, (q2 9 (by omega) (by omega)).trans pk_us, (q2 10 (by omega) (by omega)).trans pk_us, by omega, by have := g.2; omega, g.1, b3⟩
  unfold wpX_writeSimple XS
  refine ⟨i8, nm_r (e' := nI 9) (by rw [c8]; exact hk) (br_f (by decide) (br_f (by decide) (br_t rfl ?_)))⟩
  unfold wpX_goOut
  have e1 : uw_cc C (cz + 1) lb kt ex rg wk ar 10 = nI el := hel
  have L : ∀ z, z = nI el → wX_goOut_8 q z (0 + ar + 1) (-1) (-1) (nI 0) ((uw_cc C (cz + 1) lb kt ex rg wk ar) 0) ((uw_cc C (cz + 1) lb kt ex rg wk ar) 1) ((uw_cc C (cz + 1) lb kt ex rg wk ar) 2) ((uw_cc C (cz + 1) lb kt ex rg wk ar) 3) ((uw_cc C (cz + 1) lb kt ex rg wk ar) 4) ((uw_cc C (cz + 1) lb kt ex rg wk ar) 5) ((uw_cc C (cz + 1) lb kt ex rg wk ar) 6) ((uw_cc C (cz + 1) lb kt ex rg wk ar) 7) ((uw_cc C (cz + 1) lb kt ex rg wk ar) 8) ((uw_cc C (cz + 1) lb kt ex rg wk ar) 9) ((uw_cc C (cz + 1) lb kt ex rg wk ar) 10) ((uw_cc C (cz + 1) lb kt ex rg wk ar) 11) ((uw_cc C (cz + 1) lb kt ex rg wk ar) 12) ((uw_cc C (cz + 1) lb kt ex rg wk ar) 13) ((uw_cc C (cz + 1) lb kt ex rg wk ar) 14) ((uw_cc C (cz + 1) lb kt ex rg wk ar) 15) ((uw_cc C (cz + 1) lb kt ex rg wk ar) 16) ((uw_cc C (cz + 1) lb kt ex rg wk ar) 17) ((uw_cc C (cz + 1) lb kt ex rg wk ar) 18) ((uw_em A cz (nI 0) (nI (20 * p + s)) (nI 0)) 0) ((uw_em A cz (nI 0) (nI (20 * p + s)) (nI 0)) 1) ((uw_em A cz (nI 0) (nI (20 * p + s)) (nI 0)) 2) ((uw_em A cz (nI 0) (nI (20 * p + s)) (nI 0)) 3) ((uw_em A cz (nI 0) (nI (20 * p + s)) (nI 0)) 4) ((uw_em A cz (nI 0) (nI (20 * p + s)) (nI 0)) 5) ((uw_em A cz (nI 0) (nI (20 * p + s)) (nI 0)) 6) ((uw_em A cz (nI 0) (nI (20 * p + s)) (nI 0)) 7) ((uw_em A cz (nI 0) (nI (20 * p + s)) (nI 0)) 8) ((uw_em A cz (nI 0) (nI (20 * p + s)) (nI 0)) 9) ((uw_em A cz (nI 0) (nI (20 * p + s)) (nI 0)) 10) ((uw_em A cz (nI 0) (nI (20 * p + s)) (nI 0)) 11) ((uw_em A cz (nI 0) (nI (20 * p + s)) (nI 0)) 12) ((uw_em A cz (nI 0) (nI (20 * p + s)) (nI 0)) 13) ((uw_em A cz (nI 0) (nI (20 * p + s)) (nI 0)) 14) ((uw_em A cz (nI 0) (nI (20 * p + s)) (nI 0)) 15) ((uw_em A cz (nI 0) (nI (20 * p + s)) (nI 0)) 16) ((uw_em A cz (nI 0) (nI (20 * p + s)) (nI 0)) 17) ((uw_em A cz (nI 0) (nI (20 * p + s)) (nI 0)) 18) ((uw_em A cz (nI 0) (nI (20 * p + s)) (nI 0)) 19) ((uw_em A cz (nI 0) (nI (20 * p + s)) (nI 0)) 20) ((uw_em A cz (nI 0) (nI (20 * p + s)) (nI 0)) 21) ((uw_em A cz (nI 0) (nI (20 * p + s)) (nI 0)) 22) ((uw_em A cz (nI 0) (nI (20 * p + s)) (nI 0)) 23) ((uw_em A cz (nI 0) (nI (20 * p + s)) (nI 0)) 24) ((uw_em A cz (nI 0) (nI (20 * p + s)) (nI 0)) 25) ((uw_em A cz (nI 0) (nI (20 * p + s)) (nI 0)) 26) ((uw_em A cz (nI 0) (nI (20 * p + s)) (nI 0)) 27) ((uw_em A cz (nI 0) (nI (20 * p + s)) (nI 0)) 28) ((uw_em A cz (nI 0) (nI (20 * p + s)) (nI 0)) 29) ((uw_em A cz (nI 0) (nI (20 * p + s)) (nI 0)) 30) ((uw_em A cz (nI 0) (nI (20 * p + s)) (nI 0)) 31) ((uw_em A cz (nI 0) (nI (20 * p + s)) (nI 0)) 32) ((uw_em A cz (nI 0) (nI (20 * p + s)) (nI 0)) 33) ((uw_em A cz (nI 0) (nI (20 * p + s)) (nI 0)) 34) ((uw_em A cz (nI 0) (nI (20 * p + s)) (nI 0)) 35) ((uw_em A cz (nI 0) (nI (20 * p + s)) (nI 0)) 36) ((uw_em A cz (nI 0) (nI (20 * p + s)) (nI 0)) 37) := fun z hz => by rw [hz]; exact b4 q 0 K
  exact ⟨0 + ar + 1, L _ e1⟩
theorem uw_s7 {el n k : Nat} {X : List ((Nat × Nat) ⊕ Nat)} (H : uw_HS C A p s wk) (hc : cz + 1 < 360) (hk : (A 0) (20 * p + s) = nI k) (hk' : k = 7 ∨ k = 8) (hn : (A 2) (20 * p + s) = nI n) (hn' : n < 4) (hX : uw_CX A p X ar) (hlc : n < uw_lc X) (har : ar ≤ 20) (hex : ex + uw_dc X ≤ 200) :
    ∃ A1 L l ex', uw_RN 1 (uw_cc C cz lb kt ex rg (wk + 1) ar) A (uw_cc C (cz + 2) lb kt (ex') rg wk ar) A1 ∧ uw_KP 0 cz lb kt ex rg wk s ar A A1 ∧ (A1 9) cz = nI 0 ∧ (A1 10) cz = nI (20 * p + s) ∧ ex ≤ ex' ∧ ex' ≤ ex + uw_dc X ∧ l < 128 ∧ uw_XT el X (k - 5) n L l ∧ uw_GO A1 p ex' L l (cz + 1) := by
  have hp := H.2.1
  have hs := H.2.2.1
  have i8 : vp_in (nI (20 * p + s)) 80 := vp_in_nI (by omega) (by decide)
  have c8 : (nI (20 * p + s)).toNatClampNeg = 20 * p + s := nI_clamp (by omega)
  have hX1 : uw_CX (uw_em A cz (nI 0) (nI (20 * p + s)) (nI 0)) p X ar := uw_CX_c (A := A) _ _ (fun _ _ => ⟨rfl, rfl, rfl, rfl⟩) hX
  obtain ⟨v, y, a1, a2, a3, a4, a5, a6, a7, a8, a9⟩ := uw_xt2 (C := (uw_cc C (cz + 1) lb kt ex rg wk ar)) (el := el) hp X ar n hX1 hlc hn' har
  obtain ⟨l, hl, hl1, hl2⟩ : ∃ l, l < 128 ∧ uw_XT el X (k - 5) n (uw_ls (uw_em A cz (nI 0) (nI (20 * p + s)) (nI 0)) p (v + 1) ar) l ∧ ((k = 7 ∧ l = y.1) ∨ (k = 8 ∧ l = y.2)) := by
    rcases hk' with rfl | rfl
    · exact ⟨y.1, a4, a6, Or.inl ⟨rfl, rfl⟩⟩
    · exact ⟨y.2, a5, a7, Or.inr ⟨rfl, rfl⟩⟩
  have ev : uw_ls (uw_em A cz (nI 0) (nI (20 * p + s)) (nI 0)) p (v + 1) (v + 1) = [] := uw_ls_v _
  obtain ⟨ex', A', b1, b2, b3, b4⟩ := uw_go8 (C := C) (cz := cz + 1) (lb := lb) (kt := kt) (rg := rg) (wk := wk) (v := v + 1) (sx := s) hp hl hc har (ar - (v + 1)) (v + 1) ex _ (-1) (-1) (by omega) (by omega) (uw_CX_EA _ _ hX1) (by rw [ev]; exact ⟨rfl, rfl⟩) (by rw [ev]; simp only [List.length_nil]; omega) (by omega)
  rw [ev] at b1
  simp only [List.length_nil] at b1
  have q1 : uw_KP 0 cz lb kt ex rg wk s ar A A' := uw_kt (uw_k_em (Nat.le_refl _) uw_kr) (uw_km b2 (by omega))
  have q2 : ∀ j, 9 ≤ j → j ≤ 11 → A' j cz = (uw_em A cz (nI 0) (nI (20 * p + s)) (nI 0)) j cz := fun j h1 h2 => b2 j cz (by unfold uw_od; omega)
  refine ⟨A', _, l, ex', uw_t1 H (by omega) hk (by omega) (fun q K => ?_), q1, (q2 9 (by omega) (by omega)).trans pk_us, (q2 10 (by omega) (by omega)).trans pk_us, by omega, by omega, hl, hl1, b3⟩
  have iv : vp_in (nI v) 20 := vp_in_nI (by omega) (by decide)
  have cv : (nI v).toNatClampNeg = v := nI_clamp (by omega)
  have tail : wX_writeSimple_55 q (nI l) (nI v + 1) ((uw_cc C (cz + 1) lb kt ex rg wk ar) 0) ((uw_cc C (cz + 1) lb kt ex rg wk ar) 1) ((uw_cc C (cz + 1) lb kt ex rg wk ar) 2) ((uw_cc C (cz + 1) lb kt ex rg wk ar) 3) ((uw_cc C (cz + 1) lb kt ex rg wk ar) 4) ((uw_cc C (cz + 1) lb kt ex rg wk ar) 5) ((uw_cc C (cz + 1) lb kt ex rg wk ar) 6) ((uw_cc C (cz + 1) lb kt ex rg wk ar) 7) ((uw_cc C (cz + 1) lb kt ex rg wk ar) 8) ((uw_cc C (cz + 1) lb kt ex rg wk ar) 9) ((uw_cc C (cz + 1) lb kt ex rg wk ar) 10) ((uw_cc C (cz + 1) lb kt ex rg wk ar) 11) ((uw_cc C (cz + 1) lb kt ex rg wk ar) 12) ((uw_cc C (cz + 1) lb kt ex rg wk ar) 13) ((uw_cc C (cz + 1) lb kt ex rg wk ar) 14) ((uw_cc C (cz + 1) lb kt ex rg wk ar) 15) ((uw_cc C (cz + 1) lb kt ex rg wk ar) 16) ((uw_cc C (cz + 1) lb kt ex rg wk ar) 17) ((uw_cc C (cz + 1) lb kt ex rg wk ar) 18) ((uw_em A cz (nI 0) (nI (20 * p + s)) (nI 0)) 0) ((uw_em A cz (nI 0) (nI (20 * p + s)) (nI 0)) 1) ((uw_em A cz (nI 0) (nI (20 * p + s)) (nI 0)) 2) ((uw_em A cz (nI 0) (nI (20 * p + s)) (nI 0)) 3) ((uw_em A cz (nI 0) (nI (20 * p + s)) (nI 0)) 4) ((uw_em A cz (nI 0) (nI (20 * p + s)) (nI 0)) 5) ((uw_em A cz (nI 0) (nI (20 * p + s)) (nI 0)) 6) ((uw_em A cz (nI 0) (nI (20 * p + s)) (nI 0)) 7) ((uw_em A cz (nI 0) (nI (20 * p + s)) (nI 0)) 8) ((uw_em A cz (nI 0) (nI (20 * p + s)) (nI 0)) 9) ((uw_em A cz (nI 0) (nI (20 * p + s)) (nI 0)) 10) ((uw_em A cz (nI 0) (nI (20 * p + s)) (nI 0)) 11) ((uw_em A cz (nI 0) (nI (20 * p + s)) (nI 0)) 12) ((uw_em A cz (nI 0) (nI (20 * p + s)) (nI 0)) 13) ((uw_em A cz (nI 0) (nI (20 * p + s)) (nI 0)) 14) ((uw_em A cz (nI 0) (nI (20 * p + s)) (nI 0)) 15) ((uw_em A cz (nI 0) (nI (20 * p + s)) (nI 0)) 16) ((uw_em A cz (nI 0) (nI (20 * p + s)) (nI 0)) 17) ((uw_em A cz (nI 0) (nI (20 * p + s)) (nI 0)) 18) ((uw_em A cz (nI 0) (nI (20 * p + s)) (nI 0)) 19) ((uw_em A cz (nI 0) (nI (20 * p + s)) (nI 0)) 20) ((uw_em A cz (nI 0) (nI (20 * p + s)) (nI 0)) 21) ((uw_em A cz (nI 0) (nI (20 * p + s)) (nI 0)) 22) ((uw_em A cz (nI 0) (nI (20 * p + s)) (nI 0)) 23) ((uw_em A cz (nI 0) (nI (20 * p + s)) (nI 0)) 24) ((uw_em A cz (nI 0) (nI (20 * p + s)) (nI 0)) 25) ((uw_em A cz (nI 0) (nI (20 * p + s)) (nI 0)) 26) ((uw_em A cz (nI 0) (nI (20 * p + s)) (nI 0)) 27) ((uw_em A cz (nI 0) (nI (20 * p + s)) (nI 0)) 28) ((uw_em A cz (nI 0) (nI (20 * p + s)) (nI 0)) 29) ((uw_em A cz (nI 0) (nI (20 * p + s)) (nI 0)) 30) ((uw_em A cz (nI 0) (nI (20 * p + s)) (nI 0)) 31) ((uw_em A cz (nI 0) (nI (20 * p + s)) (nI 0)) 32) ((uw_em A cz (nI 0) (nI (20 * p + s)) (nI 0)) 33) ((uw_em A cz (nI 0) (nI (20 * p + s)) (nI 0)) 34) ((uw_em A cz (nI 0) (nI (20 * p + s)) (nI 0)) 35) ((uw_em A cz (nI 0) (nI (20 * p + s)) (nI 0)) 36) ((uw_em A cz (nI 0) (nI (20 * p + s)) (nI 0)) 37) := by
    unfold wX_writeSimple_55
    rw [nI_1]
    unfold wpX_goOut
    exact ⟨0 + (ar - (v + 1)) + 1, b4 _ 0 K⟩
  have mid : wX_writeSimple_19 q (nI (20 * p + s)) (nI k) ((uw_cc C (cz + 1) lb kt ex rg wk ar) 0) ((uw_cc C (cz + 1) lb kt ex rg wk ar) 1) ((uw_cc C (cz + 1) lb kt ex rg wk ar) 2) ((uw_cc C (cz + 1) lb kt ex rg wk ar) 3) ((uw_cc C (cz + 1) lb kt ex rg wk ar) 4) ((uw_cc C (cz + 1) lb kt ex rg wk ar) 5) ((uw_cc C (cz + 1) lb kt ex rg wk ar) 6) ((uw_cc C (cz + 1) lb kt ex rg wk ar) 7) ((uw_cc C (cz + 1) lb kt ex rg wk ar) 8) ((uw_cc C (cz + 1) lb kt ex rg wk ar) 9) ((uw_cc C (cz + 1) lb kt ex rg wk ar) 10) ((uw_cc C (cz + 1) lb kt ex rg wk ar) 11) ((uw_cc C (cz + 1) lb kt ex rg wk ar) 12) ((uw_cc C (cz + 1) lb kt ex rg wk ar) 13) ((uw_cc C (cz + 1) lb kt ex rg wk ar) 14) ((uw_cc C (cz + 1) lb kt ex rg wk ar) 15) ((uw_cc C (cz + 1) lb kt ex rg wk ar) 16) ((uw_cc C (cz + 1) lb kt ex rg wk ar) 17) ((uw_cc C (cz + 1) lb kt ex rg wk ar) 18) ((uw_em A cz (nI 0) (nI (20 * p + s)) (nI 0)) 0) ((uw_em A cz (nI 0) (nI (20 * p + s)) (nI 0)) 1) ((uw_em A cz (nI 0) (nI (20 * p + s)) (nI 0)) 2) ((uw_em A cz (nI 0) (nI (20 * p + s)) (nI 0)) 3) ((uw_em A cz (nI 0) (nI (20 * p + s)) (nI 0)) 4) ((uw_em A cz (nI 0) (nI (20 * p + s)) (nI 0)) 5) ((uw_em A cz (nI 0) (nI (20 * p + s)) (nI 0)) 6) ((uw_em A cz (nI 0) (nI (20 * p + s)) (nI 0)) 7) ((uw_em A cz (nI 0) (nI (20 * p + s)) (nI 0)) 8) ((uw_em A cz (nI 0) (nI (20 * p + s)) (nI 0)) 9) ((uw_em A cz (nI 0) (nI (20 * p + s)) (nI 0)) 10) ((uw_em A cz (nI 0) (nI (20 * p + s)) (nI 0)) 11) ((uw_em A cz (nI 0) (nI (20 * p + s)) (nI 0)) 12) ((uw_em A cz (nI 0) (nI (20 * p + s)) (nI 0)) 13) ((uw_em A cz (nI 0) (nI (20 * p + s)) (nI 0)) 14) ((uw_em A cz (nI 0) (nI (20 * p + s)) (nI 0)) 15) ((uw_em A cz (nI 0) (nI (20 * p + s)) (nI 0)) 16) ((uw_em A cz (nI 0) (nI (20 * p + s)) (nI 0)) 17) ((uw_em A cz (nI 0) (nI (20 * p + s)) (nI 0)) 18) ((uw_em A cz (nI 0) (nI (20 * p + s)) (nI 0)) 19) ((uw_em A cz (nI 0) (nI (20 * p + s)) (nI 0)) 20) ((uw_em A cz (nI 0) (nI (20 * p + s)) (nI 0)) 21) ((uw_em A cz (nI 0) (nI (20 * p + s)) (nI 0)) 22) ((uw_em A cz (nI 0) (nI (20 * p + s)) (nI 0)) 23) ((uw_em A cz (nI 0) (nI (20 * p + s)) (nI 0)) 24) ((uw_em A cz (nI 0) (nI (20 * p + s)) (nI 0)) 25) ((uw_em A cz (nI 0) (nI (20 * p + s)) (nI 0)) 26) ((uw_em A cz (nI 0) (nI (20 * p + s)) (nI 0)) 27) ((uw_em A cz (nI 0) (nI (20 * p + s)) (nI 0)) 28) ((uw_em A cz (nI 0) (nI (20 * p + s)) (nI 0)) 29) ((uw_em A cz (nI 0) (nI (20 * p + s)) (nI 0)) 30) ((uw_em A cz (nI 0) (nI (20 * p + s)) (nI 0)) 31) ((uw_em A cz (nI 0) (nI (20 * p + s)) (nI 0)) 32) ((uw_em A cz (nI 0) (nI (20 * p + s)) (nI 0)) 33) ((uw_em A cz (nI 0) (nI (20 * p + s)) (nI 0)) 34) ((uw_em A cz (nI 0) (nI (20 * p + s)) (nI 0)) 35) ((uw_em A cz (nI 0) (nI (20 * p + s)) (nI 0)) 36) ((uw_em A cz (nI 0) (nI (20 * p + s)) (nI 0)) 37) := by
    unfold wX_writeSimple_19
    refine ⟨i8, ?_⟩
    unfold wpX_loopLevel
    have en : uw_em A cz (nI 0) (nI (20 * p + s)) (nI 0) 2 (nI (20 * p + s)).toNatClampNeg = nI n := by rw [c8]; exact hn
    rw [en]
    refine nm_r (e' := nI (n + 1)) (nI_1 n) ⟨0 + ar + 1, a9 _ 0 ?_⟩
    rcases hl2 with ⟨rfl, rfl⟩ | ⟨rfl, rfl⟩
    · have eb : uw_em A cz (nI 0) (nI (20 * p + s)) (nI 0) 28 (nI v).toNatClampNeg = nI y.1 := by rw [cv]; exact a2
      refine br_t rfl ⟨iv, ?_⟩
      rw [eb]; exact tail
    · have eb : uw_em A cz (nI 0) (nI (20 * p + s)) (nI 0) 29 (nI v).toNatClampNeg = nI y.2 := by rw [cv]; exact a3
      refine br_f (by decide) ⟨iv, ?_⟩
      rw [eb]; exact tail
  unfold wpX_writeSimple XS
  refine ⟨i8, nm_r (e' := nI k) (by rw [c8]; exact hk) ?_⟩
  rcases hk' with rfl | rfl
  · exact br_t rfl mid
  · exact br_f (by decide) (br_t rfl mid)
end
end
section
/-! bounds, agreement with the final code, the big-step statement of the compiler -/
def uw_xb (N d : Nat) : Nat := (N + 1) / 2 * d + (N + 1) / 2 * ((N + 1) / 2 + 1) / 2 - 1
set_option maxRecDepth 100000 in
theorem uw_xb_a : ∀ a, a < 19 → ∀ b, b < 19 → ∀ d, d < 20 → uw_xb (a + 1) (d + 1) + uw_xb (b + 1) d + 1 ≤ uw_xb (a + 1 + (b + 1) + 1) d := by decide +kernel
set_option maxRecDepth 100000 in
theorem uw_xb_b : ∀ a, a < 19 → ∀ b, b < 19 → ∀ d, d < 20 → uw_xb (a + 1) d + uw_xb (b + 1) d ≤ uw_xb (a + 1 + (b + 1) + 1) d := by decide +kernel
set_option maxRecDepth 100000 in
theorem uw_xb_c : ∀ a, a < 19 → ∀ d, d < 20 → uw_xb (a + 1) d ≤ uw_xb (a + 1 + 1) d := by decide +kernel
set_option maxRecDepth 100000 in
theorem uw_xb_d : ∀ d, d < 20 → d ≤ uw_xb 1 d := by decide +kernel
def uw_rv (l0 cz lb kt ex rg i x : Nat) : Prop := i < 5 ∨ (9 ≤ i ∧ i ≤ 11 ∧ x < cz) ∨ (i = 13 ∧ l0 ≤ x ∧ x < lb) ∨ (i = 14 ∧ x < kt) ∨ (15 ≤ i ∧ i ≤ 17 ∧ x < ex) ∨ (18 ≤ i ∧ i ≤ 21 ∧ x < rg)
def uw_FA (l0 cz lb kt ex rg : Nat) (A F : Nat → Nat → Int32) : Prop := ∀ i x, uw_rv l0 cz lb kt ex rg i x → F i x = A i x
section
variable {l0 cz lb kt ex rg wk sx ar i x : Nat}
theorem uw_o9 (h : x < cz) (h1 : 9 ≤ i) (h2 : i ≤ 11) : uw_od l0 cz lb kt ex rg wk sx ar i x := by unfold uw_od; omega
theorem uw_o13 (h0 : l0 ≤ x) (h : x < lb) : uw_od l0 cz lb kt ex rg wk sx ar 13 x := by unfold uw_od; omega
theorem uw_o14 (h : x < kt) : uw_od l0 cz lb kt ex rg wk sx ar 14 x := by unfold uw_od; omega
theorem uw_o22 (h : x < wk) (h1 : 22 ≤ i) (h2 : i ≤ 23) : uw_od l0 cz lb kt ex rg wk sx ar i x := by unfold uw_od; omega
theorem uw_o24 (h : sx < x) (h1 : 24 ≤ i) (h2 : i ≤ 26) : uw_od l0 cz lb kt ex rg wk sx ar i x := by unfold uw_od; omega
theorem uw_v0 (h1 : i < 5) : uw_rv l0 cz lb kt ex rg i x := by unfold uw_rv; omega
theorem uw_v9 (h : x < cz) (h1 : 9 ≤ i) (h2 : i ≤ 11) : uw_rv l0 cz lb kt ex rg i x := by unfold uw_rv; omega
theorem uw_v13 (h0 : l0 ≤ x) (h : x < lb) : uw_rv l0 cz lb kt ex rg 13 x := by unfold uw_rv; omega
theorem uw_v14 (h : x < kt) : uw_rv l0 cz lb kt ex rg 14 x := by unfold uw_rv; omega
theorem uw_v15 (h : x < ex) (h1 : 15 ≤ i) (h2 : i ≤ 17) : uw_rv l0 cz lb kt ex rg i x := by unfold uw_rv; omega
theorem uw_v18 (h : x < rg) (h1 : 18 ≤ i) (h2 : i ≤ 21) : uw_rv l0 cz lb kt ex rg i x := by unfold uw_rv; omega
end
theorem uw_fa_k {l0 cz lb kt ex rg wk sx ar : Nat} {A A' F : Nat → Nat → Int32} (h : uw_KP l0 cz lb kt ex rg wk sx ar A A') (g : uw_FA l0 cz lb kt ex rg A' F) : uw_FA l0 cz lb kt ex rg A F := by
  intro i x z
  refine (g i x z).trans (h i x ?_)
  unfold uw_rv at z
  unfold uw_od
  omega
theorem uw_fa_m {l0 cz lb kt ex rg l0' cz' lb' kt' ex' rg' : Nat} {A F : Nat → Nat → Int32} (h : uw_FA l0 cz lb kt ex rg A F) (e : l0 ≤ l0' ∧ cz' ≤ cz ∧ lb' ≤ lb ∧ kt' ≤ kt ∧ ex' ≤ ex ∧ rg' ≤ rg) : uw_FA l0' cz' lb' kt' ex' rg' A F := by
  intro i x z
  refine h i x ?_
  unfold uw_rv at z ⊢
  omega
def uw_E0 (A0 A : Nat → Nat → Int32) : Prop := ∀ i x, i < 9 → A i x = A0 i x
theorem uw_e0_k {l0 cz lb kt ex rg wk sx ar : Nat} {A0 A A' : Nat → Nat → Int32} (h : uw_KP l0 cz lb kt ex rg wk sx ar A A') (g : uw_E0 A0 A) : uw_E0 A0 A' := by
  intro i x z
  refine (h i x ?_).trans (g i x z)
  unfold uw_od
  omega
theorem uw_sa_k {l0 cz lb kt ex rg wk sx ar : Nat} {A A' : Nat → Nat → Int32} (h : uw_KP l0 cz lb kt ex rg wk sx ar A A') : uw_sa A A' ar := by
  intro r hr
  refine ⟨h _ _ ?_, h _ _ ?_, h _ _ ?_, h _ _ ?_⟩ <;> (unfold uw_od; omega)
/-- which statements may end -/
def uw_MR (A : Nat → Nat → Int32) (M : Nat → Bool) (t s : Nat) : Prop :=
  (∀ k, k < 11 → (A 0) t = nI k → k ≤ 5 ∨ k = 10 → M s = true) ∧
  (∀ qa qb, (A 3) t = nI qa → (A 4) t = nI qb → qa < 20 → qb < 20 → ((A 0) t = nI 11 ∨ (A 0) t = nI 14 → M s = (M qa && M qb)) ∧ ((A 0) t = nI 12 ∨ (A 0) t = nI 13 → M s = (M qa || M qb))) ∧
  ((A 0) t = nI 15 → M s = true)
def uw_ME (A : Nat → Nat → Int32) (M : Nat → Bool) (p z : Nat) : Prop := ∀ s, s ≤ z → (M s = true → ¬ (A 8) s = 0) ∧ (M s = false → (A 8) s = 0) ∧ uw_MR A M (20 * p + s) s
def uw_CS (C : Nat → Int32) (M : Nat → Bool) (p el n s N d : Nat) (X : List ((Nat × Nat) ⊕ Nat)) (A : Nat → Nat → Int32) (cz lb k ex rg wk ar : Nat) : Prop :=
  ∃ A' cz' lb' k' ex' rg' m, uw_RN m (uw_cc C cz lb (10 * p + k) ex rg (wk + 1) ar) A (uw_cc C cz' lb' (10 * p + k') ex' rg' wk ar) A' ∧ (m ≤ 4 * N ∧ cz < cz' ∧ cz' ≤ cz + 3 * N ∧ lb ≤ lb' ∧ lb' ≤ lb + 2 * N ∧ k ≤ k' ∧ 2 * k' + 1 ≤ 2 * k + N ∧ ex ≤ ex' ∧ ex' ≤ ex + uw_xb N d ∧ rg ≤ rg' ∧ 2 * rg' + 1 ≤ 2 * rg + N) ∧
    uw_KP 0 cz lb (10 * p + k) ex rg wk s ar A A' ∧ (∀ l, lb ≤ l → l < lb' → ∃ q, q ≤ cz' ∧ (A' 13) l = nI q) ∧
    ∀ (F : Nat → Nat → Int32) (N' : Nat), uw_FA lb cz' lb' (10 * p + k') ex' rg' A' F → ex' ≤ N' → uw_CC F M p el N' n X s cz cz' rg rg' k k'
def uw_IH (C : Nat → Int32) (M : Nat → Bool) (p el : Nat) (A0 : Nat → Nat → Int32) (n : Nat) : Prop :=
  ∀ s lo N w X A cz lb k ex rg wk ar, s < n → lo + N = s + 1 → uw_TR A0 (20 * p) 20 w lo s → w ≤ uw_lc X → uw_E0 A0 A → uw_CX A p X ar → (A 22) wk = nI 0 → (A 23) wk = nI s →
    cz + 3 * N ≤ 359 → lb + 2 * N ≤ 128 → 2 * k + N ≤ 20 → 2 * rg + N ≤ 60 → ex + uw_xb N (uw_dc X) ≤ 200 → wk + 4 * N + 1 ≤ 128 → ar + N ≤ 20 →
    uw_CS C M p el n s N (uw_dc X) X A cz lb k ex rg wk ar
theorem uw_dc_le {A : Nat → Nat → Int32} {p : Nat} : ∀ X r, uw_CX A p X r → uw_dc X ≤ r := by
  intro X
  induction X with
  | nil => intro r _; exact Nat.zero_le _
  | cons x X ih =>
    intro r h
    obtain ⟨q, e, _, h2⟩ := h
    have := ih q h2
    cases x with
    | inl _ => show uw_dc X ≤ r; omega
    | inr _ => show uw_dc X + 1 ≤ r; omega
theorem uw_xb1 {d : Nat} (h : d < 20) : d ≤ uw_xb 1 d := uw_xb_d d h
theorem uw_xbL {a b d : Nat} (ha : 1 ≤ a) (hb : 1 ≤ b) (ha' : a < 20) (hb' : b < 20) (h : d < 20) : uw_xb a (d + 1) + uw_xb b d + 1 ≤ uw_xb (a + b + 1) d := by
  obtain ⟨a, rfl⟩ : ∃ c, a = c + 1 := ⟨a - 1, by omega⟩
  obtain ⟨b, rfl⟩ : ∃ c, b = c + 1 := ⟨b - 1, by omega⟩
  exact uw_xb_a a (by omega) b (by omega) d h
theorem uw_xb2 {a b d : Nat} (ha : 1 ≤ a) (hb : 1 ≤ b) (ha' : a < 20) (hb' : b < 20) (h : d < 20) : uw_xb a d + uw_xb b d ≤ uw_xb (a + b + 1) d := by
  obtain ⟨a, rfl⟩ : ∃ c, a = c + 1 := ⟨a - 1, by omega⟩
  obtain ⟨b, rfl⟩ : ∃ c, b = c + 1 := ⟨b - 1, by omega⟩
  exact uw_xb_b a (by omega) b (by omega) d h
theorem uw_xbW {a d : Nat} (ha : 1 ≤ a) (ha' : a < 20) (h : d < 20) : uw_xb a d ≤ uw_xb (a + 1) d := by
  obtain ⟨a, rfl⟩ : ∃ c, a = c + 1 := ⟨a - 1, by omega⟩
  exact uw_xb_c a (by omega) d h
section
variable {C : Nat → Int32} {A0 A : Nat → Nat → Int32} {M : Nat → Bool} {cz lb k ex rg wk ar p el s n : Nat} {X : List ((Nat × Nat) ⊕ Nat)}
/-- the leaves -/
theorem uw_cs_leaf {o w z : Nat} (hp : p < 3) (hC : (C 9) = nI p) (hel : (C 10) = nI el) (hel' : el < 128) (hs : s < 20) (ho : o < 11) (hk : (A0 0) (20 * p + s) = nI o) (hlf : uw_lf A0 w (20 * p + s) o) (hw : w ≤ uw_lc X) (hME : uw_ME A0 M p z) (hz : s ≤ z)
    (hE : uw_E0 A0 A) (hX : uw_CX A p X ar) (h0 : (A 22) wk = nI 0) (h1 : (A 23) wk = nI s) (b1 : cz + 3 ≤ 359) (b3 : 2 * k + 1 ≤ 20) (b5 : ex + uw_xb 1 (uw_dc X) ≤ 200) (b6 : wk + 5 ≤ 128) (b7 : ar + 1 ≤ 20) :
    uw_CS C M p el (n + 1) s 1 (uw_dc X) X A cz lb k ex rg wk ar := by
  have H : uw_HS C A p s wk := ⟨hC, hp, hs, by omega, h0, h1⟩
  have hk' : (A 0) (20 * p + s) = nI o := (hE 0 _ (by omega)).trans hk
  have er : (A 1) (20 * p + s) = (A0 1) (20 * p + s) := hE 1 _ (by omega)
  have en : (A 2) (20 * p + s) = (A0 2) (20 * p + s) := hE 2 _ (by omega)
  obtain ⟨l1, l2, l3, l4, l5, l6, l7⟩ := hlf
  have hd := uw_dc_le X ar hX
  have hx1 := uw_xb1 (d := uw_dc X) (by omega)
  have mr := (hME s hz).2.2
  by_cases c0 : o = 0
  · subst c0
    obtain ⟨A1, a1, a2, a3, a4⟩ := uw_s0 (lb := lb) (kt := 10 * p + k) (ex := ex) (rg := rg) (ar := ar) H (show cz < 360 by omega) hk'
    refine ⟨A1, cz + 1, lb, k, ex, rg, 1, a1, by omega, a2, fun l x y => by omega, fun F N' hF hN => ?_⟩
    have e0 := uw_e0_k a2 hE
    refine ⟨hs, (hF 9 cz (by unfold uw_rv; omega)).trans a3, (hF 10 cz (by unfold uw_rv; omega)).trans a4, Or.inl ⟨0, by omega, (hF 0 _ (by unfold uw_rv; omega)).trans ((e0 0 _ (by omega)).trans hk), rfl, rfl, Or.inl ⟨rfl, rfl, mr.1 0 (by omega) hk (by omega)⟩⟩⟩
  · by_cases c6 : o ≤ 6
    · obtain ⟨r, hr, hr'⟩ := l4 ⟨by omega, c6⟩
      obtain ⟨A1, a1, a2, a3, a4, a5, a6, a7⟩ := uw_s1 (lb := lb) (kt := 10 * p + k) (ex := ex) (rg := rg) (ar := ar) H (show cz + 1 < 360 by omega) hk' (by omega) c6 (er.trans hr') hr (by rw [en]; exact l3)
      refine ⟨A1, cz + 2, lb, k, ex, rg, 1, a1, by omega, a2, fun l x y => by omega, fun F N' hF hN => ?_⟩
      have e0 := uw_e0_k a2 hE
      have f1 : (F 1) (20 * p + s) = (A0 1) (20 * p + s) := (hF 1 _ (by unfold uw_rv; omega)).trans (e0 1 _ (by omega))
      have f2 : (F 2) (20 * p + s) = (A0 2) (20 * p + s) := (hF 2 _ (by unfold uw_rv; omega)).trans (e0 2 _ (by omega))
      refine ⟨hs, (hF 9 cz (by unfold uw_rv; omega)).trans a3, (hF 10 cz (by unfold uw_rv; omega)).trans a4, Or.inl ⟨o, by omega, (hF 0 _ (by unfold uw_rv; omega)).trans ((e0 0 _ (by omega)).trans hk), rfl, rfl, Or.inr (Or.inl ⟨by omega, c6, rfl, (hF 9 _ (by unfold uw_rv; omega)).trans a5, ?_, ?_, ?_⟩)⟩⟩
      · rw [f1, hr']; exact (hF 10 _ (by unfold uw_rv; omega)).trans a6
      · rw [f2, ← en]; exact (hF 11 _ (by unfold uw_rv; omega)).trans a7
      · by_cases c : o = 6
        · exact Or.inl c
        · exact Or.inr (mr.1 o ho hk (by omega))
    · by_cases c10 : o = 10
      · subst c10
        obtain ⟨r, hr, hr'⟩ := l7 rfl
        obtain ⟨A1, a1, a2, a3, a4, a5, a6⟩ := uw_s10 (lb := lb) (kt := 10 * p + k) (ex := ex) (rg := rg) (ar := ar) H (show cz + 1 < 360 by omega) hk' (en.trans hr') hr
        refine ⟨A1, cz + 2, lb, k, ex, rg, 1, a1, by omega, a2, fun l x y => by omega, fun F N' hF hN => ?_⟩
        have e0 := uw_e0_k a2 hE
        have f2 : (F 2) (20 * p + s) = (A0 2) (20 * p + s) := (hF 2 _ (by unfold uw_rv; omega)).trans (e0 2 _ (by omega))
        refine ⟨hs, (hF 9 cz (by unfold uw_rv; omega)).trans a3, (hF 10 cz (by unfold uw_rv; omega)).trans a4, Or.inl ⟨10, by omega, (hF 0 _ (by unfold uw_rv; omega)).trans ((e0 0 _ (by omega)).trans hk), rfl, rfl, Or.inr (Or.inr (Or.inl ⟨rfl, rfl, (hF 9 _ (by unfold uw_rv; omega)).trans a5, ?_, mr.1 10 (by omega) hk (by omega)⟩))⟩⟩
        rw [f2, hr']; exact (hF 10 _ (by unfold uw_rv; omega)).trans a6
      · -- break, go on, return
        have key : ∃ A1 L l ex' nn, uw_RN 1 (uw_cc C cz lb (10 * p + k) ex rg (wk + 1) ar) A (uw_cc C (cz + 2) lb (10 * p + k) ex' rg wk ar) A1 ∧ uw_KP 0 cz lb (10 * p + k) ex rg wk s ar A A1 ∧ (A1 9) cz = nI 0 ∧ (A1 10) cz = nI (20 * p + s) ∧ ex ≤ ex' ∧ ex' ≤ ex + uw_dc X ∧ l < 128 ∧ nn < 4 ∧ (o ≠ 9 → (A0 2) (20 * p + s) = nI nn) ∧ (o = 9 → nn = 0) ∧ uw_XT el X (o - 5) nn L l ∧ uw_GO A1 p ex' L l (cz + 1) := by
          by_cases c9 : o = 9
          · subst c9
            obtain ⟨A1, L, ex', a1, a2, a3, a4, a5, a6, a7, a8⟩ := uw_s9 (lb := lb) (kt := 10 * p + k) (ex := ex) (rg := rg) H (show cz + 1 < 360 by omega) hk' hel hel' hX (by omega) (by omega)
            exact ⟨A1, L, el, ex', 0, a1, a2, a3, a4, a5, a6, hel', by omega, fun z => absurd rfl z, fun _ => rfl, a7, a8⟩
          · obtain ⟨nn, n1, n2, n3⟩ := l6 (by omega)
            obtain ⟨A1, L, l, ex', a1, a2, a3, a4, a5, a6, a7, a8, a9⟩ := uw_s7 (lb := lb) (kt := 10 * p + k) (ex := ex) (rg := rg) (el := el) H (show cz + 1 < 360 by omega) hk' (by omega) (en.trans n3) n1 hX (by omega) (by omega) (by omega)
            exact ⟨A1, L, l, ex', nn, a1, a2, a3, a4, a5, a6, a7, n1, fun _ => n3, fun z => absurd z c9, a8, a9⟩
        obtain ⟨A1, L, l, ex', nn, a1, a2, a3, a4, a5, a6, a7, n1, n2, n3, a8, a9⟩ := key
        refine ⟨A1, cz + 2, lb, k, ex', rg, 1, a1, by omega, a2, fun l x y => by omega, fun F N' hF hN => ?_⟩
        have e0 := uw_e0_k a2 hE
        have f2 : (F 2) (20 * p + s) = (A0 2) (20 * p + s) := (hF 2 _ (by unfold uw_rv; omega)).trans (e0 2 _ (by omega))
        refine ⟨hs, (hF 9 cz (by unfold uw_rv; omega)).trans a3, (hF 10 cz (by unfold uw_rv; omega)).trans a4, Or.inl ⟨o, ho, (hF 0 _ (by unfold uw_rv; omega)).trans ((e0 0 _ (by omega)).trans hk), rfl, rfl, Or.inr (Or.inr (Or.inr ⟨by omega, by omega, rfl, nn, L, l, n1, fun z => f2.trans (n2 z), n3, a7, a8, ?_⟩))⟩⟩
        cases L with
        | nil => exact ⟨(hF 9 _ (by unfold uw_rv; omega)).trans a9.1, (hF 10 _ (by unfold uw_rv; omega)).trans a9.2⟩
        | cons q L =>
          obtain ⟨g1, g2, g3, x, g4, g5⟩ := a9
          exact ⟨g1, (hF 9 _ (by unfold uw_rv; omega)).trans g2, (hF 10 _ (by unfold uw_rv; omega)).trans g3, x, (hF 11 _ (by unfold uw_rv; omega)).trans g4, uw_EX_c hN (fun y hy => ⟨hF 15 y (by unfold uw_rv; omega), hF 16 y (by unfold uw_rv; omega), hF 17 y (by unfold uw_rv; omega)⟩) _ _ g5⟩
end
end
section
/-! the big-step statement for the statements with parts (printed by gen17.py) -/
section
variable {C : Nat → Int32} {A0 A : Nat → Nat → Int32} {M : Nat → Bool} {cz lb k ex rg wk ar p el s n qa qb lo w z NA NB : Nat} {X : List ((Nat × Nat) ⊕ Nat)}
theorem uw_cs_seqt (IH : uw_IH C M p el A0 n) (hp : p < 3) (hC : (C 9) = nI p) (hs : s < 20) (hn : s < n + 1) (hk : (A0 0) (20 * p + s) = nI 11) (ha : (A0 3) (20 * p + s) = nI qa) (hb : (A0 4) (20 * p + s) = nI qb) (e : s = qb + 1) (hq : qa < qb) (eA : lo + NA = qa + 1) (eB : qa + 1 + NB = qb + 1) (ta : uw_TR A0 (20 * p) 20 w lo qa) (tb : uw_TR A0 (20 * p) 20 w (qa + 1) qb) (hm : M qa = true) (hw : w ≤ uw_lc X) (hME : uw_ME A0 M p z) (hz : s ≤ z) (hE : uw_E0 A0 A) (hX : uw_CX A p X ar) (h0 : (A 22) wk = nI 0) (h1 : (A 23) wk = nI s)
    (b1 : cz + 3 * (NA + NB + 1) ≤ 359) (b2 : lb + 2 * (NA + NB + 1) ≤ 128) (b3 : 2 * k + (NA + NB + 1) ≤ 20) (b4 : 2 * rg + (NA + NB + 1) ≤ 60) (b5 : ex + uw_xb (NA + NB + 1) (uw_dc X) ≤ 200) (b6 : wk + 4 * (NA + NB + 1) + 1 ≤ 128) (b7 : ar + (NA + NB + 1) ≤ 20) :
    uw_CS C M p el (n + 1) s (NA + NB + 1) (uw_dc X) X A cz lb k ex rg wk ar := by
  have H : uw_HS C A p s wk := ⟨hC, hp, hs, by omega, h0, h1⟩
  have hk' : (A 0) (20 * p + s) = nI 11 := (hE 0 _ (by omega)).trans hk
  have ha' : (A 3) (20 * p + s) = nI qa := (hE 3 _ (by omega)).trans ha
  have la : 1 ≤ NA := by have := uw_TR_lo _ _ _ _ ta; omega
  have hd := uw_dc_le X ar hX
  have mr := (hME s hz).2.2
  have ma := hME qa (by omega)
  have qs : qa < s := by omega
  have qn : qa < n := by omega
  have hb' : (A 4) (20 * p + s) = nI qb := (hE 4 _ (by omega)).trans hb
  have lbb : 1 ≤ NB := by omega
  have qbs : qb < s := by omega
  have qbn : qb < n := by omega
  have hx := uw_xb2 (a := NA) (b := NB) (d := uw_dc X) (by omega) (by omega) (by omega) (by omega) (by omega)
  have hm' : ¬ (A 8) qa = 0 := by rw [hE 8 _ (by omega)]; exact ma.1 hm
  obtain ⟨A1, r1, K1, c1, c2, w1, w2, w3, w4⟩ := uw_s11t (lb := lb) (kt := 10 * p + k) (ex := ex) (rg := rg) (ar := ar) H (show cz < 360 by omega) (by omega) hk' ha' (by omega) hb' (by omega) hm'
  have E1 := uw_e0_k K1 hE
  have X1 := uw_CX_c X ar (uw_sa_k K1) hX
  obtain ⟨A2, cz2, lb2, k2, ex2, rg2, m2, r2, d2, K2, P2, F2⟩ := IH qa lo NA w X A1 (cz + 1) (lb) (k) (ex) (rg) (wk + 1) (ar) qn eA ta hw E1 X1 w3 w4 (by omega) (by omega) (by omega) (by omega) (by omega) (by omega) (by omega)
  obtain ⟨da2, db2, dc2, de2, df2, dg2, dh2, di2, dj2, dk2, dl2⟩ := d2
  have E2 := uw_e0_k K2 E1
  have X2 := uw_CX_c X ar (uw_sa_k K2) X1
  have w1' := (K2 22 wk (uw_o22 (by omega) (by decide) (by decide))).trans w1
  have w2' := (K2 23 wk (uw_o22 (by omega) (by decide) (by decide))).trans w2
  obtain ⟨A3, cz3, lb3, k3, ex3, rg3, m3, r3, d3, K3, P3, F3⟩ := IH qb (qa + 1) NB w X A2 (cz2) (lb2) (k2) (ex2) (rg2) (wk) (ar) qbn eB tb hw E2 X2 w1' w2' (by omega) (by omega) (by omega) (by omega) (by omega) (by omega) (by omega)
  obtain ⟨da3, db3, dc3, de3, df3, dg3, dh3, di3, dj3, dk3, dl3⟩ := d3
  have E3 := uw_e0_k K3 E2
  refine ⟨A3, cz3, lb3, k3, ex3, rg3, 1 + m2 + m3, uw_rt (uw_rt r1 r2) r3, ⟨by omega, by omega, by omega, by omega, by omega, by omega, by omega, by omega, by omega, by omega, by omega⟩, uw_kt K1 (uw_kt (uw_km K2 ⟨by omega, by omega, by omega, by omega, by omega, by omega, by omega, by omega, by omega⟩) (uw_km K3 ⟨by omega, by omega, by omega, by omega, by omega, by omega, by omega, by omega, by omega⟩)), fun l x y => ?_, fun F N' hF hN => ?_⟩
  · rcases Nat.lt_or_ge l lb2 with v | v
    · obtain ⟨q, q1, q2⟩ := P2 l x v
      exact ⟨q, by omega, (K3 13 l (uw_o13 (by omega) (by omega))).trans q2⟩
    · exact P3 l v y
  · have G2 : uw_FA lb cz2 lb2 (10 * p + k2) ex2 rg2 A2 F := uw_fa_k (wk := 0) (sx := s) (ar := 0) (uw_km K3 ⟨by omega, by omega, by omega, by omega, by omega, by omega, by omega, by omega, by omega⟩) (uw_fa_m hF ⟨by omega, by omega, by omega, by omega, by omega, by omega⟩)
    have G1 : uw_FA lb (cz + 1) lb (10 * p + k) ex rg A1 F := uw_fa_k (wk := 0) (sx := s) (ar := 0) (uw_km K2 ⟨by omega, by omega, by omega, by omega, by omega, by omega, by omega, by omega, by omega⟩) (uw_fa_m G2 ⟨by omega, by omega, by omega, by omega, by omega, by omega⟩)
    have CA := F2 F N' G2 (by omega)
    have CB := F3 F N' (uw_fa_m hF ⟨by omega, by omega, by omega, by omega, by omega, by omega⟩) hN
    refine ⟨hs, (G1 9 cz (uw_v9 (by omega) (by decide) (by decide))).trans c1, (G1 10 cz (uw_v9 (by omega) (by decide) (by decide))).trans c2, Or.inr (Or.inl ⟨(hF 0 _ (uw_v0 (by decide))).trans ((E3 0 _ (by omega)).trans hk), qa, qb, by omega, by omega, (hF 3 _ (uw_v0 (by decide))).trans ((E3 3 _ (by omega)).trans ha), (hF 4 _ (uw_v0 (by decide))).trans ((E3 4 _ (by omega)).trans hb), (mr.2.1 qa qb ha hb (by omega) (by omega)).1 (Or.inl hk), Or.inl ⟨hm, cz2, rg2, k2, CA, CB⟩⟩)⟩
theorem uw_cs_seqf (IH : uw_IH C M p el A0 n) (hp : p < 3) (hC : (C 9) = nI p) (hs : s < 20) (hn : s < n + 1) (hk : (A0 0) (20 * p + s) = nI 11) (ha : (A0 3) (20 * p + s) = nI qa) (hb : (A0 4) (20 * p + s) = nI qb) (e : s = qb + 1) (hq : qa < qb) (eA : lo + NA = qa + 1) (eB : qa + 1 + NB = qb + 1) (ta : uw_TR A0 (20 * p) 20 w lo qa) (tb : uw_TR A0 (20 * p) 20 w (qa + 1) qb) (hm : M qa = false) (hw : w ≤ uw_lc X) (hME : uw_ME A0 M p z) (hz : s ≤ z) (hE : uw_E0 A0 A) (hX : uw_CX A p X ar) (h0 : (A 22) wk = nI 0) (h1 : (A 23) wk = nI s)
    (b1 : cz + 3 * (NA + NB + 1) ≤ 359) (b2 : lb + 2 * (NA + NB + 1) ≤ 128) (b3 : 2 * k + (NA + NB + 1) ≤ 20) (b4 : 2 * rg + (NA + NB + 1) ≤ 60) (b5 : ex + uw_xb (NA + NB + 1) (uw_dc X) ≤ 200) (b6 : wk + 4 * (NA + NB + 1) + 1 ≤ 128) (b7 : ar + (NA + NB + 1) ≤ 20) :
    uw_CS C M p el (n + 1) s (NA + NB + 1) (uw_dc X) X A cz lb k ex rg wk ar := by
  have H : uw_HS C A p s wk := ⟨hC, hp, hs, by omega, h0, h1⟩
  have hk' : (A 0) (20 * p + s) = nI 11 := (hE 0 _ (by omega)).trans hk
  have ha' : (A 3) (20 * p + s) = nI qa := (hE 3 _ (by omega)).trans ha
  have la : 1 ≤ NA := by have := uw_TR_lo _ _ _ _ ta; omega
  have hd := uw_dc_le X ar hX
  have mr := (hME s hz).2.2
  have ma := hME qa (by omega)
  have qs : qa < s := by omega
  have qn : qa < n := by omega
  have hb' : (A 4) (20 * p + s) = nI qb := (hE 4 _ (by omega)).trans hb
  have lbb : 1 ≤ NB := by omega
  have qbs : qb < s := by omega
  have qbn : qb < n := by omega
  have hx := uw_xb2 (a := NA) (b := NB) (d := uw_dc X) (by omega) (by omega) (by omega) (by omega) (by omega)
  have hm' : (A 8) qa = 0 := by rw [hE 8 _ (by omega)]; exact ma.2.1 hm
  obtain ⟨A1, r1, K1, c1, c2, w3, w4⟩ := uw_s11f (lb := lb) (kt := 10 * p + k) (ex := ex) (rg := rg) (ar := ar) H (show cz < 360 by omega) hk' ha' (by omega) hm'
  have E1 := uw_e0_k K1 hE
  have X1 := uw_CX_c X ar (uw_sa_k K1) hX
  obtain ⟨A2, cz2, lb2, k2, ex2, rg2, m2, r2, d2, K2, P2, F2⟩ := IH qa lo NA w X A1 (cz + 1) (lb) (k) (ex) (rg) (wk) (ar) qn eA ta hw E1 X1 w3 w4 (by omega) (by omega) (by omega) (by omega) (by omega) (by omega) (by omega)
  obtain ⟨da2, db2, dc2, de2, df2, dg2, dh2, di2, dj2, dk2, dl2⟩ := d2
  have E2 := uw_e0_k K2 E1
  refine ⟨A2, cz2, lb2, k2, ex2, rg2, 1 + m2, uw_rt r1 r2, ⟨by omega, by omega, by omega, by omega, by omega, by omega, by omega, by omega, by omega, by omega, by omega⟩, uw_kt K1 (uw_km K2 ⟨by omega, by omega, by omega, by omega, by omega, by omega, by omega, by omega, by omega⟩), fun l x y => P2 l x y, fun F N' hF hN => ?_⟩
  have G1 : uw_FA lb (cz + 1) lb (10 * p + k) ex rg A1 F := uw_fa_k (wk := 0) (sx := s) (ar := 0) (uw_km K2 ⟨by omega, by omega, by omega, by omega, by omega, by omega, by omega, by omega, by omega⟩) (uw_fa_m hF ⟨by omega, by omega, by omega, by omega, by omega, by omega⟩)
  have CA := F2 F N' hF hN
  refine ⟨hs, (G1 9 cz (uw_v9 (by omega) (by decide) (by decide))).trans c1, (G1 10 cz (uw_v9 (by omega) (by decide) (by decide))).trans c2, Or.inr (Or.inl ⟨(hF 0 _ (uw_v0 (by decide))).trans ((E2 0 _ (by omega)).trans hk), qa, qb, by omega, by omega, (hF 3 _ (uw_v0 (by decide))).trans ((E2 3 _ (by omega)).trans ha), (hF 4 _ (uw_v0 (by decide))).trans ((E2 4 _ (by omega)).trans hb), (mr.2.1 qa qb ha hb (by omega) (by omega)).1 (Or.inl hk), Or.inr ⟨hm, CA⟩⟩)⟩
end
end
section
/-! the big-step statement for the statements with parts (printed by gen17.py) -/
section
variable {C : Nat → Int32} {A0 A : Nat → Nat → Int32} {M : Nat → Bool} {cz lb k ex rg wk ar p el s n qa qb lo w z NA NB : Nat} {X : List ((Nat × Nat) ⊕ Nat)}
theorem uw_cs_ift (IH : uw_IH C M p el A0 n) (hp : p < 3) (hC : (C 9) = nI p) (hs : s < 20) (hn : s < n + 1) (hk : (A0 0) (20 * p + s) = nI 12) (ha : (A0 3) (20 * p + s) = nI qa) (hb : (A0 4) (20 * p + s) = nI qb) (e : s = qb + 1) (hq : qa < qb) (eA : lo + NA = qa + 1) (eB : qa + 1 + NB = qb + 1) (ta : uw_TR A0 (20 * p) 20 w lo qa) (tb : uw_TR A0 (20 * p) 20 w (qa + 1) qb) (hrg : uw_rg A0 (20 * p + s)) (hm : M qa = true) (hw : w ≤ uw_lc X) (hME : uw_ME A0 M p z) (hz : s ≤ z) (hE : uw_E0 A0 A) (hX : uw_CX A p X ar) (h0 : (A 22) wk = nI 0) (h1 : (A 23) wk = nI s)
    (b1 : cz + 3 * (NA + NB + 1) ≤ 359) (b2 : lb + 2 * (NA + NB + 1) ≤ 128) (b3 : 2 * k + (NA + NB + 1) ≤ 20) (b4 : 2 * rg + (NA + NB + 1) ≤ 60) (b5 : ex + uw_xb (NA + NB + 1) (uw_dc X) ≤ 200) (b6 : wk + 4 * (NA + NB + 1) + 1 ≤ 128) (b7 : ar + (NA + NB + 1) ≤ 20) :
    uw_CS C M p el (n + 1) s (NA + NB + 1) (uw_dc X) X A cz lb k ex rg wk ar := by
  have H : uw_HS C A p s wk := ⟨hC, hp, hs, by omega, h0, h1⟩
  have hk' : (A 0) (20 * p + s) = nI 12 := (hE 0 _ (by omega)).trans hk
  have ha' : (A 3) (20 * p + s) = nI qa := (hE 3 _ (by omega)).trans ha
  have la : 1 ≤ NA := by have := uw_TR_lo _ _ _ _ ta; omega
  have hd := uw_dc_le X ar hX
  have mr := (hME s hz).2.2
  have ma := hME qa (by omega)
  have qs : qa < s := by omega
  have qn : qa < n := by omega
  have hb' : (A 4) (20 * p + s) = nI qb := (hE 4 _ (by omega)).trans hb
  have lbb : 1 ≤ NB := by omega
  have qbs : qb < s := by omega
  have qbn : qb < n := by omega
  obtain ⟨r, hr, hr0⟩ := hrg
  have hr' : (A 1) (20 * p + s) = nI r := (hE 1 _ (by omega)).trans hr0
  have hx := uw_xb2 (a := NA) (b := NB) (d := uw_dc X) (by omega) (by omega) (by omega) (by omega) (by omega)
  have hm' : ¬ (A 8) qa = 0 := by rw [hE 8 _ (by omega)]; exact ma.1 hm
  obtain ⟨A1, r1, K1, c1, c2, c3, c4, c5, u1, u2, u3, u4, u5, u6, u7, u8, u9, u10⟩ := uw_s12t (lb := lb) (kt := 10 * p + k) (ex := ex) (rg := rg) (ar := ar) H (show cz + 1 < 360 by omega) (by omega) (by omega) hk' ha' (by omega) hb' (by omega) hr' hr hm'
  have E1 := uw_e0_k K1 hE
  have X1 := uw_CX_c X ar (uw_sa_k K1) hX
  obtain ⟨A2, cz2, lb2, k2, ex2, rg2, m2, r2, d2, K2, P2, F2⟩ := IH qa lo NA w X A1 (cz + 2) (lb + 2) (k) (ex) (rg) (wk + 4) (ar) qn eA ta hw E1 X1 u9 u10 (by omega) (by omega) (by omega) (by omega) (by omega) (by omega) (by omega)
  obtain ⟨da2, db2, dc2, de2, df2, dg2, dh2, di2, dj2, dk2, dl2⟩ := d2
  have E2 := uw_e0_k K2 E1
  have X2 := uw_CX_c X ar (uw_sa_k K2) X1
  have v7 := (K2 22 (wk + 3) (uw_o22 (by omega) (by decide) (by decide))).trans u7
  have v8 := (K2 23 (wk + 3) (uw_o22 (by omega) (by decide) (by decide))).trans u8
  have r3 := uw_w2 (C := C) (A := A2) (cz := cz2) (lb := lb2) (kt := 10 * p + k2) (ex := ex2) (rg := rg2) (wk := wk + 3) (ar := ar) (by omega) v7 v8 (by omega) (by omega)
  have K3 : uw_KP 0 cz2 lb2 (10 * p + k2) ex2 rg2 (wk + 3) qa ar A2 (uw_em A2 cz2 (nI 9) (nI (lb + 1)) (nI 0)) := uw_k_em (Nat.le_refl _) uw_kr
  have g3 : (uw_em A2 cz2 (nI 9) (nI (lb + 1)) (nI 0)) 9 cz2 = nI 9 := pk_us
  have g3' : (uw_em A2 cz2 (nI 9) (nI (lb + 1)) (nI 0)) 10 cz2 = nI (lb + 1) := pk_us
  generalize uw_em A2 cz2 (nI 9) (nI (lb + 1)) (nI 0) = A3 at r3 K3 g3 g3'
  have E3 := uw_e0_k K3 E2
  have X3 := uw_CX_c X ar (uw_sa_k K3) X2
  have v5 := (K3 22 (wk + 2) (uw_o22 (by omega) (by decide) (by decide))).trans ((K2 22 (wk + 2) (uw_o22 (by omega) (by decide) (by decide))).trans u5)
  have v6 := (K3 23 (wk + 2) (uw_o22 (by omega) (by decide) (by decide))).trans ((K2 23 (wk + 2) (uw_o22 (by omega) (by decide) (by decide))).trans u6)
  have r4 := uw_w1 (C := C) (A := A3) (cz := cz2 + 1) (lb := lb2) (kt := 10 * p + k2) (ex := ex2) (rg := rg2) (wk := wk + 2) (ar := ar) (l := lb) (by omega) v5 v6 (by omega) (by omega)
  have K4 : ∀ l0, lb < l0 ∨ lb2 ≤ lb → uw_KP l0 (cz2 + 1) lb2 (10 * p + k2) ex2 rg2 (wk + 2) qa ar A3 (uw_pl A3 lb (cz2 + 1)) := fun l0 hl => uw_k_pl hl uw_kr
  have K4' : uw_KP 0 (cz2 + 1) lb (10 * p + k2) ex2 rg2 (wk + 2) qa ar A3 (uw_pl A3 lb (cz2 + 1)) := uw_k_pl (Or.inr (Nat.le_refl _)) uw_kr
  have g4 : (uw_pl A3 lb (cz2 + 1)) 13 lb = nI (cz2 + 1) := pk_us
  have g4' : ∀ l, l ≠ lb → (uw_pl A3 lb (cz2 + 1)) 13 l = A3 13 l := fun l hl => pk_un hl
  generalize uw_pl A3 lb (cz2 + 1) = A4 at r4 K4 K4' g4 g4'
  have E4 := uw_e0_k K4' E3
  have X4 := uw_CX_c X ar (uw_sa_k K4') X3
  have v3 := (K4' 22 (wk + 1) (uw_o22 (by omega) (by decide) (by decide))).trans ((K3 22 (wk + 1) (uw_o22 (by omega) (by decide) (by decide))).trans ((K2 22 (wk + 1) (uw_o22 (by omega) (by decide) (by decide))).trans u3))
  have v4 := (K4' 23 (wk + 1) (uw_o22 (by omega) (by decide) (by decide))).trans ((K3 23 (wk + 1) (uw_o22 (by omega) (by decide) (by decide))).trans ((K2 23 (wk + 1) (uw_o22 (by omega) (by decide) (by decide))).trans u4))
  obtain ⟨A5, cz5, lb5, k5, ex5, rg5, m5, r5, d5, K5, P5, F5⟩ := IH qb (qa + 1) NB w X A4 (cz2 + 1) (lb2) (k2) (ex2) (rg2) (wk + 1) (ar) qbn eB tb hw E4 X4 v3 v4 (by omega) (by omega) (by omega) (by omega) (by omega) (by omega) (by omega)
  obtain ⟨da5, db5, dc5, de5, df5, dg5, dh5, di5, dj5, dk5, dl5⟩ := d5
  have E5 := uw_e0_k K5 E4
  have v1 := (K5 22 wk (uw_o22 (by omega) (by decide) (by decide))).trans ((K4' 22 wk (uw_o22 (by omega) (by decide) (by decide))).trans ((K3 22 wk (uw_o22 (by omega) (by decide) (by decide))).trans ((K2 22 wk (uw_o22 (by omega) (by decide) (by decide))).trans u1)))
  have v2 := (K5 23 wk (uw_o22 (by omega) (by decide) (by decide))).trans ((K4' 23 wk (uw_o22 (by omega) (by decide) (by decide))).trans ((K3 23 wk (uw_o22 (by omega) (by decide) (by decide))).trans ((K2 23 wk (uw_o22 (by omega) (by decide) (by decide))).trans u2)))
  have r6 := uw_w1 (C := C) (A := A5) (cz := cz5) (lb := lb5) (kt := 10 * p + k5) (ex := ex5) (rg := rg5) (wk := wk) (ar := ar) (l := lb + 1) (by omega) v1 v2 (by omega) (by omega)
  have K6 : ∀ l0 lb', lb + 1 < l0 ∨ lb' ≤ lb + 1 → uw_KP l0 cz5 lb' (10 * p + k5) ex5 rg5 wk s ar A5 (uw_pl A5 (lb + 1) cz5) := fun l0 lb' hl => uw_k_pl hl uw_kr
  have g6 : (uw_pl A5 (lb + 1) cz5) 13 (lb + 1) = nI cz5 := pk_us
  have g6' : ∀ l, l ≠ lb + 1 → (uw_pl A5 (lb + 1) cz5) 13 l = A5 13 l := fun l hl => pk_un hl
  generalize uw_pl A5 (lb + 1) cz5 = A6 at r6 K6 g6 g6'
  have E6 := uw_e0_k (K6 0 0 (by omega)) E5
  have q1 : A6 13 lb = nI (cz2 + 1) := (g6' lb (by omega)).trans ((K5 13 lb (uw_o13 (by omega) (by omega))).trans g4)
  refine ⟨A6, cz5, lb5, k5, ex5, rg5, 1 + m2 + 1 + 1 + m5 + 1, uw_rt (uw_rt (uw_rt (uw_rt (uw_rt r1 r2) r3) r4) r5) r6, ⟨by omega, by omega, by omega, by omega, by omega, by omega, by omega, by omega, by omega, by omega, by omega⟩, uw_kt K1 (uw_kt (uw_km K2 ⟨by omega, by omega, by omega, by omega, by omega, by omega, by omega, by omega, by omega⟩) (uw_kt (uw_kt (uw_km K3 ⟨by omega, by omega, by omega, by omega, by omega, by omega, by omega, by omega, by omega⟩) (uw_km K4' ⟨by omega, by omega, by omega, by omega, by omega, by omega, by omega, by omega, by omega⟩)) (uw_kt (uw_km K5 ⟨by omega, by omega, by omega, by omega, by omega, by omega, by omega, by omega, by omega⟩) (uw_km (K6 0 lb (by omega)) ⟨by omega, by omega, by omega, by omega, by omega, by omega, by omega, by omega, by omega⟩)))), fun l x y => ?_, fun F N' hF hN => ?_⟩
  · rcases Nat.lt_or_ge l (lb + 2) with v | v
    · rcases Nat.lt_or_ge l (lb + 1) with y' | y'
      · have el : l = lb := by omega
        subst el; exact ⟨_, by omega, q1⟩
      · have el : l = lb + 1 := by omega
        subst el; exact ⟨cz5, by omega, g6⟩
    · rcases Nat.lt_or_ge l lb2 with y' | y'
      · obtain ⟨q, t1, q2⟩ := P2 l v y'
        exact ⟨q, by omega, (g6' l (by omega)).trans ((K5 13 l (uw_o13 (by omega) (by omega))).trans ((g4' l (by omega)).trans ((K3 13 l (uw_o13 (by omega) (by omega))).trans q2)))⟩
      · obtain ⟨q, t1, q2⟩ := P5 l y' y
        exact ⟨q, by omega, (g6' l (by omega)).trans q2⟩
  · have G5 : uw_FA lb2 cz5 lb5 (10 * p + k5) ex5 rg5 A5 F := uw_fa_k (wk := 0) (sx := s) (ar := 0) (uw_km (K6 lb2 lb5 (by omega)) ⟨by omega, by omega, by omega, by omega, by omega, by omega, by omega, by omega, by omega⟩) (uw_fa_m hF ⟨by omega, by omega, by omega, by omega, by omega, by omega⟩)
    have G4 : uw_FA (lb + 2) (cz2 + 1) lb2 (10 * p + k2) ex2 rg2 A4 F := by
      refine uw_fa_k (A' := A5) (wk := 0) (sx := s) (ar := 0) (uw_km K5 ⟨by omega, by omega, by omega, by omega, by omega, by omega, by omega, by omega, by omega⟩) (uw_fa_k (A' := A6) (wk := 0) (sx := s) (ar := 0) (uw_km (K6 (lb + 2) lb5 (by omega)) (by omega)) (uw_fa_m hF ⟨by omega, by omega, by omega, by omega, by omega, by omega⟩))
    have G3 : uw_FA (lb + 2) (cz2 + 1) lb2 (10 * p + k2) ex2 rg2 A3 F := uw_fa_k (K4 (lb + 2) (by omega)) G4
    have G2 : uw_FA (lb + 2) cz2 lb2 (10 * p + k2) ex2 rg2 A2 F := uw_fa_k (wk := 0) (sx := s) (ar := 0) (uw_km K3 ⟨by omega, by omega, by omega, by omega, by omega, by omega, by omega, by omega, by omega⟩) (uw_fa_m G3 ⟨by omega, by omega, by omega, by omega, by omega, by omega⟩)
    have G1 : uw_FA (lb + 2) (cz + 2) (lb + 2) (10 * p + k) ex rg A1 F := uw_fa_k (wk := 0) (sx := s) (ar := 0) (uw_km K2 ⟨by omega, by omega, by omega, by omega, by omega, by omega, by omega, by omega, by omega⟩) (uw_fa_m G2 ⟨by omega, by omega, by omega, by omega, by omega, by omega⟩)
    have CA := F2 F N' G2 (by omega)
    have CB := F5 F N' G5 hN
    have fr : F 1 (20 * p + s) = nI r := (hF 1 _ (uw_v0 (by decide))).trans ((E6 1 _ (by omega)).trans hr0)
    refine ⟨hs, (G1 9 cz (uw_v9 (by omega) (by decide) (by decide))).trans c1, (G1 10 cz (uw_v9 (by omega) (by decide) (by decide))).trans c2, Or.inr (Or.inr (Or.inl ⟨(hF 0 _ (uw_v0 (by decide))).trans ((E6 0 _ (by omega)).trans hk), qa, qb, by omega, by omega, (hF 3 _ (uw_v0 (by decide))).trans ((E6 3 _ (by omega)).trans ha), (hF 4 _ (uw_v0 (by decide))).trans ((E6 4 _ (by omega)).trans hb), (mr.2.1 qa qb ha hb (by omega) (by omega)).2 (Or.inl hk), (G1 9 _ (uw_v9 (by omega) (by decide) (by decide))).trans c3, ((G1 10 _ (uw_v9 (by omega) (by decide) (by decide))).trans c4).trans fr.symm, lb, lb + 1, cz2, cz2 + 1, rg2, k2, by omega, by omega, (G1 11 _ (uw_v9 (by omega) (by decide) (by decide))).trans c5, CA, Or.inl ⟨hm, rfl, (G3 9 _ (uw_v9 (by omega) (by decide) (by decide))).trans g3, (G3 10 _ (uw_v9 (by omega) (by decide) (by decide))).trans g3'⟩, (hF 13 _ (uw_v13 (by omega) (by omega))).trans q1, CB, (hF 13 _ (uw_v13 (by omega) (by omega))).trans g6⟩))⟩
end
end
section
/-! the big-step statement for the statements with parts (printed by gen17.py) -/
section
variable {C : Nat → Int32} {A0 A : Nat → Nat → Int32} {M : Nat → Bool} {cz lb k ex rg wk ar p el s n qa qb lo w z NA NB : Nat} {X : List ((Nat × Nat) ⊕ Nat)}
theorem uw_cs_iff (IH : uw_IH C M p el A0 n) (hp : p < 3) (hC : (C 9) = nI p) (hs : s < 20) (hn : s < n + 1) (hk : (A0 0) (20 * p + s) = nI 12) (ha : (A0 3) (20 * p + s) = nI qa) (hb : (A0 4) (20 * p + s) = nI qb) (e : s = qb + 1) (hq : qa < qb) (eA : lo + NA = qa + 1) (eB : qa + 1 + NB = qb + 1) (ta : uw_TR A0 (20 * p) 20 w lo qa) (tb : uw_TR A0 (20 * p) 20 w (qa + 1) qb) (hrg : uw_rg A0 (20 * p + s)) (hm : M qa = false) (hw : w ≤ uw_lc X) (hME : uw_ME A0 M p z) (hz : s ≤ z) (hE : uw_E0 A0 A) (hX : uw_CX A p X ar) (h0 : (A 22) wk = nI 0) (h1 : (A 23) wk = nI s)
    (b1 : cz + 3 * (NA + NB + 1) ≤ 359) (b2 : lb + 2 * (NA + NB + 1) ≤ 128) (b3 : 2 * k + (NA + NB + 1) ≤ 20) (b4 : 2 * rg + (NA + NB + 1) ≤ 60) (b5 : ex + uw_xb (NA + NB + 1) (uw_dc X) ≤ 200) (b6 : wk + 4 * (NA + NB + 1) + 1 ≤ 128) (b7 : ar + (NA + NB + 1) ≤ 20) :
    uw_CS C M p el (n + 1) s (NA + NB + 1) (uw_dc X) X A cz lb k ex rg wk ar := by
  have H : uw_HS C A p s wk := ⟨hC, hp, hs, by omega, h0, h1⟩
  have hk' : (A 0) (20 * p + s) = nI 12 := (hE 0 _ (by omega)).trans hk
  have ha' : (A 3) (20 * p + s) = nI qa := (hE 3 _ (by omega)).trans ha
  have la : 1 ≤ NA := by have := uw_TR_lo _ _ _ _ ta; omega
  have hd := uw_dc_le X ar hX
  have mr := (hME s hz).2.2
  have ma := hME qa (by omega)
  have qs : qa < s := by omega
  have qn : qa < n := by omega
  have hb' : (A 4) (20 * p + s) = nI qb := (hE 4 _ (by omega)).trans hb
  have lbb : 1 ≤ NB := by omega
  have qbs : qb < s := by omega
  have qbn : qb < n := by omega
  obtain ⟨r, hr, hr0⟩ := hrg
  have hr' : (A 1) (20 * p + s) = nI r := (hE 1 _ (by omega)).trans hr0
  have hx := uw_xb2 (a := NA) (b := NB) (d := uw_dc X) (by omega) (by omega) (by omega) (by omega) (by omega)
  have hm' : (A 8) qa = 0 := by rw [hE 8 _ (by omega)]; exact ma.2.1 hm
  obtain ⟨A1, r1, K1, c1, c2, c3, c4, c5, u1, u2, u3, u4, u5, u6, u7, u8⟩ := uw_s12f (lb := lb) (kt := 10 * p + k) (ex := ex) (rg := rg) (ar := ar) H (show cz + 1 < 360 by omega) (by omega) (by omega) hk' ha' (by omega) hb' (by omega) hr' hr hm'
  have E1 := uw_e0_k K1 hE
  have X1 := uw_CX_c X ar (uw_sa_k K1) hX
  obtain ⟨A2, cz2, lb2, k2, ex2, rg2, m2, r2, d2, K2, P2, F2⟩ := IH qa lo NA w X A1 (cz + 2) (lb + 2) (k) (ex) (rg) (wk + 3) (ar) qn eA ta hw E1 X1 u7 u8 (by omega) (by omega) (by omega) (by omega) (by omega) (by omega) (by omega)
  obtain ⟨da2, db2, dc2, de2, df2, dg2, dh2, di2, dj2, dk2, dl2⟩ := d2
  have E2 := uw_e0_k K2 E1
  have X2 := uw_CX_c X ar (uw_sa_k K2) X1
  have v5 := (K2 22 (wk + 2) (uw_o22 (by omega) (by decide) (by decide))).trans u5
  have v6 := (K2 23 (wk + 2) (uw_o22 (by omega) (by decide) (by decide))).trans u6
  have r4 := uw_w1 (C := C) (A := A2) (cz := cz2) (lb := lb2) (kt := 10 * p + k2) (ex := ex2) (rg := rg2) (wk := wk + 2) (ar := ar) (l := lb) (by omega) v5 v6 (by omega) (by omega)
  have K4 : ∀ l0, lb < l0 ∨ lb2 ≤ lb → uw_KP l0 (cz2) lb2 (10 * p + k2) ex2 rg2 (wk + 2) qa ar A2 (uw_pl A2 lb (cz2)) := fun l0 hl => uw_k_pl hl uw_kr
  have K4' : uw_KP 0 (cz2) lb (10 * p + k2) ex2 rg2 (wk + 2) qa ar A2 (uw_pl A2 lb (cz2)) := uw_k_pl (Or.inr (Nat.le_refl _)) uw_kr
  have g4 : (uw_pl A2 lb (cz2)) 13 lb = nI (cz2) := pk_us
  have g4' : ∀ l, l ≠ lb → (uw_pl A2 lb (cz2)) 13 l = A2 13 l := fun l hl => pk_un hl
  generalize uw_pl A2 lb (cz2) = A4 at r4 K4 K4' g4 g4'
  have E4 := uw_e0_k K4' E2
  have X4 := uw_CX_c X ar (uw_sa_k K4') X2
  have v3 := (K4' 22 (wk + 1) (uw_o22 (by omega) (by decide) (by decide))).trans ((K2 22 (wk + 1) (uw_o22 (by omega) (by decide) (by decide))).trans u3)
  have v4 := (K4' 23 (wk + 1) (uw_o22 (by omega) (by decide) (by decide))).trans ((K2 23 (wk + 1) (uw_o22 (by omega) (by decide) (by decide))).trans u4)
  obtain ⟨A5, cz5, lb5, k5, ex5, rg5, m5, r5, d5, K5, P5, F5⟩ := IH qb (qa + 1) NB w X A4 (cz2) (lb2) (k2) (ex2) (rg2) (wk + 1) (ar) qbn eB tb hw E4 X4 v3 v4 (by omega) (by omega) (by omega) (by omega) (by omega) (by omega) (by omega)
  obtain ⟨da5, db5, dc5, de5, df5, dg5, dh5, di5, dj5, dk5, dl5⟩ := d5
  have E5 := uw_e0_k K5 E4
  have v1 := (K5 22 wk (uw_o22 (by omega) (by decide) (by decide))).trans ((K4' 22 wk (uw_o22 (by omega) (by decide) (by decide))).trans ((K2 22 wk (uw_o22 (by omega) (by decide) (by decide))).trans u1))
  have v2 := (K5 23 wk (uw_o22 (by omega) (by decide) (by decide))).trans ((K4' 23 wk (uw_o22 (by omega) (by decide) (by decide))).trans ((K2 23 wk (uw_o22 (by omega) (by decide) (by decide))).trans u2))
  have r6 := uw_w1 (C := C) (A := A5) (cz := cz5) (lb := lb5) (kt := 10 * p + k5) (ex := ex5) (rg := rg5) (wk := wk) (ar := ar) (l := lb + 1) (by omega) v1 v2 (by omega) (by omega)
  have K6 : ∀ l0 lb', lb + 1 < l0 ∨ lb' ≤ lb + 1 → uw_KP l0 cz5 lb' (10 * p + k5) ex5 rg5 wk s ar A5 (uw_pl A5 (lb + 1) cz5) := fun l0 lb' hl => uw_k_pl hl uw_kr
  have g6 : (uw_pl A5 (lb + 1) cz5) 13 (lb + 1) = nI cz5 := pk_us
  have g6' : ∀ l, l ≠ lb + 1 → (uw_pl A5 (lb + 1) cz5) 13 l = A5 13 l := fun l hl => pk_un hl
  generalize uw_pl A5 (lb + 1) cz5 = A6 at r6 K6 g6 g6'
  have E6 := uw_e0_k (K6 0 0 (by omega)) E5
  have q1 : A6 13 lb = nI (cz2) := (g6' lb (by omega)).trans ((K5 13 lb (uw_o13 (by omega) (by omega))).trans g4)
  refine ⟨A6, cz5, lb5, k5, ex5, rg5, 1 + m2 + 1 + m5 + 1, uw_rt (uw_rt (uw_rt (uw_rt r1 r2) r4) r5) r6, ⟨by omega, by omega, by omega, by omega, by omega, by omega, by omega, by omega, by omega, by omega, by omega⟩, uw_kt K1 (uw_kt (uw_km K2 ⟨by omega, by omega, by omega, by omega, by omega, by omega, by omega, by omega, by omega⟩) (uw_kt (uw_km K4' ⟨by omega, by omega, by omega, by omega, by omega, by omega, by omega, by omega, by omega⟩) (uw_kt (uw_km K5 ⟨by omega, by omega, by omega, by omega, by omega, by omega, by omega, by omega, by omega⟩) (uw_km (K6 0 lb (by omega)) ⟨by omega, by omega, by omega, by omega, by omega, by omega, by omega, by omega, by omega⟩)))), fun l x y => ?_, fun F N' hF hN => ?_⟩
  · rcases Nat.lt_or_ge l (lb + 2) with v | v
    · rcases Nat.lt_or_ge l (lb + 1) with y' | y'
      · have el : l = lb := by omega
        subst el; exact ⟨_, by omega, q1⟩
      · have el : l = lb + 1 := by omega
        subst el; exact ⟨cz5, by omega, g6⟩
    · rcases Nat.lt_or_ge l lb2 with y' | y'
      · obtain ⟨q, t1, q2⟩ := P2 l v y'
        exact ⟨q, by omega, (g6' l (by omega)).trans ((K5 13 l (uw_o13 (by omega) (by omega))).trans ((g4' l (by omega)).trans (q2)))⟩
      · obtain ⟨q, t1, q2⟩ := P5 l y' y
        exact ⟨q, by omega, (g6' l (by omega)).trans q2⟩
  · have G5 : uw_FA lb2 cz5 lb5 (10 * p + k5) ex5 rg5 A5 F := uw_fa_k (wk := 0) (sx := s) (ar := 0) (uw_km (K6 lb2 lb5 (by omega)) ⟨by omega, by omega, by omega, by omega, by omega, by omega, by omega, by omega, by omega⟩) (uw_fa_m hF ⟨by omega, by omega, by omega, by omega, by omega, by omega⟩)
    have G4 : uw_FA (lb + 2) (cz2) lb2 (10 * p + k2) ex2 rg2 A4 F := by
      refine uw_fa_k (A' := A5) (wk := 0) (sx := s) (ar := 0) (uw_km K5 ⟨by omega, by omega, by omega, by omega, by omega, by omega, by omega, by omega, by omega⟩) (uw_fa_k (A' := A6) (wk := 0) (sx := s) (ar := 0) (uw_km (K6 (lb + 2) lb5 (by omega)) (by omega)) (uw_fa_m hF ⟨by omega, by omega, by omega, by omega, by omega, by omega⟩))
    have G3 : uw_FA (lb + 2) (cz2) lb2 (10 * p + k2) ex2 rg2 A2 F := uw_fa_k (K4 (lb + 2) (by omega)) G4
    have G2 := G3
    have G1 : uw_FA (lb + 2) (cz + 2) (lb + 2) (10 * p + k) ex rg A1 F := uw_fa_k (wk := 0) (sx := s) (ar := 0) (uw_km K2 ⟨by omega, by omega, by omega, by omega, by omega, by omega, by omega, by omega, by omega⟩) (uw_fa_m G2 ⟨by omega, by omega, by omega, by omega, by omega, by omega⟩)
    have CA := F2 F N' G2 (by omega)
    have CB := F5 F N' G5 hN
    have fr : F 1 (20 * p + s) = nI r := (hF 1 _ (uw_v0 (by decide))).trans ((E6 1 _ (by omega)).trans hr0)
    refine ⟨hs, (G1 9 cz (uw_v9 (by omega) (by decide) (by decide))).trans c1, (G1 10 cz (uw_v9 (by omega) (by decide) (by decide))).trans c2, Or.inr (Or.inr (Or.inl ⟨(hF 0 _ (uw_v0 (by decide))).trans ((E6 0 _ (by omega)).trans hk), qa, qb, by omega, by omega, (hF 3 _ (uw_v0 (by decide))).trans ((E6 3 _ (by omega)).trans ha), (hF 4 _ (uw_v0 (by decide))).trans ((E6 4 _ (by omega)).trans hb), (mr.2.1 qa qb ha hb (by omega) (by omega)).2 (Or.inl hk), (G1 9 _ (uw_v9 (by omega) (by decide) (by decide))).trans c3, ((G1 10 _ (uw_v9 (by omega) (by decide) (by decide))).trans c4).trans fr.symm, lb, lb + 1, cz2, cz2, rg2, k2, by omega, by omega, (G1 11 _ (uw_v9 (by omega) (by decide) (by decide))).trans c5, CA, Or.inr ⟨hm, rfl⟩, (hF 13 _ (uw_v13 (by omega) (by omega))).trans q1, CB, (hF 13 _ (uw_v13 (by omega) (by omega))).trans g6⟩))⟩
end
end
section
/-! the big-step statement for the statements with parts (printed by gen17.py) -/
section
variable {C : Nat → Int32} {A0 A : Nat → Nat → Int32} {M : Nat → Bool} {cz lb k ex rg wk ar p el s n qa qb lo w z NA NB : Nat} {X : List ((Nat × Nat) ⊕ Nat)}
theorem uw_cs_while (IH : uw_IH C M p el A0 n) (hp : p < 3) (hC : (C 9) = nI p) (hs : s < 20) (hn : s < n + 1) (hk : (A0 0) (20 * p + s) = nI 15) (ha : (A0 3) (20 * p + s) = nI qa) (e : s = qa + 1) (eA : lo + NA = qa + 1) (ta : uw_TR A0 (20 * p) 20 (w + 1) lo qa) (hrg : uw_rg A0 (20 * p + s)) (hw : w ≤ uw_lc X) (hME : uw_ME A0 M p z) (hz : s ≤ z) (hE : uw_E0 A0 A) (hX : uw_CX A p X ar) (h0 : (A 22) wk = nI 0) (h1 : (A 23) wk = nI s)
    (b1 : cz + 3 * (NA + 1) ≤ 359) (b2 : lb + 2 * (NA + 1) ≤ 128) (b3 : 2 * k + (NA + 1) ≤ 20) (b4 : 2 * rg + (NA + 1) ≤ 60) (b5 : ex + uw_xb (NA + 1) (uw_dc X) ≤ 200) (b6 : wk + 4 * (NA + 1) + 1 ≤ 128) (b7 : ar + (NA + 1) ≤ 20) :
    uw_CS C M p el (n + 1) s (NA + 1) (uw_dc X) X A cz lb k ex rg wk ar := by
  have H : uw_HS C A p s wk := ⟨hC, hp, hs, by omega, h0, h1⟩
  have hk' : (A 0) (20 * p + s) = nI 15 := (hE 0 _ (by omega)).trans hk
  have ha' : (A 3) (20 * p + s) = nI qa := (hE 3 _ (by omega)).trans ha
  have la : 1 ≤ NA := by have := uw_TR_lo _ _ _ _ ta; omega
  have hd := uw_dc_le X ar hX
  have mr := (hME s hz).2.2
  have ma := hME qa (by omega)
  have qs : qa < s := by omega
  have qn : qa < n := by omega
  obtain ⟨r, hr, hr0⟩ := hrg
  have hr' : (A 1) (20 * p + s) = nI r := (hE 1 _ (by omega)).trans hr0
  have hx := uw_xbW (a := NA) (d := uw_dc X) (by omega) (by omega) (by omega)
  obtain ⟨A1, r1, K1, c1, c2, c3, c4, c5, c6, c7, c8, c9, u1, u2, u3, u4, u5, u6, u7, u8⟩ := uw_s15 (lb := lb) (kt := 10 * p + k) (ex := ex) (rg := rg) (ar := ar) H (show cz + 1 < 360 by omega) (by omega) (by omega) (by omega) hk' ha' (by omega) hr' hr
  have E1 := uw_e0_k K1 hE
  have X1 : uw_CX A1 p (Sum.inl (lb + 1, lb) :: X) (ar + 1) := ⟨ar, rfl, ⟨c7, c8, c9, by omega, by omega⟩, uw_CX_c X ar (uw_sa_k K1) hX⟩
  obtain ⟨A2, cz2, lb2, k2, ex2, rg2, m2, r2, d2, K2, P2, F2⟩ := IH qa lo NA (w + 1) (Sum.inl (lb + 1, lb) :: X) A1 (cz + 2) (lb + 2) (k) (ex) (rg) (wk + 3) (ar + 1) qn eA ta (Nat.succ_le_succ hw) E1 X1 u7 u8 (by omega) (by omega) (by omega) (by omega) (by show ex + uw_xb NA (uw_dc X) ≤ 200; omega) (by omega) (by omega)
  obtain ⟨da2, db2, dc2, de2, df2, dg2, dh2, di2, dj2, dk2, dl2⟩ := d2
  have d2' : ex2 ≤ ex + uw_xb NA (uw_dc X) := dj2
  clear dj2
  have E2 := uw_e0_k K2 E1
  have v5 := (K2 22 (wk + 2) (uw_o22 (by omega) (by decide) (by decide))).trans u5
  have v6 := (K2 23 (wk + 2) (uw_o22 (by omega) (by decide) (by decide))).trans u6
  have r3 := uw_w2 (C := C) (A := A2) (cz := cz2) (lb := lb2) (kt := 10 * p + k2) (ex := ex2) (rg := rg2) (wk := wk + 2) (ar := ar + 1) (by omega) v5 v6 (by omega) (by omega)
  have K3 : uw_KP 0 cz2 lb2 (10 * p + k2) ex2 rg2 (wk + 2) qa ar A2 (uw_em A2 cz2 (nI 9) (nI lb) (nI 0)) := uw_k_em (Nat.le_refl _) uw_kr
  have g3 : (uw_em A2 cz2 (nI 9) (nI lb) (nI 0)) 9 cz2 = nI 9 := pk_us
  have g3' : (uw_em A2 cz2 (nI 9) (nI lb) (nI 0)) 10 cz2 = nI lb := pk_us
  generalize uw_em A2 cz2 (nI 9) (nI lb) (nI 0) = A3 at r3 K3 g3 g3'
  have E3 := uw_e0_k K3 E2
  have v3 := (K3 22 (wk + 1) (uw_o22 (by omega) (by decide) (by decide))).trans ((K2 22 (wk + 1) (uw_o22 (by omega) (by decide) (by decide))).trans u3)
  have r4 := uw_w3 (C := C) (A := A3) (cz := cz2 + 1) (lb := lb2) (kt := 10 * p + k2) (ex := ex2) (rg := rg2) (wk := wk + 1) (ar := ar) (by omega) v3
  have v1 := (K3 22 wk (uw_o22 (by omega) (by decide) (by decide))).trans ((K2 22 wk (uw_o22 (by omega) (by decide) (by decide))).trans u1)
  have v2 := (K3 23 wk (uw_o22 (by omega) (by decide) (by decide))).trans ((K2 23 wk (uw_o22 (by omega) (by decide) (by decide))).trans u2)
  have r5 := uw_w1 (C := C) (A := A3) (cz := cz2 + 1) (lb := lb2) (kt := 10 * p + k2) (ex := ex2) (rg := rg2) (wk := wk) (ar := ar) (l := lb + 1) (by omega) v1 v2 (by omega) (by omega)
  have K6 : ∀ l0 lb', lb + 1 < l0 ∨ lb' ≤ lb + 1 → uw_KP l0 (cz2 + 1) lb' (10 * p + k2) ex2 rg2 wk s ar A3 (uw_pl A3 (lb + 1) (cz2 + 1)) := fun l0 lb' hl => uw_k_pl hl uw_kr
  have g6 : (uw_pl A3 (lb + 1) (cz2 + 1)) 13 (lb + 1) = nI (cz2 + 1) := pk_us
  have g6' : ∀ l, l ≠ lb + 1 → (uw_pl A3 (lb + 1) (cz2 + 1)) 13 l = A3 13 l := fun l hl => pk_un hl
  generalize uw_pl A3 (lb + 1) (cz2 + 1) = A6 at r5 K6 g6 g6'
  have E6 := uw_e0_k (K6 0 0 (by omega)) E3
  have q1 : A6 13 lb = nI (cz + 1) := (g6' lb (by omega)).trans ((K3 13 lb (uw_o13 (by omega) (by omega))).trans ((K2 13 lb (uw_o13 (by omega) (by omega))).trans c6))
  refine ⟨A6, cz2 + 1, lb2, k2, ex2, rg2, 1 + m2 + 1 + 1 + 1, uw_rt (uw_rt (uw_rt (uw_rt r1 r2) r3) r4) r5, ⟨by omega, by omega, by omega, by omega, by omega, by omega, by omega, by omega, by omega, by omega, by omega⟩, uw_kt K1 (uw_kt (uw_km K2 ⟨by omega, by omega, by omega, by omega, by omega, by omega, by omega, by omega, by omega⟩) (uw_kt (uw_km K3 ⟨by omega, by omega, by omega, by omega, by omega, by omega, by omega, by omega, by omega⟩) (uw_km (K6 0 lb (by omega)) ⟨by omega, by omega, by omega, by omega, by omega, by omega, by omega, by omega, by omega⟩))), fun l x y => ?_, fun F N' hF hN => ?_⟩
  · rcases Nat.lt_or_ge l (lb + 2) with v | v
    · rcases Nat.lt_or_ge l (lb + 1) with y' | y'
      · have el : l = lb := by omega
        subst el; exact ⟨_, by omega, q1⟩
      · have el : l = lb + 1 := by omega
        subst el; exact ⟨cz2 + 1, by omega, g6⟩
    · obtain ⟨q, t1, q2⟩ := P2 l v y
      exact ⟨q, by omega, (g6' l (by omega)).trans ((K3 13 l (uw_o13 (by omega) (by omega))).trans q2)⟩
  · have G3 : uw_FA (lb + 2) (cz2 + 1) lb2 (10 * p + k2) ex2 rg2 A3 F := uw_fa_k (K6 (lb + 2) lb2 (by omega)) (uw_fa_m hF ⟨by omega, by omega, by omega, by omega, by omega, by omega⟩)
    have G2 : uw_FA (lb + 2) cz2 lb2 (10 * p + k2) ex2 rg2 A2 F := uw_fa_k (wk := 0) (sx := s) (ar := 0) (uw_km K3 ⟨by omega, by omega, by omega, by omega, by omega, by omega, by omega, by omega, by omega⟩) (uw_fa_m G3 ⟨by omega, by omega, by omega, by omega, by omega, by omega⟩)
    have G1 : uw_FA (lb + 2) (cz + 2) (lb + 2) (10 * p + k) ex rg A1 F := uw_fa_k (wk := 0) (sx := s) (ar := 0) (uw_km K2 ⟨by omega, by omega, by omega, by omega, by omega, by omega, by omega, by omega, by omega⟩) (uw_fa_m G2 ⟨by omega, by omega, by omega, by omega, by omega, by omega⟩)
    have CA := F2 F N' G2 (by omega)
    have fr : F 1 (20 * p + s) = nI r := (hF 1 _ (uw_v0 (by decide))).trans ((E6 1 _ (by omega)).trans hr0)
    refine ⟨hs, (G1 9 cz (uw_v9 (by omega) (by decide) (by decide))).trans c1, (G1 10 cz (uw_v9 (by omega) (by decide) (by decide))).trans c2, Or.inr (Or.inr (Or.inr (Or.inl ⟨(hF 0 _ (uw_v0 (by decide))).trans ((E6 0 _ (by omega)).trans hk), qa, by omega, (hF 3 _ (uw_v0 (by decide))).trans ((E6 3 _ (by omega)).trans ha), mr.2.2 hk, (G1 9 _ (uw_v9 (by omega) (by decide) (by decide))).trans c3, ((G1 10 _ (uw_v9 (by omega) (by decide) (by decide))).trans c4).trans fr.symm, lb, lb + 1, cz2, by omega, by omega, (hF 13 _ (uw_v13 (by omega) (by omega))).trans q1, (G1 11 _ (uw_v9 (by omega) (by decide) (by decide))).trans c5, CA, (G3 9 _ (uw_v9 (by omega) (by decide) (by decide))).trans g3, (G3 10 _ (uw_v9 (by omega) (by decide) (by decide))).trans g3', rfl, (hF 13 _ (uw_v13 (by omega) (by omega))).trans g6⟩)))⟩
end
end
section
/-! the big-step statement for the statements with parts (printed by gen17.py) -/
section
variable {C : Nat → Int32} {A0 A : Nat → Nat → Int32} {M : Nat → Bool} {cz lb k ex rg wk ar p el s n qa qb lo w z NA NB : Nat} {X : List ((Nat × Nat) ⊕ Nat)}
theorem uw_cs_catcht (IH : uw_IH C M p el A0 n) (hp : p < 3) (hC : (C 9) = nI p) (hs : s < 20) (hn : s < n + 1) (hk : (A0 0) (20 * p + s) = nI 13) (ha : (A0 3) (20 * p + s) = nI qa) (hb : (A0 4) (20 * p + s) = nI qb) (e : s = qb + 1) (hq : qa < qb) (eA : lo + NA = qa + 1) (eB : qa + 1 + NB = qb + 1) (ta : uw_TR A0 (20 * p) 20 w lo qa) (tb : uw_TR A0 (20 * p) 20 w (qa + 1) qb) (hrg : uw_rg A0 (20 * p + s)) (hm : M qa = true) (hw : w ≤ uw_lc X) (hME : uw_ME A0 M p z) (hz : s ≤ z) (hE : uw_E0 A0 A) (hX : uw_CX A p X ar) (h0 : (A 22) wk = nI 0) (h1 : (A 23) wk = nI s)
    (b1 : cz + 3 * (NA + NB + 1) ≤ 359) (b2 : lb + 2 * (NA + NB + 1) ≤ 128) (b3 : 2 * k + (NA + NB + 1) ≤ 20) (b4 : 2 * rg + (NA + NB + 1) ≤ 60) (b5 : ex + uw_xb (NA + NB + 1) (uw_dc X) ≤ 200) (b6 : wk + 4 * (NA + NB + 1) + 1 ≤ 128) (b7 : ar + (NA + NB + 1) ≤ 20) :
    uw_CS C M p el (n + 1) s (NA + NB + 1) (uw_dc X) X A cz lb k ex rg wk ar := by
  have H : uw_HS C A p s wk := ⟨hC, hp, hs, by omega, h0, h1⟩
  have hk' : (A 0) (20 * p + s) = nI 13 := (hE 0 _ (by omega)).trans hk
  have ha' : (A 3) (20 * p + s) = nI qa := (hE 3 _ (by omega)).trans ha
  have la : 1 ≤ NA := by have := uw_TR_lo _ _ _ _ ta; omega
  have hd := uw_dc_le X ar hX
  have mr := (hME s hz).2.2
  have ma := hME qa (by omega)
  have qs : qa < s := by omega
  have qn : qa < n := by omega
  have hb' : (A 4) (20 * p + s) = nI qb := (hE 4 _ (by omega)).trans hb
  have lbb : 1 ≤ NB := by omega
  have qbs : qb < s := by omega
  have qbn : qb < n := by omega
  obtain ⟨r, hr, hr0⟩ := hrg
  have hr' : (A 1) (20 * p + s) = nI r := (hE 1 _ (by omega)).trans hr0
  have hx := uw_xb2 (a := NA) (b := NB) (d := uw_dc X) (by omega) (by omega) (by omega) (by omega) (by omega)
  obtain ⟨A1, r1, K1, c1, c2, c3, c4, u1, u2, u3, u4, u5, u6, u7, u8⟩ := uw_s13 (lb := lb) (kt := 10 * p + k) (ex := ex) (rg := rg) (ar := ar) H (show cz < 360 by omega) (by omega) (by omega) hk' ha' (by omega) hb' (by omega)
  have E1 := uw_e0_k K1 hE
  have X1 := uw_CX_c X ar (uw_sa_k K1) hX
  obtain ⟨A2, cz2, lb2, k2, ex2, rg2, m2, r2, d2, K2, P2, F2⟩ := IH qa lo NA w X A1 (cz + 1) (lb + 1) (k) (ex) (rg) (wk + 3) (ar) qn eA ta hw E1 X1 u7 u8 (by omega) (by omega) (by omega) (by omega) (by omega) (by omega) (by omega)
  obtain ⟨da2, db2, dc2, de2, df2, dg2, dh2, di2, dj2, dk2, dl2⟩ := d2
  have E2 := uw_e0_k K2 E1
  have X2 := uw_CX_c X ar (uw_sa_k K2) X1
  have v5 := (K2 22 (wk + 2) (uw_o22 (by omega) (by decide) (by decide))).trans u5
  have v6 := (K2 23 (wk + 2) (uw_o22 (by omega) (by decide) (by decide))).trans u6
  have c3' := (K2 24 s (uw_o24 (by omega) (by decide) (by decide))).trans c3
  have c4' := (K2 25 s (uw_o24 (by omega) (by decide) (by decide))).trans c4
  have hm' : ¬ (A2 8) qa = 0 := by rw [E2 8 _ (by omega)]; exact ma.1 hm
  obtain ⟨A3, r3, K3, g1, g2, g3, g4, g5, g6⟩ := uw_s4t (C := C) (A := A2) (cz := cz2) (lb := lb2) (kt := 10 * p + k2) (ex := ex2) (rg := rg2) (wk := wk + 2) (ar := ar) (l := lb) (a := cz + 1) hC hp hs (by omega) v5 v6 (by omega) (by omega) (by omega) ((E2 3 _ (by omega)).trans ha) (by omega) ((E2 1 _ (by omega)).trans hr0) hr c3' (by omega) c4' (by omega) hm'
  have E3 := uw_e0_k K3 E2
  have X3 := uw_CX_c X ar (uw_sa_k K3) X2
  have v3 := (K3 22 (wk + 1) (uw_o22 (by omega) (by decide) (by decide))).trans ((K2 22 (wk + 1) (uw_o22 (by omega) (by decide) (by decide))).trans u3)
  have v4 := (K3 23 (wk + 1) (uw_o22 (by omega) (by decide) (by decide))).trans ((K2 23 (wk + 1) (uw_o22 (by omega) (by decide) (by decide))).trans u4)
  obtain ⟨A5, cz5, lb5, k5, ex5, rg5, m5, r5, d5, K5, P5, F5⟩ := IH qb (qa + 1) NB w X A3 (cz2 + 2) (lb2 + 1) (k2) (ex2) (rg2 + 1) (wk + 1) (ar) qbn eB tb hw E3 X3 v3 v4 (by omega) (by omega) (by omega) (by omega) (by omega) (by omega) (by omega)
  obtain ⟨da5, db5, dc5, de5, df5, dg5, dh5, di5, dj5, dk5, dl5⟩ := d5
  have E5 := uw_e0_k K5 E3
  have v1 := (K5 22 wk (uw_o22 (by omega) (by decide) (by decide))).trans ((K3 22 wk (uw_o22 (by omega) (by decide) (by decide))).trans ((K2 22 wk (uw_o22 (by omega) (by decide) (by decide))).trans u1))
  have v2 := (K5 23 wk (uw_o22 (by omega) (by decide) (by decide))).trans ((K3 23 wk (uw_o22 (by omega) (by decide) (by decide))).trans ((K2 23 wk (uw_o22 (by omega) (by decide) (by decide))).trans u2))
  have r6 := uw_w1 (C := C) (A := A5) (cz := cz5) (lb := lb5) (kt := 10 * p + k5) (ex := ex5) (rg := rg5) (wk := wk) (ar := ar) (l := lb) (by omega) v1 v2 (by omega) (by omega)
  have K6 : ∀ l0 lb', lb < l0 ∨ lb' ≤ lb → uw_KP l0 cz5 lb' (10 * p + k5) ex5 rg5 wk s ar A5 (uw_pl A5 lb cz5) := fun l0 lb' hl => uw_k_pl hl uw_kr
  have g7 : (uw_pl A5 lb cz5) 13 lb = nI cz5 := pk_us
  have g7' : ∀ l, l ≠ lb → (uw_pl A5 lb cz5) 13 l = A5 13 l := fun l hl => pk_un hl
  generalize uw_pl A5 lb cz5 = A6 at r6 K6 g7 g7'
  have E6 := uw_e0_k (K6 0 0 (by omega)) E5
  have q1 : A6 13 lb2 = nI (cz2 + 1) := (g7' lb2 (by omega)).trans ((K5 13 lb2 (uw_o13 (by omega) (by omega))).trans g4)
  refine ⟨A6, cz5, lb5, k5, ex5, rg5, 1 + m2 + 1 + m5 + 1, uw_rt (uw_rt (uw_rt (uw_rt r1 r2) r3) r5) r6, ⟨by omega, by omega, by omega, by omega, by omega, by omega, by omega, by omega, by omega, by omega, by omega⟩, uw_kt K1 (uw_kt (uw_km K2 ⟨by omega, by omega, by omega, by omega, by omega, by omega, by omega, by omega, by omega⟩) (uw_kt (uw_km K3 ⟨by omega, by omega, by omega, by omega, by omega, by omega, by omega, by omega, by omega⟩) (uw_kt (uw_km K5 ⟨by omega, by omega, by omega, by omega, by omega, by omega, by omega, by omega, by omega⟩) (uw_km (K6 0 lb (by omega)) ⟨by omega, by omega, by omega, by omega, by omega, by omega, by omega, by omega, by omega⟩)))), fun l x y => ?_, fun F N' hF hN => ?_⟩
  · rcases Nat.lt_or_ge l (lb + 1) with v | v
    · have el : l = lb := by omega
      subst el; exact ⟨cz5, by omega, g7⟩
    · rcases Nat.lt_or_ge l lb2 with y' | y'
      · obtain ⟨q, t1, q2⟩ := P2 l v y'
        exact ⟨q, by omega, (g7' l (by omega)).trans ((K5 13 l (uw_o13 (by omega) (by omega))).trans ((K3 13 l (uw_o13 (by omega) (by omega))).trans q2))⟩
      · rcases Nat.lt_or_ge l (lb2 + 1) with y2 | y2
        · have el : l = lb2 := by omega
          subst el; exact ⟨_, by omega, q1⟩
        · obtain ⟨q, t1, q2⟩ := P5 l y2 y
          exact ⟨q, by omega, (g7' l (by omega)).trans q2⟩
  · have G5 : uw_FA (lb2 + 1) cz5 lb5 (10 * p + k5) ex5 rg5 A5 F := uw_fa_k (wk := 0) (sx := s) (ar := 0) (uw_km (K6 (lb2 + 1) lb5 (by omega)) (by omega)) (uw_fa_m hF ⟨by omega, by omega, by omega, by omega, by omega, by omega⟩)
    have G3 : uw_FA (lb + 1) (cz2 + 2) (lb2 + 1) (10 * p + k2) ex2 (rg2 + 1) A3 F := uw_fa_k (A' := A5) (wk := 0) (sx := s) (ar := 0) (uw_km K5 ⟨by omega, by omega, by omega, by omega, by omega, by omega, by omega, by omega, by omega⟩) (uw_fa_k (A' := A6) (wk := 0) (sx := s) (ar := 0) (uw_km (K6 (lb + 1) lb5 (by omega)) (by omega)) (uw_fa_m hF ⟨by omega, by omega, by omega, by omega, by omega, by omega⟩))
    have G2 : uw_FA (lb + 1) cz2 lb2 (10 * p + k2) ex2 rg2 A2 F := uw_fa_k (wk := 0) (sx := s) (ar := 0) (uw_km K3 ⟨by omega, by omega, by omega, by omega, by omega, by omega, by omega, by omega, by omega⟩) (uw_fa_m G3 ⟨by omega, by omega, by omega, by omega, by omega, by omega⟩)
    have G1 : uw_FA (lb + 1) (cz + 1) (lb + 1) (10 * p + k) ex rg A1 F := uw_fa_k (wk := 0) (sx := s) (ar := 0) (uw_km K2 ⟨by omega, by omega, by omega, by omega, by omega, by omega, by omega, by omega, by omega⟩) (uw_fa_m G2 ⟨by omega, by omega, by omega, by omega, by omega, by omega⟩)
    have CA := F2 F N' G2 (by omega)
    have CB := F5 F N' G5 hN
    have fr : F 1 (20 * p + s) = nI r := (hF 1 _ (uw_v0 (by decide))).trans ((E6 1 _ (by omega)).trans hr0)
    refine ⟨hs, (G1 9 cz (uw_v9 (by omega) (by decide) (by decide))).trans c1, (G1 10 cz (uw_v9 (by omega) (by decide) (by decide))).trans c2, Or.inr (Or.inr (Or.inr (Or.inr (Or.inl ⟨(hF 0 _ (uw_v0 (by decide))).trans ((E6 0 _ (by omega)).trans hk), qa, qb, by omega, by omega, (hF 3 _ (uw_v0 (by decide))).trans ((E6 3 _ (by omega)).trans ha), (hF 4 _ (uw_v0 (by decide))).trans ((E6 4 _ (by omega)).trans hb), (mr.2.1 qa qb ha hb (by omega) (by omega)).2 (Or.inr hk), lb2, lb, cz2, cz2 + 1, rg2, k2, by omega, by omega, CA, ⟨(G3 18 _ (uw_v18 (by omega) (by decide) (by decide))).trans g1.1, (G3 19 _ (uw_v18 (by omega) (by decide) (by decide))).trans g1.2.1, (G3 20 _ (uw_v18 (by omega) (by decide) (by decide))).trans g1.2.2.1, (G3 21 _ (uw_v18 (by omega) (by decide) (by decide))).trans g1.2.2.2⟩, Or.inl ⟨hm, rfl, (G3 9 _ (uw_v9 (by omega) (by decide) (by decide))).trans g2, (G3 10 _ (uw_v9 (by omega) (by decide) (by decide))).trans g3⟩, (hF 13 _ (uw_v13 (by omega) (by omega))).trans q1, (G3 9 _ (uw_v9 (by omega) (by decide) (by decide))).trans g5, ((G3 10 _ (uw_v9 (by omega) (by decide) (by decide))).trans g6).trans fr.symm, CB, (hF 13 _ (uw_v13 (by omega) (by omega))).trans g7⟩))))⟩
theorem uw_cs_catchf (IH : uw_IH C M p el A0 n) (hp : p < 3) (hC : (C 9) = nI p) (hs : s < 20) (hn : s < n + 1) (hk : (A0 0) (20 * p + s) = nI 13) (ha : (A0 3) (20 * p + s) = nI qa) (hb : (A0 4) (20 * p + s) = nI qb) (e : s = qb + 1) (hq : qa < qb) (eA : lo + NA = qa + 1) (eB : qa + 1 + NB = qb + 1) (ta : uw_TR A0 (20 * p) 20 w lo qa) (tb : uw_TR A0 (20 * p) 20 w (qa + 1) qb) (hrg : uw_rg A0 (20 * p + s)) (hm : M qa = false) (hw : w ≤ uw_lc X) (hME : uw_ME A0 M p z) (hz : s ≤ z) (hE : uw_E0 A0 A) (hX : uw_CX A p X ar) (h0 : (A 22) wk = nI 0) (h1 : (A 23) wk = nI s)
    (b1 : cz + 3 * (NA + NB + 1) ≤ 359) (b2 : lb + 2 * (NA + NB + 1) ≤ 128) (b3 : 2 * k + (NA + NB + 1) ≤ 20) (b4 : 2 * rg + (NA + NB + 1) ≤ 60) (b5 : ex + uw_xb (NA + NB + 1) (uw_dc X) ≤ 200) (b6 : wk + 4 * (NA + NB + 1) + 1 ≤ 128) (b7 : ar + (NA + NB + 1) ≤ 20) :
    uw_CS C M p el (n + 1) s (NA + NB + 1) (uw_dc X) X A cz lb k ex rg wk ar := by
  have H : uw_HS C A p s wk := ⟨hC, hp, hs, by omega, h0, h1⟩
  have hk' : (A 0) (20 * p + s) = nI 13 := (hE 0 _ (by omega)).trans hk
  have ha' : (A 3) (20 * p + s) = nI qa := (hE 3 _ (by omega)).trans ha
  have la : 1 ≤ NA := by have := uw_TR_lo _ _ _ _ ta; omega
  have hd := uw_dc_le X ar hX
  have mr := (hME s hz).2.2
  have ma := hME qa (by omega)
  have qs : qa < s := by omega
  have qn : qa < n := by omega
  have hb' : (A 4) (20 * p + s) = nI qb := (hE 4 _ (by omega)).trans hb
  have lbb : 1 ≤ NB := by omega
  have qbs : qb < s := by omega
  have qbn : qb < n := by omega
  obtain ⟨r, hr, hr0⟩ := hrg
  have hr' : (A 1) (20 * p + s) = nI r := (hE 1 _ (by omega)).trans hr0
  have hx := uw_xb2 (a := NA) (b := NB) (d := uw_dc X) (by omega) (by omega) (by omega) (by omega) (by omega)
  obtain ⟨A1, r1, K1, c1, c2, c3, c4, u1, u2, u3, u4, u5, u6, u7, u8⟩ := uw_s13 (lb := lb) (kt := 10 * p + k) (ex := ex) (rg := rg) (ar := ar) H (show cz < 360 by omega) (by omega) (by omega) hk' ha' (by omega) hb' (by omega)
  have E1 := uw_e0_k K1 hE
  have X1 := uw_CX_c X ar (uw_sa_k K1) hX
  obtain ⟨A2, cz2, lb2, k2, ex2, rg2, m2, r2, d2, K2, P2, F2⟩ := IH qa lo NA w X A1 (cz + 1) (lb + 1) (k) (ex) (rg) (wk + 3) (ar) qn eA ta hw E1 X1 u7 u8 (by omega) (by omega) (by omega) (by omega) (by omega) (by omega) (by omega)
  obtain ⟨da2, db2, dc2, de2, df2, dg2, dh2, di2, dj2, dk2, dl2⟩ := d2
  have E2 := uw_e0_k K2 E1
  have X2 := uw_CX_c X ar (uw_sa_k K2) X1
  have v5 := (K2 22 (wk + 2) (uw_o22 (by omega) (by decide) (by decide))).trans u5
  have v6 := (K2 23 (wk + 2) (uw_o22 (by omega) (by decide) (by decide))).trans u6
  have c3' := (K2 24 s (uw_o24 (by omega) (by decide) (by decide))).trans c3
  have c4' := (K2 25 s (uw_o24 (by omega) (by decide) (by decide))).trans c4
  have hm' : (A2 8) qa = 0 := by rw [E2 8 _ (by omega)]; exact ma.2.1 hm
  obtain ⟨A3, r3, K3, g1, g4, g5, g6⟩ := uw_s4f (C := C) (A := A2) (cz := cz2) (lb := lb2) (kt := 10 * p + k2) (ex := ex2) (rg := rg2) (wk := wk + 2) (ar := ar) (l := lb) (a := cz + 1) hC hp hs (by omega) v5 v6 (by omega) (by omega) (by omega) ((E2 3 _ (by omega)).trans ha) (by omega) ((E2 1 _ (by omega)).trans hr0) hr c3' (by omega) c4' (by omega) hm'
  have E3 := uw_e0_k K3 E2
  have X3 := uw_CX_c X ar (uw_sa_k K3) X2
  have v3 := (K3 22 (wk + 1) (uw_o22 (by omega) (by decide) (by decide))).trans ((K2 22 (wk + 1) (uw_o22 (by omega) (by decide) (by decide))).trans u3)
  have v4 := (K3 23 (wk + 1) (uw_o22 (by omega) (by decide) (by decide))).trans ((K2 23 (wk + 1) (uw_o22 (by omega) (by decide) (by decide))).trans u4)
  obtain ⟨A5, cz5, lb5, k5, ex5, rg5, m5, r5, d5, K5, P5, F5⟩ := IH qb (qa + 1) NB w X A3 (cz2 + 1) (lb2 + 1) (k2) (ex2) (rg2 + 1) (wk + 1) (ar) qbn eB tb hw E3 X3 v3 v4 (by omega) (by omega) (by omega) (by omega) (by omega) (by omega) (by omega)
  obtain ⟨da5, db5, dc5, de5, df5, dg5, dh5, di5, dj5, dk5, dl5⟩ := d5
  have E5 := uw_e0_k K5 E3
  have v1 := (K5 22 wk (uw_o22 (by omega) (by decide) (by decide))).trans ((K3 22 wk (uw_o22 (by omega) (by decide) (by decide))).trans ((K2 22 wk (uw_o22 (by omega) (by decide) (by decide))).trans u1))
  have v2 := (K5 23 wk (uw_o22 (by omega) (by decide) (by decide))).trans ((K3 23 wk (uw_o22 (by omega) (by decide) (by decide))).trans ((K2 23 wk (uw_o22 (by omega) (by decide) (by decide))).trans u2))
  have r6 := uw_w1 (C := C) (A := A5) (cz := cz5) (lb := lb5) (kt := 10 * p + k5) (ex := ex5) (rg := rg5) (wk := wk) (ar := ar) (l := lb) (by omega) v1 v2 (by omega) (by omega)
  have K6 : ∀ l0 lb', lb < l0 ∨ lb' ≤ lb → uw_KP l0 cz5 lb' (10 * p + k5) ex5 rg5 wk s ar A5 (uw_pl A5 lb cz5) := fun l0 lb' hl => uw_k_pl hl uw_kr
  have g7 : (uw_pl A5 lb cz5) 13 lb = nI cz5 := pk_us
  have g7' : ∀ l, l ≠ lb → (uw_pl A5 lb cz5) 13 l = A5 13 l := fun l hl => pk_un hl
  generalize uw_pl A5 lb cz5 = A6 at r6 K6 g7 g7'
  have E6 := uw_e0_k (K6 0 0 (by omega)) E5
  have q1 : A6 13 lb2 = nI (cz2 + 0) := (g7' lb2 (by omega)).trans ((K5 13 lb2 (uw_o13 (by omega) (by omega))).trans g4)
  refine ⟨A6, cz5, lb5, k5, ex5, rg5, 1 + m2 + 1 + m5 + 1, uw_rt (uw_rt (uw_rt (uw_rt r1 r2) r3) r5) r6, ⟨by omega, by omega, by omega, by omega, by omega, by omega, by omega, by omega, by omega, by omega, by omega⟩, uw_kt K1 (uw_kt (uw_km K2 ⟨by omega, by omega, by omega, by omega, by omega, by omega, by omega, by omega, by omega⟩) (uw_kt (uw_km K3 ⟨by omega, by omega, by omega, by omega, by omega, by omega, by omega, by omega, by omega⟩) (uw_kt (uw_km K5 ⟨by omega, by omega, by omega, by omega, by omega, by omega, by omega, by omega, by omega⟩) (uw_km (K6 0 lb (by omega)) ⟨by omega, by omega, by omega, by omega, by omega, by omega, by omega, by omega, by omega⟩)))), fun l x y => ?_, fun F N' hF hN => ?_⟩
  · rcases Nat.lt_or_ge l (lb + 1) with v | v
    · have el : l = lb := by omega
      subst el; exact ⟨cz5, by omega, g7⟩
    · rcases Nat.lt_or_ge l lb2 with y' | y'
      · obtain ⟨q, t1, q2⟩ := P2 l v y'
        exact ⟨q, by omega, (g7' l (by omega)).trans ((K5 13 l (uw_o13 (by omega) (by omega))).trans ((K3 13 l (uw_o13 (by omega) (by omega))).trans q2))⟩
      · rcases Nat.lt_or_ge l (lb2 + 1) with y2 | y2
        · have el : l = lb2 := by omega
          subst el; exact ⟨_, by omega, q1⟩
        · obtain ⟨q, t1, q2⟩ := P5 l y2 y
          exact ⟨q, by omega, (g7' l (by omega)).trans q2⟩
  · have G5 : uw_FA (lb2 + 1) cz5 lb5 (10 * p + k5) ex5 rg5 A5 F := uw_fa_k (wk := 0) (sx := s) (ar := 0) (uw_km (K6 (lb2 + 1) lb5 (by omega)) (by omega)) (uw_fa_m hF ⟨by omega, by omega, by omega, by omega, by omega, by omega⟩)
    have G3 : uw_FA (lb + 1) (cz2 + 1) (lb2 + 1) (10 * p + k2) ex2 (rg2 + 1) A3 F := uw_fa_k (A' := A5) (wk := 0) (sx := s) (ar := 0) (uw_km K5 ⟨by omega, by omega, by omega, by omega, by omega, by omega, by omega, by omega, by omega⟩) (uw_fa_k (A' := A6) (wk := 0) (sx := s) (ar := 0) (uw_km (K6 (lb + 1) lb5 (by omega)) (by omega)) (uw_fa_m hF ⟨by omega, by omega, by omega, by omega, by omega, by omega⟩))
    have G2 : uw_FA (lb + 1) cz2 lb2 (10 * p + k2) ex2 rg2 A2 F := uw_fa_k (wk := 0) (sx := s) (ar := 0) (uw_km K3 ⟨by omega, by omega, by omega, by omega, by omega, by omega, by omega, by omega, by omega⟩) (uw_fa_m G3 ⟨by omega, by omega, by omega, by omega, by omega, by omega⟩)
    have G1 : uw_FA (lb + 1) (cz + 1) (lb + 1) (10 * p + k) ex rg A1 F := uw_fa_k (wk := 0) (sx := s) (ar := 0) (uw_km K2 ⟨by omega, by omega, by omega, by omega, by omega, by omega, by omega, by omega, by omega⟩) (uw_fa_m G2 ⟨by omega, by omega, by omega, by omega, by omega, by omega⟩)
    have CA := F2 F N' G2 (by omega)
    have CB := F5 F N' G5 hN
    have fr : F 1 (20 * p + s) = nI r := (hF 1 _ (uw_v0 (by decide))).trans ((E6 1 _ (by omega)).trans hr0)
    refine ⟨hs, (G1 9 cz (uw_v9 (by omega) (by decide) (by decide))).trans c1, (G1 10 cz (uw_v9 (by omega) (by decide) (by decide))).trans c2, Or.inr (Or.inr (Or.inr (Or.inr (Or.inl ⟨(hF 0 _ (uw_v0 (by decide))).trans ((E6 0 _ (by omega)).trans hk), qa, qb, by omega, by omega, (hF 3 _ (uw_v0 (by decide))).trans ((E6 3 _ (by omega)).trans ha), (hF 4 _ (uw_v0 (by decide))).trans ((E6 4 _ (by omega)).trans hb), (mr.2.1 qa qb ha hb (by omega) (by omega)).2 (Or.inr hk), lb2, lb, cz2, cz2, rg2, k2, by omega, by omega, CA, ⟨(G3 18 _ (uw_v18 (by omega) (by decide) (by decide))).trans g1.1, (G3 19 _ (uw_v18 (by omega) (by decide) (by decide))).trans g1.2.1, (G3 20 _ (uw_v18 (by omega) (by decide) (by decide))).trans g1.2.2.1, (G3 21 _ (uw_v18 (by omega) (by decide) (by decide))).trans g1.2.2.2⟩, Or.inr ⟨hm, rfl⟩, (hF 13 _ (uw_v13 (by omega) (by omega))).trans q1, (G3 9 _ (uw_v9 (by omega) (by decide) (by decide))).trans g5, ((G3 10 _ (uw_v9 (by omega) (by decide) (by decide))).trans g6).trans fr.symm, CB, (hF 13 _ (uw_v13 (by omega) (by omega))).trans g7⟩))))⟩
end
end
section
/-! the big-step statement for the statements with parts (printed by gen17.py) -/
section
variable {C : Nat → Int32} {A0 A : Nat → Nat → Int32} {M : Nat → Bool} {cz lb k ex rg wk ar p el s n qa qb lo w z NA NB : Nat} {X : List ((Nat × Nat) ⊕ Nat)}
theorem uw_cs_lastlyt (IH : uw_IH C M p el A0 n) (hp : p < 3) (hC : (C 9) = nI p) (hs : s < 20) (hn : s < n + 1) (hk : (A0 0) (20 * p + s) = nI 14) (ha : (A0 3) (20 * p + s) = nI qa) (hb : (A0 4) (20 * p + s) = nI qb) (e : s = qb + 1) (hq : qa < qb) (eA : lo + NA = qa + 1) (eB : qa + 1 + NB = qb + 1) (ta : uw_TR A0 (20 * p) 20 w lo qa) (tb : uw_TR A0 (20 * p) 20 w (qa + 1) qb) (hm : M qa = true) (hw : w ≤ uw_lc X) (hME : uw_ME A0 M p z) (hz : s ≤ z) (hE : uw_E0 A0 A) (hX : uw_CX A p X ar) (h0 : (A 22) wk = nI 0) (h1 : (A 23) wk = nI s)
    (b1 : cz + 3 * (NA + NB + 1) ≤ 359) (b2 : lb + 2 * (NA + NB + 1) ≤ 128) (b3 : 2 * k + (NA + NB + 1) ≤ 20) (b4 : 2 * rg + (NA + NB + 1) ≤ 60) (b5 : ex + uw_xb (NA + NB + 1) (uw_dc X) ≤ 200) (b6 : wk + 4 * (NA + NB + 1) + 1 ≤ 128) (b7 : ar + (NA + NB + 1) ≤ 20) :
    uw_CS C M p el (n + 1) s (NA + NB + 1) (uw_dc X) X A cz lb k ex rg wk ar := by
  have H : uw_HS C A p s wk := ⟨hC, hp, hs, by omega, h0, h1⟩
  have hk' : (A 0) (20 * p + s) = nI 14 := (hE 0 _ (by omega)).trans hk
  have ha' : (A 3) (20 * p + s) = nI qa := (hE 3 _ (by omega)).trans ha
  have la : 1 ≤ NA := by have := uw_TR_lo _ _ _ _ ta; omega
  have hd := uw_dc_le X ar hX
  have mr := (hME s hz).2.2
  have ma := hME qa (by omega)
  have qs : qa < s := by omega
  have qn : qa < n := by omega
  have hb' : (A 4) (20 * p + s) = nI qb := (hE 4 _ (by omega)).trans hb
  have lbb : 1 ≤ NB := by omega
  have qbs : qb < s := by omega
  have qbn : qb < n := by omega
  have hx := uw_xbL (a := NA) (b := NB) (d := uw_dc X) (by omega) (by omega) (by omega) (by omega) (by omega)
  obtain ⟨A1, r1, K1, c1, c2, c3, c4, c5, c6, c7, c8, u1, u2, u3, u4, u5, u6, u7, u8⟩ := uw_s14 (lb := lb) (kt := 10 * p + k) (ex := ex) (rg := rg) (ar := ar) H (show cz < 360 by omega) (by omega) (by omega) (by omega) (by omega) hk' ha' (by omega) hb' (by omega)
  have E1 := uw_e0_k K1 hE
  have X1 : uw_CX A1 p (Sum.inr k :: X) (ar + 1) := ⟨ar, rfl, ⟨c7, c8, by omega⟩, uw_CX_c X ar (uw_sa_k K1) hX⟩
  obtain ⟨A2, cz2, lb2, k2, ex2, rg2, m2, r2, d2, K2, P2, F2⟩ := IH qa lo NA w (Sum.inr k :: X) A1 (cz + 1) (lb + 2) (k + 1) (ex) (rg) (wk + 3) (ar + 1) qn eA ta hw E1 X1 u7 u8 (by omega) (by omega) (by omega) (by omega) (by show ex + uw_xb NA (uw_dc X + 1) ≤ 200; omega) (by omega) (by omega)
  obtain ⟨da2, db2, dc2, de2, df2, dg2, dh2, di2, dj2, dk2, dl2⟩ := d2
  have d2' : ex2 ≤ ex + uw_xb NA (uw_dc X + 1) := dj2
  clear dj2
  have E2 := uw_e0_k K2 E1
  have X2 := uw_CX_c X ar (fun r hr => uw_sa_k K2 r (by omega)) (uw_CX_c X ar (uw_sa_k K1) hX)
  have v5 := (K2 22 (wk + 2) (uw_o22 (by omega) (by decide) (by decide))).trans u5
  have v6 := (K2 23 (wk + 2) (uw_o22 (by omega) (by decide) (by decide))).trans u6
  have c3' := (K2 24 s (uw_o24 (by omega) (by decide) (by decide))).trans c3
  have c4' := (K2 25 s (uw_o24 (by omega) (by decide) (by decide))).trans c4
  have c5' := (K2 26 s (uw_o24 (by omega) (by decide) (by decide))).trans c5
  have c6' := (K2 14 (10 * p + k) (uw_o14 (by omega))).trans c6
  have hm' : ¬ (A2 8) qa = 0 := by rw [E2 8 _ (by omega)]; exact ma.1 hm
  obtain ⟨A3, r3, K3, g0, gs, g1, g2, g3, g4, g5, g6, g7⟩ := uw_s5t (C := C) (A := A2) (cz := cz2) (lb := lb2) (kt := 10 * p + k2) (ex := ex2) (rg := rg2) (wk := wk + 2) (ar := ar) (l := lb) (a := cz + 1) (k := 10 * p + k) (bl := lb + 1) (lc := lb + 1) hC hp hs (by omega) v5 v6 (by omega) (by omega) (by omega) ((E2 3 _ (by omega)).trans ha) (by omega) c3' (by omega) c4' (by omega) c5' (by omega) c6' (by omega) (by omega) hm'
  have K3a : uw_KP (lb + 2) cz2 lb2 (10 * p + k2) ex2 rg2 (wk + 2) s ar A2 A3 := by
    intro i x hx
    by_cases e13 : i = 13
    · subst e13; exact g0 x (by unfold uw_od at hx; omega)
    · exact K3 i x (by unfold uw_od at hx ⊢; omega)
  have E3 := uw_e0_k K3 E2
  have X3 := uw_CX_c X ar (uw_sa_k K3) X2
  have v3 := (K3 22 (wk + 1) (uw_o22 (by omega) (by decide) (by decide))).trans ((K2 22 (wk + 1) (uw_o22 (by omega) (by decide) (by decide))).trans u3)
  have v4 := (K3 23 (wk + 1) (uw_o22 (by omega) (by decide) (by decide))).trans ((K2 23 (wk + 1) (uw_o22 (by omega) (by decide) (by decide))).trans u4)
  obtain ⟨A5, cz5, lb5, k5, ex5, rg5, m5, r5, d5, K5, P5, F5⟩ := IH qb (qa + 1) NB w X A3 (cz2 + 1) (lb2) (k2) (ex2 + 1) (rg2 + 1) (wk + 1) (ar) qbn eB tb hw E3 X3 v3 v4 (by omega) (by omega) (by omega) (by omega) (by omega) (by omega) (by omega)
  obtain ⟨da5, db5, dc5, de5, df5, dg5, dh5, di5, dj5, dk5, dl5⟩ := d5
  have E5 := uw_e0_k K5 E3
  have v1 := (K5 22 wk (uw_o22 (by omega) (by decide) (by decide))).trans ((K3 22 wk (uw_o22 (by omega) (by decide) (by decide))).trans ((K2 22 wk (uw_o22 (by omega) (by decide) (by decide))).trans u1))
  have v2 := (K5 23 wk (uw_o22 (by omega) (by decide) (by decide))).trans ((K3 23 wk (uw_o22 (by omega) (by decide) (by decide))).trans ((K2 23 wk (uw_o22 (by omega) (by decide) (by decide))).trans u2))
  have c4s : A5 25 s = nI lb := (K5 25 s (uw_o24 (by omega) (by decide) (by decide))).trans ((congrFun gs.1 s).trans c4')
  have c5s : A5 26 s = nI (10 * p + k) := (K5 26 s (uw_o24 (by omega) (by decide) (by decide))).trans ((congrFun gs.2 s).trans c5')
  have r6 := uw_w6 (C := C) (A := A5) (cz := cz5) (lb := lb5) (kt := 10 * p + k5) (ex := ex5) (rg := rg5) (wk := wk) (ar := ar) (l := lb) (k := 10 * p + k) (s := s) (by omega) v1 v2 hs c5s (by omega) c4s (by omega) (by omega)
  have K6 : ∀ l0 lb', lb < l0 ∨ lb' ≤ lb → uw_KP l0 cz5 lb' (10 * p + k5) ex5 rg5 wk s ar A5 (uw_pl (uw_em A5 cz5 (nI 13) (nI (10 * p + k)) (nI 0)) lb (cz5 + 1)) := fun l0 lb' hl => uw_k_pl hl (uw_k_em (Nat.le_refl _) uw_kr)
  have g8 : (uw_pl (uw_em A5 cz5 (nI 13) (nI (10 * p + k)) (nI 0)) lb (cz5 + 1)) 13 lb = nI (cz5 + 1) := pk_us
  have g8' : ∀ l, l ≠ lb → (uw_pl (uw_em A5 cz5 (nI 13) (nI (10 * p + k)) (nI 0)) lb (cz5 + 1)) 13 l = A5 13 l := fun l hl => pk_un hl
  have g9 : (uw_pl (uw_em A5 cz5 (nI 13) (nI (10 * p + k)) (nI 0)) lb (cz5 + 1)) 9 cz5 = nI 13 := pk_us
  have g9' : (uw_pl (uw_em A5 cz5 (nI 13) (nI (10 * p + k)) (nI 0)) lb (cz5 + 1)) 10 cz5 = nI (10 * p + k) := pk_us
  generalize uw_pl (uw_em A5 cz5 (nI 13) (nI (10 * p + k)) (nI 0)) lb (cz5 + 1) = A6 at r6 K6 g8 g8' g9 g9'
  have E6 := uw_e0_k (K6 0 0 (by omega)) E5
  have q1 : A6 13 (lb + 1) = nI (cz2 + 1) := (g8' (lb + 1) (by omega)).trans ((K5 13 (lb + 1) (uw_o13 (by omega) (by omega))).trans g7)
  refine ⟨A6, cz5 + 1, lb5, k5, ex5, rg5, 1 + m2 + 1 + m5 + 1, uw_rt (uw_rt (uw_rt (uw_rt r1 r2) r3) r5) r6, ⟨by omega, by omega, by omega, by omega, by omega, by omega, by omega, by omega, by omega, by omega, by omega⟩, uw_kt K1 (uw_kt (uw_km K2 ⟨by omega, by omega, by omega, by omega, by omega, by omega, by omega, by omega, by omega⟩) (uw_kt (uw_km K3 ⟨by omega, by omega, by omega, by omega, by omega, by omega, by omega, by omega, by omega⟩) (uw_kt (uw_km K5 ⟨by omega, by omega, by omega, by omega, by omega, by omega, by omega, by omega, by omega⟩) (uw_km (K6 0 lb (by omega)) ⟨by omega, by omega, by omega, by omega, by omega, by omega, by omega, by omega, by omega⟩)))), fun l x y => ?_, fun F N' hF hN => ?_⟩
  · rcases Nat.lt_or_ge l (lb + 2) with v | v
    · rcases Nat.lt_or_ge l (lb + 1) with y' | y'
      · have el : l = lb := by omega
        subst el; exact ⟨cz5 + 1, by omega, g8⟩
      · have el : l = lb + 1 := by omega
        subst el; exact ⟨_, by omega, q1⟩
    · rcases Nat.lt_or_ge l lb2 with y' | y'
      · obtain ⟨q, t1, q2⟩ := P2 l v y'
        exact ⟨q, by omega, (g8' l (by omega)).trans ((K5 13 l (uw_o13 (by omega) (by omega))).trans ((g0 l (by omega)).trans q2))⟩
      · obtain ⟨q, t1, q2⟩ := P5 l y' y
        exact ⟨q, by omega, (g8' l (by omega)).trans q2⟩
  · have G5 : uw_FA lb2 cz5 lb5 (10 * p + k5) ex5 rg5 A5 F := uw_fa_k (wk := 0) (sx := s) (ar := 0) (uw_km (K6 lb2 lb5 (by omega)) ⟨by omega, by omega, by omega, by omega, by omega, by omega, by omega, by omega, by omega⟩) (uw_fa_m hF ⟨by omega, by omega, by omega, by omega, by omega, by omega⟩)
    have G3 : uw_FA (lb + 2) (cz2 + 1) lb2 (10 * p + k2) (ex2 + 1) (rg2 + 1) A3 F := uw_fa_k (A' := A5) (wk := 0) (sx := s) (ar := 0) (uw_km K5 ⟨by omega, by omega, by omega, by omega, by omega, by omega, by omega, by omega, by omega⟩) (uw_fa_k (A' := A6) (wk := 0) (sx := s) (ar := 0) (uw_km (K6 (lb + 2) lb5 (by omega)) (by omega)) (uw_fa_m hF ⟨by omega, by omega, by omega, by omega, by omega, by omega⟩))
    have G2 : uw_FA (lb + 2) cz2 lb2 (10 * p + k2) ex2 rg2 A2 F := uw_fa_k K3a (uw_fa_m G3 ⟨by omega, by omega, by omega, by omega, by omega, by omega⟩)
    have G1 : uw_FA (lb + 2) (cz + 1) (lb + 2) (10 * p + k + 1) ex rg A1 F := uw_fa_k (wk := 0) (sx := s) (ar := 0) (uw_km K2 ⟨by omega, by omega, by omega, by omega, by omega, by omega, by omega, by omega, by omega⟩) (uw_fa_m G2 ⟨by omega, by omega, by omega, by omega, by omega, by omega⟩)
    have CA := F2 F N' G2 (by omega)
    have CB := F5 F N' G5 hN
    refine ⟨hs, (G1 9 cz (uw_v9 (by omega) (by decide) (by decide))).trans c1, (G1 10 cz (uw_v9 (by omega) (by decide) (by decide))).trans c2, Or.inr (Or.inr (Or.inr (Or.inr (Or.inr ⟨(hF 0 _ (uw_v0 (by decide))).trans ((E6 0 _ (by omega)).trans hk), qa, qb, by omega, by omega, (hF 3 _ (uw_v0 (by decide))).trans ((E6 3 _ (by omega)).trans ha), (hF 4 _ (uw_v0 (by decide))).trans ((E6 4 _ (by omega)).trans hb), (mr.2.1 qa qb ha hb (by omega) (by omega)).1 (Or.inr hk), by omega, lb + 1, lb, cz2, cz2 + 1, rg2, k2, cz5, by omega, by omega, CA, ⟨(G3 18 _ (uw_v18 (by omega) (by decide) (by decide))).trans g1.1, (G3 19 _ (uw_v18 (by omega) (by decide) (by decide))).trans g1.2.1, (G3 20 _ (uw_v18 (by omega) (by decide) (by decide))).trans g1.2.2.1, (G3 21 _ (uw_v18 (by omega) (by decide) (by decide))).trans g1.2.2.2⟩, (G1 14 _ (uw_v14 (by omega))).trans c6, Or.inl ⟨hm, rfl, (G3 9 _ (uw_v9 (by omega) (by decide) (by decide))).trans g2, (G3 10 _ (uw_v9 (by omega) (by decide) (by decide))).trans g3, ex2, (G3 11 _ (uw_v9 (by omega) (by decide) (by decide))).trans g4, by omega, (G3 15 _ (uw_v15 (by omega) (by decide) (by decide))).trans g5, (G3 17 _ (uw_v15 (by omega) (by decide) (by decide))).trans g6⟩, (hF 13 _ (uw_v13 (by omega) (by omega))).trans q1, CB, (hF 9 _ (uw_v9 (by omega) (by decide) (by decide))).trans g9, (hF 10 _ (uw_v9 (by omega) (by decide) (by decide))).trans g9', rfl, (hF 13 _ (uw_v13 (by omega) (by omega))).trans g8⟩))))⟩
end
end
section
/-! the big-step statement for the statements with parts (printed by gen17.py) -/
section
variable {C : Nat → Int32} {A0 A : Nat → Nat → Int32} {M : Nat → Bool} {cz lb k ex rg wk ar p el s n qa qb lo w z NA NB : Nat} {X : List ((Nat × Nat) ⊕ Nat)}
theorem uw_cs_lastlyf (IH : uw_IH C M p el A0 n) (hp : p < 3) (hC : (C 9) = nI p) (hs : s < 20) (hn : s < n + 1) (hk : (A0 0) (20 * p + s) = nI 14) (ha : (A0 3) (20 * p + s) = nI qa) (hb : (A0 4) (20 * p + s) = nI qb) (e : s = qb + 1) (hq : qa < qb) (eA : lo + NA = qa + 1) (eB : qa + 1 + NB = qb + 1) (ta : uw_TR A0 (20 * p) 20 w lo qa) (tb : uw_TR A0 (20 * p) 20 w (qa + 1) qb) (hm : M qa = false) (hw : w ≤ uw_lc X) (hME : uw_ME A0 M p z) (hz : s ≤ z) (hE : uw_E0 A0 A) (hX : uw_CX A p X ar) (h0 : (A 22) wk = nI 0) (h1 : (A 23) wk = nI s)
    (b1 : cz + 3 * (NA + NB + 1) ≤ 359) (b2 : lb + 2 * (NA + NB + 1) ≤ 128) (b3 : 2 * k + (NA + NB + 1) ≤ 20) (b4 : 2 * rg + (NA + NB + 1) ≤ 60) (b5 : ex + uw_xb (NA + NB + 1) (uw_dc X) ≤ 200) (b6 : wk + 4 * (NA + NB + 1) + 1 ≤ 128) (b7 : ar + (NA + NB + 1) ≤ 20) :
    uw_CS C M p el (n + 1) s (NA + NB + 1) (uw_dc X) X A cz lb k ex rg wk ar := by
  have H : uw_HS C A p s wk := ⟨hC, hp, hs, by omega, h0, h1⟩
  have hk' : (A 0) (20 * p + s) = nI 14 := (hE 0 _ (by omega)).trans hk
  have ha' : (A 3) (20 * p + s) = nI qa := (hE 3 _ (by omega)).trans ha
  have la : 1 ≤ NA := by have := uw_TR_lo _ _ _ _ ta; omega
  have hd := uw_dc_le X ar hX
  have mr := (hME s hz).2.2
  have ma := hME qa (by omega)
  have qs : qa < s := by omega
  have qn : qa < n := by omega
  have hb' : (A 4) (20 * p + s) = nI qb := (hE 4 _ (by omega)).trans hb
  have lbb : 1 ≤ NB := by omega
  have qbs : qb < s := by omega
  have qbn : qb < n := by omega
  have hx := uw_xbL (a := NA) (b := NB) (d := uw_dc X) (by omega) (by omega) (by omega) (by omega) (by omega)
  obtain ⟨A1, r1, K1, c1, c2, c3, c4, c5, c6, c7, c8, u1, u2, u3, u4, u5, u6, u7, u8⟩ := uw_s14 (lb := lb) (kt := 10 * p + k) (ex := ex) (rg := rg) (ar := ar) H (show cz < 360 by omega) (by omega) (by omega) (by omega) (by omega) hk' ha' (by omega) hb' (by omega)
  have E1 := uw_e0_k K1 hE
  have X1 : uw_CX A1 p (Sum.inr k :: X) (ar + 1) := ⟨ar, rfl, ⟨c7, c8, by omega⟩, uw_CX_c X ar (uw_sa_k K1) hX⟩
  obtain ⟨A2, cz2, lb2, k2, ex2, rg2, m2, r2, d2, K2, P2, F2⟩ := IH qa lo NA w (Sum.inr k :: X) A1 (cz + 1) (lb + 2) (k + 1) (ex) (rg) (wk + 3) (ar + 1) qn eA ta hw E1 X1 u7 u8 (by omega) (by omega) (by omega) (by omega) (by show ex + uw_xb NA (uw_dc X + 1) ≤ 200; omega) (by omega) (by omega)
  obtain ⟨da2, db2, dc2, de2, df2, dg2, dh2, di2, dj2, dk2, dl2⟩ := d2
  have d2' : ex2 ≤ ex + uw_xb NA (uw_dc X + 1) := dj2
  clear dj2
  have E2 := uw_e0_k K2 E1
  have X2 := uw_CX_c X ar (fun r hr => uw_sa_k K2 r (by omega)) (uw_CX_c X ar (uw_sa_k K1) hX)
  have v5 := (K2 22 (wk + 2) (uw_o22 (by omega) (by decide) (by decide))).trans u5
  have v6 := (K2 23 (wk + 2) (uw_o22 (by omega) (by decide) (by decide))).trans u6
  have c3' := (K2 24 s (uw_o24 (by omega) (by decide) (by decide))).trans c3
  have c4' := (K2 25 s (uw_o24 (by omega) (by decide) (by decide))).trans c4
  have c5' := (K2 26 s (uw_o24 (by omega) (by decide) (by decide))).trans c5
  have c6' := (K2 14 (10 * p + k) (uw_o14 (by omega))).trans c6
  have hm' : (A2 8) qa = 0 := by rw [E2 8 _ (by omega)]; exact ma.2.1 hm
  obtain ⟨A3, r3, K3, g0, gs, g1, g7⟩ := uw_s5f (C := C) (A := A2) (cz := cz2) (lb := lb2) (kt := 10 * p + k2) (ex := ex2) (rg := rg2) (wk := wk + 2) (ar := ar) (l := lb) (a := cz + 1) (k := 10 * p + k) (bl := lb + 1) (lc := lb + 1) hC hp hs (by omega) v5 v6 (by omega) (by omega) (by omega) ((E2 3 _ (by omega)).trans ha) (by omega) c3' (by omega) c4' (by omega) c5' (by omega) c6' (by omega) (by omega) hm'
  have K3a : uw_KP (lb + 2) cz2 lb2 (10 * p + k2) ex2 rg2 (wk + 2) s ar A2 A3 := by
    intro i x hx
    by_cases e13 : i = 13
    · subst e13; exact g0 x (by unfold uw_od at hx; omega)
    · exact K3 i x (by unfold uw_od at hx ⊢; omega)
  have E3 := uw_e0_k K3 E2
  have X3 := uw_CX_c X ar (uw_sa_k K3) X2
  have v3 := (K3 22 (wk + 1) (uw_o22 (by omega) (by decide) (by decide))).trans ((K2 22 (wk + 1) (uw_o22 (by omega) (by decide) (by decide))).trans u3)
  have v4 := (K3 23 (wk + 1) (uw_o22 (by omega) (by decide) (by decide))).trans ((K2 23 (wk + 1) (uw_o22 (by omega) (by decide) (by decide))).trans u4)
  obtain ⟨A5, cz5, lb5, k5, ex5, rg5, m5, r5, d5, K5, P5, F5⟩ := IH qb (qa + 1) NB w X A3 (cz2) (lb2) (k2) (ex2) (rg2 + 1) (wk + 1) (ar) qbn eB tb hw E3 X3 v3 v4 (by omega) (by omega) (by omega) (by omega) (by omega) (by omega) (by omega)
  obtain ⟨da5, db5, dc5, de5, df5, dg5, dh5, di5, dj5, dk5, dl5⟩ := d5
  have E5 := uw_e0_k K5 E3
  have v1 := (K5 22 wk (uw_o22 (by omega) (by decide) (by decide))).trans ((K3 22 wk (uw_o22 (by omega) (by decide) (by decide))).trans ((K2 22 wk (uw_o22 (by omega) (by decide) (by decide))).trans u1))
  have v2 := (K5 23 wk (uw_o22 (by omega) (by decide) (by decide))).trans ((K3 23 wk (uw_o22 (by omega) (by decide) (by decide))).trans ((K2 23 wk (uw_o22 (by omega) (by decide) (by decide))).trans u2))
  have c4s : A5 25 s = nI lb := (K5 25 s (uw_o24 (by omega) (by decide) (by decide))).trans ((congrFun gs.1 s).trans c4')
  have c5s : A5 26 s = nI (10 * p + k) := (K5 26 s (uw_o24 (by omega) (by decide) (by decide))).trans ((congrFun gs.2 s).trans c5')
  have r6 := uw_w6 (C := C) (A := A5) (cz := cz5) (lb := lb5) (kt := 10 * p + k5) (ex := ex5) (rg := rg5) (wk := wk) (ar := ar) (l := lb) (k := 10 * p + k) (s := s) (by omega) v1 v2 hs c5s (by omega) c4s (by omega) (by omega)
  have K6 : ∀ l0 lb', lb < l0 ∨ lb' ≤ lb → uw_KP l0 cz5 lb' (10 * p + k5) ex5 rg5 wk s ar A5 (uw_pl (uw_em A5 cz5 (nI 13) (nI (10 * p + k)) (nI 0)) lb (cz5 + 1)) := fun l0 lb' hl => uw_k_pl hl (uw_k_em (Nat.le_refl _) uw_kr)
  have g8 : (uw_pl (uw_em A5 cz5 (nI 13) (nI (10 * p + k)) (nI 0)) lb (cz5 + 1)) 13 lb = nI (cz5 + 1) := pk_us
  have g8' : ∀ l, l ≠ lb → (uw_pl (uw_em A5 cz5 (nI 13) (nI (10 * p + k)) (nI 0)) lb (cz5 + 1)) 13 l = A5 13 l := fun l hl => pk_un hl
  have g9 : (uw_pl (uw_em A5 cz5 (nI 13) (nI (10 * p + k)) (nI 0)) lb (cz5 + 1)) 9 cz5 = nI 13 := pk_us
  have g9' : (uw_pl (uw_em A5 cz5 (nI 13) (nI (10 * p + k)) (nI 0)) lb (cz5 + 1)) 10 cz5 = nI (10 * p + k) := pk_us
  generalize uw_pl (uw_em A5 cz5 (nI 13) (nI (10 * p + k)) (nI 0)) lb (cz5 + 1) = A6 at r6 K6 g8 g8' g9 g9'
  have E6 := uw_e0_k (K6 0 0 (by omega)) E5
  have q1 : A6 13 (lb + 1) = nI (cz2 + 0) := (g8' (lb + 1) (by omega)).trans ((K5 13 (lb + 1) (uw_o13 (by omega) (by omega))).trans g7)
  refine ⟨A6, cz5 + 1, lb5, k5, ex5, rg5, 1 + m2 + 1 + m5 + 1, uw_rt (uw_rt (uw_rt (uw_rt r1 r2) r3) r5) r6, ⟨by omega, by omega, by omega, by omega, by omega, by omega, by omega, by omega, by omega, by omega, by omega⟩, uw_kt K1 (uw_kt (uw_km K2 ⟨by omega, by omega, by omega, by omega, by omega, by omega, by omega, by omega, by omega⟩) (uw_kt (uw_km K3 ⟨by omega, by omega, by omega, by omega, by omega, by omega, by omega, by omega, by omega⟩) (uw_kt (uw_km K5 ⟨by omega, by omega, by omega, by omega, by omega, by omega, by omega, by omega, by omega⟩) (uw_km (K6 0 lb (by omega)) ⟨by omega, by omega, by omega, by omega, by omega, by omega, by omega, by omega, by omega⟩)))), fun l x y => ?_, fun F N' hF hN => ?_⟩
  · rcases Nat.lt_or_ge l (lb + 2) with v | v
    · rcases Nat.lt_or_ge l (lb + 1) with y' | y'
      · have el : l = lb := by omega
        subst el; exact ⟨cz5 + 1, by omega, g8⟩
      · have el : l = lb + 1 := by omega
        subst el; exact ⟨_, by omega, q1⟩
    · rcases Nat.lt_or_ge l lb2 with y' | y'
      · obtain ⟨q, t1, q2⟩ := P2 l v y'
        exact ⟨q, by omega, (g8' l (by omega)).trans ((K5 13 l (uw_o13 (by omega) (by omega))).trans ((g0 l (by omega)).trans q2))⟩
      · obtain ⟨q, t1, q2⟩ := P5 l y' y
        exact ⟨q, by omega, (g8' l (by omega)).trans q2⟩
  · have G5 : uw_FA lb2 cz5 lb5 (10 * p + k5) ex5 rg5 A5 F := uw_fa_k (wk := 0) (sx := s) (ar := 0) (uw_km (K6 lb2 lb5 (by omega)) ⟨by omega, by omega, by omega, by omega, by omega, by omega, by omega, by omega, by omega⟩) (uw_fa_m hF ⟨by omega, by omega, by omega, by omega, by omega, by omega⟩)
    have G3 : uw_FA (lb + 2) (cz2 + 0) lb2 (10 * p + k2) (ex2) (rg2 + 1) A3 F := uw_fa_k (A' := A5) (wk := 0) (sx := s) (ar := 0) (uw_km K5 ⟨by omega, by omega, by omega, by omega, by omega, by omega, by omega, by omega, by omega⟩) (uw_fa_k (A' := A6) (wk := 0) (sx := s) (ar := 0) (uw_km (K6 (lb + 2) lb5 (by omega)) (by omega)) (uw_fa_m hF ⟨by omega, by omega, by omega, by omega, by omega, by omega⟩))
    have G2 : uw_FA (lb + 2) cz2 lb2 (10 * p + k2) ex2 rg2 A2 F := uw_fa_k K3a (uw_fa_m G3 ⟨by omega, by omega, by omega, by omega, by omega, by omega⟩)
    have G1 : uw_FA (lb + 2) (cz + 1) (lb + 2) (10 * p + k + 1) ex rg A1 F := uw_fa_k (wk := 0) (sx := s) (ar := 0) (uw_km K2 ⟨by omega, by omega, by omega, by omega, by omega, by omega, by omega, by omega, by omega⟩) (uw_fa_m G2 ⟨by omega, by omega, by omega, by omega, by omega, by omega⟩)
    have CA := F2 F N' G2 (by omega)
    have CB := F5 F N' G5 hN
    refine ⟨hs, (G1 9 cz (uw_v9 (by omega) (by decide) (by decide))).trans c1, (G1 10 cz (uw_v9 (by omega) (by decide) (by decide))).trans c2, Or.inr (Or.inr (Or.inr (Or.inr (Or.inr ⟨(hF 0 _ (uw_v0 (by decide))).trans ((E6 0 _ (by omega)).trans hk), qa, qb, by omega, by omega, (hF 3 _ (uw_v0 (by decide))).trans ((E6 3 _ (by omega)).trans ha), (hF 4 _ (uw_v0 (by decide))).trans ((E6 4 _ (by omega)).trans hb), (mr.2.1 qa qb ha hb (by omega) (by omega)).1 (Or.inr hk), by omega, lb + 1, lb, cz2, cz2, rg2, k2, cz5, by omega, by omega, CA, ⟨(G3 18 _ (uw_v18 (by omega) (by decide) (by decide))).trans g1.1, (G3 19 _ (uw_v18 (by omega) (by decide) (by decide))).trans g1.2.1, (G3 20 _ (uw_v18 (by omega) (by decide) (by decide))).trans g1.2.2.1, (G3 21 _ (uw_v18 (by omega) (by decide) (by decide))).trans g1.2.2.2⟩, (G1 14 _ (uw_v14 (by omega))).trans c6, Or.inr ⟨hm, rfl⟩, (hF 13 _ (uw_v13 (by omega) (by omega))).trans q1, CB, (hF 9 _ (uw_v9 (by omega) (by decide) (by decide))).trans g9, (hF 10 _ (uw_v9 (by omega) (by decide) (by decide))).trans g9', rfl, (hF 13 _ (uw_v13 (by omega) (by omega))).trans g8⟩))))⟩
end
end
section
/-! the induction over statements; findEnds -/
theorem uw_cs_all {C : Nat → Int32} {A0 : Nat → Nat → Int32} {M : Nat → Bool} {p el z : Nat} (hp : p < 3) (hC : (C 9) = nI p) (hel : (C 10) = nI el) (hel' : el < 128) (hME : uw_ME A0 M p z) : ∀ n, n ≤ z + 1 → uw_IH C M p el A0 n := by
  intro n
  induction n with
  | zero => intro _ s lo N w X A cz lb k ex rg wk ar h; omega
  | succ n ih =>
    intro hn s lo N w X A cz lb k ex rg wk ar hs eN tr hw hE hX h0 h1 b1 b2 b3 b4 b5 b6 b7
    have IH := ih (by omega)
    have hs20 := tr.1
    have tr' : uw_TR A0 (20 * p) (19 + 1) w lo s := tr
    rcases tr'.2 with ⟨e, o, ho, hk, h⟩ | ⟨h2, h3, h4, m, e, h5, h6⟩ | ⟨o, qa, qb, o1, o2, hk, hrg, e, hq, ha, hb, ta, tb⟩
    · have eN1 : N = 1 := by omega
      subst eN1
      exact uw_cs_leaf hp hC hel hel' hs20 ho hk h hw hME (by omega) hE hX h0 h1 b1 b3 b5 (by omega) b7
    · have la := uw_TR_lo _ _ _ _ h6
      obtain ⟨NA, eA⟩ : ∃ NA, lo + NA = m + 1 := ⟨m + 1 - lo, by omega⟩
      have eN1 : N = NA + 1 := by omega
      subst eN1
      exact uw_cs_while IH hp hC hs20 hs h2 h5 e eA (uw_TR_f _ _ _ _ h6 20 (by omega)) h4 hw hME (by omega) hE hX h0 h1 b1 b2 b3 b4 b5 b6 b7
    · have la := uw_TR_lo _ _ _ _ ta
      obtain ⟨NA, eA⟩ : ∃ NA, lo + NA = qa + 1 := ⟨qa + 1 - lo, by omega⟩
      obtain ⟨NB, eB⟩ : ∃ NB, qa + 1 + NB = qb + 1 := ⟨qb + 1 - (qa + 1), by omega⟩
      have eN1 : N = NA + NB + 1 := by omega
      subst eN1
      have ta' := uw_TR_f _ _ _ _ ta 20 (by omega)
      have tb' := uw_TR_f _ _ _ _ tb 20 (by omega)
      have o4 : o = 11 ∨ o = 12 ∨ o = 13 ∨ o = 14 := by omega
      cases hm : M qa with
      | true =>
        rcases o4 with rfl | rfl | rfl | rfl
        · exact uw_cs_seqt IH hp hC hs20 hs hk ha hb e hq eA eB ta' tb' hm hw hME (by omega) hE hX h0 h1 b1 b2 b3 b4 b5 b6 b7
        · exact uw_cs_ift IH hp hC hs20 hs hk ha hb e hq eA eB ta' tb' (hrg (Or.inl rfl)) hm hw hME (by omega) hE hX h0 h1 b1 b2 b3 b4 b5 b6 b7
        · exact uw_cs_catcht IH hp hC hs20 hs hk ha hb e hq eA eB ta' tb' (hrg (Or.inr rfl)) hm hw hME (by omega) hE hX h0 h1 b1 b2 b3 b4 b5 b6 b7
        · exact uw_cs_lastlyt IH hp hC hs20 hs hk ha hb e hq eA eB ta' tb' hm hw hME (by omega) hE hX h0 h1 b1 b2 b3 b4 b5 b6 b7
      | false =>
        rcases o4 with rfl | rfl | rfl | rfl
        · exact uw_cs_seqf IH hp hC hs20 hs hk ha hb e hq eA eB ta' tb' hm hw hME (by omega) hE hX h0 h1 b1 b2 b3 b4 b5 b6 b7
        · exact uw_cs_iff IH hp hC hs20 hs hk ha hb e hq eA eB ta' tb' (hrg (Or.inl rfl)) hm hw hME (by omega) hE hX h0 h1 b1 b2 b3 b4 b5 b6 b7
        · exact uw_cs_catchf IH hp hC hs20 hs hk ha hb e hq eA eB ta' tb' (hrg (Or.inr rfl)) hm hw hME (by omega) hE hX h0 h1 b1 b2 b3 b4 b5 b6 b7
        · exact uw_cs_lastlyf IH hp hC hs20 hs hk ha hb e hq eA eB ta' tb' hm hw hME (by omega) hE hX h0 h1 b1 b2 b3 b4 b5 b6 b7
/-- what is known of every node of a tree -/
def uw_ND (A : Nat → Nat → Int32) (b x : Nat) : Prop :=
  (∃ k, k < 11 ∧ (A 0) (b + x) = nI k ∧ (A 3) (b + x) = nI 0 ∧ (A 4) (b + x) = nI 0) ∨
  (∃ k qa qb, 11 ≤ k ∧ k < 16 ∧ (A 0) (b + x) = nI k ∧ (A 3) (b + x) = nI qa ∧ (A 4) (b + x) = nI qb ∧ qa < x ∧ qb < x)
theorem uw_TR_nd {A : Nat → Nat → Int32} {b : Nat} : ∀ n w lo s, uw_TR A b n w lo s → ∀ x, lo ≤ x → x ≤ s → uw_ND A b x := by
  intro n
  induction n with
  | zero => intro w lo s h; exact h.elim
  | succ n ih =>
    intro w lo s h x h1 h2
    rcases h.2 with ⟨e, k, hk, hk', hl⟩ | ⟨g1, g2, _, m, e, g4, g⟩ | ⟨k, q, m, o1, o2, g3, _, e, g5, g6, g7, g8, g9⟩
    · have : x = s := by omega
      subst this
      exact Or.inl ⟨k, hk, hk', hl.1, hl.2.1⟩
    · rcases Nat.lt_or_ge x s with y | y
      · exact ih _ _ _ g x h1 (by omega)
      · have : x = s := by omega
        subst this
        exact Or.inr ⟨15, m, 0, by omega, by omega, g1, g4, g2, by omega, by omega⟩
    · rcases Nat.lt_or_ge x s with y | y
      · rcases Nat.lt_or_ge q x with u | u
        · exact ih _ _ _ g9 x (by omega) (by omega)
        · exact ih _ _ _ g8 x h1 u
      · have : x = s := by omega
        subst this
        exact Or.inr ⟨k, q, m, o1, by omega, g3, g6, g7, by omega, by omega⟩
def uw_FE (post : SX → Prop) (C : Nat → Int32) (A : Nat → Nat → Int32) (p n i : Nat) (W : Nat → Int32) : Prop := wX_findEnds_2 post (nI p) (C 0) (C 1) (C 2) (C 3) (C 4) (C 5) (C 6) (C 7) (C 8) (C 9) (C 10) (C 11) (C 12) (C 13) (C 14) (C 15) (C 16) (C 17) (C 18) n (nI i) (A 0) (A 1) (A 2) (A 3) (A 4) (A 5) (A 6) (A 7) (W) (A 9) (A 10) (A 11) (A 12) (A 13) (A 14) (A 15) (A 16) (A 17) (A 18) (A 19) (A 20) (A 21) (A 22) (A 23) (A 24) (A 25) (A 26) (A 27) (A 28) (A 29) (A 30) (A 31) (A 32) (A 33) (A 34) (A 35) (A 36) (A 37)
def uw_FQ (post : SX → Prop) (C : Nat → Int32) (A : Nat → Nat → Int32) (p n i : Nat) (W : Nat → Int32) (x : Int32) : Prop := (vp_in (nI i) 20 ∧ ∀ a : Nat → Int32, a = upd W (nI i).toNatClampNeg (vp_nar .boolean x) → ∀ y : Int32, y = nI i + 1 → wX_findEnds_2 post (nI p) (C 0) (C 1) (C 2) (C 3) (C 4) (C 5) (C 6) (C 7) (C 8) (C 9) (C 10) (C 11) (C 12) (C 13) (C 14) (C 15) (C 16) (C 17) (C 18) n y (A 0) (A 1) (A 2) (A 3) (A 4) (A 5) (A 6) (A 7) (a) (A 9) (A 10) (A 11) (A 12) (A 13) (A 14) (A 15) (A 16) (A 17) (A 18) (A 19) (A 20) (A 21) (A 22) (A 23) (A 24) (A 25) (A 26) (A 27) (A 28) (A 29) (A 30) (A 31) (A 32) (A 33) (A 34) (A 35) (A 36) (A 37))
theorem uw_fe1 {C : Nat → Int32} {A : Nat → Nat → Int32} {W : Nat → Int32} {p i z : Nat} (hp : p < 3) (hi : i ≤ z) (hz : z < 20) (hsz : (A 5) p = nI (z + 1)) (nd : uw_ND A (20 * p) i) :
    ∃ v, v ≤ 1 ∧ (∀ k, k < 11 → (A 0) (20 * p + i) = nI k → k ≤ 5 ∨ k = 10 → v = 1) ∧
      (∀ qa qb, (A 3) (20 * p + i) = nI qa → (A 4) (20 * p + i) = nI qb → qa < 20 → qb < 20 → ((A 0) (20 * p + i) = nI 11 ∨ (A 0) (20 * p + i) = nI 14 → (v = 1 ↔ (¬ W qa = 0 ∧ ¬ W qb = 0))) ∧ ((A 0) (20 * p + i) = nI 12 ∨ (A 0) (20 * p + i) = nI 13 → (v = 1 ↔ (¬ W qa = 0 ∨ ¬ W qb = 0)))) ∧
      ((A 0) (20 * p + i) = nI 15 → v = 1) ∧ ∀ (post : SX → Prop) (n : Nat), uw_FE post C A p n (i + 1) (upd W i (nI v)) → uw_FE post C A p (n + 1) i W := by
  have i3 : vp_in (nI p) 3 := vp_in_nI hp (by decide)
  have c3 : (nI p).toNatClampNeg = p := nI_clamp (by omega)
  have i8 : vp_in (nI (20 * p + i)) 80 := vp_in_nI (by omega) (by decide)
  have c8 : (nI (20 * p + i)).toNatClampNeg = 20 * p + i := nI_clamp (by omega)
  have i2 : vp_in (nI i) 20 := vp_in_nI (by omega) (by decide)
  have c2 : (nI i).toNatClampNeg = i := nI_clamp (by omega)
  have l1 : ¬ (A 5) (nI p).toNatClampNeg ≤ nI i := by rw [c3, hsz]; exact nI_ge (by omega) (by omega)
  have e1 := uw_20p p i
  -- the end of a round
  have fin : ∀ (post : SX → Prop) (n v : Nat) (x : Int32), vp_nar .boolean x = nI v → uw_FE post C A p n (i + 1) (upd W i (nI v)) → uw_FQ post C A p n i W x := by
    intro post n v x hx K
    refine ⟨i2, fun a ea y ey => ?_⟩
    rw [ea, ey, c2, hx, nI_1]
    exact K
  have ne : ∀ a b : Nat, a < 100 → b < 100 → nI a = nI b → a = b := fun a b ha hb e => (nI_eq (by omega) (by omega)).mp e
  rcases nd with ⟨k, hk, k1, k2, k3⟩ | ⟨k, qa, qb, hk, hk', k1, k2, k3, q1, q2⟩
  · have pre : ∀ (post : SX → Prop) (n : Nat), ((nI k = 6 → uw_FQ post C A p n i W 0) ∧ (¬ nI k = 6 → ((nI k = 7 → uw_FQ post C A p n i W 0) ∧ (¬ nI k = 7 → ((nI k = 8 → uw_FQ post C A p n i W 0) ∧ (¬ nI k = 8 → ((nI k = 9 → uw_FQ post C A p n i W 0) ∧ (¬ nI k = 9 → uw_FQ post C A p n i W 1)))))))) → uw_FE post C A p (n + 1) i W := by
      intro post n K
      refine ⟨i3, br_f l1 (nm_r (e' := nI (20 * p + i)) e1 ⟨i8, nm_r (e' := nI k) (by rw [c8]; exact k1) ⟨i8, ?_⟩⟩)⟩
      rw [c8, k2]
      refine ⟨vp_in_nI (by omega) (by decide), nm_e ⟨i8, ?_⟩⟩
      rw [k3]
      exact ⟨vp_in_nI (by omega) (by decide), nm_e (br_f (nI_ge (b := 11) hk (by decide)) K)⟩
    have d6 : ∀ b : Nat, b < 100 → k ≠ b → ¬ nI k = nI b := fun b hb h e => h (ne k b (by omega) hb e)
    have kk : ∀ k', k' < 11 → (A 0) (20 * p + i) = nI k' → k' = k := fun k' h' e => ne k' k (by omega) (by omega) (e.symm.trans k1)
    by_cases c : k ≤ 5 ∨ k = 10
    · refine ⟨1, by omega, fun _ _ _ _ => rfl, fun qa qb _ _ _ _ => ⟨fun h => ?_, fun h => ?_⟩, fun _ => rfl, fun post n K => pre post n (br_f (d6 6 (by omega) (by omega)) (br_f (d6 7 (by omega) (by omega)) (br_f (d6 8 (by omega) (by omega)) (br_f (d6 9 (by omega) (by omega)) (fin post n 1 1 rfl K)))))⟩
      · rcases h with h | h
        · have := ne k 11 (by omega) (by omega) (k1.symm.trans h); omega
        · have := ne k 14 (by omega) (by omega) (k1.symm.trans h); omega
      · rcases h with h | h
        · have := ne k 12 (by omega) (by omega) (k1.symm.trans h); omega
        · have := ne k 13 (by omega) (by omega) (k1.symm.trans h); omega
    · refine ⟨0, by omega, fun k' h' e hc => ?_, fun qa qb _ _ _ _ => ⟨fun h => ?_, fun h => ?_⟩, fun h => ?_, fun post n K => pre post n ?_⟩
      · have := kk k' h' e; omega
      · rcases h with h | h
        · have := ne k 11 (by omega) (by omega) (k1.symm.trans h); omega
        · have := ne k 14 (by omega) (by omega) (k1.symm.trans h); omega
      · rcases h with h | h
        · have := ne k 12 (by omega) (by omega) (k1.symm.trans h); omega
        · have := ne k 13 (by omega) (by omega) (k1.symm.trans h); omega
      · have := ne k 15 (by omega) (by omega) (k1.symm.trans h); omega
      · have o4 : k = 6 ∨ k = 7 ∨ k = 8 ∨ k = 9 := by omega
        rcases o4 with rfl | rfl | rfl | rfl
        · exact br_t rfl (fin post n 0 0 rfl K)
        · exact br_f (by decide) (br_t rfl (fin post n 0 0 rfl K))
        · exact br_f (by decide) (br_f (by decide) (br_t rfl (fin post n 0 0 rfl K)))
        · exact br_f (by decide) (br_f (by decide) (br_f (by decide) (br_t rfl (fin post n 0 0 rfl K))))
  · have hc : (nI qa).toNatClampNeg = qa := nI_clamp (by omega)
    have hc' : (nI qb).toNatClampNeg = qb := nI_clamp (by omega)
    have n11 : (11 : Int32) ≤ nI k := nI_le (a := 11) hk (by omega)
    have qq : ∀ a b, (A 3) (20 * p + i) = nI a → (A 4) (20 * p + i) = nI b → a < 20 → b < 20 → a = qa ∧ b = qb := fun a b ea eb ha hb => ⟨ne a qa (by omega) (by omega) (ea.symm.trans k2), ne b qb (by omega) (by omega) (eb.symm.trans k3)⟩
    have kk : ∀ k', k' < 100 → (A 0) (20 * p + i) = nI k' → k' = k := fun k' h' e => ne k' k (by omega) (by omega) (e.symm.trans k1)
    have j116 : ∀ (post : SX → Prop) (n : Nat), uw_FE post C A p n (i + 1) (upd W i (nI (if ¬ W qa = 0 ∧ ¬ W qb = 0 then 1 else 0))) → wX_findEnds_116 post (wX_findEnds_2 post (nI p) (C 0) (C 1) (C 2) (C 3) (C 4) (C 5) (C 6) (C 7) (C 8) (C 9) (C 10) (C 11) (C 12) (C 13) (C 14) (C 15) (C 16) (C 17) (C 18) n) (nI p) (nI i) (W qa) (W qb) (C 0) (C 1) (C 2) (C 3) (C 4) (C 5) (C 6) (C 7) (C 8) (C 9) (C 10) (C 11) (C 12) (C 13) (C 14) (C 15) (C 16) (C 17) (C 18) (A 0) (A 1) (A 2) (A 3) (A 4) (A 5) (A 6) (A 7) (W) (A 9) (A 10) (A 11) (A 12) (A 13) (A 14) (A 15) (A 16) (A 17) (A 18) (A 19) (A 20) (A 21) (A 22) (A 23) (A 24) (A 25) (A 26) (A 27) (A 28) (A 29) (A 30) (A 31) (A 32) (A 33) (A 34) (A 35) (A 36) (A 37) := by
      intro post n K
      unfold wX_findEnds_116
      by_cases u : W qa = 0
      · rw [if_neg (by simp [u])] at K
        exact br_t u (fin post n 0 0 rfl K)
      · by_cases u' : W qb = 0
        · rw [if_neg (by simp [u'])] at K
          exact br_f u (br_t u' (fin post n 0 0 rfl K))
        · rw [if_pos ⟨u, u'⟩] at K
          exact br_f u (br_f u' (fin post n 1 1 rfl K))
    have o5 : k = 11 ∨ k = 14 ∨ k = 15 ∨ k = 12 ∨ k = 13 := by omega
    rcases o5 with rfl | rfl | rfl | o6
    · refine ⟨if ¬ W qa = 0 ∧ ¬ W qb = 0 then 1 else 0, by split <;> omega, fun k' h' e _ => (by have := kk k' (by omega) e; omega), fun a b ea eb ha hb => ⟨fun _ => ?_, fun h => ?_⟩, fun h => (by have := kk 15 (by omega) h; omega), fun post n K => ?_⟩
      · obtain ⟨rfl, rfl⟩ := qq a b ea eb ha hb
        by_cases u : ¬ W a = 0 ∧ ¬ W b = 0
        · rw [if_pos u]; exact ⟨fun _ => u, fun _ => rfl⟩
        · rw [if_neg u]; exact ⟨fun h => by omega, fun h => absurd h u⟩
      · rcases h with h | h
        · have := kk 12 (by omega) h; omega
        · have := kk 13 (by omega) h; omega
      · refine ⟨i3, br_f l1 (nm_r (e' := nI (20 * p + i)) e1 ⟨i8, nm_r (e' := nI 11) (by rw [c8]; exact k1) ⟨i8, ?_⟩⟩)⟩
        rw [c8, k2, hc]
        refine ⟨vp_in_nI (by omega) (by decide), nm_e ⟨i8, ?_⟩⟩
        rw [k3, hc']
        exact ⟨vp_in_nI (by omega) (by decide), nm_e (br_t n11 (br_t rfl (j116 post n K)))⟩
    · refine ⟨if ¬ W qa = 0 ∧ ¬ W qb = 0 then 1 else 0, by split <;> omega, fun k' h' e _ => (by have := kk k' (by omega) e; omega), fun a b ea eb ha hb => ⟨fun _ => ?_, fun h => ?_⟩, fun h => (by have := kk 15 (by omega) h; omega), fun post n K => ?_⟩
      · obtain ⟨rfl, rfl⟩ := qq a b ea eb ha hb
        by_cases u : ¬ W a = 0 ∧ ¬ W b = 0
        · rw [if_pos u]; exact ⟨fun _ => u, fun _ => rfl⟩
        · rw [if_neg u]; exact ⟨fun h => by omega, fun h => absurd h u⟩
      · rcases h with h | h
        · have := kk 12 (by omega) h; omega
        · have := kk 13 (by omega) h; omega
      · refine ⟨i3, br_f l1 (nm_r (e' := nI (20 * p + i)) e1 ⟨i8, nm_r (e' := nI 14) (by rw [c8]; exact k1) ⟨i8, ?_⟩⟩)⟩
        rw [c8, k2, hc]
        refine ⟨vp_in_nI (by omega) (by decide), nm_e ⟨i8, ?_⟩⟩
        rw [k3, hc']
        exact ⟨vp_in_nI (by omega) (by decide), nm_e (br_t n11 (br_f (by decide) (br_t rfl (j116 post n K))))⟩
    · refine ⟨1, by omega, fun k' h' e _ => rfl, fun a b ea eb ha hb => ⟨fun h => ?_, fun h => ?_⟩, fun h => rfl, fun post n K => ?_⟩
      · rcases h with h | h
        · have := kk 11 (by omega) h; omega
        · have := kk 14 (by omega) h; omega
      · rcases h with h | h
        · have := kk 12 (by omega) h; omega
        · have := kk 13 (by omega) h; omega
      · refine ⟨i3, br_f l1 (nm_r (e' := nI (20 * p + i)) e1 ⟨i8, nm_r (e' := nI 15) (by rw [c8]; exact k1) ⟨i8, ?_⟩⟩)⟩
        rw [c8, k2, hc]
        refine ⟨vp_in_nI (by omega) (by decide), nm_e ⟨i8, ?_⟩⟩
        rw [k3, hc']
        exact ⟨vp_in_nI (by omega) (by decide), nm_e (br_t n11 (br_f (by decide) (br_f (by decide) (br_t rfl (fin post n 1 1 rfl K)))))⟩
    · refine ⟨if ¬ W qa = 0 ∨ ¬ W qb = 0 then 1 else 0, by split <;> omega, fun k' h' e _ => (by have := kk k' (by omega) e; omega), fun a b ea eb ha hb => ⟨fun h => ?_, fun h => ?_⟩, fun h => (by have := kk 15 (by omega) h; omega), fun post n K => ?_⟩
      · rcases h with h | h
        · have := kk 11 (by omega) h; omega
        · have := kk 14 (by omega) h; omega
      · obtain ⟨rfl, rfl⟩ := qq a b ea eb ha hb
        by_cases u : ¬ W a = 0 ∨ ¬ W b = 0
        · rw [if_pos u]; exact ⟨fun _ => u, fun _ => rfl⟩
        · rw [if_neg u]; exact ⟨fun h => by omega, fun h => absurd h u⟩
      · have m11 : ¬ nI k = 11 := fun e => by have := ne k 11 (by omega) (by omega) e; omega
        have m14 : ¬ nI k = 14 := fun e => by have := ne k 14 (by omega) (by omega) e; omega
        have m15 : ¬ nI k = 15 := fun e => by have := ne k 15 (by omega) (by omega) e; omega
        refine ⟨i3, br_f l1 (nm_r (e' := nI (20 * p + i)) e1 ⟨i8, nm_r (e' := nI k) (by rw [c8]; exact k1) ⟨i8, ?_⟩⟩)⟩
        rw [c8, k2, hc]
        refine ⟨vp_in_nI (by omega) (by decide), nm_e ⟨i8, ?_⟩⟩
        rw [k3, hc']
        refine ⟨vp_in_nI (by omega) (by decide), nm_e (br_t n11 (br_f m11 (br_f m14 (br_f m15 ?_))))⟩
        by_cases u : W qa = 0
        · by_cases u' : W qb = 0
          · rw [if_neg (by simp [u, u'])] at K
            exact br_t u (br_t u' (fin post n 0 0 rfl K))
          · rw [if_pos (Or.inr u')] at K
            exact br_t u (br_f u' (fin post n 1 1 rfl K))
        · rw [if_pos (Or.inl u)] at K
          exact br_f u (fin post n 1 1 rfl K)
end
section
/-! findEnds whole; a procedure is compiled -/
def uw_MW (W : Nat → Int32) : Nat → Bool := fun j => decide (¬ W j = 0)
theorem uw_mw1 {W : Nat → Int32} {j : Nat} : uw_MW W j = true ↔ ¬ W j = 0 := by unfold uw_MW; exact decide_eq_true_iff
theorem uw_mw0 {W : Nat → Int32} {j : Nat} : uw_MW W j = false ↔ W j = 0 := by
  unfold uw_MW
  rw [decide_eq_false_iff_not]
  exact ⟨fun h => Classical.byContradiction h, fun h h' => h' h⟩
theorem uw_bb {a b c : Bool} {P Q R : Prop} (ha : a = true ↔ P) (hb : b = true ↔ Q) (hc : c = true ↔ R) (h : P ↔ (Q ∧ R)) : a = (b && c) := by
  cases a <;> cases b <;> cases c <;> simp_all
theorem uw_bo {a b c : Bool} {P Q R : Prop} (ha : a = true ↔ P) (hb : b = true ↔ Q) (hc : c = true ↔ R) (h : P ↔ (Q ∨ R)) : a = (b || c) := by
  cases a <;> cases b <;> cases c <;> simp_all
theorem uw_MR_c {A : Nat → Nat → Int32} {M M' : Nat → Bool} {b s : Nat} (hs : s < 20) (nd : uw_ND A b s) (h : ∀ j, j ≤ s → M' j = M j) (H : uw_MR A M (b + s) s) : uw_MR A M' (b + s) s := by
  obtain ⟨h1, h2, h3⟩ := H
  refine ⟨fun k a c d => (h s (Nat.le_refl _)).trans (h1 k a c d), fun qa qb ea eb ha hb => ?_, fun e => (h s (Nat.le_refl _)).trans (h3 e)⟩
  have g := h2 qa qb ea eb ha hb
  rcases nd with ⟨k, hk, k1, _, _⟩ | ⟨k, q, m, hk, hk', k1, k2, k3, q1, q2⟩
  · have ne : ∀ b : Nat, 11 ≤ b → b < 20 → ¬ (A 0) _ = nI b := fun b hb hb' e => by
      have := (nI_eq (a := k) (b := b) (by omega) (by omega)).mp (k1.symm.trans e); omega
    exact ⟨fun e => (e.elim (ne 11 (by omega) (by omega)) (ne 14 (by omega) (by omega))).elim, fun e => (e.elim (ne 12 (by omega) (by omega)) (ne 13 (by omega) (by omega))).elim⟩
  · have e1 : qa = q := (nI_eq (by omega) (by omega)).mp (ea.symm.trans k2)
    have e2 : qb = m := (nI_eq (by omega) (by omega)).mp (eb.symm.trans k3)
    subst e1 e2
    rw [h s (Nat.le_refl _), h qa (by omega), h qb (by omega)]
    exact g
theorem uw_fe {C : Nat → Int32} {A : Nat → Nat → Int32} {p z : Nat} (hp : p < 3) (hz : z < 20) (hsz : (A 5) p = nI (z + 1)) (nd : ∀ x, x ≤ z → uw_ND A (20 * p) x) : ∀ (d i : Nat) (W : Nat → Int32), i + d = z + 1 → (∀ s, s < i → uw_MR A (uw_MW W) (20 * p + s) s) →
    ∃ W', (∀ s, s ≤ z → uw_MR A (uw_MW W') (20 * p + s) s) ∧ ∀ (post : SX → Prop) (n : Nat), post (XS C (uw_st A 8 W')) → uw_FE post C A p (n + d + 1) i W := by
  intro d
  induction d with
  | zero =>
    intro i W hi h
    refine ⟨W, fun s hs => h s (by omega), fun post n K => ?_⟩
    have l1 : (A 5) (nI p).toNatClampNeg ≤ nI i := by rw [nI_clamp (by omega), hsz]; exact nI_le (by omega) (by omega)
    exact ⟨vp_in_nI hp (by decide), br_t l1 K⟩
  | succ d ih =>
    intro i W hi h
    obtain ⟨v, v1, v2, v3, v4, v5⟩ := uw_fe1 (C := C) (W := W) hp (show i ≤ z by omega) hz hsz (nd i (by omega))
    have un : ∀ j, j ≠ i → uw_MW (upd W i (nI v)) j = uw_MW W j := fun j hj => by unfold uw_MW; rw [pk_un hj]
    have ui : uw_MW (upd W i (nI v)) i = true ↔ v = 1 := by
      rw [uw_mw1, pk_us]
      constructor
      · intro hne
        rcases Nat.eq_or_lt_of_le v1 with e | e
        · exact e
        · have : v = 0 := by omega
          subst this; exact absurd rfl hne
      · intro e; subst e; decide
    obtain ⟨W', w1, w2⟩ := ih (i + 1) (upd W i (nI v)) (by omega) (fun s hs => by
      rcases Nat.lt_or_ge s i with y | y
      · exact uw_MR_c (by omega) (nd s (by omega)) (fun j hj => un j (by omega)) (h s y)
      · have es : s = i := by omega
        subst es
        refine ⟨fun k a c e => ui.mpr (v2 k a c e), fun qa qb ea eb ha hb => ?_, fun e => ui.mpr (v4 e)⟩
        have g := v3 qa qb ea eb ha hb
        rcases nd s (by omega) with ⟨k, hk, k1, _, _⟩ | ⟨k, q, m, hk, hk', k1, k2, k3, q1, q2⟩
        · have ne : ∀ b : Nat, 11 ≤ b → b < 20 → ¬ (A 0) _ = nI b := fun b hb hb' e => by
            have := (nI_eq (a := k) (b := b) (by omega) (by omega)).mp (k1.symm.trans e); omega
          exact ⟨fun e => (e.elim (ne 11 (by omega) (by omega)) (ne 14 (by omega) (by omega))).elim, fun e => (e.elim (ne 12 (by omega) (by omega)) (ne 13 (by omega) (by omega))).elim⟩
        · have e1 : qa = q := (nI_eq (by omega) (by omega)).mp (ea.symm.trans k2)
          have e2 : qb = m := (nI_eq (by omega) (by omega)).mp (eb.symm.trans k3)
          subst e1 e2
          rw [un qa (by omega), un qb (by omega)]
          exact ⟨fun e => uw_bb ui uw_mw1 uw_mw1 (g.1 e), fun e => uw_bo ui uw_mw1 uw_mw1 (g.2 e)⟩)
    refine ⟨W', w1, fun post n K => v5 post (n + d + 1) (w2 post n K)⟩
def uw_pk (p cz lb ex rg i x : Nat) : Prop := i < 8 ∨ (9 ≤ i ∧ i ≤ 11 ∧ x < cz) ∨ (i = 12 ∧ x ≠ p) ∨ (i = 13 ∧ x < lb) ∨ (i = 14 ∧ x < 10 * p) ∨ (15 ≤ i ∧ i ≤ 17 ∧ x < ex) ∨ (18 ≤ i ∧ i ≤ 21 ∧ x < rg) ∨ 31 ≤ i
set_option maxRecDepth 100000 in
theorem uw_xb0 : ∀ N, N < 21 → uw_xb N 0 ≤ 54 := by decide +kernel
theorem uw_cproc {C : Nat → Int32} {A : Nat → Nat → Int32} {p z cz lb ex rg : Nat} (hp : p < 3) (hz : z < 20) (hsz : (A 5) p = nI (z + 1)) (tr : uw_TR A (20 * p) 20 0 0 z) (h3 : C 3 = nI cz) (h4 : C 4 = nI lb) (h6 : C 6 = nI ex) (h7 : C 7 = nI rg) (b1 : cz + 60 ≤ 359) (b2 : lb + 41 ≤ 128) (b4 : 2 * rg + 20 ≤ 60) (b5 : ex + 54 ≤ 200) :
    ∃ (C' : Nat → Int32) (A' : Nat → Nat → Int32) (M : Nat → Bool) (e lb' k' ex' rg' : Nat), (∀ i, i ≠ 9 → i ≠ 10 → C' i = C i) ∧ (cz < e ∧ e ≤ cz + 60 ∧ lb < lb' ∧ lb' ≤ lb + 41 ∧ k' ≤ 10 ∧ ex ≤ ex' ∧ ex' ≤ ex + 54 ∧ rg ≤ rg' ∧ rg' ≤ rg + 9) ∧
      (∀ i x, uw_pk p cz lb ex rg i x → A' i x = A i x) ∧ (A' 12) p = nI cz ∧ (∀ l, lb ≤ l → l < lb' → ∃ q, q ≤ e ∧ (A' 13) l = nI q) ∧ (A' 9) e = nI 8 ∧ (A' 13) lb = nI e ∧
      (∀ (F : Nat → Nat → Int32) (N' : Nat), uw_FA lb (e + 1) lb' (10 * p + 10) ex' rg' A' F → ex' ≤ N' → uw_CC F M p lb N' (z + 1) [] z cz e rg rg' 0 k') ∧
      (∀ post : SX → Prop, post (XS (uw_cc C' (e + 1) lb' (10 * p + k') ex' rg' 0 0) A') → wpX_compileProcedure post (XS C A) (nI p)) := by
  have nd : ∀ x, x ≤ z → uw_ND A (20 * p) x := fun x hx => uw_TR_nd _ _ _ _ tr x (by omega) hx
  -- after the counters are set
  obtain ⟨W', w1, w2⟩ := uw_fe (C := uw_cc (upd (upd C 9 (nI p)) 10 (nI lb)) cz (lb + 1) (10 * p) ex rg 0 0) (A := uw_st A 12 (upd (A 12) p (nI cz))) hp hz hsz nd (z + 1) 0 (A 8) (by omega) (fun s hs => by omega)
  have hME : uw_ME (uw_st (uw_st A 12 (upd (A 12) p (nI cz))) 8 W') (uw_MW W') p z := fun s hs => ⟨fun h => uw_mw1.mp h, fun h => uw_mw0.mp h, w1 s hs⟩
  have tr0 : uw_TR (uw_st (uw_st A 12 (upd (A 12) p (nI cz))) 8 W') (20 * p) 20 0 0 z := uw_TR_c (A := A) (b := 20 * p) _ _ _ _ (fun x _ => ⟨rfl, rfl, rfl, rfl, rfl⟩) tr
  have xb := uw_xb0 (z + 1) (by omega)
  have IH := uw_cs_all (C := upd (upd C 9 (nI p)) 10 (nI lb)) (el := lb) hp rfl rfl (by omega) hME (z + 1) (Nat.le_refl _) z 0 (z + 1) 0 [] (uw_ka (uw_st (uw_st A 12 (upd (A 12) p (nI cz))) 8 W') 0 (nI 0) (nI z)) cz (lb + 1) 0 ex rg 0 0 (by omega) (by omega) tr0 (Nat.le_refl _) (fun i x hi => by
      unfold uw_ka
      rw [uw_un (by omega), uw_un (by omega)]) rfl (show upd (A 22) 0 (nI 0) 0 = nI 0 from pk_us) (show upd (A 23) 0 (nI z) 0 = nI z from pk_us) (by omega) (by omega) (by omega) (by omega) (by show ex + uw_xb (z + 1) 0 ≤ 200; omega) (by omega) (by omega)
  obtain ⟨A4, e, lb', k', ex', rg', m, r, ⟨d1, d2, d3, d4, d5, d6, d7, d8, d9, d10, d11⟩, K, P, FF⟩ := IH
  have d9' : ex' ≤ ex + uw_xb (z + 1) 0 := d9
  refine ⟨upd (upd C 9 (nI p)) 10 (nI lb), uw_em (uw_pl A4 lb e) e (nI 8) (nI 0) (nI 0), uw_MW W', e, lb', k', ex', rg', fun i h9 h10 => (pk_un h10).trans (pk_un h9), by omega, fun i x hx => ?_, ?_, fun l h1 h2 => ?_, pk_us, ?_, fun F N' hF hN => ?_, fun post KK => ?_⟩
  · have h1 : (uw_em (uw_pl A4 lb e) e (nI 8) (nI 0) (nI 0)) i x = A4 i x := by
      have k1 : uw_KP 0 e lb (10 * p + k') ex' rg' 0 z 0 A4 (uw_em (uw_pl A4 lb e) e (nI 8) (nI 0) (nI 0)) := uw_k_em (Nat.le_refl _) (uw_k_pl (Or.inr (Nat.le_refl _)) uw_kr)
      refine k1 i x ?_
      unfold uw_pk at hx
      unfold uw_od
      omega
    have h2 : A4 i x = (uw_ka (uw_st (uw_st A 12 (upd (A 12) p (nI cz))) 8 W') 0 (nI 0) (nI z)) i x := by
      refine K i x ?_
      unfold uw_pk at hx
      unfold uw_od
      omega
    rw [h1, h2]
    unfold uw_ka
    unfold uw_pk at hx
    rw [uw_un (by omega), uw_un (by omega), uw_un (by omega)]
    by_cases e12 : i = 12
    · subst e12; rw [uw_us]; exact pk_un (by omega)
    · rw [uw_un e12]
  · show A4 12 p = nI cz
    refine (K 12 p (by unfold uw_od; omega)).trans ?_
    show upd (A 12) p (nI cz) p = nI cz
    exact pk_us
  · show ∃ q, q ≤ e ∧ upd (A4 13) lb (nI e) l = nI q
    by_cases el : l = lb
    · subst el; exact ⟨e, Nat.le_refl _, pk_us⟩
    · rw [pk_un el]; exact P l (by omega) h2
  · show upd (A4 13) lb (nI e) lb = nI e
    exact pk_us
  · refine FF F N' ?_ hN
    have k1 : uw_KP (lb + 1) e lb' (10 * p + k') ex' rg' 0 z 0 A4 (uw_em (uw_pl A4 lb e) e (nI 8) (nI 0) (nI 0)) := uw_k_em (Nat.le_refl _) (uw_k_pl (Or.inl (by omega)) uw_kr)
    exact uw_fa_k k1 (uw_fa_m hF (by omega))
  · have cp : (nI p).toNatClampNeg = p := nI_clamp (by omega)
    have ip : vp_in (nI p) 3 := vp_in_nI hp (by decide)
    have e10 : (10 : Int32) * nI p = nI (10 * p) := by rw [← pk_mul]; rfl
    have L86 : wX_compileProcedure_86 post ((uw_cc (upd (upd C 9 (nI p)) 10 (nI lb)) e lb' (10 * p + k') ex' rg' 0 0) 0) ((uw_cc (upd (upd C 9 (nI p)) 10 (nI lb)) e lb' (10 * p + k') ex' rg' 0 0) 1) ((uw_cc (upd (upd C 9 (nI p)) 10 (nI lb)) e lb' (10 * p + k') ex' rg' 0 0) 2) ((uw_cc (upd (upd C 9 (nI p)) 10 (nI lb)) e lb' (10 * p + k') ex' rg' 0 0) 3) ((uw_cc (upd (upd C 9 (nI p)) 10 (nI lb)) e lb' (10 * p + k') ex' rg' 0 0) 4) ((uw_cc (upd (upd C 9 (nI p)) 10 (nI lb)) e lb' (10 * p + k') ex' rg' 0 0) 5) ((uw_cc (upd (upd C 9 (nI p)) 10 (nI lb)) e lb' (10 * p + k') ex' rg' 0 0) 6) ((uw_cc (upd (upd C 9 (nI p)) 10 (nI lb)) e lb' (10 * p + k') ex' rg' 0 0) 7) ((uw_cc (upd (upd C 9 (nI p)) 10 (nI lb)) e lb' (10 * p + k') ex' rg' 0 0) 8) ((uw_cc (upd (upd C 9 (nI p)) 10 (nI lb)) e lb' (10 * p + k') ex' rg' 0 0) 9) ((uw_cc (upd (upd C 9 (nI p)) 10 (nI lb)) e lb' (10 * p + k') ex' rg' 0 0) 10) ((uw_cc (upd (upd C 9 (nI p)) 10 (nI lb)) e lb' (10 * p + k') ex' rg' 0 0) 11) ((uw_cc (upd (upd C 9 (nI p)) 10 (nI lb)) e lb' (10 * p + k') ex' rg' 0 0) 12) ((uw_cc (upd (upd C 9 (nI p)) 10 (nI lb)) e lb' (10 * p + k') ex' rg' 0 0) 13) ((uw_cc (upd (upd C 9 (nI p)) 10 (nI lb)) e lb' (10 * p + k') ex' rg' 0 0) 14) ((uw_cc (upd (upd C 9 (nI p)) 10 (nI lb)) e lb' (10 * p + k') ex' rg' 0 0) 15) ((uw_cc (upd (upd C 9 (nI p)) 10 (nI lb)) e lb' (10 * p + k') ex' rg' 0 0) 16) ((uw_cc (upd (upd C 9 (nI p)) 10 (nI lb)) e lb' (10 * p + k') ex' rg' 0 0) 17) ((uw_cc (upd (upd C 9 (nI p)) 10 (nI lb)) e lb' (10 * p + k') ex' rg' 0 0) 18) (A4 0) (A4 1) (A4 2) (A4 3) (A4 4) (A4 5) (A4 6) (A4 7) (A4 8) (A4 9) (A4 10) (A4 11) (A4 12) (A4 13) (A4 14) (A4 15) (A4 16) (A4 17) (A4 18) (A4 19) (A4 20) (A4 21) (A4 22) (A4 23) (A4 24) (A4 25) (A4 26) (A4 27) (A4 28) (A4 29) (A4 30) (A4 31) (A4 32) (A4 33) (A4 34) (A4 35) (A4 36) (A4 37) := by
      unfold wX_compileProcedure_86
      refine uw_cpl (C := upd (upd C 9 (nI p)) 10 (nI lb)) (A := A4) (cz := e) (lb := lb') (kt := 10 * p + k') (ex := ex') (rg := rg') (wk := 0) (ar := 0) (l := lb) (by omega) (by omega) ?_
      exact uw_cem (C := upd (upd C 9 (nI p)) 10 (nI lb)) (A := uw_pl A4 lb e) (cz := e) (lb := lb') (kt := 10 * p + k') (ex := ex') (rg := rg') (wk := 0) (ar := 0) (o := nI 8) (x := nI 0) (y := nI 0) (by omega) (uw_bn (by omega)) (uw_sn (by omega)) (uw_sn (by omega)) KK
    have L62 : uw_LP post 1 (nI (0 + m)) (uw_cc (upd (upd C 9 (nI p)) 10 (nI lb)) e lb' (10 * p + k') ex' rg' 0 0) A4 := br_c (fun _ => L86) (fun _ => br_t (show nI 0 ≤ (0 : Int32) by decide) L86)
    have LL := r post 1 0 (by omega) L62
    have sz : (uw_st (uw_st A 12 (upd (A 12) p (nI cz))) 8 W') 5 (nI p).toNatClampNeg - 1 = nI z := by rw [cp]; show (A 5) p - 1 = nI z; rw [hsz]; exact nI_pred z
    unfold wpX_compileProcedure XS
    rw [h3, h4, h6, h7]
    refine ⟨ip, nm_r (e' := upd (A 12) p (nI cz)) (by rw [cp]; exact congrArg (upd (A 12) p) (uw_vss (uw_sn (by omega)))) (nm_r (e' := nI (10 * p)) e10 ?_)⟩
    refine uw_cnl (C := upd C 9 (nI p)) (A := uw_st A 12 (upd (A 12) p (nI cz))) (cz := cz) (lb := lb) (kt := 10 * p) (ex := ex) (rg := rg) (wk := 0) (ar := 0) ?_
    unfold wpX_findEnds
    refine ⟨0 + (z + 1) + 1, w2 _ 0 ⟨ip, ?_⟩⟩
    rw [sz]
    refine uw_cka (C := upd (upd C 9 (nI p)) 10 (nI lb)) (A := uw_st (uw_st A 12 (upd (A 12) p (nI cz))) 8 W') (cz := cz) (lb := lb + 1) (kt := 10 * p) (ex := ex) (rg := rg) (wk := 0) (ar := 0) (o := nI 0) (by omega) (uw_bn (by omega)) (uw_sn (by omega)) ⟨1 + m, ?_⟩
    exact LL
end
section
/-! jumps have placed labels; shorten -/
def uw_PL (F : Nat → Nat → Int32) (E l : Nat) : Prop := l < 128 ∧ ∃ q, q ≤ E ∧ (F 13) l = nI q
def uw_XP (F : Nat → Nat → Int32) (E : Nat) : List ((Nat × Nat) ⊕ Nat) → Prop
  | [] => True
  | Sum.inl y :: X => uw_PL F E y.1 ∧ uw_PL F E y.2 ∧ uw_XP F E X
  | Sum.inr _ :: X => uw_XP F E X
theorem uw_XT_PL {F : Nat → Nat → Int32} {E el : Nat} (hel : uw_PL F E el) : ∀ X y n L l, uw_XP F E X → uw_XT el X y n L l → uw_PL F E l := by
  intro X
  induction X with
  | nil => intro y n L l _ h; rw [h.2.2]; exact hel
  | cons x X ih =>
    intro y n L l hX h
    cases x with
    | inl z =>
      rcases h with ⟨_, _, h⟩ | ⟨_, m, _, h⟩ | ⟨_, h⟩
      · rcases h with ⟨_, e⟩ | ⟨_, e⟩
        · rw [e]; exact hX.1
        · rw [e]; exact hX.2.1
      · exact ih _ _ _ _ hX.2.2 h
      · exact ih _ _ _ _ hX.2.2 h
    | inr k =>
      obtain ⟨L', _, h⟩ := h
      exact ih _ _ _ _ hX h
def uw_JL (F : Nat → Nat → Int32) (E pc : Nat) : Prop := (F 9) pc = nI 9 → ∃ l, (F 10) pc = nI l ∧ uw_PL F E l
theorem uw_jn {F : Nat → Nat → Int32} {E pc c : Nat} (h : (F 9) pc = nI c) (hc : c ≠ 9) (hc' : c < 100) : uw_JL F E pc := fun e => absurd ((nI_eq (by omega) (by omega)).mp (h.symm.trans e)) hc
theorem uw_CC_J {F : Nat → Nat → Int32} {M : Nat → Bool} {p el N E : Nat} (hel : uw_PL F E el) (hE : E < 360) : ∀ n X s a e g g' k k', uw_CC F M p el N n X s a e g g' k k' → uw_XP F E X → e ≤ E → ∀ pc, a ≤ pc → pc < e → uw_JL F E pc := by
  intro n
  induction n with
  | zero => intro X s a e g g' k k' h; exact h.elim
  | succ n ih =>
    intro X s a e g g' k k' h hX he pc h1 h2
    obtain ⟨_, hc, _, h⟩ := h
    have j0 : pc = a → uw_JL F E pc := fun e => by subst e; exact uw_jn hc (by omega) (by omega)
    rcases h with ⟨o, ho, _, _, _, h⟩ | ⟨_, qa, qb, _, _, _, _, _, h⟩ | ⟨_, qa, qb, _, _, _, _, _, c1, _, l1, l2, m, m', gm, km, b1, b2, _, g1, g2, _, g3, g4⟩ | ⟨_, qa, _, _, _, c1, _, te, en, m, b1, b2, g0, _, g1, g2, g2', e1, g4⟩ | ⟨_, qa, qb, _, _, _, _, _, hl, le, m, m', gm, km, b1, b2, g1, hr, g2, _, c1, _, g3, g4⟩ | ⟨_, qa, qb, _, _, _, _, _, _, bl, le, m, m', gm, km, e', b1, b2, g1, hr, _, g2, _, g3, c1, _, e1, g4⟩
    · rcases h with ⟨_, e1, _⟩ | ⟨o1, o2, e1, c1, _⟩ | ⟨_, e1, c1, _⟩ | ⟨_, _, e1, nn, L, l, _, _, _, hl, hx, hg⟩
      · exact j0 (by omega)
      · rcases Nat.lt_or_ge a pc with z | z
        · have : pc = a + 1 := by omega
          subst this; exact uw_jn c1 (by omega) (by omega)
        · exact j0 (by omega)
      · rcases Nat.lt_or_ge a pc with z | z
        · have : pc = a + 1 := by omega
          subst this; exact uw_jn c1 (by omega) (by omega)
        · exact j0 (by omega)
      · rcases Nat.lt_or_ge a pc with z | z
        · have : pc = a + 1 := by omega
          subst this
          cases L with
          | nil => exact fun _ => ⟨l, hg.2, uw_XT_PL hel X _ _ _ _ hX hx⟩
          | cons q L => exact uw_jn hg.2.1 (by omega) (by omega)
        · exact j0 (by omega)
    · rcases h with ⟨_, m, gm, km, g1, g2⟩ | ⟨_, g1⟩
      · rcases Nat.lt_or_ge a pc with z | z
        · have i1 := (uw_CC_in _ _ _ _ _ _ _ _ _ g2).1
          rcases Nat.lt_or_ge pc m with y | y
          · exact ih _ _ _ _ _ _ _ _ g1 hX (by omega) pc (by omega) y
          · exact ih _ _ _ _ _ _ _ _ g2 hX he pc y h2
        · exact j0 (by omega)
      · rcases Nat.lt_or_ge a pc with z | z
        · exact ih _ _ _ _ _ _ _ _ g1 hX he pc (by omega) h2
        · exact j0 (by omega)
    · have i1 := (uw_CC_in _ _ _ _ _ _ _ _ _ g3).1
      rcases Nat.lt_or_ge a pc with z | z
      · rcases Nat.lt_or_ge pc (a + 2) with y | y
        · have : pc = a + 1 := by omega
          subst this; exact uw_jn c1 (by omega) (by omega)
        · have hm : m ≤ m' := by rcases g2 with g2 | g2 <;> omega
          rcases Nat.lt_or_ge pc m with x | x
          · exact ih _ _ _ _ _ _ _ _ g1 hX (by omega) pc y x
          · rcases Nat.lt_or_ge pc m' with x' | x'
            · rcases g2 with ⟨_, em, f1, f2⟩ | ⟨_, em⟩
              · have : pc = m := by omega
                subst this; exact fun _ => ⟨l2, f2, b2, e, he, g4⟩
              · omega
            · exact ih _ _ _ _ _ _ _ _ g3 hX he pc x' h2
      · exact j0 (by omega)
    · rcases Nat.lt_or_ge a pc with z | z
      · rcases Nat.lt_or_ge pc (a + 2) with y | y
        · have : pc = a + 1 := by omega
          subst this; exact uw_jn c1 (by omega) (by omega)
        · have pte : uw_PL F E te := ⟨b1, a + 1, by omega, g0⟩
          rcases Nat.lt_or_ge pc m with x | x
          · exact ih _ _ _ _ _ _ _ _ g1 ⟨⟨b2, e, he, g4⟩, pte, hX⟩ (by omega) pc y x
          · have : pc = m := by omega
            subst this; exact fun _ => ⟨te, g2', pte⟩
      · exact j0 (by omega)
    · have i1 := (uw_CC_in _ _ _ _ _ _ _ _ _ g3).1
      rcases Nat.lt_or_ge a pc with z | z
      · have hm : m ≤ m' := by rcases g2 with g2 | g2 <;> omega
        rcases Nat.lt_or_ge pc m with x | x
        · exact ih _ _ _ _ _ _ _ _ g1 hX (by omega) pc (by omega) x
        · rcases Nat.lt_or_ge pc m' with x' | x'
          · rcases g2 with ⟨_, em, f1, f2⟩ | ⟨_, em⟩
            · have : pc = m := by omega
              subst this; exact fun _ => ⟨le, f2, b2, e, he, g4⟩
            · omega
          · rcases Nat.lt_or_ge pc (m' + 1) with y | y
            · have : pc = m' := by omega
              subst this; exact uw_jn c1 (by omega) (by omega)
            · exact ih _ _ _ _ _ _ _ _ g3 hX he pc y h2
      · exact j0 (by omega)
    · have i1 := (uw_CC_in _ _ _ _ _ _ _ _ _ g3).1
      rcases Nat.lt_or_ge a pc with z | z
      · have hm : m ≤ m' := by rcases g2 with g2 | g2 <;> omega
        rcases Nat.lt_or_ge pc m with x | x
        · exact ih _ _ _ _ _ _ _ _ g1 hX (by omega) pc (by omega) x
        · rcases Nat.lt_or_ge pc m' with x' | x'
          · rcases g2 with ⟨_, em, f1, _⟩ | ⟨_, em⟩
            · have : pc = m := by omega
              subst this; exact uw_jn f1 (by omega) (by omega)
            · omega
          · rcases Nat.lt_or_ge pc e' with y | y
            · exact ih _ _ _ _ _ _ _ _ g3 hX (by omega) pc x' y
            · have : pc = e' := by omega
              subst this; exact uw_jn c1 (by omega) (by omega)
      · exact j0 (by omega)
theorem uw_JT_s {A : Nat → Nat → Int32} : ∀ j pc t, uw_JT A j pc t → uw_JT A (j + 1) pc t := by
  intro j
  induction j with
  | zero => intro pc t h; exact Or.inl h
  | succ j ih =>
    intro pc t h
    rcases h with h | ⟨h1, l, q, h2, h3, h4, h5, h6⟩
    · exact Or.inl h
    · exact Or.inr ⟨h1, l, q, h2, h3, h4, h5, ih _ _ h6⟩
/-- what shorten keeps: F as compiled, L the labels now -/
def uw_IV (F : Nat → Nat → Int32) (E : Nat) (L : Nat → Int32) : Prop := ∀ l q, q ≤ E → (F 13) l = nI q → ∃ q', q' ≤ E ∧ L l = nI q' ∧ ∀ j t, uw_JT F j q t → ¬ (F 9) t = nI 9 → uw_JT (uw_st F 13 L) j q' t
theorem uw_sh1 {F : Nat → Nat → Int32} {L : Nat → Int32} {E l0 l1 q0 q1 : Nat} (hE : E < 360) (h0 : L l0 = nI q0) (hq0 : q0 ≤ E) (hc : (F 9) q0 = nI 9) (hf : (F 10) q0 = nI l1) (hl1 : l1 < 128) (h1 : L l1 = nI q1) (hq1 : q1 ≤ E) (hl0 : l0 < 128) :
    ∀ j pc t, uw_JT (uw_st F 13 L) j pc t → ¬ (F 9) t = nI 9 → uw_JT (uw_st F 13 (upd L l0 (nI q1))) j pc t := by
  intro j
  induction j using Nat.strongRecOn with
  | ind j ih =>
    intro pc t h ht
    cases j with
    | zero => exact h
    | succ j =>
      rcases h with h | ⟨a1, l, q, a2, a3, a4, a5, a6⟩
      · exact Or.inl h
      · have a5' : L l = nI q := a5
        by_cases e : l = l0
        · subst e
          have eq : q = q0 := (nI_eq (by omega) (by omega)).mp (a5'.symm.trans h0)
          subst eq
          refine Or.inr ⟨a1, l, q1, a2, a3, by omega, pk_us, ?_⟩
          cases j with
          | zero => have : q = t := a6; subst this; exact absurd hc ht
          | succ j =>
            rcases a6 with a6 | ⟨c1, l', q', c2, c3, c4, c5, c6⟩
            · subst a6; exact absurd hc ht
            · have el : l' = l1 := (nI_eq (by omega) (by omega)).mp (c3.symm.trans hf)
              subst el
              have eq' : q' = q1 := (nI_eq (by omega) (by omega)).mp ((show L l' = nI q' from c5).symm.trans h1)
              subst eq'
              exact uw_JT_s _ _ _ (ih j (by omega) _ _ c6 ht)
        · exact Or.inr ⟨a1, l, q, a2, a3, a4, (pk_un e).trans a5', ih j (by omega) _ _ a6 ht⟩
theorem uw_sh2 {F : Nat → Nat → Int32} {L : Nat → Int32} {E l0 l1 q0 q1 : Nat} (hE : E < 360) (h0 : L l0 = nI q0) (hq0 : q0 ≤ E) (hc : (F 9) q0 = nI 9) (hf : (F 10) q0 = nI l1) (hl1 : l1 < 128) (h1 : L l1 = nI q1) (hq1 : q1 ≤ E) (hl0 : l0 < 128) (H : uw_IV F E L) : uw_IV F E (upd L l0 (nI q1)) := by
  intro l q hq hl
  obtain ⟨q', a1, a2, a3⟩ := H l q hq hl
  by_cases e : l = l0
  · subst e
    have eq : q' = q0 := (nI_eq (by omega) (by omega)).mp (a2.symm.trans h0)
    subst eq
    refine ⟨q1, hq1, pk_us, fun j t b1 b2 => ?_⟩
    have g := a3 j t b1 b2
    cases j with
    | zero => have : q' = t := g; subst this; exact absurd hc b2
    | succ j =>
      rcases g with g | ⟨c1, l', r', c2, c3, c4, c5, c6⟩
      · subst g; exact absurd hc b2
      · have el : l' = l1 := (nI_eq (by omega) (by omega)).mp (c3.symm.trans hf)
        subst el
        have eq' : r' = q1 := (nI_eq (by omega) (by omega)).mp ((show L l' = nI r' from c5).symm.trans h1)
        subst eq'
        exact uw_JT_s _ _ _ (uw_sh1 hE h0 hq0 hc hf hl1 h1 hq1 hl0 _ _ _ c6 b2)
  · exact ⟨q', a1, (pk_un e).trans a2, fun j t b1 b2 => uw_sh1 hE h0 hq0 hc hf hl1 h1 hq1 hl0 _ _ _ (a3 j t b1 b2) b2⟩
/-- the inner loop -/
theorem uw_shi {C : Nat → Int32} {F : Nat → Nat → Int32} {E lb l0 : Nat} (hE : E < 360) (hlb : lb ≤ 128) (hl0 : l0 < lb) (hP : ∀ l, l < lb → uw_PL F E l) (hJ : ∀ pc, pc ≤ E → uw_JL F E pc) : ∀ (d i : Nat) (L : Nat → Int32), i + d = 20 → uw_IV F E L →
    ∃ L', uw_IV F E L' ∧ ∀ (post : SX → Prop) (n m : Nat), wX_shorten_2 post (C 0) (C 1) (C 2) (C 3) (C 4) (C 5) (C 6) (C 7) (C 8) (C 9) (C 10) (C 11) (C 12) (C 13) (C 14) (C 15) (C 16) (C 17) (C 18) n (nI (l0 + 1)) (F 0) (F 1) (F 2) (F 3) (F 4) (F 5) (F 6) (F 7) (F 8) (F 9) (F 10) (F 11) (F 12) (L') (F 14) (F 15) (F 16) (F 17) (F 18) (F 19) (F 20) (F 21) (F 22) (F 23) (F 24) (F 25) (F 26) (F 27) (F 28) (F 29) (F 30) (F 31) (F 32) (F 33) (F 34) (F 35) (F 36) (F 37) → wX_shorten_12 post (wX_shorten_2 post (C 0) (C 1) (C 2) (C 3) (C 4) (C 5) (C 6) (C 7) (C 8) (C 9) (C 10) (C 11) (C 12) (C 13) (C 14) (C 15) (C 16) (C 17) (C 18) n) (nI l0) (C 0) (C 1) (C 2) (C 3) (C 4) (C 5) (C 6) (C 7) (C 8) (C 9) (C 10) (C 11) (C 12) (C 13) (C 14) (C 15) (C 16) (C 17) (C 18) (m + d + 1) (nI i) (F 0) (F 1) (F 2) (F 3) (F 4) (F 5) (F 6) (F 7) (F 8) (F 9) (F 10) (F 11) (F 12) (L) (F 14) (F 15) (F 16) (F 17) (F 18) (F 19) (F 20) (F 21) (F 22) (F 23) (F 24) (F 25) (F 26) (F 27) (F 28) (F 29) (F 30) (F 31) (F 32) (F 33) (F 34) (F 35) (F 36) (F 37) := by
  intro d
  induction d with
  | zero =>
    intro i L hi H
    have : i = 20 := by omega
    subst this
    exact ⟨L, H, fun post n m K => br_t (by decide) (nm_r (e' := nI (l0 + 1)) (nI_1 l0) K)⟩
  | succ d ih =>
    intro i L hi H
    obtain ⟨_, q, hq, hl⟩ := hP l0 hl0
    obtain ⟨q0, a1, a2, a3⟩ := H l0 q hq hl
    have n20 : ¬ (20 : Int32) ≤ nI i := nI_ge (b := 20) (by omega) (by decide)
    have il : vp_in (nI l0) 128 := vp_in_nI (by omega) (by decide)
    have cl : (nI l0).toNatClampNeg = l0 := nI_clamp (by omega)
    have iq : vp_in (nI q0) 360 := vp_in_nI (by omega) (by decide)
    have cq : (nI q0).toNatClampNeg = q0 := nI_clamp (by omega)
    by_cases hc : (F 9) q0 = nI 9
    · obtain ⟨l1, hf, hl1, q1', hq1', hL1⟩ := hJ q0 a1 hc
      obtain ⟨q1, c1, c2, c3⟩ := H l1 q1' hq1' hL1
      obtain ⟨L', b1, b2⟩ := ih (i + 1) (upd L l0 (nI q1)) (by omega) (uw_sh2 hE a2 a1 hc hf hl1 c2 c1 (by omega) H)
      refine ⟨L', b1, fun post n m K => br_f n20 ⟨il, ?_⟩⟩
      rw [cl, a2, cq]
      refine ⟨iq, br_t hc ⟨il, iq, ?_⟩⟩
      rw [hf]
      refine ⟨vp_in_nI hl1 (by decide), il, nm_r (e' := upd L l0 (nI q1)) ?_ (nm_r (e' := nI (i + 1)) (nI_1 i) ?_)⟩
      · rw [nI_clamp (by omega), c2, uw_vs (uw_sn (by omega))]
      · exact b2 post n m K
    · refine ⟨L, H, fun post n m K => br_f n20 ⟨il, ?_⟩⟩
      rw [cl, a2, cq]
      exact ⟨iq, br_f hc (nm_r (e' := nI (l0 + 1)) (nI_1 l0) K)⟩
theorem uw_sho {C : Nat → Int32} {F : Nat → Nat → Int32} {E lb : Nat} (hE : E < 360) (hlb : lb ≤ 128) (hC : (C 4) = nI lb) (hP : ∀ l, l < lb → uw_PL F E l) (hJ : ∀ pc, pc ≤ E → uw_JL F E pc) : ∀ (d i : Nat) (L : Nat → Int32), i + d = lb → uw_IV F E L →
    ∃ L', uw_IV F E L' ∧ ∀ post : SX → Prop, post (XS C (uw_st F 13 L')) → wX_shorten_2 post (C 0) (C 1) (C 2) (C 3) (C 4) (C 5) (C 6) (C 7) (C 8) (C 9) (C 10) (C 11) (C 12) (C 13) (C 14) (C 15) (C 16) (C 17) (C 18) (d + 1) (nI i) (F 0) (F 1) (F 2) (F 3) (F 4) (F 5) (F 6) (F 7) (F 8) (F 9) (F 10) (F 11) (F 12) (L) (F 14) (F 15) (F 16) (F 17) (F 18) (F 19) (F 20) (F 21) (F 22) (F 23) (F 24) (F 25) (F 26) (F 27) (F 28) (F 29) (F 30) (F 31) (F 32) (F 33) (F 34) (F 35) (F 36) (F 37) := by
  intro d
  induction d with
  | zero =>
    intro i L hi H
    have : i = lb := by omega
    subst this
    exact ⟨L, H, fun post K => br_t (by rw [hC]; exact Int32.le_refl _) K⟩
  | succ d ih =>
    intro i L hi H
    obtain ⟨L1, a1, a2⟩ := uw_shi (C := C) hE hlb (show i < lb by omega) hP hJ 20 0 L (by omega) H
    obtain ⟨L2, b1, b2⟩ := ih (i + 1) L1 (by omega) a1
    exact ⟨L2, b1, fun post K => br_f (by rw [hC]; exact nI_ge (by omega) (by omega)) ⟨0 + 20 + 1, a2 post (d + 1) 0 (b2 post K)⟩⟩
theorem uw_short {C : Nat → Int32} {F : Nat → Nat → Int32} {E lb : Nat} (hE : E < 360) (hlb : lb ≤ 128) (hC : (C 4) = nI lb) (hP : ∀ l, l < lb → uw_PL F E l) (hJ : ∀ pc, pc ≤ E → uw_JL F E pc) :
    ∃ L', uw_IV F E L' ∧ ∀ post : SX → Prop, post (XS C (uw_st F 13 L')) → wpX_shorten post (XS C F) := by
  have h0 : uw_IV F E (F 13) := by
    intro l q hq hl
    refine ⟨q, hq, hl, fun j t h _ => uw_JT_c (A := F) (A' := uw_st F 13 (F 13)) (fun _ => rfl) (fun _ => rfl) (fun _ => rfl) _ _ _ h⟩
  obtain ⟨L', a1, a2⟩ := uw_sho (C := C) hE hlb hC hP hJ lb 0 (F 13) (by omega) h0
  refine ⟨L', a1, fun post K => ?_⟩
  unfold wpX_shorten XS
  exact ⟨lb + 1, a2 post K⟩
end
section
/-! compile: three procedures, then shorten -/
theorem uw_pk_fa {l0 cz lb kt ex rg p cz' lb' ex' rg' : Nat} {A A' F : Nat → Nat → Int32} (h : ∀ i x, uw_pk p cz' lb' ex' rg' i x → A' i x = A i x) (e : cz ≤ cz' ∧ lb ≤ lb' ∧ kt ≤ 10 * p ∧ ex ≤ ex' ∧ rg ≤ rg') (g : uw_FA l0 cz lb kt ex rg A' F) : uw_FA l0 cz lb kt ex rg A F := by
  intro i x z
  refine (g i x z).trans (h i x ?_)
  unfold uw_rv at z
  unfold uw_pk
  omega
theorem uw_fa_r {l0 cz lb kt ex rg : Nat} {A : Nat → Nat → Int32} : uw_FA l0 cz lb kt ex rg A A := fun _ _ _ => rfl
theorem uw_comp3 {C : Nat → Int32} {A : Nat → Nat → Int32} (hc : (C 2) = 0) (HP : ∀ p, p < 3 → ∃ z, z < 20 ∧ (A 5) p = nI (z + 1) ∧ uw_TR A (20 * p) 20 0 0 z) :
    ∃ (C' : Nat → Int32) (A' : Nat → Nat → Int32), (∀ i, i < 2 ∨ 12 ≤ i → C' i = C i) ∧ ¬ (C' 2) = 0 ∧ (∀ i x, i < 8 ∨ 31 ≤ i → A' i x = A i x) ∧ uw_OK A' (C' 7) ∧ ∀ post : SX → Prop, post (XS C' A') → wpX_compile post (XS C A) := by
  obtain ⟨z0, hz0, sz0, t0⟩ := HP 0 (by omega)
  obtain ⟨z1, hz1, sz1, t1⟩ := HP 1 (by omega)
  obtain ⟨z2, hz2, sz2, t2⟩ := HP 2 (by omega)
  obtain ⟨C1, A1, M0, e0, lb1, k0, ex1, rg1, q0, d0, P0, g0, L0, c0, l0, F0, W0⟩ := uw_cproc (C := upd (upd (upd (upd (upd C 2 (nI 1)) 3 (nI 0)) 4 (nI 0)) 6 (nI 0)) 7 (nI 0)) (A := A) (p := 0) (cz := 0) (lb := 0) (ex := 0) (rg := 0) (by omega) hz0 sz0 t0 rfl rfl rfl rfl (by omega) (by omega) (by omega) (by omega)
  obtain ⟨v1, v2, v3, v4, v5, v6, v7, v8, v9⟩ := d0
  have a1 : ∀ i x, i < 8 → A1 i x = A i x := fun i x h => P0 i x (Or.inl h)
  obtain ⟨C2, A2, M1, e1, lb2, k1, ex2, rg2, q1, d1, P1, g1, L1, c1, l1, F1, W1⟩ := uw_cproc (C := uw_cc C1 (e0 + 1) lb1 (10 * 0 + k0) ex1 rg1 0 0) (A := A1) (p := 1) (cz := e0 + 1) (lb := lb1) (ex := ex1) (rg := rg1) (by omega) hz1 ((a1 5 1 (by omega)).trans sz1) (uw_TR_c (A := A) (b := 20 * 1) _ _ _ _ (fun x _ => ⟨a1 0 _ (by omega), a1 1 _ (by omega), a1 2 _ (by omega), a1 3 _ (by omega), a1 4 _ (by omega)⟩) t1) rfl rfl rfl rfl (by omega) (by omega) (by omega) (by omega)
  obtain ⟨u1, u2, u3, u4, u5, u6, u7, u8, u9⟩ := d1
  have a2 : ∀ i x, i < 8 → A2 i x = A i x := fun i x h => (P1 i x (Or.inl h)).trans (a1 i x h)
  obtain ⟨C3, A3, M2, e2, lb3, k2, ex3, rg3, q2, d2, P2, g2, L2, c2, l2, F2, W2⟩ := uw_cproc (C := uw_cc C2 (e1 + 1) lb2 (10 * 1 + k1) ex2 rg2 0 0) (A := A2) (p := 2) (cz := e1 + 1) (lb := lb2) (ex := ex2) (rg := rg2) (by omega) hz2 ((a2 5 2 (by omega)).trans sz2) (uw_TR_c (A := A) (b := 20 * 2) _ _ _ _ (fun x _ => ⟨a2 0 _ (by omega), a2 1 _ (by omega), a2 2 _ (by omega), a2 3 _ (by omega), a2 4 _ (by omega)⟩) t2) rfl rfl rfl rfl (by omega) (by omega) (by omega) (by omega)
  obtain ⟨w1, w2, w3, w4, w5, w6, w7, w8, w9⟩ := d2
  have a3 : ∀ i x, i < 8 → A3 i x = A i x := fun i x h => (P2 i x (Or.inl h)).trans (a2 i x h)
  have a3' : ∀ i x, 31 ≤ i → A3 i x = A i x := fun i x h => (P2 i x (by unfold uw_pk; omega)).trans ((P1 i x (by unfold uw_pk; omega)).trans (P0 i x (by unfold uw_pk; omega)))
  -- the three codes in the last record
  have K2 := F2 A3 ex3 uw_fa_r (Nat.le_refl _)
  have K1 := F1 A3 ex3 (uw_pk_fa P2 (by omega) uw_fa_r) (by omega)
  have K0 := F0 A3 ex3 (uw_pk_fa P1 (by omega) (uw_pk_fa P2 (by omega) uw_fa_r)) (by omega)
  have c1' : A3 9 e1 = nI 8 := (P2 9 e1 (by unfold uw_pk; omega)).trans c1
  have c0' : A3 9 e0 = nI 8 := (P2 9 e0 (by unfold uw_pk; omega)).trans ((P1 9 e0 (by unfold uw_pk; omega)).trans c0)
  have l1' : A3 13 lb1 = nI e1 := (P2 13 lb1 (by unfold uw_pk; omega)).trans l1
  have l0' : A3 13 0 = nI e0 := (P2 13 0 (by unfold uw_pk; omega)).trans ((P1 13 0 (by unfold uw_pk; omega)).trans l0)
  have g1' : A3 12 1 = nI (e0 + 1) := (P2 12 1 (by unfold uw_pk; omega)).trans g1
  have g0' : A3 12 0 = nI 0 := (P2 12 0 (by unfold uw_pk; omega)).trans ((P1 12 0 (by unfold uw_pk; omega)).trans g0)
  have i0 := uw_CC_in _ _ _ _ _ _ _ _ _ K0
  have i1 := uw_CC_in _ _ _ _ _ _ _ _ _ K1
  have i2 := uw_CC_in _ _ _ _ _ _ _ _ _ K2
  -- labels and jumps
  have PL : ∀ l, l < lb3 → uw_PL A3 e2 l := by
    intro l hl
    rcases Nat.lt_or_ge l lb1 with y | y
    · obtain ⟨q, b1, b2⟩ := L0 l (by omega) y
      exact ⟨by omega, q, by omega, (P2 13 l (by unfold uw_pk; omega)).trans ((P1 13 l (by unfold uw_pk; omega)).trans b2)⟩
    · rcases Nat.lt_or_ge l lb2 with y' | y'
      · obtain ⟨q, b1, b2⟩ := L1 l y y'
        exact ⟨by omega, q, by omega, (P2 13 l (by unfold uw_pk; omega)).trans b2⟩
      · obtain ⟨q, b1, b2⟩ := L2 l y' hl
        exact ⟨by omega, q, by omega, b2⟩
  have JL : ∀ pc, pc ≤ e2 → uw_JL A3 e2 pc := by
    intro pc hpc
    rcases Nat.lt_or_ge pc e0 with y | y
    · exact uw_CC_J (PL 0 (by omega)) (by omega) _ _ _ _ _ _ _ _ _ K0 trivial (by omega) pc (by omega) y
    · rcases Nat.eq_or_lt_of_le y with rfl | y
      · exact uw_jn c0' (by omega) (by omega)
      · rcases Nat.lt_or_ge pc e1 with x | x
        · exact uw_CC_J (PL lb1 (by omega)) (by omega) _ _ _ _ _ _ _ _ _ K1 trivial (by omega) pc (by omega) x
        · rcases Nat.eq_or_lt_of_le x with rfl | x
          · exact uw_jn c1' (by omega) (by omega)
          · rcases Nat.lt_or_ge pc e2 with r | r
            · exact uw_CC_J (PL lb2 (by omega)) (by omega) _ _ _ _ _ _ _ _ _ K2 trivial (by omega) pc (by omega) r
            · have : pc = e2 := by omega
              subst this; exact uw_jn c2 (by omega) (by omega)
  obtain ⟨L, iv, WS⟩ := uw_short (C := uw_cc C3 (e2 + 1) lb3 (10 * 2 + k2) ex3 rg3 0 0) (F := A3) (E := e2) (lb := lb3) (by omega) (by omega) rfl PL JL
  refine ⟨uw_cc C3 (e2 + 1) lb3 (10 * 2 + k2) ex3 rg3 0 0, uw_st A3 13 L, ?_, ?_, ?_, ?_, ?_⟩
  · intro i hi
    have cc : ∀ (D : Nat → Int32) (a b c d e f g : Nat), uw_cc D a b c d e f g i = D i := fun D a b c d e f g => by
      unfold uw_cc
      rw [if_neg (by omega), if_neg (by omega), if_neg (by omega), if_neg (by omega), if_neg (by omega), if_neg (by omega), if_neg (by omega)]
    rw [cc, q2 i (by omega) (by omega), cc, q1 i (by omega) (by omega), cc, q0 i (by omega) (by omega), pk_un (by omega), pk_un (by omega), pk_un (by omega), pk_un (by omega), pk_un (by omega)]
  · have e : uw_cc C3 (e2 + 1) lb3 (10 * 2 + k2) ex3 rg3 0 0 2 = nI 1 := by
      show C3 2 = nI 1
      rw [q2 2 (by omega) (by omega)]
      show C2 2 = nI 1
      rw [q1 2 (by omega) (by omega)]
      show C1 2 = nI 1
      rw [q0 2 (by omega) (by omega)]
      rfl
    intro h
    exact absurd (e.symm.trans h) (by decide)
  · intro i x hi
    rw [uw_un (by omega)]
    rcases hi with h | h
    · exact a3 i x h
    · exact a3' i x h
  · refine ⟨A3, fun p => if p = 0 then M0 else if p = 1 then M1 else M2, fun p => if p = 0 then 0 else if p = 1 then lb1 else lb2, fun p => if p = 0 then 0 else if p = 1 then e0 + 1 else e1 + 1, fun p => if p = 0 then e0 else if p = 1 then e1 else e2, fun p => if p = 0 then z0 else if p = 1 then z1 else z2, ex3, rg3, e2, rfl, by omega, by omega, by omega, ?_, ?_, ?_, ?_⟩
    · intro i x hi
      refine congrFun (uw_un ?_) x
      unfold uw_sp at hi
      omega
    · intro l q j t b1 b2 b3 b4
      obtain ⟨r, t1, t2, t3⟩ := iv l q b1 b2
      exact ⟨r, by omega, t2, t3 j t b3 b4⟩
    · intro i hi
      rcases Nat.lt_or_ge i rg1 with y | y
      · obtain ⟨x, y', s1, s2, s3, s4, s5⟩ := i0.2.2.2 i (by omega) y
        exact ⟨x, y', s1, s2, by omega, by omega⟩
      · rcases Nat.lt_or_ge i rg2 with y' | y'
        · obtain ⟨x, y'', s1, s2, s3, s4, s5⟩ := i1.2.2.2 i y y'
          exact ⟨x, y'', s1, s2, by omega, by omega⟩
        · obtain ⟨x, y'', s1, s2, s3, s4, s5⟩ := i2.2.2.2 i y' hi
          exact ⟨x, y'', s1, s2, by omega, by omega⟩
    · intro p hp
      have p3 : p = 0 ∨ p = 1 ∨ p = 2 := by omega
      rcases p3 with rfl | rfl | rfl
      · refine ⟨0, rg1, k0, z0 + 1, hz0, (a3 5 0 (by omega)).trans sz0, g0', by show e0 ≤ e2; omega, K0, v5, by omega, c0', by show 0 < 128; omega, l0', fun i hi => by omega, fun i h1 h2 => ?_⟩
        show ∃ x, A3 18 i = nI x ∧ e0 ≤ x ∧ x < 360
        rcases Nat.lt_or_ge i rg2 with y' | y'
        · obtain ⟨x, y'', s1, s2, s3, s4, s5⟩ := i1.2.2.2 i h1 y'
          exact ⟨x, s1, by omega, by omega⟩
        · obtain ⟨x, y'', s1, s2, s3, s4, s5⟩ := i2.2.2.2 i y' h2
          exact ⟨x, s1, by omega, by omega⟩
      · refine ⟨rg1, rg2, k1, z1 + 1, hz1, (a3 5 1 (by omega)).trans sz1, g1', by show e1 ≤ e2; omega, K1, u5, by omega, c1', by show lb1 < 128; omega, l1', fun i hi => ?_, fun i h1 h2 => ?_⟩
        · show ∃ y, A3 19 i = nI y ∧ y ≤ e0 + 1
          obtain ⟨x, y'', s1, s2, s3, s4, s5⟩ := i0.2.2.2 i (by omega) hi
          exact ⟨y'', s2, by omega⟩
        · show ∃ x, A3 18 i = nI x ∧ e1 ≤ x ∧ x < 360
          obtain ⟨x, y'', s1, s2, s3, s4, s5⟩ := i2.2.2.2 i h1 h2
          exact ⟨x, s1, by omega, by omega⟩
      · refine ⟨rg2, rg3, k2, z2 + 1, hz2, (a3 5 2 (by omega)).trans sz2, g2, by show e2 ≤ e2; omega, K2, w5, by omega, c2, by show lb2 < 128; omega, l2, fun i hi => ?_, fun i h1 h2 => by omega⟩
        show ∃ y, A3 19 i = nI y ∧ y ≤ e1 + 1
        rcases Nat.lt_or_ge i rg1 with y | y
        · obtain ⟨x, y'', s1, s2, s3, s4, s5⟩ := i0.2.2.2 i (by omega) y
          exact ⟨y'', s2, by omega⟩
        · obtain ⟨x, y'', s1, s2, s3, s4, s5⟩ := i1.2.2.2 i y hi
          exact ⟨y'', s2, by omega⟩
  · intro post K
    unfold wpX_compile
    refine br_t hc ⟨4, ?_⟩
    refine br_f (by decide) (W0 _ (nm_r (e' := nI 1) (by decide) ?_))
    refine br_f (by decide) (W1 _ (nm_r (e' := nI 2) (by decide) ?_))
    refine br_f (by decide) (W2 _ (nm_r (e' := nI 3) (by decide) ?_))
    refine br_t (by decide) ?_
    exact WS _ K
end
section
/-! the component's machine (printed by gen22.py) -/
def uw_XR (C : Nat → Int32) (A : Nat → Nat → Int32) (f fl s tv sc mc oc : Int32) (va ta ex th bg sh : Nat → Int32) : SX := ((C 0), (C 1), (C 2), (C 3), (C 4), (C 5), (C 6), (C 7), (C 8), (C 9), (C 10), (C 11), (f), (fl), (s), (tv), (sc), (mc), (oc), (A 0), (A 1), (A 2), (A 3), (A 4), (A 5), (A 6), (A 7), (A 8), (A 9), (A 10), (A 11), (A 12), (A 13), (A 14), (A 15), (A 16), (A 17), (A 18), (A 19), (A 20), (A 21), (A 22), (A 23), (A 24), (A 25), (A 26), (A 27), (A 28), (A 29), (A 30), (A 31), (va), (ta), (ex), (th), (bg), (sh))
/-- a step goes to u' -/
def uw_SX (u u' : SX) : Prop := ∀ post : SX → Prop, post u' → wpX_step post u
section
variable {C : Nat → Int32} {A : Nat → Nat → Int32} {fl s tv sc mc oc : Int32} {va ta ex th bg sh : Nat → Int32} {g pc : Nat}
theorem uw_xjump {post : SX → Prop} {l q : Nat} (hg : g < 9) (hl : l < 128) (hq : q < 32768) (hL : (A 13) l = nI q) (K : post (uw_XR C A (nI (g + 1)) fl s tv sc mc oc va (upd ta g (nI q)) ex th bg sh)) : wpX_jump post (uw_XR C A (nI (g + 1)) fl s tv sc mc oc va ta ex th bg sh) (nI l) := by
  have e1 : nI (g + 1) - 1 = nI g := nI_pred g
  unfold wpX_jump uw_XR
  dsimp only
  rw [e1]
  refine ⟨vp_in_nI hl (by decide), vp_in_nI hg (by decide), nm_r (e' := upd ta g (nI q)) (by rw [nI_clamp (by omega), nI_clamp (by omega), hL, uw_vs (uw_sn hq)]) ?_⟩
  exact K
theorem uw_slot {p k : Nat} (hp : p < 3) (hk : k < 10) (hg : g < 9) : (10 : Int32) * nI g + (nI (10 * p + k) - nI (10 * p + k) / 10 * 10) = nI (10 * g + k) := by
  have e := pk_rem (a := 10 * p + k) (d := 10) (by omega) (by omega) (by omega)
  have e' : nI (10 * p + k) - nI (10 * p + k) / 10 * 10 = nI ((10 * p + k) % 10) := e
  rw [e', show (10 * p + k) % 10 = k by omega, show (10 : Int32) * nI g = nI (10 * g) from pk_mul 10 g, nI_add]
theorem uw_xback {post : SX → Prop} {p k bl q : Nat} {x : Int32} (hg : g < 9) (hp : p < 3) (hk : k < 10) (hx : uw_S x) (hb : (A 14) (10 * p + k) = nI bl) (hl : bl < 128) (hq : q < 32768) (hL : (A 13) bl = nI q) (K : post (uw_XR C A (nI (g + 1)) fl s tv sc mc oc va (upd ta g (nI q)) (upd ex (10 * g + k) x) th bg sh)) : wpX_enterBack post (uw_XR C A (nI (g + 1)) fl s tv sc mc oc va ta ex th bg sh) (nI (10 * p + k)) x := by
  have e1 : nI (g + 1) - 1 = nI g := nI_pred g
  have es := uw_slot (g := g) hp hk hg
  unfold wpX_enterBack uw_XR
  unfold wpX_slot
  dsimp only
  rw [e1, es]
  refine ⟨by decide, vp_in_nI (by omega) (by decide), nm_r (e' := upd ex (10 * g + k) x) (by rw [nI_clamp (by omega), uw_vss hx]) ⟨vp_in_nI (by omega) (by decide), ?_⟩⟩
  rw [nI_clamp (by omega), hb]
  exact uw_xjump (C := C) (A := A) (ta := ta) (ex := upd ex (10 * g + k) x) hg hl hq hL K
theorem uw_x0a {t : Nat} (hg : g < 9) (hta : ta g = nI pc) (hpc : pc < 360) (hc : (A 9) pc = nI 0) (hx : (A 10) pc = nI t) : uw_SX (uw_XR C A (nI (g + 1)) fl s tv (nI 300) mc oc va ta ex th bg sh) (uw_XR C A (nI (g + 1)) fl (2) tv (nI 300) mc oc va (upd ta g (nI (pc + 1))) ex th bg sh) := by
  have e1 : nI (g + 1) - 1 = nI g := nI_pred g
  have ig : vp_in (nI g) 9 := vp_in_nI hg (by decide)
  have cg : (nI g).toNatClampNeg = g := nI_clamp (by omega)
  have ip : vp_in (nI pc) 360 := vp_in_nI (by omega) (by decide)
  have cp : (nI pc).toNatClampNeg = pc := nI_clamp (by omega)
  have et : upd ta g (vp_nar .short ((nI pc + 1).toInt16.toInt32)) = upd ta g (nI (pc + 1)) := by rw [nI_1, uw_vss (uw_sn (by omega))]
  intro post K
  unfold wpX_step uw_XR
  dsimp only
  rw [e1]
  refine ⟨ig, nm_r (e' := nI pc) (by rw [cg]; exact hta) ⟨ip, nm_r (e' := nI 0) (by rw [cp]; exact hc) ⟨ip, nm_r (e' := nI t) (by rw [cp]; exact hx) ⟨ip, nm_r (e' := (A 11) pc) (by rw [cp]) ⟨ig, nm_r (e' := upd ta g (nI (pc + 1))) (by rw [cg]; exact et) ?_⟩⟩⟩⟩⟩
  refine br_t rfl ?_
  unfold wpX_count
  exact br_t rfl K
theorem uw_x0b {t n b : Nat} (hg : g < 9) (hta : ta g = nI pc) (hpc : pc < 360) (hc : (A 9) pc = nI 0) (hx : (A 10) pc = nI t) (ht : t < 60) (hn : n < 300) (hb : bg t = nI b) (hb' : b < 1000) : uw_SX (uw_XR C A (nI (g + 1)) fl s tv (nI n) mc oc va ta ex th bg sh) (uw_XR C A (nI (g + 1)) fl s tv (nI (n + 1)) mc oc va (upd ta g (nI (pc + 1))) ex th (upd bg t (nI (b + 1))) sh) := by
  have e1 : nI (g + 1) - 1 = nI g := nI_pred g
  have ig : vp_in (nI g) 9 := vp_in_nI hg (by decide)
  have cg : (nI g).toNatClampNeg = g := nI_clamp (by omega)
  have ip : vp_in (nI pc) 360 := vp_in_nI (by omega) (by decide)
  have cp : (nI pc).toNatClampNeg = pc := nI_clamp (by omega)
  have et : upd ta g (vp_nar .short ((nI pc + 1).toInt16.toInt32)) = upd ta g (nI (pc + 1)) := by rw [nI_1, uw_vss (uw_sn (by omega))]
  intro post K
  unfold wpX_step uw_XR
  dsimp only
  rw [e1]
  refine ⟨ig, nm_r (e' := nI pc) (by rw [cg]; exact hta) ⟨ip, nm_r (e' := nI 0) (by rw [cp]; exact hc) ⟨ip, nm_r (e' := nI t) (by rw [cp]; exact hx) ⟨ip, nm_r (e' := (A 11) pc) (by rw [cp]) ⟨ig, nm_r (e' := upd ta g (nI (pc + 1))) (by rw [cg]; exact et) ?_⟩⟩⟩⟩⟩
  refine br_t rfl ?_
  unfold wpX_count
  refine br_f (fun e => by have := (nI_eq (a := n) (b := 300) (by omega) (by omega)).mp e; omega) (nm_r (e' := nI (n + 1)) (nI_1 n) ⟨vp_in_nI ht (by decide), vp_in_nI ht (by decide), nm_r (e' := upd bg t (nI (b + 1))) (by rw [nI_clamp (by omega), hb, nI_1, uw_vss (uw_sn (by omega))]) ?_⟩)
  exact K
theorem uw_x1 {r : Nat} {y : Int32} (hg : g < 9) (hta : ta g = nI pc) (hpc : pc < 360) (hc : (A 9) pc = nI 1) (hx : (A 10) pc = nI r) (hy : (A 11) pc = y) (hr : r < 4) : uw_SX (uw_XR C A (nI (g + 1)) fl s tv sc mc oc va ta ex th bg sh) (uw_XR C A (nI (g + 1)) fl s tv sc mc oc (upd va r y) (upd ta g (nI (pc + 1))) ex th bg sh) := by
  have e1 : nI (g + 1) - 1 = nI g := nI_pred g
  have ig : vp_in (nI g) 9 := vp_in_nI hg (by decide)
  have cg : (nI g).toNatClampNeg = g := nI_clamp (by omega)
  have ip : vp_in (nI pc) 360 := vp_in_nI (by omega) (by decide)
  have cp : (nI pc).toNatClampNeg = pc := nI_clamp (by omega)
  have et : upd ta g (vp_nar .short ((nI pc + 1).toInt16.toInt32)) = upd ta g (nI (pc + 1)) := by rw [nI_1, uw_vss (uw_sn (by omega))]
  intro post K
  unfold wpX_step uw_XR
  dsimp only
  rw [e1]
  refine ⟨ig, nm_r (e' := nI pc) (by rw [cg]; exact hta) ⟨ip, nm_r (e' := nI 1) (by rw [cp]; exact hc) ⟨ip, nm_r (e' := nI r) (by rw [cp]; exact hx) ⟨ip, nm_r (e' := y) (by rw [cp]; exact hy) ⟨ig, nm_r (e' := upd ta g (nI (pc + 1))) (by rw [cg]; exact et) ?_⟩⟩⟩⟩⟩
  refine br_f (by decide) (br_f (by decide) ?_)
  unfold wpX_calculate
  refine br_t rfl ⟨vp_in_nI hr (by decide), nm_r (e' := upd va r y) (by rw [nI_clamp (by omega)]) ?_⟩
  exact K
theorem uw_x2 {r m : Nat} (hg : g < 9) (hta : ta g = nI pc) (hpc : pc < 360) (hc : (A 9) pc = nI 2) (hx : (A 10) pc = nI r) (hy : (A 11) pc = nI m) (hr : r < 4) (hm : m < 4) : uw_SX (uw_XR C A (nI (g + 1)) fl s tv sc mc oc va ta ex th bg sh) (uw_XR C A (nI (g + 1)) fl s tv sc mc oc (upd va r (va r + va m)) (upd ta g (nI (pc + 1))) ex th bg sh) := by
  have e1 : nI (g + 1) - 1 = nI g := nI_pred g
  have ig : vp_in (nI g) 9 := vp_in_nI hg (by decide)
  have cg : (nI g).toNatClampNeg = g := nI_clamp (by omega)
  have ip : vp_in (nI pc) 360 := vp_in_nI (by omega) (by decide)
  have cp : (nI pc).toNatClampNeg = pc := nI_clamp (by omega)
  have et : upd ta g (vp_nar .short ((nI pc + 1).toInt16.toInt32)) = upd ta g (nI (pc + 1)) := by rw [nI_1, uw_vss (uw_sn (by omega))]
  intro post K
  unfold wpX_step uw_XR
  dsimp only
  rw [e1]
  refine ⟨ig, nm_r (e' := nI pc) (by rw [cg]; exact hta) ⟨ip, nm_r (e' := nI 2) (by rw [cp]; exact hc) ⟨ip, nm_r (e' := nI r) (by rw [cp]; exact hx) ⟨ip, nm_r (e' := nI m) (by rw [cp]; exact hy) ⟨ig, nm_r (e' := upd ta g (nI (pc + 1))) (by rw [cg]; exact et) ?_⟩⟩⟩⟩⟩
  refine br_f (by decide) (br_f (by decide) ?_)
  unfold wpX_calculate
  refine br_f (by decide) (br_t rfl ⟨vp_in_nI hr (by decide), vp_in_nI hm (by decide), vp_in_nI hr (by decide), nm_r (e' := upd va r (va r + va m)) (by rw [nI_clamp (by omega), nI_clamp (by omega)]) ?_⟩)
  exact K
theorem uw_x3 {r m : Nat} (hg : g < 9) (hta : ta g = nI pc) (hpc : pc < 360) (hc : (A 9) pc = nI 3) (hx : (A 10) pc = nI r) (hy : (A 11) pc = nI m) (hr : r < 4) (hm : m < 4) : uw_SX (uw_XR C A (nI (g + 1)) fl s tv sc mc oc va ta ex th bg sh) (uw_XR C A (nI (g + 1)) fl s tv sc mc oc (upd va r (va r - va m)) (upd ta g (nI (pc + 1))) ex th bg sh) := by
  have e1 : nI (g + 1) - 1 = nI g := nI_pred g
  have ig : vp_in (nI g) 9 := vp_in_nI hg (by decide)
  have cg : (nI g).toNatClampNeg = g := nI_clamp (by omega)
  have ip : vp_in (nI pc) 360 := vp_in_nI (by omega) (by decide)
  have cp : (nI pc).toNatClampNeg = pc := nI_clamp (by omega)
  have et : upd ta g (vp_nar .short ((nI pc + 1).toInt16.toInt32)) = upd ta g (nI (pc + 1)) := by rw [nI_1, uw_vss (uw_sn (by omega))]
  intro post K
  unfold wpX_step uw_XR
  dsimp only
  rw [e1]
  refine ⟨ig, nm_r (e' := nI pc) (by rw [cg]; exact hta) ⟨ip, nm_r (e' := nI 3) (by rw [cp]; exact hc) ⟨ip, nm_r (e' := nI r) (by rw [cp]; exact hx) ⟨ip, nm_r (e' := nI m) (by rw [cp]; exact hy) ⟨ig, nm_r (e' := upd ta g (nI (pc + 1))) (by rw [cg]; exact et) ?_⟩⟩⟩⟩⟩
  refine br_f (by decide) (br_f (by decide) ?_)
  unfold wpX_calculate
  refine br_f (by decide) (br_f (by decide) (br_t rfl ⟨vp_in_nI hr (by decide), vp_in_nI hm (by decide), vp_in_nI hr (by decide), nm_r (e' := upd va r (va r - va m)) (by rw [nI_clamp (by omega), nI_clamp (by omega)]) ?_⟩))
  exact K
theorem uw_x4 {r m : Nat} (hg : g < 9) (hta : ta g = nI pc) (hpc : pc < 360) (hc : (A 9) pc = nI 4) (hx : (A 10) pc = nI r) (hy : (A 11) pc = nI m) (hr : r < 4) (hm : m < 4) : uw_SX (uw_XR C A (nI (g + 1)) fl s tv sc mc oc va ta ex th bg sh) (uw_XR C A (nI (g + 1)) fl s tv sc mc oc (upd va r (va r * va m)) (upd ta g (nI (pc + 1))) ex th bg sh) := by
  have e1 : nI (g + 1) - 1 = nI g := nI_pred g
  have ig : vp_in (nI g) 9 := vp_in_nI hg (by decide)
  have cg : (nI g).toNatClampNeg = g := nI_clamp (by omega)
  have ip : vp_in (nI pc) 360 := vp_in_nI (by omega) (by decide)
  have cp : (nI pc).toNatClampNeg = pc := nI_clamp (by omega)
  have et : upd ta g (vp_nar .short ((nI pc + 1).toInt16.toInt32)) = upd ta g (nI (pc + 1)) := by rw [nI_1, uw_vss (uw_sn (by omega))]
  intro post K
  unfold wpX_step uw_XR
  dsimp only
  rw [e1]
  refine ⟨ig, nm_r (e' := nI pc) (by rw [cg]; exact hta) ⟨ip, nm_r (e' := nI 4) (by rw [cp]; exact hc) ⟨ip, nm_r (e' := nI r) (by rw [cp]; exact hx) ⟨ip, nm_r (e' := nI m) (by rw [cp]; exact hy) ⟨ig, nm_r (e' := upd ta g (nI (pc + 1))) (by rw [cg]; exact et) ?_⟩⟩⟩⟩⟩
  refine br_f (by decide) (br_f (by decide) ?_)
  unfold wpX_calculate
  refine br_f (by decide) (br_f (by decide) (br_f (by decide) (br_t rfl ⟨vp_in_nI hr (by decide), vp_in_nI hm (by decide), vp_in_nI hr (by decide), nm_r (e' := upd va r (va r * va m)) (by rw [nI_clamp (by omega), nI_clamp (by omega)]) ?_⟩)))
  exact K
theorem uw_x5 {r n : Nat} (hg : g < 9) (hta : ta g = nI pc) (hpc : pc < 360) (hc : (A 9) pc = nI 5) (hx : (A 10) pc = nI r) (hr : r < 4) (hn : n < 300) : uw_SX (uw_XR C A (nI (g + 1)) fl s tv sc mc (nI n) va ta ex th bg sh) (uw_XR C A (nI (g + 1)) fl s tv sc mc (nI (n + 1)) va (upd ta g (nI (pc + 1))) ex th bg (upd sh n (va r))) := by
  have e1 : nI (g + 1) - 1 = nI g := nI_pred g
  have ig : vp_in (nI g) 9 := vp_in_nI hg (by decide)
  have cg : (nI g).toNatClampNeg = g := nI_clamp (by omega)
  have ip : vp_in (nI pc) 360 := vp_in_nI (by omega) (by decide)
  have cp : (nI pc).toNatClampNeg = pc := nI_clamp (by omega)
  have et : upd ta g (vp_nar .short ((nI pc + 1).toInt16.toInt32)) = upd ta g (nI (pc + 1)) := by rw [nI_1, uw_vss (uw_sn (by omega))]
  intro post K
  unfold wpX_step uw_XR
  dsimp only
  rw [e1]
  refine ⟨ig, nm_r (e' := nI pc) (by rw [cg]; exact hta) ⟨ip, nm_r (e' := nI 5) (by rw [cp]; exact hc) ⟨ip, nm_r (e' := nI r) (by rw [cp]; exact hx) ⟨ip, nm_r (e' := (A 11) pc) (by rw [cp]) ⟨ig, nm_r (e' := upd ta g (nI (pc + 1))) (by rw [cg]; exact et) ?_⟩⟩⟩⟩⟩
  refine br_f (by decide) (br_f (by decide) ?_)
  unfold wpX_calculate
  refine br_f (by decide) (br_f (by decide) (br_f (by decide) (br_f (by decide) ⟨vp_in_nI hr (by decide), vp_in_nI hn (by decide), nm_r (e' := upd sh n (va r)) (by rw [nI_clamp (by omega), nI_clamp (by omega)]) (nm_r (e' := nI (n + 1)) (nI_1 n) ?_)⟩)))
  exact K
def uw_RZ (post : SX → Prop) (C : Nat → Int32) (A : Nat → Nat → Int32) (v fl s tv sc mc oc : Int32) (va ta ex th bg sh : Nat → Int32) (n : Nat) (x i f : Int32) : Prop := wX_raise_4 post v (C 0) (C 1) (C 2) (C 3) (C 4) (C 5) (C 6) (C 7) (C 8) (C 9) (C 10) (C 11) fl s tv sc mc oc (A 0) (A 1) (A 2) (A 3) (A 4) (A 5) (A 6) (A 7) (A 8) (A 9) (A 10) (A 11) (A 12) (A 13) (A 14) (A 15) (A 16) (A 17) (A 18) (A 19) (A 20) (A 21) (A 22) (A 23) (A 24) (A 25) (A 26) (A 27) (A 28) (A 29) (A 30) (A 31) (va) (ta) (ex) (th) (bg) (sh) n x i f
def uw_PR (u : SX) (C : Nat → Int32) (A : Nat → Nat → Int32) (v fl s tv sc mc oc : Int32) (va ta ex th bg sh : Nat → Int32) (i f : Nat) : Prop := ∀ (post : SX → Prop) (n : Nat), uw_RZ post C A v fl s tv sc mc oc va ta ex th bg sh n (-1) (nI i) (nI f) → wpX_step post u
theorem uw_x6 {r : Nat} (hg : g < 9) (hta : ta g = nI pc) (hpc : pc < 360) (hc : (A 9) pc = nI 6) (hx : (A 10) pc = nI r) (hr : r < 4) : uw_PR (uw_XR C A (nI (g + 1)) fl s tv sc mc oc va ta ex th bg sh) C A (va r) fl s tv sc mc oc va (upd ta g (nI (pc + 1))) ex th bg sh 0 (g + 1) := by
  have e1 : nI (g + 1) - 1 = nI g := nI_pred g
  have ig : vp_in (nI g) 9 := vp_in_nI hg (by decide)
  have cg : (nI g).toNatClampNeg = g := nI_clamp (by omega)
  have ip : vp_in (nI pc) 360 := vp_in_nI (by omega) (by decide)
  have cp : (nI pc).toNatClampNeg = pc := nI_clamp (by omega)
  have et : upd ta g (vp_nar .short ((nI pc + 1).toInt16.toInt32)) = upd ta g (nI (pc + 1)) := by rw [nI_1, uw_vss (uw_sn (by omega))]
  intro post n K
  unfold wpX_step uw_XR
  dsimp only
  rw [e1]
  refine ⟨ig, nm_r (e' := nI pc) (by rw [cg]; exact hta) ⟨ip, nm_r (e' := nI 6) (by rw [cp]; exact hc) ⟨ip, nm_r (e' := nI r) (by rw [cp]; exact hx) ⟨ip, nm_r (e' := (A 11) pc) (by rw [cp]) ⟨ig, nm_r (e' := upd ta g (nI (pc + 1))) (by rw [cg]; exact et) ?_⟩⟩⟩⟩⟩
  refine br_f (by decide) (br_t (by decide) (br_t rfl ⟨vp_in_nI hr (by decide), ?_⟩))
  rw [nI_clamp (by omega)]
  unfold wpX_raise
  exact ⟨n, K⟩
theorem uw_x7a {p : Nat} (hta : ta 8 = nI pc) (hpc : pc < 360) (hc : (A 9) pc = nI 7) (hx : (A 10) pc = nI p) : uw_SX (uw_XR C A (nI 9) fl s tv sc mc oc va ta ex th bg sh) (uw_XR C A (nI 9) fl 3 tv sc mc oc va (upd ta 8 (nI (pc + 1))) ex th bg sh) := by
  have hg : (8 : Nat) < 9 := by decide
  have e1 : nI (8 + 1) - 1 = nI 8 := nI_pred 8
  have ig : vp_in (nI 8) 9 := vp_in_nI hg (by decide)
  have cg : (nI 8).toNatClampNeg = 8 := nI_clamp (by omega)
  have ip : vp_in (nI pc) 360 := vp_in_nI (by omega) (by decide)
  have cp : (nI pc).toNatClampNeg = pc := nI_clamp (by omega)
  have et : upd ta 8 (vp_nar .short ((nI pc + 1).toInt16.toInt32)) = upd ta 8 (nI (pc + 1)) := by rw [nI_1, uw_vss (uw_sn (by omega))]
  intro post K
  unfold wpX_step uw_XR
  dsimp only
  rw [e1]
  refine ⟨ig, nm_r (e' := nI pc) (by rw [cg]; exact hta) ⟨ip, nm_r (e' := nI 7) (by rw [cp]; exact hc) ⟨ip, nm_r (e' := nI p) (by rw [cp]; exact hx) ⟨ip, nm_r (e' := (A 11) pc) (by rw [cp]) ⟨ig, nm_r (e' := upd ta 8 (nI (pc + 1))) (by rw [cg]; exact et) ?_⟩⟩⟩⟩⟩
  refine br_f (by decide) (br_t (by decide) (br_f (by decide) (br_t rfl ?_)))
  unfold wpX_enter
  exact br_t rfl K
theorem uw_x7b {p b m : Nat} (hg : g < 9) (hta : ta g = nI pc) (hpc : pc < 360) (hc : (A 9) pc = nI 7) (hx : (A 10) pc = nI p) (hg' : g < 8) (hp : p < 3) (hb : (A 12) p = nI b) (hb' : b < 360) (hmc : mc = nI m) (hm : m < 100) : uw_SX (uw_XR C A (nI (g + 1)) fl s tv sc mc oc va ta ex th bg sh) (uw_XR C A (nI (g + 2)) fl s tv sc (nI (if m < g + 1 then g + 1 else m)) oc va (upd (upd ta g (nI (pc + 1))) (g + 1) (nI b)) ex th bg sh) := by
  have e1 : nI (g + 1) - 1 = nI g := nI_pred g
  have ig : vp_in (nI g) 9 := vp_in_nI hg (by decide)
  have cg : (nI g).toNatClampNeg = g := nI_clamp (by omega)
  have ip : vp_in (nI pc) 360 := vp_in_nI (by omega) (by decide)
  have cp : (nI pc).toNatClampNeg = pc := nI_clamp (by omega)
  have et : upd ta g (vp_nar .short ((nI pc + 1).toInt16.toInt32)) = upd ta g (nI (pc + 1)) := by rw [nI_1, uw_vss (uw_sn (by omega))]
  intro post K
  unfold wpX_step uw_XR
  dsimp only
  rw [e1]
  refine ⟨ig, nm_r (e' := nI pc) (by rw [cg]; exact hta) ⟨ip, nm_r (e' := nI 7) (by rw [cp]; exact hc) ⟨ip, nm_r (e' := nI p) (by rw [cp]; exact hx) ⟨ip, nm_r (e' := (A 11) pc) (by rw [cp]) ⟨ig, nm_r (e' := upd ta g (nI (pc + 1))) (by rw [cg]; exact et) ?_⟩⟩⟩⟩⟩
  refine br_f (by decide) (br_t (by decide) (br_f (by decide) (br_t rfl ?_)))
  unfold wpX_enter
  subst hmc
  refine br_f (fun e => by have := (nI_eq (a := g + 1) (b := 9) (by omega) (by omega)).mp e; omega) ⟨vp_in_nI hp (by decide), vp_in_nI (by omega) (by decide), nm_r (e' := upd (upd ta g (nI (pc + 1))) (g + 1) (nI b)) (by rw [nI_clamp (by omega), nI_clamp (by omega), hb, uw_vs (uw_sn (by omega))]) (nm_r (e' := nI (g + 2)) (nI_1 (g + 1)) ?_)⟩
  rw [show nI (g + 2) - 1 = nI (g + 1) from nI_pred (g + 1)]
  refine pk_le (g + 1) m (fun z => ?_) (fun z => ?_)
  · rw [if_neg (by omega)] at K; exact K
  · rw [if_pos z] at K; exact nm_e K
theorem uw_x8a (hta : ta 0 = nI pc) (hpc : pc < 360) (hc : (A 9) pc = nI 8) : uw_SX (uw_XR C A (nI 1) fl s tv sc mc oc va ta ex th bg sh) (uw_XR C A (nI 0) fl 0 tv sc mc oc va (upd ta 0 (nI (pc + 1))) ex th bg sh) := by
  have hg : (0 : Nat) < 9 := by decide
  have hx : (A 10) pc = (A 10) pc := rfl
  have e1 : nI (0 + 1) - 1 = nI 0 := nI_pred 0
  have ig : vp_in (nI 0) 9 := vp_in_nI hg (by decide)
  have cg : (nI 0).toNatClampNeg = 0 := nI_clamp (by omega)
  have ip : vp_in (nI pc) 360 := vp_in_nI (by omega) (by decide)
  have cp : (nI pc).toNatClampNeg = pc := nI_clamp (by omega)
  have et : upd ta 0 (vp_nar .short ((nI pc + 1).toInt16.toInt32)) = upd ta 0 (nI (pc + 1)) := by rw [nI_1, uw_vss (uw_sn (by omega))]
  intro post K
  unfold wpX_step uw_XR
  dsimp only
  rw [e1]
  refine ⟨ig, nm_r (e' := nI pc) (by rw [cg]; exact hta) ⟨ip, nm_r (e' := nI 8) (by rw [cp]; exact hc) ⟨ip, nm_r (e' := (A 10) pc) (by rw [cp]) ⟨ip, nm_r (e' := (A 11) pc) (by rw [cp]) ⟨ig, nm_r (e' := upd ta 0 (nI (pc + 1))) (by rw [cg]; exact et) ?_⟩⟩⟩⟩⟩
  refine br_f (by decide) (br_t (by decide) (br_f (by decide) (br_f (by decide) (br_t rfl (nm_r (e' := nI 0) rfl (br_t rfl ?_))))))
  exact K
theorem uw_x8b {a : Nat} (hg : g < 9) (hga : g = a + 1) (hta : ta g = nI pc) (hpc : pc < 360) (hc : (A 9) pc = nI 8) : uw_SX (uw_XR C A (nI (g + 1)) fl s tv sc mc oc va ta ex th bg sh) (uw_XR C A (nI g) fl s tv sc mc oc va (upd ta g (nI (pc + 1))) ex th bg sh) := by
  have hx : (A 10) pc = (A 10) pc := rfl
  have e1 : nI (g + 1) - 1 = nI g := nI_pred g
  have ig : vp_in (nI g) 9 := vp_in_nI hg (by decide)
  have cg : (nI g).toNatClampNeg = g := nI_clamp (by omega)
  have ip : vp_in (nI pc) 360 := vp_in_nI (by omega) (by decide)
  have cp : (nI pc).toNatClampNeg = pc := nI_clamp (by omega)
  have et : upd ta g (vp_nar .short ((nI pc + 1).toInt16.toInt32)) = upd ta g (nI (pc + 1)) := by rw [nI_1, uw_vss (uw_sn (by omega))]
  intro post K
  unfold wpX_step uw_XR
  dsimp only
  rw [e1]
  refine ⟨ig, nm_r (e' := nI pc) (by rw [cg]; exact hta) ⟨ip, nm_r (e' := nI 8) (by rw [cp]; exact hc) ⟨ip, nm_r (e' := (A 10) pc) (by rw [cp]) ⟨ip, nm_r (e' := (A 11) pc) (by rw [cp]) ⟨ig, nm_r (e' := upd ta g (nI (pc + 1))) (by rw [cg]; exact et) ?_⟩⟩⟩⟩⟩
  refine br_f (by decide) (br_t (by decide) (br_f (by decide) (br_f (by decide) (br_t rfl (nm_r (e' := nI g) rfl (br_f (nI_ne0 (by omega) (by omega)) ?_))))))
  exact K
theorem uw_x9 {l q : Nat} (hg : g < 9) (hta : ta g = nI pc) (hpc : pc < 360) (hc : (A 9) pc = nI 9) (hx : (A 10) pc = nI l) (hl : l < 128) (hq : q < 32768) (hL : (A 13) l = nI q) : uw_SX (uw_XR C A (nI (g + 1)) fl s tv sc mc oc va ta ex th bg sh) (uw_XR C A (nI (g + 1)) fl s tv sc mc oc va (upd ta g (nI q)) ex th bg sh) := by
  have e1 : nI (g + 1) - 1 = nI g := nI_pred g
  have ig : vp_in (nI g) 9 := vp_in_nI hg (by decide)
  have cg : (nI g).toNatClampNeg = g := nI_clamp (by omega)
  have ip : vp_in (nI pc) 360 := vp_in_nI (by omega) (by decide)
  have cp : (nI pc).toNatClampNeg = pc := nI_clamp (by omega)
  have et : upd ta g (vp_nar .short ((nI pc + 1).toInt16.toInt32)) = upd ta g (nI (pc + 1)) := by rw [nI_1, uw_vss (uw_sn (by omega))]
  intro post K
  unfold wpX_step uw_XR
  dsimp only
  rw [e1]
  refine ⟨ig, nm_r (e' := nI pc) (by rw [cg]; exact hta) ⟨ip, nm_r (e' := nI 9) (by rw [cp]; exact hc) ⟨ip, nm_r (e' := nI l) (by rw [cp]; exact hx) ⟨ip, nm_r (e' := (A 11) pc) (by rw [cp]) ⟨ig, nm_r (e' := upd ta g (nI (pc + 1))) (by rw [cg]; exact et) ?_⟩⟩⟩⟩⟩
  refine br_f (by decide) (br_t (by decide) (br_f (by decide) (br_f (by decide) (br_f (by decide) (br_t rfl ?_)))))
  refine uw_xjump (C := C) (A := A) (ta := upd ta g (nI (pc + 1))) hg hl hq hL ?_
  rw [uw_uu]
  exact K
theorem uw_x10a {r l q : Nat} (hg : g < 9) (hta : ta g = nI pc) (hpc : pc < 360) (hc : (A 9) pc = nI 10) (hx : (A 10) pc = nI r) (hy : (A 11) pc = nI l) (hr : r < 4) (hz : va r = 0) (hl : l < 128) (hq : q < 32768) (hL : (A 13) l = nI q) : uw_SX (uw_XR C A (nI (g + 1)) fl s tv sc mc oc va ta ex th bg sh) (uw_XR C A (nI (g + 1)) fl s tv sc mc oc va (upd ta g (nI q)) ex th bg sh) := by
  have e1 : nI (g + 1) - 1 = nI g := nI_pred g
  have ig : vp_in (nI g) 9 := vp_in_nI hg (by decide)
  have cg : (nI g).toNatClampNeg = g := nI_clamp (by omega)
  have ip : vp_in (nI pc) 360 := vp_in_nI (by omega) (by decide)
  have cp : (nI pc).toNatClampNeg = pc := nI_clamp (by omega)
  have et : upd ta g (vp_nar .short ((nI pc + 1).toInt16.toInt32)) = upd ta g (nI (pc + 1)) := by rw [nI_1, uw_vss (uw_sn (by omega))]
  intro post K
  unfold wpX_step uw_XR
  dsimp only
  rw [e1]
  refine ⟨ig, nm_r (e' := nI pc) (by rw [cg]; exact hta) ⟨ip, nm_r (e' := nI 10) (by rw [cp]; exact hc) ⟨ip, nm_r (e' := nI r) (by rw [cp]; exact hx) ⟨ip, nm_r (e' := nI l) (by rw [cp]; exact hy) ⟨ig, nm_r (e' := upd ta g (nI (pc + 1))) (by rw [cg]; exact et) ?_⟩⟩⟩⟩⟩
  refine br_f (by decide) (br_t (by decide) (br_f (by decide) (br_f (by decide) (br_f (by decide) (br_f (by decide) (br_t rfl ⟨vp_in_nI hr (by decide), br_t (by rw [nI_clamp (by omega)]; exact hz) ?_⟩))))))
  refine uw_xjump (C := C) (A := A) (ta := upd ta g (nI (pc + 1))) hg hl hq hL ?_
  rw [uw_uu]
  exact K
theorem uw_x10b {r : Nat} (hg : g < 9) (hta : ta g = nI pc) (hpc : pc < 360) (hc : (A 9) pc = nI 10) (hx : (A 10) pc = nI r) (hr : r < 4) (hz : ¬ va r = 0) : uw_SX (uw_XR C A (nI (g + 1)) fl s tv sc mc oc va ta ex th bg sh) (uw_XR C A (nI (g + 1)) fl s tv sc mc oc va (upd ta g (nI (pc + 1))) ex th bg sh) := by
  have e1 : nI (g + 1) - 1 = nI g := nI_pred g
  have ig : vp_in (nI g) 9 := vp_in_nI hg (by decide)
  have cg : (nI g).toNatClampNeg = g := nI_clamp (by omega)
  have ip : vp_in (nI pc) 360 := vp_in_nI (by omega) (by decide)
  have cp : (nI pc).toNatClampNeg = pc := nI_clamp (by omega)
  have et : upd ta g (vp_nar .short ((nI pc + 1).toInt16.toInt32)) = upd ta g (nI (pc + 1)) := by rw [nI_1, uw_vss (uw_sn (by omega))]
  intro post K
  unfold wpX_step uw_XR
  dsimp only
  rw [e1]
  refine ⟨ig, nm_r (e' := nI pc) (by rw [cg]; exact hta) ⟨ip, nm_r (e' := nI 10) (by rw [cp]; exact hc) ⟨ip, nm_r (e' := nI r) (by rw [cp]; exact hx) ⟨ip, nm_r (e' := (A 11) pc) (by rw [cp]) ⟨ig, nm_r (e' := upd ta g (nI (pc + 1))) (by rw [cg]; exact et) ?_⟩⟩⟩⟩⟩
  refine br_f (by decide) (br_t (by decide) (br_f (by decide) (br_f (by decide) (br_f (by decide) (br_f (by decide) (br_t rfl ⟨vp_in_nI hr (by decide), br_f (by rw [nI_clamp (by omega)]; exact hz) ?_⟩))))))
  exact K
theorem uw_x11 {r : Nat} (hg : g < 9) (hta : ta g = nI pc) (hpc : pc < 360) (hc : (A 9) pc = nI 11) (hx : (A 10) pc = nI r) (hr : r < 4) : uw_SX (uw_XR C A (nI (g + 1)) fl s tv sc mc oc va ta ex th bg sh) (uw_XR C A (nI (g + 1)) fl s tv sc mc oc (upd va r fl) (upd ta g (nI (pc + 1))) ex th bg sh) := by
  have e1 : nI (g + 1) - 1 = nI g := nI_pred g
  have ig : vp_in (nI g) 9 := vp_in_nI hg (by decide)
  have cg : (nI g).toNatClampNeg = g := nI_clamp (by omega)
  have ip : vp_in (nI pc) 360 := vp_in_nI (by omega) (by decide)
  have cp : (nI pc).toNatClampNeg = pc := nI_clamp (by omega)
  have et : upd ta g (vp_nar .short ((nI pc + 1).toInt16.toInt32)) = upd ta g (nI (pc + 1)) := by rw [nI_1, uw_vss (uw_sn (by omega))]
  intro post K
  unfold wpX_step uw_XR
  dsimp only
  rw [e1]
  refine ⟨ig, nm_r (e' := nI pc) (by rw [cg]; exact hta) ⟨ip, nm_r (e' := nI 11) (by rw [cp]; exact hc) ⟨ip, nm_r (e' := nI r) (by rw [cp]; exact hx) ⟨ip, nm_r (e' := (A 11) pc) (by rw [cp]) ⟨ig, nm_r (e' := upd ta g (nI (pc + 1))) (by rw [cg]; exact et) ?_⟩⟩⟩⟩⟩
  refine br_f (by decide) (br_t (by decide) (br_f (by decide) (br_f (by decide) (br_f (by decide) (br_f (by decide) (br_f (by decide) (br_t rfl ⟨vp_in_nI hr (by decide), nm_r (e' := upd va r fl) (by rw [nI_clamp (by omega)]) ?_⟩)))))))
  exact K
theorem uw_x12 {p k bl q x : Nat} (hg : g < 9) (hta : ta g = nI pc) (hpc : pc < 360) (hc : (A 9) pc = nI 12) (hx : (A 10) pc = nI (10 * p + k)) (hy : (A 11) pc = nI x) (hp : p < 3) (hk : k < 10) (hx' : x < 200) (hb : (A 14) (10 * p + k) = nI bl) (hl : bl < 128) (hq : q < 32768) (hL : (A 13) bl = nI q) : uw_SX (uw_XR C A (nI (g + 1)) fl s tv sc mc oc va ta ex th bg sh) (uw_XR C A (nI (g + 1)) fl s tv sc mc oc va (upd ta g (nI q)) (upd ex (10 * g + k) (nI x)) th bg sh) := by
  have e1 : nI (g + 1) - 1 = nI g := nI_pred g
  have ig : vp_in (nI g) 9 := vp_in_nI hg (by decide)
  have cg : (nI g).toNatClampNeg = g := nI_clamp (by omega)
  have ip : vp_in (nI pc) 360 := vp_in_nI (by omega) (by decide)
  have cp : (nI pc).toNatClampNeg = pc := nI_clamp (by omega)
  have et : upd ta g (vp_nar .short ((nI pc + 1).toInt16.toInt32)) = upd ta g (nI (pc + 1)) := by rw [nI_1, uw_vss (uw_sn (by omega))]
  intro post K
  unfold wpX_step uw_XR
  dsimp only
  rw [e1]
  refine ⟨ig, nm_r (e' := nI pc) (by rw [cg]; exact hta) ⟨ip, nm_r (e' := nI 12) (by rw [cp]; exact hc) ⟨ip, nm_r (e' := nI (10 * p + k)) (by rw [cp]; exact hx) ⟨ip, nm_r (e' := nI x) (by rw [cp]; exact hy) ⟨ig, nm_r (e' := upd ta g (nI (pc + 1))) (by rw [cg]; exact et) ?_⟩⟩⟩⟩⟩
  refine br_f (by decide) (br_t (by decide) (br_f (by decide) (br_f (by decide) (br_f (by decide) (br_f (by decide) (br_f (by decide) (br_f (by decide) (br_t rfl ?_))))))))
  refine uw_xback (C := C) (A := A) (ta := upd ta g (nI (pc + 1))) hg hp hk (uw_sn (by omega)) hb hl hq hL ?_
  rw [uw_uu]
  exact K
theorem uw_x13a {p k x l q : Nat} (hg : g < 9) (hta : ta g = nI pc) (hpc : pc < 360) (hc : (A 9) pc = nI 13) (hx : (A 10) pc = nI (10 * p + k)) (hp : p < 3) (hk : k < 10) (hs : ex (10 * g + k) = nI x) (hx' : x < 200) (h1 : (A 15) x = -1) (h2 : (A 17) x = nI l) (hl : l < 128) (hq : q < 32768) (hL : (A 13) l = nI q) : uw_SX (uw_XR C A (nI (g + 1)) fl s tv sc mc oc va ta ex th bg sh) (uw_XR C A (nI (g + 1)) fl s tv sc mc oc va (upd ta g (nI q)) ex th bg sh) := by
  have e1 : nI (g + 1) - 1 = nI g := nI_pred g
  have ig : vp_in (nI g) 9 := vp_in_nI hg (by decide)
  have cg : (nI g).toNatClampNeg = g := nI_clamp (by omega)
  have ip : vp_in (nI pc) 360 := vp_in_nI (by omega) (by decide)
  have cp : (nI pc).toNatClampNeg = pc := nI_clamp (by omega)
  have et : upd ta g (vp_nar .short ((nI pc + 1).toInt16.toInt32)) = upd ta g (nI (pc + 1)) := by rw [nI_1, uw_vss (uw_sn (by omega))]
  intro post K
  unfold wpX_step uw_XR
  dsimp only
  rw [e1]
  refine ⟨ig, nm_r (e' := nI pc) (by rw [cg]; exact hta) ⟨ip, nm_r (e' := nI 13) (by rw [cp]; exact hc) ⟨ip, nm_r (e' := nI (10 * p + k)) (by rw [cp]; exact hx) ⟨ip, nm_r (e' := (A 11) pc) (by rw [cp]) ⟨ig, nm_r (e' := upd ta g (nI (pc + 1))) (by rw [cg]; exact et) ?_⟩⟩⟩⟩⟩
  refine br_f (by decide) (br_t (by decide) (br_f (by decide) (br_f (by decide) (br_f (by decide) (br_f (by decide) (br_f (by decide) (br_f (by decide) (br_f (by decide) ?_))))))))
  unfold wpX_takeExit wpX_slot
  dsimp only
  rw [e1, uw_slot (g := g) hp hk hg]
  have cs : (nI (10 * g + k)).toNatClampNeg = 10 * g + k := nI_clamp (by omega)
  refine ⟨by decide, vp_in_nI (by omega) (by decide), nm_r (e' := nI x) (by rw [cs]; exact hs) (br_t (nI_pos' (by omega)) ⟨vp_in_nI hx' (by decide), br_t (by rw [nI_clamp (by omega), h1]; decide) ⟨vp_in_nI hx' (by decide), ?_⟩⟩)⟩
  rw [nI_clamp (by omega), h2]
  refine uw_xjump (C := C) (A := A) (ta := upd ta g (nI (pc + 1))) hg hl hq hL ?_
  rw [uw_uu]
  exact K
theorem uw_x13b {p k x k' x' bl q : Nat} (hg : g < 9) (hta : ta g = nI pc) (hpc : pc < 360) (hc : (A 9) pc = nI 13) (hx : (A 10) pc = nI (10 * p + k)) (hp : p < 3) (hk : k < 10) (hs : ex (10 * g + k) = nI x) (hx' : x < 200) (h1 : (A 15) x = nI (10 * p + k')) (hk' : k' < 10) (h2 : (A 16) x = nI x') (hx2 : x' < 200) (hb : (A 14) (10 * p + k') = nI bl) (hl : bl < 128) (hq : q < 32768) (hL : (A 13) bl = nI q) : uw_SX (uw_XR C A (nI (g + 1)) fl s tv sc mc oc va ta ex th bg sh) (uw_XR C A (nI (g + 1)) fl s tv sc mc oc va (upd ta g (nI q)) (upd ex (10 * g + k') (nI x')) th bg sh) := by
  have e1 : nI (g + 1) - 1 = nI g := nI_pred g
  have ig : vp_in (nI g) 9 := vp_in_nI hg (by decide)
  have cg : (nI g).toNatClampNeg = g := nI_clamp (by omega)
  have ip : vp_in (nI pc) 360 := vp_in_nI (by omega) (by decide)
  have cp : (nI pc).toNatClampNeg = pc := nI_clamp (by omega)
  have et : upd ta g (vp_nar .short ((nI pc + 1).toInt16.toInt32)) = upd ta g (nI (pc + 1)) := by rw [nI_1, uw_vss (uw_sn (by omega))]
  intro post K
  unfold wpX_step uw_XR
  dsimp only
  rw [e1]
  refine ⟨ig, nm_r (e' := nI pc) (by rw [cg]; exact hta) ⟨ip, nm_r (e' := nI 13) (by rw [cp]; exact hc) ⟨ip, nm_r (e' := nI (10 * p + k)) (by rw [cp]; exact hx) ⟨ip, nm_r (e' := (A 11) pc) (by rw [cp]) ⟨ig, nm_r (e' := upd ta g (nI (pc + 1))) (by rw [cg]; exact et) ?_⟩⟩⟩⟩⟩
  refine br_f (by decide) (br_t (by decide) (br_f (by decide) (br_f (by decide) (br_f (by decide) (br_f (by decide) (br_f (by decide) (br_f (by decide) (br_f (by decide) ?_))))))))
  unfold wpX_takeExit wpX_slot
  dsimp only
  rw [e1, uw_slot (g := g) hp hk hg]
  have cs : (nI (10 * g + k)).toNatClampNeg = 10 * g + k := nI_clamp (by omega)
  refine ⟨by decide, vp_in_nI (by omega) (by decide), nm_r (e' := nI x) (by rw [cs]; exact hs) (br_t (nI_pos' (by omega)) ⟨vp_in_nI hx' (by decide), br_f (by rw [nI_clamp (by omega), h1]; exact nI_pos (by omega)) ⟨vp_in_nI hx' (by decide), vp_in_nI hx' (by decide), ?_⟩⟩)⟩
  rw [nI_clamp (by omega), h1, h2]
  refine uw_xback (C := C) (A := A) (ta := upd ta g (nI (pc + 1))) hg hp hk' (uw_sn (by omega)) hb hl hq hL ?_
  rw [uw_uu]
  exact K
theorem uw_x13c {p k : Nat} (hg : g < 9) (hta : ta g = nI pc) (hpc : pc < 360) (hc : (A 9) pc = nI 13) (hx : (A 10) pc = nI (10 * p + k)) (hp : p < 3) (hk : k < 10) (hs : ex (10 * g + k) = -1) : uw_PR (uw_XR C A (nI (g + 1)) fl s tv sc mc oc va ta ex th bg sh) C A (th (10 * g + k)) fl s tv sc mc oc va (upd ta g (nI (pc + 1))) ex th bg sh 0 (g + 1) := by
  have e1 : nI (g + 1) - 1 = nI g := nI_pred g
  have ig : vp_in (nI g) 9 := vp_in_nI hg (by decide)
  have cg : (nI g).toNatClampNeg = g := nI_clamp (by omega)
  have ip : vp_in (nI pc) 360 := vp_in_nI (by omega) (by decide)
  have cp : (nI pc).toNatClampNeg = pc := nI_clamp (by omega)
  have et : upd ta g (vp_nar .short ((nI pc + 1).toInt16.toInt32)) = upd ta g (nI (pc + 1)) := by rw [nI_1, uw_vss (uw_sn (by omega))]
  intro post n K
  unfold wpX_step uw_XR
  dsimp only
  rw [e1]
  refine ⟨ig, nm_r (e' := nI pc) (by rw [cg]; exact hta) ⟨ip, nm_r (e' := nI 13) (by rw [cp]; exact hc) ⟨ip, nm_r (e' := nI (10 * p + k)) (by rw [cp]; exact hx) ⟨ip, nm_r (e' := (A 11) pc) (by rw [cp]) ⟨ig, nm_r (e' := upd ta g (nI (pc + 1))) (by rw [cg]; exact et) ?_⟩⟩⟩⟩⟩
  refine br_f (by decide) (br_t (by decide) (br_f (by decide) (br_f (by decide) (br_f (by decide) (br_f (by decide) (br_f (by decide) (br_f (by decide) (br_f (by decide) ?_))))))))
  unfold wpX_takeExit wpX_slot
  dsimp only
  rw [e1, uw_slot (g := g) hp hk hg]
  have cs : (nI (10 * g + k)).toNatClampNeg = 10 * g + k := nI_clamp (by omega)
  refine ⟨by decide, vp_in_nI (by omega) (by decide), nm_r (e' := -1) (by rw [cs]; exact hs) (br_f (by decide) ⟨vp_in_nI (by omega) (by decide), ?_⟩)⟩
  rw [cs]
  unfold wpX_raise
  exact ⟨n, K⟩
end
end
section
/-! the table of ranges; a raise -/
def uw_IN (A : Nat → Nat → Int32) (i pc : Nat) : Prop := ∃ x y, (A 18) i = nI x ∧ (A 19) i = nI y ∧ x < 360 ∧ y < 360 ∧ x ≤ pc ∧ pc < y
def uw_NI (A : Nat → Nat → Int32) (i pc : Nat) : Prop := ∃ x y, (A 18) i = nI x ∧ (A 19) i = nI y ∧ x < 360 ∧ y < 360 ∧ ¬ (x ≤ pc ∧ pc < y)
/-- h is the first range that has pc; h = rg: none has -/
def uw_FR (A : Nat → Nat → Int32) (rg pc h : Nat) : Prop := h ≤ rg ∧ (∀ i, i < h → uw_NI A i pc) ∧ (h < rg → uw_IN A h pc)
section
variable {C : Nat → Int32} {A : Nat → Nat → Int32} {fl s tv sc mc oc v f : Int32} {va ta ex th bg sh : Nat → Int32} {g pc rg h i : Nat}
theorem uw_rof {post : Int32 → Prop} (hr : (C 7) = nI rg) (hrg : rg ≤ 30) (hpc : pc < 1000) (fr : uw_FR A rg pc h) (K : post (if h < rg then nI h else -1)) : wpX_rangeOf post (uw_XR C A f fl s tv sc mc oc va ta ex th bg sh) (nI pc) := by
  obtain ⟨f1, f2, f3⟩ := fr
  have key : ∀ d i, i + d = h → wX_rangeOf_2 post (nI pc) (C 0) (C 1) (C 2) (C 3) (C 4) (C 5) (C 6) (C 7) (C 8) (C 9) (C 10) (C 11) (f) (fl) (s) (tv) (sc) (mc) (oc) (A 0) (A 1) (A 2) (A 3) (A 4) (A 5) (A 6) (A 7) (A 8) (A 9) (A 10) (A 11) (A 12) (A 13) (A 14) (A 15) (A 16) (A 17) (A 18) (A 19) (A 20) (A 21) (A 22) (A 23) (A 24) (A 25) (A 26) (A 27) (A 28) (A 29) (A 30) (A 31) (va) (ta) (ex) (th) (bg) (sh) (d + 1) (nI i) := by
    intro d
    induction d with
    | zero =>
      intro i hi
      have : i = h := by omega
      subst this
      by_cases z : i < rg
      · rw [if_pos z] at K
        obtain ⟨x, y, a1, a2, a3, a4, a5, a6⟩ := f3 z
        have ii : vp_in (nI i) 30 := vp_in_nI (by omega) (by decide)
        have ci : (nI i).toNatClampNeg = i := nI_clamp (by omega)
        exact br_f (by rw [hr]; exact nI_ge z (by omega)) ⟨ii, br_f (by rw [ci, a1]; exact nI_nlt a5 (by omega)) ⟨ii, br_f (by rw [ci, a2]; exact nI_ge a6 (by omega)) K⟩⟩
      · rw [if_neg z] at K
        exact br_t (by rw [hr]; exact nI_le (by omega) (by omega)) K
    | succ d ih =>
      intro i hi
      obtain ⟨x, y, a1, a2, a3, a4, a5⟩ := f2 i (by omega)
      have ii : vp_in (nI i) 30 := vp_in_nI (by omega) (by decide)
      have ci : (nI i).toNatClampNeg = i := nI_clamp (by omega)
      have K1 := ih (i + 1) (by omega)
      refine br_f (by rw [hr]; exact nI_ge (by omega) (by omega)) ⟨ii, ?_⟩
      rw [ci, a1]
      refine pk_lt pc x (fun z => nm_r (e' := nI (i + 1)) (nI_1 i) K1) (fun z => ⟨ii, ?_⟩)
      rw [a2]
      exact pk_le y pc (fun z' => nm_r (e' := nI (i + 1)) (nI_1 i) K1) (fun z' => absurd ⟨z, z'⟩ a5)
  unfold wpX_rangeOf uw_XR
  exact ⟨h + 1, key h 0 (by omega)⟩
theorem uw_rz2 {post : SX → Prop} {n : Nat} (hr : (C 7) = nI rg) (hrg : rg ≤ 30) (hg : g < 9) (hi : i < 9) (hta : ta g = nI (pc + 1)) (hpc : pc < 400) (fr : uw_FR A rg pc rg) (K : uw_RZ post C A v fl s tv sc mc oc va ta ex th bg sh n (-1) (nI (i + 1)) (nI g)) :
    uw_RZ post C A v fl s tv sc mc oc va ta ex th bg sh (n + 1) (-1) (nI i) (nI (g + 1)) := by
  have e1 : nI (g + 1) - 1 = nI g := nI_pred g
  have cg : (nI g).toNatClampNeg = g := nI_clamp (by omega)
  have e2 : ta g - 1 = nI pc := by rw [hta]; exact nI_pred pc
  refine br_f (nI_ge (b := 9) hi (by decide)) (br_f (by decide) (br_f (nI_nle (by omega) (by omega)) ?_))
  rw [e1, cg, e2]
  refine ⟨vp_in_nI hg (by decide), uw_rof (C := C) (A := A) hr hrg (by omega) fr ?_⟩
  rw [if_neg (by omega)]
  exact br_f (by decide) (nm_r (e' := nI g) rfl (nm_r (e' := nI (i + 1)) (nI_1 i) K))
theorem uw_rz1 {post : SX → Prop} {n : Nat} (hr : (C 7) = nI rg) (hrg : rg ≤ 30) (hg : g < 9) (hi : i < 9) (hta : ta g = nI (pc + 1)) (hpc : pc < 400) (fr : uw_FR A rg pc h) (hh : h < rg)
    (K : wX_raise_66 post v (nI h) (C 0) (C 1) (C 2) (C 3) (C 4) (C 5) (C 6) (C 7) (C 8) (C 9) (C 10) (C 11) (nI (g + 1)) (fl) (s) (tv) (sc) (mc) (oc) (A 0) (A 1) (A 2) (A 3) (A 4) (A 5) (A 6) (A 7) (A 8) (A 9) (A 10) (A 11) (A 12) (A 13) (A 14) (A 15) (A 16) (A 17) (A 18) (A 19) (A 20) (A 21) (A 22) (A 23) (A 24) (A 25) (A 26) (A 27) (A 28) (A 29) (A 30) (A 31) (va) (ta) (ex) (th) (bg) (sh)) :
    uw_RZ post C A v fl s tv sc mc oc va ta ex th bg sh (n + 2) (-1) (nI i) (nI (g + 1)) := by
  have e1 : nI (g + 1) - 1 = nI g := nI_pred g
  have cg : (nI g).toNatClampNeg = g := nI_clamp (by omega)
  have e2 : ta g - 1 = nI pc := by rw [hta]; exact nI_pred pc
  refine br_f (nI_ge (b := 9) hi (by decide)) (br_f (by decide) (br_f (nI_nle (by omega) (by omega)) ?_))
  rw [e1, cg, e2]
  refine ⟨vp_in_nI hg (by decide), uw_rof (C := C) (A := A) hr hrg (by omega) fr ?_⟩
  rw [if_pos hh]
  refine br_t (nI_pos' (by omega)) (nm_r (e' := nI (i + 1)) (nI_1 i) ?_)
  exact br_c (fun _ => K) (fun _ => br_t (nI_pos' (by omega)) K)
variable {u : SX}
/-- none in this frame -/
theorem uw_pr_n (hr : (C 7) = nI rg) (hrg : rg ≤ 30) (hg : g < 9) (hi : i < 9) (hta : ta g = nI (pc + 1)) (hpc : pc < 400) (fr : uw_FR A rg pc rg) (P : uw_PR u C A v fl s tv sc mc oc va ta ex th bg sh i (g + 1)) : uw_PR u C A v fl s tv sc mc oc va ta ex th bg sh (i + 1) g :=
  fun post n K => P post (n + 1) (uw_rz2 hr hrg hg hi hta hpc fr K)
/-- no frame is left -/
theorem uw_pr_0 (P : uw_PR u C A v fl s tv sc mc oc va ta ex th bg sh i 0) : uw_SX u (uw_XR C A (nI 0) fl 1 v sc mc oc va ta ex th bg sh) := by
  intro post K
  have K1 : wX_raise_66 post v (-1) (C 0) (C 1) (C 2) (C 3) (C 4) (C 5) (C 6) (C 7) (C 8) (C 9) (C 10) (C 11) (nI 0) (fl) (s) (tv) (sc) (mc) (oc) (A 0) (A 1) (A 2) (A 3) (A 4) (A 5) (A 6) (A 7) (A 8) (A 9) (A 10) (A 11) (A 12) (A 13) (A 14) (A 15) (A 16) (A 17) (A 18) (A 19) (A 20) (A 21) (A 22) (A 23) (A 24) (A 25) (A 26) (A 27) (A 28) (A 29) (A 30) (A 31) (va) (ta) (ex) (th) (bg) (sh) := br_f (by decide) K
  exact P post 1 (br_c (fun _ => K1) (fun _ => br_f (by decide) (br_t (by decide) K1)))
/-- a catch -/
theorem uw_pr_c {l q : Nat} (hr : (C 7) = nI rg) (hrg : rg ≤ 30) (hg : g < 9) (hi : i < 9) (hta : ta g = nI (pc + 1)) (hpc : pc < 400) (fr : uw_FR A rg pc h) (hh : h < rg) (h1 : (A 21) h = -1) (h2 : (A 20) h = nI l) (hl : l < 128) (hq : q < 32768) (hL : (A 13) l = nI q)
    (P : uw_PR u C A v fl s tv sc mc oc va ta ex th bg sh i (g + 1)) : uw_SX u (uw_XR C A (nI (g + 1)) v s tv sc mc oc va (upd ta g (nI q)) ex th bg sh) := by
  intro post K
  refine P post 2 (uw_rz1 (n := 0) hr hrg hg hi hta hpc fr hh ?_)
  have ih : vp_in (nI h) 30 := vp_in_nI (by omega) (by decide)
  have ch : (nI h).toNatClampNeg = h := nI_clamp (by omega)
  unfold wX_raise_66
  refine br_t (nI_pos' (by omega)) ⟨ih, nm_r (e' := -1) (by rw [ch]; exact h1) (br_f (by decide) ⟨ih, ?_⟩)⟩
  rw [ch, h2]
  exact uw_xjump (C := C) (A := A) (fl := v) (ta := ta) hg hl hq hL K
/-- a lastly -/
theorem uw_pr_l {p k bl q : Nat} (hr : (C 7) = nI rg) (hrg : rg ≤ 30) (hg : g < 9) (hi : i < 9) (hta : ta g = nI (pc + 1)) (hpc : pc < 400) (fr : uw_FR A rg pc h) (hh : h < rg) (hp : p < 3) (hk : k < 10) (h1 : (A 21) h = nI (10 * p + k)) (hb : (A 14) (10 * p + k) = nI bl) (hl : bl < 128) (hq : q < 32768) (hL : (A 13) bl = nI q)
    (P : uw_PR u C A v fl s tv sc mc oc va ta ex th bg sh i (g + 1)) : uw_SX u (uw_XR C A (nI (g + 1)) fl s tv sc mc oc va (upd ta g (nI q)) (upd ex (10 * g + k) (-1)) (upd th (10 * g + k) v) bg sh) := by
  intro post K
  refine P post 2 (uw_rz1 (n := 0) hr hrg hg hi hta hpc fr hh ?_)
  have ih : vp_in (nI h) 30 := vp_in_nI (by omega) (by decide)
  have ch : (nI h).toNatClampNeg = h := nI_clamp (by omega)
  have e1 : nI (g + 1) - 1 = nI g := nI_pred g
  have es := uw_slot (g := g) hp hk hg
  unfold wX_raise_66
  refine br_t (nI_pos' (by omega)) ⟨ih, nm_r (e' := nI (10 * p + k)) (by rw [ch]; exact h1) (br_t (nI_pos' (by omega)) ?_)⟩
  unfold wpX_slot
  dsimp only
  rw [e1, es]
  refine ⟨by decide, vp_in_nI (by omega) (by decide), nm_r (e' := upd th (10 * g + k) v) (by rw [nI_clamp (by omega)]) ?_⟩
  exact uw_xback (C := C) (A := A) (ta := ta) (ex := ex) (th := upd th (10 * g + k) v) (x := -1) hg hp hk uw_sm hb hl hq hL K
end
end
section
/-! the reference's machine (printed by gen24.py) -/
def uw_YR (D : Nat → Int32) (B : Nat → Nat → Int32) (o nx wy wo ca en tv sc oc de : Int32) (on op ow ov va bg sh : Nat → Int32) : SY := ((D 0), (o), (nx), (wy), (wo), (ca), (en), (tv), (sc), (oc), (de), (B 0), (B 1), (B 2), (B 3), (B 4), (B 5), (B 6), (B 7), (B 8), (on), (op), (ow), (ov), (va), (bg), (sh))
def uw_SB (v v' : SY) : Prop := ∀ post : SY → Prop, post v' → wpY_begin post v
def uw_SP (v v' : SY) : Prop := ∀ post : SY → Prop, post v' → wpY_passUp post v
section
variable {D : Nat → Int32} {B : Nat → Nat → Int32} {nx wy wo ca en tv sc oc de : Int32} {on op ow ov va bg sh : Nat → Int32} {m t p s n b : Nat}
theorem uw_ypush {post : SY → Prop} {pt : Int32} (hm : m < 320) (K : post (uw_YR D B (nI (m + 1)) nx wy wo ca en tv sc oc de (upd on m (nI t)) (upd op m (pt)) (upd ow m (wy)) (upd ov m (wo)) va bg sh)) : wpY_push post (uw_YR D B (nI m) nx wy wo ca en tv sc oc de on op ow ov va bg sh) (nI t) pt := by
  have i3 : vp_in (nI m) 320 := vp_in_nI hm (by decide)
  have c3 : (nI m).toNatClampNeg = m := nI_clamp (by omega)
  unfold wpY_push uw_YR
  exact ⟨i3, nm_r (e' := upd on m (nI t)) (by rw [c3]) ⟨i3, nm_r (e' := upd op m pt) (by rw [c3]) ⟨i3, nm_r (e' := upd ow m wy) (by rw [c3]) ⟨i3, nm_r (e' := upd ov m wo) (by rw [c3]) (nm_r (e' := nI (m + 1)) (nI_1 m) K)⟩⟩⟩⟩
theorem uw_ygo {post : SY → Prop} {o : Int32} {q : Nat} (hp : p < 3) (hs : s < 20) (K : post (uw_YR D B o (nI (20 * p + q)) wy wo ca en tv sc oc de on op ow ov va bg sh)) : wpY_go post (uw_YR D B o nx wy wo ca en tv sc oc de on op ow ov va bg sh) (nI (20 * p + s)) (nI q) := by
  unfold wpY_go uw_YR
  refine ⟨by decide, nm_r (e' := nI (20 * p + q)) ?_ K⟩
  have e : nI (20 * p + s) / 20 = nI ((20 * p + s) / 20) := pk_div (d := 20) (by omega) (by omega) (by omega)
  rw [e, show (20 * p + s) / 20 = p by omega, show nI p * (20 : Int32) = nI (p * 20) from pk_mul p 20, nI_add, Nat.mul_comm]
theorem uw_ylook0 {post : SY → Prop} {o : Int32} {r : Nat} (ht : t < 80) (hr : (B 1) t = nI r) (hr' : r < 4) (hz : va r = 0) (K : post (uw_YR D B o nx (0) (0) ca en tv sc oc de on op ow ov va bg sh)) : wpY_look post (uw_YR D B o nx wy wo ca en tv sc oc de on op ow ov va bg sh) (nI t) := by
  have i8 : vp_in (nI t) 80 := vp_in_nI ht (by decide)
  have c8 : (nI t).toNatClampNeg = t := nI_clamp (by omega)
  unfold wpY_look uw_YR wpY_endAs
  dsimp only
  rw [c8, hr]
  exact ⟨i8, vp_in_nI hr' (by decide), br_t (by rw [nI_clamp (by omega)]; exact hz) K⟩
theorem uw_ylook1 {post : SY → Prop} {r q : Nat} (hp : p < 3) (hs : s < 20) (hm : m < 320) (hr : (B 1) (20 * p + s) = nI r) (hr' : r < 4) (hz : ¬ va r = 0) (hq : (B 3) (20 * p + s) = nI q) (K : post (uw_YR D B (nI (m + 1)) (nI (20 * p + q)) (0) (0) ca en tv sc oc de (upd on m (nI (20 * p + s))) (upd op m (nI 1)) (upd ow m (0)) (upd ov m (0)) va bg sh)) : wpY_look post (uw_YR D B (nI m) nx wy wo ca en tv sc oc de on op ow ov va bg sh) (nI (20 * p + s)) := by
  have i8 : vp_in (nI (20 * p + s)) 80 := vp_in_nI (by omega) (by decide)
  have c8 : (nI (20 * p + s)).toNatClampNeg = 20 * p + s := nI_clamp (by omega)
  have er : B 1 (nI (20 * p + s)).toNatClampNeg = nI r := by rw [c8]; exact hr
  unfold wpY_look uw_YR wpY_endAs
  refine ⟨i8, by rw [er]; exact vp_in_nI hr' (by decide), br_f (by rw [er, nI_clamp (by omega)]; exact hz) ?_⟩
  refine uw_ypush (D := D) (B := B) (t := 20 * p + s) (wy := 0) (wo := 0) hm ⟨i8, ?_⟩
  rw [c8, hq]
  exact uw_ygo (D := D) (B := B) hp hs K
theorem uw_yb_t {o : Int32} : uw_SB (uw_YR D B o nx wy wo ca en tv (nI 300) oc de on op ow ov va bg sh) (uw_YR D B o (-1) wy wo ca (2) tv (nI 300) oc de on op ow ov va bg sh) := by
  intro post K
  unfold wpY_begin uw_YR
  exact br_t rfl K
theorem uw_yb_0 {o : Int32} (hp : p < 3) (hs : s < 20) (hn : n < 300) (hb : bg (20 * p + s) = nI b) (hso : (B 0) (20 * p + s) = nI 0) : uw_SB (uw_YR D B o (nI (20 * p + s)) wy wo ca en tv (nI n) oc de on op ow ov va bg sh) (uw_YR D B o (-1) (0) (0) ca en tv (nI (n + 1)) oc de on op ow ov va (upd bg (20 * p + s) (nI (b + 1))) sh) := by
  intro post K
  have i6 : vp_in (nI (20 * p + s)) 60 := vp_in_nI (by omega) (by decide)
  have i8 : vp_in (nI (20 * p + s)) 80 := vp_in_nI (by omega) (by decide)
  have c8 : (nI (20 * p + s)).toNatClampNeg = 20 * p + s := nI_clamp (by omega)
  have n300 : ¬ nI n = (300 : Int32) := fun e => by have := (nI_eq (a := n) (b := 300) (by omega) (by omega)).mp e; omega
  unfold wpY_begin uw_YR
  refine br_f n300 (nm_r (e' := nI (n + 1)) (nI_1 n) ⟨i6, i6, nm_r (e' := upd bg (20 * p + s) (nI (b + 1))) (by rw [c8, hb, nI_1]) ⟨i8, ?_⟩⟩)
  rw [c8, hso]
  refine br_f (by decide) ⟨i8, i8, i8, ?_⟩
  unfold wpY_simply wpY_endAs
  dsimp only
  exact br_f (by decide) (br_t (by decide) (br_f (by decide) (br_f (by decide) (br_f (by decide) (br_f (by decide) (br_f (by decide) (br_f (by decide) (K))))))))
theorem uw_yb_1 {o : Int32} {r : Nat} {y : Int32} (hp : p < 3) (hs : s < 20) (hn : n < 300) (hb : bg (20 * p + s) = nI b) (hso : (B 0) (20 * p + s) = nI 1) (hr : (B 1) (20 * p + s) = nI r) (hr' : r < 4) (hy : (B 2) (20 * p + s) = y) : uw_SB (uw_YR D B o (nI (20 * p + s)) wy wo ca en tv (nI n) oc de on op ow ov va bg sh) (uw_YR D B o (-1) (0) (0) ca en tv (nI (n + 1)) oc de on op ow ov (upd va r y) (upd bg (20 * p + s) (nI (b + 1))) sh) := by
  intro post K
  have i6 : vp_in (nI (20 * p + s)) 60 := vp_in_nI (by omega) (by decide)
  have i8 : vp_in (nI (20 * p + s)) 80 := vp_in_nI (by omega) (by decide)
  have c8 : (nI (20 * p + s)).toNatClampNeg = 20 * p + s := nI_clamp (by omega)
  have n300 : ¬ nI n = (300 : Int32) := fun e => by have := (nI_eq (a := n) (b := 300) (by omega) (by omega)).mp e; omega
  unfold wpY_begin uw_YR
  refine br_f n300 (nm_r (e' := nI (n + 1)) (nI_1 n) ⟨i6, i6, nm_r (e' := upd bg (20 * p + s) (nI (b + 1))) (by rw [c8, hb, nI_1]) ⟨i8, ?_⟩⟩)
  rw [c8, hso]
  refine br_f (by decide) ⟨i8, i8, i8, ?_⟩
  rw [hr]
  unfold wpY_simply wpY_endAs
  dsimp only
  refine br_t rfl ⟨vp_in_nI hr' (by decide), nm_r (e' := upd va r y) (by rw [nI_clamp (by omega), hy]) ?_⟩
  exact br_t (by decide) (br_f (by decide) (br_f (by decide) (br_f (by decide) (br_f (by decide) (br_f (by decide) (br_f (by decide) (K)))))))
theorem uw_yb_2 {o : Int32} {r q : Nat} (hp : p < 3) (hs : s < 20) (hn : n < 300) (hb : bg (20 * p + s) = nI b) (hso : (B 0) (20 * p + s) = nI 2) (hr : (B 1) (20 * p + s) = nI r) (hr' : r < 4) (hnu : (B 2) (20 * p + s) = nI q) (hq : q < 4) : uw_SB (uw_YR D B o (nI (20 * p + s)) wy wo ca en tv (nI n) oc de on op ow ov va bg sh) (uw_YR D B o (-1) (0) (0) ca en tv (nI (n + 1)) oc de on op ow ov (upd va r (va r + va q)) (upd bg (20 * p + s) (nI (b + 1))) sh) := by
  intro post K
  have i6 : vp_in (nI (20 * p + s)) 60 := vp_in_nI (by omega) (by decide)
  have i8 : vp_in (nI (20 * p + s)) 80 := vp_in_nI (by omega) (by decide)
  have c8 : (nI (20 * p + s)).toNatClampNeg = 20 * p + s := nI_clamp (by omega)
  have n300 : ¬ nI n = (300 : Int32) := fun e => by have := (nI_eq (a := n) (b := 300) (by omega) (by omega)).mp e; omega
  unfold wpY_begin uw_YR
  refine br_f n300 (nm_r (e' := nI (n + 1)) (nI_1 n) ⟨i6, i6, nm_r (e' := upd bg (20 * p + s) (nI (b + 1))) (by rw [c8, hb, nI_1]) ⟨i8, ?_⟩⟩)
  rw [c8, hso]
  refine br_f (by decide) ⟨i8, i8, i8, ?_⟩
  rw [hr]
  rw [hnu]
  unfold wpY_simply wpY_endAs
  dsimp only
  refine br_f (by decide) (br_f (by decide) (br_f (by decide) ⟨vp_in_nI hr' (by decide), vp_in_nI hq (by decide), ?_⟩))
  unfold wpY_worked
  dsimp only
  refine br_t rfl ?_
  refine ⟨vp_in_nI hr' (by decide), nm_r (e' := upd va r (va r + va q)) (by rw [nI_clamp (by omega), nI_clamp (by omega)]) ?_⟩
  exact br_f (by decide) (br_f (by decide) (br_f (by decide) (br_f (by decide) (br_f (by decide) (br_f (by decide) (K))))))
theorem uw_yb_3 {o : Int32} {r q : Nat} (hp : p < 3) (hs : s < 20) (hn : n < 300) (hb : bg (20 * p + s) = nI b) (hso : (B 0) (20 * p + s) = nI 3) (hr : (B 1) (20 * p + s) = nI r) (hr' : r < 4) (hnu : (B 2) (20 * p + s) = nI q) (hq : q < 4) : uw_SB (uw_YR D B o (nI (20 * p + s)) wy wo ca en tv (nI n) oc de on op ow ov va bg sh) (uw_YR D B o (-1) (0) (0) ca en tv (nI (n + 1)) oc de on op ow ov (upd va r (va r - va q)) (upd bg (20 * p + s) (nI (b + 1))) sh) := by
  intro post K
  have i6 : vp_in (nI (20 * p + s)) 60 := vp_in_nI (by omega) (by decide)
  have i8 : vp_in (nI (20 * p + s)) 80 := vp_in_nI (by omega) (by decide)
  have c8 : (nI (20 * p + s)).toNatClampNeg = 20 * p + s := nI_clamp (by omega)
  have n300 : ¬ nI n = (300 : Int32) := fun e => by have := (nI_eq (a := n) (b := 300) (by omega) (by omega)).mp e; omega
  unfold wpY_begin uw_YR
  refine br_f n300 (nm_r (e' := nI (n + 1)) (nI_1 n) ⟨i6, i6, nm_r (e' := upd bg (20 * p + s) (nI (b + 1))) (by rw [c8, hb, nI_1]) ⟨i8, ?_⟩⟩)
  rw [c8, hso]
  refine br_f (by decide) ⟨i8, i8, i8, ?_⟩
  rw [hr]
  rw [hnu]
  unfold wpY_simply wpY_endAs
  dsimp only
  refine br_f (by decide) (br_f (by decide) (br_f (by decide) ⟨vp_in_nI hr' (by decide), vp_in_nI hq (by decide), ?_⟩))
  unfold wpY_worked
  dsimp only
  refine br_f (by decide) (br_t rfl ?_)
  refine ⟨vp_in_nI hr' (by decide), nm_r (e' := upd va r (va r - va q)) (by rw [nI_clamp (by omega), nI_clamp (by omega)]) ?_⟩
  exact br_f (by decide) (br_f (by decide) (br_f (by decide) (br_f (by decide) (br_f (by decide) (br_f (by decide) (K))))))
theorem uw_yb_4 {o : Int32} {r q : Nat} (hp : p < 3) (hs : s < 20) (hn : n < 300) (hb : bg (20 * p + s) = nI b) (hso : (B 0) (20 * p + s) = nI 4) (hr : (B 1) (20 * p + s) = nI r) (hr' : r < 4) (hnu : (B 2) (20 * p + s) = nI q) (hq : q < 4) : uw_SB (uw_YR D B o (nI (20 * p + s)) wy wo ca en tv (nI n) oc de on op ow ov va bg sh) (uw_YR D B o (-1) (0) (0) ca en tv (nI (n + 1)) oc de on op ow ov (upd va r (va r * va q)) (upd bg (20 * p + s) (nI (b + 1))) sh) := by
  intro post K
  have i6 : vp_in (nI (20 * p + s)) 60 := vp_in_nI (by omega) (by decide)
  have i8 : vp_in (nI (20 * p + s)) 80 := vp_in_nI (by omega) (by decide)
  have c8 : (nI (20 * p + s)).toNatClampNeg = 20 * p + s := nI_clamp (by omega)
  have n300 : ¬ nI n = (300 : Int32) := fun e => by have := (nI_eq (a := n) (b := 300) (by omega) (by omega)).mp e; omega
  unfold wpY_begin uw_YR
  refine br_f n300 (nm_r (e' := nI (n + 1)) (nI_1 n) ⟨i6, i6, nm_r (e' := upd bg (20 * p + s) (nI (b + 1))) (by rw [c8, hb, nI_1]) ⟨i8, ?_⟩⟩)
  rw [c8, hso]
  refine br_f (by decide) ⟨i8, i8, i8, ?_⟩
  rw [hr]
  rw [hnu]
  unfold wpY_simply wpY_endAs
  dsimp only
  refine br_f (by decide) (br_f (by decide) (br_f (by decide) ⟨vp_in_nI hr' (by decide), vp_in_nI hq (by decide), ?_⟩))
  unfold wpY_worked
  dsimp only
  refine br_f (by decide) (br_f (by decide) ?_)
  refine ⟨vp_in_nI hr' (by decide), nm_r (e' := upd va r (va r * va q)) (by rw [nI_clamp (by omega), nI_clamp (by omega)]) ?_⟩
  exact br_f (by decide) (br_f (by decide) (br_f (by decide) (br_f (by decide) (br_f (by decide) (br_f (by decide) (K))))))
theorem uw_yb_5 {o : Int32} {r k : Nat} (hp : p < 3) (hs : s < 20) (hn : n < 300) (hb : bg (20 * p + s) = nI b) (hso : (B 0) (20 * p + s) = nI 5) (hr : (B 1) (20 * p + s) = nI r) (hr' : r < 4) (hk : k < 300) : uw_SB (uw_YR D B o (nI (20 * p + s)) wy wo ca en tv (nI n) (nI k) de on op ow ov va bg sh) (uw_YR D B o (-1) (0) (0) ca en tv (nI (n + 1)) (nI (k + 1)) de on op ow ov va (upd bg (20 * p + s) (nI (b + 1))) (upd sh k (va r))) := by
  intro post K
  have i6 : vp_in (nI (20 * p + s)) 60 := vp_in_nI (by omega) (by decide)
  have i8 : vp_in (nI (20 * p + s)) 80 := vp_in_nI (by omega) (by decide)
  have c8 : (nI (20 * p + s)).toNatClampNeg = 20 * p + s := nI_clamp (by omega)
  have n300 : ¬ nI n = (300 : Int32) := fun e => by have := (nI_eq (a := n) (b := 300) (by omega) (by omega)).mp e; omega
  unfold wpY_begin uw_YR
  refine br_f n300 (nm_r (e' := nI (n + 1)) (nI_1 n) ⟨i6, i6, nm_r (e' := upd bg (20 * p + s) (nI (b + 1))) (by rw [c8, hb, nI_1]) ⟨i8, ?_⟩⟩)
  rw [c8, hso]
  refine br_f (by decide) ⟨i8, i8, i8, ?_⟩
  rw [hr]
  unfold wpY_simply wpY_endAs
  dsimp only
  refine br_f (by decide) (br_f (by decide) (br_t (by decide) (br_t rfl ⟨vp_in_nI hr' (by decide), vp_in_nI hk (by decide), nm_r (e' := upd sh k (va r)) (by rw [nI_clamp (by omega), nI_clamp (by omega)]) (nm_r (e' := nI (k + 1)) (nI_1 k) ?_)⟩)))
  exact br_f (by decide) (br_f (by decide) (br_f (by decide) (br_f (by decide) (br_f (by decide) (K)))))
theorem uw_yb_6 {o : Int32} {r : Nat} (hp : p < 3) (hs : s < 20) (hn : n < 300) (hb : bg (20 * p + s) = nI b) (hso : (B 0) (20 * p + s) = nI 6) (hr : (B 1) (20 * p + s) = nI r) (hr' : r < 4) : uw_SB (uw_YR D B o (nI (20 * p + s)) wy wo ca en tv (nI n) oc de on op ow ov va bg sh) (uw_YR D B o (-1) (1) (va r) ca en tv (nI (n + 1)) oc de on op ow ov va (upd bg (20 * p + s) (nI (b + 1))) sh) := by
  intro post K
  have i6 : vp_in (nI (20 * p + s)) 60 := vp_in_nI (by omega) (by decide)
  have i8 : vp_in (nI (20 * p + s)) 80 := vp_in_nI (by omega) (by decide)
  have c8 : (nI (20 * p + s)).toNatClampNeg = 20 * p + s := nI_clamp (by omega)
  have n300 : ¬ nI n = (300 : Int32) := fun e => by have := (nI_eq (a := n) (b := 300) (by omega) (by omega)).mp e; omega
  unfold wpY_begin uw_YR
  refine br_f n300 (nm_r (e' := nI (n + 1)) (nI_1 n) ⟨i6, i6, nm_r (e' := upd bg (20 * p + s) (nI (b + 1))) (by rw [c8, hb, nI_1]) ⟨i8, ?_⟩⟩)
  rw [c8, hso]
  refine br_f (by decide) ⟨i8, i8, i8, ?_⟩
  rw [hr]
  unfold wpY_simply wpY_endAs
  dsimp only
  refine br_f (by decide) (br_f (by decide) (br_t (by decide) (br_f (by decide) (br_t rfl ⟨vp_in_nI hr' (by decide), ?_⟩))))
  rw [nI_clamp (by omega)]
  unfold wpY_endAs
  exact br_f (by decide) (br_f (by decide) (br_f (by decide) (br_f (by decide) (K))))
theorem uw_yb_7 {o : Int32} {q : Nat} (hp : p < 3) (hs : s < 20) (hn : n < 300) (hb : bg (20 * p + s) = nI b) (hso : (B 0) (20 * p + s) = nI 7) (hnu : (B 2) (20 * p + s) = nI q) : uw_SB (uw_YR D B o (nI (20 * p + s)) wy wo ca en tv (nI n) oc de on op ow ov va bg sh) (uw_YR D B o (-1) (2) (nI q) ca en tv (nI (n + 1)) oc de on op ow ov va (upd bg (20 * p + s) (nI (b + 1))) sh) := by
  intro post K
  have i6 : vp_in (nI (20 * p + s)) 60 := vp_in_nI (by omega) (by decide)
  have i8 : vp_in (nI (20 * p + s)) 80 := vp_in_nI (by omega) (by decide)
  have c8 : (nI (20 * p + s)).toNatClampNeg = 20 * p + s := nI_clamp (by omega)
  have n300 : ¬ nI n = (300 : Int32) := fun e => by have := (nI_eq (a := n) (b := 300) (by omega) (by omega)).mp e; omega
  unfold wpY_begin uw_YR
  refine br_f n300 (nm_r (e' := nI (n + 1)) (nI_1 n) ⟨i6, i6, nm_r (e' := upd bg (20 * p + s) (nI (b + 1))) (by rw [c8, hb, nI_1]) ⟨i8, ?_⟩⟩)
  rw [c8, hso]
  refine br_f (by decide) ⟨i8, i8, i8, ?_⟩
  rw [hnu]
  unfold wpY_simply wpY_endAs
  dsimp only
  refine br_f (by decide) (br_f (by decide) (br_t (by decide) (br_f (by decide) (br_f (by decide) (br_t rfl ?_)))))
  unfold wpY_endAs
  exact br_f (by decide) (br_f (by decide) (br_f (by decide) (K)))
theorem uw_yb_8 {o : Int32} {q : Nat} (hp : p < 3) (hs : s < 20) (hn : n < 300) (hb : bg (20 * p + s) = nI b) (hso : (B 0) (20 * p + s) = nI 8) (hnu : (B 2) (20 * p + s) = nI q) : uw_SB (uw_YR D B o (nI (20 * p + s)) wy wo ca en tv (nI n) oc de on op ow ov va bg sh) (uw_YR D B o (-1) (3) (nI q) ca en tv (nI (n + 1)) oc de on op ow ov va (upd bg (20 * p + s) (nI (b + 1))) sh) := by
  intro post K
  have i6 : vp_in (nI (20 * p + s)) 60 := vp_in_nI (by omega) (by decide)
  have i8 : vp_in (nI (20 * p + s)) 80 := vp_in_nI (by omega) (by decide)
  have c8 : (nI (20 * p + s)).toNatClampNeg = 20 * p + s := nI_clamp (by omega)
  have n300 : ¬ nI n = (300 : Int32) := fun e => by have := (nI_eq (a := n) (b := 300) (by omega) (by omega)).mp e; omega
  unfold wpY_begin uw_YR
  refine br_f n300 (nm_r (e' := nI (n + 1)) (nI_1 n) ⟨i6, i6, nm_r (e' := upd bg (20 * p + s) (nI (b + 1))) (by rw [c8, hb, nI_1]) ⟨i8, ?_⟩⟩)
  rw [c8, hso]
  refine br_f (by decide) ⟨i8, i8, i8, ?_⟩
  rw [hnu]
  unfold wpY_simply wpY_endAs
  dsimp only
  refine br_f (by decide) (br_f (by decide) (br_t (by decide) (br_f (by decide) (br_f (by decide) (br_f (by decide) (br_t rfl ?_))))))
  unfold wpY_endAs
  exact br_f (by decide) (br_f (by decide) (K))
theorem uw_yb_9 {o : Int32} (hp : p < 3) (hs : s < 20) (hn : n < 300) (hb : bg (20 * p + s) = nI b) (hso : (B 0) (20 * p + s) = nI 9) : uw_SB (uw_YR D B o (nI (20 * p + s)) wy wo ca en tv (nI n) oc de on op ow ov va bg sh) (uw_YR D B o (-1) (4) (0) ca en tv (nI (n + 1)) oc de on op ow ov va (upd bg (20 * p + s) (nI (b + 1))) sh) := by
  intro post K
  have i6 : vp_in (nI (20 * p + s)) 60 := vp_in_nI (by omega) (by decide)
  have i8 : vp_in (nI (20 * p + s)) 80 := vp_in_nI (by omega) (by decide)
  have c8 : (nI (20 * p + s)).toNatClampNeg = 20 * p + s := nI_clamp (by omega)
  have n300 : ¬ nI n = (300 : Int32) := fun e => by have := (nI_eq (a := n) (b := 300) (by omega) (by omega)).mp e; omega
  unfold wpY_begin uw_YR
  refine br_f n300 (nm_r (e' := nI (n + 1)) (nI_1 n) ⟨i6, i6, nm_r (e' := upd bg (20 * p + s) (nI (b + 1))) (by rw [c8, hb, nI_1]) ⟨i8, ?_⟩⟩)
  rw [c8, hso]
  refine br_f (by decide) ⟨i8, i8, i8, ?_⟩
  unfold wpY_simply wpY_endAs
  dsimp only
  refine br_f (by decide) (br_f (by decide) (br_t (by decide) (br_f (by decide) (br_f (by decide) (br_f (by decide) (br_f (by decide) (br_t rfl ?_)))))))
  unfold wpY_endAs
  exact br_f (by decide) (K)
theorem uw_yb_10a {o : Int32} (hp : p < 3) (hs : s < 20) (hn : n < 300) (hb : bg (20 * p + s) = nI b) (hso : (B 0) (20 * p + s) = nI 10) : uw_SB (uw_YR D B o (nI (20 * p + s)) wy wo (nI 8) en tv (nI n) oc de on op ow ov va bg sh) (uw_YR D B o (-1) (0) (0) (nI 8) (3) tv (nI (n + 1)) oc de on op ow ov va (upd bg (20 * p + s) (nI (b + 1))) sh) := by
  intro post K
  have i6 : vp_in (nI (20 * p + s)) 60 := vp_in_nI (by omega) (by decide)
  have i8 : vp_in (nI (20 * p + s)) 80 := vp_in_nI (by omega) (by decide)
  have c8 : (nI (20 * p + s)).toNatClampNeg = 20 * p + s := nI_clamp (by omega)
  have n300 : ¬ nI n = (300 : Int32) := fun e => by have := (nI_eq (a := n) (b := 300) (by omega) (by omega)).mp e; omega
  unfold wpY_begin uw_YR
  refine br_f n300 (nm_r (e' := nI (n + 1)) (nI_1 n) ⟨i6, i6, nm_r (e' := upd bg (20 * p + s) (nI (b + 1))) (by rw [c8, hb, nI_1]) ⟨i8, ?_⟩⟩)
  rw [c8, hso]
  refine br_f (by decide) ⟨i8, i8, i8, ?_⟩
  unfold wpY_simply wpY_endAs
  dsimp only
  refine br_f (by decide) (br_f (by decide) (br_t (by decide) (br_f (by decide) (br_f (by decide) (br_f (by decide) (br_f (by decide) (br_f (by decide) (br_t rfl ?_))))))))
  unfold wpY_enter
  exact br_t rfl K
theorem uw_yb_10b {q z g d : Nat} (hp : p < 3) (hs : s < 20) (hn : n < 300) (hb : bg (20 * p + s) = nI b) (hso : (B 0) (20 * p + s) = nI 10) (hnu : (B 2) (20 * p + s) = nI q) (hq : q < 3) (hg : g < 8) (hd : d < 100) (hsz : (B 5) q = nI (z + 1)) (hz : z < 20) (hm : m < 320) : uw_SB (uw_YR D B (nI m) (nI (20 * p + s)) wy wo (nI g) en tv (nI n) oc (nI d) on op ow ov va bg sh) (uw_YR D B (nI (m + 1)) (nI (20 * q + z)) (0) (0) (nI (g + 1)) en tv (nI (n + 1)) oc (nI (if d < g + 1 then g + 1 else d)) (upd on m (nI (20 * p + s))) (upd op m (nI 1)) (upd ow m (0)) (upd ov m (0)) va (upd bg (20 * p + s) (nI (b + 1))) sh) := by
  intro post K
  have i6 : vp_in (nI (20 * p + s)) 60 := vp_in_nI (by omega) (by decide)
  have i8 : vp_in (nI (20 * p + s)) 80 := vp_in_nI (by omega) (by decide)
  have c8 : (nI (20 * p + s)).toNatClampNeg = 20 * p + s := nI_clamp (by omega)
  have n300 : ¬ nI n = (300 : Int32) := fun e => by have := (nI_eq (a := n) (b := 300) (by omega) (by omega)).mp e; omega
  unfold wpY_begin uw_YR
  refine br_f n300 (nm_r (e' := nI (n + 1)) (nI_1 n) ⟨i6, i6, nm_r (e' := upd bg (20 * p + s) (nI (b + 1))) (by rw [c8, hb, nI_1]) ⟨i8, ?_⟩⟩)
  rw [c8, hso]
  refine br_f (by decide) ⟨i8, i8, i8, ?_⟩
  unfold wpY_simply wpY_endAs
  dsimp only
  refine br_f (by decide) (br_f (by decide) (br_t (by decide) (br_f (by decide) (br_f (by decide) (br_f (by decide) (br_f (by decide) (br_f (by decide) (br_t rfl ?_))))))))
  unfold wpY_enter
  refine br_f (fun e => by have := (nI_eq (a := g) (b := 8) (by omega) (by omega)).mp e; omega) (nm_r (e' := nI (g + 1)) (nI_1 g) ?_)
  have fin : wY_enter_44 post (nI (20 * p + s)) (D 0) (nI m) (-1) (0) (0) (nI (g + 1)) (en) (tv) (nI (n + 1)) (oc) (nI (if d < g + 1 then g + 1 else d)) (B 0) (B 1) (B 2) (B 3) (B 4) (B 5) (B 6) (B 7) (B 8) (on) (op) (ow) (ov) (va) (upd bg (20 * p + s) (nI (b + 1))) (sh) := by
    unfold wY_enter_44
    refine uw_ypush (D := D) (B := B) (t := 20 * p + s) (wy := 0) (wo := 0) hm ⟨i8, ?_⟩
    rw [c8, hnu]
    refine nm_e ⟨vp_in_nI (by omega) (by decide), nm_r (e' := nI (20 * q + z)) ?_ K⟩
    rw [nI_clamp (by omega), hsz, show (20 : Int32) * nI q = nI (20 * q) from pk_mul 20 q, nI_add]
    exact nI_pred (20 * q + z)
  refine pk_le (g + 1) d (fun z => ?_) (fun z => ?_)
  · rw [if_neg (by omega)] at fin; exact fin
  · rw [if_pos z] at fin; exact fin
theorem uw_yb_11a {o : Int32} {r : Nat} (hp : p < 3) (hs : s < 20) (hn : n < 300) (hb : bg (20 * p + s) = nI b) (hso : (B 0) (20 * p + s) = nI 11) (hr : (B 1) (20 * p + s) = nI r) (hr' : r < 4) (hz : va r = 0) : uw_SB (uw_YR D B o (nI (20 * p + s)) wy wo ca en tv (nI n) oc de on op ow ov va bg sh) (uw_YR D B o (-1) (0) (0) ca en tv (nI (n + 1)) oc de on op ow ov va (upd bg (20 * p + s) (nI (b + 1))) sh) := by
  intro post K
  have i6 : vp_in (nI (20 * p + s)) 60 := vp_in_nI (by omega) (by decide)
  have i8 : vp_in (nI (20 * p + s)) 80 := vp_in_nI (by omega) (by decide)
  have c8 : (nI (20 * p + s)).toNatClampNeg = 20 * p + s := nI_clamp (by omega)
  have n300 : ¬ nI n = (300 : Int32) := fun e => by have := (nI_eq (a := n) (b := 300) (by omega) (by omega)).mp e; omega
  unfold wpY_begin uw_YR
  refine br_f n300 (nm_r (e' := nI (n + 1)) (nI_1 n) ⟨i6, i6, nm_r (e' := upd bg (20 * p + s) (nI (b + 1))) (by rw [c8, hb, nI_1]) ⟨i8, ?_⟩⟩)
  rw [c8, hso]
  refine br_t (by decide) ⟨i8, br_t rfl ?_⟩
  exact uw_ylook0 (D := D) (B := B) (by omega) hr hr' hz K
theorem uw_yb_11b {r q : Nat} (hp : p < 3) (hs : s < 20) (hn : n < 300) (hb : bg (20 * p + s) = nI b) (hso : (B 0) (20 * p + s) = nI 11) (hr : (B 1) (20 * p + s) = nI r) (hr' : r < 4) (hz : ¬ va r = 0) (hq : (B 3) (20 * p + s) = nI q) (hm : m < 320) : uw_SB (uw_YR D B (nI m) (nI (20 * p + s)) wy wo ca en tv (nI n) oc de on op ow ov va bg sh) (uw_YR D B (nI (m + 1)) (nI (20 * p + q)) (0) (0) ca en tv (nI (n + 1)) oc de (upd on m (nI (20 * p + s))) (upd op m (nI 1)) (upd ow m (0)) (upd ov m (0)) va (upd bg (20 * p + s) (nI (b + 1))) sh) := by
  intro post K
  have i6 : vp_in (nI (20 * p + s)) 60 := vp_in_nI (by omega) (by decide)
  have i8 : vp_in (nI (20 * p + s)) 80 := vp_in_nI (by omega) (by decide)
  have c8 : (nI (20 * p + s)).toNatClampNeg = 20 * p + s := nI_clamp (by omega)
  have n300 : ¬ nI n = (300 : Int32) := fun e => by have := (nI_eq (a := n) (b := 300) (by omega) (by omega)).mp e; omega
  unfold wpY_begin uw_YR
  refine br_f n300 (nm_r (e' := nI (n + 1)) (nI_1 n) ⟨i6, i6, nm_r (e' := upd bg (20 * p + s) (nI (b + 1))) (by rw [c8, hb, nI_1]) ⟨i8, ?_⟩⟩)
  rw [c8, hso]
  refine br_t (by decide) ⟨i8, br_t rfl ?_⟩
  exact uw_ylook1 (D := D) (B := B) hp hs hm hr hr' hz hq K
theorem uw_yb_13a {o : Int32} {r q : Nat} (hp : p < 3) (hs : s < 20) (hn : n < 300) (hb : bg (20 * p + s) = nI b) (hso : (B 0) (20 * p + s) = nI 13) (hr : (B 1) (20 * p + s) = nI r) (hr' : r < 4) (hz : va r = 0) (hq : (B 4) (20 * p + s) = nI q) : uw_SB (uw_YR D B o (nI (20 * p + s)) wy wo ca en tv (nI n) oc de on op ow ov va bg sh) (uw_YR D B o (nI (20 * p + q)) wy wo ca en tv (nI (n + 1)) oc de on op ow ov va (upd bg (20 * p + s) (nI (b + 1))) sh) := by
  intro post K
  have i6 : vp_in (nI (20 * p + s)) 60 := vp_in_nI (by omega) (by decide)
  have i8 : vp_in (nI (20 * p + s)) 80 := vp_in_nI (by omega) (by decide)
  have c8 : (nI (20 * p + s)).toNatClampNeg = 20 * p + s := nI_clamp (by omega)
  have n300 : ¬ nI n = (300 : Int32) := fun e => by have := (nI_eq (a := n) (b := 300) (by omega) (by omega)).mp e; omega
  unfold wpY_begin uw_YR
  refine br_f n300 (nm_r (e' := nI (n + 1)) (nI_1 n) ⟨i6, i6, nm_r (e' := upd bg (20 * p + s) (nI (b + 1))) (by rw [c8, hb, nI_1]) ⟨i8, ?_⟩⟩)
  rw [c8, hso]
  refine br_t (by decide) ⟨i8, br_f (by decide) ⟨i8, br_t rfl ⟨i8, ?_⟩⟩⟩
  rw [hr, hq]
  refine ⟨vp_in_nI hr' (by decide), br_t (by rw [nI_clamp (by omega)]; exact hz) ⟨i8, ?_⟩⟩
  unfold wY_begin_144
  exact uw_ygo (D := D) (B := B) hp hs K
theorem uw_yb_13b {o : Int32} {r q : Nat} (hp : p < 3) (hs : s < 20) (hn : n < 300) (hb : bg (20 * p + s) = nI b) (hso : (B 0) (20 * p + s) = nI 13) (hr : (B 1) (20 * p + s) = nI r) (hr' : r < 4) (hz : ¬ va r = 0) (hq : (B 3) (20 * p + s) = nI q) : uw_SB (uw_YR D B o (nI (20 * p + s)) wy wo ca en tv (nI n) oc de on op ow ov va bg sh) (uw_YR D B o (nI (20 * p + q)) wy wo ca en tv (nI (n + 1)) oc de on op ow ov va (upd bg (20 * p + s) (nI (b + 1))) sh) := by
  intro post K
  have i6 : vp_in (nI (20 * p + s)) 60 := vp_in_nI (by omega) (by decide)
  have i8 : vp_in (nI (20 * p + s)) 80 := vp_in_nI (by omega) (by decide)
  have c8 : (nI (20 * p + s)).toNatClampNeg = 20 * p + s := nI_clamp (by omega)
  have n300 : ¬ nI n = (300 : Int32) := fun e => by have := (nI_eq (a := n) (b := 300) (by omega) (by omega)).mp e; omega
  unfold wpY_begin uw_YR
  refine br_f n300 (nm_r (e' := nI (n + 1)) (nI_1 n) ⟨i6, i6, nm_r (e' := upd bg (20 * p + s) (nI (b + 1))) (by rw [c8, hb, nI_1]) ⟨i8, ?_⟩⟩)
  rw [c8, hso]
  refine br_t (by decide) ⟨i8, br_f (by decide) ⟨i8, br_t rfl ⟨i8, ?_⟩⟩⟩
  rw [hr, hq]
  refine ⟨vp_in_nI hr' (by decide), br_f (by rw [nI_clamp (by omega)]; exact hz) ⟨i8, ?_⟩⟩
  unfold wY_begin_144
  exact uw_ygo (D := D) (B := B) hp hs K
theorem uw_yb_12 {q k : Nat} (hp : p < 3) (hs : s < 20) (hn : n < 300) (hb : bg (20 * p + s) = nI b) (hso : (B 0) (20 * p + s) = nI k) (hk : k = 12 ∨ k = 14 ∨ k = 15) (hq : (B 3) (20 * p + s) = nI q) (hm : m < 320) : uw_SB (uw_YR D B (nI m) (nI (20 * p + s)) wy wo ca en tv (nI n) oc de on op ow ov va bg sh) (uw_YR D B (nI (m + 1)) (nI (20 * p + q)) wy wo ca en tv (nI (n + 1)) oc de (upd on m (nI (20 * p + s))) (upd op m (nI 1)) (upd ow m (wy)) (upd ov m (wo)) va (upd bg (20 * p + s) (nI (b + 1))) sh) := by
  intro post K
  have i6 : vp_in (nI (20 * p + s)) 60 := vp_in_nI (by omega) (by decide)
  have i8 : vp_in (nI (20 * p + s)) 80 := vp_in_nI (by omega) (by decide)
  have c8 : (nI (20 * p + s)).toNatClampNeg = 20 * p + s := nI_clamp (by omega)
  have n300 : ¬ nI n = (300 : Int32) := fun e => by have := (nI_eq (a := n) (b := 300) (by omega) (by omega)).mp e; omega
  unfold wpY_begin uw_YR
  refine br_f n300 (nm_r (e' := nI (n + 1)) (nI_1 n) ⟨i6, i6, nm_r (e' := upd bg (20 * p + s) (nI (b + 1))) (by rw [c8, hb, nI_1]) ⟨i8, ?_⟩⟩)
  rw [c8, hso]
  have n10 : (10 : Int32) < nI k := nI_lt (a := 10) (by omega) (by omega)
  have n11 : ¬ nI k = (11 : Int32) := fun e => by have := (nI_eq (a := k) (b := 11) (by omega) (by omega)).mp e; omega
  have n13 : ¬ nI k = (13 : Int32) := fun e => by have := (nI_eq (a := k) (b := 13) (by omega) (by omega)).mp e; omega
  refine br_t n10 ⟨i8, br_f n11 ⟨i8, br_f n13 ?_⟩⟩
  refine uw_ypush (D := D) (B := B) (t := 20 * p + s) hm ⟨i8, ?_⟩
  rw [hq]
  exact uw_ygo (D := D) (B := B) hp hs K
theorem uw_yp_0t : uw_SP (uw_YR D B (nI 0) nx (1) wo ca en tv sc oc de on op ow ov va bg sh) (uw_YR D B (nI 0) nx (1) wo ca (1) (wo) sc oc de on op ow ov va bg sh) := by
  intro post K
  unfold wpY_passUp uw_YR
  exact br_t rfl (br_t rfl (br_t rfl K))
theorem uw_yp_0n (h : ¬ wy = 1) : uw_SP (uw_YR D B (nI 0) nx wy wo ca en tv sc oc de on op ow ov va bg sh) (uw_YR D B (nI 0) nx wy wo ca (0) (0) sc oc de on op ow ov va bg sh) := by
  intro post K
  unfold wpY_passUp uw_YR
  exact br_t rfl (br_f h (br_f h K))
theorem uw_yp_10t {g : Nat} (hp : p < 3) (hs : s < 20) (hm : m < 320) (hon : on m = nI (20 * p + s)) (hso : (B 0) (20 * p + s) = nI 10) : uw_SP (uw_YR D B (nI (m + 1)) nx (1) wo (nI (g + 1)) en tv sc oc de on op ow ov va bg sh) (uw_YR D B (nI m) nx (1) wo (nI g) en tv sc oc de on op ow ov va bg sh) := by
  intro post K
  have i3 : vp_in (nI m) 320 := vp_in_nI hm (by decide)
  have c3 : (nI m).toNatClampNeg = m := nI_clamp (by omega)
  have i8 : vp_in (nI (20 * p + s)) 80 := vp_in_nI (by omega) (by decide)
  have c8 : (nI (20 * p + s)).toNatClampNeg = 20 * p + s := nI_clamp (by omega)
  unfold wpY_passUp uw_YR
  refine br_f (nI_ne0 (by omega) (by omega)) (nm_r (e' := nI m) (nI_pred m) ⟨i3, nm_r (e' := nI (20 * p + s)) (by rw [c3]; exact hon) ⟨i8, nm_r (e' := nI 10) (by rw [c8]; exact hso) ?_⟩⟩)
  exact br_t rfl (nm_r (e' := nI g) (nI_pred g) (br_t rfl K))
theorem uw_yp_10n {g : Nat} (hp : p < 3) (hs : s < 20) (hm : m < 320) (hon : on m = nI (20 * p + s)) (hso : (B 0) (20 * p + s) = nI 10) (h : ¬ wy = 1) : uw_SP (uw_YR D B (nI (m + 1)) nx wy wo (nI (g + 1)) en tv sc oc de on op ow ov va bg sh) (uw_YR D B (nI m) nx (0) (0) (nI g) en tv sc oc de on op ow ov va bg sh) := by
  intro post K
  have i3 : vp_in (nI m) 320 := vp_in_nI hm (by decide)
  have c3 : (nI m).toNatClampNeg = m := nI_clamp (by omega)
  have i8 : vp_in (nI (20 * p + s)) 80 := vp_in_nI (by omega) (by decide)
  have c8 : (nI (20 * p + s)).toNatClampNeg = 20 * p + s := nI_clamp (by omega)
  unfold wpY_passUp uw_YR
  refine br_f (nI_ne0 (by omega) (by omega)) (nm_r (e' := nI m) (nI_pred m) ⟨i3, nm_r (e' := nI (20 * p + s)) (by rw [c3]; exact hon) ⟨i8, nm_r (e' := nI 10) (by rw [c8]; exact hso) ?_⟩⟩)
  refine br_t rfl (nm_r (e' := nI g) (nI_pred g) (br_f h ?_))
  unfold wpY_endAs
  exact K
theorem uw_yp_11a {r : Nat} (hp : p < 3) (hs : s < 20) (hm : m < 320) (hon : on m = nI (20 * p + s)) (hso : (B 0) (20 * p + s) = nI 11) (hr : (B 1) (20 * p + s) = nI r) (hr' : r < 4) (h : wy = 0 ∨ (wy = 3 ∧ wo = 0)) (hz : va r = 0) : uw_SP (uw_YR D B (nI (m + 1)) nx wy wo ca en tv sc oc de on op ow ov va bg sh) (uw_YR D B (nI m) nx (0) (0) ca en tv sc oc de on op ow ov va bg sh) := by
  intro post K
  have i3 : vp_in (nI m) 320 := vp_in_nI hm (by decide)
  have c3 : (nI m).toNatClampNeg = m := nI_clamp (by omega)
  have i8 : vp_in (nI (20 * p + s)) 80 := vp_in_nI (by omega) (by decide)
  have c8 : (nI (20 * p + s)).toNatClampNeg = 20 * p + s := nI_clamp (by omega)
  unfold wpY_passUp uw_YR
  refine br_f (nI_ne0 (by omega) (by omega)) (nm_r (e' := nI m) (nI_pred m) ⟨i3, nm_r (e' := nI (20 * p + s)) (by rw [c3]; exact hon) ⟨i8, nm_r (e' := nI 11) (by rw [c8]; exact hso) ?_⟩⟩)
  refine br_f (by decide) (br_t rfl ?_)
  unfold wpY_afterRound
  have j : wY_afterRound_22 post (nI (20 * p + s)) (D 0) (nI m) (nx) (wy) (wo) (ca) (en) (tv) (sc) (oc) (de) (B 0) (B 1) (B 2) (B 3) (B 4) (B 5) (B 6) (B 7) (B 8) (on) (op) (ow) (ov) (va) (bg) (sh) := by
    unfold wY_afterRound_22
    exact uw_ylook0 (D := D) (B := B) (by omega) hr hr' hz K
  rcases h with h | ⟨h, h'⟩
  · exact br_t h j
  · exact br_f (by rw [h]; decide) (br_t h (br_t h' j))
theorem uw_yp_11b {r q : Nat} (hp : p < 3) (hs : s < 20) (hm : m < 320) (hon : on m = nI (20 * p + s)) (hso : (B 0) (20 * p + s) = nI 11) (hr : (B 1) (20 * p + s) = nI r) (hr' : r < 4) (h : wy = 0 ∨ (wy = 3 ∧ wo = 0)) (hz : ¬ va r = 0) (hq : (B 3) (20 * p + s) = nI q) : uw_SP (uw_YR D B (nI (m + 1)) nx wy wo ca en tv sc oc de on op ow ov va bg sh) (uw_YR D B (nI (m + 1)) (nI (20 * p + q)) (0) (0) ca en tv sc oc de (upd on m (nI (20 * p + s))) (upd op m (nI 1)) (upd ow m (0)) (upd ov m (0)) va bg sh) := by
  intro post K
  have i3 : vp_in (nI m) 320 := vp_in_nI hm (by decide)
  have c3 : (nI m).toNatClampNeg = m := nI_clamp (by omega)
  have i8 : vp_in (nI (20 * p + s)) 80 := vp_in_nI (by omega) (by decide)
  have c8 : (nI (20 * p + s)).toNatClampNeg = 20 * p + s := nI_clamp (by omega)
  unfold wpY_passUp uw_YR
  refine br_f (nI_ne0 (by omega) (by omega)) (nm_r (e' := nI m) (nI_pred m) ⟨i3, nm_r (e' := nI (20 * p + s)) (by rw [c3]; exact hon) ⟨i8, nm_r (e' := nI 11) (by rw [c8]; exact hso) ?_⟩⟩)
  refine br_f (by decide) (br_t rfl ?_)
  unfold wpY_afterRound
  have j : wY_afterRound_22 post (nI (20 * p + s)) (D 0) (nI m) (nx) (wy) (wo) (ca) (en) (tv) (sc) (oc) (de) (B 0) (B 1) (B 2) (B 3) (B 4) (B 5) (B 6) (B 7) (B 8) (on) (op) (ow) (ov) (va) (bg) (sh) := by
    unfold wY_afterRound_22
    exact uw_ylook1 (D := D) (B := B) hp hs hm hr hr' hz hq K
  rcases h with h | ⟨h, h'⟩
  · exact br_t h j
  · exact br_f (by rw [h]; decide) (br_t h (br_t h' j))
theorem uw_yp_11c (hp : p < 3) (hs : s < 20) (hm : m < 320) (hon : on m = nI (20 * p + s)) (hso : (B 0) (20 * p + s) = nI 11) : uw_SP (uw_YR D B (nI (m + 1)) nx (2) (0) ca en tv sc oc de on op ow ov va bg sh) (uw_YR D B (nI m) nx (0) (0) ca en tv sc oc de on op ow ov va bg sh) := by
  intro post K
  have i3 : vp_in (nI m) 320 := vp_in_nI hm (by decide)
  have c3 : (nI m).toNatClampNeg = m := nI_clamp (by omega)
  have i8 : vp_in (nI (20 * p + s)) 80 := vp_in_nI (by omega) (by decide)
  have c8 : (nI (20 * p + s)).toNatClampNeg = 20 * p + s := nI_clamp (by omega)
  unfold wpY_passUp uw_YR
  refine br_f (nI_ne0 (by omega) (by omega)) (nm_r (e' := nI m) (nI_pred m) ⟨i3, nm_r (e' := nI (20 * p + s)) (by rw [c3]; exact hon) ⟨i8, nm_r (e' := nI 11) (by rw [c8]; exact hso) ?_⟩⟩)
  refine br_f (by decide) (br_t rfl ?_)
  unfold wpY_afterRound
  refine br_f (by decide) (br_f (by decide) (br_t rfl (br_t rfl ?_)))
  unfold wpY_endAs
  exact K
theorem uw_yp_11d {q : Nat} (hp : p < 3) (hs : s < 20) (hm : m < 320) (hon : on m = nI (20 * p + s)) (hso : (B 0) (20 * p + s) = nI 11) (hw : wy = 2 ∨ wy = 3) (hq : q < 100) : uw_SP (uw_YR D B (nI (m + 1)) nx wy (nI (q + 1)) ca en tv sc oc de on op ow ov va bg sh) (uw_YR D B (nI m) nx wy (nI q) ca en tv sc oc de on op ow ov va bg sh) := by
  intro post K
  have i3 : vp_in (nI m) 320 := vp_in_nI hm (by decide)
  have c3 : (nI m).toNatClampNeg = m := nI_clamp (by omega)
  have i8 : vp_in (nI (20 * p + s)) 80 := vp_in_nI (by omega) (by decide)
  have c8 : (nI (20 * p + s)).toNatClampNeg = 20 * p + s := nI_clamp (by omega)
  unfold wpY_passUp uw_YR
  refine br_f (nI_ne0 (by omega) (by omega)) (nm_r (e' := nI m) (nI_pred m) ⟨i3, nm_r (e' := nI (20 * p + s)) (by rw [c3]; exact hon) ⟨i8, nm_r (e' := nI 11) (by rw [c8]; exact hso) ?_⟩⟩)
  refine br_f (by decide) (br_t rfl ?_)
  unfold wpY_afterRound
  have nz : ¬ nI (q + 1) = 0 := nI_ne0 (by omega) (by omega)
  rcases hw with rfl | rfl
  · exact br_f (by decide) (br_f (by decide) (br_t rfl (br_f nz (br_t rfl (nm_r (e' := nI q) (nI_pred q) K)))))
  · exact br_f (by decide) (br_t rfl (br_f nz (br_f (by decide) (br_f (by decide) (br_t rfl (nm_r (e' := nI q) (nI_pred q) K))))))
theorem uw_yp_11e (hp : p < 3) (hs : s < 20) (hm : m < 320) (hon : on m = nI (20 * p + s)) (hso : (B 0) (20 * p + s) = nI 11) (h0 : ¬ wy = 0) (h2 : ¬ wy = 2) (h3 : ¬ wy = 3) : uw_SP (uw_YR D B (nI (m + 1)) nx wy wo ca en tv sc oc de on op ow ov va bg sh) (uw_YR D B (nI m) nx wy wo ca en tv sc oc de on op ow ov va bg sh) := by
  intro post K
  have i3 : vp_in (nI m) 320 := vp_in_nI hm (by decide)
  have c3 : (nI m).toNatClampNeg = m := nI_clamp (by omega)
  have i8 : vp_in (nI (20 * p + s)) 80 := vp_in_nI (by omega) (by decide)
  have c8 : (nI (20 * p + s)).toNatClampNeg = 20 * p + s := nI_clamp (by omega)
  unfold wpY_passUp uw_YR
  refine br_f (nI_ne0 (by omega) (by omega)) (nm_r (e' := nI m) (nI_pred m) ⟨i3, nm_r (e' := nI (20 * p + s)) (by rw [c3]; exact hon) ⟨i8, nm_r (e' := nI 11) (by rw [c8]; exact hso) ?_⟩⟩)
  refine br_f (by decide) (br_t rfl ?_)
  unfold wpY_afterRound
  exact br_f h0 (br_f h3 (br_f h2 (br_f h2 (br_f h3 K))))
theorem uw_yp_12n {q : Nat} (hp : p < 3) (hs : s < 20) (hm : m < 320) (hon : on m = nI (20 * p + s)) (hso : (B 0) (20 * p + s) = nI 12) (hq : (B 4) (20 * p + s) = nI q) : uw_SP (uw_YR D B (nI (m + 1)) nx (0) wo ca en tv sc oc de on op ow ov va bg sh) (uw_YR D B (nI m) (nI (20 * p + q)) (0) wo ca en tv sc oc de on op ow ov va bg sh) := by
  intro post K
  have i3 : vp_in (nI m) 320 := vp_in_nI hm (by decide)
  have c3 : (nI m).toNatClampNeg = m := nI_clamp (by omega)
  have i8 : vp_in (nI (20 * p + s)) 80 := vp_in_nI (by omega) (by decide)
  have c8 : (nI (20 * p + s)).toNatClampNeg = 20 * p + s := nI_clamp (by omega)
  unfold wpY_passUp uw_YR
  refine br_f (nI_ne0 (by omega) (by omega)) (nm_r (e' := nI m) (nI_pred m) ⟨i3, nm_r (e' := nI (20 * p + s)) (by rw [c3]; exact hon) ⟨i8, nm_r (e' := nI 12) (by rw [c8]; exact hso) ?_⟩⟩)
  refine br_f (by decide) (br_f (by decide) (br_t rfl (br_t rfl ⟨i8, ?_⟩)))
  rw [c8, hq]
  exact uw_ygo (D := D) (B := B) hp hs K
theorem uw_yp_12k (hp : p < 3) (hs : s < 20) (hm : m < 320) (hon : on m = nI (20 * p + s)) (hso : (B 0) (20 * p + s) = nI 12) (h : ¬ wy = 0) : uw_SP (uw_YR D B (nI (m + 1)) nx wy wo ca en tv sc oc de on op ow ov va bg sh) (uw_YR D B (nI m) nx wy wo ca en tv sc oc de on op ow ov va bg sh) := by
  intro post K
  have i3 : vp_in (nI m) 320 := vp_in_nI hm (by decide)
  have c3 : (nI m).toNatClampNeg = m := nI_clamp (by omega)
  have i8 : vp_in (nI (20 * p + s)) 80 := vp_in_nI (by omega) (by decide)
  have c8 : (nI (20 * p + s)).toNatClampNeg = 20 * p + s := nI_clamp (by omega)
  unfold wpY_passUp uw_YR
  refine br_f (nI_ne0 (by omega) (by omega)) (nm_r (e' := nI m) (nI_pred m) ⟨i3, nm_r (e' := nI (20 * p + s)) (by rw [c3]; exact hon) ⟨i8, nm_r (e' := nI 12) (by rw [c8]; exact hso) ?_⟩⟩)
  exact br_f (by decide) (br_f (by decide) (br_t rfl (br_f h K)))
theorem uw_yp_14t {r q : Nat} (hp : p < 3) (hs : s < 20) (hm : m < 320) (hon : on m = nI (20 * p + s)) (hso : (B 0) (20 * p + s) = nI 14) (hr : (B 1) (20 * p + s) = nI r) (hr' : r < 4) (hq : (B 4) (20 * p + s) = nI q) : uw_SP (uw_YR D B (nI (m + 1)) nx (1) wo ca en tv sc oc de on op ow ov va bg sh) (uw_YR D B (nI m) (nI (20 * p + q)) (1) wo ca en tv sc oc de on op ow ov (upd va r wo) bg sh) := by
  intro post K
  have i3 : vp_in (nI m) 320 := vp_in_nI hm (by decide)
  have c3 : (nI m).toNatClampNeg = m := nI_clamp (by omega)
  have i8 : vp_in (nI (20 * p + s)) 80 := vp_in_nI (by omega) (by decide)
  have c8 : (nI (20 * p + s)).toNatClampNeg = 20 * p + s := nI_clamp (by omega)
  unfold wpY_passUp uw_YR
  refine br_f (nI_ne0 (by omega) (by omega)) (nm_r (e' := nI m) (nI_pred m) ⟨i3, nm_r (e' := nI (20 * p + s)) (by rw [c3]; exact hon) ⟨i8, nm_r (e' := nI 14) (by rw [c8]; exact hso) ?_⟩⟩)
  refine br_f (by decide) (br_f (by decide) (br_f (by decide) (br_t rfl (br_t rfl ⟨i8, ?_⟩))))
  rw [c8, hr]
  refine ⟨vp_in_nI hr' (by decide), nm_r (e' := upd va r wo) (by rw [nI_clamp (by omega)]) ⟨i8, ?_⟩⟩
  rw [hq]
  exact uw_ygo (D := D) (B := B) hp hs K
theorem uw_yp_14k (hp : p < 3) (hs : s < 20) (hm : m < 320) (hon : on m = nI (20 * p + s)) (hso : (B 0) (20 * p + s) = nI 14) (h : ¬ wy = 1) : uw_SP (uw_YR D B (nI (m + 1)) nx wy wo ca en tv sc oc de on op ow ov va bg sh) (uw_YR D B (nI m) nx wy wo ca en tv sc oc de on op ow ov va bg sh) := by
  intro post K
  have i3 : vp_in (nI m) 320 := vp_in_nI hm (by decide)
  have c3 : (nI m).toNatClampNeg = m := nI_clamp (by omega)
  have i8 : vp_in (nI (20 * p + s)) 80 := vp_in_nI (by omega) (by decide)
  have c8 : (nI (20 * p + s)).toNatClampNeg = 20 * p + s := nI_clamp (by omega)
  unfold wpY_passUp uw_YR
  refine br_f (nI_ne0 (by omega) (by omega)) (nm_r (e' := nI m) (nI_pred m) ⟨i3, nm_r (e' := nI (20 * p + s)) (by rw [c3]; exact hon) ⟨i8, nm_r (e' := nI 14) (by rw [c8]; exact hso) ?_⟩⟩)
  exact br_f (by decide) (br_f (by decide) (br_f (by decide) (br_t rfl (br_f h K))))
theorem uw_yp_15a {q : Nat} (hp : p < 3) (hs : s < 20) (hm : m < 320) (hon : on m = nI (20 * p + s)) (hso : (B 0) (20 * p + s) = nI 15) (ho : op m = nI 1) (hq : (B 4) (20 * p + s) = nI q) : uw_SP (uw_YR D B (nI (m + 1)) nx wy wo ca en tv sc oc de on op ow ov va bg sh) (uw_YR D B (nI (m + 1)) (nI (20 * p + q)) wy wo ca en tv sc oc de (upd on m (nI (20 * p + s))) (upd op m (nI 2)) (upd ow m (wy)) (upd ov m (wo)) va bg sh) := by
  intro post K
  have i3 : vp_in (nI m) 320 := vp_in_nI hm (by decide)
  have c3 : (nI m).toNatClampNeg = m := nI_clamp (by omega)
  have i8 : vp_in (nI (20 * p + s)) 80 := vp_in_nI (by omega) (by decide)
  have c8 : (nI (20 * p + s)).toNatClampNeg = 20 * p + s := nI_clamp (by omega)
  unfold wpY_passUp uw_YR
  refine br_f (nI_ne0 (by omega) (by omega)) (nm_r (e' := nI m) (nI_pred m) ⟨i3, nm_r (e' := nI (20 * p + s)) (by rw [c3]; exact hon) ⟨i8, nm_r (e' := nI 15) (by rw [c8]; exact hso) ?_⟩⟩)
  refine br_f (by decide) (br_f (by decide) (br_f (by decide) (br_f (by decide) ⟨i3, ?_⟩)))
  rw [c3, ho]
  refine br_t rfl (uw_ypush (D := D) (B := B) (t := 20 * p + s) hm ⟨i8, ?_⟩)
  rw [c8, hq]
  exact uw_ygo (D := D) (B := B) hp hs K
theorem uw_yp_15b (hp : p < 3) (hs : s < 20) (hm : m < 320) (hon : on m = nI (20 * p + s)) (hso : (B 0) (20 * p + s) = nI 15) (ho : op m = nI 2) : uw_SP (uw_YR D B (nI (m + 1)) nx (0) wo ca en tv sc oc de on op ow ov va bg sh) (uw_YR D B (nI m) nx (ow m) (ov m) ca en tv sc oc de on op ow ov va bg sh) := by
  intro post K
  have i3 : vp_in (nI m) 320 := vp_in_nI hm (by decide)
  have c3 : (nI m).toNatClampNeg = m := nI_clamp (by omega)
  have i8 : vp_in (nI (20 * p + s)) 80 := vp_in_nI (by omega) (by decide)
  have c8 : (nI (20 * p + s)).toNatClampNeg = 20 * p + s := nI_clamp (by omega)
  unfold wpY_passUp uw_YR
  refine br_f (nI_ne0 (by omega) (by omega)) (nm_r (e' := nI m) (nI_pred m) ⟨i3, nm_r (e' := nI (20 * p + s)) (by rw [c3]; exact hon) ⟨i8, nm_r (e' := nI 15) (by rw [c8]; exact hso) ?_⟩⟩)
  refine br_f (by decide) (br_f (by decide) (br_f (by decide) (br_f (by decide) ⟨i3, ?_⟩)))
  rw [c3, ho]
  refine br_f (by decide) (br_t rfl ⟨i3, i3, ?_⟩)
  unfold wpY_endAs
  exact K
theorem uw_yp_15k (hp : p < 3) (hs : s < 20) (hm : m < 320) (hon : on m = nI (20 * p + s)) (hso : (B 0) (20 * p + s) = nI 15) (ho : op m = nI 2) (h : ¬ wy = 0) : uw_SP (uw_YR D B (nI (m + 1)) nx wy wo ca en tv sc oc de on op ow ov va bg sh) (uw_YR D B (nI m) nx wy wo ca en tv sc oc de on op ow ov va bg sh) := by
  intro post K
  have i3 : vp_in (nI m) 320 := vp_in_nI hm (by decide)
  have c3 : (nI m).toNatClampNeg = m := nI_clamp (by omega)
  have i8 : vp_in (nI (20 * p + s)) 80 := vp_in_nI (by omega) (by decide)
  have c8 : (nI (20 * p + s)).toNatClampNeg = 20 * p + s := nI_clamp (by omega)
  unfold wpY_passUp uw_YR
  refine br_f (nI_ne0 (by omega) (by omega)) (nm_r (e' := nI m) (nI_pred m) ⟨i3, nm_r (e' := nI (20 * p + s)) (by rw [c3]; exact hon) ⟨i8, nm_r (e' := nI 15) (by rw [c8]; exact hso) ?_⟩⟩)
  refine br_f (by decide) (br_f (by decide) (br_f (by decide) (br_f (by decide) ⟨i3, ?_⟩)))
  rw [c3, ho]
  exact br_f (by decide) (br_f h K)
end
end
section
/-! where a statement's code is, and how it goes on: positions and the match of the two stacks -/
def uw_J2 (F A : Nat → Nat → Int32) (j e t : Nat) : Prop := uw_JT F j e t ∧ uw_JT A j e t ∧ ¬ (F 9) t = nI 9
def uw_HH (A : Nat → Nat → Int32) (rg a e g g' h : Nat) : Prop := ∀ pc, a ≤ pc → pc < e → (∀ i, g ≤ i → i < g' → uw_NI A i pc) → uw_FR A rg pc h
def uw_LO (A : Nat → Nat → Int32) (g a : Nat) : Prop := ∀ i, i < g → ∃ x y, (A 18) i = nI x ∧ (A 19) i = nI y ∧ x < 360 ∧ y < 360 ∧ y ≤ a
def uw_PO (F A : Nat → Nat → Int32) (M : Nat → Nat → Bool) (el en sz : Nat → Nat) (N rg E : Nat) (p : Nat) (X : List ((Nat × Nat) ⊕ Nat)) (s a e g g' k k' h kb t j : Nat) (me : Bool) : Prop :=
  (∃ n, uw_CC F (M p) p (el p) N n X s a e g g' k k') ∧ uw_HH A rg a e g g' h ∧ uw_LO A g a ∧ kb ≤ k ∧ k' ≤ 10 ∧ g' ≤ rg ∧ e ≤ E ∧ s ≤ sz p ∧ me = M p s ∧ (me = true → uw_J2 F A j e t) ∧ j + s ≤ 20
def uw_LB (A : Nat → Nat → Int32) (l t : Nat) : Prop := l < 128 ∧ ∃ q j, q < 359 ∧ j ≤ 20 ∧ (A 13) l = nI q ∧ uw_JT A j q t
def uw_TL (A : Nat → Nat → Int32) (rg p k e h : Nat) : Prop := (A 9) e = nI 13 ∧ (A 10) e = nI (10 * p + k) ∧ e < 359 ∧ uw_FR A rg e h
def uw_WB (F A : Nat → Nat → Int32) (M : Nat → Nat → Bool) (el en sz : Nat → Nat) (N rg E : Nat) (p : Nat) (X : List ((Nat × Nat) ⊕ Nat)) (s a br te qa t' h kb : Nat) : Prop :=
  a + 1 < 359 ∧ (A 9) (a + 1) = nI 10 ∧ (A 10) (a + 1) = (A 1) (20 * p + s) ∧ (A 11) (a + 1) = nI br ∧ te < 128 ∧ (A 13) te = nI (a + 1) ∧ uw_LB A br t' ∧ (A 3) (20 * p + s) = nI qa ∧
    ∃ m g g' k k' j, uw_PO F A M el en sz N rg E p (Sum.inl (br, te) :: X) qa (a + 2) m g g' k k' h kb (a + 1) j (M p qa)
def uw_SV (A : Nat → Nat → Int32) (p N elp : Nat) (X : List ((Nat × Nat) ⊕ Nat)) (t' : Nat) (me ms : Prop) (w v e h : Int32) : Prop :=
  (w = 0 ∧ (me → ms) ∧ ∃ x le, x < 200 ∧ e = nI x ∧ (A 15) x = -1 ∧ (A 17) x = nI le ∧ (me → uw_LB A le t')) ∨ (w = 1 ∧ e = -1 ∧ h = v) ∨
    (∃ y n L l x, 2 ≤ y ∧ y ≤ 4 ∧ w = nI y ∧ v = nI n ∧ n < 4 ∧ l < 128 ∧ uw_XT elp X y n L l ∧ e = nI x ∧ uw_EX A p N L l x)
/-- the reference's open statements below o are what the component goes on with: f frames, the statement under way in procedure p, around it X, may it end, its normal end leads to t, thrown values go to range h, saved exits lie below kb -/
def uw_KM (F A : Nat → Nat → Int32) (M : Nat → Nat → Bool) (el en sz : Nat → Nat) (N rg E : Nat) (ta ex th on op ow ov : Nat → Int32) : Nat → Nat → Nat → List ((Nat × Nat) ⊕ Nat) → Bool → Nat → Nat → Nat → Prop
  | 0 => fun f p X _ t h _ => f = 1 ∧ X = [] ∧ t = en p ∧ h = rg
  | o + 1 => fun f p X me t h kb => ∃ q s, q < 3 ∧ s ≤ sz q ∧ s < 20 ∧ on o = nI (20 * q + s) ∧
    (((A 0) (20 * q + s) = nI 10 ∧ X = [] ∧ t = en p ∧ h = rg ∧ ∃ g X' t' h' kb' pc j, f = g + 2 ∧ ta g = nI (pc + 1) ∧ pc + 1 < 359 ∧ uw_JT A j (pc + 1) t' ∧ j ≤ 20 ∧ uw_FR A rg pc h' ∧ kb' ≤ 10 ∧ uw_KM F A M el en sz N rg E ta ex th on op ow ov o (g + 1) q X' true t' h' kb') ∨
     (q = p ∧ (A 0) (20 * q + s) = nI 11 ∧ ∃ qb t' ms, (A 4) (20 * q + s) = nI qb ∧ (me = true → ∃ e g g' k k' j, uw_PO F A M el en sz N rg E p X qb t e g g' k k' h kb t' j ms) ∧ uw_KM F A M el en sz N rg E ta ex th on op ow ov o f p X ms t' h kb) ∨
     (q = p ∧ (A 0) (20 * q + s) = nI 15 ∧ ∃ X' a br te qa t', X = Sum.inl (br, te) :: X' ∧ t = a + 1 ∧ uw_WB F A M el en sz N rg E p X' s a br te qa t' h kb ∧ uw_KM F A M el en sz N rg E ta ex th on op ow ov o f p X' true t' h kb) ∨
     (q = p ∧ (A 0) (20 * q + s) = nI 13 ∧ ∃ qb m hl ms h' e g g' k k' j, h < rg ∧ (A 21) h = -1 ∧ (A 20) h = nI hl ∧ hl < 128 ∧ (A 13) hl = nI m ∧ m < 359 ∧ (A 9) m = nI 11 ∧ (A 10) m = (A 1) (20 * q + s) ∧ (A 4) (20 * q + s) = nI qb ∧
       uw_PO F A M el en sz N rg E p X qb (m + 1) e g g' k k' h' kb t j (M p qb) ∧ (M p qb = true → ms = true) ∧ (me = true → ms = true) ∧ uw_KM F A M el en sz N rg E ta ex th on op ow ov o f p X ms t h' kb) ∨
     (q = p ∧ (A 0) (20 * q + s) = nI 14 ∧ op o = nI 1 ∧ ∃ X' k bl m qb e' g g' k1 k2 h' t' ms, X = Sum.inr k :: X' ∧ k < 10 ∧ kb ≤ k ∧ h < rg ∧ (A 21) h = nI (10 * p + k) ∧ (A 14) (10 * p + k) = nI bl ∧ bl < 128 ∧ (A 13) bl = nI m ∧ m < 359 ∧ (A 4) (20 * q + s) = nI qb ∧
       uw_PO F A M el en sz N rg E p X' qb m e' g g' k1 k2 h' (k + 1) e' 0 (M p qb) ∧ uw_TL A rg p k e' h' ∧
       (me = true → (A 9) t = nI 12 ∧ (A 10) t = nI (10 * p + k) ∧ t < 359 ∧ ∃ x le, x < 200 ∧ (A 11) t = nI x ∧ (A 15) x = -1 ∧ (A 17) x = nI le ∧ (M p qb = true → uw_LB A le t')) ∧ (me = true → M p qb = true → ms = true) ∧ uw_KM F A M el en sz N rg E ta ex th on op ow ov o f p X' ms t' h' kb) ∨
     (q = p ∧ (A 0) (20 * q + s) = nI 14 ∧ op o = nI 2 ∧ ∃ k t' ms kb' g, f = g + 1 ∧ k < 10 ∧ kb' ≤ k ∧ k < kb ∧ uw_TL A rg p k t h ∧ uw_SV A p N (el p) X t' (me = true) (ms = true) (ow o) (ov o) (ex (10 * g + k)) (th (10 * g + k)) ∧ uw_KM F A M el en sz N rg E ta ex th on op ow ov o f p X ms t' h kb'))
theorem uw_SV_me {A : Nat → Nat → Int32} {p N elp : Nat} {X : List ((Nat × Nat) ⊕ Nat)} {t' : Nat} {P Q R : Prop} {w v e h : Int32} (i : Q → P) (H : uw_SV A p N elp X t' P R w v e h) : uw_SV A p N elp X t' Q R w v e h := by
  rcases H with ⟨a, b, x, le, c1, c2, c3, c4, c5⟩ | H | H
  · exact Or.inl ⟨a, fun z => b (i z), x, le, c1, c2, c3, c4, fun z => c5 (i z)⟩
  · exact Or.inr (Or.inl H)
  · exact Or.inr (Or.inr H)
section
variable {F A : Nat → Nat → Int32} {M : Nat → Nat → Bool} {el en sz : Nat → Nat} {N rg E : Nat} {ta ex th on op ow ov : Nat → Int32}
theorem uw_KM_me {o f p : Nat} {X : List ((Nat × Nat) ⊕ Nat)} {me me' : Bool} {t h kb : Nat} (i : me' = true → me = true) (H : uw_KM F A M el en sz N rg E ta ex th on op ow ov o f p X me t h kb) : uw_KM F A M el en sz N rg E ta ex th on op ow ov o f p X me' t h kb := by
  cases o with
  | zero => exact H
  | succ o =>
    obtain ⟨q, s, h1, h2, h3, h4, H⟩ := H
    refine ⟨q, s, h1, h2, h3, h4, ?_⟩
    rcases H with H | ⟨e, k, qb, t', ms, a1, a2, a3⟩ | H | ⟨e, k, qb, m, hl, ms, h', e', g, g', k1, k2, j, a1, a2, a3, a4, a5, a6, a7, a8, a9, a10, a11, a12, a13⟩ | ⟨e, k, op1, X', kk, bl, m, qb, e', g, g', k1, k2, h', t', ms, a1, a2, a3, a4, a5, a6, a7, a8, a9, a10, a11, a12, a13, a14, a15⟩ | ⟨e, k, op1, kk, t', ms, kb', g, a1, a2, a3, a4, a5, a6, a7⟩
    · exact Or.inl H
    · exact Or.inr (Or.inl ⟨e, k, qb, t', ms, a1, fun z => a2 (i z), a3⟩)
    · exact Or.inr (Or.inr (Or.inl H))
    · exact Or.inr (Or.inr (Or.inr (Or.inl ⟨e, k, qb, m, hl, ms, h', e', g, g', k1, k2, j, a1, a2, a3, a4, a5, a6, a7, a8, a9, a10, a11, fun z => a12 (i z), a13⟩)))
    · exact Or.inr (Or.inr (Or.inr (Or.inr (Or.inl ⟨e, k, op1, X', kk, bl, m, qb, e', g, g', k1, k2, h', t', ms, a1, a2, a3, a4, a5, a6, a7, a8, a9, a10, a11, a12, fun z => a13 (i z), fun z => a14 (i z), a15⟩))))
    · exact Or.inr (Or.inr (Or.inr (Or.inr (Or.inr ⟨e, k, op1, kk, t', ms, kb', g, a1, a2, a3, a4, a5, uw_SV_me i a6, a7⟩))))
/-- the frame: what lies above is of no matter -/
theorem uw_KM_c {ta' ex' th' on' op' ow' ov' : Nat → Int32} : ∀ o f p X me t h kb, (∀ x, x + 1 < f → ta' x = ta x) → (∀ x, x + 10 < 10 * f + kb → ex' x = ex x ∧ th' x = th x) → kb ≤ 10 → (∀ x, x < o → on' x = on x ∧ op' x = op x ∧ ow' x = ow x ∧ ov' x = ov x) →
    uw_KM F A M el en sz N rg E ta ex th on op ow ov o f p X me t h kb → uw_KM F A M el en sz N rg E ta' ex' th' on' op' ow' ov' o f p X me t h kb := by
  intro o
  induction o with
  | zero => intro f p X me t h kb _ _ _ _ H; exact H
  | succ o ih =>
    intro f p X me t h kb hta hex hkb hon H
    obtain ⟨q, s, h1, h2, h3, h4, H⟩ := H
    obtain ⟨o1, o2, o3, o4⟩ := hon o (by omega)
    refine ⟨q, s, h1, h2, h3, o1.trans h4, ?_⟩
    have hon' : ∀ x, x < o → on' x = on x ∧ op' x = op x ∧ ow' x = ow x ∧ ov' x = ov x := fun x hx => hon x (by omega)
    rcases H with ⟨k, b1, b2, b3, g, X', t', h', kb', pc, j, a1, a2, a3, a4, a5, a6, a7, a8⟩ | ⟨e, k, qb, t', ms, a1, a2, a3⟩ | ⟨e, k, X', a, br, te, qa, t', a1, a2, a3, a4⟩ | ⟨e, k, qb, m, hl, ms, h', e', g, g', k1, k2, j, a1, a2, a3, a4, a5, a6, a7, a8, a9, a10, a11, a12, a13⟩ | ⟨e, k, op1, X', kk, bl, m, qb, e', g, g', k1, k2, h', t', ms, a1, a2, a3, a4, a5, a6, a7, a8, a9, a10, a11, a12, a13, a14, a15⟩ | ⟨e, k, op1, kk, t', ms, kb', g, a1, a2, a3, a4, a5, a6, a7⟩
    · exact Or.inl ⟨k, b1, b2, b3, g, X', t', h', kb', pc, j, a1, (hta g (by omega)).trans a2, a3, a4, a5, a6, a7, ih _ _ _ _ _ _ _ (fun x hx => hta x (by omega)) (fun x hx => hex x (by omega)) a7 hon' a8⟩
    · exact Or.inr (Or.inl ⟨e, k, qb, t', ms, a1, a2, ih _ _ _ _ _ _ _ hta hex hkb hon' a3⟩)
    · exact Or.inr (Or.inr (Or.inl ⟨e, k, X', a, br, te, qa, t', a1, a2, a3, ih _ _ _ _ _ _ _ hta hex hkb hon' a4⟩))
    · exact Or.inr (Or.inr (Or.inr (Or.inl ⟨e, k, qb, m, hl, ms, h', e', g, g', k1, k2, j, a1, a2, a3, a4, a5, a6, a7, a8, a9, a10, a11, a12, ih _ _ _ _ _ _ _ hta hex hkb hon' a13⟩)))
    · exact Or.inr (Or.inr (Or.inr (Or.inr (Or.inl ⟨e, k, o2.trans op1, X', kk, bl, m, qb, e', g, g', k1, k2, h', t', ms, a1, a2, a3, a4, a5, a6, a7, a8, a9, a10, a11, a12, a13, a14, ih _ _ _ _ _ _ _ hta hex hkb hon' a15⟩))))
    · refine Or.inr (Or.inr (Or.inr (Or.inr (Or.inr ⟨e, k, o2.trans op1, kk, t', ms, kb', g, a1, a2, a3, a4, a5, ?_, ih _ _ _ _ _ _ _ hta (fun x hx => hex x (by omega)) (by omega) hon' a7⟩))))
      obtain ⟨e1, e2⟩ := hex (10 * g + kk) (by omega)
      rw [o3, o4, e1, e2]
      exact a6
end
end
section
/-! from a statement's position to its parts' -/
def uw_SG (F A : Nat → Nat → Int32) (N rg E : Nat) : Prop := (∀ i x, uw_sp i x → A i x = F i x) ∧ uw_SH F A E ∧ rg ≤ 30 ∧ N ≤ 200 ∧ E < 350
def uw_RI (A : Nat → Nat → Int32) (a e g g' : Nat) : Prop := ∀ i, g ≤ i → i < g' → ∃ x y, (A 18) i = nI x ∧ (A 19) i = nI y ∧ x < 360 ∧ y < 360 ∧ a < x ∧ x ≤ y ∧ y ≤ e
section
variable {F A : Nat → Nat → Int32} {M : Nat → Nat → Bool} {el en sz : Nat → Nat} {N rg E : Nat}
theorem uw_lx {l e : Nat} (G : uw_SG F A N rg E) (h : (F 13) l = nI e) (he : e ≤ E) (hc : ¬ (F 9) e = nI 9) : (A 13) l = nI e := by
  obtain ⟨q, _, a, b⟩ := G.2.1 l e 0 e he h rfl hc
  have : q = e := b
  subst this; exact a
theorem uw_la {l e j t : Nat} (G : uw_SG F A N rg E) (hl : l < 128) (h : (F 13) l = nI e) (he : e ≤ E) (J : uw_J2 F A j e t) (hj : j ≤ 20) : uw_LB A l t := by
  obtain ⟨q, a, b, c⟩ := G.2.1 l e j t he h J.1 J.2.2
  have := G.2.2.2.2
  exact ⟨hl, q, j, by omega, hj, b, c⟩
theorem uw_s9e (G : uw_SG F A N rg E) (x : Nat) : (A 9) x = (F 9) x ∧ (A 10) x = (F 10) x ∧ (A 11) x = (F 11) x ∧ (A 12) x = (F 12) x ∧ (A 14) x = (F 14) x ∧ (A 15) x = (F 15) x ∧ (A 16) x = (F 16) x ∧ (A 17) x = (F 17) x ∧ (A 18) x = (F 18) x ∧ (A 19) x = (F 19) x ∧ (A 20) x = (F 20) x ∧ (A 21) x = (F 21) x := by
  have h := G.1
  refine ⟨h _ _ ?_, h _ _ ?_, h _ _ ?_, h _ _ ?_, h _ _ ?_, h _ _ ?_, h _ _ ?_, h _ _ ?_, h _ _ ?_, h _ _ ?_, h _ _ ?_, h _ _ ?_⟩ <;> (unfold uw_sp; omega)
theorem uw_s0e (G : uw_SG F A N rg E) {x : Nat} (hx : x < 60) : (A 0) x = (F 0) x ∧ (A 1) x = (F 1) x ∧ (A 2) x = (F 2) x ∧ (A 3) x = (F 3) x ∧ (A 4) x = (F 4) x := by
  have h := G.1
  refine ⟨h _ _ ?_, h _ _ ?_, h _ _ ?_, h _ _ ?_, h _ _ ?_⟩ <;> (unfold uw_sp; omega)
theorem uw_j0 {t : Nat} (h : ¬ (F 9) t = nI 9) : uw_J2 F A 0 t t := ⟨rfl, rfl, h⟩
theorem uw_c9 {F : Nat → Nat → Int32} {t c : Nat} (h : (F 9) t = nI c) (hc : c ≠ 9) (hc' : c < 100) : ¬ (F 9) t = nI 9 := fun e => hc ((nI_eq (by omega) (by omega)).mp (h.symm.trans e))
theorem uw_jj {m l e j t : Nat} (G : uw_SG F A N rg E) (h1 : (F 9) m = nI 9) (h2 : (F 10) m = nI l) (hl : l < 128) (h3 : (F 13) l = nI e) (he : e ≤ E) (J : uw_J2 F A j e t) : uw_J2 F A (j + 1) m t := by
  obtain ⟨q, a, b, c⟩ := G.2.1 l e j t he h3 J.1 J.2.2
  have := G.2.2.2.2
  obtain ⟨s1, s2, _⟩ := uw_s9e G m
  exact ⟨Or.inr ⟨h1, l, e, hl, h2, by omega, h3, J.1⟩, Or.inr ⟨s1.trans h1, l, q, hl, s2.trans h2, by omega, b, c⟩, J.2.2⟩
theorem uw_ri {p el' n s a e g g' k k' : Nat} {M' : Nat → Bool} {XX : List ((Nat × Nat) ⊕ Nat)} (G : uw_SG F A N rg E) (he : e ≤ E) (h : uw_CC F M' p el' N n XX s a e g g' k k') : uw_RI A a e g g' := by
  intro i h1 h2
  obtain ⟨x, y, b1, b2, b3, b4, b5⟩ := (uw_CC_in _ _ _ _ _ _ _ _ _ h).2.2.2 i h1 h2
  obtain ⟨_, _, _, _, _, _, _, _, s1, s2, _⟩ := uw_s9e G i
  have := G.2.2.2.2
  exact ⟨x, y, s1.trans b1, s2.trans b2, by omega, by omega, b3, b4, b5⟩
theorem uw_hl {a e g g' h a1 m m' e' gm : Nat} (H : uw_HH A rg a e g g' h) (R : uw_RI A m' e' gm g') (h1 : a ≤ a1) (h2 : m ≤ m' + 1) (h3 : m ≤ e) : uw_HH A rg a1 m g gm h := by
  intro pc p1 p2 hi
  refine H pc (by omega) (by omega) (fun i i1 i2 => ?_)
  rcases Nat.lt_or_ge i gm with z | z
  · exact hi i i1 z
  · obtain ⟨x, y, b1, b2, b3, b4, b5, b6, b7⟩ := R i z i2
    exact ⟨x, y, b1, b2, b3, b4, fun c => by omega⟩
theorem uw_hr {a e g g' h m m' e' a0 gm : Nat} (H : uw_HH A rg a e g g' h) (R : uw_RI A a0 m g gm) (h1 : a ≤ m') (h2 : m ≤ m') (h3 : e' ≤ e) : uw_HH A rg m' e' gm g' h := by
  intro pc p1 p2 hi
  refine H pc (by omega) (by omega) (fun i i1 i2 => ?_)
  rcases Nat.lt_or_ge i gm with z | z
  · obtain ⟨x, y, b1, b2, b3, b4, b5, b6, b7⟩ := R i i1 z
    exact ⟨x, y, b1, b2, b3, b4, fun c => by omega⟩
  · exact hi i z i2
theorem uw_ll' {a a1 g : Nat} (L : uw_LO A g a) (h : a ≤ a1) : uw_LO A g a1 := by
  intro i hi
  obtain ⟨x, y, b1, b2, b3, b4, b5⟩ := L i hi
  exact ⟨x, y, b1, b2, b3, b4, by omega⟩
theorem uw_lr {a a0 m m' g gm : Nat} (L : uw_LO A g a) (R : uw_RI A a0 m g gm) (h : a ≤ m') (h2 : m ≤ m') : uw_LO A gm m' := by
  intro i hi
  rcases Nat.lt_or_ge i g with z | z
  · exact uw_ll' L h i z
  · obtain ⟨x, y, b1, b2, b3, b4, b5, b6, b7⟩ := R i z hi
    exact ⟨x, y, b1, b2, b3, b4, by omega⟩
theorem uw_rx {a m g gm l : Nat} {y : Int32} (G : uw_SG F A N rg E) (R : uw_RI A (a + 1) m g gm) (hr : uw_RG F gm (a + 1) m l y) (hm : a + 1 ≤ m) (he : m ≤ E) : uw_RI A a m g (gm + 1) := by
  intro i h1 h2
  have := G.2.2.2.2
  rcases Nat.lt_or_ge i gm with z | z
  · obtain ⟨x, y, b1, b2, b3, b4, b5, b6, b7⟩ := R i h1 z
    exact ⟨x, y, b1, b2, b3, b4, by omega, b6, b7⟩
  · have : i = gm := by omega
    subst this
    obtain ⟨_, _, _, _, _, _, _, _, s1, s2, _⟩ := uw_s9e G i
    exact ⟨a + 1, m, s1.trans hr.1, s2.trans hr.2.1, by omega, by omega, by omega, hm, Nat.le_refl _⟩
theorem uw_hn {a m g gm l : Nat} {y : Int32} (G : uw_SG F A N rg E) (L : uw_LO A g a) (hr : uw_RG F gm (a + 1) m l y) (hm : m ≤ E) (hg : gm < rg) : uw_HH A rg (a + 1) m g gm gm := by
  intro pc p1 p2 hi
  have := G.2.2.2.2
  obtain ⟨_, _, _, _, _, _, _, _, s1, s2, _⟩ := uw_s9e G gm
  refine ⟨by omega, fun i i1 => ?_, fun _ => ⟨a + 1, m, s1.trans hr.1, s2.trans hr.2.1, by omega, by omega, p1, p2⟩⟩
  rcases Nat.lt_or_ge i g with z | z
  · obtain ⟨x, y, b1, b2, b3, b4, b5⟩ := L i z
    exact ⟨x, y, b1, b2, b3, b4, fun c => by omega⟩
  · exact hi i z i1
end
end
section
/-! the two loops of run; the simulation's relation -/
def uw_WX (post : Int32 → SX → Prop) (n : Nat) (x : Int32) (u : SX) : Prop := match u with | (z0, z1, z2, z3, z4, z5, z6, z7, z8, z9, z10, z11, z12, z13, z14, z15, z16, z17, z18, z19, z20, z21, z22, z23, z24, z25, z26, z27, z28, z29, z30, z31, z32, z33, z34, z35, z36, z37, z38, z39, z40, z41, z42, z43, z44, z45, z46, z47, z48, z49, z50, z51, z52, z53, z54, z55, z56) => wX_run_26 post n x z0 z1 z2 z3 z4 z5 z6 z7 z8 z9 z10 z11 z12 z13 z14 z15 z16 z17 z18 z19 z20 z21 z22 z23 z24 z25 z26 z27 z28 z29 z30 z31 z32 z33 z34 z35 z36 z37 z38 z39 z40 z41 z42 z43 z44 z45 z46 z47 z48 z49 z50 z51 z52 z53 z54 z55 z56
def uw_WY (post : Int32 → SY → Prop) (n : Nat) (v : SY) : Prop := match v with | (z0, z1, z2, z3, z4, z5, z6, z7, z8, z9, z10, z11, z12, z13, z14, z15, z16, z17, z18, z19, z20, z21, z22, z23, z24, z25, z26) => wY_run_119 post n z0 z1 z2 z3 z4 z5 z6 z7 z8 z9 z10 z11 z12 z13 z14 z15 z16 z17 z18 z19 z20 z21 z22 z23 z24 z25 z26
def uw_MS (k : Nat) (u u' : SX) : Prop := ∀ (post : Int32 → SX → Prop) (n i : Nat), i + k ≤ 60000 → uw_WX post n (nI (i + k)) u' → uw_WX post (n + k) (nI i) u
def uw_Y1 (v v' : SY) : Prop := ∀ (post : Int32 → SY → Prop) (n : Nat), uw_WY post n v' → uw_WY post (n + 1) v
theorem uw_ms0 (u : SX) : uw_MS 0 u u := fun _ _ _ _ K => K
theorem uw_mst {k k' : Nat} {u u' u'' : SX} (h : uw_MS k u u') (h' : uw_MS k' u' u'') : uw_MS (k + k') u u'' := by
  intro post n i hi K
  have e : n + (k + k') = (n + k') + k := by omega
  rw [e]
  refine h post _ i (by omega) (h' post _ _ (by omega) ?_)
  rw [Nat.add_assoc]
  exact K
theorem uw_ms1 {C : Nat → Int32} {A : Nat → Nat → Int32} {f fl tv sc mc oc : Int32} {va ta ex th bg sh : Nat → Int32} {f' fl' s' tv' sc' mc' oc' : Int32} {va' ta' ex' th' bg' sh' : Nat → Int32}
    (S : uw_SX (uw_XR C A f fl (-6) tv sc mc oc va ta ex th bg sh) (uw_XR C A f' fl' s' tv' sc' mc' oc' va' ta' ex' th' bg' sh')) : uw_MS 1 (uw_XR C A f fl (-6) tv sc mc oc va ta ex th bg sh) (uw_XR C A f' fl' s' tv' sc' mc' oc' va' ta' ex' th' bg' sh') := by
  intro post n i hi K
  have h1 : ¬ (60000 : Int32) ≤ nI i := nI_ge (b := 60000) (by omega) (by decide)
  refine br_f h1 (br_t rfl (S _ ?_))
  exact fun y hy => by rw [hy, nI_1]; exact K
theorem uw_yb {D : Nat → Int32} {B : Nat → Nat → Int32} {o wy wo ca tv sc oc de : Int32} {on op ow ov va bg sh : Nat → Int32} {t : Nat} {o' nx' wy' wo' ca' en' tv' sc' oc' de' : Int32} {on' op' ow' ov' va' bg' sh' : Nat → Int32} (ht : t < 1000)
    (S : uw_SB (uw_YR D B o (nI t) wy wo ca (-1) tv sc oc de on op ow ov va bg sh) (uw_YR D B o' nx' wy' wo' ca' en' tv' sc' oc' de' on' op' ow' ov' va' bg' sh')) : uw_Y1 (uw_YR D B o (nI t) wy wo ca (-1) tv sc oc de on op ow ov va bg sh) (uw_YR D B o' nx' wy' wo' ca' en' tv' sc' oc' de' on' op' ow' ov' va' bg' sh') :=
  fun _ _ K => br_t rfl (br_f (nI_pos (by omega)) (S _ K))
theorem uw_yp {D : Nat → Int32} {B : Nat → Nat → Int32} {o wy wo ca tv sc oc de : Int32} {on op ow ov va bg sh : Nat → Int32} {o' nx' wy' wo' ca' en' tv' sc' oc' de' : Int32} {on' op' ow' ov' va' bg' sh' : Nat → Int32}
    (S : uw_SP (uw_YR D B o (-1) wy wo ca (-1) tv sc oc de on op ow ov va bg sh) (uw_YR D B o' nx' wy' wo' ca' en' tv' sc' oc' de' on' op' ow' ov' va' bg' sh')) : uw_Y1 (uw_YR D B o (-1) wy wo ca (-1) tv sc oc de on op ow ov va bg sh) (uw_YR D B o' nx' wy' wo' ca' en' tv' sc' oc' de' on' op' ow' ov' va' bg' sh') :=
  fun _ _ K => br_t rfl (br_t (by decide) (S _ K))
/-! what is known of every node -/
def uw_NF (A : Nat → Nat → Int32) (t : Nat) : Prop := (∀ k, k < 11 → (A 0) t = nI k → ∃ w, uw_lf A w t k) ∧ ((A 0) t = nI 12 ∨ (A 0) t = nI 13 ∨ (A 0) t = nI 15 → uw_rg A t)
theorem uw_TR_nf {A : Nat → Nat → Int32} {b : Nat} : ∀ n w lo s, uw_TR A b n w lo s → ∀ x, lo ≤ x → x ≤ s → uw_NF A (b + x) := by
  intro n
  induction n with
  | zero => intro w lo s h; exact h.elim
  | succ n ih =>
    intro w lo s h x h1 h2
    have ne : ∀ a c : Nat, a < 100 → c < 100 → a ≠ c → (A 0) (b + s) = nI a → ¬ (A 0) (b + s) = nI c := fun a c ha hc hn e e' => hn ((nI_eq (by omega) (by omega)).mp (e.symm.trans e'))
    rcases h.2 with ⟨e, k, hk, hk', hl⟩ | ⟨g1, g2, g3, m, e, g4, g⟩ | ⟨k, q, m, o1, o2, g3, gr, e, g5, g6, g7, g8, g9⟩
    · have : x = s := by omega
      subst this
      refine ⟨fun k' h' e' => ?_, fun e' => ?_⟩
      · have : k' = k := (nI_eq (by omega) (by omega)).mp (e'.symm.trans hk')
        subst this; exact ⟨w, hl⟩
      · rcases e' with e' | e' | e'
        · exact absurd e' (ne k 12 (by omega) (by omega) (by omega) hk')
        · exact absurd e' (ne k 13 (by omega) (by omega) (by omega) hk')
        · exact absurd e' (ne k 15 (by omega) (by omega) (by omega) hk')
    · rcases Nat.lt_or_ge x s with y | y
      · exact ih _ _ _ g x h1 (by omega)
      · have : x = s := by omega
        subst this
        exact ⟨fun k' h' e' => absurd e' (ne 15 k' (by omega) (by omega) (by omega) g1), fun _ => g3⟩
    · rcases Nat.lt_or_ge x s with y | y
      · rcases Nat.lt_or_ge q x with u | u
        · exact ih _ _ _ g9 x (by omega) (by omega)
        · exact ih _ _ _ g8 x h1 u
      · have : x = s := by omega
        subst this
        refine ⟨fun k' h' e' => absurd e' (ne k k' (by omega) (by omega) (by omega) g3), fun e' => gr ?_⟩
        rcases e' with e' | e' | e'
        · exact Or.inl ((nI_eq (by omega) (by omega)).mp (g3.symm.trans e'))
        · exact Or.inr ((nI_eq (by omega) (by omega)).mp (g3.symm.trans e'))
        · exact absurd e' (ne k 15 (by omega) (by omega) (by omega) g3)
/-! the relation -/
def uw_BG (st : Nat) (bg bg' : Nat → Int32) : Prop := ∀ x, x < 60 → ∃ b, b ≤ st ∧ bg x = nI b ∧ bg' x = nI b
theorem uw_bg1 {st t b : Nat} {bg bg' : Nat → Int32} (h : uw_BG st bg bg') (hb : b ≤ st) : uw_BG (st + 1) (upd bg t (nI (b + 1))) (upd bg' t (nI (b + 1))) := by
  intro x hx
  by_cases e : x = t
  · subst e; exact ⟨b + 1, by omega, pk_us, pk_us⟩
  · obtain ⟨c, h1, h2, h3⟩ := h x hx
    exact ⟨c, by omega, (pk_un e).trans h2, (pk_un e).trans h3⟩
def uw_FN (C : Nat → Int32) (A : Nat → Nat → Int32) (D : Nat → Int32) (B : Nat → Nat → Int32) (u : SX) (v : SY) (s : Int32) : Prop :=
  ∃ (f fl tv sc mc : Int32) (oc : Nat) (va ta ex th bg sh : Nat → Int32) (o nx wy wo ca : Int32) (on op ow ov bg' : Nat → Int32), u = uw_XR C A f fl s tv sc mc (nI oc) va ta ex th bg sh ∧ v = uw_YR D B o nx wy wo ca s tv sc (nI oc) mc on op ow ov va bg' sh ∧
    ¬ s = -6 ∧ ¬ s = -1 ∧ oc ≤ 300 ∧ ∀ x, x < 60 → bg' x = bg x
def uw_PG (u : SX) (C : Nat → Int32) (A : Nat → Nat → Int32) (p N g : Nat) (fl sc mc oc : Int32) (va ta ex th bg sh : Nat → Int32) (L : List Nat) (l : Nat) : Prop :=
  match L with
  | [] => ∀ q, q < 359 → (A 13) l = nI q → uw_SX u (uw_XR C A (nI (g + 1)) fl (-6) 0 sc mc oc va (upd ta g (nI q)) ex th bg sh)
  | k :: L => k < 10 ∧ ∃ x, uw_EX A p N L l x ∧ ∀ bl q, (A 14) (10 * p + k) = nI bl → bl < 128 → q < 359 → (A 13) bl = nI q → uw_SX u (uw_XR C A (nI (g + 1)) fl (-6) 0 sc mc oc va (upd ta g (nI q)) (upd ex (10 * g + k) (nI x)) th bg sh)
def uw_MB (F A : Nat → Nat → Int32) (M : Nat → Nat → Bool) (el en sz : Nat → Nat) (N rg E : Nat) (ta ex th on op ow ov : Nat → Int32) (g o : Nat) (nx : Int32) : Prop :=
  ∃ p s X a e g1 g' k k' h kb t j me, p < 3 ∧ s < 20 ∧ nx = nI (20 * p + s) ∧ ta g = nI a ∧ kb ≤ 10 ∧ uw_PO F A M el en sz N rg E p X s a e g1 g' k k' h kb t j me ∧ uw_KM F A M el en sz N rg E ta ex th on op ow ov o (g + 1) p X me t h kb
def uw_MN (F A : Nat → Nat → Int32) (M : Nat → Nat → Bool) (el en sz : Nat → Nat) (N rg E : Nat) (ta ex th on op ow ov : Nat → Int32) (g o : Nat) : Prop :=
  ∃ p X t h kb pc j, p < 3 ∧ ta g = nI pc ∧ pc < 359 ∧ uw_JT A j pc t ∧ j ≤ 20 ∧ kb ≤ 10 ∧ uw_KM F A M el en sz N rg E ta ex th on op ow ov o (g + 1) p X true t h kb
def uw_SM (F A : Nat → Nat → Int32) (M : Nat → Nat → Bool) (el en sz : Nat → Nat) (N rg E : Nat) (C D : Nat → Int32) (B : Nat → Nat → Int32) (mu : Nat) (u : SX) (v : SY) : Prop :=
  ∃ (g : Nat) (fl : Int32) (st mc oc : Nat) (va ta ex th bg sh : Nat → Int32) (o : Nat) (nx wy wo : Int32) (ca : Nat) (on op ow ov bg' : Nat → Int32),
    u = uw_XR C A (nI (g + 1)) fl (-6) 0 (nI st) (nI mc) (nI oc) va ta ex th bg sh ∧ v = uw_YR D B (nI o) nx wy wo (nI ca) (-1) 0 (nI st) (nI oc) (nI mc) on op ow ov va bg' sh ∧
    (g < 9 ∧ st ≤ 300 ∧ o ≤ st ∧ oc ≤ st ∧ mc < 100) ∧ uw_BG st bg bg' ∧
    ((mu = 3 * (301 - st) + o ∧ ca = g ∧ uw_MB F A M el en sz N rg E ta ex th on op ow ov g o nx) ∨
     (mu = 3 * (301 - st) + o + 2 ∧ nx = -1 ∧ wy = 0 ∧ ca = g ∧ uw_MN F A M el en sz N rg E ta ex th on op ow ov g o) ∨
     (mu = 3 * (301 - st) + o + 2 ∧ nx = -1 ∧ wy = 1 ∧ ∃ p X me t h kb i ta' pc, p < 3 ∧ i + ca < 9 ∧ ta' ca = nI (pc + 1) ∧ pc < 359 ∧ uw_FR A rg pc h ∧ kb ≤ 10 ∧ uw_KM F A M el en sz N rg E ta' ex th on op ow ov o (ca + 1) p X me t h kb ∧ uw_PR u C A wo fl (-6) 0 (nI st) (nI mc) (nI oc) va ta' ex th bg sh i (ca + 1)) ∨
     (mu = 3 * (301 - st) + o + 2 ∧ nx = -1 ∧ ca = g ∧ ∃ y n p X me t h kb L l, 2 ≤ y ∧ y ≤ 4 ∧ wy = nI y ∧ wo = nI n ∧ n < 4 ∧ p < 3 ∧ l < 128 ∧ kb ≤ 10 ∧ uw_XT (el p) X y n L l ∧ uw_KM F A M el en sz N rg E ta ex th on op ow ov o (g + 1) p X me t h kb ∧ uw_PG u C A p N g fl (nI st) (nI mc) (nI oc) va ta ex th bg sh L l))
/-- one step of the reference is at most 23 of the component; then they are related again, with less left, or both have ended -/
def uw_NX (F A : Nat → Nat → Int32) (M : Nat → Nat → Bool) (el en sz : Nat → Nat) (N rg E : Nat) (C D : Nat → Int32) (B : Nat → Nat → Int32) (mu : Nat) (u : SX) (v : SY) : Prop :=
  ∃ u' v' k, k ≤ 23 ∧ uw_MS k u u' ∧ uw_Y1 v v' ∧ ((∃ mu', mu' < mu ∧ uw_SM F A M el en sz N rg E C D B mu' u' v') ∨ ∃ s, uw_FN C A D B u' v' s)
def uw_ST (F A : Nat → Nat → Int32) (M : Nat → Nat → Bool) (el en sz : Nat → Nat) (N rg E : Nat) (C : Nat → Int32) (B : Nat → Nat → Int32) : Prop :=
  uw_SG F A N rg E ∧ (C 7) = nI rg ∧ ∀ p, p < 3 → sz p < 20 ∧ (B 5) p = nI (sz p + 1) ∧ (∀ x, x ≤ sz p → uw_AG A B (20 * p + x) ∧ uw_NF A (20 * p + x)) ∧ en p < 350 ∧ (A 9) (en p) = nI 8 ∧ el p < 128 ∧ (A 13) (el p) = nI (en p) ∧
    ∃ a g g' k', (A 12) p = nI a ∧ a < 350 ∧ uw_PO F A M el en sz N rg E p [] (sz p) a (en p) g g' 0 k' rg 0 (en p) 0 (M p (sz p))
theorem uw_sim {F A : Nat → Nat → Int32} {M : Nat → Nat → Bool} {el en sz : Nat → Nat} {N rg E : Nat} {C D : Nat → Int32} {B : Nat → Nat → Int32} (H : ∀ mu u v, uw_SM F A M el en sz N rg E C D B mu u v → uw_NX F A M el en sz N rg E C D B mu u v) : ∀ mu u v, uw_SM F A M el en sz N rg E C D B mu u v →
    ∃ u' v' s, uw_FN C A D B u' v' s ∧ (∀ (post : Int32 → SX → Prop) (n i : Nat), i + 23 * mu ≤ 60000 → post s u' → uw_WX post (n + 23 * mu + 1) (nI i) u) ∧ (∀ (post : Int32 → SY → Prop) (n : Nat), post s v' → uw_WY post (n + mu + 1) v) := by
  intro mu
  induction mu using Nat.strongRecOn with
  | ind mu ih =>
    intro u v h
    obtain ⟨u', v', k, k1, k2, k3, k4⟩ := H mu u v h
    rcases k4 with ⟨mu', m1, m2⟩ | ⟨s, fn⟩
    · obtain ⟨u2, v2, s, f1, f2, f3⟩ := ih mu' m1 u' v' m2
      refine ⟨u2, v2, s, f1, fun post n i hi K => ?_, fun post n K => ?_⟩
      · have g := f2 post (n + 23 * (mu - mu') - k) (i + k) (by omega) K
        have g2 := k2 post _ i (by omega) g
        have e : n + 23 * (mu - mu') - k + 23 * mu' + 1 + k = n + 23 * mu + 1 := by omega
        rw [e] at g2; exact g2
      · have g := f3 post (n + (mu - mu' - 1)) K
        have g2 := k3 post _ g
        have e : n + (mu - mu' - 1) + mu' + 1 + 1 = n + mu + 1 := by omega
        rw [e] at g2; exact g2
    · have hmu : 1 ≤ mu := by
        obtain ⟨g, fl, st, mc, oc, va, ta, ex, th, bg, sh, o, nx, wy, wo, ca, on, op, ow, ov, bg', _, _, b, _, md⟩ := h
        rcases md with md | md | md | md <;> (have := md.1; omega)
      refine ⟨u', v', s, fn, fun post n i hi K => ?_, fun post n K => ?_⟩
      · obtain ⟨f, fl, tv, sc, mc, oc, va, ta, ex, th, bg, sh, o, nx, wy, wo, ca, on, op, ow, ov, bg', e1, e2, s1, s2, _⟩ := fn
        subst e1
        have fin : uw_WX post (n + (23 * mu - k) + 1) (nI (i + k)) (uw_XR C A f fl s tv sc mc (nI oc) va ta ex th bg sh) := br_c (fun _ => K) (fun _ => br_f s1 K)
        have g2 := k2 post _ i (by omega) fin
        have e : n + (23 * mu - k) + 1 + k = n + 23 * mu + 1 := by omega
        rw [e] at g2; exact g2
      · obtain ⟨f, fl, tv, sc, mc, oc, va, ta, ex, th, bg, sh, o, nx, wy, wo, ca, on, op, ow, ov, bg', e1, e2, s1, s2, _⟩ := fn
        subst e2
        have fin : uw_WY post (n + (mu - 1) + 1) (uw_YR D B o nx wy wo ca s tv sc (nI oc) mc on op ow ov va bg' sh) := br_f s2 K
        have g2 := k3 post _ fin
        have e : n + (mu - 1) + 1 + 1 = n + mu + 1 := by omega
        rw [e] at g2; exact g2
end
section
/-! a statement is begun: the simple ones (printed by gen28.py) -/
theorem uw_agk {A B : Nat → Nat → Int32} {t k : Nat} (h : uw_AG A B t) (hk : (A 0) t = nI k) (hk' : k < 16) : (B 0) t = nI (uw_sg k) ∧ (B 3) t = (A 3) t ∧ (B 4) t = (A 4) t ∧ ((1 ≤ k ∧ k ≤ 6) ∨ k = 12 ∨ k = 13 ∨ k = 15 → (B 1) t = (A 1) t) ∧ ((1 ≤ k ∧ k ≤ 4) ∨ k = 7 ∨ k = 8 ∨ k = 10 → (B 2) t = (A 2) t) := by
  obtain ⟨h1, h2, k0, h3, h4, h5, h6, h7⟩ := h
  have : k0 = k := (nI_eq (by omega) (by omega)).mp (h4.symm.trans hk)
  subst this
  exact ⟨h5, h1, h2, h6, h7⟩
theorem uw_cnt {F A : Nat → Nat → Int32} {N rg E : Nat} {C : Nat → Int32} {g st p s a b : Nat} {fl mc oc : Int32} {va ta ex th bg sh : Nat → Int32} (G : uw_SG F A N rg E) (hg : g < 9) (hst : st < 300) (hp : p < 3) (hs : s < 20) (hta : ta g = nI a) (ha : a < 360) (c0 : (F 9) a = nI 0) (c1 : (F 10) a = nI (20 * p + s)) (hb1 : b ≤ st) (hb2 : bg (20 * p + s) = nI b) :
    uw_MS 1 (uw_XR C A (nI (g + 1)) fl (-6) 0 (nI st) mc oc va ta ex th bg sh) (uw_XR C A (nI (g + 1)) fl (-6) 0 (nI (st + 1)) mc oc va (upd ta g (nI (a + 1))) ex th (upd bg (20 * p + s) (nI (b + 1))) sh) :=
  uw_ms1 (uw_x0b hg hta ha ((uw_s9e G a).1.trans c0) ((uw_s9e G a).2.1.trans c1) (by omega) hst hb2 (by omega))
theorem uw_EX_lt {A : Nat → Nat → Int32} {p N l x : Nat} {L : List Nat} (h : uw_EX A p N L l x) : x < N := by
  cases L with
  | nil => exact h.1
  | cons _ _ => exact h.1
section
variable {F A : Nat → Nat → Int32} {M : Nat → Nat → Bool} {el en sz : Nat → Nat} {N rg E : Nat} {C D : Nat → Int32} {B : Nat → Nat → Int32} {g st mc oc o : Nat} {fl wy wo : Int32} {va ta ex th bg sh on op ow ov bg' : Nat → Int32} {p s a e g1 g' k k' h kb t j : Nat} {X : List ((Nat × Nat) ⊕ Nat)}
theorem uw_b0 (S : uw_ST F A M el en sz N rg E C B) (hg : g < 9) (hst : st < 300) (ho : o ≤ st) (hoc : oc ≤ st) (hmc : mc < 100) (hbg : uw_BG st bg bg') (hp : p < 3) (hs : s < 20) (hta : ta g = nI a) (hkb : kb ≤ 10) (c0 : (F 9) a = nI 0) (c1 : (F 10) a = nI (20 * p + s)) (ha : a < e) (HH : uw_HH A rg a e g1 g' h) (LO : uw_LO A g1 a) (kbk : kb ≤ k) (k10 : k' ≤ 10) (grg : g' ≤ rg) (eE : e ≤ E) (ssz : s ≤ sz p) (hJ : M p s = true → uw_J2 F A j e t) (js : j + s ≤ 20) (K : uw_KM F A M el en sz N rg E ta ex th on op ow ov o (g + 1) p X (M p s) t h kb) (hk : (F 0) (20 * p + s) = nI 0) (e1 : e = a + 1) (hM : M p s = true) : uw_NX F A M el en sz N rg E C D B (3 * (301 - st) + o) (uw_XR C A (nI (g + 1)) fl (-6) 0 (nI st) (nI mc) (nI oc) va ta ex th bg sh) (uw_YR D B (nI o) (nI (20 * p + s)) wy wo (nI g) (-1) 0 (nI st) (nI oc) (nI mc) on op ow ov va bg' sh) := by
  obtain ⟨b, hb1, hb2, hb3⟩ := hbg (20 * p + s) (by omega)
  have G := S.1
  have hE := G.2.2.2.2
  obtain ⟨z1, z2, z3, z4, z5, z6, z7, z8⟩ := S.2.2 p hp
  obtain ⟨ag, nf⟩ := z3 s ssz
  obtain ⟨s1, s2, s3, s4, s5⟩ := uw_s0e G (x := 20 * p + s) (by omega)
  have hk' := s1.trans hk
  obtain ⟨y1, y2, y3, y4, y5⟩ := uw_agk ag hk' (by omega)
  have cnt := uw_cnt (C := C) (fl := fl) (mc := nI mc) (oc := nI oc) (va := va) (ex := ex) (th := th) (sh := sh) G hg hst hp hs hta (show a < 360 by omega) c0 c1 hb1 hb2
  have bg2 := uw_bg1 (t := 20 * p + s) hbg hb1
  have t1 : ∀ y : Int32, (upd (upd ta g (nI (a + 1))) g y) = upd ta g y := fun y => uw_uu
  subst e1
  rw [hM] at K
  have K1 := uw_KM_c (ta' := upd ta g (nI (a + 1))) (ex' := ex) (th' := th) (on' := on) (op' := op) (ow' := ow) (ov' := ov) _ _ _ _ _ _ _ _ (fun x hx => pk_un (by omega)) (fun x _ => ⟨rfl, rfl⟩) hkb (fun x _ => ⟨rfl, rfl, rfl, rfl⟩) K
  refine ⟨_, _, 1, by omega, cnt, uw_yb (by omega) (uw_yb_0 hp hs hst hb3 y1), Or.inl ⟨3 * (301 - (st + 1)) + o + 2, by omega, _, _, _, _, _, _, _, _, _, _, _, _, _, _, _, _, _, _, _, _, _, rfl, rfl, by omega, bg2, Or.inr (Or.inl ⟨rfl, rfl, rfl, rfl, p, X, t, h, kb, a + 1, j, hp, pk_us, by omega, (hJ hM).2.1, by omega, hkb, K1⟩)⟩⟩
theorem uw_b1 (S : uw_ST F A M el en sz N rg E C B) (hg : g < 9) (hst : st < 300) (ho : o ≤ st) (hoc : oc ≤ st) (hmc : mc < 100) (hbg : uw_BG st bg bg') (hp : p < 3) (hs : s < 20) (hta : ta g = nI a) (hkb : kb ≤ 10) (c0 : (F 9) a = nI 0) (c1 : (F 10) a = nI (20 * p + s)) (ha : a < e) (HH : uw_HH A rg a e g1 g' h) (LO : uw_LO A g1 a) (kbk : kb ≤ k) (k10 : k' ≤ 10) (grg : g' ≤ rg) (eE : e ≤ E) (ssz : s ≤ sz p) (hJ : M p s = true → uw_J2 F A j e t) (js : j + s ≤ 20) (K : uw_KM F A M el en sz N rg E ta ex th on op ow ov o (g + 1) p X (M p s) t h kb) (hk : (F 0) (20 * p + s) = nI 1) (e1 : e = a + 2) (f1 : (F 9) (a + 1) = nI 1) (f2 : (F 10) (a + 1) = (F 1) (20 * p + s)) (f3 : (F 11) (a + 1) = (F 2) (20 * p + s)) (hM : M p s = true) : uw_NX F A M el en sz N rg E C D B (3 * (301 - st) + o) (uw_XR C A (nI (g + 1)) fl (-6) 0 (nI st) (nI mc) (nI oc) va ta ex th bg sh) (uw_YR D B (nI o) (nI (20 * p + s)) wy wo (nI g) (-1) 0 (nI st) (nI oc) (nI mc) on op ow ov va bg' sh) := by
  obtain ⟨b, hb1, hb2, hb3⟩ := hbg (20 * p + s) (by omega)
  have G := S.1
  have hE := G.2.2.2.2
  obtain ⟨z1, z2, z3, z4, z5, z6, z7, z8⟩ := S.2.2 p hp
  obtain ⟨ag, nf⟩ := z3 s ssz
  obtain ⟨s1, s2, s3, s4, s5⟩ := uw_s0e G (x := 20 * p + s) (by omega)
  have hk' := s1.trans hk
  obtain ⟨y1, y2, y3, y4, y5⟩ := uw_agk ag hk' (by omega)
  have cnt := uw_cnt (C := C) (fl := fl) (mc := nI mc) (oc := nI oc) (va := va) (ex := ex) (th := th) (sh := sh) G hg hst hp hs hta (show a < 360 by omega) c0 c1 hb1 hb2
  have bg2 := uw_bg1 (t := 20 * p + s) hbg hb1
  have t1 : ∀ y : Int32, (upd (upd ta g (nI (a + 1))) g y) = upd ta g y := fun y => uw_uu
  subst e1
  obtain ⟨w, lf⟩ := nf.1 1 (by omega) hk'
  obtain ⟨l1, l2, l3, l4, l5, l6, l7⟩ := lf
  obtain ⟨u1, u2, u3, _⟩ := uw_s9e G (a + 1)
  obtain ⟨r, hr, hr'⟩ := l4 (by omega)
  have yr := (y4 (by omega)).trans hr'
  rw [hM] at K
  have K1 := uw_KM_c (ta' := upd ta g (nI (a + 2))) (ex' := ex) (th' := th) (on' := on) (op' := op) (ow' := ow) (ov' := ov) _ _ _ _ _ _ _ _ (fun x hx => pk_un (by omega)) (fun x _ => ⟨rfl, rfl⟩) hkb (fun x _ => ⟨rfl, rfl, rfl, rfl⟩) K
  have st2 := uw_ms1 (C := C) (fl := fl) (tv := 0) (sc := nI (st + 1)) (mc := nI mc) (oc := nI oc) (va := va) (ex := ex) (th := th) (bg := upd bg (20 * p + s) (nI (b + 1))) (sh := sh) (uw_x1 (ta := upd ta g (nI (a + 1))) (pc := a + 1) hg pk_us (by omega) (u1.trans f1) ((u2.trans f2).trans (s2.symm.trans hr')) ((u3.trans f3).trans s3.symm) hr)
  rw [t1] at st2
  refine ⟨_, _, 2, by omega, uw_mst cnt st2, uw_yb (by omega) (uw_yb_1 hp hs hst hb3 y1 yr hr (y5 (by omega))), Or.inl ⟨3 * (301 - (st + 1)) + o + 2, by omega, _, _, _, _, _, _, _, _, _, _, _, _, _, _, _, _, _, _, _, _, _, rfl, rfl, by omega, bg2, Or.inr (Or.inl ⟨rfl, rfl, rfl, rfl, p, X, t, h, kb, a + 2, j, hp, pk_us, by omega, (hJ hM).2.1, by omega, hkb, K1⟩)⟩⟩
theorem uw_b2 (S : uw_ST F A M el en sz N rg E C B) (hg : g < 9) (hst : st < 300) (ho : o ≤ st) (hoc : oc ≤ st) (hmc : mc < 100) (hbg : uw_BG st bg bg') (hp : p < 3) (hs : s < 20) (hta : ta g = nI a) (hkb : kb ≤ 10) (c0 : (F 9) a = nI 0) (c1 : (F 10) a = nI (20 * p + s)) (ha : a < e) (HH : uw_HH A rg a e g1 g' h) (LO : uw_LO A g1 a) (kbk : kb ≤ k) (k10 : k' ≤ 10) (grg : g' ≤ rg) (eE : e ≤ E) (ssz : s ≤ sz p) (hJ : M p s = true → uw_J2 F A j e t) (js : j + s ≤ 20) (K : uw_KM F A M el en sz N rg E ta ex th on op ow ov o (g + 1) p X (M p s) t h kb) (hk : (F 0) (20 * p + s) = nI 2) (e1 : e = a + 2) (f1 : (F 9) (a + 1) = nI 2) (f2 : (F 10) (a + 1) = (F 1) (20 * p + s)) (f3 : (F 11) (a + 1) = (F 2) (20 * p + s)) (hM : M p s = true) : uw_NX F A M el en sz N rg E C D B (3 * (301 - st) + o) (uw_XR C A (nI (g + 1)) fl (-6) 0 (nI st) (nI mc) (nI oc) va ta ex th bg sh) (uw_YR D B (nI o) (nI (20 * p + s)) wy wo (nI g) (-1) 0 (nI st) (nI oc) (nI mc) on op ow ov va bg' sh) := by
  obtain ⟨b, hb1, hb2, hb3⟩ := hbg (20 * p + s) (by omega)
  have G := S.1
  have hE := G.2.2.2.2
  obtain ⟨z1, z2, z3, z4, z5, z6, z7, z8⟩ := S.2.2 p hp
  obtain ⟨ag, nf⟩ := z3 s ssz
  obtain ⟨s1, s2, s3, s4, s5⟩ := uw_s0e G (x := 20 * p + s) (by omega)
  have hk' := s1.trans hk
  obtain ⟨y1, y2, y3, y4, y5⟩ := uw_agk ag hk' (by omega)
  have cnt := uw_cnt (C := C) (fl := fl) (mc := nI mc) (oc := nI oc) (va := va) (ex := ex) (th := th) (sh := sh) G hg hst hp hs hta (show a < 360 by omega) c0 c1 hb1 hb2
  have bg2 := uw_bg1 (t := 20 * p + s) hbg hb1
  have t1 : ∀ y : Int32, (upd (upd ta g (nI (a + 1))) g y) = upd ta g y := fun y => uw_uu
  subst e1
  obtain ⟨w, lf⟩ := nf.1 2 (by omega) hk'
  obtain ⟨l1, l2, l3, l4, l5, l6, l7⟩ := lf
  obtain ⟨u1, u2, u3, _⟩ := uw_s9e G (a + 1)
  obtain ⟨r, hr, hr'⟩ := l4 (by omega)
  have yr := (y4 (by omega)).trans hr'
  rw [hM] at K
  have K1 := uw_KM_c (ta' := upd ta g (nI (a + 2))) (ex' := ex) (th' := th) (on' := on) (op' := op) (ow' := ow) (ov' := ov) _ _ _ _ _ _ _ _ (fun x hx => pk_un (by omega)) (fun x _ => ⟨rfl, rfl⟩) hkb (fun x _ => ⟨rfl, rfl, rfl, rfl⟩) K
  obtain ⟨m, hm, hm'⟩ := l5 (by omega)
  have yn := (y5 (by omega)).trans hm'
  have st2 := uw_ms1 (C := C) (fl := fl) (tv := 0) (sc := nI (st + 1)) (mc := nI mc) (oc := nI oc) (va := va) (ex := ex) (th := th) (bg := upd bg (20 * p + s) (nI (b + 1))) (sh := sh) (uw_x2 (ta := upd ta g (nI (a + 1))) (pc := a + 1) hg pk_us (by omega) (u1.trans f1) ((u2.trans f2).trans (s2.symm.trans hr')) ((u3.trans f3).trans (s3.symm.trans hm')) hr hm)
  rw [t1] at st2
  refine ⟨_, _, 2, by omega, uw_mst cnt st2, uw_yb (by omega) (uw_yb_2 hp hs hst hb3 y1 yr hr yn hm), Or.inl ⟨3 * (301 - (st + 1)) + o + 2, by omega, _, _, _, _, _, _, _, _, _, _, _, _, _, _, _, _, _, _, _, _, _, rfl, rfl, by omega, bg2, Or.inr (Or.inl ⟨rfl, rfl, rfl, rfl, p, X, t, h, kb, a + 2, j, hp, pk_us, by omega, (hJ hM).2.1, by omega, hkb, K1⟩)⟩⟩
theorem uw_b3 (S : uw_ST F A M el en sz N rg E C B) (hg : g < 9) (hst : st < 300) (ho : o ≤ st) (hoc : oc ≤ st) (hmc : mc < 100) (hbg : uw_BG st bg bg') (hp : p < 3) (hs : s < 20) (hta : ta g = nI a) (hkb : kb ≤ 10) (c0 : (F 9) a = nI 0) (c1 : (F 10) a = nI (20 * p + s)) (ha : a < e) (HH : uw_HH A rg a e g1 g' h) (LO : uw_LO A g1 a) (kbk : kb ≤ k) (k10 : k' ≤ 10) (grg : g' ≤ rg) (eE : e ≤ E) (ssz : s ≤ sz p) (hJ : M p s = true → uw_J2 F A j e t) (js : j + s ≤ 20) (K : uw_KM F A M el en sz N rg E ta ex th on op ow ov o (g + 1) p X (M p s) t h kb) (hk : (F 0) (20 * p + s) = nI 3) (e1 : e = a + 2) (f1 : (F 9) (a + 1) = nI 3) (f2 : (F 10) (a + 1) = (F 1) (20 * p + s)) (f3 : (F 11) (a + 1) = (F 2) (20 * p + s)) (hM : M p s = true) : uw_NX F A M el en sz N rg E C D B (3 * (301 - st) + o) (uw_XR C A (nI (g + 1)) fl (-6) 0 (nI st) (nI mc) (nI oc) va ta ex th bg sh) (uw_YR D B (nI o) (nI (20 * p + s)) wy wo (nI g) (-1) 0 (nI st) (nI oc) (nI mc) on op ow ov va bg' sh) := by
  obtain ⟨b, hb1, hb2, hb3⟩ := hbg (20 * p + s) (by omega)
  have G := S.1
  have hE := G.2.2.2.2
  obtain ⟨z1, z2, z3, z4, z5, z6, z7, z8⟩ := S.2.2 p hp
  obtain ⟨ag, nf⟩ := z3 s ssz
  obtain ⟨s1, s2, s3, s4, s5⟩ := uw_s0e G (x := 20 * p + s) (by omega)
  have hk' := s1.trans hk
  obtain ⟨y1, y2, y3, y4, y5⟩ := uw_agk ag hk' (by omega)
  have cnt := uw_cnt (C := C) (fl := fl) (mc := nI mc) (oc := nI oc) (va := va) (ex := ex) (th := th) (sh := sh) G hg hst hp hs hta (show a < 360 by omega) c0 c1 hb1 hb2
  have bg2 := uw_bg1 (t := 20 * p + s) hbg hb1
  have t1 : ∀ y : Int32, (upd (upd ta g (nI (a + 1))) g y) = upd ta g y := fun y => uw_uu
  subst e1
  obtain ⟨w, lf⟩ := nf.1 3 (by omega) hk'
  obtain ⟨l1, l2, l3, l4, l5, l6, l7⟩ := lf
  obtain ⟨u1, u2, u3, _⟩ := uw_s9e G (a + 1)
  obtain ⟨r, hr, hr'⟩ := l4 (by omega)
  have yr := (y4 (by omega)).trans hr'
  rw [hM] at K
  have K1 := uw_KM_c (ta' := upd ta g (nI (a + 2))) (ex' := ex) (th' := th) (on' := on) (op' := op) (ow' := ow) (ov' := ov) _ _ _ _ _ _ _ _ (fun x hx => pk_un (by omega)) (fun x _ => ⟨rfl, rfl⟩) hkb (fun x _ => ⟨rfl, rfl, rfl, rfl⟩) K
  obtain ⟨m, hm, hm'⟩ := l5 (by omega)
  have yn := (y5 (by omega)).trans hm'
  have st2 := uw_ms1 (C := C) (fl := fl) (tv := 0) (sc := nI (st + 1)) (mc := nI mc) (oc := nI oc) (va := va) (ex := ex) (th := th) (bg := upd bg (20 * p + s) (nI (b + 1))) (sh := sh) (uw_x3 (ta := upd ta g (nI (a + 1))) (pc := a + 1) hg pk_us (by omega) (u1.trans f1) ((u2.trans f2).trans (s2.symm.trans hr')) ((u3.trans f3).trans (s3.symm.trans hm')) hr hm)
  rw [t1] at st2
  refine ⟨_, _, 2, by omega, uw_mst cnt st2, uw_yb (by omega) (uw_yb_3 hp hs hst hb3 y1 yr hr yn hm), Or.inl ⟨3 * (301 - (st + 1)) + o + 2, by omega, _, _, _, _, _, _, _, _, _, _, _, _, _, _, _, _, _, _, _, _, _, rfl, rfl, by omega, bg2, Or.inr (Or.inl ⟨rfl, rfl, rfl, rfl, p, X, t, h, kb, a + 2, j, hp, pk_us, by omega, (hJ hM).2.1, by omega, hkb, K1⟩)⟩⟩
theorem uw_b4 (S : uw_ST F A M el en sz N rg E C B) (hg : g < 9) (hst : st < 300) (ho : o ≤ st) (hoc : oc ≤ st) (hmc : mc < 100) (hbg : uw_BG st bg bg') (hp : p < 3) (hs : s < 20) (hta : ta g = nI a) (hkb : kb ≤ 10) (c0 : (F 9) a = nI 0) (c1 : (F 10) a = nI (20 * p + s)) (ha : a < e) (HH : uw_HH A rg a e g1 g' h) (LO : uw_LO A g1 a) (kbk : kb ≤ k) (k10 : k' ≤ 10) (grg : g' ≤ rg) (eE : e ≤ E) (ssz : s ≤ sz p) (hJ : M p s = true → uw_J2 F A j e t) (js : j + s ≤ 20) (K : uw_KM F A M el en sz N rg E ta ex th on op ow ov o (g + 1) p X (M p s) t h kb) (hk : (F 0) (20 * p + s) = nI 4) (e1 : e = a + 2) (f1 : (F 9) (a + 1) = nI 4) (f2 : (F 10) (a + 1) = (F 1) (20 * p + s)) (f3 : (F 11) (a + 1) = (F 2) (20 * p + s)) (hM : M p s = true) : uw_NX F A M el en sz N rg E C D B (3 * (301 - st) + o) (uw_XR C A (nI (g + 1)) fl (-6) 0 (nI st) (nI mc) (nI oc) va ta ex th bg sh) (uw_YR D B (nI o) (nI (20 * p + s)) wy wo (nI g) (-1) 0 (nI st) (nI oc) (nI mc) on op ow ov va bg' sh) := by
  obtain ⟨b, hb1, hb2, hb3⟩ := hbg (20 * p + s) (by omega)
  have G := S.1
  have hE := G.2.2.2.2
  obtain ⟨z1, z2, z3, z4, z5, z6, z7, z8⟩ := S.2.2 p hp
  obtain ⟨ag, nf⟩ := z3 s ssz
  obtain ⟨s1, s2, s3, s4, s5⟩ := uw_s0e G (x := 20 * p + s) (by omega)
  have hk' := s1.trans hk
  obtain ⟨y1, y2, y3, y4, y5⟩ := uw_agk ag hk' (by omega)
  have cnt := uw_cnt (C := C) (fl := fl) (mc := nI mc) (oc := nI oc) (va := va) (ex := ex) (th := th) (sh := sh) G hg hst hp hs hta (show a < 360 by omega) c0 c1 hb1 hb2
  have bg2 := uw_bg1 (t := 20 * p + s) hbg hb1
  have t1 : ∀ y : Int32, (upd (upd ta g (nI (a + 1))) g y) = upd ta g y := fun y => uw_uu
  subst e1
  obtain ⟨w, lf⟩ := nf.1 4 (by omega) hk'
  obtain ⟨l1, l2, l3, l4, l5, l6, l7⟩ := lf
  obtain ⟨u1, u2, u3, _⟩ := uw_s9e G (a + 1)
  obtain ⟨r, hr, hr'⟩ := l4 (by omega)
  have yr := (y4 (by omega)).trans hr'
  rw [hM] at K
  have K1 := uw_KM_c (ta' := upd ta g (nI (a + 2))) (ex' := ex) (th' := th) (on' := on) (op' := op) (ow' := ow) (ov' := ov) _ _ _ _ _ _ _ _ (fun x hx => pk_un (by omega)) (fun x _ => ⟨rfl, rfl⟩) hkb (fun x _ => ⟨rfl, rfl, rfl, rfl⟩) K
  obtain ⟨m, hm, hm'⟩ := l5 (by omega)
  have yn := (y5 (by omega)).trans hm'
  have st2 := uw_ms1 (C := C) (fl := fl) (tv := 0) (sc := nI (st + 1)) (mc := nI mc) (oc := nI oc) (va := va) (ex := ex) (th := th) (bg := upd bg (20 * p + s) (nI (b + 1))) (sh := sh) (uw_x4 (ta := upd ta g (nI (a + 1))) (pc := a + 1) hg pk_us (by omega) (u1.trans f1) ((u2.trans f2).trans (s2.symm.trans hr')) ((u3.trans f3).trans (s3.symm.trans hm')) hr hm)
  rw [t1] at st2
  refine ⟨_, _, 2, by omega, uw_mst cnt st2, uw_yb (by omega) (uw_yb_4 hp hs hst hb3 y1 yr hr yn hm), Or.inl ⟨3 * (301 - (st + 1)) + o + 2, by omega, _, _, _, _, _, _, _, _, _, _, _, _, _, _, _, _, _, _, _, _, _, rfl, rfl, by omega, bg2, Or.inr (Or.inl ⟨rfl, rfl, rfl, rfl, p, X, t, h, kb, a + 2, j, hp, pk_us, by omega, (hJ hM).2.1, by omega, hkb, K1⟩)⟩⟩
theorem uw_b5 (S : uw_ST F A M el en sz N rg E C B) (hg : g < 9) (hst : st < 300) (ho : o ≤ st) (hoc : oc ≤ st) (hmc : mc < 100) (hbg : uw_BG st bg bg') (hp : p < 3) (hs : s < 20) (hta : ta g = nI a) (hkb : kb ≤ 10) (c0 : (F 9) a = nI 0) (c1 : (F 10) a = nI (20 * p + s)) (ha : a < e) (HH : uw_HH A rg a e g1 g' h) (LO : uw_LO A g1 a) (kbk : kb ≤ k) (k10 : k' ≤ 10) (grg : g' ≤ rg) (eE : e ≤ E) (ssz : s ≤ sz p) (hJ : M p s = true → uw_J2 F A j e t) (js : j + s ≤ 20) (K : uw_KM F A M el en sz N rg E ta ex th on op ow ov o (g + 1) p X (M p s) t h kb) (hk : (F 0) (20 * p + s) = nI 5) (e1 : e = a + 2) (f1 : (F 9) (a + 1) = nI 5) (f2 : (F 10) (a + 1) = (F 1) (20 * p + s)) (f3 : (F 11) (a + 1) = (F 2) (20 * p + s)) (hM : M p s = true) : uw_NX F A M el en sz N rg E C D B (3 * (301 - st) + o) (uw_XR C A (nI (g + 1)) fl (-6) 0 (nI st) (nI mc) (nI oc) va ta ex th bg sh) (uw_YR D B (nI o) (nI (20 * p + s)) wy wo (nI g) (-1) 0 (nI st) (nI oc) (nI mc) on op ow ov va bg' sh) := by
  obtain ⟨b, hb1, hb2, hb3⟩ := hbg (20 * p + s) (by omega)
  have G := S.1
  have hE := G.2.2.2.2
  obtain ⟨z1, z2, z3, z4, z5, z6, z7, z8⟩ := S.2.2 p hp
  obtain ⟨ag, nf⟩ := z3 s ssz
  obtain ⟨s1, s2, s3, s4, s5⟩ := uw_s0e G (x := 20 * p + s) (by omega)
  have hk' := s1.trans hk
  obtain ⟨y1, y2, y3, y4, y5⟩ := uw_agk ag hk' (by omega)
  have cnt := uw_cnt (C := C) (fl := fl) (mc := nI mc) (oc := nI oc) (va := va) (ex := ex) (th := th) (sh := sh) G hg hst hp hs hta (show a < 360 by omega) c0 c1 hb1 hb2
  have bg2 := uw_bg1 (t := 20 * p + s) hbg hb1
  have t1 : ∀ y : Int32, (upd (upd ta g (nI (a + 1))) g y) = upd ta g y := fun y => uw_uu
  subst e1
  obtain ⟨w, lf⟩ := nf.1 5 (by omega) hk'
  obtain ⟨l1, l2, l3, l4, l5, l6, l7⟩ := lf
  obtain ⟨u1, u2, u3, _⟩ := uw_s9e G (a + 1)
  obtain ⟨r, hr, hr'⟩ := l4 (by omega)
  have yr := (y4 (by omega)).trans hr'
  rw [hM] at K
  have K1 := uw_KM_c (ta' := upd ta g (nI (a + 2))) (ex' := ex) (th' := th) (on' := on) (op' := op) (ow' := ow) (ov' := ov) _ _ _ _ _ _ _ _ (fun x hx => pk_un (by omega)) (fun x _ => ⟨rfl, rfl⟩) hkb (fun x _ => ⟨rfl, rfl, rfl, rfl⟩) K
  have st2 := uw_ms1 (C := C) (fl := fl) (tv := 0) (sc := nI (st + 1)) (mc := nI mc) (oc := nI oc) (va := va) (ex := ex) (th := th) (bg := upd bg (20 * p + s) (nI (b + 1))) (sh := sh) (uw_x5 (ta := upd ta g (nI (a + 1))) (pc := a + 1) hg pk_us (by omega) (u1.trans f1) ((u2.trans f2).trans (s2.symm.trans hr')) hr (show oc < 300 by omega))
  rw [t1] at st2
  refine ⟨_, _, 2, by omega, uw_mst cnt st2, uw_yb (by omega) (uw_yb_5 hp hs hst hb3 y1 yr hr (show oc < 300 by omega)), Or.inl ⟨3 * (301 - (st + 1)) + o + 2, by omega, _, _, _, _, _, _, _, _, _, _, _, _, _, _, _, _, _, _, _, _, _, rfl, rfl, by omega, bg2, Or.inr (Or.inl ⟨rfl, rfl, rfl, rfl, p, X, t, h, kb, a + 2, j, hp, pk_us, by omega, (hJ hM).2.1, by omega, hkb, K1⟩)⟩⟩
theorem uw_b6 (S : uw_ST F A M el en sz N rg E C B) (hg : g < 9) (hst : st < 300) (ho : o ≤ st) (hoc : oc ≤ st) (hmc : mc < 100) (hbg : uw_BG st bg bg') (hp : p < 3) (hs : s < 20) (hta : ta g = nI a) (hkb : kb ≤ 10) (c0 : (F 9) a = nI 0) (c1 : (F 10) a = nI (20 * p + s)) (ha : a < e) (HH : uw_HH A rg a e g1 g' h) (LO : uw_LO A g1 a) (kbk : kb ≤ k) (k10 : k' ≤ 10) (grg : g' ≤ rg) (eE : e ≤ E) (ssz : s ≤ sz p) (hJ : M p s = true → uw_J2 F A j e t) (js : j + s ≤ 20) (K : uw_KM F A M el en sz N rg E ta ex th on op ow ov o (g + 1) p X (M p s) t h kb) (hk : (F 0) (20 * p + s) = nI 6) (hgg : g' = g1) (e1 : e = a + 2) (f1 : (F 9) (a + 1) = nI 6) (f2 : (F 10) (a + 1) = (F 1) (20 * p + s)) : uw_NX F A M el en sz N rg E C D B (3 * (301 - st) + o) (uw_XR C A (nI (g + 1)) fl (-6) 0 (nI st) (nI mc) (nI oc) va ta ex th bg sh) (uw_YR D B (nI o) (nI (20 * p + s)) wy wo (nI g) (-1) 0 (nI st) (nI oc) (nI mc) on op ow ov va bg' sh) := by
  obtain ⟨b, hb1, hb2, hb3⟩ := hbg (20 * p + s) (by omega)
  have G := S.1
  have hE := G.2.2.2.2
  obtain ⟨z1, z2, z3, z4, z5, z6, z7, z8⟩ := S.2.2 p hp
  obtain ⟨ag, nf⟩ := z3 s ssz
  obtain ⟨s1, s2, s3, s4, s5⟩ := uw_s0e G (x := 20 * p + s) (by omega)
  have hk' := s1.trans hk
  obtain ⟨y1, y2, y3, y4, y5⟩ := uw_agk ag hk' (by omega)
  have cnt := uw_cnt (C := C) (fl := fl) (mc := nI mc) (oc := nI oc) (va := va) (ex := ex) (th := th) (sh := sh) G hg hst hp hs hta (show a < 360 by omega) c0 c1 hb1 hb2
  have bg2 := uw_bg1 (t := 20 * p + s) hbg hb1
  have t1 : ∀ y : Int32, (upd (upd ta g (nI (a + 1))) g y) = upd ta g y := fun y => uw_uu
  subst e1
  obtain ⟨w, lf⟩ := nf.1 6 (by omega) hk'
  obtain ⟨l1, l2, l3, l4, l5, l6, l7⟩ := lf
  obtain ⟨u1, u2, u3, _⟩ := uw_s9e G (a + 1)
  obtain ⟨r, hr, hr'⟩ := l4 (by omega)
  have yr := (y4 (by omega)).trans hr'
  have K1 := uw_KM_c (ta' := upd ta g (nI (a + 2))) (ex' := ex) (th' := th) (on' := on) (op' := op) (ow' := ow) (ov' := ov) _ _ _ _ _ _ _ _ (fun x hx => pk_un (by omega)) (fun x _ => ⟨rfl, rfl⟩) hkb (fun x _ => ⟨rfl, rfl, rfl, rfl⟩) K
  have fr := HH (a + 1) (by omega) (by omega) (fun i h1 h2 => by have := hgg; omega)
  have pr := uw_x6 (C := C) (A := A) (fl := fl) (s := -6) (tv := 0) (sc := nI (st + 1)) (mc := nI mc) (oc := nI oc) (va := va) (ex := ex) (th := th) (bg := upd bg (20 * p + s) (nI (b + 1))) (sh := sh) (ta := upd ta g (nI (a + 1))) (pc := a + 1) hg pk_us (by omega) (u1.trans f1) ((u2.trans f2).trans (s2.symm.trans hr')) hr
  rw [t1] at pr
  refine ⟨_, _, 1, by omega, cnt, uw_yb (by omega) (uw_yb_6 hp hs hst hb3 y1 yr hr), Or.inl ⟨3 * (301 - (st + 1)) + o + 2, by omega, _, _, _, _, _, _, _, _, _, _, _, _, _, _, _, _, _, _, _, _, _, rfl, rfl, by omega, bg2, Or.inr (Or.inr (Or.inl ⟨rfl, rfl, rfl, p, X, _, t, h, kb, 0, upd ta g (nI (a + 2)), a + 1, hp, by omega, pk_us, by omega, fr, hkb, K1, pr⟩))⟩⟩
theorem uw_b7 (S : uw_ST F A M el en sz N rg E C B) (hg : g < 9) (hst : st < 300) (ho : o ≤ st) (hoc : oc ≤ st) (hmc : mc < 100) (hbg : uw_BG st bg bg') (hp : p < 3) (hs : s < 20) (hta : ta g = nI a) (hkb : kb ≤ 10) (c0 : (F 9) a = nI 0) (c1 : (F 10) a = nI (20 * p + s)) (ha : a < e) (HH : uw_HH A rg a e g1 g' h) (LO : uw_LO A g1 a) (kbk : kb ≤ k) (k10 : k' ≤ 10) (grg : g' ≤ rg) (eE : e ≤ E) (ssz : s ≤ sz p) (hJ : M p s = true → uw_J2 F A j e t) (js : j + s ≤ 20) (K : uw_KM F A M el en sz N rg E ta ex th on op ow ov o (g + 1) p X (M p s) t h kb) (hk : (F 0) (20 * p + s) = nI 7) {nn l : Nat} {L : List Nat} (e1 : e = a + 2) (hn4 : nn < 4) (hn7 : 7 ≠ 9 → (F 2) (20 * p + s) = nI nn) (hn9 : 7 = 9 → nn = 0) (hl : l < 128) (xt : uw_XT (el p) X 2 nn L l) (go : uw_GO F p N L l (a + 1)) : uw_NX F A M el en sz N rg E C D B (3 * (301 - st) + o) (uw_XR C A (nI (g + 1)) fl (-6) 0 (nI st) (nI mc) (nI oc) va ta ex th bg sh) (uw_YR D B (nI o) (nI (20 * p + s)) wy wo (nI g) (-1) 0 (nI st) (nI oc) (nI mc) on op ow ov va bg' sh) := by
  obtain ⟨b, hb1, hb2, hb3⟩ := hbg (20 * p + s) (by omega)
  have G := S.1
  have hE := G.2.2.2.2
  obtain ⟨z1, z2, z3, z4, z5, z6, z7, z8⟩ := S.2.2 p hp
  obtain ⟨ag, nf⟩ := z3 s ssz
  obtain ⟨s1, s2, s3, s4, s5⟩ := uw_s0e G (x := 20 * p + s) (by omega)
  have hk' := s1.trans hk
  obtain ⟨y1, y2, y3, y4, y5⟩ := uw_agk ag hk' (by omega)
  have cnt := uw_cnt (C := C) (fl := fl) (mc := nI mc) (oc := nI oc) (va := va) (ex := ex) (th := th) (sh := sh) G hg hst hp hs hta (show a < 360 by omega) c0 c1 hb1 hb2
  have bg2 := uw_bg1 (t := 20 * p + s) hbg hb1
  have t1 : ∀ y : Int32, (upd (upd ta g (nI (a + 1))) g y) = upd ta g y := fun y => uw_uu
  subst e1
  obtain ⟨u1, u2, u3, _⟩ := uw_s9e G (a + 1)
  have yn := (y5 (by omega)).trans (s3.trans (hn7 (by omega)))
  have K1 := uw_KM_c (ta' := upd ta g (nI (a + 1))) (ex' := ex) (th' := th) (on' := on) (op' := op) (ow' := ow) (ov' := ov) _ _ _ _ _ _ _ _ (fun x hx => pk_un (by omega)) (fun x _ => ⟨rfl, rfl⟩) hkb (fun x _ => ⟨rfl, rfl, rfl, rfl⟩) K
  have pg : uw_PG (uw_XR C A (nI (g + 1)) fl (-6) 0 (nI (st + 1)) (nI mc) (nI oc) va (upd ta g (nI (a + 1))) ex th (upd bg (20 * p + s) (nI (b + 1))) sh) C A p N g fl (nI (st + 1)) (nI mc) (nI oc) va (upd ta g (nI (a + 1))) ex th (upd bg (20 * p + s) (nI (b + 1))) sh L l := by
    cases L with
    | nil => exact fun q hq hL => uw_x9 (ta := upd ta g (nI (a + 1))) (pc := a + 1) hg pk_us (by omega) (u1.trans go.1) (u2.trans go.2) hl (by omega) hL
    | cons q L =>
      obtain ⟨o1, o2, o3, x, o4, o5⟩ := go
      have ox : x < 200 := by have := uw_EX_lt o5; have := G.2.2.2.1; omega
      refine ⟨o1, x, uw_EX_c (Nat.le_refl _) (fun y _ => ⟨(uw_s9e G y).2.2.2.2.2.1, (uw_s9e G y).2.2.2.2.2.2.1, (uw_s9e G y).2.2.2.2.2.2.2.1⟩) _ _ o5, fun bl q' b1 b2 b3 b4 => uw_x12 (ta := upd ta g (nI (a + 1))) (pc := a + 1) hg pk_us (by omega) (u1.trans o2) (u2.trans o3) (u3.trans o4) hp o1 ox b1 b2 (by omega) b4⟩
  refine ⟨_, _, 1, by omega, cnt, uw_yb (by omega) (uw_yb_7 hp hs hst hb3 y1 yn), Or.inl ⟨3 * (301 - (st + 1)) + o + 2, by omega, _, _, _, _, _, _, _, _, _, _, _, _, _, _, _, _, _, _, _, _, _, rfl, rfl, by omega, bg2, Or.inr (Or.inr (Or.inr ⟨rfl, rfl, rfl, 2, nn, p, X, _, t, h, kb, L, l, by omega, by omega, rfl, rfl, hn4, hp, hl, hkb, xt, K1, pg⟩))⟩⟩
theorem uw_b8 (S : uw_ST F A M el en sz N rg E C B) (hg : g < 9) (hst : st < 300) (ho : o ≤ st) (hoc : oc ≤ st) (hmc : mc < 100) (hbg : uw_BG st bg bg') (hp : p < 3) (hs : s < 20) (hta : ta g = nI a) (hkb : kb ≤ 10) (c0 : (F 9) a = nI 0) (c1 : (F 10) a = nI (20 * p + s)) (ha : a < e) (HH : uw_HH A rg a e g1 g' h) (LO : uw_LO A g1 a) (kbk : kb ≤ k) (k10 : k' ≤ 10) (grg : g' ≤ rg) (eE : e ≤ E) (ssz : s ≤ sz p) (hJ : M p s = true → uw_J2 F A j e t) (js : j + s ≤ 20) (K : uw_KM F A M el en sz N rg E ta ex th on op ow ov o (g + 1) p X (M p s) t h kb) (hk : (F 0) (20 * p + s) = nI 8) {nn l : Nat} {L : List Nat} (e1 : e = a + 2) (hn4 : nn < 4) (hn7 : 8 ≠ 9 → (F 2) (20 * p + s) = nI nn) (hn9 : 8 = 9 → nn = 0) (hl : l < 128) (xt : uw_XT (el p) X 3 nn L l) (go : uw_GO F p N L l (a + 1)) : uw_NX F A M el en sz N rg E C D B (3 * (301 - st) + o) (uw_XR C A (nI (g + 1)) fl (-6) 0 (nI st) (nI mc) (nI oc) va ta ex th bg sh) (uw_YR D B (nI o) (nI (20 * p + s)) wy wo (nI g) (-1) 0 (nI st) (nI oc) (nI mc) on op ow ov va bg' sh) := by
  obtain ⟨b, hb1, hb2, hb3⟩ := hbg (20 * p + s) (by omega)
  have G := S.1
  have hE := G.2.2.2.2
  obtain ⟨z1, z2, z3, z4, z5, z6, z7, z8⟩ := S.2.2 p hp
  obtain ⟨ag, nf⟩ := z3 s ssz
  obtain ⟨s1, s2, s3, s4, s5⟩ := uw_s0e G (x := 20 * p + s) (by omega)
  have hk' := s1.trans hk
  obtain ⟨y1, y2, y3, y4, y5⟩ := uw_agk ag hk' (by omega)
  have cnt := uw_cnt (C := C) (fl := fl) (mc := nI mc) (oc := nI oc) (va := va) (ex := ex) (th := th) (sh := sh) G hg hst hp hs hta (show a < 360 by omega) c0 c1 hb1 hb2
  have bg2 := uw_bg1 (t := 20 * p + s) hbg hb1
  have t1 : ∀ y : Int32, (upd (upd ta g (nI (a + 1))) g y) = upd ta g y := fun y => uw_uu
  subst e1
  obtain ⟨u1, u2, u3, _⟩ := uw_s9e G (a + 1)
  have yn := (y5 (by omega)).trans (s3.trans (hn7 (by omega)))
  have K1 := uw_KM_c (ta' := upd ta g (nI (a + 1))) (ex' := ex) (th' := th) (on' := on) (op' := op) (ow' := ow) (ov' := ov) _ _ _ _ _ _ _ _ (fun x hx => pk_un (by omega)) (fun x _ => ⟨rfl, rfl⟩) hkb (fun x _ => ⟨rfl, rfl, rfl, rfl⟩) K
  have pg : uw_PG (uw_XR C A (nI (g + 1)) fl (-6) 0 (nI (st + 1)) (nI mc) (nI oc) va (upd ta g (nI (a + 1))) ex th (upd bg (20 * p + s) (nI (b + 1))) sh) C A p N g fl (nI (st + 1)) (nI mc) (nI oc) va (upd ta g (nI (a + 1))) ex th (upd bg (20 * p + s) (nI (b + 1))) sh L l := by
    cases L with
    | nil => exact fun q hq hL => uw_x9 (ta := upd ta g (nI (a + 1))) (pc := a + 1) hg pk_us (by omega) (u1.trans go.1) (u2.trans go.2) hl (by omega) hL
    | cons q L =>
      obtain ⟨o1, o2, o3, x, o4, o5⟩ := go
      have ox : x < 200 := by have := uw_EX_lt o5; have := G.2.2.2.1; omega
      refine ⟨o1, x, uw_EX_c (Nat.le_refl _) (fun y _ => ⟨(uw_s9e G y).2.2.2.2.2.1, (uw_s9e G y).2.2.2.2.2.2.1, (uw_s9e G y).2.2.2.2.2.2.2.1⟩) _ _ o5, fun bl q' b1 b2 b3 b4 => uw_x12 (ta := upd ta g (nI (a + 1))) (pc := a + 1) hg pk_us (by omega) (u1.trans o2) (u2.trans o3) (u3.trans o4) hp o1 ox b1 b2 (by omega) b4⟩
  refine ⟨_, _, 1, by omega, cnt, uw_yb (by omega) (uw_yb_8 hp hs hst hb3 y1 yn), Or.inl ⟨3 * (301 - (st + 1)) + o + 2, by omega, _, _, _, _, _, _, _, _, _, _, _, _, _, _, _, _, _, _, _, _, _, rfl, rfl, by omega, bg2, Or.inr (Or.inr (Or.inr ⟨rfl, rfl, rfl, 3, nn, p, X, _, t, h, kb, L, l, by omega, by omega, rfl, rfl, hn4, hp, hl, hkb, xt, K1, pg⟩))⟩⟩
theorem uw_b9 (S : uw_ST F A M el en sz N rg E C B) (hg : g < 9) (hst : st < 300) (ho : o ≤ st) (hoc : oc ≤ st) (hmc : mc < 100) (hbg : uw_BG st bg bg') (hp : p < 3) (hs : s < 20) (hta : ta g = nI a) (hkb : kb ≤ 10) (c0 : (F 9) a = nI 0) (c1 : (F 10) a = nI (20 * p + s)) (ha : a < e) (HH : uw_HH A rg a e g1 g' h) (LO : uw_LO A g1 a) (kbk : kb ≤ k) (k10 : k' ≤ 10) (grg : g' ≤ rg) (eE : e ≤ E) (ssz : s ≤ sz p) (hJ : M p s = true → uw_J2 F A j e t) (js : j + s ≤ 20) (K : uw_KM F A M el en sz N rg E ta ex th on op ow ov o (g + 1) p X (M p s) t h kb) (hk : (F 0) (20 * p + s) = nI 9) {nn l : Nat} {L : List Nat} (e1 : e = a + 2) (hn4 : nn < 4) (hn7 : 9 ≠ 9 → (F 2) (20 * p + s) = nI nn) (hn9 : 9 = 9 → nn = 0) (hl : l < 128) (xt : uw_XT (el p) X 4 nn L l) (go : uw_GO F p N L l (a + 1)) : uw_NX F A M el en sz N rg E C D B (3 * (301 - st) + o) (uw_XR C A (nI (g + 1)) fl (-6) 0 (nI st) (nI mc) (nI oc) va ta ex th bg sh) (uw_YR D B (nI o) (nI (20 * p + s)) wy wo (nI g) (-1) 0 (nI st) (nI oc) (nI mc) on op ow ov va bg' sh) := by
  obtain ⟨b, hb1, hb2, hb3⟩ := hbg (20 * p + s) (by omega)
  have G := S.1
  have hE := G.2.2.2.2
  obtain ⟨z1, z2, z3, z4, z5, z6, z7, z8⟩ := S.2.2 p hp
  obtain ⟨ag, nf⟩ := z3 s ssz
  obtain ⟨s1, s2, s3, s4, s5⟩ := uw_s0e G (x := 20 * p + s) (by omega)
  have hk' := s1.trans hk
  obtain ⟨y1, y2, y3, y4, y5⟩ := uw_agk ag hk' (by omega)
  have cnt := uw_cnt (C := C) (fl := fl) (mc := nI mc) (oc := nI oc) (va := va) (ex := ex) (th := th) (sh := sh) G hg hst hp hs hta (show a < 360 by omega) c0 c1 hb1 hb2
  have bg2 := uw_bg1 (t := 20 * p + s) hbg hb1
  have t1 : ∀ y : Int32, (upd (upd ta g (nI (a + 1))) g y) = upd ta g y := fun y => uw_uu
  subst e1
  obtain ⟨u1, u2, u3, _⟩ := uw_s9e G (a + 1)
  obtain rfl := hn9 rfl
  have K1 := uw_KM_c (ta' := upd ta g (nI (a + 1))) (ex' := ex) (th' := th) (on' := on) (op' := op) (ow' := ow) (ov' := ov) _ _ _ _ _ _ _ _ (fun x hx => pk_un (by omega)) (fun x _ => ⟨rfl, rfl⟩) hkb (fun x _ => ⟨rfl, rfl, rfl, rfl⟩) K
  have pg : uw_PG (uw_XR C A (nI (g + 1)) fl (-6) 0 (nI (st + 1)) (nI mc) (nI oc) va (upd ta g (nI (a + 1))) ex th (upd bg (20 * p + s) (nI (b + 1))) sh) C A p N g fl (nI (st + 1)) (nI mc) (nI oc) va (upd ta g (nI (a + 1))) ex th (upd bg (20 * p + s) (nI (b + 1))) sh L l := by
    cases L with
    | nil => exact fun q hq hL => uw_x9 (ta := upd ta g (nI (a + 1))) (pc := a + 1) hg pk_us (by omega) (u1.trans go.1) (u2.trans go.2) hl (by omega) hL
    | cons q L =>
      obtain ⟨o1, o2, o3, x, o4, o5⟩ := go
      have ox : x < 200 := by have := uw_EX_lt o5; have := G.2.2.2.1; omega
      refine ⟨o1, x, uw_EX_c (Nat.le_refl _) (fun y _ => ⟨(uw_s9e G y).2.2.2.2.2.1, (uw_s9e G y).2.2.2.2.2.2.1, (uw_s9e G y).2.2.2.2.2.2.2.1⟩) _ _ o5, fun bl q' b1 b2 b3 b4 => uw_x12 (ta := upd ta g (nI (a + 1))) (pc := a + 1) hg pk_us (by omega) (u1.trans o2) (u2.trans o3) (u3.trans o4) hp o1 ox b1 b2 (by omega) b4⟩
  refine ⟨_, _, 1, by omega, cnt, uw_yb (by omega) (uw_yb_9 hp hs hst hb3 y1), Or.inl ⟨3 * (301 - (st + 1)) + o + 2, by omega, _, _, _, _, _, _, _, _, _, _, _, _, _, _, _, _, _, _, _, _, _, rfl, rfl, by omega, bg2, Or.inr (Or.inr (Or.inr ⟨rfl, rfl, rfl, 4, 0, p, X, _, t, h, kb, L, l, by omega, by omega, rfl, rfl, hn4, hp, hl, hkb, xt, K1, pg⟩))⟩⟩
end
end
section
/-! a statement is begun: call and those with parts (printed by gen28.py) -/
section
variable {F A : Nat → Nat → Int32} {M : Nat → Nat → Bool} {el en sz : Nat → Nat} {N rg E : Nat} {C D : Nat → Int32} {B : Nat → Nat → Int32} {g st mc oc o : Nat} {fl wy wo : Int32} {va ta ex th bg sh on op ow ov bg' : Nat → Int32} {p s a e g1 g' k k' h kb t j : Nat} {X : List ((Nat × Nat) ⊕ Nat)}
theorem uw_b10a (S : uw_ST F A M el en sz N rg E C B) (hg : g < 9) (hst : st < 300) (ho : o ≤ st) (hoc : oc ≤ st) (hmc : mc < 100) (hbg : uw_BG st bg bg') (hp : p < 3) (hs : s < 20) (hta : ta g = nI a) (hkb : kb ≤ 10) (c0 : (F 9) a = nI 0) (c1 : (F 10) a = nI (20 * p + s)) (ha : a < e) (HH : uw_HH A rg a e g1 g' h) (LO : uw_LO A g1 a) (kbk : kb ≤ k) (k10 : k' ≤ 10) (grg : g' ≤ rg) (eE : e ≤ E) (ssz : s ≤ sz p) (hJ : M p s = true → uw_J2 F A j e t) (js : j + s ≤ 20) (K : uw_KM F A M el en sz N rg E ta ex th on op ow ov o (g + 1) p X (M p s) t h kb) (hk : (F 0) (20 * p + s) = nI 10) (hgg : g' = g1) (e1 : e = a + 2) (f1 : (F 9) (a + 1) = nI 7) (f2 : (F 10) (a + 1) = (F 2) (20 * p + s)) (g8 : g = 8) : uw_NX F A M el en sz N rg E C D B (3 * (301 - st) + o) (uw_XR C A (nI (g + 1)) fl (-6) 0 (nI st) (nI mc) (nI oc) va ta ex th bg sh) (uw_YR D B (nI o) (nI (20 * p + s)) wy wo (nI g) (-1) 0 (nI st) (nI oc) (nI mc) on op ow ov va bg' sh) := by
  obtain ⟨b, hb1, hb2, hb3⟩ := hbg (20 * p + s) (by omega)
  have G := S.1
  have hE := G.2.2.2.2
  obtain ⟨z1, z2, z3, z4, z5, z6, z7, z8⟩ := S.2.2 p hp
  obtain ⟨ag, nf⟩ := z3 s ssz
  obtain ⟨s1, s2, s3, s4, s5⟩ := uw_s0e G (x := 20 * p + s) (by omega)
  have hk' := s1.trans hk
  obtain ⟨y1, y2, y3, y4, y5⟩ := uw_agk ag hk' (by omega)
  have cnt := uw_cnt (C := C) (fl := fl) (mc := nI mc) (oc := nI oc) (va := va) (ex := ex) (th := th) (sh := sh) G hg hst hp hs hta (show a < 360 by omega) c0 c1 hb1 hb2
  have bg2 := uw_bg1 (t := 20 * p + s) hbg hb1
  have t1 : ∀ y : Int32, (upd (upd ta g (nI (a + 1))) g y) = upd ta g y := fun y => uw_uu
  subst g8
  subst e1
  obtain ⟨w, lf⟩ := nf.1 10 (by omega) hk'
  obtain ⟨l1, l2, l3, l4, l5, l6, l7⟩ := lf
  obtain ⟨u1, u2, u3, _⟩ := uw_s9e G (a + 1)
  obtain ⟨q, hq, hq'⟩ := l7 rfl
  have st2 := uw_ms1 (C := C) (fl := fl) (tv := 0) (sc := nI (st + 1)) (mc := nI mc) (oc := nI oc) (va := va) (ex := ex) (th := th) (bg := upd bg (20 * p + s) (nI (b + 1))) (sh := sh) (uw_x7a (p := q) (ta := upd ta 8 (nI (a + 1))) (pc := a + 1) pk_us (by omega) (u1.trans f1) ((u2.trans f2).trans (s3.symm.trans hq')))
  refine ⟨_, _, 2, by omega, uw_mst cnt st2, uw_yb (by omega) (uw_yb_10a hp hs hst hb3 y1), Or.inr ⟨3, _, _, _, _, _, oc, _, _, _, _, _, _, _, _, _, _, _, _, _, _, _, _, rfl, rfl, by decide, by decide, by omega, fun x hx => ?_⟩⟩
  obtain ⟨c, _, d1, d2⟩ := bg2 x hx
  exact d2.trans d1.symm
theorem uw_b10b (S : uw_ST F A M el en sz N rg E C B) (hg : g < 9) (hst : st < 300) (ho : o ≤ st) (hoc : oc ≤ st) (hmc : mc < 100) (hbg : uw_BG st bg bg') (hp : p < 3) (hs : s < 20) (hta : ta g = nI a) (hkb : kb ≤ 10) (c0 : (F 9) a = nI 0) (c1 : (F 10) a = nI (20 * p + s)) (ha : a < e) (HH : uw_HH A rg a e g1 g' h) (LO : uw_LO A g1 a) (kbk : kb ≤ k) (k10 : k' ≤ 10) (grg : g' ≤ rg) (eE : e ≤ E) (ssz : s ≤ sz p) (hJ : M p s = true → uw_J2 F A j e t) (js : j + s ≤ 20) (K : uw_KM F A M el en sz N rg E ta ex th on op ow ov o (g + 1) p X (M p s) t h kb) (hk : (F 0) (20 * p + s) = nI 10) (hgg : g' = g1) (e1 : e = a + 2) (f1 : (F 9) (a + 1) = nI 7) (f2 : (F 10) (a + 1) = (F 2) (20 * p + s)) (hM : M p s = true) (g8 : g < 8) : uw_NX F A M el en sz N rg E C D B (3 * (301 - st) + o) (uw_XR C A (nI (g + 1)) fl (-6) 0 (nI st) (nI mc) (nI oc) va ta ex th bg sh) (uw_YR D B (nI o) (nI (20 * p + s)) wy wo (nI g) (-1) 0 (nI st) (nI oc) (nI mc) on op ow ov va bg' sh) := by
  obtain ⟨b, hb1, hb2, hb3⟩ := hbg (20 * p + s) (by omega)
  have G := S.1
  have hE := G.2.2.2.2
  obtain ⟨z1, z2, z3, z4, z5, z6, z7, z8⟩ := S.2.2 p hp
  obtain ⟨ag, nf⟩ := z3 s ssz
  obtain ⟨s1, s2, s3, s4, s5⟩ := uw_s0e G (x := 20 * p + s) (by omega)
  have hk' := s1.trans hk
  obtain ⟨y1, y2, y3, y4, y5⟩ := uw_agk ag hk' (by omega)
  have cnt := uw_cnt (C := C) (fl := fl) (mc := nI mc) (oc := nI oc) (va := va) (ex := ex) (th := th) (sh := sh) G hg hst hp hs hta (show a < 360 by omega) c0 c1 hb1 hb2
  have bg2 := uw_bg1 (t := 20 * p + s) hbg hb1
  have t1 : ∀ y : Int32, (upd (upd ta g (nI (a + 1))) g y) = upd ta g y := fun y => uw_uu
  subst e1
  obtain ⟨w, lf⟩ := nf.1 10 (by omega) hk'
  obtain ⟨l1, l2, l3, l4, l5, l6, l7⟩ := lf
  obtain ⟨u1, u2, u3, _⟩ := uw_s9e G (a + 1)
  obtain ⟨q, hq, hq'⟩ := l7 rfl
  rw [hM] at K
  have yn := (y5 (by omega)).trans hq'
  obtain ⟨x1, x2, x3, x4, x5, x6, x7, a', ga, gb, kb', x8, x9, po⟩ := S.2.2 q hq
  have st2 := uw_ms1 (C := C) (fl := fl) (tv := 0) (sc := nI (st + 1)) (mc := nI mc) (oc := nI oc) (va := va) (ex := ex) (th := th) (bg := upd bg (20 * p + s) (nI (b + 1))) (sh := sh) (uw_x7b (p := q) (m := mc) (b := a') (ta := upd ta g (nI (a + 1))) (pc := a + 1) hg pk_us (by omega) (u1.trans f1) ((u2.trans f2).trans (s3.symm.trans hq')) g8 hq x8 (by omega) rfl hmc)
  rw [t1] at st2
  have fr := HH (a + 1) (by omega) (by omega) (fun i h1 h2 => by omega)
  have K1 := uw_KM_c (ta' := upd (upd ta g (nI (a + 2))) (g + 1) (nI a')) (ex' := ex) (th' := th) (on' := upd on o (nI (20 * p + s))) (op' := upd op o (nI 1)) (ow' := upd ow o (0)) (ov' := upd ov o (0)) _ _ _ _ _ _ _ _ (fun x hx => (pk_un (by omega)).trans (pk_un (by omega))) (fun x _ => ⟨rfl, rfl⟩) hkb (fun x hx => ⟨pk_un (by omega), pk_un (by omega), pk_un (by omega), pk_un (by omega)⟩) K
  have K2 : uw_KM F A M el en sz N rg E (upd (upd ta g (nI (a + 2))) (g + 1) (nI a')) ex th (upd on o (nI (20 * p + s))) (upd op o (nI 1)) (upd ow o 0) (upd ov o 0) (o + 1) (g + 2) q [] (M q (sz q)) (en q) rg 0 := ⟨p, s, hp, ssz, hs, pk_us, Or.inl ⟨hk', rfl, rfl, rfl, g, X, t, h, kb, a + 1, j, rfl, (pk_un (by omega)).trans pk_us, by omega, (hJ hM).2.1, by omega, fr, hkb, K1⟩⟩
  have mcb : (if mc < g + 1 then g + 1 else mc) < 100 := by split <;> omega
  refine ⟨_, _, 2, by omega, uw_mst cnt st2, uw_yb (by omega) (uw_yb_10b hp hs hst hb3 y1 yn hq g8 hmc x2 x1 (by omega)), Or.inl ⟨3 * (301 - (st + 1)) + (o + 1), by omega, g + 1, _, _, _, _, _, _, _, _, _, _, _, _, _, _, _, _, _, _, _, _, rfl, rfl, by omega, bg2, Or.inl ⟨rfl, rfl, q, sz q, [], a', en q, ga, gb, 0, kb', rg, 0, en q, 0, _, hq, x1, rfl, pk_us, by omega, po, K2⟩⟩⟩
theorem uw_b11t (S : uw_ST F A M el en sz N rg E C B) (hg : g < 9) (hst : st < 300) (ho : o ≤ st) (hoc : oc ≤ st) (hmc : mc < 100) (hbg : uw_BG st bg bg') (hp : p < 3) (hs : s < 20) (hta : ta g = nI a) (hkb : kb ≤ 10) (c0 : (F 9) a = nI 0) (c1 : (F 10) a = nI (20 * p + s)) (ha : a < e) (HH : uw_HH A rg a e g1 g' h) (LO : uw_LO A g1 a) (kbk : kb ≤ k) (k10 : k' ≤ 10) (grg : g' ≤ rg) (eE : e ≤ E) (ssz : s ≤ sz p) (hJ : M p s = true → uw_J2 F A j e t) (js : j + s ≤ 20) (K : uw_KM F A M el en sz N rg E ta ex th on op ow ov o (g + 1) p X (M p s) t h kb) (hk : (F 0) (20 * p + s) = nI 11) {qa qb n : Nat} (qas : qa < s) (qbs : qb < s) (pa : (F 3) (20 * p + s) = nI qa) (pb : (F 4) (20 * p + s) = nI qb) {m gm km : Nat} (hM : M p s = (M p qa && M p qb)) (ma : M p qa = true) (CA : uw_CC F (M p) p (el p) N n X qa (a + 1) m g1 gm k km) (CB : uw_CC F (M p) p (el p) N n X qb m e gm g' km k') : uw_NX F A M el en sz N rg E C D B (3 * (301 - st) + o) (uw_XR C A (nI (g + 1)) fl (-6) 0 (nI st) (nI mc) (nI oc) va ta ex th bg sh) (uw_YR D B (nI o) (nI (20 * p + s)) wy wo (nI g) (-1) 0 (nI st) (nI oc) (nI mc) on op ow ov va bg' sh) := by
  obtain ⟨b, hb1, hb2, hb3⟩ := hbg (20 * p + s) (by omega)
  have G := S.1
  have hE := G.2.2.2.2
  obtain ⟨z1, z2, z3, z4, z5, z6, z7, z8⟩ := S.2.2 p hp
  obtain ⟨ag, nf⟩ := z3 s ssz
  obtain ⟨s1, s2, s3, s4, s5⟩ := uw_s0e G (x := 20 * p + s) (by omega)
  have hk' := s1.trans hk
  obtain ⟨y1, y2, y3, y4, y5⟩ := uw_agk ag hk' (by omega)
  have cnt := uw_cnt (C := C) (fl := fl) (mc := nI mc) (oc := nI oc) (va := va) (ex := ex) (th := th) (sh := sh) G hg hst hp hs hta (show a < 360 by omega) c0 c1 hb1 hb2
  have bg2 := uw_bg1 (t := 20 * p + s) hbg hb1
  have t1 : ∀ y : Int32, (upd (upd ta g (nI (a + 1))) g y) = upd ta g y := fun y => uw_uu
  have pa' := s4.trans pa
  have pb' := s5.trans pb
  have yq := y2.trans pa'
  have yq2 := y3.trans pb'
  have hM' : M p s = M p qb := by rw [hM, ma]; rfl
  have iA := uw_CC_in _ _ _ _ _ _ _ _ _ CA
  have iB := uw_CC_in _ _ _ _ _ _ _ _ _ CB
  have RA := uw_ri G (by omega) CA
  have RB := uw_ri G eE CB
  have cm : ¬ (F 9) m = nI 9 := by cases n with
    | zero => exact CB.elim
    | succ n => exact uw_c9 CB.2.1 (by omega) (by omega)
  have PA : uw_PO F A M el en sz N rg E p X qa (a + 1) m g1 gm k km h kb m 0 (M p qa) := ⟨⟨n, CA⟩, uw_hl HH RB (by omega) (by omega) (by omega), uw_ll' LO (by omega), kbk, by omega, by omega, by omega, by omega, rfl, fun _ => uw_j0 cm, by omega⟩
  have PB : uw_PO F A M el en sz N rg E p X qb m e gm g' km k' h kb t j (M p s) := ⟨⟨n, CB⟩, uw_hr HH RA (by omega) (by omega) (by omega), uw_lr LO RA (by omega) (by omega), by omega, k10, grg, eE, by omega, hM', hJ, by omega⟩
  have K1 := uw_KM_c (ta' := upd ta g (nI (a + 1))) (ex' := ex) (th' := th) (on' := upd on o (nI (20 * p + s))) (op' := upd op o (nI 1)) (ow' := upd ow o (wy)) (ov' := upd ov o (wo)) _ _ _ _ _ _ _ _ (fun x hx => pk_un (by omega)) (fun x _ => ⟨rfl, rfl⟩) hkb (fun x hx => ⟨pk_un (by omega), pk_un (by omega), pk_un (by omega), pk_un (by omega)⟩) K
  have K2 : uw_KM F A M el en sz N rg E (upd ta g (nI (a + 1))) ex th (upd on o (nI (20 * p + s))) (upd op o (nI 1)) (upd ow o wy) (upd ov o wo) (o + 1) (g + 1) p X (M p qa) (m) (h) kb := ⟨p, s, hp, ssz, hs, pk_us, Or.inr (Or.inl ⟨rfl, hk', qb, t, M p s, pb', fun _ => ⟨e, gm, g', km, k', j, PB⟩, K1⟩)⟩
  refine ⟨_, _, 1, by omega, cnt, uw_yb (by omega) (uw_yb_12 hp hs hst hb3 y1 (by decide) yq (by omega)), Or.inl ⟨3 * (301 - (st + 1)) + (o + 1), by omega, g, _, _, _, _, _, _, _, _, _, _, _, _, _, _, _, _, _, _, _, _, rfl, rfl, by omega, bg2, Or.inl ⟨rfl, rfl, p, qa, X, a + 1, m, g1, gm, k, km, h, kb, m, 0, _, hp, by omega, rfl, pk_us, hkb, PA, K2⟩⟩⟩
theorem uw_b11f (S : uw_ST F A M el en sz N rg E C B) (hg : g < 9) (hst : st < 300) (ho : o ≤ st) (hoc : oc ≤ st) (hmc : mc < 100) (hbg : uw_BG st bg bg') (hp : p < 3) (hs : s < 20) (hta : ta g = nI a) (hkb : kb ≤ 10) (c0 : (F 9) a = nI 0) (c1 : (F 10) a = nI (20 * p + s)) (ha : a < e) (HH : uw_HH A rg a e g1 g' h) (LO : uw_LO A g1 a) (kbk : kb ≤ k) (k10 : k' ≤ 10) (grg : g' ≤ rg) (eE : e ≤ E) (ssz : s ≤ sz p) (hJ : M p s = true → uw_J2 F A j e t) (js : j + s ≤ 20) (K : uw_KM F A M el en sz N rg E ta ex th on op ow ov o (g + 1) p X (M p s) t h kb) (hk : (F 0) (20 * p + s) = nI 11) {qa qb n : Nat} (qas : qa < s) (qbs : qb < s) (pa : (F 3) (20 * p + s) = nI qa) (pb : (F 4) (20 * p + s) = nI qb) (hM : M p s = (M p qa && M p qb)) (ma : M p qa = false) (CA : uw_CC F (M p) p (el p) N n X qa (a + 1) e g1 g' k k') : uw_NX F A M el en sz N rg E C D B (3 * (301 - st) + o) (uw_XR C A (nI (g + 1)) fl (-6) 0 (nI st) (nI mc) (nI oc) va ta ex th bg sh) (uw_YR D B (nI o) (nI (20 * p + s)) wy wo (nI g) (-1) 0 (nI st) (nI oc) (nI mc) on op ow ov va bg' sh) := by
  obtain ⟨b, hb1, hb2, hb3⟩ := hbg (20 * p + s) (by omega)
  have G := S.1
  have hE := G.2.2.2.2
  obtain ⟨z1, z2, z3, z4, z5, z6, z7, z8⟩ := S.2.2 p hp
  obtain ⟨ag, nf⟩ := z3 s ssz
  obtain ⟨s1, s2, s3, s4, s5⟩ := uw_s0e G (x := 20 * p + s) (by omega)
  have hk' := s1.trans hk
  obtain ⟨y1, y2, y3, y4, y5⟩ := uw_agk ag hk' (by omega)
  have cnt := uw_cnt (C := C) (fl := fl) (mc := nI mc) (oc := nI oc) (va := va) (ex := ex) (th := th) (sh := sh) G hg hst hp hs hta (show a < 360 by omega) c0 c1 hb1 hb2
  have bg2 := uw_bg1 (t := 20 * p + s) hbg hb1
  have t1 : ∀ y : Int32, (upd (upd ta g (nI (a + 1))) g y) = upd ta g y := fun y => uw_uu
  have pa' := s4.trans pa
  have pb' := s5.trans pb
  have yq := y2.trans pa'
  have yq2 := y3.trans pb'
  have iA := uw_CC_in _ _ _ _ _ _ _ _ _ CA
  have PA : uw_PO F A M el en sz N rg E p X qa (a + 1) e g1 g' k k' h kb 0 0 (M p qa) := ⟨⟨n, CA⟩, fun pc h1 h2 hi => HH pc (by omega) h2 hi, uw_ll' LO (by omega), kbk, by omega, by omega, by omega, by omega, rfl, fun z => absurd (ma.symm.trans z) (by decide), by omega⟩
  have K1 := uw_KM_c (ta' := upd ta g (nI (a + 1))) (ex' := ex) (th' := th) (on' := upd on o (nI (20 * p + s))) (op' := upd op o (nI 1)) (ow' := upd ow o (wy)) (ov' := upd ov o (wo)) _ _ _ _ _ _ _ _ (fun x hx => pk_un (by omega)) (fun x _ => ⟨rfl, rfl⟩) hkb (fun x hx => ⟨pk_un (by omega), pk_un (by omega), pk_un (by omega), pk_un (by omega)⟩) K
  have K2 : uw_KM F A M el en sz N rg E (upd ta g (nI (a + 1))) ex th (upd on o (nI (20 * p + s))) (upd op o (nI 1)) (upd ow o wy) (upd ov o wo) (o + 1) (g + 1) p X (M p qa) (0) (h) kb := ⟨p, s, hp, ssz, hs, pk_us, Or.inr (Or.inl ⟨rfl, hk', qb, t, M p s, pb', fun z => absurd (ma.symm.trans z) (by decide), K1⟩)⟩
  refine ⟨_, _, 1, by omega, cnt, uw_yb (by omega) (uw_yb_12 hp hs hst hb3 y1 (by decide) yq (by omega)), Or.inl ⟨3 * (301 - (st + 1)) + (o + 1), by omega, g, _, _, _, _, _, _, _, _, _, _, _, _, _, _, _, _, _, _, _, _, rfl, rfl, by omega, bg2, Or.inl ⟨rfl, rfl, p, qa, X, a + 1, e, g1, g', k, k', h, kb, 0, 0, _, hp, by omega, rfl, pk_us, hkb, PA, K2⟩⟩⟩
theorem uw_b12 (S : uw_ST F A M el en sz N rg E C B) (hg : g < 9) (hst : st < 300) (ho : o ≤ st) (hoc : oc ≤ st) (hmc : mc < 100) (hbg : uw_BG st bg bg') (hp : p < 3) (hs : s < 20) (hta : ta g = nI a) (hkb : kb ≤ 10) (c0 : (F 9) a = nI 0) (c1 : (F 10) a = nI (20 * p + s)) (ha : a < e) (HH : uw_HH A rg a e g1 g' h) (LO : uw_LO A g1 a) (kbk : kb ≤ k) (k10 : k' ≤ 10) (grg : g' ≤ rg) (eE : e ≤ E) (ssz : s ≤ sz p) (hJ : M p s = true → uw_J2 F A j e t) (js : j + s ≤ 20) (K : uw_KM F A M el en sz N rg E ta ex th on op ow ov o (g + 1) p X (M p s) t h kb) (hk : (F 0) (20 * p + s) = nI 12) {qa qb n : Nat} (qas : qa < s) (qbs : qb < s) (pa : (F 3) (20 * p + s) = nI qa) (pb : (F 4) (20 * p + s) = nI qb) {l1 l2 m m' gm km : Nat} (hM : M p s = (M p qa || M p qb)) (f1 : (F 9) (a + 1) = nI 10) (f2 : (F 10) (a + 1) = (F 1) (20 * p + s)) (b1 : l1 < 128) (b2 : l2 < 128) (f3 : (F 11) (a + 1) = nI l1) (CA : uw_CC F (M p) p (el p) N n X qa (a + 2) m g1 gm k km) (mm : (M p qa = true ∧ m' = m + 1 ∧ (F 9) m = nI 9 ∧ (F 10) m = nI l2) ∨ (M p qa = false ∧ m' = m)) (f4 : (F 13) l1 = nI m') (CB : uw_CC F (M p) p (el p) N n X qb m' e gm g' km k') (f5 : (F 13) l2 = nI e) : uw_NX F A M el en sz N rg E C D B (3 * (301 - st) + o) (uw_XR C A (nI (g + 1)) fl (-6) 0 (nI st) (nI mc) (nI oc) va ta ex th bg sh) (uw_YR D B (nI o) (nI (20 * p + s)) wy wo (nI g) (-1) 0 (nI st) (nI oc) (nI mc) on op ow ov va bg' sh) := by
  obtain ⟨b, hb1, hb2, hb3⟩ := hbg (20 * p + s) (by omega)
  have G := S.1
  have hE := G.2.2.2.2
  obtain ⟨z1, z2, z3, z4, z5, z6, z7, z8⟩ := S.2.2 p hp
  obtain ⟨ag, nf⟩ := z3 s ssz
  obtain ⟨s1, s2, s3, s4, s5⟩ := uw_s0e G (x := 20 * p + s) (by omega)
  have hk' := s1.trans hk
  obtain ⟨y1, y2, y3, y4, y5⟩ := uw_agk ag hk' (by omega)
  have cnt := uw_cnt (C := C) (fl := fl) (mc := nI mc) (oc := nI oc) (va := va) (ex := ex) (th := th) (sh := sh) G hg hst hp hs hta (show a < 360 by omega) c0 c1 hb1 hb2
  have bg2 := uw_bg1 (t := 20 * p + s) hbg hb1
  have t1 : ∀ y : Int32, (upd (upd ta g (nI (a + 1))) g y) = upd ta g y := fun y => uw_uu
  have pa' := s4.trans pa
  have pb' := s5.trans pb
  have yq := y2.trans pa'
  have yq2 := y3.trans pb'
  obtain ⟨r, hr, hr'⟩ := nf.2 (by first | exact Or.inl hk' | exact Or.inr (Or.inr hk'))
  have yr := (y4 (by omega)).trans hr'
  obtain ⟨u1, u2, u3, _⟩ := uw_s9e G (a + 1)
  have iA := uw_CC_in _ _ _ _ _ _ _ _ _ CA
  have iB := uw_CC_in _ _ _ _ _ _ _ _ _ CB
  have hmm : m ≤ m' := by rcases mm with mm | mm <;> omega
  have RA := uw_ri G (by omega) CA
  have RB := uw_ri G eE CB
  by_cases hz : va r = 0
  · have cm : ¬ (F 9) m' = nI 9 := by cases n with
      | zero => exact CB.elim
      | succ n => exact uw_c9 CB.2.1 (by omega) (by omega)
    have lab := uw_lx G f4 (by omega) cm
    have PB : uw_PO F A M el en sz N rg E p X qb m' e gm g' km k' h kb t j (M p qb) := ⟨⟨n, CB⟩, uw_hr HH RA (by omega) (by omega) (by omega), uw_lr LO RA (by omega) (by omega), by omega, k10, grg, eE, by omega, rfl, fun z => hJ (by rw [hM, z]; exact Bool.or_true _), by omega⟩
    have st2 := uw_ms1 (C := C) (fl := fl) (tv := 0) (sc := nI (st + 1)) (mc := nI mc) (oc := nI oc) (va := va) (ex := ex) (th := th) (bg := upd bg (20 * p + s) (nI (b + 1))) (sh := sh) (uw_x10a (l := l1) (q := m') (ta := upd ta g (nI (a + 1))) (pc := a + 1) hg pk_us (by omega) (u1.trans f1) ((u2.trans f2).trans (s2.symm.trans hr')) (u3.trans f3) hr hz (by omega) (by omega) lab)
    rw [t1] at st2
    have K1 := uw_KM_me (me' := M p qb) (fun z => by rw [hM, z]; exact Bool.or_true _) (uw_KM_c (ta' := upd ta g (nI m')) (ex' := ex) (th' := th) (on' := on) (op' := op) (ow' := ow) (ov' := ov) _ _ _ _ _ _ _ _ (fun x hx => pk_un (by omega)) (fun x _ => ⟨rfl, rfl⟩) hkb (fun x hx => ⟨rfl, rfl, rfl, rfl⟩) K)
    refine ⟨_, _, 2, by omega, uw_mst cnt st2, uw_yb (by omega) (uw_yb_13a hp hs hst hb3 y1 yr hr hz yq2), Or.inl ⟨3 * (301 - (st + 1)) + o, by omega, g, _, _, _, _, _, _, _, _, _, _, _, _, _, _, _, _, _, _, _, _, rfl, rfl, by omega, bg2, Or.inl ⟨rfl, rfl, p, qb, X, m', e, gm, g', km, k', h, kb, t, j, _, hp, by omega, rfl, pk_us, hkb, PB, K1⟩⟩⟩
  · have PA : uw_PO F A M el en sz N rg E p X qa (a + 2) m g1 gm k km h kb t (j + 1) (M p qa) := ⟨⟨n, CA⟩, uw_hl HH RB (by omega) (by omega) (by omega), uw_ll' LO (by omega), kbk, by omega, by omega, by omega, by omega, rfl, fun z => ?_, by omega⟩
    have st2 := uw_ms1 (C := C) (fl := fl) (tv := 0) (sc := nI (st + 1)) (mc := nI mc) (oc := nI oc) (va := va) (ex := ex) (th := th) (bg := upd bg (20 * p + s) (nI (b + 1))) (sh := sh) (uw_x10b (ta := upd ta g (nI (a + 1))) (pc := a + 1) hg pk_us (by omega) (u1.trans f1) ((u2.trans f2).trans (s2.symm.trans hr')) hr hz)
    rw [t1] at st2
    have K1 := uw_KM_me (me' := M p qa) (fun z => by rw [hM, z]; exact Bool.true_or _) (uw_KM_c (ta' := upd ta g (nI (a + 2))) (ex' := ex) (th' := th) (on' := on) (op' := op) (ow' := ow) (ov' := ov) _ _ _ _ _ _ _ _ (fun x hx => pk_un (by omega)) (fun x _ => ⟨rfl, rfl⟩) hkb (fun x hx => ⟨rfl, rfl, rfl, rfl⟩) K)
    refine ⟨_, _, 2, by omega, uw_mst cnt st2, uw_yb (by omega) (uw_yb_13b hp hs hst hb3 y1 yr hr hz yq), Or.inl ⟨3 * (301 - (st + 1)) + o, by omega, g, _, _, _, _, _, _, _, _, _, _, _, _, _, _, _, _, _, _, _, _, rfl, rfl, by omega, bg2, Or.inl ⟨rfl, rfl, p, qa, X, a + 2, m, g1, gm, k, km, h, kb, t, j + 1, _, hp, by omega, rfl, pk_us, hkb, PA, K1⟩⟩⟩
    rcases mm with ⟨_, _, e1, e2⟩ | ⟨e1, _⟩
    · exact uw_jj G e1 e2 b2 f5 eE (hJ (by rw [hM, z]; exact Bool.true_or _))
    · exact absurd (e1.symm.trans z) (by decide)
theorem uw_b15 (S : uw_ST F A M el en sz N rg E C B) (hg : g < 9) (hst : st < 300) (ho : o ≤ st) (hoc : oc ≤ st) (hmc : mc < 100) (hbg : uw_BG st bg bg') (hp : p < 3) (hs : s < 20) (hta : ta g = nI a) (hkb : kb ≤ 10) (c0 : (F 9) a = nI 0) (c1 : (F 10) a = nI (20 * p + s)) (ha : a < e) (HH : uw_HH A rg a e g1 g' h) (LO : uw_LO A g1 a) (kbk : kb ≤ k) (k10 : k' ≤ 10) (grg : g' ≤ rg) (eE : e ≤ E) (ssz : s ≤ sz p) (hJ : M p s = true → uw_J2 F A j e t) (js : j + s ≤ 20) (K : uw_KM F A M el en sz N rg E ta ex th on op ow ov o (g + 1) p X (M p s) t h kb) (hk : (F 0) (20 * p + s) = nI 15) {qa n : Nat} (qas : qa < s) (pa : (F 3) (20 * p + s) = nI qa) {te br m : Nat} (hM : M p s = true) (f1 : (F 9) (a + 1) = nI 10) (f2 : (F 10) (a + 1) = (F 1) (20 * p + s)) (b1 : te < 128) (b2 : br < 128) (f4 : (F 13) te = nI (a + 1)) (f3 : (F 11) (a + 1) = nI br) (CA : uw_CC F (M p) p (el p) N n (Sum.inl (br, te) :: X) qa (a + 2) m g1 g' k k') (c9 : (F 9) m = nI 9) (c10 : (F 10) m = nI te) (e1 : e = m + 1) (f5 : (F 13) br = nI e) : uw_NX F A M el en sz N rg E C D B (3 * (301 - st) + o) (uw_XR C A (nI (g + 1)) fl (-6) 0 (nI st) (nI mc) (nI oc) va ta ex th bg sh) (uw_YR D B (nI o) (nI (20 * p + s)) wy wo (nI g) (-1) 0 (nI st) (nI oc) (nI mc) on op ow ov va bg' sh) := by
  obtain ⟨b, hb1, hb2, hb3⟩ := hbg (20 * p + s) (by omega)
  have G := S.1
  have hE := G.2.2.2.2
  obtain ⟨z1, z2, z3, z4, z5, z6, z7, z8⟩ := S.2.2 p hp
  obtain ⟨ag, nf⟩ := z3 s ssz
  obtain ⟨s1, s2, s3, s4, s5⟩ := uw_s0e G (x := 20 * p + s) (by omega)
  have hk' := s1.trans hk
  obtain ⟨y1, y2, y3, y4, y5⟩ := uw_agk ag hk' (by omega)
  have cnt := uw_cnt (C := C) (fl := fl) (mc := nI mc) (oc := nI oc) (va := va) (ex := ex) (th := th) (sh := sh) G hg hst hp hs hta (show a < 360 by omega) c0 c1 hb1 hb2
  have bg2 := uw_bg1 (t := 20 * p + s) hbg hb1
  have t1 : ∀ y : Int32, (upd (upd ta g (nI (a + 1))) g y) = upd ta g y := fun y => uw_uu
  have pa' := s4.trans pa
  have yq := y2.trans pa'
  obtain ⟨r, hr, hr'⟩ := nf.2 (by first | exact Or.inl hk' | exact Or.inr (Or.inr hk'))
  have yr := (y4 (by omega)).trans hr'
  obtain ⟨u1, u2, u3, _⟩ := uw_s9e G (a + 1)
  have iA := uw_CC_in _ _ _ _ _ _ _ _ _ CA
  rw [hM] at K
  have J := hJ hM
  have c1 : ¬ (F 9) (a + 1) = nI 9 := uw_c9 f1 (by omega) (by omega)
  have lte := uw_lx G f4 (by omega) c1
  have LBb := uw_la G b2 f5 eE J (by omega)
  by_cases hz : va r = 0
  · obtain ⟨_, q, jq, hq, hjq, lab, jt⟩ := LBb
    have st2 := uw_ms1 (C := C) (fl := fl) (tv := 0) (sc := nI (st + 1)) (mc := nI mc) (oc := nI oc) (va := va) (ex := ex) (th := th) (bg := upd bg (20 * p + s) (nI (b + 1))) (sh := sh) (uw_x10a (l := br) (q := q) (ta := upd ta g (nI (a + 1))) (pc := a + 1) hg pk_us (by omega) (u1.trans f1) ((u2.trans f2).trans (s2.symm.trans hr')) (u3.trans f3) hr hz (by omega) (by omega) lab)
    rw [t1] at st2
    have K1 := uw_KM_c (ta' := upd ta g (nI q)) (ex' := ex) (th' := th) (on' := on) (op' := op) (ow' := ow) (ov' := ov) _ _ _ _ _ _ _ _ (fun x hx => pk_un (by omega)) (fun x _ => ⟨rfl, rfl⟩) hkb (fun x hx => ⟨rfl, rfl, rfl, rfl⟩) K
    refine ⟨_, _, 2, by omega, uw_mst cnt st2, uw_yb (by omega) (uw_yb_11a hp hs hst hb3 y1 yr hr hz), Or.inl ⟨3 * (301 - (st + 1)) + o + 2, by omega, g, _, _, _, _, _, _, _, _, _, _, _, _, _, _, _, _, _, _, _, _, rfl, rfl, by omega, bg2, Or.inr (Or.inl ⟨rfl, rfl, rfl, rfl, p, X, t, h, kb, q, jq, hp, pk_us, hq, jt, hjq, hkb, K1⟩)⟩⟩
  · have PA : uw_PO F A M el en sz N rg E p (Sum.inl (br, te) :: X) qa (a + 2) m g1 g' k k' h kb (a + 1) 1 (M p qa) := ⟨⟨n, CA⟩, fun pc h1 h2 hi => HH pc (by omega) (by omega) hi, uw_ll' LO (by omega), kbk, by omega, by omega, by omega, by omega, rfl, fun z => uw_jj G c9 c10 b1 f4 (by omega) (uw_j0 c1), by omega⟩
    have WB : uw_WB F A M el en sz N rg E p X s a br te qa t h kb := ⟨by omega, u1.trans f1, (u2.trans f2).trans s2.symm, u3.trans f3, b1, lte, LBb, pa', m, g1, g', k, k', 1, PA⟩
    have st2 := uw_ms1 (C := C) (fl := fl) (tv := 0) (sc := nI (st + 1)) (mc := nI mc) (oc := nI oc) (va := va) (ex := ex) (th := th) (bg := upd bg (20 * p + s) (nI (b + 1))) (sh := sh) (uw_x10b (ta := upd ta g (nI (a + 1))) (pc := a + 1) hg pk_us (by omega) (u1.trans f1) ((u2.trans f2).trans (s2.symm.trans hr')) hr hz)
    rw [t1] at st2
    have K1 := uw_KM_c (ta' := upd ta g (nI (a + 2))) (ex' := ex) (th' := th) (on' := upd on o (nI (20 * p + s))) (op' := upd op o (nI 1)) (ow' := upd ow o (0)) (ov' := upd ov o (0)) _ _ _ _ _ _ _ _ (fun x hx => pk_un (by omega)) (fun x _ => ⟨rfl, rfl⟩) hkb (fun x hx => ⟨pk_un (by omega), pk_un (by omega), pk_un (by omega), pk_un (by omega)⟩) K
    have K2 : uw_KM F A M el en sz N rg E (upd ta g (nI (a + 2))) ex th (upd on o (nI (20 * p + s))) (upd op o (nI 1)) (upd ow o 0) (upd ov o 0) (o + 1) (g + 1) p (Sum.inl (br, te) :: X) (M p qa) (a + 1) h kb := ⟨p, s, hp, ssz, hs, pk_us, Or.inr (Or.inr (Or.inl ⟨rfl, hk', X, a, br, te, qa, t, rfl, rfl, WB, K1⟩))⟩
    refine ⟨_, _, 2, by omega, uw_mst cnt st2, uw_yb (by omega) (uw_yb_11b hp hs hst hb3 y1 yr hr hz yq (by omega)), Or.inl ⟨3 * (301 - (st + 1)) + (o + 1), by omega, g, _, _, _, _, _, _, _, _, _, _, _, _, _, _, _, _, _, _, _, _, rfl, rfl, by omega, bg2, Or.inl ⟨rfl, rfl, p, qa, _, a + 2, m, g1, g', k, k', h, kb, a + 1, 1, _, hp, by omega, rfl, pk_us, hkb, PA, K2⟩⟩⟩
theorem uw_b13 (S : uw_ST F A M el en sz N rg E C B) (hg : g < 9) (hst : st < 300) (ho : o ≤ st) (hoc : oc ≤ st) (hmc : mc < 100) (hbg : uw_BG st bg bg') (hp : p < 3) (hs : s < 20) (hta : ta g = nI a) (hkb : kb ≤ 10) (c0 : (F 9) a = nI 0) (c1 : (F 10) a = nI (20 * p + s)) (ha : a < e) (HH : uw_HH A rg a e g1 g' h) (LO : uw_LO A g1 a) (kbk : kb ≤ k) (k10 : k' ≤ 10) (grg : g' ≤ rg) (eE : e ≤ E) (ssz : s ≤ sz p) (hJ : M p s = true → uw_J2 F A j e t) (js : j + s ≤ 20) (K : uw_KM F A M el en sz N rg E ta ex th on op ow ov o (g + 1) p X (M p s) t h kb) (hk : (F 0) (20 * p + s) = nI 13) {qa qb n : Nat} (qas : qa < s) (qbs : qb < s) (pa : (F 3) (20 * p + s) = nI qa) (pb : (F 4) (20 * p + s) = nI qb) {hl le m m' gm km : Nat} (hM : M p s = (M p qa || M p qb)) (b1 : hl < 128) (b2 : le < 128) (CA : uw_CC F (M p) p (el p) N n X qa (a + 1) m g1 gm k km) (hr : uw_RG F gm (a + 1) m hl (-1)) (mm : (M p qa = true ∧ m' = m + 1 ∧ (F 9) m = nI 9 ∧ (F 10) m = nI le) ∨ (M p qa = false ∧ m' = m)) (f4 : (F 13) hl = nI m') (f1 : (F 9) m' = nI 11) (f2 : (F 10) m' = (F 1) (20 * p + s)) (CB : uw_CC F (M p) p (el p) N n X qb (m' + 1) e (gm + 1) g' km k') (f5 : (F 13) le = nI e) : uw_NX F A M el en sz N rg E C D B (3 * (301 - st) + o) (uw_XR C A (nI (g + 1)) fl (-6) 0 (nI st) (nI mc) (nI oc) va ta ex th bg sh) (uw_YR D B (nI o) (nI (20 * p + s)) wy wo (nI g) (-1) 0 (nI st) (nI oc) (nI mc) on op ow ov va bg' sh) := by
  obtain ⟨b, hb1, hb2, hb3⟩ := hbg (20 * p + s) (by omega)
  have G := S.1
  have hE := G.2.2.2.2
  obtain ⟨z1, z2, z3, z4, z5, z6, z7, z8⟩ := S.2.2 p hp
  obtain ⟨ag, nf⟩ := z3 s ssz
  obtain ⟨s1, s2, s3, s4, s5⟩ := uw_s0e G (x := 20 * p + s) (by omega)
  have hk' := s1.trans hk
  obtain ⟨y1, y2, y3, y4, y5⟩ := uw_agk ag hk' (by omega)
  have cnt := uw_cnt (C := C) (fl := fl) (mc := nI mc) (oc := nI oc) (va := va) (ex := ex) (th := th) (sh := sh) G hg hst hp hs hta (show a < 360 by omega) c0 c1 hb1 hb2
  have bg2 := uw_bg1 (t := 20 * p + s) hbg hb1
  have t1 : ∀ y : Int32, (upd (upd ta g (nI (a + 1))) g y) = upd ta g y := fun y => uw_uu
  have pa' := s4.trans pa
  have pb' := s5.trans pb
  have yq := y2.trans pa'
  have yq2 := y3.trans pb'
  have iA := uw_CC_in _ _ _ _ _ _ _ _ _ CA
  have iB := uw_CC_in _ _ _ _ _ _ _ _ _ CB
  have hmm : m ≤ m' := by rcases mm with mm | mm <;> omega
  have RA := uw_ri G (by omega) CA
  have RB := uw_ri G eE CB
  have RX := uw_rx G RA hr (by omega) (by omega)
  obtain ⟨u1, u2, _⟩ := uw_s9e G m'
  obtain ⟨_, _, _, _, _, _, _, _, v1, v2, v3, v4⟩ := uw_s9e G gm
  have lab := uw_lx G f4 (by omega) (uw_c9 f1 (by omega) (by omega))
  have PA : uw_PO F A M el en sz N rg E p X qa (a + 1) m g1 gm k km gm kb t (j + 1) (M p qa) := ⟨⟨n, CA⟩, uw_hn G LO hr (by omega) (by omega), uw_ll' LO (by omega), kbk, by omega, by omega, by omega, by omega, rfl, fun z => ?_, by omega⟩
  have PB : uw_PO F A M el en sz N rg E p X qb (m' + 1) e (gm + 1) g' km k' h kb t j (M p qb) := ⟨⟨n, CB⟩, uw_hr HH RX (by omega) (by omega) (by omega), uw_lr LO RX (by omega) (by omega), by omega, k10, grg, eE, by omega, rfl, fun z => hJ (by rw [hM, z]; exact Bool.or_true _), by omega⟩
  have K1 := uw_KM_c (ta' := upd ta g (nI (a + 1))) (ex' := ex) (th' := th) (on' := upd on o (nI (20 * p + s))) (op' := upd op o (nI 1)) (ow' := upd ow o (wy)) (ov' := upd ov o (wo)) _ _ _ _ _ _ _ _ (fun x hx => pk_un (by omega)) (fun x _ => ⟨rfl, rfl⟩) hkb (fun x hx => ⟨pk_un (by omega), pk_un (by omega), pk_un (by omega), pk_un (by omega)⟩) K
  have K2 : uw_KM F A M el en sz N rg E (upd ta g (nI (a + 1))) ex th (upd on o (nI (20 * p + s))) (upd op o (nI 1)) (upd ow o wy) (upd ov o wo) (o + 1) (g + 1) p X (M p qa) (t) (gm) kb := ⟨p, s, hp, ssz, hs, pk_us, Or.inr (Or.inr (Or.inr (Or.inl ⟨rfl, hk', qb, m', hl, M p s, h, e, gm + 1, g', km, k', j, by omega, v4.trans hr.2.2.2, v3.trans hr.2.2.1, b1, lab, by omega, u1.trans f1, (u2.trans f2).trans s2.symm, pb', PB, fun z => by rw [hM, z]; exact Bool.or_true _, fun z => by rw [hM, z]; exact Bool.true_or _, K1⟩)))⟩
  refine ⟨_, _, 1, by omega, cnt, uw_yb (by omega) (uw_yb_12 hp hs hst hb3 y1 (by decide) yq (by omega)), Or.inl ⟨3 * (301 - (st + 1)) + (o + 1), by omega, g, _, _, _, _, _, _, _, _, _, _, _, _, _, _, _, _, _, _, _, _, rfl, rfl, by omega, bg2, Or.inl ⟨rfl, rfl, p, qa, X, a + 1, m, g1, gm, k, km, gm, kb, t, j + 1, _, hp, by omega, rfl, pk_us, hkb, PA, K2⟩⟩⟩
  rcases mm with ⟨_, _, e1, e2⟩ | ⟨e1, _⟩
  · exact uw_jj G e1 e2 b2 f5 eE (hJ (by rw [hM, z]; exact Bool.true_or _))
  · exact absurd (e1.symm.trans z) (by decide)
theorem uw_b14 (S : uw_ST F A M el en sz N rg E C B) (hg : g < 9) (hst : st < 300) (ho : o ≤ st) (hoc : oc ≤ st) (hmc : mc < 100) (hbg : uw_BG st bg bg') (hp : p < 3) (hs : s < 20) (hta : ta g = nI a) (hkb : kb ≤ 10) (c0 : (F 9) a = nI 0) (c1 : (F 10) a = nI (20 * p + s)) (ha : a < e) (HH : uw_HH A rg a e g1 g' h) (LO : uw_LO A g1 a) (kbk : kb ≤ k) (k10 : k' ≤ 10) (grg : g' ≤ rg) (eE : e ≤ E) (ssz : s ≤ sz p) (hJ : M p s = true → uw_J2 F A j e t) (js : j + s ≤ 20) (K : uw_KM F A M el en sz N rg E ta ex th on op ow ov o (g + 1) p X (M p s) t h kb) (hk : (F 0) (20 * p + s) = nI 14) {qa qb n : Nat} (qas : qa < s) (qbs : qb < s) (pa : (F 3) (20 * p + s) = nI qa) (pb : (F 4) (20 * p + s) = nI qb) {bl le m m' gm km e' : Nat} (hM : M p s = (M p qa && M p qb)) (hkk : k < 10) (b1 : bl < 128) (b2 : le < 128) (CA : uw_CC F (M p) p (el p) N n (Sum.inr k :: X) qa (a + 1) m g1 gm (k + 1) km) (hr : uw_RG F gm (a + 1) m bl (nI (10 * p + k))) (fb : (F 14) (10 * p + k) = nI bl) (mm : (M p qa = true ∧ m' = m + 1 ∧ (F 9) m = nI 12 ∧ (F 10) m = nI (10 * p + k) ∧ ∃ x, (F 11) m = nI x ∧ uw_EX F p N [] le x) ∨ (M p qa = false ∧ m' = m)) (f4 : (F 13) bl = nI m') (CB : uw_CC F (M p) p (el p) N n X qb m' e' (gm + 1) g' km k') (f1 : (F 9) e' = nI 13) (f2 : (F 10) e' = nI (10 * p + k)) (e1 : e = e' + 1) (f5 : (F 13) le = nI e) : uw_NX F A M el en sz N rg E C D B (3 * (301 - st) + o) (uw_XR C A (nI (g + 1)) fl (-6) 0 (nI st) (nI mc) (nI oc) va ta ex th bg sh) (uw_YR D B (nI o) (nI (20 * p + s)) wy wo (nI g) (-1) 0 (nI st) (nI oc) (nI mc) on op ow ov va bg' sh) := by
  obtain ⟨b, hb1, hb2, hb3⟩ := hbg (20 * p + s) (by omega)
  have G := S.1
  have hE := G.2.2.2.2
  obtain ⟨z1, z2, z3, z4, z5, z6, z7, z8⟩ := S.2.2 p hp
  obtain ⟨ag, nf⟩ := z3 s ssz
  obtain ⟨s1, s2, s3, s4, s5⟩ := uw_s0e G (x := 20 * p + s) (by omega)
  have hk' := s1.trans hk
  obtain ⟨y1, y2, y3, y4, y5⟩ := uw_agk ag hk' (by omega)
  have cnt := uw_cnt (C := C) (fl := fl) (mc := nI mc) (oc := nI oc) (va := va) (ex := ex) (th := th) (sh := sh) G hg hst hp hs hta (show a < 360 by omega) c0 c1 hb1 hb2
  have bg2 := uw_bg1 (t := 20 * p + s) hbg hb1
  have t1 : ∀ y : Int32, (upd (upd ta g (nI (a + 1))) g y) = upd ta g y := fun y => uw_uu
  have pa' := s4.trans pa
  have pb' := s5.trans pb
  have yq := y2.trans pa'
  have yq2 := y3.trans pb'
  have iA := uw_CC_in _ _ _ _ _ _ _ _ _ CA
  have iB := uw_CC_in _ _ _ _ _ _ _ _ _ CB
  have hmm : m ≤ m' := by rcases mm with mm | mm <;> omega
  have RA := uw_ri G (by omega) CA
  have RB := uw_ri G (by omega) CB
  have RX := uw_rx G RA hr (by omega) (by omega)
  obtain ⟨u1, u2, _⟩ := uw_s9e G e'
  obtain ⟨_, _, _, _, _, _, _, _, v1, v2, v3, v4⟩ := uw_s9e G gm
  have cm : ¬ (F 9) m' = nI 9 := by cases n with
    | zero => exact CB.elim
    | succ n => exact uw_c9 CB.2.1 (by omega) (by omega)
  have lab := uw_lx G f4 (by omega) cm
  have fr : uw_FR A rg e' h := HH e' (by omega) (by omega) (fun i h1 h2 => by
    rcases Nat.lt_or_ge i (gm + 1) with z | z
    · obtain ⟨x, y, c1, c2, c3, c4, c5, c6, c7⟩ := RX i h1 z
      exact ⟨x, y, c1, c2, c3, c4, fun c => by omega⟩
    · obtain ⟨x, y, c1, c2, c3, c4, c5, c6, c7⟩ := RB i z h2
      exact ⟨x, y, c1, c2, c3, c4, fun c => by omega⟩)
  have PA : uw_PO F A M el en sz N rg E p (Sum.inr k :: X) qa (a + 1) m g1 gm (k + 1) km gm kb m 0 (M p qa) := ⟨⟨n, CA⟩, uw_hn G LO hr (by omega) (by omega), uw_ll' LO (by omega), by omega, by omega, by omega, by omega, by omega, rfl, fun z => ?_, by omega⟩
  have PB : uw_PO F A M el en sz N rg E p X qb m' e' (gm + 1) g' km k' h (k + 1) e' 0 (M p qb) := ⟨⟨n, CB⟩, uw_hr HH RX (by omega) (by omega) (by omega), uw_lr LO RX (by omega) (by omega), by omega, k10, grg, by omega, by omega, rfl, fun _ => uw_j0 (uw_c9 f1 (by omega) (by omega)), by omega⟩
  have K1 := uw_KM_c (ta' := upd ta g (nI (a + 1))) (ex' := ex) (th' := th) (on' := upd on o (nI (20 * p + s))) (op' := upd op o (nI 1)) (ow' := upd ow o (wy)) (ov' := upd ov o (wo)) _ _ _ _ _ _ _ _ (fun x hx => pk_un (by omega)) (fun x _ => ⟨rfl, rfl⟩) hkb (fun x hx => ⟨pk_un (by omega), pk_un (by omega), pk_un (by omega), pk_un (by omega)⟩) K
  have K2 : uw_KM F A M el en sz N rg E (upd ta g (nI (a + 1))) ex th (upd on o (nI (20 * p + s))) (upd op o (nI 1)) (upd ow o wy) (upd ov o wo) (o + 1) (g + 1) p (Sum.inr k :: X) (M p qa) (m) (gm) kb := ⟨p, s, hp, ssz, hs, pk_us, Or.inr (Or.inr (Or.inr (Or.inr (Or.inl ⟨rfl, hk', pk_us, X, k, bl, m', qb, e', gm + 1, g', km, k', h, t, M p s, rfl, hkk, kbk, by omega, v4.trans hr.2.2.2, (uw_s9e G _).2.2.2.2.1.trans fb, b1, lab, by omega, pb', PB, ⟨u1.trans f1, u2.trans f2, by omega, fr⟩, fun z => ?_, fun z z' => by rw [hM, z, z']; rfl, K1⟩))))⟩
  refine ⟨_, _, 1, by omega, cnt, uw_yb (by omega) (uw_yb_12 hp hs hst hb3 y1 (by decide) yq (by omega)), Or.inl ⟨3 * (301 - (st + 1)) + (o + 1), by omega, g, _, _, _, _, _, _, _, _, _, _, _, _, _, _, _, _, _, _, _, _, rfl, rfl, by omega, bg2, Or.inl ⟨rfl, rfl, p, qa, _, a + 1, m, g1, gm, k + 1, km, gm, kb, m, 0, _, hp, by omega, rfl, pk_us, hkb, PA, K2⟩⟩⟩
  · rcases mm with ⟨_, _, e1, e2, x, e3, ee⟩ | ⟨e1, _⟩
    · obtain ⟨v1, v2, v3, _⟩ := uw_s9e G m
      have ox : x < 200 := by have := ee.1; have := G.2.2.2.1; omega
      refine ⟨v1.trans e1, v2.trans e2, by omega, x, le, ox, v3.trans e3, (uw_s9e G x).2.2.2.2.2.1.trans ee.2.1, (uw_s9e G x).2.2.2.2.2.2.2.1.trans ee.2.2, fun z2 => uw_la G b2 f5 eE (hJ (by rw [hM, z, z2]; rfl)) (by omega)⟩
    · exact absurd (e1.symm.trans z) (by decide)
  · rcases mm with ⟨_, _, e1, _⟩ | ⟨e1, _⟩
    · exact uw_j0 (uw_c9 e1 (by omega) (by omega))
    · exact absurd (e1.symm.trans z) (by decide)
end
end
section
/-! a statement is begun (all kinds); a part has ended normally (printed by gen30.py) -/
theorem uw_po_lt {F A : Nat → Nat → Int32} {M : Nat → Nat → Bool} {el en sz : Nat → Nat} {N rg E : Nat} {p s a e g g' k k' h kb t j : Nat} {X : List ((Nat × Nat) ⊕ Nat)} {me : Bool} (P : uw_PO F A M el en sz N rg E p X s a e g g' k k' h kb t j me) : s < 20 := by
  obtain ⟨⟨n, cc⟩, _⟩ := P
  cases n with
  | zero => exact cc.elim
  | succ n => exact cc.1
section
variable {F A : Nat → Nat → Int32} {M : Nat → Nat → Bool} {el en sz : Nat → Nat} {N rg E : Nat} {C D : Nat → Int32} {B : Nat → Nat → Int32} {g st mc oc o : Nat} {fl wy wo : Int32} {va ta ex th bg sh on op ow ov bg' : Nat → Int32}
theorem uw_xmB (S : uw_ST F A M el en sz N rg E C B) (hg : g < 9) (hst : st ≤ 300) (ho : o ≤ st) (hoc : oc ≤ st) (hmc : mc < 100) (hbg : uw_BG st bg bg') {nx : Int32} (md : uw_MB F A M el en sz N rg E ta ex th on op ow ov g o nx) : uw_NX F A M el en sz N rg E C D B (3 * (301 - st) + o) (uw_XR C A (nI (g + 1)) fl (-6) 0 (nI st) (nI mc) (nI oc) va ta ex th bg sh) (uw_YR D B (nI o) nx wy wo (nI g) (-1) 0 (nI st) (nI oc) (nI mc) on op ow ov va bg' sh) := by
  obtain ⟨p, s, X, a, e, g1, g', k, k', h, kb, t, j, me, hp, hs, rfl, hta, hkb, ⟨⟨n, cc⟩, HH, LO, kbk, k10, grg, eE, ssz, hme, hJ, js⟩, K⟩ := md
  subst hme
  have ha := (uw_CC_in _ _ _ _ _ _ _ _ _ cc).1
  have hE := S.1.2.2.2.2
  cases n with
  | zero => exact cc.elim
  | succ n =>
    obtain ⟨_, c0, c1, cs⟩ := cc
    rcases Nat.eq_or_lt_of_le hst with e3 | hst
    · subst e3
      have s1 := uw_ms1 (C := C) (fl := fl) (tv := 0) (mc := nI mc) (oc := nI oc) (va := va) (ex := ex) (th := th) (bg := bg) (sh := sh) (uw_x0a hg hta (show a < 360 by omega) ((uw_s9e S.1 a).1.trans c0) ((uw_s9e S.1 a).2.1.trans c1))
      refine ⟨_, _, 1, by omega, s1, uw_yb (by omega) uw_yb_t, Or.inr ⟨2, _, _, _, _, _, oc, _, _, _, _, _, _, _, _, _, _, _, _, _, _, _, _, rfl, rfl, by decide, by decide, by omega, fun x hx => ?_⟩⟩
      obtain ⟨c, _, d1, d2⟩ := hbg x hx
      exact d2.trans d1.symm
    · rcases cs with ⟨o', ho', hk, hgg, hkk, lf⟩ | ⟨hk, qa, qb, qas, qbs, pa, pb, hM, cs⟩ | ⟨hk, qa, qb, qas, qbs, pa, pb, hM, f1, f2, l1, l2, m, m', gm, km, b1, b2, f3, CA, mm, f4, CB, f5⟩ | ⟨hk, qa, qas, pa, hM, f1, f2, te, br, m, b1, b2, f4, f3, CA, c9, c10, e1, f5⟩ | ⟨hk, qa, qb, qas, qbs, pa, pb, hM, hl, le, m, m', gm, km, b1, b2, CA, hr, mm, f4, f1, f2, CB, f5⟩ | ⟨hk, qa, qb, qas, qbs, pa, pb, hM, k9, bl, le, m, m', gm, km, e', b1, b2, CA, hr, fb, mm, f4, CB, f1, f2, e1, f5⟩
      · rcases lf with ⟨rfl, e1, hM⟩ | ⟨o1, o2, e1, f1, f2, f3, hM⟩ | ⟨rfl, e1, f1, f2, hM⟩ | ⟨o1, o2, e1, nn, L, l, q1, q2, q3, q4, q5, q6⟩
        · exact uw_b0 S hg hst ho hoc hmc hbg hp hs hta hkb c0 c1 ha HH LO kbk k10 grg eE ssz hJ js K hk e1 hM
        · by_cases c6 : o' = 6
          · subst c6
            exact uw_b6 S hg hst ho hoc hmc hbg hp hs hta hkb c0 c1 ha HH LO kbk k10 grg eE ssz hJ js K hk hgg e1 f1 f2
          · have hM' : M p s = true := hM.elim (fun z => absurd z c6) id
            have o5 : o' = 1 ∨ o' = 2 ∨ o' = 3 ∨ o' = 4 ∨ o' = 5 := by omega
            rcases o5 with rfl | rfl | rfl | rfl | rfl
            · exact uw_b1 S hg hst ho hoc hmc hbg hp hs hta hkb c0 c1 ha HH LO kbk k10 grg eE ssz hJ js K hk e1 f1 f2 f3 hM'
            · exact uw_b2 S hg hst ho hoc hmc hbg hp hs hta hkb c0 c1 ha HH LO kbk k10 grg eE ssz hJ js K hk e1 f1 f2 f3 hM'
            · exact uw_b3 S hg hst ho hoc hmc hbg hp hs hta hkb c0 c1 ha HH LO kbk k10 grg eE ssz hJ js K hk e1 f1 f2 f3 hM'
            · exact uw_b4 S hg hst ho hoc hmc hbg hp hs hta hkb c0 c1 ha HH LO kbk k10 grg eE ssz hJ js K hk e1 f1 f2 f3 hM'
            · exact uw_b5 S hg hst ho hoc hmc hbg hp hs hta hkb c0 c1 ha HH LO kbk k10 grg eE ssz hJ js K hk e1 f1 f2 f3 hM'
        · by_cases g8 : g = 8
          · exact uw_b10a S hg hst ho hoc hmc hbg hp hs hta hkb c0 c1 ha HH LO kbk k10 grg eE ssz hJ js K hk hgg e1 f1 f2 g8
          · exact uw_b10b S hg hst ho hoc hmc hbg hp hs hta hkb c0 c1 ha HH LO kbk k10 grg eE ssz hJ js K hk hgg e1 f1 f2 hM (by omega)
        · have o3 : o' = 7 ∨ o' = 8 ∨ o' = 9 := by omega
          rcases o3 with rfl | rfl | rfl
          · exact uw_b7 S hg hst ho hoc hmc hbg hp hs hta hkb c0 c1 ha HH LO kbk k10 grg eE ssz hJ js K hk e1 q1 q2 q3 q4 q5 q6
          · exact uw_b8 S hg hst ho hoc hmc hbg hp hs hta hkb c0 c1 ha HH LO kbk k10 grg eE ssz hJ js K hk e1 q1 q2 q3 q4 q5 q6
          · exact uw_b9 S hg hst ho hoc hmc hbg hp hs hta hkb c0 c1 ha HH LO kbk k10 grg eE ssz hJ js K hk e1 q1 q2 q3 q4 q5 q6
      · rcases cs with ⟨ma, m, gm, km, CA, CB⟩ | ⟨ma, CA⟩
        · exact uw_b11t S hg hst ho hoc hmc hbg hp hs hta hkb c0 c1 ha HH LO kbk k10 grg eE ssz hJ js K hk qas qbs pa pb hM ma CA CB
        · exact uw_b11f S hg hst ho hoc hmc hbg hp hs hta hkb c0 c1 ha HH LO kbk k10 grg eE ssz hJ js K hk qas qbs pa pb hM ma CA
      · exact uw_b12 S hg hst ho hoc hmc hbg hp hs hta hkb c0 c1 ha HH LO kbk k10 grg eE ssz hJ js K hk qas qbs pa pb hM f1 f2 b1 b2 f3 CA mm f4 CB f5
      · exact uw_b15 S hg hst ho hoc hmc hbg hp hs hta hkb c0 c1 ha HH LO kbk k10 grg eE ssz hJ js K hk qas pa hM f1 f2 b1 b2 f4 f3 CA c9 c10 e1 f5
      · exact uw_b13 S hg hst ho hoc hmc hbg hp hs hta hkb c0 c1 ha HH LO kbk k10 grg eE ssz hJ js K hk qas qbs pa pb hM b1 b2 CA hr mm f4 f1 f2 CB f5
      · exact uw_b14 S hg hst ho hoc hmc hbg hp hs hta hkb c0 c1 ha HH LO kbk k10 grg eE ssz hJ js K hk qas qbs pa pb hM k9 b1 b2 CA hr fb mm f4 CB f1 f2 e1 f5
theorem uw_ue {a : Nat → Int32} {i : Nat} {x : Int32} (h : a i = x) : upd a i x = a := by
  funext j; unfold upd; by_cases e : j = i
  · subst e; rw [if_pos rfl]; exact h.symm
  · rw [if_neg e]
theorem uw_jumps {C : Nat → Int32} {A : Nat → Nat → Int32} {g t : Nat} {fl sc mc oc : Int32} {va ex th bg sh : Nat → Int32} (hg : g < 9) : ∀ (j pc : Nat) (ta : Nat → Int32), ta g = nI pc → pc < 360 → uw_JT A j pc t →
    ∃ k, k ≤ j ∧ uw_MS k (uw_XR C A (nI (g + 1)) fl (-6) 0 sc mc oc va ta ex th bg sh) (uw_XR C A (nI (g + 1)) fl (-6) 0 sc mc oc va (upd ta g (nI t)) ex th bg sh) := by
  intro j
  induction j with
  | zero =>
    intro pc ta hta hpc h
    have : pc = t := h
    subst this
    refine ⟨0, Nat.le_refl _, ?_⟩
    rw [uw_ue hta]; exact uw_ms0 _
  | succ j ih =>
    intro pc ta hta hpc h
    rcases h with h | ⟨h1, l, q, h2, h3, h4, h5, h6⟩
    · subst h
      refine ⟨0, Nat.zero_le _, ?_⟩
      rw [uw_ue hta]; exact uw_ms0 _
    · obtain ⟨k, k1, k2⟩ := ih q (upd ta g (nI q)) pk_us h4 h6
      rw [uw_uu] at k2
      exact ⟨1 + k, by omega, uw_mst (uw_ms1 (uw_x9 hg hta hpc h1 h3 h2 (by omega) h5)) k2⟩
theorem uw_xmN (S : uw_ST F A M el en sz N rg E C B) (hg : g < 9) (hst : st ≤ 300) (ho : o ≤ st) (hoc : oc ≤ st) (hmc : mc < 100) (hbg : uw_BG st bg bg') (md : uw_MN F A M el en sz N rg E ta ex th on op ow ov g o) : uw_NX F A M el en sz N rg E C D B (3 * (301 - st) + o + 2) (uw_XR C A (nI (g + 1)) fl (-6) 0 (nI st) (nI mc) (nI oc) va ta ex th bg sh) (uw_YR D B (nI o) (-1) 0 wo (nI g) (-1) 0 (nI st) (nI oc) (nI mc) on op ow ov va bg' sh) := by
  have G := S.1
  have hE := G.2.2.2.2
  have hN := G.2.2.2.1
  obtain ⟨p, X, t, h, kb, pc, j, hp, hta, hpc, jt, hj, hkb, K⟩ := md
  obtain ⟨kj, kj1, kj2⟩ := uw_jumps (C := C) (fl := fl) (sc := nI st) (mc := nI mc) (oc := nI oc) (va := va) (ex := ex) (th := th) (bg := bg) (sh := sh) hg j pc ta hta (by omega) jt
  have t1 : ∀ y : Int32, (upd (upd ta g (nI t)) g y) = upd ta g y := fun y => uw_uu
  obtain ⟨zp1, zp2, zp3, zp4, zp5, zp6, zp7, _⟩ := S.2.2 p hp
  cases o with
  | zero =>
    obtain ⟨k1, k2, k3, k4⟩ := K
    have g0 : g = 0 := by omega
    subst g0 k3
    have s2 := uw_ms1 (C := C) (fl := fl) (tv := 0) (sc := nI st) (mc := nI mc) (oc := nI oc) (va := va) (ex := ex) (th := th) (bg := bg) (sh := sh) (uw_x8a (ta := upd ta 0 (nI (en p))) (pc := en p) pk_us (by omega) zp5)
    refine ⟨_, _, kj + 1, by omega, uw_mst kj2 s2, uw_yp (uw_yp_0n (by decide)), Or.inr ⟨0, _, _, _, _, _, oc, _, _, _, _, _, _, _, _, _, _, _, _, _, _, _, _, rfl, rfl, by decide, by decide, by omega, fun x hx => ?_⟩⟩
    obtain ⟨c, _, d1, d2⟩ := hbg x hx
    exact d2.trans d1.symm
  | succ m =>
    obtain ⟨q, s, hq, ssz, hs, hon, K⟩ := K
    obtain ⟨z1, z2, z3, z4⟩ := S.2.2 q hq
    obtain ⟨ag, nf⟩ := z3 s ssz
    rcases K with ⟨hk, b1, b2, b3, g2, X', t', h', kb', pc', j', a1, a2, a3, a4, a5, a6, a7, a8⟩ | ⟨e, hk, qb, t', ms, a1, a2, a3⟩ | ⟨e, hk, X', a, br, te, qa, t', a1, a2, ⟨w1, w2, w3, w4, w5, w6, w7, w8, mq, ga, gb, ka, kc, jq, PO⟩, a4⟩ | ⟨e, hk, qb, m', hl, ms, h', e', g1, g', k1, k2, jb, a1, a2, a3, a4, a5, a6, a7, a8, a9, a10, a11, a12, a13⟩ | ⟨e, hk, op1, X', kk, bl, m', qb, e', g1, g', k1, k2, h', t', ms, a1, a2, a3, a4, a5, a6, a7, a8, a9, a10, a11, a12, a13, a14, a15⟩ | ⟨e, hk, op1, kk, t', ms, kb', g2, a1, a2, a3, a4, a5, a6, a7⟩
    · obtain ⟨y1, y2, y3, y4, y5⟩ := uw_agk ag hk (by omega)
      subst b2
      have g2e : g = g2 + 1 := by omega
      have s2 := uw_ms1 (C := C) (fl := fl) (tv := 0) (sc := nI st) (mc := nI mc) (oc := nI oc) (va := va) (ex := ex) (th := th) (bg := bg) (sh := sh) (uw_x8b (a := g2) (ta := upd ta g (nI (en p))) (pc := en p) hg g2e pk_us (by omega) zp5)
      rw [t1] at s2
      subst g2e
      have K1 := uw_KM_c (ta' := upd ta (g2 + 1) (nI (en p + 1))) (ex' := ex) (th' := th) (on' := on) (op' := op) (ow' := ow) (ov' := ov) _ _ _ _ _ _ _ _ (fun x hx => pk_un (by omega)) (fun x hx => ⟨rfl, rfl⟩) a7 (fun x hx => ⟨rfl, rfl, rfl, rfl⟩) a8
      refine ⟨_, _, kj + 1, by omega, uw_mst kj2 s2, uw_yp (uw_yp_10n hq hs (by omega) hon y1 (by decide)), Or.inl ⟨3 * (301 - st) + m + 2, by omega, g2, _, _, _, _, _, _, _, _, _, _, _, _, _, _, _, _, _, _, _, _, rfl, rfl, by omega, hbg, Or.inr (Or.inl ⟨rfl, rfl, rfl, rfl, q, X', t', h', kb', pc' + 1, j', hq, (pk_un (by omega)).trans a2, by omega, a4, a5, a7, K1⟩)⟩⟩
    · subst e
      obtain ⟨y1, y2, y3, y4, y5⟩ := uw_agk ag hk (by omega)
      obtain ⟨e', g1, g', k1, k2, jb, po⟩ := a2 rfl
      have yq := y3.trans a1
      have eb := uw_po_lt po
      have K1 := uw_KM_c (ta' := upd ta g (nI t)) (ex' := ex) (th' := th) (on' := on) (op' := op) (ow' := ow) (ov' := ov) _ _ _ _ _ _ _ _ (fun x hx => pk_un (by omega)) (fun x hx => ⟨rfl, rfl⟩) hkb (fun x hx => ⟨rfl, rfl, rfl, rfl⟩) a3
      refine ⟨_, _, kj, by omega, kj2, uw_yp (uw_yp_12n hp hs (by omega) hon y1 yq), Or.inl ⟨3 * (301 - st) + m, by omega, g, _, _, _, _, _, _, _, _, _, _, _, _, _, _, _, _, _, _, _, _, rfl, rfl, by omega, hbg, Or.inl ⟨rfl, rfl, q, qb, X, t, e', g1, g', k1, k2, h, kb, t', jb, ms, hp, eb, rfl, pk_us, hkb, po, K1⟩⟩⟩
    · subst e a1 a2
      obtain ⟨y1, y2, y3, y4, y5⟩ := uw_agk ag hk (by omega)
      obtain ⟨r, hr, hr'⟩ := nf.2 (Or.inr (Or.inr hk))
      have yr := (y4 (by omega)).trans hr'
      have yq := y2.trans w8
      obtain ⟨lb1, ql, jl, lb2, lb3, lb4, lb5⟩ := w7
      have eq := uw_po_lt PO
      by_cases hz : va r = 0
      · have s2 := uw_ms1 (C := C) (fl := fl) (tv := 0) (sc := nI st) (mc := nI mc) (oc := nI oc) (va := va) (ex := ex) (th := th) (bg := bg) (sh := sh) (uw_x10a (l := br) (q := ql) (ta := upd ta g (nI (a + 1))) (pc := a + 1) hg pk_us (by omega) w2 (w3.trans hr') w4 hr hz lb1 (by omega) lb4)
        rw [t1] at s2
        have K1 := uw_KM_c (ta' := upd ta g (nI ql)) (ex' := ex) (th' := th) (on' := on) (op' := op) (ow' := ow) (ov' := ov) _ _ _ _ _ _ _ _ (fun x hx => pk_un (by omega)) (fun x hx => ⟨rfl, rfl⟩) hkb (fun x hx => ⟨rfl, rfl, rfl, rfl⟩) a4
        refine ⟨_, _, kj + 1, by omega, uw_mst kj2 s2, uw_yp (uw_yp_11a hp hs (by omega) hon y1 yr hr (Or.inl rfl) hz), Or.inl ⟨3 * (301 - st) + m + 2, by omega, g, _, _, _, _, _, _, _, _, _, _, _, _, _, _, _, _, _, _, _, _, rfl, rfl, by omega, hbg, Or.inr (Or.inl ⟨rfl, rfl, rfl, rfl, q, X', t', h, kb, ql, jl, hp, pk_us, lb2, lb5, lb3, hkb, K1⟩)⟩⟩
      · have s2 := uw_ms1 (C := C) (fl := fl) (tv := 0) (sc := nI st) (mc := nI mc) (oc := nI oc) (va := va) (ex := ex) (th := th) (bg := bg) (sh := sh) (uw_x10b (ta := upd ta g (nI (a + 1))) (pc := a + 1) hg pk_us (by omega) w2 (w3.trans hr') hr hz)
        rw [t1] at s2
        have K1 := uw_KM_c (ta' := upd ta g (nI (a + 2))) (ex' := ex) (th' := th) (on' := upd on m (nI (20 * q + s))) (op' := upd op m (nI 1)) (ow' := upd ow m 0) (ov' := upd ov m 0) _ _ _ _ _ _ _ _ (fun x hx => pk_un (by omega)) (fun x hx => ⟨rfl, rfl⟩) hkb (fun x hx => ⟨pk_un (by omega), pk_un (by omega), pk_un (by omega), pk_un (by omega)⟩) a4
        have K2 : uw_KM F A M el en sz N rg E (upd ta g (nI (a + 2))) ex th (upd on m (nI (20 * q + s))) (upd op m (nI 1)) (upd ow m 0) (upd ov m 0) (m + 1) (g + 1) q (Sum.inl (br, te) :: X') (M q qa) (a + 1) h kb := ⟨q, s, hq, ssz, hs, pk_us, Or.inr (Or.inr (Or.inl ⟨rfl, hk, X', a, br, te, qa, t', rfl, rfl, ⟨w1, w2, w3, w4, w5, w6, ⟨lb1, ql, jl, lb2, lb3, lb4, lb5⟩, w8, mq, ga, gb, ka, kc, jq, PO⟩, K1⟩))⟩
        refine ⟨_, _, kj + 1, by omega, uw_mst kj2 s2, uw_yp (uw_yp_11b hp hs (by omega) hon y1 yr hr (Or.inl rfl) hz yq), Or.inl ⟨3 * (301 - st) + (m + 1), by omega, g, _, _, _, _, _, _, _, _, _, _, _, _, _, _, _, _, _, _, _, _, rfl, rfl, by omega, hbg, Or.inl ⟨rfl, rfl, q, qa, _, a + 2, mq, ga, gb, ka, kc, h, kb, a + 1, jq, _, hp, eq, rfl, pk_us, hkb, PO, K2⟩⟩⟩
    · subst e
      obtain ⟨y1, y2, y3, y4, y5⟩ := uw_agk ag hk (by omega)
      have ems := a12 rfl
      subst ems
      refine ⟨_, _, 0, by omega, uw_ms0 _, uw_yp (uw_yp_14k hp hs (by omega) hon y1 (by decide)), Or.inl ⟨3 * (301 - st) + m + 2, by omega, g, _, _, _, _, _, _, _, _, _, _, _, _, _, _, _, _, _, _, _, _, rfl, rfl, by omega, hbg, Or.inr (Or.inl ⟨rfl, rfl, rfl, rfl, q, X, t, h', kb, pc, j, hp, hta, hpc, jt, hj, hkb, a13⟩)⟩⟩
    · subst e a1
      obtain ⟨y1, y2, y3, y4, y5⟩ := uw_agk ag hk (by omega)
      obtain ⟨c1, c2, c3, x, le, c4, c5, c6, c7, c8⟩ := a13 rfl
      have yq := y3.trans a10
      have eq := uw_po_lt a11
      have s2 := uw_ms1 (C := C) (fl := fl) (tv := 0) (sc := nI st) (mc := nI mc) (oc := nI oc) (va := va) (ex := ex) (th := th) (bg := bg) (sh := sh) (uw_x12 (ta := upd ta g (nI t)) (pc := t) hg pk_us (by omega) c1 c2 c5 hp a2 c4 a6 a7 (by omega) a8)
      rw [t1] at s2
      have K1 := uw_KM_c (ta' := upd ta g (nI m')) (ex' := upd ex (10 * g + kk) (nI x)) (th' := th) (on' := upd on m (nI (20 * q + s))) (op' := upd op m (nI 2)) (ow' := upd ow m 0) (ov' := upd ov m wo) _ _ _ _ _ _ _ _ (fun x hx => pk_un (by omega)) (fun x hx => ⟨pk_un (by omega), rfl⟩) hkb (fun x hx => ⟨pk_un (by omega), pk_un (by omega), pk_un (by omega), pk_un (by omega)⟩) a15
      have K2 : uw_KM F A M el en sz N rg E (upd ta g (nI m')) (upd ex (10 * g + kk) (nI x)) th (upd on m (nI (20 * q + s))) (upd op m (nI 2)) (upd ow m 0) (upd ov m wo) (m + 1) (g + 1) q X' (M q qb) e' h' (kk + 1) := ⟨q, s, hq, ssz, hs, pk_us, Or.inr (Or.inr (Or.inr (Or.inr (Or.inr ⟨rfl, hk, pk_us, kk, t', ms, kb, g, rfl, a2, a3, by omega, a12, Or.inl ⟨pk_us, a14 rfl, x, le, c4, pk_us, c6, c7, c8⟩, K1⟩))))⟩
      refine ⟨_, _, kj + 1, by omega, uw_mst kj2 s2, uw_yp (uw_yp_15a hp hs (by omega) hon y1 op1 yq), Or.inl ⟨3 * (301 - st) + (m + 1), by omega, g, _, _, _, _, _, _, _, _, _, _, _, _, _, _, _, _, _, _, _, _, rfl, rfl, by omega, hbg, Or.inl ⟨rfl, rfl, q, qb, X', m', e', g1, g', k1, k2, h', kk + 1, e', 0, _, hp, eq, rfl, pk_us, by omega, a11, K2⟩⟩⟩
    · subst e
      obtain ⟨y1, y2, y3, y4, y5⟩ := uw_agk ag hk (by omega)
      obtain rfl : g2 = g := by omega
      obtain ⟨c1, c2, c3, c4⟩ := a5
      rcases a6 with ⟨v1, v2, x, le, v3, v4, v5, v6, v7⟩ | ⟨v1, v2, v3⟩ | ⟨y, nn, L, l, x, v1, v2, v3, v4, v5, v6, v7, v8, v9⟩
      · obtain ⟨lb1, ql, jl, lb2, lb3, lb4, lb5⟩ := v7 rfl
        have ems := v2 rfl
        subst ems
        have s2 := uw_ms1 (C := C) (fl := fl) (tv := 0) (sc := nI st) (mc := nI mc) (oc := nI oc) (va := va) (ex := ex) (th := th) (bg := bg) (sh := sh) (uw_x13a (ta := upd ta g2 (nI t)) (pc := t) hg pk_us (by omega) c1 c2 hp a2 v4 v3 v5 v6 lb1 (by omega) lb4)
        rw [t1] at s2
        have K1 := uw_KM_c (ta' := upd ta g2 (nI ql)) (ex' := ex) (th' := th) (on' := on) (op' := op) (ow' := ow) (ov' := ov) _ _ _ _ _ _ _ _ (fun x hx => pk_un (by omega)) (fun x hx => ⟨rfl, rfl⟩) (by omega) (fun x hx => ⟨rfl, rfl, rfl, rfl⟩) a7
        refine ⟨_, _, kj + 1, by omega, uw_mst kj2 s2, uw_yp (uw_yp_15b hp hs (by omega) hon y1 op1), Or.inl ⟨3 * (301 - st) + m + 2, by omega, g2, _, _, _, _, _, _, _, _, _, _, _, _, _, _, _, _, _, _, _, _, rfl, rfl, by omega, hbg, Or.inr (Or.inl ⟨rfl, rfl, v1, rfl, q, X, t', h, kb', ql, jl, hp, pk_us, lb2, lb5, lb3, by omega, K1⟩)⟩⟩
      · have pr := uw_x13c (C := C) (A := A) (fl := fl) (s := -6) (tv := 0) (sc := nI st) (mc := nI mc) (oc := nI oc) (va := va) (ex := ex) (th := th) (bg := bg) (sh := sh) (ta := upd ta g2 (nI t)) (pc := t) hg pk_us (by omega) c1 c2 hp a2 v2
        rw [t1, v3] at pr
        have K1 := uw_KM_c (ta' := upd ta g2 (nI (t + 1))) (ex' := ex) (th' := th) (on' := on) (op' := op) (ow' := ow) (ov' := ov) _ _ _ _ _ _ _ _ (fun x hx => pk_un (by omega)) (fun x hx => ⟨rfl, rfl⟩) (by omega) (fun x hx => ⟨rfl, rfl, rfl, rfl⟩) a7
        refine ⟨_, _, kj, by omega, kj2, uw_yp (uw_yp_15b hp hs (by omega) hon y1 op1), Or.inl ⟨3 * (301 - st) + m + 2, by omega, g2, _, _, _, _, _, _, _, _, _, _, _, _, _, _, _, _, _, _, _, _, rfl, rfl, by omega, hbg, Or.inr (Or.inr (Or.inl ⟨rfl, rfl, v1, q, X, ms, t', h, kb', 0, upd ta g2 (nI (t + 1)), t, hp, by omega, pk_us, by omega, c4, by omega, K1, pr⟩))⟩⟩
      · have pg : uw_PG (uw_XR C A (nI (g2 + 1)) fl (-6) 0 (nI st) (nI mc) (nI oc) va (upd ta g2 (nI t)) ex th bg sh) C A q N g2 fl (nI st) (nI mc) (nI oc) va (upd ta g2 (nI t)) ex th bg sh L l := by
          have ox : x < 200 := by have := uw_EX_lt v9; omega
          cases L with
          | nil => exact fun z hz hL => uw_x13a (ta := upd ta g2 (nI t)) (pc := t) hg pk_us (by omega) c1 c2 hp a2 v8 ox v9.2.1 v9.2.2 v6 (by omega) hL
          | cons k3 L =>
            obtain ⟨n1, n2, n3, x', n4, n5⟩ := v9
            have ox' : x' < 200 := by have := uw_EX_lt n5; omega
            exact ⟨n2, x', n5, fun bl z b1 b2 b3 b4 => uw_x13b (ta := upd ta g2 (nI t)) (pc := t) hg pk_us (by omega) c1 c2 hp a2 v8 ox n3 n2 n4 ox' b1 b2 (by omega) b4⟩
        have K1 := uw_KM_c (ta' := upd ta g2 (nI t)) (ex' := ex) (th' := th) (on' := on) (op' := op) (ow' := ow) (ov' := ov) _ _ _ _ _ _ _ _ (fun x hx => pk_un (by omega)) (fun x hx => ⟨rfl, rfl⟩) (by omega) (fun x hx => ⟨rfl, rfl, rfl, rfl⟩) a7
        refine ⟨_, _, kj, by omega, kj2, uw_yp (uw_yp_15b hp hs (by omega) hon y1 op1), Or.inl ⟨3 * (301 - st) + m + 2, by omega, g2, _, _, _, _, _, _, _, _, _, _, _, _, _, _, _, _, _, _, _, _, rfl, rfl, by omega, hbg, Or.inr (Or.inr (Or.inr ⟨rfl, rfl, rfl, y, nn, q, X, ms, t', h, kb', L, l, v1, v2, v3, v4, v5, hp, v6, by omega, v7, K1, pg⟩))⟩⟩
end
end
section
/-! a part has ended otherwise: thrown values, breaks, goings on, returns (printed by gen31.py) -/
section
variable {F A : Nat → Nat → Int32} {M : Nat → Nat → Bool} {el en sz : Nat → Nat} {N rg E : Nat} {C D : Nat → Int32} {B : Nat → Nat → Int32} {g st mc oc o : Nat} {fl wy wo : Int32} {va ta ex th bg sh on op ow ov bg' : Nat → Int32}
theorem uw_xmT (S : uw_ST F A M el en sz N rg E C B) (hg : g < 9) (hst : st ≤ 300) (ho : o ≤ st) (hoc : oc ≤ st) (hmc : mc < 100) (hbg : uw_BG st bg bg') {ca i p pc t h kb : Nat} {X : List ((Nat × Nat) ⊕ Nat)} {me : Bool} {ta' : Nat → Int32} (hp : p < 3) (hi : i + ca < 9) (hta : ta' ca = nI (pc + 1)) (hpc : pc < 359) (fr : uw_FR A rg pc h) (hkb : kb ≤ 10) (K : uw_KM F A M el en sz N rg E ta' ex th on op ow ov o (ca + 1) p X me t h kb) (P : uw_PR (uw_XR C A (nI (g + 1)) fl (-6) 0 (nI st) (nI mc) (nI oc) va ta ex th bg sh) C A wo fl (-6) 0 (nI st) (nI mc) (nI oc) va ta' ex th bg sh i (ca + 1)) : uw_NX F A M el en sz N rg E C D B (3 * (301 - st) + o + 2) (uw_XR C A (nI (g + 1)) fl (-6) 0 (nI st) (nI mc) (nI oc) va ta ex th bg sh) (uw_YR D B (nI o) (-1) 1 wo (nI ca) (-1) 0 (nI st) (nI oc) (nI mc) on op ow ov va bg' sh) := by
  have G := S.1
  have hE := G.2.2.2.2
  have hrg := G.2.2.1
  have hr0 := S.2.1
  cases o with
  | zero =>
    obtain ⟨k1, k2, k3, k4⟩ := K
    have c0 : ca = 0 := by omega
    subst c0 k4
    have s2 := uw_ms1 (uw_pr_0 (uw_pr_n hr0 hrg (by omega) (by omega) hta (by omega) fr P))
    refine ⟨_, _, 1, by omega, s2, uw_yp uw_yp_0t, Or.inr ⟨1, _, _, _, _, _, oc, _, _, _, _, _, _, _, _, _, _, _, _, _, _, _, _, rfl, rfl, by decide, by decide, by omega, fun x hx => ?_⟩⟩
    obtain ⟨c, _, d1, d2⟩ := hbg x hx
    exact d2.trans d1.symm
  | succ m =>
    obtain ⟨q, s, hq, ssz, hs, hon, K⟩ := K
    obtain ⟨z1, z2, z3, z4⟩ := S.2.2 q hq
    obtain ⟨ag, nf⟩ := z3 s ssz
    rcases K with ⟨hk, b1, b2, b3, g2, X', t', h', kb', pc', j', a1, a2, a3, a4, a5, a6, a7, a8⟩ | ⟨e, hk, qb, t', ms, a1, a2, a3⟩ | ⟨e, hk, X', a, br, te, qa, t', a1, a2, ⟨w1, w2, w3, w4, w5, w6, w7, w8, mq, ga, gb, ka, kc, jq, PO⟩, a4⟩ | ⟨e, hk, qb, m', hl, ms, h', e', g1, g', k1, k2, jb, a1, a2, a3, a4, a5, a6, a7, a8, a9, a10, a11, a12, a13⟩ | ⟨e, hk, op1, X', kk, bl, m', qb, e', g1, g', k1, k2, h', t', ms, a1, a2, a3, a4, a5, a6, a7, a8, a9, a10, a11, a12, a13, a14, a15⟩ | ⟨e, hk, op1, kk, t', ms, kb', g2, a1, a2, a3, a4, a5, a6, a7⟩
    · obtain ⟨y1, y2, y3, y4, y5⟩ := uw_agk ag hk (by omega)
      subst b3
      have c2 : ca = g2 + 1 := by omega
      subst c2
      have P1 := uw_pr_n hr0 hrg (by omega) (by omega) hta (by omega) fr P
      refine ⟨_, _, 0, by omega, uw_ms0 _, uw_yp (uw_yp_10t hq hs (by omega) hon y1), Or.inl ⟨3 * (301 - st) + m + 2, by omega, g, _, _, _, _, _, _, _, _, _, _, _, _, _, _, _, _, _, _, _, _, rfl, rfl, by omega, hbg, Or.inr (Or.inr (Or.inl ⟨rfl, rfl, rfl, q, X', true, t', h', kb', i + 1, ta', pc', hq, by omega, a2, by omega, a6, a7, a8, P1⟩))⟩⟩
    · subst e
      obtain ⟨y1, y2, y3, y4, y5⟩ := uw_agk ag hk (by omega)
      refine ⟨_, _, 0, by omega, uw_ms0 _, uw_yp (uw_yp_12k hp hs (by omega) hon y1 (by decide)), Or.inl ⟨3 * (301 - st) + m + 2, by omega, g, _, _, _, _, _, _, _, _, _, _, _, _, _, _, _, _, _, _, _, _, rfl, rfl, by omega, hbg, Or.inr (Or.inr (Or.inl ⟨rfl, rfl, rfl, q, X, ms, t', h, kb, i, ta', pc, hp, hi, hta, hpc, fr, hkb, a3, P⟩))⟩⟩
    · subst e
      obtain ⟨y1, y2, y3, y4, y5⟩ := uw_agk ag hk (by omega)
      refine ⟨_, _, 0, by omega, uw_ms0 _, uw_yp (uw_yp_11e hp hs (by omega) hon y1 (by decide) (by decide) (by decide)), Or.inl ⟨3 * (301 - st) + m + 2, by omega, g, _, _, _, _, _, _, _, _, _, _, _, _, _, _, _, _, _, _, _, _, rfl, rfl, by omega, hbg, Or.inr (Or.inr (Or.inl ⟨rfl, rfl, rfl, q, X', true, t', h, kb, i, ta', pc, hp, hi, hta, hpc, fr, hkb, a4, P⟩))⟩⟩
    · subst e
      obtain ⟨y1, y2, y3, y4, y5⟩ := uw_agk ag hk (by omega)
      obtain ⟨r, hr, hr'⟩ := nf.2 (Or.inr (Or.inl hk))
      have yr := (y4 (by omega)).trans hr'
      have yq := y3.trans a9
      have eq := uw_po_lt a10
      have s1 := uw_ms1 (uw_pr_c hr0 hrg (by omega) (by omega) hta (by omega) fr a1 a2 a3 a4 (by omega) a5 P)
      have s2 := uw_ms1 (C := C) (fl := wo) (tv := 0) (sc := nI st) (mc := nI mc) (oc := nI oc) (va := va) (ex := ex) (th := th) (bg := bg) (sh := sh) (uw_x11 (ta := upd ta' ca (nI m')) (pc := m') (g := ca) (by omega) pk_us (by omega) a7 (a8.trans hr') hr)
      rw [uw_uu] at s2
      have K1 := uw_KM_me (me' := M q qb) a11 (uw_KM_c (ta' := upd ta' ca (nI (m' + 1))) (ex' := ex) (th' := th) (on' := on) (op' := op) (ow' := ow) (ov' := ov) _ _ _ _ _ _ _ _ (fun x hx => pk_un (by omega)) (fun x hx => ⟨rfl, rfl⟩) hkb (fun x hx => ⟨rfl, rfl, rfl, rfl⟩) a13)
      refine ⟨_, _, 1 + 1, by omega, uw_mst s1 s2, uw_yp (uw_yp_14t hp hs (by omega) hon y1 yr hr yq), Or.inl ⟨3 * (301 - st) + m, by omega, ca, _, _, _, _, _, _, _, _, _, _, _, _, _, _, _, _, _, _, _, _, rfl, rfl, by omega, hbg, Or.inl ⟨rfl, rfl, q, qb, X, m' + 1, e', g1, g', k1, k2, h', kb, t, jb, _, hp, eq, rfl, pk_us, hkb, a10, K1⟩⟩⟩
    · subst e a1
      obtain ⟨y1, y2, y3, y4, y5⟩ := uw_agk ag hk (by omega)
      have yq := y3.trans a10
      have eq := uw_po_lt a11
      have s1 := uw_ms1 (uw_pr_l hr0 hrg (by omega) (by omega) hta (by omega) fr a4 hp a2 a5 a6 a7 (by omega) a8 P)
      have K1 := uw_KM_c (ta' := upd ta' ca (nI m')) (ex' := upd ex (10 * ca + kk) (-1)) (th' := upd th (10 * ca + kk) wo) (on' := upd on m (nI (20 * q + s))) (op' := upd op m (nI 2)) (ow' := upd ow m 1) (ov' := upd ov m wo) _ _ _ _ _ _ _ _ (fun x hx => pk_un (by omega)) (fun x hx => ⟨pk_un (by omega), pk_un (by omega)⟩) hkb (fun x hx => ⟨pk_un (by omega), pk_un (by omega), pk_un (by omega), pk_un (by omega)⟩) a15
      have K2 : uw_KM F A M el en sz N rg E (upd ta' ca (nI m')) (upd ex (10 * ca + kk) (-1)) (upd th (10 * ca + kk) wo) (upd on m (nI (20 * q + s))) (upd op m (nI 2)) (upd ow m 1) (upd ov m wo) (m + 1) (ca + 1) q X' (M q qb) e' h' (kk + 1) := ⟨q, s, hq, ssz, hs, pk_us, Or.inr (Or.inr (Or.inr (Or.inr (Or.inr ⟨rfl, hk, pk_us, kk, t', ms, kb, ca, rfl, a2, a3, by omega, a12, Or.inr (Or.inl ⟨pk_us, pk_us, pk_us.trans pk_us.symm⟩), K1⟩))))⟩
      refine ⟨_, _, 1, by omega, s1, uw_yp (uw_yp_15a hp hs (by omega) hon y1 op1 yq), Or.inl ⟨3 * (301 - st) + (m + 1), by omega, ca, _, _, _, _, _, _, _, _, _, _, _, _, _, _, _, _, _, _, _, _, rfl, rfl, by omega, hbg, Or.inl ⟨rfl, rfl, q, qb, X', m', e', g1, g', k1, k2, h', kk + 1, e', 0, _, hp, eq, rfl, pk_us, by omega, a11, K2⟩⟩⟩
    · subst e
      obtain ⟨y1, y2, y3, y4, y5⟩ := uw_agk ag hk (by omega)
      refine ⟨_, _, 0, by omega, uw_ms0 _, uw_yp (uw_yp_15k hp hs (by omega) hon y1 op1 (by decide)), Or.inl ⟨3 * (301 - st) + m + 2, by omega, g, _, _, _, _, _, _, _, _, _, _, _, _, _, _, _, _, _, _, _, _, rfl, rfl, by omega, hbg, Or.inr (Or.inr (Or.inl ⟨rfl, rfl, rfl, q, X, ms, t', h, kb', i, ta', pc, hp, hi, hta, hpc, fr, by omega, a7, P⟩))⟩⟩
theorem uw_xmX (S : uw_ST F A M el en sz N rg E C B) (hg : g < 9) (hst : st ≤ 300) (ho : o ≤ st) (hoc : oc ≤ st) (hmc : mc < 100) (hbg : uw_BG st bg bg') {y n p t h kb l : Nat} {X : List ((Nat × Nat) ⊕ Nat)} {L : List Nat} {me : Bool} (hy2 : 2 ≤ y) (hy4 : y ≤ 4) (hn : n < 4) (hp : p < 3) (hll : l < 128) (hkb : kb ≤ 10) (xt : uw_XT (el p) X y n L l) (K : uw_KM F A M el en sz N rg E ta ex th on op ow ov o (g + 1) p X me t h kb) (P : uw_PG (uw_XR C A (nI (g + 1)) fl (-6) 0 (nI st) (nI mc) (nI oc) va ta ex th bg sh) C A p N g fl (nI st) (nI mc) (nI oc) va ta ex th bg sh L l) : uw_NX F A M el en sz N rg E C D B (3 * (301 - st) + o + 2) (uw_XR C A (nI (g + 1)) fl (-6) 0 (nI st) (nI mc) (nI oc) va ta ex th bg sh) (uw_YR D B (nI o) (-1) (nI y) (nI n) (nI g) (-1) 0 (nI st) (nI oc) (nI mc) on op ow ov va bg' sh) := by
  have G := S.1
  have hE := G.2.2.2.2
  have ne : ∀ b : Nat, b < 100 → b ≠ y → ¬ nI y = nI b := fun b hb hby e => hby ((nI_eq (by omega) (by omega)).mp e).symm
  have ny0 : ¬ nI y = 0 := ne 0 (by omega) (by omega)
  have ny1 : ¬ nI y = 1 := ne 1 (by omega) (by omega)
  obtain ⟨zp1, zp2, zp3, zp4, zp5, zp6, zp7, _⟩ := S.2.2 p hp
  cases o with
  | zero =>
    obtain ⟨k1, k2, k3, k4⟩ := K
    have g0 : g = 0 := by omega
    subst g0 k2
    obtain ⟨rfl, rfl, rfl⟩ := xt
    have s1 := uw_ms1 (P (en p) (by omega) zp7)
    have s2 := uw_ms1 (C := C) (fl := fl) (tv := 0) (sc := nI st) (mc := nI mc) (oc := nI oc) (va := va) (ex := ex) (th := th) (bg := bg) (sh := sh) (uw_x8a (ta := upd ta 0 (nI (en p))) (pc := en p) pk_us (by omega) zp5)
    refine ⟨_, _, 1 + 1, by omega, uw_mst s1 s2, uw_yp (uw_yp_0n ny1), Or.inr ⟨0, _, _, _, _, _, oc, _, _, _, _, _, _, _, _, _, _, _, _, _, _, _, _, rfl, rfl, by decide, by decide, by omega, fun x hx => ?_⟩⟩
    obtain ⟨c, _, d1, d2⟩ := hbg x hx
    exact d2.trans d1.symm
  | succ m =>
    obtain ⟨q, s, hq, ssz, hs, hon, K⟩ := K
    obtain ⟨z1, z2, z3, z4⟩ := S.2.2 q hq
    obtain ⟨ag, nf⟩ := z3 s ssz
    rcases K with ⟨hk, b1, b2, b3, g2, X', t', h', kb', pc', j', a1, a2, a3, a4, a5, a6, a7, a8⟩ | ⟨e, hk, qb, t', ms, a1, a2, a3⟩ | ⟨e, hk, X', a, br, te, qa, t', a1, a2, ⟨w1, w2, w3, w4, w5, w6, w7, w8, mq, ga, gb, ka, kc, jq, PO⟩, a4⟩ | ⟨e, hk, qb, m', hl, ms, h', e', g1, g', k1, k2, jb, a1, a2, a3, a4, a5, a6, a7, a8, a9, a10, a11, a12, a13⟩ | ⟨e, hk, op1, X', kk, bl, m', qb, e', g1, g', k1, k2, h', t', ms, a1, a2, a3, a4, a5, a6, a7, a8, a9, a10, a11, a12, a13, a14, a15⟩ | ⟨e, hk, op1, kk, t', ms, kb', g2, a1, a2, a3, a4, a5, a6, a7⟩
    · obtain ⟨y1, y2, y3, y4, y5⟩ := uw_agk ag hk (by omega)
      subst b1
      obtain ⟨rfl, rfl, rfl⟩ := xt
      have g2e : g = g2 + 1 := by omega
      have s1 := uw_ms1 (P (en p) (by omega) zp7)
      have s2 := uw_ms1 (C := C) (fl := fl) (tv := 0) (sc := nI st) (mc := nI mc) (oc := nI oc) (va := va) (ex := ex) (th := th) (bg := bg) (sh := sh) (uw_x8b (a := g2) (ta := upd ta g (nI (en p))) (pc := en p) hg g2e pk_us (by omega) zp5)
      rw [uw_uu] at s2
      subst g2e
      have K1 := uw_KM_c (ta' := upd ta (g2 + 1) (nI (en p + 1))) (ex' := ex) (th' := th) (on' := on) (op' := op) (ow' := ow) (ov' := ov) _ _ _ _ _ _ _ _ (fun x hx => pk_un (by omega)) (fun x hx => ⟨rfl, rfl⟩) a7 (fun x hx => ⟨rfl, rfl, rfl, rfl⟩) a8
      refine ⟨_, _, 1 + 1, by omega, uw_mst s1 s2, uw_yp (uw_yp_10n hq hs (by omega) hon y1 ny1), Or.inl ⟨3 * (301 - st) + m + 2, by omega, g2, _, _, _, _, _, _, _, _, _, _, _, _, _, _, _, _, _, _, _, _, rfl, rfl, by omega, hbg, Or.inr (Or.inl ⟨rfl, rfl, rfl, rfl, q, X', t', h', kb', pc' + 1, j', hq, (pk_un (by omega)).trans a2, by omega, a4, a5, a7, K1⟩)⟩⟩
    · subst e
      obtain ⟨y1, y2, y3, y4, y5⟩ := uw_agk ag hk (by omega)
      refine ⟨_, _, 0, by omega, uw_ms0 _, uw_yp (uw_yp_12k hp hs (by omega) hon y1 ny0), Or.inl ⟨3 * (301 - st) + m + 2, by omega, g, _, _, _, _, _, _, _, _, _, _, _, _, _, _, _, _, _, _, _, _, rfl, rfl, by omega, hbg, Or.inr (Or.inr (Or.inr ⟨rfl, rfl, rfl, y, n, q, X, ms, t', h, kb, L, l, hy2, hy4, rfl, rfl, hn, hp, hll, hkb, xt, a3, P⟩))⟩⟩
    · subst e a1
      obtain ⟨y1, y2, y3, y4, y5⟩ := uw_agk ag hk (by omega)
      obtain ⟨r, hr, hr'⟩ := nf.2 (Or.inr (Or.inr hk))
      have yr := (y4 (by omega)).trans hr'
      have yq := y2.trans w8
      obtain ⟨lb1, ql, jl, lb2, lb3, lb4, lb5⟩ := w7
      have eq := uw_po_lt PO
      rcases xt with ⟨rfl, rfl, xt⟩ | ⟨y23, n', rfl, xt⟩ | ⟨rfl, xt⟩
      · rcases xt with ⟨rfl, rfl⟩ | ⟨rfl, rfl⟩
        · have s1 := uw_ms1 (P ql lb2 lb4)
          have K1 := uw_KM_c (ta' := upd ta g (nI ql)) (ex' := ex) (th' := th) (on' := on) (op' := op) (ow' := ow) (ov' := ov) _ _ _ _ _ _ _ _ (fun x hx => pk_un (by omega)) (fun x hx => ⟨rfl, rfl⟩) hkb (fun x hx => ⟨rfl, rfl, rfl, rfl⟩) a4
          refine ⟨_, _, 1, by omega, s1, uw_yp (uw_yp_11c hp hs (by omega) hon y1), Or.inl ⟨3 * (301 - st) + m + 2, by omega, g, _, _, _, _, _, _, _, _, _, _, _, _, _, _, _, _, _, _, _, _, rfl, rfl, by omega, hbg, Or.inr (Or.inl ⟨rfl, rfl, rfl, rfl, q, X', t', h, kb, ql, jl, hp, pk_us, lb2, lb5, lb3, hkb, K1⟩)⟩⟩
        · have s1 := uw_ms1 (P (a + 1) w1 w6)
          by_cases hz : va r = 0
          · have s2 := uw_ms1 (C := C) (fl := fl) (tv := 0) (sc := nI st) (mc := nI mc) (oc := nI oc) (va := va) (ex := ex) (th := th) (bg := bg) (sh := sh) (uw_x10a (l := br) (q := ql) (ta := upd ta g (nI (a + 1))) (pc := a + 1) hg pk_us (by omega) w2 (w3.trans hr') w4 hr hz lb1 (by omega) lb4)
            rw [uw_uu] at s2
            have K1 := uw_KM_c (ta' := upd ta g (nI ql)) (ex' := ex) (th' := th) (on' := on) (op' := op) (ow' := ow) (ov' := ov) _ _ _ _ _ _ _ _ (fun x hx => pk_un (by omega)) (fun x hx => ⟨rfl, rfl⟩) hkb (fun x hx => ⟨rfl, rfl, rfl, rfl⟩) a4
            refine ⟨_, _, 1 + 1, by omega, uw_mst s1 s2, uw_yp (uw_yp_11a hp hs (by omega) hon y1 yr hr (Or.inr ⟨rfl, rfl⟩) hz), Or.inl ⟨3 * (301 - st) + m + 2, by omega, g, _, _, _, _, _, _, _, _, _, _, _, _, _, _, _, _, _, _, _, _, rfl, rfl, by omega, hbg, Or.inr (Or.inl ⟨rfl, rfl, rfl, rfl, q, X', t', h, kb, ql, jl, hp, pk_us, lb2, lb5, lb3, hkb, K1⟩)⟩⟩
          · have s2 := uw_ms1 (C := C) (fl := fl) (tv := 0) (sc := nI st) (mc := nI mc) (oc := nI oc) (va := va) (ex := ex) (th := th) (bg := bg) (sh := sh) (uw_x10b (ta := upd ta g (nI (a + 1))) (pc := a + 1) hg pk_us (by omega) w2 (w3.trans hr') hr hz)
            rw [uw_uu] at s2
            have K1 := uw_KM_c (ta' := upd ta g (nI (a + 2))) (ex' := ex) (th' := th) (on' := upd on m (nI (20 * q + s))) (op' := upd op m (nI 1)) (ow' := upd ow m 0) (ov' := upd ov m 0) _ _ _ _ _ _ _ _ (fun x hx => pk_un (by omega)) (fun x hx => ⟨rfl, rfl⟩) hkb (fun x hx => ⟨pk_un (by omega), pk_un (by omega), pk_un (by omega), pk_un (by omega)⟩) a4
            have K2 : uw_KM F A M el en sz N rg E (upd ta g (nI (a + 2))) ex th (upd on m (nI (20 * q + s))) (upd op m (nI 1)) (upd ow m 0) (upd ov m 0) (m + 1) (g + 1) q (Sum.inl (br, l) :: X') (M q qa) (a + 1) h kb := ⟨q, s, hq, ssz, hs, pk_us, Or.inr (Or.inr (Or.inl ⟨rfl, hk, X', a, br, l, qa, t', rfl, rfl, ⟨w1, w2, w3, w4, w5, w6, ⟨lb1, ql, jl, lb2, lb3, lb4, lb5⟩, w8, mq, ga, gb, ka, kc, jq, PO⟩, K1⟩))⟩
            refine ⟨_, _, 1 + 1, by omega, uw_mst s1 s2, uw_yp (uw_yp_11b hp hs (by omega) hon y1 yr hr (Or.inr ⟨rfl, rfl⟩) hz yq), Or.inl ⟨3 * (301 - st) + (m + 1), by omega, g, _, _, _, _, _, _, _, _, _, _, _, _, _, _, _, _, _, _, _, _, rfl, rfl, by omega, hbg, Or.inl ⟨rfl, rfl, q, qa, _, a + 2, mq, ga, gb, ka, kc, h, kb, a + 1, jq, _, hp, eq, rfl, pk_us, hkb, PO, K2⟩⟩⟩
      · have hw : nI y = 2 ∨ nI y = 3 := by
          rcases y23 with rfl | rfl
          · exact Or.inl rfl
          · exact Or.inr rfl
        refine ⟨_, _, 0, by omega, uw_ms0 _, uw_yp (uw_yp_11d hp hs (by omega) hon y1 hw (by omega)), Or.inl ⟨3 * (301 - st) + m + 2, by omega, g, _, _, _, _, _, _, _, _, _, _, _, _, _, _, _, _, _, _, _, _, rfl, rfl, by omega, hbg, Or.inr (Or.inr (Or.inr ⟨rfl, rfl, rfl, y, n', q, X', true, t', h, kb, L, l, hy2, hy4, rfl, rfl, by omega, hp, hll, hkb, xt, a4, P⟩))⟩⟩
      · refine ⟨_, _, 0, by omega, uw_ms0 _, uw_yp (uw_yp_11e hp hs (by omega) hon y1 (by decide) (by decide) (by decide)), Or.inl ⟨3 * (301 - st) + m + 2, by omega, g, _, _, _, _, _, _, _, _, _, _, _, _, _, _, _, _, _, _, _, _, rfl, rfl, by omega, hbg, Or.inr (Or.inr (Or.inr ⟨rfl, rfl, rfl, 4, n, q, X', true, t', h, kb, L, l, hy2, hy4, rfl, rfl, hn, hp, hll, hkb, xt, a4, P⟩))⟩⟩
    · subst e
      obtain ⟨y1, y2, y3, y4, y5⟩ := uw_agk ag hk (by omega)
      refine ⟨_, _, 0, by omega, uw_ms0 _, uw_yp (uw_yp_14k hp hs (by omega) hon y1 ny1), Or.inl ⟨3 * (301 - st) + m + 2, by omega, g, _, _, _, _, _, _, _, _, _, _, _, _, _, _, _, _, _, _, _, _, rfl, rfl, by omega, hbg, Or.inr (Or.inr (Or.inr ⟨rfl, rfl, rfl, y, n, q, X, ms, t, h', kb, L, l, hy2, hy4, rfl, rfl, hn, hp, hll, hkb, xt, a13, P⟩))⟩⟩
    · subst e a1
      obtain ⟨y1, y2, y3, y4, y5⟩ := uw_agk ag hk (by omega)
      have yq := y3.trans a10
      have eq := uw_po_lt a11
      obtain ⟨L', rfl, xt⟩ := xt
      obtain ⟨p1, x, p2, p3⟩ := P
      have s1 := uw_ms1 (p3 bl m' a6 a7 a9 a8)
      have K1 := uw_KM_c (ta' := upd ta g (nI m')) (ex' := upd ex (10 * g + kk) (nI x)) (th' := th) (on' := upd on m (nI (20 * q + s))) (op' := upd op m (nI 2)) (ow' := upd ow m (nI y)) (ov' := upd ov m (nI n)) _ _ _ _ _ _ _ _ (fun x hx => pk_un (by omega)) (fun x hx => ⟨pk_un (by omega), rfl⟩) hkb (fun x hx => ⟨pk_un (by omega), pk_un (by omega), pk_un (by omega), pk_un (by omega)⟩) a15
      have K2 : uw_KM F A M el en sz N rg E (upd ta g (nI m')) (upd ex (10 * g + kk) (nI x)) th (upd on m (nI (20 * q + s))) (upd op m (nI 2)) (upd ow m (nI y)) (upd ov m (nI n)) (m + 1) (g + 1) q X' (M q qb) e' h' (kk + 1) := ⟨q, s, hq, ssz, hs, pk_us, Or.inr (Or.inr (Or.inr (Or.inr (Or.inr ⟨rfl, hk, pk_us, kk, t', ms, kb, g, rfl, a2, a3, by omega, a12, Or.inr (Or.inr ⟨y, n, L', l, x, hy2, hy4, pk_us, pk_us, hn, hll, xt, pk_us, p2⟩), K1⟩))))⟩
      refine ⟨_, _, 1, by omega, s1, uw_yp (uw_yp_15a hp hs (by omega) hon y1 op1 yq), Or.inl ⟨3 * (301 - st) + (m + 1), by omega, g, _, _, _, _, _, _, _, _, _, _, _, _, _, _, _, _, _, _, _, _, rfl, rfl, by omega, hbg, Or.inl ⟨rfl, rfl, q, qb, X', m', e', g1, g', k1, k2, h', kk + 1, e', 0, _, hp, eq, rfl, pk_us, by omega, a11, K2⟩⟩⟩
    · subst e
      obtain ⟨y1, y2, y3, y4, y5⟩ := uw_agk ag hk (by omega)
      refine ⟨_, _, 0, by omega, uw_ms0 _, uw_yp (uw_yp_15k hp hs (by omega) hon y1 op1 ny0), Or.inl ⟨3 * (301 - st) + m + 2, by omega, g, _, _, _, _, _, _, _, _, _, _, _, _, _, _, _, _, _, _, _, _, rfl, rfl, by omega, hbg, Or.inr (Or.inr (Or.inr ⟨rfl, rfl, rfl, y, n, q, X, ms, t', h, kb', L, l, hy2, hy4, rfl, rfl, hn, hp, hll, by omega, xt, a7, P⟩))⟩⟩
/-- every step -/
theorem uw_next (S : uw_ST F A M el en sz N rg E C B) : ∀ mu u v, uw_SM F A M el en sz N rg E C D B mu u v → uw_NX F A M el en sz N rg E C D B mu u v := by
  intro mu u v h
  obtain ⟨g, fl, st, mc, oc, va, ta, ex, th, bg, sh, o, nx, wy, wo, ca, on, op, ow, ov, bg', rfl, rfl, ⟨b1, b2, b3, b4, b5⟩, hbg, md⟩ := h
  rcases md with ⟨rfl, rfl, md⟩ | ⟨rfl, rfl, rfl, rfl, md⟩ | ⟨rfl, rfl, rfl, p, X, me, t, h, kb, i, ta', pc, c1, c2, c3, c4, c5, c6, c7, c8⟩ | ⟨rfl, rfl, rfl, y, n, p, X, me, t, h, kb, L, l, c1, c2, rfl, rfl, c5, c6, c7, c8, c9, c10, c11⟩
  · exact uw_xmB S b1 b2 b3 b4 b5 hbg md
  · exact uw_xmN S b1 b2 b3 b4 b5 hbg md
  · exact uw_xmT S b1 b2 b3 b4 b5 hbg c1 c2 c3 c4 c5 c6 c7 c8
  · exact uw_xmX S b1 b2 b3 b4 b5 hbg c1 c2 c5 c6 c7 c8 c9 c10 c11
end
end
section
/-! run: what is set before, the two loops, what is left behind -/
def uw_cv (a l : Nat → Int32) (i : Nat) : Nat → Int32 := fun j => if j < i then l j else a j
def uw_z0 (a : Nat → Int32) (i : Nat) : Nat → Int32 := fun j => if j < i then 0 else a j
theorem uw_cv0 (a l : Nat → Int32) : uw_cv a l 0 = a := by funext j; unfold uw_cv; rw [if_neg (by omega)]
theorem uw_z00 (a : Nat → Int32) : uw_z0 a 0 = a := by funext j; unfold uw_z0; rw [if_neg (by omega)]
theorem uw_cvs {a l : Nat → Int32} {i : Nat} : upd (uw_cv a l i) i (l i) = uw_cv a l (i + 1) := by
  funext j
  by_cases e : j = i
  · subst e; rw [pk_us]; unfold uw_cv; rw [if_pos (by omega)]
  · rw [pk_un e]; unfold uw_cv
    by_cases h : j < i
    · rw [if_pos h, if_pos (by omega)]
    · rw [if_neg h, if_neg (by omega)]
theorem uw_z0s {a : Nat → Int32} {i : Nat} : upd (uw_z0 a i) i 0 = uw_z0 a (i + 1) := by
  funext j
  by_cases e : j = i
  · subst e; rw [pk_us]; unfold uw_z0; rw [if_pos (by omega)]
  · rw [pk_un e]; unfold uw_z0
    by_cases h : j < i
    · rw [if_pos h, if_pos (by omega)]
    · rw [if_neg h, if_neg (by omega)]
theorem uw_z0i {a : Nat → Int32} {i j : Nat} (h : j < i) : uw_z0 a i j = 0 := if_pos h
theorem uw_xclear {C : Nat → Int32} {A : Nat → Nat → Int32} {post : SX → Prop} (K : post (uw_XR C A (nI 0) (C 13) (-6) 0 (nI 0) (nI 0) (nI 0) (uw_cv (A 32) (A 31) 4) (A 33) (A 34) (A 35) (uw_z0 (A 36) 60) (A 37))) : wpX_clearRun post (XS C A) := by
  have z0 : vp_nar .short 0 = 0 := uw_vs (uw_sn (n := 0) (by omega))
  have l2 : ∀ d i, i + d = 60 → wX_clearRun_27 post (C 0) (C 1) (C 2) (C 3) (C 4) (C 5) (C 6) (C 7) (C 8) (C 9) (C 10) (C 11) (C 12) (C 13) (C 14) (C 15) (C 16) (C 17) (C 18) (d + 1) (nI i) (A 0) (A 1) (A 2) (A 3) (A 4) (A 5) (A 6) (A 7) (A 8) (A 9) (A 10) (A 11) (A 12) (A 13) (A 14) (A 15) (A 16) (A 17) (A 18) (A 19) (A 20) (A 21) (A 22) (A 23) (A 24) (A 25) (A 26) (A 27) (A 28) (A 29) (A 30) (A 31) (uw_cv (A 32) (A 31) 4) (A 33) (A 34) (A 35) (uw_z0 (A 36) i) (A 37) := by
    intro d
    induction d with
    | zero =>
      intro i hi
      have : i = 60 := by omega
      subst this
      exact br_t (by decide) K
    | succ d ih =>
      intro i hi
      exact br_f (nI_ge (b := 60) (by omega) (by decide)) ⟨vp_in_nI (by omega) (by decide), nm_r (e' := uw_z0 (A 36) (i + 1)) (by rw [nI_clamp (by omega), z0, uw_z0s]) (nm_r (e' := nI (i + 1)) (nI_1 i) (ih (i + 1) (by omega)))⟩
  have l1 : ∀ d i, i + d = 4 → wX_clearRun_2 post (C 0) (C 1) (C 2) (C 3) (C 4) (C 5) (C 6) (C 7) (C 8) (C 9) (C 10) (C 11) (C 12) (C 13) (C 14) (C 15) (C 16) (C 17) (C 18) (d + 1) (nI i) (A 0) (A 1) (A 2) (A 3) (A 4) (A 5) (A 6) (A 7) (A 8) (A 9) (A 10) (A 11) (A 12) (A 13) (A 14) (A 15) (A 16) (A 17) (A 18) (A 19) (A 20) (A 21) (A 22) (A 23) (A 24) (A 25) (A 26) (A 27) (A 28) (A 29) (A 30) (A 31) (uw_cv (A 32) (A 31) i) (A 33) (A 34) (A 35) (A 36) (A 37) := by
    intro d
    induction d with
    | zero =>
      intro i hi
      have : i = 4 := by omega
      subst this
      have L := l2 60 0 (by omega)
      rw [uw_z00] at L
      exact br_t (by decide) ⟨60 + 1, L⟩
    | succ d ih =>
      intro i hi
      have iv : vp_in (nI i) 4 := vp_in_nI (by omega) (by decide)
      exact br_f (nI_ge (b := 4) (by omega) (by decide)) ⟨iv, iv, nm_r (e' := uw_cv (A 32) (A 31) (i + 1)) (by rw [nI_clamp (by omega), uw_cvs]) (nm_r (e' := nI (i + 1)) (nI_1 i) (ih (i + 1) (by omega)))⟩
  have L := l1 4 0 (by omega)
  rw [uw_cv0] at L
  unfold wpX_clearRun XS
  exact ⟨4 + 1, L⟩
theorem uw_xenter0 {C : Nat → Int32} {A : Nat → Nat → Int32} {post : SX → Prop} {fl : Int32} {va ta ex th bg sh : Nat → Int32} {p a : Nat} (hp : p < 3) (hb : (A 12) p = nI a) (ha : a < 1000) (K : post (uw_XR C A (nI (0 + 1)) fl (-6) 0 (nI 0) (nI 0) (nI 0) va (upd ta 0 (nI a)) ex th bg sh)) : wpX_enter post (uw_XR C A (nI 0) fl (-6) 0 (nI 0) (nI 0) (nI 0) va ta ex th bg sh) (nI p) := by
  unfold wpX_enter uw_XR
  refine br_f (by decide) ⟨vp_in_nI hp (by decide), vp_in_nI (n := 0) (by omega) (by decide), nm_r (e' := upd ta 0 (nI a)) ?_ (nm_r (e' := nI (0 + 1)) rfl (br_t (by decide) K))⟩
  rw [nI_clamp (by omega), nI_clamp (by omega), hb, uw_vs (uw_sn (by omega))]
theorem uw_yrun {D : Nat → Int32} {B : Nat → Nat → Int32} {post : Int32 → SY → Prop} {p z n : Nat} (hp : p < 3) (hz : z < 20) (hs : (B 5) p = nI (z + 1))
    (K : uw_WY post n (uw_YR D B (nI 0) (nI (20 * p + z)) 0 0 (nI 0) (-1) 0 (nI 0) (nI 0) (nI 0) (B 9) (B 10) (B 11) (B 12) (uw_cv (B 13) (B 8) 4) (uw_z0 (B 14) 60) (B 15))) : wpY_run post (YS D B) (nI p) := by
  have e1 : (20 : Int32) * nI p + (B 5) (nI p).toNatClampNeg - 1 = nI (20 * p + z) := by
    rw [nI_clamp (by omega), hs, uw_20p]
    exact nI_pred (20 * p + z)
  have l2 : ∀ d i, i + d = 60 → wY_run_83 post (nI p) (D 0) (0) (D 2) (0) (0) (0) (-1) (0) (0) (0) (0) (d + 1) (nI i) (B 0) (B 1) (B 2) (B 3) (B 4) (B 5) (B 6) (B 7) (B 8) (B 9) (B 10) (B 11) (B 12) (uw_cv (B 13) (B 8) 4) (uw_z0 (B 14) i) (B 15) := by
    intro d
    induction d with
    | zero =>
      intro i hi
      have : i = 60 := by omega
      subst this
      exact br_t (by decide) ⟨vp_in_nI (by omega) (by decide), nm_r (e' := nI (20 * p + z)) e1 ⟨n, K⟩⟩
    | succ d ih =>
      intro i hi
      exact br_f (nI_ge (b := 60) (by omega) (by decide)) ⟨vp_in_nI (by omega) (by decide), nm_r (e' := uw_z0 (B 14) (i + 1)) (by rw [nI_clamp (by omega), uw_z0s]) (nm_r (e' := nI (i + 1)) (nI_1 i) (ih (i + 1) (by omega)))⟩
  have l1 : ∀ d i, i + d = 4 → wY_run_58 post (nI p) (D 0) (0) (D 2) (0) (0) (0) (-1) (0) (0) (0) (0) (d + 1) (nI i) (B 0) (B 1) (B 2) (B 3) (B 4) (B 5) (B 6) (B 7) (B 8) (B 9) (B 10) (B 11) (B 12) (uw_cv (B 13) (B 8) i) (B 14) (B 15) := by
    intro d
    induction d with
    | zero =>
      intro i hi
      have : i = 4 := by omega
      subst this
      have L := l2 60 0 (by omega)
      rw [uw_z00] at L
      exact br_t (by decide) ⟨60 + 1, L⟩
    | succ d ih =>
      intro i hi
      have iv : vp_in (nI i) 4 := vp_in_nI (by omega) (by decide)
      exact br_f (nI_ge (b := 4) (by omega) (by decide)) ⟨iv, iv, nm_r (e' := uw_cv (B 13) (B 8) (i + 1)) (by rw [nI_clamp (by omega), uw_cvs]) (nm_r (e' := nI (i + 1)) (nI_1 i) (ih (i + 1) (by omega)))⟩
  have L := l1 4 0 (by omega)
  rw [uw_cv0] at L
  unfold wpY_run YS
  exact br_f (nI_pos (by omega)) (br_t (nI_le (b := 2) (by omega) (by decide)) ⟨4 + 1, L⟩)
/-! compile, whether it is needed or not -/
theorem uw_cmp {C : Nat → Int32} {A : Nat → Nat → Int32} {B : Nat → Nat → Int32} (hP : uw_RP A B) (hC : uw_RC C A) :
    ∃ (C' : Nat → Int32) (A' : Nat → Nat → Int32), (∀ i, i < 2 ∨ 12 ≤ i → C' i = C i) ∧ ¬ (C' 2) = 0 ∧ (∀ i, i < 8 ∨ 31 ≤ i → A' i = A i) ∧ uw_OK A' (C' 7) ∧ ∀ post : SX → Prop, post (XS C' A') → wpX_compile post (XS C A) := by
  rcases hC with hC | ⟨hC, ok⟩
  · obtain ⟨C', A', a1, a2, a3, a4, a5⟩ := uw_comp3 hC (fun p hp => by
      obtain ⟨z, z1, z2, _, z4, _⟩ := hP p hp
      exact ⟨z, z1, z2, z4⟩)
    exact ⟨C', A', a1, a2, fun i hi => funext fun x => a3 i x hi, a4, a5⟩
  · refine ⟨C, A, fun _ _ => rfl, hC, fun _ _ => rfl, ok, fun post K => ?_⟩
    unfold wpX_compile XS
    exact br_f hC K
/-! the static facts -/
theorem uw_stat {C : Nat → Int32} {A B : Nat → Nat → Int32} (hP : uw_RP A B) (ok : uw_OK A (C 7)) : ∃ F M el en sz N rg E, uw_ST F A M el en sz N rg E C B ∧ ∀ p, p < 3 → (A 5) p = nI (sz p + 1) := by
  obtain ⟨F, M, el, be, en, sz, N, rg, E, o1, o2, o3, o4, o5, o6, o7, o8⟩ := ok
  have G : uw_SG F A N rg E := ⟨o5, o6, o2, o3, o4⟩
  have sz' : ∀ p, p < 3 → (A 5) p = nI (sz p + 1) := fun p hp => by
    obtain ⟨g, g', k', n, q1, q2, _⟩ := o8 p hp
    exact (o5 5 p (by unfold uw_sp; omega)).trans q2
  refine ⟨F, M, el, en, sz, N, rg, E, ⟨G, o1, fun p hp => ?_⟩, sz'⟩
  obtain ⟨g, g', k', n, q1, q2, q3, q4, q5, q6, q7, q8, q9, q10, q11, q12⟩ := o8 p hp
  obtain ⟨z, z1, z2, z3, z4, z5⟩ := hP p hp
  have ez : z = sz p := by have := (nI_eq (a := z + 1) (b := sz p + 1) (by omega) (by omega)).mp (z2.symm.trans (sz' p hp)); omega
  subst ez
  have ha := (uw_CC_in _ _ _ _ _ _ _ _ _ q5).1
  have hg := (uw_CC_in _ _ _ _ _ _ _ _ _ q5).2.1
  have c8 : ¬ (F 9) (en p) = nI 9 := uw_c9 q8 (by omega) (by omega)
  refine ⟨q1, z3, fun x hx => ⟨(z5 x hx).1, uw_TR_nf _ _ _ _ z4 x (by omega) hx⟩, by omega, (uw_s9e G _).1.trans q8, q9, uw_lx G q10 q4 c8, be p, g, g', k', (uw_s9e G p).2.2.2.1.trans q3, by omega, ⟨n, q5⟩, ?_, ?_, Nat.le_refl _, q6, q7, q4, Nat.le_refl _, rfl, fun _ => uw_j0 c8, by omega⟩
  · intro pc p1 p2 hi
    refine ⟨Nat.le_refl _, fun i h1 => ?_, fun h => by omega⟩
    obtain ⟨x, y, r1, r2, r3, r4⟩ := o7 i h1
    obtain ⟨_, _, _, _, _, _, _, _, s1, s2, _⟩ := uw_s9e G i
    rcases Nat.lt_or_ge i g with w | w
    · obtain ⟨y', t1, t2⟩ := q11 i w
      have : y = y' := (nI_eq (by omega) (by omega)).mp (r2.symm.trans t1)
      subst this
      exact ⟨x, y, s1.trans r1, s2.trans r2, r3, r4, fun c => by omega⟩
    · rcases Nat.lt_or_ge i g' with w' | w'
      · exact hi i w w'
      · obtain ⟨x', t1, t2, t3⟩ := q12 i w' h1
        have : x = x' := (nI_eq (by omega) (by omega)).mp (r1.symm.trans t1)
        subst this
        exact ⟨x, y, s1.trans r1, s2.trans r2, r3, r4, fun c => by omega⟩
  · intro i h1
    obtain ⟨x, y, r1, r2, r3, r4⟩ := o7 i (by omega)
    obtain ⟨_, _, _, _, _, _, _, _, s1, s2, _⟩ := uw_s9e G i
    obtain ⟨y', t1, t2⟩ := q11 i h1
    have : y = y' := (nI_eq (by omega) (by omega)).mp (r2.symm.trans t1)
    subst this
    exact ⟨x, y, s1.trans r1, s2.trans r2, r3, r4, t2⟩
end
section
/-! run on both sides; the constructors -/
theorem uw_RM_c {C C' : Nat → Int32} {A A' : Nat → Nat → Int32} {D D' : Nat → Int32} {B B' : Nat → Nat → Int32} (h0 : C' 0 = C 0) (h1 : C' 1 = C 1) (hD : D' 0 = D 0) (hA : ∀ i, i < 8 → A' i = A i) (hB : ∀ i, i < 9 → B' i = B i) (H : uw_RM C A D B) : uw_RM C' A' D' B' := by
  obtain ⟨m, h, b1, b2, b3, b4, b5, b6, b7, b8, b9, b10⟩ := H
  have al : ∀ x, uw_al A A' x x := fun x => ⟨congrFun (hA 0 (by omega)) x, congrFun (hA 1 (by omega)) x, congrFun (hA 2 (by omega)) x, congrFun (hA 3 (by omega)) x, congrFun (hA 4 (by omega)) x⟩
  have alY : ∀ x, uw_alY B B' x x := fun x => ⟨congrFun (hB 0 (by omega)) x, congrFun (hB 1 (by omega)) x, congrFun (hB 2 (by omega)) x, congrFun (hB 3 (by omega)) x, congrFun (hB 4 (by omega)) x⟩
  refine ⟨m, h, b1, h0.trans b2, (congrFun (hB 5 (by omega)) 3).trans b3, h1.trans b4, hD.trans b5, uw_SK_c _ _ (fun x _ => congrFun (hA 6 (by omega)) x) (fun x _ => al _) b6, ?_, fun x hx => ⟨uw_AG_c (al _) (alY _) (b8 x hx).1, ?_⟩, ?_, ?_⟩
  · rw [hB 6 (by omega), hA 6 (by omega)]; exact b7
  · unfold uw_by
    rw [hA 0 (by omega), hA 1 (by omega), hA 2 (by omega), hA 3 (by omega), hA 4 (by omega)]
    exact (b8 x hx).2
  · rw [hB 7 (by omega), hA 7 (by omega)]; exact b9
  · rw [hA 7 (by omega)]; exact b10
theorem uw_RP_r {A A' : Nat → Nat → Int32} {B B' : Nat → Nat → Int32} (hA : ∀ i, i < 8 → A' i = A i) (hB : ∀ i, i < 9 → B' i = B i) (hb : ∀ x, x < 60 → (B' 14) x = (A' 36) x) (H : uw_RP A B) : uw_RP A' B' := by
  have al : ∀ x, uw_al A A' x x := fun x => ⟨congrFun (hA 0 (by omega)) x, congrFun (hA 1 (by omega)) x, congrFun (hA 2 (by omega)) x, congrFun (hA 3 (by omega)) x, congrFun (hA 4 (by omega)) x⟩
  have alY : ∀ x, uw_alY B B' x x := fun x => ⟨congrFun (hB 0 (by omega)) x, congrFun (hB 1 (by omega)) x, congrFun (hB 2 (by omega)) x, congrFun (hB 3 (by omega)) x, congrFun (hB 4 (by omega)) x⟩
  intro p hp
  obtain ⟨z, hz, a1, a2, a3, a4⟩ := H p hp
  exact ⟨z, hz, (congrFun (hA 5 (by omega)) p).trans a1, (congrFun (hB 5 (by omega)) p).trans a2, uw_TR_c _ _ _ _ (fun x _ => al _) a3, fun x hx => ⟨uw_AG_c (al _) (alY _) (a4 x hx).1, hb _ (by omega)⟩⟩
theorem i_vc_run {k : Nat} {u : SX} {v : SY} (I : i_Rel k u v) (hk : k + 4 ≤ 2048) (v1 : Int32) : wpX_run (fun r u' => wpY_run (fun r' v' => r' = r ∧ i_Rel (k + 4) u' v') v v1) u v1 := by
  obtain ⟨C, A, D, B, rfl, rfl, R⟩ := I
  have G : i_Rel (k + 4) (XS C A) (YS D B) := ⟨C, A, D, B, rfl, rfl, R⟩
  rcases pk_ix v1 (n := 3) (by omega) with z | z | ⟨p, hp, rfl⟩
  · unfold wpX_run wpY_run
    exact br_t z (br_t z ⟨rfl, G⟩)
  · unfold wpX_run wpY_run
    exact br_c (fun y => br_t y ⟨rfl, G⟩) (fun y => br_f (Int32.not_lt.mpr z) (br_f y (br_f (uw_n3 z) ⟨rfl, G⟩)))
  · obtain ⟨R1, R2, R3, R4⟩ := R
    obtain ⟨C1, A1, e1, e2, e3, ok, WC⟩ := uw_cmp R2 R4
    have P1 : uw_RP A1 B := by
      intro q hq
      obtain ⟨z, hz, a1, a2, a3, a4⟩ := R2 q hq
      have al : ∀ x, uw_al A A1 x x := fun x => ⟨congrFun (e3 0 (by omega)) x, congrFun (e3 1 (by omega)) x, congrFun (e3 2 (by omega)) x, congrFun (e3 3 (by omega)) x, congrFun (e3 4 (by omega)) x⟩
      refine ⟨z, hz, (congrFun (e3 5 (by omega)) q).trans a1, a2, uw_TR_c _ _ _ _ (fun x _ => al _) a3, fun x hx => ⟨uw_AG_c (al _) ⟨rfl, rfl, rfl, rfl, rfl⟩ (a4 x hx).1, ?_⟩⟩
      rw [e3 36 (by omega)]; exact (a4 x hx).2
    obtain ⟨F, M, el, en, sz, N, rg, E, S, hsz⟩ := uw_stat P1 ok
    obtain ⟨z1, z2, z3, z4, z5, z6, z7, a, g, g', k', z8, z9, po⟩ := S.2.2 p hp
    have hva : uw_cv (B 13) (B 8) 4 = uw_cv (A1 32) (A1 31) 4 := by rw [R3.1, R3.2.1, e3 32 (by omega), e3 31 (by omega)]
    have hsh : (B 15) = (A1 37) := by rw [R3.2.2.2.2.2.2.1, e3 37 (by omega)]
    have sm : uw_SM F A1 M el en sz N rg E C1 D B 903 (uw_XR C1 A1 (nI (0 + 1)) (C1 13) (-6) 0 (nI 0) (nI 0) (nI 0) (uw_cv (A1 32) (A1 31) 4) (upd (A1 33) 0 (nI a)) (A1 34) (A1 35) (uw_z0 (A1 36) 60) (A1 37))
        (uw_YR D B (nI 0) (nI (20 * p + sz p)) 0 0 (nI 0) (-1) 0 (nI 0) (nI 0) (nI 0) (B 9) (B 10) (B 11) (B 12) (uw_cv (A1 32) (A1 31) 4) (uw_z0 (B 14) 60) (A1 37)) := by
      refine ⟨0, _, 0, 0, 0, _, _, _, _, _, _, 0, _, _, _, 0, _, _, _, _, _, rfl, rfl, by omega, fun x hx => ⟨0, by omega, uw_z0i hx, uw_z0i hx⟩, Or.inl ⟨by omega, rfl, p, sz p, [], a, en p, g, g', 0, k', rg, 0, en p, 0, _, hp, z1, rfl, pk_us, by omega, po, rfl, rfl, rfl, rfl⟩⟩
    obtain ⟨u', v', s, fn, fX, fY⟩ := uw_sim (uw_next S) 903 _ _ sm
    obtain ⟨f, fl, tv, sc, mc, oc, va, ta, ex, th, bg, sh, o, nx, wy, wo, ca, on, op, ow, ov, bg', q1, q2, q3, q4, q5, q6⟩ := fn
    subst q1 q2
    have RL' : uw_RL (upd (upd (upd (upd (upd (upd (upd C1 12 f) 13 fl) 14 s) 15 tv) 16 sc) 17 mc) 18 (nI oc)) (uw_st (uw_st (uw_st (uw_st (uw_st (uw_st A1 32 va) 33 ta) 34 ex) 35 th) 36 bg) 37 sh)
        (upd (upd (upd (upd (upd (upd (upd (upd (upd (upd D 1 o) 2 nx) 3 wy) 4 wo) 5 ca) 6 s) 7 tv) 8 sc) 9 (nI oc)) 10 mc) (uw_st (uw_st (uw_st (uw_st (uw_st (uw_st (uw_st B 9 on) 10 op) 11 ow) 12 ov) 13 va) 14 bg') 15 sh) := by
      have hA : ∀ i, i < 32 → (uw_st (uw_st (uw_st (uw_st (uw_st (uw_st A1 32 va) 33 ta) 34 ex) 35 th) 36 bg) 37 sh) i = A1 i := fun i hi => by
        rw [uw_un (by omega), uw_un (by omega), uw_un (by omega), uw_un (by omega), uw_un (by omega), uw_un (by omega)]
      have hB : ∀ i, i < 9 → (uw_st (uw_st (uw_st (uw_st (uw_st (uw_st (uw_st B 9 on) 10 op) 11 ow) 12 ov) 13 va) 14 bg') 15 sh) i = B i := fun i hi => by
        rw [uw_un (by omega), uw_un (by omega), uw_un (by omega), uw_un (by omega), uw_un (by omega), uw_un (by omega), uw_un (by omega)]
      refine ⟨?_, ?_, ?_, ?_⟩
      · exact uw_RM_c (C := C) (A := A) (D := D) (B := B) (e1 0 (by omega)) (e1 1 (by omega)) rfl (fun i hi => (hA i (by omega)).trans (e3 i (by omega))) hB R1
      · exact uw_RP_r (A := A) (B := B) (fun i hi => (hA i (by omega)).trans (e3 i (by omega))) hB (fun x hx => q6 x hx) R2
      · refine ⟨?_, rfl, rfl, rfl, rfl, rfl, rfl, oc, q5, rfl, rfl⟩
        show (B 8) = (A1 31)
        rw [R3.1, e3 31 (by omega)]
      · refine Or.inr ⟨e2, ?_⟩
        refine uw_OK_c (A := A1) (fun i x hx => congrFun (hA i ?_) x) ok
        unfold uw_sp at hx
        omega
    have G' : i_Rel (k + 4) (uw_XR C1 A1 f fl s tv sc mc (nI oc) va ta ex th bg sh) (uw_YR D B o nx wy wo ca s tv sc (nI oc) mc on op ow ov va bg' sh) := ⟨_, _, _, _, rfl, rfl, RL'⟩
    have n0 : ¬ nI p < 0 := nI_pos (by omega)
    have n3 : nI p < (3 : Int32) := nI_lt (b := 3) hp (by decide)
    have WYr : wpY_run (fun r' v' => r' = s ∧ i_Rel (k + 4) (uw_XR C1 A1 f fl s tv sc mc (nI oc) va ta ex th bg sh) v') (YS D B) (nI p) := by
      refine uw_yrun (z := sz p) (n := 0 + 903 + 1) hp z1 z2 ?_
      rw [hva, hsh]
      exact fY _ 0 ⟨rfl, G'⟩
    have WXr := fX (fun r u' => wpY_run (fun r' v' => r' = r ∧ i_Rel (k + 4) u' v') (YS D B) (nI p)) 0 0 (by omega) WYr
    unfold wpX_run
    refine br_f n0 (br_t n3 (WC _ ?_))
    refine uw_xclear (C := C1) (A := A1) ?_
    refine uw_xenter0 (C := C1) (A := A1) hp z8 (by omega) ?_
    exact ⟨0 + 23 * 903 + 1, WXr⟩
/-! the constructors -/
theorem uw_xinit {post : SX → Prop} (K : post (XS (upd (fun _ => 0) 14 (-4)) (uw_st (fun _ _ => 0) 5 (upd (upd (upd (fun _ => 0) 0 (nI 1)) 1 (nI 1)) 2 (nI 1))))) : wpX_init post := by
  have b1 : vp_nar .byte 1 = nI 1 := uw_vb (uw_bn (n := 1) (by omega))
  unfold wpX_init
  refine ⟨4, ?_⟩
  refine br_f (by decide) ⟨vp_in_nI (n := 0) (by omega) (by decide), nm_r (e' := upd (fun _ => 0) 0 (nI 1)) (by rw [b1]; rfl) (nm_r (e' := nI 1) rfl ?_)⟩
  refine br_f (by decide) ⟨vp_in_nI (n := 1) (by omega) (by decide), nm_r (e' := upd (upd (fun _ => 0) 0 (nI 1)) 1 (nI 1)) (by rw [b1]; rfl) (nm_r (e' := nI 2) rfl ?_)⟩
  refine br_f (by decide) ⟨vp_in_nI (n := 2) (by omega) (by decide), nm_r (e' := upd (upd (upd (fun _ => 0) 0 (nI 1)) 1 (nI 1)) 2 (nI 1)) (by rw [b1]; rfl) (nm_r (e' := nI 3) rfl ?_)⟩
  refine br_t (by decide) ?_
  exact K
theorem uw_yinit {post : SY → Prop} (K : post (YS (upd (fun _ => 0) 6 (-4)) (uw_st (fun _ _ => 0) 5 (upd (upd (upd (fun _ => 0) 0 (nI 1)) 1 (nI 1)) 2 (nI 1))))) : wpY_init post := by
  unfold wpY_init
  refine ⟨4, ?_⟩
  refine br_f (by decide) ⟨vp_in_nI (n := 0) (by omega) (by decide), nm_r (e' := upd (fun _ => 0) 0 (nI 1)) rfl (nm_r (e' := nI 1) rfl ?_)⟩
  refine br_f (by decide) ⟨vp_in_nI (n := 1) (by omega) (by decide), nm_r (e' := upd (upd (fun _ => 0) 0 (nI 1)) 1 (nI 1)) rfl (nm_r (e' := nI 2) rfl ?_)⟩
  refine br_f (by decide) ⟨vp_in_nI (n := 2) (by omega) (by decide), nm_r (e' := upd (upd (upd (fun _ => 0) 0 (nI 1)) 1 (nI 1)) 2 (nI 1)) rfl (nm_r (e' := nI 3) rfl ?_)⟩
  refine br_t (by decide) ?_
  exact K
theorem i_vc0 : wpX_init (fun u => wpY_init (fun v => i_Rel 0 u v)) := by
  refine uw_xinit (uw_yinit ⟨_, _, _, _, rfl, rfl, ?_, ?_, ?_, Or.inl rfl⟩)
  · exact ⟨0, 0, by omega, rfl, rfl, rfl, rfl, rfl, rfl, fun x hx => by omega, rfl, fun x hx => ⟨0, rfl, by omega⟩⟩
  · intro p hp
    refine ⟨0, by omega, ?_, ?_, ⟨by omega, Or.inl ⟨rfl, 0, by omega, rfl, rfl, rfl, uw_bn (n := 0) (by omega), fun h => by omega, fun h => by omega, fun h => by omega, fun h => by omega⟩⟩, fun x hx => ⟨⟨rfl, rfl, 0, by omega, rfl, rfl, fun h => rfl, fun h => rfl⟩, rfl⟩⟩
    · have p3 : p = 0 ∨ p = 1 ∨ p = 2 := by omega
      rcases p3 with rfl | rfl | rfl <;> rfl
    · have p3 : p = 0 ∨ p = 1 ∨ p = 2 := by omega
      rcases p3 with rfl | rfl | rfl <;> rfl
  · exact ⟨rfl, rfl, rfl, rfl, rfl, rfl, rfl, 0, by omega, rfl, rfl⟩
end
