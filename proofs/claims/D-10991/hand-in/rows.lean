section
/-- the tables power (a1) and log (a2) -/
def rm_T (a1 a2 : Nat → Int32) : Prop := (∀ x, x < 32 → ∃ l, l ≤ 30 ∧ a2 x = nI l ∧ (1 ≤ x → a1 l = nI x)) ∧ a2 1 = nI 0 ∧ (∀ i, i < 62 → ∃ y, 1 ≤ y ∧ y ≤ 31 ∧ a1 i = nI y)
/-- the cells: five rows of six values of the field, the first column 0 -/
def rm_C (a : Nat → Int32) : Prop := ∀ r c, r < 5 → c < 6 → ∃ y, y ≤ 31 ∧ a (r * 6 + c) = nI y ∧ (c = 0 → y = 0)
theorem rm_C_upd {a : Nat → Int32} {r c y : Nat} (h : rm_C a) (_ : r < 5) (_ : c < 6) (hy : y ≤ 31) (h0 : c = 0 → y = 0) : rm_C (upd a (r * 6 + c) (nI y)) := by
  intro r' c' hr' hc'
  by_cases e : r' * 6 + c' = r * 6 + c
  · rw [e, pk_us]
    exact ⟨y, hy, rfl, fun z => h0 (by omega)⟩
  · rw [pk_un e]
    exact h r' c' hr' hc'
theorem rm_ix (p i : Nat) : nI p * 6 + nI i = nI (p * 6 + i) := by
  have e : nI p * nI 6 = nI (p * 6) := pk_mul p 6
  have e' : nI p * 6 = nI (p * 6) := e
  rw [e', nI_add]
theorem rm_xorT : ∀ x, x < 32 → ∀ y, y < 32 → nI x ^^^ nI y = nI (x ^^^ y) ∧ x ^^^ y < 32 := by decide +kernel
theorem rm_xor {x y : Nat} (hx : x ≤ 31) (hy : y ≤ 31) : ∃ z, z ≤ 31 ∧ nI x ^^^ nI y = nI z ∧ (x = 0 → y = 0 → z = 0) := by
  obtain ⟨h1, h2⟩ := rm_xorT x (by omega) y (by omega)
  exact ⟨x ^^^ y, by omega, h1, fun e e' => by rw [e, e']; rfl⟩
section
variable {f0 f1 : Int32} {a1 a2 a3 a4 a5 a6 a7 a8 : Nat → Int32}
theorem rm_mul {post : Int32 → Prop} {x y : Nat} (hT : rm_T a1 a2) (hx : x ≤ 31) (hy : y ≤ 31)
    (H : ∀ z, z ≤ 31 → (x = 0 ∨ y = 0 → z = 0) → (y = 1 → z = x) → post (nI z)) :
    wpX_mul post (f0, f1, a1, a2, a3, a4, a5, a6, a7, a8) (nI x) (nI y) := by
  refine pk_eq x 0 (fun e => H 0 (by omega) (fun _ => rfl) (fun _ => e.symm)) (fun e => pk_eq y 0 (fun e => H 0 (by omega) (fun _ => rfl) (fun g => absurd g (by omega))) (fun e' => ?_))
  obtain ⟨l, hl, el, gl⟩ := hT.1 x (by omega)
  obtain ⟨m, hm, em, gm⟩ := hT.1 y (by omega)
  obtain ⟨z, z1, z2, ez⟩ := hT.2.2 (l + m) (by omega)
  refine ⟨pk_in x 32 (by omega), pk_in y 32 (by omega), ?_⟩
  have E : a2 (nI x).toNatClampNeg + a2 (nI y).toNatClampNeg = nI (l + m) := by
    rw [nI_clamp (by omega), nI_clamp (by omega), el, em, nI_add]
  rw [E, nI_clamp (show l + m < 2 ^ 31 by omega), ez]
  refine ⟨pk_in (l + m) 64 (by omega), H z z2 (fun g => absurd g (by omega)) (fun g => ?_)⟩
  rw [g, hT.2.1] at em
  have m0 : m = 0 := ((nI_eq (by omega) (by omega)).mp em).symm
  have q := gl (by omega)
  rw [m0, Nat.add_zero, q] at ez
  exact ((nI_eq (by omega) (by omega)).mp ez).symm
theorem rm_div {post : Int32 → Prop} {x y : Nat} (hT : rm_T a1 a2) (hx : x ≤ 31) (hy : y ≤ 31)
    (H : ∀ z, z ≤ 31 → (z = 0 ↔ x = 0) → post (nI z)) :
    wpX_div post (f0, f1, a1, a2, a3, a4, a5, a6, a7, a8) (nI x) (nI y) := by
  refine pk_eq x 0 (fun e => H 0 (by omega) ⟨fun _ => e, fun _ => rfl⟩) (fun e => ?_)
  obtain ⟨l, hl, el, gl⟩ := hT.1 x (by omega)
  obtain ⟨m, hm, em, gm⟩ := hT.1 y (by omega)
  obtain ⟨z, z1, z2, ez⟩ := hT.2.2 (l + 31 - m) (by omega)
  refine ⟨pk_in x 32 (by omega), pk_in y 32 (by omega), ?_⟩
  have E : a2 (nI x).toNatClampNeg + 31 - a2 (nI y).toNatClampNeg = nI (l + 31 - m) := by
    rw [nI_clamp (by omega), nI_clamp (by omega), el, em]
    have e1 : nI l + nI 31 = nI (l + 31) := nI_add l 31
    have e2 : nI l + 31 = nI (l + 31) := e1
    rw [e2, pk_sub (by omega)]
  rw [E, nI_clamp (show l + 31 - m < 2 ^ 31 by omega), ez]
  exact ⟨pk_in (l + 31 - m) 64 (by omega), H z z2 (by omega)⟩
theorem rm_frob {post : Int32 → Prop} {x m : Nat} (hT : rm_T a1 a2) (hx : x ≤ 31) (hm : m < 100) (H : ∀ z, z ≤ 31 → (x = 0 → z = 0) → post (nI z)) :
    wpX_frobenius post (f0, f1, a1, a2, a3, a4, a5, a6, a7, a8) (nI x) (nI m) :=
  pk_loop (fun n i s => wX_frobenius_5 post (nI m) f0 f1 a1 a2 a3 a4 a5 a6 a7 a8 n (nI s) (nI i)) (fun _ s => s ≤ 31 ∧ (x = 0 → s = 0)) m 0 x (by omega) ⟨hx, fun e => e⟩
    (fun n s h => pk_le m m (fun _ => H s h.1 h.2) (fun z => absurd z (by omega)))
    (fun n i s hi h hw => pk_le m i (fun z => absurd z (by omega)) (fun _ => rm_mul hT h.1 h.1 (fun z z1 z2 _ => nm_r (nI_1 i) (hw z ⟨z1, fun e => z2 (Or.inl (h.2 e))⟩))))
end
end
section
section
variable {f0 f1 : Int32} {a1 a2 a3 a4 a5 a6 a7 a8 : Nat → Int32}
theorem rm_swap {post : St2 → Prop} {p q : Nat} (hp : p < 5) (hq : q < 5) (hC : rm_C a5) (H : ∀ s, rm_C s → post (f0, f1, a1, a2, a3, a4, s, a6, a7, a8)) :
    wpX_swapRows post (f0, f1, a1, a2, a3, a4, a5, a6, a7, a8) (nI p) (nI q) :=
  pk_loop (fun n i s => wX_swapRows_2 post (nI p) (nI q) f0 f1 n (nI i) a1 a2 a3 a4 s a6 a7 a8) (fun _ s => rm_C s) 6 0 a5 (by omega) hC
    (fun n s h => pk_le 6 6 (fun _ => H s h) (fun z => absurd z (by omega)))
    (fun n i s hi h hw => by
      obtain ⟨y, y1, y2, y3⟩ := h p i hp hi
      obtain ⟨w, w1, w2, w3⟩ := h q i hq hi
      refine pk_le 6 i (fun z => absurd z (by omega)) (fun _ => ?_)
      rw [rm_ix, rm_ix, nI_clamp (show p * 6 + i < 2 ^ 31 by omega), nI_clamp (show q * 6 + i < 2 ^ 31 by omega), y2, w2]
      exact ⟨vp_in_nI (by omega) (by omega), nm_e ⟨vp_in_nI (by omega) (by omega), vp_in_nI (by omega) (by omega), nm_e ⟨vp_in_nI (by omega) (by omega), nm_e (nm_r (nI_1 i) (hw _ (rm_C_upd (rm_C_upd h hp hi w1 w3) hq hi y1 y3)))⟩⟩⟩)
theorem rm_divR {post : St2 → Prop} {p w : Nat} (hT : rm_T a1 a2) (hp : p < 5) (hw : w ≤ 31) (hC : rm_C a5) (H : ∀ s, rm_C s → post (f0, f1, a1, a2, a3, a4, s, a6, a7, a8)) :
    wpX_divideRow post (f0, f1, a1, a2, a3, a4, a5, a6, a7, a8) (nI p) (nI w) :=
  pk_loop (fun n i s => wX_divideRow_2 post (nI p) (nI w) f0 f1 n (nI i) a1 a2 a3 a4 s a6 a7 a8) (fun _ s => rm_C s) 6 0 a5 (by omega) hC
    (fun n s h => pk_le 6 6 (fun _ => H s h) (fun z => absurd z (by omega)))
    (fun n i s hi h hk => by
      obtain ⟨y, y1, y2, y3⟩ := h p i hp hi
      refine pk_le 6 i (fun z => absurd z (by omega)) (fun _ => ?_)
      rw [rm_ix, nI_clamp (show p * 6 + i < 2 ^ 31 by omega), y2]
      exact ⟨vp_in_nI (by omega) (by omega), rm_div hT y1 hw (fun z z1 z2 => ⟨vp_in_nI (by omega) (by omega), nm_e (nm_r (nI_1 i) (hk _ (rm_C_upd h hp hi z1 (fun e => z2.mpr (y3 e)))))⟩)⟩)
theorem rm_addR {post : St2 → Prop} {p q w : Nat} (hT : rm_T a1 a2) (hp : p < 5) (hq : q < 5) (hw : w ≤ 31) (hC : rm_C a5) (H : ∀ s, rm_C s → post (f0, f1, a1, a2, a3, a4, s, a6, a7, a8)) :
    wpX_addRow post (f0, f1, a1, a2, a3, a4, a5, a6, a7, a8) (nI p) (nI q) (nI w) :=
  pk_loop (fun n i s => wX_addRow_3 post (nI p) (nI q) (nI w) f0 f1 n (nI i) a1 a2 a3 a4 s a6 a7 a8) (fun _ s => rm_C s) 6 0 a5 (by omega) hC
    (fun n s h => pk_le 6 6 (fun _ => H s h) (fun z => absurd z (by omega)))
    (fun n i s hi h hk => by
      obtain ⟨y, y1, y2, y3⟩ := h p i hp hi
      obtain ⟨v, v1, v2, v3⟩ := h q i hq hi
      refine pk_le 6 i (fun z => absurd z (by omega)) (fun _ => ?_)
      rw [rm_ix, rm_ix, nI_clamp (show p * 6 + i < 2 ^ 31 by omega), nI_clamp (show q * 6 + i < 2 ^ 31 by omega), y2, v2]
      refine ⟨vp_in_nI (by omega) (by omega), rm_mul hT y1 hw (fun z z1 z2 _ => ?_)⟩
      obtain ⟨o, o1, o2, o3⟩ := rm_xor v1 z1
      exact ⟨vp_in_nI (by omega) (by omega), vp_in_nI (by omega) (by omega), nm_r (by rw [o2]) (nm_r (nI_1 i) (hk _ (rm_C_upd h hq hi o1 (fun e => o3 (v3 e) (z2 (Or.inl (y3 e)))))))⟩)
theorem rm_red18 {post : St2 → Prop} {r c : Nat} (hT : rm_T a1 a2) (hr : r < 5) (hc : c < 6) (hC : rm_C a5) (H : ∀ s, rm_C s → post (f0, f1, a1, a2, a3, a4, s, a6, a7, a8)) :
    ∃ n, wX_reduce_18 post (nI r) (nI c) n 0 f0 f1 a1 a2 a3 a4 a5 a6 a7 a8 :=
  pk_loop (fun n i s => wX_reduce_18 post (nI r) (nI c) n (nI i) f0 f1 a1 a2 a3 a4 s a6 a7 a8) (fun _ s => rm_C s) 5 0 a5 (by omega) hC
    (fun n s h => pk_le 5 5 (fun _ => H s h) (fun z => absurd z (by omega)))
    (fun n i s hi h hk => by
      obtain ⟨y, y1, y2, y3⟩ := h i c hi hc
      refine pk_le 5 i (fun z => absurd z (by omega)) (fun _ => pk_eq i r (fun _ => nm_r (nI_1 i) (hk s h)) (fun _ => ?_))
      rw [rm_ix, nI_clamp (show i * 6 + c < 2 ^ 31 by omega), y2]
      exact ⟨vp_in_nI (by omega) (by omega), br_c (fun _ => nm_r (nI_1 i) (hk s h)) (fun _ => ⟨vp_in_nI (by omega) (by omega), rm_addR hT hr hi y1 h (fun s' h' => nm_r (nI_1 i) (hk s' h'))⟩)⟩)
theorem rm_red {post : St2 → Prop} {r c : Nat} (hT : rm_T a1 a2) (hr : r < 5) (hc : c < 6) (hC : rm_C a5) (H : ∀ s, rm_C s → post (f0, f1, a1, a2, a3, a4, s, a6, a7, a8)) :
    wpX_reduce post (f0, f1, a1, a2, a3, a4, a5, a6, a7, a8) (nI r) (nI c) := by
  unfold wpX_reduce
  dsimp only
  obtain ⟨y, y1, y2, y3⟩ := hC r c hr hc
  rw [rm_ix, nI_clamp (show r * 6 + c < 2 ^ 31 by omega), y2]
  exact ⟨vp_in_nI (by omega) (by omega), rm_divR hT hr y1 hC (fun s h => rm_red18 hT hr hc h H)⟩
end
end
section
/-- the first free column, as solve holds it ahead of column c -/
def rm_fr (c : Nat) : Int32 := if c = 0 then -1 else 0
theorem rm_fr1 {c : Nat} (h : 1 ≤ c) : rm_fr c = 0 := if_neg (by omega)
/-- what pivotOf holds -/
def rm_P (a : Nat → Int32) (c : Nat) : Prop := ∀ j, j < c → a j = -1 ∨ ∃ r, r ≤ 4 ∧ a j = nI r
theorem rm_P_upd {a : Nat → Int32} {c : Nat} {x : Int32} (h : rm_P a c) (hx : x = -1 ∨ ∃ r, r ≤ 4 ∧ x = nI r) : rm_P (upd a c x) (c + 1) := by
  intro j hj
  by_cases e : j = c
  · rw [e, pk_us]
    exact hx
  · rw [pk_un e]
    exact h j (by omega)
theorem rm_dn : ∀ r, r < 6 → nI r + (-1) < nI r := by decide +kernel
section
variable {f0 f1 : Int32} {a1 a2 a3 a4 a5 a6 a7 a8 : Nat → Int32}
theorem rm_128 {post : Int32 → St2 → Prop} {u : Nat} (hu : u ≤ 6) (hC : rm_C a5) (hP : rm_P a6 u) (H : ∀ s, s 0 = 1 → (∀ j, 1 ≤ j → j < u → s j = 0) → post 1 (f0, f1, a1, a2, a3, a4, a5, a6, s, a8)) :
    ∃ n, wX_solve_128 post (nI u) 0 f0 f1 n 0 a1 a2 a3 a4 a5 a6 a7 a8 :=
  pk_loop (fun n i s => wX_solve_128 post (nI u) 0 f0 f1 n (nI i) a1 a2 a3 a4 a5 a6 s a8) (fun i s => ∀ j, j < i → s j = 0) u 0 a7 (by omega) (fun j hj => absurd hj (by omega))
    (fun n s h => pk_le u u (fun _ => ⟨pk_in 0 6 (by omega), nm_e (H _ pk_us (fun j h1 h2 => (pk_un (show j ≠ 0 by omega)).trans (h j h2)))⟩) (fun z => absurd z (by omega)))
    (fun n i s hi h hk => by
      refine pk_le u i (fun z => absurd z (by omega)) (fun _ => ?_)
      have F : ∀ j, j < i + 1 → upd s i 0 j = 0 := by
        intro j hj
        by_cases e : j = i
        · rw [e, pk_us]
        · rw [pk_un e]
          exact h j (by omega)
      rw [nI_clamp (show i < 2 ^ 31 by omega)]
      refine ⟨pk_in i 6 (by omega), ?_⟩
      rcases hP i hi with e | ⟨r, hr, e⟩
      · rw [e]
        exact br_f (by decide) ⟨pk_in i 6 (by omega), nm_e (nm_r (nI_1 i) (hk _ F))⟩
      · obtain ⟨y, y1, y2, y3⟩ := hC r 0 (by omega) (by omega)
        rw [y3 rfl] at y2
        have E : nI r * 6 + 0 = nI (r * 6 + 0) := rm_ix r 0
        rw [e, E, nI_clamp (show r * 6 + 0 < 2 ^ 31 by omega), y2]
        exact br_t (nI_pos' (by omega)) ⟨pk_in i 6 (by omega), vp_in_nI (by omega) (by omega), pk_in i 6 (by omega), nm_e (nm_r (nI_1 i) (hk _ F))⟩)
theorem rm_41 {post : Int32 → St2 → Prop} {J : Int32 → Int32 → Int32 → Int32 → Int32 → (Nat → Int32) → (Nat → Int32) → (Nat → Int32) → (Nat → Int32) → (Nat → Int32) → (Nat → Int32) → (Nat → Int32) → (Nat → Int32) → Prop} {x1 : Int32} {rows c : Nat}
    (hT : rm_T a1 a2) (hr : rows ≤ 5) (hc : c < 6) (hC : rm_C a5)
    (H0 : J (nI rows) (rm_fr (c + 1)) (nI (c + 1)) f0 f1 a1 a2 a3 a4 a5 a6 a7 a8)
    (H1 : rows ≤ 4 → ∀ s, rm_C s → J (nI (rows + 1)) (rm_fr (c + 1)) (nI (c + 1)) f0 f1 a1 a2 a3 a4 s (upd a6 c (nI rows)) a7 a8) :
    ∃ n, wX_solve_41 post J x1 (nI rows) (rm_fr c) (nI c) f0 f1 a1 a2 a3 a4 a5 a6 a7 a8 n (-1) 4 := by
  have key := pk_loopD (fun n i s => wX_solve_41 post J x1 (nI rows) (rm_fr c) (nI c) f0 f1 a1 a2 a3 a4 a5 a6 a7 a8 n s (nI (i + rows) + (-1)))
    (fun i s => i + rows ≤ 5 ∧ (s = -1 ∨ (1 ≤ c ∧ ∃ r, rows ≤ r ∧ r ≤ 4 ∧ s = nI r)))
    (fun n s h => by
      obtain ⟨h1, h2⟩ := h
      show wX_solve_41 post J x1 (nI rows) (rm_fr c) (nI c) f0 f1 a1 a2 a3 a4 a5 a6 a7 a8 (n + 1) s (nI (0 + rows) + (-1))
      rw [Nat.zero_add]
      refine br_t (rm_dn rows (by omega)) ?_
      rcases h2 with e | ⟨hc1, r, r1, r2, e⟩
      · rw [e]
        refine br_t (by decide) ?_
        by_cases c0 : c = 0
        · subst c0
          exact br_f (by decide) (nm_r (nI_1 0) H0)
        · rw [rm_fr1 (show 1 ≤ c by omega)]
          rw [rm_fr1 (show 1 ≤ c + 1 by omega)] at H0
          exact br_t (by decide) (nm_r (nI_1 c) H0)
      · rw [e]
        refine br_f (nI_pos (by omega)) (rm_swap (by omega) (by omega) hC (fun s1 h1 => rm_red hT (by omega) hc h1 (fun s2 h2 => ⟨pk_in c 6 hc, nm_r (by rw [nI_clamp (show c < 2 ^ 31 by omega)]) (nm_r (nI_1 rows) (nm_r (nI_1 c) ?_))⟩)))
        have t := H1 (by omega) s2 h2
        rw [rm_fr1 (show 1 ≤ c + 1 by omega)] at t
        rw [rm_fr1 hc1]
        exact t)
    (fun n i s h hk => by
      obtain ⟨h1, h2⟩ := h
      have e : nI (i + 1 + rows) + (-1) = nI (i + rows) := by
        rw [show i + 1 + rows = i + rows + 1 by omega]
        exact pk_m1 _
      show wX_solve_41 post J x1 (nI rows) (rm_fr c) (nI c) f0 f1 a1 a2 a3 a4 a5 a6 a7 a8 (n + 1) s (nI (i + 1 + rows) + (-1))
      rw [e]
      obtain ⟨y, y1, y2, y3⟩ := hC (i + rows) c (by omega) hc
      refine br_f (nI_nlt (by omega) (by omega)) ?_
      rw [rm_ix, nI_clamp (show (i + rows) * 6 + c < 2 ^ 31 by omega), y2]
      refine ⟨vp_in_nI (by omega) (by omega), pk_eq y 0 (fun z => nm_e (hk s ⟨by omega, h2⟩)) (fun z => nm_e (hk _ ⟨by omega, Or.inr ⟨?_, i + rows, by omega, by omega, rfl⟩⟩))⟩
      rcases Nat.eq_zero_or_pos c with g | g
      · exact absurd (y3 g) z
      · exact g)
    (5 - rows) (-1) ⟨by omega, Or.inl rfl⟩
  refine ⟨5 - rows + 1, ?_⟩
  have e4 : (4 : Int32) = nI (5 - rows + rows) + (-1) := by
    rw [show 5 - rows + rows = 5 by omega]
    rfl
  rw [e4]
  exact key
theorem rm_21 {post : Int32 → St2 → Prop} {u : Nat} (hT : rm_T a1 a2) (h1 : 1 ≤ u) (hu : u ≤ 6) (hC : rm_C a5)
    (H : ∀ s5 s6 s, s 0 = 1 → (∀ j, 1 ≤ j → j < u → s j = 0) → post 1 (f0, f1, a1, a2, a3, a4, s5, s6, s, a8)) :
    ∃ n, wX_solve_21 post (nI u) n 0 (-1) 0 f0 f1 a1 a2 a3 a4 a5 a6 a7 a8 :=
  pk_loop (fun n i (s : Nat × (Nat → Int32) × (Nat → Int32)) => wX_solve_21 post (nI u) n (nI s.1) (rm_fr i) (nI i) f0 f1 a1 a2 a3 a4 s.2.1 s.2.2 a7 a8)
    (fun i s => s.1 ≤ 5 ∧ rm_C s.2.1 ∧ rm_P s.2.2 i) u 0 (0, a5, a6) (by omega) ⟨by omega, hC, fun j hj => absurd hj (by omega)⟩
    (fun n s h => by
      obtain ⟨r, s5, s6⟩ := s
      obtain ⟨k1, k2, k3⟩ := h
      refine pk_le u u (fun _ => ?_) (fun z => absurd z (by omega))
      rw [rm_fr1 h1]
      exact br_t (by decide) (rm_128 hu k2 k3 (fun s g1 g2 => H _ _ s g1 g2)))
    (fun n i s hi h hk => by
      obtain ⟨r, s5, s6⟩ := s
      obtain ⟨k1, k2, k3⟩ := h
      refine pk_le u i (fun z => absurd z (by omega)) (fun _ => ⟨pk_in i 6 (by omega), nm_r (by rw [nI_clamp (show i < 2 ^ 31 by omega)]) ?_⟩)
      exact rm_41 hT k1 (by omega) k2 (hk (r, s5, upd s6 i (-1)) ⟨k1, k2, rm_P_upd k3 (Or.inl rfl)⟩)
        (fun r4 s' h' => hk (r + 1, s', upd (upd s6 i (-1)) i (nI r)) ⟨by omega, h', rm_P_upd (fun j hj => by rw [pk_un (by omega)]; exact k3 j hj) (Or.inr ⟨r, r4, rfl⟩)⟩))
/-- k and t -/
def rm_K (f0 f1 : Int32) : Prop := ∃ k t : Nat, 1 ≤ k ∧ 1 ≤ t ∧ k + t = 3 ∧ f0 = nI k ∧ f1 = nI t
theorem rm_kt : ∀ k, k < 3 → ∀ t, t < 3 → ((2 * nI t) + nI k) + 1 = nI (2 * t + k + 1) := by decide +kernel
theorem rm_solve {post : Int32 → St2 → Prop} (hK : rm_K f0 f1) (hT : rm_T a1 a2) (hC : rm_C a5)
    (H : ∀ s5 s6 s, s 0 = 1 → (∀ j, 1 ≤ j → j < 5 → s j = 0) → post 1 (f0, f1, a1, a2, a3, a4, s5, s6, s, a8)) :
    wpX_solve post (f0, f1, a1, a2, a3, a4, a5, a6, a7, a8) := by
  obtain ⟨k, t, k1, t1, kt, e0, e1⟩ := hK
  subst e0 e1
  exact nm_r (rm_kt k (by omega) t (by omega)) (rm_21 hT (by omega) (by omega) hC (fun s5 s6 s g1 g2 => H s5 s6 s g1 (fun j j1 j2 => g2 j j1 (by omega))))
theorem rm_50 : (5 : Int32) - 0 = nI 5 := by decide
theorem rm_116 {post : Int32 → St2 → Prop} {J : Int32 → (Nat → Int32) → (Nat → Int32) → (Nat → Int32) → (Nat → Int32) → (Nat → Int32) → (Nat → Int32) → (Nat → Int32) → (Nat → Int32) → Prop} {b : Nat} {x : Int32}
    (hT : rm_T a1 a2) (hb : b < 2) (h0 : a7 0 = 1) (hx : x = 0) (H : J (nI (b + 1)) a1 a2 a3 a4 a5 a6 a7 (upd a8 b 0)) :
    wX_divide_116 post J 0 (nI b) x f0 f1 a1 a2 a3 a4 a5 a6 a7 a8 := by
  subst hx
  unfold wX_divide_116
  rw [sb_cl0, h0, rm_50]
  refine ⟨pk_in 0 6 (by omega), rm_div (x := 0) (y := 1) hT (by omega) (by omega) (fun z z1 z2 => ?_)⟩
  rw [z2.mpr rfl]
  refine rm_frob (x := 0) (m := 5) hT (by omega) (by omega) (fun w w1 w2 => ?_)
  rw [w2 rfl]
  exact ⟨pk_in b 2 hb, nm_r (by rw [nI_clamp (show b < 2 ^ 31 by omega)]; rfl) (nm_r (nI_1 b) H)⟩
theorem rm_z2 {s : Nat → Int32} {b : Nat} (h : ∀ j, j < 2 → s j = 0) : ∀ j, j < 2 → upd s b 0 j = 0 := by
  intro j hj
  by_cases e : j = b
  · rw [e, pk_us]
  · rw [pk_un e]
    exact h j hj
theorem rm_01 : (0 : Int32) + 1 = nI 1 := by decide
theorem rm_43 {post : Int32 → St2 → Prop} {k t : Nat} (hT : rm_T a1 a2) (k1 : 1 ≤ k) (t1 : 1 ≤ t) (kt : k + t = 3) (h0 : a7 0 = 1) (h7 : ∀ j, 1 ≤ j → j < 5 → a7 j = 0) (h8 : ∀ j, j < 2 → a8 j = 0)
    (H : ∀ s, (∀ j, j < 2 → s j = 0) → post 1 (nI k, nI t, a1, a2, a3, a4, a5, a6, a7, s)) :
    ∃ n, wX_divide_43 post 0 (nI k) (nI t) n 0 a1 a2 a3 a4 a5 a6 a7 a8 :=
  pk_loop (fun n i s => wX_divide_43 post 0 (nI k) (nI t) n (nI i) a1 a2 a3 a4 a5 a6 a7 s) (fun _ s => ∀ j, j < 2 → s j = 0) k 0 a8 (by omega) h8
    (fun n s h => pk_le k k (fun _ => H s h) (fun z => absurd z (by omega)))
    (fun n i s hi h hk => by
      refine pk_le k i (fun z => absurd z (by omega)) (fun _ => ?_)
      have E : nI t + 1 + 0 + nI i = nI (t + 1 + i) := by
        rw [nI_1, Int32.add_zero, nI_add]
      have G : ∀ x : Int32, x = 0 → wX_divide_116 post (wX_divide_43 post 0 (nI k) (nI t) n) 0 (nI i) x (nI k) (nI t) a1 a2 a3 a4 a5 a6 a7 s := fun x hx => rm_116 hT (by omega) h0 hx (hk _ (rm_z2 h))
      rw [E, nI_clamp (show t + 1 + i < 2 ^ 31 by omega), h7 (t + 1 + i) (by omega) (by omega)]
      refine ⟨vp_in_nI (by omega) (by omega), nm_e (pk_eq i 1 (fun _ => pk_le t 0 (fun z => absurd z (by omega)) (fun _ => ?_)) (fun _ => G 0 rfl))⟩
      rw [h 0 (by omega), rm_01, nI_clamp (show 1 < 2 ^ 31 by omega), h7 1 (by omega) (by omega)]
      refine rm_frob (x := 0) (m := 1) hT (by omega) (by omega) (fun w w1 w2 => ?_)
      rw [w2 rfl]
      refine ⟨pk_in 1 6 (by omega), rm_mul (x := 0) (y := 0) hT (by omega) (by omega) (fun v v1 v2 _ => ?_)⟩
      rw [v2 (Or.inl rfl)]
      exact fun x ex => G x (ex.trans (by decide)))
theorem rm_divide {post : Int32 → St2 → Prop} (hK : rm_K f0 f1) (hT : rm_T a1 a2) (h0 : a7 0 = 1) (h7 : ∀ j, 1 ≤ j → j < 5 → a7 j = 0) (h8 : ∀ j, j < 2 → a8 j = 0)
    (H : ∀ s, (∀ j, j < 2 → s j = 0) → post 1 (f0, f1, a1, a2, a3, a4, a5, a6, a7, s)) :
    wpX_divide post (f0, f1, a1, a2, a3, a4, a5, a6, a7, a8) := by
  obtain ⟨k, t, k1, t1, kt, e0, e1⟩ := hK
  subst e0 e1
  have key := pk_loopD (fun n i s => wX_divide_7 post (nI k) (nI t) a1 a2 a3 a4 a5 a6 a7 a8 n s (nI i + (-1))) (fun i s => i ≤ 3 ∧ (i = 0 → s = 0))
    (fun n s h => by
      show wX_divide_7 post (nI k) (nI t) a1 a2 a3 a4 a5 a6 a7 a8 (n + 1) s (nI 0 + (-1))
      rw [h.2 rfl]
      exact br_t (by decide) (br_t (by decide) (nm_e (rm_43 hT k1 t1 kt h0 h7 (rm_z2 h8) H))))
    (fun n i s h hk => by
      show wX_divide_7 post (nI k) (nI t) a1 a2 a3 a4 a5 a6 a7 a8 (n + 1) s (nI (i + 1) + (-1))
      have hi := h.1
      rw [pk_m1]
      refine br_f (nI_pos (by omega)) ⟨pk_in i 6 (by omega), ?_⟩
      rw [nI_clamp (show i < 2 ^ 31 by omega)]
      refine br_c (fun z => nm_e (hk s ⟨by omega, fun e => ?_⟩)) (fun z => nm_e (hk _ ⟨by omega, fun e => by rw [e]; rfl⟩))
      rw [e, h0] at z
      exact absurd z (by decide))
    (t + 1) (-1) ⟨by omega, fun e => absurd e (by omega)⟩
  refine ⟨t + 1 + 1, ?_⟩
  rw [pk_m1] at key
  exact key
end
end
section
/-- outside the field -/
def rm_O (p : Int32) : Prop := p < 0 ∨ 31 < p
theorem rm_cls (p : Int32) : rm_O p ∨ (¬ rm_O p ∧ ∃ x, x ≤ 31 ∧ p = nI x) := by
  by_cases h : p < 0
  · exact Or.inl (Or.inl h)
  · by_cases g : 31 < p
    · exact Or.inl (Or.inr g)
    · exact Or.inr ⟨fun o => o.elim h g, nI_of2 (M := 31) (n := 31) (by decide) h (Int32.not_lt.mp g)⟩
theorem rm_sh : ∀ i, i < 5 → (1 : Int32) <<< (nI i &&& 31) = nI (2 ^ i) ∧ 2 ^ i ≤ 31 := by decide +kernel
theorem rm_bit : ∀ i, i < 5 → ¬ (((0 : Int32) >>> (nI i &&& 31)) &&& 1) = 1 := by decide +kernel
section
variable {f0 f1 : Int32} {a1 a2 a3 a4 a5 a6 a7 a8 : Nat → Int32}
theorem rm_out0 {post : Int32 → Prop} {x : Nat} (hx : x ≤ 31) (H : post 0) : wpX_outside post (f0, f1, a1, a2, a3, a4, a5, a6, a7, a8) (nI x) :=
  br_f (nI_pos (by omega)) (pk_le x 31 (fun _ => H) (fun z => absurd z (by omega)))
theorem rm_out1 {post : Int32 → Prop} {p : Int32} (h : rm_O p) (H : post 1) : wpX_outside post (f0, f1, a1, a2, a3, a4, a5, a6, a7, a8) p :=
  br_c (fun _ => H) (fun g => br_f (fun z => (h.elim g (fun w => Int32.not_lt.mpr z w))) H)
theorem rm_bad0 {post : Int32 → Prop} {x y : Nat} (hx : x ≤ 31) (hy : y ≤ 31) (h : f0 = 1 → nI y = 0) (H : post 0) :
    wpX_badMessage post (f0, f1, a1, a2, a3, a4, a5, a6, a7, a8) (nI x) (nI y) := by
  unfold wpX_badMessage
  dsimp only
  exact rm_out0 hx (br_t rfl (rm_out0 hy (br_t rfl (br_c (fun e => br_t (h e) H) (fun _ => H)))))
theorem rm_bad1 {post : Int32 → Prop} {p q : Int32} (h : rm_O p ∨ rm_O q ∨ (f0 = 1 ∧ ¬ q = 0)) (H : post 1) :
    wpX_badMessage post (f0, f1, a1, a2, a3, a4, a5, a6, a7, a8) p q := by
  unfold wpX_badMessage
  dsimp only
  rcases rm_cls p with hp | ⟨np, x, hx, ex⟩
  · exact rm_out1 hp (br_f (by decide) H)
  · subst ex
    refine rm_out0 hx (br_t rfl ?_)
    rcases rm_cls q with hq | ⟨nq, y, hy, ey⟩
    · exact rm_out1 hq (br_f (by decide) H)
    · subst ey
      rcases h with h | h | ⟨h, h'⟩
      · exact absurd h np
      · exact absurd h nq
      · exact rm_out0 hy (br_t rfl (br_t h (br_f h' H)))
theorem rm_value {post : Int32 → Prop} {x y i : Nat} (hT : rm_T a1 a2) (hx : x ≤ 31) (hy : y ≤ 31) (hi : i < 5) (H : ∀ r, (x = 0 → y = 0 → r = 0) → post r) :
    wpX_value post (f0, f1, a1, a2, a3, a4, a5, a6, a7, a8) (nI x) (nI y) (nI i) := by
  obtain ⟨e, g⟩ := rm_sh i hi
  exact nm_r e (rm_mul hT g g (fun z z1 _ _ => rm_mul hT hx g (fun w w1 w2 _ => rm_mul hT hy z1 (fun v v1 v2 _ => H _ (fun ex ey => by
    rw [w2 (Or.inl ex), v2 (Or.inl ey)]
    decide)))))
theorem rm_clear0 {post : Int32 → St2 → Prop} {b : Nat} (hb : b < 5) (h4 : ∀ j, j < 5 → a4 j = 0) (H : post 0 (f0, f1, a1, a2, a3, a4, a5, a6, a7, a8)) :
    wpX_clearBit post (f0, f1, a1, a2, a3, a4, a5, a6, a7, a8) 0 (nI b) := by
  have key := pk_loopD (σ := Unit) (fun n i _ => wX_clearBit_5 post 0 (nI b) f0 f1 a1 a2 a3 a4 a5 a6 a7 a8 n (-1) (nI i + (-1))) (fun i _ => i ≤ 5)
    (fun n s h => br_t (by decide) (br_f (by decide) H))
    (fun n i s h hk => by
      show wX_clearBit_5 post 0 (nI b) f0 f1 a1 a2 a3 a4 a5 a6 a7 a8 (n + 1) (-1) (nI (i + 1) + (-1))
      rw [pk_m1]
      refine br_f (nI_pos (by omega)) ⟨pk_in i 5 (by omega), ?_⟩
      rw [nI_clamp (show i < 2 ^ 31 by omega), h4 i (by omega)]
      exact br_f (rm_bit b hb) (nm_e (hk () (by omega))))
    5 () (by omega)
  exact ⟨6, key⟩
theorem rm_53 {post : Int32 → St2 → Prop} (h4 : ∀ j, j < 5 → a4 j = 0) (H : post 0 (f0, f1, a1, a2, a3, a4, a5, a6, a7, a8)) :
    ∃ n, wX_distance_53 post n 0 0 f0 f1 a1 a2 a3 a4 a5 a6 a7 a8 :=
  pk_loop (σ := Unit) (fun n i _ => wX_distance_53 post n 0 (nI i) f0 f1 a1 a2 a3 a4 a5 a6 a7 a8) (fun _ _ => True) 5 0 () (by omega) trivial
    (fun n _ _ => pk_le 5 5 (fun _ => H) (fun z => absurd z (by omega)))
    (fun n i _ hi _ hk => pk_le 5 i (fun z => absurd z (by omega)) (fun _ => rm_clear0 hi h4 (br_t rfl (nm_r (nI_1 i) (hk () trivial)))))
theorem rm_00 : (0 : Int32) ^^^ 0 = 0 := by decide
theorem rm_13 {post : Int32 → St2 → Prop} (hT : rm_T a1 a2) (h3 : ∀ j, j < 5 → a3 j = 0) (H : ∀ s, post 0 (f0, f1, a1, a2, a3, s, a5, a6, a7, a8)) :
    ∃ n, wX_distance_13 post 0 0 f0 f1 n 0 a1 a2 a3 a4 a5 a6 a7 a8 :=
  pk_loop (fun n i s => wX_distance_13 post 0 0 f0 f1 n (nI i) a1 a2 a3 s a5 a6 a7 a8) (fun i s => ∀ j, j < i → s j = 0) 5 0 a4 (by omega) (fun j hj => absurd hj (by omega))
    (fun n s h => pk_le 5 5 (fun _ => rm_53 h (H s)) (fun z => absurd z (by omega)))
    (fun n i s hi h hk => by
      refine pk_le 5 i (fun z => absurd z (by omega)) (fun _ => ?_)
      have F : ∀ j, j < i + 1 → upd s i 0 j = 0 := by
        intro j hj
        by_cases e : j = i
        · rw [e, pk_us]
        · rw [pk_un e]
          exact h j (by omega)
      refine rm_value (x := 0) (y := 0) hT (by omega) (by omega) hi (fun r hr => ⟨pk_in i 5 hi, pk_in i 5 hi, nm_r ?_ (nm_r (nI_1 i) (hk _ F))⟩)
      rw [nI_clamp (show i < 2 ^ 31 by omega), h3 i hi, hr rfl rfl, rm_00])
theorem rm_dist {post : Int32 → St2 → Prop} {x y : Int32} (hx : x = 0) (hy : y = 0) (hT : rm_T a1 a2) (h3 : ∀ j, j < 5 → a3 j = 0) (H : ∀ s, post 0 (f0, f1, a1, a2, a3, s, a5, a6, a7, a8)) :
    wpX_distance post (f0, f1, a1, a2, a3, a4, a5, a6, a7, a8) x y := by
  subst hx hy
  unfold wpX_distance
  dsimp only
  exact rm_bad0 (x := 0) (y := 0) (by omega) (by omega) (fun _ => nI_0) (br_t rfl (rm_13 hT h3 H))
theorem rm_eq40 {post : St2 → Prop} {k t i : Nat} (hT : rm_T a1 a2) (k1 : 1 ≤ k) (t1 : 1 ≤ t) (kt : k + t = 3) (hi : i < 5) (hC : rm_C a5) (H : ∀ s, rm_C s → post (nI k, nI t, a1, a2, a3, a4, s, a6, a7, a8)) :
    ∃ n, wX_equation_40 post (nI i) (nI k) (nI t) n 0 a1 a2 a3 a4 a5 a6 a7 a8 :=
  pk_loop (fun n b s => wX_equation_40 post (nI i) (nI k) (nI t) n (nI b) a1 a2 a3 a4 s a6 a7 a8) (fun _ s => rm_C s) (t + k) 0 a5 (by omega) hC
    (fun n s h => pk_le (t + k) (t + k) (fun _ => H s h) (fun z => absurd z (by omega)) (nI_add t k))
    (fun n b s hb h hk => by
      refine pk_le (t + k) b (fun z => absurd z (by omega)) (fun _ => ?_) (nI_add t k)
      obtain ⟨e, g⟩ := rm_sh i hi
      have E : nI i * 6 + nI t + 1 + nI b = nI (i * 6 + (t + 1 + b)) := by
        rw [rm_ix, nI_1, nI_add, show i * 6 + t + 1 + b = i * 6 + (t + 1 + b) by omega]
      rw [e, E, nI_clamp (show i * 6 + (t + 1 + b) < 2 ^ 31 by omega)]
      exact rm_frob hT g (by omega) (fun z z1 z2 => ⟨vp_in_nI (by omega) (by omega), nm_e (nm_r (nI_1 b) (hk _ (rm_C_upd h hi (by omega) z1 (fun e => absurd e (by omega)))))⟩))
theorem rm_eqn {post : St2 → Prop} {k t i : Nat} (hT : rm_T a1 a2) (k1 : 1 ≤ k) (t1 : 1 ≤ t) (kt : k + t = 3) (hi : i < 5) (h3 : ∀ j, j < 5 → a3 j = 0) (hC : rm_C a5) (H : ∀ s, rm_C s → post (nI k, nI t, a1, a2, a3, a4, s, a6, a7, a8)) :
    wpX_equation post (nI k, nI t, a1, a2, a3, a4, a5, a6, a7, a8) (nI i) :=
  pk_loop (fun n b s => wX_equation_2 post (nI i) (nI k) (nI t) n (nI b) a1 a2 a3 a4 s a6 a7 a8) (fun _ s => rm_C s) (t + 1) 0 a5 (by omega) hC
    (fun n s h => pk_lt t (t + 1) (fun _ => rm_eq40 hT k1 t1 kt hi h H) (fun z => absurd z (by omega)))
    (fun n b s hb h hk => by
      refine pk_lt t b (fun z => absurd z (by omega)) (fun _ => ⟨pk_in i 5 hi, ?_⟩)
      rw [rm_ix, nI_clamp (show i < 2 ^ 31 by omega), nI_clamp (show i * 6 + b < 2 ^ 31 by omega), h3 i hi]
      exact rm_frob (x := 0) hT (by omega) (by omega) (fun z z1 z2 => ⟨vp_in_nI (by omega) (by omega), nm_e (nm_r (nI_1 b) (hk _ (rm_C_upd h hi (by omega) z1 (fun _ => z2 rfl))))⟩))
theorem rm_decode {post : Int32 → St2 → Prop} (hK : rm_K f0 f1) (hT : rm_T a1 a2) (h3 : ∀ j, j < 5 → a3 j = 0) (hC : rm_C a5) (h8 : ∀ j, j < 2 → a8 j = 0)
    (H : ∀ s4 s5 s6 s7 s8, (∀ j, j < 2 → s8 j = 0) → post 1 (f0, f1, a1, a2, a3, s4, s5, s6, s7, s8)) :
    wpX_decode post (f0, f1, a1, a2, a3, a4, a5, a6, a7, a8) := by
  have hK' := hK
  obtain ⟨k, t, k1, t1, kt, e0, e1⟩ := hK'
  subst e0 e1
  exact pk_loop (fun n i s => wX_decode_2 post n (nI i) (nI k) (nI t) a1 a2 a3 a4 s a6 a7 a8) (fun _ s => rm_C s) 5 0 a5 (by omega) hC
    (fun n s h => pk_le 5 5 (fun _ => rm_solve hK hT h (fun s5 s6 s7 g1 g2 => br_f (by decide) (rm_divide hK hT g1 g2 h8 (fun s8 g8 => br_f (by decide) (rm_dist (g8 0 (by omega)) (g8 1 (by omega)) hT h3 (fun s4 => br_f (nI_pos (by omega)) (H s4 s5 s6 s7 s8 g8))))))) (fun z => absurd z (by omega)))
    (fun n i s hi h hk => pk_le 5 i (fun z => absurd z (by omega)) (fun _ => rm_eqn hT k1 t1 kt hi h3 h (fun s' h' => nm_r (nI_1 i) (hk s' h'))))
theorem rm_msg {post : Int32 → St2 → Prop} {p : Int32} (hK : rm_K f0 f1) (hT : rm_T a1 a2) (h3 : ∀ j, j < 5 → a3 j = 0) (hC : rm_C a5) (h8 : ∀ j, j < 2 → a8 j = 0)
    (H : ∀ r s4 s5 s6 s7 s8, (p < 0 ∨ ¬ p < f0 → r = -1) → (¬ p < 0 → p < f0 → r = 0) → post r (f0, f1, a1, a2, a3, s4, s5, s6, s7, s8)) :
    wpX_message post (f0, f1, a1, a2, a3, a4, a5, a6, a7, a8) p :=
  br_c (fun h => H (-1) a4 a5 a6 a7 a8 (fun _ => rfl) (fun g => absurd h g)) (fun h => br_c (fun g => rm_decode hK hT h3 hC h8 (fun s4 s5 s6 s7 s8 q => by
    obtain ⟨k, t, k1, t1, kt, e0, e1⟩ := hK
    obtain ⟨j, hj, ej⟩ := nI_of h
    have hjk : j < 2 := by
      rw [e0, ej] at g
      have := (nI_ltI hj (by omega)).mp g
      omega
    refine br_f (by decide) ⟨pk_in j 2 hjk ej, H _ s4 s5 s6 s7 s8 (fun z => absurd g (z.elim (fun w => absurd w h) (fun w => w))) (fun _ _ => ?_)⟩
    rw [ej, nI_clamp hj]
    exact q j hjk)) (fun g => H (-1) a4 a5 a6 a7 a8 (fun _ => rfl) (fun _ w => absurd w g)))
end
end
section
/-- the powers of the field's generator -/
def rm_g : Nat → Nat
  | 0 => 1
  | i + 1 => if 2 * rm_g i ≤ 31 then 2 * rm_g i else (2 * rm_g i) ^^^ 37
theorem rm_gin : ∀ i, i < 31 → 1 ≤ rm_g i ∧ rm_g i ≤ 31 := by decide +kernel
theorem rm_gne : ∀ i, i < 31 → ∀ j, j < i → rm_g j ≠ rm_g i := by decide +kernel
theorem rm_gon : ∀ x, x < 32 → 1 ≤ x → ∃ j, j < 31 ∧ rm_g j = x := by decide +kernel
theorem rm_gsh : ∀ y, y < 32 → nI y <<< ((1 : Int32) &&& 31) = nI (2 * y) ∧ nI (2 * y) ^^^ 37 = nI ((2 * y) ^^^ 37) := by decide +kernel
/-- the tables, filled for the powers below i -/
def rm_F (i : Nat) (a1 a2 : Nat → Int32) : Prop := a2 0 = nI 0 ∧ ∀ j, j < i → a1 j = nI (rm_g j) ∧ a1 (j + 31) = nI (rm_g j) ∧ a2 (rm_g j) = nI j
theorem rm_F_T {a1 a2 : Nat → Int32} (h : rm_F 31 a1 a2) : rm_T a1 a2 := by
  obtain ⟨h0, h⟩ := h
  refine ⟨fun x hx => ?_, (h 0 (by omega)).2.2, fun i hi => ?_⟩
  · rcases Nat.eq_zero_or_pos x with e | e
    · rw [e]
      exact ⟨0, by omega, h0, fun z => absurd z (by omega)⟩
    · obtain ⟨j, hj, ej⟩ := rm_gon x hx e
      have t := h j hj
      rw [ej] at t
      exact ⟨j, by omega, t.2.2, fun _ => t.1⟩
  · by_cases g : i < 31
    · exact ⟨rm_g i, (rm_gin i g).1, (rm_gin i g).2, (h i g).1⟩
    · have t := (h (i - 31) (by omega)).2.1
      rw [show i - 31 + 31 = i by omega] at t
      exact ⟨rm_g (i - 31), (rm_gin _ (by omega)).1, (rm_gin _ (by omega)).2, t⟩
theorem rm_F_s {a1 a2 : Nat → Int32} {i : Nat} (hi : i < 31) (h : rm_F i a1 a2) : rm_F (i + 1) (upd (upd a1 i (nI (rm_g i))) (i + 31) (nI (rm_g i))) (upd a2 (rm_g i) (nI i)) := by
  obtain ⟨h0, h⟩ := h
  have g := rm_gin i hi
  refine ⟨by rw [pk_un (by omega)]; exact h0, fun j hj => ?_⟩
  by_cases e : j = i
  · subst e
    exact ⟨by rw [pk_un (by omega), pk_us], by rw [pk_us], by rw [pk_us]⟩
  · have t := h j (by omega)
    exact ⟨by rw [pk_un (by omega), pk_un (by omega)]; exact t.1, by rw [pk_un (by omega), pk_un (by omega)]; exact t.2.1, by rw [pk_un (rm_gne i hi j (by omega))]; exact t.2.2⟩
section
variable {f0 f1 : Int32} {a1 a2 a3 a4 a5 a6 a7 a8 : Nat → Int32}
theorem rm_98 {post : St2 → Prop} {mc ms kc ks : Nat} (h : rm_F 0 a1 a2) (H : ∀ s1 s2, rm_T s1 s2 → post (f0, f1, s1, s2, a3, a4, a5, a6, a7, a8)) :
    ∃ n, wX_init_98 post mc ms kc ks f0 f1 n 1 0 a1 a2 a3 a4 a5 a6 a7 a8 :=
  pk_loop (fun n i (s : (Nat → Int32) × (Nat → Int32)) => wX_init_98 post mc ms kc ks f0 f1 n (nI (rm_g i)) (nI i) s.1 s.2 a3 a4 a5 a6 a7 a8) (fun i s => rm_F i s.1 s.2) 31 0 (a1, a2) (by omega) h
    (fun n s h => pk_le 31 31 (fun _ => H s.1 s.2 (rm_F_T h)) (fun z => absurd z (by omega)))
    (fun n i s hi h hk => by
      obtain ⟨s1, s2⟩ := s
      have g := rm_gin i hi
      have e := rm_gsh (rm_g i) (by omega)
      have t := hk (_, _) (rm_F_s hi h)
      dsimp only at t
      refine pk_le 31 i (fun z => absurd z (by omega)) (fun _ => ?_)
      dsimp only
      have E : nI i + 31 = nI (i + 31) := nI_add i 31
      rw [E, nI_clamp (show i < 2 ^ 31 by omega), nI_clamp (show i + 31 < 2 ^ 31 by omega), nI_clamp (show rm_g i < 2 ^ 31 by omega), e.1]
      refine ⟨pk_in i 64 (by omega), nm_e ⟨vp_in_nI (by omega) (by omega), nm_e ⟨vp_in_nI (by omega) (by omega), nm_e (nm_e (pk_le (2 * rm_g i) 31 (fun z => nm_r (nI_1 i) ?_) (fun z => nm_r e.2 (nm_r (nI_1 i) ?_))))⟩⟩⟩
      · rw [show rm_g (i + 1) = 2 * rm_g i from if_pos z] at t
        exact t
      · rw [show rm_g (i + 1) = (2 * rm_g i) ^^^ 37 from if_neg (by omega)] at t
        exact t)
end
theorem rm_81 {post : St2 → Prop} {mc ms kc ks : Nat} {k : Nat} {x f0 f1 : Int32} (hx : x = nI k) (k1 : 1 ≤ k) (k2 : k ≤ 2)
    (H : ∀ s1 s2, rm_T s1 s2 → post (nI k, nI (3 - k), s1, s2, fun _ => 0, fun _ => 0, fun _ => 0, fun _ => 0, fun _ => 0, fun _ => 0)) :
    wX_init_74 post mc ms x kc ks f0 f1 (fun _ => 0) (fun _ => 0) (fun _ => 0) (fun _ => 0) (fun _ => 0) (fun _ => 0) (fun _ => 0) (fun _ => 0) := by
  subst hx
  have e : (3 : Int32) - nI k = nI (3 - k) := pk_sub (a := 3) (by omega)
  exact pk_le k 2 (fun _ => nm_r e (rm_98 ⟨rfl, fun j hj => absurd hj (by omega)⟩ H)) (fun z => absurd z (by omega))
theorem rm_init {post : St2 → Prop} {p : Int32} {u : St1}
    (H : ∀ k s1 s2, (k = 1 ∨ k = 2) → (2 ≤ p ↔ k = 2) → rm_T s1 s2 → post (nI k, nI (3 - k), s1, s2, fun _ => 0, fun _ => 0, fun _ => 0, fun _ => 0, fun _ => 0, fun _ => 0)) :
    wpX_init post 99 1574 u p := by
  obtain ⟨f0, f1⟩ := u
  refine ⟨by omega, by omega, by omega, by omega, by omega, by omega, by omega, by omega, by omega, by omega, by omega, by omega, by omega, by omega, by omega, by omega, ?_⟩
  have P : ∀ (j : Nat), j < 2 ^ 31 → p = nI j → (2 ≤ p ↔ 2 ≤ j) := fun j hj ej => by
    rw [ej]
    exact nI_leI (a := 2) (by omega) hj
  refine br_c (fun h => ?_) (fun h => rm_81 (k := 1) rfl (by omega) (by omega) (fun s1 s2 hT => H 1 s1 s2 (Or.inl rfl) ⟨fun z => absurd (Int32.le_trans (by decide) z) h, fun z => absurd z (by omega)⟩ hT))
  have h0 : ¬ p < 0 := Int32.not_lt.mpr (Int32.le_trans (by decide) h)
  obtain ⟨j, hj, ej⟩ := nI_of h0
  have j1 : 1 ≤ j := by
    rw [ej] at h
    exact (nI_leI (a := 1) (by omega) hj).mp h
  have Pj := P j hj ej
  by_cases j2 : j ≤ 2
  · exact rm_81 ej j1 j2 (fun s1 s2 hT => H j s1 s2 (by omega) (Pj.trans (by omega)) hT)
  · have e : (3 : Int32) - 2 = nI (3 - 2) := by decide
    refine br_f (by rw [ej]; exact nI_ge (b := j) (a := 2) (by omega) hj) (nm_r e (rm_98 ⟨rfl, fun j hj => absurd hj (by omega)⟩ (fun s1 s2 hT => H 2 s1 s2 (Or.inr rfl) (Pj.trans (by omega)) hT)))
section
variable {f0 f1 : Int32} {a1 a2 a3 a4 a5 a6 a7 a8 : Nat → Int32}
theorem rm_times {post : Int32 → Prop} {p : Int32} (hT : rm_T a1 a2) (H : ∀ r, (rm_O p → r = -1) → (¬ rm_O p → r = p) → post r) :
    wpX_times post (f0, f1, a1, a2, a3, a4, a5, a6, a7, a8) p 1 := by
  unfold wpX_times
  dsimp only
  rcases rm_cls p with hp | ⟨np, x, hx, ex⟩
  · exact rm_out1 hp (br_f (by decide) (H _ (fun _ => rfl) (fun z => absurd hp z)))
  · subst ex
    exact rm_out0 hx (br_t rfl (rm_out0 (x := 1) (by omega) (br_t rfl (rm_mul (y := 1) hT hx (by omega) (fun z _ _ z3 => H _ (fun o => absurd o np) (fun _ => by rw [z3 rfl]))))))
theorem rm_over {post : Int32 → Prop} {p q : Int32} (hT : rm_T a1 a2) (H : ∀ r, (rm_O p ∨ rm_O q ∨ q = 0 → r = -1) → (¬ rm_O p → ¬ rm_O q → ¬ q = 0 → ¬ r < 0 ∧ ¬ 31 < r ∧ (r = 0 ↔ p = 0)) → post r) :
    wpX_over post (f0, f1, a1, a2, a3, a4, a5, a6, a7, a8) p q := by
  unfold wpX_over
  dsimp only
  rcases rm_cls p with hp | ⟨np, x, hx, ex⟩
  · exact rm_out1 hp (br_f (by decide) (H _ (fun _ => rfl) (fun z => absurd hp z)))
  · subst ex
    rcases rm_cls q with hq | ⟨nq, y, hy, ey⟩
    · exact rm_out0 hx (br_t rfl (rm_out1 hq (br_f (by decide) (H _ (fun _ => rfl) (fun _ z => absurd hq z)))))
    · subst ey
      refine rm_out0 hx (br_t rfl (rm_out0 hy (br_t rfl (br_c (fun g => H _ (fun _ => rfl) (fun _ _ z => absurd g z)) (fun g => rm_div hT hx hy (fun z z1 z2 => H _ (fun o => ?_) (fun _ _ _ => ⟨nI_pos (by omega), nI_nlt (b := z) (a := 31) (by omega) (by omega), ?_⟩)))))))
      · rcases o with o | o | o
        · exact absurd o np
        · exact absurd o nq
        · exact absurd o g
      · exact (nI_eq (b := 0) (by omega) (by omega)).trans (z2.trans (nI_eq (b := 0) (by omega) (by omega)).symm)
theorem rm_put {post : Int32 → St2 → Prop} {p q : Int32} (h3 : ∀ j, j < 5 → a3 j = 0)
    (H : ∀ r s, (p < 0 ∨ 4 < p ∨ rm_O q → r = -1) → (¬ p < 0 → ¬ 4 < p → ¬ rm_O q → r = 0) → post r (f0, f1, a1, a2, s, a4, a5, a6, a7, a8)) :
    wpX_put post (f0, f1, a1, a2, a3, a4, a5, a6, a7, a8) p q := by
  refine br_c (fun h => H _ a3 (fun _ => rfl) (fun z => absurd h z)) (fun h => br_c (fun g => H _ a3 (fun _ => rfl) (fun _ z => absurd g z)) (fun g => ?_))
  rcases rm_cls q with hq | ⟨nq, y, hy, ey⟩
  · exact rm_out1 hq (br_f (by decide) (H _ a3 (fun _ => rfl) (fun _ _ z => absurd hq z)))
  · obtain ⟨j, hj, ej⟩ := nI_of2 (M := 4) (n := 4) (by decide) h (Int32.not_lt.mp g)
    subst ey
    refine rm_out0 hy (br_t rfl ⟨pk_in j 5 (by omega) ej, nm_e ⟨pk_in j 5 (by omega) ej, nm_e (H _ _ (fun o => ?_) (fun _ _ _ => ?_))⟩⟩)
    · rcases o with o | o | o
      · exact absurd o h
      · exact absurd o g
      · exact absurd o nq
    · rw [ej, nI_clamp (by omega)]
      exact h3 j (by omega)
theorem rm_enc {post : Int32 → St2 → Prop} {p q : Int32} (hT : rm_T a1 a2)
    (H : ∀ r s, (rm_O p ∨ rm_O q ∨ (f0 = 1 ∧ ¬ q = 0) → r = -1) → (¬ (rm_O p ∨ rm_O q ∨ (f0 = 1 ∧ ¬ q = 0)) → r = 0) → post r (f0, f1, a1, a2, s, a4, a5, a6, a7, a8)) :
    wpX_encode post (f0, f1, a1, a2, a3, a4, a5, a6, a7, a8) p q := by
  unfold wpX_encode
  dsimp only
  by_cases B : rm_O p ∨ rm_O q ∨ (f0 = 1 ∧ ¬ q = 0)
  · exact rm_bad1 B (br_f (by decide) (H _ _ (fun _ => rfl) (fun z => absurd B z)))
  · rcases rm_cls p with hp | ⟨np, x, hx, ex⟩
    · exact absurd (Or.inl hp) B
    · rcases rm_cls q with hq | ⟨nq, y, hy, ey⟩
      · exact absurd (Or.inr (Or.inl hq)) B
      · subst ex ey
        refine rm_bad0 hx hy (fun e => Classical.byContradiction (fun z => B (Or.inr (Or.inr ⟨e, z⟩)))) (br_t rfl ?_)
        exact pk_loop (fun n i s => wX_encode_13 post (nI x) (nI y) f0 f1 n (nI i) a1 a2 s a4 a5 a6 a7 a8) (fun _ _ => True) 5 0 a3 (by omega) trivial
          (fun n s _ => pk_le 5 5 (fun _ => H _ s (fun z => absurd z B) (fun _ => rfl)) (fun z => absurd z (by omega)))
          (fun n i s hi _ hk => pk_le 5 i (fun z => absurd z (by omega)) (fun _ => rm_value hT hx hy hi (fun r _ => ⟨pk_in i 5 hi, nm_e (nm_r (nI_1 i) (hk _ trivial))⟩)))
end
end
section
theorem rm_258 {post : Int32 → St0 → Prop} {mc ms kc ks : Nat} {x11 x13 x15 z0 z1 : Int32} (h : z1 = z0) (h1 : x13 = 0 ∨ x15 = 0 → x11 = -1) (h2 : ¬ x13 = 0 → ¬ x15 = 0 → x11 = 0) (hp : post 1 ()) :
    wL_lawOf_258 post mc ms x11 x13 x15 z0 z1 kc ks :=
  br_t h (br_c (fun e => br_t (h1 (Or.inl e)) hp) (fun e => br_c (fun e' => br_t (h1 (Or.inr e')) hp) (fun e' => br_t (h2 e e') hp)))
theorem rm_234 {post : Int32 → St0 → Prop} {mc ms kc ks : Nat} {x3 x10 x11 x13 x14 x15 z0 z1 : Int32} (h : z1 = z0)
    (g1 : x3 < 0 ∨ 4 < x3 ∨ x14 = 0 → x10 = -1) (g2 : ¬ x3 < 0 → ¬ 4 < x3 → ¬ x14 = 0 → x10 = 0)
    (h1 : x13 = 0 ∨ x15 = 0 → x11 = -1) (h2 : ¬ x13 = 0 → ¬ x15 = 0 → x11 = 0) (hp : post 1 ()) :
    wL_lawOf_234 post mc ms x3 x10 x11 x13 x14 x15 z0 z1 kc ks :=
  br_t h (br_c (fun e => rm_258 (g1 (Or.inl e)) h1 h2 hp) (fun e => br_c (fun e' => rm_258 (g1 (Or.inr (Or.inl e'))) h1 h2 hp) (fun e' => br_c (fun e'' => rm_258 (g1 (Or.inr (Or.inr e''))) h1 h2 hp) (fun e'' => rm_258 (g2 e e' e'') h1 h2 hp))))
theorem rm_217 {post : Int32 → St0 → Prop} {mc ms kc ks : Nat} {x3 x9 x10 x11 x12 x13 x14 x15 : Int32}
    (m1 : x3 < 0 ∨ ¬ x3 < x12 → x9 = -1) (m2 : ¬ x3 < 0 → x3 < x12 → x9 = 0)
    (g1 : x3 < 0 ∨ 4 < x3 ∨ x14 = 0 → x10 = -1) (g2 : ¬ x3 < 0 → ¬ 4 < x3 → ¬ x14 = 0 → x10 = 0)
    (h1 : x13 = 0 ∨ x15 = 0 → x11 = -1) (h2 : ¬ x13 = 0 → ¬ x15 = 0 → x11 = 0) (hp : post 1 ()) :
    wL_lawOf_217 post mc ms x3 x9 x10 x11 x12 x13 x14 x15 kc ks :=
  br_c (fun e => rm_234 (m1 (Or.inl e)) g1 g2 h1 h2 hp) (fun e => br_c (fun e' => rm_234 (m2 e e') g1 g2 h1 h2 hp) (fun e' => rm_234 (m1 (Or.inr e')) g1 g2 h1 h2 hp))
theorem rm_136 {post : Int32 → St0 → Prop} {mc ms kc ks : Nat} {x1 x2 x3 x6 x7 x8 x9 x10 x11 x12 x13 x14 x15 : Int32}
    (h6 : x6 = x12) (t1 : x13 = 0 → x7 = -1) (t2 : ¬ x13 = 0 → x7 = x1)
    (o1 : x13 = 0 ∨ x14 = 0 ∨ x2 = 0 → x8 = -1) (o2 : ¬ x13 = 0 → ¬ x14 = 0 → ¬ x2 = 0 → ¬ x8 < 0 ∧ ¬ 31 < x8 ∧ (x8 = 0 ↔ x1 = 0))
    (m1 : x3 < 0 ∨ ¬ x3 < x12 → x9 = -1) (m2 : ¬ x3 < 0 → x3 < x12 → x9 = 0)
    (g1 : x3 < 0 ∨ 4 < x3 ∨ x14 = 0 → x10 = -1) (g2 : ¬ x3 < 0 → ¬ 4 < x3 → ¬ x14 = 0 → x10 = 0)
    (h1 : x13 = 0 ∨ x15 = 0 → x11 = -1) (h2 : ¬ x13 = 0 → ¬ x15 = 0 → x11 = 0) (hp : post 1 ()) :
    wL_lawOf_136 post mc ms x1 x2 x3 x6 x7 x8 x9 x10 x11 x12 x13 x14 x15 kc ks := by
  have Z : wL_lawOf_217 post mc ms x3 x9 x10 x11 x12 x13 x14 x15 kc ks := rm_217 m1 m2 g1 g2 h1 h2 hp
  have Y : ∀ z, x7 = z → wL_lawOf_157 post mc ms x1 x2 x3 x8 x9 x10 x11 x12 x13 x14 x15 z x7 kc ks := fun z hz =>
    br_t hz (br_c (fun e => br_t (o1 (Or.inl e)) Z) (fun e => br_c (fun e' => br_t (o1 (Or.inr (Or.inl e'))) Z) (fun e' => br_c (fun e'' => br_t (o1 (Or.inr (Or.inr e''))) Z) (fun e'' => by
      obtain ⟨q1, q2, q3⟩ := o2 e e' e''
      exact br_f q1 (br_f q2 (br_c (fun w => br_t (q3.mp w) (br_t rfl Z)) (fun w => br_f (fun v => w (q3.mpr v)) (br_t rfl Z))))))))
  exact br_t h6 (br_c (fun e => Y _ (t1 e)) (fun e => Y _ (t2 e)))
theorem rm_72 {post : Int32 → St0 → Prop} {mc ms kc ks : Nat} {x1 x2 x3 x4 x6 x7 x8 x9 x10 x11 x12 : Int32}
    (hn : x12 = 1 ∨ x12 = 2) (h6 : x6 = x12) (t1 : rm_O x1 → x7 = -1) (t2 : ¬ rm_O x1 → x7 = x1)
    (o1 : rm_O x1 ∨ rm_O x2 ∨ x2 = 0 → x8 = -1) (o2 : ¬ rm_O x1 → ¬ rm_O x2 → ¬ x2 = 0 → ¬ x8 < 0 ∧ ¬ 31 < x8 ∧ (x8 = 0 ↔ x1 = 0))
    (m1 : x3 < 0 ∨ ¬ x3 < x12 → x9 = -1) (m2 : ¬ x3 < 0 → x3 < x12 → x9 = 0)
    (g1 : x3 < 0 ∨ 4 < x3 ∨ rm_O x2 → x10 = -1) (g2 : ¬ x3 < 0 → ¬ 4 < x3 → ¬ rm_O x2 → x10 = 0)
    (h1 : rm_O x1 ∨ rm_O x4 ∨ (x12 = 1 ∧ ¬ x4 = 0) → x11 = -1) (h2 : ¬ (rm_O x1 ∨ rm_O x4 ∨ (x12 = 1 ∧ ¬ x4 = 0)) → x11 = 0) (hp : post 1 ()) :
    wL_lawOf_72 post mc ms x1 x2 x3 x4 x6 x7 x8 x9 x10 x11 x12 kc ks := by
  have A : ∀ z13 z14 z15 : Int32, (z13 = 0 ↔ rm_O x1) → (z14 = 0 ↔ rm_O x2) → (z15 = 0 ↔ rm_O x4 ∨ (x12 = 1 ∧ ¬ x4 = 0)) → wL_lawOf_136 post mc ms x1 x2 x3 x6 x7 x8 x9 x10 x11 x12 z13 z14 z15 kc ks :=
    fun z13 z14 z15 e13 e14 e15 => rm_136 h6 (fun e => t1 (e13.mp e)) (fun e => t2 (fun w => e (e13.mpr w)))
      (fun e => o1 (e.elim (fun w => Or.inl (e13.mp w)) (fun e => e.elim (fun w => Or.inr (Or.inl (e14.mp w))) (fun w => Or.inr (Or.inr w)))))
      (fun e e' => o2 (fun w => e (e13.mpr w)) (fun w => e' (e14.mpr w))) m1 m2
      (fun e => g1 (e.elim Or.inl (fun e => e.elim (fun w => Or.inr (Or.inl w)) (fun w => Or.inr (Or.inr (e14.mp w))))))
      (fun e e' e'' => g2 e e' (fun w => e'' (e14.mpr w)))
      (fun e => h1 (e.elim (fun w => Or.inl (e13.mp w)) (fun w => Or.inr (e15.mp w))))
      (fun e e' => h2 (fun w => w.elim (fun w => e (e13.mpr w)) (fun w => e' (e15.mpr w)))) hp
  have n1 : ¬ (1 : Int32) = 0 := by decide
  have B : ∀ z13 z14 : Int32, (z13 = 0 ↔ rm_O x1) → (z14 = 0 ↔ rm_O x2) → wL_lawOf_106 post mc ms x1 x2 x3 x4 x6 x7 x8 x9 x10 x11 x12 z13 z14 kc ks := fun z13 z14 e13 e14 =>
    br_c (fun w => A z13 z14 0 e13 e14 ⟨fun _ => Or.inl (Or.inl w), fun _ => rfl⟩) (fun w => br_c (fun w' => A z13 z14 0 e13 e14 ⟨fun _ => Or.inl (Or.inr w'), fun _ => rfl⟩) (fun w' => by
      have no : ¬ rm_O x4 := fun o => o.elim w w'
      refine br_c (fun v => A z13 z14 1 e13 e14 ⟨fun z => absurd z n1, fun z => z.elim (fun o => absurd o no) (fun o => ?_)⟩) (fun v => br_c (fun v' => A z13 z14 1 e13 e14 ⟨fun z => absurd z n1, fun z => z.elim (fun o => absurd o no) (fun o => absurd v' o.2)⟩) (fun v' => A z13 z14 0 e13 e14 ⟨fun _ => Or.inr ⟨hn.elim (fun q => q) (fun q => absurd q v), v'⟩, fun _ => rfl⟩))
      rw [v] at o
      exact absurd o.1 (by decide)))
  have C : ∀ z13 : Int32, (z13 = 0 ↔ rm_O x1) → wL_lawOf_89 post mc ms x1 x2 x3 x4 x6 x7 x8 x9 x10 x11 x12 z13 kc ks := fun z13 e13 =>
    br_c (fun w => B z13 0 e13 ⟨fun _ => Or.inl w, fun _ => rfl⟩) (fun w => br_c (fun w' => B z13 0 e13 ⟨fun _ => Or.inr w', fun _ => rfl⟩) (fun w' => B z13 1 e13 ⟨fun z => absurd z n1, fun o => absurd o (fun o => o.elim w w')⟩))
  exact br_c (fun w => C 0 ⟨fun _ => Or.inl w, fun _ => rfl⟩) (fun w => br_c (fun w' => C 0 ⟨fun _ => Or.inr w', fun _ => rfl⟩) (fun w' => C 1 ⟨fun z => absurd z n1, fun o => absurd o (fun o => o.elim w w')⟩))
theorem rm_C0 : rm_C (fun _ => 0) := fun _ _ _ _ => ⟨0, by omega, rfl, fun _ => rfl⟩
theorem rm_law {post : Int32 → St0 → Prop} (p0 p1 p2 p3 p4 : Int32) (hp : post 1 ()) : wpL_lawOf post 100 1584 () p0 p1 p2 p3 p4 := by
  refine ⟨by omega, by omega, 99, 1574, by omega, by omega, ?_⟩
  refine rm_init (fun k s1 s2 hk h2 hT => ?_)
  have hK : rm_K (nI k) (nI (3 - k)) := ⟨k, 3 - k, by omega, by omega, by omega, rfl, rfl⟩
  refine rm_times hT (fun r36 t1 t2 => rm_over hT (fun r37 o1 o2 => rm_msg hK hT (fun _ _ => rfl) rm_C0 (fun _ _ => rfl) (fun r38 s4 s5 s6 s7 s8 m1 m2 => rm_put (fun _ _ => rfl) (fun r65 s3 g1 g2 => rm_enc hT (fun r92 s3' q1 q2 => ?_)))))
  rcases hk with e | e
  · subst e
    exact br_f (fun z => absurd (h2.mp z) (by omega)) (rm_72 (Or.inl rfl) rfl t1 t2 o1 o2 m1 m2 g1 g2 q1 q2 hp)
  · subst e
    exact br_t (h2.mpr rfl) (rm_72 (Or.inr rfl) rfl t1 t2 o1 o2 m1 m2 g1 g2 q1 q2 hp)
theorem rm_cell {post : Int32 → Prop} {L : Nat} {xs : Nat → Int32} (i : Nat) (hi : i < 5) (hL : L ≤ 5) (H : ∀ v, post v) : wpL_cellAt post L xs () (nI i) :=
  pk_le L i (fun _ => H _) (fun z => ⟨pk_in i L z, H _⟩)
theorem i_vc (xs : Nat → Int32) (L : Nat) (hL : L ≤ 5) : wpL_law (fun r => r = 1) L xs := by
  unfold wpL_law
  exact rm_cell 0 (by omega) hL (fun r1 => rm_cell 1 (by omega) hL (fun r2 => rm_cell 2 (by omega) hL (fun r3 => rm_cell 3 (by omega) hL (fun r4 => rm_cell 4 (by omega) hL (fun r5 => ⟨100, 1584, by omega, by omega, rm_law r1 r2 r3 r4 r5 rfl⟩)))))
end
