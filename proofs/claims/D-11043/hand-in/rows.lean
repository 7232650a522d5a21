section
theorem ld_60 (x : Int32) : (6 : Int32) * 0 + x = x := by
  rw [Int32.mul_zero, Int32.zero_add]
theorem ld_fill {f s : Nat → Int32} {i k : Nat} {x : Int32} (hk : k = i) (h : ∀ j, j < i → s j = f j) (hx : x = f i) : ∀ j, j < i + 1 → upd s k x j = f j := by
  intro j hj
  rw [hk]
  by_cases e : j = i
  · rw [e, pk_us, hx]
  · rw [pk_un e]
    exact h j (by omega)
theorem ld_neg {x : Int32} (h : x = -1) : x < 0 := by
  rw [h]
  decide
/-! the constructor -/
theorem ld_i201 {post : St2 → Prop} {mc ms kc ks : Nat} {c fb fr ab ac pl op ch st ns ls : Int32} {a1 a2 a3 a4 a5 a6 a7 a8 a9 a10 a11 a12 a13 a14 a15 : Nat → Int32} (H : ∀ b7, post (c, fb, fr, ab, ac, (-1), op, ch, st, ns, ls, a1, a2, a3, a4, a5, a6, b7, a8, a9, a10, a11, a12, a13, a14, a15)) : ∃ n, wX_init_201 post mc ms kc ks c fb fr ab ac pl op ch st ns ls n 0 a1 a2 a3 a4 a5 a6 a7 a8 a9 a10 a11 a12 a13 a14 a15 :=
  pk_loop (fun n i s => wX_init_201 post mc ms kc ks c fb fr ab ac pl op ch st ns ls n (nI i) a1 a2 a3 a4 a5 a6 s a8 a9 a10 a11 a12 a13 a14 a15) (fun _ _ => True) 4 0 a7 (by omega) trivial
    (fun n s _ => pk_le 4 4 (fun _ => H s) (fun z => absurd z (by omega)))
    (fun n i s hi _ hw => pk_le 4 i (fun z => absurd z (by omega)) (fun _ => ⟨pk_in i 4 hi, nm_e (nm_r (nI_1 i) (hw _ trivial))⟩))
theorem ld_i156 {post : St2 → Prop} {mc ms kc ks : Nat} {c fb fr ab ac pl op ch st ns ls : Int32} {a1 a2 a3 a4 a5 a6 a7 a8 a9 a10 a11 a12 a13 a14 a15 : Nat → Int32} (H : ∀ b4 b7, b4 0 = -1 → post (c, fb, 1, ab, ac, (-1), op, ch, st, ns, ls, a1, a2, a3, b4, a5, a6, b7, a8, a9, a10, a11, a12, a13, a14, a15)) : ∃ n, wX_init_156 post mc ms kc ks c fb fr ab ac pl op ch st ns ls n 1 a1 a2 a3 a4 a5 a6 a7 a8 a9 a10 a11 a12 a13 a14 a15 :=
  pk_loop (fun n i s => wX_init_156 post mc ms kc ks c fb fr ab ac pl op ch st ns ls n (nI i) a1 a2 a3 s a5 a6 a7 a8 a9 a10 a11 a12 a13 a14 a15) (fun _ _ => True) 32 1 a4 (by omega) trivial
    (fun n s _ => pk_le 32 32 (fun _ => nm_e (ld_i201 (fun b7 => H _ b7 pk_us))) (fun z => absurd z (by omega)))
    (fun n i s hi _ hw => pk_le 32 i (fun z => absurd z (by omega)) (fun _ => br_c
      (fun _ => ⟨pk_in i 32 hi, nm_e (nm_r (nI_1 i) (hw _ trivial))⟩)
      (fun _ => ⟨pk_in i 32 hi, nm_e (nm_r (nI_1 i) (hw _ trivial))⟩)))
theorem ld_i134 {post : St2 → Prop} {mc ms kc ks : Nat} {c fb fr ab ac pl op ch st ns ls : Int32} {a1 a2 a3 a4 a5 a6 a7 a8 a9 a10 a11 a12 a13 a14 a15 : Nat → Int32} (H : ∀ b2 b4 b7, (∀ j, j < 128 → b2 j = -1) → b4 0 = -1 → post (c, fb, 1, ab, ac, (-1), op, ch, st, ns, ls, a1, b2, a3, b4, a5, a6, b7, a8, a9, a10, a11, a12, a13, a14, a15)) : ∃ n, wX_init_134 post mc ms kc ks c fb fr ab ac pl op ch st ns ls n 0 a1 a2 a3 a4 a5 a6 a7 a8 a9 a10 a11 a12 a13 a14 a15 :=
  pk_loop (fun n i s => wX_init_134 post mc ms kc ks c fb fr ab ac pl op ch st ns ls n (nI i) a1 s a3 a4 a5 a6 a7 a8 a9 a10 a11 a12 a13 a14 a15) (fun i s => ∀ j, j < i → s j = -1) 128 0 a2 (by omega) (fun j hj => absurd hj (by omega))
    (fun n s h => pk_le 128 128 (fun _ => ld_i156 (fun b4 b7 h4 => H s b4 b7 h h4)) (fun z => absurd z (by omega)))
    (fun n i s hi h hw => pk_le 128 i (fun z => absurd z (by omega)) (fun _ => ⟨pk_in i 128 hi, nm_e (nm_r (nI_1 i) (hw _ (ld_fill (f := fun _ => -1) (nI_clamp (by omega)) h rfl)))⟩))
theorem ld_init {post : St2 → Prop} {mc ms : Nat} {c fb fr ab ac pl op ch st ns ls : Int32} (hc : 15 ≤ mc) (hs : 1548 ≤ ms)
    (H : ∀ b2 b4 b7, (∀ j, j < 128 → b2 j = -1) → b4 0 = -1 → post (c, fb, 1, ab, ac, -1, op, ch, st, ns, ls, (fun _ => 0), b2, (fun _ => 0), b4, (fun _ => 0), (fun _ => 0), b7, (fun _ => 0), (fun _ => 0), (fun _ => 0), (fun _ => 0), (fun _ => 0), (fun _ => 0), (fun _ => 0), (fun _ => 0))) :
    wpX_init post mc ms (c, fb, fr, ab, ac, pl, op, ch, st, ns, ls) := by
  unfold wpX_init
  refine ⟨by omega, by omega, by omega, by omega, by omega, by omega, by omega, by omega, by omega, by omega, by omega, by omega, by omega, by omega, by omega, by omega, by omega, by omega, by omega, by omega, by omega, by omega, by omega, by omega, by omega, by omega, by omega, by omega, by omega, by omega, ?_⟩
  exact ld_i134 H
/-! beginChange, freshLine, note, walkTo, joinSmall -/
theorem ld_b34 {post : St2 → Prop} {c fb fr ab ac pl op ch st ns ls : Int32} {a1 a2 a3 a4 a5 a6 a7 a8 a9 a10 a11 a12 a13 a14 a15 : Nat → Int32} (H : ∀ b8, post (c, fb, fr, ab, ac, pl, pl, ch, st, ns, ls, a1, a2, a3, a4, a5, a6, a7, b8, a9, a10, a11, a12, a13, a14, a15)) : ∃ n, wX_beginChange_34 post c fb fr ab ac pl op ch st ns ls n 0 a1 a2 a3 a4 a5 a6 a7 a8 a9 a10 a11 a12 a13 a14 a15 :=
  pk_loop (fun n i s => wX_beginChange_34 post c fb fr ab ac pl op ch st ns ls n (nI i) a1 a2 a3 a4 a5 a6 a7 s a9 a10 a11 a12 a13 a14 a15) (fun _ _ => True) 4 0 a8 (by omega) trivial
    (fun n s _ => pk_le 4 4 (fun _ => H s) (fun z => absurd z (by omega)))
    (fun n i s hi _ hw => pk_le 4 i (fun z => absurd z (by omega)) (fun _ => ⟨pk_in i 4 hi, pk_in i 4 hi, nm_e (nm_r (nI_1 i) (hw _ trivial))⟩))
theorem ld_begin {post : St2 → Prop} {c fb fr ab ac pl op ch st ns ls : Int32} {a1 a2 a3 a4 a5 a6 a7 a8 a9 a10 a11 a12 a13 a14 a15 : Nat → Int32} (H : ∀ b3 b8, (∀ j, j < 128 → b3 j = 0) → post (c, fb, fr, ab, ac, pl, pl, 1, 0, ns, ls, a1, a2, b3, a4, a5, a6, a7, b8, a9, a10, a11, a12, a13, a14, a15)) : wpX_beginChange post (c, fb, fr, ab, ac, pl, op, ch, st, ns, ls, a1, a2, a3, a4, a5, a6, a7, a8, a9, a10, a11, a12, a13, a14, a15) :=
  pk_loop (fun n i s => wX_beginChange_12 post c fb fr ab ac pl op 1 0 ns ls n (nI i) a1 a2 s a4 a5 a6 a7 a8 a9 a10 a11 a12 a13 a14 a15) (fun i s => ∀ j, j < i → s j = 0) 128 0 a3 (by omega) (fun j hj => absurd hj (by omega))
    (fun n s h => pk_le 128 128 (fun _ => ld_b34 (fun b8 => H s b8 h)) (fun z => absurd z (by omega)))
    (fun n i s hi h hw => pk_le 128 i (fun z => absurd z (by omega)) (fun _ => ⟨pk_in i 128 hi, nm_e (nm_r (nI_1 i) (hw _ (ld_fill (f := fun _ => 0) (nI_clamp (by omega)) h rfl)))⟩))
theorem ld_fresh {post : Int32 → St2 → Prop} {c fb fr ab ac pl op ch st ns ls : Int32} {a1 a2 a3 a4 a5 a6 a7 a8 a9 a10 a11 a12 a13 a14 a15 : Nat → Int32} {m : Nat} {v : Int32} (hm : m < 128) (h3 : ∀ j, j < 128 → a3 j = 0) (h2 : ∀ j, j < 128 → a2 j = if j < m then 0 else -1)
    (H : post (nI m) (c, fb, fr, ab, ac, pl, op, ch, st, ns, ls, upd a1 m v, a2, a3, a4, a5, a6, a7, a8, a9, a10, a11, a12, a13, a14, a15)) : wpX_freshLine post (c, fb, fr, ab, ac, pl, op, ch, st, ns, ls, a1, a2, a3, a4, a5, a6, a7, a8, a9, a10, a11, a12, a13, a14, a15) v := by
  refine ⟨129, pk_loopD (fun n i s => wX_freshLine_5 post v c fb fr ab ac pl op ch st ns ls a1 a2 a3 a4 a5 a6 a7 a8 a9 a10 a11 a12 a13 a14 a15 n s (nI i + (-1))) (fun i s => i ≤ 128 ∧ (i ≤ m → s = nI m)) ?_ ?_ 128 0 ⟨by omega, fun z => absurd z (by omega)⟩⟩
  · intro n s h
    have hs := h.2 (by omega)
    subst hs
    refine br_t (by decide) ⟨pk_in m 128 hm, nm_r (e' := upd a1 m v) (by rw [nI_clamp (by omega)]) H⟩
  · intro n i s h hw
    show wX_freshLine_5 post v c fb fr ab ac pl op ch st ns ls a1 a2 a3 a4 a5 a6 a7 a8 a9 a10 a11 a12 a13 a14 a15 (n + 1) s (nI (i + 1) + (-1))
    rw [pk_m1]
    have hi : i < 128 := by omega
    have e2 : a2 (nI i).toNatClampNeg = if i < m then 0 else -1 := by rw [nI_clamp (by omega)]; exact h2 i hi
    have e3 : a3 (nI i).toNatClampNeg = 0 := by rw [nI_clamp (by omega)]; exact h3 i hi
    refine br_f (nI_pos (by omega)) ⟨pk_in i 128 hi, ?_⟩
    by_cases z : i < m
    · rw [if_pos z] at e2
      exact br_t (by rw [e2]; decide) (nm_e (hw s ⟨by omega, fun _ => h.2 (by omega)⟩))
    · rw [if_neg z] at e2
      exact br_f (by rw [e2]; decide) ⟨pk_in i 128 hi, br_t e3 (nm_e (hw (nI i) ⟨by omega, fun z' => by rw [show i = m by omega]⟩))⟩
theorem ld_note {post : St2 → Prop} {c fb fr ab ac pl op ch ns ls : Int32} {a1 a2 a3 a4 a5 a6 a7 a8 a9 a10 a11 a12 a13 a14 a15 : Nat → Int32} {p0 p1 p2 : Int32} {k : Nat} (hk : k < 140) (H : post (c, fb, fr, ab, ac, pl, op, ch, nI (k + 1), ns, ls, a1, a2, a3, a4, a5, a6, a7, a8, upd a9 k p0, upd a10 k p1, upd a11 k p2, a12, a13, a14, a15)) : wpX_note post (c, fb, fr, ab, ac, pl, op, ch, nI k, ns, ls, a1, a2, a3, a4, a5, a6, a7, a8, a9, a10, a11, a12, a13, a14, a15) p0 p1 p2 := by
  have e : (nI k).toNatClampNeg = k := nI_clamp (by omega)
  exact ⟨pk_in k 140 hk, nm_r (e' := upd a9 k p0) (by rw [e]) ⟨pk_in k 140 hk, nm_r (e' := upd a10 k p1) (by rw [e]) ⟨pk_in k 140 hk, nm_r (e' := upd a11 k p2) (by rw [e]) (nm_r (nI_1 k) H)⟩⟩⟩
theorem ld_walk {post : St2 → Prop} {c fr ab ac pl op ch st ns ls : Int32} {a1 a2 a3 a4 a5 a6 a7 a8 a9 a10 a11 a12 a13 a14 a15 : Nat → Int32} {p q : Int32} (h4 : a4 0 < 0) (hp : p - 1 = q) (H : post (c, 0, fr, 0, q, pl, op, ch, st, ns, ls, a1, a2, a3, a4, a5, a6, a7, a8, a9, a10, a11, a12, a13, a14, a15)) : wpX_walkTo post (c, 0, fr, ab, ac, pl, op, ch, st, ns, ls, a1, a2, a3, a4, a5, a6, a7, a8, a9, a10, a11, a12, a13, a14, a15) p := by
  unfold wpX_walkTo
  exact nm_r hp ⟨1, br_f (by decide) ⟨pk_in 0 32 (by omega), br_c (fun _ => H) (fun _ => ⟨pk_in 0 32 (by omega), br_t h4 H⟩)⟩⟩
theorem ld_join {post : St2 → Prop} {c fr ab ac pl op ch st ns ls : Int32} {a1 a2 a3 a4 a5 a6 a7 a8 a9 a10 a11 a12 a13 a14 a15 : Nat → Int32} (h4 : a4 0 < 0) (H : post (c, 0, fr, ab, ac, pl, op, ch, st, ns, ls, a1, a2, a3, a4, a5, a6, a7, a8, a9, a10, a11, a12, a13, a14, a15)) : wpX_joinSmall post (c, 0, fr, ab, ac, pl, op, ch, st, ns, ls, a1, a2, a3, a4, a5, a6, a7, a8, a9, a10, a11, a12, a13, a14, a15) := by
  unfold wpX_joinSmall
  exact ⟨1, br_f (by decide) ⟨pk_in 0 32 (by omega), br_t h4 H⟩⟩
end
section
/-! putIn and takeOut in the one block -/
theorem ld_p52 {post : St2 → Prop} {fr ab pl op ch st ns ls : Int32} {a1 a2 a3 a4 a5 a6 a7 a8 a9 a10 a11 a12 a13 a14 a15 : Nat → Int32} {d j cn : Nat} (hd : d < 128) (hj : j ≤ cn) (hn : cn ≤ 5) (h4 : a4 0 < 0) (h5 : a5 0 = nI cn)
    (H : ∀ b6, (∀ q, q < j → b6 q = a6 q) → b6 j = nI d → (∀ q, j < q → q ≤ cn → b6 q = a6 (q - 1)) → post (nI (cn + 1), 0, fr, ab, nI j, pl, op, ch, st, ns, ls, a1, upd a2 d 0, a3, a4, upd a5 0 (nI (cn + 1)), b6, a7, a8, a9, a10, a11, a12, a13, a14, a15)) :
    ∃ n, wX_putIn_52 post (nI d) 0 (nI cn) 0 fr ab (nI j) pl op ch st ns ls n (nI cn) a1 a2 a3 a4 a5 a6 a7 a8 a9 a10 a11 a12 a13 a14 a15 := by
  have key := pk_loopD (fun n i s => wX_putIn_52 post (nI d) 0 (nI cn) 0 fr ab (nI j) pl op ch st ns ls n (nI (j + i)) a1 a2 a3 a4 a5 s a7 a8 a9 a10 a11 a12 a13 a14 a15)
    (fun i s => j + i ≤ cn ∧ (∀ q, q ≤ j + i → s q = a6 q) ∧ (∀ q, j + i < q → q ≤ cn → s q = a6 (q - 1))) ?_ ?_ (cn - j) a6 ⟨by omega, fun q _ => rfl, fun q h1 h2 => absurd h1 (by omega)⟩
  · refine ⟨cn - j + 1, ?_⟩
    have e : j + (cn - j) = cn := by omega
    have key' : wX_putIn_52 post (nI d) 0 (nI cn) 0 fr ab (nI j) pl op ch st ns ls (cn - j + 1) (nI (j + (cn - j))) a1 a2 a3 a4 a5 a6 a7 a8 a9 a10 a11 a12 a13 a14 a15 := key
    rw [e] at key'
    exact key'
  · intro n s h
    obtain ⟨_, h1, h2⟩ := h
    show wX_putIn_52 post (nI d) 0 (nI cn) 0 fr ab (nI j) pl op ch st ns ls (n + 1) (nI j) a1 a2 a3 a4 a5 s a7 a8 a9 a10 a11 a12 a13 a14 a15
    refine pk_le j j (fun _ => ?_) (fun z => absurd z (by omega))
    refine ⟨by rw [ld_60]; exact pk_in j 192 (by omega), nm_r (e' := upd s j (nI d)) (by rw [ld_60, nI_clamp (by omega)]) ?_⟩
    refine ⟨pk_in 0 32 (by omega), pk_in 0 32 (by omega), nm_r (e' := upd a5 0 (nI (cn + 1))) (by show upd a5 0 (a5 0 + 1) = _; rw [h5, nI_1]) ?_⟩
    refine ⟨pk_in d 128 hd, nm_r (e' := upd a2 d 0) (by rw [nI_clamp (by omega)]) (nm_r (nI_1 cn) (ld_join h4 ?_))⟩
    refine H (upd s j (nI d)) (fun q hq => ?_) pk_us (fun q hq hq2 => ?_)
    · rw [pk_un (by omega)]
      exact h1 q (by omega)
    · rw [pk_un (by omega)]
      exact h2 q (by omega) hq2
  · intro n i s h hw
    obtain ⟨h0, h1, h2⟩ := h
    show wX_putIn_52 post (nI d) 0 (nI cn) 0 fr ab (nI j) pl op ch st ns ls (n + 1) (nI (j + i + 1)) a1 a2 a3 a4 a5 s a7 a8 a9 a10 a11 a12 a13 a14 a15
    refine pk_le (j + i + 1) j (fun z => absurd z (by omega)) (fun _ => ?_)
    refine ⟨by rw [ld_60, nI_pred]; exact pk_in (j + i) 192 (by omega), by rw [ld_60]; exact pk_in (j + i + 1) 192 (by omega), nm_r (e' := upd s (j + i + 1) (s (j + i))) (by rw [ld_60, nI_pred, nI_clamp (by omega), nI_clamp (by omega)]) (nm_r (pk_m1 (j + i)) (hw _ ⟨by omega, fun q hq => ?_, fun q hq hq2 => ?_⟩))⟩
    · rw [pk_un (by omega)]
      exact h1 q (by omega)
    · by_cases z : q = j + i + 1
      · rw [z, pk_us]
        exact h1 (j + i) (by omega)
      · rw [pk_un z]
        exact h2 q (by omega) hq2
theorem ld_putIn {post : St2 → Prop} {fr ab ac pl op ch st ns ls : Int32} {a1 a2 a3 a4 a5 a6 a7 a8 a9 a10 a11 a12 a13 a14 a15 : Nat → Int32} {p : Int32} {d j cn k : Nat} (hd : d < 128) (hj : j ≤ cn) (hn : cn ≤ 5) (hk : k < 140) (h4 : a4 0 < 0) (h5 : a5 0 = nI cn) (hs : st = nI k) (hp : p = nI (j + 1))
    (H : ∀ b6, (∀ q, q < j → b6 q = a6 q) → b6 j = nI d → (∀ q, j < q → q ≤ cn → b6 q = a6 (q - 1)) → post (nI (cn + 1), 0, fr, 0, nI j, pl, op, ch, nI (k + 1), ns, ls, a1, upd a2 d 0, a3, a4, upd a5 0 (nI (cn + 1)), b6, a7, a8, upd a9 k 0, upd a10 k (nI (j + 1)), upd a11 k (nI d), a12, a13, a14, a15)) :
    wpX_putIn post (nI cn, 0, fr, ab, ac, pl, op, ch, st, ns, ls, a1, a2, a3, a4, a5, a6, a7, a8, a9, a10, a11, a12, a13, a14, a15) p (nI d) := by
  subst hs hp
  unfold wpX_putIn
  refine ld_note hk ?_
  refine ld_walk h4 (nI_pred j) ?_
  have ne : ¬ a5 0 = 6 := by
    rw [h5]
    intro z
    have := (nI_eq (a := cn) (b := 6) (by omega) (by omega)).mp z
    omega
  refine ⟨pk_in 0 32 (by omega), br_f ne ?_⟩
  exact ⟨pk_in 0 32 (by omega), nm_r h5 (ld_p52 hd hj hn h4 h5 H)⟩
theorem ld_t55 {post : Int32 → St2 → Prop} {fr ab ac pl op ch st ns ls : Int32} {a1 a2 a3 a4 a5 a6 a7 a8 a9 a10 a11 a12 a13 a14 a15 : Nat → Int32} {d j cn : Nat} (hd : d < 128) (hj : j ≤ cn) (hn : cn ≤ 5) (h4 : a4 0 < 0) (h5 : a5 0 = nI cn)
    (H : ∀ b6, (∀ q, q < j → b6 q = a6 q) → (∀ q, j ≤ q → q < cn → b6 q = a6 (q + 1)) → post (nI d) (nI cn, 0, fr, ab, ac, pl, op, ch, st, ns, ls, a1, upd a2 d (-1), a3, a4, a5, b6, a7, a8, a9, a10, a11, a12, a13, a14, a15)) :
    ∃ n, wX_takeOut_55 post 0 (nI d) (nI (cn + 1)) 0 fr ab ac pl op ch st ns ls n (nI j) a1 a2 a3 a4 a5 a6 a7 a8 a9 a10 a11 a12 a13 a14 a15 := by
  refine pk_loop (fun n i s => wX_takeOut_55 post 0 (nI d) (nI (cn + 1)) 0 fr ab ac pl op ch st ns ls n (nI i) a1 a2 a3 a4 a5 s a7 a8 a9 a10 a11 a12 a13 a14 a15)
    (fun i s => (∀ q, q < j → s q = a6 q) ∧ (∀ q, j ≤ q → q < i → s q = a6 (q + 1)) ∧ (∀ q, i ≤ q → s q = a6 q) ∧ j ≤ i) cn j a6 hj ⟨fun q _ => rfl, fun q h1 h2 => absurd h1 (by omega), fun q _ => rfl, Nat.le_refl j⟩ ?_ ?_
  · intro n s h
    obtain ⟨h0, h1, h2, _⟩ := h
    refine ⟨pk_in 0 32 (by omega), pk_le cn cn (fun _ => ?_) (fun z => absurd z (by omega)) h5⟩
    refine ⟨pk_in d 128 hd, nm_r (e' := upd a2 d (-1)) (by rw [nI_clamp (by omega)]) (nm_r (nI_pred cn) (ld_join h4 ?_))⟩
    exact H s h0 h1
  · intro n i s hi h hw
    obtain ⟨h0, h1, h2, hji⟩ := h
    refine ⟨pk_in 0 32 (by omega), pk_le cn i (fun z => absurd z (by omega)) (fun _ => ?_) h5⟩
    refine ⟨by rw [ld_60, nI_1]; exact pk_in (i + 1) 192 (by omega), by rw [ld_60]; exact pk_in i 192 (by omega), nm_r (e' := upd s i (s (i + 1))) (by rw [ld_60, nI_1, nI_clamp (by omega), nI_clamp (by omega)]) (nm_r (nI_1 i) (hw _ ⟨fun q hq => ?_, fun q hq hq2 => ?_, fun q hq => ?_, by omega⟩))⟩
    · rw [pk_un (by omega)]
      exact h0 q hq
    · by_cases z : q = i
      · rw [z, pk_us]
        exact h2 (i + 1) (by omega)
      · rw [pk_un z]
        exact h1 q hq (by omega)
    · rw [pk_un (by omega)]
      exact h2 q (by omega)
theorem ld_takeOut {post : Int32 → St2 → Prop} {fr ab ac pl op ch st ns ls : Int32} {a1 a2 a3 a4 a5 a6 a7 a8 a9 a10 a11 a12 a13 a14 a15 : Nat → Int32} {p : Int32} {d j cn k : Nat} (hd : d < 128) (hj : j ≤ cn) (hn : cn ≤ 5) (hk : k < 140) (h4 : a4 0 < 0) (h5 : a5 0 = nI (cn + 1)) (h6 : a6 j = nI d) (hs : st = nI k) (hp : p = nI (j + 1))
    (H : ∀ b6, (∀ q, q < j → b6 q = a6 q) → (∀ q, j ≤ q → q < cn → b6 q = a6 (q + 1)) → post (nI d) (nI cn, 0, fr, 0, nI j, pl, op, ch, nI (k + 1), ns, ls, a1, upd a2 d (-1), upd a3 d 1, a4, upd a5 0 (nI cn), b6, a7, a8, upd a9 k 1, upd a10 k (nI (j + 1)), upd a11 k (nI d), a12, a13, a14, a15)) :
    wpX_takeOut post (nI (cn + 1), 0, fr, ab, ac, pl, op, ch, st, ns, ls, a1, a2, a3, a4, a5, a6, a7, a8, a9, a10, a11, a12, a13, a14, a15) p := by
  subst hs hp
  unfold wpX_takeOut
  refine ld_walk h4 (nI_pred j) ?_
  refine ⟨by rw [ld_60]; exact pk_in j 192 (by omega), nm_r (e' := nI d) (by rw [ld_60, nI_clamp (by omega)]; exact h6) ?_⟩
  refine ld_note hk ?_
  refine ⟨pk_in d 128 hd, nm_r (e' := upd a3 d 1) (by rw [nI_clamp (by omega)]) ?_⟩
  refine ⟨pk_in 0 32 (by omega), pk_in 0 32 (by omega), nm_r (e' := upd a5 0 (nI cn)) (by show upd a5 0 (a5 0 - 1) = _; rw [h5, nI_pred]) ?_⟩
  exact ld_t55 hd hj hn h4 pk_us H
end
section
/-- the picture: one block of n lines, their ids cs 0 .. cs (n - 1), the ids below n in the text and no others -/
def ld_K (n : Nat) (cs : Nat → Nat) (a2 a4 a5 a6 : Nat → Int32) : Prop :=
  a4 0 < 0 ∧ a5 0 = nI n ∧ (∀ k, k < 128 → a2 k = if k < n then 0 else -1) ∧ (∀ i, i < n → cs i < n ∧ a6 i = nI (cs i))
theorem ld_line {post : Int32 → St2 → Prop} {fr ab ac pl op ch st ns ls : Int32} {a1 a2 a3 a4 a5 a6 a7 a8 a9 a10 a11 a12 a13 a14 a15 : Nat → Int32} {p : Int32} {n q : Nat} {cs : Nat → Nat} (hn : n ≤ 6) (hq : q < n) (K : ld_K n cs a2 a4 a5 a6) (hp : p = nI (q + 1))
    (H : ∀ e1 e2, post (a1 (cs q)) (nI n, 0, fr, e1, e2, pl, op, ch, st, ns, ls, a1, a2, a3, a4, a5, a6, a7, a8, a9, a10, a11, a12, a13, a14, a15)) : wpX_line post (nI n, 0, fr, ab, ac, pl, op, ch, st, ns, ls, a1, a2, a3, a4, a5, a6, a7, a8, a9, a10, a11, a12, a13, a14, a15) p := by
  subst hp
  obtain ⟨h4, h5, h2, h6⟩ := K
  obtain ⟨hc, hcs⟩ := h6 q hq
  unfold wpX_line
  refine pk_lt (q + 1) 1 (fun z => absurd z (by omega)) (fun _ => pk_le (q + 1) n (fun _ => ?_) (fun z => absurd z (by omega)))
  unfold wpX_lineAt
  refine ld_walk h4 (nI_pred q) ?_
  have e : a6 ((6 : Int32) * 0 + nI q).toNatClampNeg = nI (cs q) := by rw [ld_60, nI_clamp (by omega)]; exact hcs
  refine ⟨by rw [ld_60]; exact pk_in q 192 (by omega), by rw [e]; exact pk_in (cs q) 128 (by omega), ?_⟩
  rw [e, nI_clamp (show cs q < 2 ^ 31 by omega)]
  exact H _ _
theorem ld_n50 {post : Int32 → Prop} {c fb fr ab ac pl op ch st ns ls : Int32} {a1 a2 a3 a4 a5 a6 a7 a8 a9 a10 a11 a12 a13 a14 a15 : Nat → Int32} {n t g : Nat} {cs : Nat → Nat} (hn : n ≤ 6) (ht : t < n) (h5 : a5 0 = nI n) (h6 : ∀ i, i < n → cs i < n ∧ a6 i = nI (cs i)) (hg : cs t = g) (hne : ∀ i, i < t → cs i ≠ g)
    (H : post (nI (t + 1))) : ∃ m, wX_numberOf_50 post (nI g) 0 0 c fb fr ab ac pl op ch st ns ls a1 a2 a3 a4 a5 a6 a7 a8 a9 a10 a11 a12 a13 a14 a15 m 0 := by
  have hgn : g < n := by rw [← hg]; exact (h6 t ht).1
  refine pk_loop (σ := Unit) (fun m i _ => wX_numberOf_50 post (nI g) 0 0 c fb fr ab ac pl op ch st ns ls a1 a2 a3 a4 a5 a6 a7 a8 a9 a10 a11 a12 a13 a14 a15 m (nI i)) (fun _ _ => True) t 0 () (by omega) trivial ?_ ?_
  · intro m _ _
    have e : a6 ((6 : Int32) * 0 + nI t).toNatClampNeg = nI g := by rw [ld_60, nI_clamp (by omega), (h6 t ht).2, hg]
    refine ⟨pk_in 0 32 (by omega), pk_le n t (fun z => absurd z (by omega)) (fun _ => ⟨by rw [ld_60]; exact pk_in t 192 (by omega), br_t e ?_⟩) h5⟩
    rw [Int32.zero_add, nI_1]
    exact H
  · intro m i _ hi _ hw
    have e : ¬ a6 ((6 : Int32) * 0 + nI i).toNatClampNeg = nI g := by
      rw [ld_60, nI_clamp (by omega), (h6 i (by omega)).2]
      intro z
      exact hne i hi ((nI_eq (by have := (h6 i (by omega)).1; omega) (by omega)).mp z)
    exact ⟨pk_in 0 32 (by omega), pk_le n i (fun z => absurd z (by omega)) (fun _ => ⟨by rw [ld_60]; exact pk_in i 192 (by omega), br_f e (nm_r (nI_1 i) (hw () trivial))⟩) h5⟩
theorem ld_present {post : Int32 → Prop} {fr ab ac op ch st ns ls : Int32} {a1 a2 a3 a4 a5 a6 a7 a8 a9 a10 a11 a12 a13 a14 a15 : Nat → Int32} {n t g : Nat} {cs : Nat → Nat} (hn : n ≤ 6) (ht : t < n) (K : ld_K n cs a2 a4 a5 a6) (hg : cs t = g) (hne : ∀ i, i < t → cs i ≠ g)
    (H : post (nI (t + 1))) : wpX_present post (nI n, 0, fr, ab, ac, nI g, op, ch, st, ns, ls, a1, a2, a3, a4, a5, a6, a7, a8, a9, a10, a11, a12, a13, a14, a15) := by
  obtain ⟨h4, h5, h2, h6⟩ := K
  have hgn : g < n := by rw [← hg]; exact (h6 t ht).1
  have e : a2 (nI g).toNatClampNeg = 0 := by rw [nI_clamp (by omega), h2 g (by omega), if_pos hgn]
  unfold wpX_present
  refine br_t (nI_pos' (by omega)) ?_
  unfold wpX_numberOf
  exact ⟨1, br_f (by decide) ⟨pk_in g 128 (by omega), br_t e.symm ⟨pk_in g 128 (by omega), nm_r e (ld_n50 hn ht h5 h6 hg hne H)⟩⟩⟩
/-! listRange t t: one line -/
theorem ld_l21 {post : St2 → Prop} {J : Int32 → Int32 → Int32 → (Nat → Int32) → (Nat → Int32) → (Nat → Int32) → (Nat → Int32) → (Nat → Int32) → (Nat → Int32) → (Nat → Int32) → (Nat → Int32) → (Nat → Int32) → (Nat → Int32) → (Nat → Int32) → (Nat → Int32) → (Nat → Int32) → (Nat → Int32) → (Nat → Int32) → Prop}
    {c fb fr ab ac pl op ch st ns : Int32} {a1 a2 a3 a4 a5 a6 a7 a8 a9 a10 a11 a12 a13 a14 a15 : Nat → Int32} {n t : Nat} (hn : n ≤ 6) (ht : t < n) (h5 : a5 0 = nI n)
    (H : ∀ x3 b15, b15 0 = a6 t → J x3 (a4 0) 1 a1 a2 a3 a4 a5 a6 a7 a8 a9 a10 a11 a12 a13 a14 b15) : ∃ m, wX_listRange_21 post J (nI (t + 1)) (nI (t + 1)) 0 c fb fr ab ac pl op ch st ns m 0 0 0 a1 a2 a3 a4 a5 a6 a7 a8 a9 a10 a11 a12 a13 a14 a15 := by
  refine pk_loop (σ := Int32 × (Nat → Int32)) (fun m i s => wX_listRange_21 post J (nI (t + 1)) (nI (t + 1)) 0 c fb fr ab ac pl op ch st ns m (nI i) (nI i) s.1 a1 a2 a3 a4 a5 a6 a7 a8 a9 a10 a11 a12 a13 a14 s.2)
    (fun i s => (i ≤ t → s.1 = 0) ∧ (t < i → s.1 = 1 ∧ s.2 0 = a6 t)) n 0 (0, a15) (by omega) ⟨fun _ => rfl, fun z => absurd z (by omega)⟩ ?_ ?_
  · intro m s h
    obtain ⟨l, b⟩ := s
    obtain ⟨h1, h2⟩ := h.2 ht
    have h1' : l = 1 := h1
    subst h1'
    exact ⟨pk_in 0 32 (by omega), pk_le n n (fun _ => ⟨pk_in 0 32 (by omega), nm_e (H _ b h2)⟩) (fun z => absurd z (by omega)) h5⟩
  · intro m i s hi h hw
    obtain ⟨l, b⟩ := s
    refine ⟨pk_in 0 32 (by omega), pk_le n i (fun z => absurd z (by omega)) (fun _ => nm_r (nI_1 i) ?_) h5⟩
    refine pk_lt (i + 1) (t + 1) (fun z => nm_r (nI_1 i) (hw (l, b) ⟨fun _ => h.1 (by omega), fun z' => absurd z' (by omega)⟩)) (fun z => ?_)
    refine pk_lt (t + 1) (i + 1) (fun z1 => nm_r (nI_1 i) (hw (l, b) ⟨fun z' => absurd z' (by omega), fun _ => h.2 (by omega)⟩)) (fun z1 => ?_)
    have e : i = t := by omega
    have hl : l = 0 := h.1 (by omega)
    subst e hl
    exact ⟨by rw [ld_60]; exact pk_in i 192 (by omega), pk_in 0 60 (by omega), nm_r (e' := upd b 0 (a6 i)) (by rw [ld_60, nI_clamp (show i < 2 ^ 31 by omega), sb_cl0]) (nm_r (e' := 1) (by show (0 : Int32) + 1 = 1; decide) (nm_r (nI_1 i) (hw (1, upd b 0 (a6 i)) ⟨fun z' => absurd z' (by omega), fun _ => ⟨rfl, show upd b 0 (a6 i) 0 = a6 i from pk_us⟩⟩)))⟩
theorem ld_list {post : St2 → Prop} {c fr ab ac pl op ch st ns ls : Int32} {a1 a2 a3 a4 a5 a6 a7 a8 a9 a10 a11 a12 a13 a14 a15 : Nat → Int32} {n t : Nat} (hn : n ≤ 6) (ht : t < n) (h4 : a4 0 < 0) (h5 : a5 0 = nI n)
    (H : ∀ b15, b15 0 = a6 t → post (c, 0, fr, ab, ac, pl, op, ch, st, ns, 1, a1, a2, a3, a4, a5, a6, a7, a8, a9, a10, a11, a12, a13, a14, b15)) : wpX_listRange post (c, 0, fr, ab, ac, pl, op, ch, st, ns, ls, a1, a2, a3, a4, a5, a6, a7, a8, a9, a10, a11, a12, a13, a14, a15) (nI (t + 1)) (nI (t + 1)) := by
  unfold wpX_listRange
  exact ⟨2, br_f (by decide) (ld_l21 hn ht h5 (fun x3 b15 hb => br_t h4 (H b15 hb)))⟩
end
section
theorem ld_range {post : Int32 → Prop} {fb fr ab ac pl op ch st ns ls : Int32} {a1 a2 a3 a4 a5 a6 a7 a8 a9 a10 a11 a12 a13 a14 a15 : Nat → Int32} {n a b : Nat} (h1 : 1 ≤ a) (h2 : a ≤ b) (h3 : b ≤ n) (hn : n ≤ 60) (H : post 1) : wpX_isRange post (nI n, fb, fr, ab, ac, pl, op, ch, st, ns, ls, a1, a2, a3, a4, a5, a6, a7, a8, a9, a10, a11, a12, a13, a14, a15) (nI a) (nI b) := by
  unfold wpX_isRange
  exact pk_lt a 1 (fun z => absurd z (by omega)) (fun _ => pk_lt b a (fun z => absurd z (by omega)) (fun _ => pk_lt n b (fun z => absurd z (by omega)) (fun _ => H)))
/-! put, behind the last line -/
theorem ld_put {post : Int32 → St2 → Prop} {fr ab ac pl op ch st ns ls : Int32} {a1 a2 a3 a4 a5 a6 a7 a8 a9 a10 a11 a12 a13 a14 a15 : Nat → Int32} {n : Nat} {v : Int32} (hn : n ≤ 5) (K : ld_K n (fun i => i) a2 a4 a5 a6)
    (H : ∀ e1 e2 e3 e4 b2 b3 b5 b6 b8 b9 b10 b11, ld_K (n + 1) (fun i => i) b2 a4 b5 b6 → post (nI (n + 1)) (nI (n + 1), 0, fr, e1, e2, nI n, e3, 1, e4, ns, ls, upd a1 n v, b2, b3, a4, b5, b6, a7, b8, b9, b10, b11, a12, a13, a14, a15)) :
    wpX_put post (nI n, 0, fr, ab, ac, pl, op, ch, st, ns, ls, a1, a2, a3, a4, a5, a6, a7, a8, a9, a10, a11, a12, a13, a14, a15) (nI n) v := by
  obtain ⟨h4, h5, h2, h6⟩ := K
  unfold wpX_put
  refine br_f (nI_pos (by omega)) (br_f (nI_nlt (Nat.le_refl n) (by omega)) (br_t (nI_lt (b := 60) (by omega) (by decide)) ?_))
  refine ld_begin (fun b3 b8 h3 => ?_)
  refine ld_fresh (m := n) (by omega) h3 h2 ?_
  refine ld_putIn (d := n) (j := n) (cn := n) (k := 0) (by omega) (Nat.le_refl n) hn (by omega) h4 h5 rfl (nI_1 n) (fun b6 k1 k2 _ => ?_)
  show post (nI n + 1) _
  rw [nI_1]
  refine H _ _ _ _ _ _ _ _ _ _ _ _ ⟨h4, pk_us, fun k hk => ?_, fun i hi => ⟨hi, ?_⟩⟩
  · by_cases z : k = n
    · rw [z, pk_us, if_pos (by omega)]
    · rw [pk_un z, h2 k hk]
      by_cases z1 : k < n
      · rw [if_pos z1, if_pos (by omega)]
      · rw [if_neg z1, if_neg (by omega)]
  · by_cases z : i = n
    · rw [z]
      exact k2
    · rw [k1 i (by omega)]
      exact (h6 i (by omega)).2
/-! move of one line -/
/-- the ids behind a move: line g + 1 of three taken out, put in as line t + 1 -/
def ld_cs (g t q : Nat) : Nat := if q < t then (if q < g then q else q + 1) else if q = t then g else if q - 1 < g then q - 1 else q
theorem ld_csK {g t : Nat} {a2 a4 a5 a6 b5 b6 c6 : Nat → Int32} (hg : g < 3) (ht : t < 3) (K : ld_K 3 (fun i => i) a2 a4 a5 a6)
    (l1 : ∀ q, q < g → b6 q = a6 q) (l2 : ∀ q, g ≤ q → q < 2 → b6 q = a6 (q + 1)) (k1 : ∀ q, q < t → c6 q = b6 q) (k2 : c6 t = nI g) (k3 : ∀ q, t < q → q ≤ 2 → c6 q = b6 (q - 1)) (h5 : b5 0 = nI 3) :
    ld_K 3 (ld_cs g t) (upd (upd a2 g (-1)) g 0) a4 b5 c6 := by
  obtain ⟨h4, _, h2, h6⟩ := K
  refine ⟨h4, h5, fun k hk => ?_, fun q hq => ?_⟩
  · by_cases z : k = g
    · rw [z, pk_us, if_pos hg]
    · rw [pk_un z, pk_un z]
      exact h2 k hk
  · have del : ∀ p, p < 2 → b6 p = nI (if p < g then p else p + 1) := by
      intro p hp
      by_cases z : p < g
      · rw [if_pos z, l1 p z]
        exact (h6 p (by omega)).2
      · rw [if_neg z, l2 p (by omega) hp]
        exact (h6 (p + 1) (by omega)).2
    unfold ld_cs
    by_cases z : q < t
    · rw [if_pos z, k1 q z]
      refine ⟨?_, del q (by omega)⟩
      by_cases z1 : q < g
      · rw [if_pos z1]; omega
      · rw [if_neg z1]; omega
    · rw [if_neg z]
      by_cases z0 : q = t
      · rw [if_pos z0, z0]
        exact ⟨hg, k2⟩
      · rw [if_neg z0, k3 q (by omega) (by omega), del (q - 1) (by omega)]
        by_cases z1 : q - 1 < g
        · rw [if_pos z1, if_pos z1]
          exact ⟨by omega, rfl⟩
        · rw [if_neg z1, if_neg z1, show q - 1 + 1 = q by omega]
          exact ⟨hq, rfl⟩
theorem ld_m73 {post : Int32 → St2 → Prop} {J : Int32 → Int32 → Int32 → Int32 → Int32 → Int32 → Int32 → Int32 → Int32 → Int32 → Int32 → Int32 → Int32 → (Nat → Int32) → (Nat → Int32) → (Nat → Int32) → (Nat → Int32) → (Nat → Int32) → (Nat → Int32) → (Nat → Int32) → (Nat → Int32) → (Nat → Int32) → (Nat → Int32) → (Nat → Int32) → (Nat → Int32) → (Nat → Int32) → (Nat → Int32) → (Nat → Int32) → Prop} {fr ab ac pl op ch ns ls : Int32} {a1 a2 a3 a4 a5 a6 a7 a8 a9 a10 a11 a12 a13 a14 a15 : Nat → Int32} {x1 x2 x3 x5 x6 z : Int32} {g t : Nat} (hg : g < 3) (ht : t < 3) (K : ld_K 3 (fun i => i) a2 a4 a5 a6)
    (hz : z = nI (g + 1)) (hx0 : x6 = 0 → ((x3 + 1) + x5) - x1 = nI (t + 1)) (hx1 : ¬ x6 = 0 → x3 = nI (t + 1))
    (H : ∀ e1 e2 e4 b2 b3 b5 b6 b9 b10 b11, ld_K 3 (ld_cs g t) b2 a4 b5 b6 → J (nI (t + 1)) (x5 + 1) (nI 3) 0 fr e1 e2 (nI g) op ch e4 ns ls a1 b2 b3 a4 b5 b6 a7 a8 b9 b10 b11 a12 a13 a14 a15) :
    wX_move_73 post J x1 x2 x3 x5 x6 z (nI 3) 0 fr ab ac pl op ch 0 ns ls a1 a2 a3 a4 a5 a6 a7 a8 a9 a10 a11 a12 a13 a14 a15 := by
  have K' := K
  obtain ⟨h4, h5, h2, h6⟩ := K
  unfold wX_move_73
  refine ld_takeOut (d := g) (j := g) (cn := 2) (k := 0) (by omega) (by omega) (by omega) (by omega) h4 h5 (h6 g hg).2 rfl hz (fun b6 l1 l2 => ?_)
  have claim : ∀ y, y = nI (t + 1) → wX_move_95 post J x1 x2 x3 x5 (nI g) y (nI 2) 0 fr 0 (nI g) pl op ch (nI (0 + 1)) ns ls a1 (upd a2 g (-1)) (upd a3 g 1) a4 (upd a5 0 (nI 2)) b6 a7 a8 (upd a9 0 1) (upd a10 0 (nI (g + 1))) (upd a11 0 (nI g)) a12 a13 a14 a15 := by
    intro y hy
    unfold wX_move_95
    refine ld_putIn (d := g) (j := t) (cn := 2) (k := 1) (by omega) (by omega) (by omega) (by omega) h4 pk_us rfl hy (fun c6 k1 k2 k3 => nm_e ?_)
    subst hy
    exact H _ _ _ _ _ _ _ _ _ _ (ld_csK hg ht K' l1 l2 k1 k2 k3 pk_us)
  exact br_c (fun y => claim _ (hx0 y)) (fun y => claim _ (hx1 y))
theorem ld_m33 {post : Int32 → St2 → Prop} {fr ab ac pl op ch st ns ls : Int32} {a1 a2 a3 a4 a5 a6 a7 a8 a9 a10 a11 a12 a13 a14 a15 : Nat → Int32} {g t e : Nat} (hg : g < 3) (he : e < 4) (ht0 : e ≤ g → t = e) (ht1 : g < e → t + 1 = e) (K : ld_K 3 (fun i => i) a2 a4 a5 a6)
    (H : ∀ e1 e2 e3 e4 b2 b3 b5 b6 b8 b9 b10 b11, ld_K 3 (ld_cs g t) b2 a4 b5 b6 → post (nI (t + 1)) (nI 3, 0, fr, e1, e2, nI g, e3, 1, e4, ns, ls, a1, b2, b3, a4, b5, b6, a7, b8, b9, b10, b11, a12, a13, a14, a15)) :
    wX_move_33 post (nI (g + 1)) (nI (g + 1)) (nI e) (nI 3) 0 fr ab ac pl op ch st ns ls a1 a2 a3 a4 a5 a6 a7 a8 a9 a10 a11 a12 a13 a14 a15 := by
  unfold wX_move_33
  refine ld_begin (fun b3 b8 h3 => ⟨2, ?_⟩)
  have ht : t < 3 := by omega
  have hend : ∀ e1 e2 e3 e4 b2 b3 b5 b6 b8 b9 b10 b11, ld_K 3 (ld_cs g t) b2 a4 b5 b6 → wX_move_43 post (nI (g + 1)) (nI (g + 1)) (nI e) 1 (nI (t + 1)) (nI (g + 1) + 1) (nI 3) 0 fr e1 e2 (nI g) e3 1 e4 ns ls a1 b2 b3 a4 b5 b6 a7 b8 b9 b10 b11 a12 a13 a14 a15 := by
    intro e1 e2 e3 e4 b2 b3 b5 b6 b8 b9 b10 b11 K3
    rw [nI_1]
    exact br_t (nI_lt (by omega) (by omega)) (H e1 e2 e3 e4 b2 b3 b5 b6 b8 b9 b10 b11 K3)
  refine br_f (nI_nlt (Nat.le_refl _) (by omega)) (pk_lt e (g + 1) (fun z => ?_) (fun z => ?_))
  · refine br_t rfl (ld_m73 hg ht K rfl (fun _ => ?_) (fun y => absurd rfl y) (fun e1 e2 e4 b2 b3 b5 b6 b9 b10 b11 K3 => hend e1 e2 _ e4 b2 b3 b5 b6 _ b9 b10 b11 K3))
    rw [nI_1, nI_add, pk_sub (by omega), ht0 (by omega), show e + 1 + (g + 1) - (g + 1) = e + 1 by omega]
  · refine br_f (by decide) (ld_m73 hg ht K rfl (fun y => absurd y (by decide)) (fun _ => ?_) (fun e1 e2 e4 b2 b3 b5 b6 b9 b10 b11 K3 => hend e1 e2 _ e4 b2 b3 b5 b6 _ b9 b10 b11 K3))
    rw [ht1 (by omega)]
theorem ld_move {post : Int32 → St2 → Prop} {fr ab ac pl op ch st ns ls : Int32} {a1 a2 a3 a4 a5 a6 a7 a8 a9 a10 a11 a12 a13 a14 a15 : Nat → Int32} {g t e : Nat} (hg : g < 3) (he : e < 4) (ht0 : e ≤ g → t = e) (ht1 : g < e → t + 1 = e) (K : ld_K 3 (fun i => i) a2 a4 a5 a6)
    (H : ∀ e1 e2 e3 e4 b2 b3 b5 b6 b8 b9 b10 b11, ld_K 3 (ld_cs g t) b2 a4 b5 b6 → post (nI (t + 1)) (nI 3, 0, fr, e1, e2, nI g, e3, 1, e4, ns, ls, a1, b2, b3, a4, b5, b6, a7, b8, b9, b10, b11, a12, a13, a14, a15)) :
    wpX_move post (nI 3, 0, fr, ab, ac, pl, op, ch, st, ns, ls, a1, a2, a3, a4, a5, a6, a7, a8, a9, a10, a11, a12, a13, a14, a15) (nI (g + 1)) (nI (g + 1)) (nI e) := by
  have h33 := ld_m33 (post := post) (fr := fr) (ab := ab) (ac := ac) (pl := pl) (op := op) (ch := ch) (st := st) (ns := ns) (ls := ls) (a1 := a1) (a3 := a3) (a7 := a7) (a8 := a8) (a9 := a9) (a10 := a10) (a11 := a11) (a12 := a12) (a13 := a13) (a14 := a14) (a15 := a15) hg he ht0 ht1 K H
  unfold wpX_move
  refine ld_range (by omega) (Nat.le_refl _) (by omega) (by omega) (br_f (by decide) (br_f (nI_pos (by omega)) (br_f (nI_nlt (by omega) (by omega)) ?_)))
  exact pk_lt e (g + 1) (fun _ => h33) (fun z => br_t (nI_le z (by omega)) h33)
/-! copy of one line -/
/-- the ids behind a copy: the fresh id 3 put in as line e + 1 -/
def ld_ins (e : Nat) (cs : Nat → Nat) (q : Nat) : Nat := if q < e then cs q else if q = e then 3 else cs (q - 1)
theorem ld_insK {e : Nat} {cs : Nat → Nat} {a2 a4 a5 a6 b5 b6 : Nat → Int32} (he : e < 4) (K : ld_K 3 cs a2 a4 a5 a6)
    (k1 : ∀ q, q < e → b6 q = a6 q) (k2 : b6 e = nI 3) (k3 : ∀ q, e < q → q ≤ 3 → b6 q = a6 (q - 1)) (h5 : b5 0 = nI 4) : ld_K 4 (ld_ins e cs) (upd a2 3 0) a4 b5 b6 := by
  obtain ⟨h4, _, h2, h6⟩ := K
  refine ⟨h4, h5, fun k hk => ?_, fun q hq => ?_⟩
  · by_cases z : k = 3
    · rw [z, pk_us, if_pos (by omega)]
    · rw [pk_un z, h2 k hk]
      by_cases z1 : k < 3
      · rw [if_pos z1, if_pos (by omega)]
      · rw [if_neg z1, if_neg (by omega)]
  · unfold ld_ins
    by_cases z : q < e
    · rw [if_pos z, k1 q z]
      have := h6 q (by omega)
      exact ⟨by omega, this.2⟩
    · rw [if_neg z]
      by_cases z0 : q = e
      · rw [if_pos z0, z0]
        exact ⟨by omega, k2⟩
      · rw [if_neg z0, k3 q (by omega) (by omega)]
        have := h6 (q - 1) (by omega)
        exact ⟨by omega, this.2⟩
theorem ld_copy {post : Int32 → St2 → Prop} {fr ab ac pl op ch st ns ls : Int32} {a1 a2 a3 a4 a5 a6 a7 a8 a9 a10 a11 a12 a13 a14 a15 : Nat → Int32} {e t g : Nat} {cs : Nat → Nat} (he : e < 4) (ht : t < 3) (K : ld_K 3 cs a2 a4 a5 a6) (hg : cs t = g)
    (H : ∀ e1 e2 e3 e5 b2 b3 b5 b6 b8 b9 b10 b11 b15, ld_K 4 (ld_ins e cs) b2 a4 b5 b6 → b9 0 = 0 → b10 0 = nI (e + 1) → post (nI (e + 1)) (nI 4, 0, fr, e1, e2, e5, e3, 1, 1, ns, 1, upd a1 3 (a1 g), b2, b3, a4, b5, b6, a7, b8, b9, b10, b11, a12, a13, a14, b15)) :
    wpX_copy post (nI 3, 0, fr, ab, ac, pl, op, ch, st, ns, ls, a1, a2, a3, a4, a5, a6, a7, a8, a9, a10, a11, a12, a13, a14, a15) (nI (t + 1)) (nI (t + 1)) (nI e) := by
  have K' := K
  obtain ⟨h4, h5, h2, h6⟩ := K
  have hg3 : g < 3 := by rw [← hg]; exact (h6 t ht).1
  unfold wpX_copy
  have e60 : (((nI 3 + nI (t + 1)) - nI (t + 1)) + 1) ≤ (60 : Int32) := by
    rw [nI_add, pk_sub (by omega), nI_1, show 3 + (t + 1) - (t + 1) + 1 = 4 by omega]
    decide
  refine ld_range (by omega) (Nat.le_refl _) (by omega) (by omega) (br_f (by decide) (br_f (nI_pos (by omega)) (br_f (nI_nlt (by omega) (by omega)) (br_t e60 ?_))))
  refine ld_begin (fun b3 b8 h3 => ?_)
  refine ld_list (n := 3) (by omega) ht h4 h5 (fun b15 hb => ⟨2, ?_⟩)
  have eb : b15 (0 : Int32).toNatClampNeg = nI g := by rw [sb_cl0, hb, (h6 t ht).2, hg]
  have ev : a1 (b15 (0 : Int32).toNatClampNeg).toNatClampNeg = a1 g := by rw [eb, nI_clamp (by omega)]
  refine br_f (by decide) ⟨pk_in 0 60 (by omega), by rw [eb]; exact pk_in g 128 (by omega), ?_⟩
  refine ld_fresh (m := 3) (by omega) h3 h2 ?_
  refine ld_putIn (d := 3) (j := e) (cn := 3) (k := 0) (by omega) (by omega) (by omega) (by omega) h4 h5 rfl (by rw [Int32.add_zero, nI_1]) (fun b6 k1 k2 k3 => nm_e (br_t (by decide) ?_))
  show post (nI e + 1) _
  rw [nI_1, ev]
  exact H _ _ _ _ _ _ _ _ _ _ _ _ _ (ld_insK he K' k1 k2 k3 pk_us) pk_us pk_us
/-! undo of one putting in -/
theorem ld_xm {post : St2 → Prop} {c fb fr ab ac pl op ch st ns ls : Int32} {a1 a2 a3 a4 a5 a6 a7 a8 a9 a10 a11 a12 a13 a14 a15 : Nat → Int32} (H : ∀ b7 b8, post (c, fb, fr, ab, ac, op, pl, ch, st, ns, ls, a1, a2, a3, a4, a5, a6, b7, b8, a9, a10, a11, a12, a13, a14, a15)) : wpX_exchangeMarks post (c, fb, fr, ab, ac, pl, op, ch, st, ns, ls, a1, a2, a3, a4, a5, a6, a7, a8, a9, a10, a11, a12, a13, a14, a15) :=
  pk_loop (σ := (Nat → Int32) × (Nat → Int32)) (fun n i s => wX_exchangeMarks_20 post c fb fr ab ac op pl ch st ns ls n (nI i) a1 a2 a3 a4 a5 a6 s.1 s.2 a9 a10 a11 a12 a13 a14 a15) (fun _ _ => True) 4 0 (a7, a8) (by omega) trivial
    (fun n s _ => pk_le 4 4 (fun _ => H s.1 s.2) (fun z => absurd z (by omega)))
    (fun n i s hi _ hw => pk_le 4 i (fun z => absurd z (by omega)) (fun _ => ⟨pk_in i 4 hi, nm_e ⟨pk_in i 4 hi, pk_in i 4 hi, nm_e ⟨pk_in i 4 hi, nm_e (nm_r (nI_1 i) (hw (_, _) trivial))⟩⟩⟩))
section
variable {post : Int32 → St2 → Prop} {e : Nat} {cs : Nat → Nat}
theorem ld_u103 {fr ab ac pl op ch st ns ls : Int32} {a1 a2 a3 a4 a5 a6 a7 a8 a9 a10 a11 a12 a13 a14 a15 : Nat → Int32} (he : e < 4) (K : ld_K 4 cs a2 a4 a5 a6) (hcs : cs e = 3) (h12 : a12 0 = 0) (h13 : a13 0 = nI (e + 1)) (hs : st = 0)
    (H : ∀ (k1 k2 k3 k4 k5 k6 k7 k8 k9 k10 : Int32) (b1 b2 b3 b4 b5 b6 b7 b8 b9 b10 b11 b12 b13 b14 b15 : Nat → Int32), post 1 (nI 3, k1, k2, k3, k4, k5, k6, k7, k8, k9, k10, b1, b2, b3, b4, b5, b6, b7, b8, b9, b10, b11, b12, b13, b14, b15)) :
    ∃ n, wX_undo_103 post n 0 (nI 4) 0 fr ab ac pl op ch st ns ls a1 a2 a3 a4 a5 a6 a7 a8 a9 a10 a11 a12 a13 a14 a15 := by
  obtain ⟨h4, h5, h2, h6⟩ := K
  refine ⟨2, br_f (by decide) ⟨pk_in 0 140 (by omega), pk_in 0 140 (by omega), pk_in 0 140 (by omega), ?_⟩⟩
  unfold wpX_takeBack
  refine br_t h12 (ld_takeOut (d := 3) (j := e) (cn := 3) (k := 0) (by omega) (by omega) (by omega) (by omega) h4 h5 (by rw [(h6 e he).2, hcs]) hs h13 (fun b6 _ _ => nm_e (br_t (by decide) (ld_xm (fun b7 b8 => ?_)))))
  exact H _ _ _ _ _ _ _ _ _ _ _ _ _ _ _ _ _ _ _ _ _ _ _ _ _
theorem ld_undo {fr ab ac pl op ch st ns ls : Int32} {a1 a2 a3 a4 a5 a6 a7 a8 a9 a10 a11 a12 a13 a14 a15 : Nat → Int32} (he : e < 4) (K : ld_K 4 cs a2 a4 a5 a6) (hcs : cs e = 3) (h9 : a9 0 = 0) (h10 : a10 0 = nI (e + 1)) (hs : st = 1) (hc : ch = 1)
    (H : ∀ (k1 k2 k3 k4 k5 k6 k7 k8 k9 k10 : Int32) (b1 b2 b3 b4 b5 b6 b7 b8 b9 b10 b11 b12 b13 b14 b15 : Nat → Int32), post 1 (nI 3, k1, k2, k3, k4, k5, k6, k7, k8, k9, k10, b1, b2, b3, b4, b5, b6, b7, b8, b9, b10, b11, b12, b13, b14, b15)) :
    wpX_undo post (nI 4, 0, fr, ab, ac, pl, op, ch, st, ns, ls, a1, a2, a3, a4, a5, a6, a7, a8, a9, a10, a11, a12, a13, a14, a15) := by
  subst hs hc
  unfold wpX_undo
  refine br_f (by decide) ⟨2, br_f (by decide) ⟨pk_in 0 140 (by omega), pk_in 0 140 (by omega), nm_r (e' := upd a12 0 0) (by rw [sb_cl0, h9]) ⟨pk_in 0 140 (by omega), pk_in 0 140 (by omega), nm_r (e' := upd a13 0 (nI (e + 1))) (by rw [sb_cl0, h10]) ⟨pk_in 0 140 (by omega), pk_in 0 140 (by omega), nm_e (nm_e (br_t (by decide) ?_))⟩⟩⟩⟩
  refine pk_loop (fun n i s => wX_undo_76 post (nI 4) 0 fr ab ac pl op 1 0 1 ls n (nI i) a1 a2 s a4 a5 a6 a7 a8 a9 a10 a11 (upd a12 0 0) (upd a13 0 (nI (e + 1))) (upd a14 (0 : Int32).toNatClampNeg (a11 (0 : Int32).toNatClampNeg)) a15) (fun _ _ => True) 128 0 a3 (by omega) trivial ?_ ?_
  · intro n s _
    refine pk_le 128 128 (fun _ => nm_r (e' := 0) (by decide) ?_) (fun z => absurd z (by omega))
    exact ld_u103 he K hcs pk_us pk_us rfl H
  · intro n i s hi _ hw
    exact pk_le 128 i (fun z => absurd z (by omega)) (fun _ => ⟨pk_in i 128 hi, nm_e (nm_r (nI_1 i) (hw _ trivial))⟩)
end
end
section
/-! the law -/
section
variable {post : Int32 → St0 → Prop} {mc ms kc ks : Nat}
theorem ld_205 {fr ab ac pl op ch st ns ls : Int32} {a1 a2 a3 a4 a5 a6 a7 a8 a9 a10 a11 a12 a13 a14 a15 : Nat → Int32} {e t g r : Nat} {cs : Nat → Nat} {v w z : Int32} (he : e < 4) (ht : t < 3) (hr : r < 3) (K : ld_K 3 cs a2 a4 a5 a6) (hg : cs t = g) (hv : a1 g = v) (hw : a1 (cs r) = w) (hz : z = nI (r + 1)) (H : post 1 ()) :
    wL_lawOf_205 post mc ms (nI e) v (nI (t + 1)) w z kc ks (nI 3) 0 fr ab ac pl op ch st ns ls a1 a2 a3 a4 a5 a6 a7 a8 a9 a10 a11 a12 a13 a14 a15 := by
  unfold wL_lawOf_205
  refine ld_line (by omega) hr K hz (fun e1 e2 => br_t hw ?_)
  refine ld_copy he ht K hg (fun e1 e2 e3 e5 b2 b3 b5 b6 b8 b9 b10 b11 b15 K4 h9 h10 => br_t (nI_1 e).symm ?_)
  have hce : ld_ins e cs e = 3 := by
    unfold ld_ins
    rw [if_neg (by omega), if_pos rfl]
  refine ld_line (by omega) he K4 (nI_1 e) (fun e1 e2 => br_t ?_ ?_)
  · rw [hce, pk_us]
    exact hv
  · refine ld_undo he K4 hce h9 h10 rfl rfl (fun k1 k2 k3 k4 k5 k6 k7 k8 k9 k10 b1 b2 b3 b4 b5 b6 b7 b8 b9 b10 b11 b12 b13 b14 b15 => br_t rfl ?_)
    unfold wpX_lines
    exact br_t rfl H
theorem ld_184 {fr ab ac pl op ch st ns ls : Int32} {a1 a2 a3 a4 a5 a6 a7 a8 a9 a10 a11 a12 a13 a14 a15 : Nat → Int32} {e t g q : Nat} {cs : Nat → Nat} {v w1 w2 z : Int32} (he : e < 4) (ht : t < 3) (hq : q < 3) (K : ld_K 3 cs a2 a4 a5 a6) (hg : cs t = g) (hv : a1 g = v) (h1 : a1 (cs q) = w1) (h2 : a1 (cs (if t = 2 then 1 else 2)) = w2) (hz : z = nI (q + 1)) (H : post 1 ()) :
    wL_lawOf_184 post mc ms (nI e) v (nI (t + 1)) w1 w2 z kc ks (nI 3) 0 fr ab ac pl op ch st ns ls a1 a2 a3 a4 a5 a6 a7 a8 a9 a10 a11 a12 a13 a14 a15 := by
  unfold wL_lawOf_184
  refine ld_line (by omega) hq K hz (fun e1 e2 => br_t h1 ?_)
  refine pk_eq (t + 1) 3 (fun y => ?_) (fun y => ?_)
  · rw [if_pos (by omega)] at h2
    exact ld_205 (r := 1) he ht (by omega) K hg hv h2 rfl H
  · rw [if_neg (by omega)] at h2
    exact ld_205 (r := 2) he ht (by omega) K hg hv h2 rfl H
theorem ld_169 {fr ab ac pl op ch st ns ls : Int32} {a1 a2 a3 a4 a5 a6 a7 a8 a9 a10 a11 a12 a13 a14 a15 : Nat → Int32} {e t g : Nat} {cs : Nat → Nat} {v w1 w2 : Int32} (he : e < 4) (ht : t < 3) (K : ld_K 3 cs a2 a4 a5 a6) (hg : cs t = g) (hv : a1 g = v) (h1 : a1 (cs (if t = 0 then 1 else 0)) = w1) (h2 : a1 (cs (if t = 2 then 1 else 2)) = w2) (H : post 1 ()) :
    wL_lawOf_169 post mc ms (nI e) v (nI (t + 1)) w1 w2 kc ks (nI 3) 0 fr ab ac pl op ch st ns ls a1 a2 a3 a4 a5 a6 a7 a8 a9 a10 a11 a12 a13 a14 a15 := by
  unfold wL_lawOf_169
  refine pk_eq (t + 1) 1 (fun y => ?_) (fun y => ?_)
  · rw [if_pos (by omega)] at h1
    exact ld_184 (q := 1) he ht (by omega) K hg hv h1 h2 rfl H
  · rw [if_neg (by omega)] at h1
    exact ld_184 (q := 0) he ht (by omega) K hg hv h1 h2 rfl H
theorem ld_at {g t : Nat} : ld_cs g t t = g := by
  unfold ld_cs
  rw [if_neg (by omega), if_pos rfl]
theorem ld_first : ∀ g, g < 3 → ∀ t, t < 3 → ld_cs g t (if t = 0 then 1 else 0) = if g = 0 then 1 else 0 := by decide
theorem ld_second : ∀ g, g < 3 → ∀ t, t < 3 → ld_cs g t (if t = 2 then 1 else 2) = if g = 2 then 1 else 2 := by decide
theorem ld_only : ∀ g, g < 3 → ∀ t, t < 3 → ∀ i, i < t → ld_cs g t i ≠ g := by decide
theorem ld_94 {fr ab ac pl op ch st ns ls : Int32} {a1 a2 a3 a4 a5 a6 a7 a8 a9 a10 a11 a12 a13 a14 a15 : Nat → Int32} {e t g : Nat} {v x y z x9 : Int32} (he : e < 4) (hg : g < 3) (ht0 : e ≤ g → t = e) (ht1 : g < e → t + 1 = e) (K : ld_K 3 (fun i => i) a2 a4 a5 a6) (hx : a1 0 = x) (hy : a1 1 = y) (hz : a1 2 = z) (hv : a1 g = v) (h9 : x9 = nI (t + 1)) (H : post 1 ()) :
    wL_lawOf_94 post mc ms x y z (nI (g + 1)) (nI e) v x9 kc ks (nI 3) 0 fr ab ac pl op ch st ns ls a1 a2 a3 a4 a5 a6 a7 a8 a9 a10 a11 a12 a13 a14 a15 := by
  subst h9
  have ht : t < 3 := by omega
  have f1 := ld_first g hg t ht
  have f2 := ld_second g hg t ht
  unfold wL_lawOf_94
  refine ld_move hg he ht0 ht1 K (fun e1 e2 e3 e4 b2 b3 b5 b6 b8 b9 b10 b11 K3 => br_t rfl ?_)
  refine ld_line (by omega) ht K3 rfl (fun e1 e2 => br_t (by rw [ld_at]; exact hv) ?_)
  refine ld_present (by omega) ht K3 ld_at (ld_only g hg t ht) (br_t rfl ?_)
  unfold wpX_lines
  refine br_t rfl (pk_eq (g + 1) 1 (fun h => ?_) (fun h => ?_))
  · rw [if_pos (c := g = 0) (by omega)] at f1
    rw [if_neg (c := g = 2) (by omega)] at f2
    exact pk_eq (g + 1) 3 (fun h' => absurd h' (by omega)) (fun _ => ld_169 he ht K3 ld_at hv (by rw [f1]; exact hy) (by rw [f2]; exact hz) H)
  · rw [if_neg (c := g = 0) (by omega)] at f1
    refine pk_eq (g + 1) 3 (fun h' => ?_) (fun h' => ?_)
    · rw [if_pos (c := g = 2) (by omega)] at f2
      exact ld_169 he ht K3 ld_at hv (by rw [f1]; exact hx) (by rw [f2]; exact hy) H
    · rw [if_neg (c := g = 2) (by omega)] at f2
      exact ld_169 he ht K3 ld_at hv (by rw [f1]; exact hx) (by rw [f2]; exact hz) H
theorem ld_76 {fr ab ac pl op ch st ns ls : Int32} {a1 a2 a3 a4 a5 a6 a7 a8 a9 a10 a11 a12 a13 a14 a15 : Nat → Int32} {e g : Nat} {v x y z : Int32} (he : e < 4) (hg : g < 3) (K : ld_K 3 (fun i => i) a2 a4 a5 a6) (hx : a1 0 = x) (hy : a1 1 = y) (hz : a1 2 = z) (hv : a1 g = v) (H : post 1 ()) :
    wL_lawOf_76 post mc ms x y z (nI (g + 1)) (nI e) v kc ks (nI 3) 0 fr ab ac pl op ch st ns ls a1 a2 a3 a4 a5 a6 a7 a8 a9 a10 a11 a12 a13 a14 a15 := by
  unfold wL_lawOf_76
  refine pk_le (g + 1) e (fun h => ?_) (fun h => ?_)
  · exact ld_94 (t := e - 1) he hg (fun h' => absurd h' (by omega)) (fun _ => by omega) K hx hy hz hv (by rw [show e - 1 + 1 = e by omega]) H
  · exact ld_94 (t := e) he hg (fun _ => rfl) (fun h' => absurd h' (by omega)) K hx hy hz hv (nI_1 e) H
theorem ld_lawOf {x y z p3 p4 : Int32} (H : post 1 ()) : wpL_lawOf post 16 1574 () x y z p3 p4 := by
  unfold wpL_lawOf
  refine ⟨by omega, by omega, 15, 1548, by omega, by omega, ?_⟩
  refine ld_init (by omega) (by omega) (fun b2 b4 b7 h2 h4 => ?_)
  refine ld_put (n := 0) (by omega) ⟨ld_neg h4, rfl, fun k hk => by rw [h2 k hk, if_neg (by omega)], fun i hi => absurd hi (by omega)⟩ (fun _ _ _ _ _ _ _ _ _ _ _ _ K1 => ?_)
  refine ld_put (n := 1) (by omega) K1 (fun _ _ _ _ _ _ _ _ _ _ _ _ K2 => ?_)
  refine ld_put (n := 2) (by omega) K2 (fun _ _ _ _ _ _ _ _ _ _ _ _ K3 => ?_)
  refine br_t rfl ⟨by decide, ?_⟩
  obtain ⟨j, hj, ej⟩ := pk_andE p3 (m := 255) 8 (by decide)
  obtain ⟨e, he, ee⟩ := pk_andE p4 (m := 3) 2 (by decide)
  have e6 : 1 + ((p3 &&& 255) - (p3 &&& 255) / 3 * 3) = nI (j % 3 + 1) := by
    have er : nI j - nI j / 3 * 3 = nI (j % 3) := pk_rem (d := 3) (by omega) (by omega) (by omega)
    rw [ej, er, Int32.add_comm, nI_1]
  refine nm_r e6 (nm_r ee ?_)
  have hg : j % 3 < 3 := Nat.mod_lt _ (by omega)
  generalize j % 3 = g at hg
  refine pk_eq (g + 1) 1 (fun h => ?_) (fun h => pk_eq (g + 1) 2 (fun h' => ?_) (fun h' => ?_))
  · exact ld_76 he hg K3 rfl rfl rfl (by rw [show g = 0 by omega]; rfl) H
  · exact ld_76 he hg K3 rfl rfl rfl (by rw [show g = 1 by omega]; rfl) H
  · exact ld_76 he hg K3 rfl rfl rfl (by rw [show g = 2 by omega]; rfl) H
end
theorem ld_cell {post : Int32 → Prop} {L : Nat} {xs : Nat → Int32} {u : St0} {p : Int32} (k : Nat) (hk : k ≤ 5) (hL : L ≤ 5) (hp : p = nI k) (H : ∀ r, post r) : wpL_cellAt post L xs u p := by
  unfold wpL_cellAt
  exact pk_le L k (fun _ => H 0) (fun z => ⟨pk_in k L z hp, H _⟩) rfl hp
theorem i_vc (xs : Nat → Int32) (L : Nat) (hL : L ≤ 5) : wpL_law (fun r => r = 1) L xs := by
  unfold wpL_law
  refine ld_cell 0 (by omega) hL rfl (fun x => ld_cell 1 (by omega) hL rfl (fun y => ld_cell 2 (by omega) hL rfl (fun z => ld_cell 3 (by omega) hL rfl (fun p3 => ld_cell 4 (by omega) hL rfl (fun p4 => ⟨16, 1574, by omega, by omega, ?_⟩)))))
  exact ld_lawOf rfl
end
