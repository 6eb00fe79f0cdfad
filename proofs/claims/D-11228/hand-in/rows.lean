section
section
variable {t nd ss ln dp : Int32} {a1 a2 a3 a4 a5 a6 a7 a8 a9 a10 a11 : Nat → Int32}
theorem pg_fill {s : Nat → Int32} {x : Int32} {i k : Nat} (hk : k = i) (h : ∀ j, j < i → s j = x) : ∀ j, j < i + 1 → upd s k x j = x := by
  intro j hj
  rw [hk]
  by_cases e : j = i
  · rw [e, pk_us]
  · rw [pk_un e]
    exact h j (by omega)
/-- forget: every outcome is unknown again -/
theorem pg_fg {post : St2 → Prop} (H : ∀ a : Nat → Int32, (∀ j, j < 840 → a j = -3) → post (t, nd, ss, ln, dp, a1, a2, a3, a4, a5, a6, a7, a, a9, a10, a11)) :
    wpX_forget post (t, nd, ss, ln, dp, a1, a2, a3, a4, a5, a6, a7, a8, a9, a10, a11) :=
  pk_loop (fun n i s => wX_forget_2 post t nd ss ln dp n (nI i) a1 a2 a3 a4 a5 a6 a7 s a9 a10 a11) (fun i s => ∀ j, j < i → s j = -3) 840 0 a8 (by omega) (fun j hj => absurd hj (by omega))
    (fun n s h => pk_le 840 840 (fun _ => H s h) (fun z => absurd z (by omega)))
    (fun n i s hi h hw => pk_le 840 i (fun z => absurd z (by omega)) (fun _ => ⟨pk_in i 840 hi, nm_e (nm_r (nI_1 i) (hw _ (pg_fill (nI_clamp (by omega)) h)))⟩))
/-- clear -/
theorem pg_cl {post : St2 → Prop} (H : ∀ b a : Nat → Int32, (∀ j, j < 4 → b j = -1) → (∀ j, j < 840 → a j = -3) → post (0, 0, 0, ln, dp, a1, a2, a3, a4, a5, b, a7, a, a9, a10, a11)) :
    wpX_clear post (t, nd, ss, ln, dp, a1, a2, a3, a4, a5, a6, a7, a8, a9, a10, a11) :=
  pk_loop (fun n i s => wX_clear_17 post 0 0 0 ln dp n (nI i) a1 a2 a3 a4 a5 s a7 a8 a9 a10 a11) (fun i s => ∀ j, j < i → s j = -1) 4 0 a6 (by omega) (fun j hj => absurd hj (by omega))
    (fun n s h => pk_le 4 4 (fun _ => pg_fg (fun a ha => H s a h ha)) (fun z => absurd z (by omega)))
    (fun n i s hi h hw => pk_le 4 i (fun z => absurd z (by omega)) (fun _ => ⟨pk_in i 4 hi, nm_e (nm_r (nI_1 i) (hw _ (pg_fill (nI_clamp (by omega)) h)))⟩))
/-- the constructor -/
theorem pg_init {post : St2 → Prop} {mc ms : Nat} (hc : 11 ≤ mc) (hs : 3584 ≤ ms)
    (H : ∀ b a : Nat → Int32, (∀ j, j < 4 → b j = -1) → (∀ j, j < 840 → a j = -3) → post (0, 0, 0, ln, dp, (fun _ => 0), (fun _ => 0), (fun _ => 0), (fun _ => 0), (fun _ => 0), b, (fun _ => 0), a, (fun _ => 0), (fun _ => 0), (fun _ => 0))) :
    wpX_init post mc ms (t, nd, ss, ln, dp) := by
  unfold wpX_init
  refine ⟨by omega, by omega, by omega, by omega, by omega, by omega, by omega, by omega, by omega, by omega, by omega, by omega, by omega, by omega, by omega, by omega, by omega, by omega, by omega, by omega, by omega, by omega, ?_⟩
  exact pg_cl (fun b a hb ha => H b a hb ha)
/-- the first token: a letter -/
theorem pg_t0 {post : Int32 → St2 → Prop} (x : Int32) (H : post 1 (1, 1, 1, ln, dp, upd a1 0 0, upd a2 0 (x &&& 3), upd a3 0 (-1), upd a4 0 (-1), upd a5 0 0, a6, a7, a8, a9, a10, a11)) :
    wpX_token post (0, 0, 0, ln, dp, a1, a2, a3, a4, a5, a6, a7, a8, a9, a10, a11) 0 x := by
  unfold wpX_token
  refine br_f (by decide) ?_
  unfold wX_token_19
  refine br_f (by decide) (br_f (by decide) (br_f (by decide) (br_t (by decide) (nm_r (e' := 1) rfl (br_f (by decide) ⟨pk_in 0 40 (by omega), nm_r (e' := upd a1 0 0) rfl ⟨pk_in 0 40 (by omega), nm_r (e' := upd a2 0 (x &&& 3)) rfl (br_t (by decide) ?_)⟩⟩)))))
  unfold wX_token_150
  refine ⟨pk_in 0 40 (by omega), nm_r (e' := upd a3 0 (-1)) rfl (br_f (by decide) ?_)⟩
  unfold wX_token_179
  exact ⟨pk_in 0 40 (by omega), nm_r (e' := upd a4 0 (-1)) rfl (nm_r (e' := 0) rfl ⟨pk_in 0 40 (by omega), nm_r (e' := upd a5 0 0) rfl (nm_r (e' := 1) rfl (nm_r (e' := 1) rfl H))⟩)⟩
/-- the second token: one of the four -/
theorem pg_t1 {post : Int32 → St2 → Prop} {cd : Int32} (h3 : 3 < cd) (h5 : 5 < cd) (h0 : ¬ cd < 0) (h10 : ¬ 10 < cd) (hn : ¬ cd = 10)
    (H : post 1 (2, 2, 1, ln, dp, upd a1 1 cd, upd a2 1 0, upd a3 1 (a5 0), upd a4 1 (-1), upd a5 0 1, a6, a7, a8, a9, a10, a11)) :
    wpX_token post (1, 1, 1, ln, dp, a1, a2, a3, a4, a5, a6, a7, a8, a9, a10, a11) cd 0 := by
  unfold wpX_token
  refine br_t h3 (br_t h5 ?_)
  unfold wX_token_19
  refine br_f h0 (br_f h10 (br_f (by decide) (br_t (by decide) (nm_r (e' := 2) rfl (br_f hn ⟨pk_in 1 40 (by omega), nm_r (e' := upd a1 1 cd) rfl ⟨pk_in 1 40 (by omega), nm_r (e' := upd a2 1 0) rfl (br_f (by decide) ⟨pk_in 0 40 (by omega), ?_⟩)⟩⟩)))))
  unfold wX_token_150
  refine ⟨pk_in 1 40 (by omega), nm_r (e' := upd a3 1 (a5 0)) rfl (br_f (by decide) ?_)⟩
  unfold wX_token_179
  exact ⟨pk_in 1 40 (by omega), nm_r (e' := upd a4 1 (-1)) rfl (nm_r (e' := 0) rfl ⟨pk_in 0 40 (by omega), nm_r (e' := upd a5 0 1) rfl (nm_r (e' := 1) rfl (nm_r (e' := 2) rfl H))⟩)⟩
/-- the third token: rule 2 is defined -/
theorem pg_t2 {post : Int32 → St2 → Prop} (H : ∀ a : Nat → Int32, (∀ j, j < 840 → a j = -3) → post 0 (3, 2, 0, ln, dp, a1, a2, a3, a4, a5, upd a6 2 (a5 0), a7, a, a9, a10, a11)) :
    wpX_token post (2, 2, 1, ln, dp, a1, a2, a3, a4, a5, a6, a7, a8, a9, a10, a11) 10 2 := by
  unfold wpX_token
  refine br_t (by decide) (br_t (by decide) ?_)
  unfold wX_token_19
  exact br_f (by decide) (br_f (by decide) (br_f (by decide) (br_t (by decide) (nm_r (e' := 3) rfl (br_t rfl (nm_r (e' := 0) rfl ⟨pk_in 0 40 (by omega), pk_in 2 4 (by omega), nm_r (e' := upd a6 2 (a5 0)) rfl (pg_fg (fun a ha => H a ha))⟩))))))
/-- a letter typed -/
theorem pg_ty {post : Int32 → St2 → Prop} (p : Int32) {k : Nat} (hk : k < 20) (H : ∀ a : Nat → Int32, (∀ j, j < 840 → a j = -3) → post (nI (k + 1)) (t, nd, ss, nI (k + 1), dp, a1, a2, a3, a4, a5, a6, upd a7 k (p &&& 3), a, a9, a10, a11)) :
    wpX_type post (t, nd, ss, nI k, dp, a1, a2, a3, a4, a5, a6, a7, a8, a9, a10, a11) p := by
  unfold wpX_type
  exact pk_lt k 20 (fun _ => ⟨pk_in k 20 hk, nm_r (e' := upd a7 k (p &&& 3)) (by rw [nI_clamp (by omega)]) (nm_r (nI_1 k) (pg_fg (fun a ha => H a ha)))⟩) (fun z => absurd z (by omega))
end
end
section
section
variable {t nd ss ln dp : Int32} {a1 a2 a3 a4 a5 a6 a7 a8 a9 a10 a11 : Nat → Int32}
/-- what the letter answers at place p -/
def pg_v0 (lt : Int32) (tx : Nat → Int32) (p : Nat) : Int32 := if p < 3 ∧ tx p = lt then 1 else -1
theorem pg_at {nn p q : Nat} (hq : q = 21 * nn + p) : 21 * nI nn + nI p = nI q := by
  show nI 21 * nI nn + nI p = nI q
  rw [pk_mul, nI_add, ← hq]
theorem pg_fin {post : St2 → Prop} {d q : Nat} {r : Int32} (hd : d < 840) (hq : q < 840) (h9 : a9 d = nI q) (H : post (t, nd, ss, ln, nI d, a1, a2, a3, a4, a5, a6, a7, upd a8 q r, a9, a10, a11)) :
    wpX_finish post (t, nd, ss, ln, dp, a1, a2, a3, a4, a5, a6, a7, a8, a9, a10, a11) (nI d) r := by
  unfold wpX_finish
  dsimp only
  rw [nI_clamp (show d < 2 ^ 31 by omega), h9, nI_clamp (show q < 2 ^ 31 by omega)]
  exact ⟨pk_in d 840 hd, pk_in q 840 hq, nm_e H⟩
theorem pg_put {post : St2 → Prop} {d nn p q : Nat} (he : q = 21 * nn + p) (hq : q < 840) (hd : d < 840)
    (H : post (t, nd, ss, ln, nI (d + 1), a1, a2, a3, a4, a5, a6, a7, upd a8 q (-4), upd a9 d (nI q), upd a10 d 0, a11)) :
    wpX_putOn post (t, nd, ss, ln, nI d, a1, a2, a3, a4, a5, a6, a7, a8, a9, a10, a11) (nI nn) (nI p) := by
  unfold wpX_putOn
  exact nm_r (e' := nI q) (pg_at he) ⟨pk_in q 840 hq, nm_r (e' := upd a8 q (-4)) (by rw [nI_clamp (by omega)]) ⟨pk_in d 840 hd, nm_r (e' := upd a9 d (nI q)) (by rw [nI_clamp (by omega)]) ⟨pk_in d 840 hd, nm_r (e' := upd a10 d 0) (by rw [nI_clamp (by omega)]) (nm_r (nI_1 d) H)⟩⟩⟩
/-- need, the part's outcome unknown: it is put on -/
theorem pg_needU {post : St2 → Prop} {d nn p q : Nat} {s : Int32} (he : q = 21 * nn + p) (hq : q < 840) (hd : d + 1 < 840) (h8 : a8 q = -3)
    (H : post (t, nd, ss, ln, nI (d + 2), a1, a2, a3, a4, a5, a6, a7, upd a8 q (-4), upd a9 (d + 1) (nI q), upd (upd a10 d s) (d + 1) 0, a11)) :
    wpX_need post (t, nd, ss, ln, nI (d + 1), a1, a2, a3, a4, a5, a6, a7, a8, a9, a10, a11) (nI d) (nI nn) (nI p) s := by
  unfold wpX_need
  refine ⟨pk_in d 840 (by omega), nm_r (e' := upd a10 d s) (by rw [nI_clamp (by omega)]) ⟨pk_in q 840 hq (pg_at he), nm_r (e' := -3) (by rw [pg_at he, nI_clamp (by omega), h8]) (br_t rfl ?_)⟩⟩
  exact pg_put he hq hd H
/-- need, the part's outcome known -/
theorem pg_needK {post : St2 → Prop} {d nn p q : Nat} {s v : Int32} (he : q = 21 * nn + p) (hq : q < 840) (hd : d < 840) (h8 : a8 q = v) (h3 : ¬ v = -3) (h4 : ¬ v = -4) (h2 : ¬ v = -2)
    (H : post (t, nd, ss, ln, dp, a1, a2, a3, a4, a5, a6, a7, a8, a9, upd a10 d s, a11)) :
    wpX_need post (t, nd, ss, ln, dp, a1, a2, a3, a4, a5, a6, a7, a8, a9, a10, a11) (nI d) (nI nn) (nI p) s := by
  unfold wpX_need
  exact ⟨pk_in d 840 (by omega), nm_r (e' := upd a10 d s) (by rw [nI_clamp (by omega)]) ⟨pk_in q 840 hq (pg_at he), nm_r (e' := v) (by rw [pg_at he, nI_clamp (by omega), h8]) (br_f h3 (br_f h4 (br_f h2 H)))⟩⟩
theorem pg_sing {post : Int32 → Prop} {lt : Int32} {p : Nat} (hp : p < 4) (H : post (pg_v0 lt a7 p)) : wpX_single post (t, nd, ss, nI 3, dp, a1, a2, a3, a4, a5, a6, a7, a8, a9, a10, a11) 0 lt (nI p) := by
  unfold wpX_single
  dsimp only
  rw [nI_clamp (show p < 2 ^ 31 by omega)]
  unfold pg_v0 at H
  refine br_f (by decide) (pk_le 3 p (fun z => ?_) (fun z => br_f (by decide) ⟨pk_in p 20 (by omega), br_c (fun e => ?_) (fun e => ?_)⟩))
  · rw [if_neg (fun g => absurd g.1 (by omega))] at H
    exact H
  · rw [if_pos ⟨z, e⟩] at H
    exact H
  · rw [if_neg (fun g => e g.2)] at H
    exact H
/-- a step: the letter's frame ends -/
theorem pg_goL {post : St2 → Prop} {d p : Nat} (hd : d < 840) (hp : p < 4) (h9 : a9 d = nI p) (h1 : a1 0 = 0)
    (H : post (t, nd, ss, nI 3, nI d, a1, a2, a3, a4, a5, a6, a7, upd a8 p (pg_v0 (a2 0) a7 p), a9, a10, a11)) :
    wpX_goOn post (t, nd, ss, nI 3, dp, a1, a2, a3, a4, a5, a6, a7, a8, a9, a10, a11) (nI d) := by
  unfold wpX_goOn
  dsimp only
  rw [nI_clamp (show d < 2 ^ 31 by omega)]
  have e1 : a9 d / 21 = nI 0 := by
    rw [h9]
    exact (pk_div (d := 21) (by omega) (by omega) (by omega)).trans (by rw [show p / 21 = 0 by omega])
  have e2 : a9 d - a9 d / 21 * 21 = nI p := by
    rw [h9]
    exact (pk_rem (d := 21) (by omega) (by omega) (by omega)).trans (by rw [show p % 21 = p by omega])
  refine ⟨pk_in d 840 hd, by decide, nm_r e1 ⟨pk_in d 840 hd, by decide, nm_r e2 ⟨pk_in 0 40 (by omega), nm_r (e' := 0) h1 (br_f (by decide) ⟨pk_in 0 40 (by omega), ?_⟩)⟩⟩⟩
  exact pg_sing hp (pg_fin hd (by omega) h9 H)
/-- a step of the rule's own frame, stage 0 -/
theorem pg_goB {post : St2 → Prop} {cd : Int32} {d p : Nat} (hd : d < 840) (hp : p < 4) (h9 : a9 d = nI (21 + p)) (h1 : a1 1 = cd) (hc : 2 < cd) (h10 : a10 d = 0)
    (H : ∀ K : St2 → Prop, (∀ (b0 b1 b2 b3 b4 : Int32) (b5 b6 b7 b8 b9 b10 b11 b12 b13 b14 b15 : Nat → Int32), post (b0, b1, b2, b3, b4, b5, b6, b7, b8, b9, b10, b11, b12, b13, b14, b15) → K (b0, b1, b2, b3, b4, b5, b6, b7, b8, b9, b10, b11, b12, b13, b14, b15)) → wpX_begin K (t, nd, ss, ln, dp, a1, a2, a3, a4, a5, a6, a7, a8, a9, a10, a11) (nI d) (nI 1) (nI p) cd) :
    wpX_goOn post (t, nd, ss, ln, dp, a1, a2, a3, a4, a5, a6, a7, a8, a9, a10, a11) (nI d) := by
  unfold wpX_goOn
  dsimp only
  rw [nI_clamp (show d < 2 ^ 31 by omega)]
  have e1 : a9 d / 21 = nI 1 := by
    rw [h9]
    exact (pk_div (d := 21) (by omega) (by omega) (by omega)).trans (by rw [show (21 + p) / 21 = 1 by omega])
  have e2 : a9 d - a9 d / 21 * 21 = nI p := by
    rw [h9]
    exact (pk_rem (d := 21) (by omega) (by omega) (by omega)).trans (by rw [show (21 + p) % 21 = p by omega])
  refine ⟨pk_in d 840 hd, by decide, nm_r e1 ⟨pk_in d 840 hd, by decide, nm_r e2 ⟨pk_in 1 40 (by omega), nm_r (e' := cd) h1 (br_t hc ⟨pk_in d 840 hd, br_t h10 ?_⟩)⟩⟩⟩
  exact H _ (fun _ _ _ _ _ _ _ _ _ _ _ _ _ _ _ _ h => h)
/-- stage 1 -/
theorem pg_goF {post : St2 → Prop} {cd : Int32} {d p : Nat} (hd : d < 840) (hp : p < 4) (h9 : a9 d = nI (21 + p)) (h1 : a1 1 = cd) (hc : 2 < cd) (h10 : a10 d = 1)
    (H : ∀ K : St2 → Prop, (∀ (b0 b1 b2 b3 b4 : Int32) (b5 b6 b7 b8 b9 b10 b11 b12 b13 b14 b15 : Nat → Int32), post (b0, b1, b2, b3, b4, b5, b6, b7, b8, b9, b10, b11, b12, b13, b14, b15) → K (b0, b1, b2, b3, b4, b5, b6, b7, b8, b9, b10, b11, b12, b13, b14, b15)) → wpX_afterFirst K (t, nd, ss, ln, dp, a1, a2, a3, a4, a5, a6, a7, a8, a9, a10, a11) (nI d) (nI 1) (nI p) cd) :
    wpX_goOn post (t, nd, ss, ln, dp, a1, a2, a3, a4, a5, a6, a7, a8, a9, a10, a11) (nI d) := by
  unfold wpX_goOn
  dsimp only
  rw [nI_clamp (show d < 2 ^ 31 by omega)]
  have e1 : a9 d / 21 = nI 1 := by
    rw [h9]
    exact (pk_div (d := 21) (by omega) (by omega) (by omega)).trans (by rw [show (21 + p) / 21 = 1 by omega])
  have e2 : a9 d - a9 d / 21 * 21 = nI p := by
    rw [h9]
    exact (pk_rem (d := 21) (by omega) (by omega) (by omega)).trans (by rw [show (21 + p) % 21 = p by omega])
  refine ⟨pk_in d 840 hd, by decide, nm_r e1 ⟨pk_in d 840 hd, by decide, nm_r e2 ⟨pk_in 1 40 (by omega), nm_r (e' := cd) h1 (br_t hc ⟨pk_in d 840 hd, br_f (by rw [h10]; decide) ⟨pk_in d 840 hd, br_t h10 ?_⟩⟩)⟩⟩⟩
  exact H _ (fun _ _ _ _ _ _ _ _ _ _ _ _ _ _ _ _ h => h)
/-- stage 2 -/
theorem pg_goS {post : St2 → Prop} {cd : Int32} {d p : Nat} (hd : d < 840) (hp : p < 4) (h9 : a9 d = nI (21 + p)) (h1 : a1 1 = cd) (hc : 2 < cd) (h10 : a10 d = 2)
    (H : ∀ K : St2 → Prop, (∀ (b0 b1 b2 b3 b4 : Int32) (b5 b6 b7 b8 b9 b10 b11 b12 b13 b14 b15 : Nat → Int32), post (b0, b1, b2, b3, b4, b5, b6, b7, b8, b9, b10, b11, b12, b13, b14, b15) → K (b0, b1, b2, b3, b4, b5, b6, b7, b8, b9, b10, b11, b12, b13, b14, b15)) → wpX_afterSecond K (t, nd, ss, ln, dp, a1, a2, a3, a4, a5, a6, a7, a8, a9, a10, a11) (nI d) (nI 1) (nI p) cd) :
    wpX_goOn post (t, nd, ss, ln, dp, a1, a2, a3, a4, a5, a6, a7, a8, a9, a10, a11) (nI d) := by
  unfold wpX_goOn
  dsimp only
  rw [nI_clamp (show d < 2 ^ 31 by omega)]
  have e1 : a9 d / 21 = nI 1 := by
    rw [h9]
    exact (pk_div (d := 21) (by omega) (by omega) (by omega)).trans (by rw [show (21 + p) / 21 = 1 by omega])
  have e2 : a9 d - a9 d / 21 * 21 = nI p := by
    rw [h9]
    exact (pk_rem (d := 21) (by omega) (by omega) (by omega)).trans (by rw [show (21 + p) % 21 = p by omega])
  refine ⟨pk_in d 840 hd, by decide, nm_r e1 ⟨pk_in d 840 hd, by decide, nm_r e2 ⟨pk_in 1 40 (by omega), nm_r (e' := cd) h1 (br_t hc ⟨pk_in d 840 hd, br_f (by rw [h10]; decide) ⟨pk_in d 840 hd, br_f (by rw [h10]; decide) ?_⟩⟩)⟩⟩⟩
  exact H _ (fun _ _ _ _ _ _ _ _ _ _ _ _ _ _ _ _ h => h)
/-- begin, the letter's outcome unknown -/
theorem pg_begU {post : St2 → Prop} {cd : Int32} {d p : Nat} (hd : d + 1 < 840) (hp : p < 4) (hc : ¬ cd = 3) (h3 : a3 1 = 0) (h8 : a8 p = -3)
    (H : post (t, nd, ss, ln, nI (d + 2), a1, a2, a3, a4, a5, a6, a7, upd a8 p (-4), upd a9 (d + 1) (nI p), upd (upd a10 d 1) (d + 1) 0, a11)) :
    wpX_begin post (t, nd, ss, ln, nI (d + 1), a1, a2, a3, a4, a5, a6, a7, a8, a9, a10, a11) (nI d) (nI 1) (nI p) cd := by
  unfold wpX_begin
  refine br_f hc ⟨pk_in 1 40 (by omega), ?_⟩
  rw [nI_clamp (show 1 < 2 ^ 31 by omega), h3]
  unfold wX_begin_26
  refine br_t (by decide) ?_
  exact pg_needU (nn := 0) (by omega) (by omega) hd h8 H
/-- begin, the letter's outcome known -/
theorem pg_begK {post : St2 → Prop} {cd v : Int32} {d p : Nat} (hd : d < 840) (hp : p < 4) (hc : ¬ cd = 3) (h3 : a3 1 = 0) (h8 : a8 p = v) (g3 : ¬ v = -3) (g4 : ¬ v = -4) (g2 : ¬ v = -2)
    (H : post (t, nd, ss, ln, dp, a1, a2, a3, a4, a5, a6, a7, a8, a9, upd a10 d 1, a11)) :
    wpX_begin post (t, nd, ss, ln, dp, a1, a2, a3, a4, a5, a6, a7, a8, a9, a10, a11) (nI d) (nI 1) (nI p) cd := by
  unfold wpX_begin
  refine br_f hc ⟨pk_in 1 40 (by omega), ?_⟩
  rw [nI_clamp (show 1 < 2 ^ 31 by omega), h3]
  unfold wX_begin_26
  refine br_t (by decide) ?_
  exact pg_needK (nn := 0) (by omega) (by omega) hd h8 g3 g4 g2 H
/-- what the rule answers at once, out of the letter's answer r -/
def pg_now (cd r v : Int32) : Prop := (r = -1 ∧ ((cd = 6 ∧ v = 0) ∨ (cd = 7 ∧ v = 0) ∨ (cd = 8 ∧ v = -1) ∨ (cd = 9 ∧ v = 0))) ∨ (r = 1 ∧ ((cd = 7 ∧ v = 1) ∨ (cd = 8 ∧ v = 0) ∨ (cd = 9 ∧ v = -1)))
theorem pg_aff {post : St2 → Prop} {cd r v : Int32} {d p : Nat} (hd : d < 840) (hp : p < 4) (h3 : a3 1 = 0) (h9 : a9 d = nI (21 + p)) (h8 : a8 p = r) (hn : pg_now cd r v)
    (H : post (t, nd, ss, ln, nI d, a1, a2, a3, a4, a5, a6, a7, upd a8 (21 + p) v, a9, a10, a11)) :
    wpX_afterFirst post (t, nd, ss, ln, dp, a1, a2, a3, a4, a5, a6, a7, a8, a9, a10, a11) (nI d) (nI 1) (nI p) cd := by
  have hc3 : ¬ cd = 3 ∧ ¬ cd = 4 ∧ ¬ cd = 5 := by
    rcases hn with ⟨_, h | h | h | h⟩ | ⟨_, h | h | h⟩ <;> rw [h.1] <;> decide
  have F : ∀ w : Int32, w = v → wpX_finish post (t, nd, ss, ln, dp, a1, a2, a3, a4, a5, a6, a7, a8, a9, a10, a11) (nI d) w := fun w hw => pg_fin hd (by omega) h9 (by rw [hw]; exact H)
  unfold wpX_afterFirst
  refine br_f hc3.1 ⟨pk_in 1 40 (by omega), ?_⟩
  rw [nI_clamp (show 1 < 2 ^ 31 by omega), h3]
  unfold wX_afterFirst_26
  refine ⟨pk_in p 840 (by omega) (pg_at (nn := 0) (by omega)), nm_r (e' := r) ((congrArg a8 ((congrArg Int32.toNatClampNeg (pg_at (nn := 0) (q := p) (by omega))).trans (nI_clamp (by omega)))).trans h8) (br_f hc3.1 (br_f hc3.2.1 ?_))⟩
  unfold wX_afterFirst_96
  refine br_f hc3.2.2 ?_
  unfold wX_afterFirst_130
  unfold wX_afterFirst_164 wX_afterFirst_178 wX_afterFirst_191 wX_afterFirst_216 wX_afterFirst_241
  rcases hn with ⟨rfl, ⟨rfl, hv⟩ | ⟨rfl, hv⟩ | ⟨rfl, hv⟩ | ⟨rfl, hv⟩⟩ | ⟨rfl, ⟨rfl, hv⟩ | ⟨rfl, hv⟩ | ⟨rfl, hv⟩⟩
  · exact br_t rfl (br_t (by decide) (br_t rfl (br_f (by decide) (F 0 hv.symm))))
  · exact br_f (by decide) (br_f (by decide) (br_t rfl (br_f (by decide) (F 0 hv.symm))))
  · exact br_f (by decide) (br_f (by decide) (br_f (by decide) (br_t rfl (br_f (by decide) (F (-1) hv.symm)))))
  · exact br_f (by decide) (br_f (by decide) (br_f (by decide) (br_f (by decide) (br_t rfl (br_f (by decide) (F 0 hv.symm))))))
  · exact br_f (by decide) (br_f (by decide) (br_t rfl (br_t (by decide) (F 1 hv.symm))))
  · exact br_f (by decide) (br_f (by decide) (br_f (by decide) (br_t rfl (br_t (by decide) (F 0 hv.symm)))))
  · exact br_f (by decide) (br_f (by decide) (br_f (by decide) (br_f (by decide) (br_t rfl (br_t (by decide) (F (-1) hv.symm))))))
/-- a star whose letter came: its own outcome one place on is unknown -/
theorem pg_afU {post : St2 → Prop} {d p : Nat} (hd : d + 1 < 840) (hp : p < 3) (h3 : a3 1 = 0) (h8 : a8 p = 1) (hu : a8 (21 + (p + 1)) = -3)
    (H : post (t, nd, ss, ln, nI (d + 2), a1, a2, a3, a4, a5, a6, a7, upd a8 (21 + (p + 1)) (-4), upd a9 (d + 1) (nI (21 + (p + 1))), upd (upd a10 d 2) (d + 1) 0, upd a11 d 1)) :
    wpX_afterFirst post (t, nd, ss, ln, nI (d + 1), a1, a2, a3, a4, a5, a6, a7, a8, a9, a10, a11) (nI d) (nI 1) (nI p) 6 := by
  unfold wpX_afterFirst
  refine br_f (by decide) ⟨pk_in 1 40 (by omega), ?_⟩
  rw [nI_clamp (show 1 < 2 ^ 31 by omega), h3]
  unfold wX_afterFirst_26
  refine ⟨pk_in p 840 (by omega) (pg_at (nn := 0) (by omega)), nm_r (e' := 1) ((congrArg a8 ((congrArg Int32.toNatClampNeg (pg_at (nn := 0) (q := p) (by omega))).trans (nI_clamp (by omega)))).trans h8) (br_f (by decide) (br_f (by decide) ?_))⟩
  unfold wX_afterFirst_96
  refine br_f (by decide) ?_
  unfold wX_afterFirst_130
  refine br_t rfl (br_f (by decide) ⟨pk_in d 840 (by omega), nm_r (e' := upd a11 d 1) (by rw [nI_clamp (by omega)]) ?_⟩)
  rw [nI_1]
  exact pg_needU (nn := 1) (by omega) (by omega) hd hu H
/-- .. is known -/
theorem pg_afK {post : St2 → Prop} {d p : Nat} {v : Int32} (hd : d < 840) (hp : p < 3) (h3 : a3 1 = 0) (h8 : a8 p = 1) (hu : a8 (21 + (p + 1)) = v) (g3 : ¬ v = -3) (g4 : ¬ v = -4) (g2 : ¬ v = -2)
    (H : post (t, nd, ss, ln, dp, a1, a2, a3, a4, a5, a6, a7, a8, a9, upd a10 d 2, upd a11 d 1)) :
    wpX_afterFirst post (t, nd, ss, ln, dp, a1, a2, a3, a4, a5, a6, a7, a8, a9, a10, a11) (nI d) (nI 1) (nI p) 6 := by
  unfold wpX_afterFirst
  refine br_f (by decide) ⟨pk_in 1 40 (by omega), ?_⟩
  rw [nI_clamp (show 1 < 2 ^ 31 by omega), h3]
  unfold wX_afterFirst_26
  refine ⟨pk_in p 840 (by omega) (pg_at (nn := 0) (by omega)), nm_r (e' := 1) ((congrArg a8 ((congrArg Int32.toNatClampNeg (pg_at (nn := 0) (q := p) (by omega))).trans (nI_clamp (by omega)))).trans h8) (br_f (by decide) (br_f (by decide) ?_))⟩
  unfold wX_afterFirst_96
  refine br_f (by decide) ?_
  unfold wX_afterFirst_130
  refine br_t rfl (br_f (by decide) ⟨pk_in d 840 (by omega), nm_r (e' := upd a11 d 1) (by rw [nI_clamp (by omega)]) ?_⟩)
  rw [nI_1]
  exact pg_needK (nn := 1) (by omega) (by omega) hd hu g3 g4 g2 H
/-- a star, behind its second part -/
theorem pg_as {post : St2 → Prop} {d p : Nat} {v : Int32} (hd : d < 840) (hp : p < 3) (h9 : a9 d = nI (21 + p)) (h11 : a11 d = 1) (hu : a8 (21 + (p + 1)) = v) (hv : 0 ≤ v)
    (H : post (t, nd, ss, ln, nI d, a1, a2, a3, a4, a5, a6, a7, upd a8 (21 + p) (1 + v), a9, a10, a11)) :
    wpX_afterSecond post (t, nd, ss, ln, dp, a1, a2, a3, a4, a5, a6, a7, a8, a9, a10, a11) (nI d) (nI 1) (nI p) 6 := by
  have e1 : 21 * nI 1 + nI p + 1 = nI (21 + (p + 1)) := by
    rw [pg_at (nn := 1) (q := 21 + p) (by omega), nI_1]
    rfl
  unfold wpX_afterSecond
  refine br_t rfl ?_
  unfold wX_afterSecond_17
  rw [nI_clamp (show d < 2 ^ 31 by omega), h11, e1, nI_clamp (show 21 + (p + 1) < 2 ^ 31 by omega), hu]
  refine ⟨pk_in d 840 hd, pk_in (21 + (p + 1)) 840 (by omega), nm_e (br_t hv ⟨pk_in d 840 hd, ?_⟩)⟩
  unfold wX_afterSecond_60
  exact pg_fin hd (by omega) h9 H
end
end
section
/-- the rule's answers v1 against the letter's v0 -/
def pg_V (cd : Int32) (v0 v1 : Nat → Int32) : Prop := ∀ p, p < 4 → (pg_now cd (v0 p) (v1 p) ∨ (p < 3 ∧ cd = 6 ∧ v0 p = 1 ∧ v1 p = 1 + v1 (p + 1) ∧ 0 ≤ v1 (p + 1))) ∧ (v0 p = 1 ∨ v0 p = -1) ∧ ¬ v1 p = -3 ∧ ¬ v1 p = -4 ∧ ¬ v1 p = -2
def pg_K (v0 a8 : Nat → Int32) : Prop := ∀ j, j < 4 → a8 j = -3 ∨ a8 j = v0 j
def pg_L (v1 : Nat → Int32) (p : Nat) (a8 : Nat → Int32) : Prop := ∀ j, p ≤ j → j < 4 → a8 (21 + j) = -3 ∨ a8 (21 + j) = v1 j
section
variable {post : St2 → Prop} {t nd ss : Int32} {a1 a2 a3 a4 a5 a6 a7 : Nat → Int32}
theorem pg_step {ln : Int32} {a8 a9 a10 a11 b8 b9 b10 b11 : Nat → Int32} {d' : Int32} {i d : Nat} (hi : i < 3000) (hd : d < 840)
    (G : ∀ K : St2 → Prop, K (t, nd, ss, ln, d', a1, a2, a3, a4, a5, a6, a7, b8, b9, b10, b11) → wpX_goOn K (t, nd, ss, ln, nI (d + 1), a1, a2, a3, a4, a5, a6, a7, a8, a9, a10, a11) (nI d))
    (H : wX_workOut_29 post (3001 - (i + 1)) (nI (i + 1)) t nd ss ln d' a1 a2 a3 a4 a5 a6 a7 b8 b9 b10 b11) :
    wX_workOut_29 post (3001 - i) (nI i) t nd ss ln (nI (d + 1)) a1 a2 a3 a4 a5 a6 a7 a8 a9 a10 a11 := by
  rw [show 3001 - i = (3001 - (i + 1)) + 1 by omega]
  refine pk_le 3000 i (fun z => absurd z (by omega)) (fun _ => pk_le (d + 1) 0 (fun z => absurd z (by omega)) (fun _ => ?_))
  rw [nI_pred]
  exact G _ (nm_r (nI_1 i) H)
/-- the loop's end: nothing waits -/
theorem pg_end {ln : Int32} {a8 a9 a10 a11 : Nat → Int32} {i : Nat} (hi : i < 3001) (H : post (t, nd, ss, ln, 0, a1, a2, a3, a4, a5, a6, a7, a8, a9, a10, a11)) : wX_workOut_29 post (3001 - i) (nI i) t nd ss ln 0 a1 a2 a3 a4 a5 a6 a7 a8 a9 a10 a11 := by
  rw [show 3001 - i = (3000 - i) + 1 by omega]
  exact pk_le 3000 i (fun _ => H) (fun _ => br_t (by decide) H)
/-- stage 0 to stage 1: the letter's outcome is known then -/
theorem pg_first {cd : Int32} {v0 a8 a9 a10 a11 : Nat → Int32} {p d i : Nat} (h1 : a1 0 = 0) (hcd : a1 1 = cd) (hc2 : 2 < cd) (hc3 : ¬ cd = 3) (h3 : a3 1 = 0) (hv0 : pg_v0 (a2 0) a7 p = v0 p) (hv : v0 p = 1 ∨ v0 p = -1)
    (hp : p < 4) (hd : d + 1 < 840) (hi : i + 2 < 3000) (h9 : a9 d = nI (21 + p)) (h10 : a10 d = 0) (h8 : a8 p = -3 ∨ a8 p = v0 p)
    (H : ∀ (i' : Nat) (b8 b9 b10 : Nat → Int32), i' ≤ i + 2 → b8 p = v0 p → (∀ j, j ≠ p → b8 j = a8 j) → (∀ k, k < d + 1 → b9 k = a9 k) → b10 d = 1 → (∀ k, k < d → b10 k = a10 k) →
      wX_workOut_29 post (3001 - i') (nI i') t nd ss (nI 3) (nI (d + 1)) a1 a2 a3 a4 a5 a6 a7 b8 b9 b10 a11) :
    wX_workOut_29 post (3001 - i) (nI i) t nd ss (nI 3) (nI (d + 1)) a1 a2 a3 a4 a5 a6 a7 a8 a9 a10 a11 := by
  rcases h8 with h8 | h8
  · refine pg_step (by omega) (by omega) (fun K hK => pg_goB (by omega) hp h9 hcd hc2 h10 (fun K' hK' => pg_begU hd hp hc3 h3 h8 (hK' _ _ _ _ _ _ _ _ _ _ _ _ _ _ _ _ hK))) ?_
    refine pg_step (d := d + 1) (by omega) (by omega) (fun K hK => pg_goL hd hp pk_us h1 hK) ?_
    refine H (i + 2) _ _ _ (by omega) (pk_us.trans hv0) (fun j hj => ?_) (fun k hk => ?_) ?_ (fun k hk => ?_)
    · rw [pk_un hj, pk_un hj]
    · rw [pk_un (by omega)]
    · rw [pk_un (by omega), pk_us]
    · rw [pk_un (by omega), pk_un (by omega)]
  · have n3 : ¬ v0 p = -3 := by rcases hv with e | e <;> rw [e] <;> decide
    have n4 : ¬ v0 p = -4 := by rcases hv with e | e <;> rw [e] <;> decide
    have n2 : ¬ v0 p = -2 := by rcases hv with e | e <;> rw [e] <;> decide
    refine pg_step (by omega) (by omega) (fun K hK => pg_goB (by omega) hp h9 hcd hc2 h10 (fun K' hK' => pg_begK (by omega) hp hc3 h3 h8 n3 n4 n2 (hK' _ _ _ _ _ _ _ _ _ _ _ _ _ _ _ _ hK))) ?_
    exact H (i + 1) _ _ _ (by omega) h8 (fun j _ => rfl) (fun k _ => rfl) pk_us (fun k hk => pk_un (by omega))
/-- a frame of the rule at place p runs to its end -/
theorem pg_run {cd : Int32} {v0 v1 : Nat → Int32} (h1 : a1 0 = 0) (hcd : a1 1 = cd) (hc2 : 2 < cd) (hc3 : ¬ cd = 3) (h3 : a3 1 = 0) (hv0 : ∀ p, p < 4 → pg_v0 (a2 0) a7 p = v0 p) (hV : pg_V cd v0 v1) :
    ∀ (m p d i : Nat) (a8 a9 a10 a11 : Nat → Int32), p + m = 3 → d + m < 100 → i + 4 * (m + 1) < 2999 → a9 d = nI (21 + p) → a10 d = 0 → pg_K v0 a8 → pg_L v1 (p + 1) a8 →
    (∀ (i' : Nat) (b8 b9 b10 b11 : Nat → Int32), i' ≤ i + 4 * (m + 1) → pg_K v0 b8 → pg_L v1 p b8 → b8 (21 + p) = v1 p → (∀ j, j < p → b8 (21 + j) = a8 (21 + j)) → (∀ k, k < d → b9 k = a9 k ∧ b10 k = a10 k ∧ b11 k = a11 k) →
      wX_workOut_29 post (3001 - i') (nI i') t nd ss (nI 3) (nI d) a1 a2 a3 a4 a5 a6 a7 b8 b9 b10 b11) →
    wX_workOut_29 post (3001 - i) (nI i) t nd ss (nI 3) (nI (d + 1)) a1 a2 a3 a4 a5 a6 a7 a8 a9 a10 a11 := by
  intro m
  induction m with
  | zero =>
    intro p d i a8 a9 a10 a11 hpm hdm him h9 h10 hK hL H
    obtain ⟨hw, hv, -⟩ := hV p (by omega)
    refine pg_first h1 hcd hc2 hc3 h3 (hv0 p (by omega)) hv (by omega) (by omega) (by omega) h9 h10 (hK p (by omega)) (fun i' b8 b9 b10 hi' g8 g8' g9 g10 g10' => ?_)
    rcases hw with hw | hw
    · refine pg_step (by omega) (by omega) (fun K hK => pg_goF (by omega) (by omega) ((g9 d (by omega)).trans h9) hcd hc2 g10 (fun K' hK' => pg_aff (by omega) (by omega) h3 ((g9 d (by omega)).trans h9) g8 hw (hK' _ _ _ _ _ _ _ _ _ _ _ _ _ _ _ _ hK))) ?_
      refine H (i' + 1) _ _ _ _ (by omega) (fun j hj => ?_) (fun j hj hj4 => ?_) pk_us (fun j hj => ?_) (fun k hk => ⟨g9 k (by omega), g10' k hk, rfl⟩)
      · rw [pk_un (by omega)]
        by_cases e : j = p
        · rw [e]
          exact Or.inr g8
        · rw [g8' j e]
          exact hK j hj
      · by_cases e : j = p
        · rw [e, pk_us]
          exact Or.inr rfl
        · rw [pk_un (by omega), g8' _ (by omega)]
          exact hL j (by omega) hj4
      · rw [pk_un (by omega), g8' _ (by omega)]
    · exact absurd hw.1 (by omega)
  | succ m ih =>
    intro p d i a8 a9 a10 a11 hpm hdm him h9 h10 hK hL H
    obtain ⟨hw, hv, -⟩ := hV p (by omega)
    refine pg_first h1 hcd hc2 hc3 h3 (hv0 p (by omega)) hv (by omega) (by omega) (by omega) h9 h10 (hK p (by omega)) (fun i' b8 b9 b10 hi' g8 g8' g9 g10 g10' => ?_)
    have hK' : pg_K v0 b8 := fun j hj => by
      by_cases e : j = p
      · rw [e]
        exact Or.inr g8
      · rw [g8' j e]
        exact hK j hj
    rcases hw with hw | ⟨hp3, hc6, hv1, hs, hnn⟩
    · refine pg_step (by omega) (by omega) (fun K hK => pg_goF (by omega) (by omega) ((g9 d (by omega)).trans h9) hcd hc2 g10 (fun K' hK' => pg_aff (by omega) (by omega) h3 ((g9 d (by omega)).trans h9) g8 hw (hK' _ _ _ _ _ _ _ _ _ _ _ _ _ _ _ _ hK))) ?_
      refine H (i' + 1) _ _ _ _ (by omega) (fun j hj => ?_) (fun j hj hj4 => ?_) pk_us (fun j hj => ?_) (fun k hk => ⟨g9 k (by omega), g10' k hk, rfl⟩)
      · rw [pk_un (by omega)]
        exact hK' j hj
      · by_cases e : j = p
        · rw [e, pk_us]
          exact Or.inr rfl
        · rw [pk_un (by omega), g8' _ (by omega)]
          exact hL j (by omega) hj4
      · rw [pk_un (by omega), g8' _ (by omega)]
    · subst hc6
      have hL' : b8 (21 + (p + 1)) = -3 ∨ b8 (21 + (p + 1)) = v1 (p + 1) := by
        rw [g8' _ (by omega)]
        exact hL (p + 1) (by omega) (by omega)
      rcases hL' with hu | hu
      · refine pg_step (by omega) (by omega) (fun K hK => pg_goF (by omega) (by omega) ((g9 d (by omega)).trans h9) hcd hc2 g10 (fun K' hK' => pg_afU (by omega) hp3 h3 (g8.trans hv1) hu (hK' _ _ _ _ _ _ _ _ _ _ _ _ _ _ _ _ hK))) ?_
        refine ih (p + 1) (d + 1) (i' + 1) _ _ _ _ (by omega) (by omega) (by omega) pk_us pk_us (fun j hj => ?_) (fun j hj hj4 => ?_) (fun i2 c8 c9 c10 c11 hi2 k8 l8 e8 o8 o9 => ?_)
        · rw [pk_un (by omega)]
          exact hK' j hj
        · rw [pk_un (by omega), g8' _ (by omega)]
          exact hL j (by omega) hj4
        · obtain ⟨q9, q10, q11⟩ := o9 d (by omega)
          have w9 : c9 d = nI (21 + p) := by rw [q9, pk_un (by omega), g9 d (by omega), h9]
          have w10 : c10 d = 2 := by rw [q10, pk_un (by omega), pk_us]
          have w11 : c11 d = 1 := by rw [q11, pk_us]
          refine pg_step (by omega) (by omega) (fun K hK => pg_goS (by omega) (by omega) w9 hcd hc2 w10 (fun K' hK' => pg_as (by omega) hp3 w9 w11 e8 hnn (hK' _ _ _ _ _ _ _ _ _ _ _ _ _ _ _ _ hK))) ?_
          rw [← hs]
          refine H (i2 + 1) _ _ _ _ (by omega) (fun j hj => ?_) (fun j hj hj4 => ?_) pk_us (fun j hj => ?_) (fun k hk => ?_)
          · rw [pk_un (by omega)]
            exact k8 j hj
          · by_cases e : j = p
            · rw [e, pk_us]
              exact Or.inr rfl
            · rw [pk_un (by omega)]
              exact l8 j (by omega) hj4
          · rw [pk_un (by omega), o8 j (by omega), pk_un (by omega), g8' _ (by omega)]
          · obtain ⟨r9, r10, r11⟩ := o9 k (by omega)
            refine ⟨?_, ?_, ?_⟩
            · rw [r9, pk_un (by omega), g9 k (by omega)]
            · rw [r10, pk_un (by omega), pk_un (by omega), g10' k hk]
            · rw [r11, pk_un (by omega)]
      · obtain ⟨-, -, n3, n4, n2⟩ := hV (p + 1) (by omega)
        refine pg_step (by omega) (by omega) (fun K hK => pg_goF (by omega) (by omega) ((g9 d (by omega)).trans h9) hcd hc2 g10 (fun K' hK' => pg_afK (by omega) hp3 h3 (g8.trans hv1) hu n3 n4 n2 (hK' _ _ _ _ _ _ _ _ _ _ _ _ _ _ _ _ hK))) ?_
        refine pg_step (by omega) (by omega) (fun K hK => pg_goS (by omega) (by omega) ((g9 d (by omega)).trans h9) hcd hc2 pk_us (fun K' hK' => pg_as (by omega) hp3 ((g9 d (by omega)).trans h9) pk_us hu hnn (hK' _ _ _ _ _ _ _ _ _ _ _ _ _ _ _ _ hK))) ?_
        rw [← hs]
        refine H (i' + 1 + 1) _ _ _ _ (by omega) (fun j hj => ?_) (fun j hj hj4 => ?_) pk_us (fun j hj => ?_) (fun k hk => ⟨g9 k (by omega), ?_, ?_⟩)
        · rw [pk_un (by omega)]
          exact hK' j hj
        · by_cases e : j = p
          · rw [e, pk_us]
            exact Or.inr rfl
          · rw [pk_un (by omega), g8' _ (by omega)]
            exact hL j (by omega) hj4
        · rw [pk_un (by omega), g8' _ (by omega)]
        · rw [pk_un (by omega), g10' k hk]
        · rw [pk_un (by omega)]
end
end
section
/-- the table of outcomes holds nothing but unknowns and the right answers -/
def pg_I (v0 v1 a8 : Nat → Int32) : Prop := pg_K v0 a8 ∧ pg_L v1 0 a8
/-- what stays: the rule, the letter, the text -/
def pg_T (cd : Int32) (v0 v1 a1 a2 a3 a6 a7 : Nat → Int32) : Prop := a1 0 = 0 ∧ a1 1 = cd ∧ 2 < cd ∧ ¬ cd = 3 ∧ a3 1 = 0 ∧ a6 2 = 1 ∧ (∀ p, p < 4 → pg_v0 (a2 0) a7 p = v0 p) ∧ pg_V cd v0 v1
def pg_cnt (v1 : Nat → Int32) : Nat → Nat
  | 0 => 0
  | n + 1 => pg_cnt v1 n + (if v1 n < 0 then 0 else 1)
section
variable {t nd ss dp cd : Int32} {v0 v1 a1 a2 a3 a4 a5 a6 a7 a8 a9 a10 a11 : Nat → Int32}
theorem pg_work {post : St2 → Prop} {p : Nat} (hT : pg_T cd v0 v1 a1 a2 a3 a6 a7) (hp : p < 4) (hI : pg_I v0 v1 a8)
    (H : ∀ (b8 b9 b10 b11 : Nat → Int32), pg_I v0 v1 b8 → b8 (21 + p) = v1 p → post (t, nd, ss, nI 3, 0, a1, a2, a3, a4, a5, a6, a7, b8, b9, b10, b11)) :
    wpX_workOut post (t, nd, ss, nI 3, dp, a1, a2, a3, a4, a5, a6, a7, a8, a9, a10, a11) (nI 1) (nI p) := by
  obtain ⟨h1, hcd, hc2, hc3, h3, h6, hv0, hV⟩ := hT
  unfold wpX_workOut
  dsimp only
  rw [pg_at (nn := 1) (q := 21 + p) (by omega), nI_clamp (show 21 + p < 2 ^ 31 by omega)]
  refine ⟨pk_in (21 + p) 840 (by omega), ?_⟩
  rcases hI.2 p (by omega) hp with hu | hu
  · refine br_t hu ?_
    refine pg_put (d := 0) (nn := 1) (q := 21 + p) (by omega) (by omega) (by omega) ?_
    refine ⟨3001 - 0, ?_⟩
    refine pg_run h1 hcd hc2 hc3 h3 hv0 hV (3 - p) p 0 0 (upd a8 (21 + p) (-4)) (upd a9 0 (nI (21 + p))) (upd a10 0 0) a11 (by omega) (by omega) (by omega) pk_us pk_us (fun j hj => ?_) (fun j hj hj4 => ?_) (fun i' b8 b9 b10 b11 hi' k8 l8 e8 o8 _ => ?_)
    · rw [pk_un (by omega)]
      exact hI.1 j hj
    · rw [pk_un (by omega)]
      exact hI.2 j (by omega) hj4
    · refine pg_end (by omega) (H _ _ _ _ ⟨k8, fun j _ hj4 => ?_⟩ e8)
      by_cases e : p ≤ j
      · exact l8 j e hj4
      · rw [o8 j (by omega), pk_un (by omega)]
        exact hI.2 j (by omega) hj4
  · refine br_f (by rw [hu]; exact (hV p hp).2.2.1) ?_
    exact ⟨3001 - 0, pg_end (by omega) (H _ _ _ _ hI hu)⟩
theorem pg_match {post : Int32 → St2 → Prop} {p : Nat} (hT : pg_T cd v0 v1 a1 a2 a3 a6 a7) (hp : p < 4) (hI : pg_I v0 v1 a8)
    (H : ∀ (d' : Int32) (b8 b9 b10 b11 : Nat → Int32), pg_I v0 v1 b8 → post (v1 p) (t, nd, ss, nI 3, d', a1, a2, a3, a4, a5, a6, a7, b8, b9, b10, b11)) :
    wpX_match post (t, nd, ss, nI 3, dp, a1, a2, a3, a4, a5, a6, a7, a8, a9, a10, a11) 2 (nI p) := by
  have h6 : a6 (2 : Int32).toNatClampNeg = nI 1 := hT.2.2.2.2.2.1
  unfold wpX_match
  refine br_f (by decide) (br_f (by decide) (br_f (nI_pos (by omega)) (pk_le p 3 (fun _ => ⟨pk_in 2 4 (by omega), br_t (by rw [h6]; decide) ⟨pk_in 2 4 (by omega), ?_⟩⟩) (fun z => absurd z (by omega)))))
  rw [h6]
  refine pg_work hT hp hI (fun b8 b9 b10 b11 hI' e => ?_)
  have e1 : 21 * a6 (2 : Int32).toNatClampNeg + nI p = nI (21 + p) := by
    rw [h6]
    exact pg_at (nn := 1) (by omega)
  have e2 : b8 (21 * a6 (2 : Int32).toNatClampNeg + nI p).toNatClampNeg = v1 p := by
    rw [e1, nI_clamp (by omega), e]
  refine ⟨pk_in 2 4 (by omega), pk_in (21 + p) 840 (by omega) e1, ?_⟩
  exact (congrArg (fun r => post r (t, nd, ss, nI 3, 0, a1, a2, a3, a4, a5, a6, a7, b8, b9, b10, b11)) e2).mpr (H _ _ _ _ _ hI')
theorem pg_stuck {post : Int32 → St2 → Prop} (hT : pg_T cd v0 v1 a1 a2 a3 a6 a7) (hI : pg_I v0 v1 a8)
    (H : ∀ (d' : Int32) (b8 b9 b10 b11 : Nat → Int32), pg_I v0 v1 b8 → post 0 (t, nd, ss, nI 3, d', a1, a2, a3, a4, a5, a6, a7, b8, b9, b10, b11)) :
    wpX_stuck post (t, nd, ss, nI 3, dp, a1, a2, a3, a4, a5, a6, a7, a8, a9, a10, a11) 2 := by
  unfold wpX_stuck
  refine br_f (by decide) (br_t (by decide) ?_)
  exact pk_loop (σ := Int32 × (Nat → Int32) × (Nat → Int32) × (Nat → Int32) × (Nat → Int32)) (fun n i s => wX_stuck_16 post 2 n 0 (nI i) t nd ss (nI 3) s.1 a1 a2 a3 a4 a5 a6 a7 s.2.1 s.2.2.1 s.2.2.2.1 s.2.2.2.2) (fun _ s => pg_I v0 v1 s.2.1) 4 0 (dp, a8, a9, a10, a11) (by omega) hI
    (fun n s h => pk_lt 3 4 (fun _ => H _ _ _ _ _ h) (fun z => absurd z (by omega)))
    (fun n i s hi h hw => pk_lt 3 i (fun z => absurd z (by omega)) (fun _ => pg_match hT hi h (fun d' b8 b9 b10 b11 hI' => br_f (hT.2.2.2.2.2.2.2 i hi).2.2.2.2 (nm_r (e' := 0) rfl (nm_r (nI_1 i) (hw (d', b8, b9, b10, b11) hI'))))))
theorem pg_matches {post : Int32 → St2 → Prop} (hT : pg_T cd v0 v1 a1 a2 a3 a6 a7) (hI : pg_I v0 v1 a8)
    (H : ∀ (d' : Int32) (b8 b9 b10 b11 : Nat → Int32), pg_I v0 v1 b8 → post (nI (pg_cnt v1 4)) (t, nd, ss, nI 3, d', a1, a2, a3, a4, a5, a6, a7, b8, b9, b10, b11)) :
    wpX_matches post (t, nd, ss, nI 3, dp, a1, a2, a3, a4, a5, a6, a7, a8, a9, a10, a11) 2 := by
  unfold wpX_matches
  refine br_f (by decide) (br_t (by decide) ?_)
  exact pk_loop (σ := Int32 × (Nat → Int32) × (Nat → Int32) × (Nat → Int32) × (Nat → Int32)) (fun n i s => wX_matches_16 post 2 n (nI (pg_cnt v1 i)) (nI i) t nd ss (nI 3) s.1 a1 a2 a3 a4 a5 a6 a7 s.2.1 s.2.2.1 s.2.2.2.1 s.2.2.2.2) (fun _ s => pg_I v0 v1 s.2.1) 4 0 (dp, a8, a9, a10, a11) (by omega) hI
    (fun n s h => pk_lt 3 4 (fun _ => H _ _ _ _ _ h) (fun z => absurd z (by omega)))
    (fun n i s hi h hw => pk_lt 3 i (fun z => absurd z (by omega)) (fun _ => pg_match hT hi h (fun d' b8 b9 b10 b11 hI' =>
      br_c (fun e => nm_r (e' := nI (pg_cnt v1 (i + 1))) (by show nI (pg_cnt v1 i) + nI 0 = nI (pg_cnt v1 i + (if v1 i < 0 then 0 else 1)); rw [if_pos e, nI_add]) (nm_r (nI_1 i) (hw (d', b8, b9, b10, b11) hI')))
        (fun e => nm_r (e' := nI (pg_cnt v1 (i + 1))) (by show nI (pg_cnt v1 i) + nI 1 = nI (pg_cnt v1 i + (if v1 i < 0 then 0 else 1)); rw [if_neg e, nI_add]) (nm_r (nI_1 i) (hw (d', b8, b9, b10, b11) hI'))))))
theorem pg_whole {post : Int32 → St2 → Prop} (hT : pg_T cd v0 v1 a1 a2 a3 a6 a7) (hI : pg_I v0 v1 a8)
    (H : ∀ (d' : Int32) (b8 b9 b10 b11 : Nat → Int32), post (if v1 0 = 3 then 1 else 0) (t, nd, ss, nI 3, d', a1, a2, a3, a4, a5, a6, a7, b8, b9, b10, b11)) :
    wpX_whole post (t, nd, ss, nI 3, dp, a1, a2, a3, a4, a5, a6, a7, a8, a9, a10, a11) 2 := by
  unfold wpX_whole
  refine br_f (by decide) (br_t (by decide) ?_)
  refine pg_match (p := 0) hT (by omega) hI (fun d' b8 b9 b10 b11 hI' => br_c (fun e => ?_) (fun e => ?_))
  · have h := H d' b8 b9 b10 b11
    rw [if_pos (show v1 0 = 3 from e)] at h
    exact h
  · have h := H d' b8 b9 b10 b11
    rw [if_neg (show ¬ v1 0 = 3 from e)] at h
    exact h
end
end
section
def pg_B (P Q R : Bool) : Nat → Bool
  | 0 => P
  | 1 => Q
  | 2 => R
  | _ => false
/-- the letter's answers, by the three comparisons -/
def pg_u0 (P Q R : Bool) (j : Nat) : Int32 := if pg_B P Q R j = true then 1 else -1
/-- the rule's answers: 6 + k is its code -/
def pg_u1 (k : Nat) (P Q R : Bool) (j : Nat) : Int32 := match k with
  | 0 => (match j with
    | 0 => if P = true then (if Q = true then (if R = true then 3 else 2) else 1) else 0
    | 1 => if Q = true then (if R = true then 2 else 1) else 0
    | 2 => if R = true then 1 else 0
    | _ => 0)
  | 1 => if pg_B P Q R j = true then 1 else 0
  | 2 => if pg_B P Q R j = true then 0 else -1
  | _ => if pg_B P Q R j = true then -1 else 0
def pg_b (P : Bool) : Int32 := if P = true then 1 else 0
def pg_s (x : Int32) : Int32 := if x = 0 then 0 else 1
theorem pg_V0 : ∀ P Q R : Bool, ∀ p, p < 4 → (pg_u0 P Q R p = -1 ∧ pg_u1 0 P Q R p = 0) ∨ (p < 3 ∧ pg_u0 P Q R p = 1 ∧ pg_u1 0 P Q R p = 1 + pg_u1 0 P Q R (p + 1) ∧ 0 ≤ pg_u1 0 P Q R (p + 1)) := by decide +kernel
theorem pg_V1 : ∀ P Q R : Bool, ∀ p, p < 4 → (pg_u0 P Q R p = -1 ∧ pg_u1 1 P Q R p = 0) ∨ (pg_u0 P Q R p = 1 ∧ pg_u1 1 P Q R p = 1) := by decide +kernel
theorem pg_V2 : ∀ P Q R : Bool, ∀ p, p < 4 → (pg_u0 P Q R p = -1 ∧ pg_u1 2 P Q R p = -1) ∨ (pg_u0 P Q R p = 1 ∧ pg_u1 2 P Q R p = 0) := by decide +kernel
theorem pg_V3 : ∀ P Q R : Bool, ∀ p, p < 4 → (pg_u0 P Q R p = -1 ∧ pg_u1 3 P Q R p = 0) ∨ (pg_u0 P Q R p = 1 ∧ pg_u1 3 P Q R p = -1) := by decide +kernel
theorem pg_Va (k : Nat) (hk : k < 4) (P Q R : Bool) (p : Nat) (hp : p < 4) : pg_now (nI (6 + k)) (pg_u0 P Q R p) (pg_u1 k P Q R p) ∨ (p < 3 ∧ nI (6 + k) = 6 ∧ pg_u0 P Q R p = 1 ∧ pg_u1 k P Q R p = 1 + pg_u1 k P Q R (p + 1) ∧ 0 ≤ pg_u1 k P Q R (p + 1)) := by
  rcases (show k = 0 ∨ k = 1 ∨ k = 2 ∨ k = 3 by omega) with e | e | e | e <;> subst e
  · rcases pg_V0 P Q R p hp with ⟨h, g⟩ | ⟨g1, g2, g3, g4⟩
    · exact Or.inl (Or.inl ⟨h, Or.inl ⟨rfl, g⟩⟩)
    · exact Or.inr ⟨g1, rfl, g2, g3, g4⟩
  · rcases pg_V1 P Q R p hp with ⟨h, g⟩ | ⟨h, g⟩
    · exact Or.inl (Or.inl ⟨h, Or.inr (Or.inl ⟨rfl, g⟩)⟩)
    · exact Or.inl (Or.inr ⟨h, Or.inl ⟨rfl, g⟩⟩)
  · rcases pg_V2 P Q R p hp with ⟨h, g⟩ | ⟨h, g⟩
    · exact Or.inl (Or.inl ⟨h, Or.inr (Or.inr (Or.inl ⟨rfl, g⟩))⟩)
    · exact Or.inl (Or.inr ⟨h, Or.inr (Or.inl ⟨rfl, g⟩)⟩)
  · rcases pg_V3 P Q R p hp with ⟨h, g⟩ | ⟨h, g⟩
    · exact Or.inl (Or.inl ⟨h, Or.inr (Or.inr (Or.inr ⟨rfl, g⟩))⟩)
    · exact Or.inl (Or.inr ⟨h, Or.inr (Or.inr ⟨rfl, g⟩)⟩)
theorem pg_Vb : ∀ k, k < 4 → ∀ P Q R : Bool, ∀ p, p < 4 → (pg_u0 P Q R p = 1 ∨ pg_u0 P Q R p = -1) ∧ ¬ pg_u1 k P Q R p = -3 ∧ ¬ pg_u1 k P Q R p = -4 ∧ ¬ pg_u1 k P Q R p = -2 := by decide +kernel
theorem pg_Vok (k : Nat) (hk : k < 4) (P Q R : Bool) : pg_V (nI (6 + k)) (pg_u0 P Q R) (pg_u1 k P Q R) := fun p hp => ⟨pg_Va k hk P Q R p hp, pg_Vb k hk P Q R p hp⟩
theorem pg_cds : ∀ k, k < 4 → 2 < nI (6 + k) ∧ 3 < nI (6 + k) ∧ 5 < nI (6 + k) ∧ ¬ nI (6 + k) < 0 ∧ ¬ 10 < nI (6 + k) ∧ ¬ nI (6 + k) = 10 ∧ ¬ nI (6 + k) = 3 := by decide +kernel
theorem pg_hv0 {l x y z : Int32} {tx : Nat → Int32} {P Q R : Bool} (hP : x = l ↔ P = true) (hQ : y = l ↔ Q = true) (hR : z = l ↔ R = true) (t0 : tx 0 = x) (t1 : tx 1 = y) (t2 : tx 2 = z) :
    ∀ p, p < 4 → pg_v0 l tx p = pg_u0 P Q R p := by
  have key : ∀ (j : Nat) (B : Bool), j < 3 → (tx j = l ↔ B = true) → pg_v0 l tx j = if B = true then 1 else -1 := by
    intro j B hj h
    unfold pg_v0
    cases B
    · rw [if_neg (fun g => absurd (h.mp g.2) (by decide))]
      rfl
    · rw [if_pos ⟨hj, h.mpr rfl⟩]
      rfl
  intro p hp
  rcases (show p = 0 ∨ p = 1 ∨ p = 2 ∨ p = 3 by omega) with e | e | e | e <;> subst e
  · exact key 0 P (by omega) (by rw [t0]; exact hP)
  · exact key 1 Q (by omega) (by rw [t1]; exact hQ)
  · exact key 2 R (by omega) (by rw [t2]; exact hR)
  · unfold pg_v0
    rw [if_neg (fun g => absurd g.1 (by omega))]
    rfl
section
variable {post : Int32 → St0 → Prop} {mc ms kc ks : Nat} {t nd ss dp cd : Int32} {v0 v1 a1 a2 a3 a4 a5 a6 a7 a8 a9 a10 a11 : Nat → Int32} {x8 x9 x10 x11 z0 z1 : Int32}
theorem pg_331 (hT : pg_T cd v0 v1 a1 a2 a3 a6 a7) (hI : pg_I v0 v1 a8) (hz : z1 = z0) (ew : (if v1 0 = 3 then 1 else 0 : Int32) = if cd = 6 ∧ x11 = 3 then 1 else 0) (H : post 1 ()) :
    wL_lawOf_331 post mc ms cd x11 z0 z1 kc ks t nd ss (nI 3) dp a1 a2 a3 a4 a5 a6 a7 a8 a9 a10 a11 := by
  unfold wL_lawOf_331
  refine br_t hz (pg_whole hT hI (fun d' b8 b9 b10 b11 => br_c (fun h6 => br_c (fun h3 => ?_) (fun h3 => ?_)) (fun h6 => ?_)))
  · rw [if_pos (show cd = 6 ∧ x11 = 3 from ⟨h6, h3⟩)] at ew
    exact br_t ew H
  · rw [if_neg (show ¬ (cd = 6 ∧ x11 = 3) from fun g => h3 g.2)] at ew
    exact br_t ew H
  · rw [if_neg (show ¬ (cd = 6 ∧ x11 = 3) from fun g => h6 g.1)] at ew
    exact br_t ew H
theorem pg_295 (hT : pg_T cd v0 v1 a1 a2 a3 a6 a7) (hI : pg_I v0 v1 a8) (ec : nI (pg_cnt v1 4) = if 7 < cd then (if cd = 8 then z1 + z0 else 4 - (z1 + z0)) else 4)
    (ew : (if v1 0 = 3 then 1 else 0 : Int32) = if cd = 6 ∧ x11 = 3 then 1 else 0) (H : post 1 ()) :
    wL_lawOf_295 post mc ms cd x11 z0 z1 kc ks t nd ss (nI 3) dp a1 a2 a3 a4 a5 a6 a7 a8 a9 a10 a11 := by
  unfold wL_lawOf_295
  refine nm_e (pg_matches hT hI (fun d' b8 b9 b10 b11 hI' => br_c (fun h7 => br_c (fun h8 => ?_) (fun h8 => ?_)) (fun h7 => ?_)))
  · rw [if_pos h7, if_pos h8] at ec
    exact pg_331 hT hI' ec ew H
  · rw [if_pos h7, if_neg h8] at ec
    exact pg_331 hT hI' ec ew H
  · rw [if_neg h7] at ec
    exact pg_331 hT hI' ec ew H
theorem pg_250 (hT : pg_T cd v0 v1 a1 a2 a3 a6 a7) (hI : pg_I v0 v1 a8) (hz : z1 = z0) (ec : nI (pg_cnt v1 4) = if 7 < cd then (if cd = 8 then pg_s x8 + pg_s x9 + pg_s x10 else 4 - (pg_s x8 + pg_s x9 + pg_s x10)) else 4)
    (ew : (if v1 0 = 3 then 1 else 0 : Int32) = if cd = 6 ∧ x11 = 3 then 1 else 0) (H : post 1 ()) :
    wL_lawOf_250 post mc ms cd x8 x9 x10 x11 z0 z1 kc ks t nd ss (nI 3) dp a1 a2 a3 a4 a5 a6 a7 a8 a9 a10 a11 := by
  unfold wL_lawOf_250
  refine br_t hz (pg_stuck hT hI (fun d' b8 b9 b10 b11 hI' => br_t rfl ?_))
  have G : ∀ y8, y8 = pg_s x8 → wL_lawOf_274 post mc ms cd x9 x10 x11 y8 kc ks t nd ss (nI 3) d' a1 a2 a3 a4 a5 a6 a7 b8 b9 b10 b11 := by
    intro y8 e8
    have G2 : ∀ y9, y9 = pg_s x9 → wL_lawOf_284 post mc ms cd x10 x11 y9 y8 kc ks t nd ss (nI 3) d' a1 a2 a3 a4 a5 a6 a7 b8 b9 b10 b11 := by
      intro y9 e9
      have G3 : ∀ y10, y10 = pg_s x10 → wL_lawOf_295 post mc ms cd x11 y10 (y8 + y9) kc ks t nd ss (nI 3) d' a1 a2 a3 a4 a5 a6 a7 b8 b9 b10 b11 := by
        intro y10 e10
        subst e8 e9 e10
        exact pg_295 hT hI' ec ew H
      unfold wL_lawOf_284
      exact br_c (fun e => G3 0 (if_pos e).symm) (fun e => G3 1 (if_neg e).symm)
    unfold wL_lawOf_274
    exact br_c (fun e => G2 0 (if_pos e).symm) (fun e => G2 1 (if_neg e).symm)
  exact br_c (fun e => G 0 (if_pos e).symm) (fun e => G 1 (if_neg e).symm)
theorem pg_217 (hT : pg_T cd v0 v1 a1 a2 a3 a6 a7) (hI : pg_I v0 v1 a8) (e0 : v1 0 = z0) (e3 : v1 3 = if cd = 8 then -1 else 0)
    (ec : nI (pg_cnt v1 4) = if 7 < cd then (if cd = 8 then pg_s x8 + pg_s x9 + pg_s x10 else 4 - (pg_s x8 + pg_s x9 + pg_s x10)) else 4)
    (ew : (if v1 0 = 3 then 1 else 0 : Int32) = if cd = 6 ∧ x11 = 3 then 1 else 0) (H : post 1 ()) :
    wL_lawOf_217 post mc ms cd x8 x9 x10 x11 z0 kc ks t nd ss (nI 3) dp a1 a2 a3 a4 a5 a6 a7 a8 a9 a10 a11 := by
  unfold wL_lawOf_217
  refine pg_match (p := 0) hT (by omega) hI (fun d' b8 b9 b10 b11 hI' => br_t e0 ?_)
  refine pg_match (p := 3) hT (by omega) hI' (fun d2 c8 c9 c10 c11 hI2 => br_c (fun h => ?_) (fun h => ?_))
  · rw [if_pos h] at e3
    exact pg_250 hT hI2 e3 ec ew H
  · rw [if_neg h] at e3
    exact pg_250 hT hI2 e3 ec ew H
end
section
variable {post : Int32 → St0 → Prop} {mc ms kc ks : Nat} {t nd ss dp : Int32} {a1 a2 a3 a4 a5 a6 a7 a8 a9 a10 a11 : Nat → Int32}
/-- what the law computes of the comparisons -/
def pg_due (k : Nat) (P Q R : Bool) : Prop := pg_u1 k P Q R 3 = (if nI (6 + k) = 8 then -1 else 0) ∧
  nI (pg_cnt (pg_u1 k P Q R) 4) = (if 7 < nI (6 + k) then (if nI (6 + k) = 8 then pg_s (pg_b P) + pg_s (pg_b Q) + pg_s (pg_b R) else 4 - (pg_s (pg_b P) + pg_s (pg_b Q) + pg_s (pg_b R))) else 4) ∧
  (if pg_u1 k P Q R 0 = 3 then 1 else 0 : Int32) = (if nI (6 + k) = 6 ∧ pg_u1 0 P Q R 0 = 3 then 1 else 0)
theorem pg_dueOk : ∀ k, k < 4 → ∀ P Q R : Bool, pg_due k P Q R := by
  unfold pg_due
  decide +kernel
theorem pg_153 {k : Nat} (hk : k < 4) {P Q R : Bool} (hT : pg_T (nI (6 + k)) (pg_u0 P Q R) (pg_u1 k P Q R) a1 a2 a3 a6 a7) (hI : pg_I (pg_u0 P Q R) (pg_u1 k P Q R) a8) (H : post 1 ()) :
    wL_lawOf_153 post mc ms (nI (6 + k)) (pg_b P) (pg_b Q) (pg_b R) (pg_u1 0 P Q R 0) kc ks t nd ss (nI 3) dp a1 a2 a3 a4 a5 a6 a7 a8 a9 a10 a11 := by
  obtain ⟨d3, dc, dw⟩ := pg_dueOk k hk P Q R
  have F : ∀ z0, pg_u1 k P Q R 0 = z0 → wL_lawOf_217 post mc ms (nI (6 + k)) (pg_b P) (pg_b Q) (pg_b R) (pg_u1 0 P Q R 0) z0 kc ks t nd ss (nI 3) dp a1 a2 a3 a4 a5 a6 a7 a8 a9 a10 a11 := fun z0 e => pg_217 hT hI e d3 dc dw H
  unfold wL_lawOf_153
  clear hT hI d3 dc dw
  rcases (show k = 0 ∨ k = 1 ∨ k = 2 ∨ k = 3 by omega) with e | e | e | e <;> subst e
  · exact br_t rfl (F _ rfl)
  · refine br_f (by decide) (br_t rfl ?_)
    cases P
    · exact br_t rfl (F _ rfl)
    · exact br_f (by decide) (F _ rfl)
  · refine br_f (by decide) (br_f (by decide) (br_t rfl ?_))
    cases P
    · exact br_t rfl (F _ rfl)
    · exact br_f (by decide) (F _ rfl)
  · refine br_f (by decide) (br_f (by decide) (br_f (by decide) ?_))
    cases P
    · exact br_t rfl (F _ rfl)
    · exact br_f (by decide) (F _ rfl)
theorem pg_123 {k : Nat} (hk : k < 4) {P Q R : Bool} (hT : pg_T (nI (6 + k)) (pg_u0 P Q R) (pg_u1 k P Q R) a1 a2 a3 a6 a7) (hI : pg_I (pg_u0 P Q R) (pg_u1 k P Q R) a8) (H : post 1 ()) :
    wL_lawOf_123 post mc ms (nI (6 + k)) (pg_b P) (pg_b Q) (pg_b R) kc ks t nd ss (nI 3) dp a1 a2 a3 a4 a5 a6 a7 a8 a9 a10 a11 := by
  have F : ∀ z0, pg_u1 0 P Q R 0 = z0 → wL_lawOf_153 post mc ms (nI (6 + k)) (pg_b P) (pg_b Q) (pg_b R) z0 kc ks t nd ss (nI 3) dp a1 a2 a3 a4 a5 a6 a7 a8 a9 a10 a11 := fun z0 e => by
    rw [← e]
    exact pg_153 hk hT hI H
  unfold wL_lawOf_123
  clear hT hI
  cases P
  · exact br_t rfl (F _ rfl)
  · refine br_f (by decide) ?_
    cases Q
    · exact br_t rfl (F _ rfl)
    · refine br_f (by decide) ?_
      cases R
      · exact br_t rfl (F _ rfl)
      · exact br_f (by decide) (F _ rfl)
theorem pg_92 {k : Nat} (hk : k < 4) {P Q R : Bool} {x3 x4 x7 : Int32} (hQ : x3 &&& 3 = x7 ↔ Q = true) (hR : x4 &&& 3 = x7 ↔ R = true)
    (hT : pg_T (nI (6 + k)) (pg_u0 P Q R) (pg_u1 k P Q R) a1 a2 a3 a6 a7) (hI : pg_I (pg_u0 P Q R) (pg_u1 k P Q R) a8) (H : post 1 ()) :
    wL_lawOf_92 post mc ms x3 x4 (nI (6 + k)) x7 (pg_b P) kc ks t nd ss (nI 3) dp a1 a2 a3 a4 a5 a6 a7 a8 a9 a10 a11 := by
  have F : ∀ y9, pg_b Q = y9 → wL_lawOf_107 post mc ms x4 (nI (6 + k)) x7 (pg_b P) y9 kc ks t nd ss (nI 3) dp a1 a2 a3 a4 a5 a6 a7 a8 a9 a10 a11 := by
    intro y9 e9
    have F2 : ∀ y10, pg_b R = y10 → wL_lawOf_123 post mc ms (nI (6 + k)) (pg_b P) y9 y10 kc ks t nd ss (nI 3) dp a1 a2 a3 a4 a5 a6 a7 a8 a9 a10 a11 := by
      intro y10 e10
      rw [← e9, ← e10]
      exact pg_123 hk hT hI H
    unfold wL_lawOf_107
    exact br_c (fun e => F2 1 (if_pos (hR.mp e))) (fun e => F2 0 (if_neg (fun g => e (hR.mpr g))))
  unfold wL_lawOf_92
  exact br_c (fun e => F 1 (if_pos (hQ.mp e))) (fun e => F 0 (if_neg (fun g => e (hQ.mpr g))))
end
end
section
theorem pg_lawOf {post : Int32 → St0 → Prop} (p0 p1 p2 p3 p4 : Int32) (H : post 1 ()) : wpL_lawOf post 12 3600 () p0 p1 p2 p3 p4 := by
  obtain ⟨k, hk', ek⟩ := pk_andE p0 2 (m := 3) (by decide)
  have hk : k < 4 := hk'
  obtain ⟨c2, c3, c5, c0, c10, cn, cm⟩ := pg_cds k hk
  have ek6 : 6 + (p0 &&& 3) = nI (6 + k) := by
    rw [ek]
    exact nI_add 6 k
  obtain ⟨P, hP⟩ : ∃ P : Bool, (p2 &&& 3 = p1 &&& 3 ↔ P = true) := ⟨decide (p2 &&& 3 = p1 &&& 3), decide_eq_true_iff.symm⟩
  obtain ⟨Q, hQ⟩ : ∃ P : Bool, (p3 &&& 3 = p1 &&& 3 ↔ P = true) := ⟨decide (p3 &&& 3 = p1 &&& 3), decide_eq_true_iff.symm⟩
  obtain ⟨R, hR⟩ : ∃ P : Bool, (p4 &&& 3 = p1 &&& 3 ↔ P = true) := ⟨decide (p4 &&& 3 = p1 &&& 3), decide_eq_true_iff.symm⟩
  unfold wpL_lawOf
  refine ⟨by omega, by omega, 11, 3584, by omega, by omega, ?_⟩
  refine pg_init (by omega) (by omega) (fun b a hb ha => nm_r ek6 ?_)
  refine pg_t0 p1 ?_
  refine pg_t1 c3 c5 c0 c10 cn ?_
  refine pg_t2 (fun a' ha' => br_t rfl ?_)
  refine pg_ty p2 (k := 0) (by omega) (fun e1 he1 => ?_)
  refine pg_ty p3 (k := 1) (by omega) (fun e2 he2 => ?_)
  refine pg_ty p4 (k := 2) (by omega) (fun e3 he3 => br_t rfl (nm_e ?_))
  have hT : pg_T (nI (6 + k)) (pg_u0 P Q R) (pg_u1 k P Q R) (upd (upd (fun _ => 0) 0 0) 1 (nI (6 + k))) (upd (upd (fun _ => 0) 0 (p1 &&& 3)) 1 0) (upd (upd (fun _ => 0) 0 (-1)) 1 (upd (fun _ => 0) 0 0 0)) (upd b 2 (upd (upd (fun _ => 0) 0 0) 0 1 0)) (upd (upd (upd (fun _ => 0) 0 (p2 &&& 3)) 1 (p3 &&& 3)) 2 (p4 &&& 3)) :=
    ⟨rfl, pk_us, c2, cm, rfl, rfl, pg_hv0 hP hQ hR rfl rfl rfl, pg_Vok k hk P Q R⟩
  have hI : pg_I (pg_u0 P Q R) (pg_u1 k P Q R) e3 := ⟨fun j hj => Or.inl (he3 j (by omega)), fun j _ hj => Or.inl (he3 (21 + j) (by omega))⟩
  have F : ∀ y8, pg_b P = y8 → wL_lawOf_92 post 12 3600 p3 p4 (nI (6 + k)) (p1 &&& 3) y8 (1 + 11) (16 + 3584) 3 2 0 (nI 3) 0 (upd (upd (fun _ => 0) 0 0) 1 (nI (6 + k))) (upd (upd (fun _ => 0) 0 (p1 &&& 3)) 1 0) (upd (upd (fun _ => 0) 0 (-1)) 1 (upd (fun _ => 0) 0 0 0)) (upd (upd (fun _ => 0) 0 (-1)) 1 (-1)) (upd (upd (fun _ => 0) 0 0) 0 1) (upd b 2 (upd (upd (fun _ => 0) 0 0) 0 1 0)) (upd (upd (upd (fun _ => 0) 0 (p2 &&& 3)) 1 (p3 &&& 3)) 2 (p4 &&& 3)) e3 (fun _ => 0) (fun _ => 0) (fun _ => 0) := by
    intro y8 e8
    rw [← e8]
    exact pg_92 hk hQ hR hT hI H
  exact br_c (fun e => F 1 (if_pos (hP.mp e))) (fun e => F 0 (if_neg (fun g => e (hP.mpr g))))
theorem i_vc (xs : Nat → Int32) (L : Nat) (hL : L ≤ 5) : wpL_law (fun r => r = 1) L xs := by
  have C : ∀ (post : Int32 → Prop) (i : Nat), i < 5 → (∀ r, post r) → wpL_cellAt post L xs () (nI i) := by
    intro post i hi h
    unfold wpL_cellAt
    exact pk_le L i (fun _ => h 0) (fun z => ⟨pk_in i L z, h _⟩)
  unfold wpL_law
  exact C _ 0 (by omega) (fun r1 => C _ 1 (by omega) (fun r2 => C _ 2 (by omega) (fun r3 => C _ 3 (by omega) (fun r4 => C _ 4 (by omega) (fun r5 => ⟨12, 3600, by omega, by omega, pg_lawOf r1 r2 r3 r4 r5 rfl⟩)))))
end
