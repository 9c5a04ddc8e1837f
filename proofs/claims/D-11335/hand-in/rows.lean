section
section
variable {rd cm sk fl df lV lX lW lY sn : Int32} {a1 a2 a3 a4 a5 a6 a7 a8 a9 a10 a11 a12 : Nat → Int32} {x c d k v2 v3 v7 : Int32}
theorem ix_b (l : Nat) : nI l * 15 = nI (l * 15) := pk_mul l 15
theorem ix_bi (l i : Nat) : nI l * 15 + nI i = nI (l * 15 + i) := by
  rw [ix_b, nI_add]
theorem ix_pl (l t : Nat) : nI l * 15 + 10 + nI t = nI (l * 15 + 10 + t) := by
  rw [ix_b, show (10 : Int32) = nI 10 from rfl, nI_add, nI_add]
theorem ix_t5 (t v : Nat) : nI t * 5 + nI v = nI (t * 5 + v) := by
  rw [show nI t * 5 = nI (t * 5) from pk_mul t 5, nI_add]
/-- the program: thread 1 has five instructions, the others none; start holds x at variable 2 -/
def ix_P (x c d k : Int32) (a1 a2 a3 a4 a5 : Nat → Int32) : Prop :=
  (a1 0 = nI 0 ∧ a1 1 = nI 5 ∧ a1 2 = nI 0) ∧ (a2 5 = 0 ∧ a2 6 = 2 ∧ a2 7 = 6 ∧ a2 8 = 1 ∧ a2 9 = 3) ∧
  (a3 5 = 1 ∧ a3 6 = 1 ∧ a3 7 = 1 ∧ a3 8 = 1 ∧ a3 9 = d) ∧ (a4 5 = 2 ∧ a4 6 = c ∧ a4 7 = k ∧ a4 8 = 3 ∧ a4 9 = 2) ∧ a5 2 = x
/-- level l: thread 1 stands at p, the others at 0; variables 2 and 3, register 7 -/
def ix_C (a6 : Nat → Int32) (l p : Nat) (v2 v3 v7 : Int32) : Prop :=
  a6 (l * 15 + 10) = nI 0 ∧ a6 (l * 15 + 11) = nI p ∧ a6 (l * 15 + 12) = nI 0 ∧ a6 (l * 15 + 2) = v2 ∧ a6 (l * 15 + 3) = v3 ∧ a6 (l * 15 + 7) = v7
theorem ix_op {l : Nat} (hl : l < 5) (h : ix_P x c d k a1 a2 a3 a4 a5) : ¬ a2 (5 + l) = 4 ∧ ¬ a2 (5 + l) = 8 := by
  obtain ⟨_, ⟨h5, h6, h7, h8, h9⟩, _⟩ := h
  rcases (show l = 0 ∨ l = 1 ∨ l = 2 ∨ l = 3 ∨ l = 4 by omega) with e | e | e | e | e
  · subst e; show ¬ a2 5 = 4 ∧ ¬ a2 5 = 8; rw [h5]; decide
  · subst e; show ¬ a2 6 = 4 ∧ ¬ a2 6 = 8; rw [h6]; decide
  · subst e; show ¬ a2 7 = 4 ∧ ¬ a2 7 = 8; rw [h7]; decide
  · subst e; show ¬ a2 8 = 4 ∧ ¬ a2 8 = 8; rw [h8]; decide
  · subst e; show ¬ a2 9 = 4 ∧ ¬ a2 9 = 8; rw [h9]; decide
theorem ix_next {post : Int32 → Prop} {l t v z : Nat} (hl : l ≤ 5) (ht : t < 3) (hv : v < 100) (hz : z < 100) (h6 : a6 (l * 15 + 10 + t) = nI v) (h1 : a1 t = nI z)
    (H1 : v < z → post (nI (t * 5 + v))) (H2 : z ≤ v → post (-1)) : wpX_nextOf post (rd, cm, sk, fl, df, lV, lX, lW, lY, sn, a1, a2, a3, a4, a5, a6, a7, a8, a9, a10, a11, a12) (nI l) (nI t) := by
  unfold wpX_nextOf
  dsimp only
  rw [ix_pl, nI_clamp (show l * 15 + 10 + t < 2 ^ 31 by omega), nI_clamp (show t < 2 ^ 31 by omega), h6, h1]
  exact ⟨pk_in (l * 15 + 10 + t) 180 (by omega), nm_e ⟨pk_in t 3 ht, pk_lt v z (fun h => by rw [ix_t5]; exact H1 h) H2⟩⟩
theorem ix_go0 {post : Int32 → Prop} {l t v z : Nat} (hl : l ≤ 5) (ht : t < 3) (hv : v < 100) (hz : z < 100) (h6 : a6 (l * 15 + 10 + t) = nI v) (h1 : a1 t = nI z) (hvz : z ≤ v)
    (H : post 0) : wpX_canGo post (rd, cm, sk, fl, df, lV, lX, lW, lY, sn, a1, a2, a3, a4, a5, a6, a7, a8, a9, a10, a11, a12) (nI l) (nI t) := by
  unfold wpX_canGo
  dsimp only
  exact ix_next hl ht hv hz h6 h1 (fun h => absurd h (by omega)) (fun _ => br_f (by decide) H)
theorem ix_go1 {post : Int32 → Prop} {l : Nat} (hl : l < 5) (h6 : a6 (l * 15 + 10 + 1) = nI l) (h1 : a1 1 = nI 5) (h2 : ¬ a2 (5 + l) = 4) (h2' : ¬ a2 (5 + l) = 8)
    (H : post 1) : wpX_canGo post (rd, cm, sk, fl, df, lV, lX, lW, lY, sn, a1, a2, a3, a4, a5, a6, a7, a8, a9, a10, a11, a12) (nI l) (nI 1) := by
  unfold wpX_canGo
  dsimp only
  refine ix_next (v := l) (z := 5) (by omega) (by omega) (by omega) (by omega) h6 h1 (fun _ => pk_le 0 (1 * 5 + l) (fun _ => nm_e ⟨pk_in (1 * 5 + l) 15 (by omega), ?_⟩) (fun h => absurd h (by omega))) (fun h => absurd h (by omega))
  rw [nI_clamp (show 1 * 5 + l < 2 ^ 31 by omega), show 1 * 5 + l = 5 + l by omega]
  exact br_f h2 ⟨pk_in (5 + l) 15 (by omega), br_f h2' H⟩
theorem ix_able {post : Int32 → Prop} {l : Nat} (hl : l < 5) (hP : ix_P x c d k a1 a2 a3 a4 a5) (hC : ix_C a6 l l v2 v3 v7) (H : post 2) : wpX_able post (rd, cm, sk, fl, df, lV, lX, lW, lY, sn, a1, a2, a3, a4, a5, a6, a7, a8, a9, a10, a11, a12) (nI l) := by
  have ho := ix_op hl hP
  obtain ⟨⟨z0, z1, z2⟩, _⟩ := hP
  obtain ⟨c0, c1, c2, _⟩ := hC
  unfold wpX_able
  dsimp only
  refine ⟨3 + 1, br_f (by decide) (ix_go0 (t := 0) (v := 0) (z := 0) (by omega) (by omega) (by omega) (by omega) c0 z0 (by omega) (br_t rfl (nm_r (e' := nI 1) (by decide) ?_)))⟩
  refine br_f (by decide) (ix_go1 hl c1 z1 ho.1 ho.2 (br_f (by decide) (nm_r (e' := 2) (by decide) (nm_r (e' := nI 2) (by decide) ?_))))
  exact br_f (by decide) (ix_go0 (t := 2) (v := 0) (z := 0) (by omega) (by omega) (by omega) (by omega) c2 z2 (by omega) (br_t rfl (nm_r (e' := nI 3) (by decide) (br_t (by decide) H))))
theorem ix_able5 {post : Int32 → Prop} (hP : ix_P x c d k a1 a2 a3 a4 a5) (hC : ix_C a6 5 5 v2 v3 v7) (H : post 0) : wpX_able post (rd, cm, sk, fl, df, lV, lX, lW, lY, sn, a1, a2, a3, a4, a5, a6, a7, a8, a9, a10, a11, a12) (nI 5) := by
  obtain ⟨⟨z0, z1, z2⟩, _⟩ := hP
  obtain ⟨c0, c1, c2, _⟩ := hC
  unfold wpX_able
  dsimp only
  refine ⟨3 + 1, br_f (by decide) (ix_go0 (t := 0) (v := 0) (z := 0) (by omega) (by omega) (by omega) (by omega) c0 z0 (by omega) (br_t rfl (nm_r (e' := nI 1) (by decide) ?_)))⟩
  refine br_f (by decide) (ix_go0 (t := 1) (v := 5) (z := 5) (by omega) (by omega) (by omega) (by omega) c1 z1 (by omega) (br_t rfl (nm_r (e' := nI 2) (by decide) ?_)))
  exact br_f (by decide) (ix_go0 (t := 2) (v := 0) (z := 0) (by omega) (by omega) (by omega) (by omega) c2 z2 (by omega) (br_t rfl (nm_r (e' := nI 3) (by decide) (br_t (by decide) H))))
theorem ix_fin {post : Int32 → Prop} (hP : ix_P x c d k a1 a2 a3 a4 a5) (hC : ix_C a6 5 5 v2 v3 v7) (H : post 1) : wpX_allFinished post (rd, cm, sk, fl, df, lV, lX, lW, lY, sn, a1, a2, a3, a4, a5, a6, a7, a8, a9, a10, a11, a12) (nI 5) := by
  obtain ⟨⟨z0, z1, z2⟩, _⟩ := hP
  obtain ⟨c0, c1, c2, _⟩ := hC
  unfold wpX_allFinished
  dsimp only
  refine ⟨3 + 1, br_f (by decide) (ix_next (t := 0) (v := 0) (z := 0) (by omega) (by omega) (by omega) (by omega) c0 z0 (fun h => absurd h (by omega)) (fun _ => br_t (by decide) (nm_r (e' := nI 1) (by decide) ?_)))⟩
  refine br_f (by decide) (ix_next (t := 1) (v := 5) (z := 5) (by omega) (by omega) (by omega) (by omega) c1 z1 (fun h => absurd h (by omega)) (fun _ => br_t (by decide) (nm_r (e' := nI 2) (by decide) ?_)))
  exact br_f (by decide) (ix_next (t := 2) (v := 0) (z := 0) (by omega) (by omega) (by omega) (by omega) c2 z2 (fun h => absurd h (by omega)) (fun _ => br_t (by decide) (nm_r (e' := nI 3) (by decide) (br_t (by decide) H))))
theorem ix_sleep {post : Int32 → Prop} {l : Nat} (hl : l < 5) (hP : ix_P x c d k a1 a2 a3 a4 a5) (hC : ix_C a6 l l v2 v3 v7) (H : post 0) : wpX_sleepers post (rd, cm, sk, fl, df, lV, lX, lW, lY, sn, a1, a2, a3, a4, a5, a6, a7, a8, a9, a10, a11, a12) (nI l) (nI 1) := by
  obtain ⟨⟨z0, z1, z2⟩, _⟩ := hP
  obtain ⟨c0, c1, c2, _⟩ := hC
  unfold wpX_sleepers
  dsimp only
  refine ix_next (t := 1) (v := l) (z := 5) (by omega) (by omega) (by omega) (by omega) c1 z1 (fun _ => ⟨3 + 1, ?_⟩) (fun h => absurd h (by omega))
  refine br_f (by decide) (ix_next (t := 0) (v := 0) (z := 0) (by omega) (by omega) (by omega) (by omega) c0 z0 (fun h => absurd h (by omega)) (fun _ => br_f (by decide) (br_t (by decide) (nm_r (e' := nI 1) (by decide) ?_))))
  refine br_f (by decide) (ix_next (t := 1) (v := l) (z := 5) (by omega) (by omega) (by omega) (by omega) c1 z1 (fun _ => br_t rfl (nm_r (e' := nI 2) (by decide) ?_)) (fun h => absurd h (by omega)))
  exact br_f (by decide) (ix_next (t := 2) (v := 0) (z := 0) (by omega) (by omega) (by omega) (by omega) c2 z2 (fun h => absurd h (by omega)) (fun _ => br_f (by decide) (br_t (by decide) (nm_r (e' := nI 3) (by decide) (br_t (by decide) H)))))
end
end
section
section
variable {rd cm sk fl df lV lX lW lY sn : Int32} {a1 a2 a3 a4 a5 a6 a7 a8 a9 a10 a11 a12 : Nat → Int32} {x c d k v2 v3 v7 : Int32}
theorem ix_n107 {post : St2 → Prop} (H : ∀ b11 b12 : Nat → Int32, post (rd, 1, sk, fl, df, lV, lX, lW, lY, sn, a1, a2, a3, a4, a5, a6, a7, a8, a9, a10, b11, b12)) : ∃ n, wX_noteEnd_107 post (nI 75) rd 0 sk fl df lV lX lW lY sn n 0 a1 a2 a3 a4 a5 a6 a7 a8 a9 a10 a11 a12 :=
  pk_loop (σ := (Nat → Int32) × (Nat → Int32)) (fun n i s => wX_noteEnd_107 post (nI 75) rd 0 sk fl df lV lX lW lY sn n (nI i) a1 a2 a3 a4 a5 a6 a7 a8 a9 a10 s.1 s.2) (fun _ _ => True) 10 0 (a11, a12) (by omega) trivial
    (fun n s _ => pk_le 10 10 (fun _ => H s.1 s.2) (fun z => absurd z (by omega)))
    (fun n i s hi _ hw => pk_le 10 i (fun z => absurd z (by omega)) (fun _ => And.intro (pk_in (75 + i) 180 (by omega) (nI_add 75 i)) (nm_e (br_t rfl (And.intro (pk_in i 10 hi) (nm_e (br_t rfl (And.intro (pk_in i 10 hi) (nm_e (nm_r (nI_1 i) (hw (_, _) trivial)))))))))))
theorem ix_n48 {post : St2 → Prop} (H : ∀ b10 b11 b12 : Nat → Int32, post (rd, 1, sk, fl, df, lV, lX, lW, lY, sn, a1, a2, a3, a4, a5, a6, a7, a8, a9, b10, b11, b12)) : ∃ n, wX_noteEnd_48 post (nI 75) rd 0 sk fl lV lX lW lY sn n 0 df a1 a2 a3 a4 a5 a6 a7 a8 a9 a10 a11 a12 :=
  pk_loop (fun n i s => wX_noteEnd_48 post (nI 75) rd 0 sk fl lV lX lW lY sn n (nI i) df a1 a2 a3 a4 a5 a6 a7 a8 a9 s a11 a12) (fun _ _ => True) 4 0 a10 (by omega) trivial
    (fun n s _ => pk_le 4 4 (fun _ => ix_n107 (fun b11 b12 => H s b11 b12)) (fun z => absurd z (by omega)))
    (fun n i s hi _ hw => pk_le 4 i (fun z => absurd z (by omega)) (fun _ => br_t rfl (And.intro (pk_in (75 + i) 180 (by omega) (nI_add 75 i)) (And.intro (pk_in i 4 hi) (nm_e (nm_r (nI_1 i) (hw _ trivial)))))))
theorem ix_note {post : St2 → Prop} {p q : Nat} (hp : p < 4) (hq : q < 4)
    (H : ∀ (s' : Int32) (b10 b11 b12 : Nat → Int32), (a6 (75 + p) = lX → a6 (75 + q) = lY → s' = 1) → post (rd, 1, sk, fl, df, nI p, lX, nI q, lY, s', a1, a2, a3, a4, a5, a6, a7, a8, a9, b10, b11, b12)) :
    wpX_noteEnd post (rd, 0, sk, fl, df, nI p, lX, nI q, lY, sn, a1, a2, a3, a4, a5, a6, a7, a8, a9, a10, a11, a12) (nI 5) := by
  unfold wpX_noteEnd
  dsimp only
  refine nm_r (e' := nI 75) (by decide) ?_
  have ep : nI 75 + nI p = nI (75 + p) := nI_add 75 p
  have eq : nI 75 + nI q = nI (75 + q) := nI_add 75 q
  refine And.intro (pk_in (75 + p) 180 (by omega) ep) (br_c (fun h1 => And.intro (pk_in (75 + q) 180 (by omega) eq) (br_c (fun h2 => ?_) (fun h2 => ?_))) (fun h1 => ?_))
  · exact ix_n48 (fun b10 b11 b12 => H 1 b10 b11 b12 (fun _ _ => rfl))
  · rw [eq, nI_clamp (show 75 + q < 2 ^ 31 by omega)] at h2
    exact ix_n48 (fun b10 b11 b12 => H sn b10 b11 b12 (fun _ g => absurd g h2))
  · rw [ep, nI_clamp (show 75 + p < 2 ^ 31 by omega)] at h1
    exact ix_n48 (fun b10 b11 b12 => H sn b10 b11 b12 (fun g _ => absurd g h1))
theorem ix_opn {post : St2 → Prop} {l : Nat} (hl : l < 5) (hP : ix_P x c d k a1 a2 a3 a4 a5) (hC : ix_C a6 l l v2 v3 v7) (h7 : a7 l = 0)
    (H : post (rd, cm, sk, fl, df, lV, lX, lW, lY, sn, a1, a2, a3, a4, a5, a6, a7, upd a8 l 2, upd a9 l 0, a10, a11, a12)) : wpX_open post (rd, cm, sk, fl, df, lV, lX, lW, lY, sn, a1, a2, a3, a4, a5, a6, a7, a8, a9, a10, a11, a12) (nI l) := by
  unfold wpX_open
  dsimp only
  refine ix_able hl hP hC ?_
  rw [nI_clamp (show l < 2 ^ 31 by omega), h7]
  exact ⟨pk_in l 12 (by omega), nm_e ⟨pk_in l 12 (by omega), pk_in l 12 (by omega), nm_r (e' := upd a8 l 2) (congrArg (upd a8 l) (show (2 : Int32) &&& (0 ^^^ (-1)) = 2 by decide)) (br_f (by decide) H)⟩⟩
theorem ix_opn5 {post : St2 → Prop} {p q : Nat} (hp : p < 4) (hq : q < 4) (hP : ix_P x c d k a1 a2 a3 a4 a5) (hC : ix_C a6 5 5 v2 v3 v7)
    (H : ∀ (s' : Int32) (b8 b9 b10 b11 b12 : Nat → Int32), (∀ j, j < 5 → b8 j = a8 j) → b8 5 = 0 → (a6 (75 + p) = lX → a6 (75 + q) = lY → s' = 1) →
      post (rd, 1, sk, fl, df, nI p, lX, nI q, lY, s', a1, a2, a3, a4, a5, a6, a7, b8, b9, b10, b11, b12)) : wpX_open post (rd, 0, sk, fl, df, nI p, lX, nI q, lY, sn, a1, a2, a3, a4, a5, a6, a7, a8, a9, a10, a11, a12) (nI 5) := by
  unfold wpX_open
  dsimp only
  refine ix_able5 hP hC ?_
  rw [nI_clamp (show 5 < 2 ^ 31 by omega)]
  refine ⟨pk_in 5 12 (by omega), nm_e ⟨pk_in 5 12 (by omega), pk_in 5 12 (by omega), nm_r (e' := upd a8 5 0) (congrArg (upd a8 5) Int32.zero_and) (br_t rfl (ix_fin hP hC (br_f (by decide) (ix_note hp hq (fun s' b10 b11 b12 hs => ?_)))))⟩⟩
  exact H s' (upd a8 5 0) (upd a9 5 0) b10 b11 b12 (fun j hj => pk_un (by omega)) pk_us hs
end
end
section
section
variable {rd cm sk fl df lV lX lW lY sn : Int32} {a1 a2 a3 a4 a5 a6 a7 a8 a9 a10 a11 a12 : Nat → Int32} {x c d k v2 v3 v7 w2 w3 w7 : Int32}
theorem ix_C11 {l p : Nat} (h : ix_C a6 l p v2 v3 v7) (p' : Nat) : ix_C (upd a6 (l * 15 + 11) (nI p')) l p' v2 v3 v7 := by
  obtain ⟨c0, c1, c2, e2, e3, e7⟩ := h
  exact ⟨Eq.trans (pk_un (by omega)) c0, pk_us, Eq.trans (pk_un (by omega)) c2, Eq.trans (pk_un (by omega)) e2, Eq.trans (pk_un (by omega)) e3, Eq.trans (pk_un (by omega)) e7⟩
theorem ix_C2 {l p : Nat} (h : ix_C a6 l p v2 v3 v7) (w : Int32) : ix_C (upd a6 (l * 15 + 2) w) l p w v3 v7 := by
  obtain ⟨c0, c1, c2, e2, e3, e7⟩ := h
  exact ⟨Eq.trans (pk_un (by omega)) c0, Eq.trans (pk_un (by omega)) c1, Eq.trans (pk_un (by omega)) c2, pk_us, Eq.trans (pk_un (by omega)) e3, Eq.trans (pk_un (by omega)) e7⟩
theorem ix_C3 {l p : Nat} (h : ix_C a6 l p v2 v3 v7) (w : Int32) : ix_C (upd a6 (l * 15 + 3) w) l p v2 w v7 := by
  obtain ⟨c0, c1, c2, e2, e3, e7⟩ := h
  exact ⟨Eq.trans (pk_un (by omega)) c0, Eq.trans (pk_un (by omega)) c1, Eq.trans (pk_un (by omega)) c2, Eq.trans (pk_un (by omega)) e2, pk_us, Eq.trans (pk_un (by omega)) e7⟩
theorem ix_C7 {l p : Nat} (h : ix_C a6 l p v2 v3 v7) (w : Int32) : ix_C (upd a6 (l * 15 + 7) w) l p v2 v3 w := by
  obtain ⟨c0, c1, c2, e2, e3, e7⟩ := h
  exact ⟨Eq.trans (pk_un (by omega)) c0, Eq.trans (pk_un (by omega)) c1, Eq.trans (pk_un (by omega)) c2, Eq.trans (pk_un (by omega)) e2, Eq.trans (pk_un (by omega)) e3, pk_us⟩
/-- instruction 5 + l is carried out on level l + 1 -/
def ix_good (l : Nat) (v2 v3 v7 w2 w3 w7 : Int32) (a2 a3 a4 : Nat → Int32) : Prop :=
  ∀ (Q : Int32 → St2 → Prop) (rd cm sk fl df lV lX lW lY sn : Int32) (a1 a5 a6 a7 a8 a9 a10 a11 a12 : Nat → Int32), ix_C a6 (l + 1) l v2 v3 v7 →
    (∀ b6, ix_C b6 (l + 1) (l + 1) w2 w3 w7 → Q 1 (rd, cm, sk, fl, df, lV, lX, lW, lY, sn, a1, a2, a3, a4, a5, b6, a7, a8, a9, a10, a11, a12)) → wpX_perform Q (rd, cm, sk, fl, df, lV, lX, lW, lY, sn, a1, a2, a3, a4, a5, a6, a7, a8, a9, a10, a11, a12) (nI (l + 1)) (nI 1) (nI (5 + l))
/-- it fails -/
def ix_bad (l : Nat) (v2 v3 v7 : Int32) (a2 a3 a4 : Nat → Int32) : Prop :=
  ∀ (Q : Int32 → St2 → Prop) (rd cm sk fl df lV lX lW lY sn : Int32) (a1 a5 a6 a7 a8 a9 a10 a11 a12 : Nat → Int32), ix_C a6 (l + 1) l v2 v3 v7 →
    (∀ b6, Q 0 (rd, cm, sk, fl, df, lV, lX, lW, lY, sn, a1, a2, a3, a4, a5, b6, a7, a8, a9, a10, a11, a12)) → wpX_perform Q (rd, cm, sk, fl, df, lV, lX, lW, lY, sn, a1, a2, a3, a4, a5, a6, a7, a8, a9, a10, a11, a12) (nI (l + 1)) (nI 1) (nI (5 + l))
theorem ix_pl1 {n p : Nat} {i : Int32} (hi : i = nI n) (hn : n < 180) (h : a6 n = nI p) : upd a6 i.toNatClampNeg (a6 i.toNatClampNeg + 1) = upd a6 n (nI (p + 1)) := by
  rw [hi, nI_clamp (show n < 2 ^ 31 by omega), h, nI_1]
theorem ix_g0 (hP : ix_P x c d k a1 a2 a3 a4 a5) : ix_good 0 v2 v3 v7 v2 v3 v2 a2 a3 a4 := by
  obtain ⟨_, ⟨o5, o6, o7, o8, o9⟩, ⟨q5, q6, q7, q8, q9⟩, ⟨r5, r6, r7, r8, r9⟩, _⟩ := hP
  intro Q rd cm sk fl df lV lX lW lY sn a1 a5 a6 a7 a8 a9 a10 a11 a12 hC H
  have hD := ix_C11 hC (0 + 1)
  have c1 : a6 26 = nI 0 := hC.2.1
  have e2 : upd a6 26 (nI 1) 17 = v2 := hD.2.2.2.1
  unfold wpX_perform
  dsimp only
  rw [show (nI (5 + 0)).toNatClampNeg = 5 from nI_clamp (by omega), o5, q5, r5]
  refine nm_r (e' := nI 15) (by decide) ⟨pk_in 5 15 (by omega), nm_r (e' := nI 22) (by decide) ⟨pk_in 5 15 (by omega), nm_r (e' := nI 17) (by decide) ⟨pk_in 5 15 (by omega), nm_e ⟨pk_in 26 180 (by omega) (by decide), pk_in 26 180 (by omega) (by decide), nm_r (ix_pl1 (n := 26) (by decide) (by omega) c1) ⟨pk_in 5 15 (by omega), nm_e (br_f (by decide) (br_f (by decide) (br_t (by decide) ⟨pk_in 17 180 (by omega), pk_in 22 180 (by omega), nm_r (e' := upd (upd a6 26 (nI 1)) 22 v2) ?_ (H _ (ix_C7 hD v2))⟩)))⟩⟩⟩⟩⟩
  rw [nI_clamp (show 22 < 2 ^ 31 by omega), nI_clamp (show 17 < 2 ^ 31 by omega), e2]
theorem ix_g1 (hP : ix_P x c d k a1 a2 a3 a4 a5) : ix_good 1 v2 v3 v7 v2 v3 (v7 + c) a2 a3 a4 := by
  obtain ⟨_, ⟨o5, o6, o7, o8, o9⟩, ⟨q5, q6, q7, q8, q9⟩, ⟨r5, r6, r7, r8, r9⟩, _⟩ := hP
  intro Q rd cm sk fl df lV lX lW lY sn a1 a5 a6 a7 a8 a9 a10 a11 a12 hC H
  have hD := ix_C11 hC (1 + 1)
  have c1 : a6 41 = nI 1 := hC.2.1
  have e7 : upd a6 41 (nI 2) 37 = v7 := hD.2.2.2.2.2
  unfold wpX_perform
  dsimp only
  rw [show (nI (5 + 1)).toNatClampNeg = 6 from nI_clamp (by omega), o6, q6, r6]
  refine nm_r (e' := nI 30) (by decide) ⟨pk_in 6 15 (by omega), nm_r (e' := nI 37) (by decide) ⟨pk_in 6 15 (by omega), nm_e ⟨pk_in 6 15 (by omega), nm_e ⟨pk_in 41 180 (by omega) (by decide), pk_in 41 180 (by omega) (by decide), nm_r (ix_pl1 (n := 41) (by decide) (by omega) c1) ⟨pk_in 6 15 (by omega), nm_e (br_f (by decide) (br_f (by decide) (br_f (by decide) (br_f (by decide) (br_t (by decide) ⟨pk_in 37 180 (by omega), pk_in 6 15 (by omega), pk_in 37 180 (by omega), nm_r (e' := upd (upd a6 41 (nI 2)) 37 (v7 + c)) ?_ (H _ (ix_C7 hD (v7 + c)))⟩)))))⟩⟩⟩⟩⟩
  rw [nI_clamp (show 37 < 2 ^ 31 by omega), e7]
theorem ix_g2 (hP : ix_P x c d k a1 a2 a3 a4 a5) (hk : v7 = k) : ix_good 2 v2 v3 v7 v2 v3 v7 a2 a3 a4 := by
  obtain ⟨_, ⟨o5, o6, o7, o8, o9⟩, ⟨q5, q6, q7, q8, q9⟩, ⟨r5, r6, r7, r8, r9⟩, _⟩ := hP
  intro Q rd cm sk fl df lV lX lW lY sn a1 a5 a6 a7 a8 a9 a10 a11 a12 hC H
  have hD := ix_C11 hC (2 + 1)
  have c1 : a6 56 = nI 2 := hC.2.1
  have e7 : upd a6 56 (nI 3) 52 = v7 := hD.2.2.2.2.2
  unfold wpX_perform
  dsimp only
  rw [show (nI (5 + 2)).toNatClampNeg = 7 from nI_clamp (by omega), o7, q7, r7]
  refine nm_r (e' := nI 45) (by decide) ⟨pk_in 7 15 (by omega), nm_r (e' := nI 52) (by decide) ⟨pk_in 7 15 (by omega), nm_e ⟨pk_in 7 15 (by omega), nm_e ⟨pk_in 56 180 (by omega) (by decide), pk_in 56 180 (by omega) (by decide), nm_r (ix_pl1 (n := 56) (by decide) (by omega) c1) ⟨pk_in 7 15 (by omega), nm_e (br_f (by decide) (br_f (by decide) (br_f (by decide) (br_f (by decide) (br_f (by decide) (br_f (by decide) (br_f (by decide) (br_f (by decide) (br_t (by decide) ⟨pk_in 52 180 (by omega), pk_in 7 15 (by omega), br_t ?_ (H _ hD)⟩)))))))))⟩⟩⟩⟩⟩
  rw [nI_clamp (show 52 < 2 ^ 31 by omega)]
  exact e7.trans hk
theorem ix_b2 (hP : ix_P x c d k a1 a2 a3 a4 a5) (hk : ¬ v7 = k) : ix_bad 2 v2 v3 v7 a2 a3 a4 := by
  obtain ⟨_, ⟨o5, o6, o7, o8, o9⟩, ⟨q5, q6, q7, q8, q9⟩, ⟨r5, r6, r7, r8, r9⟩, _⟩ := hP
  intro Q rd cm sk fl df lV lX lW lY sn a1 a5 a6 a7 a8 a9 a10 a11 a12 hC H
  have hD := ix_C11 hC (2 + 1)
  have c1 : a6 56 = nI 2 := hC.2.1
  have e7 : upd a6 56 (nI 3) 52 = v7 := hD.2.2.2.2.2
  unfold wpX_perform
  dsimp only
  rw [show (nI (5 + 2)).toNatClampNeg = 7 from nI_clamp (by omega), o7, q7, r7]
  refine nm_r (e' := nI 45) (by decide) ⟨pk_in 7 15 (by omega), nm_r (e' := nI 52) (by decide) ⟨pk_in 7 15 (by omega), nm_e ⟨pk_in 7 15 (by omega), nm_e ⟨pk_in 56 180 (by omega) (by decide), pk_in 56 180 (by omega) (by decide), nm_r (ix_pl1 (n := 56) (by decide) (by omega) c1) ⟨pk_in 7 15 (by omega), nm_e (br_f (by decide) (br_f (by decide) (br_f (by decide) (br_f (by decide) (br_f (by decide) (br_f (by decide) (br_f (by decide) (br_f (by decide) (br_t (by decide) ⟨pk_in 52 180 (by omega), pk_in 7 15 (by omega), br_f ?_ (H _)⟩)))))))))⟩⟩⟩⟩⟩
  rw [nI_clamp (show 52 < 2 ^ 31 by omega)]
  exact fun g => hk (e7.symm.trans g)
theorem ix_g3 (hP : ix_P x c d k a1 a2 a3 a4 a5) : ix_good 3 v2 v3 v7 v2 v7 v7 a2 a3 a4 := by
  obtain ⟨_, ⟨o5, o6, o7, o8, o9⟩, ⟨q5, q6, q7, q8, q9⟩, ⟨r5, r6, r7, r8, r9⟩, _⟩ := hP
  intro Q rd cm sk fl df lV lX lW lY sn a1 a5 a6 a7 a8 a9 a10 a11 a12 hC H
  have hD := ix_C11 hC (3 + 1)
  have c1 : a6 71 = nI 3 := hC.2.1
  have e7 : upd a6 71 (nI 4) 67 = v7 := hD.2.2.2.2.2
  unfold wpX_perform
  dsimp only
  rw [show (nI (5 + 3)).toNatClampNeg = 8 from nI_clamp (by omega), o8, q8, r8]
  refine nm_r (e' := nI 60) (by decide) ⟨pk_in 8 15 (by omega), nm_r (e' := nI 67) (by decide) ⟨pk_in 8 15 (by omega), nm_r (e' := nI 63) (by decide) ⟨pk_in 8 15 (by omega), nm_e ⟨pk_in 71 180 (by omega) (by decide), pk_in 71 180 (by omega) (by decide), nm_r (ix_pl1 (n := 71) (by decide) (by omega) c1) ⟨pk_in 8 15 (by omega), nm_e (br_f (by decide) (br_f (by decide) (br_f (by decide) (br_t (by decide) ⟨pk_in 67 180 (by omega), pk_in 63 180 (by omega), nm_r (e' := upd (upd a6 71 (nI 4)) 63 v7) ?_ (H _ (ix_C3 hD v7))⟩))))⟩⟩⟩⟩⟩
  rw [nI_clamp (show 63 < 2 ^ 31 by omega), nI_clamp (show 67 < 2 ^ 31 by omega), e7]
theorem ix_g4 (hP : ix_P x c d k a1 a2 a3 a4 a5) : ix_good 4 v2 v3 v7 d v3 v7 a2 a3 a4 := by
  obtain ⟨_, ⟨o5, o6, o7, o8, o9⟩, ⟨q5, q6, q7, q8, q9⟩, ⟨r5, r6, r7, r8, r9⟩, _⟩ := hP
  intro Q rd cm sk fl df lV lX lW lY sn a1 a5 a6 a7 a8 a9 a10 a11 a12 hC H
  have hD := ix_C11 hC (4 + 1)
  have c1 : a6 86 = nI 4 := hC.2.1
  unfold wpX_perform
  dsimp only
  rw [show (nI (5 + 4)).toNatClampNeg = 9 from nI_clamp (by omega), o9, q9, r9]
  refine nm_r (e' := nI 75) (by decide) ⟨pk_in 9 15 (by omega), nm_e ⟨pk_in 9 15 (by omega), nm_r (e' := nI 77) (by decide) ⟨pk_in 9 15 (by omega), nm_e ⟨pk_in 86 180 (by omega) (by decide), pk_in 86 180 (by omega) (by decide), nm_r (ix_pl1 (n := 86) (by decide) (by omega) c1) ⟨pk_in 9 15 (by omega), nm_e (br_f (by decide) (br_f (by decide) (br_f (by decide) (br_f (by decide) (br_f (by decide) (br_t (by decide) ⟨pk_in 9 15 (by omega), pk_in 77 180 (by omega), nm_r (e' := upd (upd a6 86 (nI 5)) 77 d) ?_ (H _ (ix_C2 hD d))⟩))))))⟩⟩⟩⟩⟩
  rw [nI_clamp (show 77 < 2 ^ 31 by omega)]
theorem ix_copy {post : Int32 → St2 → Prop} {l : Nat} {x2 x4 : Int32} (hl : l < 5)
    (H : ∀ (n : Nat) (b6 : Nat → Int32), (∀ j, j < 15 → b6 ((l + 1) * 15 + j) = a6 (l * 15 + j)) → wX_descend_53 post (nI l) x2 (nI (l + 1)) x4 rd cm sk fl df lV lX lW lY sn (n + 1) (nI 15) a1 a2 a3 a4 a5 b6 a7 a8 a9 a10 a11 a12) :
    ∃ n, wX_descend_53 post (nI l) x2 (nI (l + 1)) x4 rd cm sk fl df lV lX lW lY sn n 0 a1 a2 a3 a4 a5 a6 a7 a8 a9 a10 a11 a12 := by
  refine pk_loop (fun n i s => wX_descend_53 post (nI l) x2 (nI (l + 1)) x4 rd cm sk fl df lV lX lW lY sn n (nI i) a1 a2 a3 a4 a5 s a7 a8 a9 a10 a11 a12) (fun i s => (∀ j, j < i → s ((l + 1) * 15 + j) = a6 (l * 15 + j)) ∧ ∀ m, m < (l + 1) * 15 → s m = a6 m) 15 0 a6 (by omega) ⟨fun j hj => absurd hj (by omega), fun m _ => rfl⟩ (fun n s h => H n s h.1) (fun n i s hi h hw => ?_)
  refine pk_le 15 i (fun z => absurd z (by omega)) (fun _ => ⟨pk_in (l * 15 + i) 180 (by omega) (ix_bi l i), pk_in ((l + 1) * 15 + i) 180 (by omega) (ix_bi (l + 1) i), nm_r (e' := upd s ((l + 1) * 15 + i) (a6 (l * 15 + i))) ?_ (nm_r (nI_1 i) (hw _ ⟨fun j hj => ?_, fun m hm => ?_⟩))⟩)
  · rw [ix_bi, ix_bi, nI_clamp (show (l + 1) * 15 + i < 2 ^ 31 by omega), nI_clamp (show l * 15 + i < 2 ^ 31 by omega), h.2 (l * 15 + i) (by omega)]
  · by_cases e : j = i
    · rw [e, pk_us]
    · exact Eq.trans (pk_un (by omega)) (h.1 j (by omega))
  · exact Eq.trans (pk_un (by omega)) (h.2 m hm)
theorem ix_dA {post : Int32 → St2 → Prop} {l : Nat} (hl : l < 5) (hP : ix_P x c d k a1 a2 a3 a4 a5) (hC : ix_C a6 l l v2 v3 v7) (h8 : a8 l = 2)
    (H : ∀ (n : Nat) (b6 b9 : Nat → Int32), ix_C b6 (l + 1) l v2 v3 v7 → wX_descend_53 post (nI l) (nI 1) (nI (l + 1)) (nI (5 + l)) rd cm sk fl df lV lX lW lY sn (n + 1) (nI 15) a1 a2 a3 a4 a5 b6 (upd a7 (l + 1) 0) (upd a8 l 0) b9 a10 a11 a12) :
    wpX_descend post (rd, cm, sk, fl, df, lV, lX, lW, lY, sn, a1, a2, a3, a4, a5, a6, a7, a8, a9, a10, a11, a12) (nI l) (nI 1) := by
  have hz := hP.1
  obtain ⟨c0, c1, c2, e2, e3, e7⟩ := id hC
  unfold wpX_descend
  dsimp only
  refine nm_r (e' := nI (l + 1)) (nI_1 l) (ix_sleep hl hP hC ?_)
  rw [nI_clamp (show l < 2 ^ 31 by omega), nI_clamp (show l + 1 < 2 ^ 31 by omega), h8]
  refine ⟨pk_in (l + 1) 12 (by omega), nm_e ⟨pk_in l 12 (by omega), pk_in l 12 (by omega), nm_e ⟨pk_in l 12 (by omega), pk_in l 12 (by omega), nm_r (e' := upd a8 l 0) (congrArg (upd a8 l) (by decide)) ?_⟩⟩⟩
  refine ix_next (t := 1) (v := l) (z := 5) (by omega) (by omega) (by omega) (by omega) c1 hz.2.1 (fun _ => ?_) (fun h => absurd h (by omega))
  rw [show 1 * 5 + l = 5 + l by omega]
  exact ix_copy hl (fun n b6 hb => H n b6 _ ⟨(hb 10 (by omega)).trans c0, (hb 11 (by omega)).trans c1, (hb 12 (by omega)).trans c2, (hb 2 (by omega)).trans e2, (hb 3 (by omega)).trans e3, (hb 7 (by omega)).trans e7⟩)
theorem ix_d {post : Int32 → St2 → Prop} {l : Nat} (hl : l < 4) (hP : ix_P x c d k a1 a2 a3 a4 a5) (hC : ix_C a6 l l v2 v3 v7) (h8 : a8 l = 2) (hg : ix_good l v2 v3 v7 w2 w3 w7 a2 a3 a4)
    (H : ∀ b6 b7 b8 b9 : Nat → Int32, ix_C b6 (l + 1) (l + 1) w2 w3 w7 → b8 (l + 1) = 2 → b8 l = 0 → (∀ j, j < l → b8 j = a8 j) → post (nI (l + 1)) (rd, cm, sk, fl, df, lV, lX, lW, lY, sn, a1, a2, a3, a4, a5, b6, b7, b8, b9, a10, a11, a12)) :
    wpX_descend post (rd, cm, sk, fl, df, lV, lX, lW, lY, sn, a1, a2, a3, a4, a5, a6, a7, a8, a9, a10, a11, a12) (nI l) (nI 1) := by
  refine ix_dA (by omega) hP hC h8 (fun n b6 b9 hb => ?_)
  refine pk_le 15 15 (fun _ => ?_) (fun z => absurd z (by omega))
  refine hg _ _ _ _ _ _ _ _ _ _ _ _ _ _ _ _ _ _ _ _ hb (fun b hb' => br_f (by decide) ?_)
  refine ix_opn (l := l + 1) (by omega) hP hb' pk_us ?_
  exact H b (upd a7 (l + 1) 0) (upd (upd a8 l 0) (l + 1) 2) (upd b9 (l + 1) 0) hb' pk_us (Eq.trans (pk_un (by omega)) pk_us) (fun j hj => Eq.trans (pk_un (by omega)) (pk_un (by omega)))
theorem ix_d4 {post : Int32 → St2 → Prop} {p q : Nat} (hp : p < 4) (hq : q < 4) (hP : ix_P x c d k a1 a2 a3 a4 a5) (hC : ix_C a6 4 4 v2 v3 v7) (h8 : a8 4 = 2) (hg : ix_good 4 v2 v3 v7 w2 w3 w7 a2 a3 a4)
    (H : ∀ (s' : Int32) (b6 b7 b8 b9 b10 b11 b12 : Nat → Int32), (∀ j, j < 4 → b8 j = a8 j) → b8 4 = 0 → b8 5 = 0 → (p = 2 → q = 3 → w2 = lX → w3 = lY → s' = 1) →
      post (nI 5) (rd, 1, sk, fl, df, nI p, lX, nI q, lY, s', a1, a2, a3, a4, a5, b6, b7, b8, b9, b10, b11, b12)) :
    wpX_descend post (rd, 0, sk, fl, df, nI p, lX, nI q, lY, sn, a1, a2, a3, a4, a5, a6, a7, a8, a9, a10, a11, a12) (nI 4) (nI 1) := by
  refine ix_dA (l := 4) (by omega) hP hC h8 (fun n b6 b9 hb => ?_)
  refine pk_le 15 15 (fun _ => ?_) (fun z => absurd z (by omega))
  refine hg _ _ _ _ _ _ _ _ _ _ _ _ _ _ _ _ _ _ _ _ hb (fun b hb' => br_f (by decide) ?_)
  refine ix_opn5 hp hq hP hb' (fun s' b8 b9' b10 b11 b12 k1 k2 k3 => ?_)
  refine H s' b (upd a7 (4 + 1) 0) b8 b9' b10 b11 b12 (fun j hj => Eq.trans (k1 j (by omega)) (pk_un (by omega))) (Eq.trans (k1 4 (by omega)) pk_us) k2 (fun e1 e2 g1 g2 => k3 ?_ ?_)
  · rw [e1]; exact Eq.trans hb'.2.2.2.1 g1
  · rw [e2]; exact Eq.trans hb'.2.2.2.2.1 g2
theorem ix_db {post : Int32 → St2 → Prop} (hP : ix_P x c d k a1 a2 a3 a4 a5) (hC : ix_C a6 2 2 v2 v3 v7) (h8 : a8 2 = 2) (hg : ix_bad 2 v2 v3 v7 a2 a3 a4)
    (H : ∀ b6 b7 b8 b9 : Nat → Int32, b8 2 = 0 → (∀ j, j < 2 → b8 j = a8 j) → post (nI 2) (rd, cm, sk, 2, df, lV, lX, lW, lY, sn, a1, a2, a3, a4, a5, b6, b7, b8, b9, a10, a11, a12)) :
    wpX_descend post (rd, cm, sk, 0, df, lV, lX, lW, lY, sn, a1, a2, a3, a4, a5, a6, a7, a8, a9, a10, a11, a12) (nI 2) (nI 1) := by
  refine ix_dA (l := 2) (by omega) hP hC h8 (fun n b6 b9 hb => ?_)
  refine pk_le 15 15 (fun _ => ?_) (fun z => absurd z (by omega))
  refine hg _ _ _ _ _ _ _ _ _ _ _ _ _ _ _ _ _ _ _ _ hb (fun b => br_t rfl (nm_r (e' := 2) (by decide) ?_))
  exact H b (upd a7 (2 + 1) 0) (upd a8 2 0) b9 pk_us (fun j hj => pk_un (by omega))
end
end
section
section
variable {rd cm sk fl df lV lX lW lY sn : Int32} {a1 a2 a3 a4 a5 a6 a7 a8 a9 a10 a11 a12 : Nat → Int32} {x c d k v2 v3 v7 w2 w3 w7 : Int32}
theorem ix_unw {post : St2 → Prop} (H : post (rd, cm, sk, fl, df, lV, lX, lW, lY, sn, a1, a2, a3, a4, a5, a6, a7, a8, a9, a10, a11, a12)) : ∀ l n s : Nat, l ≤ 5 → l + 2 ≤ n → s + l ≤ 100 → (∀ j, j ≤ l → a8 j = 0) → wX_search_51 post n (nI l) (nI s) rd cm sk fl df lV lX lW lY sn a1 a2 a3 a4 a5 a6 a7 a8 a9 a10 a11 a12 := by
  intro l
  induction l with
  | zero =>
    intro n s hl hn hs h
    obtain ⟨m, rfl⟩ : ∃ m, n = m + 1 + 1 := ⟨n - 2, by omega⟩
    refine pk_le 200000 s (fun z => absurd z (by omega)) (fun _ => pk_lt 0 0 (fun z => absurd z (by omega)) (fun _ => ⟨pk_in 0 12 (by omega), nm_r (e' := 0) (by rw [nI_clamp (by omega)]; exact h 0 (by omega)) ?_⟩))
    refine br_f (by decide) (br_f (by decide) (br_t rfl (nm_r (e' := -1) (by decide) (nm_r (nI_1 s) ?_))))
    exact pk_le 200000 (s + 1) (fun z => absurd z (by omega)) (fun _ => br_t (by decide) H)
  | succ l ih =>
    intro n s hl hn hs h
    obtain ⟨m, rfl⟩ : ∃ m, n = m + 1 := ⟨n - 1, by omega⟩
    refine pk_le 200000 s (fun z => absurd z (by omega)) (fun _ => pk_lt (l + 1) 0 (fun z => absurd z (by omega)) (fun _ => ⟨pk_in (l + 1) 12 (by omega), nm_r (e' := 0) (by rw [nI_clamp (by omega)]; exact h (l + 1) (by omega)) ?_⟩))
    refine br_f (by decide) (br_f (by decide) (br_t rfl (nm_r (pk_m1 l) (nm_r (nI_1 s) ?_))))
    exact ih m (s + 1) (by omega) (by omega) (by omega) (fun j hj => h j (by omega))
theorem ix_up {post : St2 → Prop} {n s l : Nat} (hl : l < 4) (hs : s ≤ 100) (hP : ix_P x c d k a1 a2 a3 a4 a5) (hC : ix_C a6 l l v2 v3 v7) (h8 : a8 l = 2) (hz : ∀ j, j < l → a8 j = 0) (hg : ix_good l v2 v3 v7 w2 w3 w7 a2 a3 a4)
    (H : ∀ b6 b7 b8 b9 : Nat → Int32, ix_C b6 (l + 1) (l + 1) w2 w3 w7 → b8 (l + 1) = 2 → (∀ j, j < l + 1 → b8 j = 0) → wX_search_51 post n (nI (l + 1)) (nI (s + 1)) rd cm sk fl df lV lX lW lY sn a1 a2 a3 a4 a5 b6 b7 b8 b9 a10 a11 a12) :
    wX_search_51 post (n + 1) (nI l) (nI s) rd cm sk fl df lV lX lW lY sn a1 a2 a3 a4 a5 a6 a7 a8 a9 a10 a11 a12 := by
  refine pk_le 200000 s (fun z => absurd z (by omega)) (fun _ => pk_lt l 0 (fun z => absurd z (by omega)) (fun _ => ⟨pk_in l 12 (by omega), nm_r (e' := 2) (by rw [nI_clamp (by omega)]; exact h8) ?_⟩))
  refine br_f (by decide) (br_t (by decide) (br_f (by decide) ?_))
  refine ix_d hl hP hC h8 hg (fun b6 b7 b8 b9 k1 k2 k3 k4 => nm_r (nI_1 s) (H b6 b7 b8 b9 k1 k2 (fun j hj => ?_)))
  by_cases e : j = l
  · rw [e]; exact k3
  · exact (k4 j (by omega)).trans (hz j (by omega))
theorem ix_q4 {post : St2 → Prop} {n s p q : Nat} (hs : s ≤ 100) (hp : p < 4) (hq : q < 4) (hP : ix_P x c d k a1 a2 a3 a4 a5) (hC : ix_C a6 4 4 v2 v3 v7) (h8 : a8 4 = 2) (hz : ∀ j, j < 4 → a8 j = 0) (hg : ix_good 4 v2 v3 v7 w2 w3 w7 a2 a3 a4)
    (H : ∀ (s' : Int32) (b6 b7 b8 b9 b10 b11 b12 : Nat → Int32), (∀ j, j ≤ 5 → b8 j = 0) → (p = 2 → q = 3 → w2 = lX → w3 = lY → s' = 1) →
      wX_search_51 post n (nI 5) (nI (s + 1)) rd 1 sk fl df (nI p) lX (nI q) lY s' a1 a2 a3 a4 a5 b6 b7 b8 b9 b10 b11 b12) :
    wX_search_51 post (n + 1) (nI 4) (nI s) rd 0 sk fl df (nI p) lX (nI q) lY sn a1 a2 a3 a4 a5 a6 a7 a8 a9 a10 a11 a12 := by
  refine pk_le 200000 s (fun z => absurd z (by omega)) (fun _ => pk_lt 4 0 (fun z => absurd z (by omega)) (fun _ => ⟨pk_in 4 12 (by omega), nm_r (e' := 2) (by rw [nI_clamp (by omega)]; exact h8) ?_⟩))
  refine br_f (by decide) (br_t (by decide) (br_f (by decide) ?_))
  refine ix_d4 hp hq hP hC h8 hg (fun s' b6 b7 b8 b9 b10 b11 b12 k1 k2 k3 k4 => nm_r (nI_1 s) (H s' b6 b7 b8 b9 b10 b11 b12 (fun j hj => ?_) k4))
  rcases (show j < 4 ∨ j = 4 ∨ j = 5 by omega) with e | e | e
  · exact (k1 j e).trans (hz j e)
  · rw [e]; exact k2
  · rw [e]; exact k3
theorem ix_qb {post : St2 → Prop} {n s : Nat} (hs : s ≤ 100) (hP : ix_P x c d k a1 a2 a3 a4 a5) (hC : ix_C a6 2 2 v2 v3 v7) (h8 : a8 2 = 2) (hz : ∀ j, j < 2 → a8 j = 0) (hg : ix_bad 2 v2 v3 v7 a2 a3 a4)
    (H : ∀ b6 b7 b8 b9 : Nat → Int32, (∀ j, j ≤ 2 → b8 j = 0) → wX_search_51 post n (nI 2) (nI (s + 1)) rd cm sk 2 df lV lX lW lY sn a1 a2 a3 a4 a5 b6 b7 b8 b9 a10 a11 a12) :
    wX_search_51 post (n + 1) (nI 2) (nI s) rd cm sk 0 df lV lX lW lY sn a1 a2 a3 a4 a5 a6 a7 a8 a9 a10 a11 a12 := by
  refine pk_le 200000 s (fun z => absurd z (by omega)) (fun _ => pk_lt 2 0 (fun z => absurd z (by omega)) (fun _ => ⟨pk_in 2 12 (by omega), nm_r (e' := 2) (by rw [nI_clamp (by omega)]; exact h8) ?_⟩))
  refine br_f (by decide) (br_t (by decide) (br_f (by decide) ?_))
  refine ix_db hP hC h8 hg (fun b6 b7 b8 b9 k1 k2 => nm_r (nI_1 s) (H b6 b7 b8 b9 (fun j hj => ?_)))
  by_cases e : j = 2
  · rw [e]; exact k1
  · exact (k2 j (by omega)).trans (hz j (by omega))
theorem ix_run {post : St2 → Prop} {p q : Nat} (hp : p < 4) (hq : q < 4) (hP : ix_P x c d k a1 a2 a3 a4 a5) (hC : ix_C a6 0 0 x v3 v7) (h8 : a8 0 = 2)
    (HF : x + c = k → ∀ (s' : Int32) (b6 b7 b8 b9 b10 b11 b12 : Nat → Int32), (p = 2 → q = 3 → d = lX → k = lY → s' = 1) → post (rd, 1, sk, 0, df, nI p, lX, nI q, lY, s', a1, a2, a3, a4, a5, b6, b7, b8, b9, b10, b11, b12))
    (HN : ¬ x + c = k → ∀ b6 b7 b8 b9 : Nat → Int32, post (rd, 0, sk, 2, df, nI p, lX, nI q, lY, sn, a1, a2, a3, a4, a5, b6, b7, b8, b9, a10, a11, a12)) :
    wX_search_51 post (19 + 1) (nI 0) (nI 0) rd 0 sk 0 df (nI p) lX (nI q) lY sn a1 a2 a3 a4 a5 a6 a7 a8 a9 a10 a11 a12 := by
  refine ix_up (l := 0) (by omega) (by omega) hP hC h8 (fun j hj => absurd hj (by omega)) (ix_g0 hP) (fun b6 b7 b8 b9 k1 k2 k3 => ?_)
  refine ix_up (l := 0 + 1) (n := 18) (by omega) (by omega) hP k1 k2 k3 (ix_g1 hP) (fun b6 b7 b8 b9 k1 k2 k3 => ?_)
  by_cases h : x + c = k
  · refine ix_up (l := 0 + 1 + 1) (n := 17) (by omega) (by omega) hP k1 k2 k3 (ix_g2 hP h) (fun b6 b7 b8 b9 k1 k2 k3 => ?_)
    refine ix_up (l := 0 + 1 + 1 + 1) (n := 16) (by omega) (by omega) hP k1 k2 k3 (ix_g3 hP) (fun b6 b7 b8 b9 k1 k2 k3 => ?_)
    refine ix_q4 (n := 15) (by omega) hp hq hP k1 k2 k3 (ix_g4 hP) (fun s' b6 b7 b8 b9 b10 b11 b12 k4 k5 => ix_unw ?_ 5 15 (0 + 1 + 1 + 1 + 1 + 1) (by omega) (by omega) (by omega) k4)
    exact HF h s' b6 b7 b8 b9 b10 b11 b12 (fun e1 e2 g1 g2 => k5 e1 e2 g1 (h.trans g2))
  · refine ix_qb (n := 17) (by omega) hP k1 k2 k3 (ix_b2 hP h) (fun b6 b7 b8 b9 k4 => ix_unw ?_ 2 17 (0 + 1 + 1 + 1) (by omega) (by omega) (by omega) k4)
    exact HN h b6 b7 b8 b9
theorem ix_srch {post : St2 → Prop} {p q : Nat} (hp : p < 4) (hq : q < 4) (hP : ix_P x c d k a1 a2 a3 a4 a5)
    (HF : x + c = k → ∀ (s' : Int32) (b6 b7 b8 b9 b10 b11 b12 : Nat → Int32), (p = 2 → q = 3 → d = lX → k = lY → s' = 1) → post (rd, 1, sk, 0, df, nI p, lX, nI q, lY, s', a1, a2, a3, a4, a5, b6, b7, b8, b9, b10, b11, b12))
    (HN : ¬ x + c = k → ∀ b6 b7 b8 b9 : Nat → Int32, post (rd, 0, sk, 2, df, nI p, lX, nI q, lY, sn, a1, a2, a3, a4, a5, b6, b7, b8, b9, a10, a11, a12)) :
    wpX_search post (rd, 0, sk, 0, df, nI p, lX, nI q, lY, sn, a1, a2, a3, a4, a5, a6, a7, a8, a9, a10, a11, a12) := by
  unfold wpX_search
  dsimp only
  refine pk_loop (fun n i s => wX_search_2 post rd 0 sk 0 df (nI p) lX (nI q) lY sn n (nI i) a1 a2 a3 a4 a5 s a7 a8 a9 a10 a11 a12) (fun i s => ∀ j, j < i → s j = if j < 4 then a5 j else 0) 15 0 a6 (by omega) (fun j hj => absurd hj (by omega)) (fun n s h => ?_) (fun n i s hi h hw => ?_)
  · have hC : ix_C s 0 0 x (a5 3) 0 := ⟨h 10 (by omega), h 11 (by omega), h 12 (by omega), (h 2 (by omega)).trans hP.2.2.2.2, h 3 (by omega), h 7 (by omega)⟩
    refine pk_le 15 15 (fun _ => nm_e (ix_opn (l := 0) (by omega) hP hC pk_us ?_)) (fun z => absurd z (by omega))
    exact ⟨19 + 1, ix_run hp hq hP hC pk_us HF HN⟩
  · refine pk_le 15 i (fun z => absurd z (by omega)) (fun _ => pk_le 4 i (fun z => ⟨pk_in i 180 (by omega), nm_e (nm_r (nI_1 i) (hw _ (fun j hj => ?_)))⟩) (fun z => ⟨pk_in i 4 z, pk_in i 180 (by omega), nm_e (nm_r (nI_1 i) (hw _ (fun j hj => ?_)))⟩))
    · rw [nI_clamp (show i < 2 ^ 31 by omega)]
      by_cases e : j = i
      · rw [e, pk_us, if_neg (by omega)]
      · exact Eq.trans (pk_un e) (h j (by omega))
    · rw [nI_clamp (show i < 2 ^ 31 by omega)]
      by_cases e : j = i
      · rw [e, pk_us, if_pos z]
      · exact Eq.trans (pk_un e) (h j (by omega))
theorem ix_expl {post : St2 → Prop} {X Y : Int32} {p q : Nat} (hp : p < 4) (hq : q < 4) (hP : ix_P x c d k a1 a2 a3 a4 a5)
    (HF : x + c = k → ∀ (s' : Int32) (b6 b7 b8 b9 b10 b11 b12 : Nat → Int32), (p = 2 → q = 3 → d = X → k = Y → s' = 1) → post (1, 1, 0, 0, 0, nI p, X, nI q, Y, s', a1, a2, a3, a4, a5, b6, b7, b8, b9, b10, b11, b12))
    (HN : ¬ x + c = k → ∀ b6 b7 b8 b9 : Nat → Int32, post (1, 0, 0, 2, 0, nI p, X, nI q, Y, 0, a1, a2, a3, a4, a5, b6, b7, b8, b9, a10, a11, a12)) :
    wpX_explore post (rd, cm, sk, fl, df, lV, lX, lW, lY, sn, a1, a2, a3, a4, a5, a6, a7, a8, a9, a10, a11, a12) (nI p) X (nI q) Y := by
  unfold wpX_explore
  dsimp only
  exact ix_srch hp hq hP HF HN
end
end
section
section
variable {rd cm sk fl df lV lX lW lY sn : Int32} {a1 a2 a3 a4 a5 a6 a7 a8 a9 a10 a11 a12 : Nat → Int32} {x c d k v2 v3 v7 w2 w3 w7 : Int32}
theorem ix_n0 : narrow .boolean (.int 0) = .int 0 := congrArg Value.int (show (0 : Int32) &&& 1 = 0 by decide)
theorem ix_n1 : narrow .boolean (.int 1) = .int 1 := congrArg Value.int (show (1 : Int32) &&& 1 = 1 by decide)
theorem ix_p0 {post : St2 → Prop} (hP : ix_P x c d k a1 a2 a3 a4 a5)
    (HF : x + c = k → ∀ (g1 g2 g3 g4 g5 : Int32) (b6 b7 b8 b9 b10 b11 b12 : Nat → Int32), post (1, 1, 0, 0, 0, g1, g2, g3, g4, g5, a1, a2, a3, a4, a5, b6, b7, b8, b9, b10, b11, b12))
    (HN : ¬ x + c = k → ∀ (g1 g2 g3 g4 g5 : Int32) (b6 b7 b8 b9 b10 b11 b12 : Nat → Int32), post (1, 0, 0, 2, 0, g1, g2, g3, g4, g5, a1, a2, a3, a4, a5, b6, b7, b8, b9, b10, b11, b12)) :
    wpX_prepare post (0, cm, sk, fl, df, lV, lX, lW, lY, sn, a1, a2, a3, a4, a5, a6, a7, a8, a9, a10, a11, a12) := by
  unfold wpX_prepare
  dsimp only
  exact br_t rfl (ix_expl (p := 0) (q := 0) (X := 0) (Y := 0) (by omega) (by omega) hP (fun h s' b6 b7 b8 b9 b10 b11 b12 _ => HF h _ _ _ _ s' b6 b7 b8 b9 b10 b11 b12) (fun h b6 b7 b8 b9 => HN h _ _ _ _ _ b6 b7 b8 b9 _ _ _))
theorem ix_p1 {post : St2 → Prop} (H : post (1, cm, sk, fl, df, lV, lX, lW, lY, sn, a1, a2, a3, a4, a5, a6, a7, a8, a9, a10, a11, a12)) : wpX_prepare post (1, cm, sk, fl, df, lV, lX, lW, lY, sn, a1, a2, a3, a4, a5, a6, a7, a8, a9, a10, a11, a12) := by
  unfold wpX_prepare
  dsimp only
  exact br_f (by decide) H
theorem ix_cc {Q : Int32 → St2 → Prop} (hP : ix_P x c d k a1 a2 a3 a4 a5)
    (HF : x + c = k → ∀ (g1 g2 g3 g4 g5 : Int32) (b6 b7 b8 b9 b10 b11 b12 : Nat → Int32), Q 1 (1, 1, 0, 0, 0, g1, g2, g3, g4, g5, a1, a2, a3, a4, a5, b6, b7, b8, b9, b10, b11, b12))
    (HN : ¬ x + c = k → ∀ (g1 g2 g3 g4 g5 : Int32) (b6 b7 b8 b9 b10 b11 b12 : Nat → Int32), Q 0 (1, 0, 0, 2, 0, g1, g2, g3, g4, g5, a1, a2, a3, a4, a5, b6, b7, b8, b9, b10, b11, b12)) :
    wpX_canComplete Q (0, cm, sk, fl, df, lV, lX, lW, lY, sn, a1, a2, a3, a4, a5, a6, a7, a8, a9, a10, a11, a12) := by
  unfold wpX_canComplete
  dsimp only
  exact ix_p0 hP (fun h g1 g2 g3 g4 g5 b6 b7 b8 b9 b10 b11 b12 => And.intro ix_n1 (HF h g1 g2 g3 g4 g5 b6 b7 b8 b9 b10 b11 b12)) (fun h g1 g2 g3 g4 g5 b6 b7 b8 b9 b10 b11 b12 => And.intro ix_n0 (HN h g1 g2 g3 g4 g5 b6 b7 b8 b9 b10 b11 b12))
theorem ix_cfT {Q : Int32 → St2 → Prop} {t : Nat} (ht : t < 3) (h : (fl >>> (nI t &&& 31)) &&& 1 = 1) (H : Q 1 (1, cm, sk, fl, df, lV, lX, lW, lY, sn, a1, a2, a3, a4, a5, a6, a7, a8, a9, a10, a11, a12)) : wpX_canFail Q (1, cm, sk, fl, df, lV, lX, lW, lY, sn, a1, a2, a3, a4, a5, a6, a7, a8, a9, a10, a11, a12) (nI t) := by
  unfold wpX_canFail
  dsimp only
  exact pk_lt t 0 (fun z => absurd z (by omega)) (fun _ => pk_lt t 3 (fun _ => br_t rfl (ix_p1 (br_t h H))) (fun z => absurd z (by omega)))
theorem ix_cfF {Q : Int32 → St2 → Prop} {t : Nat} (ht : t < 3) (h : ¬ (fl >>> (nI t &&& 31)) &&& 1 = 1) (H : Q 0 (1, cm, sk, fl, df, lV, lX, lW, lY, sn, a1, a2, a3, a4, a5, a6, a7, a8, a9, a10, a11, a12)) : wpX_canFail Q (1, cm, sk, fl, df, lV, lX, lW, lY, sn, a1, a2, a3, a4, a5, a6, a7, a8, a9, a10, a11, a12) (nI t) := by
  unfold wpX_canFail
  dsimp only
  exact pk_lt t 0 (fun z => absurd z (by omega)) (fun _ => pk_lt t 3 (fun _ => br_t rfl (ix_p1 (br_f h H))) (fun z => absurd z (by omega)))
theorem ix_cs {Q : Int32 → St2 → Prop} (H : Q 0 (1, cm, 0, fl, df, lV, lX, lW, lY, sn, a1, a2, a3, a4, a5, a6, a7, a8, a9, a10, a11, a12)) : wpX_canStick Q (1, cm, 0, fl, df, lV, lX, lW, lY, sn, a1, a2, a3, a4, a5, a6, a7, a8, a9, a10, a11, a12) := by
  unfold wpX_canStick
  dsimp only
  exact ix_p1 (And.intro ix_n0 H)
theorem ix_se1 {Q : Int32 → St2 → Prop} (H : Q 1 (1, 1, 0, 0, 0, lV, lX, lW, lY, sn, a1, a2, a3, a4, a5, a6, a7, a8, a9, a10, a11, a12)) : wpX_settled Q (1, 1, 0, 0, 0, lV, lX, lW, lY, sn, a1, a2, a3, a4, a5, a6, a7, a8, a9, a10, a11, a12) := by
  unfold wpX_settled
  dsimp only
  exact ix_p1 (br_f (show ¬ (1 : Int32) = 0 by decide) (br_t rfl (br_t rfl (br_t rfl H))))
theorem ix_se0 {Q : Int32 → St2 → Prop} (H : Q 0 (1, 0, sk, fl, df, lV, lX, lW, lY, sn, a1, a2, a3, a4, a5, a6, a7, a8, a9, a10, a11, a12)) : wpX_settled Q (1, 0, sk, fl, df, lV, lX, lW, lY, sn, a1, a2, a3, a4, a5, a6, a7, a8, a9, a10, a11, a12) := by
  unfold wpX_settled
  dsimp only
  exact ix_p1 (br_t rfl H)
theorem ix_eb {Q : Int32 → St2 → Prop} (hP : ix_P x c d k a1 a2 a3 a4 a5) (HF : x + c = k → ∀ u : St2, Q 1 u) (HN : ¬ x + c = k → ∀ u : St2, Q 0 u) : wpX_canEndBoth Q (rd, cm, sk, fl, df, lV, lX, lW, lY, sn, a1, a2, a3, a4, a5, a6, a7, a8, a9, a10, a11, a12) (nI 2) d (nI 3) k := by
  unfold wpX_canEndBoth
  dsimp only
  refine br_f (by decide) (br_t (by decide) (br_t rfl (br_f (by decide) (br_t (by decide) (br_t rfl ?_)))))
  refine ix_expl (p := 2) (q := 3) (X := d) (Y := k) (by omega) (by omega) hP (fun h s' b6 b7 b8 b9 b10 b11 b12 hs => ?_) (fun h b6 b7 b8 b9 => And.intro ix_n0 (HN h _))
  have e : s' = 1 := hs rfl rfl rfl rfl
  subst e
  exact And.intro ix_n1 (HF h _)
theorem ix_80t {post : Int32 → St0 → Prop} {mc ms kc ks : Nat} (hP : ix_P x c d k a1 a2 a3 a4 a5) (h : x + c = k) (H : post 1 ()) : wL_lawOf_80 post mc ms d k 1 kc ks 0 cm sk fl df lV lX lW lY sn a1 a2 a3 a4 a5 a6 a7 a8 a9 a10 a11 a12 := by
  unfold wL_lawOf_80
  refine ix_cc hP (fun _ g1 g2 g3 g4 g5 b6 b7 b8 b9 b10 b11 b12 => br_t rfl ?_) (fun g => absurd h g)
  refine ix_cfF (t := 1) (by omega) (by decide) (br_f (by decide) ?_)
  refine ix_cfF (t := 0) (by omega) (by decide) (br_t rfl ?_)
  refine ix_cs (br_t rfl ?_)
  refine ix_se1 (br_t rfl ?_)
  exact ix_eb hP (fun _ u => br_t rfl H) (fun g => absurd h g)
theorem ix_80f {post : Int32 → St0 → Prop} {mc ms kc ks : Nat} (hP : ix_P x c d k a1 a2 a3 a4 a5) (h : ¬ x + c = k) (H : post 1 ()) : wL_lawOf_80 post mc ms d k 0 kc ks 0 cm sk fl df lV lX lW lY sn a1 a2 a3 a4 a5 a6 a7 a8 a9 a10 a11 a12 := by
  unfold wL_lawOf_80
  refine ix_cc hP (fun g => absurd g h) (fun _ g1 g2 g3 g4 g5 b6 b7 b8 b9 b10 b11 b12 => br_t rfl ?_)
  refine ix_cfT (t := 1) (by omega) (by decide) (br_f (by decide) ?_)
  refine ix_cfF (t := 0) (by omega) (by decide) (br_t rfl ?_)
  refine ix_cs (br_t rfl ?_)
  refine ix_se0 (br_t rfl ?_)
  exact ix_eb hP (fun g => absurd g h) (fun _ u => br_t rfl H)
theorem ix_emit {post : Int32 → St2 → Prop} {o a b : Int32} {z : Nat} (hz : z < 5) (h0 : a1 0 = nI 0) (h1 : a1 1 = nI z) (h2 : a1 2 = nI 0) (ho : ¬ o < 0) (ho' : o ≤ 8)
    (H : ∀ r, post r (0, cm, sk, fl, df, lV, lX, lW, lY, sn, upd a1 1 (nI (z + 1)), upd a2 (5 + z) o, upd a3 (5 + z) a, upd a4 (5 + z) b, a5, a6, a7, a8, a9, a10, a11, a12)) : wpX_emit post (rd, cm, sk, fl, df, lV, lX, lW, lY, sn, a1, a2, a3, a4, a5, a6, a7, a8, a9, a10, a11, a12) (nI 1) o a b := by
  unfold wpX_emit
  dsimp only
  refine br_f (by decide) (br_t (by decide) (br_t rfl (br_f ho (br_t ho' ⟨pk_in 1 3 (by omega), ?_⟩))))
  rw [nI_clamp (show 1 < 2 ^ 31 by omega), h0, h1, h2]
  have e : nI 0 + nI z + nI 0 = nI (0 + z + 0) := by rw [nI_add, nI_add]
  refine pk_le 5 z (fun g => absurd g (by omega)) (fun _ => pk_lt (0 + z + 0) 10 (fun _ => ⟨pk_in 1 3 (by omega), nm_r (e' := nI (5 + z)) (ix_t5 1 z) ?_⟩) (fun g => absurd g (by omega)) e)
  rw [nI_clamp (show 5 + z < 2 ^ 31 by omega), nI_1 z]
  exact ⟨pk_in (5 + z) 15 (by omega), nm_e ⟨pk_in (5 + z) 15 (by omega), nm_e ⟨pk_in (5 + z) 15 (by omega), nm_e ⟨pk_in 1 3 (by omega), pk_in 1 3 (by omega), nm_e ⟨pk_in 1 3 (by omega), H _⟩⟩⟩⟩⟩
theorem ix_begin {post : Int32 → St2 → Prop} (H : ∀ r, post r (0, cm, sk, fl, df, lV, lX, lW, lY, sn, a1, a2, a3, a4, upd a5 2 x, a6, a7, a8, a9, a10, a11, a12)) : wpX_begin post (rd, cm, sk, fl, df, lV, lX, lW, lY, sn, a1, a2, a3, a4, a5, a6, a7, a8, a9, a10, a11, a12) (nI 2) x := by
  unfold wpX_begin
  dsimp only
  rw [nI_clamp (show 2 < 2 ^ 31 by omega)]
  exact br_f (by decide) (br_t (by decide) ⟨pk_in 2 4 (by omega), nm_e ⟨pk_in 2 4 (by omega), nm_e (H _)⟩⟩)
end
end
section
theorem ix_lawOf {post : Int32 → St0 → Prop} (x c d k : Int32) (H : post 1 ()) : wpL_lawOf post 13 314 () x c d k := by
  unfold wpL_lawOf
  refine ⟨by omega, by omega, 12, 292, by omega, by omega, ?_⟩
  unfold wpX_init
  dsimp only
  refine ⟨by omega, by omega, by omega, by omega, by omega, by omega, by omega, by omega, by omega, by omega, by omega, by omega, by omega, by omega, by omega, by omega, by omega, by omega, by omega, by omega, by omega, by omega, by omega, by omega, ?_⟩
  refine ix_begin (fun _ => ?_)
  refine ix_emit (z := 0) (by omega) rfl rfl rfl (by decide) (by decide) (fun _ => ?_)
  refine ix_emit (z := 1) (by omega) rfl rfl rfl (by decide) (by decide) (fun _ => ?_)
  refine ix_emit (z := 2) (by omega) rfl rfl rfl (by decide) (by decide) (fun _ => ?_)
  refine ix_emit (z := 3) (by omega) rfl rfl rfl (by decide) (by decide) (fun _ => ?_)
  refine ix_emit (z := 4) (by omega) rfl rfl rfl (by decide) (by decide) (fun _ => ?_)
  refine br_c (fun h => ix_80t ?_ h H) (fun h => ix_80f ?_ h H)
  · exact ⟨⟨rfl, rfl, rfl⟩, ⟨rfl, rfl, rfl, rfl, rfl⟩, ⟨rfl, rfl, rfl, rfl, rfl⟩, ⟨rfl, rfl, rfl, rfl, rfl⟩, rfl⟩
  · exact ⟨⟨rfl, rfl, rfl⟩, ⟨rfl, rfl, rfl, rfl, rfl⟩, ⟨rfl, rfl, rfl, rfl, rfl⟩, ⟨rfl, rfl, rfl, rfl, rfl⟩, rfl⟩
theorem ix_cell {post : Int32 → Prop} {L : Nat} {xs : Nat → Int32} (i : Nat) (hi : i < 4) (hL : L ≤ 4) (H : ∀ v, post v) : wpL_cellAt post L xs () (nI i) :=
  pk_le L i (fun _ => H _) (fun z => ⟨pk_in i L z, H _⟩)
theorem i_vc (xs : Nat → Int32) (L : Nat) (hL : L ≤ 4) : wpL_law (fun r => r = 1) L xs := by
  unfold wpL_law
  exact ix_cell 0 (by omega) hL (fun x => ix_cell 1 (by omega) hL (fun c => ix_cell 2 (by omega) hL (fun d => ix_cell 3 (by omega) hL (fun k => ⟨13, 314, by omega, by omega, ix_lawOf x c d k rfl⟩))))
end
