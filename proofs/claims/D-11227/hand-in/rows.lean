section
/-- 1 where the two are one, else 0 -/
def cs_d (x s : Nat) : Nat := if x = s then 1 else 0
theorem cs_d_lt (x s : Nat) : cs_d x s < 2 := by
  unfold cs_d
  split <;> omega
theorem cs_d_t {x s : Nat} (h : x = s) : cs_d x s = 1 := if_pos h
theorem cs_d_f {x s : Nat} (h : ¬ x = s) : cs_d x s = 0 := if_neg h
/-- the state after word w, from any state -/
def cs_D (b s w : Nat) : Nat := if w < 4 then cs_d w s else cs_d b s
/-- the matches in word w, from any state -/
def cs_M (a b s w : Nat) : Nat := if w < 4 then cs_d w s else cs_d a s + cs_d b s
theorem cs_D_lt (b s w : Nat) : cs_D b s w < 2 := by
  unfold cs_D
  split
  · exact cs_d_lt w s
  · exact cs_d_lt b s
theorem cs_M_lt (a b s w : Nat) : cs_M a b s w < 3 := by
  have h1 := cs_d_lt w s
  have h2 := cs_d_lt a s
  have h3 := cs_d_lt b s
  unfold cs_M
  split <;> omega
/-- the sum of the matches in the first n codes -/
def cs_S (M cd : Nat → Nat) : Nat → Nat
  | 0 => 0
  | n + 1 => cs_S M cd n + M (cd n)
/-- the state after the first n codes -/
def cs_E (D cd : Nat → Nat) : Nat → Nat
  | 0 => 0
  | n + 1 => D (cd n)
theorem cs_n8 : ∀ n, n < 8 → (nI n).toInt8.toInt32 = nI n := by decide +kernel
theorem cs_n16 : ∀ n, n < 8 → (nI n).toInt16.toInt32 = nI n := by decide +kernel
theorem cs_vb {n : Nat} (h : n < 8) : vp_nar .byte (nI n) = nI n := by rw [vp_nar_byte, cs_n8 n h]
theorem cs_i7 (n c : Nat) : nI n * 7 + nI c = nI (n * 7 + c) := by
  rw [← nI_add, ← pk_mul]
  rfl
theorem cs_i4 (n c : Nat) : nI n * 4 + nI c = nI (n * 4 + c) := by
  rw [← nI_add, ← pk_mul]
  rfl
theorem cs_m7 (n : Nat) : nI n * 7 = nI (n * 7) := by
  rw [← pk_mul]
  rfl
/-- the words: four single symbols, then (of five words) the word 'a b' -/
def cs_W (W a b : Nat) (a1 a2 a3 a4 : Nat → Int32) : Prop :=
  (∀ j, j < 4 → a1 j = -1 ∧ a2 j = nI j ∧ a3 j = nI j ∧ a4 j = nI 1) ∧ (W = 5 → a1 4 = nI a ∧ a2 4 = nI b ∧ a4 4 = nI 2)
theorem cs_W_add {a b : Nat} {a1 a2 a3 a4 : Nat → Int32} {v : Int32} (h : cs_W 4 0 0 a1 a2 a3 a4) : cs_W 5 a b (upd a1 4 (nI a)) (upd a2 4 (nI b)) (upd a3 4 v) (upd a4 4 (nI 2)) := by
  refine ⟨fun j hj => ?_, fun _ => ⟨pk_us, pk_us, pk_us⟩⟩
  have e : j ≠ 4 := by omega
  rw [pk_un e, pk_un e, pk_un e, pk_un e]
  exact h.1 j hj
/-- the machine: its step doesn't hang on the state -/
def cs_P (s : Nat) (a7 : Nat → Int32) : Prop := ∀ q, q < 2 → ∀ y, y < 4 → a7 (q * 4 + y) = nI (cs_d y s)
/-- the tables: words below n whole, c cells of word n -/
def cs_T (a b s n c : Nat) (a8 a9 : Nat → Int32) : Prop :=
  ∀ j q, q < 2 → (j < n ∨ (j = n ∧ q < c)) → a8 (j * 7 + q) = nI (cs_D b s j) ∧ a9 (j * 7 + q) = nI (cs_M a b s j)
theorem cs_T_0 {a b s : Nat} {a8 a9 : Nat → Int32} : cs_T a b s 0 0 a8 a9 := fun j q hq h => absurd h (by omega)
theorem cs_T_up {a b s n : Nat} {a8 a9 : Nat → Int32} (h : cs_T a b s n 2 a8 a9) : cs_T a b s (n + 1) 0 a8 a9 := fun j q hq g => h j q hq (by omega)
theorem cs_T_put {a b s n c : Nat} {a8 a9 : Nat → Int32} {v u : Int32} (hc : c < 2) (h : cs_T a b s n c a8 a9) (hv : v = nI (cs_D b s n)) (hu : u = nI (cs_M a b s n)) : cs_T a b s n (c + 1) (upd a8 (n * 7 + c) v) (upd a9 (n * 7 + c) u) := by
  intro j q hq g
  by_cases e : j * 7 + q = n * 7 + c
  · have ej : j = n := by omega
    rw [e, pk_us, pk_us, ej]
    exact ⟨hv, hu⟩
  · rw [pk_un e, pk_un e]
    exact h j q hq (by omega)
end
section
section
variable {fw ft fx fz fb fk fe fm ff fl fi : Int32} {a1 a2 a3 a4 a5 a6 a7 a8 a9 a10 a11 : Nat → Int32}
theorem cs_init {post : St2 → Prop} {mc ms : Nat} (hm : 11 ≤ mc) (hs : 2204 ≤ ms)
    (H : ∀ b1 b2 b3 b4 : Nat → Int32, cs_W 4 0 0 b1 b2 b3 b4 → post (4, 0, 0, 0, 0, 0, 0, 0, 0, 0, 0, b1, b2, b3, b4, fun _ => 0, fun _ => 0, fun _ => 0, fun _ => 0, fun _ => 0, fun _ => 0, fun _ => 0)) :
    wpX_init post mc ms (0, 0, 0, 0, 0, 0, 0, 0, 0, 0, 0) := by
  unfold wpX_init
  refine ⟨by omega, by omega, by omega, by omega, by omega, by omega, by omega, by omega, by omega, by omega, by omega, by omega, by omega, by omega, by omega, by omega, by omega, by omega, by omega, by omega, by omega, by omega, ?_⟩
  refine pk_loop (σ := (Nat → Int32) × (Nat → Int32) × (Nat → Int32) × (Nat → Int32)) (fun n i s => wX_init_104 post mc ms 11 2204 4 0 0 0 0 0 0 0 0 0 0 n (nI i) s.1 s.2.1 s.2.2.1 s.2.2.2 (fun _ => 0) (fun _ => 0) (fun _ => 0) (fun _ => 0) (fun _ => 0) (fun _ => 0) (fun _ => 0)) (fun i s => ∀ j, j < i → s.1 j = -1 ∧ s.2.1 j = nI j ∧ s.2.2.1 j = nI j ∧ s.2.2.2 j = nI 1) 4 0 (fun _ => 0, fun _ => 0, fun _ => 0, fun _ => 0) (by omega) lt_0 ?_ ?_
  · exact fun n s h => pk_le 4 4 (fun _ => H _ _ _ _ ⟨h, fun z => absurd z (by omega)⟩) (fun z => absurd z (by omega))
  · intro n i s hi h hw
    have K : ∀ j, j < i + 1 → upd s.1 i (-1) j = -1 ∧ upd s.2.1 i (nI i) j = nI j ∧ upd s.2.2.1 i (nI i) j = nI j ∧ upd s.2.2.2 i 1 j = nI 1 := by
      intro j hj
      by_cases e : j = i
      · rw [e]
        exact ⟨pk_us, pk_us, pk_us, pk_us⟩
      · rw [pk_un e, pk_un e, pk_un e, pk_un e]
        exact h j (by omega)
    refine pk_le 4 i (fun z => absurd z (by omega)) (fun _ => ?_)
    rw [nI_clamp (show i < 2 ^ 31 by omega), cs_n8 i (by omega)]
    exact ⟨pk_in i 60 (by omega), nm_e ⟨pk_in i 60 (by omega), nm_e ⟨pk_in i 60 (by omega), nm_e ⟨pk_in i 60 (by omega), nm_e (nm_r (nI_1 i) (hw (upd s.1 i (-1), upd s.2.1 i (nI i), upd s.2.2.1 i (nI i), upd s.2.2.2 i 1) K))⟩⟩⟩⟩
theorem cs_76 {post : Int32 → St2 → Prop} {c tk x len : Nat} (hc : c < 8) (h4 : a4 c = nI len) (ht : tk < 250)
    (H : post (nI len) (fw, nI (tk + 1), nI (x + len), fz, fb, 0, fe, fm, ff, fl, fi, a1, a2, a3, a4, upd a5 tk (nI c), a6, a7, a8, a9, a10, a11)) :
    wX_feed_76 post (nI c) fw (nI tk) (nI x) fz fb fk fe fm ff fl fi a1 a2 a3 a4 a5 a6 a7 a8 a9 a10 a11 := by
  unfold wX_feed_76
  rw [nI_clamp (show c < 2 ^ 31 by omega), nI_clamp (show tk < 2 ^ 31 by omega), cs_n8 c hc, h4]
  exact ⟨pk_in tk 250 ht, nm_e (nm_r (nI_1 tk) ⟨pk_in c 60 (by omega), nm_r (nI_add x len) ⟨pk_in c 60 (by omega), H⟩⟩)⟩
theorem cs_feed0 {post : Int32 → St2 → Prop} {a : Nat} (ha : a < 4) (h4 : a4 a = nI 1)
    (H : post 1 (4, 1, 1, fz, fb, 0, fe, fm, ff, fl, fi, a1, a2, a3, a4, upd a5 0 (nI a), a6, a7, a8, a9, a10, a11)) :
    wpX_feed post (4, 0, 0, fz, fb, fk, fe, fm, ff, fl, fi, a1, a2, a3, a4, a5, a6, a7, a8, a9, a10, a11) (nI a) := by
  unfold wpX_feed
  dsimp only
  unfold wpX_allowed
  dsimp only
  refine br_f (nI_pos (by omega)) (br_t (by decide) (br_t rfl (pk_le 4 a (fun z => absurd z (by omega)) (fun _ => ?_))))
  refine br_f (by decide) (br_t (by decide) ?_)
  unfold wX_feed_32
  exact br_t (by decide) (cs_76 (tk := 0) (x := 0) (len := 1) (by omega) h4 (by omega) H)
theorem cs_feedN {post : Int32 → St2 → Prop} {p0 : Int32} (h : p0 < 0 ∨ (¬ p0 < 0 ∧ 4 < p0))
    (H : post (-1) (4, 1, fx, fz, fb, fk, fe, fm, ff, fl, fi, a1, a2, a3, a4, a5, a6, a7, a8, a9, a10, a11)) :
    wpX_feed post (4, 1, fx, fz, fb, fk, fe, fm, ff, fl, fi, a1, a2, a3, a4, a5, a6, a7, a8, a9, a10, a11) p0 := by
  unfold wpX_feed
  dsimp only
  unfold wpX_allowed
  dsimp only
  rcases h with h | ⟨h, h'⟩
  · exact br_t h (br_t rfl H)
  · exact br_f h (br_t (by decide) (br_f (by decide) (br_t h' (br_t rfl H))))
theorem cs_al1 {post : Int32 → Prop} {a c : Nat} (ha : a < 4) (hc : c ≤ 4) (h4 : ∀ j, j < 4 → a4 j = nI 1) (h5 : a5 0 = nI a) (H : post 1) :
    wpX_allowed post (4, 1, 1, fz, fb, fk, fe, fm, ff, fl, fi, a1, a2, a3, a4, a5, a6, a7, a8, a9, a10, a11) (nI c) := by
  have K : wX_allowed_61 post (nI c) 4 1 1 fz fb fk fe fm ff fl fi a1 a2 a3 a4 a5 a6 a7 a8 a9 a10 a11 := by
    unfold wX_allowed_61
    rw [show ((1 : Int32) - 1).toNatClampNeg = 0 by decide, h5, nI_clamp (show a < 2 ^ 31 by omega), nI_clamp (show c < 2 ^ 31 by omega), h4 a ha]
    refine pk_eq c 4 (fun z => ⟨pk_in 0 250 (by omega) (by decide), pk_in a 60 (by omega), ?_⟩) (fun z => ⟨pk_in c 60 (by omega), ?_⟩)
    · unfold wX_allowed_96
      exact br_f (by decide) H
    · unfold wX_allowed_96
      rw [h4 c (by omega)]
      exact br_f (by decide) H
  unfold wpX_allowed
  dsimp only
  exact br_f (nI_pos (by omega)) (br_t (by decide) (br_f (by decide) (pk_lt 4 c (fun z => absurd z (by omega)) (fun _ => pk_eq c 4 (fun _ => br_f (by decide) K) (fun _ => K)))))
theorem cs_addW {post : St2 → Prop} {a y : Nat} (ha : a < 4) (hy : y < 4) (h3 : a3 a = nI a) (h4 : a4 a = nI 1)
    (H : post (5, ft, fx, fz, fb, fk, fe, fm, ff, fl, fi, upd a1 4 (nI a), upd a2 4 (nI y), upd a3 4 (nI a), upd a4 4 (nI 2), a5, a6, a7, a8, a9, a10, a11)) :
    wpX_addWord post (4, ft, fx, fz, fb, fk, fe, fm, ff, fl, fi, a1, a2, a3, a4, a5, a6, a7, a8, a9, a10, a11) (nI a) (nI y) := by
  unfold wpX_addWord
  dsimp only
  rw [nI_clamp (show a < 2 ^ 31 by omega), show (4 : Int32).toNatClampNeg = 4 by decide, h3, h4, cs_n8 a (by omega), cs_n8 y (by omega), cs_vb (show a < 8 by omega)]
  exact ⟨pk_in 4 60 (by omega), nm_e ⟨pk_in 4 60 (by omega), nm_e ⟨pk_in a 60 (by omega), pk_in 4 60 (by omega), nm_e ⟨pk_in a 60 (by omega), pk_in 4 60 (by omega), nm_r (e' := upd a4 4 (nI 2)) (by rw [show (nI 1 + 1).toInt16.toInt32 = nI 2 by decide]) (nm_r (e' := 5) (by decide) H)⟩⟩⟩⟩
theorem cs_feed1 {post : Int32 → St2 → Prop} {a c y len : Nat} (ha : a < 4) (hc : (c < 4 ∧ y = c ∧ len = 1) ∨ (c = 4 ∧ y = a ∧ len = 2)) (h : cs_W 4 0 0 a1 a2 a3 a4) (h5 : a5 0 = nI a)
    (H : ∀ b1 b2 b3 b4 b5 : Nat → Int32, cs_W 5 a y b1 b2 b3 b4 → b5 0 = nI a → b5 1 = nI c → post (nI len) (5, 2, nI (1 + len), fz, fb, 0, fe, fm, ff, fl, fi, b1, b2, b3, b4, b5, a6, a7, a8, a9, a10, a11)) :
    wpX_feed post (4, 1, 1, fz, fb, fk, fe, fm, ff, fl, fi, a1, a2, a3, a4, a5, a6, a7, a8, a9, a10, a11) (nI c) := by
  have hy : y < 4 := by omega
  have K : ∀ z0, z0 = nI y → wX_feed_69 post (nI c) (nI a) z0 4 1 1 fz fb fk fe fm ff fl fi a1 a2 a3 a4 a5 a6 a7 a8 a9 a10 a11 := by
    intro z0 hz
    rw [hz]
    unfold wX_feed_69
    refine cs_addW ha hy (h.1 a ha).2.2.1 (h.1 a ha).2.2.2 ?_
    refine cs_76 (tk := 1) (x := 1) (len := len) (by omega) ?_ (by omega) (H _ _ _ _ _ (cs_W_add h) ?_ pk_us)
    · rcases hc with ⟨h1, _, h3⟩ | ⟨h1, _, h3⟩
      · rw [pk_un (by omega), h3]
        exact (h.1 c h1).2.2.2
      · rw [h1, h3]
        exact pk_us
    · rw [pk_un (by omega)]
      exact h5
  unfold wpX_feed
  dsimp only
  refine cs_al1 ha (by omega) (fun j hj => (h.1 j hj).2.2.2) h5 ?_
  refine br_f (by decide) (br_f (by decide) ⟨pk_in 0 250 (by omega) (by decide), ?_⟩)
  rw [show ((1 : Int32) - 1).toNatClampNeg = 0 by decide, h5]
  unfold wX_feed_32
  refine br_f (nI_pos (by omega)) (br_f (by decide) (pk_eq c 4 (fun z => ⟨pk_in a 60 (by omega), K _ ?_⟩) (fun z => ⟨pk_in c 60 (by omega), K _ ?_⟩)))
  · rw [nI_clamp (by omega), (h.1 a ha).2.2.1, show y = a by omega]
  · rw [nI_clamp (by omega), (h.1 c (by omega)).2.2.1, show y = c by omega]
theorem cs_sym4 {post : Int32 → Prop} (H : post (-1)) :
    wpX_wordSymbol post (4, ft, fx, fz, fb, fk, fe, fm, ff, fl, fi, a1, a2, a3, a4, a5, a6, a7, a8, a9, a10, a11) 4 1 := by
  unfold wpX_wordSymbol
  dsimp only
  unfold wpX_isWord
  dsimp only
  exact br_f (by decide) (br_t (by decide) (br_t rfl H))
theorem cs_sym5 {post : Int32 → Prop} {a y : Nat} (h : cs_W 5 a y a1 a2 a3 a4) (H : post (nI y)) :
    wpX_wordSymbol post (5, ft, fx, fz, fb, fk, fe, fm, ff, fl, fi, a1, a2, a3, a4, a5, a6, a7, a8, a9, a10, a11) 4 1 := by
  obtain ⟨h1, h2, h4⟩ := h.2 rfl
  unfold wpX_wordSymbol
  dsimp only
  unfold wpX_isWord
  dsimp only
  refine br_f (by decide) (br_f (by decide) (br_f (by decide) (br_f (by decide) ⟨pk_in 4 60 (by omega), ?_⟩)))
  rw [show (4 : Int32).toNatClampNeg = 4 by decide, h4]
  refine br_t (by decide) ?_
  unfold wpX_symbolIn
  dsimp only
  rw [show (4 : Int32).toNatClampNeg = 4 by decide, h4]
  refine ⟨pk_in 4 60 (by omega), nm_r (e' := 1) (by decide) ⟨1, br_t (by decide) ⟨pk_in 4 60 (by omega), ?_⟩⟩⟩
  rw [show (4 : Int32).toNatClampNeg = 4 by decide, h2]
  exact H
theorem cs_extN {post : Int32 → St2 → Prop} {p0 : Int32} (h : p0 < 0 ∨ (¬ p0 < 0 ∧ 3 < p0))
    (H : post 0 (fw, ft, fx, fz, fb, fk, fe, fm, ff, fl, fi, a1, a2, a3, a4, a5, a6, a7, a8, a9, a10, a11)) :
    wpX_extend post (fw, ft, fx, fz, fb, fk, fe, fm, ff, fl, fi, a1, a2, a3, a4, a5, a6, a7, a8, a9, a10, a11) p0 := by
  unfold wpX_extend
  dsimp only
  rcases h with h | ⟨h, h'⟩
  · exact br_t h H
  · exact br_f h (br_t h' H)
theorem cs_ext1 {post : Int32 → St2 → Prop} {s : Nat} (hs : s < 4)
    (H : post 1 (fw, ft, fx, 1, 0, 0, fe, fm, ff, fl, fi, a1, a2, a3, a4, a5, upd a6 0 (nI s), a7, a8, a9, a10, a11)) :
    wpX_extend post (fw, ft, fx, 0, fb, fk, fe, fm, ff, fl, fi, a1, a2, a3, a4, a5, a6, a7, a8, a9, a10, a11) (nI s) := by
  unfold wpX_extend
  dsimp only
  rw [cs_n8 s (by omega)]
  exact br_f (nI_pos (by omega)) (pk_lt 3 s (fun z => absurd z (by omega)) (fun _ => br_t (by decide) ⟨pk_in 0 6 (by omega), nm_r (e' := upd a6 0 (nI s)) rfl (nm_r (e' := 1) (by decide) H)⟩))
end
end
section
section
variable {fw ft fx fz fb fk fe fm ff fl fi : Int32} {a1 a2 a3 a4 a5 a6 a7 a8 a9 a10 a11 : Nat → Int32}
theorem cs_z4 (i : Nat) : (0 : Int32) * 4 + nI i = nI i := (cs_i4 0 i).trans (by rw [Nat.zero_mul, Nat.zero_add])
theorem cs_o4 (i : Nat) : (1 : Int32) * 4 + nI i = nI (4 + i) := cs_i4 1 i
theorem cs_35a {post : St2 → Prop} {J : Int32 → Int32 → (Nat → Int32) → (Nat → Int32) → (Nat → Int32) → (Nat → Int32) → (Nat → Int32) → (Nat → Int32) → (Nat → Int32) → (Nat → Int32) → (Nat → Int32) → (Nat → Int32) → (Nat → Int32) → Prop} {s : Nat} (hs : s < 4) (h6 : a6 0 = nI s)
    (H : ∀ b7 : Nat → Int32, (∀ y, y < 4 → b7 y = nI (cs_d y s)) → J 0 1 a1 a2 a3 a4 a5 a6 b7 a8 a9 a10 a11) :
    ∃ n, wX_buildMachine_35 post J 0 0 fw ft fx 1 fb fk fe fm ff fl fi n 0 a1 a2 a3 a4 a5 a6 a7 a8 a9 a10 a11 := by
  refine pk_loop (fun n i r => wX_buildMachine_35 post J 0 0 fw ft fx 1 fb fk fe fm ff fl fi n (nI i) a1 a2 a3 a4 a5 a6 r a8 a9 a10 a11) (fun i r => ∀ j, j < i → r j = nI 0) 4 0 a7 (by omega) lt_0 ?_ ?_
  · intro n r h
    refine pk_le 4 4 (fun _ => br_f (by decide) ?_) (fun z => absurd z (by omega))
    rw [show (0 : Int32).toNatClampNeg = 0 by decide, h6, cs_z4, nI_clamp (show s < 2 ^ 31 by omega)]
    refine ⟨pk_in 0 6 (by omega), pk_in s 28 (by omega), nm_e ⟨pk_in 0 6 (by omega), pk_in s 28 (by omega), nm_r (e' := upd r s (nI 1)) (by rw [show ((0 : Int32) + 1).toInt8.toInt32 = nI 1 by decide]) (br_t rfl (nm_r (e' := 1) (by decide) (H _ ?_)))⟩⟩
    intro y hy
    by_cases e : y = s
    · rw [e, pk_us, cs_d_t rfl]
    · rw [pk_un e, cs_d_f e]
      exact h y hy
  · intro n i r hi h hw
    refine pk_le 4 i (fun z => absurd z (by omega)) (fun _ => br_t rfl ?_)
    rw [cs_z4, nI_clamp (show i < 2 ^ 31 by omega)]
    refine ⟨pk_in i 28 (by omega), nm_e (nm_r (nI_1 i) (hw _ ?_))⟩
    intro j hj
    by_cases e : j = i
    · rw [e, pk_us]
      rfl
    · rw [pk_un e]
      exact h j (by omega)
theorem cs_35b {post : St2 → Prop} {J : Int32 → Int32 → (Nat → Int32) → (Nat → Int32) → (Nat → Int32) → (Nat → Int32) → (Nat → Int32) → (Nat → Int32) → (Nat → Int32) → (Nat → Int32) → (Nat → Int32) → (Nat → Int32) → (Nat → Int32) → Prop} {s : Nat} (h7 : ∀ y, y < 4 → a7 y = nI (cs_d y s))
    (H : ∀ b7 : Nat → Int32, cs_P s b7 → J 0 2 a1 a2 a3 a4 a5 a6 b7 a8 a9 a10 a11) :
    ∃ n, wX_buildMachine_35 post J 0 1 fw ft fx 1 fb fk fe fm ff fl fi n 0 a1 a2 a3 a4 a5 a6 a7 a8 a9 a10 a11 := by
  refine pk_loop (fun n i r => wX_buildMachine_35 post J 0 1 fw ft fx 1 fb fk fe fm ff fl fi n (nI i) a1 a2 a3 a4 a5 a6 r a8 a9 a10 a11) (fun i r => (∀ y, y < 4 → r y = nI (cs_d y s)) ∧ ∀ y, y < i → r (4 + y) = nI (cs_d y s)) 4 0 a7 (by omega) ⟨h7, lt_0⟩ ?_ ?_
  · intro n r h
    refine pk_le 4 4 (fun _ => br_t (by decide) (nm_r (e' := 2) (by decide) (H r ?_))) (fun z => absurd z (by omega))
    intro q hq y hy
    rcases (show q = 0 ∨ q = 1 by omega) with e | e
    · rw [e, Nat.zero_mul, Nat.zero_add]
      exact h.1 y hy
    · rw [e, Nat.one_mul]
      exact h.2 y hy
  · intro n i r hi h hw
    refine pk_le 4 i (fun z => absurd z (by omega)) (fun _ => br_f (by decide) ?_)
    rw [cs_z4, cs_o4, nI_clamp (show i < 2 ^ 31 by omega), nI_clamp (show 4 + i < 2 ^ 31 by omega), h.1 i hi, cs_vb (show cs_d i s < 8 from Nat.lt_trans (cs_d_lt i s) (by decide))]
    refine ⟨pk_in i 28 (by omega), pk_in (4 + i) 28 (by omega), nm_e (nm_r (nI_1 i) (hw _ ⟨fun y hy => ?_, fun y hy => ?_⟩))⟩
    · rw [pk_un (by omega)]
      exact h.1 y hy
    · by_cases e : y = i
      · rw [e, pk_us]
      · rw [pk_un (by omega)]
        exact h.2 y (by omega)
theorem cs_25 {post : St2 → Prop} {s : Nat} (hs : s < 4) (h6 : a6 0 = nI s)
    (H : ∀ b7 : Nat → Int32, cs_P s b7 → post (fw, ft, fx, 1, fb, fk, fe, fm, ff, fl, fi, a1, a2, a3, a4, a5, a6, b7, a8, a9, a10, a11)) :
    ∃ n, wX_buildMachine_25 post fw ft fx 1 fb fk fe fm ff fl fi n 0 0 a1 a2 a3 a4 a5 a6 a7 a8 a9 a10 a11 := by
  have K2 : ∀ n (b7 : Nat → Int32), cs_P s b7 → wX_buildMachine_25 post fw ft fx 1 fb fk fe fm ff fl fi (n + 1) 0 2 a1 a2 a3 a4 a5 a6 b7 a8 a9 a10 a11 := fun n b7 h => br_t (by decide) (H b7 h)
  have K1 : ∀ n (b7 : Nat → Int32), (∀ y, y < 4 → b7 y = nI (cs_d y s)) → wX_buildMachine_25 post fw ft fx 1 fb fk fe fm ff fl fi (n + 1 + 1) 0 1 a1 a2 a3 a4 a5 a6 b7 a8 a9 a10 a11 := fun n b7 h => br_f (by decide) (cs_35b h (K2 n))
  have K0 : ∀ n, wX_buildMachine_25 post fw ft fx 1 fb fk fe fm ff fl fi (n + 1 + 1 + 1) 0 0 a1 a2 a3 a4 a5 a6 a7 a8 a9 a10 a11 := fun n => br_f (by decide) (cs_35a hs h6 (K1 n))
  exact ⟨_, K0 0⟩
theorem cs_build {post : St2 → Prop} {s : Nat} (hs : s < 4) (h6 : a6 0 = nI s)
    (H : ∀ b7 : Nat → Int32, cs_P s b7 → post (fw, ft, fx, 1, fb, fk, fe, fm, ff, fl, fi, a1, a2, a3, a4, a5, a6, b7, a8, a9, a10, a11)) :
    wpX_buildMachine post (fw, ft, fx, 1, fb, fk, fe, fm, ff, fl, fi, a1, a2, a3, a4, a5, a6, a7, a8, a9, a10, a11) := by
  unfold wpX_buildMachine
  dsimp only
  exact pk_loop (fun n i r => wX_buildMachine_2 post fw ft fx 1 fb fk fe fm ff fl fi n (nI i) a1 a2 a3 a4 a5 a6 r a8 a9 a10 a11) (fun _ _ => True) 28 0 a7 (by omega) trivial
    (fun n r _ => pk_le 28 28 (fun _ => cs_25 hs h6 H) (fun z => absurd z (by omega)))
    (fun n i r hi _ hw => pk_le 28 i (fun z => absurd z (by omega)) (fun _ => ⟨pk_in i 28 hi, nm_e (nm_r (nI_1 i) (hw _ trivial))⟩))
end
end
section
section
variable {fw ft fx fz fb fk fe fm ff fl fi : Int32} {a1 a2 a3 a4 a5 a6 a7 a8 a9 a10 a11 : Nat → Int32}
theorem cs_129 {post : St2 → Prop} {cell u d : Nat} {x6 x7 : Int32} (hc : cell < 420) (hu : u < 8) (hd : d < 8)
    (H : ∀ b10 b11 : Nat → Int32, post (fw, ft, fx, fz, fb, fk, fe, fm, ff, fl, fi, a1, a2, a3, a4, a5, a6, a7, upd a8 cell (nI d), upd a9 cell (nI u), b10, b11)) :
    wX_fillCell_129 post (nI cell) (nI u) x6 x7 (nI d) fw ft fx fz fb fk fe fm ff fl fi a1 a2 a3 a4 a5 a6 a7 a8 a9 a10 a11 := by
  unfold wX_fillCell_129
  rw [nI_clamp (show cell < 2 ^ 31 by omega), cs_n8 d hd, cs_n16 u hu]
  exact ⟨pk_in cell 420 hc, nm_e ⟨pk_in cell 420 hc, nm_e ⟨pk_in cell 420 hc, nm_e ⟨pk_in cell 420 hc, nm_e (H _ _)⟩⟩⟩⟩
theorem cs_77 {post : St2 → Prop} {n cell q y u d : Nat} {x6 x7 : Int32} (hn : n < 60) (hc : cell < 420) (hq : q < 2) (hy : y < 4) (hu : u < 4) (hd : d < 2) (h2 : a2 n = nI y) (h7 : a7 (q * 4 + y) = nI d)
    (H : ∀ b10 b11 : Nat → Int32, post (fw, ft, fx, 1, fb, fk, fe, fm, ff, fl, fi, a1, a2, a3, a4, a5, a6, a7, upd a8 cell (nI d), upd a9 cell (nI (u + d)), b10, b11)) :
    wX_fillCell_77 post (nI n) (nI cell) (nI q) (nI u) x6 x7 fw ft fx 1 fb fk fe fm ff fl fi a1 a2 a3 a4 a5 a6 a7 a8 a9 a10 a11 := by
  unfold wX_fillCell_77
  rw [nI_clamp (show n < 2 ^ 31 by omega), h2, cs_i4 q y, nI_clamp (show q * 4 + y < 2 ^ 31 by omega), h7]
  refine ⟨pk_in n 60 hn, pk_in (q * 4 + y) 28 (by omega), nm_e ?_⟩
  rcases (show d = 0 ∨ d = 1 by omega) with e | e
  · subst e
    exact pk_eq 0 1 (fun z => absurd z (by omega)) (fun _ => cs_129 hc (by omega) (by omega) H)
  · subst e
    exact pk_eq 1 1 (fun _ => nm_r (nI_1 u) ⟨pk_in n 60 hn, nm_e (br_c (fun _ => cs_129 hc (by omega) (by omega) H) (fun _ => cs_129 hc (by omega) (by omega) H))⟩) (fun z => absurd rfl z)
theorem cs_cell {post : St2 → Prop} {W a b s n c : Nat} (ha : a < 4) (hb : b < 4) (hn : n < W) (hW : W ≤ 5) (hc : c < 2) (hw : cs_W W a b a1 a2 a3 a4) (hP : cs_P s a7) (hT : cs_T a b s n c a8 a9)
    (H : ∀ b8 b9 b10 b11 : Nat → Int32, cs_T a b s n (c + 1) b8 b9 → post (fw, ft, fx, 1, fb, fk, fe, fm, ff, fl, fi, a1, a2, a3, a4, a5, a6, a7, b8, b9, b10, b11)) :
    wpX_fillCell post (fw, ft, fx, 1, fb, fk, fe, fm, ff, fl, fi, a1, a2, a3, a4, a5, a6, a7, a8, a9, a10, a11) (nI n) (nI c) := by
  unfold wpX_fillCell
  dsimp only
  rw [nI_clamp (show n < 2 ^ 31 by omega), cs_i7 n c]
  refine nm_e ⟨pk_in n 60 (by omega), ?_⟩
  by_cases h4 : n < 4
  · obtain ⟨h1, h2, _, _⟩ := hw.1 n h4
    rw [h1]
    refine br_t (by decide) (cs_77 (q := c) (y := n) (u := 0) (d := cs_d n s) (by omega) (by omega) hc h4 (by omega) (cs_d_lt n s) h2 (hP c hc n h4) (fun b10 b11 => H _ _ b10 b11 (cs_T_put hc hT ?_ ?_)))
    · rw [cs_D, if_pos h4]
    · rw [cs_M, if_pos h4, Nat.zero_add]
  · have e4 : n = 4 := by omega
    subst e4
    obtain ⟨h1, h2, _⟩ := hw.2 (by omega)
    obtain ⟨t8, t9⟩ := hT a c hc (by omega)
    have hD := cs_D_lt b s a
    have hM := cs_M_lt a b s a
    rw [h1, cs_i7 a c]
    refine br_f (nI_pos (by omega)) ⟨pk_in 4 60 (by omega), nm_e ?_⟩
    rw [nI_clamp (show a * 7 + c < 2 ^ 31 by omega)]
    refine ⟨pk_in (a * 7 + c) 420 (by omega), nm_r t8 ⟨pk_in (a * 7 + c) 420 (by omega), nm_r t9 ⟨pk_in (a * 7 + c) 420 (by omega), nm_e ⟨pk_in (a * 7 + c) 420 (by omega), nm_e ?_⟩⟩⟩⟩
    refine cs_77 (q := cs_D b s a) (y := b) (u := cs_M a b s a) (d := cs_d b s) (by omega) (by omega) hD hb (by omega) (cs_d_lt b s) h2 (hP _ hD b hb) (fun b10 b11 => H _ _ b10 b11 (cs_T_put hc hT ?_ ?_))
    · rw [cs_D, if_neg (by omega)]
    · rw [cs_M, if_pos ha, cs_M, if_neg (by omega)]
theorem cs_26 {post : St2 → Prop} {J : Int32 → Int32 → Int32 → Int32 → Int32 → Int32 → Int32 → Int32 → Int32 → Int32 → Int32 → Int32 → (Nat → Int32) → (Nat → Int32) → (Nat → Int32) → (Nat → Int32) → (Nat → Int32) → (Nat → Int32) → (Nat → Int32) → (Nat → Int32) → (Nat → Int32) → (Nat → Int32) → (Nat → Int32) → Prop} {W a b s n : Nat} (ha : a < 4) (hb : b < 4) (hn : n < W) (hW : W ≤ 5) (hw : cs_W W a b a1 a2 a3 a4) (hP : cs_P s a7) (hT : cs_T a b s n 0 a8 a9)
    (H : ∀ b8 b9 b10 b11 : Nat → Int32, cs_T a b s (n + 1) 0 b8 b9 → J (nI (n + 1)) fw ft fx 1 fb fk fe fm ff fl fi a1 a2 a3 a4 a5 a6 a7 b8 b9 b10 b11) :
    ∃ k, wX_fillTables_26 post J (nI n) k 0 fw ft fx 1 fb fk fe fm ff fl fi a1 a2 a3 a4 a5 a6 a7 a8 a9 a10 a11 :=
  pk_loop (σ := (Nat → Int32) × (Nat → Int32) × (Nat → Int32) × (Nat → Int32)) (fun k i r => wX_fillTables_26 post J (nI n) k (nI i) fw ft fx 1 fb fk fe fm ff fl fi a1 a2 a3 a4 a5 a6 a7 r.1 r.2.1 r.2.2.1 r.2.2.2) (fun i r => cs_T a b s n i r.1 r.2.1) 2 0 (a8, a9, a10, a11) (by omega) hT
    (fun k r h => pk_lt 1 2 (fun _ => nm_r (nI_1 n) (H _ _ _ _ (cs_T_up h))) (fun z => absurd z (by omega)))
    (fun k i r hi h hx => pk_lt 1 i (fun z => absurd z (by omega)) (fun _ => cs_cell ha hb hn hW hi hw hP h (fun b8 b9 b10 b11 hb => nm_r (nI_1 i) (hx (b8, b9, b10, b11) hb))))
theorem cs_16 {post : St2 → Prop} {W a b s : Nat} (ha : a < 4) (hb : b < 4) (hW : W ≤ 5) (hw : cs_W W a b a1 a2 a3 a4) (hP : cs_P s a7)
    (H : ∀ b8 b9 b10 b11 : Nat → Int32, cs_T a b s W 0 b8 b9 → post (nI W, ft, fx, 1, nI W, fk, fe, fm, ff, fl, fi, a1, a2, a3, a4, a5, a6, a7, b8, b9, b10, b11)) :
    ∃ k, wX_fillTables_16 post k 0 (nI W) ft fx 1 fb fk fe fm ff fl fi a1 a2 a3 a4 a5 a6 a7 a8 a9 a10 a11 :=
  pk_loop (σ := (Nat → Int32) × (Nat → Int32) × (Nat → Int32) × (Nat → Int32)) (fun k i r => wX_fillTables_16 post k (nI i) (nI W) ft fx 1 fb fk fe fm ff fl fi a1 a2 a3 a4 a5 a6 a7 r.1 r.2.1 r.2.2.1 r.2.2.2) (fun i r => cs_T a b s i 0 r.1 r.2.1) W 0 (a8, a9, a10, a11) (by omega) cs_T_0
    (fun k r h => pk_le W W (fun _ => H _ _ _ _ h) (fun z => absurd z (by omega)))
    (fun k i r hi h hx => pk_le W i (fun z => absurd z (by omega)) (fun _ => cs_26 ha hb hi hW hw hP h (fun b8 b9 b10 b11 hb => hx (b8, b9, b10, b11) hb)))
theorem cs_fill {post : St2 → Prop} {W a b s : Nat} (ha : a < 4) (hb : b < 4) (hs : s < 4) (hW : W ≤ 5) (hw : cs_W W a b a1 a2 a3 a4) (h6 : a6 0 = nI s)
    (H : ∀ b7 b8 b9 b10 b11 : Nat → Int32, cs_T a b s W 0 b8 b9 → post (nI W, ft, fx, 1, nI W, fk, fe, fm, ff, fl, fi, a1, a2, a3, a4, a5, a6, b7, b8, b9, b10, b11)) :
    wpX_fillTables post (nI W, ft, fx, 1, 0, fk, fe, fm, ff, fl, fi, a1, a2, a3, a4, a5, a6, a7, a8, a9, a10, a11) := by
  unfold wpX_fillTables
  dsimp only
  refine br_t rfl (cs_build hs h6 (fun b7 hP => ?_))
  exact cs_16 ha hb hW hw hP (H b7)
end
end
section
section
variable {fw ft fx fz fb fk fe fm ff fl fi : Int32} {a1 a2 a3 a4 a5 a6 a7 a8 a9 a10 a11 : Nat → Int32}
theorem cs_pass {post : St2 → Prop} {cell mm dd m0 : Nat} {p1 : Int32} (hc : cell < 420) (hm : mm < 3) (h8 : a8 cell = nI dd) (h9 : a9 cell = nI mm)
    (H : ∀ gf gl : Int32, post (fw, ft, fx, fz, fb, fk, nI dd, nI (m0 + mm), gf, gl, fi, a1, a2, a3, a4, a5, a6, a7, a8, a9, a10, a11)) :
    wpX_pass post (fw, ft, fx, fz, fb, fk, fe, nI m0, ff, fl, fi, a1, a2, a3, a4, a5, a6, a7, a8, a9, a10, a11) (nI cell) p1 := by
  have K : ∀ z0 gf gl : Int32, wX_pass_69 post (nI cell) z0 fw ft fx fz fb fk fe (nI (m0 + mm)) gf gl fi a1 a2 a3 a4 a5 a6 a7 a8 a9 a10 a11 := by
    intro z0 gf gl
    unfold wX_pass_69
    rw [nI_clamp (show cell < 2 ^ 31 by omega)]
    exact ⟨pk_in cell 420 hc, nm_r h8 (H _ _)⟩
  unfold wpX_pass
  dsimp only
  rw [nI_clamp (show cell < 2 ^ 31 by omega), h9]
  refine ⟨pk_in cell 420 hc, pk_le mm 0 (fun z => ⟨pk_in cell 420 hc, nm_r h8 ?_⟩) (fun z => ⟨pk_in cell 420 hc, nm_r (nI_add m0 mm) ⟨pk_in cell 420 hc, nm_e (br_c (fun _ => K _ _ _) (fun _ => ⟨pk_in cell 420 hc, K _ _ _⟩))⟩⟩)⟩
  have e : mm = 0 := by omega
  subst e
  exact H _ _
theorem cs_54 {post : St2 → Prop} {W T a b s : Nat} {cd : Nat → Nat} (hW : W ≤ 5) (hT : T ≤ 250) (hcd : ∀ j, j < T → cd j < W) (h5 : ∀ j, j < T → a5 j = nI (cd j)) (ht : cs_T a b s W 0 a8 a9)
    (H : ∀ gf gl : Int32, post (fw, nI T, fx, fz, fb, fk, nI (cs_E (cs_D b s) cd T), nI (cs_S (cs_M a b s) cd T), gf, gl, nI (cs_S (cs_M a b s) cd T), a1, a2, a3, a4, a5, a6, a7, a8, a9, a10, a11)) :
    ∃ k, wX_scan_54 post k 0 0 fw (nI T) fx fz fb fk 0 0 ff fl 0 a1 a2 a3 a4 a5 a6 a7 a8 a9 a10 a11 := by
  have hE : ∀ i, cs_E (cs_D b s) cd i < 2 := by
    intro i
    cases i with
    | zero => exact (by decide : 0 < 2)
    | succ i => exact cs_D_lt b s (cd i)
  refine pk_loop (σ := Int32 × Int32 × Int32) (fun k i r => wX_scan_54 post k r.1 (nI i) fw (nI T) fx fz fb fk (nI (cs_E (cs_D b s) cd i)) (nI (cs_S (cs_M a b s) cd i)) r.2.1 r.2.2 (nI (cs_S (cs_M a b s) cd i)) a1 a2 a3 a4 a5 a6 a7 a8 a9 a10 a11) (fun _ _ => True) T 0 (0, ff, fl) (by omega) trivial ?_ ?_
  · exact fun k r _ => pk_le T T (fun _ => H _ _) (fun z => absurd z (by omega))
  · intro k i r hi _ hx
    have hc := hcd i hi
    have he := hE i
    obtain ⟨t8, t9⟩ := ht (cd i) (cs_E (cs_D b s) cd i) he (Or.inl hc)
    obtain ⟨_, t0⟩ := ht (cd i) 0 (by omega) (Or.inl hc)
    rw [Nat.add_zero] at t0
    refine pk_le T i (fun z => absurd z (by omega)) (fun _ => ⟨pk_in i 250 (by omega), nm_r (e' := nI (cd i)) (by rw [nI_clamp (by omega), h5 i hi]) ?_⟩)
    rw [cs_i7 (cd i), cs_m7 (cd i)]
    refine cs_pass (mm := cs_M a b s (cd i)) (dd := cs_D b s (cd i)) (by omega) (cs_M_lt a b s (cd i)) t8 t9 (fun gf gl => ?_)
    refine ⟨pk_in (cd i * 7) 420 (by omega), nm_r (e' := nI (cs_S (cs_M a b s) cd i + cs_M a b s (cd i))) (by rw [nI_clamp (by omega), t0, nI_add]) ⟨pk_in (cd i) 60 (by omega), nm_e (nm_r (nI_1 i) (hx (_, _, _) trivial))⟩⟩
theorem cs_scan {post : St2 → Prop} {W T a b s : Nat} {cd : Nat → Nat} (ha : a < 4) (hb : b < 4) (hs : s < 4) (hW : W ≤ 5) (hT : T ≤ 250) (hw : cs_W W a b a1 a2 a3 a4) (h6 : a6 0 = nI s) (hcd : ∀ j, j < T → cd j < W) (h5 : ∀ j, j < T → a5 j = nI (cd j))
    (H : ∀ (gf gl : Int32) (b7 b8 b9 b10 b11 : Nat → Int32), post (nI W, nI T, fx, 1, nI W, 1, nI (cs_E (cs_D b s) cd T), nI (cs_S (cs_M a b s) cd T), gf, gl, nI (cs_S (cs_M a b s) cd T), a1, a2, a3, a4, a5, a6, b7, b8, b9, b10, b11)) :
    wpX_scan post (nI W, nI T, fx, 1, 0, 0, fe, fm, ff, fl, fi, a1, a2, a3, a4, a5, a6, a7, a8, a9, a10, a11) := by
  unfold wpX_scan
  dsimp only
  refine br_t rfl (br_f (by decide) (cs_fill ha hb hs hW hw h6 (fun b7 b8 b9 b10 b11 ht => ?_)))
  exact cs_54 hW hT hcd h5 ht (fun gf gl => H gf gl b7 b8 b9 b10 b11)
theorem cs_scan0 {post : St2 → Prop}
    (H : post (fw, ft, fx, 0, fb, 1, 0, 0, -1, -1, 0, a1, a2, a3, a4, a5, a6, a7, a8, a9, a10, a11)) :
    wpX_scan post (fw, ft, fx, 0, fb, 0, fe, fm, ff, fl, fi, a1, a2, a3, a4, a5, a6, a7, a8, a9, a10, a11) := by
  unfold wpX_scan
  dsimp only
  exact br_t rfl (br_t rfl H)
theorem cs_scanK {post : St2 → Prop}
    (H : post (fw, ft, fx, fz, fb, 1, fe, fm, ff, fl, fi, a1, a2, a3, a4, a5, a6, a7, a8, a9, a10, a11)) :
    wpX_scan post (fw, ft, fx, fz, fb, 1, fe, fm, ff, fl, fi, a1, a2, a3, a4, a5, a6, a7, a8, a9, a10, a11) := by
  unfold wpX_scan
  dsimp only
  exact br_f (by decide) H
/-- count, length, tail and within, the first of them scanning: what they answer, one behind another -/
theorem cs_count {post : Int32 → St2 → Prop} {W T a b s : Nat} {cd : Nat → Nat} (ha : a < 4) (hb : b < 4) (hs : s < 4) (hW : W ≤ 5) (hT : T ≤ 250) (hw : cs_W W a b a1 a2 a3 a4) (h6 : a6 0 = nI s) (hcd : ∀ j, j < T → cd j < W) (h5 : ∀ j, j < T → a5 j = nI (cd j))
    (H : ∀ (gf gl : Int32) (b7 b8 b9 b10 b11 : Nat → Int32), post (nI (cs_S (cs_M a b s) cd T)) (nI W, nI T, fx, 1, nI W, 1, nI (cs_E (cs_D b s) cd T), nI (cs_S (cs_M a b s) cd T), gf, gl, nI (cs_S (cs_M a b s) cd T), a1, a2, a3, a4, a5, a6, b7, b8, b9, b10, b11)) :
    wpX_count post (nI W, nI T, fx, 1, 0, 0, fe, fm, ff, fl, fi, a1, a2, a3, a4, a5, a6, a7, a8, a9, a10, a11) := by
  unfold wpX_count
  dsimp only
  exact cs_scan ha hb hs hW hT hw h6 hcd h5 H
theorem cs_count0 {post : Int32 → St2 → Prop}
    (H : post 0 (fw, ft, fx, 0, fb, 1, 0, 0, -1, -1, 0, a1, a2, a3, a4, a5, a6, a7, a8, a9, a10, a11)) :
    wpX_count post (fw, ft, fx, 0, fb, 0, fe, fm, ff, fl, fi, a1, a2, a3, a4, a5, a6, a7, a8, a9, a10, a11) := by
  unfold wpX_count
  dsimp only
  exact cs_scan0 H
theorem cs_tail {post : Int32 → St2 → Prop}
    (H : post fe (fw, ft, fx, fz, fb, 1, fe, fm, ff, fl, fi, a1, a2, a3, a4, a5, a6, a7, a8, a9, a10, a11)) :
    wpX_tail post (fw, ft, fx, fz, fb, 1, fe, fm, ff, fl, fi, a1, a2, a3, a4, a5, a6, a7, a8, a9, a10, a11) := by
  unfold wpX_tail
  dsimp only
  exact cs_scanK H
theorem cs_within {post : Int32 → St2 → Prop}
    (H : post fi (fw, ft, fx, fz, fb, 1, fe, fm, ff, fl, fi, a1, a2, a3, a4, a5, a6, a7, a8, a9, a10, a11)) :
    wpX_within post (fw, ft, fx, fz, fb, 1, fe, fm, ff, fl, fi, a1, a2, a3, a4, a5, a6, a7, a8, a9, a10, a11) := by
  unfold wpX_within
  dsimp only
  exact cs_scanK H
theorem cs_words {post : Int32 → Prop} (H : post fw) :
    wpX_words post (fw, ft, fx, fz, fb, fk, fe, fm, ff, fl, fi, a1, a2, a3, a4, a5, a6, a7, a8, a9, a10, a11) := H
theorem cs_length {post : Int32 → Prop} (H : post fx) :
    wpX_length post (fw, ft, fx, fz, fb, fk, fe, fm, ff, fl, fi, a1, a2, a3, a4, a5, a6, a7, a8, a9, a10, a11) := H
end
end
section
section
variable {post : Int32 → St0 → Prop} {mc ms kc ks : Nat} {x1 x2 x4 x5 x6 x7 x8 x9 x10 x11 x12 x13 x14 x15 x16 x17 x18 : Int32}
/-- what the law asks of its answers: 5 got, 6 words, 7 last, 8 put, 9 count, 10 length, 11 tail, 12 within; 13 one, 14 two, 15 first, 16 sym, 17 due, 18 end -/
def cs_ok (x2 x5 x6 x7 x8 x9 x10 x11 x12 x13 x14 x15 x16 x17 x18 : Int32) : Prop :=
  x5 = (if x13 = 0 then (if x14 = 0 then -1 else 2) else 1) ∧ x6 = (if x13 = 0 then (if x14 = 0 then 4 else 5) else 5) ∧ x7 = (if x13 = 0 then (if x14 = 0 then -1 else x15) else x15) ∧ x8 = x16 ∧ x9 = x17 ∧ x10 = (if x13 = 0 then (if x14 = 0 then 1 else 3) else 2) ∧ x11 = (if x16 = 0 then 0 else if x18 = x2 then 1 else 0) ∧ x12 = x17
theorem cs_l318 {z0 z1 : Int32} (hp : post 1 ()) (hz : z1 = z0) (h12 : x12 = x17) : wL_lawOf_318 post mc ms x12 x17 z0 z1 kc ks := by
  unfold wL_lawOf_318
  exact br_t hz (br_t h12 hp)
theorem cs_l297 {z0 z1 : Int32} (hp : post 1 ()) (hz : z1 = z0) (h : cs_ok x2 x5 x6 x7 x8 x9 x10 x11 x12 x13 x14 x15 x16 x17 x18) : wL_lawOf_297 post mc ms x2 x11 x12 x16 x17 x18 z0 z1 kc ks := by
  obtain ⟨_, _, _, _, _, _, h11, h12⟩ := h
  unfold wL_lawOf_297 wL_lawOf_317
  exact br_t hz (br_c (fun g => cs_l318 hp (by rw [h11, if_pos g]) h12) (fun g => br_c (fun e => cs_l318 hp (by rw [h11, if_neg g, if_pos e]) h12) (fun e => cs_l318 hp (by rw [h11, if_neg g, if_neg e]) h12)))
theorem cs_l259 {z0 z1 : Int32} (hp : post 1 ()) (hz : z1 = z0) (h : cs_ok x2 x5 x6 x7 x8 x9 x10 x11 x12 x13 x14 x15 x16 x17 x18) : wL_lawOf_259 post mc ms x2 x8 x9 x10 x11 x12 x13 x14 x16 x17 x18 z0 z1 kc ks := by
  have h' := h
  obtain ⟨_, _, _, h8, h9, h10, _, _⟩ := h'
  unfold wL_lawOf_259
  exact br_t hz (br_t h8 (br_t h9 (br_c (fun g => br_c (fun e => cs_l297 hp (by rw [h10, if_pos g, if_pos e]) h) (fun e => cs_l297 hp (by rw [h10, if_pos g, if_neg e]) h)) (fun g => cs_l297 hp (by rw [h10, if_neg g]) h))))
theorem cs_l238 {z0 z1 : Int32} (hp : post 1 ()) (hz : z1 = z0) (h : cs_ok x2 x5 x6 x7 x8 x9 x10 x11 x12 x13 x14 x15 x16 x17 x18) : wL_lawOf_238 post mc ms x2 x7 x8 x9 x10 x11 x12 x13 x14 x15 x16 x17 x18 z0 z1 kc ks := by
  have h' := h
  obtain ⟨_, _, h7, _⟩ := h'
  unfold wL_lawOf_238 wL_lawOf_253
  exact br_t hz (br_c (fun g => br_c (fun e => cs_l259 hp (by rw [h7, if_pos g, if_pos e]) h) (fun e => cs_l259 hp (by rw [h7, if_pos g, if_neg e]) h)) (fun g => cs_l259 hp (by rw [h7, if_neg g]) h))
theorem cs_l218 {z0 z1 : Int32} (hp : post 1 ()) (hz : z1 = z0) (h : cs_ok x2 x5 x6 x7 x8 x9 x10 x11 x12 x13 x14 x15 x16 x17 x18) : wL_lawOf_218 post mc ms x2 x6 x7 x8 x9 x10 x11 x12 x13 x14 x15 x16 x17 x18 z0 z1 kc ks := by
  have h' := h
  obtain ⟨_, h6, _⟩ := h'
  unfold wL_lawOf_218 wL_lawOf_233
  exact br_t hz (br_c (fun g => br_c (fun e => cs_l238 hp (by rw [h6, if_pos g, if_pos e]) h) (fun e => cs_l238 hp (by rw [h6, if_pos g, if_neg e]) h)) (fun g => cs_l238 hp (by rw [h6, if_neg g]) h))
theorem cs_l195 (hp : post 1 ()) (h : cs_ok x2 x5 x6 x7 x8 x9 x10 x11 x12 x13 x14 x15 x16 x17 x18) : wL_lawOf_195 post mc ms x2 x5 x6 x7 x8 x9 x10 x11 x12 x13 x14 x15 x16 x17 x18 kc ks := by
  have h' := h
  obtain ⟨h5, _⟩ := h'
  unfold wL_lawOf_195
  exact br_c (fun g => br_c (fun e => cs_l218 hp (by rw [h5, if_pos g, if_pos e]) h) (fun e => cs_l218 hp (by rw [h5, if_pos g, if_neg e]) h)) (fun g => cs_l218 hp (by rw [h5, if_neg g]) h)
theorem cs_l182 (hp : post 1 ()) (h : cs_ok x2 x5 x6 x7 x8 x9 x10 x11 x12 x13 x14 x15 x16 x17 (if x13 = 0 then x4 else x1)) : wL_lawOf_182 post mc ms x1 x2 x4 x5 x6 x7 x8 x9 x10 x11 x12 x13 x14 x15 x16 x17 kc ks := by
  unfold wL_lawOf_182
  exact br_c (fun g => cs_l195 hp (by rw [if_pos g] at h; exact h)) (fun g => cs_l195 hp (by rw [if_neg g] at h; exact h))
theorem cs_l160 {z0 z1 : Int32} (hp : post 1 ()) (h : cs_ok x2 x5 x6 x7 x8 x9 x10 x11 x12 x13 x14 x15 x16 (z1 + z0 + (if x14 = 0 then 0 else if x4 = x2 then 2 else 0)) (if x13 = 0 then x4 else x1)) : wL_lawOf_160 post mc ms x1 x2 x4 x5 x6 x7 x8 x9 x10 x11 x12 x13 x14 x15 x16 z0 z1 kc ks := by
  unfold wL_lawOf_160 wL_lawOf_176 wL_lawOf_177
  exact br_c (fun g => cs_l182 hp (by rw [if_pos g] at h; exact h)) (fun g => br_c (fun e => cs_l182 hp (by rw [if_neg g, if_pos e] at h; exact h)) (fun e => cs_l182 hp (by rw [if_neg g, if_neg e] at h; exact h)))
theorem cs_l145 {z0 : Int32} (hp : post 1 ()) (h : cs_ok x2 x5 x6 x7 x8 x9 x10 x11 x12 x13 x14 x15 x16 (z0 + (if x13 = 0 then 0 else if x1 = x2 then 1 else 0) + (if x14 = 0 then 0 else if x4 = x2 then 2 else 0)) (if x13 = 0 then x4 else x1)) : wL_lawOf_145 post mc ms x1 x2 x4 x5 x6 x7 x8 x9 x10 x11 x12 x13 x14 x15 x16 z0 kc ks := by
  unfold wL_lawOf_145 wL_lawOf_159
  refine br_c (fun g => cs_l160 hp ?_) (fun g => br_c (fun e => cs_l160 hp ?_) (fun e => cs_l160 hp ?_))
  · rw [if_pos g, if_pos g] at h
    rw [if_pos g]
    exact h
  · rw [if_neg g, if_pos e, if_neg g] at h
    rw [if_neg g]
    exact h
  · rw [if_neg g, if_neg e, if_neg g] at h
    rw [if_neg g]
    exact h
/-- due -/
def cs_due (x1 x2 x4 x13 x14 x16 : Int32) : Int32 := if x16 = 0 then 0 else (if x4 = x2 then 1 else 0) + (if x13 = 0 then 0 else if x1 = x2 then 1 else 0) + (if x14 = 0 then 0 else if x4 = x2 then 2 else 0)
theorem cs_l127 (hp : post 1 ()) (h : cs_ok x2 x5 x6 x7 x8 x9 x10 x11 x12 x13 x14 x15 x16 (cs_due x1 x2 x4 x13 x14 x16) (if x13 = 0 then x4 else x1)) : wL_lawOf_127 post mc ms x1 x2 x4 x5 x6 x7 x8 x9 x10 x11 x12 x13 x14 x15 x16 kc ks := by
  unfold wL_lawOf_127
  refine br_c (fun g => cs_l182 hp ?_) (fun g => br_c (fun e => cs_l145 hp ?_) (fun e => cs_l145 hp ?_))
  · rw [cs_due, if_pos g] at h
    exact h
  · rw [cs_due, if_neg g] at h
    rw [if_pos e] at h
    exact h
  · rw [cs_due, if_neg g] at h
    rw [if_neg e] at h
    exact h
theorem cs_fin {one two fst sym : Int32} (hp : post 1 ()) (ho : one = if x1 < 0 then 0 else if 3 < x1 then 0 else 1) (ht : two = if x1 = 4 then 1 else 0) (hf : fst = if one = 0 then x4 else x1) (hs : sym = if x2 < 0 then 0 else if 3 < x2 then 0 else 1)
    (h : cs_ok x2 x5 x6 x7 x8 x9 x10 x11 x12 one two fst sym (cs_due x1 x2 x4 one two sym) (if one = 0 then x4 else x1)) :
    (x1 < 0 → wL_lawOf_85 post mc ms x1 x2 x4 x5 x6 x7 x8 x9 x10 x11 x12 kc ks) ∧ (¬ x1 < 0 → ((3 < x1 → wL_lawOf_85 post mc ms x1 x2 x4 x5 x6 x7 x8 x9 x10 x11 x12 kc ks) ∧ (¬ 3 < x1 → wL_lawOf_86 post mc ms x1 x2 x4 x5 x6 x7 x8 x9 x10 x11 x12 1 kc ks))) := by
  have K3 : wL_lawOf_111 post mc ms x1 x2 x4 x5 x6 x7 x8 x9 x10 x11 x12 one two fst kc ks := by
    unfold wL_lawOf_111 wL_lawOf_126
    refine br_c (fun g => ?_) (fun g => br_c (fun e => ?_) (fun e => ?_))
    · rw [if_pos g] at hs
      subst hs
      exact cs_l127 hp h
    · rw [if_neg g, if_pos e] at hs
      subst hs
      exact cs_l127 hp h
    · rw [if_neg g, if_neg e] at hs
      subst hs
      exact cs_l127 hp h
  have K2 : wL_lawOf_98 post mc ms x1 x2 x4 x5 x6 x7 x8 x9 x10 x11 x12 one two kc ks := by
    unfold wL_lawOf_98
    refine br_c (fun g => ?_) (fun g => ?_)
    · rw [if_pos g] at hf
      subst hf
      exact K3
    · rw [if_neg g] at hf
      subst hf
      exact K3
  have K1 : wL_lawOf_86 post mc ms x1 x2 x4 x5 x6 x7 x8 x9 x10 x11 x12 one kc ks := by
    unfold wL_lawOf_86
    refine br_c (fun g => ?_) (fun g => ?_)
    · rw [if_pos g] at ht
      subst ht
      exact K2
    · rw [if_neg g] at ht
      subst ht
      exact K2
  unfold wL_lawOf_85
  refine br_c (fun g => ?_) (fun g => br_c (fun e => ?_) (fun e => ?_))
  · rw [if_pos g] at ho
    subst ho
    exact K1
  · rw [if_neg g, if_pos e] at ho
    subst ho
    exact K1
  · rw [if_neg g, if_neg e] at ho
    subst ho
    exact K1
end
end
section
theorem cs_if {a s : Nat} (ha : a < 4) (hs : s < 4) : (if nI a = nI s then (1 : Int32) else 0) = nI (cs_d a s) := by
  by_cases e : a = s
  · rw [cs_d_t e, if_pos (by rw [e])]
    rfl
  · rw [cs_d_f e, if_neg (fun z => e ((nI_eq (by omega) (by omega)).mp z))]
    rfl
theorem cs_if2 {a s : Nat} (ha : a < 4) (hs : s < 4) : (if nI a = nI s then (2 : Int32) else 0) = nI (cs_d a s + cs_d a s) := by
  by_cases e : a = s
  · rw [cs_d_t e, if_pos (by rw [e])]
    rfl
  · rw [cs_d_f e, if_neg (fun z => e ((nI_eq (by omega) (by omega)).mp z))]
    rfl
theorem cs_3 (p : Int32) : (p < 0 ∨ (¬ p < 0 ∧ 3 < p)) ∨ ∃ s : Nat, s < 4 ∧ p = nI s := by
  by_cases h : p < 0
  · exact Or.inl (Or.inl h)
  · by_cases h' : 3 < p
    · exact Or.inl (Or.inr ⟨h, h'⟩)
    · obtain ⟨j, hj, e⟩ := nI_of2 (M := 3) (n := 3) (by decide) h (Int32.not_lt.mp h')
      exact Or.inr ⟨j, by omega, e⟩
theorem cs_4 (p : Int32) : (p < 0 ∨ (¬ p < 0 ∧ 4 < p)) ∨ ∃ s : Nat, s < 5 ∧ p = nI s := by
  by_cases h : p < 0
  · exact Or.inl (Or.inl h)
  · by_cases h' : 4 < p
    · exact Or.inl (Or.inr ⟨h, h'⟩)
    · obtain ⟨j, hj, e⟩ := nI_of2 (M := 4) (n := 4) (by decide) h (Int32.not_lt.mp h')
      exact Or.inr ⟨j, by omega, e⟩
theorem cs_fl0 {p : Int32} (h : p < 0 ∨ (¬ p < 0 ∧ 3 < p)) : (0 : Int32) = if p < 0 then 0 else if 3 < p then 0 else 1 := by
  rcases h with h | ⟨h, h'⟩
  · rw [if_pos h]
  · rw [if_neg h, if_pos h']
theorem cs_fl1 {s : Nat} (h : s < 4) : (1 : Int32) = if nI s < 0 then 0 else if 3 < nI s then 0 else 1 := by
  rw [if_neg (nI_pos (by omega)), if_neg (show ¬ (3 : Int32) < nI s from nI_nlt (a := 3) (by omega) (by omega))]
theorem cs_r3 {p : Int32} (h : p < 0 ∨ (¬ p < 0 ∧ 4 < p)) : p < 0 ∨ (¬ p < 0 ∧ 3 < p) := by
  rcases h with h | ⟨h, h'⟩
  · exact Or.inl h
  · exact Or.inr ⟨h, Int32.lt_trans (by decide) h'⟩
theorem cs_r4 {p : Int32} (h : p < 0 ∨ (¬ p < 0 ∧ 4 < p)) : (0 : Int32) = if p = 4 then 1 else 0 := by
  rw [if_neg]
  intro e
  rw [e] at h
  exact absurd h (by decide)
theorem cs_t0 {c : Nat} (h : c < 4) : (0 : Int32) = if nI c = 4 then 1 else 0 := by
  rw [if_neg]
  intro e
  have e' : c = 4 := (nI_eq (by omega) (by omega)).mp (show nI c = nI 4 from e)
  omega
theorem cs_due0 (x1 x2 x4 x13 x14 : Int32) : (0 : Int32) = cs_due x1 x2 x4 x13 x14 0 := by rw [cs_due, if_pos rfl]
/-- the codes of two feeds -/
def cs_cd (a c : Nat) (j : Nat) : Nat := if j = 0 then a else c
theorem cs_cd2 {P : Nat → Nat → Prop} {a c : Nat} (h0 : P 0 a) (h1 : P 1 c) : ∀ j, j < 2 → P j (cs_cd a c j) := by
  intro j hj
  rcases (show j = 0 ∨ j = 1 by omega) with e | e
  · subst e
    exact h0
  · subst e
    exact h1
theorem cs_S1 {a b s : Nat} (ha : a < 4) : cs_S (cs_M a b s) (fun _ => a) 1 = cs_d a s := by
  rw [cs_S, cs_S, cs_M, if_pos ha, Nat.zero_add]
theorem cs_S2 {a b c s : Nat} (ha : a < 4) : cs_S (cs_M a b s) (cs_cd a c) 2 = cs_d a s + cs_M a b s c := by
  have e : cs_S (cs_M a b s) (cs_cd a c) 2 = 0 + cs_M a b s a + cs_M a b s c := rfl
  rw [e, Nat.zero_add, cs_M, if_pos ha]
theorem cs_dueR {a s : Nat} {x1 : Int32} (ha : a < 4) (hs : s < 4) : nI (cs_d a s) = cs_due x1 (nI s) (nI a) 0 0 1 := by
  rw [cs_due, if_neg (by decide), if_pos rfl, if_pos rfl, cs_if ha hs, Int32.add_zero, Int32.add_zero]
theorem cs_due1 {a c s : Nat} (ha : a < 4) (hc : c < 4) (hs : s < 4) : nI (cs_d a s + cs_d c s) = cs_due (nI c) (nI s) (nI a) 1 0 1 := by
  rw [cs_due, if_neg (show ¬ (1 : Int32) = 0 by decide), if_neg (show ¬ (1 : Int32) = 0 by decide), if_pos rfl, cs_if ha hs, cs_if hc hs, Int32.add_zero, nI_add]
theorem cs_due2 {a s : Nat} {x1 : Int32} (ha : a < 4) (hs : s < 4) : nI (cs_d a s + (cs_d a s + cs_d a s)) = cs_due x1 (nI s) (nI a) 0 1 1 := by
  rw [cs_due, if_neg (show ¬ (1 : Int32) = 0 by decide), if_pos rfl, if_neg (show ¬ (1 : Int32) = 0 by decide), cs_if ha hs, cs_if2 ha hs, Int32.add_zero, nI_add]
theorem cs_lawOf {post : Int32 → St0 → Prop} (hp : post 1 ()) (p0 p1 p2 : Int32) : wpL_lawOf post 480 7664 () p0 p1 p2 := by
  obtain ⟨a, ha, ea⟩ := pk_andE p0 (m := 3) 2 (by decide)
  have ha : a < 4 := ha
  unfold wpL_lawOf
  refine ⟨by omega, by omega, 11, 2204, by omega, by omega, cs_init (by omega) (by omega) (fun b1 b2 b3 b4 hw => nm_r ea (cs_feed0 ha (hw.1 a ha).2.2.2 ?_))⟩
  rcases cs_4 p1 with hr | ⟨c, hc, e⟩
  · refine cs_feedN hr (cs_words (cs_sym4 ?_))
    rcases cs_3 p2 with hn | ⟨s, hs, e⟩
    · refine cs_extN hn (cs_count0 (cs_length (cs_tail (cs_within ?_))))
      exact cs_fin (one := 0) (two := 0) (fst := nI a) (sym := 0) hp (cs_fl0 (cs_r3 hr)) (cs_r4 hr) (if_pos rfl).symm (cs_fl0 hn) ⟨rfl, rfl, rfl, rfl, cs_due0 _ _ _ _ _, rfl, rfl, cs_due0 _ _ _ _ _⟩
    · subst e
      refine cs_ext1 hs (cs_count (W := 4) (T := 1) (a := a) (b := 0) (cd := fun _ => a) ha (by omega) hs (by omega) (by omega) ⟨hw.1, fun z => absurd z (by omega)⟩ pk_us (fun j hj => ha) (fun j hj => by rw [show j = 0 by omega, pk_us]) (fun gf gl b7 b8 b9 b10 b11 => cs_length (cs_tail (cs_within ?_))))
      rw [cs_S1 ha]
      exact cs_fin (one := 0) (two := 0) (fst := nI a) (sym := 1) hp (cs_fl0 (cs_r3 hr)) (cs_r4 hr) (if_pos rfl).symm (cs_fl1 hs) ⟨rfl, rfl, rfl, rfl, cs_dueR ha hs, rfl, by rw [if_neg (by decide), if_pos rfl, cs_if ha hs]; rw [cs_E, cs_D, if_pos ha], cs_dueR ha hs⟩
  · subst e
    by_cases h4 : c < 4
    · refine cs_feed1 (y := c) (len := 1) ha (Or.inl ⟨h4, rfl, rfl⟩) hw pk_us (fun d1 d2 d3 d4 d5 hd e0 e1 => cs_words (cs_sym5 hd ?_))
      rcases cs_3 p2 with hn | ⟨s, hs, e⟩
      · refine cs_extN hn (cs_count0 (cs_length (cs_tail (cs_within ?_))))
        exact cs_fin (one := 1) (two := 0) (fst := nI c) (sym := 0) hp (cs_fl1 h4) (cs_t0 h4) (if_neg (by decide)).symm (cs_fl0 hn) ⟨rfl, rfl, rfl, rfl, cs_due0 _ _ _ _ _, rfl, rfl, cs_due0 _ _ _ _ _⟩
      · subst e
        refine cs_ext1 hs (cs_count (W := 5) (T := 2) (a := a) (b := c) (cd := cs_cd a c) ha h4 hs (by omega) (by omega) hd pk_us (cs_cd2 (P := fun _ v => v < 5) (by omega) (by omega)) (cs_cd2 (P := fun j v => d5 j = nI v) e0 e1) (fun gf gl b7 b8 b9 b10 b11 => cs_length (cs_tail (cs_within ?_))))
        have em : cs_M a c s c = cs_d c s := by rw [cs_M, if_pos h4]
        have ee : cs_E (cs_D c s) (cs_cd a c) 2 = cs_d c s := by
          show cs_D c s c = _
          rw [cs_D, if_pos h4]
        rw [cs_S2 ha, em, ee]
        exact cs_fin (one := 1) (two := 0) (fst := nI c) (sym := 1) hp (cs_fl1 h4) (cs_t0 h4) (if_neg (by decide)).symm (cs_fl1 hs) ⟨rfl, rfl, rfl, rfl, cs_due1 ha h4 hs, rfl, by rw [if_neg (show ¬ (1 : Int32) = 0 by decide), if_neg (show ¬ (1 : Int32) = 0 by decide), cs_if h4 hs], cs_due1 ha h4 hs⟩
    · have e4 : c = 4 := by omega
      subst e4
      have h3 : nI 4 < 0 ∨ (¬ nI 4 < 0 ∧ 3 < nI 4) := Or.inr ⟨by decide, by decide⟩
      refine cs_feed1 (y := a) (len := 2) ha (Or.inr ⟨rfl, rfl, rfl⟩) hw pk_us (fun d1 d2 d3 d4 d5 hd e0 e1 => cs_words (cs_sym5 hd ?_))
      rcases cs_3 p2 with hn | ⟨s, hs, e⟩
      · refine cs_extN hn (cs_count0 (cs_length (cs_tail (cs_within ?_))))
        exact cs_fin (one := 0) (two := 1) (fst := nI a) (sym := 0) hp (cs_fl0 h3) (if_pos (by decide)).symm (if_pos rfl).symm (cs_fl0 hn) ⟨rfl, rfl, rfl, rfl, cs_due0 _ _ _ _ _, rfl, rfl, cs_due0 _ _ _ _ _⟩
      · subst e
        refine cs_ext1 hs (cs_count (W := 5) (T := 2) (a := a) (b := a) (cd := cs_cd a 4) ha ha hs (by omega) (by omega) hd pk_us (cs_cd2 (P := fun _ v => v < 5) (by omega) (by omega)) (cs_cd2 (P := fun j v => d5 j = nI v) e0 e1) (fun gf gl b7 b8 b9 b10 b11 => cs_length (cs_tail (cs_within ?_))))
        have em : cs_M a a s 4 = cs_d a s + cs_d a s := by rw [cs_M, if_neg (by omega)]
        have ee : cs_E (cs_D a s) (cs_cd a 4) 2 = cs_d a s := by
          show cs_D a s 4 = _
          rw [cs_D, if_neg (by omega)]
        rw [cs_S2 ha, em, ee]
        exact cs_fin (one := 0) (two := 1) (fst := nI a) (sym := 1) hp (cs_fl0 h3) (if_pos (by decide)).symm (if_pos rfl).symm (cs_fl1 hs) ⟨rfl, rfl, rfl, rfl, cs_due2 ha hs, rfl, by rw [if_neg (by decide), if_pos rfl, cs_if ha hs], cs_due2 ha hs⟩
theorem cs_at {post : Int32 → Prop} {L : Nat} {xs : Nat → Int32} (k : Nat) (hL : L ≤ 3) (hk : k ≤ 3) (H : ∀ r, post r) : wpL_cellAt post L xs () (nI k) := by
  unfold wpL_cellAt
  exact pk_le L k (fun _ => H _) (fun z => ⟨pk_in k L z, H _⟩)
theorem i_vc (xs : Nat → Int32) (L : Nat) (hL : L ≤ 3) : wpL_law (fun r => r = 1) L xs := by
  unfold wpL_law
  exact cs_at 0 hL (by omega) (fun r1 => cs_at 1 hL (by omega) (fun r2 => cs_at 2 hL (by omega) (fun r3 => ⟨480, 7664, by omega, by omega, cs_lawOf rfl r1 r2 r3⟩)))
end
