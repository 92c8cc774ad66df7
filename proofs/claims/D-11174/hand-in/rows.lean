section
/-! numbers -/
theorem qw_b8 : ∀ n, n < 128 → (nI n).toInt8.toInt32 = nI n := by decide +kernel
theorem qw_4 (f i : Nat) : (4 : Int32) * nI f + nI i = nI (4 * f + i) := by
  rw [show (4 : Int32) = nI 4 from rfl, pk_mul, nI_add]
theorem qw_5 (p i : Nat) : (5 : Int32) * nI p + nI i = nI (5 * p + i) := by
  rw [show (5 : Int32) = nI 5 from rfl, pk_mul, nI_add]
theorem qw_50 (i : Nat) : (5 : Int32) * 0 + nI i = nI i := by
  have h := qw_5 0 i
  rw [Nat.mul_zero, Nat.zero_add] at h
  exact h
theorem qw_s2 {k : Nat} (hk : k < 20) : nI k >>> ((2 : Int32) &&& 31) = nI (k / 4) := pk_shrN (by omega) _ 2 (by decide)
theorem qw_m3 {k : Nat} (hk : k < 20) : nI k &&& 3 = nI (k % 4) := pk_andN (by omega) 2 (by decide)
theorem qw_c (x : Int32) : ∃ k : Nat, k < 20 ∧ (x &&& 255) - (x &&& 255) / 20 * 20 = nI k := by
  obtain ⟨j, hj, e⟩ := pk_andE x 8 (show (255 : Int32).toBitVec.toNat = 2 ^ 8 - 1 by decide)
  refine ⟨j % 20, Nat.mod_lt _ (by omega), ?_⟩
  rw [e]
  exact pk_rem (d := 20) (by omega) (by omega) (by omega)
theorem qw_nb0 : vp_nar .byte (0 : Int32) = 0 := by decide
theorem qw_nbm : vp_nar .byte (-1 : Int32) = -1 := by decide
theorem qw_nz {sh : Int32} (h : sh = 0 ∨ sh = 1) : vp_nar .boolean sh = sh := by
  rcases h with rfl | rfl <;> decide
theorem qw_fill {s : Nat → Int32} {i k : Nat} {v : Int32} (hk : k = i) (h : ∀ j, j < i → s j = v) : ∀ j, j < i + 1 → upd s k v j = v := by
  intro j hj
  rw [hk]
  by_cases e : j = i
  · rw [e, pk_us]
  · rw [pk_un e]
    exact h j (by omega)
/-! the constructor -/
theorem qw_i153 {post : St2 → Prop} {mc ms kc ks : Nat} {fc h : Int32} {a1 a2 a3 a4 a5 a6 a7 a8 a9 a10 a11 : Nat → Int32} (H : ∀ A : Nat → Int32, (∀ j, j < 6 → A j = -1) → post (fc, h, a1, a2, a3, a4, a5, a6, a7, A, a9, a10, a11)) :
    ∃ n, wX_init_153 post mc ms kc ks fc h n 0 a1 a2 a3 a4 a5 a6 a7 a8 a9 a10 a11 :=
  pk_loop (fun n i s => wX_init_153 post mc ms kc ks fc h n (nI i) a1 a2 a3 a4 a5 a6 a7 s a9 a10 a11) (fun i s => ∀ j, j < i → s j = -1) 6 0 a8 (by omega) (fun j hj => absurd hj (by omega))
    (fun n s hs => pk_le 6 6 (fun _ => H s hs) (fun z => absurd z (by omega)))
    (fun n i s hi hs hw => pk_le 6 i (fun z => absurd z (by omega)) (fun _ => ⟨pk_in i 6 hi, nm_e (nm_r (nI_1 i) (hw _ (qw_fill (nI_clamp (by omega)) hs)))⟩))
theorem qw_i125 {post : St2 → Prop} {mc ms kc ks : Nat} {fc h : Int32} {a1 a2 a3 a4 a5 a6 a7 a8 a9 a10 a11 : Nat → Int32} (H : ∀ A B C : Nat → Int32, (∀ j, j < 20 → A j = -1) → (∀ j, j < 20 → B j = -1) → (∀ j, j < 6 → C j = -1) → post (fc, h, a1, A, a3, a4, B, a6, a7, C, a9, a10, a11)) :
    ∃ n, wX_init_125 post mc ms kc ks fc h n 0 a1 a2 a3 a4 a5 a6 a7 a8 a9 a10 a11 :=
  pk_loop (fun n i (s : (Nat → Int32) × (Nat → Int32)) => wX_init_125 post mc ms kc ks fc h n (nI i) a1 s.1 a3 a4 s.2 a6 a7 a8 a9 a10 a11) (fun i s => (∀ j, j < i → s.1 j = -1) ∧ (∀ j, j < i → s.2 j = -1)) 20 0 (a2, a5) (by omega) ⟨fun j hj => absurd hj (by omega), fun j hj => absurd hj (by omega)⟩
    (fun n s hs => pk_le 20 20 (fun _ => qw_i153 (fun C hC => H s.1 s.2 C hs.1 hs.2 hC)) (fun z => absurd z (by omega)))
    (fun n i s hi hs hw => pk_le 20 i (fun z => absurd z (by omega)) (fun _ => ⟨pk_in i 20 hi, nm_e ⟨pk_in i 20 hi, nm_e (nm_r (nI_1 i) (hw (_, _) ⟨qw_fill (nI_clamp (by omega)) hs.1, qw_fill (nI_clamp (by omega)) hs.2⟩))⟩⟩))
theorem qw_init {post : St2 → Prop} (H : ∀ A B C : Nat → Int32, (∀ j, j < 20 → A j = -1) → (∀ j, j < 20 → B j = -1) → (∀ j, j < 6 → C j = -1) →
    post (2, 0, upd (fun _ => 0) 0 1, A, (fun _ => 0), (fun _ => 0), B, (fun _ => 0), (fun _ => 0), C, (fun _ => 0), (fun _ => 0), (fun _ => 0))) : wpX_init post 11 226 (0, 0) 2 := by
  unfold wpX_init
  refine ⟨by omega, by omega, by omega, by omega, by omega, by omega, by omega, by omega, by omega, by omega, by omega, by omega, by omega, by omega, by omega, by omega, by omega, by omega, by omega, by omega, by omega, by omega, br_t (by decide) (br_t (by decide) ?_)⟩
  unfold wX_init_113
  exact nm_e (qw_i125 H)
/-! mapping -/
theorem qw_check {post : Int32 → Prop} {fc h : Int32} {a1 a2 a3 a4 a5 a6 a7 a8 a9 a10 a11 : Nat → Int32} {g : Nat} (hg : g < 5) (h1 : a1 0 = 1) (H : post 0) : wpX_check post (fc, h, a1, a2, a3, a4, a5, a6, a7, a8, a9, a10, a11) 0 (nI g) := by
  unfold wpX_check
  refine br_f (by decide) (br_f (by decide) (br_f (nI_pos (by omega)) (br_t (nI_le (b := 4) (by omega) (by omega)) ⟨pk_in 0 4 (by omega), br_f ?_ H⟩)))
  rw [sb_cl0, h1]
  decide
theorem qw_new {post : Int32 → St2 → Prop} {fc h : Int32} {a1 a2 a3 a4 a5 a6 a7 a8 a9 a10 a11 : Nat → Int32} (h4 : a4 0 = 0) (H : post 0 (fc, h, a1, a2, a3, upd a4 0 1, upd a5 0 (-1), upd a6 0 0, a7, a8, a9, a10, a11)) : wpX_newContent post (fc, h, a1, a2, a3, a4, a5, a6, a7, a8, a9, a10, a11) := by
  unfold wpX_newContent
  refine ⟨0 + 1, pk_le 19 0 (fun z => absurd z (by omega)) (fun _ => ⟨pk_in 0 20 (by omega), br_t (by rw [sb_cl0, h4]) ?_⟩)⟩
  unfold wX_newContent_23
  rw [sb_cl0]
  exact ⟨pk_in 0 20 (by omega), nm_e ⟨pk_in 0 20 (by omega), nm_e ⟨pk_in 0 20 (by omega), nm_e H⟩⟩⟩
theorem qw_new2 {post : Int32 → St2 → Prop} {fc h : Int32} {a1 a2 a3 a4 a5 a6 a7 a8 a9 a10 a11 : Nat → Int32} (h4 : a4 0 = 1) (h4' : a4 1 = 0) (H : post (nI 1) (fc, h, a1, a2, a3, upd a4 1 1, upd a5 1 (-1), upd a6 1 0, a7, a8, a9, a10, a11)) : wpX_newContent_2 post (fc, h, a1, a2, a3, a4, a5, a6, a7, a8, a9, a10, a11) := by
  unfold wpX_newContent_2
  refine ⟨0 + 1 + 1, pk_le 19 0 (fun z => absurd z (by omega)) (fun _ => ⟨pk_in 0 20 (by omega), br_f (by rw [sb_cl0, h4]; decide) (nm_r (e' := nI 1) rfl ?_)⟩)⟩
  refine pk_le 19 1 (fun z => absurd z (by omega)) (fun _ => ⟨pk_in 1 20 (by omega), br_t (by rw [nI_clamp (by omega), h4']) ?_⟩)
  unfold wX_newContent_2_23
  rw [nI_clamp (show 1 < 2 ^ 31 by omega)]
  exact ⟨pk_in 1 20 (by omega), nm_e ⟨pk_in 1 20 (by omega), nm_e ⟨pk_in 1 20 (by omega), nm_e H⟩⟩⟩
theorem qw_map {post : Int32 → St2 → Prop} {fc h : Int32} {a1 a2 a3 a4 a5 a6 a7 a8 a9 a10 a11 : Nat → Int32} {g : Nat} {sh : Int32} (hg : g < 5) (h1 : a1 0 = 1) (h2 : a2 g = -1) (h4 : a4 0 = 0) (hs : sh = 0 ∨ sh = 1)
    (H : post (nI g) (fc, h, a1, upd a2 g 0, upd a3 g sh, upd a4 0 1, upd a5 0 (-1), upd a6 0 0, a7, a8, a9, a10, a11)) : wpX_map post (fc, h, a1, a2, a3, a4, a5, a6, a7, a8, a9, a10, a11) 0 (nI g) sh := by
  unfold wpX_map
  refine qw_check hg h1 (br_t rfl (nm_r (qw_50 g) ?_))
  rw [nI_clamp (show g < 2 ^ 31 by omega), qw_nz hs]
  refine ⟨pk_in g 20 (by omega), br_t (by rw [h2]; decide) (qw_new h4 ⟨pk_in g 20 (by omega), nm_e ⟨pk_in g 20 (by omega), nm_e ?_⟩⟩)⟩
  exact H
end
section
/-! frames -/
theorem qw_free {post : Int32 → St2 → Prop} {h : Int32} {a1 a2 a3 a4 a5 a6 a7 a8 a9 a10 a11 : Nat → Int32} {f : Nat} (hf : f < 2) (hlo : ∀ j, j < f → 0 ≤ a8 j) (hhi : a8 f = -1) (H : post (nI f) (2, h, a1, a2, a3, a4, a5, a6, a7, a8, a9, a10, a11)) : wpX_freeFrame post (2, h, a1, a2, a3, a4, a5, a6, a7, a8, a9, a10, a11) := by
  unfold wpX_freeFrame
  exact pk_loop (σ := Unit) (fun n i _ => wX_freeFrame_2 post 2 h a1 a2 a3 a4 a5 a6 a7 a8 a9 a10 a11 n (nI i)) (fun _ _ => True) f 0 () (by omega) trivial
    (fun n _ _ => pk_le 2 f (fun z => absurd z (by omega)) (fun _ => ⟨pk_in f 6 (by omega), br_f (by rw [nI_clamp (by omega), hhi]; decide) H⟩))
    (fun n i _ hi _ hw => pk_le 2 i (fun z => absurd z (by omega)) (fun _ => ⟨pk_in i 6 (by omega), br_t (by rw [nI_clamp (by omega)]; exact hlo i hi) (nm_r (nI_1 i) (hw () trivial))⟩))
/-- the content is in a frame -/
theorem qw_bin {post : Int32 → St2 → Prop} {fc h : Int32} {a1 a2 a3 a4 a5 a6 a7 a8 a9 a10 a11 : Nat → Int32} {c f : Nat} (hc : c < 20) (hf : f < 6) (h5 : a5 c = nI f) (H : post (nI f) (fc, h, a1, a2, a3, a4, a5, a6, a7, a8, a9, upd a10 f 1, a11)) : wpX_bringIn post (fc, h, a1, a2, a3, a4, a5, a6, a7, a8, a9, a10, a11) (nI c) := by
  unfold wpX_bringIn
  dsimp only
  rw [nI_clamp (show c < 2 ^ 31 by omega), h5, nI_clamp (show f < 2 ^ 31 by omega)]
  exact ⟨pk_in c 20 hc, br_f (nI_pos (by omega)) ⟨pk_in c 20 hc, pk_in f 6 hf, nm_e ⟨pk_in c 20 hc, H⟩⟩⟩
theorem qw_b65 {post : Int32 → St2 → Prop} {fc h : Int32} {a1 a2 a3 a4 a5 a6 a7 a8 a9 a10 a11 : Nat → Int32} {c f : Nat} (hc : c < 20) (hf : f < 2) (h6 : a6 c = 0)
    (H : ∀ A : Nat → Int32, (∀ j, j < 4 → A (4 * f + j) = 0) → (∀ j, j < 4 * f → A j = a9 j) → post (nI f) (fc, h, a1, a2, a3, a4, a5, a6, a7, a8, A, a10, a11)) : ∃ n, wX_bringIn_65 post (nI c) (nI f) fc h n 0 a1 a2 a3 a4 a5 a6 a7 a8 a9 a10 a11 := by
  refine pk_loop (fun n i s => wX_bringIn_65 post (nI c) (nI f) fc h n (nI i) a1 a2 a3 a4 a5 a6 a7 a8 s a10 a11) (fun i s => (∀ j, j < i → s (4 * f + j) = 0) ∧ (∀ j, j < 4 * f → s j = a9 j)) 4 0 a9 (by omega) ⟨fun j hj => absurd hj (by omega), fun j hj => rfl⟩
    (fun n s hs => pk_le 4 4 (fun _ => H s hs.1 hs.2) (fun z => absurd z (by omega))) ?_
  intro n i s hi hs hw
  refine pk_le 4 i (fun z => absurd z (by omega)) (fun _ => ⟨pk_in c 20 hc, br_t (by rw [nI_clamp (by omega), h6]) ⟨pk_in (4 * f + i) 24 (by omega) (qw_4 f i), nm_r (e' := upd s (4 * f + i) 0) (by rw [qw_4, nI_clamp (by omega)]) (nm_r (nI_1 i) (hw _ ⟨fun j hj => ?_, fun j hj => ?_⟩))⟩⟩)
  · by_cases e : j = i
    · rw [e, pk_us]
    · rw [pk_un (by omega)]
      exact hs.1 j (by omega)
  · rw [pk_un (by omega)]
    exact hs.2 j hj
/-- the content is in no frame and all 0: frame f is the first empty one -/
theorem qw_bout {post : Int32 → St2 → Prop} {h : Int32} {a1 a2 a3 a4 a5 a6 a7 a8 a9 a10 a11 : Nat → Int32} {c f : Nat} (hc : c < 20) (hf : f < 2) (h5 : a5 c = -1) (h6 : a6 c = 0) (hlo : ∀ j, j < f → 0 ≤ a8 j) (hhi : a8 f = -1)
    (H : ∀ A : Nat → Int32, (∀ j, j < 4 → A (4 * f + j) = 0) → (∀ j, j < 4 * f → A j = a9 j) → post (nI f) (2, h, a1, a2, a3, a4, upd a5 c (nI f), a6, a7, upd a8 f (nI c), A, upd a10 f 1, upd a11 f 0)) : wpX_bringIn post (2, h, a1, a2, a3, a4, a5, a6, a7, a8, a9, a10, a11) (nI c) := by
  unfold wpX_bringIn
  refine ⟨pk_in c 20 hc, br_t (by rw [nI_clamp (by omega), h5]; decide) (qw_free hf hlo hhi ?_)⟩
  dsimp only
  rw [nI_clamp (show c < 2 ^ 31 by omega), nI_clamp (show f < 2 ^ 31 by omega), qw_b8 c (by omega), qw_b8 f (by omega)]
  exact ⟨pk_in f 6 (by omega), nm_e ⟨pk_in c 20 hc, nm_e ⟨pk_in f 6 (by omega), nm_e ⟨pk_in f 6 (by omega), nm_e (qw_b65 hc hf h6 H)⟩⟩⟩⟩
/-! writing -/
theorem qw_w87 {post : Int32 → St2 → Prop} {fc h : Int32} {a1 a2 a3 a4 a5 a6 a7 a8 a9 a10 a11 : Nat → Int32} {c f e k : Nat} {v : Int32} (he : e < 20) (hk : k < 20) (hc : c < 20) (hf : f < 6) (h2 : a2 e = nI c) (h5 : a5 c = nI f)
    (H : post (nI k) (fc, h, a1, a2, a3, a4, a5, a6, a7, a8, upd a9 (4 * f + k % 4) v, upd a10 f 1, upd a11 f 1)) : wX_write_87 post (nI k) v (nI e) fc h a1 a2 a3 a4 a5 a6 a7 a8 a9 a10 a11 := by
  unfold wX_write_87
  rw [nI_clamp (show e < 2 ^ 31 by omega), h2, qw_m3 hk]
  refine ⟨pk_in e 20 he, qw_bin hc hf h5 ?_⟩
  dsimp only
  rw [qw_4, nI_clamp (show 4 * f + k % 4 < 2 ^ 31 by omega), nI_clamp (show f < 2 ^ 31 by omega)]
  exact ⟨pk_in (4 * f + k % 4) 24 (by omega), nm_e ⟨pk_in f 6 hf, nm_e H⟩⟩
theorem qw_w87o {post : Int32 → St2 → Prop} {h : Int32} {a1 a2 a3 a4 a5 a6 a7 a8 a9 a10 a11 : Nat → Int32} {c f e k : Nat} {v : Int32} (he : e < 20) (hk : k < 20) (hc : c < 20) (hf : f < 2) (h2 : a2 e = nI c) (h5 : a5 c = -1) (h6 : a6 c = 0) (hlo : ∀ j, j < f → 0 ≤ a8 j) (hhi : a8 f = -1)
    (H : ∀ A : Nat → Int32, (∀ j, j < 4 → A (4 * f + j) = 0) → post (nI k) (2, h, a1, a2, a3, a4, upd a5 c (nI f), a6, a7, upd a8 f (nI c), upd A (4 * f + k % 4) v, upd a10 f 1, upd (upd a11 f 0) f 1)) : wX_write_87 post (nI k) v (nI e) 2 h a1 a2 a3 a4 a5 a6 a7 a8 a9 a10 a11 := by
  unfold wX_write_87
  rw [nI_clamp (show e < 2 ^ 31 by omega), h2, qw_m3 hk]
  refine ⟨pk_in e 20 he, qw_bout hc hf h5 h6 hlo hhi (fun A hA _ => ?_)⟩
  dsimp only
  rw [qw_4, nI_clamp (show 4 * f + k % 4 < 2 ^ 31 by omega), nI_clamp (show f < 2 ^ 31 by omega)]
  exact ⟨pk_in (4 * f + k % 4) 24 (by omega), nm_e ⟨pk_in f 6 (by omega), nm_e (H A hA)⟩⟩
theorem qw_write {post : Int32 → St2 → Prop} {fc h : Int32} {a1 a2 a3 a4 a5 a6 a7 a8 a9 a10 a11 : Nat → Int32} {p k c : Nat} {v : Int32} (hp : p < 4) (hk : k < 20) (hc : c < 20) (h1 : a1 p = 1) (h2 : a2 (5 * p + k / 4) = nI c) (hs : a3 (5 * p + k / 4) = 0 → a4 c = 1)
    (H : wX_write_87 post (nI k) v (nI (5 * p + k / 4)) fc h a1 a2 a3 a4 a5 a6 a7 a8 a9 a10 a11) : wpX_write post (fc, h, a1, a2, a3, a4, a5, a6, a7, a8, a9, a10, a11) (nI p) (nI k) v := by
  unfold wpX_write
  refine br_f (nI_pos (by omega)) (br_f (nI_nlt (a := 3) (b := p) (by omega) (by omega)) (br_f (nI_pos (by omega)) (br_t (nI_le (a := k) (b := 19) (by omega) (by omega)) ⟨pk_in p 4 hp, br_f (by rw [nI_clamp (by omega), h1]; decide) (nm_r (e' := nI (5 * p + k / 4)) (by rw [qw_s2 hk, qw_5]) ?_)⟩)))
  rw [nI_clamp (show 5 * p + k / 4 < 2 ^ 31 by omega), h2, nI_clamp (show c < 2 ^ 31 by omega)]
  exact ⟨pk_in (5 * p + k / 4) 20 (by omega), br_t (nI_pos' (by omega)) ⟨pk_in (5 * p + k / 4) 20 (by omega), br_c (fun z => ⟨pk_in (5 * p + k / 4) 20 (by omega), pk_in c 20 hc, br_t (by rw [hs z]; decide) H⟩) (fun _ => H)⟩⟩
theorem qw_writeB {post : Int32 → St2 → Prop} {fc h : Int32} {a1 a2 a3 a4 a5 a6 a7 a8 a9 a10 a11 : Nat → Int32} {x2 x6 v : Int32} (hq : x2 < 0 ∨ ¬ x2 ≤ 3) (H : post (-1) (fc, h, a1, a2, a3, a4, a5, a6, a7, a8, a9, a10, a11)) : wpX_write post (fc, h, a1, a2, a3, a4, a5, a6, a7, a8, a9, a10, a11) x2 x6 v := by
  unfold wpX_write
  refine br_c (fun _ => H) (fun hn => br_t ?_ H)
  rcases hq with z | z
  · exact absurd z hn
  · exact Int32.not_le.mp z
/-- content 0, in frame 0, has two users: page e gets content 1, in frame 1, with the same cells -/
theorem qw_part {post : St2 → Prop} {h : Int32} {a1 a2 a3 a4 a5 a6 a7 a8 a9 a10 a11 : Nat → Int32} {e : Nat} (he : e < 20) (h2 : a2 e = 0) (h4 : a4 0 = 2) (h41 : a4 1 = 0) (h5 : a5 0 = 0) (h8 : a8 0 = 0) (h81 : a8 1 = -1)
    (H : ∀ A : Nat → Int32, (∀ j, j < 4 → A j = a9 j) → (∀ j, j < 4 → A (4 + j) = a9 j) → post (2, h, a1, upd a2 e 1, a3, upd (upd a4 0 1) 1 1, upd (upd a5 1 (-1)) 1 (nI 1), upd a6 1 0, a7, upd a8 1 (nI 1), A, upd (upd a10 0 1) 1 1, upd (upd a11 1 0) 1 1)) :
    wpX_part post (2, h, a1, a2, a3, a4, a5, a6, a7, a8, a9, a10, a11) (nI e) := by
  unfold wpX_part
  refine ⟨pk_in e 20 he, nm_r (e' := nI 0) (by rw [nI_clamp (by omega), h2]; rfl) (qw_bin (c := 0) (f := 0) (by omega) (by omega) h5 ?_)⟩
  refine ⟨pk_in 0 24 (by omega) (by decide), nm_r (e' := a9 0) (congrArg a9 (by decide)) ⟨pk_in 1 24 (by omega) (by decide), nm_r (e' := a9 1) (congrArg a9 (by decide)) ⟨pk_in 2 24 (by omega) (by decide), nm_r (e' := a9 2) (congrArg a9 (by decide)) ⟨pk_in 3 24 (by omega) (by decide), nm_r (e' := a9 3) (congrArg a9 (by decide)) ?_⟩⟩⟩⟩
  refine ⟨pk_in 0 20 (by omega), pk_in 0 20 (by omega), nm_r (e' := upd a4 0 1) (by rw [nI_clamp (by omega), h4]; rfl) (qw_new2 pk_us (by rw [pk_un (by omega)]; exact h41) ?_)⟩
  refine ⟨pk_in e 20 he, nm_r (e' := upd a2 e 1) (by rw [nI_clamp (by omega)]; rfl) (qw_bout (c := 1) (f := 1) (by omega) (by omega) pk_us pk_us (fun j hj => ?_) h81 (fun A hA hB => ?_))⟩
  · rw [show j = 0 by omega, h8]
    decide
  · refine ⟨pk_in 4 24 (by omega) (by decide), nm_r (e' := upd A 4 (a9 0)) (congrArg (fun i => upd A i (a9 0)) (by decide)) ⟨pk_in 5 24 (by omega) (by decide), nm_r (e' := upd (upd A 4 (a9 0)) 5 (a9 1)) (congrArg (fun i => upd (upd A 4 (a9 0)) i (a9 1)) (by decide)) ⟨pk_in 6 24 (by omega) (by decide), nm_r (e' := upd (upd (upd A 4 (a9 0)) 5 (a9 1)) 6 (a9 2)) (congrArg (fun i => upd (upd (upd A 4 (a9 0)) 5 (a9 1)) i (a9 2)) (by decide)) ⟨pk_in 7 24 (by omega) (by decide), nm_r (e' := upd (upd (upd (upd A 4 (a9 0)) 5 (a9 1)) 6 (a9 2)) 7 (a9 3)) (congrArg (fun i => upd (upd (upd (upd A 4 (a9 0)) 5 (a9 1)) 6 (a9 2)) i (a9 3)) (by decide)) ?_⟩⟩⟩⟩
    refine ⟨pk_in 1 6 (by omega), nm_r (e' := upd (upd a11 1 0) 1 1) (by rw [nI_clamp (by omega)]) (H _ (fun j hj => ?_) (fun j hj => ?_))⟩
    · rw [pk_un (by omega), pk_un (by omega), pk_un (by omega), pk_un (by omega)]
      exact hB j (by omega)
    · rcases (show j = 0 ∨ j = 1 ∨ j = 2 ∨ j = 3 by omega) with rfl | rfl | rfl | rfl
      · rw [pk_un (by omega), pk_un (by omega), pk_un (by omega)]; exact pk_us
      · rw [pk_un (by omega), pk_un (by omega)]; exact pk_us
      · rw [pk_un (by omega)]; exact pk_us
      · exact pk_us
theorem qw_writeP {post : Int32 → St2 → Prop} {h : Int32} {a1 a2 a3 a4 a5 a6 a7 a8 a9 a10 a11 : Nat → Int32} {p k : Nat} {v : Int32} (hp : p < 4) (hk : k < 20) (h1 : a1 p = 1) (h2 : a2 (5 * p + k / 4) = 0) (h3 : a3 (5 * p + k / 4) = 0) (h4 : a4 0 = 2) (h41 : a4 1 = 0) (h5 : a5 0 = 0) (h8 : a8 0 = 0) (h81 : a8 1 = -1)
    (H : ∀ A : Nat → Int32, (∀ j, j < 4 → A j = a9 j) → (∀ j, j < 4 → A (4 + j) = a9 j) → wX_write_87 post (nI k) v (nI (5 * p + k / 4)) 2 h a1 (upd a2 (5 * p + k / 4) 1) a3 (upd (upd a4 0 1) 1 1) (upd (upd a5 1 (-1)) 1 (nI 1)) (upd a6 1 0) a7 (upd a8 1 (nI 1)) A (upd (upd a10 0 1) 1 1) (upd (upd a11 1 0) 1 1)) :
    wpX_write post (2, h, a1, a2, a3, a4, a5, a6, a7, a8, a9, a10, a11) (nI p) (nI k) v := by
  unfold wpX_write
  refine br_f (nI_pos (by omega)) (br_f (nI_nlt (a := 3) (b := p) (by omega) (by omega)) (br_f (nI_pos (by omega)) (br_t (nI_le (a := k) (b := 19) (by omega) (by omega)) ⟨pk_in p 4 hp, br_f (by rw [nI_clamp (by omega), h1]; decide) (nm_r (e' := nI (5 * p + k / 4)) (by rw [qw_s2 hk, qw_5]) ?_)⟩)))
  rw [nI_clamp (show 5 * p + k / 4 < 2 ^ 31 by omega), h2, sb_cl0]
  refine ⟨pk_in (5 * p + k / 4) 20 (by omega), br_t (by decide) ⟨pk_in (5 * p + k / 4) 20 (by omega), br_t h3 ⟨pk_in (5 * p + k / 4) 20 (by omega), pk_in 0 20 (by omega), br_f (by rw [h4]; decide) (qw_part (by omega) h2 h4 h41 h5 h8 h81 (fun A hA hB => ?_))⟩⟩⟩
  exact H A hA hB
/-! reading -/
theorem qw_read {post : Int32 → St2 → Prop} {fc h : Int32} {a1 a2 a3 a4 a5 a6 a7 a8 a9 a10 a11 : Nat → Int32} {p k c f : Nat} (hp : p < 4) (hk : k < 20) (hc : c < 20) (hf : f < 6) (h1 : a1 p = 1) (h2 : a2 (5 * p + k / 4) = nI c) (h5 : a5 c = nI f) (H : post (a9 (4 * f + k % 4)) (fc, h, a1, a2, a3, a4, a5, a6, a7, a8, a9, upd a10 f 1, a11)) :
    wpX_read post (fc, h, a1, a2, a3, a4, a5, a6, a7, a8, a9, a10, a11) (nI p) (nI k) := by
  unfold wpX_read
  refine br_f (nI_pos (by omega)) (br_f (nI_nlt (a := 3) (b := p) (by omega) (by omega)) (br_f (nI_pos (by omega)) (br_f (nI_nlt (a := 19) (b := k) (by omega) (by omega)) ⟨pk_in p 4 hp, br_f (by rw [nI_clamp (by omega), h1]; decide) (nm_r (e' := nI (5 * p + k / 4)) (by rw [qw_s2 hk, qw_5]) ?_)⟩)))
  rw [nI_clamp (show 5 * p + k / 4 < 2 ^ 31 by omega), h2]
  refine ⟨pk_in (5 * p + k / 4) 20 (by omega), br_t (nI_pos' (by omega)) ⟨pk_in (5 * p + k / 4) 20 (by omega), qw_bin hc hf h5 ?_⟩⟩
  dsimp only
  rw [qw_m3 hk, qw_4, nI_clamp (show 4 * f + k % 4 < 2 ^ 31 by omega)]
  exact ⟨pk_in (4 * f + k % 4) 24 (by omega), H⟩
end
section
/-! fork -/
theorem qw_forkB {post : Int32 → St2 → Prop} {fc h : Int32} {a1 a2 a3 a4 a5 a6 a7 a8 a9 a10 a11 : Nat → Int32} {x2 : Int32} (hq : x2 < 0 ∨ ¬ x2 ≤ 3) (H : post (-1) (fc, h, a1, a2, a3, a4, a5, a6, a7, a8, a9, a10, a11)) : wpX_fork post (fc, h, a1, a2, a3, a4, a5, a6, a7, a8, a9, a10, a11) 0 x2 := by
  unfold wpX_fork
  refine br_f (by decide) (br_f (by decide) (br_c (fun _ => H) (fun hn => br_f ?_ H)))
  rcases hq with z | z
  · exact absurd z hn
  · exact z
theorem qw_fork0 {post : Int32 → St2 → Prop} {fc h : Int32} {a1 a2 a3 a4 a5 a6 a7 a8 a9 a10 a11 : Nat → Int32} (h1 : a1 0 = 1) (H : post (-4) (fc, h, a1, a2, a3, a4, a5, a6, a7, a8, a9, a10, a11)) : wpX_fork post (fc, h, a1, a2, a3, a4, a5, a6, a7, a8, a9, a10, a11) 0 0 := by
  unfold wpX_fork
  exact br_f (by decide) (br_f (by decide) (br_f (by decide) (br_t (by decide) ⟨pk_in 0 4 (by omega), br_f (by rw [sb_cl0, h1]; decide) ⟨pk_in 0 4 (by omega), br_f (by rw [sb_cl0, h1]; decide) H⟩⟩)))
theorem qw_fork {post : Int32 → St2 → Prop} {fc h : Int32} {a1 a2 a3 a4 a5 a6 a7 a8 a9 a10 a11 : Nat → Int32} {q g : Nat} {sh : Int32} (hq1 : 1 ≤ q) (hq : q < 4) (hg : g < 5) (hs : sh = 0 ∨ sh = 1) (h1 : a1 0 = 1) (h1q : a1 q = 0) (h2 : ∀ j, j < 20 → a2 j = if j = g then 0 else -1) (h3 : a3 g = sh) (h4 : a4 0 = 1) (h41 : a4 1 = 0)
    (H : ∀ A B C : Nat → Int32, (∀ j, j < 20 → A j = if j = g ∨ j = 5 * q + g then 0 else -1) → B g = sh → B (5 * q + g) = sh → C 0 = 2 → C 1 = 0 → post 1 (fc, h, upd a1 q 1, A, B, C, a5, a6, a7, a8, a9, a10, a11)) :
    wpX_fork post (fc, h, a1, a2, a3, a4, a5, a6, a7, a8, a9, a10, a11) 0 (nI q) := by
  unfold wpX_fork
  refine br_f (by decide) (br_f (by decide) (br_f (nI_pos (by omega)) (br_t (nI_le (b := 3) (by omega) (by omega)) ⟨pk_in 0 4 (by omega), br_f (by rw [sb_cl0, h1]; decide) ⟨pk_in q 4 hq, br_t (by rw [nI_clamp (by omega), h1q]) ⟨pk_in q 4 hq, nm_r (e' := upd a1 q 1) (by rw [nI_clamp (by omega)]) ?_⟩⟩⟩)))
  refine pk_loop (fun n i (s : Int32 × (Nat → Int32) × (Nat → Int32) × (Nat → Int32)) => wX_fork_56 post 0 (nI q) fc h n s.1 (nI i) (upd a1 q 1) s.2.1 s.2.2.1 s.2.2.2 a5 a6 a7 a8 a9 a10 a11)
    (fun i s => s.1 = (if i ≤ g then 0 else 1) ∧ (∀ j, j < 20 → s.2.1 j = if j = g ∨ (j = 5 * q + g ∧ g < i) then 0 else -1) ∧ s.2.2.1 g = sh ∧ (g < i → s.2.2.1 (5 * q + g) = sh) ∧ s.2.2.2 0 = (if i ≤ g then 1 else 2) ∧ s.2.2.2 1 = 0) 5 0 (0, a2, a3, a4) (by omega) ⟨?_, ?_, h3, ?_, ?_, h41⟩ ?_ ?_
  · exact (if_pos (Nat.zero_le g)).symm
  · intro j hj
    show a2 j = _
    rw [h2 j hj]
    by_cases e : j = g
    · rw [if_pos e, if_pos (Or.inl e)]
    · rw [if_neg e, if_neg (by omega)]
  · exact fun z => absurd z (by omega)
  · show a4 0 = _
    rw [h4, if_pos (Nat.zero_le g)]
  · rintro n ⟨x, A, B, C⟩ ⟨e1, e2, e3, e4, e5, e6⟩
    have e1' : x = 1 := by
      rw [show x = (if 5 ≤ g then 0 else 1) from e1, if_neg (by omega)]
    have e5' : C 0 = 2 := by
      rw [show C 0 = (if 5 ≤ g then 1 else 2) from e5, if_neg (by omega)]
    subst e1'
    show wX_fork_56 post 0 (nI q) fc h (n + 1) 1 (nI 5) (upd a1 q 1) A B C a5 a6 a7 a8 a9 a10 a11
    refine pk_le 5 5 (fun _ => H A B C (fun j hj => ?_) e3 (e4 hg) e5' e6) (fun z => absurd z (by omega))
    rw [show A j = (if j = g ∨ (j = 5 * q + g ∧ g < 5) then 0 else -1) from e2 j hj]
    by_cases e : j = g ∨ j = 5 * q + g
    · rw [if_pos e, if_pos (by omega)]
    · rw [if_neg e, if_neg (by omega)]
  · rintro n i ⟨x, A, B, C⟩ hi ⟨e1, e2, e3, e4, e5, e6⟩ hw
    have hA : A i = (if i = g then 0 else -1) := by
      rw [show A i = (if i = g ∨ (i = 5 * q + g ∧ g < i) then 0 else -1) from e2 i (by omega)]
      by_cases e : i = g
      · rw [if_pos e, if_pos (Or.inl e)]
      · rw [if_neg e, if_neg (by omega)]
    have hb : vp_nar .byte (A i) = A i := by
      rw [hA]
      by_cases e : i = g
      · rw [if_pos e]; exact qw_nb0
      · rw [if_neg e]; exact qw_nbm
    show wX_fork_56 post 0 (nI q) fc h (n + 1) x (nI i) (upd a1 q 1) A B C a5 a6 a7 a8 a9 a10 a11
    refine pk_le 5 i (fun z => absurd z (by omega)) (fun _ => nm_r (qw_50 i) (nm_r (qw_5 q i) ?_))
    rw [nI_clamp (show i < 2 ^ 31 by omega), nI_clamp (show 5 * q + i < 2 ^ 31 by omega), hb]
    refine ⟨pk_in i 20 (by omega), pk_in (5 * q + i) 20 (by omega), nm_e ⟨pk_in i 20 (by omega), pk_in (5 * q + i) 20 (by omega), nm_e ⟨pk_in i 20 (by omega), ?_⟩⟩⟩
    rw [pk_un (show i ≠ 5 * q + i by omega)]
    have k2 : ∀ j, j < 20 → upd A (5 * q + i) (A i) j = (if j = g ∨ (j = 5 * q + g ∧ g < i + 1) then 0 else -1) := by
      intro j hj
      by_cases e : j = 5 * q + i
      · rw [e, pk_us, hA]
        by_cases e' : i = g
        · rw [if_pos e', if_pos (by omega)]
        · rw [if_neg e', if_neg (by omega)]
      · rw [pk_un e, show A j = (if j = g ∨ (j = 5 * q + g ∧ g < i) then 0 else -1) from e2 j hj]
        by_cases e' : j = g ∨ (j = 5 * q + g ∧ g < i)
        · rw [if_pos e', if_pos (by omega)]
        · rw [if_neg e', if_neg (by omega)]
    have k3 : upd B (5 * q + i) (vp_nar .boolean (B i)) g = sh := by
      rw [pk_un (by omega)]
      exact e3
    have k4 : g < i + 1 → upd B (5 * q + i) (vp_nar .boolean (B i)) (5 * q + g) = sh := by
      intro z
      by_cases e : g = i
      · rw [e, pk_us, ← e, show B g = sh from e3]
        exact qw_nz hs
      · rw [pk_un (by omega)]
        exact e4 (by omega)
    by_cases e : i = g
    · have hA0 : A i = 0 := by rw [hA, if_pos e]
      have hC : C 0 = 1 := by
        rw [show C 0 = (if i ≤ g then 1 else 2) from e5, if_pos (by omega)]
      have hx : x = 0 := by
        rw [show x = (if i ≤ g then 0 else 1) from e1, if_pos (by omega)]
      rw [hA0] at k2
      rw [hA0, sb_cl0, hC, hx]
      refine br_t (by decide) ⟨pk_in i 20 (by omega), pk_in 0 20 (by omega), pk_in 0 20 (by omega), nm_r (e' := upd C 0 2) rfl (nm_r (e' := 1) (by decide) (nm_r (nI_1 i) (hw (1, upd A (5 * q + i) 0, upd B (5 * q + i) (vp_nar .boolean (B i)), upd C 0 2) ⟨?_, k2, k3, k4, ?_, ?_⟩)))⟩
      · exact (if_neg (by omega)).symm
      · show upd C 0 2 0 = _
        rw [pk_us, if_neg (by omega)]
      · show upd C 0 2 1 = 0
        rw [pk_un (by omega)]
        exact e6
    · have hA1 : A i = -1 := by rw [hA, if_neg e]
      refine br_f (by rw [hA1]; decide) (nm_r (nI_1 i) (hw (x, upd A (5 * q + i) (A i), upd B (5 * q + i) (vp_nar .boolean (B i)), C) ⟨?_, k2, k3, k4, ?_, e6⟩))
      · show x = _
        rw [show x = (if i ≤ g then 0 else 1) from e1]
        by_cases e' : i ≤ g
        · rw [if_pos e', if_pos (by omega)]
        · rw [if_neg e', if_neg (by omega)]
      · show C 0 = _
        rw [show C 0 = (if i ≤ g then 1 else 2) from e5]
        by_cases e' : i ≤ g
        · rw [if_pos e', if_pos (by omega)]
        · rw [if_neg e', if_neg (by omega)]
end
section
/-! sheets -/
theorem qw_shS {post : Int32 → Prop} {fc h : Int32} {a1 a2 a3 a4 a5 a6 a7 a8 a9 a10 a11 : Nat → Int32} {x1 x2 : Int32} : ∀ d i : Nat, i + d ≤ 20 → (∀ j, i ≤ j → j < i + d → a2 j = -1) → (∃ n, wX_sheets_6 post fc h a1 a2 a3 a4 a5 a6 a7 a8 a9 a10 a11 n x1 x2 (nI (i + d))) → ∃ n, wX_sheets_6 post fc h a1 a2 a3 a4 a5 a6 a7 a8 a9 a10 a11 n x1 x2 (nI i) := by
  intro d
  induction d with
  | zero => exact fun i _ _ hw => hw
  | succ d ih =>
    intro i hi hj hw
    rw [show i + (d + 1) = i + 1 + d by omega] at hw
    obtain ⟨n, hn⟩ := ih (i + 1) (by omega) (fun j u v => hj j (by omega) (by omega)) hw
    exact ⟨n + 1, pk_le 20 i (fun z => absurd z (by omega)) (fun _ => ⟨pk_in i 20 (by omega), br_f (by rw [nI_clamp (by omega), hj i (by omega) (by omega)]; decide) (nm_r (nI_1 i) hn)⟩)⟩
theorem qw_shH {post : Int32 → Prop} {fc h : Int32} {a1 a2 a3 a4 a5 a6 a7 a8 a9 a10 a11 : Nat → Int32} {x1 x2 : Int32} {i c : Nat} (hi : i < 20) (hc : c < 20) (h2 : a2 i = nI c) (hb : a3 i = 0 ∨ ((x2 >>> (nI c &&& 31)) &&& 1) = 0) (hw : ∃ n, wX_sheets_6 post fc h a1 a2 a3 a4 a5 a6 a7 a8 a9 a10 a11 n (x1 + 1) (x2 ||| ((1 : Int32) <<< (nI c &&& 31))) (nI (i + 1))) :
    ∃ n, wX_sheets_6 post fc h a1 a2 a3 a4 a5 a6 a7 a8 a9 a10 a11 n x1 x2 (nI i) := by
  obtain ⟨n, hn⟩ := hw
  have A : wX_sheets_46 post (wX_sheets_6 post fc h a1 a2 a3 a4 a5 a6 a7 a8 a9 a10 a11 n) x1 x2 (nI i) fc h a1 a2 a3 a4 a5 a6 a7 a8 a9 a10 a11 := by
    unfold wX_sheets_46 wX_sheets_49
    rw [nI_clamp (show i < 2 ^ 31 by omega), h2]
    exact nm_e ⟨pk_in i 20 hi, nm_e (nm_r (nI_1 i) hn)⟩
  refine ⟨n + 1, pk_le 20 i (fun z => absurd z (by omega)) (fun _ => ⟨pk_in i 20 hi, br_t (by rw [nI_clamp (by omega), h2]; exact nI_pos' (by omega)) ⟨pk_in i 20 hi, br_c (fun _ => A) (fun z => ⟨pk_in i 20 hi, br_t ?_ A⟩)⟩⟩)⟩
  rw [nI_clamp (show i < 2 ^ 31 by omega)] at z
  rw [nI_clamp (show i < 2 ^ 31 by omega), h2]
  rcases hb with u | u
  · exact absurd u z
  · exact u
theorem qw_shD {post : Int32 → Prop} {fc h : Int32} {a1 a2 a3 a4 a5 a6 a7 a8 a9 a10 a11 : Nat → Int32} {x1 x2 : Int32} {i c : Nat} (hi : i < 20) (hc : c < 20) (h2 : a2 i = nI c) (h3 : ¬ a3 i = 0) (hb : ¬ ((x2 >>> (nI c &&& 31)) &&& 1) = 0) (hw : ∃ n, wX_sheets_6 post fc h a1 a2 a3 a4 a5 a6 a7 a8 a9 a10 a11 n x1 (x2 ||| ((1 : Int32) <<< (nI c &&& 31))) (nI (i + 1))) :
    ∃ n, wX_sheets_6 post fc h a1 a2 a3 a4 a5 a6 a7 a8 a9 a10 a11 n x1 x2 (nI i) := by
  obtain ⟨n, hn⟩ := hw
  have A : wX_sheets_49 post (wX_sheets_6 post fc h a1 a2 a3 a4 a5 a6 a7 a8 a9 a10 a11 n) x1 x2 (nI i) fc h a1 a2 a3 a4 a5 a6 a7 a8 a9 a10 a11 := by
    unfold wX_sheets_49
    rw [nI_clamp (show i < 2 ^ 31 by omega), h2]
    exact ⟨pk_in i 20 hi, nm_e (nm_r (nI_1 i) hn)⟩
  exact ⟨n + 1, pk_le 20 i (fun z => absurd z (by omega)) (fun _ => ⟨pk_in i 20 hi, br_t (by rw [nI_clamp (by omega), h2]; exact nI_pos' (by omega)) ⟨pk_in i 20 hi, br_f (by rw [nI_clamp (by omega)]; exact h3) ⟨pk_in i 20 hi, br_f (by rw [nI_clamp (by omega), h2]; exact hb) A⟩⟩⟩)⟩
theorem qw_shE {post : Int32 → Prop} {fc h : Int32} {a1 a2 a3 a4 a5 a6 a7 a8 a9 a10 a11 : Nat → Int32} {x1 x2 : Int32} {i : Nat} (hi : i < 20) (h2 : ∀ j, i < j → j < 20 → a2 j = -1) (H : post x1) : ∃ n, wX_sheets_6 post fc h a1 a2 a3 a4 a5 a6 a7 a8 a9 a10 a11 n x1 x2 (nI (i + 1)) := by
  refine qw_shS (20 - (i + 1)) (i + 1) (by omega) (fun j u v => h2 j (by omega) (by omega)) ?_
  rw [show i + 1 + (20 - (i + 1)) = 20 by omega]
  exact ⟨0 + 1, pk_le 20 20 (fun _ => H) (fun z => absurd z (by omega))⟩
theorem qw_shA {post : Int32 → Prop} {fc h : Int32} {a1 a2 a3 a4 a5 a6 a7 a8 a9 a10 a11 : Nat → Int32} {g : Nat} (hg : g < 20) (h2 : ∀ j, j < g → a2 j = -1) (h2g : a2 g = 0) (hw : ∃ n, wX_sheets_6 post fc h a1 a2 a3 a4 a5 a6 a7 a8 a9 a10 a11 n 1 1 (nI (g + 1))) : ∃ n, wX_sheets_6 post fc h a1 a2 a3 a4 a5 a6 a7 a8 a9 a10 a11 n 0 0 0 := by
  refine qw_shS g 0 (by omega) (fun j _ v => h2 j (by omega)) ?_
  rw [Nat.zero_add]
  exact qw_shH (c := 0) hg (by omega) h2g (Or.inr (by decide)) hw
/-- one page -/
theorem qw_sheets1 {post : Int32 → Prop} {fc h : Int32} {a1 a2 a3 a4 a5 a6 a7 a8 a9 a10 a11 : Nat → Int32} {g : Nat} (hg : g < 20) (h2 : ∀ j, j < 20 → a2 j = if j = g then 0 else -1) (H : post 1) : wpX_sheets post (fc, h, a1, a2, a3, a4, a5, a6, a7, a8, a9, a10, a11) := by
  unfold wpX_sheets
  refine qw_shA hg (fun j hj => by rw [h2 j (by omega), if_neg (by omega)]) (by rw [h2 g hg, if_pos rfl]) ?_
  exact qw_shE hg (fun j u v => by rw [h2 j v, if_neg (by omega)]) H
/-- two pages that share content 0 -/
theorem qw_sheetsD {post : Int32 → Prop} {fc h : Int32} {a1 a2 a3 a4 a5 a6 a7 a8 a9 a10 a11 : Nat → Int32} {g e : Nat} (hg : g < e) (he : e < 20) (h2 : ∀ j, j < 20 → a2 j = if j = g ∨ j = e then 0 else -1) (h3 : a3 e = 1) (H : post 1) : wpX_sheets post (fc, h, a1, a2, a3, a4, a5, a6, a7, a8, a9, a10, a11) := by
  unfold wpX_sheets
  refine qw_shA (g := g) (by omega) (fun j hj => by rw [h2 j (by omega), if_neg (by omega)]) (by rw [h2 g (by omega), if_pos (Or.inl rfl)]) ?_
  refine qw_shS (e - (g + 1)) (g + 1) (by omega) (fun j u v => by rw [h2 j (by omega), if_neg (by omega)]) ?_
  rw [show g + 1 + (e - (g + 1)) = e by omega]
  refine qw_shD (c := 0) he (by omega) (by rw [h2 e he, if_pos (Or.inr rfl)]; rfl) (by rw [h3]; decide) (by decide) ?_
  exact qw_shE he (fun j u v => by rw [h2 j v, if_neg (by omega)]) H
/-- two private pages, contents 0 and 1 -/
theorem qw_sheetsE {post : Int32 → Prop} {fc h : Int32} {a1 a2 a3 a4 a5 a6 a7 a8 a9 a10 a11 : Nat → Int32} {g e : Nat} (hg : g < e) (he : e < 20) (h2 : ∀ j, j < 20 → a2 j = if j = g then 0 else if j = e then 1 else -1) (h3 : a3 e = 0) (H : post 2) : wpX_sheets post (fc, h, a1, a2, a3, a4, a5, a6, a7, a8, a9, a10, a11) := by
  unfold wpX_sheets
  refine qw_shA (g := g) (by omega) (fun j hj => by rw [h2 j (by omega), if_neg (by omega), if_neg (by omega)]) (by rw [h2 g (by omega), if_pos rfl]) ?_
  refine qw_shS (e - (g + 1)) (g + 1) (by omega) (fun j u v => by rw [h2 j (by omega), if_neg (by omega), if_neg (by omega)]) ?_
  rw [show g + 1 + (e - (g + 1)) = e by omega]
  refine qw_shH (c := 1) he (by omega) (by rw [h2 e he, if_neg (by omega), if_pos rfl]; rfl) (Or.inl h3) ?_
  exact qw_shE he (fun j u v => by rw [h2 j v, if_neg (by omega), if_neg (by omega)]) H
/-! showing -/
theorem qw_showing {post : Int32 → Prop} {fc h : Int32} {a1 a2 a3 a4 a5 a6 a7 a8 a9 a10 a11 : Nat → Int32} {g c : Nat} (hg : g < 5) (hc : c < 20) (h1 : a1 0 = 1) (h2 : a2 g = nI c) (H : a3 g = 0 → post 1) (H' : ¬ a3 g = 0 → post (a4 c)) : wpX_showing post (fc, h, a1, a2, a3, a4, a5, a6, a7, a8, a9, a10, a11) 0 (nI g) := by
  unfold wpX_showing
  refine qw_check hg h1 (br_t rfl (nm_r (qw_50 g) ?_))
  rw [nI_clamp (show g < 2 ^ 31 by omega), h2, nI_clamp (show c < 2 ^ 31 by omega)]
  exact ⟨pk_in g 20 (by omega), br_t (nI_pos' (by omega)) ⟨pk_in g 20 (by omega), br_c H (fun z => ⟨pk_in g 20 (by omega), pk_in c 20 hc, H' z⟩)⟩⟩
/-! total -/
theorem qw_l0 : (0 : Int32).toInt64 = 0 := by decide
theorem qw_sum {post : Int64 → Prop} {fc h : Int32} {a1 a2 a3 a4 a5 a6 a7 a8 a9 a10 a11 : Nat → Int32} {c f t : Nat} {v : Int32} (hc : c < 20) (hf : f < 6) (ht : t < 4) (h5 : a5 c = nI f) (h9 : ∀ j, j < 4 → a9 (4 * f + j) = if j = t then v else 0) (H : post v.toInt64) : wpX_sumOf post (fc, h, a1, a2, a3, a4, a5, a6, a7, a8, a9, a10, a11) (nI c) := by
  unfold wpX_sumOf
  refine pk_loop (fun n i s => wX_sumOf_5 post (nI c) fc h a1 a2 a3 a4 a5 a6 a7 a8 a9 a10 a11 n s (nI i)) (fun i s => s = if i ≤ t then 0 else v.toInt64) 4 0 0 (by omega) (if_pos (Nat.zero_le t)).symm ?_ ?_
  · intro n s hs
    rw [if_neg (by omega)] at hs
    subst hs
    exact pk_le 4 4 (fun _ => H) (fun z => absurd z (by omega))
  · intro n i s hi hs hw
    refine pk_le 4 i (fun z => absurd z (by omega)) (fun _ => ⟨pk_in c 20 hc, br_f ?_ ⟨pk_in c 20 hc, ?_⟩⟩)
    · rw [nI_clamp (by omega), h5]
      exact nI_pos (by omega)
    · rw [nI_clamp (show c < 2 ^ 31 by omega), h5, qw_4, nI_clamp (show 4 * f + i < 2 ^ 31 by omega), h9 i hi]
      refine ⟨pk_in (4 * f + i) 24 (by omega), nm_e (nm_r (nI_1 i) (hw _ ?_))⟩
      rw [hs]
      by_cases e : i = t
      · rw [if_pos (by omega), if_pos e, if_neg (by omega), Int64.zero_add]
      · rw [if_neg e, qw_l0, Int64.add_zero]
        by_cases e' : i ≤ t
        · rw [if_pos e', if_pos (by omega)]
        · rw [if_neg e', if_neg (by omega)]
theorem qw_toS {post : Int64 → Prop} {fc h : Int32} {a1 a2 a3 a4 a5 a6 a7 a8 a9 a10 a11 : Nat → Int32} {x1 : Int64} {x3 : Int32} : ∀ d i : Nat, i + d ≤ 20 → (∀ j, i ≤ j → j < i + d → a2 j = -1) → (∃ n, wX_total_7 post fc h a1 a2 a3 a4 a5 a6 a7 a8 a9 a10 a11 n x1 x3 (nI (i + d))) → ∃ n, wX_total_7 post fc h a1 a2 a3 a4 a5 a6 a7 a8 a9 a10 a11 n x1 x3 (nI i) := by
  intro d
  induction d with
  | zero => exact fun i _ _ hw => hw
  | succ d ih =>
    intro i hi hj hw
    rw [show i + (d + 1) = i + 1 + d by omega] at hw
    obtain ⟨n, hn⟩ := ih (i + 1) (by omega) (fun j u v => hj j (by omega) (by omega)) hw
    exact ⟨n + 1, pk_le 20 i (fun z => absurd z (by omega)) (fun _ => ⟨pk_in i 20 (by omega), br_f (by rw [nI_clamp (by omega), hj i (by omega) (by omega)]; decide) (nm_r (nI_1 i) hn)⟩)⟩
theorem qw_toH {post : Int64 → Prop} {fc h : Int32} {a1 a2 a3 a4 a5 a6 a7 a8 a9 a10 a11 : Nat → Int32} {x1 : Int64} {x3 v : Int32} {i c f t : Nat} (hi : i < 20) (hc : c < 20) (hf : f < 6) (ht : t < 4) (h2 : a2 i = nI c) (h5 : a5 c = nI f) (h9 : ∀ j, j < 4 → a9 (4 * f + j) = if j = t then v else 0) (hb : a3 i = 0 ∨ ((x3 >>> (nI c &&& 31)) &&& 1) = 0)
    (hw : ∃ n, wX_total_7 post fc h a1 a2 a3 a4 a5 a6 a7 a8 a9 a10 a11 n (x1 + v.toInt64) (x3 ||| ((1 : Int32) <<< (nI c &&& 31))) (nI (i + 1))) : ∃ n, wX_total_7 post fc h a1 a2 a3 a4 a5 a6 a7 a8 a9 a10 a11 n x1 x3 (nI i) := by
  obtain ⟨n, hn⟩ := hw
  have A : wX_total_59 post (wX_total_7 post fc h a1 a2 a3 a4 a5 a6 a7 a8 a9 a10 a11 n) x1 x3 (nI i) (nI c) fc h a1 a2 a3 a4 a5 a6 a7 a8 a9 a10 a11 := by
    unfold wX_total_59 wX_total_60
    exact nm_e (br_t rfl (qw_sum hc hf ht h5 h9 (nm_e (nm_r (nI_1 i) hn))))
  refine ⟨n + 1, pk_le 20 i (fun z => absurd z (by omega)) (fun _ => ⟨pk_in i 20 hi, br_t (by rw [nI_clamp (by omega), h2]; exact nI_pos' (by omega)) ⟨pk_in i 20 hi, nm_r (e' := nI c) (by rw [nI_clamp (by omega), h2]) ⟨pk_in i 20 hi, br_c (fun _ => A) (fun z => br_t ?_ A)⟩⟩⟩)⟩
  rw [nI_clamp (show i < 2 ^ 31 by omega)] at z
  rcases hb with u | u
  · exact absurd u z
  · exact u
theorem qw_toD {post : Int64 → Prop} {fc h : Int32} {a1 a2 a3 a4 a5 a6 a7 a8 a9 a10 a11 : Nat → Int32} {x1 : Int64} {x3 : Int32} {i c : Nat} (hi : i < 20) (hc : c < 20) (h2 : a2 i = nI c) (h3 : ¬ a3 i = 0) (hb : ¬ ((x3 >>> (nI c &&& 31)) &&& 1) = 0)
    (hw : ∃ n, wX_total_7 post fc h a1 a2 a3 a4 a5 a6 a7 a8 a9 a10 a11 n x1 (x3 ||| ((1 : Int32) <<< (nI c &&& 31))) (nI (i + 1))) : ∃ n, wX_total_7 post fc h a1 a2 a3 a4 a5 a6 a7 a8 a9 a10 a11 n x1 x3 (nI i) := by
  obtain ⟨n, hn⟩ := hw
  have A : wX_total_60 post (wX_total_7 post fc h a1 a2 a3 a4 a5 a6 a7 a8 a9 a10 a11 n) x1 x3 (nI i) (nI c) 1 fc h a1 a2 a3 a4 a5 a6 a7 a8 a9 a10 a11 := by
    unfold wX_total_60
    exact nm_e (br_f (by decide) (nm_r (nI_1 i) hn))
  exact ⟨n + 1, pk_le 20 i (fun z => absurd z (by omega)) (fun _ => ⟨pk_in i 20 hi, br_t (by rw [nI_clamp (by omega), h2]; exact nI_pos' (by omega)) ⟨pk_in i 20 hi, nm_r (e' := nI c) (by rw [nI_clamp (by omega), h2]) ⟨pk_in i 20 hi, br_f (by rw [nI_clamp (by omega)]; exact h3) (br_f hb A)⟩⟩⟩)⟩
theorem qw_toE {post : Int64 → Prop} {fc h : Int32} {a1 a2 a3 a4 a5 a6 a7 a8 a9 a10 a11 : Nat → Int32} {x1 : Int64} {x3 : Int32} {i : Nat} (hi : i < 20) (h2 : ∀ j, i < j → j < 20 → a2 j = -1) (H : post x1) : ∃ n, wX_total_7 post fc h a1 a2 a3 a4 a5 a6 a7 a8 a9 a10 a11 n x1 x3 (nI (i + 1)) := by
  refine qw_toS (20 - (i + 1)) (i + 1) (by omega) (fun j u v => h2 j (by omega) (by omega)) ?_
  rw [show i + 1 + (20 - (i + 1)) = 20 by omega]
  exact ⟨0 + 1, pk_le 20 20 (fun _ => H) (fun z => absurd z (by omega))⟩
theorem qw_toA {post : Int64 → Prop} {fc h : Int32} {a1 a2 a3 a4 a5 a6 a7 a8 a9 a10 a11 : Nat → Int32} {g t : Nat} {v : Int32} (hg : g < 20) (ht : t < 4) (h2 : ∀ j, j < g → a2 j = -1) (h2g : a2 g = 0) (h5 : a5 0 = 0) (h9 : ∀ j, j < 4 → a9 j = if j = t then v else 0)
    (hw : ∃ n, wX_total_7 post fc h a1 a2 a3 a4 a5 a6 a7 a8 a9 a10 a11 n v.toInt64 1 (nI (g + 1))) : ∃ n, wX_total_7 post fc h a1 a2 a3 a4 a5 a6 a7 a8 a9 a10 a11 n 0 0 0 := by
  refine qw_toS g 0 (by omega) (fun j _ w => h2 j (by omega)) ?_
  rw [Nat.zero_add]
  refine qw_toH (c := 0) (f := 0) (t := t) (v := v) hg (by omega) (by omega) ht h2g h5 (fun j hj => by rw [Nat.mul_zero, Nat.zero_add]; exact h9 j hj) (Or.inr (by decide)) ?_
  rw [Int64.zero_add]
  exact hw
theorem qw_total1 {post : Int64 → Prop} {fc h : Int32} {a1 a2 a3 a4 a5 a6 a7 a8 a9 a10 a11 : Nat → Int32} {g t : Nat} {v : Int32} (hg : g < 20) (ht : t < 4) (h2 : ∀ j, j < 20 → a2 j = if j = g then 0 else -1) (h5 : a5 0 = 0) (h9 : ∀ j, j < 4 → a9 j = if j = t then v else 0) (H : post v.toInt64) : wpX_total post (fc, h, a1, a2, a3, a4, a5, a6, a7, a8, a9, a10, a11) := by
  unfold wpX_total
  refine qw_toA hg ht (fun j hj => by rw [h2 j (by omega), if_neg (by omega)]) (by rw [h2 g hg, if_pos rfl]) h5 h9 ?_
  exact qw_toE hg (fun j u w => by rw [h2 j w, if_neg (by omega)]) H
theorem qw_totalD {post : Int64 → Prop} {fc h : Int32} {a1 a2 a3 a4 a5 a6 a7 a8 a9 a10 a11 : Nat → Int32} {g e t : Nat} {v : Int32} (hg : g < e) (he : e < 20) (ht : t < 4) (h2 : ∀ j, j < 20 → a2 j = if j = g ∨ j = e then 0 else -1) (h3 : a3 e = 1) (h5 : a5 0 = 0) (h9 : ∀ j, j < 4 → a9 j = if j = t then v else 0) (H : post v.toInt64) : wpX_total post (fc, h, a1, a2, a3, a4, a5, a6, a7, a8, a9, a10, a11) := by
  unfold wpX_total
  refine qw_toA (g := g) (by omega) ht (fun j hj => by rw [h2 j (by omega), if_neg (by omega)]) (by rw [h2 g (by omega), if_pos (Or.inl rfl)]) h5 h9 ?_
  refine qw_toS (e - (g + 1)) (g + 1) (by omega) (fun j u w => by rw [h2 j (by omega), if_neg (by omega)]) ?_
  rw [show g + 1 + (e - (g + 1)) = e by omega]
  refine qw_toD (c := 0) he (by omega) (by rw [h2 e he, if_pos (Or.inr rfl)]; rfl) (by rw [h3]; decide) (by decide) ?_
  exact qw_toE he (fun j u w => by rw [h2 j w, if_neg (by omega)]) H
theorem qw_totalE {post : Int64 → Prop} {fc h : Int32} {a1 a2 a3 a4 a5 a6 a7 a8 a9 a10 a11 : Nat → Int32} {g e t : Nat} {v w : Int32} (hg : g < e) (he : e < 20) (ht : t < 4) (h2 : ∀ j, j < 20 → a2 j = if j = g then 0 else if j = e then 1 else -1) (h3 : a3 e = 0) (h5 : a5 0 = 0) (h51 : a5 1 = nI 1) (h9 : ∀ j, j < 4 → a9 j = if j = t then v else 0) (h94 : ∀ j, j < 4 → a9 (4 + j) = if j = t then w else 0)
    (H : post (v.toInt64 + w.toInt64)) : wpX_total post (fc, h, a1, a2, a3, a4, a5, a6, a7, a8, a9, a10, a11) := by
  unfold wpX_total
  refine qw_toA (g := g) (by omega) ht (fun j hj => by rw [h2 j (by omega), if_neg (by omega), if_neg (by omega)]) (by rw [h2 g (by omega), if_pos rfl]) h5 h9 ?_
  refine qw_toS (e - (g + 1)) (g + 1) (by omega) (fun j u w => by rw [h2 j (by omega), if_neg (by omega), if_neg (by omega)]) ?_
  rw [show g + 1 + (e - (g + 1)) = e by omega]
  refine qw_toH (c := 1) (f := 1) (t := t) (v := w) he (by omega) (by omega) ht (by rw [h2 e he, if_neg (by omega), if_pos rfl]; rfl) h51 (fun j hj => by rw [Nat.mul_one]; exact h94 j hj) (Or.inl h3) ?_
  exact qw_toE he (fun j u w => by rw [h2 j w, if_neg (by omega), if_neg (by omega)]) H
end
section
/-! the pictures -/
/-- one page shows content 0, in frame 0 -/
def qw_S (k : Nat) (v sh : Int32) (a1 a2 a3 a4 a5 a8 a9 : Nat → Int32) : Prop :=
  a1 0 = 1 ∧ (∀ j, 1 ≤ j → j < 4 → a1 j = 0) ∧ (∀ j, j < 20 → a2 j = if j = k / 4 then 0 else -1) ∧ a3 (k / 4) = sh ∧ a4 0 = 1 ∧ a4 1 = 0 ∧ a5 0 = 0 ∧ a8 0 = 0 ∧ a8 1 = -1 ∧ (∀ j, j < 4 → a9 j = if j = k % 4 then v else 0)
/-- two pages show content 0, in frame 0 -/
def qw_D (k q : Nat) (v sh : Int32) (a1 a2 a3 a4 a5 a8 a9 : Nat → Int32) : Prop :=
  a1 0 = 1 ∧ a1 q = 1 ∧ (∀ j, j < 20 → a2 j = if j = k / 4 ∨ j = 5 * q + k / 4 then 0 else -1) ∧ a3 (k / 4) = sh ∧ a3 (5 * q + k / 4) = sh ∧ a4 0 = 2 ∧ a4 1 = 0 ∧ a5 0 = 0 ∧ a8 0 = 0 ∧ a8 1 = -1 ∧ (∀ j, j < 4 → a9 j = if j = k % 4 then v else 0)
/-- two private pages, content 0 in frame 0 and content 1 in frame 1 -/
def qw_E (k q : Nat) (v w : Int32) (a1 a2 a3 a5 a9 : Nat → Int32) : Prop :=
  a1 0 = 1 ∧ a1 q = 1 ∧ (∀ j, j < 20 → a2 j = if j = k / 4 then 0 else if j = 5 * q + k / 4 then 1 else -1) ∧ a3 (k / 4) = 0 ∧ a3 (5 * q + k / 4) = 0 ∧ a5 0 = 0 ∧ a5 1 = nI 1 ∧ (∀ j, j < 4 → a9 j = if j = k % 4 then v else 0) ∧ (∀ j, j < 4 → a9 (4 + j) = if j = k % 4 then w else 0)
theorem qw_put {f : Nat → Int32} {t : Nat} {v w : Int32} (h9 : ∀ j, j < 4 → f j = if j = t then v else 0) : ∀ j, j < 4 → upd f (4 * 0 + t) w j = if j = t then w else 0 := by
  intro j hj
  rw [Nat.mul_zero, Nat.zero_add]
  by_cases e : j = t
  · rw [e, pk_us, if_pos rfl]
  · rw [pk_un e, h9 j hj, if_neg e, if_neg e]
/-! the law behind its second read -/
theorem qw_229s {post : Int32 → St0 → Prop} {mc ms kc ks : Nat} {fc h : Int32} {a1 a2 a3 a4 a5 a6 a7 a8 a9 a10 a11 : Nat → Int32} {k : Nat} {x3 x4 x5 v sh : Int32} (hk : k < 20) (P : qw_S k v sh a1 a2 a3 a4 a5 a8 a9) (Hp : post 1 ()) : wL_lawOf_229 post mc ms x3 x4 x5 (nI k) 0 v kc ks fc h a1 a2 a3 a4 a5 a6 a7 a8 a9 a10 a11 := by
  obtain ⟨p1, p1', p2, p3, p4, p41, p5, p8, p81, p9⟩ := P
  have T : wL_lawOf_278 post mc ms x3 x4 x5 0 v 1 kc ks fc h a1 a2 a3 a4 a5 a6 a7 a8 a9 a10 a11 := by
    unfold wL_lawOf_278 wL_lawOf_279
    refine br_t rfl (qw_total1 (g := k / 4) (t := k % 4) (v := v) (by omega) (by omega) p2 p5 p9 (br_t rfl ?_))
    unfold wL_lawOf_308 wL_lawOf_311
    exact br_t rfl Hp
  unfold wL_lawOf_229
  refine qw_sheets1 (g := k / 4) (by omega) p2 (br_t rfl ?_)
  unfold wL_lawOf_248 wL_lawOf_249
  rw [qw_s2 hk]
  refine br_t rfl (qw_showing (c := 0) (by omega) (by omega) p1 (by rw [p2 _ (by omega), if_pos rfl]; rfl) (fun _ => br_t rfl T) (fun _ => br_t rfl ?_))
  rw [p4]
  exact T
theorem qw_229D {post : Int32 → St0 → Prop} {mc ms kc ks : Nat} {fc h : Int32} {a1 a2 a3 a4 a5 a6 a7 a8 a9 a10 a11 : Nat → Int32} {k q : Nat} {x3 x4 v : Int32} (hk : k < 20) (hq1 : 1 ≤ q) (hq : q < 4) (P : qw_D k q v 1 a1 a2 a3 a4 a5 a8 a9) (Hp : post 1 ()) : wL_lawOf_229 post mc ms x3 x4 1 (nI k) 1 v kc ks fc h a1 a2 a3 a4 a5 a6 a7 a8 a9 a10 a11 := by
  obtain ⟨p1, p1', p2, p3, p3', p4, p41, p5, p8, p81, p9⟩ := P
  unfold wL_lawOf_229
  refine qw_sheetsD (g := k / 4) (e := 5 * q + k / 4) (by omega) (by omega) p2 p3' (br_f (by decide) (br_f (by decide) ?_))
  unfold wL_lawOf_248 wL_lawOf_249
  rw [qw_s2 hk]
  refine br_t rfl (qw_showing (c := 0) (by omega) (by omega) p1 (by rw [p2 _ (by omega), if_pos (Or.inl rfl)]; rfl) (fun z => absurd z (by rw [p3]; decide)) (fun _ => br_f (by decide) (br_f (by decide) ?_)))
  unfold wL_lawOf_279
  refine br_t p4 (qw_totalD (g := k / 4) (e := 5 * q + k / 4) (t := k % 4) (v := v) (by omega) (by omega) (by omega) p2 p3' p5 p9 (br_f (by decide) (br_f (by decide) ?_)))
  unfold wL_lawOf_308 wL_lawOf_311
  exact br_t rfl Hp
theorem qw_229E {post : Int32 → St0 → Prop} {mc ms kc ks : Nat} {fc h : Int32} {a1 a2 a3 a4 a5 a6 a7 a8 a9 a10 a11 : Nat → Int32} {k q : Nat} {x3 x4 v : Int32} (hk : k < 20) (hq1 : 1 ≤ q) (hq : q < 4) (P : qw_E k q x3 x4 a1 a2 a3 a5 a9) (Hp : post 1 ()) : wL_lawOf_229 post mc ms x3 x4 0 (nI k) 1 v kc ks fc h a1 a2 a3 a4 a5 a6 a7 a8 a9 a10 a11 := by
  obtain ⟨p1, p1', p2, p3, p3', p5, p51, p9, p94⟩ := P
  unfold wL_lawOf_229
  refine qw_sheetsE (g := k / 4) (e := 5 * q + k / 4) (by omega) (by omega) p2 p3' (br_f (by decide) (br_t rfl ?_))
  unfold wL_lawOf_249
  rw [qw_s2 hk]
  refine br_t rfl (qw_showing (c := 0) (by omega) (by omega) p1 (by rw [p2 _ (by omega), if_pos rfl]; rfl) (fun _ => br_f (by decide) (br_t rfl ?_)) (fun z => absurd p3 z))
  unfold wL_lawOf_278 wL_lawOf_279
  refine br_t rfl (qw_totalE (g := k / 4) (e := 5 * q + k / 4) (t := k % 4) (v := x3) (w := x4) (by omega) (by omega) (by omega) p2 p3' p5 p51 p9 p94 (br_f (by decide) (br_t rfl ?_)))
  unfold wL_lawOf_311
  exact br_t rfl Hp
/-! the law from its first read behind the second write -/
theorem qw_192s {post : Int32 → St0 → Prop} {mc ms kc ks : Nat} {fc h : Int32} {a1 a2 a3 a4 a5 a6 a7 a8 a9 a10 a11 : Nat → Int32} {k : Nat} {x2 x3 x4 x5 v sh : Int32} (hk : k < 20) (P : qw_S k v sh a1 a2 a3 a4 a5 a8 a9) (Hp : post 1 ()) : wL_lawOf_192 post mc ms x2 x3 x4 x5 (nI k) 0 v kc ks fc h a1 a2 a3 a4 a5 a6 a7 a8 a9 a10 a11 := by
  have P' := P
  obtain ⟨p1, p1', p2, p3, p4, p41, p5, p8, p81, p9⟩ := P
  unfold wL_lawOf_192
  refine qw_read (p := 0) (c := 0) (f := 0) (by omega) hk (by omega) (by omega) p1 (by rw [Nat.mul_zero, Nat.zero_add, p2 _ (by omega), if_pos rfl]; rfl) p5 (br_t ?_ (br_t rfl (qw_229s hk P' Hp)))
  rw [Nat.mul_zero, Nat.zero_add, p9 _ (by omega), if_pos rfl]
theorem qw_192D {post : Int32 → St0 → Prop} {mc ms kc ks : Nat} {fc h : Int32} {a1 a2 a3 a4 a5 a6 a7 a8 a9 a10 a11 : Nat → Int32} {k q : Nat} {x3 x4 : Int32} (hk : k < 20) (hq1 : 1 ≤ q) (hq : q < 4) (P : qw_D k q x4 1 a1 a2 a3 a4 a5 a8 a9) (Hp : post 1 ()) : wL_lawOf_192 post mc ms (nI q) x3 x4 1 (nI k) 1 x4 kc ks fc h a1 a2 a3 a4 a5 a6 a7 a8 a9 a10 a11 := by
  have P' := P
  obtain ⟨p1, p1', p2, p3, p3', p4, p41, p5, p8, p81, p9⟩ := P
  have r : a9 (4 * 0 + k % 4) = x4 := by
    rw [Nat.mul_zero, Nat.zero_add, p9 _ (by omega), if_pos rfl]
  unfold wL_lawOf_192
  refine qw_read (p := 0) (c := 0) (f := 0) (by omega) hk (by omega) (by omega) p1 (by rw [Nat.mul_zero, Nat.zero_add, p2 _ (by omega), if_pos (Or.inl rfl)]; rfl) p5 (br_t r (br_f (by decide) ?_))
  exact qw_read (p := q) (c := 0) (f := 0) hq hk (by omega) (by omega) p1' (by rw [p2 _ (by omega), if_pos (Or.inr rfl)]; rfl) p5 (br_t r (qw_229D hk hq1 hq P' Hp))
theorem qw_192E {post : Int32 → St0 → Prop} {mc ms kc ks : Nat} {fc h : Int32} {a1 a2 a3 a4 a5 a6 a7 a8 a9 a10 a11 : Nat → Int32} {k q : Nat} {x3 x4 : Int32} (hk : k < 20) (hq1 : 1 ≤ q) (hq : q < 4) (P : qw_E k q x3 x4 a1 a2 a3 a5 a9) (Hp : post 1 ()) : wL_lawOf_192 post mc ms (nI q) x3 x4 0 (nI k) 1 x3 kc ks fc h a1 a2 a3 a4 a5 a6 a7 a8 a9 a10 a11 := by
  have P' := P
  obtain ⟨p1, p1', p2, p3, p3', p5, p51, p9, p94⟩ := P
  unfold wL_lawOf_192
  refine qw_read (p := 0) (c := 0) (f := 0) (by omega) hk (by omega) (by omega) p1 (by rw [Nat.mul_zero, Nat.zero_add, p2 _ (by omega), if_pos rfl]; rfl) p5 (br_t ?_ (br_f (by decide) ?_))
  · rw [Nat.mul_zero, Nat.zero_add, p9 _ (by omega), if_pos rfl]
  · refine qw_read (p := q) (c := 1) (f := 1) hq hk (by omega) (by omega) p1' (by rw [p2 _ (by omega), if_neg (by omega), if_pos rfl]; rfl) p51 (br_t ?_ (qw_229E hk hq1 hq P' Hp))
    rw [Nat.mul_one, p94 _ (by omega), if_pos rfl]
/-! the law from its second write -/
theorem qw_142b {post : Int32 → St0 → Prop} {mc ms kc ks : Nat} {fc h : Int32} {a1 a2 a3 a4 a5 a6 a7 a8 a9 a10 a11 : Nat → Int32} {k : Nat} {x2 x3 x4 x5 sh : Int32} (hk : k < 20) (hq : x2 < 0 ∨ ¬ x2 ≤ 3) (P : qw_S k x3 sh a1 a2 a3 a4 a5 a8 a9) (Hp : post 1 ()) : wL_lawOf_142 post mc ms x2 x3 x4 x5 (nI k) 0 kc ks fc h a1 a2 a3 a4 a5 a6 a7 a8 a9 a10 a11 := by
  have hz : ¬ x2 = 0 := by
    rintro rfl
    rcases hq with z | z
    · exact absurd z (by decide)
    · exact z (by decide)
  unfold wL_lawOf_142
  refine qw_writeB hq (br_t rfl (br_f hz ?_))
  unfold wL_lawOf_167
  refine br_t rfl (br_f hz (br_t rfl ?_))
  unfold wL_lawOf_191
  exact qw_192s hk P Hp
theorem qw_142z {post : Int32 → St0 → Prop} {mc ms kc ks : Nat} {fc h : Int32} {a1 a2 a3 a4 a5 a6 a7 a8 a9 a10 a11 : Nat → Int32} {k : Nat} {x3 x4 x5 sh : Int32} (hk : k < 20) (P : qw_S k x3 sh a1 a2 a3 a4 a5 a8 a9) (Hp : post 1 ()) : wL_lawOf_142 post mc ms 0 x3 x4 x5 (nI k) 0 kc ks fc h a1 a2 a3 a4 a5 a6 a7 a8 a9 a10 a11 := by
  obtain ⟨p1, p1', p2, p3, p4, p41, p5, p8, p81, p9⟩ := P
  have h2 : a2 (5 * 0 + k / 4) = nI 0 := by
    rw [Nat.mul_zero, Nat.zero_add, p2 _ (by omega), if_pos rfl]
    rfl
  unfold wL_lawOf_142
  refine qw_write (p := 0) (c := 0) (by omega) hk (by omega) p1 h2 (fun _ => p4) (qw_w87 (c := 0) (f := 0) (e := 5 * 0 + k / 4) (by omega) hk (by omega) (by omega) h2 p5 (br_t rfl (br_t rfl ?_)))
  unfold wL_lawOf_161 wL_lawOf_167
  refine br_t rfl (br_t rfl ?_)
  unfold wL_lawOf_186
  exact qw_192s hk ⟨p1, p1', p2, p3, p4, p41, p5, p8, p81, qw_put p9⟩ Hp
theorem qw_142D {post : Int32 → St0 → Prop} {mc ms kc ks : Nat} {fc h : Int32} {a1 a2 a3 a4 a5 a6 a7 a8 a9 a10 a11 : Nat → Int32} {k q : Nat} {x3 x4 : Int32} (hk : k < 20) (hq1 : 1 ≤ q) (hq : q < 4) (P : qw_D k q x3 1 a1 a2 a3 a4 a5 a8 a9) (Hp : post 1 ()) : wL_lawOf_142 post mc ms (nI q) x3 x4 1 (nI k) 1 kc ks fc h a1 a2 a3 a4 a5 a6 a7 a8 a9 a10 a11 := by
  obtain ⟨p1, p1', p2, p3, p3', p4, p41, p5, p8, p81, p9⟩ := P
  have h2 : a2 (5 * q + k / 4) = nI 0 := by
    rw [p2 _ (by omega), if_pos (Or.inr rfl)]
    rfl
  unfold wL_lawOf_142
  refine qw_write (p := q) (c := 0) hq hk (by omega) p1' h2 (fun z => absurd z (by rw [p3']; decide)) (qw_w87 (c := 0) (f := 0) (e := 5 * q + k / 4) (by omega) hk (by omega) (by omega) h2 p5 (br_f (by decide) ?_))
  unfold wL_lawOf_161 wL_lawOf_167
  refine br_t rfl (br_f (nI_ne0 (by omega) (by omega)) (br_f (by decide) (br_f (by decide) ?_)))
  unfold wL_lawOf_186
  exact qw_192D hk hq1 hq ⟨p1, p1', p2, p3, p3', p4, p41, p5, p8, p81, qw_put p9⟩ Hp
theorem qw_142E {post : Int32 → St0 → Prop} {mc ms kc ks : Nat} {h : Int32} {a1 a2 a3 a4 a5 a6 a7 a8 a9 a10 a11 : Nat → Int32} {k q : Nat} {x3 x4 : Int32} (hk : k < 20) (hq1 : 1 ≤ q) (hq : q < 4) (P : qw_D k q x3 0 a1 a2 a3 a4 a5 a8 a9) (Hp : post 1 ()) : wL_lawOf_142 post mc ms (nI q) x3 x4 0 (nI k) 1 kc ks 2 h a1 a2 a3 a4 a5 a6 a7 a8 a9 a10 a11 := by
  obtain ⟨p1, p1', p2, p3, p3', p4, p41, p5, p8, p81, p9⟩ := P
  have h2 : a2 (5 * q + k / 4) = 0 := by
    rw [p2 _ (by omega), if_pos (Or.inr rfl)]
  unfold wL_lawOf_142
  refine qw_writeP (p := q) hq hk p1' h2 p3' p4 p41 p5 p8 p81 (fun A hA hB => qw_w87 (c := 1) (f := 1) (e := 5 * q + k / 4) (by omega) hk (by omega) (by omega) pk_us pk_us (br_f (by decide) ?_))
  unfold wL_lawOf_161 wL_lawOf_167
  refine br_t rfl (br_f (nI_ne0 (by omega) (by omega)) (br_f (by decide) (br_t rfl ?_)))
  unfold wL_lawOf_191
  refine qw_192E hk hq1 hq ⟨p1, p1', fun j hj => ?_, p3, p3', ?_, pk_us, fun j hj => ?_, fun j hj => ?_⟩ Hp
  · by_cases e : j = 5 * q + k / 4
    · rw [e, pk_us, if_neg (by omega), if_pos rfl]
    · rw [pk_un e, p2 j hj]
      by_cases e' : j = k / 4
      · rw [if_pos (Or.inl e'), if_pos e']
      · rw [if_neg (by omega), if_neg e', if_neg e]
  · rw [pk_un (by omega), pk_un (by omega)]
    exact p5
  · rw [pk_un (by omega), hA j hj]
    exact p9 j hj
  · by_cases e : j = k % 4
    · rw [e, Nat.mul_one, pk_us, if_pos rfl]
    · rw [pk_un (by omega), hB j hj, p9 j hj, if_neg e, if_neg e]
end
section
theorem qw_60 {post : Int32 → St0 → Prop} {k : Nat} {x2 x3 x4 sh x7 z0 : Int32} (hk : k < 20) (hs : sh = 0 ∨ sh = 1)
    (hq : ((x2 < 0 ∨ ¬ x2 ≤ 3) ∧ x7 = -1 ∧ z0 = 0) ∨ (x2 = 0 ∧ x7 = -4 ∧ z0 = 0) ∨ (∃ q : Nat, 1 ≤ q ∧ q < 4 ∧ x2 = nI q ∧ x7 = 1 ∧ z0 = 1)) (Hp : post 1 ()) : wL_lawOf_60 post 102 1616 x2 x3 x4 sh (nI k) x7 z0 0 0 := by
  unfold wL_lawOf_60
  rw [qw_s2 hk]
  refine ⟨by omega, by omega, 11, 226, by omega, by omega, qw_init (fun A B C hA hB hC => ?_)⟩
  refine qw_map (g := k / 4) (by omega) pk_us (hA _ (by omega)) rfl hs (br_t rfl ?_)
  have h2 : upd A (k / 4) 0 (5 * 0 + k / 4) = nI 0 := by
    rw [Nat.mul_zero, Nat.zero_add]
    exact pk_us
  refine qw_write (p := 0) (c := 0) (by omega) hk (by omega) pk_us h2 (fun _ => pk_us) (qw_w87o (c := 0) (f := 0) (e := 5 * 0 + k / 4) (by omega) hk (by omega) (by omega) h2 pk_us pk_us (fun j hj => absurd hj (by omega)) (hC 0 (by omega)) (fun A' hA' => br_t rfl ?_))
  have P : qw_S k x3 sh (upd (fun _ => 0) 0 1) (upd A (k / 4) 0) (upd (fun _ => 0) (k / 4) sh) (upd (fun _ => 0) 0 1) (upd (upd B 0 (-1)) 0 (nI 0)) (upd C 0 (nI 0)) (upd A' (4 * 0 + k % 4) x3) := by
    refine ⟨pk_us, fun j h1 h4 => pk_un (by omega), fun j hj => ?_, pk_us, pk_us, pk_un (by omega), pk_us, pk_us, ?_, ?_⟩
    · by_cases e : j = k / 4
      · rw [e, pk_us, if_pos rfl]
      · rw [pk_un e, hA j hj, if_neg e]
    · rw [pk_un (by omega)]
      exact hC 1 (by omega)
    · refine qw_put (v := 0) (fun j hj => ?_)
      have e := hA' j hj
      rw [Nat.mul_zero, Nat.zero_add] at e
      rw [e]
      split <;> rfl
  rcases hq with ⟨hb, rfl, rfl⟩ | ⟨rfl, rfl, rfl⟩ | ⟨q, hq1, hq, rfl, rfl, rfl⟩
  · exact qw_forkB hb (br_t rfl (br_t rfl (qw_142b hk hb P Hp)))
  · exact qw_fork0 pk_us (br_t rfl (br_t rfl (qw_142z hk P Hp)))
  · obtain ⟨p1, p1', p2, p3, p4, p41, p5, p8, p81, p9⟩ := P
    refine qw_fork (g := k / 4) (sh := sh) hq1 hq (by omega) hs p1 (p1' q hq1 hq) p2 p3 p4 p41 (fun F G I f2 f3 f3' f4 f41 => br_t rfl (br_f (by decide) ?_))
    refine qw_read (p := q) (c := 0) (f := 0) hq hk (by omega) (by omega) pk_us (by rw [f2 _ (by omega), if_pos (Or.inr rfl)]; rfl) p5 (br_t ?_ ?_)
    · rw [Nat.mul_zero, Nat.zero_add]
      rw [Nat.mul_zero, Nat.zero_add] at p9
      rw [p9 _ (by omega), if_pos rfl]
    · have D : qw_D k q x3 sh (upd (upd (fun _ => 0) 0 1) q 1) F G I (upd (upd B 0 (-1)) 0 (nI 0)) (upd C 0 (nI 0)) (upd A' (4 * 0 + k % 4) x3) :=
        ⟨by rw [pk_un (by omega), pk_us], pk_us, f2, f3, f3', f4, f41, p5, p8, p81, p9⟩
      rcases hs with rfl | rfl
      · exact qw_142E hk hq1 hq D Hp
      · exact qw_142D hk hq1 hq D Hp
theorem qw_12 {post : Int32 → St0 → Prop} {x1 x2 x3 x4 z0 : Int32} (hs : z0 = 0 ∨ z0 = 1) (Hp : post 1 ()) : wL_lawOf_12 post 102 1616 x1 x2 x3 x4 z0 0 0 := by
  obtain ⟨k, hk, e⟩ := qw_c x1
  have hbad : (x2 < 0 ∨ ¬ x2 ≤ 3) → wL_lawOf_33 post 102 1616 x2 x3 x4 z0 (nI k) 0 0 := by
    intro hb
    unfold wL_lawOf_33 wL_lawOf_47
    exact br_f (by decide) (qw_60 hk hs (Or.inl ⟨hb, rfl, rfl⟩) Hp)
  unfold wL_lawOf_12
  refine ⟨by decide, nm_r e (br_c (fun z => hbad (Or.inl z)) (fun hn => br_c (fun hl => br_c (fun z => ?_) (fun z => ?_)) (fun z => hbad (Or.inr z))))⟩
  · unfold wL_lawOf_47
    exact br_f (by decide) (qw_60 hk hs (Or.inr (Or.inl ⟨z, rfl, rfl⟩)) Hp)
  · obtain ⟨q, hq, eq⟩ := nI_of2 (M := 3) (n := 3) (by decide) hn hl
    have hq1 : 1 ≤ q := by
      rcases Nat.eq_zero_or_pos q with u | u
      · subst u
        exact absurd eq z
      · exact u
    unfold wL_lawOf_47
    exact br_t rfl (qw_60 hk hs (Or.inr (Or.inr ⟨q, hq1, by omega, eq, rfl, rfl⟩)) Hp)
theorem qw_of {post : Int32 → St0 → Prop} {p0 p1 p2 p3 p4 : Int32} (Hp : post 1 ()) : wpL_lawOf post 102 1616 () p0 p1 p2 p3 p4 := by
  unfold wpL_lawOf
  exact br_c (fun _ => qw_12 (Or.inr rfl) Hp) (fun _ => qw_12 (Or.inl rfl) Hp)
theorem qw_cell {post : Int32 → Prop} {xs : Nat → Int32} {L : Nat} (hL : L ≤ 5) (i : Nat) (hi : i < 5) (H : ∀ r, post r) : wpL_cellAt post L xs () (nI i) := by
  unfold wpL_cellAt
  exact pk_le L i (fun _ => H 0) (fun z => ⟨pk_in i L z, H _⟩)
theorem i_vc (xs : Nat → Int32) (L : Nat) (hL : L ≤ 5) : wpL_law (fun r => r = 1) L xs := by
  unfold wpL_law
  exact qw_cell hL 0 (by omega) (fun r1 => qw_cell hL 1 (by omega) (fun r2 => qw_cell hL 2 (by omega) (fun r3 => qw_cell hL 3 (by omega) (fun r4 => qw_cell hL 4 (by omega) (fun r5 => ⟨102, 1616, by omega, by omega, qw_of rfl⟩)))))
end
