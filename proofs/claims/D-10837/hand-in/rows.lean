section
section
variable {rd cp sk fl df lv lx lw ly sn : Int32} {a1 a2 a3 a4 a5 a6 a7 a8 a9 a10 a11 a12 : Nat → Int32}
theorem ie_n10 (l k : Nat) : nI l * 15 + 10 + nI k = nI (l * 15 + 10 + k) := by
  show nI l * nI 15 + nI 10 + nI k = _
  rw [pk_mul, nI_add, nI_add]
theorem ie_n13 (l k : Nat) : nI l * 15 + 13 + nI k = nI (l * 15 + 13 + k) := by
  show nI l * nI 15 + nI 13 + nI k = _
  rw [pk_mul, nI_add, nI_add]
theorem ie_n0 (l k : Nat) : nI l * 15 + nI k = nI (l * 15 + k) := by
  show nI l * nI 15 + nI k = _
  rw [pk_mul, nI_add]
theorem ie_bit : ∀ t, t < 3 → (0 : Int32) ||| ((1 : Int32) <<< (nI t &&& 31)) = nI (2 ^ t) := by decide
theorem ie_msk : ∀ t, t < 3 → nI (2 ^ t) &&& ((0 : Int32) ^^^ (-1)) = nI (2 ^ t) := by decide
theorem ie_off : ∀ t, t < 3 → nI (2 ^ t) &&& (((1 : Int32) <<< (nI t &&& 31)) ^^^ (-1)) = 0 := by decide
theorem ie_pw0 : ∀ t, t < 3 → ¬ nI (2 ^ t) = 0 := by decide
/-- nextOf -/
theorem ie_nx {post : Int32 → Prop} {l k : Nat} (hl : l < 11) (hk : k < 3)
    (H : (a6 (l * 15 + 10 + k) < a1 k → post (nI (k * 5) + a6 (l * 15 + 10 + k))) ∧ (¬ a6 (l * 15 + 10 + k) < a1 k → post (-1))) :
    wpX_nextOf post (rd, cp, sk, fl, df, lv, lx, lw, ly, sn, a1, a2, a3, a4, a5, a6, a7, a8, a9, a10, a11, a12) (nI l) (nI k) := by
  unfold wpX_nextOf
  dsimp only
  rw [ie_n10, nI_clamp (show l * 15 + 10 + k < 2 ^ 31 by omega), nI_clamp (show k < 2 ^ 31 by omega), show nI k * 5 = nI (k * 5) from pk_mul k 5]
  exact ⟨vp_in_nI (by omega) (by decide), nm_e ⟨vp_in_nI hk (by decide), H⟩⟩
theorem ie_nx_fin {post : Int32 → Prop} {l k : Nat} (hl : l < 11) (hk : k < 3) (h : ¬ a6 (l * 15 + 10 + k) < a1 k) (H : post (-1)) :
    wpX_nextOf post (rd, cp, sk, fl, df, lv, lx, lw, ly, sn, a1, a2, a3, a4, a5, a6, a7, a8, a9, a10, a11, a12) (nI l) (nI k) := ie_nx hl hk (br_f h H)
theorem ie_nx_at {post : Int32 → Prop} {l k : Nat} (hl : l < 11) (hk : k < 3) (h0 : a6 (l * 15 + 10 + k) = 0) (h1 : a1 k = 1) (H : post (nI (k * 5))) :
    wpX_nextOf post (rd, cp, sk, fl, df, lv, lx, lw, ly, sn, a1, a2, a3, a4, a5, a6, a7, a8, a9, a10, a11, a12) (nI l) (nI k) :=
  ie_nx hl hk (br_t (by rw [h0, h1]; decide) (by rw [h0, Int32.add_zero]; exact H))
/-- canGo: finished, or before its only instruction (either answer) -/
theorem ie_cg_fin {post : Int32 → Prop} {l k : Nat} (hl : l < 11) (hk : k < 3) (h : ¬ a6 (l * 15 + 10 + k) < a1 k) (H : post 0) :
    wpX_canGo post (rd, cp, sk, fl, df, lv, lx, lw, ly, sn, a1, a2, a3, a4, a5, a6, a7, a8, a9, a10, a11, a12) (nI l) (nI k) := by
  unfold wpX_canGo
  dsimp only
  exact ie_nx_fin hl hk h (br_f (by decide) H)
theorem ie_cg_at {post : Int32 → Prop} {l k : Nat} (hl : l < 11) (hk : k < 3) (h0 : a6 (l * 15 + 10 + k) = 0) (h1 : a1 k = 1) (H0 : post 0) (H1 : post 1) :
    wpX_canGo post (rd, cp, sk, fl, df, lv, lx, lw, ly, sn, a1, a2, a3, a4, a5, a6, a7, a8, a9, a10, a11, a12) (nI l) (nI k) := by
  have q1 : ∀ x : Int32, vp_in (nI l * 15 + 13 + (x &&& 1)) 180 := fun x => by
    obtain ⟨j, hj, e⟩ := pk_andE x (m := 1) 1 (by decide)
    rw [e, ie_n13]
    exact vp_in_nI (by omega) (by decide)
  have q3 : ∀ x : Int32, vp_in (nI l * 15 + (x &&& 3)) 180 := fun x => by
    obtain ⟨j, hj, e⟩ := pk_andE x (m := 3) 2 (by decide)
    rw [e, ie_n0]
    exact vp_in_nI (by omega) (by decide)
  have q : vp_in (nI (k * 5)) 15 := vp_in_nI (by omega) (by decide)
  unfold wpX_canGo
  dsimp only
  exact ie_nx_at hl hk h0 h1 (br_t (nI_pos' (by omega)) (nm_e ⟨q, br_c (fun _ => ⟨q, q1 _, br_c (fun _ => H1) (fun _ => H0)⟩) (fun _ => ⟨q, br_c (fun _ => ⟨q, q3 _, q, br_c (fun _ => H1) (fun _ => H0)⟩) (fun _ => H1)⟩)⟩))
/-- able -/
theorem ie_ab_fin {post : Int32 → Prop} {l : Nat} (hl : l < 11) (h : ∀ k, k < 3 → ¬ a6 (l * 15 + 10 + k) < a1 k) (H : post 0) :
    wpX_able post (rd, cp, sk, fl, df, lv, lx, lw, ly, sn, a1, a2, a3, a4, a5, a6, a7, a8, a9, a10, a11, a12) (nI l) :=
  pk_loop (σ := Unit) (fun n i _ => wX_able_4 post (nI l) rd cp sk fl df lv lx lw ly sn a1 a2 a3 a4 a5 a6 a7 a8 a9 a10 a11 a12 n 0 (nI i)) (fun _ _ => True) 3 0 () (by omega) trivial
    (fun n _ _ => pk_le 3 3 (fun _ => H) (fun z => absurd z (by omega)))
    (fun n i _ hi _ hw => pk_le 3 i (fun z => absurd z (by omega)) (fun _ => ie_cg_fin hl hi (h i hi) (br_t rfl (nm_r (nI_1 i) (hw () trivial)))))
theorem ie_ab_one {post : Int32 → Prop} {l t : Nat} (hl : l < 11) (ht : t < 3) (h0 : a6 (l * 15 + 10 + t) = 0) (h1 : a1 t = 1)
    (h : ∀ k, k < 3 → k ≠ t → ¬ a6 (l * 15 + 10 + k) < a1 k) (H0 : post 0) (H1 : post (nI (2 ^ t))) :
    wpX_able post (rd, cp, sk, fl, df, lv, lx, lw, ly, sn, a1, a2, a3, a4, a5, a6, a7, a8, a9, a10, a11, a12) (nI l) := by
  refine pk_loop (fun n i s => wX_able_4 post (nI l) rd cp sk fl df lv lx lw ly sn a1 a2 a3 a4 a5 a6 a7 a8 a9 a10 a11 a12 n s (nI i)) (fun i s => (s = 0 ∨ s = nI (2 ^ t)) ∧ (i ≤ t → s = 0)) 3 0 0 (by omega) ⟨Or.inl rfl, fun _ => rfl⟩
    (fun n s hs => pk_le 3 3 (fun _ => ?_) (fun z => absurd z (by omega)))
    (fun n i s hi hs hw => pk_le 3 i (fun z => absurd z (by omega)) (fun _ => ?_))
  · rcases hs.1 with e | e
    · rw [e]; exact H0
    · rw [e]; exact H1
  · by_cases e : i = t
    · have es : s = 0 := hs.2 (by omega)
      rw [e] at hw ⊢
      exact ie_cg_at hl ht h0 h1 (br_t rfl (nm_r (nI_1 t) (hw s ⟨hs.1, fun z => absurd z (by omega)⟩)))
        (br_f (by decide) (nm_r (by rw [es]; exact ie_bit t ht) (nm_r (nI_1 t) (hw _ ⟨Or.inr rfl, fun z => absurd z (by omega)⟩))))
    · exact ie_cg_fin hl hi (h i hi e) (br_t rfl (nm_r (nI_1 i) (hw s ⟨hs.1, fun z => hs.2 (by omega)⟩)))
/-- allFinished -/
theorem ie_af_fin {post : Int32 → Prop} {l : Nat} (hl : l < 11) (h : ∀ k, k < 3 → ¬ a6 (l * 15 + 10 + k) < a1 k) (H : post 1) :
    wpX_allFinished post (rd, cp, sk, fl, df, lv, lx, lw, ly, sn, a1, a2, a3, a4, a5, a6, a7, a8, a9, a10, a11, a12) (nI l) :=
  pk_loop (σ := Unit) (fun n i _ => wX_allFinished_2 post (nI l) rd cp sk fl df lv lx lw ly sn a1 a2 a3 a4 a5 a6 a7 a8 a9 a10 a11 a12 n (nI i)) (fun _ _ => True) 3 0 () (by omega) trivial
    (fun n _ _ => pk_le 3 3 (fun _ => H) (fun z => absurd z (by omega)))
    (fun n i _ hi _ hw => pk_le 3 i (fun z => absurd z (by omega)) (fun _ => ie_nx_fin hl hi (h i hi) (br_t (by decide) (nm_r (nI_1 i) (hw () trivial)))))
theorem ie_af_one {post : Int32 → Prop} {l t : Nat} (hl : l < 11) (ht : t < 3) (h0 : a6 (l * 15 + 10 + t) = 0) (h1 : a1 t = 1)
    (h : ∀ k, k < 3 → k ≠ t → ¬ a6 (l * 15 + 10 + k) < a1 k) (H : post 0) :
    wpX_allFinished post (rd, cp, sk, fl, df, lv, lx, lw, ly, sn, a1, a2, a3, a4, a5, a6, a7, a8, a9, a10, a11, a12) (nI l) :=
  pk_loop (σ := Unit) (fun n i _ => wX_allFinished_2 post (nI l) rd cp sk fl df lv lx lw ly sn a1 a2 a3 a4 a5 a6 a7 a8 a9 a10 a11 a12 n (nI i)) (fun _ _ => True) t 0 () (by omega) trivial
    (fun n _ _ => pk_le 3 t (fun z => absurd z (by omega)) (fun _ => ie_nx_at hl ht h0 h1 (br_f (nI_pos (by omega)) H)))
    (fun n i _ hi _ hw => pk_le 3 i (fun z => absurd z (by omega)) (fun _ => ie_nx_fin hl (by omega) (h i (by omega) (by omega)) (br_t (by decide) (nm_r (nI_1 i) (hw () trivial)))))
/-- lowest -/
theorem ie_lo_any {post : Int32 → Prop} {x : Int32} (H : ∀ r, post r) : wpX_lowest post () x :=
  br_c (fun _ => H 0) (fun _ => br_c (fun _ => H 1) (fun _ => H 2))
theorem ie_lo {post : Int32 → Prop} {t : Nat} (ht : t < 3) (H : post (nI t)) : wpX_lowest post () (nI (2 ^ t)) := by
  rcases (by omega : t = 0 ∨ t = 1 ∨ t = 2) with e | e | e
  · subst e; exact br_t (by decide) H
  · subst e; exact br_f (by decide) (br_t (by decide) H)
  · subst e; exact br_f (by decide) (br_f (by decide) H)
/-- sleepers: nobody else has an instruction -/
theorem ie_sl {post : Int32 → Prop} {l t : Nat} (hl : l < 11) (ht : t < 3) (h0 : a6 (l * 15 + 10 + t) = 0) (h1 : a1 t = 1)
    (h : ∀ k, k < 3 → k ≠ t → ¬ a6 (l * 15 + 10 + k) < a1 k) (H : post 0) :
    wpX_sleepers post (rd, cp, sk, fl, df, lv, lx, lw, ly, sn, a1, a2, a3, a4, a5, a6, a7, a8, a9, a10, a11, a12) (nI l) (nI t) := by
  unfold wpX_sleepers
  dsimp only
  refine ie_nx_at hl ht h0 h1 (pk_loop (σ := Unit) (fun n i _ => wX_sleepers_13 post (nI l) (nI t) (nI (t * 5)) rd cp sk fl df lv lx lw ly sn a1 a2 a3 a4 a5 a6 a7 a8 a9 a10 a11 a12 n 0 (nI i)) (fun _ _ => True) 3 0 () (by omega) trivial
    (fun n _ _ => pk_le 3 3 (fun _ => H) (fun z => absurd z (by omega)))
    (fun n i _ hi _ hw => pk_le 3 i (fun z => absurd z (by omega)) (fun _ => ?_)))
  by_cases e : i = t
  · rw [e] at hw ⊢
    exact ie_nx_at hl ht h0 h1 (br_t rfl (nm_r (nI_1 t) (hw () trivial)))
  · exact ie_nx_fin hl hi (h i hi e) (br_f (fun z => e ((nI_eq (by omega) (by omega)).mp z)) (br_t (by decide) (nm_r (nI_1 i) (hw () trivial))))
end
end
section
section
variable {rd cp sk fl df lv lx lw ly sn : Int32} {a1 a2 a3 a4 a5 a6 a7 a8 a9 a10 a11 a12 : Nat → Int32}
/-- noteEnd's second loop, of a first end: the least values are the level's cells -/
theorem ie_ne107 {post : St2 → Prop} {l : Nat} (hl : l < 11)
    (H : ∀ b11 b12, (∀ j, j < 10 → b11 j = a6 (l * 15 + j)) → post (rd, 1, sk, fl, df, lv, lx, lw, ly, sn, a1, a2, a3, a4, a5, a6, a7, a8, a9, a10, b11, b12)) :
    ∃ n, wX_noteEnd_107 post (nI (l * 15)) rd 0 sk fl df lv lx lw ly sn n 0 a1 a2 a3 a4 a5 a6 a7 a8 a9 a10 a11 a12 := by
  refine pk_loop (fun n i s => wX_noteEnd_107 post (nI (l * 15)) rd 0 sk fl df lv lx lw ly sn n (nI i) a1 a2 a3 a4 a5 a6 a7 a8 a9 a10 s.1 s.2) (fun i s => ∀ j, j < i → s.1 j = a6 (l * 15 + j)) 10 0 (a11, a12) (by omega) (fun j hj => absurd hj (by omega))
    (fun n s hs => pk_le 10 10 (fun _ => H s.1 s.2 hs) (fun z => absurd z (by omega)))
    (fun n i s hi hs hw => pk_le 10 i (fun z => absurd z (by omega)) (fun _ => ?_))
  have c : nI (l * 15) + nI i = nI (l * 15 + i) := nI_add _ _
  have c2 : (nI (l * 15) + nI i).toNatClampNeg = l * 15 + i := by rw [c]; exact nI_clamp (by omega)
  have c3 : (nI i).toNatClampNeg = i := nI_clamp (by omega)
  refine ⟨by rw [c]; exact vp_in_nI (by omega) (by decide), nm_r (congrArg a6 c2) (br_t rfl ?_)⟩
  refine ⟨pk_in i 10 hi, nm_r (congrArg (fun z => upd s.1 z (a6 (l * 15 + i))) c3) (br_t rfl ⟨pk_in i 10 hi, nm_e (nm_r (nI_1 i) (hw (upd s.1 i (a6 (l * 15 + i)), _) ?_))⟩)⟩
  intro j hj
  show upd s.1 i (a6 (l * 15 + i)) j = a6 (l * 15 + j)
  by_cases e : j = i
  · rw [e, pk_us]
  · rw [pk_un e]
    exact hs j (by omega)
theorem ie_ne48 {post : St2 → Prop} {l : Nat} (hl : l < 11)
    (H : ∀ b10, ∃ n, wX_noteEnd_107 post (nI (l * 15)) rd 0 sk fl df lv lx lw ly sn n 0 a1 a2 a3 a4 a5 a6 a7 a8 a9 b10 a11 a12) :
    ∃ n, wX_noteEnd_48 post (nI (l * 15)) rd 0 sk fl lv lx lw ly sn n 0 df a1 a2 a3 a4 a5 a6 a7 a8 a9 a10 a11 a12 := by
  refine pk_loop (fun n i s => wX_noteEnd_48 post (nI (l * 15)) rd 0 sk fl lv lx lw ly sn n (nI i) df a1 a2 a3 a4 a5 a6 a7 a8 a9 s a11 a12) (fun _ _ => True) 4 0 a10 (by omega) trivial
    (fun n s _ => pk_le 4 4 (fun _ => H s) (fun z => absurd z (by omega)))
    (fun n i s hi _ hw => pk_le 4 i (fun z => absurd z (by omega)) (fun _ => br_t rfl ⟨?_, pk_in i 4 hi, nm_e (nm_r (nI_1 i) (hw _ trivial))⟩))
  rw [nI_add]
  exact vp_in_nI (by omega) (by decide)
theorem ie_ne {post : St2 → Prop} {l : Nat} (hl : l < 11)
    (H : ∀ s' b10 b11 b12, (∀ j, j < 10 → b11 j = a6 (l * 15 + j)) → post (rd, 1, sk, fl, df, 0, lx, 0, ly, s', a1, a2, a3, a4, a5, a6, a7, a8, a9, b10, b11, b12)) :
    wpX_noteEnd post (rd, 0, sk, fl, df, 0, lx, 0, ly, sn, a1, a2, a3, a4, a5, a6, a7, a8, a9, a10, a11, a12) (nI l) := by
  have w : vp_in (nI (l * 15) + 0) 180 := by
    rw [Int32.add_zero]
    exact vp_in_nI (by omega) (by decide)
  have k : ∀ s, ∃ n, wX_noteEnd_48 post (nI (l * 15)) rd 0 sk fl 0 lx 0 ly s n 0 df a1 a2 a3 a4 a5 a6 a7 a8 a9 a10 a11 a12 :=
    fun s => ie_ne48 hl (fun b10 => ie_ne107 hl (fun b11 b12 hb => H s b10 b11 b12 hb))
  unfold wpX_noteEnd
  exact nm_r (pk_mul l 15) ⟨w, br_c (fun _ => ⟨w, br_c (fun _ => k 1) (fun _ => k sn)⟩) (fun _ => k sn)⟩
/-- open, where all have finished -/
theorem ie_op_fin {post : St2 → Prop} {l : Nat} (hl : l < 11) (h : ∀ k, k < 3 → ¬ a6 (l * 15 + 10 + k) < a1 k)
    (H : ∀ s' b10 b11 b12, (∀ j, j < 10 → b11 j = a6 (l * 15 + j)) → post (rd, 1, sk, fl, df, 0, lx, 0, ly, s', a1, a2, a3, a4, a5, a6, a7, upd a8 l 0, upd a9 l 0, b10, b11, b12)) :
    wpX_open post (rd, 0, sk, fl, df, 0, lx, 0, ly, sn, a1, a2, a3, a4, a5, a6, a7, a8, a9, a10, a11, a12) (nI l) := by
  have c : (nI l).toNatClampNeg = l := nI_clamp (by omega)
  have v : vp_in (nI l) 12 := vp_in_nI (by omega) (by decide)
  unfold wpX_open
  dsimp only
  rw [c]
  exact ie_ab_fin hl h ⟨v, nm_e ⟨v, v, nm_r (congrArg (upd a8 l) Int32.zero_and) (br_t rfl (ie_af_fin hl h (br_f (by decide) (ie_ne hl (fun s' b10 b11 b12 hb => H s' b10 b11 b12 hb)))))⟩⟩
/-- open, where one thread stands before its only instruction -/
theorem ie_op_one {post : St2 → Prop} {l t : Nat} (hl : l < 11) (ht : t < 3) (h0 : a6 (l * 15 + 10 + t) = 0) (h1 : a1 t = 1)
    (h : ∀ k, k < 3 → k ≠ t → ¬ a6 (l * 15 + 10 + k) < a1 k) (h7 : a7 l = 0)
    (H0 : post (rd, cp, 1, fl, df, lv, lx, lw, ly, sn, a1, a2, a3, a4, a5, a6, a7, upd a8 l 0, upd a9 l 0, a10, a11, a12)) (H1 : post (rd, cp, sk, fl, df, lv, lx, lw, ly, sn, a1, a2, a3, a4, a5, a6, a7, upd a8 l (nI (2 ^ t)), upd a9 l 0, a10, a11, a12)) :
    wpX_open post (rd, cp, sk, fl, df, lv, lx, lw, ly, sn, a1, a2, a3, a4, a5, a6, a7, a8, a9, a10, a11, a12) (nI l) := by
  have c : (nI l).toNatClampNeg = l := nI_clamp (by omega)
  have v : vp_in (nI l) 12 := vp_in_nI (by omega) (by decide)
  unfold wpX_open
  dsimp only
  rw [c, h7]
  exact ie_ab_one hl ht h0 h1 h ⟨v, nm_e ⟨v, v, nm_r (congrArg (upd a8 l) Int32.zero_and) (br_t rfl (ie_af_one hl ht h0 h1 h (br_t rfl H0)))⟩⟩
    ⟨v, nm_e ⟨v, v, nm_r (congrArg (upd a8 l) (ie_msk t ht)) (br_f (ie_pw0 t ht) H1)⟩⟩
end
end
section
/-- what an instruction leaves of a level's cells: its thread's place goes on, the other places stand, every register is good -/
def ie_P (Q : Int32 → Prop) (t : Nat) (a b : Nat → Int32) : Prop :=
  b (25 + t) = a (25 + t) + 1 ∧ (∀ i, i < 3 → i ≠ t → b (25 + i) = a (25 + i)) ∧ (∀ k, 4 ≤ k → k < 10 → Q (b (15 + k)))
theorem ie_P0 {Q : Int32 → Prop} {t : Nat} {a : Nat → Int32} (hQ : ∀ k, 4 ≤ k → k < 10 → Q (a (15 + k))) :
    ie_P Q t a (upd a (25 + t) (a (25 + t) + 1)) :=
  ⟨pk_us, fun i _ hn => pk_un (by omega), fun k h4 hk => by rw [pk_un (by omega)]; exact hQ k h4 hk⟩
theorem ie_PU {Q : Int32 → Prop} {t m : Nat} {a b : Nat → Int32} {x : Int32} (ht : t < 3) (h : ie_P Q t a b) (hm : m < 25 ∨ 28 ≤ m) (hx : 19 ≤ m → m < 25 → Q x) :
    ie_P Q t a (upd b m x) := by
  obtain ⟨h1, h2, h3⟩ := h
  refine ⟨by rw [pk_un (by omega)]; exact h1, fun i hi hn => by rw [pk_un (by omega)]; exact h2 i hi hn, fun k h4 hk => ?_⟩
  by_cases e : 15 + k = m
  · rw [e, pk_us]
    exact hx (by omega) (by omega)
  · rw [pk_un e]
    exact h3 k h4 hk
section
variable {rd cp sk fl df lv lx lw ly sn : Int32} {a1 a2 a3 a4 a5 a6 a7 a8 a9 a10 a11 a12 : Nat → Int32}
theorem ie_sw {post : St2 → Prop} {r v : Nat} (hr : r < 180) (hv : v < 180) (H : post (rd, cp, sk, fl, df, lv, lx, lw, ly, sn, a1, a2, a3, a4, a5, upd (upd a6 r (a6 v)) v (a6 r), a7, a8, a9, a10, a11, a12)) :
    wpX_swap post (rd, cp, sk, fl, df, lv, lx, lw, ly, sn, a1, a2, a3, a4, a5, a6, a7, a8, a9, a10, a11, a12) (nI r) (nI v) := by
  have cr : (nI r).toNatClampNeg = r := nI_clamp (by omega)
  have cv : (nI v).toNatClampNeg = v := nI_clamp (by omega)
  have vr : vp_in (nI r) 180 := vp_in_nI hr (by decide)
  have vv : vp_in (nI v) 180 := vp_in_nI hv (by decide)
  unfold wpX_swap
  dsimp only
  rw [cr, cv]
  exact ⟨vr, nm_e ⟨vv, vr, nm_e ⟨vv, nm_e H⟩⟩⟩
/-- perform, at level 1: either answer -/
theorem ie_pf {post : Int32 → St2 → Prop} {Q : Int32 → Prop} {t : Nat} (ht : t < 3) (hQ : ∀ k, k < 10 → Q (a6 (15 + k)))
    (hB : ∀ k, 4 ≤ k → k < 10 → Q (a6 (15 + k) + a4 (t * 5)))
    (H : ∀ r b, ie_P Q t a6 b → post r (rd, cp, sk, fl, df, lv, lx, lw, ly, sn, a1, a2, a3, a4, a5, b, a7, a8, a9, a10, a11, a12)) :
    wpX_perform post (rd, cp, sk, fl, df, lv, lx, lw, ly, sn, a1, a2, a3, a4, a5, a6, a7, a8, a9, a10, a11, a12) (nI 1) (nI t) (nI (t * 5)) := by
  obtain ⟨j, hj, ej⟩ := pk_andE (a3 (t * 5)) (m := 1) 1 (by decide)
  obtain ⟨v, hv, ev⟩ := pk_andE (a4 (t * 5)) (m := 3) 2 (by decide)
  have q : vp_in (nI (t * 5)) 15 := vp_in_nI (by omega) (by decide)
  have eP : nI 15 + 10 + nI t = nI (25 + t) := by
    show nI 15 + nI 10 + nI t = _
    rw [nI_add, nI_add]
  have eR : nI 15 + 4 + nI t * 2 + nI j = nI (19 + t * 2 + j) := by
    show nI 15 + nI 4 + nI t * nI 2 + nI j = _
    rw [pk_mul, nI_add, nI_add, nI_add]
  have eV : nI 15 + nI v = nI (15 + v) := nI_add _ _
  have eM : nI 15 + 13 + nI j = nI (28 + j) := by
    show nI 15 + nI 13 + nI j = _
    rw [nI_add, nI_add]
  have vP : vp_in (nI (25 + t)) 180 := vp_in_nI (by omega) (by decide)
  have vR : vp_in (nI (19 + t * 2 + j)) 180 := vp_in_nI (by omega) (by decide)
  have vV : vp_in (nI (15 + v)) 180 := vp_in_nI (by omega) (by decide)
  have vM : vp_in (nI (28 + j)) 180 := vp_in_nI (by omega) (by decide)
  have P0 : ie_P Q t a6 (upd a6 (25 + t) (a6 (25 + t) + 1)) := ie_P0 (fun k _ hk => hQ k hk)
  have uV : (upd a6 (25 + t) (a6 (25 + t) + 1)) (15 + v) = a6 (15 + v) := pk_un (by omega)
  have uR : (upd a6 (25 + t) (a6 (25 + t) + 1)) (19 + t * 2 + j) = a6 (19 + t * 2 + j) := pk_un (by omega)
  have qV : Q (a6 (15 + v)) := hQ v (by omega)
  have qB : Q (a6 (19 + t * 2 + j) + a4 (t * 5)) := by
    have z := hB (4 + t * 2 + j) (by omega) (by omega)
    rw [show 15 + (4 + t * 2 + j) = 19 + t * 2 + j by omega] at z
    exact z
  unfold wpX_perform
  dsimp only
  rw [nI_clamp (show t * 5 < 2 ^ 31 by omega), ej, ev]
  refine nm_r (show nI 1 * 15 = nI 15 from rfl) ⟨q, nm_r eR ⟨q, nm_r eV ⟨q, nm_r eM ?_⟩⟩⟩
  rw [eP, nI_clamp (show 25 + t < 2 ^ 31 by omega), nI_clamp (show 19 + t * 2 + j < 2 ^ 31 by omega), nI_clamp (show 15 + v < 2 ^ 31 by omega), nI_clamp (show 28 + j < 2 ^ 31 by omega)]
  refine ⟨vP, vP, nm_e ⟨q, nm_e ?_⟩⟩
  refine br_c (fun _ => H 1 _ P0) (fun _ => br_c (fun _ => H 1 _ P0) (fun _ => ?_))
  refine br_c (fun _ => ⟨vV, vR, nm_e (H 1 _ (ie_PU ht P0 (by omega) (fun _ _ => by rw [uV]; exact qV)))⟩) (fun _ => ?_)
  refine br_c (fun _ => ⟨vR, vV, nm_e (H 1 _ (ie_PU ht P0 (by omega) (fun z _ => absurd z (by omega))))⟩) (fun _ => ?_)
  refine br_c (fun _ => ⟨vR, q, vR, nm_e (H 1 _ (ie_PU ht P0 (by omega) (fun _ _ => by rw [uR]; exact qB)))⟩) (fun _ => ?_)
  refine br_c (fun _ => ⟨q, vV, nm_e (H 1 _ (ie_PU ht P0 (by omega) (fun z _ => absurd z (by omega))))⟩) (fun _ => ?_)
  refine br_c (fun _ => ⟨vM, nm_e (H 1 _ (ie_PU ht P0 (by omega) (fun _ z => absurd z (by omega))))⟩) (fun _ => ?_)
  refine br_c (fun _ => ⟨vM, br_c (fun _ => ⟨vM, nm_e (H 1 _ (ie_PU ht P0 (by omega) (fun _ z => absurd z (by omega))))⟩) (fun _ => H 1 _ P0)⟩) (fun _ => ?_)
  refine br_c (fun _ => ⟨vR, q, br_c (fun _ => H 1 _ P0) (fun _ => H 0 _ P0)⟩) (fun _ => ?_)
  refine br_c (fun _ => ?_) (fun _ => trivial)
  refine ie_sw (by omega) (by omega) (H 1 _ (ie_PU ht (ie_PU ht P0 (by omega) (fun _ _ => ?_)) (by omega) (fun z _ => absurd z (by omega))))
  rw [uV]
  exact qV
end
end
section
section
variable {rd cp sk fl df lv lx lw ly sn : Int32} {a1 a2 a3 a4 a5 a6 a7 a8 a9 a10 a11 a12 : Nat → Int32}
/-- descend behind its first stores: the level is copied, the instruction carried out, the new level opened -/
theorem ie_d53 {post : Int32 → St2 → Prop} {Q : Int32 → Prop} {t : Nat} (ht : t < 3) (h0 : a6 (10 + t) = 0) (h1 : a1 t = 1)
    (h : ∀ k, k < 3 → k ≠ t → ¬ a6 (10 + k) < a1 k) (hQ : ∀ k, k < 10 → Q (a6 k)) (hB : ∀ k, 4 ≤ k → k < 10 → Q (a6 k + a4 (t * 5)))
    (H0 : ∀ fl' b6, post 0 (rd, 0, sk, fl', df, 0, lx, 0, ly, sn, a1, a2, a3, a4, a5, b6, a7, a8, a9, a10, a11, a12))
    (H1 : ∀ s' b6 b10 b11 b12, (∀ k, 4 ≤ k → k < 10 → Q (b11 k)) → post (nI 1) (rd, 1, sk, fl, df, 0, lx, 0, ly, s', a1, a2, a3, a4, a5, b6, a7, upd a8 1 0, upd a9 1 0, b10, b11, b12)) :
    ∃ n, wX_descend_53 post 0 (nI t) (nI 1) (nI (t * 5)) rd 0 sk fl df 0 lx 0 ly sn n 0 a1 a2 a3 a4 a5 a6 a7 a8 a9 a10 a11 a12 := by
  refine pk_loop (fun n i s => wX_descend_53 post 0 (nI t) (nI 1) (nI (t * 5)) rd 0 sk fl df 0 lx 0 ly sn n (nI i) a1 a2 a3 a4 a5 s a7 a8 a9 a10 a11 a12)
    (fun i s => (∀ j, j < 15 → s j = a6 j) ∧ (∀ j, j < i → s (15 + j) = a6 j)) 15 0 a6 (by omega) ⟨fun _ _ => rfl, fun j hj => absurd hj (by omega)⟩
    (fun n s hs => pk_le 15 15 (fun _ => ?_) (fun z => absurd z (by omega)))
    (fun n i s hi hs hw => pk_le 15 i (fun z => absurd z (by omega)) (fun _ => ?_))
  · refine ie_pf (Q := Q) ht (fun k hk => by rw [hs.2 k (by omega)]; exact hQ k hk) (fun k h4 hk => by rw [hs.2 k (by omega)]; exact hB k h4 hk) (fun r b hb => ?_)
    obtain ⟨p1, p2, p3⟩ := hb
    refine br_c (fun _ => nm_e (H0 _ b)) (fun _ => ie_op_fin (l := 1) (by omega) (fun k hk => ?_) (fun s' b10 b11 b12 h11 => H1 s' b b10 b11 b12 (fun k h4 hk => ?_)))
    · show ¬ b (25 + k) < a1 k
      by_cases e : k = t
      · rw [e, p1, h1, show 25 + t = 15 + (10 + t) by omega, hs.2 (10 + t) (by omega), h0]
        decide
      · rw [p2 k hk e, show 25 + k = 15 + (10 + k) by omega, hs.2 (10 + k) (by omega)]
        exact h k hk e
    · rw [h11 k hk]
      exact p3 k h4 hk
  · have e0 : (0 : Int32) * 15 + nI i = nI i := by
      show nI 0 * nI 15 + nI i = nI i
      rw [pk_mul, nI_add, Nat.zero_mul, Nat.zero_add]
    have e1 : nI 1 * 15 + nI i = nI (15 + i) := by
      show nI 1 * nI 15 + nI i = nI (15 + i)
      rw [pk_mul, nI_add]
    have u : upd s (nI 1 * 15 + nI i).toNatClampNeg (s ((0 : Int32) * 15 + nI i).toNatClampNeg) = upd s (15 + i) (s i) := by
      rw [e0, e1, nI_clamp (by omega), nI_clamp (by omega)]
    refine ⟨by rw [e0]; exact vp_in_nI (by omega) (by decide), by rw [e1]; exact vp_in_nI (by omega) (by decide), nm_r u (nm_r (nI_1 i) (hw _ ⟨fun j hj => ?_, fun j hj => ?_⟩))⟩
    · rw [pk_un (by omega)]
      exact hs.1 j hj
    · by_cases e : j = i
      · rw [e, pk_us]
        exact hs.1 i (by omega)
      · rw [pk_un (by omega)]
        exact hs.2 j (by omega)
/-- descend from level 0 -/
theorem ie_de {post : Int32 → St2 → Prop} {Q : Int32 → Prop} {t : Nat} (ht : t < 3) (h0 : a6 (10 + t) = 0) (h1 : a1 t = 1)
    (h : ∀ k, k < 3 → k ≠ t → ¬ a6 (10 + k) < a1 k) (h8 : a8 0 = nI (2 ^ t)) (hQ : ∀ k, k < 10 → Q (a6 k)) (hB : ∀ k, 4 ≤ k → k < 10 → Q (a6 k + a4 (t * 5)))
    (H0 : ∀ fl' b6 b7 b8 b9, b8 0 = 0 → post 0 (rd, 0, sk, fl', df, 0, lx, 0, ly, sn, a1, a2, a3, a4, a5, b6, b7, b8, b9, a10, a11, a12))
    (H1 : ∀ s' b6 b7 b8 b9 b10 b11 b12, b8 0 = 0 → b8 1 = 0 → (∀ k, 4 ≤ k → k < 10 → Q (b11 k)) → post (nI 1) (rd, 1, sk, fl, df, 0, lx, 0, ly, s', a1, a2, a3, a4, a5, b6, b7, b8, b9, b10, b11, b12)) :
    wpX_descend post (rd, 0, sk, fl, df, 0, lx, 0, ly, sn, a1, a2, a3, a4, a5, a6, a7, a8, a9, a10, a11, a12) 0 (nI t) := by
  have g0 : a6 (0 * 15 + 10 + t) = 0 := by
    rw [show 0 * 15 + 10 + t = 10 + t by omega]
    exact h0
  have g : ∀ k, k < 3 → k ≠ t → ¬ a6 (0 * 15 + 10 + k) < a1 k := fun k hk hn => by
    rw [show 0 * 15 + 10 + k = 10 + k by omega]
    exact h k hk hn
  have v0 : vp_in (0 : Int32) 12 := pk_in 0 12 (by omega)
  have v1 : vp_in (nI 1) 12 := pk_in 1 12 (by omega)
  have u8 : upd a8 0 (nI (2 ^ t) &&& (((1 : Int32) <<< (nI t &&& 31)) ^^^ (-1))) = upd a8 0 0 := congrArg (upd a8 0) (ie_off t ht)
  unfold wpX_descend
  dsimp only
  rw [sb_cl0, h8]
  refine nm_r (show (0 : Int32) + 1 = nI 1 from rfl) (ie_sl (l := 0) (by omega) ht g0 h1 g ⟨v1, nm_e ⟨v0, v0, nm_e ⟨v0, v0, nm_r u8 (ie_nx_at (l := 0) (by omega) ht g0 h1 (ie_d53 (Q := Q) ht h0 h1 h hQ hB (fun fl' b6 => ?_) (fun s' b6 b10 b11 b12 hb => ?_)))⟩⟩⟩)
  · exact H0 _ _ _ _ _ pk_us
  · exact H1 _ _ _ _ _ _ _ _ (by rw [pk_un (by decide)]; exact pk_us) pk_us hb
/-- the search's loop, where nothing is left to try -/
theorem ie_se_neg {post : St2 → Prop} {n : Nat} {x2 : Int32} (H : post (rd, cp, sk, fl, df, lv, lx, lw, ly, sn, a1, a2, a3, a4, a5, a6, a7, a8, a9, a10, a11, a12)) : wX_search_51 post (n + 1) (-1) x2 rd cp sk fl df lv lx lw ly sn a1 a2 a3 a4 a5 a6 a7 a8 a9 a10 a11 a12 :=
  br_c (fun _ => H) (fun _ => br_t (by decide) H)
theorem ie_se_0 {post : St2 → Prop} {n : Nat} {x2 : Int32} (h8 : a8 0 = 0) (H : post (rd, cp, sk, fl, df, lv, lx, lw, ly, sn, a1, a2, a3, a4, a5, a6, a7, a8, a9, a10, a11, a12)) : wX_search_51 post (n + 2) 0 x2 rd cp sk fl df lv lx lw ly sn a1 a2 a3 a4 a5 a6 a7 a8 a9 a10 a11 a12 :=
  br_c (fun _ => H) (fun _ => br_f (by decide) ⟨pk_in 0 12 (by omega), nm_r (e' := 0) (by rw [sb_cl0]; exact h8) (ie_lo_any (fun r => br_t rfl (nm_r (e' := -1) (by decide) (nm_e (ie_se_neg H)))))⟩)
theorem ie_se_1 {post : St2 → Prop} {n : Nat} {x2 : Int32} (h8 : a8 0 = 0) (h9 : a8 1 = 0) (H : post (rd, cp, sk, fl, df, lv, lx, lw, ly, sn, a1, a2, a3, a4, a5, a6, a7, a8, a9, a10, a11, a12)) : wX_search_51 post (n + 3) (nI 1) x2 rd cp sk fl df lv lx lw ly sn a1 a2 a3 a4 a5 a6 a7 a8 a9 a10 a11 a12 :=
  br_c (fun _ => H) (fun _ => br_f (by decide) ⟨pk_in 1 12 (by omega), nm_r (e' := 0) (by rw [nI_clamp (by decide)]; exact h9) (ie_lo_any (fun r => br_t rfl (nm_r (e' := 0) (by decide) (nm_e (ie_se_0 h8 H)))))⟩)
theorem ie_se_go {post : St2 → Prop} {Q : Int32 → Prop} {t : Nat} (ht : t < 3) (h0 : a6 (10 + t) = 0) (h1 : a1 t = 1)
    (h : ∀ k, k < 3 → k ≠ t → ¬ a6 (10 + k) < a1 k) (h8 : a8 0 = nI (2 ^ t)) (hQ : ∀ k, k < 10 → Q (a6 k)) (hB : ∀ k, 4 ≤ k → k < 10 → Q (a6 k + a4 (t * 5)))
    (H0 : ∀ fl' b6 b7 b8 b9, post (rd, 0, sk, fl', df, 0, lx, 0, ly, sn, a1, a2, a3, a4, a5, b6, b7, b8, b9, a10, a11, a12))
    (H1 : ∀ s' b6 b7 b8 b9 b10 b11 b12, (∀ k, 4 ≤ k → k < 10 → Q (b11 k)) → post (rd, 1, sk, fl, df, 0, lx, 0, ly, s', a1, a2, a3, a4, a5, b6, b7, b8, b9, b10, b11, b12)) :
    wX_search_51 post 5 0 0 rd 0 sk fl df 0 lx 0 ly sn a1 a2 a3 a4 a5 a6 a7 a8 a9 a10 a11 a12 :=
  br_f (by decide) (br_f (by decide) ⟨pk_in 0 12 (by omega), nm_r (e' := nI (2 ^ t)) (by rw [sb_cl0]; exact h8) (ie_lo ht (br_f (ie_pw0 t ht)
    (ie_de (Q := Q) ht h0 h1 h h8 hQ hB (fun fl' b6 b7 b8 b9 hb => nm_e (ie_se_0 (n := 2) hb (H0 fl' b6 b7 b8 b9)))
      (fun s' b6 b7 b8 b9 b10 b11 b12 hb hc hd => nm_e (ie_se_1 (n := 1) hb hc (H1 s' b6 b7 b8 b9 b10 b11 b12 hd))))))⟩)
/-- the search's first loop: level 0 is the start -/
theorem ie_fill {post : St2 → Prop}
    (H : ∀ b6, (∀ j, j < 15 → b6 j = if j < 4 then a5 j else 0) → ∃ n, wX_search_2 post rd cp sk fl df lv lx lw ly sn (n + 1) (nI 15) a1 a2 a3 a4 a5 b6 a7 a8 a9 a10 a11 a12) : wpX_search post (rd, cp, sk, fl, df, lv, lx, lw, ly, sn, a1, a2, a3, a4, a5, a6, a7, a8, a9, a10, a11, a12) := by
  have L : ∀ k i s, i + k = 15 → (∀ j, j < i → s j = if j < 4 then a5 j else 0) → ∃ n, wX_search_2 post rd cp sk fl df lv lx lw ly sn n (nI i) a1 a2 a3 a4 a5 s a7 a8 a9 a10 a11 a12 := by
    intro k
    induction k with
    | zero =>
      intro i s hi hs
      obtain ⟨n, hn⟩ := H s (fun j hj => hs j (by omega))
      refine ⟨n + 1, ?_⟩
      rw [show i = 15 by omega]
      exact hn
    | succ k ih =>
      intro i s hi hs
      have c : (nI i).toNatClampNeg = i := nI_clamp (by omega)
      by_cases e : i < 4
      · obtain ⟨n, hn⟩ := ih (i + 1) (upd s i (a5 i)) (by omega) (fun j hj => by
          by_cases f : j = i
          · rw [f, pk_us, if_pos e]
          · rw [pk_un f]
            exact hs j (by omega))
        exact ⟨n + 1, pk_le 15 i (fun z => absurd z (by omega)) (fun _ => pk_le 4 i (fun z => absurd z (by omega)) (fun _ => ⟨pk_in i 4 e, pk_in i 180 (by omega), nm_r (by rw [c]) (nm_r (nI_1 i) hn)⟩))⟩
      · obtain ⟨n, hn⟩ := ih (i + 1) (upd s i 0) (by omega) (fun j hj => by
          by_cases f : j = i
          · rw [f, pk_us, if_neg e]
          · rw [pk_un f]
            exact hs j (by omega))
        exact ⟨n + 1, pk_le 15 i (fun z => absurd z (by omega)) (fun _ => pk_le 4 i (fun _ => ⟨pk_in i 180 (by omega), nm_r (by rw [c]) (nm_r (nI_1 i) hn)⟩) (fun z => absurd z (by omega)))⟩
  exact L 15 0 a6 (by omega) (fun j hj => absurd hj (by omega))
/-- search: no instruction anywhere -/
theorem ie_sr_fin {post : St2 → Prop} (h : ∀ k, k < 3 → a1 k = 0)
    (H : ∀ s' b6 b7 b8 b9 b10 b11 b12, (∀ j, j < 10 → b11 j = if j < 4 then a5 j else 0) → post (rd, 1, sk, fl, df, 0, lx, 0, ly, s', a1, a2, a3, a4, a5, b6, b7, b8, b9, b10, b11, b12)) :
    wpX_search post (rd, 0, sk, fl, df, 0, lx, 0, ly, sn, a1, a2, a3, a4, a5, a6, a7, a8, a9, a10, a11, a12) := by
  refine ie_fill (fun b6 hb => ⟨0, pk_le 15 15 (fun _ => nm_e (ie_op_fin (l := 0) (by omega) (fun k hk => ?_) (fun s' b10 b11 b12 h11 => ⟨2, ie_se_0 (n := 0) pk_us (H _ _ _ _ _ _ _ _ (fun j hj => ?_))⟩))) (fun z => absurd z (by omega))⟩)
  · rw [h k hk, hb _ (by omega), if_neg (by omega)]
    decide
  · rw [h11 j hj, Nat.zero_mul, Nat.zero_add]
    exact hb j (by omega)
/-- search: one instruction -/
theorem ie_sr_one {post : St2 → Prop} {Q : Int32 → Prop} {t : Nat} (ht : t < 3) (h1 : a1 t = 1) (h : ∀ k, k < 3 → k ≠ t → a1 k = 0)
    (q0 : Q 0) (q5 : ∀ j, j < 4 → Q (a5 j)) (qb : Q (a4 (t * 5)))
    (H0 : ∀ sk' fl' b6 b7 b8 b9, post (rd, 0, sk', fl', df, 0, lx, 0, ly, sn, a1, a2, a3, a4, a5, b6, b7, b8, b9, a10, a11, a12))
    (H1 : ∀ s' b6 b7 b8 b9 b10 b11 b12, (∀ k, 4 ≤ k → k < 10 → Q (b11 k)) → post (rd, 1, sk, fl, df, 0, lx, 0, ly, s', a1, a2, a3, a4, a5, b6, b7, b8, b9, b10, b11, b12)) :
    wpX_search post (rd, 0, sk, fl, df, 0, lx, 0, ly, sn, a1, a2, a3, a4, a5, a6, a7, a8, a9, a10, a11, a12) := by
  refine ie_fill (fun b6 hb => ⟨0, pk_le 15 15 (fun _ => nm_e ?_) (fun z => absurd z (by omega))⟩)
  have p0 : ∀ k, k < 3 → b6 (10 + k) = 0 := fun k hk => by rw [hb _ (by omega), if_neg (by omega)]
  have n0 : ∀ k, k < 3 → k ≠ t → ¬ b6 (10 + k) < a1 k := fun k hk hn => by
    rw [p0 k hk, h k hk hn]
    decide
  refine ie_op_one (l := 0) (by omega) ht (by rw [Nat.zero_mul, Nat.zero_add]; exact p0 t ht) h1 (fun k hk hn => by rw [Nat.zero_mul, Nat.zero_add]; exact n0 k hk hn) pk_us
    ⟨2, ie_se_0 (n := 0) pk_us (H0 _ _ _ _ _ _)⟩ ⟨5, ie_se_go (Q := Q) ht (p0 t ht) h1 n0 pk_us (fun k hk => ?_) (fun k h4 hk => ?_) (fun fl' b6 b7 b8 b9 => H0 _ _ _ _ _ _) (fun s' b6 b7 b8 b9 b10 b11 b12 hd => H1 _ _ _ _ _ _ _ _ hd)⟩
  · rw [hb k (by omega)]
    by_cases e : k < 4
    · rw [if_pos e]
      exact q5 k e
    · rw [if_neg e]
      exact q0
  · rw [hb k (by omega), if_neg (by omega), Int32.zero_add]
    exact qb
/-- prepare -/
theorem ie_pr_fin {post : St2 → Prop} (h : ∀ k, k < 3 → a1 k = 0)
    (H : ∀ s' b6 b7 b8 b9 b10 b11 b12, (∀ j, j < 10 → b11 j = if j < 4 then a5 j else 0) → post (1, 1, 0, 0, 0, 0, 0, 0, 0, s', a1, a2, a3, a4, a5, b6, b7, b8, b9, b10, b11, b12)) :
    wpX_prepare post (0, cp, sk, fl, df, lv, lx, lw, ly, sn, a1, a2, a3, a4, a5, a6, a7, a8, a9, a10, a11, a12) := by
  refine br_t rfl ?_
  unfold wpX_explore
  exact ie_sr_fin h (fun s' b6 b7 b8 b9 b10 b11 b12 hb => H s' b6 b7 b8 b9 b10 b11 b12 hb)
theorem ie_pr_one {post : St2 → Prop} {Q : Int32 → Prop} {t : Nat} (ht : t < 3) (h1 : a1 t = 1) (h : ∀ k, k < 3 → k ≠ t → a1 k = 0)
    (q0 : Q 0) (q5 : ∀ j, j < 4 → Q (a5 j)) (qb : Q (a4 (t * 5)))
    (H : ∀ cp' sk' fl' s' b6 b7 b8 b9 b10 b11 b12, (¬ cp' = 0 → ∀ k, 4 ≤ k → k < 10 → Q (b11 k)) → post (1, cp', sk', fl', 0, 0, 0, 0, 0, s', a1, a2, a3, a4, a5, b6, b7, b8, b9, b10, b11, b12)) :
    wpX_prepare post (0, cp, sk, fl, df, lv, lx, lw, ly, sn, a1, a2, a3, a4, a5, a6, a7, a8, a9, a10, a11, a12) := by
  refine br_t rfl ?_
  unfold wpX_explore
  exact ie_sr_one (Q := Q) ht h1 h q0 q5 qb (fun sk' fl' b6 b7 b8 b9 => H _ _ _ _ _ _ _ _ _ _ _ (fun z => absurd rfl z)) (fun s' b6 b7 b8 b9 b10 b11 b12 hb => H _ _ _ _ _ _ _ _ _ _ _ (fun _ => hb))
end
end
section
section
variable {rd cp sk fl df lv lx lw ly sn : Int32} {a1 a2 a3 a4 a5 a6 a7 a8 a9 a10 a11 a12 : Nat → Int32}
theorem ie_bt_bad {post : Int32 → Prop} {x : Int32} (hx : x < 0 ∨ ¬ x < 0 ∧ ¬ x < 3) (H : post 1) : wpX_badThread post () x := by
  rcases hx with h | ⟨h, g⟩
  · exact br_t h H
  · exact br_f h (br_f g H)
theorem ie_bt_ok {post : Int32 → Prop} {t : Nat} (ht : t < 3) (H : post 0) : wpX_badThread post () (nI t) :=
  br_f (nI_pos (by omega)) (br_t (show nI t < nI 3 from nI_lt ht (by decide)) H)
theorem ie_bv_bad {post : Int32 → Prop} {x : Int32} (hx : x < 0 ∨ ¬ x < 0 ∧ ¬ x ≤ 3) (H : post 1) : wpX_badVariable post () x := by
  rcases hx with h | ⟨h, g⟩
  · exact br_t h H
  · exact br_f h (br_f g H)
theorem ie_bv_ok {post : Int32 → Prop} {v : Nat} (hv : v < 4) (H : post 0) : wpX_badVariable post () (nI v) :=
  br_f (nI_pos (by omega)) (br_t (show nI v ≤ nI 3 from nI_le (by omega) (by decide)) H)
theorem ie_settled {post : Int32 → St2 → Prop} (h : ∀ k, k < 3 → a1 k = 0)
    (H : ∀ s' b6 b7 b8 b9 b10 b11 b12, (∀ j, j < 10 → b11 j = if j < 4 then a5 j else 0) → post 1 (1, 1, 0, 0, 0, 0, 0, 0, 0, s', a1, a2, a3, a4, a5, b6, b7, b8, b9, b10, b11, b12)) :
    wpX_settled post (0, cp, sk, fl, df, lv, lx, lw, ly, sn, a1, a2, a3, a4, a5, a6, a7, a8, a9, a10, a11, a12) := by
  unfold wpX_settled
  exact ie_pr_fin h (fun s' b6 b7 b8 b9 b10 b11 b12 hb => br_f (by decide) (br_t rfl (br_t rfl (br_t rfl (H s' b6 b7 b8 b9 b10 b11 b12 hb)))))
theorem ie_bg_bad {post : Int32 → St2 → Prop} {x y : Int32} (hx : x < 0 ∨ ¬ x < 0 ∧ ¬ x ≤ 3) (H : post (-4) (rd, cp, sk, fl, df, lv, lx, lw, ly, sn, a1, a2, a3, a4, a5, a6, a7, a8, a9, a10, a11, a12)) : wpX_begin post (rd, cp, sk, fl, df, lv, lx, lw, ly, sn, a1, a2, a3, a4, a5, a6, a7, a8, a9, a10, a11, a12) x y := by
  unfold wpX_begin
  rcases hx with h | ⟨h, g⟩
  · exact br_t h H
  · exact br_f h (br_f g H)
theorem ie_bg_ok {post : Int32 → St2 → Prop} {v : Nat} {y : Int32} (hv : v < 4) (H : post (a5 v) (0, cp, sk, fl, df, lv, lx, lw, ly, sn, a1, a2, a3, a4, upd a5 v y, a6, a7, a8, a9, a10, a11, a12)) : wpX_begin post (rd, cp, sk, fl, df, lv, lx, lw, ly, sn, a1, a2, a3, a4, a5, a6, a7, a8, a9, a10, a11, a12) (nI v) y := by
  have c : (nI v).toNatClampNeg = v := nI_clamp (by omega)
  have w : vp_in (nI v) 4 := vp_in_nI hv (by decide)
  unfold wpX_begin
  dsimp only
  rw [c]
  exact br_f (nI_pos (by omega)) (br_t (show nI v ≤ nI 3 from nI_le (by omega) (by decide)) ⟨w, nm_e ⟨w, nm_e H⟩⟩)
theorem ie_least_bad {post : Int32 → St2 → Prop} {x : Int32} (hx : x < 0 ∨ ¬ x < 0 ∧ ¬ x ≤ 3) (H : post (-4) (rd, cp, sk, fl, df, lv, lx, lw, ly, sn, a1, a2, a3, a4, a5, a6, a7, a8, a9, a10, a11, a12)) : wpX_least post (rd, cp, sk, fl, df, lv, lx, lw, ly, sn, a1, a2, a3, a4, a5, a6, a7, a8, a9, a10, a11, a12) x := by
  unfold wpX_least
  exact ie_bv_bad hx (br_f (by decide) H)
theorem ie_least_ok {post : Int32 → St2 → Prop} {v : Nat} (hv : v < 4) (h : ∀ k, k < 3 → a1 k = 0)
    (H : ∀ s' b6 b7 b8 b9 b10 b11 b12, (∀ j, j < 10 → b11 j = if j < 4 then a5 j else 0) → post (a5 v) (1, 1, 0, 0, 0, 0, 0, 0, 0, s', a1, a2, a3, a4, a5, b6, b7, b8, b9, b10, b11, b12)) :
    wpX_least post (0, cp, sk, fl, df, lv, lx, lw, ly, sn, a1, a2, a3, a4, a5, a6, a7, a8, a9, a10, a11, a12) (nI v) := by
  have c : (nI v).toNatClampNeg = v := nI_clamp (by omega)
  unfold wpX_least
  dsimp only
  rw [c]
  refine ie_bv_ok hv (br_t rfl (ie_pr_fin h (fun s' b6 b7 b8 b9 b10 b11 b12 hb => br_f (show ¬ (1 : Int32) = 0 by decide) ⟨pk_in v 10 (by omega), ?_⟩)))
  have e : b11 v = a5 v := by rw [hb v (by omega), if_pos hv]
  show post (b11 v) (1, 1, 0, 0, 0, 0, 0, 0, 0, s', a1, a2, a3, a4, a5, b6, b7, b8, b9, b10, b11, b12)
  rw [e]
  exact H s' b6 b7 b8 b9 b10 b11 b12 hb
theorem ie_em_bad {post : Int32 → St2 → Prop} {x p1 p2 p3 : Int32} (hx : x < 0 ∨ ¬ x < 0 ∧ ¬ x < 3) (H : post (-1) (rd, cp, sk, fl, df, lv, lx, lw, ly, sn, a1, a2, a3, a4, a5, a6, a7, a8, a9, a10, a11, a12)) : wpX_emit post (rd, cp, sk, fl, df, lv, lx, lw, ly, sn, a1, a2, a3, a4, a5, a6, a7, a8, a9, a10, a11, a12) x p1 p2 p3 := by
  unfold wpX_emit
  exact ie_bt_bad hx (br_f (by decide) H)
theorem ie_em_odd {post : Int32 → St2 → Prop} {t : Nat} {p1 p2 p3 : Int32} (ht : t < 3) (hp : p1 < 0 ∨ ¬ p1 < 0 ∧ ¬ p1 ≤ 8) (H : post (-2) (rd, cp, sk, fl, df, lv, lx, lw, ly, sn, a1, a2, a3, a4, a5, a6, a7, a8, a9, a10, a11, a12)) :
    wpX_emit post (rd, cp, sk, fl, df, lv, lx, lw, ly, sn, a1, a2, a3, a4, a5, a6, a7, a8, a9, a10, a11, a12) (nI t) p1 p2 p3 := by
  unfold wpX_emit
  refine ie_bt_ok ht (br_t rfl ?_)
  rcases hp with h | ⟨h, g⟩
  · exact br_t h H
  · exact br_f h (br_f g H)
theorem ie_em_ok {post : Int32 → St2 → Prop} {t : Nat} {p1 p2 p3 : Int32} (ht : t < 3) (h : ∀ k, k < 3 → a1 k = 0) (g0 : ¬ p1 < 0) (g8 : p1 ≤ 8)
    (H : ∀ b2 b3, post 1 (0, cp, sk, fl, df, lv, lx, lw, ly, sn, upd a1 t 1, b2, b3, upd a4 (t * 5) p3, a5, a6, a7, a8, a9, a10, a11, a12)) :
    wpX_emit post (rd, cp, sk, fl, df, lv, lx, lw, ly, sn, a1, a2, a3, a4, a5, a6, a7, a8, a9, a10, a11, a12) (nI t) p1 p2 p3 := by
  have c : (nI t).toNatClampNeg = t := nI_clamp (by omega)
  have v : vp_in (nI t) 3 := vp_in_nI ht (by decide)
  have w : vp_in (nI (t * 5)) 15 := vp_in_nI (by omega) (by decide)
  have e : nI t * 5 + 0 = nI (t * 5) := by
    rw [Int32.add_zero]
    exact pk_mul t 5
  have s3 : a1 0 + a1 1 + a1 2 < 10 := by
    rw [h 0 (by omega), h 1 (by omega), h 2 (by omega)]
    decide
  have u4 : upd a4 (nI (t * 5)).toNatClampNeg p3 = upd a4 (t * 5) p3 := by rw [nI_clamp (by omega)]
  have u1 : upd a1 t (0 + 1) = upd a1 t 1 := rfl
  unfold wpX_emit
  dsimp only
  rw [c, h t ht]
  refine ie_bt_ok ht (br_t rfl (br_f g0 (br_t g8 ⟨v, br_f (by decide) (br_t s3 ⟨v, nm_r e ⟨w, nm_e ⟨w, nm_e ⟨w, nm_r u4 ⟨v, v, nm_r u1 ⟨v, ?_⟩⟩⟩⟩⟩⟩)⟩)))
  rw [pk_us]
  exact H _ _
theorem ie_lr_bad {post : Int32 → St2 → Prop} {x y : Int32} (hx : x < 0 ∨ ¬ x < 0 ∧ ¬ x < 3) (H : post (-1) (rd, cp, sk, fl, df, lv, lx, lw, ly, sn, a1, a2, a3, a4, a5, a6, a7, a8, a9, a10, a11, a12)) : wpX_leastRegister post (rd, cp, sk, fl, df, lv, lx, lw, ly, sn, a1, a2, a3, a4, a5, a6, a7, a8, a9, a10, a11, a12) x y := by
  unfold wpX_leastRegister
  exact ie_bt_bad hx (br_f (by decide) H)
theorem ie_lr_odd {post : Int32 → St2 → Prop} {Q : Int32 → Prop} {t : Nat} {y : Int32} (ht : t < 3) (hQ : ∀ k, 4 ≤ k → k < 10 → Q (a11 k))
    (H : ∀ r, Q r → post r (1, 1, sk, fl, df, lv, lx, lw, ly, sn, a1, a2, a3, a4, a5, a6, a7, a8, a9, a10, a11, a12)) : wpX_leastRegister post (1, 1, sk, fl, df, lv, lx, lw, ly, sn, a1, a2, a3, a4, a5, a6, a7, a8, a9, a10, a11, a12) (nI t) y := by
  obtain ⟨j, hj, ej⟩ := pk_andE y (m := 1) 1 (by decide)
  have e : 4 + nI t * 2 + nI j = nI (4 + t * 2 + j) := by
    show nI 4 + nI t * nI 2 + nI j = _
    rw [pk_mul, nI_add, nI_add]
  have w : vp_in (nI (4 + t * 2 + j)) 10 := vp_in_nI (by omega) (by decide)
  unfold wpX_leastRegister
  dsimp only
  rw [ej, e, nI_clamp (show 4 + t * 2 + j < 2 ^ 31 by omega)]
  exact ie_bt_ok ht (br_t rfl (br_f (by decide) (br_f (show ¬ (1 : Int32) = 0 by decide) ⟨w, H _ (hQ _ (by omega) (by omega))⟩)))
theorem ie_lr_one {post : Int32 → St2 → Prop} {Q : Int32 → Prop} {t : Nat} {y : Int32} (ht : t < 3) (h1 : a1 t = 1) (h : ∀ k, k < 3 → k ≠ t → a1 k = 0)
    (q0 : Q 0) (q5 : ∀ j, j < 4 → Q (a5 j)) (qb : Q (a4 (t * 5))) (qn : Q (-2147483647))
    (H : ∀ r cp' sk' fl' s' b6 b7 b8 b9 b10 b11 b12, Q r → post r (1, cp', sk', fl', 0, 0, 0, 0, 0, s', a1, a2, a3, a4, a5, b6, b7, b8, b9, b10, b11, b12)) :
    wpX_leastRegister post (0, cp, sk, fl, df, lv, lx, lw, ly, sn, a1, a2, a3, a4, a5, a6, a7, a8, a9, a10, a11, a12) (nI t) y := by
  obtain ⟨j, hj, ej⟩ := pk_andE y (m := 1) 1 (by decide)
  have e : 4 + nI t * 2 + nI j = nI (4 + t * 2 + j) := by
    show nI 4 + nI t * nI 2 + nI j = _
    rw [pk_mul, nI_add, nI_add]
  have w : vp_in (nI (4 + t * 2 + j)) 10 := vp_in_nI (by omega) (by decide)
  unfold wpX_leastRegister
  dsimp only
  rw [ej, e, nI_clamp (show 4 + t * 2 + j < 2 ^ 31 by omega)]
  exact ie_bt_ok ht (br_t rfl (ie_pr_one (Q := Q) ht h1 h q0 q5 qb (fun cp' sk' fl' s' b6 b7 b8 b9 b10 b11 b12 hb =>
    br_c (fun _ => H _ _ _ _ _ _ _ _ _ _ _ _ qn) (fun z => ⟨w, H _ _ _ _ _ _ _ _ _ _ _ _ (hb z _ (by omega) (by omega))⟩))))
theorem ie_dr_bad {post : Int32 → St2 → Prop} {x : Int32} (hx : x < 0 ∨ ¬ x < 0 ∧ ¬ x < 3) (H : post (-1) (rd, cp, sk, fl, df, lv, lx, lw, ly, sn, a1, a2, a3, a4, a5, a6, a7, a8, a9, a10, a11, a12)) : wpX_drop post (rd, cp, sk, fl, df, lv, lx, lw, ly, sn, a1, a2, a3, a4, a5, a6, a7, a8, a9, a10, a11, a12) x := by
  unfold wpX_drop
  exact ie_bt_bad hx (br_f (by decide) H)
theorem ie_dr_ok {post : Int32 → St2 → Prop} {t : Nat} {r : Int32} (ht : t < 3) (hr : a1 t = r) (H : ∀ rd' b1, post r (rd', cp, sk, fl, df, lv, lx, lw, ly, sn, b1, a2, a3, a4, a5, a6, a7, a8, a9, a10, a11, a12)) : wpX_drop post (rd, cp, sk, fl, df, lv, lx, lw, ly, sn, a1, a2, a3, a4, a5, a6, a7, a8, a9, a10, a11, a12) (nI t) := by
  have c : (nI t).toNatClampNeg = t := nI_clamp (by omega)
  have v : vp_in (nI t) 3 := vp_in_nI ht (by decide)
  unfold wpX_drop
  dsimp only
  rw [c, hr]
  exact ie_bt_ok ht (br_t rfl ⟨v, nm_e ⟨v, nm_e (H _ _)⟩⟩)
end
end
section
/-- good, of a register's value: it is -1 only where the law's value is -1 -/
def ie_Q (y : Int32) (r : Int32) : Prop := ¬ y = (-1) → ¬ r = (-1)
/-- what the flags bad and odd say of thread and op -/
def ie_D (x0 x1 x6 x7 : Int32) : Prop :=
  (x6 = 1 ∧ (x0 < 0 ∨ ¬ x0 < 0 ∧ ¬ x0 < 3)) ∨ (x6 = 0 ∧ ∃ t, t < 3 ∧ x0 = nI t ∧ ((x7 = 1 ∧ (x1 < 0 ∨ ¬ x1 < 0 ∧ ¬ x1 ≤ 8)) ∨ (x7 = 0 ∧ ¬ x1 < 0 ∧ x1 ≤ 8)))
section
variable {rd cp sk fl df lv lx lw ly sn : Int32} {a1 a2 a3 a4 a5 a6 a7 a8 a9 a10 a11 a12 : Nat → Int32}
variable {mc ms kc ks : Nat} {x0 x1 x2 x3 x4 x6 x7 : Int32}
theorem ie_173_bad (hx : x0 < 0 ∨ ¬ x0 < 0 ∧ ¬ x0 < 3) : wL_lawOf_173 (fun r _ => r = 1) mc ms x0 1 x7 kc ks rd cp sk fl df lv lx lw ly sn a1 a2 a3 a4 a5 a6 a7 a8 a9 a10 a11 a12 := by
  unfold wL_lawOf_173
  exact ie_dr_bad hx (br_f (by decide) (br_t rfl rfl))
theorem ie_173_odd {t : Nat} (ht : t < 3) (h : a1 t = 0) : wL_lawOf_173 (fun r _ => r = 1) mc ms (nI t) 0 1 kc ks rd cp sk fl df lv lx lw ly sn a1 a2 a3 a4 a5 a6 a7 a8 a9 a10 a11 a12 := by
  unfold wL_lawOf_173
  exact ie_dr_ok ht h (fun _ _ => br_t rfl (br_f (by decide) (br_t rfl rfl)))
theorem ie_173_ok {t : Nat} (ht : t < 3) (h : a1 t = 1) : wL_lawOf_173 (fun r _ => r = 1) mc ms (nI t) 0 0 kc ks rd cp sk fl df lv lx lw ly sn a1 a2 a3 a4 a5 a6 a7 a8 a9 a10 a11 a12 := by
  unfold wL_lawOf_173
  exact ie_dr_ok ht h (fun _ _ => br_t rfl (br_t rfl (br_t rfl rfl)))
theorem ie_125_bad (hx : x0 < 0 ∨ ¬ x0 < 0 ∧ ¬ x0 < 3) : wL_lawOf_125 (fun r _ => r = 1) mc ms x0 x1 x2 x4 1 x7 (-1) kc ks rd cp sk fl df lv lx lw ly sn a1 a2 a3 a4 a5 a6 a7 a8 a9 a10 a11 a12 := by
  unfold wL_lawOf_125
  exact ie_em_bad hx (br_t rfl (ie_lr_bad hx (br_t rfl (br_t rfl (ie_173_bad hx)))))
theorem ie_125_odd {t : Nat} (ht : t < 3) (hp : x1 < 0 ∨ ¬ x1 < 0 ∧ ¬ x1 ≤ 8) (h : ∀ k, k < 3 → a1 k = 0) (hQ : ∀ k, 4 ≤ k → k < 10 → ie_Q x4 (a11 k)) :
    wL_lawOf_125 (fun r _ => r = 1) mc ms (nI t) x1 x2 x4 0 1 (-2) kc ks 1 1 sk fl df lv lx lw ly sn a1 a2 a3 a4 a5 a6 a7 a8 a9 a10 a11 a12 := by
  unfold wL_lawOf_125
  exact ie_em_odd ht hp (br_t rfl (ie_lr_odd (Q := ie_Q x4) ht hQ (fun r hr =>
    br_c (fun e => br_f (by decide) (br_c (fun _ => ie_173_odd ht (h t ht)) (fun n => absurd e (hr n)))) (fun _ => br_t rfl (ie_173_odd ht (h t ht))))))
theorem ie_125_ok {t : Nat} (ht : t < 3) (g0 : ¬ x1 < 0) (g8 : x1 ≤ 8) (h : ∀ k, k < 3 → a1 k = 0) (hQ : ∀ j, j < 4 → ie_Q x4 (a5 j)) :
    wL_lawOf_125 (fun r _ => r = 1) mc ms (nI t) x1 x2 x4 0 0 1 kc ks rd cp sk fl df lv lx lw ly sn a1 a2 a3 a4 a5 a6 a7 a8 a9 a10 a11 a12 := by
  unfold wL_lawOf_125
  exact ie_em_ok ht h g0 g8 (fun b2 b3 => br_t rfl (ie_lr_one (Q := ie_Q x4) ht pk_us (fun k hk hn => by rw [pk_un hn]; exact h k hk)
    (fun _ => by decide) hQ (by rw [pk_us]; exact fun z => z) (fun _ => by decide) (fun r cp' sk' fl' s' b6 b7 b8 b9 b10 b11 b12 hr =>
    br_c (fun e => br_f (by decide) (br_c (fun _ => ie_173_ok ht pk_us) (fun n => absurd e (hr n)))) (fun _ => br_t rfl (ie_173_ok ht pk_us)))))
theorem ie_100 {z : Int32} (D : ie_D x0 x1 x6 x7) (h : ∀ k, k < 3 → a1 k = 0) (h5 : ∀ j, j < 4 → ie_Q x4 (a5 j)) (h11 : ∀ k, 4 ≤ k → k < 10 → ie_Q x4 (a11 k)) :
    wL_lawOf_100 (fun r _ => r = 1) mc ms x0 x1 x2 x4 x6 x7 z z kc ks 1 1 sk fl df lv lx lw ly sn a1 a2 a3 a4 a5 a6 a7 a8 a9 a10 a11 a12 := by
  rcases D with ⟨e6, hx⟩ | ⟨e6, t, ht, e0, ⟨e7, hp⟩ | ⟨e7, g0, g8⟩⟩
  · subst e6
    exact br_t rfl (br_f (by decide) (ie_125_bad hx))
  · subst e6 e0 e7
    exact br_t rfl (br_t rfl (br_f (by decide) (ie_125_odd ht hp h h11)))
  · subst e6 e0 e7
    exact br_t rfl (br_t rfl (br_t rfl (ie_125_ok ht g0 g8 h h5)))
theorem ie_40 (D : ie_D x0 x1 x6 x7) (h : ∀ k, k < 3 → a1 k = 0) (h5 : ∀ j, j < 4 → a5 j = 0) :
    wL_lawOf_40 (fun r _ => r = 1) mc ms x0 x1 x2 x3 x4 x6 x7 kc ks 0 cp sk fl df lv lx lw ly sn a1 a2 a3 a4 a5 a6 a7 a8 a9 a10 a11 a12 := by
  have q0 : ie_Q x4 0 := fun _ => by decide
  unfold wL_lawOf_40
  refine ie_settled h (fun s' b6 b7 b8 b9 b10 b11 b12 hb => br_f (by decide) ?_)
  have k5 : ∀ j, j < 4 → ie_Q x4 (a5 j) := fun j hj => by rw [h5 j hj]; exact q0
  have k11 : ∀ k, 4 ≤ k → k < 10 → ie_Q x4 (b11 k) := fun k h4 hk => by rw [hb k hk, if_neg (by omega)]; exact q0
  by_cases c0 : x3 < 0
  · exact ie_bg_bad (Or.inl c0) (br_t c0 (br_t rfl (ie_least_bad (Or.inl c0) (br_t c0 (ie_100 D h k5 k11)))))
  · by_cases c3 : x3 ≤ 3
    · obtain ⟨v, hv, e⟩ := nI_of2 (M := 3) (n := 3) (by decide) c0 c3
      subst e
      have u5 : ∀ j, j < 4 → ie_Q x4 (upd a5 v x4 j) := fun j hj => by
        by_cases f : j = v
        · rw [f, pk_us]; exact fun z => z
        · rw [pk_un f]; exact k5 j hj
      refine ie_bg_ok (by omega) (br_f c0 (br_t c3 (br_t (h5 v (by omega)) ?_)))
      refine ie_least_ok (v := v) (by omega) h (fun s2 c6 c7 c8 c9 c10 c11 c12 hc => br_f c0 (br_t c3 ?_))
      rw [pk_us]
      exact ie_100 D h u5 (fun k h4 hk => by rw [hc k hk, if_neg (by omega)]; exact q0)
    · exact ie_bg_bad (Or.inr ⟨c0, c3⟩) (br_f c0 (br_f c3 (br_t rfl (ie_least_bad (Or.inr ⟨c0, c3⟩) (br_f c0 (br_f c3 (ie_100 D h k5 k11)))))))
theorem ie_23_bad (hx : x0 < 0 ∨ ¬ x0 < 0 ∧ ¬ x0 < 3) (h : ∀ k, k < 3 → a1 k = 0) (h5 : ∀ j, j < 4 → a5 j = 0) :
    wL_lawOf_23 (fun r _ => r = 1) mc ms x0 x1 x2 x3 x4 1 kc ks 0 cp sk fl df lv lx lw ly sn a1 a2 a3 a4 a5 a6 a7 a8 a9 a10 a11 a12 :=
  br_c (fun _ => ie_40 (Or.inl ⟨rfl, hx⟩) h h5) (fun _ => br_c (fun _ => ie_40 (Or.inl ⟨rfl, hx⟩) h h5) (fun _ => ie_40 (Or.inl ⟨rfl, hx⟩) h h5))
theorem ie_23_ok {t : Nat} (ht : t < 3) (h : ∀ k, k < 3 → a1 k = 0) (h5 : ∀ j, j < 4 → a5 j = 0) :
    wL_lawOf_23 (fun r _ => r = 1) mc ms (nI t) x1 x2 x3 x4 0 kc ks 0 cp sk fl df lv lx lw ly sn a1 a2 a3 a4 a5 a6 a7 a8 a9 a10 a11 a12 :=
  br_c (fun z => ie_40 (Or.inr ⟨rfl, t, ht, rfl, Or.inl ⟨rfl, Or.inl z⟩⟩) h h5) (fun z => br_c (fun y => ie_40 (Or.inr ⟨rfl, t, ht, rfl, Or.inr ⟨rfl, z, y⟩⟩) h h5)
    (fun y => ie_40 (Or.inr ⟨rfl, t, ht, rfl, Or.inl ⟨rfl, Or.inr ⟨z, y⟩⟩⟩) h h5))
theorem ie_n23 {x : Int32} (h : ¬ x ≤ 2) : ¬ x < 3 := by
  rw [Int32.le_iff_toInt_le] at h
  rw [Int32.lt_iff_toInt_lt]
  have e2 : (2 : Int32).toInt = 2 := by decide
  have e3 : (3 : Int32).toInt = 3 := by decide
  omega
theorem ie_lawOf : wpL_lawOf (fun r _ => r = 1) 13 314 () x0 x1 x2 x3 x4 := by
  refine ⟨by decide, by decide, 12, 292, by decide, by decide, by decide, by decide, by decide, by decide, by decide, by decide, by decide, by decide, by decide, by decide, by decide, by decide, by decide, by decide, by decide, by decide, by decide, by decide, by decide, by decide, by decide, by decide, by decide, by decide, ?_⟩
  refine br_c (fun z => ie_23_bad (Or.inl z) (fun _ _ => rfl) (fun _ _ => rfl)) (fun z => br_c (fun y => ?_) (fun y => ie_23_bad (Or.inr ⟨z, ie_n23 y⟩) (fun _ _ => rfl) (fun _ _ => rfl)))
  obtain ⟨t, ht, e⟩ := nI_of2 (M := 2) (n := 2) (by decide) z y
  subst e
  exact ie_23_ok (by omega) (fun _ _ => rfl) (fun _ _ => rfl)
end
theorem ie_cell {post : Int32 → Prop} {xs : Nat → Int32} {L : Nat} (hL : L ≤ 5) (k : Nat) (hk : k < 5) (H : ∀ r, post r) : wpL_cellAt post L xs () (nI k) :=
  pk_le L k (fun _ => H _) (fun z => ⟨pk_in k L z, H _⟩)
theorem i_vc (xs : Nat → Int32) (L : Nat) (hL : L ≤ 5) : wpL_law (fun r => r = 1) L xs := by
  unfold wpL_law
  exact ie_cell hL 0 (by omega) (fun r1 => ie_cell hL 1 (by omega) (fun r2 => ie_cell hL 2 (by omega) (fun r3 => ie_cell hL 3 (by omega) (fun r4 => ie_cell hL 4 (by omega) (fun r5 =>
    ⟨13, 314, by decide, by decide, ie_lawOf⟩)))))
end
