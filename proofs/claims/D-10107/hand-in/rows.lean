section
/-! small rows -/
theorem tk_in {x : Int32} {n : Nat} (h : 0 ≤ x.toInt ∧ x.toInt < n := by decide) : vp_in x n := vp_in_iff.mpr h
theorem tk_neg {x : Int32} (h : x < 0) : ¬ 0 ≤ x := Int32.not_le.mpr h
theorem tk_z (x : Int32) : (4 * 0 : Int32) + x = x := by
  rw [show (4 * 0 : Int32) = 0 from by decide, Int32.zero_add]
theorem tk_u0 {f : Nat → Int32} {v : Int32} : upd f (0 : Int32).toNatClampNeg v = upd f 0 v := rfl
theorem tk_u1 {f : Nat → Int32} {k : Nat} (h : f 0 = -1) : upd f k (-1) 0 = -1 := by
  unfold upd
  split
  · rfl
  · exact h
theorem tk_uz {f : Nat → Int32} {k : Nat} (h : ∀ j, f j = 0) : ∀ j, upd f k 0 j = 0 := by
  intro j
  unfold upd
  split
  · rfl
  · exact h j
theorem tk_at {f : Nat → Int32} {k : Nat} {v : Int32} (hk : k < 64) (h : f k = v) : f (nI k).toNatClampNeg = v := by
  rw [nI_clamp (by omega)]
  exact h
theorem tk_zat {f : Nat → Int32} {k : Nat} {v : Int32} (hk : k < 64) (h : f k = v) : (4 * 0 : Int32) + f (nI k).toNatClampNeg = v := by
  rw [tk_z, nI_clamp (by omega)]
  exact h
/-- the queue is empty, or process 1 alone is in it -/
def tk_q (q1 : Int32) (a10 : Nat → Int32) : Prop := q1 < 0 ∨ (q1 = 1 ∧ a10 1 < 0)
/-- descriptors of process 0 -/
def tk_d (a9 : Nat → Int32) : Prop := ∀ j, j < 4 → a9 j = 0 ∨ a9 j = 1 ∨ a9 j = 2
/-- page entries of process 0 -/
def tk_p (a16 : Nat → Int32) : Prop := ∀ j, j < 4 → a16 j = 0 ∨ a16 j = 1
/-- whatever the state is: process 0 is in state st, these counts stand -/
def tk_O (post : St2 → Prop) (st : Int32) (ec : Int64) (pc : Int32) (a22 : Nat → Int32) : Prop :=
  ∀ (q1 : Int32) (q2 : Int32) (fh : Int32) (pn : Int32) (lv : Int32) (a1 : Nat → Int32) (a2 : Nat → Int32) (a3 : Nat → Int32) (a4 : Nat → Int32) (a5 : Nat → Int32) (a6 : Nat → Int32) (a7 : Nat → Int32) (a8 : Nat → Int32) (a9 : Nat → Int32) (a10 : Nat → Int32) (a11 : Nat → Int32) (a12 : Nat → Int32) (a13 : Nat → Int32) (a14 : Nat → Int32) (a15 : Nat → Int32) (a16 : Nat → Int32) (a17 : Nat → Int32) (a18 : Nat → Int32) (a19 : Nat → Int32) (a20 : Nat → Int32) (a21 : Nat → Int32), a5 0 = st → post (q1, q2, fh, pn, ec, pc, lv, a1, a2, a3, a4, a5, a6, a7, a8, a9, a10, a11, a12, a13, a14, a15, a16, a17, a18, a19, a20, a21, a22)
/-- the process goes on at spot s -/
def tk_G (post : St2 → Prop) (s : Int32) (ec : Int64) (pc : Int32) (a22 a1 a2 : Nat → Int32) : Prop :=
  ∀ (q1 : Int32) (q2 : Int32) (fh : Int32) (pn : Int32) (lv : Int32) (a3 : Nat → Int32) (a4 : Nat → Int32) (a5 : Nat → Int32) (a6 : Nat → Int32) (a7 : Nat → Int32) (a8 : Nat → Int32) (a9 : Nat → Int32) (a10 : Nat → Int32) (a11 : Nat → Int32) (a12 : Nat → Int32) (a13 : Nat → Int32) (a14 : Nat → Int32) (a15 : Nat → Int32) (a16 : Nat → Int32) (a17 : Nat → Int32) (a18 : Nat → Int32) (a19 : Nat → Int32) (a20 : Nat → Int32) (a21 : Nat → Int32), tk_q q1 a10 → a7 0 = -1 → tk_d a9 → tk_p a16 → a5 0 = 1 → a6 0 = s → post (q1, q2, fh, pn, ec, pc, lv, a1, a2, a3, a4, a5, a6, a7, a8, a9, a10, a11, a12, a13, a14, a15, a16, a17, a18, a19, a20, a21, a22)
section
variable {q1 q2 fh pn : Int32} {ec : Int64} {pc lv : Int32} {a1 a2 a3 a4 a5 a6 a7 a8 a9 a10 a11 a12 a13 a14 a15 a16 a17 a18 a19 a20 a21 a22 : Nat → Int32}
variable {post : St2 → Prop} {posi : Int32 → Prop} {posu : Int32 → St2 → Prop}
theorem tk_enq {p : Int32} (hq : q2 < 0) (hp : vp_in p 6) (H : post (p, p, fh, pn, ec, pc, lv, a1, a2, a3, a4, a5, a6, a7, a8, a9, upd a10 p.toNatClampNeg (-1), a11, a12, a13, a14, a15, a16, a17, a18, a19, a20, a21, a22)) : wpX_enqueue post (q1, q2, fh, pn, ec, pc, lv, a1, a2, a3, a4, a5, a6, a7, a8, a9, a10, a11, a12, a13, a14, a15, a16, a17, a18, a19, a20, a21, a22) p :=
  And.intro hp (nm_e (br_t hq H))
theorem tk_deq (h : a10 0 = -1) (H : posu 0 (-1, -1, fh, pn, ec, pc, lv, a1, a2, a3, a4, a5, a6, a7, a8, a9, a10, a11, a12, a13, a14, a15, a16, a17, a18, a19, a20, a21, a22)) : wpX_dequeue posu (0, q2, fh, pn, ec, pc, lv, a1, a2, a3, a4, a5, a6, a7, a8, a9, a10, a11, a12, a13, a14, a15, a16, a17, a18, a19, a20, a21, a22) :=
  br_t (by decide) ⟨tk_in, nm_r (e' := -1) h (br_f (by decide) H)⟩
theorem tk_lq (h : tk_q q1 a10) (H : post (q1, q2, fh, pn, ec, pc, lv, a1, a2, a3, a4, a5, a6, a7, a8, a9, a10, a11, a12, a13, a14, a15, a16, a17, a18, a19, a20, a21, a22)) : wpX_leaveQueue post (q1, q2, fh, pn, ec, pc, lv, a1, a2, a3, a4, a5, a6, a7, a8, a9, a10, a11, a12, a13, a14, a15, a16, a17, a18, a19, a20, a21, a22) 0 := by
  rcases h with h | ⟨rfl, h⟩
  · exact Exists.intro 1 (br_t h (br_f (tk_neg h) H))
  · exact Exists.intro 2 (br_f (by decide) (br_f (by decide) ⟨tk_in, nm_e (br_t h (br_f (tk_neg h) H))⟩))
theorem tk_pipeOf {e : Int32} (he : e = 1 ∨ e = 2) (H : posi 0) : wpX_pipeOf posi (q1, q2, fh, pn, ec, pc, lv, a1, a2, a3, a4, a5, a6, a7, a8, a9, a10, a11, a12, a13, a14, a15, a16, a17, a18, a19, a20, a21, a22) e := by
  rcases he with rfl | rfl
  · exact And.intro (by decide) H
  · exact And.intro (by decide) H
theorem tk_isReading {e : Int32} (H0 : posi 0) (H1 : posi 1) : wpX_isReading posi (q1, q2, fh, pn, ec, pc, lv, a1, a2, a3, a4, a5, a6, a7, a8, a9, a10, a11, a12, a13, a14, a15, a16, a17, a18, a19, a20, a21, a22) e :=
  br_c (fun _ => H0) (fun _ => H1)
theorem tk_isThere (H0 : posi 0) (H1 : posi 1) : wpX_isThere posi (q1, q2, fh, pn, ec, pc, lv, a1, a2, a3, a4, a5, a6, a7, a8, a9, a10, a11, a12, a13, a14, a15, a16, a17, a18, a19, a20, a21, a22) 0 :=
  And.intro tk_in ⟨tk_in, br_c (fun _ => H0) (fun _ => H1)⟩
theorem tk_countEnd {e m : Int32} (he : e = 1 ∨ e = 2) (H : ∀ b14 b15 : Nat → Int32, post (q1, q2, fh, pn, ec, pc, lv, a1, a2, a3, a4, a5, a6, a7, a8, a9, a10, a11, a12, a13, b14, b15, a16, a17, a18, a19, a20, a21, a22)) : wpX_countEnd post (q1, q2, fh, pn, ec, pc, lv, a1, a2, a3, a4, a5, a6, a7, a8, a9, a10, a11, a12, a13, a14, a15, a16, a17, a18, a19, a20, a21, a22) e m :=
  br_f (by rcases he with rfl | rfl <;> decide) (tk_pipeOf he (tk_isReading (br_t rfl ⟨tk_in, tk_in, nm_e (H _ _)⟩) (br_f (by decide) ⟨tk_in, tk_in, nm_e (H _ _)⟩)))
theorem tk_close {d : Nat} (hd : d < 4) (h9 : a9 d = 0 ∨ a9 d = 1 ∨ a9 d = 2)
    (H : ∀ b9 b12 b14 b15 : Nat → Int32, (∀ j, b9 j = 0 ∨ b9 j = a9 j) → post (q1, q2, fh, pn, ec, pc, lv, a1, a2, a3, a4, a5, a6, a7, a8, b9, a10, a11, b12, a13, b14, b15, a16, a17, a18, a19, a20, a21, a22)) : wpX_closeEnd post (q1, q2, fh, pn, ec, pc, lv, a1, a2, a3, a4, a5, a6, a7, a8, a9, a10, a11, a12, a13, a14, a15, a16, a17, a18, a19, a20, a21, a22) 0 (nI d) := by
  have e : ((4 * 0 : Int32) + nI d).toNatClampNeg = d := by rw [tk_z, nI_clamp (by omega)]
  have hu : ∀ j, upd a9 ((4 * 0 : Int32) + nI d).toNatClampNeg 0 j = 0 ∨ upd a9 ((4 * 0 : Int32) + nI d).toNatClampNeg 0 j = a9 j := by
    intro j
    unfold upd
    split
    · exact Or.inl rfl
    · exact Or.inr rfl
  refine And.intro (pk_in d 24 (by omega) (tk_z _)) (nm_r (e' := a9 d) (by rw [e]) (br_c (fun _ => H _ _ _ _ (fun j => Or.inr rfl)) (fun z => ?_)))
  have he : a9 d = 1 ∨ a9 d = 2 := h9.resolve_left z
  exact ⟨pk_in d 24 (by omega) (tk_z _), nm_e (tk_countEnd he (fun b14 b15 => tk_pipeOf he (tk_isThere (br_t rfl ⟨tk_in, nm_e (H _ _ _ _ hu)⟩) (br_f (by decide) (H _ _ _ _ hu)))))⟩
theorem tk_free (h : tk_p a16) (H : ∀ b16 b17 : Nat → Int32, post (q1, q2, fh, pn, ec, pc, lv, a1, a2, a3, a4, a5, a6, a7, a8, a9, a10, a11, a12, a13, a14, a15, b16, b17, a18, a19, a20, a21, a22)) : wpX_freePages post (q1, q2, fh, pn, ec, pc, lv, a1, a2, a3, a4, a5, a6, a7, a8, a9, a10, a11, a12, a13, a14, a15, a16, a17, a18, a19, a20, a21, a22) 0 := by
  refine nm_r (e' := nI 0) (by decide) (pk_loop (σ := (Nat → Int32) × (Nat → Int32)) (fun n i s => wX_freePages_4 post 0 q1 q2 fh pn ec pc lv n (nI i) a1 a2 a3 a4 a5 a6 a7 a8 a9 a10 a11 a12 a13 a14 a15 s.1 s.2 a18 a19 a20 a21 a22) (fun i s => tk_p s.1) 4 0 (a16, a17) (by omega) h
    (fun n s _ => pk_le 4 4 (fun _ => H s.1 s.2) (fun z => absurd z (by omega)))
    (fun n i s hi hs hw => ?_))
  have e : (nI i).toNatClampNeg = i := nI_clamp (by omega)
  have hu : tk_p (upd s.1 (nI i).toNatClampNeg 0) := by
    intro j hj
    unfold upd
    split
    · exact Or.inl rfl
    · exact hs j hj
  refine pk_le 4 i (fun z => absurd z (by omega)) (fun _ => ⟨pk_in i 24 (by omega), ?_⟩)
  have hx : s.1 (nI i).toNatClampNeg = 0 ∨ s.1 (nI i).toNatClampNeg = 1 := by rw [e]; exact hs i hi
  rcases hx with hx | hx
  · rw [hx]
    exact br_t (by decide) ⟨pk_in i 24 (by omega), br_t (by decide) ⟨pk_in i 24 (by omega), nm_e (nm_r (nI_1 i) (hw (_, _) hu))⟩⟩
  · rw [hx]
    exact br_t (by decide) ⟨pk_in i 24 (by omega), br_f (by decide) ⟨pk_in i 24 (by omega), tk_in, tk_in, nm_e ⟨pk_in i 24 (by omega), nm_e (nm_r (nI_1 i) (hw (_, _) hu))⟩⟩⟩
theorem tk_e31 {r : Int32} (h7 : a7 0 = -1) (H : ∀ b5 b6 b7 : Nat → Int32, b5 0 = 0 → post (q1, q2, fh, pn, ec, pc, lv, a1, a2, a3, a4, b5, b6, b7, a8, a9, a10, a11, a12, a13, a14, a15, a16, a17, a18, a19, a20, a21, a22)) : ∃ n, wX_end_31 post 0 r q1 q2 fh pn ec pc lv n 0 a1 a2 a3 a4 a5 a6 a7 a8 a9 a10 a11 a12 a13 a14 a15 a16 a17 a18 a19 a20 a21 a22 := by
  refine pk_loop (σ := (Nat → Int32) × (Nat → Int32)) (fun n i s => wX_end_31 post 0 r q1 q2 fh pn ec pc lv n (nI i) a1 a2 a3 a4 s.1 a6 s.2 a8 a9 a10 a11 a12 a13 a14 a15 a16 a17 a18 a19 a20 a21 a22) (fun i s => s.2 0 = -1) 6 0 (a5, a7) (by omega) h7
    (fun n s hs => ?_) (fun n i s hi hs hw => ?_)
  · have hn : ¬ 0 ≤ s.2 (0 : Int32).toNatClampNeg := by
      rw [show s.2 (0 : Int32).toNatClampNeg = -1 from hs]
      decide
    exact pk_le 6 6 (fun _ => ⟨tk_in, nm_e ⟨tk_in, br_f hn ⟨tk_in, nm_e (H _ _ _ (by rw [tk_u0, pk_us]; decide))⟩⟩⟩) (fun z => absurd z (by omega))
  · have hi2 : vp_in (nI i) 6 := pk_in i 6 hi
    exact pk_le 6 i (fun z => absurd z (by omega)) (fun _ => ⟨hi2, br_c (fun _ => nm_r (nI_1 i) (hw s hs)) (fun _ => ⟨hi2, br_c
      (fun _ => ⟨hi2, nm_e ⟨hi2, br_c (fun _ => ⟨hi2, nm_e (nm_r (nI_1 i) (hw (_, _) (tk_u1 hs)))⟩) (fun _ => nm_r (nI_1 i) (hw (s.1, upd s.2 (nI i).toNatClampNeg (-1)) (tk_u1 hs)))⟩⟩)
      (fun _ => nm_r (nI_1 i) (hw s hs))⟩)⟩)
theorem tk_end {r : Int32} (hq : tk_q q1 a10) (h7 : a7 0 = -1) (h9 : tk_d a9) (h16 : tk_p a16) (H : tk_O post 0 ec pc a22) : wpX_end post (q1, q2, fh, pn, ec, pc, lv, a1, a2, a3, a4, a5, a6, a7, a8, a9, a10, a11, a12, a13, a14, a15, a16, a17, a18, a19, a20, a21, a22) 0 r := by
  unfold wpX_end
  refine tk_lq hq ?_
  refine pk_loop (σ := (Nat → Int32) × (Nat → Int32) × (Nat → Int32) × (Nat → Int32)) (fun n i s => wX_end_7 post 0 r n (nI i) q1 q2 fh pn ec pc lv a1 a2 a3 a4 a5 a6 a7 a8 s.1 a10 a11 s.2.1 a13 s.2.2.1 s.2.2.2 a16 a17 a18 a19 a20 a21 a22) (fun i s => tk_d s.1) 4 0 (a9, a12, a14, a15) (by omega) h9
    (fun n s hs => ?_) (fun n i s hi hs hw => ?_)
  · exact pk_le 4 4 (fun _ => tk_free h16 (fun b16 b17 => tk_e31 h7 (fun b5 b6 b7 h5 => H _ _ _ _ _ _ _ _ _ _ _ _ _ _ _ _ _ _ _ _ _ _ _ _ _ _ h5))) (fun z => absurd z (by omega))
  · refine pk_le 4 i (fun z => absurd z (by omega)) (fun _ => tk_close hi (hs i hi) (fun b9 b12 b14 b15 hb => nm_r (nI_1 i) (hw (b9, b12, b14, b15) (fun j hj => ?_))))
    rcases hb j with z | z
    · exact Or.inl z
    · show b9 j = 0 ∨ b9 j = 1 ∨ b9 j = 2
      rw [z]
      exact hs j hj
end
end
section
/-! making the kernel, its code, its process -/
def tk_fa (w : Int32) : Int32 := ((w >>> ((5 : Int32) &&& 31)) &&& 3)
def tk_fb (w : Int32) : Int32 := ((w >>> ((7 : Int32) &&& 31)) &&& 3)
section
variable {q1 q2 fh pn : Int32} {ec : Int64} {pc lv : Int32} {a1 a2 a3 a4 a5 a6 a7 a8 a9 a10 a11 a12 a13 a14 a15 a16 a17 a18 a19 a20 a21 a22 : Nat → Int32}
variable {post : St2 → Prop} {posi : Int32 → Prop} {posu : Int32 → St2 → Prop}
theorem tk_init {mc ms : Nat} (h1 : 22 ≤ mc) (h2 : 724 ≤ ms)
    (H : ∀ b7 : Nat → Int32, (∀ j, j < 6 → b7 j = -1) → post (-1, -1, 0, -1, 0, 0, 2, (fun _ => 0), (fun _ => 0), (fun _ => 0), (fun _ => 0), (fun _ => 0), (fun _ => 0), b7, (fun _ => 0), (fun _ => 0), (fun _ => 0), (fun _ => 0), (fun _ => 0), (fun _ => 0), (fun _ => 0), (fun _ => 0), (fun _ => 0), (fun _ => 0), (fun _ => 0), (fun _ => 0), (fun _ => 0), (fun _ => 0), (fun _ => 0))) :
    wpX_init post mc ms (0, 0, 0, 0, 0, 0, 0) := by
  refine And.intro (by omega) ⟨by omega, by omega, by omega, by omega, by omega, by omega, by omega, by omega, by omega, by omega, by omega, by omega, by omega, by omega, by omega, by omega, by omega, by omega, by omega, by omega, by omega, by omega, by omega, by omega, by omega, by omega, by omega, by omega, by omega, by omega, by omega, by omega, by omega, by omega, by omega, by omega, by omega, by omega, by omega, by omega, by omega, by omega, by omega,
    pk_loop (σ := Nat → Int32) (fun n i s => wX_init_199 post mc ms 22 724 (-1) (-1) 0 (-1) 0 0 2 n (nI i) (fun _ => 0) (fun _ => 0) (fun _ => 0) (fun _ => 0) (fun _ => 0) (fun _ => 0) s (fun _ => 0) (fun _ => 0) (fun _ => 0) (fun _ => 0) (fun _ => 0) (fun _ => 0) (fun _ => 0) (fun _ => 0) (fun _ => 0) (fun _ => 0) (fun _ => 0) (fun _ => 0) (fun _ => 0) (fun _ => 0) (fun _ => 0))
      (fun i s => ∀ j, j < i → s j = -1) 6 0 (fun _ => 0) (by omega) (fun j hj => absurd hj (by omega))
      (fun n s hs => pk_le 6 6 (fun _ => H s hs) (fun z => absurd z (by omega)))
      (fun n i s hi hs hw => pk_le 6 i (fun z => absurd z (by omega)) (fun _ => ⟨pk_in i 6 hi, nm_e (nm_r (nI_1 i) (hw _ ?_))⟩))⟩
  intro j hj
  rw [nI_clamp (by omega)]
  unfold upd
  split
  · rfl
  · exact hs j (by omega)
theorem tk_fp0 (h5 : a5 0 = 0) (H : posi 0) : wpX_freeProcess posi (q1, q2, fh, pn, ec, pc, lv, a1, a2, a3, a4, a5, a6, a7, a8, a9, a10, a11, a12, a13, a14, a15, a16, a17, a18, a19, a20, a21, a22) :=
  Exists.intro 1 (br_f (by decide) ⟨tk_in, br_t h5 H⟩)
theorem tk_fp1 (h0 : a5 0 = 1) (h1 : a5 1 = 0) (H : posi 1) : wpX_freeProcess posi (q1, q2, fh, pn, ec, pc, lv, a1, a2, a3, a4, a5, a6, a7, a8, a9, a10, a11, a12, a13, a14, a15, a16, a17, a18, a19, a20, a21, a22) := by
  have hn : ¬ a5 (0 : Int32).toNatClampNeg = 0 := by
    rw [show a5 (0 : Int32).toNatClampNeg = 1 from h0]
    decide
  exact Exists.intro 2 (br_f (by decide) ⟨tk_in, br_f hn (nm_r (e' := 1) (by decide) (br_f (by decide) ⟨tk_in, br_t h1 H⟩))⟩)
theorem tk_spawn {p x : Int32} (h5 : a5 0 = 0) (hq : q2 < 0) (h8 : ∀ j, a8 j = 0) (h9 : ∀ j, a9 j = 0)
    (H : ∀ b8 b9 : Nat → Int32, b8 0 = x → (∀ j, 0 < j → b8 j = 0) → (∀ j, b9 j = 0) → posu 0 (0, 0, fh, pn, ec, pc, lv, a1, a2, a3, a4, upd a5 0 1, upd a6 0 p, upd a7 0 (-1), b8, b9, upd a10 0 (-1), a11, a12, a13, a14, a15, a16, a17, a18, a19, a20, a21, a22)) :
    wpX_spawn posu (q1, q2, fh, pn, ec, pc, lv, a1, a2, a3, a4, a5, a6, a7, a8, a9, a10, a11, a12, a13, a14, a15, a16, a17, a18, a19, a20, a21, a22) p x := by
  unfold wpX_spawn
  refine tk_fp0 h5 (br_t (by decide) ⟨tk_in, nm_e ⟨tk_in, nm_e (nm_r (e' := nI 0) (by decide) ?_)⟩⟩)
  refine pk_loop (σ := (Nat → Int32) × (Nat → Int32)) (fun n i s => wX_spawn_32 posu x 0 q1 q2 fh pn ec pc lv n (nI i) a1 a2 a3 a4 a5 (upd a6 (0 : Int32).toNatClampNeg p) (upd a7 (0 : Int32).toNatClampNeg (-1)) s.1 s.2 a10 a11 a12 a13 a14 a15 a16 a17 a18 a19 a20 a21 a22)
    (fun i s => (∀ j, s.1 j = 0) ∧ (∀ j, s.2 j = 0)) 4 0 (a8, a9) (by omega) ⟨h8, h9⟩
    (fun n s hs => pk_le 4 4 (fun _ => ⟨tk_in, nm_e ⟨tk_in, nm_e (tk_enq hq tk_in (H _ _ pk_us (fun j hj => ?_) hs.2))⟩⟩) (fun z => absurd z (by omega)))
    (fun n i s hi hs hw => pk_le 4 i (fun z => absurd z (by omega)) (fun _ => ⟨pk_in i 24 (by omega), nm_e ⟨pk_in i 24 (by omega), nm_e (nm_r (nI_1 i) (hw (_, _) ⟨tk_uz hs.1, tk_uz hs.2⟩))⟩⟩))
  show upd s.1 0 x j = 0
  rw [pk_un (by omega)]
  exact hs.1 j
theorem tk_code1 {k : Nat} {w n : Int32} (hk : k < 64) (h1 : ¬ w < 0) (h2 : ¬ 511 < w) (h3 : ¬ 24 < (w &&& 31))
    (H : posu 1 (q1, q2, fh, pn, ec, pc, lv, upd a1 k ((w &&& 31).toInt8.toInt32), upd a2 k ((tk_fa w).toInt8.toInt32), upd a3 k ((tk_fb w).toInt8.toInt32), upd a4 k n, a5, a6, a7, a8, a9, a10, a11, a12, a13, a14, a15, a16, a17, a18, a19, a20, a21, a22)) :
    wpX_code posu (q1, q2, fh, pn, ec, pc, lv, a1, a2, a3, a4, a5, a6, a7, a8, a9, a10, a11, a12, a13, a14, a15, a16, a17, a18, a19, a20, a21, a22) (nI k) w n := by
  have e : (nI k).toNatClampNeg = k := nI_clamp (by omega)
  have hi : vp_in (nI k) 64 := pk_in k 64 hk
  refine br_f (nI_pos (by omega)) (pk_lt 63 k (fun z => absurd z (by omega)) (fun _ => br_f h1 (br_f h2 (br_t (Int32.not_lt.mp h3) ⟨hi, nm_e ⟨hi, nm_e ⟨hi, nm_e ⟨hi, nm_e ?_⟩⟩⟩⟩))))
  rw [e]
  exact H
theorem tk_code0 {i w n : Int32} (h : i < 0 ∨ 63 < i ∨ w < 0 ∨ 511 < w ∨ 24 < (w &&& 31)) (H : posu 0 (q1, q2, fh, pn, ec, pc, lv, a1, a2, a3, a4, a5, a6, a7, a8, a9, a10, a11, a12, a13, a14, a15, a16, a17, a18, a19, a20, a21, a22)) : wpX_code posu (q1, q2, fh, pn, ec, pc, lv, a1, a2, a3, a4, a5, a6, a7, a8, a9, a10, a11, a12, a13, a14, a15, a16, a17, a18, a19, a20, a21, a22) i w n :=
  br_c (fun _ => H) (fun z1 => br_c (fun _ => H) (fun z2 => br_c (fun _ => H) (fun z3 => br_c (fun _ => H) (fun z4 => br_c
    (fun z5 => absurd h (by
      rintro (h | h | h | h | h)
      · exact z1 h
      · exact z2 h
      · exact z3 h
      · exact z4 h
      · exact Int32.not_lt.mpr z5 h)) (fun _ => H)))))
end
end
section
/-! the instructions -/
section
variable {q1 q2 fh pn : Int32} {ec : Int64} {pc lv : Int32} {a1 a2 a3 a4 a5 a6 a7 a8 a9 a10 a11 a12 a13 a14 a15 a16 a17 a18 a19 a20 a21 a22 : Nat → Int32}
variable {post : St2 → Prop} {posi : Int32 → Prop} {posu : Int32 → St2 → Prop}
theorem tk_endAt {d : Int32} (h9 : ∀ j, a9 j = 0) (H : posi 0) : wpX_endAt posi (q1, q2, fh, pn, ec, pc, lv, a1, a2, a3, a4, a5, a6, a7, a8, a9, a10, a11, a12, a13, a14, a15, a16, a17, a18, a19, a20, a21, a22) 0 d := by
  refine br_c (fun _ => H) (fun z => br_c (fun z2 => ?_) (fun _ => H))
  obtain ⟨j, hj, rfl⟩ := nI_of2 (M := 3) (n := 3) (by decide) z z2
  refine ⟨pk_in j 24 (by omega) (tk_z _), ?_⟩
  rw [h9]
  exact H
theorem tk_hasChild (h7 : ∀ j, j < 6 → a7 j = -1) (H : posi 0) : wpX_hasChild posi (q1, q2, fh, pn, ec, pc, lv, a1, a2, a3, a4, a5, a6, a7, a8, a9, a10, a11, a12, a13, a14, a15, a16, a17, a18, a19, a20, a21, a22) 0 := by
  refine pk_loop (σ := Unit) (fun n i _ => wX_hasChild_2 posi 0 q1 q2 fh pn ec pc lv a1 a2 a3 a4 a5 a6 a7 a8 a9 a10 a11 a12 a13 a14 a15 a16 a17 a18 a19 a20 a21 a22 n (nI i)) (fun _ _ => True) 6 0 () (by omega) trivial
    (fun n _ _ => pk_le 6 6 (fun _ => H) (fun z => absurd z (by omega)))
    (fun n i _ hi _ hw => pk_le 6 i (fun z => absurd z (by omega)) (fun _ => ⟨pk_in i 6 hi, br_c (fun _ => nm_r (nI_1 i) (hw () trivial)) (fun _ => ⟨pk_in i 6 hi, br_f ?_ (nm_r (nI_1 i) (hw () trivial))⟩)⟩))
  rw [nI_clamp (by omega), h7 i hi]
  decide
theorem tk_endedChild (h5 : ∀ j, j < 6 → ¬ a5 j = 3) (H : posi (-1)) : wpX_endedChild posi (q1, q2, fh, pn, ec, pc, lv, a1, a2, a3, a4, a5, a6, a7, a8, a9, a10, a11, a12, a13, a14, a15, a16, a17, a18, a19, a20, a21, a22) 0 := by
  refine pk_loop (σ := Unit) (fun n i _ => wX_endedChild_2 posi 0 q1 q2 fh pn ec pc lv a1 a2 a3 a4 a5 a6 a7 a8 a9 a10 a11 a12 a13 a14 a15 a16 a17 a18 a19 a20 a21 a22 n (nI i)) (fun _ _ => True) 6 0 () (by omega) trivial
    (fun n _ _ => pk_le 6 6 (fun _ => H) (fun z => absurd z (by omega)))
    (fun n i _ hi _ hw => pk_le 6 i (fun z => absurd z (by omega)) (fun _ => ⟨pk_in i 6 hi, br_f ?_ (nm_r (nI_1 i) (hw () trivial))⟩))
  rw [nI_clamp (by omega)]
  exact h5 i hi
theorem tk_w56 {k B : Nat} {o : Int32} (hk : k < 64) (hB : B < 4) (h3 : a3 k = nI B) (h9 : ∀ j, a9 j = 0) (H : posi 0) : wX_wouldWait_56 posi 0 (nI k) o q1 q2 fh pn ec pc lv a1 a2 a3 a4 a5 a6 a7 a8 a9 a10 a11 a12 a13 a14 a15 a16 a17 a18 a19 a20 a21 a22 :=
  And.intro (pk_in k 64 hk) ⟨pk_in B 24 (by omega) (tk_zat hk h3), tk_endAt h9 (br_t rfl H)⟩
theorem tk_wait {k B : Nat} (hk : k < 64) (hB : B < 4) (h6 : a6 0 = nI k) (h3 : a3 k = nI B) (h7 : ∀ j, j < 6 → a7 j = -1) (h9 : ∀ j, a9 j = 0) (H : posi 0) :
    wpX_wouldWait posi (q1, q2, fh, pn, ec, pc, lv, a1, a2, a3, a4, a5, a6, a7, a8, a9, a10, a11, a12, a13, a14, a15, a16, a17, a18, a19, a20, a21, a22) 0 :=
  And.intro tk_in (nm_r (e' := nI k) h6 ⟨pk_in k 64 hk, nm_e (br_c (fun _ => tk_hasChild h7 (br_t rfl H)) (fun _ => br_c (fun _ => tk_w56 hk hB h3 h9 H) (fun _ => br_c (fun _ => tk_w56 hk hB h3 h9 H) (fun _ => H))))⟩)
theorem tk_wait0 {k : Nat} (hk : k < 64) (h6 : a6 0 = nI k) (h1 : a1 k = 0) (H : posi 0) : wpX_wouldWait posi (q1, q2, fh, pn, ec, pc, lv, a1, a2, a3, a4, a5, a6, a7, a8, a9, a10, a11, a12, a13, a14, a15, a16, a17, a18, a19, a20, a21, a22) 0 :=
  And.intro tk_in (nm_r (e' := nI k) h6 ⟨pk_in k 64 hk, nm_r (e' := 0) (tk_at hk h1) (br_f (by decide) (br_f (by decide) (br_f (by decide) H)))⟩)
/-! op 0 -/
theorem tk_x0 {k A : Nat} (hk : k < 64) (hA : A < 4) (h1 : a1 k = 0) (h2 : a2 k = nI A)
    (hq : tk_q q1 a10) (h7 : a7 0 = -1) (h9 : tk_d a9) (h16 : tk_p a16) (H : tk_O post 0 ec pc a22) : wpX_execute post (q1, q2, fh, pn, ec, pc, lv, a1, a2, a3, a4, a5, a6, a7, a8, a9, a10, a11, a12, a13, a14, a15, a16, a17, a18, a19, a20, a21, a22) 0 (nI k) :=
  And.intro (pk_in k 64 hk) (nm_r (tk_at hk h1) ⟨pk_in k 64 hk, nm_r (tk_zat hk h2) ⟨pk_in k 64 hk, nm_e ⟨pk_in k 64 hk, nm_e ⟨tk_in, nm_e
    (br_t rfl ⟨pk_in A 24 (by omega), tk_end hq h7 h9 h16 (fun q1b q2b fhb pnb lvb a1b a2b a3b a4b a5b a6b a7b a8b a9b a10b a11b a12b a13b a14b a15b a16b a17b a18b a19b a20b a21b h5 => H q1b q2b fhb pnb lvb a1b a2b a3b a4b a5b a6b a7b a8b a9b a10b a11b a12b a13b a14b a15b a16b a17b a18b a19b a20b a21b h5)⟩)⟩⟩⟩⟩)
/-! ops 1 .. 7 -/
theorem tk_calc {o n : Int32} {A B : Nat} (hA : A < 4) (hB : B < 4) (H : ∀ b8 : Nat → Int32, post (q1, q2, fh, pn, ec, pc, lv, a1, a2, a3, a4, a5, a6, a7, b8, a9, a10, a11, a12, a13, a14, a15, a16, a17, a18, a19, a20, a21, a22)) : wpX_calculate post (q1, q2, fh, pn, ec, pc, lv, a1, a2, a3, a4, a5, a6, a7, a8, a9, a10, a11, a12, a13, a14, a15, a16, a17, a18, a19, a20, a21, a22) o (nI A) (nI B) n := by
  have iA : vp_in (nI A) 24 := pk_in A 24 (by omega)
  have iB : vp_in (nI B) 24 := pk_in B 24 (by omega)
  exact And.intro iA (nm_e ⟨iB, nm_e (br_c (fun _ => ⟨iA, nm_e (H _)⟩) (fun _ => br_c (fun _ => ⟨iA, nm_e (H _)⟩) (fun _ => br_c (fun _ => ⟨iA, nm_e (H _)⟩) (fun _ => br_c (fun _ => ⟨iA, nm_e (H _)⟩)
    (fun _ => br_c (fun _ => ⟨iA, nm_e (H _)⟩) (fun _ => br_c (fun _ => ⟨iA, nm_e (H _)⟩) (fun _ => br_c (fun _ => ⟨iA, nm_e (H _)⟩) (fun _ => ⟨iA, nm_e (H _)⟩))))))))⟩)
theorem tk_x1 {k A B : Nat} {o : Int32} (hk : k < 64) (hA : A < 4) (hB : B < 4) (h1 : a1 k = o) (h2 : a2 k = nI A) (h3 : a3 k = nI B) (ho : ¬ o = 0) (ho2 : ¬ 7 < o)
    (hq : q1 < 0) (h5 : a5 0 = 1) (h7 : ∀ j, j < 6 → a7 j = -1) (h9 : ∀ j, a9 j = 0) (h16 : ∀ j, a16 j = 0) (H : tk_G post (nI (k + 1)) ec pc a22 a1 a2) : wpX_execute post (q1, q2, fh, pn, ec, pc, lv, a1, a2, a3, a4, a5, a6, a7, a8, a9, a10, a11, a12, a13, a14, a15, a16, a17, a18, a19, a20, a21, a22) 0 (nI k) :=
  And.intro (pk_in k 64 hk) (nm_r (tk_at hk h1) ⟨pk_in k 64 hk, nm_r (tk_zat hk h2) ⟨pk_in k 64 hk, nm_r (tk_zat hk h3) ⟨pk_in k 64 hk, nm_e ⟨tk_in, nm_r (e' := upd a6 0 (nI (k + 1))) (by rw [nI_1]; rfl)
    (br_f ho (br_f ho2 (tk_calc hA hB (fun b8 => H _ _ _ _ _ _ _ _ _ _ _ _ _ _ _ _ _ _ _ _ _ _ _ _ (Or.inl hq) (h7 0 (by omega)) (fun j _ => Or.inl (h9 j)) (fun j _ => Or.inl (h16 j)) h5 pk_us))))⟩⟩⟩⟩)
end
end
section
/-! memory: ops 8 and 9 -/
section
variable {q1 q2 fh pn : Int32} {ec : Int64} {pc lv : Int32} {a1 a2 a3 a4 a5 a6 a7 a8 a9 a10 a11 a12 a13 a14 a15 a16 a17 a18 a19 a20 a21 a22 : Nat → Int32}
variable {post : St2 → Prop} {posi : Int32 → Prop} {posu : Int32 → St2 → Prop}
theorem tk_at8 {w : Nat} (hw : w < 32) : (4 * 0 : Int32) + nI w / 8 = nI (w / 8) := by
  rw [tk_z]
  exact pk_div (d := 8) (by omega) (by omega) (by omega)
theorem tk_read {w : Nat} (hw : w < 32) (h16 : ∀ j, a16 j = 0) (H : posu 0 (q1, q2, fh, pn, ec, pc, lv, a1, a2, a3, a4, a5, a6, a7, a8, a9, a10, a11, a12, a13, a14, a15, a16, a17, a18, a19, a20, a21, a22)) : wpX_readWord posu (q1, q2, fh, pn, ec, pc, lv, a1, a2, a3, a4, a5, a6, a7, a8, a9, a10, a11, a12, a13, a14, a15, a16, a17, a18, a19, a20, a21, a22) 0 (nI w) :=
  And.intro (by decide) (nm_r (tk_at8 hw) ⟨pk_in (w / 8) 24 (by omega), br_t (h16 _) H⟩)
theorem tk_newFrame (h17 : a17 0 = 0) (H : ∀ b18 : Nat → Int32, posu 0 (q1, q2, fh, pn, ec, pc, lv, a1, a2, a3, a4, a5, a6, a7, a8, a9, a10, a11, a12, a13, a14, a15, a16, a17, b18, a19, a20, a21, a22)) : wpX_newFrame posu (q1, q2, fh, pn, ec, pc, lv, a1, a2, a3, a4, a5, a6, a7, a8, a9, a10, a11, a12, a13, a14, a15, a16, a17, a18, a19, a20, a21, a22) := by
  have hn : a17 (0 : Int32).toNatClampNeg ≤ 0 := by
    rw [show a17 (0 : Int32).toNatClampNeg = 0 from h17]
    decide
  exact Exists.intro 1 (br_f (by decide) ⟨tk_in, br_t hn ⟨tk_in, nm_e (H _)⟩⟩)
theorem tk_hang {w : Nat} (hw : w < 24) (H : ∀ b17 : Nat → Int32, post (q1, q2, fh, pn, ec, pc, lv, a1, a2, a3, a4, a5, a6, a7, a8, a9, a10, a11, a12, a13, a14, a15, upd a16 w 1, b17, a18, a19, a20, a21, a22)) : wpX_hang post (q1, q2, fh, pn, ec, pc, lv, a1, a2, a3, a4, a5, a6, a7, a8, a9, a10, a11, a12, a13, a14, a15, a16, a17, a18, a19, a20, a21, a22) (nI w) 0 := by
  have e : upd a16 (nI w).toNatClampNeg ((1 + (0 : Int32)).toInt8.toInt32) = upd a16 w 1 := by
    rw [nI_clamp (by omega)]
    rfl
  exact And.intro (pk_in w 24 hw) (nm_r e ⟨tk_in, nm_e (H _)⟩)
theorem tk_w103 {w : Nat} {v : Int32} (hw : w < 32) (H : ∀ b19 : Nat → Int32, post (q1, q2, fh, pn, ec, pc, lv, a1, a2, a3, a4, a5, a6, a7, a8, a9, a10, a11, a12, a13, a14, a15, a16, a17, a18, b19, a20, a21, a22)) : wX_writeWord_103 post (nI w) v 0 q1 q2 fh pn ec pc lv a1 a2 a3 a4 a5 a6 a7 a8 a9 a10 a11 a12 a13 a14 a15 a16 a17 a18 a19 a20 a21 a22 := by
  have e : (8 * 0 : Int32) + (nI w - nI w / 8 * 8) = nI (w % 8) := by
    rw [show (8 * 0 : Int32) = 0 from by decide, Int32.zero_add]
    exact pk_rem (d := 8) (by omega) (by omega) (by omega)
  exact And.intro (by decide) ⟨pk_in (w % 8) 80 (by omega) e, nm_e (H _)⟩
theorem tk_write {w : Nat} {v : Int32} (hw : w < 32) (h16 : ∀ j, a16 j = 0) (h17 : a17 0 = 0)
    (H : ∀ b16 b17 b18 b19 : Nat → Int32, tk_p b16 → post (q1, q2, fh, pn, ec, pc, lv, a1, a2, a3, a4, a5, a6, a7, a8, a9, a10, a11, a12, a13, a14, a15, b16, b17, b18, b19, a20, a21, a22)) : wpX_writeWord post (q1, q2, fh, pn, ec, pc, lv, a1, a2, a3, a4, a5, a6, a7, a8, a9, a10, a11, a12, a13, a14, a15, a16, a17, a18, a19, a20, a21, a22) 0 (nI w) v := by
  refine And.intro (by decide) (nm_r (tk_at8 hw) ⟨pk_in (w / 8) 24 (by omega), br_t (h16 _) (tk_newFrame h17 (fun b18 => nm_r (e' := nI 0) (by decide) ?_))⟩)
  refine pk_loop (σ := Nat → Int32) (fun n i s => wX_writeWord_36 post (nI w) v (nI (w / 8)) 0 q1 q2 fh pn ec pc lv n (nI i) a1 a2 a3 a4 a5 a6 a7 a8 a9 a10 a11 a12 a13 a14 a15 a16 a17 b18 s a20 a21 a22) (fun _ _ => True) 8 0 a19 (by omega) trivial
    (fun n s _ => pk_le 8 8 (fun _ => tk_hang (by omega) (fun b17 => tk_w103 hw (fun b19 => H _ _ _ _ (fun j hj => ?_)))) (fun z => absurd z (by omega)))
    (fun n i s hi _ hw => pk_le 8 i (fun z => absurd z (by omega)) (fun _ => ⟨pk_in i 80 (by omega), nm_e (nm_r (nI_1 i) (hw _ trivial))⟩))
  unfold upd
  split
  · exact Or.inr rfl
  · exact Or.inl (h16 j)
/-- the place is outside: the process ends -/
theorem tk_touchE {o p : Int32} {A : Nat} (hp : p < 0 ∨ 31 < p)
    (hq : tk_q q1 a10) (h7 : a7 0 = -1) (h9 : tk_d a9) (h16 : tk_p a16) (H : tk_O post 0 ec pc a22) : wpX_touch post (q1, q2, fh, pn, ec, pc, lv, a1, a2, a3, a4, a5, a6, a7, a8, a9, a10, a11, a12, a13, a14, a15, a16, a17, a18, a19, a20, a21, a22) 0 o (nI A) p := by
  have h12 : wX_touch_12 post 0 q1 q2 fh pn ec pc lv a1 a2 a3 a4 a5 a6 a7 a8 a9 a10 a11 a12 a13 a14 a15 a16 a17 a18 a19 a20 a21 a22 := by
    unfold wX_touch_12
    exact tk_end hq h7 h9 h16 (fun q1b q2b fhb pnb lvb a1b a2b a3b a4b a5b a6b a7b a8b a9b a10b a11b a12b a13b a14b a15b a16b a17b a18b a19b a20b a21b h5 => H q1b q2b fhb pnb lvb a1b a2b a3b a4b a5b a6b a7b a8b a9b a10b a11b a12b a13b a14b a15b a16b a17b a18b a19b a20b a21b h5)
  exact br_c (fun _ => h12) (fun z => br_c (fun z2 => absurd hp (fun h => h.elim z (fun h => Int32.not_lt.mpr z2 h))) (fun _ => h12))
/-- the place is inside -/
theorem tk_touchI {o : Int32} {A w : Nat} (hA : A < 4) (hw : w < 32) (h16 : ∀ j, a16 j = 0) (h17 : a17 0 = 0)
    (H : ∀ b8 b16 b17 b18 b19 : Nat → Int32, tk_p b16 → post (q1, q2, fh, pn, ec, pc, lv, a1, a2, a3, a4, a5, a6, a7, b8, a9, a10, a11, a12, a13, a14, a15, b16, b17, b18, b19, a20, a21, a22)) : wpX_touch post (q1, q2, fh, pn, ec, pc, lv, a1, a2, a3, a4, a5, a6, a7, a8, a9, a10, a11, a12, a13, a14, a15, a16, a17, a18, a19, a20, a21, a22) 0 o (nI A) (nI w) :=
  br_f (nI_pos (by omega)) (br_t (show nI w ≤ nI 31 from nI_le (by omega) (by omega)) (br_c
    (fun _ => tk_read hw h16 ⟨pk_in A 24 (by omega), nm_e (H _ _ _ _ _ (fun j _ => Or.inl (h16 j)))⟩)
    (fun _ => ⟨pk_in A 24 (by omega), tk_write hw h16 h17 (fun b16 b17 b18 b19 hb => H _ _ _ _ _ hb)⟩)))
theorem tk_x8E {k A B : Nat} {o n : Int32} (hk : k < 64) (hB : B < 4) (h1 : a1 k = o) (h2 : a2 k = nI A) (h3 : a3 k = nI B) (h4 : a4 k = n) (ho : o = 8 ∨ o = 9)
    (hp : a8 B + n < 0 ∨ 31 < a8 B + n) (hq : tk_q q1 a10) (h7 : a7 0 = -1) (h9 : tk_d a9) (h16 : tk_p a16) (H : tk_O post 0 ec pc a22) : wpX_execute post (q1, q2, fh, pn, ec, pc, lv, a1, a2, a3, a4, a5, a6, a7, a8, a9, a10, a11, a12, a13, a14, a15, a16, a17, a18, a19, a20, a21, a22) 0 (nI k) := by
  have e : (nI B).toNatClampNeg = B := nI_clamp (by omega)
  have h99 : ∀ b6 : Nat → Int32, wX_execute_99 post 0 o (nI A) (nI B) n q1 q2 fh pn ec pc lv a1 a2 a3 a4 a5 b6 a7 a8 a9 a10 a11 a12 a13 a14 a15 a16 a17 a18 a19 a20 a21 a22 := by
    intro b6
    refine And.intro (pk_in B 24 (by omega)) ?_
    rw [e]
    exact tk_touchE hp hq h7 h9 h16 (fun q1b q2b fhb pnb lvb a1b a2b a3b a4b a5b a6b a7b a8b a9b a10b a11b a12b a13b a14b a15b a16b a17b a18b a19b a20b a21b h5 => H q1b q2b fhb pnb lvb a1b a2b a3b a4b a5b a6b a7b a8b a9b a10b a11b a12b a13b a14b a15b a16b a17b a18b a19b a20b a21b h5)
  refine And.intro (pk_in k 64 hk) (nm_r (tk_at hk h1) ⟨pk_in k 64 hk, nm_r (tk_zat hk h2) ⟨pk_in k 64 hk, nm_r (tk_zat hk h3) ⟨pk_in k 64 hk, nm_r (tk_at hk h4) ⟨tk_in, nm_e ?_⟩⟩⟩⟩)
  rcases ho with rfl | rfl
  · exact br_f (by decide) (br_t (by decide) (br_t rfl (h99 _)))
  · exact br_f (by decide) (br_t (by decide) (br_f (by decide) (br_t rfl (h99 _))))
theorem tk_x8 {k A B w : Nat} {o n : Int32} (hk : k < 64) (hA : A < 4) (hB : B < 4) (h1 : a1 k = o) (h2 : a2 k = nI A) (h3 : a3 k = nI B) (h4 : a4 k = n) (ho : o = 8 ∨ o = 9)
    (hw : w < 32) (hp : a8 B + n = nI w) (hq : q1 < 0) (h5 : a5 0 = 1) (h7 : ∀ j, j < 6 → a7 j = -1) (h9 : ∀ j, a9 j = 0) (h16 : ∀ j, a16 j = 0) (h17 : a17 0 = 0)
    (H : tk_G post (nI (k + 1)) ec pc a22 a1 a2) : wpX_execute post (q1, q2, fh, pn, ec, pc, lv, a1, a2, a3, a4, a5, a6, a7, a8, a9, a10, a11, a12, a13, a14, a15, a16, a17, a18, a19, a20, a21, a22) 0 (nI k) := by
  have e : (nI B).toNatClampNeg = B := nI_clamp (by omega)
  have h99 : wX_execute_99 post 0 o (nI A) (nI B) n q1 q2 fh pn ec pc lv a1 a2 a3 a4 a5 (upd a6 0 (nI (k + 1))) a7 a8 a9 a10 a11 a12 a13 a14 a15 a16 a17 a18 a19 a20 a21 a22 := by
    refine And.intro (pk_in B 24 (by omega)) ?_
    rw [e, hp]
    exact tk_touchI hA hw h16 h17 (fun b8 b16 b17 b18 b19 hb => H _ _ _ _ _ _ _ _ _ _ _ _ _ _ _ _ _ _ _ _ _ _ _ _ (Or.inl hq) (h7 0 (by omega)) (fun j _ => Or.inl (h9 j)) hb h5 pk_us)
  refine And.intro (pk_in k 64 hk) (nm_r (tk_at hk h1) ⟨pk_in k 64 hk, nm_r (tk_zat hk h2) ⟨pk_in k 64 hk, nm_r (tk_zat hk h3) ⟨pk_in k 64 hk, nm_r (tk_at hk h4) ⟨tk_in, nm_r (e' := upd a6 0 (nI (k + 1))) (by rw [nI_1]; rfl) ?_⟩⟩⟩⟩)
  rcases ho with rfl | rfl
  · exact br_f (by decide) (br_t (by decide) (br_t rfl h99))
  · exact br_f (by decide) (br_t (by decide) (br_f (by decide) (br_t rfl h99)))
/-! jumps: ops 10, 11, 12 -/
theorem tk_x10 {k A : Nat} {o n : Int32} (hk : k < 64) (hA : A < 4) (h1 : a1 k = o) (h2 : a2 k = nI A) (h4 : a4 k = n)
    (ho : o = 11 ∨ (o = 10 ∧ a8 A = 0) ∨ (o = 12 ∧ ¬ a8 A = 0)) (H : ∀ b6 : Nat → Int32, b6 0 = n → post (q1, q2, fh, pn, ec, pc, lv, a1, a2, a3, a4, a5, b6, a7, a8, a9, a10, a11, a12, a13, a14, a15, a16, a17, a18, a19, a20, a21, a22)) : wpX_execute post (q1, q2, fh, pn, ec, pc, lv, a1, a2, a3, a4, a5, a6, a7, a8, a9, a10, a11, a12, a13, a14, a15, a16, a17, a18, a19, a20, a21, a22) 0 (nI k) := by
  have e : (nI A).toNatClampNeg = A := nI_clamp (by omega)
  refine And.intro (pk_in k 64 hk) (nm_r (tk_at hk h1) ⟨pk_in k 64 hk, nm_r (tk_zat hk h2) ⟨pk_in k 64 hk, nm_e ⟨pk_in k 64 hk, nm_r (tk_at hk h4) ⟨tk_in, nm_e ?_⟩⟩⟩⟩)
  rw [e]
  rcases ho with rfl | ⟨rfl, hz⟩ | ⟨rfl, hz⟩
  · exact br_f (by decide) (br_t (by decide) (br_f (by decide) (br_f (by decide) (br_f (by decide) ⟨pk_in A 24 (by omega), br_c (fun _ => br_t rfl ⟨tk_in, nm_e (H _ pk_us)⟩) (fun _ => br_t rfl ⟨tk_in, nm_e (H _ pk_us)⟩)⟩))))
  · exact br_f (by decide) (br_t (by decide) (br_f (by decide) (br_f (by decide) (br_f (by decide) ⟨pk_in A 24 (by omega), br_t hz (br_f (by decide) (br_t rfl (br_t rfl ⟨tk_in, nm_e (H _ pk_us)⟩)))⟩))))
  · exact br_f (by decide) (br_t (by decide) (br_f (by decide) (br_f (by decide) (br_f (by decide) ⟨pk_in A 24 (by omega), br_f hz (br_f (by decide) (br_f (by decide) (br_t rfl ⟨tk_in, nm_e (H _ pk_us)⟩)))⟩))))
theorem tk_x10n {k A : Nat} {o : Int32} (hk : k < 64) (hA : A < 4) (h1 : a1 k = o) (h2 : a2 k = nI A)
    (ho : (o = 10 ∧ ¬ a8 A = 0) ∨ (o = 12 ∧ a8 A = 0)) (hq : q1 < 0) (h5 : a5 0 = 1) (h7 : ∀ j, j < 6 → a7 j = -1) (h9 : ∀ j, a9 j = 0) (h16 : ∀ j, a16 j = 0)
    (H : tk_G post (nI (k + 1)) ec pc a22 a1 a2) : wpX_execute post (q1, q2, fh, pn, ec, pc, lv, a1, a2, a3, a4, a5, a6, a7, a8, a9, a10, a11, a12, a13, a14, a15, a16, a17, a18, a19, a20, a21, a22) 0 (nI k) := by
  have e : (nI A).toNatClampNeg = A := nI_clamp (by omega)
  have HH : post (q1, q2, fh, pn, ec, pc, lv, a1, a2, a3, a4, a5, upd a6 0 (nI (k + 1)), a7, a8, a9, a10, a11, a12, a13, a14, a15, a16, a17, a18, a19, a20, a21, a22) := H _ _ _ _ _ _ _ _ _ _ _ _ _ _ _ _ _ _ _ _ _ _ _ _ (Or.inl hq) (h7 0 (by omega)) (fun j _ => Or.inl (h9 j)) (fun j _ => Or.inl (h16 j)) h5 pk_us
  refine And.intro (pk_in k 64 hk) (nm_r (tk_at hk h1) ⟨pk_in k 64 hk, nm_r (tk_zat hk h2) ⟨pk_in k 64 hk, nm_e ⟨pk_in k 64 hk, nm_e ⟨tk_in, nm_r (e' := upd a6 0 (nI (k + 1))) (by rw [nI_1]; rfl) ?_⟩⟩⟩⟩)
  rw [e]
  rcases ho with ⟨rfl, hz⟩ | ⟨rfl, hz⟩
  · exact br_f (by decide) (br_t (by decide) (br_f (by decide) (br_f (by decide) (br_f (by decide) ⟨pk_in A 24 (by omega), br_f hz (br_f (by decide) (br_t rfl (br_f (by decide) HH)))⟩))))
  · exact br_f (by decide) (br_t (by decide) (br_f (by decide) (br_f (by decide) (br_f (by decide) ⟨pk_in A 24 (by omega), br_t hz (br_f (by decide) (br_f (by decide) (br_f (by decide) HH)))⟩))))
end
end
section
/-! ops 13 .. 24 -/
section
variable {q1 q2 fh pn : Int32} {ec : Int64} {pc lv : Int32} {a1 a2 a3 a4 a5 a6 a7 a8 a9 a10 a11 a12 a13 a14 a15 a16 a17 a18 a19 a20 a21 a22 : Nat → Int32}
variable {post : St2 → Prop} {posi : Int32 → Prop} {posu : Int32 → St2 → Prop}
theorem tk_eD0 {p : Int32} (h9 : ∀ j, a9 j = 0) (h : p = 0 ∨ p = 1) (H : posi p) : wpX_emptyDescriptor posi (q1, q2, fh, pn, ec, pc, lv, a1, a2, a3, a4, a5, a6, a7, a8, a9, a10, a11, a12, a13, a14, a15, a16, a17, a18, a19, a20, a21, a22) 0 p := by
  rcases h with rfl | rfl
  · exact Exists.intro 1 (br_f (by decide) ⟨tk_in, br_t (h9 _) H⟩)
  · exact Exists.intro 1 (br_f (by decide) ⟨tk_in, br_t (h9 _) H⟩)
theorem tk_freePipe (h14 : a14 0 = 0) (h15 : a15 0 = 0) (H : posi 0) : wpX_freePipe posi (q1, q2, fh, pn, ec, pc, lv, a1, a2, a3, a4, a5, a6, a7, a8, a9, a10, a11, a12, a13, a14, a15, a16, a17, a18, a19, a20, a21, a22) := by
  have hn : a14 (0 : Int32).toNatClampNeg + a15 (0 : Int32).toNatClampNeg ≤ 0 := by
    rw [show a14 (0 : Int32).toNatClampNeg = 0 from h14, show a15 (0 : Int32).toNatClampNeg = 0 from h15]
    decide
  exact Exists.intro 1 (br_f (by decide) (And.intro tk_in ⟨tk_in, br_t hn (br_t rfl H)⟩))
theorem tk_makePipe {A B : Nat} (hA : A < 4) (hB : B < 4) (h9 : ∀ j, a9 j = 0) (h14 : a14 0 = 0) (h15 : a15 0 = 0)
    (H : ∀ b8 b9 b11 b12 b14 b15 : Nat → Int32, tk_d b9 → post (q1, q2, fh, pn, ec, pc, lv, a1, a2, a3, a4, a5, a6, a7, b8, b9, a10, b11, b12, a13, b14, b15, a16, a17, a18, a19, a20, a21, a22)) : wpX_makePipe post (q1, q2, fh, pn, ec, pc, lv, a1, a2, a3, a4, a5, a6, a7, a8, a9, a10, a11, a12, a13, a14, a15, a16, a17, a18, a19, a20, a21, a22) 0 (nI A) (nI B) := by
  unfold wpX_makePipe
  refine tk_eD0 h9 (Or.inl rfl) (br_t (by decide) (tk_eD0 h9 (Or.inr (by decide)) ?_))
  unfold wX_makePipe_26
  refine tk_freePipe h14 h15 (br_f (by decide) (br_t (by decide) ⟨tk_in, nm_e ⟨tk_in, nm_e ⟨tk_in, nm_e ⟨tk_in, nm_e ⟨tk_in, nm_e ⟨tk_in, nm_e ⟨pk_in A 24 (by omega) (tk_z _), nm_e ⟨pk_in B 24 (by omega) (tk_z _), nm_e (H _ _ _ _ _ _ ?_)⟩⟩⟩⟩⟩⟩⟩⟩))
  intro j hj
  show upd (upd a9 0 1) 1 2 j = 0 ∨ upd (upd a9 0 1) 1 2 j = 1 ∨ upd (upd a9 0 1) 1 2 j = 2
  unfold upd
  split
  · exact Or.inr (Or.inr rfl)
  · split
    · exact Or.inr (Or.inl rfl)
    · exact Or.inl (h9 j)
theorem tk_takeChild {A B : Nat} (hA : A < 4) (h5 : ∀ j, j < 6 → ¬ a5 j = 3) (H : ∀ b8 : Nat → Int32, post (q1, q2, fh, pn, ec, pc, lv, a1, a2, a3, a4, a5, a6, a7, b8, a9, a10, a11, a12, a13, a14, a15, a16, a17, a18, a19, a20, a21, a22)) : wpX_takeChild post (q1, q2, fh, pn, ec, pc, lv, a1, a2, a3, a4, a5, a6, a7, a8, a9, a10, a11, a12, a13, a14, a15, a16, a17, a18, a19, a20, a21, a22) 0 (nI A) (nI B) := by
  unfold wpX_takeChild
  exact tk_endedChild h5 (br_f (by decide) ⟨pk_in A 24 (by omega), nm_e (H _)⟩)
theorem tk_writePipe {A : Nat} (hA : A < 4) (H : ∀ b8 : Nat → Int32, posu 1 (q1, q2, fh, pn, ec, pc, lv, a1, a2, a3, a4, a5, a6, a7, b8, a9, a10, a11, a12, a13, a14, a15, a16, a17, a18, a19, a20, a21, a22)) : wpX_writePipe posu (q1, q2, fh, pn, ec, pc, lv, a1, a2, a3, a4, a5, a6, a7, a8, a9, a10, a11, a12, a13, a14, a15, a16, a17, a18, a19, a20, a21, a22) 0 0 (nI A) :=
  br_t rfl (And.intro (pk_in A 24 (by omega) (tk_z _)) (nm_e (H _)))
theorem tk_print {v : Int32} (hc : pc = 0) (H : post (q1, q2, fh, pn, ec, 1, lv, a1, a2, a3, a4, a5, a6, a7, a8, a9, a10, a11, a12, a13, a14, a15, a16, a17, a18, a19, a20, a21, upd a22 0 v)) : wpX_print post (q1, q2, fh, pn, ec, pc, lv, a1, a2, a3, a4, a5, a6, a7, a8, a9, a10, a11, a12, a13, a14, a15, a16, a17, a18, a19, a20, a21, a22) v := by
  subst hc
  exact br_f (by decide) ⟨tk_in, nm_e (nm_r (e' := 1) (by decide) H)⟩
/-! fork -/
theorem tk_share {x : Nat} (hx : x < 4) (h16 : ∀ j, a16 j = 0) (H : ∀ b16 : Nat → Int32, (∀ j, b16 j = 0) → post (q1, q2, fh, pn, ec, pc, lv, a1, a2, a3, a4, a5, a6, a7, a8, a9, a10, a11, a12, a13, a14, a15, b16, a17, a18, a19, a20, a21, a22)) : wpX_sharePage post (q1, q2, fh, pn, ec, pc, lv, a1, a2, a3, a4, a5, a6, a7, a8, a9, a10, a11, a12, a13, a14, a15, a16, a17, a18, a19, a20, a21, a22) ((4 * 0) + nI x) ((4 * 1) + nI x) := by
  have e1 : (4 * 1 : Int32) + nI x = nI (4 + x) := by
    rw [show (4 * 1 : Int32) = nI 4 from by decide, nI_add]
  have hz : ∀ j, upd a16 ((4 * 1 : Int32) + nI x).toNatClampNeg (vp_nar .byte (a16 ((4 * 0 : Int32) + nI x).toNatClampNeg)) j = 0 := by
    intro j
    rw [h16]
    exact tk_uz h16 j
  have i0 : vp_in ((4 * 0) + nI x) 24 := pk_in x 24 (by omega) (tk_z _)
  refine And.intro i0 ⟨pk_in (4 + x) 24 (by omega) e1, nm_e ⟨i0, br_t ?_ ⟨i0, br_t ?_ (H _ hz)⟩⟩⟩
  · rw [hz]
    decide
  · rw [hz]
    decide
theorem tk_f109 (hl : lv = 2) (hq : q2 < 0) (h16 : ∀ j, a16 j = 0)
    (H : ∀ b10 b16 : Nat → Int32, b10 1 < 0 → (∀ j, b16 j = 0) → posu 1 (1, 1, fh, pn, ec, pc, lv, a1, a2, a3, a4, a5, a6, a7, a8, a9, b10, a11, a12, a13, a14, a15, b16, a17, a18, a19, a20, a21, a22)) : ∃ n, wX_fork_109 posu 0 1 n 0 q1 q2 fh pn ec pc lv a1 a2 a3 a4 a5 a6 a7 a8 a9 a10 a11 a12 a13 a14 a15 a16 a17 a18 a19 a20 a21 a22 := by
  have h10 : upd a10 (1 : Int32).toNatClampNeg (-1) 1 < 0 := by
    rw [show upd a10 (1 : Int32).toNatClampNeg (-1) 1 = -1 from pk_us]
    decide
  subst hl
  refine pk_loop (σ := Nat → Int32) (fun n i s => wX_fork_109 posu 0 1 n (nI i) q1 q2 fh pn ec pc 2 a1 a2 a3 a4 a5 a6 a7 a8 a9 a10 a11 a12 a13 a14 a15 s a17 a18 a19 a20 a21 a22) (fun _ s => ∀ j, s j = 0) 4 0 a16 (by omega) h16
    (fun n s hs => pk_le 4 4 (fun _ => tk_enq hq tk_in (H _ _ h10 hs)) (fun z => absurd z (by omega)))
    (fun n i s hi hs hw => pk_le 4 i (fun z => absurd z (by omega)) (fun _ => br_f (by decide) (tk_share hi hs (fun b16 hb => nm_r (nI_1 i) (hw b16 hb)))))
theorem tk_fork (hl : lv = 2) (hq : q2 < 0) (h50 : a5 0 = 1) (h51 : a5 1 = 0) (h9 : ∀ j, a9 j = 0) (h16 : ∀ j, a16 j = 0)
    (H : ∀ b5 b6 b7 b8 b9 b10 b16 : Nat → Int32, b5 0 = 1 → b6 0 = a6 0 → b7 0 = a7 0 → (∀ j, b9 j = 0) → b10 1 < 0 → (∀ j, b16 j = 0) → posu 1 (1, 1, fh, pn, ec, pc, lv, a1, a2, a3, a4, b5, b6, b7, b8, b9, b10, a11, a12, a13, a14, a15, b16, a17, a18, a19, a20, a21, a22)) :
    wpX_fork posu (q1, q2, fh, pn, ec, pc, lv, a1, a2, a3, a4, a5, a6, a7, a8, a9, a10, a11, a12, a13, a14, a15, a16, a17, a18, a19, a20, a21, a22) 0 := by
  unfold wpX_fork
  refine tk_fp1 h50 h51 (br_t (by decide) ⟨tk_in, nm_e ⟨tk_in, nm_e ⟨tk_in, tk_in, nm_e ?_⟩⟩⟩)
  refine pk_loop (σ := (Nat → Int32) × (Nat → Int32)) (fun n i s => wX_fork_41 posu 0 1 n (nI i) q1 q2 fh pn ec pc lv a1 a2 a3 a4 (upd a5 (1 : Int32).toNatClampNeg 1) (upd a6 (1 : Int32).toNatClampNeg (a6 (0 : Int32).toNatClampNeg)) (upd a7 (1 : Int32).toNatClampNeg ((0 : Int32).toInt8.toInt32)) s.1 s.2 a10 a11 a12 a13 a14 a15 a16 a17 a18 a19 a20 a21 a22)
    (fun _ s => ∀ j, s.2 j = 0) 4 0 (a8, a9) (by omega) h9 (fun n s hs => ?_) (fun n i s hi hs hw => ?_)
  · exact pk_le 4 4 (fun _ => tk_f109 hl hq h16 (fun b10 b16 hb10 hb16 => H _ _ _ _ _ _ _ ((pk_un (by decide)).trans h50) (pk_un (by decide)) (pk_un (by decide)) hs hb10 hb16)) (fun z => absurd z (by omega))
  · have e1 : (4 * 1 : Int32) + nI i = nI (4 + i) := by
      rw [show (4 * 1 : Int32) = nI 4 from by decide, nI_add]
    have hz : ∀ j, upd s.2 ((4 * 1 : Int32) + nI i).toNatClampNeg (vp_nar .byte (s.2 ((4 * 0 : Int32) + nI i).toNatClampNeg)) j = 0 := by
      intro j
      rw [hs]
      exact tk_uz hs j
    have i0 : vp_in ((4 * 0) + nI i) 24 := pk_in i 24 (by omega) (tk_z _)
    have i1 : vp_in ((4 * 1) + nI i) 24 := pk_in (4 + i) 24 (by omega) e1
    exact pk_le 4 i (fun z => absurd z (by omega)) (fun _ => ⟨i0, i1, nm_e ⟨i0, i1, nm_e ⟨i1, br_t (hz _) (nm_r (nI_1 i) (hw (_, _) hz))⟩⟩⟩)
/-! the kernel is asked: ops 13, 16, 18, 19, 22, 23, 24 -/
theorem tk_ask {o v : Int32} {A : Nat} (hA : A < 4) (hq1 : q1 < 0) (hl : lv = 2) (hq : q2 < 0) (h50 : a5 0 = 1) (h5 : ∀ j, 0 < j → j < 6 → a5 j = 0) (h9 : ∀ j, a9 j = 0) (h16 : ∀ j, a16 j = 0)
    (H : ∀ (r1 r2 : Int32) (b5 b6 b7 b8 b9 b10 b16 : Nat → Int32), tk_q r1 b10 → b5 0 = 1 → b6 0 = a6 0 → b7 0 = a7 0 → (∀ j, b9 j = 0) → (∀ j, b16 j = 0) → post (r1, r2, fh, pn, ec, pc, lv, a1, a2, a3, a4, b5, b6, b7, b8, b9, b10, a11, a12, a13, a14, a15, b16, a17, a18, a19, a20, a21, a22)) :
    wpX_askKernel post (q1, q2, fh, pn, ec, pc, lv, a1, a2, a3, a4, a5, a6, a7, a8, a9, a10, a11, a12, a13, a14, a15, a16, a17, a18, a19, a20, a21, a22) 0 o (nI A) v := by
  have iA : vp_in (nI A) 24 := pk_in A 24 (by omega)
  have HH : ∀ b8 : Nat → Int32, post (q1, q2, fh, pn, ec, pc, lv, a1, a2, a3, a4, a5, a6, a7, b8, a9, a10, a11, a12, a13, a14, a15, a16, a17, a18, a19, a20, a21, a22) := fun b8 => H _ _ _ _ _ _ _ _ _ (Or.inl hq1) h50 rfl rfl h9 h16
  refine br_c (fun _ => tk_fork hl hq h50 (h5 1 (by omega) (by omega)) h9 h16 (fun b5 b6 b7 b8 b9 b10 b16 k5 k6 k7 k9 k10 k16 => ?_)) (fun _ => br_c (fun _ => ?_) (fun _ => br_c (fun _ => ?_) (fun _ => br_c (fun _ => ?_) (fun _ => br_c (fun _ => ?_) (fun _ => br_c (fun _ => ?_) (fun _ => ?_))))))
  · have e : nI A + 4 * ((1 : Int32) - 0) = nI (A + 4) := by
      rw [show 4 * ((1 : Int32) - 0) = nI 4 from by decide, nI_add]
    exact br_f (by decide) ⟨pk_in (A + 4) 24 (by omega) e, nm_e (And.intro iA (nm_e (H _ _ _ _ _ _ _ _ _ (Or.inr ⟨rfl, k10⟩) k5 k6 k7 k9 k16)))⟩
  · exact tk_endAt h9 (br_t rfl ⟨iA, nm_e (HH _)⟩)
  · exact tk_endAt h9 (br_t rfl ⟨iA, nm_e (HH _)⟩)
  · refine tk_endAt h9 ?_
    unfold wpX_copyEnd
    exact tk_eD0 h9 (Or.inl rfl) (br_t rfl ⟨iA, nm_e (HH _)⟩)
  · refine br_c (fun _ => ⟨iA, nm_e (HH _)⟩) (fun zp => ?_)
    unfold wpX_isAlive
    refine br_c (fun _ => br_t rfl (br_t rfl ⟨iA, nm_e (HH _)⟩)) (fun z => br_c (fun _ => br_t rfl (br_t rfl ⟨iA, nm_e (HH _)⟩)) (fun z2 => br_f (by decide) ?_))
    obtain ⟨j, hj, rfl⟩ := nI_of2 (M := 5) (n := 5) (by decide) z (by
      rw [Int32.le_iff_toInt_le]
      rw [Int32.le_iff_toInt_le] at z2
      have h6 : (6 : Int32).toInt = 6 := by decide
      have h5 : (5 : Int32).toInt = 5 := by decide
      omega)
    have hj0 : 0 < j := by
      rcases Nat.eq_zero_or_pos j with h | h
      · subst h
        exact absurd rfl zp
      · exact h
    have e : a5 (nI j).toNatClampNeg = 0 := by
      rw [nI_clamp (by omega)]
      exact h5 j hj0 (by omega)
    rw [e]
    exact ⟨pk_in j 6 (by omega), br_f (by decide) ⟨pk_in j 6 (by omega), br_f (by decide) (br_t rfl ⟨iA, nm_e (HH _)⟩)⟩⟩
  · exact ⟨iA, nm_e (HH _)⟩
  · exact ⟨tk_in, nm_e ⟨iA, nm_e (HH _)⟩⟩
end
end
section
/-! the instruction 13 .. 24 as a whole -/
section
variable {q1 q2 fh pn : Int32} {ec : Int64} {pc lv : Int32} {a1 a2 a3 a4 a5 a6 a7 a8 a9 a10 a11 a12 a13 a14 a15 a16 a17 a18 a19 a20 a21 a22 : Nat → Int32}
variable {post : St2 → Prop} {posi : Int32 → Prop} {posu : Int32 → St2 → Prop}
theorem tk_s0 (x : Int32) : x - 4 * 0 = x := by
  rw [show (4 * 0 : Int32) = 0 from by decide, Int32.sub_zero]
theorem tk_x13 {k A B : Nat} {o : Int32} (hk : k < 64) (hA : A < 4) (hB : B < 4) (h1 : a1 k = o) (h2 : a2 k = nI A) (h3 : a3 k = nI B)
    (o0 : ¬ o = 0) (o7 : 7 < o) (o8 : ¬ o = 8) (o9 : ¬ o = 9) (o12 : 12 < o) (o20 : ¬ o = 20) (o21 : ¬ o = 21)
    (hq1 : q1 < 0) (hq : q2 < 0) (hl : lv = 2) (h50 : a5 0 = 1) (h5 : ∀ j, 0 < j → j < 6 → a5 j = 0) (h7 : ∀ j, j < 6 → a7 j = -1) (h9 : ∀ j, a9 j = 0)
    (h14 : a14 0 = 0) (h15 : a15 0 = 0) (h16 : ∀ j, a16 j = 0) (H : tk_G post (nI (k + 1)) ec pc a22 a1 a2) : wpX_execute post (q1, q2, fh, pn, ec, pc, lv, a1, a2, a3, a4, a5, a6, a7, a8, a9, a10, a11, a12, a13, a14, a15, a16, a17, a18, a19, a20, a21, a22) 0 (nI k) := by
  have h53 : ∀ j, j < 6 → ¬ a5 j = 3 := by
    intro j hj
    rcases Nat.eq_zero_or_pos j with h | h
    · rw [h, h50]
      decide
    · rw [h5 j h hj]
      decide
  have d0 : tk_d a9 := fun j _ => Or.inl (h9 j)
  have p0 : tk_p a16 := fun j _ => Or.inl (h16 j)
  have H8 : ∀ b8 : Nat → Int32, post (q1, q2, fh, pn, ec, pc, lv, a1, a2, a3, a4, a5, upd a6 0 (nI (k + 1)), a7, b8, a9, a10, a11, a12, a13, a14, a15, a16, a17, a18, a19, a20, a21, a22) := fun b8 => H _ _ _ _ _ _ _ _ _ _ _ _ _ _ _ _ _ _ _ _ _ _ _ _ (Or.inl hq1) (h7 0 (by omega)) d0 p0 h50 pk_us
  refine And.intro (pk_in k 64 hk) (nm_r (tk_at hk h1) ⟨pk_in k 64 hk, nm_r (tk_zat hk h2) ⟨pk_in k 64 hk, nm_r (tk_zat hk h3) ⟨pk_in k 64 hk, nm_e ⟨tk_in, nm_r (e' := upd a6 0 (nI (k + 1))) (by rw [nI_1]; rfl) ?_⟩⟩⟩⟩)
  rw [tk_s0, tk_s0]
  refine br_f o0 (br_t o7 (br_f o8 (br_f o9 (br_t o12 (br_c (fun _ => ?_) (fun _ => br_c (fun _ => ?_) (fun _ => br_c (fun _ => ?_) (fun _ => br_f o21 (br_f o20 ?_)))))))))
  · exact ⟨pk_in B 24 (by omega), tk_endAt h9 (tk_writePipe hA (fun b8 => br_f (by decide) (H8 b8)))⟩
  · exact tk_takeChild hA h53 H8
  · exact tk_makePipe hA hB h9 h14 h15 (fun b8 b9 b11 b12 b14 b15 hb => H _ _ _ _ _ _ _ _ _ _ _ _ _ _ _ _ _ _ _ _ _ _ _ _ (Or.inl hq1) (h7 0 (by omega)) hb p0 h50 pk_us)
  · exact ⟨pk_in B 24 (by omega), tk_ask hA hq1 hl hq h50 h5 h9 h16 (fun r1 r2 b5 b6 b7 b8 b9 b10 b16 k1 k5 k6 k7 k9 k16 => H _ _ _ _ _ _ _ _ _ _ _ _ _ _ _ _ _ _ _ _ _ _ _ _ k1 (k7.trans (h7 0 (by omega))) (fun j _ => Or.inl (k9 j)) (fun j _ => Or.inl (k16 j)) k5 (k6.trans pk_us))⟩
theorem tk_x20 {k : Nat} (hk : k < 64) (h1 : a1 k = 20) (H : ∀ b6 : Nat → Int32, post (q1, q2, fh, pn, ec, pc, lv, a1, a2, a3, a4, a5, b6, a7, a8, a9, a10, a11, a12, a13, a14, a15, a16, a17, a18, a19, a20, a21, a22)) : wpX_execute post (q1, q2, fh, pn, ec, pc, lv, a1, a2, a3, a4, a5, a6, a7, a8, a9, a10, a11, a12, a13, a14, a15, a16, a17, a18, a19, a20, a21, a22) 0 (nI k) :=
  And.intro (pk_in k 64 hk) (nm_r (tk_at hk h1) ⟨pk_in k 64 hk, nm_e ⟨pk_in k 64 hk, nm_e ⟨pk_in k 64 hk, nm_e ⟨tk_in, nm_e
    (br_f (by decide) (br_t (by decide) (br_f (by decide) (br_f (by decide) (br_t (by decide) (br_f (by decide) (br_f (by decide) (br_f (by decide) (br_f (by decide) (br_t rfl (H _)))))))))))⟩⟩⟩⟩)
theorem tk_x21 {k A : Nat} (hk : k < 64) (hA : A < 4) (h1 : a1 k = 21) (h2 : a2 k = nI A) (hc : pc = 0) (hq : q1 < 0) (h5 : a5 0 = 1) (h7 : ∀ j, j < 6 → a7 j = -1) (h9 : ∀ j, a9 j = 0) (h16 : ∀ j, a16 j = 0)
    (H : tk_G post (nI (k + 1)) ec 1 (upd a22 0 (a8 A)) a1 a2) : wpX_execute post (q1, q2, fh, pn, ec, pc, lv, a1, a2, a3, a4, a5, a6, a7, a8, a9, a10, a11, a12, a13, a14, a15, a16, a17, a18, a19, a20, a21, a22) 0 (nI k) := by
  have e : (nI A).toNatClampNeg = A := nI_clamp (by omega)
  refine And.intro (pk_in k 64 hk) (nm_r (tk_at hk h1) ⟨pk_in k 64 hk, nm_r (tk_zat hk h2) ⟨pk_in k 64 hk, nm_e ⟨pk_in k 64 hk, nm_e ⟨tk_in, nm_r (e' := upd a6 0 (nI (k + 1))) (by rw [nI_1]; rfl) ?_⟩⟩⟩⟩)
  rw [e]
  exact br_f (by decide) (br_t (by decide) (br_f (by decide) (br_f (by decide) (br_t (by decide) (br_f (by decide) (br_f (by decide) (br_f (by decide) (br_t rfl ⟨pk_in A 24 (by omega), tk_print hc
    (H _ _ _ _ _ _ _ _ _ _ _ _ _ _ _ _ _ _ _ _ _ _ _ _ (Or.inl hq) (h7 0 (by omega)) (fun j _ => Or.inl (h9 j)) (fun j _ => Or.inl (h16 j)) h5 pk_us)⟩))))))))
end
end
section
/-! work, turn, run -/
/-- as tk_O; where the process is ready, the queue has no last one -/
def tk_P (post : St2 → Prop) (st : Int32) (ec : Int64) (pc : Int32) (a22 : Nat → Int32) : Prop :=
  ∀ (q1 : Int32) (q2 : Int32) (fh : Int32) (pn : Int32) (lv : Int32) (a1 : Nat → Int32) (a2 : Nat → Int32) (a3 : Nat → Int32) (a4 : Nat → Int32) (a5 : Nat → Int32) (a6 : Nat → Int32) (a7 : Nat → Int32) (a8 : Nat → Int32) (a9 : Nat → Int32) (a10 : Nat → Int32) (a11 : Nat → Int32) (a12 : Nat → Int32) (a13 : Nat → Int32) (a14 : Nat → Int32) (a15 : Nat → Int32) (a16 : Nat → Int32) (a17 : Nat → Int32) (a18 : Nat → Int32) (a19 : Nat → Int32) (a20 : Nat → Int32) (a21 : Nat → Int32), q2 < 0 ∨ ¬ st = 1 → a5 0 = st → post (q1, q2, fh, pn, ec, pc, lv, a1, a2, a3, a4, a5, a6, a7, a8, a9, a10, a11, a12, a13, a14, a15, a16, a17, a18, a19, a20, a21, a22)
section
variable {q1 q2 fh pn : Int32} {ec : Int64} {pc lv : Int32} {a1 a2 a3 a4 a5 a6 a7 a8 a9 a10 a11 a12 a13 a14 a15 a16 a17 a18 a19 a20 a21 a22 : Nat → Int32}
variable {post : St2 → Prop} {posi : Int32 → Prop} {posu : Int32 → St2 → Prop}
/-- the spot is outside the code -/
theorem tk_wO {n : Nat} {x3 s : Int32} (h3 : ¬ 3 ≤ x3) (h6 : a6 0 = s) (hs : s < 0 ∨ 63 < s)
    (hq : tk_q q1 a10) (h7 : a7 0 = -1) (h9 : tk_d a9) (h16 : tk_p a16) (H : tk_O post 0 (ec + 1) pc a22) : wX_work_4 post 0 (n + 1) 1 x3 q1 q2 fh pn ec pc lv a1 a2 a3 a4 a5 a6 a7 a8 a9 a10 a11 a12 a13 a14 a15 a16 a17 a18 a19 a20 a21 a22 := by
  have h33 : wX_work_33 post 0 q1 q2 fh pn ec pc lv a1 a2 a3 a4 a5 a6 a7 a8 a9 a10 a11 a12 a13 a14 a15 a16 a17 a18 a19 a20 a21 a22 := nm_e (tk_end hq h7 h9 h16 (fun q1b q2b fhb pnb lvb a1b a2b a3b a4b a5b a6b a7b a8b a9b a10b a11b a12b a13b a14b a15b a16b a17b a18b a19b a20b a21b h5 => H q1b q2b fhb pnb lvb a1b a2b a3b a4b a5b a6b a7b a8b a9b a10b a11b a12b a13b a14b a15b a16b a17b a18b a19b a20b a21b h5))
  exact br_f h3 (br_f (by decide) ⟨tk_in, nm_r (e' := s) h6 (br_c (fun _ => h33) (fun z => br_c (fun z2 => absurd hs (fun h => h.elim z (fun h => Int32.not_lt.mpr z2 h))) (fun _ => h33)))⟩)
/-- an instruction that ends the process -/
theorem tk_wE {n k : Nat} {x3 : Int32} (h3 : ¬ 3 ≤ x3) (hk : k < 64) (h6 : a6 0 = nI k)
    (hw : ∀ P : Int32 → Prop, P 0 → wpX_wouldWait P (q1, q2, fh, pn, ec, pc, lv, a1, a2, a3, a4, a5, a6, a7, a8, a9, a10, a11, a12, a13, a14, a15, a16, a17, a18, a19, a20, a21, a22) 0) (hx : ∀ K : St2 → Prop, tk_O K 0 (ec + 1) pc a22 → wpX_execute K (q1, q2, fh, pn, ec + 1, pc, lv, a1, a2, a3, a4, a5, a6, a7, a8, a9, a10, a11, a12, a13, a14, a15, a16, a17, a18, a19, a20, a21, a22) 0 (nI k))
    (H : tk_O post 0 (ec + 1) pc a22) : wX_work_4 post 0 (n + 2) 1 x3 q1 q2 fh pn ec pc lv a1 a2 a3 a4 a5 a6 a7 a8 a9 a10 a11 a12 a13 a14 a15 a16 a17 a18 a19 a20 a21 a22 := by
  refine br_f h3 (br_f (by decide) ⟨tk_in, nm_r (e' := nI k) h6 (br_f (nI_pos (by omega)) (br_t (show nI k ≤ nI 63 from nI_le (by omega) (by omega)) (hw _ (br_t rfl (nm_e (hx _ (fun q1b q2b fhb pnb lvb a1b a2b a3b a4b a5b a6b a7b a8b a9b a10b a11b a12b a13b a14b a15b a16b a17b a18b a19b a20b a21b h5 => ?_)))))))⟩)
  have hn : ¬ a5b (0 : Int32).toNatClampNeg = 1 := by
    rw [show a5b (0 : Int32).toNatClampNeg = 0 from h5]
    decide
  exact ⟨tk_in, br_f hn (nm_e (br_c (fun _ => H q1b q2b fhb pnb lvb a1b a2b a3b a4b a5b a6b a7b a8b a9b a10b a11b a12b a13b a14b a15b a16b a17b a18b a19b a20b a21b h5) (fun _ => br_t rfl (H q1b q2b fhb pnb lvb a1b a2b a3b a4b a5b a6b a7b a8b a9b a10b a11b a12b a13b a14b a15b a16b a17b a18b a19b a20b a21b h5))))⟩
/-- where the process goes on, it ends with its next instruction -/
theorem tk_w2 {n : Nat} {x3 s : Int32} (h3 : ¬ 3 ≤ x3) (h6 : a6 0 = s)
    (hs : (s < 0 ∨ 63 < s) ∨ ∃ k A : Nat, k < 64 ∧ A < 4 ∧ s = nI k ∧ a1 k = 0 ∧ a2 k = nI A)
    (hq : tk_q q1 a10) (h7 : a7 0 = -1) (h9 : tk_d a9) (h16 : tk_p a16) (H : tk_O post 0 (ec + 1) pc a22) : wX_work_4 post 0 (n + 2) 1 x3 q1 q2 fh pn ec pc lv a1 a2 a3 a4 a5 a6 a7 a8 a9 a10 a11 a12 a13 a14 a15 a16 a17 a18 a19 a20 a21 a22 := by
  rcases hs with hs | ⟨k, A, hk, hA, rfl, h1, h2⟩
  · exact tk_wO h3 h6 hs hq h7 h9 h16 H
  · exact tk_wE h3 hk h6 (fun P hP => tk_wait0 hk h6 h1 hP) (fun K HK => tk_x0 hk hA h1 h2 hq h7 h9 h16 HK) H
/-- two instructions -/
theorem tk_wG {n k : Nat} {s pc' : Int32} {b22 : Nat → Int32} (hk : k < 64) (h6 : a6 0 = nI k) (h1 : ¬ a1 k = 20)
    (hs : (s < 0 ∨ 63 < s) ∨ ∃ k A : Nat, k < 64 ∧ A < 4 ∧ s = nI k ∧ a1 k = 0 ∧ a2 k = nI A)
    (hw : ∀ P : Int32 → Prop, P 0 → wpX_wouldWait P (q1, q2, fh, pn, ec, pc, lv, a1, a2, a3, a4, a5, a6, a7, a8, a9, a10, a11, a12, a13, a14, a15, a16, a17, a18, a19, a20, a21, a22) 0) (hx : ∀ K : St2 → Prop, tk_G K s (ec + 1) pc' b22 a1 a2 → wpX_execute K (q1, q2, fh, pn, ec + 1, pc, lv, a1, a2, a3, a4, a5, a6, a7, a8, a9, a10, a11, a12, a13, a14, a15, a16, a17, a18, a19, a20, a21, a22) 0 (nI k))
    (H : tk_O post 0 (ec + 1 + 1) pc' b22) : wX_work_4 post 0 (n + 3) 1 0 q1 q2 fh pn ec pc lv a1 a2 a3 a4 a5 a6 a7 a8 a9 a10 a11 a12 a13 a14 a15 a16 a17 a18 a19 a20 a21 a22 := by
  have h1' : ¬ a1 (nI k).toNatClampNeg = 20 := by
    rw [nI_clamp (by omega)]
    exact h1
  refine br_f (by decide) (br_f (by decide) ⟨tk_in, nm_r (e' := nI k) h6 (br_f (nI_pos (by omega)) (br_t (show nI k ≤ nI 63 from nI_le (by omega) (by omega)) (hw _ (br_t rfl (nm_e (hx _ ?_))))))⟩)
  intro q1b q2b fhb pnb lvb a3b a4b a5b a6b a7b a8b a9b a10b a11b a12b a13b a14b a15b a16b a17b a18b a19b a20b a21b hq h7 h9 h16 h5 h6b
  exact ⟨tk_in, br_t h5 ⟨pk_in k 64 hk, br_f h1' (nm_e (tk_w2 (by decide) h6b hs hq h7 h9 h16 H))⟩⟩
/-- one instruction, and the process yields -/
theorem tk_wY {n k : Nat} (hk : k < 64) (h6 : a6 0 = nI k) (h1 : a1 k = 20) (h5 : a5 0 = 1)
    (hw : ∀ P : Int32 → Prop, P 0 → wpX_wouldWait P (q1, q2, fh, pn, ec, pc, lv, a1, a2, a3, a4, a5, a6, a7, a8, a9, a10, a11, a12, a13, a14, a15, a16, a17, a18, a19, a20, a21, a22) 0) (H : ∀ b6 : Nat → Int32, post (q1, q2, fh, pn, ec + 1, pc, lv, a1, a2, a3, a4, a5, b6, a7, a8, a9, a10, a11, a12, a13, a14, a15, a16, a17, a18, a19, a20, a21, a22)) : wX_work_4 post 0 (n + 2) 1 0 q1 q2 fh pn ec pc lv a1 a2 a3 a4 a5 a6 a7 a8 a9 a10 a11 a12 a13 a14 a15 a16 a17 a18 a19 a20 a21 a22 := by
  have h1' : a1 (nI k).toNatClampNeg = 20 := by
    rw [nI_clamp (by omega)]
    exact h1
  exact br_f (by decide) (br_f (by decide) ⟨tk_in, nm_r (e' := nI k) h6 (br_f (nI_pos (by omega)) (br_t (show nI k ≤ nI 63 from nI_le (by omega) (by omega)) (hw _ (br_t rfl (nm_e (tk_x20 hk h1 (fun b6 =>
    ⟨tk_in, br_t h5 ⟨pk_in k 64 hk, br_t h1' (nm_e (br_f (by decide) (br_t rfl (H b6))))⟩⟩)))))))⟩)
/-- a jump to itself -/
theorem tk_wJ {n k A : Nat} {o x3 : Int32} (h3 : ¬ 3 ≤ x3) (hk : k < 64) (hA : A < 4) (h6 : a6 0 = nI k) (h1 : a1 k = o) (h2 : a2 k = nI A) (h4 : a4 k = nI k) (h5 : a5 0 = 1)
    (ho : o = 11 ∨ (o = 10 ∧ a8 A = 0) ∨ (o = 12 ∧ ¬ a8 A = 0)) (hw : ∀ P : Int32 → Prop, P 0 → wpX_wouldWait P (q1, q2, fh, pn, ec, pc, lv, a1, a2, a3, a4, a5, a6, a7, a8, a9, a10, a11, a12, a13, a14, a15, a16, a17, a18, a19, a20, a21, a22) 0)
    (H : ∀ b6 : Nat → Int32, b6 0 = nI k → wX_work_4 post 0 n 1 (x3 + 1) q1 q2 fh pn (ec + 1) pc lv a1 a2 a3 a4 a5 b6 a7 a8 a9 a10 a11 a12 a13 a14 a15 a16 a17 a18 a19 a20 a21 a22) : wX_work_4 post 0 (n + 1) 1 x3 q1 q2 fh pn ec pc lv a1 a2 a3 a4 a5 a6 a7 a8 a9 a10 a11 a12 a13 a14 a15 a16 a17 a18 a19 a20 a21 a22 := by
  have h1' : ¬ a1 (nI k).toNatClampNeg = 20 := by
    rw [nI_clamp (by omega), h1]
    rcases ho with rfl | ⟨rfl, _⟩ | ⟨rfl, _⟩ <;> decide
  exact br_f h3 (br_f (by decide) ⟨tk_in, nm_r (e' := nI k) h6 (br_f (nI_pos (by omega)) (br_t (show nI k ≤ nI 63 from nI_le (by omega) (by omega)) (hw _ (br_t rfl (nm_e (tk_x10 hk hA h1 h2 h4 ho (fun b6 h6b =>
    ⟨tk_in, br_t h5 ⟨pk_in k 64 hk, br_f h1' (nm_e (H b6 h6b))⟩⟩)))))))⟩)
theorem tk_wR {n k A B : Nat} {o : Int32} (hk : k < 64) (hA : A < 4) (hB : B < 4) (h6 : a6 0 = nI k) (h1 : a1 k = o) (h2 : a2 k = nI A) (h3 : a3 k = nI B) (h4 : a4 k = nI k) (h5 : a5 0 = 1)
    (h7 : ∀ j, j < 6 → a7 j = -1) (h9 : ∀ j, a9 j = 0)
    (ho : o = 11 ∨ (o = 10 ∧ a8 A = 0) ∨ (o = 12 ∧ ¬ a8 A = 0)) (H : ∀ b6 : Nat → Int32, post (q1, q2, fh, pn, ec + 1 + 1 + 1, pc, lv, a1, a2, a3, a4, a5, b6, a7, a8, a9, a10, a11, a12, a13, a14, a15, a16, a17, a18, a19, a20, a21, a22)) : wX_work_4 post 0 (n + 4) 1 0 q1 q2 fh pn ec pc lv a1 a2 a3 a4 a5 a6 a7 a8 a9 a10 a11 a12 a13 a14 a15 a16 a17 a18 a19 a20 a21 a22 :=
  tk_wJ (by decide) hk hA h6 h1 h2 h4 h5 ho (fun P hP => tk_wait hk hB h6 h3 h7 h9 hP) (fun b6 e6 =>
  tk_wJ (by decide) hk hA e6 h1 h2 h4 h5 ho (fun P hP => tk_wait hk hB e6 h3 h7 h9 hP) (fun c6 f6 =>
  tk_wJ (by decide) hk hA f6 h1 h2 h4 h5 ho (fun P hP => tk_wait hk hB f6 h3 h7 h9 hP) (fun d6 _ => br_t (by decide) (H d6))))
theorem tk_turn {st pc' : Int32} {ec' : Int64} {b22 : Nat → Int32} (h5 : ∀ j, j < 6 → ¬ a5 j = 2) (h10 : a10 0 = -1)
    (hw : ∀ K : St2 → Prop, tk_P K st ec' pc' b22 → wpX_work K (-1, -1, fh, pn, ec, pc, lv, a1, a2, a3, a4, a5, a6, a7, a8, a9, a10, a11, a12, a13, a14, a15, a16, a17, a18, a19, a20, a21, a22) 0) (H : tk_O (posu 1) st ec' pc' b22) : wpX_turn posu (0, q2, fh, pn, ec, pc, lv, a1, a2, a3, a4, a5, a6, a7, a8, a9, a10, a11, a12, a13, a14, a15, a16, a17, a18, a19, a20, a21, a22) := by
  refine pk_loop (σ := Unit) (fun n i _ => wX_turn_2 posu n (nI i) 0 q2 fh pn ec pc lv a1 a2 a3 a4 a5 a6 a7 a8 a9 a10 a11 a12 a13 a14 a15 a16 a17 a18 a19 a20 a21 a22) (fun _ _ => True) 6 0 () (by omega) trivial
    (fun n _ _ => pk_le 6 6 (fun _ => tk_deq h10 (br_t (by decide) (hw _ ?_))) (fun z => absurd z (by omega)))
    (fun n i _ hi _ hw => pk_le 6 i (fun z => absurd z (by omega)) (fun _ => ⟨pk_in i 6 hi, br_f (by rw [nI_clamp (by omega)]; exact h5 i hi) (nm_r (nI_1 i) (hw () trivial))⟩))
  intro q1b q2b fhb pnb lvb a1b a2b a3b a4b a5b a6b a7b a8b a9b a10b a11b a12b a13b a14b a15b a16b a17b a18b a19b a20b a21b hq h5b
  refine ⟨tk_in, br_c (fun z => tk_enq ?_ tk_in (H _ _ _ _ _ _ _ _ _ _ _ _ _ _ _ _ _ _ _ _ _ _ _ _ _ _ h5b)) (fun _ => H _ _ _ _ _ _ _ _ _ _ _ _ _ _ _ _ _ _ _ _ _ _ _ _ _ _ h5b)⟩
  have z' : a5b 0 = 1 := z
  exact hq.resolve_right (fun h => h (h5b.symm.trans z'))
theorem tk_run {st pc' : Int32} {ec' : Int64} {b22 : Nat → Int32} (h5 : ∀ j, j < 6 → ¬ a5 j = 2) (h10 : a10 0 = -1)
    (hw : ∀ K : St2 → Prop, tk_P K st ec' pc' b22 → wpX_work K (-1, -1, fh, pn, ec, pc, lv, a1, a2, a3, a4, a5, a6, a7, a8, a9, a10, a11, a12, a13, a14, a15, a16, a17, a18, a19, a20, a21, a22) 0) (H : tk_O (posu 1) st ec' pc' b22) : wpX_run posu (0, q2, fh, pn, ec, pc, lv, a1, a2, a3, a4, a5, a6, a7, a8, a9, a10, a11, a12, a13, a14, a15, a16, a17, a18, a19, a20, a21, a22) 1 :=
  br_t (by decide) (br_t (by decide) (Exists.intro 2 (br_f (by decide) (br_f (by decide) (tk_turn h5 h10 hw (fun q1b q2b fhb pnb lvb a1b a2b a3b a4b a5b a6b a7b a8b a9b a10b a11b a12b a13b a14b a15b a16b a17b a18b a19b a20b a21b h5b =>
    br_f (by decide) (nm_r (e' := 1) (by decide) (br_t (by decide) (H q1b q2b fhb pnb lvb a1b a2b a3b a4b a5b a6b a7b a8b a9b a10b a11b a12b a13b a14b a15b a16b a17b a18b a19b a20b a21b h5b)))))))))
end
end
section
/-! run(1) from the state behind code and spawn -/
/-- process 0 is in state st, ec' instructions, the first output is out -/
def tk_F (posu : Int32 → St2 → Prop) (st : Int32) (ec : Int64) (out : Int32) : Prop :=
  ∀ (q1 : Int32) (q2 : Int32) (fh : Int32) (pn : Int32) (pc : Int32) (lv : Int32) (a1 : Nat → Int32) (a2 : Nat → Int32) (a3 : Nat → Int32) (a4 : Nat → Int32) (a5 : Nat → Int32) (a6 : Nat → Int32) (a7 : Nat → Int32) (a8 : Nat → Int32) (a9 : Nat → Int32) (a10 : Nat → Int32) (a11 : Nat → Int32) (a12 : Nat → Int32) (a13 : Nat → Int32) (a14 : Nat → Int32) (a15 : Nat → Int32) (a16 : Nat → Int32) (a17 : Nat → Int32) (a18 : Nat → Int32) (a19 : Nat → Int32) (a20 : Nat → Int32) (a21 : Nat → Int32) (a22 : Nat → Int32), a5 0 = st → (pc ≤ 0 ∧ out = 0 ∨ ¬ pc ≤ 0 ∧ a22 0 = out) → posu 1 (q1, q2, fh, pn, ec, pc, lv, a1, a2, a3, a4, a5, a6, a7, a8, a9, a10, a11, a12, a13, a14, a15, a16, a17, a18, a19, a20, a21, a22)
/-- behind spawn(i, x) -/
def tk_I (x i : Int32) (q2 pc lv : Int32) (a5 a6 a7 a8 a9 a10 a14 a15 a16 a17 : Nat → Int32) : Prop :=
  pc = 0 ∧ lv = 2 ∧ a5 0 = 1 ∧ (∀ j, 0 < j → j < 6 → a5 j = 0) ∧ a6 0 = i ∧ (∀ j, j < 6 → a7 j = -1) ∧ a8 0 = x ∧ (∀ j, 0 < j → a8 j = 0) ∧ (∀ j, a9 j = 0) ∧ a10 0 = -1 ∧ a14 0 = 0 ∧ a15 0 = 0 ∧ (∀ j, a16 j = 0) ∧ a17 0 = 0
/-- the code: one instruction, at k -/
def tk_C (k A B : Nat) (o n : Int32) (a1 a2 a3 a4 : Nat → Int32) : Prop :=
  a1 k = o ∧ a2 k = nI A ∧ a3 k = nI B ∧ a4 k = n ∧ (∀ j, j ≠ k → a1 j = 0) ∧ (∀ j, j ≠ k → a2 j = 0)
/-- the next instruction ends the process -/
def tk_X (s : Int32) (a1 a2 : Nat → Int32) : Prop := (s < 0 ∨ 63 < s) ∨ ∃ k A : Nat, k < 64 ∧ A < 4 ∧ s = nI k ∧ a1 k = 0 ∧ a2 k = nI A
theorem tk_next {k A B : Nat} {o n s : Int32} {a1 a2 a3 a4 : Nat → Int32} (hC : tk_C k A B o n a1 a2 a3 a4) (hs : ¬ s = nI k) : tk_X s a1 a2 := by
  obtain ⟨_, _, _, _, z1, z2⟩ := hC
  rcases pk_ix s (n := 64) (by omega) with h | h | ⟨j, hj, rfl⟩
  · exact Or.inl (Or.inl h)
  · refine Or.inl (Or.inr ?_)
    rw [Int32.lt_iff_toInt_lt]
    rw [Int32.le_iff_toInt_le] at h
    have e1 : (63 : Int32).toInt = 63 := by decide
    have e2 : (nI 64).toInt = 64 := by decide
    omega
  · have hj2 : j ≠ k := fun h => hs (by rw [h])
    exact Or.inr ⟨j, 0, hj, by omega, rfl, z1 j hj2, z2 j hj2⟩
theorem tk_nk {k : Nat} (hk : k < 64) : ¬ nI (k + 1) = nI k := by
  rw [nI_eq (by omega) (by omega)]
  omega
section
variable {q1 q2 fh pn : Int32} {ec : Int64} {pc lv : Int32} {a1 a2 a3 a4 a5 a6 a7 a8 a9 a10 a11 a12 a13 a14 a15 a16 a17 a18 a19 a20 a21 a22 : Nat → Int32}
variable {posu : Int32 → St2 → Prop}
theorem tk_runW {st pc' x i out : Int32} {ec' : Int64} {b22 : Nat → Int32} (hI : tk_I x i q2 pc lv a5 a6 a7 a8 a9 a10 a14 a15 a16 a17)
    (hw : ∀ K : St2 → Prop, tk_P K st ec' pc' b22 → ∃ n, wX_work_4 K 0 n 1 0 (-1) (-1) fh pn 0 pc lv a1 a2 a3 a4 a5 a6 a7 a8 a9 a10 a11 a12 a13 a14 a15 a16 a17 a18 a19 a20 a21 a22) (ho : pc' ≤ 0 ∧ out = 0 ∨ ¬ pc' ≤ 0 ∧ b22 0 = out)
    (H : tk_F posu st ec' out) : wpX_run posu (0, q2, fh, pn, 0, pc, lv, a1, a2, a3, a4, a5, a6, a7, a8, a9, a10, a11, a12, a13, a14, a15, a16, a17, a18, a19, a20, a21, a22) 1 := by
  obtain ⟨_, _, h50, h5, _, _, _, _, _, h10, _, _, _, _⟩ := hI
  refine tk_run (fun j hj => ?_) h10 (fun K HK => hw K HK) (fun q1b q2b fhb pnb lvb a1b a2b a3b a4b a5b a6b a7b a8b a9b a10b a11b a12b a13b a14b a15b a16b a17b a18b a19b a20b a21b h5b => H _ _ _ _ _ _ _ _ _ _ _ _ _ _ _ _ _ _ _ _ _ _ _ _ _ _ _ _ h5b ho)
  rcases Nat.eq_zero_or_pos j with h | h
  · rw [h, h50]
    decide
  · rw [h5 j h hj]
    decide
/-- the first instruction is none, or ends the process -/
theorem tk_gX {x i : Int32} (hI : tk_I x i q2 pc lv a5 a6 a7 a8 a9 a10 a14 a15 a16 a17) (hs : tk_X i a1 a2) (H : tk_F posu 0 (0 + 1) 0) : wpX_run posu (0, q2, fh, pn, 0, pc, lv, a1, a2, a3, a4, a5, a6, a7, a8, a9, a10, a11, a12, a13, a14, a15, a16, a17, a18, a19, a20, a21, a22) 1 := by
  have hI' := hI
  obtain ⟨hpc, _, h50, h5, h6, h7, _, _, h9, h10, _, _, h16, _⟩ := hI
  subst hpc
  exact tk_runW hI' (fun K HK => ⟨2, tk_w2 (n := 0) (by decide) h6 hs (Or.inl (by decide)) (h7 0 (by omega)) (fun j _ => Or.inl (h9 j)) (fun j _ => Or.inl (h16 j))
    (fun q1b q2b fhb pnb lvb a1b a2b a3b a4b a5b a6b a7b a8b a9b a10b a11b a12b a13b a14b a15b a16b a17b a18b a19b a20b a21b h5b => HK q1b q2b fhb pnb lvb a1b a2b a3b a4b a5b a6b a7b a8b a9b a10b a11b a12b a13b a14b a15b a16b a17b a18b a19b a20b a21b (Or.inr (by decide)) h5b)⟩) (Or.inl ⟨by decide, rfl⟩) H
/-- a place outside the memory -/
theorem tk_gE {k A B : Nat} {x n o : Int32} (hk : k < 64) (hB : B < 4) (hI : tk_I x (nI k) q2 pc lv a5 a6 a7 a8 a9 a10 a14 a15 a16 a17) (hC : tk_C k A B o n a1 a2 a3 a4)
    (ho : o = 8 ∨ o = 9) (hp : a8 B + n < 0 ∨ 31 < a8 B + n) (H : tk_F posu 0 (0 + 1) 0) : wpX_run posu (0, q2, fh, pn, 0, pc, lv, a1, a2, a3, a4, a5, a6, a7, a8, a9, a10, a11, a12, a13, a14, a15, a16, a17, a18, a19, a20, a21, a22) 1 := by
  have hI' := hI
  obtain ⟨hpc, _, h50, h5, h6, h7, _, _, h9, h10, _, _, h16, _⟩ := hI
  obtain ⟨h1, h2, h3, h4, _, _⟩ := hC
  subst hpc
  exact tk_runW hI' (fun K HK => ⟨2, tk_wE (n := 0) (by decide) hk h6 (fun P hP => tk_wait hk hB h6 h3 h7 h9 hP)
    (fun K2 HK2 => tk_x8E hk hB h1 h2 h3 h4 ho hp (Or.inl (by decide)) (h7 0 (by omega)) (fun j _ => Or.inl (h9 j)) (fun j _ => Or.inl (h16 j)) HK2)
    (fun q1b q2b fhb pnb lvb a1b a2b a3b a4b a5b a6b a7b a8b a9b a10b a11b a12b a13b a14b a15b a16b a17b a18b a19b a20b a21b h5b => HK q1b q2b fhb pnb lvb a1b a2b a3b a4b a5b a6b a7b a8b a9b a10b a11b a12b a13b a14b a15b a16b a17b a18b a19b a20b a21b (Or.inr (by decide)) h5b)⟩) (Or.inl ⟨by decide, rfl⟩) H
theorem tk_gR {k A B : Nat} {x o : Int32} (hk : k < 64) (hA : A < 4) (hB : B < 4) (hI : tk_I x (nI k) q2 pc lv a5 a6 a7 a8 a9 a10 a14 a15 a16 a17) (hC : tk_C k A B o (nI k) a1 a2 a3 a4)
    (ho : o = 11 ∨ (o = 10 ∧ a8 A = 0) ∨ (o = 12 ∧ ¬ a8 A = 0)) (H : tk_F posu 1 (0 + 1 + 1 + 1) 0) : wpX_run posu (0, q2, fh, pn, 0, pc, lv, a1, a2, a3, a4, a5, a6, a7, a8, a9, a10, a11, a12, a13, a14, a15, a16, a17, a18, a19, a20, a21, a22) 1 := by
  have hI' := hI
  obtain ⟨hpc, _, h50, h5, h6, h7, _, _, h9, h10, _, _, h16, _⟩ := hI
  obtain ⟨h1, h2, h3, h4, _, _⟩ := hC
  subst hpc
  exact tk_runW hI' (fun K HK => ⟨4, tk_wR (n := 0) hk hA hB h6 h1 h2 h3 h4 h50 h7 h9 ho (fun b6 => HK _ _ _ _ _ _ _ _ _ _ _ _ _ _ _ _ _ _ _ _ _ _ _ _ _ _ (Or.inl (by decide)) h50)⟩) (Or.inl ⟨by decide, rfl⟩) H
theorem tk_gW {k A B : Nat} {x n o : Int32} (hk : k < 64) (hB : B < 4) (hI : tk_I x (nI k) q2 pc lv a5 a6 a7 a8 a9 a10 a14 a15 a16 a17) (hC : tk_C k A B o n a1 a2 a3 a4)
    (ho : o = 20) (H : tk_F posu 1 (0 + 1) 0) : wpX_run posu (0, q2, fh, pn, 0, pc, lv, a1, a2, a3, a4, a5, a6, a7, a8, a9, a10, a11, a12, a13, a14, a15, a16, a17, a18, a19, a20, a21, a22) 1 := by
  have hI' := hI
  obtain ⟨hpc, _, h50, h5, h6, h7, _, _, h9, h10, _, _, h16, _⟩ := hI
  obtain ⟨h1, h2, h3, h4, _, _⟩ := hC
  subst hpc ho
  exact tk_runW hI' (fun K HK => ⟨2, tk_wY (n := 0) hk h6 h1 h50 (fun P hP => tk_wait hk hB h6 h3 h7 h9 hP) (fun b6 => HK _ _ _ _ _ _ _ _ _ _ _ _ _ _ _ _ _ _ _ _ _ _ _ _ _ _ (Or.inl (by decide)) h50)⟩) (Or.inl ⟨by decide, rfl⟩) H
/-- the process goes on at s, and ends there -/
theorem tk_gG {k A B : Nat} {x n o s pc' out : Int32} {b22 : Nat → Int32} (hk : k < 64) (hB : B < 4) (hI : tk_I x (nI k) q2 pc lv a5 a6 a7 a8 a9 a10 a14 a15 a16 a17) (hC : tk_C k A B o n a1 a2 a3 a4)
    (ho : ¬ o = 20) (hs : ¬ s = nI k) (hx : ∀ K : St2 → Prop, tk_G K s (0 + 1) pc' b22 a1 a2 → wpX_execute K (-1, -1, fh, pn, 0 + 1, pc, lv, a1, a2, a3, a4, a5, a6, a7, a8, a9, a10, a11, a12, a13, a14, a15, a16, a17, a18, a19, a20, a21, a22) 0 (nI k))
    (hout : pc' ≤ 0 ∧ out = 0 ∨ ¬ pc' ≤ 0 ∧ b22 0 = out) (H : tk_F posu 0 (0 + 1 + 1) out) : wpX_run posu (0, q2, fh, pn, 0, pc, lv, a1, a2, a3, a4, a5, a6, a7, a8, a9, a10, a11, a12, a13, a14, a15, a16, a17, a18, a19, a20, a21, a22) 1 := by
  have hI' := hI
  have hC' := hC
  obtain ⟨hpc, _, h50, h5, h6, h7, _, _, h9, h10, _, _, h16, _⟩ := hI
  obtain ⟨h1, h2, h3, h4, _, _⟩ := hC
  exact tk_runW hI' (fun K HK => ⟨3, tk_wG (n := 0) hk h6 (by rw [h1]; exact ho) (tk_next hC' hs) (fun P hP => tk_wait hk hB h6 h3 h7 h9 hP) hx
    (fun q1b q2b fhb pnb lvb a1b a2b a3b a4b a5b a6b a7b a8b a9b a10b a11b a12b a13b a14b a15b a16b a17b a18b a19b a20b a21b h5b => HK q1b q2b fhb pnb lvb a1b a2b a3b a4b a5b a6b a7b a8b a9b a10b a11b a12b a13b a14b a15b a16b a17b a18b a19b a20b a21b (Or.inr (by decide)) h5b)⟩) hout H
/-- all other instructions: two are executed -/
theorem tk_gN {k A B m : Nat} {x n : Int32} (hk : k < 64) (hA : A < 4) (hB : B < 4) (hm : m ≤ 24) (hI : tk_I x (nI k) q2 pc lv a5 a6 a7 a8 a9 a10 a14 a15 a16 a17) (hC : tk_C k A B (nI m) n a1 a2 a3 a4)
    (m0 : ¬ m = 0) (m8 : m = 8 ∨ m = 9 → ¬ (a8 B + n < 0 ∨ 31 < a8 B + n)) (mJ : ¬ ((m = 11 ∨ (m = 10 ∧ a8 A = 0) ∨ (m = 12 ∧ ¬ a8 A = 0)) ∧ n = nI k)) (m20 : ¬ m = 20)
    (H : tk_F posu 0 (0 + 1 + 1) (if m = 21 then a8 A else 0)) : wpX_run posu (0, q2, fh, pn, 0, pc, lv, a1, a2, a3, a4, a5, a6, a7, a8, a9, a10, a11, a12, a13, a14, a15, a16, a17, a18, a19, a20, a21, a22) 1 := by
  have hI' := hI
  have hC' := hC
  obtain ⟨hpc, hl, h50, h5, h6, h7, _, _, h9, h10, h14, h15, h16, h17⟩ := hI
  obtain ⟨h1, h2, h3, h4, _, _⟩ := hC
  subst hpc
  have ho : ¬ nI m = 20 := fun z => m20 ((nI_eq (b := 20) (by omega) (by omega)).mp z)
  by_cases c7 : m ≤ 7
  · rw [if_neg (by omega)] at H
    exact tk_gG hk hB hI' hC' ho (tk_nk hk) (fun K HK => tk_x1 hk hA hB h1 h2 h3 (nI_ne0 (by omega) (by omega)) (show ¬ nI 7 < nI m from nI_nlt (by omega) (by omega)) (by decide) h50 h7 h9 h16 HK) (Or.inl ⟨by decide, rfl⟩) H
  by_cases c8 : m = 8 ∨ m = 9
  · rw [if_neg (by omega)] at H
    have hp := m8 c8
    obtain ⟨w, hw, ew⟩ := nI_of2 (x := a8 B + n) (M := 31) (n := 31) (by decide) (fun z => hp (Or.inl z)) (Int32.not_lt.mp (fun z => hp (Or.inr z)))
    exact tk_gG hk hB hI' hC' ho (tk_nk hk) (fun K HK => tk_x8 (w := w) hk hA hB h1 h2 h3 h4 (c8.elim (fun z => Or.inl (by rw [z]; rfl)) (fun z => Or.inr (by rw [z]; rfl))) (by omega) ew (by decide) h50 h7 h9 h16 h17 HK) (Or.inl ⟨by decide, rfl⟩) H
  by_cases c12 : m ≤ 12
  · rw [if_neg (by omega)] at H
    by_cases cJ : m = 11 ∨ (m = 10 ∧ a8 A = 0) ∨ (m = 12 ∧ ¬ a8 A = 0)
    · have hn : ¬ n = nI k := fun z => mJ ⟨cJ, z⟩
      have hJ : nI m = 11 ∨ (nI m = 10 ∧ a8 A = 0) ∨ (nI m = 12 ∧ ¬ a8 A = 0) := by
        rcases cJ with rfl | ⟨rfl, h⟩ | ⟨rfl, h⟩
        · exact Or.inl rfl
        · exact Or.inr (Or.inl ⟨rfl, h⟩)
        · exact Or.inr (Or.inr ⟨rfl, h⟩)
      exact tk_gG hk hB hI' hC' ho hn (fun K HK => tk_x10 hk hA h1 h2 h4 hJ (fun b6 e6 => HK _ _ _ _ _ _ _ _ _ _ _ _ _ _ _ _ _ _ _ _ _ _ _ _ (Or.inl (by decide)) (h7 0 (by omega)) (fun j _ => Or.inl (h9 j)) (fun j _ => Or.inl (h16 j)) h50 e6)) (Or.inl ⟨by decide, rfl⟩) H
    · have hJ : (nI m = 10 ∧ ¬ a8 A = 0) ∨ (nI m = 12 ∧ a8 A = 0) := by
        rcases (show m = 10 ∨ m = 11 ∨ m = 12 by omega) with rfl | rfl | rfl
        · exact Or.inl ⟨rfl, fun z => cJ (Or.inr (Or.inl ⟨rfl, z⟩))⟩
        · exact absurd (Or.inl rfl) cJ
        · refine Or.inr ⟨rfl, ?_⟩
          by_cases z : a8 A = 0
          · exact z
          · exact absurd (Or.inr (Or.inr ⟨rfl, z⟩)) cJ
      exact tk_gG hk hB hI' hC' ho (tk_nk hk) (fun K HK => tk_x10n hk hA h1 h2 hJ (by decide) h50 h7 h9 h16 HK) (Or.inl ⟨by decide, rfl⟩) H
  by_cases c21 : m = 21
  · subst c21
    rw [if_pos rfl] at H
    exact tk_gG hk hB hI' hC' ho (tk_nk hk) (fun K HK => tk_x21 hk hA h1 h2 rfl (by decide) h50 h7 h9 h16 HK) (Or.inr ⟨by decide, pk_us⟩) H
  · rw [if_neg c21] at H
    have lt : ∀ a, a < m → nI a < nI m := fun a h => nI_lt h (by omega)
    have ne : ∀ a, a < 2 ^ 31 → ¬ m = a → ¬ nI m = nI a := fun a ha h z => h ((nI_eq (by omega) ha).mp z)
    exact tk_gG hk hB hI' hC' ho (tk_nk hk) (fun K HK => tk_x13 hk hA hB h1 h2 h3 (ne 0 (by omega) m0) (lt 7 (by omega)) (ne 8 (by omega) (by omega)) (ne 9 (by omega) (by omega)) (lt 12 (by omega)) ho (ne 21 (by omega) c21)
      (by decide) (by decide) hl h50 h5 h7 h9 h14 h15 h16 HK) (Or.inl ⟨by decide, rfl⟩) H
end
end
section
/-! the law -/
section
variable {q1 q2 fh pn : Int32} {ec : Int64} {pc lv : Int32} {a1 a2 a3 a4 a5 a6 a7 a8 a9 a10 a11 a12 a13 a14 a15 a16 a17 a18 a19 a20 a21 a22 : Nat → Int32}
variable {posi : Int32 → Prop}
theorem tk_state {st : Int32} (h : a5 0 = st) (H : posi st) : wpX_state posi (q1, q2, fh, pn, ec, pc, lv, a1, a2, a3, a4, a5, a6, a7, a8, a9, a10, a11, a12, a13, a14, a15, a16, a17, a18, a19, a20, a21, a22) 0 := by
  unfold wpX_state
  subst h
  exact br_f (by decide) (br_f (by decide) (br_f (by decide) ⟨tk_in, H⟩))
theorem tk_outp {out : Int32} (h : pc ≤ 0 ∧ out = 0 ∨ ¬ pc ≤ 0 ∧ a22 0 = out) (H : posi out) : wpX_output posi (q1, q2, fh, pn, ec, pc, lv, a1, a2, a3, a4, a5, a6, a7, a8, a9, a10, a11, a12, a13, a14, a15, a16, a17, a18, a19, a20, a21, a22) 0 := by
  rcases h with ⟨h, rfl⟩ | ⟨h, rfl⟩
  · exact br_f (by decide) (br_t h H)
  · exact br_f (by decide) (br_f h (br_t (by decide) ⟨tk_in, H⟩))
theorem tk_323 {mc ms kc ks : Nat} {o g f out : Int32} {z : Int64} (h : pc ≤ 0 ∧ out = 0 ∨ ¬ pc ≤ 0 ∧ a22 0 = out)
    (ho : (g = 0 ∨ ¬ o = 21) ∧ out = 0 ∨ ¬ g = 0 ∧ o = 21 ∧ out = f) (hz : ec = z) : wL_lawOf_323 (fun r _ => r = 1) mc ms o g f z ec kc ks q1 q2 fh pn ec pc lv a1 a2 a3 a4 a5 a6 a7 a8 a9 a10 a11 a12 a13 a14 a15 a16 a17 a18 a19 a20 a21 a22 := by
  refine br_t hz (tk_outp h ?_)
  rcases ho with ⟨hg, rfl⟩ | ⟨hg, ho, rfl⟩
  · exact br_c (fun _ => br_t rfl rfl) (fun z => br_c (fun z2 => absurd hg (fun h => h.elim z (fun h => h z2))) (fun _ => br_t rfl rfl))
  · exact br_f hg (br_t ho (br_t rfl rfl))
end
theorem tk_214 {i w n x o g f e rd wt st out : Int32} {ec' : Int64} {D : (Nat → Int32) → (Nat → Int32) → (Nat → Int32) → (Nat → Int32) → Prop}
    (hk : (e = 1 ∧ rd = 0 ∧ wt = 0 ∧ st = 0 ∧ ec' = 0 + 1) ∨ (e = 0 ∧ rd = 0 ∧ wt = 0 ∧ st = 0 ∧ ec' = 0 + 1 + 1) ∨ (e = 0 ∧ rd = 1 ∧ wt = 0 ∧ st = 1 ∧ ec' = 0 + 1 + 1 + 1) ∨ (e = 0 ∧ rd = 0 ∧ wt = 1 ∧ st = 1 ∧ ec' = 0 + 1))
    (ho : (g = 0 ∨ ¬ o = 21) ∧ out = 0 ∨ ¬ g = 0 ∧ o = 21 ∧ out = f)
    (hc : ∀ (Q : Int32 → St2 → Prop) (b7 : Nat → Int32), (∀ a1 a2 a3 a4 : Nat → Int32, D a1 a2 a3 a4 → Q g (-1, -1, 0, -1, 0, 0, 2, a1, a2, a3, a4, (fun _ => 0), (fun _ => 0), b7, (fun _ => 0), (fun _ => 0), (fun _ => 0), (fun _ => 0), (fun _ => 0), (fun _ => 0), (fun _ => 0), (fun _ => 0), (fun _ => 0), (fun _ => 0), (fun _ => 0), (fun _ => 0), (fun _ => 0), (fun _ => 0), (fun _ => 0))) →
      wpX_code Q (-1, -1, 0, -1, 0, 0, 2, (fun _ => 0), (fun _ => 0), (fun _ => 0), (fun _ => 0), (fun _ => 0), (fun _ => 0), b7, (fun _ => 0), (fun _ => 0), (fun _ => 0), (fun _ => 0), (fun _ => 0), (fun _ => 0), (fun _ => 0), (fun _ => 0), (fun _ => 0), (fun _ => 0), (fun _ => 0), (fun _ => 0), (fun _ => 0), (fun _ => 0), (fun _ => 0)) i w n)
    (hr : ∀ (posu : Int32 → St2 → Prop) (q2 : Int32) (fh : Int32) (pn : Int32) (pc : Int32) (lv : Int32) (a1 : Nat → Int32) (a2 : Nat → Int32) (a3 : Nat → Int32) (a4 : Nat → Int32) (a5 : Nat → Int32) (a6 : Nat → Int32) (a7 : Nat → Int32) (a8 : Nat → Int32) (a9 : Nat → Int32) (a10 : Nat → Int32) (a11 : Nat → Int32) (a12 : Nat → Int32) (a13 : Nat → Int32) (a14 : Nat → Int32) (a15 : Nat → Int32) (a16 : Nat → Int32) (a17 : Nat → Int32) (a18 : Nat → Int32) (a19 : Nat → Int32) (a20 : Nat → Int32) (a21 : Nat → Int32) (a22 : Nat → Int32), D a1 a2 a3 a4 → tk_I x i q2 pc lv a5 a6 a7 a8 a9 a10 a14 a15 a16 a17 → tk_F posu st ec' out → wpX_run posu (0, q2, fh, pn, 0, pc, lv, a1, a2, a3, a4, a5, a6, a7, a8, a9, a10, a11, a12, a13, a14, a15, a16, a17, a18, a19, a20, a21, a22) 1) :
    wL_lawOf_214 (fun r _ => r = 1) 155 2480 i w n x o g f e rd wt 0 0 := by
  refine And.intro (by decide) ⟨by decide, 22, 724, by decide, by decide, tk_init (by decide) (by decide) (fun b7 h7 => hc _ b7 (fun a1 a2 a3 a4 hD => br_t rfl (tk_spawn rfl (by decide) (fun _ => rfl) (fun _ => rfl) (fun b8 b9 h80 h8 h9 => br_t rfl (hr _ _ _ _ _ _ _ _ _ _ _ _ _ _ _ _ _ _ _ _ _ _ _ _ _ _ _ _ hD ?_ ?_)))))⟩
  · refine ⟨rfl, rfl, pk_us, fun j h0 _ => pk_un (by omega), pk_us, fun j hj => ?_, h80, h8, h9, pk_us, rfl, rfl, fun _ => rfl, rfl⟩
    rcases Nat.eq_zero_or_pos j with h | h
    · rw [h]
      exact pk_us
    · rw [pk_un (by omega)]
      exact h7 j hj
  · intro q1c q2c fhc pnc pcc lvc a1c a2c a3c a4c a5c a6c a7c a8c a9c a10c a11c a12c a13c a14c a15c a16c a17c a18c a19c a20c a21c a22c h5 hout
    refine br_t rfl (tk_state h5 ?_)
    rcases hk with ⟨rfl, rfl, rfl, rfl, rfl⟩ | ⟨rfl, rfl, rfl, rfl, rfl⟩ | ⟨rfl, rfl, rfl, rfl, rfl⟩ | ⟨rfl, rfl, rfl, rfl, rfl⟩
    · exact br_t rfl (br_t rfl (br_t rfl (br_t rfl (br_f (by decide) (tk_323 hout ho (by decide))))))
    · exact br_t rfl (br_t rfl (br_t rfl (br_t rfl (br_t rfl (br_t rfl (tk_323 hout ho (by decide)))))))
    · exact br_f (by decide) (br_t rfl (br_f (by decide) (tk_323 hout ho (by decide))))
    · exact br_t rfl (br_f (by decide) (br_t rfl (br_t rfl (br_t rfl (br_f (by decide) (tk_323 hout ho (by decide)))))))
/-! a script whose code is refused -/
theorem tk_bad {i w n x o f : Int32} (h : i < 0 ∨ 63 < i ∨ w < 0 ∨ 511 < w ∨ 24 < (w &&& 31)) : wL_lawOf_214 (fun r _ => r = 1) 155 2480 i w n x o 0 f 1 0 0 0 0 := by
  refine tk_214 (D := fun a1 a2 _ _ => (∀ j, a1 j = 0) ∧ (∀ j, a2 j = 0)) (st := 0) (out := 0) (Or.inl ⟨rfl, rfl, rfl, rfl, rfl⟩) (Or.inl ⟨Or.inl rfl, rfl⟩)
    (fun Q b7 H => tk_code0 h (H _ _ _ _ ⟨fun _ => rfl, fun _ => rfl⟩)) (fun posu q2 fh pn pc lv a1 a2 a3 a4 a5 a6 a7 a8 a9 a10 a11 a12 a13 a14 a15 a16 a17 a18 a19 a20 a21 a22 hD hI hF => tk_gX hI ?_ hF)
  rcases pk_ix i (n := 64) (by omega) with h | h | ⟨j, hj, rfl⟩
  · exact Or.inl (Or.inl h)
  · refine Or.inl (Or.inr ?_)
    rw [Int32.lt_iff_toInt_lt]
    rw [Int32.le_iff_toInt_le] at h
    have e1 : (63 : Int32).toInt = 63 := by decide
    have e2 : (nI 64).toInt = 64 := by decide
    omega
  · exact Or.inr ⟨j, 0, hj, by omega, rfl, hD.1 j, hD.2 j⟩
/-! a script whose code is taken -/
theorem tk_by : ∀ m, m < 32 → (nI m).toInt8.toInt32 = nI m := by decide +kernel
theorem tk_cg {k A B m : Nat} {w n : Int32} {Q : Int32 → St2 → Prop} {b7 : Nat → Int32} (hk : k < 64) (hA : A < 4) (hB : B < 4) (hm : m ≤ 24) (h1 : ¬ w < 0) (h2 : ¬ 511 < w) (h3 : ¬ 24 < (w &&& 31))
    (eo : (w &&& 31) = nI m) (ea : tk_fa w = nI A) (eb : tk_fb w = nI B)
    (H : ∀ a1 a2 a3 a4 : Nat → Int32, tk_C k A B (nI m) n a1 a2 a3 a4 → Q 1 (-1, -1, 0, -1, 0, 0, 2, a1, a2, a3, a4, (fun _ => 0), (fun _ => 0), b7, (fun _ => 0), (fun _ => 0), (fun _ => 0), (fun _ => 0), (fun _ => 0), (fun _ => 0), (fun _ => 0), (fun _ => 0), (fun _ => 0), (fun _ => 0), (fun _ => 0), (fun _ => 0), (fun _ => 0), (fun _ => 0), (fun _ => 0))) :
    wpX_code Q (-1, -1, 0, -1, 0, 0, 2, (fun _ => 0), (fun _ => 0), (fun _ => 0), (fun _ => 0), (fun _ => 0), (fun _ => 0), b7, (fun _ => 0), (fun _ => 0), (fun _ => 0), (fun _ => 0), (fun _ => 0), (fun _ => 0), (fun _ => 0), (fun _ => 0), (fun _ => 0), (fun _ => 0), (fun _ => 0), (fun _ => 0), (fun _ => 0), (fun _ => 0), (fun _ => 0)) (nI k) w n := by
  refine tk_code1 hk h1 h2 h3 (H _ _ _ _ ⟨?_, ?_, ?_, pk_us, fun j hj => pk_un hj, fun j hj => pk_un hj⟩)
  · rw [pk_us, eo, tk_by m (by omega)]
  · rw [pk_us, ea, tk_by A (by omega)]
  · rw [pk_us, eb, tk_by B (by omega)]
def tk_J (o f : Int32) : Prop := o = 11 ∨ (o = 10 ∧ f = 0) ∨ (o = 12 ∧ ¬ f = 0)
theorem tk_f8 {A : Nat} {x f : Int32} {a8 : Nat → Int32} (h0 : a8 0 = x) (h8 : ∀ j, 0 < j → a8 j = 0) (hf : A = 0 ∧ f = x ∨ 0 < A ∧ f = 0) : a8 A = f := by
  rcases hf with ⟨rfl, rfl⟩ | ⟨h, rfl⟩
  · exact h0
  · exact h8 A h
section
variable {k A B m : Nat} {w n x f g : Int32}
theorem tk_n21 {m : Nat} (hm : m ≤ 24) (h : ¬ m = 21) : ¬ nI m = 21 := fun z => h ((nI_eq (b := 21) (by omega) (by omega)).mp z)
theorem tk_lE (hk : k < 64) (hA : A < 4) (hB : B < 4) (hm : m ≤ 24) (h1 : ¬ w < 0) (h2 : ¬ 511 < w) (h3 : ¬ 24 < (w &&& 31)) (eo : (w &&& 31) = nI m) (ea : tk_fa w = nI A) (eb : tk_fb w = nI B) (hg : B = 0 ∧ g = x ∨ 0 < B ∧ g = 0)
    (h : m = 0 ∨ (m = 8 ∨ m = 9) ∧ (g + n < 0 ∨ 31 < g + n)) : wL_lawOf_214 (fun r _ => r = 1) 155 2480 (nI k) w n x (nI m) 1 f 1 0 0 0 0 := by
  refine tk_214 (D := tk_C k A B (nI m) n) (st := 0) (out := 0) (Or.inl ⟨rfl, rfl, rfl, rfl, rfl⟩) (Or.inl ⟨Or.inr (tk_n21 hm (by omega)), rfl⟩)
    (fun Q b7 H => tk_cg hk hA hB hm h1 h2 h3 eo ea eb H) (fun posu q2 fh pn pc lv a1 a2 a3 a4 a5 a6 a7 a8 a9 a10 a11 a12 a13 a14 a15 a16 a17 a18 a19 a20 a21 a22 hD hI hF => ?_)
  rcases h with rfl | ⟨h, hp⟩
  · exact tk_gX hI (Or.inr ⟨k, A, hk, hA, rfl, hD.1, hD.2.1⟩) hF
  · have e : a8 B = g := tk_f8 hI.2.2.2.2.2.2.1 hI.2.2.2.2.2.2.2.1 hg
    exact tk_gE hk hB hI hD (h.elim (fun z => Or.inl (by rw [z]; rfl)) (fun z => Or.inr (by rw [z]; rfl))) (by rw [e]; exact hp) hF
theorem tk_lR (hk : k < 64) (hA : A < 4) (hB : B < 4) (hm : m ≤ 24) (h1 : ¬ w < 0) (h2 : ¬ 511 < w) (h3 : ¬ 24 < (w &&& 31)) (eo : (w &&& 31) = nI m) (ea : tk_fa w = nI A) (eb : tk_fb w = nI B) (hf : A = 0 ∧ f = x ∨ 0 < A ∧ f = 0)
    (h : tk_J (nI m) f) (hn : n = nI k) : wL_lawOf_214 (fun r _ => r = 1) 155 2480 (nI k) w n x (nI m) 1 f 0 1 0 0 0 := by
  have hm21 : ¬ nI m = 21 := by
    rcases h with h | ⟨h, _⟩ | ⟨h, _⟩ <;> rw [h] <;> decide
  subst hn
  refine tk_214 (D := tk_C k A B (nI m) (nI k)) (st := 1) (out := 0) (Or.inr (Or.inr (Or.inl ⟨rfl, rfl, rfl, rfl, rfl⟩))) (Or.inl ⟨Or.inr hm21, rfl⟩)
    (fun Q b7 H => tk_cg hk hA hB hm h1 h2 h3 eo ea eb H) (fun posu q2 fh pn pc lv a1 a2 a3 a4 a5 a6 a7 a8 a9 a10 a11 a12 a13 a14 a15 a16 a17 a18 a19 a20 a21 a22 hD hI hF => ?_)
  have e : a8 A = f := tk_f8 hI.2.2.2.2.2.2.1 hI.2.2.2.2.2.2.2.1 hf
  exact tk_gR hk hA hB hI hD (by rw [e]; exact h) hF
theorem tk_lW (hk : k < 64) (hA : A < 4) (hB : B < 4) (hm : m ≤ 24) (h1 : ¬ w < 0) (h2 : ¬ 511 < w) (h3 : ¬ 24 < (w &&& 31)) (eo : (w &&& 31) = nI m) (ea : tk_fa w = nI A) (eb : tk_fb w = nI B)
    (h : nI m = 20) : wL_lawOf_214 (fun r _ => r = 1) 155 2480 (nI k) w n x (nI m) 1 f 0 0 1 0 0 := by
  have hm21 : ¬ nI m = 21 := by
    rw [h]
    decide
  exact tk_214 (D := tk_C k A B (nI m) n) (st := 1) (out := 0) (Or.inr (Or.inr (Or.inr ⟨rfl, rfl, rfl, rfl, rfl⟩))) (Or.inl ⟨Or.inr hm21, rfl⟩)
    (fun Q b7 H => tk_cg hk hA hB hm h1 h2 h3 eo ea eb H) (fun posu q2 fh pn pc lv a1 a2 a3 a4 a5 a6 a7 a8 a9 a10 a11 a12 a13 a14 a15 a16 a17 a18 a19 a20 a21 a22 hD hI hF => tk_gW hk hB hI hD h hF)
theorem tk_lN (hk : k < 64) (hA : A < 4) (hB : B < 4) (hm : m ≤ 24) (h1 : ¬ w < 0) (h2 : ¬ 511 < w) (h3 : ¬ 24 < (w &&& 31)) (eo : (w &&& 31) = nI m) (ea : tk_fa w = nI A) (eb : tk_fb w = nI B)
    (hf : A = 0 ∧ f = x ∨ 0 < A ∧ f = 0) (hg : B = 0 ∧ g = x ∨ 0 < B ∧ g = 0)
    (h0 : ¬ m = 0) (h8 : m = 8 ∨ m = 9 → ¬ (g + n < 0 ∨ 31 < g + n)) (hJ : ¬ (tk_J (nI m) f ∧ n = nI k)) (h20 : ¬ nI m = 20) :
    wL_lawOf_214 (fun r _ => r = 1) 155 2480 (nI k) w n x (nI m) 1 f 0 0 0 0 0 := by
  have ho : ((1 : Int32) = 0 ∨ ¬ nI m = 21) ∧ (if m = 21 then f else 0) = 0 ∨ ¬ (1 : Int32) = 0 ∧ nI m = 21 ∧ (if m = 21 then f else 0) = f := by
    by_cases c : m = 21
    · rw [if_pos c]
      exact Or.inr ⟨by decide, by rw [c]; rfl, rfl⟩
    · rw [if_neg c]
      exact Or.inl ⟨Or.inr (tk_n21 hm c), rfl⟩
  refine tk_214 (D := tk_C k A B (nI m) n) (st := 0) (out := if m = 21 then f else 0) (Or.inr (Or.inl ⟨rfl, rfl, rfl, rfl, rfl⟩)) ho
    (fun Q b7 H => tk_cg hk hA hB hm h1 h2 h3 eo ea eb H) (fun posu q2 fh pn pc lv a1 a2 a3 a4 a5 a6 a7 a8 a9 a10 a11 a12 a13 a14 a15 a16 a17 a18 a19 a20 a21 a22 hD hI hF => ?_)
  have e : a8 A = f := tk_f8 hI.2.2.2.2.2.2.1 hI.2.2.2.2.2.2.2.1 hf
  have e2 : a8 B = g := tk_f8 hI.2.2.2.2.2.2.1 hI.2.2.2.2.2.2.2.1 hg
  refine tk_gN hk hA hB hm hI hD h0 (by rw [e2]; exact h8) ?_ (fun z => h20 (by rw [z]; rfl)) (by rw [e]; exact hF)
  rw [e]
  intro z
  refine hJ ⟨?_, z.2⟩
  rcases z.1 with rfl | ⟨rfl, h⟩ | ⟨rfl, h⟩
  · exact Or.inl rfl
  · exact Or.inr (Or.inl ⟨rfl, h⟩)
  · exact Or.inr (Or.inr ⟨rfl, h⟩)
end
end
section
/-! the law's ifs, and the owed statement -/
theorem tk_d195 {Q : Int32 → St0 → Prop} {mc ms : Nat} {i w n x o f e rd : Int32} (HW : o = 20 → wL_lawOf_214 Q mc ms i w n x o 1 f e rd 1 0 0) (HN : ¬ o = 20 → wL_lawOf_214 Q mc ms i w n x o 1 f e rd 0 0 0) :
    wL_lawOf_195 Q mc ms i w n x o 1 f e rd 0 0 := br_f (by decide) (br_c HW HN)
theorem tk_d135 {Q : Int32 → St0 → Prop} {mc ms : Nat} {i w n x o f e : Int32} (HR : tk_J o f → n = i → wL_lawOf_214 Q mc ms i w n x o 1 f e 1 0 0 0)
    (HW : o = 20 → wL_lawOf_214 Q mc ms i w n x o 1 f e 0 1 0 0) (HN : ¬ (tk_J o f ∧ n = i) → ¬ o = 20 → wL_lawOf_214 Q mc ms i w n x o 1 f e 0 0 0 0) :
    wL_lawOf_135 Q mc ms i w n x o 1 f e 0 0 := by
  have h173 : tk_J o f → wL_lawOf_173 Q mc ms i w n x o 1 f e 0 0 := by
    intro hj
    have h20 : ¬ o = 20 := by
      rcases hj with h | ⟨h, _⟩ | ⟨h, _⟩ <;> rw [h] <;> decide
    exact br_f (by decide) (br_c (fun z => tk_d195 (fun h => absurd h h20) (fun _ => HR hj z)) (fun z => tk_d195 (fun h => absurd h h20) (fun h => HN (fun t => z t.2) h)))
  have h177 : ¬ tk_J o f → wL_lawOf_177 Q mc ms i w n x o 1 f e 0 0 := fun hj => br_t rfl (tk_d195 HW (fun h => HN (fun t => hj t.1) h))
  have h161 : ¬ o = 11 → ¬ (o = 10 ∧ f = 0) → wL_lawOf_161 Q mc ms i w n x o 1 f e 0 0 := fun z1 z2 =>
    br_c (fun z3 => br_c (fun z4 => h177 (fun t => t.elim z1 (fun t => t.elim z2 (fun t => t.2 z4)))) (fun z4 => h173 (Or.inr (Or.inr ⟨z3, z4⟩))))
      (fun z3 => h177 (fun t => t.elim z1 (fun t => t.elim z2 (fun t => z3 t.1))))
  exact br_f (by decide) (br_c (fun z => h173 (Or.inl z)) (fun z1 => br_c (fun z => br_c (fun z2 => h173 (Or.inr (Or.inl ⟨z, z2⟩))) (fun z2 => h161 z1 (fun t => z2 t.2))) (fun z => h161 z1 (fun t => z t.1))))
theorem tk_d90 {k A B m : Nat} {w n x f g : Int32} (hk : k < 64) (hA : A < 4) (hB : B < 4) (hm : m ≤ 24) (h1 : ¬ w < 0) (h2 : ¬ 511 < w) (h3 : ¬ 24 < (w &&& 31)) (eo : (w &&& 31) = nI m) (ea : tk_fa w = nI A) (eb : tk_fb w = nI B)
    (hf : A = 0 ∧ f = x ∨ 0 < A ∧ f = 0) (hg : B = 0 ∧ g = x ∨ 0 < B ∧ g = 0) : wL_lawOf_90 (fun r _ => r = 1) 155 2480 (nI k) w n x (nI m) 1 f g 0 0 := by
  have ei : ∀ a : Nat, a < 2 ^ 31 → nI m = nI a → m = a := fun a ha h => (nI_eq (by omega) ha).mp h
  have h130 : (m = 0 ∨ (m = 8 ∨ m = 9) ∧ (g + n < 0 ∨ 31 < g + n)) → wL_lawOf_130 (fun r _ => r = 1) 155 2480 (nI k) w n x (nI m) 1 f 0 0 := by
    intro h
    have hJ : ¬ tk_J (nI m) f := by
      rintro (z | ⟨z, _⟩ | ⟨z, _⟩)
      · have := ei 11 (by omega) z
        omega
      · have := ei 10 (by omega) z
        omega
      · have := ei 12 (by omega) z
        omega
    have h20 : ¬ nI m = 20 := by
      intro z
      have := ei 20 (by omega) z
      omega
    exact tk_d135 (fun z _ => absurd z hJ) (fun z => absurd z h20) (fun _ _ => tk_lE hk hA hB hm h1 h2 h3 eo ea eb hg h)
  have h134 : ¬ m = 0 → (m = 8 ∨ m = 9 → ¬ (g + n < 0 ∨ 31 < g + n)) → wL_lawOf_134 (fun r _ => r = 1) 155 2480 (nI k) w n x (nI m) 1 f 0 0 := fun h0 h8 =>
    tk_d135 (fun z hn => tk_lR hk hA hB hm h1 h2 h3 eo ea eb hf z hn) (fun z => tk_lW hk hA hB hm h1 h2 h3 eo ea eb z) (fun hJ h20 => tk_lN hk hA hB hm h1 h2 h3 eo ea eb hf hg h0 h8 hJ h20)
  have h118 : m = 8 ∨ m = 9 → wL_lawOf_118 (fun r _ => r = 1) 155 2480 (nI k) w n x (nI m) 1 f (g + n) 0 0 := fun h8 =>
    br_c (fun z => h130 (Or.inr ⟨h8, Or.inl z⟩)) (fun z => br_c (fun z2 => h134 (by omega) (fun _ t => t.elim z (fun t => Int32.not_lt.mpr z2 t))) (fun z2 => h130 (Or.inr ⟨h8, Or.inr (Int32.not_le.mp z2)⟩)))
  exact nm_e (br_f (by decide) (br_c (fun z => h130 (Or.inl (ei 0 (by omega) z))) (fun z0 => br_c (fun z => h118 (Or.inl (ei 8 (by omega) z))) (fun z8 => br_c (fun z => h118 (Or.inr (ei 9 (by omega) z)))
    (fun z9 => h134 (fun t => z0 (by rw [t]; rfl)) (fun t => absurd t (fun t => t.elim (fun t => z8 (by rw [t]; rfl)) (fun t => z9 (by rw [t]; rfl)))))))))
theorem tk_bad51 {i w n x o : Int32} (h : i < 0 ∨ 63 < i ∨ w < 0 ∨ 511 < w ∨ 24 < (w &&& 31)) : wL_lawOf_51 (fun r _ => r = 1) 155 2480 i w n x o 0 0 0 := by
  have h90 : ∀ f g : Int32, wL_lawOf_90 (fun r _ => r = 1) 155 2480 i w n x o 0 f g 0 0 := fun f g =>
    nm_e (br_t rfl (show wL_lawOf_135 (fun r _ => r = 1) 155 2480 i w n x o 0 f 1 0 0 from br_t rfl (show wL_lawOf_178 (fun r _ => r = 1) 155 2480 i w n x o 0 f 1 0 0 0 from br_t rfl (show wL_lawOf_195 (fun r _ => r = 1) 155 2480 i w n x o 0 f 1 0 0 0 from br_t rfl (tk_bad h)))))
  have h78 : ∀ f b : Int32, wL_lawOf_78 (fun r _ => r = 1) 155 2480 i w n x o 0 b f 0 0 := fun f b => br_c (fun _ => h90 _ _) (fun _ => h90 _ _)
  exact nm_e (nm_e (br_c (fun _ => h78 _ _) (fun _ => h78 _ _)))
theorem tk_good51 {i w n x : Int32} (hi : ¬ i < 0) (hi2 : ¬ 63 < i) (h1 : ¬ w < 0) (h2 : ¬ 511 < w) (h3 : ¬ 24 < (w &&& 31)) : wL_lawOf_51 (fun r _ => r = 1) 155 2480 i w n x (w &&& 31) 1 0 0 := by
  obtain ⟨k, hk, rfl⟩ := nI_of2 (M := 63) (n := 63) (by decide) hi (Int32.not_lt.mp hi2)
  obtain ⟨A, hA, ea⟩ := pk_andE (w >>> ((5 : Int32) &&& 31)) (m := 3) 2 (by decide)
  obtain ⟨B, hB, eb⟩ := pk_andE (w >>> ((7 : Int32) &&& 31)) (m := 3) 2 (by decide)
  obtain ⟨m, hm, eo⟩ := pk_andE w (m := 31) 5 (by decide)
  have hm24 : m ≤ 24 := by
    rcases Nat.lt_or_ge 24 m with h | h
    · exact absurd (show (24 : Int32) < (w &&& 31) from by rw [eo]; exact nI_lt (a := 24) h (by omega)) h3
    · exact h
  have z : ∀ a : Nat, a < 4 → nI a = 0 → a = 0 := fun a ha h => (nI_eq (b := 0) (by omega) (by omega)).mp h
  have nz : ∀ a : Nat, ¬ nI a = 0 → 0 < a := by
    intro a h
    rcases Nat.eq_zero_or_pos a with e | e
    · exact absurd (by rw [e]; rfl) h
    · exact e
  rw [eo]
  have h90 : ∀ f g : Int32, (A = 0 ∧ f = x ∨ 0 < A ∧ f = 0) → (B = 0 ∧ g = x ∨ 0 < B ∧ g = 0) → wL_lawOf_90 (fun r _ => r = 1) 155 2480 (nI k) w n x (nI m) 1 f g 0 0 := fun f g hf hg =>
    tk_d90 (by omega) hA hB hm24 h1 h2 h3 eo ea eb hf hg
  have h78 : ∀ f : Int32, (A = 0 ∧ f = x ∨ 0 < A ∧ f = 0) → wL_lawOf_78 (fun r _ => r = 1) 155 2480 (nI k) w n x (nI m) 1 (nI B) f 0 0 := fun f hf =>
    br_c (fun t => h90 f x hf (Or.inl ⟨z B hB t, rfl⟩)) (fun t => h90 f 0 hf (Or.inr ⟨nz B t, rfl⟩))
  exact nm_r ea (nm_r eb (br_c (fun t => h78 x (Or.inl ⟨z A hA t, rfl⟩)) (fun t => h78 0 (Or.inr ⟨nz A t, rfl⟩))))
theorem tk_lawOf (i w n x : Int32) : wpL_lawOf (fun r _ => r = 1) 155 2480 () i w n x := by
  have b21 : (i < 0 ∨ 63 < i) → wL_lawOf_20 (fun r _ => r = 1) 155 2480 i w n x (w &&& 31) 0 0 := fun h =>
    br_t rfl (tk_bad51 (h.elim Or.inl (fun h => Or.inr (Or.inl h))))
  refine nm_e (br_c (fun z => b21 (Or.inl z)) (fun z1 => br_c (fun z => b21 (Or.inr z)) (fun z2 => br_f (by decide) (br_c (fun z => tk_bad51 (Or.inr (Or.inr (Or.inl z)))) (fun z3 => br_c (fun z => tk_bad51 (Or.inr (Or.inr (Or.inr (Or.inl z))))) (fun z4 => br_c (fun z => tk_bad51 (Or.inr (Or.inr (Or.inr (Or.inr z))))) (fun z5 => ?_)))))))
  exact tk_good51 z1 z2 z3 z4 z5
theorem tk_cell {P : Int32 → Prop} {L : Nat} {xs : Nat → Int32} (hL : L ≤ 4) (j : Nat) (hj : j < 4) (H : ∀ v, P v) : wpL_cellAt P L xs () (nI j) :=
  pk_le L j (fun _ => H _) (fun z => ⟨pk_in j L z, H _⟩)
theorem i_vc (xs : Nat → Int32) (L : Nat) (hL : L ≤ 4) : wpL_law (fun r => r = 1) L xs := by
  unfold wpL_law
  exact tk_cell hL 0 (by omega) (fun v1 => tk_cell hL 1 (by omega) (fun v2 => tk_cell hL 2 (by omega) (fun v3 => tk_cell hL 3 (by omega) (fun v4 => ⟨155, 2480, by omega, by omega, tk_lawOf v1 v2 v3 v4⟩))))
end
