section
/-! small tables -/
theorem sw_by : ∀ t, t < 32 → (nI t).toInt8.toInt32 = nI t := by decide +kernel
theorem sw_nb {t : Nat} (h : t < 32) : vp_nar .byte (nI t) = nI t := (vp_nar_byte _).trans (sw_by t h)
theorem sw_nm : vp_nar .byte (-1) = -1 := (vp_nar_byte _).trans (by decide)
theorem sw_8 (t : Nat) : (8 : Int32) + nI t = nI (8 + t) := nI_add 8 t
theorem sw_s8 (t : Nat) : nI (8 + t) - 8 = nI t := by
  have h := pk_sub (a := 8 + t) (b := 8) (by omega)
  rw [Nat.add_sub_cancel_left] at h
  exact h
theorem sw_ne {a b : Nat} (ha : a < 64) (hb : b < 64) (h : a ≠ b) : ¬ nI a = nI b := fun z => h ((nI_eq (by omega) (by omega)).mp z)
/-- a boolean as an int -/
def sw_b (b : Bool) : Int32 := cond b 1 0
/-- the set of the one thing y, of the things y and x -/
def sw_n1 (y : Nat) : Int32 := 0 ||| ((1 : Int32) <<< (nI y &&& 31))
def sw_n2 (y x : Nat) : Int32 := sw_n1 y ||| ((1 : Int32) <<< (nI x &&& 31))
theorem sw_bit1 : ∀ y, y < 8 → ∀ t, t < 8 → (((sw_n1 y >>> (nI t &&& 31)) &&& 1) = 0 ↔ t ≠ y) := by decide +kernel
theorem sw_bit2 : ∀ y, y < 8 → ∀ x, x < 8 → ∀ t, t < 8 → (((sw_n2 y x >>> (nI t &&& 31)) &&& 1) = 0 ↔ (t ≠ y ∧ t ≠ x)) := by decide +kernel
/-- the law's two things -/
theorem sw_xy (p0 p1 : Int32) : ∃ x y : Nat, x < 8 ∧ y < 8 ∧ x ≠ y ∧ p0 &&& 7 = nI x ∧ ((nI x + 1) + ((p1 &&& 255) - (p1 &&& 255) / 7 * 7)) &&& 7 = nI y := by
  obtain ⟨x, hx, ex⟩ := pk_andE p0 (m := 7) 3 (by decide)
  obtain ⟨b, hb, eb⟩ := pk_andE p1 (m := 255) 8 (by decide)
  have hr : nI b - nI b / 7 * 7 = nI (b % 7) := pk_rem (d := 7) (by omega) (by omega) (by omega)
  refine ⟨x, (x + 1 + b % 7) % 8, by omega, by omega, by omega, ex, ?_⟩
  rw [eb, hr, nI_1, nI_add]
  exact pk_andN (m := 7) (by omega) 3 (by decide)
end
section
section
variable {f1 f2 f3 f4 f5 f6 f7 f8 f9 : Int32} {a1 a2 a3 a4 a5 a6 a7 a8 a9 a10 a11 a12 a13 a14 a15 a16 a17 a18 a19 a20 a21 a22 : Nat → Int32}
/-! wouldLoop: a place that is no thing; one thing up; two things up, the thing itself -/
theorem sw_wlA {post : Int32 → Prop} {t : Int32} {p : Nat} (hp : p < 8) (h : post 0) : wpX_wouldLoop post (f1, f2, f3, f4, f5, f6, f7, f8, f9, a1, a2, a3, a4, a5, a6, a7, a8, a9, a10, a11, a12, a13, a14, a15, a16, a17, a18, a19, a20, a21, a22) t (nI p) :=
  ⟨1, br_t (nI_lt (b := 8) hp (by decide)) h⟩
theorem sw_wlB {post : Int32 → Prop} {t b q : Nat} (ht : t < 8) (hb : b < 8) (hn : b ≠ t) (hq : q < 8) (h4 : a4 b = nI q) (h : post 0) : wpX_wouldLoop post (f1, f2, f3, f4, f5, f6, f7, f8, f9, a1, a2, a3, a4, a5, a6, a7, a8, a9, a10, a11, a12, a13, a14, a15, a16, a17, a18, a19, a20, a21, a22) (nI t) (nI (8 + b)) := by
  refine ⟨2, br_f (nI_nlt (b := 8) (by omega) (by omega)) ?_⟩
  rw [sw_s8]
  refine br_f (sw_ne (by omega) (by omega) hn) ⟨vp_in_nI hb (by decide), nm_r (e' := nI q) ?_ ?_⟩
  · rw [nI_clamp (by omega)]
    exact h4
  · exact br_t (nI_lt (b := 8) hq (by decide)) h
theorem sw_wlC {post : Int32 → Prop} {t b : Nat} (ht : t < 8) (hb : b < 8) (hn : b ≠ t) (h4 : a4 b = nI (8 + t)) (h : post 1) : wpX_wouldLoop post (f1, f2, f3, f4, f5, f6, f7, f8, f9, a1, a2, a3, a4, a5, a6, a7, a8, a9, a10, a11, a12, a13, a14, a15, a16, a17, a18, a19, a20, a21, a22) (nI t) (nI (8 + b)) := by
  refine ⟨2, br_f (nI_nlt (b := 8) (by omega) (by omega)) ?_⟩
  rw [sw_s8]
  refine br_f (sw_ne (by omega) (by omega) hn) ⟨vp_in_nI hb (by decide), nm_r (e' := nI (8 + t)) ?_ ?_⟩
  · rw [nI_clamp (by omega)]
    exact h4
  · refine br_f (nI_nlt (b := 8) (by omega) (by omega)) ?_
    exact br_t (sw_s8 t) h
/-! move -/
theorem sw_m76 {post : St2 → Prop} {t p : Nat} (ht : t < 8) (hp : p < 16) (h : post (f1, f2, f3, f4, f5, f6, f7, f8, f9, a1, a2, a3, upd a4 t (nI p), upd a5 p (nI t), upd a6 t (vp_nar .byte (a5 p)), a7, a8, a9, a10, a11, a12, a13, a14, a15, a16, a17, a18, a19, a20, a21, a22)) : wX_move_76 post (nI t) (nI p) f1 f2 f3 f4 f5 f6 f7 f8 f9 a1 a2 a3 a4 a5 a6 a7 a8 a9 a10 a11 a12 a13 a14 a15 a16 a17 a18 a19 a20 a21 a22 := by
  unfold wX_move_76
  rw [nI_clamp (show t < 2 ^ 31 by omega), nI_clamp (show p < 2 ^ 31 by omega), sw_by t (by omega), sw_by p (by omega)]
  exact ⟨vp_in_nI ht (by decide), nm_e ⟨vp_in_nI hp (by decide), vp_in_nI ht (by decide), nm_e ⟨vp_in_nI hp (by decide), nm_e h⟩⟩⟩
/-- the thing is the first of its chain -/
theorem sw_mvH {post : St2 → Prop} {t p f : Nat} (ht : t < 8) (hp : p < 16) (hf : f < 16) (h4 : a4 t = nI f) (h5 : a5 f = nI t)
    (h : post (f1, f2, f3, f4, f5, f6, f7, f8, f9, a1, a2, a3, upd a4 t (nI p), upd (upd a5 f (vp_nar .byte (a6 t))) p (nI t), upd a6 t (vp_nar .byte (upd a5 f (vp_nar .byte (a6 t)) p)), a7, a8, a9, a10, a11, a12, a13, a14, a15, a16, a17, a18, a19, a20, a21, a22)) : wpX_move post (f1, f2, f3, f4, f5, f6, f7, f8, f9, a1, a2, a3, a4, a5, a6, a7, a8, a9, a10, a11, a12, a13, a14, a15, a16, a17, a18, a19, a20, a21, a22) (nI t) (nI p) := by
  have ct := nI_clamp (show t < 2 ^ 31 by omega)
  have cf := nI_clamp (show f < 2 ^ 31 by omega)
  refine ⟨vp_in_nI ht (by decide), nm_r (e' := nI f) (by rw [ct]; exact h4) ⟨vp_in_nI hf (by decide), br_t (by rw [cf]; exact h5) ⟨vp_in_nI ht (by decide), vp_in_nI hf (by decide), nm_r (e' := upd a5 f (vp_nar .byte (a6 t))) (by rw [cf, ct]) (sw_m76 ht hp h)⟩⟩⟩
/-- the walk to the thing ahead of t in the chain of nowhere, out of which e has gone -/
theorem sw_w40 {post : St2 → Prop} {t p e : Nat} (ht : t < 8) (he : t ≠ e) (H6 : ∀ b, b < t → b ≠ e → a6 b = nI (if b + 1 = e then b + 2 else b + 1))
    (h : ∀ q, q < t → q ≠ e → a6 q = nI t → wX_move_76 post (nI t) (nI p) f1 f2 f3 f4 f5 f6 f7 f8 f9 a1 a2 a3 a4 a5 (upd a6 q (vp_nar .byte (a6 t))) a7 a8 a9 a10 a11 a12 a13 a14 a15 a16 a17 a18 a19 a20 a21 a22) : ∀ n b, b < t → b ≠ e → t - b ≤ n → wX_move_40 post (nI t) (nI p) f1 f2 f3 f4 f5 f6 f7 f8 f9 a1 a2 a3 a4 a5 a6 a7 a8 a9 a10 a11 a12 a13 a14 a15 a16 a17 a18 a19 a20 a21 a22 n (nI b)
  | 0, b, h1, h2, h3 => absurd h3 (by omega)
  | n + 1, b, h1, h2, h3 => by
    have cb := nI_clamp (show b < 2 ^ 31 by omega)
    have ct := nI_clamp (show t < 2 ^ 31 by omega)
    have hb := H6 b h1 h2
    refine ⟨vp_in_nI (by omega) (by decide), ?_⟩
    rw [cb, ct]
    by_cases hz : a6 b = nI t
    · exact br_t hz ⟨vp_in_nI ht (by decide), vp_in_nI (by omega) (by decide), nm_e (h b h1 h2 hz)⟩
    · by_cases ee : b + 1 = e
      · rw [if_pos ee] at hb
        have hx : b + 2 ≠ t := fun z => hz (by rw [hb, z])
        exact br_f hz ⟨vp_in_nI (by omega) (by decide), nm_r hb (sw_w40 ht he H6 h n (b + 2) (by omega) (by omega) (by omega))⟩
      · rw [if_neg ee] at hb
        have hx : b + 1 ≠ t := fun z => hz (by rw [hb, z])
        exact br_f hz ⟨vp_in_nI (by omega) (by decide), nm_r hb (sw_w40 ht he H6 h n (b + 1) (by omega) (by omega) (by omega))⟩
theorem sw_mvW {post : St2 → Prop} {t p f s e : Nat} (ht : t < 8) (hp : p < 16) (hf : f < 16) (he : t ≠ e) (h4 : a4 t = nI f) (h5 : a5 f = nI s) (hs : s < t) (hse : s ≠ e) (H6 : ∀ b, b < t → b ≠ e → a6 b = nI (if b + 1 = e then b + 2 else b + 1))
    (h : ∀ q, q < t → q ≠ e → a6 q = nI t → post (f1, f2, f3, f4, f5, f6, f7, f8, f9, a1, a2, a3, upd a4 t (nI p), upd a5 p (nI t), upd (upd a6 q (vp_nar .byte (a6 t))) t (vp_nar .byte (a5 p)), a7, a8, a9, a10, a11, a12, a13, a14, a15, a16, a17, a18, a19, a20, a21, a22)) : wpX_move post (f1, f2, f3, f4, f5, f6, f7, f8, f9, a1, a2, a3, a4, a5, a6, a7, a8, a9, a10, a11, a12, a13, a14, a15, a16, a17, a18, a19, a20, a21, a22) (nI t) (nI p) := by
  have ct := nI_clamp (show t < 2 ^ 31 by omega)
  have cf := nI_clamp (show f < 2 ^ 31 by omega)
  refine ⟨vp_in_nI ht (by decide), nm_r (e' := nI f) (by rw [ct]; exact h4) ⟨vp_in_nI hf (by decide), br_f (by rw [cf, h5]; exact sw_ne (by omega) (by omega) (by omega)) ⟨vp_in_nI hf (by decide), nm_r (e' := nI s) (by rw [cf]; exact h5) ⟨8, ?_⟩⟩⟩⟩
  exact sw_w40 ht he H6 (fun q h1 h2 h3 => sw_m76 ht hp (h q h1 h2 h3)) 8 s hs hse (by omega)
end
end
section
section
variable {f1 f2 f3 f4 f5 f6 f7 f8 f9 : Int32} {a1 a2 a3 a4 a5 a6 a7 a8 a9 a10 a11 a12 a13 a14 a15 a16 a17 a18 a19 a20 a21 a22 : Nat → Int32}
/-! look: an empty place, a place of one thing -/
theorem sw_lk0 {post : St2 → Prop} {p : Nat} {v : Int32} (hv : v = nI p) (hp : p < 16) (h5 : a5 p = -1) (h : post (f1, f2, f3, f4, f5, f6, f7, f8, f9, a1, a2, a3, a4, a5, a6, a7, a8, a9, a10, a11, a12, a13, a14, a15, a16, a17, a18, a19, a20, a21, a22)) : wpX_look post (f1, f2, f3, f4, f5, f6, f7, f8, f9, a1, a2, a3, a4, a5, a6, a7, a8, a9, a10, a11, a12, a13, a14, a15, a16, a17, a18, a19, a20, a21, a22) v := by
  subst hv
  exact ⟨vp_in_nI hp (by decide), nm_r (e' := (-1 : Int32)) (by rw [nI_clamp (by omega)]; exact h5) ⟨1, br_t (by decide) h⟩⟩
theorem sw_lk1 {post : St2 → Prop} {p t s : Nat} {v : Int32} (hv : v = nI p) (hp : p < 16) (ht : t < 8) (hs : s < 24) (h5 : a5 p = nI t) (h6 : a6 t = -1) (h : post (f1, f2, nI (s + 1), f4, f5, f6, f7, f8, f9, a1, a2, a3, a4, a5, a6, a7, upd a8 s (nI t), a9, a10, a11, a12, a13, a14, a15, a16, a17, a18, a19, a20, a21, a22)) : wpX_look post (f1, f2, nI s, f4, f5, f6, f7, f8, f9, a1, a2, a3, a4, a5, a6, a7, a8, a9, a10, a11, a12, a13, a14, a15, a16, a17, a18, a19, a20, a21, a22) v := by
  subst hv
  exact ⟨vp_in_nI hp (by decide), nm_r (e' := nI t) (by rw [nI_clamp (by omega)]; exact h5) ⟨2, br_f (nI_pos (by omega)) ⟨vp_in_nI hs (by decide), nm_r (e' := upd a8 s (nI t)) (by rw [nI_clamp (by omega), sw_by t (by omega)]) (nm_r (nI_1 s) ⟨vp_in_nI ht (by decide), nm_r (e' := (-1 : Int32)) (by rw [nI_clamp (by omega)]; exact h6) (br_t (by decide) h)⟩)⟩⟩⟩
/-! findNear's loop: the end; a thing that isn't an open box; an open box with nothing in it, with one thing in it -/
theorem sw_fnE {post : St2 → Prop} {n : Nat} (h : post (f1, f2, nI 0, f4, f5, f6, f7, f8, f9, a1, a2, a3, a4, a5, a6, a7, a8, a9, a10, a11, a12, a13, a14, a15, a16, a17, a18, a19, a20, a21, a22)) : wX_findNear_24 post (n + 1) f1 f2 (nI 0) f4 f5 f6 f7 f8 f9 a1 a2 a3 a4 a5 a6 a7 a8 a9 a10 a11 a12 a13 a14 a15 a16 a17 a18 a19 a20 a21 a22 := br_t (by decide) h
theorem sw_fnA {post : St2 → Prop} {n s t : Nat} (hs : s < 24) (ht : t < 8) (h8 : a8 s = nI t) (h3 : ¬ (a3 t &&& 6) = 6) (h : wX_findNear_24 post n f1 (f2 ||| ((1 : Int32) <<< (nI t &&& 31))) (nI s) f4 f5 f6 f7 f8 f9 a1 a2 a3 a4 a5 a6 a7 a8 a9 a10 a11 a12 a13 a14 a15 a16 a17 a18 a19 a20 a21 a22) : wX_findNear_24 post (n + 1) f1 f2 (nI (s + 1)) f4 f5 f6 f7 f8 f9 a1 a2 a3 a4 a5 a6 a7 a8 a9 a10 a11 a12 a13 a14 a15 a16 a17 a18 a19 a20 a21 a22 :=
  br_f (nI_nle (by omega) (by omega)) (nm_r (nI_pred s) ⟨vp_in_nI hs (by decide), nm_r (e' := nI t) (by rw [nI_clamp (by omega)]; exact h8) (nm_e ⟨vp_in_nI ht (by decide), br_f (by rw [nI_clamp (by omega)]; exact h3) h⟩)⟩)
theorem sw_fn0 {post : St2 → Prop} {n s t : Nat} (hs : s < 24) (ht : t < 8) (h8 : a8 s = nI t) (h3 : (a3 t &&& 6) = 6) (h5 : a5 (8 + t) = -1) (h : wX_findNear_24 post n f1 (f2 ||| ((1 : Int32) <<< (nI t &&& 31))) (nI s) f4 f5 f6 f7 f8 f9 a1 a2 a3 a4 a5 a6 a7 a8 a9 a10 a11 a12 a13 a14 a15 a16 a17 a18 a19 a20 a21 a22) : wX_findNear_24 post (n + 1) f1 f2 (nI (s + 1)) f4 f5 f6 f7 f8 f9 a1 a2 a3 a4 a5 a6 a7 a8 a9 a10 a11 a12 a13 a14 a15 a16 a17 a18 a19 a20 a21 a22 :=
  br_f (nI_nle (by omega) (by omega)) (nm_r (nI_pred s) ⟨vp_in_nI hs (by decide), nm_r (e' := nI t) (by rw [nI_clamp (by omega)]; exact h8) (nm_e ⟨vp_in_nI ht (by decide), br_t (by rw [nI_clamp (by omega)]; exact h3) (sw_lk0 (sw_8 t) (by omega) h5 h)⟩)⟩)
theorem sw_fn1 {post : St2 → Prop} {n s t q : Nat} (hs : s < 24) (ht : t < 8) (hq : q < 8) (h8 : a8 s = nI t) (h3 : (a3 t &&& 6) = 6) (h5 : a5 (8 + t) = nI q) (h6 : a6 q = -1) (h : wX_findNear_24 post n f1 (f2 ||| ((1 : Int32) <<< (nI t &&& 31))) (nI (s + 1)) f4 f5 f6 f7 f8 f9 a1 a2 a3 a4 a5 a6 a7 (upd a8 s (nI q)) a9 a10 a11 a12 a13 a14 a15 a16 a17 a18 a19 a20 a21 a22) : wX_findNear_24 post (n + 1) f1 f2 (nI (s + 1)) f4 f5 f6 f7 f8 f9 a1 a2 a3 a4 a5 a6 a7 a8 a9 a10 a11 a12 a13 a14 a15 a16 a17 a18 a19 a20 a21 a22 :=
  br_f (nI_nle (by omega) (by omega)) (nm_r (nI_pred s) ⟨vp_in_nI hs (by decide), nm_r (e' := nI t) (by rw [nI_clamp (by omega)]; exact h8) (nm_e ⟨vp_in_nI ht (by decide), br_t (by rw [nI_clamp (by omega)]; exact h3) (sw_lk1 (sw_8 t) (by omega) hq hs h5 h6 h)⟩)⟩)
/-! findNear: y alone in the room and no open box; y an open box with x in it; y an open empty box in the room and x held -/
theorem sw_near1 {post : St2 → Prop} {y : Nat} (hy : y < 8) (h50 : a5 0 = nI y) (h6y : a6 y = -1) (h56 : a5 6 = -1) (h3 : ¬ (a3 y &&& 6) = 6) (h : ∀ s8, post (0, sw_n1 y, nI 0, f4, f5, f6, f7, f8, f9, a1, a2, a3, a4, a5, a6, a7, s8, a9, a10, a11, a12, a13, a14, a15, a16, a17, a18, a19, a20, a21, a22)) : wpX_findNear post (0, f2, f3, f4, f5, f6, f7, f8, f9, a1, a2, a3, a4, a5, a6, a7, a8, a9, a10, a11, a12, a13, a14, a15, a16, a17, a18, a19, a20, a21, a22) := by
  unfold wpX_findNear
  refine sw_lk1 (p := 0) (t := y) (s := 0) rfl (by decide) hy (by decide) h50 h6y ?_
  refine sw_lk0 (p := 6) rfl (by decide) h56 ?_
  refine ⟨2, ?_⟩
  refine sw_fnA (s := 0) (t := y) (by decide) hy pk_us h3 ?_
  exact sw_fnE (h _)
theorem sw_near2 {post : St2 → Prop} {y x : Nat} (hy : y < 8) (hx : x < 8) (h50 : a5 0 = nI y) (h6y : a6 y = -1) (h56 : a5 6 = -1) (h3 : (a3 y &&& 6) = 6) (h5y : a5 (8 + y) = nI x) (h6x : a6 x = -1) (h3x : ¬ (a3 x &&& 6) = 6) (h : ∀ s8, post (0, sw_n2 y x, nI 0, f4, f5, f6, f7, f8, f9, a1, a2, a3, a4, a5, a6, a7, s8, a9, a10, a11, a12, a13, a14, a15, a16, a17, a18, a19, a20, a21, a22)) : wpX_findNear post (0, f2, f3, f4, f5, f6, f7, f8, f9, a1, a2, a3, a4, a5, a6, a7, a8, a9, a10, a11, a12, a13, a14, a15, a16, a17, a18, a19, a20, a21, a22) := by
  unfold wpX_findNear
  refine sw_lk1 (p := 0) (t := y) (s := 0) rfl (by decide) hy (by decide) h50 h6y ?_
  refine sw_lk0 (p := 6) rfl (by decide) h56 ?_
  refine ⟨3, ?_⟩
  refine sw_fn1 (s := 0) (t := y) (q := x) (by decide) hy hx pk_us h3 h5y h6x ?_
  refine sw_fnA (s := 0) (t := x) (by decide) hx pk_us h3x ?_
  exact sw_fnE (h _)
theorem sw_near3 {post : St2 → Prop} {y x : Nat} (hy : y < 8) (hx : x < 8) (h50 : a5 0 = nI y) (h6y : a6 y = -1) (h56 : a5 6 = nI x) (h3 : (a3 y &&& 6) = 6) (h5y : a5 (8 + y) = -1) (h6x : a6 x = -1) (h3x : ¬ (a3 x &&& 6) = 6) (h : ∀ s8, post (0, sw_n2 x y, nI 0, f4, f5, f6, f7, f8, f9, a1, a2, a3, a4, a5, a6, a7, s8, a9, a10, a11, a12, a13, a14, a15, a16, a17, a18, a19, a20, a21, a22)) : wpX_findNear post (0, f2, f3, f4, f5, f6, f7, f8, f9, a1, a2, a3, a4, a5, a6, a7, a8, a9, a10, a11, a12, a13, a14, a15, a16, a17, a18, a19, a20, a21, a22) := by
  unfold wpX_findNear
  refine sw_lk1 (p := 0) (t := y) (s := 0) rfl (by decide) hy (by decide) h50 h6y ?_
  refine sw_lk1 (p := 6) (t := x) (s := 1) rfl (by decide) hx (by decide) h56 h6x ?_
  refine ⟨3, ?_⟩
  refine sw_fnA (s := 1) (t := x) (by decide) hx pk_us h3x ?_
  refine sw_fn0 (s := 0) (t := y) (by decide) hy ((pk_un (by decide)).trans pk_us) h3 h5y ?_
  exact sw_fnE (h _)
/-! isVisible: the search for a lamp, then the method over what findNear finds -/
theorem sw_v33a {post : Int32 → St2 → Prop} (H : ∀ i, i < 8 → ((f2 >>> (nI i &&& 31)) &&& 1) = 0 ∨ (a3 i &&& 8) = 0) (h : post 0 (f1, f2, f3, f4, f5, f6, f7, f8, f9, a1, a2, a3, a4, a5, a6, a7, a8, a9, a10, a11, a12, a13, a14, a15, a16, a17, a18, a19, a20, a21, a22)) : ∀ c i, i + c = 8 → wX_isVisible_33 post f1 f2 f3 f4 f5 f6 f7 f8 f9 a1 a2 a3 a4 a5 a6 a7 a8 a9 a10 a11 a12 a13 a14 a15 a16 a17 a18 a19 a20 a21 a22 (c + 1) (nI i)
  | 0, i, e => by
    have : i = 8 := by omega
    subst this
    exact br_t (by decide) h
  | c + 1, i, e => by
    have hw := sw_v33a H h c (i + 1) (by omega)
    refine br_f (nI_ge (b := 8) (by omega) (by decide)) ?_
    by_cases g : ((f2 >>> (nI i &&& 31)) &&& 1) = 0
    · exact br_t g (nm_r (nI_1 i) hw)
    · exact br_f g ⟨vp_in_nI (by omega) (by decide), br_t (by rw [nI_clamp (by omega)]; exact (H i (by omega)).resolve_left g) (nm_r (nI_1 i) hw)⟩
theorem sw_v33b {post : Int32 → St2 → Prop} {k : Nat} (hk : k < 8) (h1 : ¬ ((f2 >>> (nI k &&& 31)) &&& 1) = 0) (h2 : ¬ (a3 k &&& 8) = 0) (h : post 1 (f1, f2, f3, f4, f5, f6, f7, f8, f9, a1, a2, a3, a4, a5, a6, a7, a8, a9, a10, a11, a12, a13, a14, a15, a16, a17, a18, a19, a20, a21, a22)) : ∀ c i, i + c = k → wX_isVisible_33 post f1 f2 f3 f4 f5 f6 f7 f8 f9 a1 a2 a3 a4 a5 a6 a7 a8 a9 a10 a11 a12 a13 a14 a15 a16 a17 a18 a19 a20 a21 a22 (c + 1) (nI i)
  | 0, i, e => by
    have : i = k := by omega
    subst this
    exact br_f (nI_ge (b := 8) (by omega) (by decide)) (br_f h1 ⟨vp_in_nI (by omega) (by decide), br_f (by rw [nI_clamp (by omega)]; exact h2) h⟩)
  | c + 1, i, e => by
    have hw := sw_v33b hk h1 h2 h c (i + 1) (by omega)
    refine br_f (nI_ge (b := 8) (by omega) (by decide)) ?_
    by_cases g : ((f2 >>> (nI i &&& 31)) &&& 1) = 0
    · exact br_t g (nm_r (nI_1 i) hw)
    · exact br_f g ⟨vp_in_nI (by omega) (by decide), br_c (fun _ => nm_r (nI_1 i) hw) (fun _ => h)⟩
theorem sw_vis {post : Int32 → St2 → Prop} {t : Nat} {N : Int32} (nt d L : Bool)
    (hf : ∀ ψ : St2 → Prop, (∀ s8, ψ (0, N, nI 0, f4, f5, f6, f7, f8, f9, a1, a2, a3, a4, a5, a6, a7, s8, a9, a10, a11, a12, a13, a14, a15, a16, a17, a18, a19, a20, a21, a22)) → wpX_findNear ψ (0, f2, f3, f4, f5, f6, f7, f8, f9, a1, a2, a3, a4, a5, a6, a7, a8, a9, a10, a11, a12, a13, a14, a15, a16, a17, a18, a19, a20, a21, a22))
    (hb : ((N >>> (nI t &&& 31)) &&& 1) = 0 ↔ nt = false) (hd : a1 0 = sw_b d)
    (hL : L = false → ∀ i, i < 8 → ((N >>> (nI i &&& 31)) &&& 1) = 0 ∨ (a3 i &&& 8) = 0)
    (hL' : L = true → ∃ k, k < 8 ∧ ¬ ((N >>> (nI k &&& 31)) &&& 1) = 0 ∧ ¬ (a3 k &&& 8) = 0)
    (h : ∀ s8, post (sw_b (nt && (!d || L))) (0, N, nI 0, f4, f5, f6, f7, f8, f9, a1, a2, a3, a4, a5, a6, a7, s8, a9, a10, a11, a12, a13, a14, a15, a16, a17, a18, a19, a20, a21, a22)) : wpX_isVisible post (0, f2, f3, f4, f5, f6, f7, f8, f9, a1, a2, a3, a4, a5, a6, a7, a8, a9, a10, a11, a12, a13, a14, a15, a16, a17, a18, a19, a20, a21, a22) (nI t) := by
  unfold wpX_isVisible
  refine hf _ (fun s8 => ?_)
  have h := h s8
  cases nt with
  | false => exact br_t (hb.mpr rfl) h
  | true =>
    have hz : ¬ ((N >>> (nI t &&& 31)) &&& 1) = 0 := fun z => absurd (hb.mp z) (by decide)
    refine br_f hz ⟨pk_in 0 6 (by decide), ?_⟩
    cases d with
    | false => exact br_t hd h
    | true =>
      refine br_f (fun z => absurd (hd.symm.trans z) (by decide)) ?_
      cases L with
      | false => exact ⟨9, sw_v33a (hL rfl) h 8 0 (by decide)⟩
      | true =>
        obtain ⟨k, h1, h2, h3⟩ := hL' rfl
        exact ⟨k + 1, sw_v33b h1 h2 h3 h k 0 (by omega)⟩
end
end
section
section
variable {f1 f2 f3 f4 f5 f6 f7 f8 f9 : Int32} {a1 a2 a3 a4 a5 a6 a7 a8 a9 a10 a11 a12 a13 a14 a15 a16 a17 a18 a19 a20 a21 a22 : Nat → Int32}
variable {post : St2 → Prop} {mc ms kc ks : Nat}
/-- what the constructor leaves: all things nowhere, in one chain; no rules -/
def sw_I (a4 a5 a6 a13 : Nat → Int32) : Prop :=
  (∀ j, j < 8 → a4 j = nI 7) ∧ a5 7 = nI 0 ∧ (∀ j, j < 16 → j ≠ 7 → a5 j = -1) ∧ (∀ j, j < 7 → a6 j = nI (j + 1)) ∧ a6 7 = -1 ∧ (∀ j, j < 6 → a13 j = -1)
theorem sw_fill {s : Nat → Int32} {i : Nat} (h : ∀ j, j < i → s j = -1) : ∀ j, j < i + 1 → upd s i (-1) j = -1 := by
  intro j hj
  by_cases e : j = i
  · rw [e, pk_us]
  · rw [pk_un e]
    exact h j (by omega)
theorem sw_266 (h : ∀ s13 s14 s17 s18, (∀ j, j < 6 → s13 j = -1) → post (f1, f2, f3, f4, 1, f6, f7, f8, f9, a1, a2, a3, a4, a5, a6, a7, a8, a9, a10, a11, a12, s13, s14, a15, a16, s17, s18, a19, a20, a21, a22)) : ∃ n, wX_init_266 post mc ms kc ks f1 f2 f3 f4 f5 f6 f7 f8 f9 n 0 a1 a2 a3 a4 a5 a6 a7 a8 a9 a10 a11 a12 a13 a14 a15 a16 a17 a18 a19 a20 a21 a22 :=
  pk_loop (σ := (Nat → Int32) × (Nat → Int32)) (fun n i s => wX_init_266 post mc ms kc ks f1 f2 f3 f4 f5 f6 f7 f8 f9 n (nI i) a1 a2 a3 a4 a5 a6 a7 a8 a9 a10 a11 a12 s.1 s.2 a15 a16 a17 a18 a19 a20 a21 a22) (fun i s => ∀ j, j < i → s.1 j = -1) 6 0 (a13, a14) (by omega) (fun j hj => absurd hj (by omega))
    (fun n s hI => br_t (by decide) (nm_e (nm_e (h _ _ _ _ hI))))
    (fun n i s hi hI hw => br_f (nI_ge (b := 6) hi (by decide)) ⟨vp_in_nI hi (by decide), nm_r (e' := upd s.1 i (-1)) (by rw [nI_clamp (by omega)]) ⟨vp_in_nI hi (by decide), nm_e (nm_r (nI_1 i) (hw (_, _) (sw_fill hI)))⟩⟩)
/-- the counter of a loop that runs down: k turns are left -/
def sw_w : Nat → Int32
  | 0 => -1
  | k + 1 => nI k
theorem sw_w1 : ∀ k, nI k + (-1) = sw_w k
  | 0 => by decide
  | k + 1 => pk_m1 k
/-- the chain of nowhere, from k on -/
def sw_v (k : Nat) : Int32 := if k = 8 then -1 else nI k
theorem sw_v8 : ∀ k, k < 9 → vp_nar .byte (sw_v k) = sw_v k := by
  intro k hk
  unfold sw_v
  by_cases e : k = 8
  · rw [if_pos e]; exact sw_nm
  · rw [if_neg e]; exact sw_nb (by omega)
def sw_J (k : Nat) (s : (Nat → Int32) × (Nat → Int32) × (Nat → Int32)) : Prop :=
  k ≤ 8 ∧ (∀ j, k ≤ j → j < 8 → s.1 j = nI 7) ∧ s.2.1 7 = sw_v k ∧ (∀ j, j < 16 → j ≠ 7 → s.2.1 j = -1) ∧ (∀ j, k ≤ j → j < 8 → s.2.2 j = sw_v (j + 1))
theorem sw_224 (H5 : ∀ j, j < 16 → a5 j = -1) (h : ∀ s4 s5 s6, sw_J 0 (s4, s5, s6) → ∃ n, wX_init_266 post mc ms kc ks f1 f2 f3 f4 f5 f6 f7 f8 f9 n 0 a1 a2 a3 s4 s5 s6 a7 a8 a9 a10 a11 a12 a13 a14 a15 a16 a17 a18 a19 a20 a21 a22) : ∃ n, wX_init_224 post mc ms kc ks f1 f2 f3 f4 f5 f6 f7 f8 f9 n 7 a1 a2 a3 a4 a5 a6 a7 a8 a9 a10 a11 a12 a13 a14 a15 a16 a17 a18 a19 a20 a21 a22 := by
  refine ⟨9, pk_loopD (σ := (Nat → Int32) × (Nat → Int32) × (Nat → Int32)) (fun n k s => wX_init_224 post mc ms kc ks f1 f2 f3 f4 f5 f6 f7 f8 f9 n (sw_w k) a1 a2 a3 s.1 s.2.1 s.2.2 a7 a8 a9 a10 a11 a12 a13 a14 a15 a16 a17 a18 a19 a20 a21 a22) sw_J ?_ ?_ 8 (a4, a5, a6) ⟨by omega, fun j h1 h2 => absurd h2 (by omega), H5 7 (by omega), fun j h1 _ => H5 j h1, fun j h1 h2 => absurd h2 (by omega)⟩⟩
  · intro n s hI
    exact br_t (by decide) (h _ _ _ hI)
  · intro n k s hI hw
    obtain ⟨h0, h1, h2, h3, h4⟩ := hI
    have hk : k < 8 := by omega
    have ck := nI_clamp (show k < 2 ^ 31 by omega)
    show wX_init_224 post mc ms kc ks f1 f2 f3 f4 f5 f6 f7 f8 f9 (n + 1) (nI k) a1 a2 a3 s.1 s.2.1 s.2.2 a7 a8 a9 a10 a11 a12 a13 a14 a15 a16 a17 a18 a19 a20 a21 a22
    refine br_f (nI_pos (by omega)) ⟨vp_in_nI hk (by decide), nm_r (e' := upd s.1 k (nI 7)) (by rw [ck]; rfl) ⟨vp_in_nI hk (by decide), nm_r (e' := upd s.2.2 k (sw_v (k + 1))) (by rw [ck, h2, sw_v8 _ (by omega)]) (nm_r (e' := upd s.2.1 7 (nI k)) (by rw [sw_by k (by omega)]) (nm_r (sw_w1 k) (hw (upd s.1 k (nI 7), upd s.2.1 7 (nI k), upd s.2.2 k (sw_v (k + 1))) ⟨by omega, ?_, ?_, ?_, ?_⟩)))⟩⟩
    · intro j j1 j2
      by_cases e : j = k
      · rw [e]; exact pk_us
      · exact (pk_un e).trans (h1 j (by omega) j2)
    · show upd s.2.1 7 (nI k) 7 = sw_v k
      rw [pk_us, sw_v, if_neg (by omega)]
    · intro j j1 j2
      exact (pk_un j2).trans (h3 j j1 j2)
    · intro j j1 j2
      by_cases e : j = k
      · rw [e]; exact pk_us
      · exact (pk_un e).trans (h4 j (by omega) j2)
theorem sw_202 (h : ∀ s5, (∀ j, j < 16 → s5 j = -1) → ∃ n, wX_init_224 post mc ms kc ks f1 f2 f3 f4 f5 f6 f7 f8 f9 n 7 a1 a2 a3 a4 s5 a6 a7 a8 a9 a10 a11 a12 a13 a14 a15 a16 a17 a18 a19 a20 a21 a22) : ∃ n, wX_init_202 post mc ms kc ks f1 f2 f3 f4 f5 f6 f7 f8 f9 n 0 a1 a2 a3 a4 a5 a6 a7 a8 a9 a10 a11 a12 a13 a14 a15 a16 a17 a18 a19 a20 a21 a22 :=
  pk_loop (fun n i s => wX_init_202 post mc ms kc ks f1 f2 f3 f4 f5 f6 f7 f8 f9 n (nI i) a1 a2 a3 a4 s a6 a7 a8 a9 a10 a11 a12 a13 a14 a15 a16 a17 a18 a19 a20 a21 a22) (fun i s => ∀ j, j < i → s j = -1) 16 0 a5 (by omega) (fun j hj => absurd hj (by omega))
    (fun n s hI => br_t (by decide) (h s hI))
    (fun n i s hi hI hw => br_f (nI_ge (b := 16) hi (by decide)) ⟨vp_in_nI hi (by decide), nm_r (e' := upd s i (-1)) (by rw [nI_clamp (by omega)]) (nm_r (nI_1 i) (hw _ (sw_fill hI)))⟩)
theorem sw_181 (h : ∀ s2, ∃ n, wX_init_202 post mc ms kc ks f1 f2 f3 f4 f5 f6 f7 f8 f9 n 0 a1 s2 a3 a4 a5 a6 a7 a8 a9 a10 a11 a12 a13 a14 a15 a16 a17 a18 a19 a20 a21 a22) : ∃ n, wX_init_181 post mc ms kc ks f1 f2 f3 f4 f5 f6 f7 f8 f9 n 0 a1 a2 a3 a4 a5 a6 a7 a8 a9 a10 a11 a12 a13 a14 a15 a16 a17 a18 a19 a20 a21 a22 :=
  pk_loop (fun n i s => wX_init_181 post mc ms kc ks f1 f2 f3 f4 f5 f6 f7 f8 f9 n (nI i) a1 s a3 a4 a5 a6 a7 a8 a9 a10 a11 a12 a13 a14 a15 a16 a17 a18 a19 a20 a21 a22) (fun i s => True) 24 0 a2 (by omega) trivial
    (fun n s hI => br_t (by decide) (h s))
    (fun n i s hi hI hw => br_f (nI_ge (b := 24) hi (by decide)) ⟨vp_in_nI hi (by decide), nm_e (nm_r (nI_1 i) (hw _ trivial))⟩)
theorem sw_init (hm : 22 ≤ mc) (hs : 676 ≤ ms) (h : ∀ s2 s4 s5 s6 s13 s14 s17 s18, sw_I s4 s5 s6 s13 → post (f1, f2, f3, f4, 1, f6, f7, f8, f9, (fun _ => 0), s2, (fun _ => 0), s4, s5, s6, (fun _ => 0), (fun _ => 0), (fun _ => 0), (fun _ => 0), (fun _ => 0), (fun _ => 0), s13, s14, (fun _ => 0), (fun _ => 0), s17, s18, (fun _ => 0), (fun _ => 0), (fun _ => 0), (fun _ => 0))) : wpX_init post mc ms (f1, f2, f3, f4, f5, f6, f7, f8, f9) := by
  refine ⟨by omega, by omega, by omega, by omega, by omega, by omega, by omega, by omega, by omega, by omega, by omega, by omega, by omega, by omega, by omega, by omega, by omega, by omega, by omega, by omega, by omega, by omega, by omega, by omega, by omega, by omega, by omega, by omega, by omega, by omega, by omega, by omega, by omega, by omega, by omega, by omega, by omega, by omega, by omega, by omega, by omega, by omega, by omega, by omega, ?_⟩
  refine sw_181 (fun s2 => sw_202 (fun s5 h5 => sw_224 h5 (fun s4 s5 s6 hJ => sw_266 (fun s13 s14 s17 s18 h13 => h _ _ _ _ _ _ _ _ ?_))))
  obtain ⟨h0, h1, h2, h3, h4⟩ := hJ
  refine ⟨fun j hj => h1 j (by omega) hj, h2, h3, fun j hj => ?_, h4 7 (by omega) (by omega), h13⟩
  refine (h4 j (by omega) (by omega)).trans ?_
  rw [sw_v, if_neg (by omega)]
end
end
section
/-- behind the first 'thing': y in room 0, the others nowhere -/
def sw_K (y : Nat) (a4 a5 a6 a13 : Nat → Int32) : Prop :=
  (∀ j, j < 8 → j ≠ y → a4 j = nI 7) ∧ a4 y = nI 0 ∧ (∃ s, s ≠ y ∧ s < 2 ∧ (∀ x, x ≠ y → x ≠ s → s < x) ∧ a5 7 = nI s) ∧ a5 0 = nI y ∧ (∀ j, j < 16 → j ≠ 0 → j ≠ 7 → a5 j = -1) ∧ a6 y = -1
    ∧ (∀ b, b < 7 → b ≠ y → (b + 1 = y → y < 7) → a6 b = nI (if b + 1 = y then b + 2 else b + 1)) ∧ (∀ j, j < 6 → a13 j = -1)
/-- behind the second one: y in room 0, x in y (hd false) or held (hd true) -/
def sw_P (x y : Nat) (dk lp op hd : Bool) (a1 a3 a4 a5 a6 a13 : Nat → Int32) : Prop :=
  a1 0 = sw_b dk ∧ a3 y = cond op 6 2 ∧ a3 x = cond lp 8 0 ∧ a4 y = nI 0 ∧ a4 x = nI (cond hd 6 (8 + y)) ∧ a5 0 = nI y ∧ a5 6 = cond hd (nI x) (-1) ∧ a5 (8 + y) = cond hd (-1) (nI x)
    ∧ a6 x = -1 ∧ a6 y = -1 ∧ a13 1 = -1 ∧ a13 3 = -1
section
variable {f1 f2 f3 f4 f5 f6 f7 f8 f9 : Int32} {a1 a2 a3 a4 a5 a6 a7 a8 a9 a10 a11 a12 a13 a14 a15 a16 a17 a18 a19 a20 a21 a22 : Nat → Int32}
/-! the two moves out of nowhere -/
theorem sw_mv1 {post : St2 → Prop} {y : Nat} (hy : y < 8) (I : sw_I a4 a5 a6 a13) (h : ∀ s4 s5 s6, sw_K y s4 s5 s6 a13 → post (f1, f2, f3, f4, f5, f6, f7, f8, f9, a1, a2, a3, s4, s5, s6, a7, a8, a9, a10, a11, a12, a13, a14, a15, a16, a17, a18, a19, a20, a21, a22)) : wpX_move post (f1, f2, f3, f4, f5, f6, f7, f8, f9, a1, a2, a3, a4, a5, a6, a7, a8, a9, a10, a11, a12, a13, a14, a15, a16, a17, a18, a19, a20, a21, a22) (nI y) (nI 0) := by
  obtain ⟨i4, i57, i5, i6, i67, i13⟩ := I
  by_cases e : y = 0
  · subst e
    refine sw_mvH (f := 7) (by decide) (by decide) (by decide) (i4 0 (by decide)) i57 (h _ _ _ ⟨?_, pk_us, ⟨1, by decide, by decide, fun x h1 h2 => by omega, ?_⟩, pk_us, ?_, ?_, ?_, i13⟩)
    · intro j hj hn
      exact (pk_un hn).trans (i4 j hj)
    · rw [pk_un (by decide), pk_us, i6 0 (by decide)]
      exact sw_nb (by decide)
    · intro j hj h0 h7
      rw [pk_un h0, pk_un h7]
      exact i5 j hj h7
    · rw [pk_us, pk_un (by decide), i5 0 (by decide) (by decide)]
      exact sw_nm
    · intro b hb h0 _
      rw [pk_un h0, i6 b hb, if_neg (by omega)]
  · refine sw_mvW (f := 7) (s := 0) (e := 8) hy (by decide) (by decide) (by omega) (i4 y hy) i57 (by omega) (by decide) (fun b hb _ => by rw [if_neg (by omega)]; exact i6 b (by omega)) (fun q q1 q2 q3 => ?_)
    have q4 : q + 1 = y := (nI_eq (by omega) (by omega)).mp ((i6 q (by omega)).symm.trans q3)
    refine h _ _ _ ⟨?_, pk_us, ⟨0, by omega, by decide, fun x h1 h2 => by omega, (pk_un (by decide)).trans i57⟩, pk_us, ?_, ?_, ?_, i13⟩
    · intro j hj hn
      exact (pk_un hn).trans (i4 j hj)
    · intro j hj h0 h7
      rw [pk_un h0]
      exact i5 j hj h7
    · rw [pk_us, i5 0 (by decide) (by decide)]
      exact sw_nm
    · intro b hb h0 h1
      rw [pk_un h0]
      by_cases eb : b = q
      · have hy7 : y < 7 := h1 (by omega)
        rw [eb, pk_us, if_pos q4, i6 y hy7, sw_nb (by omega), ← q4]
      · rw [pk_un eb, i6 b hb, if_neg (by omega)]
theorem sw_mv2 {post : St2 → Prop} {x y : Nat} (hx : x < 8) (hy : y < 8) (hne : x ≠ y) (K : sw_K y a4 a5 a6 a13)
    (h : ∀ s4 s5 s6, (s4 y = nI 0 ∧ s4 x = nI (8 + y) ∧ s5 0 = nI y ∧ s5 6 = -1 ∧ s5 (8 + y) = nI x ∧ s6 x = -1 ∧ s6 y = -1) → post (f1, f2, f3, f4, f5, f6, f7, f8, f9, a1, a2, a3, s4, s5, s6, a7, a8, a9, a10, a11, a12, a13, a14, a15, a16, a17, a18, a19, a20, a21, a22)) : wpX_move post (f1, f2, f3, f4, f5, f6, f7, f8, f9, a1, a2, a3, a4, a5, a6, a7, a8, a9, a10, a11, a12, a13, a14, a15, a16, a17, a18, a19, a20, a21, a22) (nI x) (nI (8 + y)) := by
  obtain ⟨k4, k4y, ⟨s, s1, s2, s3, k57⟩, k50, k5, k6y, k6, k13⟩ := K
  by_cases e : x = s
  · refine sw_mvH (f := 7) hx (by omega) (by decide) (k4 x hx hne) (by rw [e]; exact k57) (h _ _ _ ⟨?_, pk_us, ?_, ?_, pk_us, ?_, ?_⟩)
    · exact (pk_un (by omega)).trans k4y
    · rw [pk_un (by omega), pk_un (by decide)]
      exact k50
    · rw [pk_un (by omega), pk_un (by decide)]
      exact k5 6 (by decide) (by decide) (by decide)
    · rw [pk_us, pk_un (by omega), k5 (8 + y) (by omega) (by omega) (by omega)]
      exact sw_nm
    · exact (pk_un (by omega)).trans k6y
  · refine sw_mvW (f := 7) (s := s) (e := y) hx (by omega) (by decide) hne (k4 x hx hne) k57 (s3 x hne e) s1 (fun b hb hn => k6 b (by omega) hn (by omega)) (fun q q1 q2 q3 => h _ _ _ ⟨?_, pk_us, ?_, ?_, pk_us, ?_, ?_⟩)
    · exact (pk_un (by omega)).trans k4y
    · rw [pk_un (by omega)]
      exact k50
    · rw [pk_un (by omega)]
      exact k5 6 (by decide) (by decide) (by decide)
    · rw [pk_us, k5 (8 + y) (by omega) (by omega) (by omega)]
      exact sw_nm
    · rw [pk_un (by omega), pk_un (by omega)]
      exact k6y
/-! what is seen -/
theorem sw_visA {post : Int32 → St2 → Prop} {x y t : Nat} {dk lp op : Bool} (hx : x < 8) (hy : y < 8) (ht : t < 8) (nt : Bool) (hnt : nt = (t == y || (op && t == x))) (P : sw_P x y dk lp op false a1 a3 a4 a5 a6 a13)
    (h : ∀ n2 s8, post (sw_b (nt && (!dk || (op && lp)))) (0, n2, nI 0, f4, f5, f6, f7, f8, f9, a1, a2, a3, a4, a5, a6, a7, s8, a9, a10, a11, a12, a13, a14, a15, a16, a17, a18, a19, a20, a21, a22)) : wpX_isVisible post (0, f2, f3, f4, f5, f6, f7, f8, f9, a1, a2, a3, a4, a5, a6, a7, a8, a9, a10, a11, a12, a13, a14, a15, a16, a17, a18, a19, a20, a21, a22) (nI t) := by
  obtain ⟨p1, p3y, p3x, p4y, p4x, p50, p56, p5y, p6x, p6y, _, _⟩ := P
  cases op with
  | false =>
    refine sw_vis (N := sw_n1 y) nt dk false (fun ψ hψ => sw_near1 hy p50 p6y p56 (by rw [p3y]; decide) hψ) ?_ p1 ?_ (fun z => by cases z) (fun s8 => h _ s8)
    · rw [sw_bit1 y hy t ht, hnt]
      simp
    · intro _ i hi
      by_cases e : i = y
      · exact Or.inr (by rw [e, p3y]; decide)
      · exact Or.inl ((sw_bit1 y hy i hi).mpr e)
  | true =>
    refine sw_vis (N := sw_n2 y x) nt dk lp (fun ψ hψ => sw_near2 hy hx p50 p6y p56 (by rw [p3y]; decide) p5y p6x (by rw [p3x]; cases lp <;> decide) hψ) ?_ p1 ?_ ?_ (fun s8 => h _ s8)
    · rw [sw_bit2 y hy x hx t ht, hnt]
      simp
    · intro hl i hi
      by_cases e : i = y
      · exact Or.inr (by rw [e, p3y]; decide)
      · by_cases e' : i = x
        · exact Or.inr (by rw [e', p3x, hl]; decide)
        · exact Or.inl ((sw_bit2 y hy x hx i hi).mpr ⟨e, e'⟩)
    · intro hl
      exact ⟨x, hx, fun z => ((sw_bit2 y hy x hx x hx).mp z).2 rfl, by rw [p3x, hl]; decide⟩
theorem sw_visAx {post : Int32 → St2 → Prop} {x y : Nat} {dk lp op : Bool} (hx : x < 8) (hy : y < 8) (hne : x ≠ y) (P : sw_P x y dk lp op false a1 a3 a4 a5 a6 a13)
    (h : ∀ n2 s8, post (sw_b (op && (!dk || lp))) (0, n2, nI 0, f4, f5, f6, f7, f8, f9, a1, a2, a3, a4, a5, a6, a7, s8, a9, a10, a11, a12, a13, a14, a15, a16, a17, a18, a19, a20, a21, a22)) : wpX_isVisible post (0, f2, f3, f4, f5, f6, f7, f8, f9, a1, a2, a3, a4, a5, a6, a7, a8, a9, a10, a11, a12, a13, a14, a15, a16, a17, a18, a19, a20, a21, a22) (nI x) := by
  refine sw_visA hx hy hx op (by simp [hne]) P (fun n2 s8 => ?_)
  have e : (op && (!dk || (op && lp))) = (op && (!dk || lp)) := by cases op <;> rfl
  rw [e]
  exact h n2 s8
theorem sw_visAy {post : Int32 → St2 → Prop} {x y : Nat} {dk lp op : Bool} (hx : x < 8) (hy : y < 8) (P : sw_P x y dk lp op false a1 a3 a4 a5 a6 a13)
    (h : ∀ n2 s8, post (sw_b (!dk || (op && lp))) (0, n2, nI 0, f4, f5, f6, f7, f8, f9, a1, a2, a3, a4, a5, a6, a7, s8, a9, a10, a11, a12, a13, a14, a15, a16, a17, a18, a19, a20, a21, a22)) : wpX_isVisible post (0, f2, f3, f4, f5, f6, f7, f8, f9, a1, a2, a3, a4, a5, a6, a7, a8, a9, a10, a11, a12, a13, a14, a15, a16, a17, a18, a19, a20, a21, a22) (nI y) :=
  sw_visA hx hy hy true (by simp) P h
theorem sw_visB {post : Int32 → St2 → Prop} {x y : Nat} {dk lp : Bool} (hx : x < 8) (hy : y < 8) (P : sw_P x y dk lp true true a1 a3 a4 a5 a6 a13)
    (h : ∀ n2 s8, post (sw_b (!dk || lp)) (0, n2, nI 0, f4, f5, f6, f7, f8, f9, a1, a2, a3, a4, a5, a6, a7, s8, a9, a10, a11, a12, a13, a14, a15, a16, a17, a18, a19, a20, a21, a22)) : wpX_isVisible post (0, f2, f3, f4, f5, f6, f7, f8, f9, a1, a2, a3, a4, a5, a6, a7, a8, a9, a10, a11, a12, a13, a14, a15, a16, a17, a18, a19, a20, a21, a22) (nI y) := by
  obtain ⟨p1, p3y, p3x, p4y, p4x, p50, p56, p5y, p6x, p6y, _, _⟩ := P
  refine sw_vis (N := sw_n2 x y) true dk lp (fun ψ hψ => sw_near3 hy hx p50 p6y p56 (by rw [p3y]; decide) p5y p6x (by rw [p3x]; cases lp <;> decide) hψ) ?_ p1 ?_ ?_ (fun s8 => h _ s8)
  · rw [sw_bit2 x hx y hy y hy]
    simp
  · intro hl i hi
    by_cases e : i = y
    · exact Or.inr (by rw [e, p3y]; decide)
    · by_cases e' : i = x
      · exact Or.inr (by rw [e', p3x, hl]; decide)
      · exact Or.inl ((sw_bit2 x hx y hy i hi).mpr ⟨e', e⟩)
  · intro hl
    exact ⟨x, hx, fun z => ((sw_bit2 x hx y hy x hx).mp z).1 rfl, by rw [p3x, hl]; decide⟩
/-! isThing, visible, place, countIn, thing -/
theorem sw_isT {post : Int32 → Prop} {t : Nat} (ht : t < 8) (h : post 1) : wpX_isThing post (f1, f2, f3, f4, f5, f6, f7, f8, f9, a1, a2, a3, a4, a5, a6, a7, a8, a9, a10, a11, a12, a13, a14, a15, a16, a17, a18, a19, a20, a21, a22) (nI t) :=
  br_f (nI_pos (by omega)) (br_f (nI_nlt (a := 7) (by omega) (by decide)) h)
theorem sw_visible {post : Int32 → St2 → Prop} {t : Nat} {r : Bool} (ht : t < 8) (hv : ∀ ψ : Int32 → St2 → Prop, (∀ n2 s8, ψ (sw_b r) (0, n2, nI 0, f4, f5, f6, f7, f8, f9, a1, a2, a3, a4, a5, a6, a7, s8, a9, a10, a11, a12, a13, a14, a15, a16, a17, a18, a19, a20, a21, a22)) → wpX_isVisible ψ (0, f2, f3, f4, f5, f6, f7, f8, f9, a1, a2, a3, a4, a5, a6, a7, a8, a9, a10, a11, a12, a13, a14, a15, a16, a17, a18, a19, a20, a21, a22) (nI t))
    (h : ∀ n2 s8, post (sw_b r) (0, n2, nI 0, f4, f5, f6, f7, f8, f9, a1, a2, a3, a4, a5, a6, a7, s8, a9, a10, a11, a12, a13, a14, a15, a16, a17, a18, a19, a20, a21, a22)) : wpX_visible post (0, f2, f3, f4, f5, f6, f7, f8, f9, a1, a2, a3, a4, a5, a6, a7, a8, a9, a10, a11, a12, a13, a14, a15, a16, a17, a18, a19, a20, a21, a22) (nI t) := by
  unfold wpX_visible
  refine sw_isT ht (br_f (by decide) (hv _ (fun n2 s8 => ?_)))
  have h := h n2 s8
  cases r with
  | false => exact br_t rfl h
  | true => exact br_f (by decide) h
theorem sw_place {post : Int32 → Prop} {t : Nat} (ht : t < 8) (h : post (a4 t)) : wpX_place post (f1, f2, f3, f4, f5, f6, f7, f8, f9, a1, a2, a3, a4, a5, a6, a7, a8, a9, a10, a11, a12, a13, a14, a15, a16, a17, a18, a19, a20, a21, a22) (nI t) := by
  unfold wpX_place
  refine sw_isT ht (br_f (by decide) ⟨vp_in_nI ht (by decide), ?_⟩)
  rw [nI_clamp (by omega)]
  exact h
theorem sw_cnt0 {post : Int32 → Prop} {p : Nat} {v : Int32} (hv : v = nI p) (hp : p < 16) (h5 : a5 p = -1) (h : post 0) : wpX_countIn post (f1, f2, f3, f4, f5, f6, f7, f8, f9, a1, a2, a3, a4, a5, a6, a7, a8, a9, a10, a11, a12, a13, a14, a15, a16, a17, a18, a19, a20, a21, a22) v := by
  subst hv
  exact ⟨vp_in_nI hp (by decide), nm_r (e' := (-1 : Int32)) (by rw [nI_clamp (by omega)]; exact h5) ⟨1, br_t (by decide) h⟩⟩
theorem sw_thingOk {post : Int32 → St2 → Prop} {t p : Nat} {k v : Int32} {R : (Nat → Int32) → (Nat → Int32) → (Nat → Int32) → Prop} (hv : v = nI p) (ht : t < 8) (hp : p < 16) (k0 : ¬ k < 0) (k15 : ¬ 15 < k) (kb : k.toInt8.toInt32 = k)
    (hw : ∀ ψ : Int32 → Prop, ψ 0 → wpX_wouldLoop ψ (f1, f2, f3, f4, f5, f6, f7, f8, f9, a1, a2, a3, a4, a5, a6, a7, a8, a9, a10, a11, a12, a13, a14, a15, a16, a17, a18, a19, a20, a21, a22) (nI t) (nI p))
    (hm : ∀ ψ : St2 → Prop, (∀ s4 s5 s6, R s4 s5 s6 → ψ (f1, f2, f3, f4, f5, f6, f7, f8, f9, a1, a2, upd a3 t k, s4, s5, s6, a7, a8, a9, a10, a11, a12, a13, a14, a15, a16, a17, a18, a19, a20, a21, a22)) → wpX_move ψ (f1, f2, f3, f4, f5, f6, f7, f8, f9, a1, a2, upd a3 t k, a4, a5, a6, a7, a8, a9, a10, a11, a12, a13, a14, a15, a16, a17, a18, a19, a20, a21, a22) (nI t) (nI p))
    (h : ∀ s4 s5 s6, R s4 s5 s6 → post 1 (f1, f2, f3, f4, f5, f6, f7, f8, f9, a1, a2, upd a3 t k, s4, s5, s6, a7, a8, a9, a10, a11, a12, a13, a14, a15, a16, a17, a18, a19, a20, a21, a22)) : wpX_thing post (f1, f2, f3, f4, f5, f6, f7, f8, f9, a1, a2, a3, a4, a5, a6, a7, a8, a9, a10, a11, a12, a13, a14, a15, a16, a17, a18, a19, a20, a21, a22) (nI t) k v := by
  subst hv
  unfold wpX_thing
  refine sw_isT ht (br_f (by decide) (br_f k0 (br_f k15 (br_f (nI_pos (by omega)) (br_f (nI_nlt (a := 15) (by omega) (by decide)) (hw _ (br_t rfl ⟨vp_in_nI ht (by decide), nm_r (e' := upd a3 t k) (by rw [nI_clamp (by omega), kb]) (hm _ (fun s4 s5 s6 hR => h s4 s5 s6 hR))⟩)))))))
theorem sw_thingNo {post : Int32 → St2 → Prop} {t p : Nat} {k v : Int32} (hv : v = nI p) (ht : t < 8) (hp : p < 16) (k0 : ¬ k < 0) (k15 : ¬ 15 < k)
    (hw : ∀ ψ : Int32 → Prop, ψ 1 → wpX_wouldLoop ψ (f1, f2, f3, f4, f5, f6, f7, f8, f9, a1, a2, a3, a4, a5, a6, a7, a8, a9, a10, a11, a12, a13, a14, a15, a16, a17, a18, a19, a20, a21, a22) (nI t) (nI p)) (h : post 0 (f1, f2, f3, f4, f5, f6, f7, f8, f9, a1, a2, a3, a4, a5, a6, a7, a8, a9, a10, a11, a12, a13, a14, a15, a16, a17, a18, a19, a20, a21, a22)) : wpX_thing post (f1, f2, f3, f4, f5, f6, f7, f8, f9, a1, a2, a3, a4, a5, a6, a7, a8, a9, a10, a11, a12, a13, a14, a15, a16, a17, a18, a19, a20, a21, a22) (nI t) k v := by
  subst hv
  unfold wpX_thing
  exact sw_isT ht (br_f (by decide) (br_f k0 (br_f k15 (br_f (nI_pos (by omega)) (br_f (nI_nlt (a := 15) (by omega) (by decide)) (hw _ (br_f (by decide) h)))))))
/-! take, putIn -/
theorem sw_take {post : Int32 → St2 → Prop} {x y : Nat} {dk lp op sn : Bool} (hx : x < 8) (hy : y < 8) (hne : x ≠ y) (hsn : (op && (!dk || lp)) = sn) (P : sw_P x y dk lp op false a1 a3 a4 a5 a6 a13)
    (h : ∀ n2 s8 s4 s5 s6, sw_P x y dk lp op sn a1 a3 s4 s5 s6 a13 → post (cond sn 0 2) (0, n2, nI 0, f4, f5, f6, f7, f8, f9, a1, a2, a3, s4, s5, s6, a7, s8, a9, a10, a11, a12, a13, a14, a15, a16, a17, a18, a19, a20, a21, a22)) : wpX_take post (0, f2, f3, f4, f5, f6, f7, f8, f9, a1, a2, a3, a4, a5, a6, a7, a8, a9, a10, a11, a12, a13, a14, a15, a16, a17, a18, a19, a20, a21, a22) (nI x) := by
  unfold wpX_take
  refine sw_visAx hx hy hne P (fun n2 s8 => ?_)
  rw [hsn]
  have h := h n2 s8
  have cx := nI_clamp (show x < 2 ^ 31 by omega)
  cases sn with
  | false => exact br_t rfl (h a4 a5 a6 P)
  | true =>
    obtain ⟨p1, p3y, p3x, p4y, p4x, p50, p56, p5y, p6x, p6y, p131, p133⟩ := P
    refine br_f (by decide) ⟨vp_in_nI hx (by decide), br_f (by rw [cx, p4x]; exact sw_ne (a := 8 + y) (b := 6) (by omega) (by decide) (by omega)) ⟨vp_in_nI hx (by decide), br_t (by rw [cx, p3x]; cases lp <;> decide) ?_⟩⟩
    refine sw_cnt0 (p := 6) rfl (by decide) p56 (br_t (by decide) ?_)
    refine sw_mvH (p := 6) (f := 8 + y) hx (by decide) (by omega) p4x p5y ?_
    refine h _ _ _ ⟨p1, p3y, p3x, (pk_un (by omega)).trans p4y, pk_us, ?_, pk_us, ?_, ?_, ?_, p131, p133⟩
    · rw [pk_un (by decide), pk_un (by omega)]
      exact p50
    · rw [pk_un (by omega), pk_us, p6x]
      exact sw_nm
    · rw [pk_us, pk_un (by omega), p56]
      exact sw_nm
    · rw [pk_un (by omega)]
      exact p6y
theorem sw_putIn {post : Int32 → St2 → Prop} {x y : Nat} {dk lp op sn : Bool} (hx : x < 8) (hy : y < 8) (hne : x ≠ y) (hsn : (op && (!dk || lp)) = sn) (P : sw_P x y dk lp op sn a1 a3 a4 a5 a6 a13)
    (h : ∀ n2 n3 s8 s4 s5 s6, s4 x = nI (8 + y) → post (cond sn 0 6) (0, n2, n3, f4, f5, f6, f7, f8, f9, a1, a2, a3, s4, s5, s6, a7, s8, a9, a10, a11, a12, a13, a14, a15, a16, a17, a18, a19, a20, a21, a22)) : wpX_putIn post (0, f2, f3, f4, f5, f6, f7, f8, f9, a1, a2, a3, a4, a5, a6, a7, a8, a9, a10, a11, a12, a13, a14, a15, a16, a17, a18, a19, a20, a21, a22) (nI x) (nI y) := by
  have cx := nI_clamp (show x < 2 ^ 31 by omega)
  have cy := nI_clamp (show y < 2 ^ 31 by omega)
  cases sn with
  | false =>
    have p4x := P.2.2.2.2.1
    exact ⟨vp_in_nI hx (by decide), br_f (by rw [cx, p4x]; exact sw_ne (a := 8 + y) (b := 6) (by omega) (by decide) (by omega)) (h _ _ _ _ _ _ p4x)⟩
  | true =>
    have ho : op = true := by
      cases op with
      | false => exact hsn
      | true => rfl
    subst ho
    have hl : (!dk || lp) = true := hsn
    refine ⟨vp_in_nI hx (by decide), br_t (by rw [cx]; exact P.2.2.2.2.1) (sw_visB hx hy P (fun n2 s8 => ?_))⟩
    rw [hl]
    obtain ⟨p1, p3y, p3x, p4y, p4x, p50, p56, p5y, p6x, p6y, p131, p133⟩ := P
    refine br_f (by decide) ⟨vp_in_nI hy (by decide), br_f (by rw [cy, p3y]; decide) ?_⟩
    rw [sw_8]
    refine sw_wlB hx hy hne.symm (q := 0) (by decide) p4y (br_t rfl ⟨vp_in_nI hy (by decide), br_f (by rw [cy, p3y]; decide) ?_⟩)
    refine sw_cnt0 (p := 8 + y) rfl (by omega) p5y (br_t (by decide) ?_)
    exact sw_mvH (p := 8 + y) (f := 6) hx (by omega) (by decide) p4x p56 (h _ _ _ _ _ _ pk_us)
/-! carryOut, command -/
theorem sw_co1 {post : Int32 → St2 → Prop} {x y : Nat} {v : Int32} {dk lp op sn : Bool} (hx : x < 8) (hy : y < 8) (hne : x ≠ y) (hsn : (op && (!dk || lp)) = sn) (P : sw_P x y dk lp op false a1 a3 a4 a5 a6 a13)
    (h : ∀ n2 s8 s4 s5 s6, sw_P x y dk lp op sn a1 a3 s4 s5 s6 a13 → post (cond sn 0 2) (0, n2, nI 0, f4, f5, f6, f7, f8, f9, a1, a2, a3, s4, s5, s6, a7, s8, a9, a10, a11, a12, a13, a14, a15, a16, a17, a18, a19, a20, a21, a22)) : wpX_carryOut post (0, f2, f3, f4, f5, f6, f7, f8, f9, a1, a2, a3, a4, a5, a6, a7, a8, a9, a10, a11, a12, a13, a14, a15, a16, a17, a18, a19, a20, a21, a22) 1 (nI x) v := by
  have p13 := P.2.2.2.2.2.2.2.2.2.2.1
  refine ⟨pk_in 1 6 (by decide), nm_r (e' := (-1 : Int32)) (by rw [show (1 : Int32).toNatClampNeg = 1 by decide]; exact p13) ⟨1, br_t (by decide) (br_t rfl (br_f (by decide) (br_t rfl ?_)))⟩⟩
  exact sw_take hx hy hne hsn P h
theorem sw_co3 {post : Int32 → St2 → Prop} {x y : Nat} {dk lp op sn : Bool} (hx : x < 8) (hy : y < 8) (hne : x ≠ y) (hsn : (op && (!dk || lp)) = sn) (P : sw_P x y dk lp op sn a1 a3 a4 a5 a6 a13)
    (h : ∀ n2 n3 s8 s4 s5 s6, s4 x = nI (8 + y) → post (cond sn 0 6) (0, n2, n3, f4, f5, f6, f7, f8, f9, a1, a2, a3, s4, s5, s6, a7, s8, a9, a10, a11, a12, a13, a14, a15, a16, a17, a18, a19, a20, a21, a22)) : wpX_carryOut post (0, f2, f3, f4, f5, f6, f7, f8, f9, a1, a2, a3, a4, a5, a6, a7, a8, a9, a10, a11, a12, a13, a14, a15, a16, a17, a18, a19, a20, a21, a22) 3 (nI x) (nI y) := by
  have p13 := P.2.2.2.2.2.2.2.2.2.2.2
  refine ⟨pk_in 3 6 (by decide), nm_r (e' := (-1 : Int32)) (by rw [show (3 : Int32).toNatClampNeg = 3 by decide]; exact p13) ⟨1, br_t (by decide) (br_t rfl (br_f (by decide) (br_f (by decide) (br_f (by decide) (br_t rfl ?_)))))⟩⟩
  exact sw_putIn hx hy hne hsn P h
theorem sw_cmd1 {post : Int32 → St2 → Prop} {x y : Nat} {v : Int32} {dk lp op sn : Bool} (hx : x < 8) (hy : y < 8) (hne : x ≠ y) (hsn : (op && (!dk || lp)) = sn) (P : sw_P x y dk lp op false a1 a3 a4 a5 a6 a13)
    (h : ∀ n2 s8 s4 s5 s6, sw_P x y dk lp op sn a1 a3 s4 s5 s6 a13 → post (cond sn 0 2) (0, n2, nI 0, f4, f5, f6, f7, f8, f9, a1, a2, a3, s4, s5, s6, a7, s8, a9, a10, a11, a12, a13, a14, a15, a16, a17, a18, a19, a20, a21, a22)) : wpX_command post (0, f2, f3, f4, f5, f6, f7, f8, f9, a1, a2, a3, a4, a5, a6, a7, a8, a9, a10, a11, a12, a13, a14, a15, a16, a17, a18, a19, a20, a21, a22) 1 (nI x) v := by
  refine br_f (by decide) (br_f (by decide) (br_f (nI_pos (by omega)) (br_f (by decide) ?_)))
  refine br_f (nI_nlt (a := 7) (by omega) (by decide)) (br_f (by decide) ?_)
  unfold wX_command_42
  exact sw_co1 hx hy hne hsn P h
theorem sw_cmd3 {post : Int32 → St2 → Prop} {x y : Nat} {dk lp op sn : Bool} (hx : x < 8) (hy : y < 8) (hne : x ≠ y) (hsn : (op && (!dk || lp)) = sn) (P : sw_P x y dk lp op sn a1 a3 a4 a5 a6 a13)
    (h : ∀ n2 n3 s8 s4 s5 s6, s4 x = nI (8 + y) → post (cond sn 0 6) (0, n2, n3, f4, f5, f6, f7, f8, f9, a1, a2, a3, s4, s5, s6, a7, s8, a9, a10, a11, a12, a13, a14, a15, a16, a17, a18, a19, a20, a21, a22)) : wpX_command post (0, f2, f3, f4, f5, f6, f7, f8, f9, a1, a2, a3, a4, a5, a6, a7, a8, a9, a10, a11, a12, a13, a14, a15, a16, a17, a18, a19, a20, a21, a22) 3 (nI x) (nI y) := by
  refine br_f (by decide) (br_f (by decide) (br_f (nI_pos (by omega)) (br_f (by decide) ?_)))
  refine br_f (nI_nlt (a := 7) (by omega) (by decide)) (br_t rfl (sw_isT hy (br_f (by decide) ?_)))
  unfold wX_command_42
  exact sw_co3 hx hy hne hsn P h
end
end
section
section
variable {f1 f2 f3 f4 f5 f6 f7 f8 f9 : Int32} {a1 a2 a3 a4 a5 a6 a7 a8 a9 a10 a11 a12 a13 a14 a15 a16 a17 a18 a19 a20 a21 a22 : Nat → Int32}
variable {post : Int32 → St0 → Prop} {mc ms kc ks x y : Nat} {dk lp op sn : Bool}
theorem sw_300 {z0 z1 : Int32} (hx : x < 8) (hz : z1 = z0) (h4 : a4 x = nI (8 + y)) (h : post 1 ()) : wL_lawOf_300 post mc ms (nI x) (nI y) z0 z1 kc ks f1 f2 f3 f4 f5 f6 f7 f8 f9 a1 a2 a3 a4 a5 a6 a7 a8 a9 a10 a11 a12 a13 a14 a15 a16 a17 a18 a19 a20 a21 a22 :=
  br_t hz (sw_place hx (br_t (h4.trans (sw_8 y).symm) h))
theorem sw_274 {z0 z1 : Int32} (hx : x < 8) (hy : y < 8) (hne : x ≠ y) (hsn : (op && (!dk || lp)) = sn) (P : sw_P x y dk lp op sn a1 a3 a4 a5 a6 a13) (hz : z1 = z0) (h : post 1 ()) : wL_lawOf_274 post mc ms (nI x) (nI y) (sw_b sn) z0 z1 kc ks 0 f2 f3 f4 f5 f6 f7 f8 f9 a1 a2 a3 a4 a5 a6 a7 a8 a9 a10 a11 a12 a13 a14 a15 a16 a17 a18 a19 a20 a21 a22 := by
  refine br_t hz (sw_cmd3 hx hy hne hsn P (fun n2 n3 s8 s4 s5 s6 e => ?_))
  cases sn with
  | false => exact br_t rfl (sw_300 hx rfl e h)
  | true => exact br_f (by decide) (sw_300 hx rfl e h)
theorem sw_247 {z0 z1 : Int32} (hx : x < 8) (hy : y < 8) (hne : x ≠ y) (hsn : (op && (!dk || lp)) = sn) (P : sw_P x y dk lp op sn a1 a3 a4 a5 a6 a13) (hz : z1 = z0) (h : post 1 ()) : wL_lawOf_247 post mc ms (nI x) (nI y) (sw_b sn) z0 z1 kc ks 0 f2 f3 f4 f5 f6 f7 f8 f9 a1 a2 a3 a4 a5 a6 a7 a8 a9 a10 a11 a12 a13 a14 a15 a16 a17 a18 a19 a20 a21 a22 := by
  have p4x := P.2.2.2.2.1
  refine br_t hz (sw_place hx ?_)
  cases sn with
  | false => exact br_t rfl (sw_274 (sn := false) hx hy hne hsn P (p4x.trans (sw_8 y).symm) h)
  | true => exact br_f (by decide) (sw_274 (sn := true) hx hy hne hsn P p4x h)
theorem sw_222 {z0 z1 : Int32} (hx : x < 8) (hy : y < 8) (hne : x ≠ y) (hsn : (op && (!dk || lp)) = sn) (P : sw_P x y dk lp op false a1 a3 a4 a5 a6 a13) (hz : z1 = z0) (h : post 1 ()) : wL_lawOf_222 post mc ms (nI x) (nI y) (sw_b sn) z0 z1 kc ks 0 f2 f3 f4 f5 f6 f7 f8 f9 a1 a2 a3 a4 a5 a6 a7 a8 a9 a10 a11 a12 a13 a14 a15 a16 a17 a18 a19 a20 a21 a22 := by
  refine br_t hz (sw_cmd1 hx hy hne hsn P (fun n2 s8 s4 s5 s6 Q => ?_))
  cases sn with
  | false => exact br_t rfl (sw_247 (sn := false) hx hy hne hsn Q rfl h)
  | true => exact br_f (by decide) (sw_247 (sn := true) hx hy hne hsn Q rfl h)
theorem sw_150 (hx : x < 8) (hy : y < 8) (hne : x ≠ y) (hsn : (op && (!dk || lp)) = sn) (K : sw_K y a4 a5 a6 a13) (h1 : a1 0 = sw_b dk) (h3 : a3 y = cond op 6 2) (h : post 1 ()) : wL_lawOf_150 post mc ms (nI x) (nI y) (sw_b dk) (sw_b lp) (sw_b op) (sw_b sn) (cond lp 8 0) (nI x) kc ks 0 f2 f3 f4 f5 f6 f7 f8 f9 a1 a2 a3 a4 a5 a6 a7 a8 a9 a10 a11 a12 a13 a14 a15 a16 a17 a18 a19 a20 a21 a22 := by
  have k13 := K.2.2.2.2.2.2.2
  unfold wL_lawOf_150
  refine sw_thingOk (p := 8 + y) (sw_8 y) hx (by omega) (by cases lp <;> decide) (by cases lp <;> decide) (by cases lp <;> decide) (fun ψ hψ => sw_wlB hx hy hne.symm (q := 0) (by decide) K.2.1 hψ) (fun ψ hψ => sw_mv2 hx hy hne K hψ) ?_
  intro s4 s5 s6 R
  obtain ⟨r4y, r4x, r50, r56, r5y, r6x, r6y⟩ := R
  have P : sw_P x y dk lp op false a1 (upd a3 x (cond lp 8 0)) s4 s5 s6 a13 :=
    ⟨h1, (pk_un (by omega)).trans h3, pk_us, r4y, r4x, r50, r56, r5y, r6x, r6y, k13 1 (by decide), k13 3 (by decide)⟩
  refine br_f (by decide) (sw_thingNo (p := 8 + x) (sw_8 x) hy (by omega) (by decide) (by decide) (fun ψ hψ => sw_wlC hy hx hne r4x hψ) (br_t rfl ?_))
  refine sw_visible (r := sn) hx (fun ψ hψ => sw_visAx hx hy hne P (by rw [hsn]; exact hψ)) (fun n2 s8 => br_t rfl ?_)
  refine sw_visible (r := (!dk || (op && lp))) hy (fun ψ hψ => sw_visAy hx hy P hψ) (fun n2 s8 => ?_)
  cases dk with
  | false => exact br_t rfl (sw_222 hx hy hne hsn P rfl h)
  | true =>
    refine br_f (by decide) ?_
    cases op with
    | false => exact br_t rfl (sw_222 hx hy hne hsn P rfl h)
    | true =>
      refine br_f (by decide) ?_
      cases lp with
      | false => exact br_t rfl (sw_222 hx hy hne hsn P rfl h)
      | true => exact br_f (by decide) (sw_222 hx hy hne hsn P rfl h)
theorem sw_125 (hx : x < 8) (hy : y < 8) (hne : x ≠ y) (hsn : (op && (!dk || lp)) = sn) (I : sw_I a4 a5 a6 a13) (h1 : a1 0 = sw_b dk) (h : post 1 ()) : wL_lawOf_125 post mc ms (nI x) (nI y) (sw_b dk) (sw_b lp) (sw_b op) (sw_b sn) (cond op 4 0) 2 (nI y) kc ks 0 f2 f3 f4 f5 f6 f7 f8 f9 a1 a2 a3 a4 a5 a6 a7 a8 a9 a10 a11 a12 a13 a14 a15 a16 a17 a18 a19 a20 a21 a22 := by
  have e : (2 : Int32) + cond op 4 0 = cond op 6 2 := by cases op <;> decide
  unfold wL_lawOf_125
  rw [e]
  refine sw_thingOk (p := 0) (v := 0) rfl hy (by decide) (by cases op <;> decide) (by cases op <;> decide) (by cases op <;> decide) (fun ψ hψ => sw_wlA (by decide) hψ) (fun ψ hψ => sw_mv1 hy I hψ) ?_
  intro s4 s5 s6 K
  refine br_f (by decide) ?_
  cases lp with
  | false => exact br_t rfl (sw_150 (lp := false) hx hy hne hsn K h1 pk_us h)
  | true => exact br_f (by decide) (sw_150 (lp := true) hx hy hne hsn K h1 pk_us h)
theorem sw_86 (hx : x < 8) (hy : y < 8) (hne : x ≠ y) (hsn : (op && (!dk || lp)) = sn) (hm : 23 ≤ mc) (hs : 707 ≤ ms) (h : post 1 ()) : wL_lawOf_86 post mc ms (nI x) (nI y) (sw_b dk) (sw_b lp) (sw_b op) (sw_b sn) 0 0 := by
  refine ⟨by omega, by omega, 22, 676, by omega, by omega, sw_init (by omega) (by omega) (fun s2 s4 s5 s6 s13 s14 s17 s18 I => ?_)⟩
  refine br_f (by decide) (br_f (by decide) (br_f (by decide) ⟨pk_in 0 6 (by decide), nm_e (br_f (by decide) ?_)⟩))
  have e : vp_nar .boolean (sw_b dk) = sw_b dk := by cases dk <;> rfl
  cases op with
  | false => exact br_t rfl (sw_125 (op := false) hx hy hne hsn I e h)
  | true => exact br_f (by decide) (sw_125 (op := true) hx hy hne hsn I e h)
theorem sw_64 (hx : x < 8) (hy : y < 8) (hne : x ≠ y) (hm : 23 ≤ mc) (hs : 707 ≤ ms) (h : post 1 ()) : wL_lawOf_64 post mc ms (nI x) (nI y) (sw_b dk) (sw_b lp) (sw_b op) 0 0 := by
  cases op with
  | false => exact br_t rfl (sw_86 (op := false) (sn := false) hx hy hne rfl hm hs h)
  | true =>
    refine br_f (by decide) ?_
    cases dk with
    | false => exact br_t rfl (sw_86 (op := true) (dk := false) (sn := true) hx hy hne rfl hm hs h)
    | true =>
      refine br_f (by decide) ?_
      cases lp with
      | false => exact br_t rfl (sw_86 (op := true) (dk := true) (lp := false) (sn := false) hx hy hne rfl hm hs h)
      | true => exact br_f (by decide) (sw_86 (op := true) (dk := true) (lp := true) (sn := true) hx hy hne rfl hm hs h)
end
theorem sw_lawOf {post : Int32 → St0 → Prop} {mc ms : Nat} {u : St0} (p0 p1 p2 p3 : Int32) (hm : 23 ≤ mc) (hs : 707 ≤ ms) (h : post 1 ()) : wpL_lawOf post mc ms u p0 p1 p2 p3 := by
  obtain ⟨x, y, hx, hy, hne, ex, ey⟩ := sw_xy p0 p1
  refine nm_r ex ⟨by decide, nm_r ey ?_⟩
  have h64 : ∀ dk lp op : Bool, wL_lawOf_64 post mc ms (nI x) (nI y) (sw_b dk) (sw_b lp) (sw_b op) 0 0 := fun dk lp op => sw_64 hx hy hne hm hs h
  have h50 : ∀ dk lp : Bool, wL_lawOf_50 post mc ms p3 (nI x) (nI y) (sw_b dk) (sw_b lp) 0 0 := fun dk lp => br_c (fun _ => h64 dk lp true) (fun _ => h64 dk lp false)
  have h36 : ∀ dk : Bool, wL_lawOf_36 post mc ms p2 p3 (nI x) (nI y) (sw_b dk) 0 0 := fun dk => br_c (fun _ => h50 dk true) (fun _ => h50 dk false)
  exact br_c (fun _ => h36 true) (fun _ => h36 false)
theorem sw_cell {post : Int32 → Prop} {L : Nat} {xs : Nat → Int32} {u : St0} (hL : L ≤ 4) (k : Nat) (hk : k < 4) (h : ∀ v, post v) : wpL_cellAt post L xs u (nI k) :=
  pk_le L k (fun _ => h _) (fun z => ⟨vp_in_nI z (by omega), h _⟩)
theorem i_vc (xs : Nat → Int32) (L : Nat) (hL : L ≤ 4) : wpL_law (fun r => r = 1) L xs := by
  unfold wpL_law
  refine sw_cell hL 0 (by decide) (fun p0 => ?_)
  refine sw_cell hL 1 (by decide) (fun p1 => ?_)
  refine sw_cell hL 2 (by decide) (fun p2 => ?_)
  refine sw_cell hL 3 (by decide) (fun p3 => ?_)
  exact ⟨23, 707, by decide, by decide, sw_lawOf p0 p1 p2 p3 (by decide) (by decide) rfl⟩
end
