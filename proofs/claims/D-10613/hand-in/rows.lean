section
/-- what wrote holds: nothing, or a place -/
def td_w (x : Int32) : Prop := x < 0 ∨ vp_in x 14
theorem td_fill {f s : Nat → Int32} {i k : Nat} {x : Int32} (hk : k = i) (h : ∀ j, j < i → s j = f j) (hx : x = f i) : ∀ j, j < i + 1 → upd s k x j = f j := by
  intro j hj
  rw [hk]
  by_cases e : j = i
  · rw [e, pk_us, hx]
  · rw [pk_un e]
    exact h j (by omega)
theorem td_ix (k i : Nat) : (14 : Int32) * nI k + nI i = nI (14 * k + i) := by
  rw [← nI_add, ← pk_mul]
  rfl
theorem td_b8 : ∀ e, e < 21 → (nI e).toInt8.toInt32 = nI e := by decide +kernel
theorem td_b16 : ∀ t, t < 201 → (nI t).toInt16.toInt32 = nI t := by decide +kernel
section
variable {post : St2 → Prop} {l iv pr tt : Int32} {a1 a2 a3 a4 a5 a6 a7 a8 a9 a10 a11 a12 a13 a14 : Nat → Int32}
theorem td_load {k : Nat} (hk : k ≤ 4) (H : ∀ b5 : Nat → Int32, (∀ j, j < 14 → b5 j = a14 (14 * k + j)) → post (l, iv, nI (k * 50), tt, a1, a2, a3, a4, b5, a6, a7, a8, a9, a10, a11, a12, a13, a14)) : wpX_load post (l, iv, pr, tt, a1, a2, a3, a4, a5, a6, a7, a8, a9, a10, a11, a12, a13, a14) (nI k) :=
  pk_loop (fun n i s => wX_load_2 post (nI k) l iv pr tt n (nI i) a1 a2 a3 a4 s a6 a7 a8 a9 a10 a11 a12 a13 a14) (fun i s => ∀ j, j < i → s j = a14 (14 * k + j)) 14 0 a5 (by omega) (fun j hj => absurd hj (by omega))
    (fun n s h => pk_le 14 14 (fun _ => nm_r (pk_mul k 50) (H s h)) (fun z => absurd z (by omega)))
    (fun n i s hi h hw => pk_le 14 i (fun z => absurd z (by omega)) (fun _ => ⟨pk_in (14 * k + i) 70 (by omega) (td_ix k i), pk_in i 14 (by omega), nm_e (nm_r (nI_1 i) (hw _ (td_fill (f := fun j => a14 (14 * k + j)) (nI_clamp (by omega)) h (by rw [pk_cl (14 * k + i) (td_ix k i)]))))⟩))
theorem td_gap {post : Int32 → Prop} {a b : Nat} (ha : a < 2 ^ 31) (hb : b < 2 ^ 31) (H : ∀ g : Nat, g < 2 ^ 31 → (a ≤ b → g = b - a) → (b ≤ a → g = a - b) → post (nI g)) : wpX_gap post (l, iv, pr, tt, a1, a2, a3, a4, a5, a6, a7, a8, a9, a10, a11, a12, a13, a14) (nI a) (nI b) :=
  pk_le b a (fun z => by rw [pk_sub z]; exact H _ (by omega) (by omega) (by omega)) (fun z => by rw [pk_sub (Nat.le_of_lt z)]; exact H _ (by omega) (by omega) (by omega))
theorem td_redo {p : Nat} (hp : p < 200) (hw : td_w (a6 (p + 1))) (H : ∀ b5 : Nat → Int32, post (l, iv, nI (p + 1), tt, a1, a2, a3, a4, b5, a6, a7, a8, a9, a10, a11, a12, a13, a14)) : wpX_redo post (l, iv, nI p, tt, a1, a2, a3, a4, a5, a6, a7, a8, a9, a10, a11, a12, a13, a14) := by
  have hw' : td_w (a6 (nI (p + 1)).toNatClampNeg) := by rw [nI_clamp (by omega)]; exact hw
  exact nm_r (nI_1 p) ⟨pk_in (p + 1) 201 (by omega), br_c (fun _ => H _) (fun z => ⟨pk_in (p + 1) 201 (by omega), pk_in (p + 1) 201 (by omega), hw'.resolve_left z, nm_e (H _)⟩)⟩
theorem td_undo {p : Nat} (hp : p < 200) (hw : td_w (a6 (p + 1))) (H : ∀ b5 : Nat → Int32, post (l, iv, nI p, tt, a1, a2, a3, a4, b5, a6, a7, a8, a9, a10, a11, a12, a13, a14)) : wpX_undo post (l, iv, nI (p + 1), tt, a1, a2, a3, a4, a5, a6, a7, a8, a9, a10, a11, a12, a13, a14) := by
  have hw' : td_w (a6 (nI (p + 1)).toNatClampNeg) := by rw [nI_clamp (by omega)]; exact hw
  exact ⟨pk_in (p + 1) 201 (by omega), br_c (fun _ => nm_r (nI_pred p) (H _)) (fun z => ⟨pk_in (p + 1) 201 (by omega), pk_in (p + 1) 201 (by omega), hw'.resolve_left z, nm_e (nm_r (nI_pred p) (H _))⟩)⟩
theorem td_63 {t p : Nat} {v : Int32} (ht : t ≤ 200) (hW : ∀ j, 1 ≤ j → j ≤ t → td_w (a6 j)) (hp : p ≤ t) (h5 : t = 0 → a5 5 = v) (H : ∀ b5 : Nat → Int32, (t = 0 → b5 5 = v) → post (l, iv, nI t, tt, a1, a2, a3, a4, b5, a6, a7, a8, a9, a10, a11, a12, a13, a14)) : ∃ n, wX_travel_63 post (nI t) n l iv (nI p) tt a1 a2 a3 a4 a5 a6 a7 a8 a9 a10 a11 a12 a13 a14 :=
  pk_loop (fun n i s => wX_travel_63 post (nI t) n l iv (nI i) tt a1 a2 a3 a4 s a6 a7 a8 a9 a10 a11 a12 a13 a14) (fun _ s => t = 0 → s 5 = v) t p a5 hp h5
    (fun n s h => pk_le t t (fun _ => H s h) (fun z => absurd z (by omega)))
    (fun n i s hi h hw => pk_le t i (fun z => absurd z (by omega)) (fun _ => td_redo (by omega) (hW _ (by omega) (by omega)) (fun b5 => hw b5 (fun z => absurd z (by omega)))))
theorem td_48 {t p N : Nat} {v : Int32} (hN : N ≤ 200) (ht : t ≤ N) (hp : p ≤ N) (hW : ∀ j, 1 ≤ j → j ≤ N → td_w (a6 j)) (h5 : t = 0 → p = 0 ∧ a5 5 = v) (H : ∀ b5 : Nat → Int32, (t = 0 → b5 5 = v) → post (l, iv, nI t, tt, a1, a2, a3, a4, b5, a6, a7, a8, a9, a10, a11, a12, a13, a14)) : ∃ n, wX_travel_48 post (nI t) n l iv (nI p) tt a1 a2 a3 a4 a5 a6 a7 a8 a9 a10 a11 a12 a13 a14 := by
  have X : ∀ (q : Nat) (s : Nat → Int32) (n : Nat), q ≤ t → (t = 0 → s 5 = v) → wX_travel_48 post (nI t) (n + 1) l iv (nI q) tt a1 a2 a3 a4 s a6 a7 a8 a9 a10 a11 a12 a13 a14 := fun q s n hq hs =>
    pk_le q t (fun _ => td_63 (by omega) (fun j h1 h2 => hW j h1 (by omega)) hq hs H) (fun z => absurd z (by omega))
  by_cases hc : p ≤ t
  · exact ⟨1, X p a5 0 hc (fun z => (h5 z).2)⟩
  · obtain ⟨d, rfl⟩ : ∃ d, p = t + d := ⟨p - t, by omega⟩
    have ht0 : t ≠ 0 := fun z => by have := (h5 z).1; omega
    exact ⟨d + 1, pk_loopD (fun n i s => wX_travel_48 post (nI t) n l iv (nI (t + i)) tt a1 a2 a3 a4 s a6 a7 a8 a9 a10 a11 a12 a13 a14) (fun i _ => t + i ≤ N)
      (fun n s _ => X (t + 0) s n (by omega) (fun z => absurd z ht0))
      (fun n i s h hw => pk_le (t + (i + 1)) t (fun z => absurd z (by omega)) (fun _ => td_undo (p := t + i) (by omega) (hW _ (by omega) (by omega)) (fun b5 => hw b5 (by omega)))) d a5 hp⟩
theorem td_22 {t p k N : Nat} {v : Int32} (hN : N ≤ 200) (ht : t ≤ N) (hp : p ≤ N) (hk : k * 50 ≤ N) (hW : ∀ j, 1 ≤ j → j ≤ N → td_w (a6 j)) (h5 : t = 0 → k = 0 ∧ a14 5 = v ∧ (p = 0 → a5 5 = v)) (H : ∀ b5 : Nat → Int32, (t = 0 → b5 5 = v) → post (l, iv, nI t, tt, a1, a2, a3, a4, b5, a6, a7, a8, a9, a10, a11, a12, a13, a14)) : wX_travel_22 post (nI t) (nI k) l iv (nI p) tt a1 a2 a3 a4 a5 a6 a7 a8 a9 a10 a11 a12 a13 a14 := by
  unfold wX_travel_22
  rw [show nI k * 50 = nI (k * 50) from pk_mul k 50]
  refine td_gap (by omega) (by omega) (fun g4 hg4 g4a g4b => td_gap (by omega) (by omega) (fun g5 hg5 g5a g5b => ?_))
  refine pk_le g5 g4 (fun z => td_48 hN ht hp hW (fun z0 => ?_) H) (fun z => td_load (by omega) (fun b5 hb => td_48 (p := k * 50) hN ht hk hW (fun z0 => ?_) H))
  · have hk0 := (h5 z0).1
    have hp0 : p = 0 := by
      have e5 := g5a (by omega)
      have e4 := g4a (by omega)
      omega
    exact ⟨hp0, (h5 z0).2.2 hp0⟩
  · have hk0 := (h5 z0).1
    refine ⟨by omega, ?_⟩
    rw [hb 5 (by omega), hk0]
    exact (h5 z0).2.1
theorem td_travel {t p N : Nat} {v : Int32} (hN : N ≤ 200) (ht : t ≤ N) (hp : p ≤ N) (hW : ∀ j, 1 ≤ j → j ≤ N → td_w (a6 j)) (h5 : t = 0 → a14 5 = v ∧ (p = 0 → a5 5 = v)) (H : ∀ b5 : Nat → Int32, (t = 0 → b5 5 = v) → post (l, iv, nI t, nI N, a1, a2, a3, a4, b5, a6, a7, a8, a9, a10, a11, a12, a13, a14)) : wpX_travel post (l, iv, nI p, nI N, a1, a2, a3, a4, a5, a6, a7, a8, a9, a10, a11, a12, a13, a14) (nI t) := by
  have e : (nI t + 25) / 50 = nI ((t + 25) / 50) := by
    rw [show nI t + 25 = nI (t + 25) from nI_add t 25]
    exact pk_div (a := t + 25) (d := 50) (by omega) (by omega) (by omega)
  refine ⟨by decide, nm_r e ?_⟩
  refine pk_le ((t + 25) / 50 * 50) N (fun z => ?_) (fun z => nm_r (sb_m1 (by omega)) ?_) (pk_mul _ 50) rfl (by omega) (by omega)
  · exact td_22 hN ht hp z hW (fun z0 => ⟨by omega, (h5 z0).1, (h5 z0).2⟩) H
  · exact td_22 hN ht hp (by omega) hW (fun z0 => ⟨by omega, (h5 z0).1, (h5 z0).2⟩) H
theorem td_44 {k : Nat} (hk : k ≤ 4) (H : ∀ b14 : Nat → Int32, (∀ j, j < 14 * k → b14 j = a14 j) → (∀ j, j < 14 → b14 (14 * k + j) = a5 j) → post (l, iv, pr, tt, a1, a2, a3, a4, a5, a6, a7, a8, a9, a10, a11, a12, a13, b14)) : ∃ n, wX_noteTime_44 post (nI k) l iv pr tt n 0 a1 a2 a3 a4 a5 a6 a7 a8 a9 a10 a11 a12 a13 a14 :=
  pk_loop (fun n i s => wX_noteTime_44 post (nI k) l iv pr tt n (nI i) a1 a2 a3 a4 a5 a6 a7 a8 a9 a10 a11 a12 a13 s) (fun i s => (∀ j, j < 14 * k → s j = a14 j) ∧ (∀ j, j < i → s (14 * k + j) = a5 j)) 14 0 a14 (by omega) ⟨fun _ _ => rfl, fun j hj => absurd hj (by omega)⟩
    (fun n s h => pk_le 14 14 (fun _ => H s h.1 h.2) (fun z => absurd z (by omega)))
    (fun n i s hi h hw => pk_le 14 i (fun z => absurd z (by omega)) (fun _ => ⟨pk_in i 14 (by omega), pk_in (14 * k + i) 70 (by omega) (td_ix k i), nm_r (e' := upd s (14 * k + i) (a5 i)) (by rw [pk_cl (14 * k + i) (td_ix k i), nI_clamp (by omega)]) (nm_r (nI_1 i) (hw _ ⟨fun j hj => by rw [pk_un (by omega)]; exact h.1 j hj, fun j hj => by
      by_cases e : j = i
      · rw [e, pk_us]
      · rw [pk_un (by omega)]
        exact h.2 j (by omega)⟩))⟩))
theorem td_note {t e : Nat} (ht : t ≤ 200) (he : e ≤ 20) (H : ∀ b14 : Nat → Int32, (0 < t → ∀ j, j < 14 → b14 j = a14 j) → (t = 0 → ∀ j, j < 14 → b14 j = a5 j) → post (l, iv, pr, tt, a1, a2, a3, a4, a5, a6, a7, a8, a9, upd a10 t (nI e), upd a11 t (vp_nar .short (a13 e)), a12, upd a13 e (nI t), b14)) : wpX_noteTime post (l, iv, pr, tt, a1, a2, a3, a4, a5, a6, a7, a8, a9, a10, a11, a12, a13, a14) (nI t) (nI e) := by
  have ct : (nI t).toNatClampNeg = t := nI_clamp (by omega)
  have ce : (nI e).toNatClampNeg = e := nI_clamp (by omega)
  refine ⟨pk_in t 201 (by omega), nm_r (e' := upd a10 t (nI e)) (by rw [ct, td_b8 e (by omega)]) ⟨pk_in e 21 (by omega), pk_in t 201 (by omega), nm_r (e' := upd a11 t (vp_nar .short (a13 e))) (by rw [ct, ce]) ⟨pk_in e 21 (by omega), nm_r (e' := upd a13 e (nI t)) (by rw [ce, td_b16 t (by omega)]) ⟨by decide, ?_⟩⟩⟩⟩
  refine pk_eq (t % 50) 0 (fun z => ⟨by decide, nm_r (e' := nI (t / 50)) (pk_div (a := t) (d := 50) (by omega) (by omega) (by omega)) ?_⟩) (fun z => H a14 (fun _ _ _ => rfl) (fun z0 => absurd (show t % 50 = 0 by omega) z)) (pk_rem (a := t) (d := 50) (by omega) (by omega) (by omega)) rfl (by omega) (by omega)
  refine td_44 (by omega) (fun b14 h1 h2 => H b14 (fun h0 j hj => h1 j (by omega)) (fun z0 j hj => ?_))
  have h3 := h2 j hj
  rw [z0] at h3
  rw [show 14 * (0 / 50) + j = j by omega] at h3
  exact h3
theorem td_store {k q : Nat} {v : Int32} (hk : k ≤ 200) (hq : q < 14) (H : ∀ b5 b6 b7 b8 b9 b12 : Nat → Int32, (∀ j, j ≠ k → b6 j = a6 j) → td_w (b6 k) → post (l, iv, pr, nI k, a1, a2, a3, a4, b5, b6, b7, b8, b9, a10, a11, b12, a13, a14)) : wpX_store post (l, iv, pr, nI k, a1, a2, a3, a4, a5, a6, a7, a8, a9, a10, a11, a12, a13, a14) (nI q) v := by
  have it : vp_in (nI k) 201 := pk_in k 201 (by omega)
  have iq : vp_in (nI q) 14 := pk_in q 14 (by omega)
  refine ⟨it, nm_r (e' := upd a6 k (nI q)) (by rw [nI_clamp (by omega), td_b8 q (by omega)]) ⟨iq, it, nm_e ⟨it, nm_e ⟨iq, it, nm_e ⟨iq, nm_e ⟨iq, nm_e (H _ _ _ _ _ _ (fun j hj => pk_un hj) (Or.inr ?_))⟩⟩⟩⟩⟩⟩
  rw [pk_us]
  exact iq
theorem td_compute {k q : Nat} {op v w : Int32} (hk : k ≤ 200) (hq : q < 14) (H : ∀ b5 b6 b7 b8 b9 b12 : Nat → Int32, (∀ j, j ≠ k → b6 j = a6 j) → td_w (b6 k) → post (l, iv, pr, nI k, a1, a2, a3, a4, b5, b6, b7, b8, b9, a10, a11, b12, a13, a14)) : wpX_compute post (l, iv, pr, nI k, a1, a2, a3, a4, a5, a6, a7, a8, a9, a10, a11, a12, a13, a14) op (nI q) v w :=
  br_c (fun _ => by unfold wX_compute_28; exact td_store hk hq H) (fun _ => br_c (fun _ => by unfold wX_compute_28; exact td_store hk hq H) (fun _ => by unfold wX_compute_28; exact td_store hk hq H))
end
end
section
/-- where the one command leads -/
def td_e (op x y v : Int32) : Int32 := if op.toInt = 8 then 0 else if op.toInt = 7 then x else if op.toInt = 6 ∧ x.toInt = 5 ∧ 0 < v.toInt then y else 1
/-- a command that fits, its parts as naturals where they are places -/
def td_ok (o : Nat) (x y z : Int32) : Prop := o ≤ 8 ∧ (o = 7 → ∃ i : Nat, i ≤ 19 ∧ x = nI i) ∧ (o < 7 → ∃ i : Nat, i ≤ 5 ∧ x = nI i) ∧ (o = 6 → ∃ i : Nat, i ≤ 19 ∧ y = nI i) ∧ (1 ≤ o → o ≤ 5 → ∃ i : Nat, i ≤ 5 ∧ y = nI i) ∧ (1 ≤ o → o ≤ 3 → ∃ i : Nat, i ≤ 5 ∧ z = nI i)
/-- after k steps, each of which led to e -/
def td_J (iv : Int32) (e k : Nat) (a6 a10 a11 a13 a14 : Nat → Int32) : Prop :=
  (∀ j, 1 ≤ j → j ≤ k → td_w (a6 j)) ∧ a10 0 = nI 0 ∧ (∀ j, 1 ≤ j → j ≤ k → a10 j = nI e) ∧ a11 0 = -1 ∧ a13 0 = nI (if e = 0 then k else 0) ∧ (e = 0 → ∀ j, j < k → a11 (j + 1) = nI j) ∧ a14 5 = iv
/-- the state at the beginning: all 0 but the input -/
def td_N (iv : Int32) (a5 : Nat → Int32) : Prop := ∀ j, j < 14 → a5 j = if j = 5 then iv else 0
theorem td_step {iv : Int32} {e k : Nat} {a6 a10 a11 a13 a14 b6 b14 : Nat → Int32} (hk : k < 200) (h : td_J iv e k a6 a10 a11 a13 a14) (h6 : ∀ j, j ≠ k + 1 → b6 j = a6 j) (hw : td_w (b6 (k + 1))) (h14 : ∀ j, j < 14 → b14 j = a14 j) :
    td_J iv e (k + 1) b6 (upd a10 (k + 1) (nI e)) (upd a11 (k + 1) (vp_nar .short (a13 e))) (upd a13 e (nI (k + 1))) b14 := by
  obtain ⟨g1, g2, g3, g4, g5, g6, g7⟩ := h
  refine ⟨fun j h1 h2 => ?_, ?_, fun j h1 h2 => ?_, ?_, ?_, fun he j hj => ?_, ?_⟩
  · by_cases c : j = k + 1
    · rw [c]; exact hw
    · rw [h6 j c]; exact g1 j h1 (by omega)
  · rw [pk_un (by omega)]; exact g2
  · by_cases c : j = k + 1
    · rw [c, pk_us]
    · rw [pk_un c]; exact g3 j h1 (by omega)
  · rw [pk_un (by omega)]; exact g4
  · by_cases c : e = 0
    · rw [c, pk_us, if_pos rfl]
    · rw [pk_un (fun z => c z.symm), g5, if_neg c, if_neg c]
  · by_cases c : j = k
    · rw [c, pk_us, he, g5, if_pos he, vp_nar_short, td_b16 k (by omega)]
    · rw [pk_un (by omega)]; exact g6 he j (by omega)
  · rw [h14 5 (by omega)]; exact g7
section
variable {post : St2 → Prop} {l iv pr tt : Int32} {a1 a2 a3 a4 a5 a6 a7 a8 a9 a10 a11 a12 a13 a14 : Nat → Int32}
theorem td_perform {post : Int32 → St2 → Prop} {o k e : Nat} {x y z : Int32} (h1 : a1 0 = nI o) (h2 : a2 0 = x) (h3 : a3 0 = y) (h4 : a4 0 = z) (ok : td_ok o x y z) (hk : k ≤ 200) (h5 : td_N iv a5) (h6 : td_w (a6 k)) (he : td_e (nI o) x y iv = nI e)
    (H : ∀ b5 b6 b7 b8 b9 b12 : Nat → Int32, (6 ≤ o → b5 = a5) → (∀ j, j ≠ k → b6 j = a6 j) → td_w (b6 k) → post (nI e) (l, iv, pr, nI k, a1, a2, a3, a4, b5, b6, b7, b8, b9, a10, a11, b12, a13, a14)) : wpX_perform post (l, iv, pr, nI k, a1, a2, a3, a4, a5, a6, a7, a8, a9, a10, a11, a12, a13, a14) (nI 0) := by
  have c0 : (nI 0).toNatClampNeg = 0 := nI_clamp (by omega)
  have i0 : vp_in (nI 0) 20 := pk_in 0 20 (by omega)
  have ho := ok.1
  have same : post (nI e) (l, iv, pr, nI k, a1, a2, a3, a4, a5, a6, a7, a8, a9, a10, a11, a12, a13, a14) := H a5 a6 a7 a8 a9 a12 (fun _ => rfl) (fun _ _ => rfl) h6
  have E8 : (nI o).toInt = 8 ↔ o = 8 := by rw [nI_toInt (by omega)]; omega
  have E7 : (nI o).toInt = 7 ↔ o = 7 := by rw [nI_toInt (by omega)]; omega
  have E6 : (nI o).toInt = 6 ↔ o = 6 := by rw [nI_toInt (by omega)]; omega
  refine ⟨i0, nm_r (e' := nI o) (by rw [c0, h1]) ⟨i0, nm_r (e' := x) (by rw [c0, h2]) ⟨i0, nm_r (e' := y) (by rw [c0, h3]) ?_⟩⟩⟩
  have e1 : nI 0 + 1 = nI 1 := nI_1 0
  unfold td_e at he
  refine pk_eq o 8 (fun q => ?_) (fun q8 => pk_eq o 7 (fun q => ?_) (fun q7 => pk_eq o 6 (fun q => ?_) (fun q6 => ?_)))
  · rw [if_pos (E8.mpr q)] at he
    rw [← he] at same
    exact same
  · rw [if_neg (fun t => q8 (E8.mp t)), if_pos (E7.mpr q)] at he
    rw [← he] at same
    exact same
  · obtain ⟨i, hi, rfl⟩ := ok.2.2.1 (by omega)
    refine ⟨pk_in i 14 (by omega), ?_⟩
    rw [nI_clamp (show i < 2 ^ 31 by omega), h5 i (by omega), e1]
    rw [if_neg (fun t => q8 (E8.mp t)), if_neg (fun t => q7 (E7.mp t))] at he
    have E5 : (nI i).toInt = 5 ↔ i = 5 := by rw [nI_toInt (by omega)]; omega
    have E0 : iv ≤ 0 ↔ iv.toInt ≤ 0 := Int32.le_iff_toInt_le
    refine br_c (fun g => ?_) (fun g => ?_)
    · have hn : ¬ ((nI o).toInt = 6 ∧ (nI i).toInt = 5 ∧ 0 < iv.toInt) := by
        rintro ⟨_, r1, r2⟩
        rw [if_pos (E5.mp r1)] at g
        have := E0.mp g
        omega
      rw [if_neg hn] at he
      rw [← he] at same
      exact same
    · have hn : (nI o).toInt = 6 ∧ (nI i).toInt = 5 ∧ 0 < iv.toInt := by
        by_cases c : i = 5
        · rw [if_pos c] at g
          have hg : ¬ iv.toInt ≤ 0 := fun t => g (E0.mpr t)
          exact ⟨E6.mpr q, E5.mpr c, by omega⟩
        · rw [if_neg c] at g
          exact absurd (by decide) g
      rw [if_pos hn] at he
      rw [← he] at same
      exact same
  · rw [if_neg (fun t => q8 (E8.mp t)), if_neg (fun t => q7 (E7.mp t)), if_neg (fun t => q6 (E6.mp t.1))] at he
    rw [← he] at H
    rw [e1]
    obtain ⟨i, hi, rfl⟩ := ok.2.2.1 (by omega)
    have H' : ∀ b5 b6 b7 b8 b9 b12 : Nat → Int32, (∀ j, j ≠ k → b6 j = a6 j) → td_w (b6 k) → post (nI 1) (l, iv, pr, nI k, a1, a2, a3, a4, b5, b6, b7, b8, b9, a10, a11, b12, a13, a14) := fun b5 b6 b7 b8 b9 b12 t1 t2 => H b5 b6 b7 b8 b9 b12 (fun t => absurd t (by omega)) t1 t2
    refine pk_eq o 0 (fun q => td_store hk (by omega) H') (fun q0 => ?_)
    obtain ⟨j, hj, rfl⟩ := ok.2.2.2.2.1 (by omega) (by omega)
    obtain ⟨m, hm, em⟩ := pk_andE (a5 (nI j).toNatClampNeg) (m := 7) 3 (by decide)
    have e6 : (6 : Int32) + nI m = nI (6 + m) := nI_add 6 m
    have hm8 : m < 8 := hm
    refine pk_eq o 4 (fun q => ⟨pk_in j 14 (by omega), ?_, ?_⟩) (fun q4 => pk_eq o 5 (fun q => ⟨pk_in j 14 (by omega), pk_in i 14 (by omega), ?_⟩) (fun q5 => ?_))
    · rw [em]
      exact pk_in (6 + m) 14 (by omega) e6
    · exact td_store hk (by omega) H'
    · rw [em, e6]
      exact td_store hk (by omega) H'
    · obtain ⟨z', hz, ez⟩ := ok.2.2.2.2.2 (by omega) (by omega)
      refine ⟨pk_in j 14 (by omega), i0, ?_, td_compute hk (by omega) H'⟩
      rw [c0, h4, ez]
      exact pk_in z' 14 (by omega)
theorem td_137 {J : Int32 → Int32 → Int32 → Int32 → Int32 → Int32 → (Nat → Int32) → (Nat → Int32) → (Nat → Int32) → (Nat → Int32) → (Nat → Int32) → (Nat → Int32) → (Nat → Int32) → (Nat → Int32) → (Nat → Int32) → (Nat → Int32) → (Nat → Int32) → (Nat → Int32) → (Nat → Int32) → (Nat → Int32) → Prop}
    {o k e : Nat} {x y z w : Int32} (h1 : a1 0 = nI o) (h2 : a2 0 = x) (h3 : a3 0 = y) (h4 : a4 0 = z) (ok : td_ok o x y z) (hk : k < 200) (h5 : td_N iv a5) (he : td_e (nI o) x y iv = nI e) (hE : e ≤ 20) (hJ : td_J iv e k a6 a10 a11 a13 a14)
    (H : ∀ b5 b6 b7 b8 b9 b10 b11 b12 b13 b14 : Nat → Int32, (6 ≤ o → b5 = a5) → td_J iv e (k + 1) b6 b10 b11 b13 b14 → J (nI e) w l iv pr (nI (k + 1)) a1 a2 a3 a4 b5 b6 b7 b8 b9 b10 b11 b12 b13 b14) :
    wX_execute_137 post J (nI 0) w l iv pr (nI (k + 1)) a1 a2 a3 a4 a5 (upd a6 (k + 1) (-1)) a7 a8 a9 a10 a11 a12 a13 a14 := by
  unfold wX_execute_137
  refine td_perform h1 h2 h3 h4 ok (by omega) h5 (Or.inl ?_) he (fun b5 b6 b7 b8 b9 b12 r5 r6 rw6 => td_note (by omega) hE (fun b14 s1 s2 => H _ _ _ _ _ _ _ _ _ _ r5 (td_step hk hJ (fun j hj => ?_) rw6 (s1 (by omega)))))
  · rw [pk_us]
    decide
  · rw [r6 j hj, pk_un hj]
theorem td_156 {n : Nat} {e : Nat} (hn : n ≤ 200) (hJ : td_J iv e n a6 a10 a11 a13 a14) (h5 : n = 0 → a5 5 = iv) (H : ∀ b5 : Nat → Int32, b5 5 = iv → post (l, iv, nI 0, nI n, a1, a2, a3, a4, b5, a6, a7, a8, a9, a10, a11, a12, a13, a14)) : wX_execute_156 post l iv pr (nI n) a1 a2 a3 a4 a5 a6 a7 a8 a9 a10 a11 a12 a13 a14 := by
  unfold wX_execute_156
  exact td_travel (t := 0) (v := iv) hn (by omega) (Nat.le_refl n) hJ.1 (fun _ => ⟨hJ.2.2.2.2.2.2, h5⟩) (fun b5 h => H b5 (h rfl))
end
end
section
section
variable {post : St2 → Prop} {l iv pr tt : Int32} {a1 a2 a3 a4 : Nat → Int32}
theorem td_e6 {o : Nat} {x y v : Int32} (ho : o ≤ 8) (h8 : o ≠ 8) (h : td_e (nI o) x y v = nI 0) : 6 ≤ o := by
  rcases Nat.lt_or_ge o 6 with c | c
  · rw [td_e, nI_toInt (by omega), if_neg (by omega), if_neg (by omega), if_neg (by omega)] at h
    exact absurd h (by decide)
  · exact c
theorem td_run {o e N : Nat} {x y z : Int32} (h1 : a1 0 = nI o) (h2 : a2 0 = x) (h3 : a3 0 = y) (h4 : a4 0 = z) (ok : td_ok o x y z) (he : td_e (nI o) x y iv = nI e) (hE : e ≤ 20) (hN : N = if e = 0 ∧ o ≠ 8 then 200 else 1)
    (H : ∀ b5 b6 b7 b8 b9 b10 b11 b12 b13 b14 : Nat → Int32, td_J iv e N b6 b10 b11 b13 b14 → b5 5 = iv → post (nI 1, iv, nI 0, nI N, a1, a2, a3, a4, b5, b6, b7, b8, b9, b10, b11, b12, b13, b14)) :
    ∀ (d k : Nat) (a5 a6 a7 a8 a9 a10 a11 a12 a13 a14 : Nat → Int32), k + d = 200 → (0 < k → e = 0 ∧ o ≠ 8) → td_N iv a5 → td_J iv e k a6 a10 a11 a13 a14 → wX_execute_79 post (d + 2) (nI 0) (nI 1) (nI 1) iv pr (nI k) a1 a2 a3 a4 a5 a6 a7 a8 a9 a10 a11 a12 a13 a14 := by
  intro d
  induction d with
  | zero =>
    intro k a5 a6 a7 a8 a9 a10 a11 a12 a13 a14 hk hc h5 hJ
    have hN' : N = k := by rw [hN, if_pos (hc (by omega))]; omega
    subst hN'
    exact pk_eq 1 0 (fun t => absurd t (by omega)) (fun _ => pk_le 1 0 (fun t => absurd t (by omega)) (fun _ => pk_le 200 N (fun _ => td_156 (by omega) hJ (fun t => absurd t (by omega)) (fun b5 hb => H _ _ _ _ _ _ _ _ _ _ hJ hb)) (fun t => absurd t (by omega))))
  | succ d ih =>
    intro k a5 a6 a7 a8 a9 a10 a11 a12 a13 a14 hk hc h5 hJ
    show wX_execute_79 post ((d + 2) + 1) (nI 0) (nI 1) (nI 1) iv pr (nI k) a1 a2 a3 a4 a5 a6 a7 a8 a9 a10 a11 a12 a13 a14
    have c0 : (nI 0).toNatClampNeg = 0 := nI_clamp (by omega)
    have ho := ok.1
    refine pk_eq 1 0 (fun t => absurd t (by omega)) (fun _ => pk_le 1 0 (fun t => absurd t (by omega)) (fun _ => pk_le 200 k (fun t => absurd t (by omega)) (fun _ => nm_r (nI_1 k) ⟨pk_in (k + 1) 201 (by omega), nm_r (e' := upd a6 (k + 1) (-1)) (by rw [nI_clamp (by omega)]) ⟨pk_in 0 20 (by omega), ?_⟩⟩)))
    refine pk_eq o 8 (fun q => ?_) (fun q => ?_) (by rw [c0, h1]) rfl (by omega) (by omega)
    · have hk0 : k = 0 := by
        rcases Nat.eq_zero_or_pos k with t | t
        · exact t
        · exact absurd q (hc t).2
      have hN' : N = k + 1 := by rw [hN, if_neg (fun t => t.2 q)]; omega
      subst hN'
      exact td_137 h1 h2 h3 h4 ok (by omega) h5 he hE hJ (fun b5 b6 b7 b8 b9 b10 b11 b12 b13 b14 r5 rJ => pk_eq 0 0 (fun _ => td_156 (by omega) rJ (fun t => absurd t (by omega)) (fun c5 hb => H _ _ _ _ _ _ _ _ _ _ rJ hb)) (fun t => absurd rfl t))
    · refine td_137 h1 h2 h3 h4 ok (by omega) h5 he hE hJ (fun b5 b6 b7 b8 b9 b10 b11 b12 b13 b14 r5 rJ => ?_)
      by_cases c : e = 0
      · subst c
        have h6 : 6 ≤ o := td_e6 ho q he
        exact ih (k + 1) b5 b6 b7 b8 b9 b10 b11 b12 b13 b14 (by omega) (fun _ => ⟨rfl, q⟩) (by rw [r5 h6]; exact h5) rJ
      · have hk0 : k = 0 := by
          rcases Nat.eq_zero_or_pos k with t | t
          · exact t
          · exact absurd (hc t).1 c
        have hN' : N = k + 1 := by rw [hN, if_neg (fun t => c t.1)]; omega
        subst hN'
        exact pk_eq 1 0 (fun t => absurd t (by omega)) (fun _ => pk_le 1 e (fun _ => td_156 (by omega) rJ (fun t => absurd t (by omega)) (fun c5 hb => H _ _ _ _ _ _ _ _ _ _ rJ hb)) (fun t => absurd t (by omega)))
end
section
variable {post : St2 → Prop} {l iv pr tt : Int32} {a1 a2 a3 a4 a5 a6 a7 a8 a9 a10 a11 a12 a13 a14 : Nat → Int32}
theorem td_30 (h5 : ∀ j, j < 14 → a5 j = 0) (H : ∀ b5 b10 b11 b13 b14 : Nat → Int32, td_N iv b5 → (∀ e, td_J iv e 0 a6 b10 b11 b13 b14) → ∃ n, wX_execute_79 post n (nI 0) (nI 1) l iv (nI 0) (nI 0) a1 a2 a3 a4 b5 a6 a7 a8 a9 b10 b11 a12 b13 b14) : ∃ n, wX_execute_30 post l iv pr tt n 0 a1 a2 a3 a4 a5 a6 a7 a8 a9 a10 a11 a12 a13 a14 :=
  pk_loop (fun n i s => wX_execute_30 post l iv pr tt n (nI i) a1 a2 a3 a4 a5 a6 a7 a8 a9 a10 a11 a12 s a14) (fun i s => ∀ j, j < i → s j = -1) 21 0 a13 (by omega) (fun j hj => absurd hj (by omega))
    (fun n s h => pk_le 21 21 (fun _ => nm_e (td_note (t := 0) (e := 0) (by omega) (by omega) (fun b14 s1 s2 => H _ _ _ _ _
      (fun j hj => by
        by_cases c : j = 5
        · rw [c, pk_us, if_pos rfl]
        · rw [pk_un c, if_neg c]
          exact h5 j hj)
      (fun e => ⟨fun j h1 h2 => absurd h1 (by omega), pk_us, fun j h1 h2 => absurd h1 (by omega), by rw [pk_us, h 0 (by omega), vp_nar_short]; decide, by rw [pk_us, ite_self], fun _ j hj => absurd hj (by omega), by rw [s2 rfl 5 (by omega), pk_us]⟩)))) (fun z => absurd z (by omega)))
    (fun n i s hi h hw => pk_le 21 i (fun z => absurd z (by omega)) (fun _ => ⟨pk_in i 21 (by omega), nm_e (nm_r (nI_1 i) (hw _ (td_fill (f := fun _ => -1) (nI_clamp (by omega)) h rfl)))⟩))
theorem td_exec (H : ∀ b5 b10 b11 b12 b13 b14 : Nat → Int32, td_N iv b5 → (∀ e, td_J iv e 0 a6 b10 b11 b13 b14) → ∃ n, wX_execute_79 post n (nI 0) (nI 1) l iv (nI 0) (nI 0) a1 a2 a3 a4 b5 a6 a7 a8 a9 b10 b11 b12 b13 b14) : wpX_execute post (l, iv, pr, tt, a1, a2, a3, a4, a5, a6, a7, a8, a9, a10, a11, a12, a13, a14) :=
  pk_loop (σ := (Nat → Int32) × (Nat → Int32)) (fun n i s => wX_execute_2 post l iv pr tt n (nI i) a1 a2 a3 a4 s.1 a6 a7 a8 a9 a10 a11 s.2 a13 a14) (fun i s => ∀ j, j < i → s.1 j = 0) 14 0 (a5, a12) (by omega) (fun j hj => absurd hj (by omega))
    (fun n s h => pk_le 14 14 (fun _ => td_30 h (fun b5 b10 b11 b13 b14 r1 r2 => H b5 b10 b11 s.2 b13 b14 r1 r2)) (fun z => absurd z (by omega)))
    (fun n i s hi h hw => pk_le 14 i (fun z => absurd z (by omega)) (fun _ => ⟨pk_in i 14 (by omega), nm_e ⟨pk_in i 14 (by omega), nm_e (nm_r (nI_1 i) (hw (upd s.1 (nI i).toNatClampNeg 0, upd s.2 (nI i).toNatClampNeg 0) (td_fill (f := fun _ => 0) (nI_clamp (by omega)) h rfl)))⟩⟩))
theorem td_exec0 (H : ∀ b5 b6 b7 b8 b9 b10 b11 b12 b13 b14 : Nat → Int32, (∀ e, td_J iv e 0 b6 b10 b11 b13 b14) → b5 5 = iv → post (nI 0, iv, nI 0, nI 0, a1, a2, a3, a4, b5, b6, b7, b8, b9, b10, b11, b12, b13, b14)) : wpX_execute post (nI 0, iv, pr, tt, a1, a2, a3, a4, a5, a6, a7, a8, a9, a10, a11, a12, a13, a14) :=
  td_exec (fun b5 b10 b11 b12 b13 b14 h5 hJ => ⟨1, pk_eq 1 0 (fun t => absurd t (by omega)) (fun _ => pk_le 0 0 (fun _ => td_156 (n := 0) (e := 0) (by omega) (hJ 0) (fun _ => h5 5 (by omega)) (fun c5 hc => H _ _ _ _ _ _ _ _ _ _ hJ hc)) (fun t => absurd t (by omega)))⟩)
theorem td_exec1 {o e N : Nat} {x y z : Int32} (h1 : a1 0 = nI o) (h2 : a2 0 = x) (h3 : a3 0 = y) (h4 : a4 0 = z) (ok : td_ok o x y z) (he : td_e (nI o) x y iv = nI e) (hE : e ≤ 20) (hN : N = if e = 0 ∧ o ≠ 8 then 200 else 1)
    (H : ∀ b5 b6 b7 b8 b9 b10 b11 b12 b13 b14 : Nat → Int32, td_J iv e N b6 b10 b11 b13 b14 → b5 5 = iv → post (nI 1, iv, nI 0, nI N, a1, a2, a3, a4, b5, b6, b7, b8, b9, b10, b11, b12, b13, b14)) : wpX_execute post (nI 1, iv, pr, tt, a1, a2, a3, a4, a5, a6, a7, a8, a9, a10, a11, a12, a13, a14) :=
  td_exec (fun b5 b10 b11 b12 b13 b14 h5 hJ => ⟨200 + 2, td_run h1 h2 h3 h4 ok he hE hN H 200 0 _ _ _ _ _ _ _ _ _ _ (by omega) (fun t => absurd t (by omega)) h5 (hJ e)⟩)
end
end
section
def td_in (v : Int32) (n : Int) : Prop := 0 ≤ v.toInt ∧ v.toInt ≤ n
/-- the command fits -/
def td_F (op x y z : Int32) : Prop := (((td_in op 8 ∧ (op.toInt ≠ 8 → (op.toInt = 7 → td_in x 19) ∧ (op.toInt ≠ 7 → td_in x 5))) ∧ (1 ≤ op.toInt ∧ op.toInt ≤ 5 → td_in y 5)) ∧ (1 ≤ op.toInt ∧ op.toInt ≤ 3 → td_in z 5)) ∧ (op.toInt = 6 → td_in y 19)
theorem td_lt (x c : Int32) (n : Int) (h : c.toInt = n) : x < c ↔ x.toInt < n := by rw [Int32.lt_iff_toInt_lt, h]
theorem td_gt (c x : Int32) (n : Int) (h : c.toInt = n) : c < x ↔ n < x.toInt := by rw [Int32.lt_iff_toInt_lt, h]
theorem td_le (x c : Int32) (n : Int) (h : c.toInt = n) : x ≤ c ↔ x.toInt ≤ n := by rw [Int32.le_iff_toInt_le, h]
theorem td_eq (x c : Int32) (n : Int) (h : c.toInt = n) : x = c ↔ x.toInt = n := ⟨fun e => by rw [e, h], fun e => Int32.toInt_inj.mp (e.trans h.symm)⟩
theorem td_nat {x : Int32} {n : Nat} (h : td_in x n) : ∃ i : Nat, i ≤ n ∧ x = nI i := by
  have h1 := h.1
  have h2 := h.2
  obtain ⟨j, hj, rfl⟩ := nI_of (x := x) (fun z => by have := (td_lt x 0 0 (by decide)).mp z; omega)
  rw [nI_toInt hj] at h2
  exact ⟨j, by omega, rfl⟩
theorem td_F_ok {op x y z : Int32} (h : td_F op x y z) : ∃ o : Nat, op = nI o ∧ td_ok o x y z := by
  obtain ⟨⟨⟨⟨h0, h1⟩, h2⟩, h3⟩, h4⟩ := h
  obtain ⟨o, ho, rfl⟩ := td_nat (n := 8) h0
  have eo : (nI o).toInt = (o : Int) := nI_toInt (by omega)
  rw [eo] at h1 h2 h3 h4
  exact ⟨o, rfl, ho, fun c => td_nat (n := 19) ((h1 (by omega)).1 (by omega)), fun c => td_nat (n := 5) ((h1 (by omega)).2 (by omega)), fun c => td_nat (n := 19) (h4 (by omega)), fun c c' => td_nat (n := 5) (h2 (by omega)), fun c c' => td_nat (n := 5) (h3 (by omega))⟩
theorem td_eE {o : Nat} {x y z v : Int32} (ok : td_ok o x y z) : ∃ e : Nat, e ≤ 20 ∧ td_e (nI o) x y v = nI e := by
  have ho := ok.1
  have eo : (nI o).toInt = (o : Int) := nI_toInt (by omega)
  unfold td_e
  rw [eo]
  by_cases c8 : (o : Int) = 8
  · exact ⟨0, by omega, if_pos c8⟩
  · rw [if_neg c8]
    by_cases c7 : (o : Int) = 7
    · obtain ⟨i, hi, e⟩ := ok.2.1 (by omega)
      exact ⟨i, by omega, by rw [if_pos c7, e]⟩
    · rw [if_neg c7]
      by_cases c6 : (o : Int) = 6 ∧ x.toInt = 5 ∧ 0 < v.toInt
      · obtain ⟨i, hi, e⟩ := ok.2.2.2.1 (by have := c6.1; omega)
        exact ⟨i, by omega, by rw [if_pos c6, e]⟩
      · exact ⟨1, by omega, if_neg c6⟩
section
variable {l iv pr tt : Int32} {a1 a2 a3 a4 a5 a6 a7 a8 a9 a10 a11 a12 a13 a14 : Nat → Int32}
theorem td_19 {post : Int32 → St2 → Prop} {t N : Nat} (hN : N ≤ 200) (ht : t ≤ N) (hW : ∀ j, 1 ≤ j → j ≤ N → td_w (a6 j)) (h0 : a11 0 = -1) (H0 : t = 0 → post (-3) (l, iv, nI t, nI N, a1, a2, a3, a4, a5, a6, a7, a8, a9, a10, a11, a12, a13, a14)) :
    ∀ m, m ≤ N → (∀ j, j < m → a11 (j + 1) = nI j) → (0 < t → ∀ (q : Int32) (b5 : Nat → Int32), post (nI (min m (t - 1))) (l, iv, q, nI N, a1, a2, a3, a4, b5, a6, a7, a8, a9, a10, a11, a12, a13, a14)) → ∃ n, wX_backTo_19 post l iv (nI t) (nI N) a1 a2 a3 a4 a5 a6 a7 a8 a9 a10 a11 a12 a13 a14 n (nI m) := by
  intro m
  have X : ∀ m, m ≤ N → m < t → (0 < t → ∀ (q : Int32) (b5 : Nat → Int32), post (nI (min m (t - 1))) (l, iv, q, nI N, a1, a2, a3, a4, b5, a6, a7, a8, a9, a10, a11, a12, a13, a14)) → ∃ n, wX_backTo_19 post l iv (nI t) (nI N) a1 a2 a3 a4 a5 a6 a7 a8 a9 a10 a11 a12 a13 a14 n (nI m) := by
    intro m hm hmt H1
    have H1' := H1 (by omega)
    rw [Nat.min_eq_left (by omega)] at H1'
    exact ⟨1, pk_lt m t (fun _ => pk_le 0 m (fun _ => td_travel (v := a14 5) hN hm ht hW (fun _ => ⟨rfl, fun z => absurd z (by omega)⟩) (fun b5 _ => H1' _ b5)) (fun z => absurd z (by omega))) (fun z => absurd z (by omega))⟩
  induction m with
  | zero =>
    intro hm hj H1
    by_cases c : 0 < t
    · exact X 0 hm c H1
    · have t0 : t = 0 := by omega
      subst t0
      exact ⟨2, pk_lt 0 0 (fun z => absurd z (by omega)) (fun _ => ⟨pk_in 0 201 (by omega), nm_r (e' := -1) (by rw [nI_clamp (by omega)]; exact h0) (br_t (by decide) (br_f (by decide) (H0 rfl)))⟩)⟩
  | succ m ih =>
    intro hm hj H1
    by_cases c : m + 1 < t
    · exact X (m + 1) hm c H1
    · obtain ⟨n, hn⟩ := ih (by omega) (fun j h => hj j (by omega)) (fun h q b5 => by
        have := H1 h q b5
        rw [show min (m + 1) (t - 1) = min m (t - 1) by omega] at this
        exact this)
      exact ⟨n + 1, pk_lt (m + 1) t (fun z => absurd z (by omega)) (fun _ => ⟨pk_in (m + 1) 201 (by omega), nm_r (e' := nI m) (by rw [nI_clamp (by omega)]; exact hj m (by omega)) hn⟩)⟩
theorem td_back {post : Int32 → St2 → Prop} {v : Int32} {t N e : Nat} (hN : N ≤ 200) (ht : t ≤ N) (hJ : td_J v e N a6 a10 a11 a13 a14) (H0 : t = 0 → post (-3) (l, iv, nI t, nI N, a1, a2, a3, a4, a5, a6, a7, a8, a9, a10, a11, a12, a13, a14))
    (H1 : 0 < t → ∀ (q : Int32) (b5 : Nat → Int32), post (nI (min (if e = 0 then N else 0) (t - 1))) (l, iv, q, nI N, a1, a2, a3, a4, b5, a6, a7, a8, a9, a10, a11, a12, a13, a14)) : wpX_backTo post (l, iv, nI t, nI N, a1, a2, a3, a4, a5, a6, a7, a8, a9, a10, a11, a12, a13, a14) 0 := by
  obtain ⟨g1, g2, g3, g4, g5, g6, g7⟩ := hJ
  refine pk_lt 0 0 (fun z => absurd z (by omega)) (fun _ => pk_le 0 19 (fun _ => ⟨pk_in 0 21 (by omega), nm_r (e' := nI (if e = 0 then N else 0)) (by rw [sb_cl0]; exact g5) ?_⟩) (fun z => absurd z (by omega)))
  refine td_19 hN ht g1 g4 H0 _ ?_ ?_ H1
  · split <;> omega
  · intro j hj
    by_cases c : e = 0
    · rw [if_pos c] at hj
      exact g6 c j hj
    · rw [if_neg c] at hj
      exact absurd hj (by omega)
theorem td_goTo {post : Int32 → St2 → Prop} {N : Nat} {t : Int32} (hN : N ≤ 200) (hW : ∀ j, 1 ≤ j → j ≤ N → td_w (a6 j)) (h5 : a5 5 = a14 5) (Hn : ¬ td_in t N → post (-1) (l, iv, nI 0, nI N, a1, a2, a3, a4, a5, a6, a7, a8, a9, a10, a11, a12, a13, a14)) (Hy : ∀ i : Nat, i ≤ N → t = nI i → ∀ b5 : Nat → Int32, post (a10 i) (l, iv, nI i, nI N, a1, a2, a3, a4, b5, a6, a7, a8, a9, a10, a11, a12, a13, a14)) : wpX_goTo post (l, iv, nI 0, nI N, a1, a2, a3, a4, a5, a6, a7, a8, a9, a10, a11, a12, a13, a14) t := by
  refine br_c (fun g => Hn (fun z => by have := (td_lt t 0 0 (by decide)).mp g; have := z.1; omega)) (fun g => ?_)
  obtain ⟨i, hi, rfl⟩ := nI_of g
  refine pk_le i N (fun z => ?_) (fun z => Hn (fun y => by have := y.2; rw [nI_toInt hi] at this; omega)) rfl rfl hi (by omega)
  refine td_travel (v := a14 5) hN z (by omega) hW (fun _ => ⟨rfl, fun _ => h5⟩) (fun b5 _ => ⟨pk_in i 201 (by omega), ?_⟩)
  rw [nI_clamp hi]
  exact Hy i z rfl b5
theorem td_var {post : Int32 → Prop} {v : Int32} (H1 : td_in v 5 → post 1) (H0 : ¬ td_in v 5 → post 0) : wpX_isVariable post (l, iv, pr, tt, a1, a2, a3, a4, a5, a6, a7, a8, a9, a10, a11, a12, a13, a14) v :=
  ek_if (td_lt v 0 0 (by decide)) (fun g => H0 (fun z => by have := z.1; omega)) (fun g => ek_if (td_gt 5 v 5 (by decide)) (fun g2 => H0 (fun z => by have := z.2; omega)) (fun g2 => H1 ⟨by omega, by omega⟩))
theorem td_fits {post : Int32 → Prop} {op x y z : Int32} (h0 : 0 ≤ op.toInt) (h8 : op.toInt ≤ 8) (H1 : td_F op x y z → post 1) (H0 : ¬ td_F op x y z → post 0) : wpX_fits post (l, iv, pr, tt, a1, a2, a3, a4, a5, a6, a7, a8, a9, a10, a11, a12, a13, a14) op x y z := by
  refine ek_if (td_eq op 8 8 (by decide)) (fun g8 => H1 (by unfold td_F td_in; omega)) (fun g8 => ek_if (td_eq op 7 7 (by decide)) (fun g7 => ek_if (td_lt x 0 0 (by decide)) (fun g => H0 (by unfold td_F td_in; omega)) (fun g => ek_if (td_gt 19 x 19 (by decide)) (fun g' => H0 (by unfold td_F td_in; omega)) (fun g' => H1 (by unfold td_F td_in; omega)))) (fun g7 => ?_))
  refine td_var (fun hx => br_f (by decide) ?_) (fun hx => br_t rfl (H0 (by unfold td_F; unfold td_in at *; omega)))
  refine ek_if (td_eq op 0 0 (by decide)) (fun g0 => H1 (by unfold td_F; unfold td_in at *; omega)) (fun g0 => ?_)
  refine ek_if (td_eq op 6 6 (by decide)) (fun g6 => ek_if (td_lt y 0 0 (by decide)) (fun g => H0 (by unfold td_F; unfold td_in at *; omega)) (fun g => ek_if (td_gt 19 y 19 (by decide)) (fun g' => H0 (by unfold td_F; unfold td_in at *; omega)) (fun g' => H1 (by unfold td_F; unfold td_in at *; omega)))) (fun g6 => ?_)
  refine td_var (fun hy => br_f (by decide) ?_) (fun hy => br_t rfl (H0 (by unfold td_F; unfold td_in at *; omega)))
  refine ek_if (td_gt 3 op 3 (by decide)) (fun g3 => H1 (by unfold td_F; unfold td_in at *; omega)) (fun g3 => ?_)
  exact td_var (fun hz => br_f (by decide) (H1 (by unfold td_F; unfold td_in at *; omega))) (fun hz => br_t rfl (H0 (by unfold td_F; unfold td_in at *; omega)))
theorem td_emit {post : Int32 → St2 → Prop} {op x y z : Int32} (Hn : ¬ td_F op x y z → post (-1) (nI 0, iv, pr, tt, a1, a2, a3, a4, a5, a6, a7, a8, a9, a10, a11, a12, a13, a14))
    (Hy : td_F op x y z → ∀ (q r : Int32) (b1 b2 b3 b4 b5 b6 b7 b8 b9 b10 b11 b12 b13 b14 : Nat → Int32), b1 0 = op → b2 0 = x → b3 0 = y → b4 0 = z → post (nI 1) (nI 1, iv, q, r, b1, b2, b3, b4, b5, b6, b7, b8, b9, b10, b11, b12, b13, b14)) : wpX_emit post (nI 0, iv, pr, tt, a1, a2, a3, a4, a5, a6, a7, a8, a9, a10, a11, a12, a13, a14) op x y z := by
  have i0 : vp_in (nI 0) 20 := pk_in 0 20 (by omega)
  have c0 : (nI 0).toNatClampNeg = 0 := nI_clamp (by omega)
  refine pk_lt 0 20 (fun _ => ek_if (td_lt op 0 0 (by decide)) (fun g => Hn (by unfold td_F td_in; omega)) (fun g => ek_if (td_gt 8 op 8 (by decide)) (fun g' => Hn (by unfold td_F td_in; omega)) (fun g' => ?_))) (fun z => absurd z (by omega))
  refine td_fits (by omega) (by omega) (fun hF => br_f (by decide) ⟨i0, nm_e ⟨i0, nm_e ⟨i0, nm_e ⟨i0, nm_e (nm_r (nI_1 0) ?_)⟩⟩⟩⟩) (fun hF => br_t rfl (Hn hF))
  obtain ⟨o, ho, ok⟩ := td_F_ok hF
  obtain ⟨e, hE, he⟩ := td_eE (v := iv) ok
  have hb : op.toInt8.toInt32 = op := by rw [ho]; exact td_b8 o (by have := ok.1; omega)
  have u1 : upd a1 (nI 0).toNatClampNeg op.toInt8.toInt32 0 = op := by rw [c0, pk_us, hb]
  have u2 : upd a2 (nI 0).toNatClampNeg x 0 = x := by rw [c0, pk_us]
  have u3 : upd a3 (nI 0).toNatClampNeg y 0 = y := by rw [c0, pk_us]
  have u4 : upd a4 (nI 0).toNatClampNeg z 0 = z := by rw [c0, pk_us]
  exact td_exec1 (o := o) (e := e) (by rw [u1, ho]) u2 u3 u4 ok he hE rfl (fun b5 b6 b7 b8 b9 b10 b11 b12 b13 b14 _ _ => Hy hF _ _ _ _ _ _ _ _ _ _ _ _ _ _ _ _ u1 u2 u3 u4)
end
end
section
/-- a flag of the law -/
def td_fl (x : Int32) (P : Prop) : Prop := (x.toInt = 1 ∧ P) ∨ (x.toInt = 0 ∧ ¬ P)
theorem td_fl1 {P : Prop} (h : P) : td_fl 1 P := Or.inl ⟨by decide, h⟩
theorem td_fl0 {P : Prop} (h : ¬ P) : td_fl 0 P := Or.inr ⟨by decide, h⟩
theorem td_flt {x : Int32} {P : Prop} (h : td_fl x P) (hx : ¬ x = 0) : P := by
  rcases h with h | h
  · exact h.2
  · exact absurd ((td_eq x 0 0 (by decide)).mpr h.1) hx
theorem td_flf {x : Int32} {P : Prop} (h : td_fl x P) (hx : x = 0) : ¬ P := by
  rcases h with h | h
  · have := (td_eq x 0 0 (by decide)).mp hx
    have := h.1
    omega
  · exact h.2
theorem td_fla {x : Int32} {P Q : Prop} (h : td_fl x P) (hq : Q) : td_fl x (P ∧ Q) := by
  rcases h with h | h
  · exact Or.inl ⟨h.1, h.2, hq⟩
  · exact Or.inr ⟨h.1, fun z => h.2 z.1⟩
/-- the law's own word 'again' -/
def td_ag (op x y v : Int32) : Prop := (op.toInt = 7 ∧ x.toInt = 0) ∨ (op.toInt = 6 ∧ y.toInt = 0 ∧ x.toInt = 5 ∧ 0 < v.toInt)
theorem td_lin {post : Int32 → Prop} {v c : Int32} {n : Int} (hc : c.toInt = n) (H1 : td_in v n → post 1) (H0 : ¬ td_in v n → post 0) : wpL_in post () v c :=
  ek_if (td_lt v 0 0 (by decide)) (fun g => H0 (fun z => by have := z.1; omega)) (fun g => ek_if (td_gt c v n hc) (fun g2 => H0 (fun z => by have := z.2; omega)) (fun g2 => H1 ⟨by omega, by omega⟩))
theorem td_e_ag {o e : Nat} {x y z v : Int32} (ok : td_ok o x y z) (hE : e ≤ 20) (he : td_e (nI o) x y v = nI e) : td_ag (nI o) x y v ↔ e = 0 ∧ o ≠ 8 := by
  have ho := ok.1
  have h := congrArg Int32.toInt he
  have eo : (nI o).toInt = (o : Int) := nI_toInt (by omega)
  have ee : (nI e).toInt = (e : Int) := nI_toInt (by omega)
  rw [ee] at h
  unfold td_e at h
  unfold td_ag
  rw [eo] at h ⊢
  have t0 : (0 : Int32).toInt = 0 := by decide
  have t1 : (1 : Int32).toInt = 1 := by decide
  by_cases c8 : (o : Int) = 8
  · rw [if_pos c8] at h
    omega
  · rw [if_neg c8] at h
    by_cases c7 : (o : Int) = 7
    · rw [if_pos c7] at h
      omega
    · rw [if_neg c7] at h
      by_cases c6 : (o : Int) = 6 ∧ x.toInt = 5 ∧ 0 < v.toInt
      · rw [if_pos c6] at h
        omega
      · rw [if_neg c6] at h
        omega
section
variable {post : Int32 → St0 → Prop} {mc ms kc ks : Nat} {l iv pr tt : Int32} {a1 a2 a3 a4 a5 a6 a7 a8 a9 a10 a11 a12 a13 a14 : Nat → Int32}
theorem td_302 {t x7 x10 z0 : Int32} {N e : Nat} (hp : post 1 ()) (hN : N ≤ 200) (hJ : td_J iv e N a6 a10 a11 a13 a14) (h5 : a5 5 = iv) (hx : td_fl x10 (td_in t N)) (hz : 0 < N → z0 = nI e) (h7a : x7 = 0 → N ≤ 1) (h7b : ¬ x7 = 0 → 0 < N → e = 0) :
    wL_lawOf_302 post mc ms t x7 x10 z0 kc ks l iv (nI 0) (nI N) a1 a2 a3 a4 a5 a6 a7 a8 a9 a10 a11 a12 a13 a14 := by
  have h14 := hJ.2.2.2.2.2.2
  unfold wL_lawOf_302
  refine td_goTo hN hJ.1 (by rw [h5, h14]) (fun hn => ?_) (fun i hi et b5 => ?_)
  · have hx0 : x10 = 0 := by
      by_cases c : x10 = 0
      · exact c
      · exact absurd (td_flt hx c) hn
    refine br_t hx0 (br_t rfl (br_t hx0 (br_t rfl (td_back (t := 0) hN (by omega) hJ (fun _ => br_t hx0 (br_t rfl hp)) (fun z => absurd z (by omega))))))
  · subst et
    have hin : td_in (nI i) N := ⟨by rw [nI_toInt (by omega)]; omega, by rw [nI_toInt (by omega)]; omega⟩
    have hx1 : ¬ x10 = 0 := fun z => td_flf hx z hin
    have main : ∀ w : Int32, a10 i = w → wL_lawOf_331 post mc ms (nI i) x7 x10 w (a10 i) kc ks l iv (nI i) (nI N) a1 a2 a3 a4 b5 a6 a7 a8 a9 a10 a11 a12 a13 a14 := by
      intro w hw
      refine br_t hw (br_f hx1 (br_t rfl (td_back hN hi hJ (fun i0 => ?_) (fun i0 q c5 => ?_))))
      · exact br_f hx1 (br_t (by rw [i0]; decide) (br_t rfl hp))
      · refine br_f hx1 (br_f (nI_nle i0 (by omega)) (br_c (fun g => br_t ?_ hp) (fun g => br_t ?_ hp)))
        · have := h7a g
          rw [show i - 1 = 0 by omega, Nat.min_zero, nI_0]
        · rw [if_pos (h7b g (by omega)), show min N (i - 1) = i - 1 by omega]
          exact (pk_sub (b := 1) i0).symm
    refine br_f hx1 (pk_eq i 0 (fun z => main _ ?_) (fun z => main _ ?_))
    · rw [z]
      exact hJ.2.1
    · rw [hz (by omega)]
      exact hJ.2.2.1 i (by omega) hi
theorem td_220 {op x y v t x7 x8 z0 z1 : Int32} {N e : Nat} (hp : post 1 ()) (hN : N ≤ 200) (hzz : z1 = z0) (h8 : x8 = nI N) (he : 0 < N → td_e op x y v = nI e) (h7a : x7 = 0 → N ≤ 1) (h7b : ¬ x7 = 0 → 0 < N → e = 0)
    (HX : ∀ P : St2 → Prop, (∀ b5 b6 b7 b8 b9 b10 b11 b12 b13 b14 : Nat → Int32, td_J v e N b6 b10 b11 b13 b14 → b5 5 = v → P (l, v, nI 0, nI N, a1, a2, a3, a4, b5, b6, b7, b8, b9, b10, b11, b12, b13, b14)) → wpX_execute P (l, v, pr, tt, a1, a2, a3, a4, a5, a6, a7, a8, a9, a10, a11, a12, a13, a14)) :
    wL_lawOf_220 post mc ms op x y v t x7 x8 z0 z1 kc ks l iv pr tt a1 a2 a3 a4 a5 a6 a7 a8 a9 a10 a11 a12 a13 a14 := by
  subst h8
  have e5 : (5 : Int32).toNatClampNeg = 5 := by decide
  refine br_t hzz ?_
  unfold wpX_input
  refine HX _ (fun b5 b6 b7 b8 b9 b10 b11 b12 b13 b14 hJ h5 => br_t rfl ?_)
  unfold wpX_variable
  refine td_var (fun _ => br_f (by decide) ⟨pk_in 5 14 (by omega), br_t (by rw [e5]; exact h5) ?_⟩) (fun z => absurd (show td_in 5 5 from ⟨by decide, by decide⟩) z)
  have K : ∀ r z : Int32, td_fl r (td_in t N) → z = td_e op x y v → wL_lawOf_302 post mc ms t x7 r z kc ks l v (nI 0) (nI N) a1 a2 a3 a4 b5 b6 b7 b8 b9 b10 b11 b12 b13 b14 := fun r z hr hz =>
    td_302 hp hN hJ h5 hr (fun h => by rw [hz]; exact he h) h7a h7b
  have K2 : ∀ r : Int32, td_fl r (td_in t N) → ((op = 8 → wL_lawOf_302 post mc ms t x7 r 0 kc ks l v (nI 0) (nI N) a1 a2 a3 a4 b5 b6 b7 b8 b9 b10 b11 b12 b13 b14) ∧ (¬ op = 8 → ((op = 7 → wL_lawOf_302 post mc ms t x7 r x kc ks l v (nI 0) (nI N) a1 a2 a3 a4 b5 b6 b7 b8 b9 b10 b11 b12 b13 b14) ∧ (¬ op = 7 → ((op = 6 → ((x = 5 → ((v ≤ 0 → wL_lawOf_301 post mc ms t x7 r kc ks l v (nI 0) (nI N) a1 a2 a3 a4 b5 b6 b7 b8 b9 b10 b11 b12 b13 b14) ∧ (¬ v ≤ 0 → wL_lawOf_302 post mc ms t x7 r y kc ks l v (nI 0) (nI N) a1 a2 a3 a4 b5 b6 b7 b8 b9 b10 b11 b12 b13 b14))) ∧ (¬ x = 5 → wL_lawOf_301 post mc ms t x7 r kc ks l v (nI 0) (nI N) a1 a2 a3 a4 b5 b6 b7 b8 b9 b10 b11 b12 b13 b14))) ∧ (¬ op = 6 → wL_lawOf_301 post mc ms t x7 r kc ks l v (nI 0) (nI N) a1 a2 a3 a4 b5 b6 b7 b8 b9 b10 b11 b12 b13 b14)))))) := by
    intro r hr
    refine ek_if (td_eq op 8 8 (by decide)) (fun g8 => K r _ hr (by rw [td_e, if_pos g8])) (fun g8 => ek_if (td_eq op 7 7 (by decide)) (fun g7 => K r _ hr (by rw [td_e, if_neg g8, if_pos g7])) (fun g7 => ek_if (td_eq op 6 6 (by decide)) (fun g6 => ek_if (td_eq x 5 5 (by decide)) (fun gx => ek_if (td_le v 0 0 (by decide)) (fun gv => ?_) (fun gv => ?_)) (fun gx => ?_)) (fun g6 => ?_)))
    · unfold wL_lawOf_301
      exact K r 1 hr (by rw [td_e, if_neg g8, if_neg g7, if_neg (by omega)])
    · exact K r y hr (by rw [td_e, if_neg g8, if_neg g7, if_pos ⟨g6, gx, by omega⟩])
    · unfold wL_lawOf_301
      exact K r 1 hr (by rw [td_e, if_neg g8, if_neg g7, if_neg (by omega)])
    · unfold wL_lawOf_301
      exact K r 1 hr (by rw [td_e, if_neg g8, if_neg g7, if_neg (by omega)])
  exact td_lin (n := N) (nI_toInt (by omega)) (fun h => K2 1 (td_fl1 h)) (fun h => K2 0 (td_fl0 h))
theorem td_190 {op x y z v t x6 x7 x8 : Int32} (hp : post 1 ()) (hmc : 20 ≤ mc) (hms : 2000 ≤ ms) (h6 : td_fl x6 (td_F op x y z)) (h7 : td_fl x7 (td_ag op x y v)) (c0 : ¬ td_F op x y z → x8 = nI 0) (c1 : td_F op x y z → x7 = 0 → x8 = nI 1) (c2 : td_F op x y z → ¬ x7 = 0 → x8 = nI 200) :
    wL_lawOf_190 post mc ms op x y z v t x6 x7 x8 0 0 := by
  refine ⟨by omega, by omega, 14, 1405, by omega, by omega, ?_⟩
  refine ⟨by omega, by omega, by omega, by omega, by omega, by omega, by omega, by omega, by omega, by omega, by omega, by omega, by omega, by omega, by omega, by omega, by omega, by omega, by omega, by omega, by omega, by omega, by omega, by omega, by omega, by omega, by omega, by omega, ?_⟩
  refine td_exec0 (fun b5 b6 b7 b8 b9 b10 b11 b12 b13 b14 _ _ => ?_)
  refine td_emit (fun hF => ?_) (fun hF q r d1 d2 d3 d4 d5 d6 d7 d8 d9 d10 d11 d12 d13 d14 e1 e2 e3 e4 => ?_)
  · have hx : x6 = 0 := by
      by_cases c : x6 = 0
      · exact c
      · exact absurd (td_flt h6 c) hF
    exact br_t hx (td_220 (N := 0) (e := 0) hp (by omega) rfl (c0 hF) (fun h => absurd h (by omega)) (fun _ => by omega) (fun _ h => absurd h (by omega)) (fun P HP => td_exec0 (fun b5 b6 b7 b8 b9 b10 b11 b12 b13 b14 g1 g2 => HP b5 b6 b7 b8 b9 b10 b11 b12 b13 b14 (g1 0) g2)))
  · have hx : ¬ x6 = 0 := fun c => td_flf h6 c hF
    obtain ⟨o, rfl, ok⟩ := td_F_ok hF
    obtain ⟨e, hE, he⟩ := td_eE (v := v) ok
    have ag := td_e_ag ok hE he
    have hN : x8 = nI (if e = 0 ∧ o ≠ 8 then 200 else 1) ∧ (if e = 0 ∧ o ≠ 8 then 200 else 1) ≤ 200 ∧ (x7 = 0 → (if e = 0 ∧ o ≠ 8 then 200 else 1) ≤ 1) ∧ (¬ x7 = 0 → e = 0) := by
      by_cases c : x7 = 0
      · have na := td_flf h7 c
        rw [ag] at na
        rw [if_neg na]
        exact ⟨c1 hF c, by omega, fun _ => by omega, fun z => absurd c z⟩
      · have ya := td_flt h7 c
        rw [ag] at ya
        rw [if_pos ya]
        exact ⟨c2 hF c, by omega, fun z => absurd z c, fun _ => ya.1⟩
    exact br_f hx (td_220 (e := e) hp hN.2.1 rfl hN.1 (fun _ => he) hN.2.2.1 (fun z _ => hN.2.2.2 z) (fun P HP => td_exec1 e1 e2 e3 e4 ok he hE rfl HP))
theorem td_167 {op x y z v t x6 x7 : Int32} (hp : post 1 ()) (hmc : 20 ≤ mc) (hms : 2000 ≤ ms) (h6 : td_fl x6 (td_F op x y z)) (h7 : td_fl x7 (td_ag op x y v)) : wL_lawOf_167 post mc ms op x y z v t x6 x7 0 0 :=
  br_c (fun g => td_190 hp hmc hms h6 h7 (fun _ => rfl) (fun h => absurd h (td_flf h6 g)) (fun h => absurd h (td_flf h6 g)))
    (fun g => br_c (fun g7 => td_190 hp hmc hms h6 h7 (fun h => absurd (td_flt h6 g) h) (fun _ _ => rfl) (fun _ h => absurd g7 h)) (fun g7 => td_190 hp hmc hms h6 h7 (fun h => absurd (td_flt h6 g) h) (fun _ h => absurd h g7) (fun _ _ => rfl)))
theorem td_142 {op x y z v t x6 : Int32} (hp : post 1 ()) (hmc : 20 ≤ mc) (hms : 2000 ≤ ms) (h6 : td_fl x6 (td_F op x y z)) (h : ¬ (op.toInt = 7 ∧ x.toInt = 0)) : wL_lawOf_142 post mc ms op x y z v t x6 0 0 :=
  ek_if (td_eq op 6 6 (by decide)) (fun g6 => ek_if (td_eq y 0 0 (by decide)) (fun gy => ek_if (td_eq x 5 5 (by decide)) (fun gx => ek_if (td_le v 0 0 (by decide)) (fun gv => td_167 hp hmc hms h6 (td_fl0 (by unfold td_ag; omega))) (fun gv => td_167 hp hmc hms h6 (td_fl1 (by unfold td_ag; omega)))) (fun gx => td_167 hp hmc hms h6 (td_fl0 (by unfold td_ag; omega)))) (fun gy => td_167 hp hmc hms h6 (td_fl0 (by unfold td_ag; omega)))) (fun g6 => td_167 hp hmc hms h6 (td_fl0 (by unfold td_ag; omega)))
theorem td_132 {op x y z v t x6 : Int32} (hp : post 1 ()) (hmc : 20 ≤ mc) (hms : 2000 ≤ ms) (h6 : td_fl x6 (td_F op x y z)) : wL_lawOf_132 post mc ms op x y z v t x6 0 0 :=
  ek_if (td_eq op 7 7 (by decide)) (fun g7 => ek_if (td_eq x 0 0 (by decide)) (fun gx => td_167 hp hmc hms h6 (td_fl1 (by unfold td_ag; omega))) (fun gx => td_142 hp hmc hms h6 (by omega))) (fun g7 => td_142 hp hmc hms h6 (by omega))
theorem td_105 {op x y z v t x6 : Int32} {P : Prop} (h6 : td_fl x6 P) (K : ∀ w : Int32, td_fl w (P ∧ (op.toInt = 6 → td_in y 19)) → wL_lawOf_132 post mc ms op x y z v t w kc ks) : wL_lawOf_105 post mc ms op x y z v t x6 kc ks :=
  ek_if (td_eq op 6 6 (by decide)) (fun g => br_c (fun c => K 0 (td_fl0 (fun z => td_flf h6 c z.1))) (fun c => td_lin (n := 19) (by decide) (fun hi => br_f (by decide) (K 1 (td_fl1 ⟨td_flt h6 c, fun _ => hi⟩))) (fun hi => br_t rfl (K 0 (td_fl0 (fun z => hi (z.2 g))))))) (fun g => K x6 (td_fla h6 (fun z => absurd z g)))
theorem td_75 {op x y z v t x6 : Int32} {P : Prop} (h6 : td_fl x6 P) (K : ∀ w : Int32, td_fl w (P ∧ (1 ≤ op.toInt ∧ op.toInt ≤ 3 → td_in z 5)) → wL_lawOf_105 post mc ms op x y z v t w kc ks) : wL_lawOf_75 post mc ms op x y z v t x6 kc ks :=
  ek_if (td_lt op 1 1 (by decide)) (fun g => K x6 (td_fla h6 (fun z => absurd z.1 (by omega)))) (fun g => ek_if (td_gt 3 op 3 (by decide)) (fun g' => K x6 (td_fla h6 (fun z => absurd z.2 (by omega)))) (fun g' => br_c (fun c => K 0 (td_fl0 (fun z => td_flf h6 c z.1))) (fun c => td_lin (n := 5) (by decide) (fun hi => br_f (by decide) (K 1 (td_fl1 ⟨td_flt h6 c, fun _ => hi⟩))) (fun hi => br_t rfl (K 0 (td_fl0 (fun z => hi (z.2 ⟨by omega, by omega⟩))))))))
theorem td_45 {op x y z v t x6 : Int32} {P : Prop} (h6 : td_fl x6 P) (K : ∀ w : Int32, td_fl w (P ∧ (1 ≤ op.toInt ∧ op.toInt ≤ 5 → td_in y 5)) → wL_lawOf_75 post mc ms op x y z v t w kc ks) : wL_lawOf_45 post mc ms op x y z v t x6 kc ks :=
  ek_if (td_lt op 1 1 (by decide)) (fun g => K x6 (td_fla h6 (fun z => absurd z.1 (by omega)))) (fun g => ek_if (td_gt 5 op 5 (by decide)) (fun g' => K x6 (td_fla h6 (fun z => absurd z.2 (by omega)))) (fun g' => br_c (fun c => K 0 (td_fl0 (fun z => td_flf h6 c z.1))) (fun c => td_lin (n := 5) (by decide) (fun hi => br_f (by decide) (K 1 (td_fl1 ⟨td_flt h6 c, fun _ => hi⟩))) (fun hi => br_t rfl (K 0 (td_fl0 (fun z => hi (z.2 ⟨by omega, by omega⟩))))))))
theorem td_lawOf {op x y z v t : Int32} (hp : post 1 ()) (hmc : 20 ≤ mc) (hms : 2000 ≤ ms) : wpL_lawOf post mc ms () op x y z v t := by
  have K : ∀ w : Int32, td_fl w (td_in op 8 ∧ (op.toInt ≠ 8 → (op.toInt = 7 → td_in x 19) ∧ (op.toInt ≠ 7 → td_in x 5))) → wL_lawOf_45 post mc ms op x y z v t w 0 0 := fun w hw =>
    td_45 hw (fun w2 h2 => td_75 h2 (fun w3 h3 => td_105 h3 (fun w4 h4 => td_132 hp hmc hms h4)))
  refine td_lin (n := 8) (by decide) (fun hi => ?_) (fun hi => ?_)
  · refine ek_if (td_eq op 8 8 (by decide)) (fun g8 => K 1 (td_fl1 ⟨hi, fun z => absurd g8 z⟩)) (fun g8 => br_f (by decide) (ek_if (td_eq op 7 7 (by decide)) (fun g7 => ?_) (fun g7 => ?_)))
    · exact td_lin (n := 19) (by decide) (fun hx => br_f (by decide) (K 1 (td_fl1 ⟨hi, fun _ => ⟨fun _ => hx, fun z => absurd g7 z⟩⟩))) (fun hx => br_t rfl (K 0 (td_fl0 (fun z => hx ((z.2 g8).1 g7)))))
    · exact td_lin (n := 5) (by decide) (fun hx => br_f (by decide) (K 1 (td_fl1 ⟨hi, fun _ => ⟨fun z => absurd z g7, fun _ => hx⟩⟩))) (fun hx => br_t rfl (K 0 (td_fl0 (fun z => hx ((z.2 g8).2 g7)))))
  · exact ek_if (td_eq op 8 8 (by decide)) (fun g8 => K 0 (td_fl0 (fun z => hi z.1))) (fun g8 => br_t rfl (K 0 (td_fl0 (fun z => hi z.1))))
end
theorem td_cell {post : Int32 → Prop} {L : Nat} {xs : Nat → Int32} (i : Nat) (hL : L ≤ 6) (hi : i ≤ 6) (H : ∀ r, post r) : wpL_cellAt post L xs () (nI i) :=
  pk_le L i (fun _ => H _) (fun z => ⟨pk_in i L z, H _⟩)
theorem i_vc (xs : Nat → Int32) (L : Nat) (hL : L ≤ 6) : wpL_law (fun r => r = 1) L xs :=
  td_cell 0 hL (by omega) (fun r1 => td_cell 1 hL (by omega) (fun r2 => td_cell 2 hL (by omega) (fun r3 => td_cell 3 hL (by omega) (fun r4 => td_cell 4 hL (by omega) (fun r5 => td_cell 5 hL (by omega) (fun r6 => ⟨480, 7680, by omega, by omega, td_lawOf rfl (by omega) (by omega)⟩))))))
end
