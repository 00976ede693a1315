section
/-! pure rows -/
theorem rx_ix (w i : Nat) : nI w * 6 + nI i = nI (w * 6 + i) := by
  rw [show (6 : Int32) = nI 6 from rfl, pk_mul, nI_add]
theorem rx_at {a : Nat → Int32} {n : Nat} {v : Int32} (h : a n = v) (hn : n < 2 ^ 31) : a (nI n).toNatClampNeg = v := by
  rw [nI_clamp hn]
  exact h
theorem rx_fill {f s : Nat → Int32} {i k : Nat} {x : Int32} (hk : k = i) (h : ∀ j, j < i → s j = f j) (hx : x = f i) : ∀ j, j < i + 1 → upd s k x j = f j := by
  intro j hj
  rw [hk]
  by_cases e : j = i
  · rw [e, pk_us, hx]
  · rw [pk_un e]
    exact h j (by omega)
theorem rx_fill2 {s g q : Nat → Int32} {o i k : Nat} {x : Int32} (hk : k = o + i) (h : (∀ j, j < i → s (o + j) = g j) ∧ (∀ j, j < o → s j = q j)) (hx : x = g i) :
    (∀ j, j < i + 1 → upd s k x (o + j) = g j) ∧ (∀ j, j < o → upd s k x j = q j) := by
  rw [hk]
  refine ⟨fun j hj => ?_, fun j hj => ?_⟩
  · by_cases e : j = i
    · rw [e, pk_us, hx]
    · rw [pk_un (by omega)]
      exact h.1 j (by omega)
  · rw [pk_un (by omega)]
    exact h.2 j hj
/-- the program in use: note, repetition k, letter c, again, note, done -/
def rx_K (k c : Int32) (a6 a7 a8 : Nat → Int32) : Prop :=
  a6 0 = 3 ∧ a6 1 = k ∧ a6 2 = 0 ∧ a6 3 = 7 ∧ a6 4 = 3 ∧ a6 5 = 4 ∧ a7 0 = 4 ∧ a7 1 = 1 ∧ a7 2 = c ∧ a7 3 = -2 ∧ a7 4 = 1 ∧ a8 1 = 3
section
variable {post : St2 → Prop} {fh fm fl fs fn fc fx fw fe : Int32} {a1 a2 a3 a4 a5 a6 a7 a8 a9 a10 a11 a12 a13 a14 a15 a16 a17 a18 a19 : Nat → Int32}
theorem rx_clear (H : ∀ b : Nat → Int32, (∀ j, j < 1088 → b j = 0) → post (fh, fm, fl, fs, fn, fc, 0, fw, fe, a1, a2, a3, a4, a5, a6, a7, a8, a9, a10, a11, a12, a13, b, a15, a16, a17, a18, a19)) : wpX_clearSeen post (fh, fm, fl, fs, fn, fc, fx, fw, fe, a1, a2, a3, a4, a5, a6, a7, a8, a9, a10, a11, a12, a13, a14, a15, a16, a17, a18, a19) := by
  unfold wpX_clearSeen
  exact pk_loop (fun n i s => wX_clearSeen_2 post fh fm fl fs fn fc fx fw fe n (nI i) a1 a2 a3 a4 a5 a6 a7 a8 a9 a10 a11 a12 a13 s a15 a16 a17 a18 a19) (fun i s => ∀ j, j < i → s j = 0) 1088 0 a14 (by omega) lt_0
    (fun n s h => pk_le 1088 1088 (fun _ => H s h) (fun z => absurd z (by omega)))
    (fun n i s hi h hw => pk_le 1088 i (fun z => absurd z (by omega)) (fun _ => ⟨pk_in i 1088 hi, nm_e (nm_r (nI_1 i) (hw _ (rx_fill (f := fun _ => 0) (nI_clamp (by omega)) h rfl)))⟩))
theorem rx_push {p q : Int32} (w : Nat) (p' q' : Int32) (hw : w < 640) (hp : p = p') (hq : q = q')
    (H : ∀ b : Nat → Int32, (∀ k, k < 6 → b (w * 6 + k) = a18 k) → (∀ j, j < w * 6 → b j = a17 j) → post (fh, fm, fl, fs, fn, fc, fx, nI (w + 1), fe, a1, a2, a3, a4, a5, a6, a7, a8, a9, a10, a11, a12, a13, a14, upd a15 w p', upd a16 w q', b, a18, a19)) :
    wpX_push post (fh, fm, fl, fs, fn, fc, fx, nI w, fe, a1, a2, a3, a4, a5, a6, a7, a8, a9, a10, a11, a12, a13, a14, a15, a16, a17, a18, a19) p q := by
  subst hp hq
  unfold wpX_push
  have lo : ∃ n, wX_push_22 post fh fm fl fs fn fc fx (nI w) fe n 0 a1 a2 a3 a4 a5 a6 a7 a8 a9 a10 a11 a12 a13 a14 (upd a15 w p) (upd a16 w q) a17 a18 a19 :=
    pk_loop (fun n i s => wX_push_22 post fh fm fl fs fn fc fx (nI w) fe n (nI i) a1 a2 a3 a4 a5 a6 a7 a8 a9 a10 a11 a12 a13 a14 (upd a15 w p) (upd a16 w q) s a18 a19) (fun i s => (∀ j, j < i → s (w * 6 + j) = a18 j) ∧ (∀ j, j < w * 6 → s j = a17 j)) 6 0 a17 (by omega) ⟨lt_0, fun _ _ => rfl⟩
      (fun n s h => pk_le 6 6 (fun _ => nm_r (nI_1 w) (H s h.1 h.2)) (fun z => absurd z (by omega)))
      (fun n i s hi h hk => pk_le 6 i (fun z => absurd z (by omega)) (fun _ => ⟨pk_in i 6 hi, pk_in (w * 6 + i) 3840 (by omega) (rx_ix w i), nm_e (nm_r (nI_1 i) (hk _ (rx_fill2 (pk_cl _ (rx_ix w i) (by omega)) h (by rw [nI_clamp (by omega)]))))⟩))
  exact ⟨pk_in w 640 hw, nm_r (by rw [nI_clamp (by omega)]) ⟨pk_in w 640 hw, nm_r (by rw [nI_clamp (by omega)]) lo⟩⟩
theorem rx_adv (nc : Nat) (hn : nc ≤ 10)
    (H : ∀ b10 b11 : Nat → Int32, (∀ j, j < nc → b10 j = a12 j) → (∀ j, j < 6 * nc → b11 j = a13 j) → post (fh, fm, fl, fs, fn, nI nc, nI nc, fw, fe, a1, a2, a3, a4, a5, a6, a7, a8, a9, b10, b11, a12, a13, a14, a15, a16, a17, a18, a19)) :
    wpX_advance post (fh, fm, fl, fs, fn, fc, nI nc, fw, fe, a1, a2, a3, a4, a5, a6, a7, a8, a9, a10, a11, a12, a13, a14, a15, a16, a17, a18, a19) := by
  unfold wpX_advance
  have e6 : (6 : Int32) * nI nc = nI (6 * nc) := pk_mul 6 nc
  have l2 : ∀ b10 : Nat → Int32, (∀ j, j < nc → b10 j = a12 j) → ∃ n, wX_advance_38 post fh fm fl fs fn (nI nc) (nI nc) fw fe n 0 a1 a2 a3 a4 a5 a6 a7 a8 a9 b10 a11 a12 a13 a14 a15 a16 a17 a18 a19 := fun b10 hb =>
    pk_loop (fun n i s => wX_advance_38 post fh fm fl fs fn (nI nc) (nI nc) fw fe n (nI i) a1 a2 a3 a4 a5 a6 a7 a8 a9 b10 s a12 a13 a14 a15 a16 a17 a18 a19) (fun i s => ∀ j, j < i → s j = a13 j) (6 * nc) 0 a11 (by omega) lt_0
      (fun n s h => pk_le (6 * nc) (6 * nc) (fun _ => H b10 s hb h) (fun z => absurd z (by omega)) e6)
      (fun n i s hi h hk => pk_le (6 * nc) i (fun z => absurd z (by omega)) (fun _ => ⟨pk_in i 384 (by omega), pk_in i 384 (by omega), nm_e (nm_r (nI_1 i) (hk _ (rx_fill (nI_clamp (by omega)) h (by rw [nI_clamp (by omega)]))))⟩) e6)
  exact pk_loop (fun n i s => wX_advance_10 post fh fm fl fs fn (nI nc) (nI nc) fw fe n (nI i) a1 a2 a3 a4 a5 a6 a7 a8 a9 s a11 a12 a13 a14 a15 a16 a17 a18 a19) (fun i s => ∀ j, j < i → s j = a12 j) nc 0 a10 (by omega) lt_0
      (fun n s h => pk_le nc nc (fun _ => l2 s h) (fun z => absurd z (by omega)))
      (fun n i s hi h hk => pk_le nc i (fun z => absurd z (by omega)) (fun _ => ⟨pk_in i 64 (by omega), pk_in i 64 (by omega), nm_e (nm_r (nI_1 i) (hk _ (rx_fill (nI_clamp (by omega)) h (by rw [nI_clamp (by omega)]))))⟩))
theorem rx_load (t : Nat) (ht : t < 64) (H : ∀ b : Nat → Int32, (∀ k, k < 6 → b k = a11 (t * 6 + k)) → post (fh, fm, fl, fs, fn, fc, fx, fw, fe, a1, a2, a3, a4, a5, a6, a7, a8, a9, a10, a11, a12, a13, a14, a15, a16, a17, b, a19)) : wpX_loadNotes post (fh, fm, fl, fs, fn, fc, fx, fw, fe, a1, a2, a3, a4, a5, a6, a7, a8, a9, a10, a11, a12, a13, a14, a15, a16, a17, a18, a19) (nI t) := by
  unfold wpX_loadNotes
  exact pk_loop (fun n i s => wX_loadNotes_2 post (nI t) fh fm fl fs fn fc fx fw fe n (nI i) a1 a2 a3 a4 a5 a6 a7 a8 a9 a10 a11 a12 a13 a14 a15 a16 a17 s a19) (fun i s => ∀ j, j < i → s j = a11 (t * 6 + j)) 6 0 a18 (by omega) lt_0
    (fun n s h => pk_le 6 6 (fun _ => H s h) (fun z => absurd z (by omega)))
    (fun n i s hi h hk => pk_le 6 i (fun z => absurd z (by omega)) (fun _ => ⟨pk_in (t * 6 + i) 384 (by omega) (rx_ix t i), pk_in i 6 hi, nm_e (nm_r (nI_1 i) (hk _ (rx_fill (f := fun j => a11 (t * 6 + j)) (nI_clamp (by omega)) h (by rw [pk_cl _ (rx_ix t i) (by omega)]))))⟩))
end
end
section
/-! following one instruction -/
section
variable {post : St2 → Prop} {fh fm fl fs fn fc fx fw fe : Int32} {a1 a2 a3 a4 a5 a6 a7 a8 a9 a10 a11 a12 a13 a14 a15 a16 a17 a18 a19 : Nat → Int32}
theorem rx_203 {pc z0 id : Int32} (w g : Nat) (p' : Int32) (hw : w < 640) (hg : g < 6) (hp : pc + 1 = p')
    (H : ∀ b : Nat → Int32, (∀ k, k < 6 → b (w * 6 + k) = upd a18 g z0 k) → (∀ j, j < w * 6 → b j = a17 j) → post (fh, fm, fl, fs, fn, fc, fx, nI (w + 1), fe, a1, a2, a3, a4, a5, a6, a7, a8, a9, a10, a11, a12, a13, a14, upd a15 w p', upd a16 w id, b, upd a18 g z0, a19)) :
    wX_goOn_203 post pc id z0 (nI g) fh fm fl fs fn fc fx (nI w) fe a1 a2 a3 a4 a5 a6 a7 a8 a9 a10 a11 a12 a13 a14 a15 a16 a17 a18 a19 := by
  unfold wX_goOn_203
  exact ⟨pk_in g 6 hg, nm_r (by rw [nI_clamp (by omega)]) (rx_push w p' id hw hp rfl H)⟩
/-- a note, of a begin -/
theorem rx_goB {pl id : Int32} (w pc g : Nat) (hw : w < 640) (hpc : pc < 63) (hg : g < 6) (hg3 : 3 ≤ g) (h6 : a6 pc = 3) (h7 : a7 pc = nI g)
    (H : ∀ b : Nat → Int32, (∀ k, k < 6 → b (w * 6 + k) = upd a18 g pl k) → (∀ j, j < w * 6 → b j = a17 j) → post (fh, fm, fl, fs, fn, fc, fx, nI (w + 1), fe, a1, a2, a3, a4, a5, a6, a7, a8, a9, a10, a11, a12, a13, a14, upd a15 w (nI (pc + 1)), upd a16 w id, b, upd a18 g pl, a19)) :
    wpX_goOn post (fh, fm, fl, fs, fn, fc, fx, nI w, fe, a1, a2, a3, a4, a5, a6, a7, a8, a9, a10, a11, a12, a13, a14, a15, a16, a17, a18, a19) (nI pc) pl id := by
  unfold wpX_goOn
  refine ⟨pk_in pc 64 (by omega), nm_r (rx_at h6 (by omega)) (br_f (by decide) (br_f (by decide) (br_f (by decide) (br_f (by decide) (br_f (by decide) ?_)))))⟩
  unfold wX_goOn_151
  refine br_f (by decide) (br_t rfl ⟨pk_in pc 64 (by omega), nm_r (rx_at h7 (by omega)) (pk_lt g 3 (fun z => absurd z (by omega)) (fun _ => ?_))⟩)
  exact rx_203 w g _ hw hg (nI_1 pc) H
/-- a note, of an end -/
theorem rx_goE {pl id v : Int32} (w pc g : Nat) (hw : w < 640) (hpc : pc < 63) (hg3 : g < 3) (h6 : a6 pc = 3) (h7 : a7 pc = nI g) (hv : 16 * a18 (g + 3) + pl = v)
    (H : ∀ b : Nat → Int32, (∀ k, k < 6 → b (w * 6 + k) = upd a18 g v k) → (∀ j, j < w * 6 → b j = a17 j) → post (fh, fm, fl, fs, fn, fc, fx, nI (w + 1), fe, a1, a2, a3, a4, a5, a6, a7, a8, a9, a10, a11, a12, a13, a14, upd a15 w (nI (pc + 1)), upd a16 w id, b, upd a18 g v, a19)) :
    wpX_goOn post (fh, fm, fl, fs, fn, fc, fx, nI w, fe, a1, a2, a3, a4, a5, a6, a7, a8, a9, a10, a11, a12, a13, a14, a15, a16, a17, a18, a19) (nI pc) pl id := by
  unfold wpX_goOn
  refine ⟨pk_in pc 64 (by omega), nm_r (rx_at h6 (by omega)) (br_f (by decide) (br_f (by decide) (br_f (by decide) (br_f (by decide) (br_f (by decide) ?_)))))⟩
  unfold wX_goOn_151
  have e3 : nI g + 3 = nI (g + 3) := nI_add g 3
  refine br_f (by decide) (br_t rfl ⟨pk_in pc 64 (by omega), nm_r (rx_at h7 (by omega)) (pk_lt g 3 (fun _ => ⟨pk_in (g + 3) 6 (by omega) e3, ?_⟩) (fun z => absurd z (by omega)))⟩)
  rw [pk_cl (g + 3) e3 (by omega), hv]
  exact rx_203 w g _ hw (by omega) (nI_1 pc) H
/-- a greedy repetition: going on waits below a further round -/
theorem rx_goG {pl id : Int32} (w pc : Nat) (q1 q2 id' : Int32) (hw : w < 639) (hpc : pc < 64) (h6 : a6 pc = 5) (e1 : nI pc + a8 pc = q1) (e2 : nI pc + a7 pc = q2) (e3 : id + 1 = id')
    (H : ∀ b b' : Nat → Int32, (∀ k, k < 6 → b (w * 6 + k) = a18 k) → (∀ j, j < w * 6 → b j = a17 j) → (∀ k, k < 6 → b' ((w + 1) * 6 + k) = a18 k) → (∀ j, j < (w + 1) * 6 → b' j = b j) →
      post (fh, fm, fl, fs, fn, fc, fx, nI (w + 1 + 1), fe, a1, a2, a3, a4, a5, a6, a7, a8, a9, a10, a11, a12, a13, a14, upd (upd a15 w q1) (w + 1) q2, upd (upd a16 w id) (w + 1) id', b', a18, a19)) :
    wpX_goOn post (fh, fm, fl, fs, fn, fc, fx, nI w, fe, a1, a2, a3, a4, a5, a6, a7, a8, a9, a10, a11, a12, a13, a14, a15, a16, a17, a18, a19) (nI pc) pl id := by
  unfold wpX_goOn
  refine ⟨pk_in pc 64 hpc, nm_r (rx_at h6 (by omega)) (br_f (by decide) (br_t rfl ⟨pk_in pc 64 hpc, ?_⟩))⟩
  refine rx_push w q1 id (by omega) (by rw [nI_clamp (by omega)]; exact e1) rfl (fun b h1 h2 => And.intro (pk_in pc 64 hpc) ?_)
  exact rx_push (w + 1) q2 id' (by omega) (by rw [nI_clamp (by omega)]; exact e2) e3 (fun b' h3 h4 => H b b' h1 h2 h3 h4)
/-- a lazy repetition: a further round waits below going on -/
theorem rx_goS {pl id : Int32} (w pc : Nat) (q1 q2 id' : Int32) (hw : w < 639) (hpc : pc < 64) (h6 : a6 pc = 6) (e1 : nI pc + a7 pc = q1) (e2 : nI pc + a8 pc = q2) (e3 : id + 1 = id')
    (H : ∀ b b' : Nat → Int32, (∀ k, k < 6 → b (w * 6 + k) = a18 k) → (∀ j, j < w * 6 → b j = a17 j) → (∀ k, k < 6 → b' ((w + 1) * 6 + k) = a18 k) → (∀ j, j < (w + 1) * 6 → b' j = b j) →
      post (fh, fm, fl, fs, fn, fc, fx, nI (w + 1 + 1), fe, a1, a2, a3, a4, a5, a6, a7, a8, a9, a10, a11, a12, a13, a14, upd (upd a15 w q1) (w + 1) q2, upd (upd a16 w id') (w + 1) id, b', a18, a19)) :
    wpX_goOn post (fh, fm, fl, fs, fn, fc, fx, nI w, fe, a1, a2, a3, a4, a5, a6, a7, a8, a9, a10, a11, a12, a13, a14, a15, a16, a17, a18, a19) (nI pc) pl id := by
  unfold wpX_goOn
  refine ⟨pk_in pc 64 hpc, nm_r (rx_at h6 (by omega)) (br_f (by decide) (br_f (by decide) (br_t rfl ⟨pk_in pc 64 hpc, ?_⟩)))⟩
  refine rx_push w q1 id' (by omega) (by rw [nI_clamp (by omega)]; exact e1) e3 (fun b h1 h2 => And.intro (pk_in pc 64 hpc) ?_)
  exact rx_push (w + 1) q2 id (by omega) (by rw [nI_clamp (by omega)]; exact e2) rfl (fun b' h3 h4 => H b b' h1 h2 h3 h4)
/-- the end of a round that has read something -/
theorem rx_goA {pl id : Int32} (w pc : Nat) (q : Int32) (hw : w < 640) (hpc : pc < 64) (h6 : a6 pc = 7) (hid : id = 0) (e1 : nI pc + a7 pc = q)
    (H : ∀ b : Nat → Int32, (∀ k, k < 6 → b (w * 6 + k) = a18 k) → (∀ j, j < w * 6 → b j = a17 j) → post (fh, fm, fl, fs, fn, fc, fx, nI (w + 1), fe, a1, a2, a3, a4, a5, a6, a7, a8, a9, a10, a11, a12, a13, a14, upd a15 w q, upd a16 w id, b, a18, a19)) :
    wpX_goOn post (fh, fm, fl, fs, fn, fc, fx, nI w, fe, a1, a2, a3, a4, a5, a6, a7, a8, a9, a10, a11, a12, a13, a14, a15, a16, a17, a18, a19) (nI pc) pl id := by
  unfold wpX_goOn
  refine ⟨pk_in pc 64 hpc, nm_r (rx_at h6 (by omega)) (br_f (by decide) (br_f (by decide) (br_f (by decide) (br_f (by decide) (br_t rfl (br_t hid ?_))))))⟩
  unfold wX_goOn_135
  exact ⟨pk_in pc 64 hpc, rx_push w q id hw (by rw [nI_clamp (by omega)]; exact e1) rfl H⟩
/-- reading, or done: a thread of the next place -/
theorem rx_goT {pl id v : Int32} (nc pc : Nat) (hn : nc < 64) (hpc : pc < 64) (h6 : a6 pc = v) (hv : v = 0 ∨ v = 4)
    (H : ∀ b : Nat → Int32, (∀ k, k < 6 → b (nc * 6 + k) = a18 k) → (∀ j, j < nc * 6 → b j = a13 j) → post (fh, fm, fl, fs, fn, fc, nI (nc + 1), fw, fe, a1, a2, a3, a4, a5, a6, a7, a8, a9, a10, a11, upd a12 nc (nI pc), b, a14, a15, a16, a17, a18, a19)) :
    wpX_goOn post (fh, fm, fl, fs, fn, fc, nI nc, fw, fe, a1, a2, a3, a4, a5, a6, a7, a8, a9, a10, a11, a12, a13, a14, a15, a16, a17, a18, a19) (nI pc) pl id := by
  unfold wpX_goOn
  refine ⟨pk_in pc 64 hpc, nm_r (rx_at h6 (by omega)) ?_⟩
  have n1 : ¬ v = 1 := by rcases hv with z | z <;> rw [z] <;> decide
  have n2 : ¬ v = 5 := by rcases hv with z | z <;> rw [z] <;> decide
  have n3 : ¬ v = 6 := by rcases hv with z | z <;> rw [z] <;> decide
  have n4 : ¬ v = 2 := by rcases hv with z | z <;> rw [z] <;> decide
  have n5 : ¬ v = 7 := by rcases hv with z | z <;> rw [z] <;> decide
  have n6 : ¬ v = 3 := by rcases hv with z | z <;> rw [z] <;> decide
  refine br_f n1 (br_f n2 (br_f n3 (br_f n4 (br_f n5 ?_))))
  unfold wX_goOn_151
  have lo : ∃ n, wX_goOn_228 post fh fm fl fs fn fc (nI nc) fw fe n 0 a1 a2 a3 a4 a5 a6 a7 a8 a9 a10 a11 (upd a12 nc (nI pc)) a13 a14 a15 a16 a17 a18 a19 :=
    pk_loop (fun n i s => wX_goOn_228 post fh fm fl fs fn fc (nI nc) fw fe n (nI i) a1 a2 a3 a4 a5 a6 a7 a8 a9 a10 a11 (upd a12 nc (nI pc)) s a14 a15 a16 a17 a18 a19) (fun i s => (∀ j, j < i → s (nc * 6 + j) = a18 j) ∧ (∀ j, j < nc * 6 → s j = a13 j)) 6 0 a13 (by omega) ⟨lt_0, fun _ _ => rfl⟩
      (fun n s h => pk_le 6 6 (fun _ => nm_r (nI_1 nc) (H s h.1 h.2)) (fun z => absurd z (by omega)))
      (fun n i s hi h hk => pk_le 6 i (fun z => absurd z (by omega)) (fun _ => ⟨pk_in i 6 hi, pk_in (nc * 6 + i) 384 (by omega) (rx_ix nc i), nm_e (nm_r (nI_1 i) (hk _ (rx_fill2 (pk_cl _ (rx_ix nc i) (by omega)) h (by rw [nI_clamp (by omega)]))))⟩))
  exact br_f n5 (br_f n6 ⟨pk_in nc 64 hn, nm_r (by rw [nI_clamp (by omega)]) lo⟩)
/-- one turn of following: what waits on top is taken, if it was not yet seen -/
theorem rx_pop {pl : Int32} (f r w pc mk : Nat) {id : Int32} (hr : r < 1300) (hw : w < 640) (hpc : pc < 64) (hmk : mk < 1088) (e15 : a15 w = nI pc) (e16 : a16 w = id)
    (hm : (a6 pc = 0 ∨ a6 pc = 4) ∧ nI pc * 17 + 0 = nI mk ∨ (¬ a6 pc = 0 ∧ ¬ a6 pc = 4) ∧ nI pc * 17 + id = nI mk) (hs : a14 mk = 0)
    (H : ∀ b : Nat → Int32, (∀ k, k < 6 → b k = a17 (w * 6 + k)) → wpX_goOn (fun u => match u with | (yfh, yfm, yfl, yfs, yfn, yfc, yfx, yfw, yfe, ya1, ya2, ya3, ya4, ya5, ya6, ya7, ya8, ya9, ya10, ya11, ya12, ya13, ya14, ya15, ya16, ya17, ya18, ya19) => ∀ z : Int32, z = nI r + 1 → wX_follow_2 post pl f z yfh yfm yfl yfs yfn yfc yfx yfw yfe ya1 ya2 ya3 ya4 ya5 ya6 ya7 ya8 ya9 ya10 ya11 ya12 ya13 ya14 ya15 ya16 ya17 ya18 ya19) (fh, fm, fl, fs, fn, fc, fx, nI w, fe, a1, a2, a3, a4, a5, a6, a7, a8, a9, a10, a11, a12, a13, upd a14 mk 1, a15, a16, a17, b, a19) (nI pc) pl id) :
    wX_follow_2 post pl (f + 1) (nI r) fh fm fl fs fn fc fx (nI (w + 1)) fe a1 a2 a3 a4 a5 a6 a7 a8 a9 a10 a11 a12 a13 a14 a15 a16 a17 a18 a19 := by
  have lo : ∃ n, wX_follow_94 post (wX_follow_2 post pl f) pl (nI r) (nI pc) id (nI mk) fh fm fl fs fn fc fx (nI w) fe n 0 a1 a2 a3 a4 a5 a6 a7 a8 a9 a10 a11 a12 a13 a14 a15 a16 a17 a18 a19 :=
    pk_loop (fun n i s => wX_follow_94 post (wX_follow_2 post pl f) pl (nI r) (nI pc) id (nI mk) fh fm fl fs fn fc fx (nI w) fe n (nI i) a1 a2 a3 a4 a5 a6 a7 a8 a9 a10 a11 a12 a13 a14 a15 a16 a17 s a19) (fun i s => ∀ k, k < i → s k = a17 (w * 6 + k)) 6 0 a18 (by omega) lt_0
      (fun n s h => pk_le 6 6 (fun _ => ⟨pk_in mk 1088 hmk, br_t (by rw [nI_clamp (by omega)]; exact hs) ⟨pk_in mk 1088 hmk, nm_r (by rw [nI_clamp (by omega)]) (H s h)⟩⟩) (fun z => absurd z (by omega)))
      (fun n i s hi h hk => pk_le 6 i (fun z => absurd z (by omega)) (fun _ => ⟨pk_in (w * 6 + i) 3840 (by omega) (rx_ix w i), pk_in i 6 hi, nm_e (nm_r (nI_1 i) (hk _ (rx_fill (f := fun j => a17 (w * 6 + j)) (nI_clamp (by omega)) h (by rw [pk_cl _ (rx_ix w i) (by omega)]))))⟩))
  refine pk_le 1300 r (fun z => absurd z (by omega)) (fun _ => pk_le (w + 1) 0 (fun z => absurd z (by omega)) (fun _ => nm_r (nI_pred w) ?_))
  refine ⟨pk_in w 640 hw, nm_r (rx_at e15 (by omega)) ⟨pk_in w 640 hw, nm_r (rx_at e16 (by omega)) ⟨pk_in pc 64 hpc, ?_⟩⟩⟩
  rw [nI_clamp (show pc < 2 ^ 31 by omega)]
  rcases hm with ⟨h0 | h4, e⟩ | ⟨⟨h0, h4⟩, e⟩
  · exact br_t h0 (br_f (by decide) (nm_r e lo))
  · exact br_f (by rw [h4]; decide) ⟨pk_in pc 64 hpc, br_t h4 (br_f (by decide) (nm_r e lo))⟩
  · exact br_f h0 ⟨pk_in pc 64 hpc, br_f h4 (br_t rfl (nm_r e lo))⟩
end
end
section
/-! following, from the repetition on and from the two places where the class begins -/
section
variable {post : St2 → Prop} {fh fm fl fs fn fc fx fw fe : Int32} {a1 a2 a3 a4 a5 a6 a7 a8 a9 a10 a11 a12 a13 a14 a15 a16 a17 a18 a19 : Nat → Int32}
theorem rx_G {pl c i : Int32} (f r : Nat) (hr : r < 1000) (K : rx_K 5 c a6 a7 a8) (e15 : a15 0 = nI 1) (e16 : a16 0 = 0) (e17 : a17 4 = i)
    (s1 : a14 17 = 0) (s2 : a14 34 = 0) (s4 : a14 68 = 0) (s5 : a14 85 = 0)
    (H : ∀ b12 b13 b14 b15 b16 b17 b18 : Nat → Int32, b12 0 = nI 2 → b12 1 = nI 5 → b13 4 = i → b13 7 = 16 * i + pl →
      post (fh, fm, fl, fs, fn, fc, nI 2, nI 0, fe, a1, a2, a3, a4, a5, a6, a7, a8, a9, a10, a11, b12, b13, b14, b15, b16, b17, b18, a19)) :
    wX_follow_2 post pl (f + 5) (nI r) fh fm fl fs fn fc (nI 0) (nI 1) fe a1 a2 a3 a4 a5 a6 a7 a8 a9 a10 a11 a12 a13 a14 a15 a16 a17 a18 a19 := by
  obtain ⟨k60, k61, k62, k63, k64, k65, k70, k71, k72, k73, k74, k81⟩ := K
  refine rx_pop (f + 4) r 0 1 17 (by omega) (by omega) (by omega) (by omega) e15 e16 (Or.inr ⟨⟨by rw [k61]; decide, by rw [k61]; decide⟩, by decide⟩) s1 (fun c1 g1 => ?_)
  refine rx_goG 0 1 (nI 4) (nI 2) 1 (by omega) (by omega) k61 (by rw [k81]; decide) (by rw [k71]; decide) (by decide) (fun b b' h1 h2 h3 h4 => nm_r (nI_1 r) ?_)
  have i1 : b 4 = i := (h1 4 (by omega)).trans ((g1 4 (by omega)).trans e17)
  have i2 : b' 4 = i := (h4 4 (by omega)).trans i1
  have i3 : b' 10 = i := (h3 4 (by omega)).trans ((g1 4 (by omega)).trans e17)
  refine rx_pop (f + 3) (r + 1) 1 2 34 (by omega) (by omega) (by omega) (by omega) pk_us pk_us (Or.inl ⟨Or.inl k62, by decide⟩) ((pk_un (by decide)).trans s2) (fun c2 g2 => ?_)
  refine rx_goT 0 2 (by omega) (by omega) k62 (Or.inl rfl) (fun d h5 h6 => nm_r (nI_1 (r + 1)) ?_)
  have j1 : d 4 = i := (h5 4 (by omega)).trans ((g2 4 (by omega)).trans i3)
  refine rx_pop (f + 2) (r + 1 + 1) 0 4 68 (by omega) (by omega) (by omega) (by omega) ((pk_un (by decide)).trans pk_us) ((pk_un (by decide)).trans pk_us) (Or.inr ⟨⟨by rw [k64]; decide, by rw [k64]; decide⟩, by decide⟩) ((pk_un (by decide)).trans ((pk_un (by decide)).trans s4)) (fun c3 g3 => ?_)
  refine rx_goE (v := 16 * i + pl) 0 4 1 (by omega) (by omega) (by omega) k64 k74 (congrArg (fun t => 16 * t + pl) ((g3 4 (by omega)).trans i2)) (fun q h7 h8 => nm_r (nI_1 (r + 1 + 1)) ?_)
  refine rx_pop (f + 1) (r + 1 + 1 + 1) 0 5 85 (by omega) (by omega) (by omega) (by omega) pk_us pk_us (Or.inl ⟨Or.inr k65, by decide⟩) ((pk_un (by decide)).trans ((pk_un (by decide)).trans ((pk_un (by decide)).trans s5))) (fun c4 g4 => ?_)
  refine rx_goT 1 5 (by omega) (by omega) k65 (Or.inr rfl) (fun d' h9 h10 => nm_r (nI_1 (r + 1 + 1 + 1)) ?_)
  have v1 : d' 7 = 16 * i + pl := (h9 1 (by omega)).trans ((g4 1 (by omega)).trans ((h7 1 (by omega)).trans pk_us))
  refine pk_le 1300 (r + 1 + 1 + 1 + 1) (fun z => absurd z (by omega)) (fun _ => pk_le 0 0 (fun _ => ?_) (fun z => absurd z (by omega)))
  exact H _ _ _ _ _ _ _ ((pk_un (by decide)).trans pk_us) pk_us ((h10 4 (by omega)).trans j1) v1
theorem rx_S {pl c i : Int32} (f r : Nat) (hr : r < 1000) (K : rx_K 6 c a6 a7 a8) (e15 : a15 0 = nI 1) (e16 : a16 0 = 0) (e17 : a17 4 = i)
    (s1 : a14 17 = 0) (s2 : a14 34 = 0) (s4 : a14 68 = 0) (s5 : a14 85 = 0)
    (H : ∀ b12 b13 b14 b15 b16 b17 b18 : Nat → Int32, b12 0 = nI 5 → b13 1 = 16 * i + pl →
      post (fh, fm, fl, fs, fn, fc, nI 2, nI 0, fe, a1, a2, a3, a4, a5, a6, a7, a8, a9, a10, a11, b12, b13, b14, b15, b16, b17, b18, a19)) :
    wX_follow_2 post pl (f + 5) (nI r) fh fm fl fs fn fc (nI 0) (nI 1) fe a1 a2 a3 a4 a5 a6 a7 a8 a9 a10 a11 a12 a13 a14 a15 a16 a17 a18 a19 := by
  obtain ⟨k60, k61, k62, k63, k64, k65, k70, k71, k72, k73, k74, k81⟩ := K
  refine rx_pop (f + 4) r 0 1 17 (by omega) (by omega) (by omega) (by omega) e15 e16 (Or.inr ⟨⟨by rw [k61]; decide, by rw [k61]; decide⟩, by decide⟩) s1 (fun c1 g1 => ?_)
  refine rx_goS 0 1 (nI 2) (nI 4) 1 (by omega) (by omega) k61 (by rw [k71]; decide) (by rw [k81]; decide) (by decide) (fun b b' h1 h2 h3 h4 => nm_r (nI_1 r) ?_)
  have i3 : b' 10 = i := (h3 4 (by omega)).trans ((g1 4 (by omega)).trans e17)
  refine rx_pop (f + 3) (r + 1) 1 4 68 (by omega) (by omega) (by omega) (by omega) pk_us pk_us (Or.inr ⟨⟨by rw [k64]; decide, by rw [k64]; decide⟩, by decide⟩) ((pk_un (by decide)).trans s4) (fun c3 g3 => ?_)
  refine rx_goE (v := 16 * i + pl) 1 4 1 (by omega) (by omega) (by omega) k64 k74 (congrArg (fun t => 16 * t + pl) ((g3 4 (by omega)).trans i3)) (fun q h7 h8 => nm_r (nI_1 (r + 1)) ?_)
  refine rx_pop (f + 2) (r + 1 + 1) 1 5 85 (by omega) (by omega) (by omega) (by omega) pk_us pk_us (Or.inl ⟨Or.inr k65, by decide⟩) ((pk_un (by decide)).trans ((pk_un (by decide)).trans s5)) (fun c4 g4 => ?_)
  refine rx_goT 0 5 (by omega) (by omega) k65 (Or.inr rfl) (fun d h9 h10 => nm_r (nI_1 (r + 1 + 1)) ?_)
  have v1 : d 1 = 16 * i + pl := (h9 1 (by omega)).trans ((g4 1 (by omega)).trans ((h7 1 (by omega)).trans pk_us))
  refine rx_pop (f + 1) (r + 1 + 1 + 1) 0 2 34 (by omega) (by omega) (by omega) (by omega) ((pk_un (by decide)).trans ((pk_un (by decide)).trans pk_us)) ((pk_un (by decide)).trans ((pk_un (by decide)).trans pk_us)) (Or.inl ⟨Or.inl k62, by decide⟩) ((pk_un (by decide)).trans ((pk_un (by decide)).trans ((pk_un (by decide)).trans s2))) (fun c2 g2 => ?_)
  refine rx_goT 1 2 (by omega) (by omega) k62 (Or.inl rfl) (fun d' h5 h6 => nm_r (nI_1 (r + 1 + 1 + 1)) ?_)
  refine pk_le 1300 (r + 1 + 1 + 1 + 1) (fun z => absurd z (by omega)) (fun _ => pk_le 0 0 (fun _ => ?_) (fun z => absurd z (by omega)))
  exact H _ _ _ _ _ _ _ ((pk_un (by decide)).trans pk_us) ((h6 1 (by omega)).trans v1)
/-- what following from the begin leaves: greedy (k = 5) letter and done, lazy (k = 6) done first -/
def rx_R (k i pl : Int32) (b12 b13 : Nat → Int32) : Prop :=
  (k = 5 ∧ b12 0 = nI 2 ∧ b12 1 = nI 5 ∧ b13 4 = i ∧ b13 7 = 16 * i + pl) ∨ (k = 6 ∧ b12 0 = nI 5 ∧ b13 1 = 16 * i + pl)
theorem rx_F0 {pl k c : Int32} (hk : k = 5 ∨ k = 6) (K : rx_K k c a6 a7 a8) (e15 : a15 0 = nI 0) (e16 : a16 0 = 0) (hz : ∀ j, j < 1088 → a14 j = 0)
    (H : ∀ b12 b13 b14 b15 b16 b17 b18 : Nat → Int32, rx_R k pl pl b12 b13 →
      post (fh, fm, fl, fs, fn, fc, nI 2, nI 0, fe, a1, a2, a3, a4, a5, a6, a7, a8, a9, a10, a11, b12, b13, b14, b15, b16, b17, b18, a19)) :
    wpX_follow post (fh, fm, fl, fs, fn, fc, nI 0, nI 1, fe, a1, a2, a3, a4, a5, a6, a7, a8, a9, a10, a11, a12, a13, a14, a15, a16, a17, a18, a19) pl := by
  unfold wpX_follow
  refine ⟨0 + 5 + 1, rx_pop (0 + 5) 0 0 0 0 (by omega) (by omega) (by omega) (by omega) e15 e16 (Or.inr ⟨⟨by rw [K.1]; decide, by rw [K.1]; decide⟩, by decide⟩) (hz 0 (by omega)) (fun c1 g1 => ?_)⟩
  refine rx_goB 0 0 4 (by omega) (by omega) (by omega) (by omega) K.1 K.2.2.2.2.2.2.1 (fun b h1 h2 => nm_r (nI_1 0) ?_)
  have i1 : b 4 = pl := (h1 4 (by omega)).trans pk_us
  have z1 : ∀ j, 0 < j → j < 1088 → upd a14 0 1 j = 0 := fun j h h' => (pk_un (by omega)).trans (hz j h')
  rcases hk with e | e
  · subst e
    exact rx_G 0 (0 + 1) (by omega) K pk_us (pk_us.trans rfl) i1 (z1 17 (by omega) (by omega)) (z1 34 (by omega) (by omega)) (z1 68 (by omega) (by omega)) (z1 85 (by omega) (by omega)) (fun b12 b13 b14 b15 b16 b17 b18 q1 q2 q3 q4 => H b12 b13 b14 b15 b16 b17 b18 (Or.inl ⟨rfl, q1, q2, q3, q4⟩))
  · subst e
    exact rx_S 0 (0 + 1) (by omega) K pk_us (pk_us.trans rfl) i1 (z1 17 (by omega) (by omega)) (z1 34 (by omega) (by omega)) (z1 68 (by omega) (by omega)) (z1 85 (by omega) (by omega)) (fun b12 b13 b14 b15 b16 b17 b18 q1 q2 => H b12 b13 b14 b15 b16 b17 b18 (Or.inr ⟨rfl, q1, q2⟩))
theorem rx_F3 {pl c i : Int32} (K : rx_K 5 c a6 a7 a8) (e15 : a15 0 = nI 3) (e16 : a16 0 = 0) (e17 : a17 4 = i) (hz : ∀ j, j < 1088 → a14 j = 0)
    (H : ∀ b12 b13 b14 b15 b16 b17 b18 : Nat → Int32, rx_R 5 i pl b12 b13 →
      post (fh, fm, fl, fs, fn, fc, nI 2, nI 0, fe, a1, a2, a3, a4, a5, a6, a7, a8, a9, a10, a11, b12, b13, b14, b15, b16, b17, b18, a19)) :
    wpX_follow post (fh, fm, fl, fs, fn, fc, nI 0, nI 1, fe, a1, a2, a3, a4, a5, a6, a7, a8, a9, a10, a11, a12, a13, a14, a15, a16, a17, a18, a19) pl := by
  unfold wpX_follow
  refine ⟨0 + 5 + 1, rx_pop (0 + 5) 0 0 3 51 (by omega) (by omega) (by omega) (by omega) e15 e16 (Or.inr ⟨⟨by rw [K.2.2.2.1]; decide, by rw [K.2.2.2.1]; decide⟩, by decide⟩) (hz 51 (by omega)) (fun c1 g1 => ?_)⟩
  refine rx_goA 0 3 (nI 1) (by omega) (by omega) K.2.2.2.1 rfl (by rw [K.2.2.2.2.2.2.2.2.2.1]; decide) (fun b h1 h2 => nm_r (nI_1 0) ?_)
  have i1 : b 4 = i := (h1 4 (by omega)).trans ((g1 4 (by omega)).trans e17)
  have z1 : ∀ j, j ≠ 51 → j < 1088 → upd a14 51 1 j = 0 := fun j h h' => (pk_un h).trans (hz j h')
  exact rx_G 0 (0 + 1) (by omega) K pk_us pk_us i1 (z1 17 (by omega) (by omega)) (z1 34 (by omega) (by omega)) (z1 68 (by omega) (by omega)) (z1 85 (by omega) (by omega)) (fun b12 b13 b14 b15 b16 b17 b18 q1 q2 q3 q4 => H b12 b13 b14 b15 b16 b17 b18 (Or.inl ⟨rfl, q1, q2, q3, q4⟩))
end
end
section
/-! a step of all threads, and a search -/
section
variable {post : St2 → Prop} {fh fm fl fs fn fc fx fw fe : Int32} {a1 a2 a3 a4 a5 a6 a7 a8 a9 a10 a11 a12 a13 a14 a15 a16 a17 a18 a19 : Nat → Int32}
/-- the thread that is done: it is noted, and it cuts off those behind it -/
theorem rx_stD (f p t ct nc : Nat) (ht : t < ct) (hct : ct ≤ 10) (hnc : nc ≤ 10) (e10 : a10 t = nI 5) (h6 : a6 5 = 4)
    (H : ∀ b10 b11 b18 b19 : Nat → Int32, (∀ k, k < 6 → b19 k = a11 (t * 6 + k)) → (∀ j, j < nc → b10 j = a12 j) → (∀ j, j < 6 * nc → b11 j = a13 j) → post (fh, fm, fl, fs, fn, nI nc, nI nc, fw, nI p, a1, a2, a3, a4, a5, a6, a7, a8, a9, b10, b11, a12, a13, a14, a15, a16, a17, b18, b19)) :
    wX_step_9 post (nI p) (-1) (f + 2) 1 (nI t) fh fm fl fs fn (nI ct) (nI nc) fw fe a1 a2 a3 a4 a5 a6 a7 a8 a9 a10 a11 a12 a13 a14 a15 a16 a17 a18 a19 := by
  refine pk_le ct t (fun z => absurd z (by omega)) (fun _ => br_f (by decide) ⟨pk_in t 64 (by omega), nm_r (rx_at e10 (by omega)) ?_⟩)
  refine rx_load t (by omega) (fun b hb => And.intro (pk_in 5 64 (by omega)) (br_t h6 (br_t (by decide) ?_)))
  have ex : ∀ b19 : Nat → Int32, (∀ k, k < 6 → b19 k = b k) → wX_step_9 post (nI p) (-1) (f + 1) 0 (nI (t + 1)) fh fm fl fs fn (nI ct) (nI nc) fw (nI p) a1 a2 a3 a4 a5 a6 a7 a8 a9 a10 a11 a12 a13 a14 a15 a16 a17 b b19 := by
    intro b19 h19
    have fin : wX_step_154 post fh fm fl fs fn (nI ct) (nI nc) fw (nI p) a1 a2 a3 a4 a5 a6 a7 a8 a9 a10 a11 a12 a13 a14 a15 a16 a17 b b19 := by
      unfold wX_step_154
      exact rx_adv nc hnc (fun b10 b11 q1 q2 => H b10 b11 b b19 (fun k hk => (h19 k hk).trans (hb k hk)) q1 q2)
    exact br_c (fun _ => fin) (fun _ => br_t rfl fin)
  exact pk_loop (fun n i s => wX_step_65 post (wX_step_9 post (nI p) (-1) (f + 1)) (nI p) (-1) (nI t) fh fm fl fs fn (nI ct) (nI nc) fw (nI p) n (nI i) a1 a2 a3 a4 a5 a6 a7 a8 a9 a10 a11 a12 a13 a14 a15 a16 a17 b s) (fun i s => ∀ k, k < i → s k = b k) 6 0 a19 (by omega) lt_0
    (fun n s h => pk_le 6 6 (fun _ => nm_r (nI_1 t) (ex s h)) (fun z => absurd z (by omega)))
    (fun n i s hi h hk => pk_le 6 i (fun z => absurd z (by omega)) (fun _ => ⟨pk_in i 6 hi, pk_in i 6 hi, nm_e (nm_r (nI_1 i) (hk _ (rx_fill (nI_clamp (by omega)) h (by rw [nI_clamp (by omega)]))))⟩))
/-- a thread that waits for a letter and does not get it -/
theorem rx_stN (f p t ct : Nat) (hp : p ≤ 3) (ht : t < ct) (hct : ct ≤ 10) (e10 : a10 t = nI 2) (h6 : a6 2 = 0) (h7 : ¬ a7 2 = 3) (hc : p < 3 → ¬ a7 2 = a9 p)
    (H : ∀ b18 : Nat → Int32, wX_step_9 post (nI p) (-1) f 1 (nI (t + 1)) fh fm fl fs (nI 3) (nI ct) fx fw fe a1 a2 a3 a4 a5 a6 a7 a8 a9 a10 a11 a12 a13 a14 a15 a16 a17 b18 a19) :
    wX_step_9 post (nI p) (-1) (f + 1) 1 (nI t) fh fm fl fs (nI 3) (nI ct) fx fw fe a1 a2 a3 a4 a5 a6 a7 a8 a9 a10 a11 a12 a13 a14 a15 a16 a17 a18 a19 := by
  refine pk_le ct t (fun z => absurd z (by omega)) (fun _ => br_f (by decide) ⟨pk_in t 64 (by omega), nm_r (rx_at e10 (by omega)) ?_⟩)
  refine rx_load t (by omega) (fun b hb => And.intro (pk_in 2 64 (by omega)) (br_f (fun z => absurd (h6.symm.trans z) (by decide)) ?_))
  refine pk_le 3 p (fun _ => nm_r (nI_1 t) (H b)) (fun z => ⟨pk_in 2 64 (by omega), br_f h7 ⟨pk_in 2 64 (by omega), pk_in p 10 (by omega), br_f ?_ (nm_r (nI_1 t) (H b))⟩⟩)
  rw [nI_clamp (show p < 2 ^ 31 by omega)]
  exact hc z
/-- a thread that waits for a letter and gets it -/
theorem rx_stY {c i : Int32} (f p t ct : Nat) (hp : p < 3) (ht : t < ct) (hct : ct ≤ 10) (K : rx_K 5 c a6 a7 a8) (e10 : a10 t = nI 2) (h7 : ¬ c = 3) (hc : c = a9 p) (e11 : a11 (t * 6 + 4) = i) (hz : ∀ j, j < 1088 → a14 j = 0)
    (H : ∀ b12 b13 b14 b15 b16 b17 b18 : Nat → Int32, rx_R 5 i (nI (p + 1)) b12 b13 → wX_step_9 post (nI p) (-1) f 1 (nI (t + 1)) fh fm fl fs (nI 3) (nI ct) (nI 2) (nI 0) fe a1 a2 a3 a4 a5 a6 a7 a8 a9 a10 a11 b12 b13 b14 b15 b16 b17 b18 a19) :
    wX_step_9 post (nI p) (-1) (f + 1) 1 (nI t) fh fm fl fs (nI 3) (nI ct) (nI 0) (nI 0) fe a1 a2 a3 a4 a5 a6 a7 a8 a9 a10 a11 a12 a13 a14 a15 a16 a17 a18 a19 := by
  have h6 : a6 2 = 0 := K.2.2.1
  have h72 : a7 2 = c := K.2.2.2.2.2.2.2.2.1
  refine pk_le ct t (fun z => absurd z (by omega)) (fun _ => br_f (by decide) ⟨pk_in t 64 (by omega), nm_r (rx_at e10 (by omega)) ?_⟩)
  refine rx_load t (by omega) (fun b hb => And.intro (pk_in 2 64 (by omega)) (br_f (fun z => absurd (h6.symm.trans z) (by decide)) ?_))
  refine pk_le 3 p (fun z => absurd z (by omega)) (fun z => ⟨pk_in 2 64 (by omega), br_f (fun z => h7 (h72.symm.trans z)) ⟨pk_in 2 64 (by omega), pk_in p 10 (by omega), br_t ?_ ?_⟩⟩)
  · rw [nI_clamp (show p < 2 ^ 31 by omega)]
    exact h72.trans hc
  unfold wX_step_132
  refine rx_push 0 (nI 3) 0 (by omega) (by decide) rfl (fun b17 q1 q2 => ?_)
  have e1 : nI p + 1 = nI (p + 1) := nI_1 p
  show wpX_follow _ _ (nI p + 1)
  rw [e1]
  exact rx_F3 K pk_us pk_us ((q1 4 (by omega)).trans ((hb 4 (by omega)).trans e11)) hz (fun b12 b13 b14 b15 b16 b17 b18 R => nm_r (nI_1 t) (H b12 b13 b14 b15 b16 b17 b18 R))
/-- a step, greedy, the letter does not come: the last one -/
theorem rx_spN {c v : Int32} (p : Nat) (hp : p ≤ 3) (K : rx_K 5 c a6 a7 a8) (h7 : ¬ c = 3) (e0 : a10 0 = nI 2) (e1 : a10 1 = nI 5) (ev : a11 7 = v) (hc : p < 3 → ¬ c = a9 p)
    (H : ∀ b10 b11 b14 b18 b19 : Nat → Int32, b19 1 = v → post (fh, fm, fl, fs, nI 3, nI 0, nI 0, fw, nI p, a1, a2, a3, a4, a5, a6, a7, a8, a9, b10, b11, a12, a13, b14, a15, a16, a17, b18, b19)) :
    wpX_step post (fh, fm, fl, fs, nI 3, nI 2, fx, fw, fe, a1, a2, a3, a4, a5, a6, a7, a8, a9, a10, a11, a12, a13, a14, a15, a16, a17, a18, a19) (nI p) (-1) := by
  have h72 : a7 2 = c := K.2.2.2.2.2.2.2.2.1
  unfold wpX_step
  refine rx_clear (fun b14 hz => Exists.intro (0 + 2 + 1) ?_)
  refine rx_stN (0 + 2) p 0 2 hp (by omega) (by omega) e0 K.2.2.1 (fun z => h7 (h72.symm.trans z)) (fun z y => hc z (h72.symm.trans y)) (fun b18 => ?_)
  exact rx_stD 0 p 1 2 0 (by omega) (by omega) (by omega) e1 K.2.2.2.2.2.1 (fun b10 b11 b18 b19 q1 _ _ => H b10 b11 b14 b18 b19 ((q1 1 (by omega)).trans ev))
/-- a step, greedy, the letter comes -/
theorem rx_spY {c i v : Int32} (p : Nat) (hp : p < 3) (K : rx_K 5 c a6 a7 a8) (h7 : ¬ c = 3) (e0 : a10 0 = nI 2) (e1 : a10 1 = nI 5) (ei : a11 4 = i) (ev : a11 7 = v) (hc : c = a9 p)
    (H : ∀ b10 b11 b12 b13 b14 b15 b16 b17 b18 b19 : Nat → Int32, b19 1 = v → rx_R 5 i (nI (p + 1)) b10 b11 → post (fh, fm, fl, fs, nI 3, nI 2, nI 2, nI 0, nI p, a1, a2, a3, a4, a5, a6, a7, a8, a9, b10, b11, b12, b13, b14, b15, b16, b17, b18, b19)) :
    wpX_step post (fh, fm, fl, fs, nI 3, nI 2, fx, nI 0, fe, a1, a2, a3, a4, a5, a6, a7, a8, a9, a10, a11, a12, a13, a14, a15, a16, a17, a18, a19) (nI p) (-1) := by
  unfold wpX_step
  refine rx_clear (fun b14 hz => Exists.intro (0 + 2 + 1) ?_)
  refine rx_stY (0 + 2) p 0 2 hp (by omega) (by omega) K e0 h7 hc ei hz (fun b12 b13 b14 b15 b16 b17 b18 R => ?_)
  refine rx_stD 0 p 1 2 2 (by omega) (by omega) (by omega) e1 K.2.2.2.2.2.1 (fun b10 b11 b18 b19 q1 q2 q3 => H b10 b11 b12 b13 b14 b15 b16 b17 b18 b19 ((q1 1 (by omega)).trans ev) ?_)
  rcases R with ⟨_, r1, r2, r3, r4⟩ | ⟨z, _⟩
  · exact Or.inl ⟨rfl, (q2 0 (by omega)).trans r1, (q2 1 (by omega)).trans r2, (q3 4 (by omega)).trans r3, (q3 7 (by omega)).trans r4⟩
  · exact absurd z (by decide)
/-- a step, lazy -/
theorem rx_spS {c v : Int32} (p : Nat) (K : rx_K 6 c a6 a7 a8) (e0 : a10 0 = nI 5) (ev : a11 1 = v)
    (H : ∀ b10 b11 b14 b18 b19 : Nat → Int32, b19 1 = v → post (fh, fm, fl, fs, nI 3, nI 0, nI 0, fw, nI p, a1, a2, a3, a4, a5, a6, a7, a8, a9, b10, b11, a12, a13, b14, a15, a16, a17, b18, b19)) :
    wpX_step post (fh, fm, fl, fs, nI 3, nI 2, fx, fw, fe, a1, a2, a3, a4, a5, a6, a7, a8, a9, a10, a11, a12, a13, a14, a15, a16, a17, a18, a19) (nI p) (-1) := by
  unfold wpX_step
  refine rx_clear (fun b14 hz => Exists.intro (0 + 2) ?_)
  exact rx_stD 0 p 0 2 0 (by omega) (by omega) (by omega) e0 K.2.2.2.2.2.1 (fun b10 b11 b18 b19 q1 _ _ => H b10 b11 b14 b18 b19 ((q1 1 (by omega)).trans ev))
end
/-- where the run from i ends: lazy at once, greedy behind the last letter c -/
def rx_E (k c : Int32) (a9 : Nat → Int32) (i e : Nat) : Prop :=
  (k = 6 ∧ e = i) ∨ (k = 5 ∧ i ≤ e ∧ e ≤ 3 ∧ (∀ j, i ≤ j → j < e → c = a9 j) ∧ (e < 3 → ¬ c = a9 e))
section
variable {post : St2 → Prop} {fh fm fl fs : Int32} {a1 a2 a3 a4 a5 a6 a7 a8 a9 : Nat → Int32}
/-- the loop behind the first following: greedy, from place p on -/
theorem rx_lpG {c i : Int32} (e : Nat) (he : e ≤ 3) (K : rx_K 5 c a6 a7 a8) (h7 : ¬ c = 3) (hl : e < 3 → ¬ c = a9 e)
    (H : ∀ (fc fx fw : Int32) (a10 a11 a12 a13 a14 a15 a16 a17 a18 a19 : Nat → Int32), a19 1 = 16 * i + nI e → post (fh, fm, fl, fs, nI 3, fc, fx, fw, nI e, a1, a2, a3, a4, a5, a6, a7, a8, a9, a10, a11, a12, a13, a14, a15, a16, a17, a18, a19)) :
    ∀ (d p : Nat) (fx fe : Int32) (a10 a11 a12 a13 a14 a15 a16 a17 a18 a19 : Nat → Int32), p + d = e → (∀ j, p ≤ j → j < e → c = a9 j) → rx_R 5 i (nI p) a10 a11 →
      wX_search_54 post (-1) (d + 2) (nI p) fh fm fl fs (nI 3) (nI 2) fx (nI 0) fe a1 a2 a3 a4 a5 a6 a7 a8 a9 a10 a11 a12 a13 a14 a15 a16 a17 a18 a19 := by
  intro d
  induction d with
  | zero =>
    intro p fx fe a10 a11 a12 a13 a14 a15 a16 a17 a18 a19 hpe hrun R
    have hp : p = e := by omega
    subst hp
    rcases R with ⟨_, r1, r2, r3, r4⟩ | ⟨z, _⟩
    · refine pk_lt 3 p (fun z => absurd z (by omega)) (fun _ => pk_le 2 0 (fun z => absurd z (by omega)) (fun _ => ?_))
      refine rx_spN p he K h7 r1 r2 r4 hl (fun b10 b11 b14 b18 b19 q => nm_r (nI_1 p) ?_)
      exact pk_lt 3 (p + 1) (fun _ => H _ _ _ _ _ _ _ _ _ _ _ _ _ q) (fun _ => br_t (by decide) (H _ _ _ _ _ _ _ _ _ _ _ _ _ q))
    · exact absurd z (by decide)
  | succ d ih =>
    intro p fx fe a10 a11 a12 a13 a14 a15 a16 a17 a18 a19 hpe hrun R
    rcases R with ⟨_, r1, r2, r3, r4⟩ | ⟨z, _⟩
    · refine pk_lt 3 p (fun z => absurd z (by omega)) (fun _ => pk_le 2 0 (fun z => absurd z (by omega)) (fun _ => ?_))
      refine rx_spY p (by omega) K h7 r1 r2 r3 r4 (hrun p (by omega) (by omega)) (fun b10 b11 b12 b13 b14 b15 b16 b17 b18 b19 q R' => nm_r (nI_1 p) ?_)
      exact ih (p + 1) _ _ _ _ _ _ _ _ _ _ _ _ (by omega) (fun j h1 h2 => hrun j (by omega) h2) R'
    · exact absurd z (by decide)
/-- the loop behind the first following: lazy -/
theorem rx_lpS {c i : Int32} (p : Nat) (hp : p ≤ 3) (K : rx_K 6 c a6 a7 a8)
    (H : ∀ (fc fx fw : Int32) (a10 a11 a12 a13 a14 a15 a16 a17 a18 a19 : Nat → Int32), a19 1 = 16 * i + nI p → post (fh, fm, fl, fs, nI 3, fc, fx, fw, nI p, a1, a2, a3, a4, a5, a6, a7, a8, a9, a10, a11, a12, a13, a14, a15, a16, a17, a18, a19))
    {fx fw fe : Int32} {a10 a11 a12 a13 a14 a15 a16 a17 a18 a19 : Nat → Int32} (R : rx_R 6 i (nI p) a10 a11) : wX_search_54 post (-1) 2 (nI p) fh fm fl fs (nI 3) (nI 2) fx fw fe a1 a2 a3 a4 a5 a6 a7 a8 a9 a10 a11 a12 a13 a14 a15 a16 a17 a18 a19 := by
  rcases R with ⟨z, _⟩ | ⟨_, r1, r2⟩
  · exact absurd z (by decide)
  · refine pk_lt 3 p (fun z => absurd z (by omega)) (fun _ => pk_le 2 0 (fun z => absurd z (by omega)) (fun _ => ?_))
    refine rx_spS p K r1 r2 (fun b10 b11 b14 b18 b19 q => nm_r (nI_1 p) ?_)
    exact pk_lt 3 (p + 1) (fun _ => H _ _ _ _ _ _ _ _ _ _ _ _ _ q) (fun _ => br_t (by decide) (H _ _ _ _ _ _ _ _ _ _ _ _ _ q))
theorem rx_search {k c : Int32} (i e : Nat) (hi : i ≤ 3) (hk : k = 5 ∨ k = 6) (K : rx_K k c a6 a7 a8) (h7 : ¬ c = 3) (E : rx_E k c a9 i e)
    (H : ∀ (fc fx fw : Int32) (a10 a11 a12 a13 a14 a15 a16 a17 a18 a19 : Nat → Int32), a19 1 = 16 * nI i + nI e → post (fh, fm, fl, fs, nI 3, fc, fx, fw, nI e, a1, a2, a3, a4, a5, a6, a7, a8, a9, a10, a11, a12, a13, a14, a15, a16, a17, a18, a19))
    {fc fx fw fe : Int32} {a10 a11 a12 a13 a14 a15 a16 a17 a18 a19 : Nat → Int32} : wpX_search post (fh, fm, fl, fs, nI 3, fc, fx, fw, fe, a1, a2, a3, a4, a5, a6, a7, a8, a9, a10, a11, a12, a13, a14, a15, a16, a17, a18, a19) (nI i) (-1) := by
  unfold wpX_search
  refine rx_clear (fun b14 hz => ?_)
  refine pk_loop (fun n j s => wX_search_12 post (nI i) (-1) fh fm fl fs (nI 3) fc 0 fw (-4) n (nI j) a1 a2 a3 a4 a5 a6 a7 a8 a9 a10 a11 a12 a13 b14 a15 a16 a17 s a19) (fun _ _ => True) 6 0 a18 (by omega) trivial
    (fun n s _ => pk_le 6 6 (fun _ => ?_) (fun z => absurd z (by omega)))
    (fun n j s hj _ hk => pk_le 6 j (fun z => absurd z (by omega)) (fun _ => ⟨pk_in j 6 hj, nm_e (nm_r (nI_1 j) (hk _ trivial))⟩))
  refine rx_push 0 0 0 (by omega) rfl rfl (fun b17 q1 q2 => ?_)
  refine rx_F0 hk K pk_us pk_us hz (fun b12 b13 b14 b15 b16 b17 b18 R => ?_)
  refine rx_adv 2 (by omega) (fun b10 b11 q3 q4 => ?_)
  have R' : rx_R k (nI i) (nI i) b10 b11 := by
    rcases R with ⟨z, r1, r2, r3, r4⟩ | ⟨z, r1, r2⟩
    · exact Or.inl ⟨z, (q3 0 (by omega)).trans r1, (q3 1 (by omega)).trans r2, (q4 4 (by omega)).trans r3, (q4 7 (by omega)).trans r4⟩
    · exact Or.inr ⟨z, (q3 0 (by omega)).trans r1, (q4 1 (by omega)).trans r2⟩
  rcases E with ⟨z, he⟩ | ⟨z, h1, h2, h3, h4⟩
  · subst z he
    exact Exists.intro 2 (rx_lpS e hi K H R')
  · subst z
    exact Exists.intro (e - i + 2) (rx_lpG e h2 K h7 h4 H (e - i) i _ _ _ _ _ _ _ _ _ _ _ _ (by omega) h3 R')
end
end
section
/-! the questions -/
theorem rx_E_le {k c : Int32} {t : Nat → Int32} {i e : Nat} (hi : i ≤ 3) (E : rx_E k c t i e) : i ≤ e ∧ e ≤ 3 := by
  rcases E with ⟨_, z⟩ | ⟨_, h1, h2, _⟩
  · omega
  · exact ⟨h1, h2⟩
/-- what 'longest' computes, out of where each run ends -/
def rx_L (en : Nat → Nat) : Nat → Int32 → Nat → Int32
  | 0, b, _ => b
  | d + 1, b, f => if 3 < f then b else rx_L en d (if nI (en f) - nI f ≤ b then b else nI (en f) - nI f) (if en f ≤ f then en f + 1 else en f)
section
variable {post : Int32 → St2 → Prop} {fh fm fl fs : Int32} {a1 a2 a3 a4 a5 a6 a7 a8 a9 : Nat → Int32}
theorem rx_find {k c : Int32} (i e : Nat) (hi : i ≤ 3) (hk : k = 5 ∨ k = 6) (K : rx_K k c a6 a7 a8) (h7 : ¬ c = 3) (E : rx_E k c a9 i e)
    (H : ∀ (fc fx fw : Int32) (a10 a11 a12 a13 a14 a15 a16 a17 a18 a19 : Nat → Int32), a19 1 = 16 * nI i + nI e → post (nI i) (fh, fm, fl, fs, nI 3, fc, fx, fw, nI e, a1, a2, a3, a4, a5, a6, a7, a8, a9, a10, a11, a12, a13, a14, a15, a16, a17, a18, a19))
    {fc fx fw fe : Int32} {a10 a11 a12 a13 a14 a15 a16 a17 a18 a19 : Nat → Int32} : wpX_findFrom post (fh, fm, fl, fs, nI 3, fc, fx, fw, fe, a1, a2, a3, a4, a5, a6, a7, a8, a9, a10, a11, a12, a13, a14, a15, a16, a17, a18, a19) (nI i) := by
  have he := rx_E_le hi E
  unfold wpX_findFrom
  refine ⟨0 + 1, pk_lt 3 i (fun z => absurd z (by omega)) (fun _ => ?_)⟩
  refine rx_search i e hi hk K h7 E (fun fc fx fw a10 a11 a12 a13 a14 a15 a16 a17 a18 a19 q => ?_)
  exact pk_lt e 0 (fun z => absurd z (by omega)) (fun _ => H fc fx fw a10 a11 a12 a13 a14 a15 a16 a17 a18 a19 q)
theorem rx_off {po : Int32 → Prop} (i : Nat) (hi : i ≤ 3) (H : po 0) {fc fx fw fe : Int32} {a10 a11 a12 a13 a14 a15 a16 a17 a18 a19 : Nat → Int32} : wpX_off po (fh, fm, fl, fs, nI 3, fc, fx, fw, fe, a1, a2, a3, a4, a5, a6, a7, a8, a9, a10, a11, a12, a13, a14, a15, a16, a17, a18, a19) (nI i) := by
  unfold wpX_off
  exact pk_lt i 0 (fun z => absurd z (by omega)) (fun _ => pk_le i 3 (fun _ => H) (fun z => absurd z (by omega)))
theorem rx_end {k c : Int32} (e : Nat) (hk : k = 5 ∨ k = 6) (K : rx_K k c a6 a7 a8) (h7 : ¬ c = 3) (E : rx_E k c a9 0 e)
    (H : ∀ (fc fx fw : Int32) (a10 a11 a12 a13 a14 a15 a16 a17 a18 a19 : Nat → Int32), post (nI e) (fh, fm, fl, fs, nI 3, fc, fx, fw, nI e, a1, a2, a3, a4, a5, a6, a7, a8, a9, a10, a11, a12, a13, a14, a15, a16, a17, a18, a19))
    {fc fx fw fe : Int32} {a10 a11 a12 a13 a14 a15 a16 a17 a18 a19 : Nat → Int32} : wpX_end post (fh, fm, fl, fs, nI 3, fc, fx, fw, fe, a1, a2, a3, a4, a5, a6, a7, a8, a9, a10, a11, a12, a13, a14, a15, a16, a17, a18, a19) (nI 0) := by
  unfold wpX_end
  refine rx_off 0 (by omega) (br_t rfl ?_)
  refine rx_find 0 e (by omega) hk K h7 E (fun fc fx fw a10 a11 a12 a13 a14 a15 a16 a17 a18 a19 q => ?_)
  exact br_t (by decide) (H fc fx fw a10 a11 a12 a13 a14 a15 a16 a17 a18 a19)
theorem rx_grp {k c : Int32} (e : Nat) (hk : k = 5 ∨ k = 6) (K : rx_K k c a6 a7 a8) (h7 : ¬ c = 3) (E : rx_E k c a9 0 e)
    (H : ∀ (fc fx fw : Int32) (a10 a11 a12 a13 a14 a15 a16 a17 a18 a19 : Nat → Int32), post (nI e) (fh, fm, fl, fs, nI 3, fc, fx, fw, nI e, a1, a2, a3, a4, a5, a6, a7, a8, a9, a10, a11, a12, a13, a14, a15, a16, a17, a18, a19))
    {fc fx fw fe : Int32} {a10 a11 a12 a13 a14 a15 a16 a17 a18 a19 : Nat → Int32} : wpX_groupIn post (fh, fm, fl, fs, nI 3, fc, fx, fw, fe, a1, a2, a3, a4, a5, a6, a7, a8, a9, a10, a11, a12, a13, a14, a15, a16, a17, a18, a19) (nI 0) 1 := by
  unfold wpX_groupIn
  refine rx_off 0 (by omega) (br_t rfl (br_f (by decide) (br_t (by decide) ?_)))
  refine rx_find 0 e (by omega) hk K h7 E (fun fc fx fw a10 a11 a12 a13 a14 a15 a16 a17 a18 a19 q => ?_)
  refine br_t (by decide) (And.intro (pk_in 1 6 (by omega)) ?_)
  have e0 : (16 : Int32) * nI 0 + nI e = nI e := by
    rw [show (16 : Int32) * nI 0 = nI 0 from rfl, nI_add, Nat.zero_add]
  have e1 : a19 (1 : Int32).toNatClampNeg = nI e := q.trans e0
  rw [e1]
  exact H fc fx fw a10 a11 a12 a13 a14 a15 a16 a17 a18 a19
theorem rx_lo {k c R : Int32} (en : Nat → Nat) (hk : k = 5 ∨ k = 6) (K : rx_K k c a6 a7 a8) (h7 : ¬ c = 3) (E : ∀ i, i ≤ 3 → rx_E k c a9 i (en i))
    (H : ∀ (fc fx fw fe : Int32) (a10 a11 a12 a13 a14 a15 a16 a17 a18 a19 : Nat → Int32), post R (fh, fm, fl, fs, nI 3, fc, fx, fw, fe, a1, a2, a3, a4, a5, a6, a7, a8, a9, a10, a11, a12, a13, a14, a15, a16, a17, a18, a19)) :
    ∀ (d f r : Nat) (b fc fx fw fe : Int32) (a10 a11 a12 a13 a14 a15 a16 a17 a18 a19 : Nat → Int32), 4 ≤ f + d → f ≤ 4 → r + d ≤ 10 → rx_L en d b f = R →
      wX_longest_7 post (d + 1) b (nI f) (nI r) fh fm fl fs (nI 3) fc fx fw fe a1 a2 a3 a4 a5 a6 a7 a8 a9 a10 a11 a12 a13 a14 a15 a16 a17 a18 a19 := by
  intro d
  induction d with
  | zero =>
    intro f r b fc fx fw fe a10 a11 a12 a13 a14 a15 a16 a17 a18 a19 h1 h2 h3 h4
    have hb : b = R := h4
    subst hb
    exact pk_lt 10 r (fun z => absurd z (by omega)) (fun _ => pk_lt 3 f (fun _ => H fc fx fw fe a10 a11 a12 a13 a14 a15 a16 a17 a18 a19) (fun z => absurd z (by omega)))
  | succ d ih =>
    intro f r b fc fx fw fe a10 a11 a12 a13 a14 a15 a16 a17 a18 a19 h1 h2 h3 h4
    rw [rx_L] at h4
    refine pk_lt 10 r (fun z => absurd z (by omega)) (fun _ => pk_lt 3 f (fun z => ?_) (fun z => ?_))
    · rw [if_pos z] at h4
      subst h4
      exact H fc fx fw fe a10 a11 a12 a13 a14 a15 a16 a17 a18 a19
    · rw [if_neg (by omega)] at h4
      have he := rx_E_le z (E f z)
      refine rx_find f (en f) z hk K h7 (E f z) (fun fc fx fw a10 a11 a12 a13 a14 a15 a16 a17 a18 a19 q => ?_)
      have go : ∀ b' : Int32, rx_L en d b' (if en f ≤ f then en f + 1 else en f) = R → wX_longest_57 post (wX_longest_7 post (d + 1)) (nI r) (nI f) b' fh fm fl fs (nI 3) fc fx fw (nI (en f)) a1 a2 a3 a4 a5 a6 a7 a8 a9 a10 a11 a12 a13 a14 a15 a16 a17 a18 a19 := by
        intro b' hb
        unfold wX_longest_57
        refine pk_le (en f) f (fun y => nm_r (nI_1 (en f)) (nm_r (nI_1 r) ?_)) (fun y => nm_r (nI_1 r) ?_)
        · rw [if_pos y] at hb
          exact ih (en f + 1) (r + 1) b' _ _ _ _ _ _ _ _ _ _ _ _ _ _ (by omega) (by omega) (by omega) hb
        · rw [if_neg (by omega)] at hb
          exact ih (en f) (r + 1) b' _ _ _ _ _ _ _ _ _ _ _ _ _ _ (by omega) (by omega) (by omega) hb
      refine pk_le 0 f (fun _ => br_c (fun y => ?_) (fun y => ?_)) (fun y => absurd y (by omega))
      · rw [if_pos y] at h4
        exact go b h4
      · rw [if_neg y] at h4
        exact go _ h4
theorem rx_longest {k c R : Int32} (en : Nat → Nat) (hk : k = 5 ∨ k = 6) (K : rx_K k c a6 a7 a8) (h7 : ¬ c = 3) (E : ∀ i, i ≤ 3 → rx_E k c a9 i (en i)) (hR : rx_L en 4 (-4) 0 = R)
    (H : ∀ (fc fx fw fe : Int32) (a10 a11 a12 a13 a14 a15 a16 a17 a18 a19 : Nat → Int32), post R (fh, fm, fl, fs, nI 3, fc, fx, fw, fe, a1, a2, a3, a4, a5, a6, a7, a8, a9, a10, a11, a12, a13, a14, a15, a16, a17, a18, a19))
    {fc fx fw fe : Int32} {a10 a11 a12 a13 a14 a15 a16 a17 a18 a19 : Nat → Int32} : wpX_longest post (fh, fm, fl, fs, nI 3, fc, fx, fw, fe, a1, a2, a3, a4, a5, a6, a7, a8, a9, a10, a11, a12, a13, a14, a15, a16, a17, a18, a19) := by
  unfold wpX_longest
  exact ⟨4 + 1, rx_lo en hk K h7 E H 4 0 0 (-4) fc fx fw fe a10 a11 a12 a13 a14 a15 a16 a17 a18 a19 (by omega) (by omega) (by omega) hR⟩
end
end
section
/-! making the pattern, putting it to use, the text -/
def rx_mv (i L : Nat) (a s : Nat → Int32) : Prop := (∀ j, i ≤ j → j < L → s (j + 1) = a j) ∧ (∀ j, j ≤ i → s j = a j)
theorem rx_mv_s {i L : Nat} {a s : Nat → Int32} (h : rx_mv (i + 1) L a s) {k : Nat} {x : Int32} (hk : k = i + 1) (hx : x = s i) : rx_mv i L a (upd s k x) := by
  rw [hk, hx]
  refine ⟨fun j h1 h2 => ?_, fun j h1 => ?_⟩
  · by_cases e : j = i
    · rw [e, pk_us]
      exact h.2 i (by omega)
    · rw [pk_un (by omega)]
      exact h.1 j (by omega) h2
  · rw [pk_un (by omega)]
    exact h.2 j (by omega)
section
variable {post : St2 → Prop} {fh fm fl fs fn fc fx fw fe : Int32} {a1 a2 a3 a4 a5 a6 a7 a8 a9 a10 a11 a12 a13 a14 a15 a16 a17 a18 a19 : Nat → Int32}
theorem rx_emit {p0 p1 p2 : Int32} (L : Nat) (hL : L < 64) (H : post (fh, fm, nI (L + 1), fs, fn, fc, fx, fw, fe, a1, a2, upd a3 L p0, upd a4 L p1, upd a5 L p2, a6, a7, a8, a9, a10, a11, a12, a13, a14, a15, a16, a17, a18, a19)) : wpX_emit post (fh, fm, nI L, fs, fn, fc, fx, fw, fe, a1, a2, a3, a4, a5, a6, a7, a8, a9, a10, a11, a12, a13, a14, a15, a16, a17, a18, a19) p0 p1 p2 := by
  unfold wpX_emit
  exact ⟨pk_in L 64 hL, nm_r (by rw [nI_clamp (by omega)]) ⟨pk_in L 64 hL, nm_r (by rw [nI_clamp (by omega)]) ⟨pk_in L 64 hL, nm_r (by rw [nI_clamp (by omega)]) (nm_r (nI_1 L) H)⟩⟩⟩
theorem rx_put {p1 p2 p3 : Int32} (x : Nat) (hx : x < 64) (H : post (fh, fm, fl, fs, fn, fc, fx, fw, fe, a1, a2, upd a3 x p1, upd a4 x p2, upd a5 x p3, a6, a7, a8, a9, a10, a11, a12, a13, a14, a15, a16, a17, a18, a19)) : wpX_put post (fh, fm, fl, fs, fn, fc, fx, fw, fe, a1, a2, a3, a4, a5, a6, a7, a8, a9, a10, a11, a12, a13, a14, a15, a16, a17, a18, a19) (nI x) p1 p2 p3 := by
  unfold wpX_put
  exact ⟨pk_in x 64 hx, nm_r (by rw [nI_clamp (by omega)]) ⟨pk_in x 64 hx, nm_r (by rw [nI_clamp (by omega)]) ⟨pk_in x 64 hx, nm_r (by rw [nI_clamp (by omega)]) H⟩⟩⟩
/-- room for one instruction at place 0 -/
theorem rx_opn (L : Nat) (hL : L < 63)
    (H : ∀ b3 b4 b5 : Nat → Int32, (∀ j, j < L → b3 (j + 1) = a3 j) → (∀ j, j < L → b4 (j + 1) = a4 j) → (∀ j, j < L → b5 (j + 1) = a5 j) → post (fh, fm, nI (L + 1), fs, fn, fc, fx, fw, fe, a1, a2, b3, b4, b5, a6, a7, a8, a9, a10, a11, a12, a13, a14, a15, a16, a17, a18, a19)) :
    wpX_open post (fh, fm, nI L, fs, fn, fc, fx, fw, fe, a1, a2, a3, a4, a5, a6, a7, a8, a9, a10, a11, a12, a13, a14, a15, a16, a17, a18, a19) (nI 0) 1 := by
  unfold wpX_open
  have dn : ∀ i : Nat, nI i + (-1) = nI i - 1 := fun i => (Int32.sub_eq_add_neg _ _).symm
  have lo := pk_loopD (σ := (Nat → Int32) × (Nat → Int32) × (Nat → Int32)) (fun n i s => wX_open_7 post (nI 0) 1 fh fm (nI L) fs fn fc fx fw fe n (nI i - 1) a1 a2 (s.1) (s.2.1) (s.2.2) a6 a7 a8 a9 a10 a11 a12 a13 a14 a15 a16 a17 a18 a19)
    (fun i s => i ≤ L ∧ rx_mv i L a3 s.1 ∧ rx_mv i L a4 s.2.1 ∧ rx_mv i L a5 s.2.2)
    (fun n s h => br_t (by decide) (nm_r (nI_1 L) (H _ _ _ (fun j hj => h.2.1.1 j (by omega) hj) (fun j hj => h.2.2.1.1 j (by omega) hj) (fun j hj => h.2.2.2.1 j (by omega) hj))))
    (fun n i s h hw => by
      have q : wX_open_7 post (nI 0) 1 fh fm (nI L) fs fn fc fx fw fe n (nI i - 1) a1 a2 (upd s.1 (i + 1) (s.1 i)) (upd s.2.1 (i + 1) (s.2.1 i)) (upd s.2.2 (i + 1) (s.2.2 i)) a6 a7 a8 a9 a10 a11 a12 a13 a14 a15 a16 a17 a18 a19 :=
        hw (upd s.1 (i + 1) (s.1 i), upd s.2.1 (i + 1) (s.2.1 i), upd s.2.2 (i + 1) (s.2.2 i)) ⟨by omega, rx_mv_s h.2.1 rfl rfl, rx_mv_s h.2.2.1 rfl rfl, rx_mv_s h.2.2.2 rfl rfl⟩
      have hi : i < L := by omega
      show wX_open_7 post (nI 0) 1 fh fm (nI L) fs fn fc fx fw fe (n + 1) (nI (i + 1) - 1) a1 a2 (s.1) (s.2.1) (s.2.2) a6 a7 a8 a9 a10 a11 a12 a13 a14 a15 a16 a17 a18 a19
      rw [nI_pred i]
      refine pk_lt i 0 (fun z => absurd z (by omega)) (fun _ => ?_)
      rw [nI_1 i, nI_clamp (show i + 1 < 2 ^ 31 by omega), nI_clamp (show i < 2 ^ 31 by omega)]
      exact ⟨pk_in i 64 (by omega), pk_in (i + 1) 64 (by omega), nm_e ⟨pk_in i 64 (by omega), pk_in (i + 1) 64 (by omega), nm_e ⟨pk_in i 64 (by omega), pk_in (i + 1) 64 (by omega), nm_e (nm_r (dn i) q)⟩⟩⟩)
    L (a3, a4, a5) ⟨Nat.le_refl L, ⟨fun j h1 h2 => absurd h1 (by omega), fun _ _ => rfl⟩, ⟨fun j h1 h2 => absurd h1 (by omega), fun _ _ => rfl⟩, ⟨fun j h1 h2 => absurd h1 (by omega), fun _ _ => rfl⟩⟩
  exact nm_e ⟨L + 1, lo⟩
end
section
variable {post : Int32 → St2 → Prop} {fh fm fl fs fn fc fx fw fe : Int32} {a1 a2 a3 a4 a5 a6 a7 a8 a9 a10 a11 a12 a13 a14 a15 a16 a17 a18 a19 : Nat → Int32}
theorem rx_letter {c : Int32} (h0 : ¬ c < 0) (h2 : c ≤ 2)
    (H : ∀ (r : Int32) (b1 b2 b3 b4 b5 : Nat → Int32), b1 0 = nI 0 → b2 0 = nI 0 → b3 0 = 0 → b4 0 = c → post r (nI 1, nI 1, nI 1, fs, fn, fc, fx, fw, fe, b1, b2, b3, b4, b5, a6, a7, a8, a9, a10, a11, a12, a13, a14, a15, a16, a17, a18, a19)) :
    wpX_letter post (nI 0, nI 0, nI 0, fs, fn, fc, fx, fw, fe, a1, a2, a3, a4, a5, a6, a7, a8, a9, a10, a11, a12, a13, a14, a15, a16, a17, a18, a19) c := by
  unfold wpX_letter
  refine br_f h0 (br_t h2 ?_)
  unfold wpX_leaf
  refine br_f (by decide) (br_f (by decide) ⟨pk_in 0 6 (by omega), nm_r (by rw [nI_clamp (by omega)]) ⟨pk_in 0 6 (by omega), nm_r (by rw [nI_clamp (by omega)]) (nm_r (nI_1 0) (nm_r (nI_1 0) (br_t rfl ?_)))⟩⟩)
  unfold wX_leaf_73
  refine br_f (by decide) ?_
  unfold wX_leaf_85
  exact rx_emit 0 (by omega) (H _ _ _ _ _ _ pk_us pk_us pk_us pk_us)
theorem rx_refu {po : Int32 → Prop} (m : Nat) (hm : m < 16) (H : po 0) : wpX_refused po (nI 1, nI m, fl, fs, fn, fc, fx, fw, fe, a1, a2, a3, a4, a5, a6, a7, a8, a9, a10, a11, a12, a13, a14, a15, a16, a17, a18, a19) 1 := by
  unfold wpX_refused
  exact pk_eq m 16 (fun z => absurd z (by omega)) (fun _ => br_t (by decide) H)
theorem rx_repeat {c k p : Int32} (hk : p = 0 ∧ k = 6 ∨ p = 1 ∧ k = 5) (e1 : a1 0 = nI 0) (e3 : a3 0 = 0) (e4 : a4 0 = c)
    (H : ∀ b3 b4 b5 : Nat → Int32, b3 0 = k → b3 1 = 0 → b3 2 = 7 → b4 0 = 1 → b4 1 = c → b4 2 = -2 → b5 0 = 3 → post (nI 1) (nI 1, nI 2, nI 3, fs, fn, fc, fx, fw, fe, a1, a2, b3, b4, b5, a6, a7, a8, a9, a10, a11, a12, a13, a14, a15, a16, a17, a18, a19)) :
    wpX_repeat post (nI 1, nI 1, nI 1, fs, fn, fc, fx, fw, fe, a1, a2, a3, a4, a5, a6, a7, a8, a9, a10, a11, a12, a13, a14, a15, a16, a17, a18, a19) p := by
  unfold wpX_repeat
  refine rx_refu 1 (by omega) (br_t (by decide) ⟨pk_in 0 6 (by omega), nm_r e1 (nm_r (show nI 1 - nI 0 = nI 1 by decide) ?_)⟩)
  refine rx_opn 1 (by omega) (fun b3 b4 b5 h3 h4 h5 => ?_)
  have f50 : wX_repeat_50 post (nI 1) k (nI 0) (nI 1) (nI 1) (nI 2) fs fn fc fx fw fe a1 a2 b3 b4 b5 a6 a7 a8 a9 a10 a11 a12 a13 a14 a15 a16 a17 a18 a19 := by
    unfold wX_repeat_50
    refine rx_put 0 (by omega) (rx_emit 2 (by omega) (nm_r (nI_1 1) ?_))
    exact H _ _ _ ((pk_un (by decide)).trans pk_us) ((pk_un (by decide)).trans ((pk_un (by decide)).trans ((h3 0 (by omega)).trans e3))) pk_us
      ((pk_un (by decide)).trans pk_us) ((pk_un (by decide)).trans ((pk_un (by decide)).trans ((h4 0 (by omega)).trans e4))) (pk_us.trans (by decide)) ((pk_un (by decide)).trans (pk_us.trans (by decide)))
  rcases hk with ⟨hp, hk⟩ | ⟨hp, hk⟩
  · subst hp hk
    exact br_t rfl f50
  · subst hp hk
    exact br_f (by decide) f50
theorem rx_group {c k : Int32} (e1 : a1 0 = nI 0) (e2 : a2 0 = nI 0) (h30 : a3 0 = k) (h31 : a3 1 = 0) (h32 : a3 2 = 7) (h40 : a4 0 = 1) (h41 : a4 1 = c) (h42 : a4 2 = -2) (h50 : a5 0 = 3)
    (H : ∀ (r : Int32) (b2 b3 b4 b5 : Nat → Int32), b3 0 = 3 → b3 1 = k → b3 2 = 0 → b3 3 = 7 → b3 4 = 3 → b4 0 = 4 → b4 1 = 1 → b4 2 = c → b4 3 = -2 → b4 4 = 1 → b5 1 = 3 → post r (nI 1, nI 3, nI 5, fs, fn, fc, fx, fw, fe, a1, b2, b3, b4, b5, a6, a7, a8, a9, a10, a11, a12, a13, a14, a15, a16, a17, a18, a19)) :
    wpX_group post (nI 1, nI 2, nI 3, fs, fn, fc, fx, fw, fe, a1, a2, a3, a4, a5, a6, a7, a8, a9, a10, a11, a12, a13, a14, a15, a16, a17, a18, a19) 1 := by
  unfold wpX_group
  refine br_f (by decide) (br_t (by decide) (rx_refu 2 (by omega) (br_t (by decide) ⟨pk_in 0 6 (by omega), br_f ?_ ⟨pk_in 0 6 (by omega), pk_in 0 6 (by omega), nm_e ⟨pk_in 0 6 (by omega), nm_r e1 ?_⟩⟩⟩)))
  · have e2' : a2 (nI 1 - 1).toNatClampNeg = nI 0 := e2
    rw [e2']
    decide
  refine rx_opn 3 (by omega) (fun b3 b4 b5 h3 h4 h5 => ?_)
  refine rx_put 0 (by omega) (rx_emit 4 (by omega) (nm_r (nI_1 2) ?_))
  exact H _ _ _ _ _ ((pk_un (by decide)).trans pk_us) ((pk_un (by decide)).trans ((pk_un (by decide)).trans ((h3 0 (by omega)).trans h30))) ((pk_un (by decide)).trans ((pk_un (by decide)).trans ((h3 1 (by omega)).trans h31))) ((pk_un (by decide)).trans ((pk_un (by decide)).trans ((h3 2 (by omega)).trans h32))) pk_us
    ((pk_un (by decide)).trans (pk_us.trans (by decide))) ((pk_un (by decide)).trans ((pk_un (by decide)).trans ((h4 0 (by omega)).trans h40))) ((pk_un (by decide)).trans ((pk_un (by decide)).trans ((h4 1 (by omega)).trans h41))) ((pk_un (by decide)).trans ((pk_un (by decide)).trans ((h4 2 (by omega)).trans h42))) pk_us
    ((pk_un (by decide)).trans ((pk_un (by decide)).trans ((h5 0 (by omega)).trans h50)))
theorem rx_define (L : Nat) (hL : L < 63) (e1 : a1 0 = nI 0)
    (H : ∀ (r : Int32) (b6 b7 b8 : Nat → Int32), (∀ j, j < L → b6 j = a3 j) → b6 L = 4 → (∀ j, j < L → b7 j = a4 j) → (∀ j, j < L → b8 j = a5 j) → post r (0, 0, 0, nI (L + 1), fn, fc, fx, fw, fe, a1, a2, a3, a4, a5, b6, b7, b8, a9, a10, a11, a12, a13, a14, a15, a16, a17, a18, a19)) :
    wpX_define post (nI 1, fm, nI L, fs, fn, fc, fx, fw, fe, a1, a2, a3, a4, a5, a6, a7, a8, a9, a10, a11, a12, a13, a14, a15, a16, a17, a18, a19) := by
  unfold wpX_define
  refine br_f (by decide) ⟨pk_in 0 6 (by omega), nm_r e1 ?_⟩
  exact pk_loop (σ := (Nat → Int32) × (Nat → Int32) × (Nat → Int32)) (fun n i s => wX_define_29 post (nI 1) fm (nI L) fn fc fx fw fe n (nI i) (nI i) a1 a2 a3 a4 a5 (s.1) (s.2.1) (s.2.2) a9 a10 a11 a12 a13 a14 a15 a16 a17 a18 a19)
    (fun i s => (∀ j, j < i → s.1 j = a3 j) ∧ (∀ j, j < i → s.2.1 j = a4 j) ∧ (∀ j, j < i → s.2.2 j = a5 j)) L 0 (a6, a7, a8) (by omega) ⟨lt_0, lt_0, lt_0⟩
    (fun n s h => pk_le L L (fun _ => ⟨pk_in L 64 (by omega), nm_r (by rw [nI_clamp (by omega)]) (nm_r (nI_1 L) (by
      unfold wpX_discard
      exact H _ _ _ _ (fun j hj => (pk_un (by omega)).trans (h.1 j hj)) pk_us h.2.1 h.2.2))⟩) (fun z => absurd z (by omega)))
    (fun n i s hi h hw => by
      have q : wX_define_29 post (nI 1) fm (nI L) fn fc fx fw fe n (nI (i + 1)) (nI (i + 1)) a1 a2 a3 a4 a5 (upd s.1 i (a3 i)) (upd s.2.1 i (a4 i)) (upd s.2.2 i (a5 i)) a9 a10 a11 a12 a13 a14 a15 a16 a17 a18 a19 :=
        hw (upd s.1 i (a3 i), upd s.2.1 i (a4 i), upd s.2.2 i (a5 i)) ⟨rx_fill rfl h.1 rfl, rx_fill rfl h.2.1 rfl, rx_fill rfl h.2.2 rfl⟩
      show wX_define_29 post (nI 1) fm (nI L) fn fc fx fw fe (n + 1) (nI i) (nI i) a1 a2 a3 a4 a5 (s.1) (s.2.1) (s.2.2) a9 a10 a11 a12 a13 a14 a15 a16 a17 a18 a19
      refine pk_le L i (fun z => absurd z (by omega)) (fun _ => ?_)
      rw [nI_clamp (show i < 2 ^ 31 by omega)]
      exact ⟨pk_in i 64 (by omega), pk_in i 64 (by omega), nm_e ⟨pk_in i 64 (by omega), pk_in i 64 (by omega), nm_e ⟨pk_in i 64 (by omega), pk_in i 64 (by omega), nm_e (nm_r (nI_1 i) (nm_r (nI_1 i) q))⟩⟩⟩)
theorem rx_feed {c : Int32} (n : Nat) (hn : n < 10) (h0 : ¬ c < 0) (h2 : c ≤ 2) (H : ∀ r : Int32, post r (fh, fm, fl, fs, nI (n + 1), fc, fx, fw, fe, a1, a2, a3, a4, a5, a6, a7, a8, upd a9 n c, a10, a11, a12, a13, a14, a15, a16, a17, a18, a19)) : wpX_feed post (fh, fm, fl, fs, nI n, fc, fx, fw, fe, a1, a2, a3, a4, a5, a6, a7, a8, a9, a10, a11, a12, a13, a14, a15, a16, a17, a18, a19) c := by
  unfold wpX_feed
  exact br_f h0 (br_t h2 (pk_eq n 10 (fun z => absurd z (by omega)) (fun _ => ⟨pk_in n 10 hn, nm_r (by rw [nI_clamp (by omega)]) (nm_r (nI_1 n) (H _))⟩)))
end
end
section
/-! the plain law -/
def rx_e5 (o1 o2 o3 : Bool) (i : Nat) : Nat :=
  if i = 0 then (if o1 then (if o2 then (if o3 then 3 else 2) else 1) else 0) else if i = 1 then (if o2 then (if o3 then 3 else 2) else 1) else if i = 2 then (if o3 then 3 else 2) else 3
def rx_most (o1 o2 o3 : Bool) : Int32 :=
  if o1 && o2 && o3 then 3 else if (o1 && o2) || (o2 && o3) then 2 else if o1 || o2 || o3 then 1 else 0
theorem rx_L5 (o1 o2 o3 : Bool) : rx_L (rx_e5 o1 o2 o3) 4 (-4) 0 = rx_most o1 o2 o3 := by
  cases o1 <;> cases o2 <;> cases o3 <;> decide +kernel
theorem rx_L6 : rx_L (fun i => i) 4 (-4) 0 = 0 := by decide +kernel
theorem rx_run (P : Nat → Prop) (o1 o2 o3 : Bool) (h1 : o1 = true ↔ P 0) (h2 : o2 = true ↔ P 1) (h3 : o3 = true ↔ P 2) (i : Nat) (hi : i ≤ 3) :
    i ≤ rx_e5 o1 o2 o3 i ∧ rx_e5 o1 o2 o3 i ≤ 3 ∧ (∀ j, i ≤ j → j < rx_e5 o1 o2 o3 i → P j) ∧ (rx_e5 o1 o2 o3 i < 3 → ¬ P (rx_e5 o1 o2 o3 i)) := by
  have c4 : i = 0 ∨ i = 1 ∨ i = 2 ∨ i = 3 := by omega
  have key : ∀ e : Nat, rx_e5 o1 o2 o3 i = e → i ≤ e → e ≤ 3 → (∀ j, i ≤ j → j < e → P j) → (e < 3 → ¬ P e) →
      i ≤ rx_e5 o1 o2 o3 i ∧ rx_e5 o1 o2 o3 i ≤ 3 ∧ (∀ j, i ≤ j → j < rx_e5 o1 o2 o3 i → P j) ∧ (rx_e5 o1 o2 o3 i < 3 → ¬ P (rx_e5 o1 o2 o3 i)) := by
    intro e h a b c d
    rw [h]
    exact ⟨a, b, c, d⟩
  have sp : ∀ e j : Nat, e ≤ 3 → j < e → j = 0 ∨ j = 1 ∨ j = 2 := by omega
  cases o1 <;> cases o2 <;> cases o3 <;> simp only [Bool.false_eq_true, false_iff, true_iff] at h1 h2 h3 <;> rcases c4 with z | z | z | z <;> subst z <;>
    refine key _ rfl (by decide) (by decide) (fun j g1 g2 => ?_) (fun g => ?_)
  all_goals
    first
      | exact h1
      | exact h2
      | exact h3
      | exact absurd g (by decide)
      | (exact absurd (Nat.lt_of_le_of_lt g1 g2) (by decide))
      | (rcases sp _ j (by decide) g2 with z | z | z <;> subst z <;> first | assumption | exact absurd g1 (by decide) | exact absurd g2 (by decide))
theorem rx_rem (x : Int32) : ∃ j : Nat, j < 3 ∧ (x &&& 3) - (x &&& 3) / 3 * 3 = nI j := by
  obtain ⟨j, hj, e⟩ := pk_andE x (m := 3) 2 (by decide)
  refine ⟨j % 3, Nat.mod_lt _ (by omega), ?_⟩
  rw [e]
  exact pk_rem (d := 3) (by omega) (by omega) (by omega)
theorem rx_fin5 {post : Int32 → St0 → Prop} {mc ms kc ks : Nat} {c u v w : Int32} (hp : post 1 ()) (o1 o2 o3 : Bool) (h1 : o1 = true ↔ c = u) (h2 : o2 = true ↔ c = v) (h3 : o3 = true ↔ c = w) :
    (u = c → wL_lawOf_151 post mc ms c 0 v w (nI 1) (nI (rx_e5 o1 o2 o3 0)) (nI (rx_e5 o1 o2 o3 0)) (rx_most o1 o2 o3) 1 kc ks) ∧
    (¬ u = c → wL_lawOf_151 post mc ms c 0 v w (nI 1) (nI (rx_e5 o1 o2 o3 0)) (nI (rx_e5 o1 o2 o3 0)) (rx_most o1 o2 o3) 0 kc ks) := by
  have g1 : u = c ↔ o1 = true := ⟨fun z => h1.mpr z.symm, fun z => (h1.mp z).symm⟩
  have g2 : v = c ↔ o2 = true := ⟨fun z => h2.mpr z.symm, fun z => (h2.mp z).symm⟩
  have g3 : w = c ↔ o3 = true := ⟨fun z => h3.mpr z.symm, fun z => (h3.mp z).symm⟩
  unfold wL_lawOf_151 wL_lawOf_165 wL_lawOf_179 wL_lawOf_209 wL_lawOf_230 wL_lawOf_240 wL_lawOf_254 wL_lawOf_250 wL_lawOf_269 wL_lawOf_274 wL_lawOf_295 wL_lawOf_311 wL_lawOf_327
  rw [g1, g2, g3]
  cases o1 <;> cases o2 <;> cases o3 <;> simp [rx_e5, rx_most, nI, hp]
theorem rx_fin6 {post : Int32 → St0 → Prop} {mc ms kc ks : Nat} {c u v w : Int32} (hp : post 1 ()) :
    (u = c → wL_lawOf_151 post mc ms c 1 v w (nI 1) (nI 0) (nI 0) 0 1 kc ks) ∧ (¬ u = c → wL_lawOf_151 post mc ms c 1 v w (nI 1) (nI 0) (nI 0) 0 0 kc ks) := by
  have e : ∀ x17 z0 : Int32, wL_lawOf_274 post mc ms 1 (nI 1) (nI 0) (nI 0) 0 x17 z0 kc ks := fun x17 z0 => by
    unfold wL_lawOf_274
    refine br_t rfl (br_f (by decide) ?_)
    unfold wL_lawOf_295
    refine br_t rfl (br_f (by decide) ?_)
    unfold wL_lawOf_311
    refine br_t rfl (br_f (by decide) ?_)
    unfold wL_lawOf_327
    exact br_t rfl hp
  unfold wL_lawOf_151 wL_lawOf_165 wL_lawOf_179 wL_lawOf_209 wL_lawOf_230 wL_lawOf_240 wL_lawOf_254 wL_lawOf_250 wL_lawOf_269
  simp only [e, implies_true, and_self]
section
variable {fh fm fl fs fn fc fx fw fe : Int32} {a1 a2 a3 a4 a5 a6 a7 a8 a9 a10 a11 a12 a13 a14 a15 a16 a17 a18 a19 : Nat → Int32}
theorem rx_76 {post : Int32 → St0 → Prop} {mc ms kc ks : Nat} {c x6 u v w k R : Int32} (en : Nat → Nat) (hk : k = 5 ∨ k = 6) (h7 : ¬ c = 3)
    (u0 : ¬ u < 0) (u2 : u ≤ 2) (v0 : ¬ v < 0) (v2 : v ≤ 2) (w0 : ¬ w < 0) (w2 : w ≤ 2)
    (E : ∀ t : Nat → Int32, t 0 = u → t 1 = v → t 2 = w → ∀ i, i ≤ 3 → rx_E k c t i (en i)) (hR : rx_L en 4 (-4) 0 = R)
    (e1 : a1 0 = nI 0) (e2 : a2 0 = nI 0) (h30 : a3 0 = k) (h31 : a3 1 = 0) (h32 : a3 2 = 7) (h40 : a4 0 = 1) (h41 : a4 1 = c) (h42 : a4 2 = -2) (h50 : a5 0 = 3)
    (fin : (u = c → wL_lawOf_151 post mc ms c x6 v w (nI 1) (nI (en 0)) (nI (en 0)) R 1 kc ks) ∧ (¬ u = c → wL_lawOf_151 post mc ms c x6 v w (nI 1) (nI (en 0)) (nI (en 0)) R 0 kc ks)) :
    wL_lawOf_76 post mc ms c x6 u v w (nI 1) kc ks (nI 1) (nI 2) (nI 3) fs (nI 0) fc fx fw fe a1 a2 a3 a4 a5 a6 a7 a8 a9 a10 a11 a12 a13 a14 a15 a16 a17 a18 a19 := by
  unfold wL_lawOf_76
  refine rx_group e1 e2 h30 h31 h32 h40 h41 h42 h50 (fun r b2 b3 b4 b5 g30 g31 g32 g33 g34 g40 g41 g42 g43 g44 g51 => ?_)
  refine rx_define 5 (by omega) e1 (fun r b6 b7 b8 q6 q65 q7 q8 => ?_)
  have K : rx_K k c b6 b7 b8 := ⟨(q6 0 (by omega)).trans g30, (q6 1 (by omega)).trans g31, (q6 2 (by omega)).trans g32, (q6 3 (by omega)).trans g33, (q6 4 (by omega)).trans g34, q65,
    (q7 0 (by omega)).trans g40, (q7 1 (by omega)).trans g41, (q7 2 (by omega)).trans g42, (q7 3 (by omega)).trans g43, (q7 4 (by omega)).trans g44, (q8 1 (by omega)).trans g51⟩
  have E' := E (upd (upd (upd a9 0 u) 1 v) 2 w) ((pk_un (by decide)).trans ((pk_un (by decide)).trans pk_us)) ((pk_un (by decide)).trans pk_us) pk_us
  refine rx_feed 0 (by omega) u0 u2 (fun r => ?_)
  refine rx_feed 1 (by omega) v0 v2 (fun r => ?_)
  refine rx_feed 2 (by omega) w0 w2 (fun r => ?_)
  refine rx_end (en 0) hk K h7 (E' 0 (by omega)) (fun fc fx fw a10 a11 a12 a13 a14 a15 a16 a17 a18 a19 => ?_)
  refine rx_grp (en 0) hk K h7 (E' 0 (by omega)) (fun fc fx fw a10 a11 a12 a13 a14 a15 a16 a17 a18 a19 => ?_)
  exact rx_longest en hk K h7 E' hR (fun fc fx fw fe a10 a11 a12 a13 a14 a15 a16 a17 a18 a19 => fin)
theorem rx_27 {post : Int32 → St0 → Prop} {mc ms kc ks : Nat} (hp : post 1 ()) {p1 p2 p3 z0 : Int32} (c : Nat) (hc : c < 3) (hz : z0 = 0 ∨ z0 = 1) :
    wL_lawOf_27 post mc ms p1 p2 p3 (nI c) z0 kc ks (nI 0) (nI 0) (nI 0) fs (nI 0) fc fx fw fe a1 a2 a3 a4 a5 a6 a7 a8 a9 a10 a11 a12 a13 a14 a15 a16 a17 a18 a19 := by
  obtain ⟨u, hu, eu⟩ := rx_rem p1
  obtain ⟨v, hv, ev⟩ := rx_rem p2
  obtain ⟨w, hw, ew⟩ := rx_rem p3
  have lo : ∀ j : Nat, j < 3 → ¬ nI j < 0 := fun j hj => nI_pos (by omega)
  have hi : ∀ j : Nat, j < 3 → nI j ≤ 2 := fun j hj => nI_le (b := 2) (by omega) (by omega)
  have h7 : ¬ nI c = 3 := fun z => absurd ((nI_eq (b := 3) (by omega) (by omega)).mp z) (by omega)
  unfold wL_lawOf_27
  refine ⟨by decide, nm_r eu ⟨by decide, nm_r ev ⟨by decide, nm_r ew ?_⟩⟩⟩
  refine rx_letter (lo c hc) (hi c hc) (fun r b1 b2 b3 b4 b5 e1 e2 e3 e4 => ?_)
  rcases hz with z | z
  · subst z
    refine br_t rfl ?_
    unfold wpX_star
    refine rx_repeat (Or.inr ⟨rfl, rfl⟩) e1 e3 e4 (fun b3 b4 b5 g30 g31 g32 g40 g41 g42 g50 => ?_)
    refine rx_76 (rx_e5 (decide (nI c = nI u)) (decide (nI c = nI v)) (decide (nI c = nI w))) (Or.inl rfl) h7 (lo u hu) (hi u hu) (lo v hv) (hi v hv) (lo w hw) (hi w hw)
      (fun t t0 t1 t2 i h => Or.inr ⟨rfl, rx_run (fun j => nI c = t j) _ _ _ (by rw [t0]; exact decide_eq_true_iff) (by rw [t1]; exact decide_eq_true_iff) (by rw [t2]; exact decide_eq_true_iff) i h⟩)
      (rx_L5 _ _ _) e1 e2 g30 g31 g32 g40 g41 g42 g50 (rx_fin5 hp _ _ _ decide_eq_true_iff decide_eq_true_iff decide_eq_true_iff)
  · subst z
    refine br_f (by decide) ?_
    unfold wpX_lazy
    refine rx_repeat (Or.inl ⟨rfl, rfl⟩) e1 e3 e4 (fun b3 b4 b5 g30 g31 g32 g40 g41 g42 g50 => ?_)
    exact rx_76 (fun i => i) (Or.inr rfl) h7 (lo u hu) (hi u hu) (lo v hv) (hi v hv) (lo w hw) (hi w hw) (fun t t0 t1 t2 i h => Or.inl ⟨rfl, rfl⟩) rx_L6 e1 e2 g30 g31 g32 g40 g41 g42 g50 (rx_fin6 hp)
end
theorem rx_lawOf {post : Int32 → St0 → Prop} (hp : post 1 ()) (p0 p1 p2 p3 : Int32) : wpL_lawOf post 20 7550 () p0 p1 p2 p3 := by
  obtain ⟨c, hc, ec⟩ := rx_rem p0
  unfold wpL_lawOf
  refine ⟨by omega, by omega, 19, 7522, by omega, by omega, ?_⟩
  unfold wpX_init
  refine ⟨by omega, by omega, by omega, by omega, by omega, by omega, by omega, by omega, by omega, by omega, by omega, by omega, by omega, by omega, by omega, by omega, by omega, by omega, by omega, by omega, by omega, by omega, by omega, by omega, by omega, by omega, by omega, by omega, by omega, by omega, by omega, by omega, by omega, by omega, by omega, by omega, by omega, by omega, nm_e ?_⟩
  refine And.intro (by decide) (nm_r ec ?_)
  exact br_c (fun _ => rx_27 hp c hc (Or.inl rfl)) (fun _ => rx_27 hp c hc (Or.inr rfl))
end
section
theorem rx_cell {post : Int32 → Prop} {L : Nat} {xs : Nat → Int32} {u : St0} (k : Nat) (hL : L ≤ 4) (hk : k ≤ 3) (H : ∀ r, post r) : wpL_cellAt post L xs u (nI k) := by
  unfold wpL_cellAt
  exact pk_le L k (fun _ => H 0) (fun z => ⟨pk_in k L z, H _⟩)
theorem i_vc (xs : Nat → Int32) (L : Nat) (hL : L ≤ 4) : wpL_law (fun r => r = 1) L xs := by
  unfold wpL_law
  refine rx_cell 0 hL (by omega) (fun r1 => ?_)
  refine rx_cell 1 hL (by omega) (fun r2 => ?_)
  refine rx_cell 2 hL (by omega) (fun r3 => ?_)
  refine rx_cell 3 hL (by omega) (fun r4 => ?_)
  exact ⟨20, 7550, by omega, by omega, rx_lawOf rfl r1 r2 r3 r4⟩
end
