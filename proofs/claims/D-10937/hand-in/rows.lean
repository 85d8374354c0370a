section
/-! ===== the picture: what the store holds, in plain words ===== -/
/-- all places hold 0 -/
def cs_Z (f : Nat → Int32) : Prop := ∀ j, f j = 0
theorem cs_Z0 : cs_Z (fun _ => 0) := fun _ => rfl
theorem cs_Zu {f : Nat → Int32} {k : Nat} {x : Int32} (h : cs_Z f) (hx : x = 0) : cs_Z (upd f k x) := by
  intro j
  by_cases e : j = k
  · rw [e, pk_us, hx]
  · rw [pk_un e]
    exact h j
/-- g' is g but for i places from d on, which hold what src holds from s on -/
def cs_cp (g g' src : Nat → Int32) (d s i : Nat) : Prop := (∀ j, j < i → g' (d + j) = src (s + j)) ∧ (∀ j, j < d ∨ d + i ≤ j → g' j = g j)
theorem cs_cp0 {g src : Nat → Int32} {d s : Nat} : cs_cp g g src d s 0 := ⟨fun j h => absurd h (by omega), fun j _ => rfl⟩
theorem cs_cpS {g g' src : Nat → Int32} {d s i k : Nat} {x : Int32} (h : cs_cp g g' src d s i) (hk : k = d + i) (hx : x = src (s + i)) : cs_cp g (upd g' k x) src d s (i + 1) := by
  subst hk hx
  refine ⟨fun j hj => ?_, fun j hj => ?_⟩
  · by_cases e : j = i
    · rw [e, pk_us]
    · have e' : d + j ≠ d + i := by omega
      rw [pk_un e']
      exact h.1 j (by omega)
  · have e' : j ≠ d + i := by omega
    rw [pk_un e']
    exact h.2 j (by omega)
theorem cs_ix (f i : Nat) : 4 * nI f + nI i = nI (4 * f + i) := by
  show nI 4 * nI f + nI i = nI (4 * f + i)
  rw [pk_mul, nI_add]
theorem cs_cl {f i : Nat} (h : 4 * f + i < 1000) : (4 * nI f + nI i).toNatClampNeg = 4 * f + i := pk_cl (4 * f + i) (cs_ix f i)
theorem cs_m1 : ∀ n, n < 16 → nI n ≠ -1 := by decide +kernel
theorem cs_inj {n m : Nat} (hn : n < 16) (hm : m < 16) (e : nI n = nI m) : n = m := (nI_eq (by omega) (by omega)).mp e
/-- the copy on disk of a slot: the present log's, else the home place -/
def cs_D (a2 a6 a9 : Nat → Int32) (n s : Nat) : Int32 := if a9 n = 0 then a2 (4 * n + s) else a6 (4 * n + s)
/-- the store whose slots hold the targets T: all stamps, versions and frozen are 0; a frame holds nothing or its node's slots; no node lies in two frames; a node that no dirty frame holds is right on disk -/
def cs_J (T a1 a2 a3 a4 a5 a6 a7 a8 a9 a10 a11 a12 a13 a14 a15 a16 : Nat → Int32) : Prop :=
  (cs_Z a3 ∧ cs_Z a4 ∧ cs_Z a7 ∧ cs_Z a8 ∧ cs_Z a12 ∧ cs_Z a15 ∧ cs_Z a16) ∧
  (∀ f, f < 5 → a10 f = -1 ∨ ∃ n, n < 16 ∧ a10 f = nI n ∧ ∀ s, s < 4 → a14 (4 * f + s) = T (4 * n + s)) ∧
  (∀ f g n, f < 5 → g < 5 → n < 16 → a10 f = nI n → a10 g = nI n → f = g) ∧
  (∀ n, n < 16 → (∀ f, f < 5 → a10 f = nI n → a11 f = 0) → ∀ s, s < 4 → cs_D a2 a6 a9 n s = T (4 * n + s))
theorem cs_slot {T a1 a2 a3 a4 a5 a6 a7 a8 a9 a10 a11 a12 a13 a14 a15 a16 : Nat → Int32} {f n s : Nat} (J : cs_J T a1 a2 a3 a4 a5 a6 a7 a8 a9 a10 a11 a12 a13 a14 a15 a16) (hf : f < 5) (hn : n < 16) (en : a10 f = nI n) (hs : s < 4) : a14 (4 * f + s) = T (4 * n + s) := by
  rcases J.2.1 f hf with e | ⟨m, hm, em, h⟩
  · rw [en] at e
    exact absurd e (cs_m1 n hn)
  · rw [en] at em
    rw [cs_inj hn hm em]
    exact h s hs
/-- a frame is given up: it was empty or clean -/
theorem cs_Je0 {T a1 a2 a3 a4 a5 a6 a7 a8 a9 a10 a11 a12 a13 a14 a15 a16 : Nat → Int32} {f : Nat} (J : cs_J T a1 a2 a3 a4 a5 a6 a7 a8 a9 a10 a11 a12 a13 a14 a15 a16) (hf : f < 5) (hd : a10 f = -1 ∨ a11 f = 0) : cs_J T a1 a2 a3 a4 a5 a6 a7 a8 a9 (upd a10 f (-1)) a11 a12 a13 a14 a15 a16 := by
  obtain ⟨z, j1, j2, j3⟩ := J
  refine ⟨z, fun g hg => ?_, fun g k n hg hk hn e1 e2 => ?_, fun n hn hc => ?_⟩
  · by_cases e : g = f
    · left
      rw [e, pk_us]
    · rw [pk_un e]
      exact j1 g hg
  · by_cases e : g = f
    · rw [e, pk_us] at e1
      exact absurd e1.symm (cs_m1 n hn)
    · by_cases e' : k = f
      · rw [e', pk_us] at e2
        exact absurd e2.symm (cs_m1 n hn)
      · rw [pk_un e] at e1
        rw [pk_un e'] at e2
        exact j2 g k n hg hk hn e1 e2
  · refine j3 n hn (fun g hg eg => ?_)
    by_cases e : g = f
    · rcases hd with hd | hd
      · rw [e, hd] at eg
        exact absurd eg.symm (cs_m1 n hn)
      · rw [e]
        exact hd
    · exact hc g hg (by rw [pk_un e]; exact eg)
/-- a dirty frame is written to the present log and given up -/
theorem cs_Je1 {T a1 a2 a3 a4 a5 a6 a7 a8 a9 a10 a11 a12 a13 a14 a15 a16 b5 b6 b7 b8 : Nat → Int32} {f n : Nat} (J : cs_J T a1 a2 a3 a4 a5 a6 a7 a8 a9 a10 a11 a12 a13 a14 a15 a16) (hf : f < 5) (hn : n < 16) (en : a10 f = nI n) (hc : cs_cp a6 b6 a14 (4 * n) (4 * f) 4) (z7 : cs_Z b7) (z8 : cs_Z b8) :
    cs_J T a1 a2 a3 a4 b5 b6 b7 b8 (upd a9 n 1) (upd a10 f (-1)) (upd a11 f 0) a12 a13 a14 a15 a16 := by
  have hs := fun s (h : s < 4) => cs_slot J hf hn en h
  obtain ⟨⟨q1, q2, q3, q4, q5, q6, q7⟩, j1, j2, j3⟩ := J
  refine ⟨⟨q1, q2, z7, z8, q5, q6, q7⟩, fun g hg => ?_, fun g k m hg hk hm e1 e2 => ?_, fun m hm hd s h4 => ?_⟩
  · by_cases e : g = f
    · left
      rw [e, pk_us]
    · rw [pk_un e]
      exact j1 g hg
  · by_cases e : g = f
    · rw [e, pk_us] at e1
      exact absurd e1.symm (cs_m1 m hm)
    · by_cases e' : k = f
      · rw [e', pk_us] at e2
        exact absurd e2.symm (cs_m1 m hm)
      · rw [pk_un e] at e1
        rw [pk_un e'] at e2
        exact j2 g k m hg hk hm e1 e2
  · unfold cs_D
    by_cases e : m = n
    · subst e
      rw [pk_us, if_neg (by decide), hc.1 s h4]
      exact hs s h4
    · have ho : 4 * m + s < 4 * n ∨ 4 * n + 4 ≤ 4 * m + s := by omega
      rw [pk_un e, hc.2 _ ho]
      refine j3 m hm (fun g hg eg => ?_) s h4
      have eg' : g ≠ f := by
        intro x
        rw [x, en] at eg
        exact e (cs_inj hn hm eg).symm
      have t := hd g hg (by rw [pk_un eg']; exact eg)
      rw [pk_un eg'] at t
      exact t
/-- a node is loaded into a frame that is free -/
theorem cs_Jl {T a1 a2 a3 a4 a5 a6 a7 a8 a9 a10 a11 a12 a13 a14 a15 a16 b13 b14 b15 b16 : Nat → Int32} {f n : Nat} (J : cs_J T a1 a2 a3 a4 a5 a6 a7 a8 a9 a10 a11 a12 a13 a14 a15 a16) (hf : f < 5) (hn : n < 16) (e1 : a10 f = -1) (ne : ∀ g, g < 5 → ¬ a10 g = nI n)
    (hc : ∀ s, s < 4 → b14 (4 * f + s) = cs_D a2 a6 a9 n s) (ho : ∀ j, j < 4 * f ∨ 4 * f + 4 ≤ j → b14 j = a14 j) (z15 : cs_Z b15) (z16 : cs_Z b16) :
    cs_J T a1 a2 a3 a4 a5 a6 a7 a8 a9 (upd a10 f (nI n)) (upd a11 f 0) (upd a12 f 0) b13 b14 b15 b16 := by
  obtain ⟨⟨q1, q2, q3, q4, q5, q6, q7⟩, j1, j2, j3⟩ := J
  refine ⟨⟨q1, q2, q3, q4, cs_Zu q5 rfl, z15, z16⟩, fun g hg => ?_, fun g k m hg hk hm e2 e3 => ?_, fun m hm hd => ?_⟩
  · by_cases e : g = f
    · right
      refine ⟨n, hn, by rw [e, pk_us], fun s hs => ?_⟩
      rw [e, hc s hs]
      exact j3 n hn (fun k hk ek => absurd ek (ne k hk)) s hs
    · rw [pk_un e]
      rcases j1 g hg with l | ⟨m, hm, em, h⟩
      · exact Or.inl l
      · refine Or.inr ⟨m, hm, em, fun s hs => ?_⟩
        rw [ho _ (by omega)]
        exact h s hs
  · by_cases e : g = f
    · by_cases e' : k = f
      · rw [e, e']
      · rw [e, pk_us] at e2
        rw [pk_un e', ← e2] at e3
        exact absurd e3 (ne k hk)
    · by_cases e' : k = f
      · rw [e', pk_us] at e3
        rw [pk_un e, ← e3] at e2
        exact absurd e2 (ne g hg)
      · rw [pk_un e] at e2
        rw [pk_un e'] at e3
        exact j2 g k m hg hk hm e2 e3
  · refine j3 m hm (fun g hg eg => ?_)
    have eg' : g ≠ f := by
      intro x
      rw [x, e1] at eg
      exact cs_m1 m hm eg.symm
    have t := hd g hg (by rw [pk_un eg']; exact eg)
    rw [pk_un eg'] at t
    exact t
/-- a slot is written in its frame, which is dirty then -/
theorem cs_Jp {T a1 a2 a3 a4 a5 a6 a7 a8 a9 a10 a11 a12 a13 a14 a15 a16 b13 : Nat → Int32} {f n s k : Nat} {v : Int32} (J : cs_J T a1 a2 a3 a4 a5 a6 a7 a8 a9 a10 a11 a12 a13 a14 a15 a16) (hf : f < 5) (hn : n < 16) (hs : s < 4) (en : a10 f = nI n) :
    cs_J (upd T (4 * n + s) v) a1 a2 a3 a4 a5 a6 a7 a8 a9 a10 (upd a11 f 1) a12 b13 (upd a14 (4 * f + s) v) (upd a15 k 0) a16 := by
  obtain ⟨⟨q1, q2, q3, q4, q5, q6, q7⟩, j1, j2, j3⟩ := J
  refine ⟨⟨q1, q2, q3, q4, q5, cs_Zu q6 rfl, q7⟩, fun g hg => ?_, j2, fun m hm hd r h4 => ?_⟩
  · rcases j1 g hg with l | ⟨m, hm, em, h⟩
    · exact Or.inl l
    · refine Or.inr ⟨m, hm, em, fun r hr => ?_⟩
      by_cases e : g = f
      · have e' : m = n := by
          rw [e, en] at em
          exact (cs_inj hn hm em).symm
        subst e e'
        by_cases e2 : r = s
        · rw [e2, pk_us, pk_us]
        · have x1 : 4 * g + r ≠ 4 * g + s := by omega
          have x2 : 4 * m + r ≠ 4 * m + s := by omega
          rw [pk_un x1, pk_un x2]
          exact h r hr
      · have e' : m ≠ n := by
          intro x
          rw [x] at em
          exact e (j2 g f n hg hf hn em en)
        have x1 : 4 * g + r ≠ 4 * f + s := by omega
        have x2 : 4 * m + r ≠ 4 * n + s := by omega
        rw [pk_un x1, pk_un x2]
        exact h r hr
  · have e' : m ≠ n := by
      intro x
      have t := hd f hf (by rw [en, x])
      rw [pk_us] at t
      exact absurd t (by decide)
    have x2 : 4 * m + r ≠ 4 * n + s := by omega
    rw [pk_un x2]
    refine j3 m hm (fun g hg eg => ?_) r h4
    have eg' : g ≠ f := by
      intro x
      rw [x, en] at eg
      exact e' (cs_inj hn hm eg).symm
    have t := hd g hg eg
    rw [pk_un eg'] at t
    exact t
end
section
/-! ===== frames: save, evict, load, frameFor ===== -/
/-- the loop of save -/
theorem cs_s39 {post : St2 → Prop} {m h o p : Int32} {a1 a2 a3 a4 a5 a6 a7 a8 a9 a10 a11 a12 a13 a14 a15 a16 : Nat → Int32} {f e : Nat} (hf : f < 5) (he : e < 48) (z15 : cs_Z a15) (z7 : cs_Z a7)
    (H : ∀ b5 b6 b7, cs_cp a6 b6 a14 (4 * e) (4 * f) 4 → cs_Z b7 → post (m, h, o, p, a1, a2, a3, a4, b5, b6, b7, a8, a9, a10, a11, a12, a13, a14, a15, a16)) : ∃ n, wX_save_39 post (nI f) (nI e) m h o p n 0 a1 a2 a3 a4 a5 a6 a7 a8 a9 a10 a11 a12 a13 a14 a15 a16 := by
  refine pk_loop (σ := (Nat → Int32) × (Nat → Int32) × (Nat → Int32)) (fun n i s => wX_save_39 post (nI f) (nI e) m h o p n (nI i) a1 a2 a3 a4 s.1 s.2.1 s.2.2 a8 a9 a10 a11 a12 a13 a14 a15 a16) (fun i s => cs_cp a6 s.2.1 a14 (4 * e) (4 * f) i ∧ cs_Z s.2.2) 4 0 (a5, a6, a7) (by omega) ⟨cs_cp0, z7⟩ ?_ ?_
  · intro n s k
    exact pk_le 4 4 (fun _ => H _ _ _ k.1 k.2) (fun z => absurd z (by omega))
  · intro n i s hi k hw
    have e1 := cs_ix f i
    have e2 := cs_ix e i
    have c1 := cs_cl (f := f) (i := i) (by omega)
    have c2 := cs_cl (f := e) (i := i) (by omega)
    refine pk_le 4 i (fun z => absurd z (by omega)) (fun _ => ⟨pk_in (4 * f + i) 20 (by omega) e1, pk_in (4 * e + i) 192 (by omega) e2, nm_e ⟨pk_in (4 * f + i) 20 (by omega) e1, pk_in (4 * e + i) 192 (by omega) e2, nm_e ⟨pk_in (4 * f + i) 20 (by omega) e1, pk_in (4 * e + i) 192 (by omega) e2, nm_e (nm_r (nI_1 i) (hw (_, _, _) ⟨?_, ?_⟩))⟩⟩⟩)
    · exact cs_cpS k.1 c2 (by rw [c1])
    · exact cs_Zu k.2 (z15 _)
/-- a frame is written to the log 0 -/
theorem cs_save {post : St2 → Prop} {m h o p : Int32} {a1 a2 a3 a4 a5 a6 a7 a8 a9 a10 a11 a12 a13 a14 a15 a16 : Nat → Int32} {f n : Nat} (hf : f < 5) (hn : n < 16) (en : a10 f = nI n) (z15 : cs_Z a15) (z7 : cs_Z a7)
    (H : ∀ b5 b6 b7, cs_cp a6 b6 a14 (4 * n) (4 * f) 4 → cs_Z b7 → post (m, h, o, p, a1, a2, a3, a4, b5, b6, b7, upd a8 n (a16 f), upd a9 n 1, a10, a11, a12, a13, a14, a15, a16)) : wpX_save post (m, h, o, p, a1, a2, a3, a4, a5, a6, a7, a8, a9, a10, a11, a12, a13, a14, a15, a16) (nI f) 0 := by
  have c : (nI f).toNatClampNeg = f := nI_clamp (by omega)
  have cn : (nI n).toNatClampNeg = n := nI_clamp (by omega)
  have e16 : (16 : Int32) * 0 + nI n = nI n := by rw [show (16 : Int32) * 0 = 0 by decide, Int32.zero_add]
  unfold wpX_save
  dsimp only
  rw [c]
  refine ⟨pk_in f 5 hf, nm_r en (nm_r e16 ⟨pk_in n 48 (by omega), nm_r (by rw [cn]) ⟨pk_in f 5 hf, pk_in n 48 (by omega), nm_r (by rw [cn]) ?_⟩⟩)⟩
  exact cs_s39 hf (by omega) z15 z7 H
/-- a frame is given up -/
theorem cs_evict {post : St2 → Prop} {T a1 a2 a3 a4 a5 a6 a7 a8 a9 a10 a11 a12 a13 a14 a15 a16 : Nat → Int32} {h : Int32} {f : Nat} (hf : f < 5) (J : cs_J T a1 a2 a3 a4 a5 a6 a7 a8 a9 a10 a11 a12 a13 a14 a15 a16)
    (H : ∀ b5 b6 b7 b8 b9 b11, cs_J T a1 a2 a3 a4 b5 b6 b7 b8 b9 (upd a10 f (-1)) b11 a12 a13 a14 a15 a16 → post (-1, h, -1, 0, a1, a2, a3, a4, b5, b6, b7, b8, b9, upd a10 f (-1), b11, a12, a13, a14, a15, a16)) :
    wpX_evict post (-1, h, -1, 0, a1, a2, a3, a4, a5, a6, a7, a8, a9, a10, a11, a12, a13, a14, a15, a16) (nI f) := by
  have c : (nI f).toNatClampNeg = f := nI_clamp (by omega)
  obtain ⟨q1, q2, q3, q4, q5, q6, q7⟩ := J.1
  unfold wpX_evict
  dsimp only
  rw [c]
  refine ⟨pk_in f 5 hf, ?_⟩
  rcases J.2.1 f hf with e | ⟨n, hn, e, _⟩
  · refine br_t (by rw [e]; decide) ⟨pk_in f 5 hf, nm_e ?_⟩
    exact H _ _ _ _ _ _ (cs_Je0 J hf (Or.inl e))
  · refine br_f (by rw [e]; exact nI_pos (by omega)) ⟨pk_in f 5 hf, ?_⟩
    by_cases d : a11 f = 0
    · refine br_t d ⟨pk_in f 5 hf, nm_e ?_⟩
      exact H _ _ _ _ _ _ (cs_Je0 J hf (Or.inr d))
    · refine br_f d ⟨pk_in f 5 hf, br_t (q5 f) ?_⟩
      refine cs_save hf hn e q6 q3 (fun b5 b6 b7 hc z7 => ?_)
      refine ⟨pk_in f 5 hf, nm_e ⟨pk_in f 5 hf, nm_e ?_⟩⟩
      exact H _ _ _ _ _ _ (cs_Je1 J hf hn e hc z7 (cs_Zu q4 (q7 f)))
/-- the loop of load -/
theorem cs_l62 {post : St2 → Prop} {m h o p : Int32} {a1 a2 a3 a4 a5 a6 a7 a8 a9 a10 a11 a12 a13 a14 a15 a16 : Nat → Int32} {f e : Nat} (hf : f < 5) (he : e < 48) (z15 : cs_Z a15) (z7 : cs_Z a7)
    (H : ∀ b13 b14 b15, cs_cp a14 b14 a6 (4 * f) (4 * e) 4 → cs_Z b15 → post (m, h, o, p, a1, a2, a3, a4, a5, a6, a7, a8, a9, a10, a11, a12, b13, b14, b15, a16)) : ∃ n, wX_load_62 post (nI f) (nI e) m h o p n 0 a1 a2 a3 a4 a5 a6 a7 a8 a9 a10 a11 a12 a13 a14 a15 a16 := by
  refine pk_loop (σ := (Nat → Int32) × (Nat → Int32) × (Nat → Int32)) (fun n i s => wX_load_62 post (nI f) (nI e) m h o p n (nI i) a1 a2 a3 a4 a5 a6 a7 a8 a9 a10 a11 a12 s.1 s.2.1 s.2.2 a16) (fun i s => cs_cp a14 s.2.1 a6 (4 * f) (4 * e) i ∧ cs_Z s.2.2) 4 0 (a13, a14, a15) (by omega) ⟨cs_cp0, z15⟩ ?_ ?_
  · intro n s k
    exact pk_le 4 4 (fun _ => H _ _ _ k.1 k.2) (fun z => absurd z (by omega))
  · intro n i s hi k hw
    have e1 := cs_ix f i
    have e2 := cs_ix e i
    have c1 := cs_cl (f := f) (i := i) (by omega)
    have c2 := cs_cl (f := e) (i := i) (by omega)
    refine pk_le 4 i (fun z => absurd z (by omega)) (fun _ => ⟨pk_in (4 * e + i) 192 (by omega) e2, pk_in (4 * f + i) 20 (by omega) e1, nm_e ⟨pk_in (4 * e + i) 192 (by omega) e2, pk_in (4 * f + i) 20 (by omega) e1, nm_e ⟨pk_in (4 * e + i) 192 (by omega) e2, pk_in (4 * f + i) 20 (by omega) e1, nm_e (nm_r (nI_1 i) (hw (_, _, _) ⟨?_, ?_⟩))⟩⟩⟩)
    · exact cs_cpS k.1 c1 (by rw [c2])
    · exact cs_Zu k.2 (z7 _)
/-- the loop of loadHome -/
theorem cs_h14 {post : St2 → Prop} {m h o p : Int32} {a1 a2 a3 a4 a5 a6 a7 a8 a9 a10 a11 a12 a13 a14 a15 a16 : Nat → Int32} {f e : Nat} (hf : f < 5) (he : e < 16) (z15 : cs_Z a15) (z3 : cs_Z a3)
    (H : ∀ b13 b14 b15, cs_cp a14 b14 a2 (4 * f) (4 * e) 4 → cs_Z b15 → post (m, h, o, p, a1, a2, a3, a4, a5, a6, a7, a8, a9, a10, a11, a12, b13, b14, b15, a16)) : ∃ n, wX_loadHome_14 post (nI f) (nI e) m h o p n 0 a1 a2 a3 a4 a5 a6 a7 a8 a9 a10 a11 a12 a13 a14 a15 a16 := by
  refine pk_loop (σ := (Nat → Int32) × (Nat → Int32) × (Nat → Int32)) (fun n i s => wX_loadHome_14 post (nI f) (nI e) m h o p n (nI i) a1 a2 a3 a4 a5 a6 a7 a8 a9 a10 a11 a12 s.1 s.2.1 s.2.2 a16) (fun i s => cs_cp a14 s.2.1 a2 (4 * f) (4 * e) i ∧ cs_Z s.2.2) 4 0 (a13, a14, a15) (by omega) ⟨cs_cp0, z15⟩ ?_ ?_
  · intro n s k
    exact pk_le 4 4 (fun _ => H _ _ _ k.1 k.2) (fun z => absurd z (by omega))
  · intro n i s hi k hw
    have e1 := cs_ix f i
    have e2 := cs_ix e i
    have c1 := cs_cl (f := f) (i := i) (by omega)
    have c2 := cs_cl (f := e) (i := i) (by omega)
    refine pk_le 4 i (fun z => absurd z (by omega)) (fun _ => ⟨pk_in (4 * e + i) 64 (by omega) e2, pk_in (4 * f + i) 20 (by omega) e1, nm_e ⟨pk_in (4 * e + i) 64 (by omega) e2, pk_in (4 * f + i) 20 (by omega) e1, nm_e ⟨pk_in (4 * e + i) 64 (by omega) e2, pk_in (4 * f + i) 20 (by omega) e1, nm_e (nm_r (nI_1 i) (hw (_, _, _) ⟨?_, ?_⟩))⟩⟩⟩)
    · exact cs_cpS k.1 c1 (by rw [c2])
    · exact cs_Zu k.2 (z3 _)
/-- a node is loaded into a free frame -/
theorem cs_load {post : St2 → Prop} {T a1 a2 a3 a4 a5 a6 a7 a8 a9 a10 a11 a12 a13 a14 a15 a16 : Nat → Int32} {h : Int32} {f n : Nat} (hf : f < 5) (hn : n < 16) (J : cs_J T a1 a2 a3 a4 a5 a6 a7 a8 a9 a10 a11 a12 a13 a14 a15 a16) (e1 : a10 f = -1) (ne : ∀ g, g < 5 → ¬ a10 g = nI n)
    (H : ∀ b11 b12 b13 b14 b15 b16, cs_J T a1 a2 a3 a4 a5 a6 a7 a8 a9 (upd a10 f (nI n)) b11 b12 b13 b14 b15 b16 → post (-1, h, -1, 0, a1, a2, a3, a4, a5, a6, a7, a8, a9, upd a10 f (nI n), b11, b12, b13, b14, b15, b16)) :
    wpX_load post (-1, h, -1, 0, a1, a2, a3, a4, a5, a6, a7, a8, a9, a10, a11, a12, a13, a14, a15, a16) (nI f) (nI n) := by
  have c : (nI f).toNatClampNeg = f := nI_clamp (by omega)
  have cn : (nI n).toNatClampNeg = n := nI_clamp (by omega)
  have e16 : (16 : Int32) * 0 + nI n = nI n := by rw [show (16 : Int32) * 0 = 0 by decide, Int32.zero_add]
  obtain ⟨q1, q2, q3, q4, q5, q6, q7⟩ := J.1
  unfold wpX_load
  dsimp only
  rw [c]
  refine ⟨pk_in f 5 hf, nm_e ⟨pk_in f 5 hf, nm_e ⟨pk_in f 5 hf, nm_e ?_⟩⟩⟩
  unfold wpX_newestLog
  dsimp only
  rw [e16, cn]
  refine ⟨pk_in n 48 (by omega), ?_⟩
  by_cases d : a9 n = 0
  · refine br_t d (br_t (by decide) (br_t (by decide) (br_f (by decide) ?_)))
    unfold wpX_loadHome
    dsimp only
    rw [c, cn]
    refine ⟨pk_in n 16 (by omega), pk_in f 5 hf, nm_e ?_⟩
    refine cs_h14 hf hn q6 q1 (fun b13 b14 b15 hc z15 => ?_)
    refine H _ _ _ _ _ _ (cs_Jl J hf hn e1 ne (fun s hs => ?_) hc.2 z15 (cs_Zu q7 (q2 n)))
    unfold cs_D
    rw [if_pos d]
    exact hc.1 s hs
  · refine br_f d (br_t (by decide) (nm_e ⟨pk_in n 48 (by omega), pk_in f 5 hf, nm_e ?_⟩))
    refine cs_l62 hf (by omega) q6 q3 (fun b13 b14 b15 hc z15 => ?_)
    refine H _ _ _ _ _ _ (cs_Jl J hf hn e1 ne (fun s hs => ?_) hc.2 z15 (cs_Zu q7 (q4 _)))
    unfold cs_D
    rw [if_neg d]
    exact hc.1 s hs
/-- a method keeps the picture T and answers with a frame -/
theorem cs_ff49 {post : Int32 → St2 → Prop} {T a1 a2 a3 a4 a5 a6 a7 a8 a9 a10 a11 a12 a13 a14 a15 a16 : Nat → Int32} {h z : Int32} {f n : Nat} (hf : f < 5) (hn : n < 16) (J : cs_J T a1 a2 a3 a4 a5 a6 a7 a8 a9 a10 a11 a12 a13 a14 a15 a16) (ne : ∀ g, g < 5 → ¬ a10 g = nI n)
    (H : ∀ b1 b2 b3 b4 b5 b6 b7 b8 b9 b10 b11 b12 b13 b14 b15 b16, cs_J T b1 b2 b3 b4 b5 b6 b7 b8 b9 b10 b11 b12 b13 b14 b15 b16 → b10 f = nI n → post (nI f) (-1, z, -1, 0, b1, b2, b3, b4, b5, b6, b7, b8, b9, b10, b11, b12, b13, b14, b15, b16)) : wX_frameFor_49 post (nI n) (nI f) z (-1) h (-1) 0 a1 a2 a3 a4 a5 a6 a7 a8 a9 a10 a11 a12 a13 a14 a15 a16 := by
  unfold wX_frameFor_49
  refine cs_evict hf J (fun b5 b6 b7 b8 b9 b11 K => ?_)
  refine cs_load hf hn K pk_us (fun g hg x => ?_) (fun c11 c12 c13 c14 c15 c16 K' => ?_)
  · by_cases e : g = f
    · rw [e, pk_us] at x
      exact cs_m1 n hn x.symm
    · rw [pk_un e] at x
      exact ne g hg x
  · exact H _ _ _ _ _ _ _ _ _ _ _ _ _ _ _ _ K' pk_us
theorem cs_frameFor {post : Int32 → St2 → Prop} {T a1 a2 a3 a4 a5 a6 a7 a8 a9 a10 a11 a12 a13 a14 a15 a16 : Nat → Int32} {h n : Nat} (hh : h < 5) (hn : n < 16) (J : cs_J T a1 a2 a3 a4 a5 a6 a7 a8 a9 a10 a11 a12 a13 a14 a15 a16)
    (H : ∀ f k b1 b2 b3 b4 b5 b6 b7 b8 b9 b10 b11 b12 b13 b14 b15 b16, f < 5 → k < 5 → cs_J T b1 b2 b3 b4 b5 b6 b7 b8 b9 b10 b11 b12 b13 b14 b15 b16 → b10 f = nI n → post (nI f) (-1, nI k, -1, 0, b1, b2, b3, b4, b5, b6, b7, b8, b9, b10, b11, b12, b13, b14, b15, b16)) : wpX_frameFor post (-1, nI h, -1, 0, a1, a2, a3, a4, a5, a6, a7, a8, a9, a10, a11, a12, a13, a14, a15, a16) (nI n) := by
  show ∃ fu, wX_frameFor_2 post (nI n) (-1) (nI h) (-1) 0 a1 a2 a3 a4 a5 a6 a7 a8 a9 a10 a11 a12 a13 a14 a15 a16 fu 0
  refine pk_loop (σ := Unit) (fun fu i _ => wX_frameFor_2 post (nI n) (-1) (nI h) (-1) 0 a1 a2 a3 a4 a5 a6 a7 a8 a9 a10 a11 a12 a13 a14 a15 a16 fu (nI i)) (fun i _ => ∀ g, g < i → ¬ a10 g = nI n) 5 0 () (by omega) (fun g hg => absurd hg (by omega)) ?_ ?_
  · intro fu _ ne
    refine pk_le 5 5 (fun _ => ?_) (fun z => absurd z (by omega))
    refine pk_eq h 4 (fun e => ?_) (fun e => ?_)
    · exact cs_ff49 hh hn J ne (fun b1 b2 b3 b4 b5 b6 b7 b8 b9 b10 b11 b12 b13 b14 b15 b16 K k => H h 0 b1 b2 b3 b4 b5 b6 b7 b8 b9 b10 b11 b12 b13 b14 b15 b16 hh (by omega) K k)
    · rw [nI_1]
      exact cs_ff49 hh hn J ne (fun b1 b2 b3 b4 b5 b6 b7 b8 b9 b10 b11 b12 b13 b14 b15 b16 K k => H h (h + 1) b1 b2 b3 b4 b5 b6 b7 b8 b9 b10 b11 b12 b13 b14 b15 b16 hh (by omega) K k)
  · intro fu i _ hi ne hw
    have c : (nI i).toNatClampNeg = i := nI_clamp (by omega)
    refine pk_le 5 i (fun z => absurd z (by omega)) (fun _ => ⟨pk_in i 5 hi, ?_⟩)
    rw [c]
    refine br_c (fun e => H i h a1 a2 a3 a4 a5 a6 a7 a8 a9 a10 a11 a12 a13 a14 a15 a16 hi hh J e) (fun e => nm_r (nI_1 i) (hw () (fun g hg => ?_)))
    by_cases x : g = i
    · rw [x]
      exact e
    · exact ne g (by omega)
end
section
/-! ===== slots and calls ===== -/
theorem cs_versionOf {post : Int32 → St2 → Prop} {T a1 a2 a3 a4 a5 a6 a7 a8 a9 a10 a11 a12 a13 a14 a15 a16 : Nat → Int32} {h n : Nat} (hh : h < 5) (hn : n < 16) (J : cs_J T a1 a2 a3 a4 a5 a6 a7 a8 a9 a10 a11 a12 a13 a14 a15 a16)
    (H : ∀ k b1 b2 b3 b4 b5 b6 b7 b8 b9 b10 b11 b12 b13 b14 b15 b16, k < 5 → cs_J T b1 b2 b3 b4 b5 b6 b7 b8 b9 b10 b11 b12 b13 b14 b15 b16 → post 0 (-1, nI k, -1, 0, b1, b2, b3, b4, b5, b6, b7, b8, b9, b10, b11, b12, b13, b14, b15, b16)) : wpX_versionOf post (-1, nI h, -1, 0, a1, a2, a3, a4, a5, a6, a7, a8, a9, a10, a11, a12, a13, a14, a15, a16) (nI n) := by
  unfold wpX_versionOf
  dsimp only
  refine cs_frameFor hh hn J (fun f k b1 b2 b3 b4 b5 b6 b7 b8 b9 b10 b11 b12 b13 b14 b15 b16 hf hk K e => ?_)
  dsimp only
  refine ⟨pk_in f 5 hf, ?_⟩
  rw [K.1.2.2.2.2.2.2]
  exact H k b1 b2 b3 b4 b5 b6 b7 b8 b9 b10 b11 b12 b13 b14 b15 b16 hk K
theorem cs_put {post : St2 → Prop} {T a1 a2 a3 a4 a5 a6 a7 a8 a9 a10 a11 a12 a13 a14 a15 a16 : Nat → Int32} {h n s : Nat} {v w : Int32} (hh : h < 5) (hn : n < 16) (hs : s < 4) (J : cs_J T a1 a2 a3 a4 a5 a6 a7 a8 a9 a10 a11 a12 a13 a14 a15 a16)
    (H : ∀ k b1 b2 b3 b4 b5 b6 b7 b8 b9 b10 b11 b12 b13 b14 b15 b16, k < 5 → cs_J (upd T (4 * n + s) v) b1 b2 b3 b4 b5 b6 b7 b8 b9 b10 b11 b12 b13 b14 b15 b16 → post (-1, nI k, -1, 0, b1, b2, b3, b4, b5, b6, b7, b8, b9, b10, b11, b12, b13, b14, b15, b16)) : wpX_put post (-1, nI h, -1, 0, a1, a2, a3, a4, a5, a6, a7, a8, a9, a10, a11, a12, a13, a14, a15, a16) (nI n) (nI s) w v 0 := by
  unfold wpX_put
  dsimp only
  refine cs_frameFor hh hn J (fun f k b1 b2 b3 b4 b5 b6 b7 b8 b9 b10 b11 b12 b13 b14 b15 b16 hf hk K e => ?_)
  have c : (nI f).toNatClampNeg = f := nI_clamp (by omega)
  have c2 := cs_cl (f := f) (i := s) (by omega)
  have e2 := cs_ix f s
  dsimp only
  unfold wpX_makeWritable
  dsimp only
  rw [c, c2]
  refine ⟨pk_in f 5 hf, br_t (K.1.2.2.2.2.1 f) ⟨pk_in f 5 hf, nm_e ?_⟩⟩
  refine ⟨pk_in (4 * f + s) 20 (by omega) e2, nm_e ⟨pk_in (4 * f + s) 20 (by omega) e2, nm_e ⟨pk_in (4 * f + s) 20 (by omega) e2, nm_e ?_⟩⟩⟩
  exact H k _ _ _ _ _ _ _ _ _ _ _ _ _ _ _ _ hk (cs_Jp K hf hn hs e)
theorem cs_liveKey {post : Int32 → St2 → Prop} {T a1 a2 a3 a4 a5 a6 a7 a8 a9 a10 a11 a12 a13 a14 a15 a16 : Nat → Int32} {h n s : Nat} (hh : h < 5) (hn : n < 16) (hs : s < 4) (J : cs_J T a1 a2 a3 a4 a5 a6 a7 a8 a9 a10 a11 a12 a13 a14 a15 a16) (hT : T (4 * n + s) = -1 ∨ ∃ t, t < 16 ∧ T (4 * n + s) = nI t)
    (H : ∀ k b1 b2 b3 b4 b5 b6 b7 b8 b9 b10 b11 b12 b13 b14 b15 b16, k < 5 → cs_J T b1 b2 b3 b4 b5 b6 b7 b8 b9 b10 b11 b12 b13 b14 b15 b16 → post (T (4 * n + s)) (-1, nI k, -1, 0, b1, b2, b3, b4, b5, b6, b7, b8, b9, b10, b11, b12, b13, b14, b15, b16)) : wpX_liveKey post (-1, nI h, -1, 0, a1, a2, a3, a4, a5, a6, a7, a8, a9, a10, a11, a12, a13, a14, a15, a16) (nI n) (nI s) := by
  unfold wpX_liveKey
  dsimp only
  refine cs_frameFor hh hn J (fun f k b1 b2 b3 b4 b5 b6 b7 b8 b9 b10 b11 b12 b13 b14 b15 b16 hf hk K e => ?_)
  have c2 := cs_cl (f := f) (i := s) (by omega)
  have e2 := cs_ix f s
  dsimp only
  rw [c2, cs_slot K hf hn e hs, K.1.2.2.2.2.2.1]
  refine ⟨pk_in (4 * f + s) 20 (by omega) e2, nm_e ⟨pk_in (4 * f + s) 20 (by omega) e2, nm_e ?_⟩⟩
  rcases hT with e' | ⟨t, ht, e'⟩
  · refine br_f (by rw [e']; decide) ?_
    have g := H k b1 b2 b3 b4 b5 b6 b7 b8 b9 b10 b11 b12 b13 b14 b15 b16 hk K
    rw [e'] at g
    exact g
  · rw [e']
    rw [e'] at H
    refine br_t (nI_pos' (by omega)) ?_
    refine cs_versionOf hk ht K (fun k' c1 c2 c3 c4 c5 c6 c7 c8 c9 c10 c11 c12 c13 c14 c15 c16 hk' K' => ?_)
    dsimp only
    exact br_t rfl (H k' c1 c2 c3 c4 c5 c6 c7 c8 c9 c10 c11 c12 c13 c14 c15 c16 hk' K')
/-- no place of the store -/
def cs_bad (x y : Int32) : Prop := x < 0 ∨ 15 < x ∨ y < 0 ∨ 3 < y
def cs_out (x : Int32) : Prop := x < 0 ∨ 15 < x
theorem cs_fits0 {post : Int32 → Prop} {x y : Int32} (hb : cs_bad x y) (H : post 0) : wpX_fits post () x y :=
  br_c (fun _ => H) (fun h1 => br_c (fun _ => H) (fun h2 => br_c (fun _ => H) (fun h3 => br_c (fun _ => H) (fun h4 => absurd hb (fun z => z.elim h1 (fun z => z.elim h2 (fun z => z.elim h3 h4)))))))
theorem cs_fits1 {post : Int32 → Prop} {x y : Int32} (hb : ¬ cs_bad x y) (H : post 1) : wpX_fits post () x y :=
  br_f (fun z => hb (Or.inl z)) (br_f (fun z => hb (Or.inr (Or.inl z))) (br_f (fun z => hb (Or.inr (Or.inr (Or.inl z)))) (br_f (fun z => hb (Or.inr (Or.inr (Or.inr z)))) H)))
theorem cs_nb {n s : Nat} (hn : n < 16) (hs : s < 4) : ¬ cs_bad (nI n) (nI s) := by
  rintro (z | z | z | z)
  · exact nI_pos (by omega) z
  · exact nI_nlt (a := 15) (b := n) (by omega) (by decide) z
  · exact nI_pos (by omega) z
  · exact nI_nlt (a := 3) (b := s) (by omega) (by decide) z
theorem cs_of {x : Int32} (h : ¬ cs_out x) : ∃ t, t < 16 ∧ x = nI t := by
  obtain ⟨t, h1, h2⟩ := nI_of2 (M := 15) (n := 15) (by decide) (fun z => h (Or.inl z)) (Int32.not_lt.mp (fun z => h (Or.inr z)))
  exact ⟨t, by omega, h2⟩
theorem cs_of3 {x : Int32} (h0 : ¬ x < 0) (h : ¬ 3 < x) : ∃ t, t < 4 ∧ x = nI t := by
  obtain ⟨t, h1, h2⟩ := nI_of2 (M := 3) (n := 3) (by decide) h0 (Int32.not_lt.mp h)
  exact ⟨t, by omega, h2⟩
theorem cs_wk_ok {post : Int32 → St2 → Prop} {T a1 a2 a3 a4 a5 a6 a7 a8 a9 a10 a11 a12 a13 a14 a15 a16 : Nat → Int32} {h n s t : Nat} (hh : h < 5) (hn : n < 16) (hs : s < 4) (ht : t < 16) (J : cs_J T a1 a2 a3 a4 a5 a6 a7 a8 a9 a10 a11 a12 a13 a14 a15 a16)
    (H : ∀ k b1 b2 b3 b4 b5 b6 b7 b8 b9 b10 b11 b12 b13 b14 b15 b16, k < 5 → cs_J (upd T (4 * n + s) (nI t)) b1 b2 b3 b4 b5 b6 b7 b8 b9 b10 b11 b12 b13 b14 b15 b16 → post 0 (-1, nI k, -1, 0, b1, b2, b3, b4, b5, b6, b7, b8, b9, b10, b11, b12, b13, b14, b15, b16)) : wpX_writeKey post (-1, nI h, -1, 0, a1, a2, a3, a4, a5, a6, a7, a8, a9, a10, a11, a12, a13, a14, a15, a16) (nI n) (nI s) (nI t) := by
  unfold wpX_writeKey
  dsimp only
  refine cs_fits1 (cs_nb hn hs) (br_f (by decide) (br_f (nI_pos (by omega)) (br_t (nI_le (b := 15) (by omega) (by decide)) ?_)))
  refine cs_versionOf hh ht J (fun k b1 b2 b3 b4 b5 b6 b7 b8 b9 b10 b11 b12 b13 b14 b15 b16 hk K => ?_)
  dsimp only
  refine cs_put hk hn hs K (fun k' c1 c2 c3 c4 c5 c6 c7 c8 c9 c10 c11 c12 c13 c14 c15 c16 hk' K' => ?_)
  exact H k' c1 c2 c3 c4 c5 c6 c7 c8 c9 c10 c11 c12 c13 c14 c15 c16 hk' K'
theorem cs_wk_bad {post : Int32 → St2 → Prop} {a1 a2 a3 a4 a5 a6 a7 a8 a9 a10 a11 a12 a13 a14 a15 a16 : Nat → Int32} {m h o p x y z : Int32} (hb : cs_bad x y ∨ cs_out z) (H : post (-1) (m, h, o, p, a1, a2, a3, a4, a5, a6, a7, a8, a9, a10, a11, a12, a13, a14, a15, a16)) : wpX_writeKey post (m, h, o, p, a1, a2, a3, a4, a5, a6, a7, a8, a9, a10, a11, a12, a13, a14, a15, a16) x y z := by
  unfold wpX_writeKey
  dsimp only
  by_cases b : cs_bad x y
  · exact cs_fits0 b (br_t rfl H)
  · have ho : cs_out z := hb.resolve_left b
    refine cs_fits1 b (br_f (by decide) ?_)
    exact br_c (fun _ => H) (fun g => br_f (Int32.not_le.mpr (ho.resolve_left g)) H)
theorem cs_key_bad {post : Int32 → St2 → Prop} {a1 a2 a3 a4 a5 a6 a7 a8 a9 a10 a11 a12 a13 a14 a15 a16 : Nat → Int32} {m h o p x y : Int32} (hb : cs_bad x y) (H : post (-1) (m, h, o, p, a1, a2, a3, a4, a5, a6, a7, a8, a9, a10, a11, a12, a13, a14, a15, a16)) : wpX_key post (m, h, o, p, a1, a2, a3, a4, a5, a6, a7, a8, a9, a10, a11, a12, a13, a14, a15, a16) x y := by
  unfold wpX_key
  dsimp only
  exact cs_fits0 hb (br_t rfl H)
theorem cs_key_ok {post : Int32 → St2 → Prop} {T a1 a2 a3 a4 a5 a6 a7 a8 a9 a10 a11 a12 a13 a14 a15 a16 : Nat → Int32} {h n s : Nat} {r : Int32} (hh : h < 5) (hn : n < 16) (hs : s < 4) (J : cs_J T a1 a2 a3 a4 a5 a6 a7 a8 a9 a10 a11 a12 a13 a14 a15 a16)
    (hT : (T (4 * n + s) = -1 ∧ r = -2) ∨ ∃ t, t < 16 ∧ T (4 * n + s) = nI t ∧ r = nI t)
    (H : ∀ k b1 b2 b3 b4 b5 b6 b7 b8 b9 b10 b11 b12 b13 b14 b15 b16, k < 5 → cs_J T b1 b2 b3 b4 b5 b6 b7 b8 b9 b10 b11 b12 b13 b14 b15 b16 → post r (-1, nI k, -1, 0, b1, b2, b3, b4, b5, b6, b7, b8, b9, b10, b11, b12, b13, b14, b15, b16)) : wpX_key post (-1, nI h, -1, 0, a1, a2, a3, a4, a5, a6, a7, a8, a9, a10, a11, a12, a13, a14, a15, a16) (nI n) (nI s) := by
  unfold wpX_key
  dsimp only
  refine cs_fits1 (cs_nb hn hs) (br_f (by decide) ?_)
  rcases hT with ⟨e, er⟩ | ⟨t, ht, e, er⟩
  · refine cs_liveKey hh hn hs J (Or.inl e) (fun k b1 b2 b3 b4 b5 b6 b7 b8 b9 b10 b11 b12 b13 b14 b15 b16 hk K => ?_)
    dsimp only
    rw [e]
    rw [er] at H
    exact br_f (by decide) (H k b1 b2 b3 b4 b5 b6 b7 b8 b9 b10 b11 b12 b13 b14 b15 b16 hk K)
  · refine cs_liveKey hh hn hs J (Or.inr ⟨t, ht, e⟩) (fun k b1 b2 b3 b4 b5 b6 b7 b8 b9 b10 b11 b12 b13 b14 b15 b16 hk K => ?_)
    dsimp only
    rw [e]
    rw [er] at H
    exact br_t (nI_pos' (by omega)) (H k b1 b2 b3 b4 b5 b6 b7 b8 b9 b10 b11 b12 b13 b14 b15 b16 hk K)
/-! ===== keysTo ===== -/
def cs_cnt (T : Nat → Int32) (t : Nat) : Nat → Nat
  | 0 => 0
  | k + 1 => cs_cnt T t k + (if T k = nI t then 1 else 0)
theorem cs_cntT {T : Nat → Int32} {t k : Nat} (h : T k = nI t) : cs_cnt T t (k + 1) = cs_cnt T t k + 1 := by
  show cs_cnt T t k + (if T k = nI t then 1 else 0) = _
  rw [if_pos h]
theorem cs_cntF {T : Nat → Int32} {t k : Nat} (h : ¬ T k = nI t) : cs_cnt T t (k + 1) = cs_cnt T t k := by
  show cs_cnt T t k + (if T k = nI t then 1 else 0) = _
  rw [if_neg h, Nat.add_zero]
theorem cs_cnt0 {T : Nat → Int32} {t : Nat} (h : ∀ j, ¬ T j = nI t) (k : Nat) : cs_cnt T t k = 0 := by
  induction k with
  | zero => rfl
  | succ k ih => rw [cs_cntF (h k), ih]
theorem cs_cnt1 {T : Nat → Int32} {t q : Nat} (hq : T q = nI t) (h : ∀ j, j ≠ q → ¬ T j = nI t) (k : Nat) : cs_cnt T t k = if q < k then 1 else 0 := by
  induction k with
  | zero => rfl
  | succ k ih =>
    by_cases e : k = q
    · rw [e] at ih
      rw [e, cs_cntT hq, ih, if_neg (by omega), if_pos (by omega)]
    · rw [cs_cntF (h k e), ih]
      by_cases e' : q < k
      · rw [if_pos e', if_pos (by omega)]
      · rw [if_neg e', if_neg (by omega)]
theorem cs_4 (f : Nat) : 4 * nI f = nI (4 * f) := pk_mul 4 f
theorem cs_k44 {post : Int32 → St2 → Prop} {W : Int32 → Int32 → Int32 → Int32 → Int32 → Int32 → (Nat → Int32) → (Nat → Int32) → (Nat → Int32) → (Nat → Int32) → (Nat → Int32) → (Nat → Int32) → (Nat → Int32) → (Nat → Int32) → (Nat → Int32) → (Nat → Int32) → (Nat → Int32) → (Nat → Int32) → (Nat → Int32) → (Nat → Int32) → (Nat → Int32) → (Nat → Int32) → Prop}
    {T a1 a2 a3 a4 a5 a6 a7 a8 a9 a10 a11 a12 a13 a14 a15 a16 : Nat → Int32} {m h o p : Int32} {t f n : Nat} (hf : f < 5) (hn : n < 16) (K : cs_J T a1 a2 a3 a4 a5 a6 a7 a8 a9 a10 a11 a12 a13 a14 a15 a16) (e : a10 f = nI n)
    (H : W (nI (cs_cnt T t (4 * (n + 1)))) (nI (n + 1)) m h o p a1 a2 a3 a4 a5 a6 a7 a8 a9 a10 a11 a12 a13 a14 a15 a16) : ∃ fu, wX_keysTo_44 post W (nI t) 0 (nI n) (nI f) m h o p a1 a2 a3 a4 a5 a6 a7 a8 a9 a10 a11 a12 a13 a14 a15 a16 fu (nI (cs_cnt T t (4 * n))) (nI (4 * f)) := by
  refine pk_loop (σ := Unit) (fun fu i _ => wX_keysTo_44 post W (nI t) 0 (nI n) (nI f) m h o p a1 a2 a3 a4 a5 a6 a7 a8 a9 a10 a11 a12 a13 a14 a15 a16 fu (nI (cs_cnt T t (4 * n + i))) (nI (4 * f + i))) (fun _ _ => True) 4 0 () (by omega) trivial ?_ ?_
  · intro fu _ _
    exact pk_le (4 * f + 4) (4 * f + 4) (fun _ => nm_r (nI_1 n) H) (fun z => absurd z (by omega)) (cs_ix f 4)
  · intro fu i _ hi _ hw
    have c : (nI (4 * f + i)).toNatClampNeg = 4 * f + i := nI_clamp (by omega)
    refine pk_le (4 * f + 4) (4 * f + i) (fun z => absurd z (by omega)) (fun _ => ⟨pk_in (4 * f + i) 20 (by omega), ?_⟩) (cs_ix f 4)
    rw [c, cs_slot K hf hn e hi, K.1.2.2.2.2.2.1]
    have w := hw () trivial
    refine br_c (fun g => ⟨pk_in (4 * f + i) 20 (by omega), br_t rfl (nm_r (nI_1 _) (nm_r (nI_1 _) ?_))⟩) (fun g => nm_r (nI_1 _) ?_)
    · rw [← cs_cntT g]
      exact w
    · rw [← cs_cntF g]
      exact w
theorem cs_k23 {post : Int32 → St2 → Prop} {T : Nat → Int32} {t : Nat} (H : ∀ k b1 b2 b3 b4 b5 b6 b7 b8 b9 b10 b11 b12 b13 b14 b15 b16, k < 5 → cs_J T b1 b2 b3 b4 b5 b6 b7 b8 b9 b10 b11 b12 b13 b14 b15 b16 → post (nI (cs_cnt T t 64)) (-1, nI k, -1, 0, b1, b2, b3, b4, b5, b6, b7, b8, b9, b10, b11, b12, b13, b14, b15, b16)) :
    ∀ fu n h a1 a2 a3 a4 a5 a6 a7 a8 a9 a10 a11 a12 a13 a14 a15 a16, n ≤ 16 → 16 - n < fu → h < 5 → cs_J T a1 a2 a3 a4 a5 a6 a7 a8 a9 a10 a11 a12 a13 a14 a15 a16 → wX_keysTo_23 post (nI t) 0 fu (nI (cs_cnt T t (4 * n))) (nI n) (-1) (nI h) (-1) 0 a1 a2 a3 a4 a5 a6 a7 a8 a9 a10 a11 a12 a13 a14 a15 a16 := by
  intro fu
  induction fu with
  | zero => intro n h a1 a2 a3 a4 a5 a6 a7 a8 a9 a10 a11 a12 a13 a14 a15 a16 _ z; omega
  | succ fu ih =>
    intro n h a1 a2 a3 a4 a5 a6 a7 a8 a9 a10 a11 a12 a13 a14 a15 a16 hn hfu hh J
    refine pk_le 16 n (fun z => ?_) (fun z => ?_)
    · have e : n = 16 := by omega
      subst e
      exact H h a1 a2 a3 a4 a5 a6 a7 a8 a9 a10 a11 a12 a13 a14 a15 a16 hh J
    · refine cs_frameFor hh z J (fun f k b1 b2 b3 b4 b5 b6 b7 b8 b9 b10 b11 b12 b13 b14 b15 b16 hf hk K e => ?_)
      dsimp only
      exact nm_r (cs_4 f) (cs_k44 hf z K e (ih (n + 1) k b1 b2 b3 b4 b5 b6 b7 b8 b9 b10 b11 b12 b13 b14 b15 b16 (by omega) (by omega) hk K))
theorem cs_kt_ok {post : Int32 → St2 → Prop} {T a1 a2 a3 a4 a5 a6 a7 a8 a9 a10 a11 a12 a13 a14 a15 a16 : Nat → Int32} {h t : Nat} (hh : h < 5) (ht : t < 16) (J : cs_J T a1 a2 a3 a4 a5 a6 a7 a8 a9 a10 a11 a12 a13 a14 a15 a16)
    (H : ∀ k b1 b2 b3 b4 b5 b6 b7 b8 b9 b10 b11 b12 b13 b14 b15 b16, k < 5 → cs_J T b1 b2 b3 b4 b5 b6 b7 b8 b9 b10 b11 b12 b13 b14 b15 b16 → post (nI (cs_cnt T t 64)) (-1, nI k, -1, 0, b1, b2, b3, b4, b5, b6, b7, b8, b9, b10, b11, b12, b13, b14, b15, b16)) : wpX_keysTo post (-1, nI h, -1, 0, a1, a2, a3, a4, a5, a6, a7, a8, a9, a10, a11, a12, a13, a14, a15, a16) (nI t) := by
  unfold wpX_keysTo
  dsimp only
  refine br_f (nI_pos (by omega)) (br_t (nI_le (b := 15) (by omega) (by decide)) ?_)
  refine cs_versionOf hh ht J (fun k b1 b2 b3 b4 b5 b6 b7 b8 b9 b10 b11 b12 b13 b14 b15 b16 hk K => ?_)
  dsimp only
  exact ⟨17, cs_k23 H 17 0 k b1 b2 b3 b4 b5 b6 b7 b8 b9 b10 b11 b12 b13 b14 b15 b16 (by omega) (by omega) hk K⟩
theorem cs_kt_bad {post : Int32 → St2 → Prop} {a1 a2 a3 a4 a5 a6 a7 a8 a9 a10 a11 a12 a13 a14 a15 a16 : Nat → Int32} {m h o p x : Int32} (hb : cs_out x) (H : post (-1) (m, h, o, p, a1, a2, a3, a4, a5, a6, a7, a8, a9, a10, a11, a12, a13, a14, a15, a16)) : wpX_keysTo post (m, h, o, p, a1, a2, a3, a4, a5, a6, a7, a8, a9, a10, a11, a12, a13, a14, a15, a16) x := by
  unfold wpX_keysTo
  dsimp only
  exact br_c (fun _ => H) (fun g => br_f (Int32.not_le.mpr (hb.resolve_left g)) H)
/-! ===== follow ===== -/
def cs_walk (T : Nat → Int32) (s : Nat) : Nat → Nat → Int32
  | 0, m => nI m
  | k + 1, m => if T (4 * m + s) = -1 then -2 else cs_walk T s k (T (4 * m + s)).toNatClampNeg
theorem cs_walkN {T : Nat → Int32} {s k m : Nat} (h : T (4 * m + s) = -1) : cs_walk T s (k + 1) m = -2 := by
  show (if T (4 * m + s) = -1 then -2 else cs_walk T s k (T (4 * m + s)).toNatClampNeg) = _
  rw [if_pos h]
theorem cs_walkS {T : Nat → Int32} {s k m t : Nat} (ht : t < 16) (h : T (4 * m + s) = nI t) : cs_walk T s (k + 1) m = cs_walk T s k t := by
  show (if T (4 * m + s) = -1 then -2 else cs_walk T s k (T (4 * m + s)).toNatClampNeg) = _
  rw [h, if_neg (cs_m1 t ht), nI_clamp (by omega)]
def cs_V (T : Nat → Int32) : Prop := ∀ j, j < 64 → T j = -1 ∨ ∃ t, t < 16 ∧ T j = nI t
theorem cs_f16 {post : Int32 → St2 → Prop} {T : Nat → Int32} {s q : Nat} (hs : s < 4) (hq : q < 2 ^ 31) (V : cs_V T) :
    ∀ fu d k m h a1 a2 a3 a4 a5 a6 a7 a8 a9 a10 a11 a12 a13 a14 a15 a16, d + k = min q 16 → d < fu → m < 16 → h < 5 → cs_J T a1 a2 a3 a4 a5 a6 a7 a8 a9 a10 a11 a12 a13 a14 a15 a16 → (∀ g b1 b2 b3 b4 b5 b6 b7 b8 b9 b10 b11 b12 b13 b14 b15 b16, g < 5 → cs_J T b1 b2 b3 b4 b5 b6 b7 b8 b9 b10 b11 b12 b13 b14 b15 b16 → post (cs_walk T s d m) (-1, nI g, -1, 0, b1, b2, b3, b4, b5, b6, b7, b8, b9, b10, b11, b12, b13, b14, b15, b16)) →
      wX_follow_16 post (nI s) (nI q) fu (nI m) (nI k) (-1) (nI h) (-1) 0 a1 a2 a3 a4 a5 a6 a7 a8 a9 a10 a11 a12 a13 a14 a15 a16 := by
  intro fu
  induction fu with
  | zero => intro d k m h a1 a2 a3 a4 a5 a6 a7 a8 a9 a10 a11 a12 a13 a14 a15 a16 _ z; omega
  | succ fu ih =>
    intro d k m h a1 a2 a3 a4 a5 a6 a7 a8 a9 a10 a11 a12 a13 a14 a15 a16 hd hfu hm hh J H
    cases d with
    | zero => exact pk_le q k (fun _ => H h a1 a2 a3 a4 a5 a6 a7 a8 a9 a10 a11 a12 a13 a14 a15 a16 hh J) (fun z => pk_le 16 k (fun _ => H h a1 a2 a3 a4 a5 a6 a7 a8 a9 a10 a11 a12 a13 a14 a15 a16 hh J) (fun z' => absurd hd (by omega)))
    | succ d =>
      refine pk_le q k (fun z => absurd hd (by omega)) (fun z => pk_le 16 k (fun z' => absurd hd (by omega)) (fun z' => ?_))
      have hv := V (4 * m + s) (by omega)
      refine cs_liveKey hh hm hs J hv (fun g b1 b2 b3 b4 b5 b6 b7 b8 b9 b10 b11 b12 b13 b14 b15 b16 hg K => ?_)
      dsimp only
      rcases hv with e | ⟨t, ht, e⟩
      · rw [e]
        rw [cs_walkN e] at H
        exact br_f (by decide) (H g b1 b2 b3 b4 b5 b6 b7 b8 b9 b10 b11 b12 b13 b14 b15 b16 hg K)
      · rw [e]
        rw [cs_walkS ht e] at H
        exact br_t (nI_pos' (by omega)) (nm_r (nI_1 k) (ih d (k + 1) t g b1 b2 b3 b4 b5 b6 b7 b8 b9 b10 b11 b12 b13 b14 b15 b16 (by omega) (by omega) ht hg K H))
theorem cs_fo_ok {post : Int32 → St2 → Prop} {T a1 a2 a3 a4 a5 a6 a7 a8 a9 a10 a11 a12 a13 a14 a15 a16 : Nat → Int32} {h n s : Nat} {x z : Int32} (hh : h < 5) (hn : n < 16) (hs : s < 4) (J : cs_J T a1 a2 a3 a4 a5 a6 a7 a8 a9 a10 a11 a12 a13 a14 a15 a16) (V : cs_V T)
    (h0 : x ≤ 0 → z = nI n) (h1 : ∀ q, 0 < q → q < 2 ^ 31 → x = nI q → z = cs_walk T s (min q 16) n)
    (H : ∀ k b1 b2 b3 b4 b5 b6 b7 b8 b9 b10 b11 b12 b13 b14 b15 b16, k < 5 → cs_J T b1 b2 b3 b4 b5 b6 b7 b8 b9 b10 b11 b12 b13 b14 b15 b16 → post z (-1, nI k, -1, 0, b1, b2, b3, b4, b5, b6, b7, b8, b9, b10, b11, b12, b13, b14, b15, b16)) : wpX_follow post (-1, nI h, -1, 0, a1, a2, a3, a4, a5, a6, a7, a8, a9, a10, a11, a12, a13, a14, a15, a16) (nI n) (nI s) x := by
  unfold wpX_follow
  dsimp only
  refine cs_fits1 (cs_nb hn hs) (br_f (by decide) ?_)
  by_cases c : x ≤ 0
  · rw [h0 c] at H
    exact ⟨1, br_t c (H h a1 a2 a3 a4 a5 a6 a7 a8 a9 a10 a11 a12 a13 a14 a15 a16 hh J)⟩
  · obtain ⟨q, hq, rfl⟩ := nI_of (x := x) (fun y => c (Int32.le_of_lt y))
    have q0 : 0 < q := by
      rcases Nat.eq_zero_or_pos q with y | y
      · exact absurd (by rw [y]; exact Int32.le_refl _) c
      · exact y
    rw [h1 q q0 hq rfl] at H
    exact ⟨min q 16 + 1, cs_f16 hs hq V (min q 16 + 1) (min q 16) 0 n h a1 a2 a3 a4 a5 a6 a7 a8 a9 a10 a11 a12 a13 a14 a15 a16 (by omega) (by omega) hn hh J H⟩
theorem cs_fo_bad {post : Int32 → St2 → Prop} {a1 a2 a3 a4 a5 a6 a7 a8 a9 a10 a11 a12 a13 a14 a15 a16 : Nat → Int32} {m h o p x y z : Int32} (hb : cs_bad x y) (H : post (-1) (m, h, o, p, a1, a2, a3, a4, a5, a6, a7, a8, a9, a10, a11, a12, a13, a14, a15, a16)) : wpX_follow post (m, h, o, p, a1, a2, a3, a4, a5, a6, a7, a8, a9, a10, a11, a12, a13, a14, a15, a16) x y z := by
  unfold wpX_follow
  dsimp only
  exact cs_fits0 hb (br_t rfl H)
/-! ===== rescind ===== -/
theorem cs_r37 {post : Int32 → St2 → Prop} {a1 a2 a3 a4 a5 a6 a7 a8 a9 a10 a11 a12 a13 a14 a15 a16 : Nat → Int32} {m h o p : Int32} {f : Nat} (hf : f < 5) (H : ∀ u, post 0 u) : ∃ fu, wX_rescind_37 post (nI f) m h o p fu (nI (4 * f)) a1 a2 a3 a4 a5 a6 a7 a8 a9 a10 a11 a12 a13 a14 a15 a16 := by
  refine pk_loop (σ := (Nat → Int32) × (Nat → Int32) × (Nat → Int32)) (fun fu i s => wX_rescind_37 post (nI f) m h o p fu (nI (4 * f + i)) a1 a2 a3 a4 a5 a6 a7 a8 a9 a10 a11 a12 s.1 s.2.1 s.2.2 a16) (fun _ _ => True) 4 0 (a13, a14, a15) (by omega) trivial ?_ ?_
  · intro fu s _
    exact pk_le (4 * f + 4) (4 * f + 4) (fun _ => H _) (fun z => absurd z (by omega)) (cs_ix f 4)
  · intro fu i s hi _ hw
    have p1 : vp_in (nI (4 * f + i)) 20 := pk_in (4 * f + i) 20 (by omega)
    exact pk_le (4 * f + 4) (4 * f + i) (fun z => absurd z (by omega)) (fun _ => ⟨p1, nm_e ⟨p1, nm_e ⟨p1, nm_e (nm_r (nI_1 _) (hw (_, _, _) trivial))⟩⟩⟩) (cs_ix f 4)
theorem cs_rs_ok {post : Int32 → St2 → Prop} {T a1 a2 a3 a4 a5 a6 a7 a8 a9 a10 a11 a12 a13 a14 a15 a16 : Nat → Int32} {h t : Nat} (hh : h < 5) (ht : t < 16) (J : cs_J T a1 a2 a3 a4 a5 a6 a7 a8 a9 a10 a11 a12 a13 a14 a15 a16) (H : ∀ u, post 0 u) : wpX_rescind post (-1, nI h, -1, 0, a1, a2, a3, a4, a5, a6, a7, a8, a9, a10, a11, a12, a13, a14, a15, a16) (nI t) := by
  unfold wpX_rescind
  dsimp only
  refine br_f (nI_pos (by omega)) (br_t (nI_le (b := 15) (by omega) (by decide)) ?_)
  refine cs_frameFor hh ht J (fun f k b1 b2 b3 b4 b5 b6 b7 b8 b9 b10 b11 b12 b13 b14 b15 b16 hf hk K e => ?_)
  have c : (nI f).toNatClampNeg = f := nI_clamp (by omega)
  dsimp only
  unfold wpX_makeWritable
  dsimp only
  rw [c]
  refine ⟨pk_in f 5 hf, br_t (K.1.2.2.2.2.1 f) ⟨pk_in f 5 hf, nm_e ⟨pk_in f 5 hf, pk_in f 5 hf, nm_e (nm_r (cs_4 f) ?_)⟩⟩⟩
  exact cs_r37 hf H
theorem cs_rs_bad {post : Int32 → St2 → Prop} {a1 a2 a3 a4 a5 a6 a7 a8 a9 a10 a11 a12 a13 a14 a15 a16 : Nat → Int32} {m h o p x : Int32} (hb : cs_out x) (H : ∀ u, post (-1) u) : wpX_rescind post (m, h, o, p, a1, a2, a3, a4, a5, a6, a7, a8, a9, a10, a11, a12, a13, a14, a15, a16) x := by
  unfold wpX_rescind
  dsimp only
  exact br_c (fun _ => H _) (fun g => br_f (Int32.not_le.mpr (hb.resolve_left g)) (H _))
/-! ===== a new store ===== -/
theorem cs_J0 {a1 a2 a3 a4 a5 a6 a7 a8 a9 a10 a11 a12 a13 a14 a15 a16 : Nat → Int32} (zs : cs_Z a3 ∧ cs_Z a4 ∧ cs_Z a7 ∧ cs_Z a8 ∧ cs_Z a12 ∧ cs_Z a15 ∧ cs_Z a16) (h2 : ∀ j, j < 64 → a2 j = -1) (h9 : cs_Z a9) (h10 : ∀ f, f < 5 → a10 f = -1) : cs_J (fun _ => -1) a1 a2 a3 a4 a5 a6 a7 a8 a9 a10 a11 a12 a13 a14 a15 a16 := by
  refine ⟨zs, fun f hf => Or.inl (h10 f hf), fun f g n hf _ hn e _ => ?_, fun n hn _ s hs => ?_⟩
  · rw [h10 f hf] at e
    exact absurd e.symm (cs_m1 n hn)
  · unfold cs_D
    rw [if_pos (h9 n)]
    exact h2 _ (by omega)
theorem cs_clear {post : St2 → Prop} {a1 a2 a3 a4 a5 a6 a7 a8 a9 a10 a11 a12 a13 a14 a15 a16 : Nat → Int32} {m h o p : Int32} (z9 : cs_Z a9) (H : ∀ b9, cs_Z b9 → post (m, h, o, p, a1, a2, a3, a4, a5, a6, a7, a8, b9, a10, a11, a12, a13, a14, a15, a16)) : wpX_clearLog post (m, h, o, p, a1, a2, a3, a4, a5, a6, a7, a8, a9, a10, a11, a12, a13, a14, a15, a16) 0 := by
  unfold wpX_clearLog
  dsimp only
  refine pk_loop (σ := Nat → Int32) (fun n i s => wX_clearLog_2 post 0 m h o p n (nI i) a1 a2 a3 a4 a5 a6 a7 a8 s a10 a11 a12 a13 a14 a15 a16) (fun _ s => cs_Z s) 16 0 a9 (by omega) z9 ?_ ?_
  · intro n s k
    exact pk_le 16 16 (fun _ => H _ k) (fun z => absurd z (by omega))
  · intro n i s hi k hw
    have e16 : (16 : Int32) * 0 + nI i = nI i := by rw [show (16 : Int32) * 0 = 0 by decide, Int32.zero_add]
    exact pk_le 16 i (fun z => absurd z (by omega)) (fun _ => ⟨pk_in i 48 (by omega) e16, nm_e (nm_r (nI_1 i) (hw _ (cs_Zu k rfl)))⟩)
theorem cs_restart {post : St2 → Prop} {a1 a2 a3 a4 a5 a6 a7 a8 a9 a10 a11 a12 a13 a14 a15 a16 : Nat → Int32} {h o p : Int32} (z9 : cs_Z a9) (z12 : cs_Z a12)
    (H : ∀ b9 b10 b11 b12, cs_Z b9 → (∀ f, f < 5 → b10 f = -1) → cs_Z b12 → post (-1, 0, -1, 0, a1, a2, a3, a4, a5, a6, a7, a8, b9, b10, b11, b12, a13, a14, a15, a16)) : wpX_restart post (-1, h, o, p, a1, a2, a3, a4, a5, a6, a7, a8, a9, a10, a11, a12, a13, a14, a15, a16) := by
  unfold wpX_restart
  dsimp only
  refine pk_loop (σ := (Nat → Int32) × (Nat → Int32) × (Nat → Int32)) (fun n i s => wX_restart_2 post (-1) h o p n (nI i) a1 a2 a3 a4 a5 a6 a7 a8 a9 s.1 s.2.1 s.2.2 a13 a14 a15 a16) (fun i s => (∀ f, f < i → s.1 f = -1) ∧ cs_Z s.2.2) 5 0 (a10, a11, a12) (by omega) ⟨fun f hf => absurd hf (by omega), z12⟩ ?_ ?_
  · intro n s k
    refine pk_le 5 5 (fun _ => ?_) (fun z => absurd z (by omega))
    refine ⟨1, br_f (by decide) (br_f (by decide) (br_f (by decide) ?_))⟩
    exact cs_clear z9 (fun b9 q9 => H _ _ _ _ q9 k.1 k.2)
  · intro n i s hi k hw
    have c : (nI i).toNatClampNeg = i := nI_clamp (by omega)
    have p1 : vp_in (nI i) 5 := pk_in i 5 hi
    refine pk_le 5 i (fun z => absurd z (by omega)) (fun _ => ⟨p1, nm_e ⟨p1, nm_e ⟨p1, nm_e (nm_r (nI_1 i) (hw (_, _, _) ⟨fun f hf => ?_, cs_Zu k.2 rfl⟩))⟩⟩⟩)
    show upd s.1 (nI i).toNatClampNeg (-1) f = -1
    rw [c]
    by_cases e : f = i
    · rw [e, pk_us]
    · rw [pk_un e]
      exact k.1 f (by omega)
theorem cs_init {post : St2 → Prop} (H : ∀ b1 b2 b3 b4 b5 b6 b7 b8 b9 b10 b11 b12 b13 b14 b15 b16, cs_J (fun _ => -1) b1 b2 b3 b4 b5 b6 b7 b8 b9 b10 b11 b12 b13 b14 b15 b16 → post (-1, 0, -1, 0, b1, b2, b3, b4, b5, b6, b7, b8, b9, b10, b11, b12, b13, b14, b15, b16)) : wpX_init post 16 960 (0, 0, 0, 0) := by
  unfold wpX_init
  dsimp only
  refine ⟨by decide, by decide, by decide, by decide, by decide, by decide, by decide, by decide, by decide, by decide, by decide, by decide, by decide, by decide, by decide, by decide, by decide, by decide, by decide, by decide, by decide, by decide, by decide, by decide, by decide, by decide, by decide, by decide, by decide, by decide, by decide, by decide, ?_⟩
  refine pk_loop (σ := Nat → Int32) (fun n i s => wX_init_138 post 16 960 16 960 (-1) 0 0 0 n (nI i) (fun _ => 0) s (fun _ => 0) (fun _ => 0) (fun _ => 0) (fun _ => 0) (fun _ => 0) (fun _ => 0) (fun _ => 0) (fun _ => 0) (fun _ => 0) (fun _ => 0) (fun _ => 0) (fun _ => 0) (fun _ => 0) (fun _ => 0)) (fun i s => ∀ j, j < i → s j = -1) 64 0 (fun _ => 0) (by omega) (fun j hj => absurd hj (by omega)) ?_ ?_
  · intro n s k
    refine pk_le 64 64 (fun _ => ?_) (fun z => absurd z (by omega))
    refine cs_restart cs_Z0 cs_Z0 (fun b9 b10 b11 b12 q9 q10 q12 => ?_)
    exact H _ _ _ _ _ _ _ _ _ _ _ _ _ _ _ _ (cs_J0 ⟨cs_Z0, cs_Z0, cs_Z0, cs_Z0, q12, cs_Z0, cs_Z0⟩ k q9 q10)
  · intro n i s hi k hw
    have c : (nI i).toNatClampNeg = i := nI_clamp (by omega)
    refine pk_le 64 i (fun z => absurd z (by omega)) (fun _ => ⟨pk_in i 64 hi, nm_e (nm_r (nI_1 i) (hw _ (fun j hj => ?_)))⟩)
    rw [c]
    by_cases e : j = i
    · rw [e, pk_us]
    · rw [pk_un e]
      exact k j (by omega)
end
section
/-! ===== the law ===== -/
/-- a call keeps the picture T and answers r -/
def cs_A (T : Nat → Int32) (W : (Int32 → St2 → Prop) → Prop) (r : Int32) : Prop := ∀ ψ : Int32 → St2 → Prop, (∀ k b1 b2 b3 b4 b5 b6 b7 b8 b9 b10 b11 b12 b13 b14 b15 b16, k < 5 → cs_J T b1 b2 b3 b4 b5 b6 b7 b8 b9 b10 b11 b12 b13 b14 b15 b16 → ψ r (-1, nI k, -1, 0, b1, b2, b3, b4, b5, b6, b7, b8, b9, b10, b11, b12, b13, b14, b15, b16)) → W ψ
/-- no targets; one target -/
theorem cs_V0 : cs_V (fun _ => -1) := fun _ _ => Or.inl rfl
theorem cs_V1 {q t : Nat} (ht : t < 16) : cs_V (upd (fun _ => -1) q (nI t)) := by
  intro j _
  by_cases e : j = q
  · rw [e, pk_us]
    exact Or.inr ⟨t, ht, rfl⟩
  · rw [pk_un e]
    exact Or.inl rfl
theorem cs_n0 {t : Nat} (ht : t < 16) : cs_cnt (fun _ => -1) t 64 = 0 := cs_cnt0 (fun _ z => cs_m1 t ht z.symm) 64
theorem cs_n1 {q t : Nat} (ht : t < 16) (hq : q < 64) : cs_cnt (upd (fun _ => -1) q (nI t)) t 64 = 1 := by
  rw [cs_cnt1 (q := q) pk_us (fun j hj z => ?_) 64, if_pos hq]
  rw [pk_un hj] at z
  exact cs_m1 t ht z.symm
/-- a key to its own node: the walk stays -/
theorem cs_w1 {n s : Nat} (hn : n < 16) (d : Nat) : cs_walk (upd (fun _ => -1) (4 * n + s) (nI n)) s d n = nI n := by
  induction d with
  | zero => rfl
  | succ d ih => rw [cs_walkS hn pk_us, ih]
theorem cs_w2 {n s t : Nat} (ht : t < 16) (ne : t ≠ n) (d : Nat) : cs_walk (upd (fun _ => -1) (4 * n + s) (nI t)) s (d + 2) n = -2 := by
  have e : 4 * t + s ≠ 4 * n + s := by omega
  rw [cs_walkS ht pk_us, cs_walkN (by rw [pk_un e])]
theorem cs_w3 {n s t : Nat} (ht : t < 16) : cs_walk (upd (fun _ => -1) (4 * n + s) (nI t)) s 1 n = nI t := by
  rw [cs_walkS ht pk_us]
  rfl
theorem cs_pos {q : Nat} (h0 : 0 < q) (h : q < 2 ^ 31) : ¬ nI q ≤ 0 := nI_nle h0 h
/-- the last two calls -/
theorem cs_212 {post : Int32 → St0 → Prop} {mc ms kc ks : Nat} {x0 x1 x2 x3 x6 z0 m h o p : Int32} {T a1 a2 a3 a4 a5 a6 a7 a8 a9 a10 a11 a12 a13 a14 a15 a16 : Nat → Int32} (F : cs_A T (fun ψ => wpX_follow ψ (m, h, o, p, a1, a2, a3, a4, a5, a6, a7, a8, a9, a10, a11, a12, a13, a14, a15, a16) x0 x1 x3) z0)
    (R : (x6 = 0 ∧ cs_out x2) ∨ (x6 = 1 ∧ ∃ t, t < 16 ∧ x2 = nI t)) (H : post 1 ()) : wL_lawOf_212 post mc ms x0 x1 x2 x3 x6 z0 kc ks m h o p a1 a2 a3 a4 a5 a6 a7 a8 a9 a10 a11 a12 a13 a14 a15 a16 := by
  unfold wL_lawOf_212
  refine F _ (fun k b1 b2 b3 b4 b5 b6 b7 b8 b9 b10 b11 b12 b13 b14 b15 b16 hk K => ?_)
  dsimp only
  refine br_t rfl ?_
  rcases R with ⟨e, ho⟩ | ⟨e, t, ht, e2⟩
  · subst e
    exact cs_rs_bad ho (fun u => br_t rfl (br_t rfl H))
  · subst e e2
    exact cs_rs_ok hk ht K (fun u => br_f (by decide) (br_t rfl H))
/-- no such place -/
theorem cs_160a {post : Int32 → St0 → Prop} {mc ms kc ks h : Nat} {x0 x1 x2 x3 x6 x7 z : Int32} {T a1 a2 a3 a4 a5 a6 a7 a8 a9 a10 a11 a12 a13 a14 a15 a16 : Nat → Int32} (hb : cs_bad x0 x1) (hh : h < 5) (J : cs_J T a1 a2 a3 a4 a5 a6 a7 a8 a9 a10 a11 a12 a13 a14 a15 a16)
    (R : (x6 = 0 ∧ cs_out x2) ∨ (x6 = 1 ∧ ∃ t, t < 16 ∧ x2 = nI t)) (H : post 1 ()) : wL_lawOf_160 post mc ms x0 x1 x2 x3 0 x6 x7 z z kc ks (-1) (nI h) (-1) 0 a1 a2 a3 a4 a5 a6 a7 a8 a9 a10 a11 a12 a13 a14 a15 a16 := by
  unfold wL_lawOf_160
  exact br_t rfl (br_t rfl (cs_212 (T := T) (fun ψ hψ => cs_fo_bad hb (hψ h a1 a2 a3 a4 a5 a6 a7 a8 a9 a10 a11 a12 a13 a14 a15 a16 hh J)) R H))
/-- a place, no such target -/
theorem cs_160b {post : Int32 → St0 → Prop} {mc ms kc ks h n s : Nat} {x2 x3 z : Int32} {a1 a2 a3 a4 a5 a6 a7 a8 a9 a10 a11 a12 a13 a14 a15 a16 : Nat → Int32} (hn : n < 16) (hs : s < 4) (hh : h < 5) (J : cs_J (fun _ => -1) a1 a2 a3 a4 a5 a6 a7 a8 a9 a10 a11 a12 a13 a14 a15 a16)
    (ho : cs_out x2) (H : post 1 ()) : wL_lawOf_160 post mc ms (nI n) (nI s) x2 x3 1 0 0 z z kc ks (-1) (nI h) (-1) 0 a1 a2 a3 a4 a5 a6 a7 a8 a9 a10 a11 a12 a13 a14 a15 a16 := by
  unfold wL_lawOf_160
  refine br_t rfl (br_f (by decide) (br_c (fun g => br_t rfl ?_) (fun g => ?_)))
  · refine cs_212 (T := fun _ => -1) (fun ψ hψ => cs_fo_ok hh hn hs J cs_V0 (fun y => absurd g (Int32.not_lt.mpr y)) (fun q q0 hq _ => ?_) hψ) (Or.inl ⟨rfl, ho⟩) H
    obtain ⟨d, hd⟩ : ∃ d, min q 16 = d + 1 := ⟨min q 16 - 1, by omega⟩
    rw [hd]
    exact (cs_walkN rfl).symm
  · refine cs_212 (T := fun _ => -1) (fun ψ hψ => cs_fo_ok hh hn hs J cs_V0 (fun _ => rfl) (fun q q0 hq e => ?_) hψ) (Or.inl ⟨rfl, ho⟩) H
    exact absurd (Int32.not_lt.mp g) (by rw [e]; exact cs_pos q0 hq)
/-- a place and a target -/
theorem cs_160c {post : Int32 → St0 → Prop} {mc ms kc ks h n s t : Nat} {x3 z : Int32} {a1 a2 a3 a4 a5 a6 a7 a8 a9 a10 a11 a12 a13 a14 a15 a16 : Nat → Int32} (hn : n < 16) (hs : s < 4) (ht : t < 16) (hh : h < 5) (J : cs_J (upd (fun _ => -1) (4 * n + s) (nI t)) a1 a2 a3 a4 a5 a6 a7 a8 a9 a10 a11 a12 a13 a14 a15 a16)
    (H : post 1 ()) : wL_lawOf_160 post mc ms (nI n) (nI s) (nI t) x3 1 1 1 z z kc ks (-1) (nI h) (-1) 0 a1 a2 a3 a4 a5 a6 a7 a8 a9 a10 a11 a12 a13 a14 a15 a16 := by
  have R : ((1 : Int32) = 0 ∧ cs_out (nI t)) ∨ ((1 : Int32) = 1 ∧ ∃ u, u < 16 ∧ nI t = nI u) := Or.inr ⟨rfl, t, ht, rfl⟩
  have G : ∀ w : Int32, (x3 ≤ 0 → w = nI n) → (∀ q, 0 < q → q < 2 ^ 31 → x3 = nI q → w = cs_walk (upd (fun _ => -1) (4 * n + s) (nI t)) s (min q 16) n) → wL_lawOf_212 post mc ms (nI n) (nI s) (nI t) x3 1 w kc ks (-1) (nI h) (-1) 0 a1 a2 a3 a4 a5 a6 a7 a8 a9 a10 a11 a12 a13 a14 a15 a16 :=
    fun w h0 h1 => cs_212 (T := upd (fun _ => -1) (4 * n + s) (nI t)) (fun ψ hψ => cs_fo_ok hh hn hs J (cs_V1 ht) h0 h1 hψ) R H
  unfold wL_lawOf_160
  refine br_t rfl (br_f (by decide) (br_c (fun g => br_f (by decide) (br_c (fun e => ?_) (fun e => br_c (fun f => ?_) (fun f => ?_)))) (fun g => ?_)))
  · have e' : t = n := cs_inj ht hn e
    subst e'
    exact G _ (fun _ => rfl) (fun q _ _ _ => (cs_w1 hn _).symm)
  · refine G _ (fun y => absurd g (Int32.not_lt.mpr y)) (fun q q0 hq eq => ?_)
    have q1 : q = 1 := by
      rw [f] at eq
      exact ((nI_eq (a := 1) (b := q) (by decide) hq).mp eq).symm
    subst q1
    exact (cs_w3 ht).symm
  · refine G _ (fun y => absurd g (Int32.not_lt.mpr y)) (fun q q0 hq eq => ?_)
    have q1 : q ≠ 1 := by
      intro y
      rw [y] at eq
      exact f eq
    have ne : t ≠ n := fun y => e (by rw [y])
    obtain ⟨d, hd⟩ : ∃ d, min q 16 = d + 2 := ⟨min q 16 - 2, by omega⟩
    rw [hd]
    exact (cs_w2 ht ne d).symm
  · refine G _ (fun _ => rfl) (fun q q0 hq e => ?_)
    exact absurd (Int32.not_lt.mp g) (by rw [e]; exact cs_pos q0 hq)
/-- from the new store on -/
theorem cs_50 {post : Int32 → St0 → Prop} {mc ms kc ks : Nat} {x0 x1 x2 x3 x5 z0 : Int32} {a1 a2 a3 a4 a5 a6 a7 a8 a9 a10 a11 a12 a13 a14 a15 a16 : Nat → Int32} (J : cs_J (fun _ => -1) a1 a2 a3 a4 a5 a6 a7 a8 a9 a10 a11 a12 a13 a14 a15 a16)
    (P : (x5 = 0 ∧ cs_bad x0 x1) ∨ (x5 = 1 ∧ ∃ n s, n < 16 ∧ s < 4 ∧ x0 = nI n ∧ x1 = nI s)) (R : (z0 = 0 ∧ cs_out x2) ∨ (z0 = 1 ∧ ∃ t, t < 16 ∧ x2 = nI t)) (H : post 1 ()) :
    wL_lawOf_50 post mc ms x0 x1 x2 x3 x5 z0 kc ks (-1) (nI 0) (-1) 0 a1 a2 a3 a4 a5 a6 a7 a8 a9 a10 a11 a12 a13 a14 a15 a16 := by
  unfold wL_lawOf_50
  rcases P with ⟨e5, hb⟩ | ⟨e5, n, s, hn, hs, e0, e1⟩
  · refine br_t e5 ?_
    unfold wL_lawOf_66 wL_lawOf_67 wpX_settle
    dsimp only
    refine br_f (by decide) (br_t rfl ?_)
    refine cs_wk_bad (Or.inl hb) (br_t rfl ?_)
    unfold wL_lawOf_98
    refine br_t rfl (cs_key_bad hb (br_t e5 ?_))
    unfold wL_lawOf_130
    refine br_t rfl ?_
    subst e5
    rcases R with ⟨e, ho⟩ | ⟨e, t, ht, e2⟩
    · exact cs_kt_bad ho (br_t e (cs_160a hb (by omega) J (Or.inl ⟨e, ho⟩) H))
    · subst e e2
      refine cs_kt_ok (by omega) ht J (fun k b1 b2 b3 b4 b5 b6 b7 b8 b9 b10 b11 b12 b13 b14 b15 b16 hk K => ?_)
      rw [cs_n0 ht]
      exact br_f (by decide) (br_t rfl (cs_160a hb hk K (Or.inr ⟨rfl, t, ht, rfl⟩) H))
  · subst e5 e0 e1
    refine br_f (by decide) ?_
    rcases R with ⟨e, ho⟩ | ⟨e, t, ht, e2⟩
    · subst e
      refine br_t rfl ?_
      unfold wL_lawOf_66 wL_lawOf_67 wpX_settle
      dsimp only
      refine br_f (by decide) (br_t rfl ?_)
      refine cs_wk_bad (Or.inr ho) (br_t rfl ?_)
      unfold wL_lawOf_98
      refine br_t rfl (cs_key_ok (by omega) hn hs J (Or.inl ⟨rfl, rfl⟩) (fun k b1 b2 b3 b4 b5 b6 b7 b8 b9 b10 b11 b12 b13 b14 b15 b16 hk K => br_f (by decide) (br_t rfl ?_)))
      unfold wL_lawOf_130
      refine br_t rfl (cs_kt_bad ho (br_t rfl ?_))
      exact cs_160b hn hs hk K ho H
    · subst e e2
      refine br_f (by decide) ?_
      unfold wL_lawOf_67 wpX_settle
      dsimp only
      refine br_f (by decide) (br_t rfl ?_)
      refine cs_wk_ok (by omega) hn hs ht J (fun k b1 b2 b3 b4 b5 b6 b7 b8 b9 b10 b11 b12 b13 b14 b15 b16 hk K => br_f (by decide) ?_)
      unfold wL_lawOf_98
      refine br_t rfl (cs_key_ok hk hn hs K (Or.inr ⟨t, ht, pk_us, rfl⟩) (fun k' c1 c2 c3 c4 c5 c6 c7 c8 c9 c10 c11 c12 c13 c14 c15 c16 hk' K' => br_f (by decide) (br_f (by decide) ?_)))
      unfold wL_lawOf_130
      refine br_t rfl (cs_kt_ok hk' ht K' (fun g d1 d2 d3 d4 d5 d6 d7 d8 d9 d10 d11 d12 d13 d14 d15 d16 hg L => ?_))
      rw [cs_n1 ht (by omega)]
      exact br_f (by decide) (br_f (by decide) (cs_160c hn hs ht hg L H))
theorem cs_33 {post : Int32 → St0 → Prop} {mc ms kc ks : Nat} {x0 x1 x2 x3 z0 : Int32} {a1 a2 a3 a4 a5 a6 a7 a8 a9 a10 a11 a12 a13 a14 a15 a16 : Nat → Int32} (J : cs_J (fun _ => -1) a1 a2 a3 a4 a5 a6 a7 a8 a9 a10 a11 a12 a13 a14 a15 a16)
    (P : (z0 = 0 ∧ cs_bad x0 x1) ∨ (z0 = 1 ∧ ∃ n s, n < 16 ∧ s < 4 ∧ x0 = nI n ∧ x1 = nI s)) (H : post 1 ()) :
    wL_lawOf_33 post mc ms x0 x1 x2 x3 z0 kc ks (-1) (nI 0) (-1) 0 a1 a2 a3 a4 a5 a6 a7 a8 a9 a10 a11 a12 a13 a14 a15 a16 := by
  unfold wL_lawOf_33 wL_lawOf_49
  exact br_c (fun g => cs_50 J P (Or.inl ⟨rfl, Or.inl g⟩) H) (fun g => br_c (fun g' => cs_50 J P (Or.inl ⟨rfl, Or.inr g'⟩) H) (fun g' => cs_50 J P (Or.inr ⟨rfl, cs_of (fun z => z.elim g g')⟩) H))
theorem cs_lawOf {post : Int32 → St0 → Prop} {x0 x1 x2 x3 : Int32} (H : post 1 ()) : wpL_lawOf post 17 980 () x0 x1 x2 x3 := by
  unfold wpL_lawOf
  refine ⟨by decide, by decide, 16, 960, by decide, by decide, ?_⟩
  refine cs_init (fun b1 b2 b3 b4 b5 b6 b7 b8 b9 b10 b11 b12 b13 b14 b15 b16 J => ?_)
  dsimp only
  unfold wL_lawOf_32
  refine br_c (fun g => cs_33 J (Or.inl ⟨rfl, Or.inl g⟩) H) (fun g => br_c (fun g2 => cs_33 J (Or.inl ⟨rfl, Or.inr (Or.inl g2)⟩) H) (fun g2 => br_c (fun g3 => cs_33 J (Or.inl ⟨rfl, Or.inr (Or.inr (Or.inl g3))⟩) H) (fun g3 => br_c (fun g4 => cs_33 J (Or.inl ⟨rfl, Or.inr (Or.inr (Or.inr g4))⟩) H) (fun g4 => ?_))))
  obtain ⟨n, hn, en⟩ := cs_of (x := x0) (fun z => z.elim g g2)
  obtain ⟨s, hs, es⟩ := cs_of3 g3 g4
  exact cs_33 J (Or.inr ⟨rfl, n, s, hn, hs, en, es⟩) H
end
section
/-! ===== what is owed ===== -/
theorem cs_cell {post : Int32 → Prop} {L : Nat} {xs : Nat → Int32} {i : Nat} (hL : L ≤ 4) (hi : i < 4) (H : ∀ r, post r) : wpL_cellAt post L xs () (nI i) :=
  pk_le L i (fun _ => H _) (fun z => ⟨pk_in i L z, H _⟩)
theorem i_vc (xs : Nat → Int32) (L : Nat) (hL : L ≤ 4) : wpL_law (fun r => r = 1) L xs :=
  cs_cell (i := 0) hL (by decide) (fun _ => cs_cell (i := 1) hL (by decide) (fun _ => cs_cell (i := 2) hL (by decide) (fun _ => cs_cell (i := 3) hL (by decide) (fun _ => ⟨17, 980, by decide, by decide, cs_lawOf rfl⟩))))
end
