section
/-! ===== CsvDialect: its methods on the states that the law reaches (one character of raw text at most) ===== -/
/-- the text reads, its first (and last) character being k -/
def cs_R (k d : Int32) : Prop := ¬ 7 ≤ k ∨ (k = 9 ∧ ¬ d &&& 2 = 0)
/-- the text is sound up to its first character -/
def cs_B (k d : Int32) : Prop := cs_R k d ∨ k = 7 ∨ (k = 8 ∧ d &&& 2 = 0)
theorem cs_us0 {f : Nat → Int32} {x : Int32} : upd f (0 : Int32).toNatClampNeg x 0 = x := by
  rw [show (0 : Int32).toNatClampNeg = 0 from by decide]
  exact pk_us
theorem cs_sep (d : Int32) : (5 + (d &&& 1) = 5 ∧ ¬ d &&& 1 = 1) ∨ (5 + (d &&& 1) = 6 ∧ d &&& 1 = 1) := by
  obtain ⟨j, hj, e⟩ := pk_andE d (m := 1) 1 (by decide)
  rw [e]
  match j, hj with
  | 0, _ => exact Or.inl ⟨by decide, by decide⟩
  | 1, _ => exact Or.inr ⟨by decide, by decide⟩
  | n + 2, h => exact absurd h (by omega)
theorem cs_sep7 {k d : Int32} (e : k = 5 + (d &&& 1)) : ¬ 7 ≤ k := by
  subst e
  rcases cs_sep d with ⟨h, _⟩ | ⟨h, _⟩
  · rw [h]; decide
  · rw [h]; decide
section
variable {ct dr ra pt kp st gr gf gs ff rg ho fl f0 sn : Int32} {a1 a2 a3 a4 a5 : Nat → Int32}
theorem cs_sf {post : St2 → Prop} {g g' : Int32} (e : g + 1 = g') (h5 : g' ≤ 5) (hin : vp_in ((((0 : Int32) * 5) + g') - 1) 30)
    (H : ∀ b1 b2 : Nat → Int32, (fl = 0 → b1 = a1) → (¬ fl = 0 → b1 0 = g') → post (ct, dr, ra, pt, kp, st, 0, g', 0, ff, rg, 1, fl, sn, b1, b2, a3, a4, a5)) :
    wpX_startField post (ct, dr, ra, pt, kp, st, 0, g, gs, ff, rg, 1, fl, sn, a1, a2, a3, a4, a5) :=
  nm_r e (br_t h5 (br_c (fun z => H a1 a2 (fun _ => rfl) (fun q => absurd z q)) (fun z => br_f (by decide) ⟨pk_in 0 6 (by decide), nm_e ⟨hin, nm_e (H _ _ (fun q => absurd q z) (fun _ => cs_us0))⟩⟩)))
theorem cs_sr {post : St2 → Prop}
    (H : ∀ b1 b2 : Nat → Int32, (fl = 0 → b1 = a1) → (¬ fl = 0 → b1 0 = 1) → post (ct, dr, ra, pt, kp, st, 0, 1, 0, ff, rg, 1, fl, sn, b1, b2, a3, a4, a5)) :
    wpX_startRecord post (ct, dr, ra, pt, kp, st, 0, gf, gs, ff, rg, 1, fl, sn, a1, a2, a3, a4, a5) :=
  br_t (by decide) (cs_sf (g := 0) (g' := 1) (by decide) (by decide) (vp_in_iff.mpr (by decide)) H)
theorem cs_tk {post : St2 → Prop} {k : Int32}
    (H : ∀ b2 b3 : Nat → Int32, post (ct, dr, ra, pt, kp, st, 0, 1, 1, ff, rg, 1, fl, sn, a1, b2, b3, a4, a5)) :
    wpX_take post (ct, dr, ra, pt, kp, st, 0, 1, 0, ff, rg, 1, fl, sn, a1, a2, a3, a4, a5) k :=
  nm_r (e' := (1 : Int32)) (by decide) (br_t (by decide) (br_c (fun _ => H a2 a3) (fun _ => br_f (by decide) (nm_r (e' := (0 : Int32)) (by decide) ⟨vp_in_iff.mpr (by decide), nm_e ⟨vp_in_iff.mpr (by decide), nm_e (H _ _)⟩⟩))))
theorem cs_er {post : St2 → Prop}
    (H : post (ct, dr, ra, pt, kp, 0, 1, gf, gs, gf, rg, ho, fl, sn, a1, a2, a3, a4, a5)) :
    wpX_endRecord post (ct, dr, ra, pt, kp, st, 0, gf, gs, ff, rg, ho, fl, sn, a1, a2, a3, a4, a5) :=
  br_t rfl (br_t rfl (nm_r (e' := (1 : Int32)) (by decide) H))
theorem cs_40 {post : St2 → Prop} {k d : Int32}
    (HD : k = 8 → d &&& 2 = 0 → post (ct, dr, ra, pt, kp, 6, gr, gf, gs, ff, rg, ho, fl, sn, a1, a2, a3, a4, a5))
    (HL : ¬ (k = 8 ∧ d &&& 2 = 0) → post (ct, dr, ra, pt, kp, 7, gr, gf, gs, ff, rg, ho, fl, sn, a1, a2, a3, a4, a5)) :
    wX_afterField_40 post k d ct dr ra pt kp st gr gf gs ff rg ho fl sn a1 a2 a3 a4 a5 :=
  br_c (fun e => br_c (fun z => HD e z) (fun z => HL (fun p => z p.2))) (fun e => HL (fun p => e p.1))
theorem cs_af {post : St2 → Prop} {k d : Int32}
    (HB : k = 5 + (d &&& 1) → ∀ b1 b2 : Nat → Int32, (fl = 0 → b1 = a1) → (¬ fl = 0 → b1 0 = 2) → post (ct, dr, ra, pt, kp, 1, 0, 2, 0, ff, rg, 1, fl, sn, b1, b2, a3, a4, a5))
    (HF : k = 9 → ¬ d &&& 2 = 0 → post (ct, dr, ra, pt, kp, 0, 1, 1, 0, 1, rg, 1, fl, sn, a1, a2, a3, a4, a5))
    (HD : k = 8 → d &&& 2 = 0 → post (ct, dr, ra, pt, kp, 6, 0, 1, 0, ff, rg, 1, fl, sn, a1, a2, a3, a4, a5))
    (HL : ¬ k = 5 + (d &&& 1) → ¬ (k = 8 ∧ d &&& 2 = 0) → ¬ (k = 9 ∧ ¬ d &&& 2 = 0) → post (ct, dr, ra, pt, kp, 7, 0, 1, 0, ff, rg, 1, fl, sn, a1, a2, a3, a4, a5)) :
    wpX_afterField post (ct, dr, ra, pt, kp, 1, 0, 1, 0, ff, rg, 1, fl, sn, a1, a2, a3, a4, a5) k d :=
  br_c (fun e => cs_sf (g := 1) (g' := 2) (by decide) (by decide) (vp_in_iff.mpr (by decide)) (HB e))
    (fun e => br_c (fun e9 => br_c (fun z => cs_40 HD (fun n => HL e n (fun p => p.2 z))) (fun z => cs_er (HF e9 z))) (fun e9 => cs_40 HD (fun n => HL e n (fun p => e9 p.1))))
/-- one step from the begin of a record -/
theorem cs_step {post : St2 → Prop} {k d : Int32}
    (HA : ¬ 7 ≤ k → ¬ k = 5 + (d &&& 1) → ∀ b1 b2 b3 : Nat → Int32, (fl = 0 → b1 = a1) → (¬ fl = 0 → b1 0 = 1) → post (ct, dr, ra, pt, kp, 2, 0, 1, 1, 0, 1, 1, fl, sn, b1, b2, b3, a4, a5))
    (HB : k = 5 + (d &&& 1) → ∀ b1 b2 b3 : Nat → Int32, (fl = 0 → b1 = a1) → (¬ fl = 0 → b1 0 = 2) → post (ct, dr, ra, pt, kp, 1, 0, 2, 0, 0, 1, 1, fl, sn, b1, b2, b3, a4, a5))
    (HC : k = 7 → ∀ b1 b2 b3 : Nat → Int32, (fl = 0 → b1 = a1) → post (ct, dr, ra, pt, kp, 3, 0, 1, 0, 0, 1, 1, fl, sn, b1, b2, b3, a4, a5))
    (HD : k = 8 → d &&& 2 = 0 → ∀ b1 b2 b3 : Nat → Int32, (fl = 0 → b1 = a1) → post (ct, dr, ra, pt, kp, 6, 0, 1, 0, 0, 1, 1, fl, sn, b1, b2, b3, a4, a5))
    (HF : k = 9 → ¬ d &&& 2 = 0 → ∀ b1 b2 b3 : Nat → Int32, (fl = 0 → b1 = a1) → (¬ fl = 0 → b1 0 = 1) → post (ct, dr, ra, pt, kp, 0, 1, 1, 0, 1, 1, 1, fl, sn, b1, b2, b3, a4, a5))
    (HL : 7 ≤ k → ¬ k = 7 → ¬ (k = 8 ∧ d &&& 2 = 0) → ¬ (k = 9 ∧ ¬ d &&& 2 = 0) → ∀ b1 b2 b3 : Nat → Int32, (fl = 0 → b1 = a1) → post (ct, dr, ra, pt, kp, 7, 0, 1, 0, 0, 1, 1, fl, sn, b1, b2, b3, a4, a5)) :
    wpX_step post (ct, dr, ra, pt, kp, 0, 0, gf, gs, 0, 1, 1, fl, sn, a1, a2, a3, a4, a5) k d := by
  refine br_t rfl (cs_sr (fun b1 b2 hb hc => ?_))
  refine br_f (by decide) (br_f (by decide) (br_f (by decide) (br_f (by decide) (br_t rfl (br_c (fun e => HC e b1 b2 a3 hb) (fun e => ?_))))))
  refine br_f (by decide) (br_c (fun h7 => ?_) (fun h7 => br_c (fun e5 => ?_) (fun e5 => ?_)))
  · exact cs_af (fun e5 c1 c2 u _ => absurd h7 (cs_sep7 e5)) (fun e9 z => HF e9 z b1 b2 a3 hb hc) (fun e8 z => HD e8 z b1 b2 a3 hb) (fun _ n8 n9 => HL h7 e n8 n9 b1 b2 a3 hb)
  · exact cs_af (fun _ c1 c2 u v => HB e5 c1 c2 a3 (fun q => (u q).trans (hb q)) v) (fun e9 z => HF e9 z b1 b2 a3 hb hc) (fun e8 z => HD e8 z b1 b2 a3 hb) (fun n _ _ => absurd e5 n)
  · exact cs_tk (fun c2 c3 => HA h7 e5 b1 c2 c3 hb hc)
/-! ===== the reader's loop ===== -/
theorem cs_x {post : Int32 → St2 → Prop} {d : Int32} (H : wX_readAll_97 post ct dr 1 pt kp st gr gf gs ff rg ho fl sn a1 a2 a3 a4 a5) :
    wX_readAll_47 post d 1 1 ct dr 1 pt kp st gr gf gs ff rg ho fl sn a1 a2 a3 a4 a5 :=
  br_t (by decide) H
theorem cs_97a {post : Int32 → St2 → Prop} (H : post 1 (ct, dr, ra, pt, kp, 0, 1, gf, gs, gf, rg, ho, fl, sn, a1, a2, a3, a4, a5)) :
    wX_readAll_97 post ct dr ra pt kp 2 0 gf gs ff rg ho fl sn a1 a2 a3 a4 a5 :=
  br_f (by decide) (br_t rfl (cs_er (br_t rfl H)))
theorem cs_97b {post : Int32 → St2 → Prop} (H : post 1 (ct, dr, ra, pt, kp, 0, 1, gf, gs, gf, rg, ho, fl, sn, a1, a2, a3, a4, a5)) :
    wX_readAll_97 post ct dr ra pt kp 1 0 gf gs ff rg ho fl sn a1 a2 a3 a4 a5 :=
  br_t rfl (cs_er (br_t rfl H))
theorem cs_97f {post : Int32 → St2 → Prop} (H : post 1 (ct, dr, ra, pt, kp, 0, gr, gf, gs, ff, rg, ho, fl, sn, a1, a2, a3, a4, a5)) :
    wX_readAll_97 post ct dr ra pt kp 0 gr gf gs ff rg ho fl sn a1 a2 a3 a4 a5 :=
  br_f (by decide) (br_f (by decide) (br_f (by decide) (br_t rfl H)))
theorem cs_97u {post : Int32 → St2 → Prop} (h1 : ¬ st = 1) (h2 : ¬ st = 2) (h4 : ¬ st = 4) (h0 : ¬ st = 0) (H : post 0 (ct, dr, ra, pt, kp, st, gr, gf, gs, ff, rg, ho, fl, sn, a1, a2, a3, a4, a5)) :
    wX_readAll_97 post ct dr ra pt kp st gr gf gs ff rg ho fl sn a1 a2 a3 a4 a5 :=
  br_f h1 (br_f h2 (br_f h4 (br_f h0 H)))
/-- the reader on a text of one character k -/
theorem cs_ra {post : Int32 → St2 → Prop} {k d : Int32} (h0 : a5 (0 : Int32).toNatClampNeg = k) (hn : narrow .boolean (.int fl) = .int fl) (hf : fits .boolean (.int fl) = true)
    (HA : ¬ 7 ≤ k → ¬ k = 5 + (d &&& 1) → ∀ b1 b2 b3 : Nat → Int32, (fl = 0 → b1 = a1) → (¬ fl = 0 → b1 0 = 1) → post 1 (ct, dr, 1, pt, kp, 0, 1, 1, 1, 1, 1, 1, fl, 1, b1, b2, b3, a4, a5))
    (HB : k = 5 + (d &&& 1) → ∀ b1 b2 b3 : Nat → Int32, (fl = 0 → b1 = a1) → (¬ fl = 0 → b1 0 = 2) → post 1 (ct, dr, 1, pt, kp, 0, 1, 2, 0, 2, 1, 1, fl, 1, b1, b2, b3, a4, a5))
    (HC : k = 7 → ∀ b1 b2 b3 : Nat → Int32, (fl = 0 → b1 = a1) → post 0 (ct, dr, 1, pt, kp, 3, 0, 1, 0, 0, 1, 1, fl, 1, b1, b2, b3, a4, a5))
    (HD : k = 8 → d &&& 2 = 0 → ∀ b1 b2 b3 : Nat → Int32, (fl = 0 → b1 = a1) → post 0 (ct, dr, 1, pt, kp, 6, 0, 1, 0, 0, 1, 1, fl, 1, b1, b2, b3, a4, a5))
    (HF : k = 9 → ¬ d &&& 2 = 0 → ∀ b1 b2 b3 : Nat → Int32, (fl = 0 → b1 = a1) → (¬ fl = 0 → b1 0 = 1) → post 1 (ct, dr, 1, pt, kp, 0, 1, 1, 0, 1, 1, 1, fl, 1, b1, b2, b3, a4, a5))
    (HL : 7 ≤ k → ¬ k = 7 → ¬ (k = 8 ∧ d &&& 2 = 0) → ¬ (k = 9 ∧ ¬ d &&& 2 = 0) → ∀ b1 b2 b3 : Nat → Int32, (fl = 0 → b1 = a1) → post 0 (ct, dr, 1, pt, kp, 7, 0, 1, 0, 0, 1, 1, fl, 0, b1, b2, b3, a4, a5)) :
    wpX_readAll post (ct, dr, 1, pt, kp, st, gr, gf, gs, ff, rg, ho, f0, sn, a1, a2, a3, a4, a5) d fl := by
  subst h0
  refine ⟨hn, hf, 2, br_f (by decide) (br_f (by decide) ⟨pk_in 0 96 (by decide), ?_⟩)⟩
  refine cs_step (fun h h' b1 b2 b3 u v => ?_) (fun h b1 b2 b3 u v => ?_) (fun h b1 b2 b3 u => ?_) (fun h h' b1 b2 b3 u => ?_) (fun h h' b1 b2 b3 u v => ?_) (fun h h' h'' h''' b1 b2 b3 u => ?_)
  · exact br_f (by decide) (nm_r (e' := (1 : Int32)) (by decide) (nm_r (e' := (1 : Int32)) (by decide) (cs_x (cs_97a (HA h h' b1 b2 b3 u v)))))
  · exact br_f (by decide) (nm_r (e' := (1 : Int32)) (by decide) (nm_r (e' := (1 : Int32)) (by decide) (cs_x (cs_97b (HB h b1 b2 b3 u v)))))
  · exact br_f (by decide) (nm_r (e' := (1 : Int32)) (by decide) (nm_r (e' := (1 : Int32)) (by decide) (cs_x (cs_97u (by decide) (by decide) (by decide) (by decide) (HC h b1 b2 b3 u)))))
  · exact br_f (by decide) (nm_r (e' := (1 : Int32)) (by decide) (nm_r (e' := (1 : Int32)) (by decide) (cs_x (cs_97u (by decide) (by decide) (by decide) (by decide) (HD h h' b1 b2 b3 u)))))
  · exact br_f (by decide) (nm_r (e' := (1 : Int32)) (by decide) (nm_r (e' := (1 : Int32)) (by decide) (cs_x (cs_97f (HF h h' b1 b2 b3 u v)))))
  · exact br_t rfl (nm_r (e' := (1 : Int32)) (by decide) (cs_x (cs_97u (by decide) (by decide) (by decide) (by decide) (HL h h' h'' h''' b1 b2 b3 u))))
/-- the reader on the empty text -/
theorem cs_r0 {post : Int32 → St2 → Prop} {d : Int32} (hn : narrow .boolean (.int fl) = .int fl) (hf : fits .boolean (.int fl) = true)
    (H : post 1 (ct, dr, 0, pt, kp, 0, 0, 0, 0, 0, 1, 1, fl, 0, a1, a2, a3, a4, a5)) :
    wpX_readAll post (ct, dr, 0, pt, kp, st, gr, gf, gs, ff, rg, ho, f0, sn, a1, a2, a3, a4, a5) d fl :=
  ⟨hn, hf, 1, br_t (by decide) (cs_97f H)⟩
/-! ===== the calls of the law ===== -/
theorem cs_dr {post : Int32 → St2 → Prop} {c : Int32}
    (H : ∀ (r n : Int32) (b4 : Nat → Int32), (n = 0 ∨ n = 1) → ((c < 0 ∨ 9 < c) → r = -1) → (¬ c < 0 → ¬ 9 < c → r = 1) → post r (ct, n, ra, pt, kp, st, gr, gf, gs, ff, rg, ho, fl, sn, a1, a2, a3, b4, a5)) :
    wpX_draft post (ct, 0, ra, pt, kp, st, gr, gf, gs, ff, rg, ho, fl, sn, a1, a2, a3, a4, a5) c :=
  br_c (fun h => H (-1) 0 a4 (Or.inl rfl) (fun _ => rfl) (fun n => absurd h n))
    (fun h => br_c (fun h9 => br_f (by decide) ⟨pk_in 0 6 (by decide), nm_e (nm_r (e' := (1 : Int32)) (by decide) (H 1 1 _ (Or.inr rfl) (fun o => absurd h9 (Int32.not_le.mpr (o.resolve_left h))) (fun _ _ => rfl)))⟩)
      (fun h9 => H (-1) 0 a4 (Or.inl rfl) (fun _ => rfl) (fun _ n => absurd (Int32.not_le.mp h9) n)))
theorem cs_ar {post : Int32 → St2 → Prop} {n : Int32} (hn : n = 0 ∨ n = 1)
    (H : ∀ b1 b2 b3 : Nat → Int32, b1 0 = 1 → post 1 (1, 0, ra, pt, kp, st, gr, gf, gs, ff, rg, ho, fl, sn, b1, b2, b3, a4, a5)) :
    wpX_addRow post (0, n, ra, pt, kp, st, gr, gf, gs, ff, rg, ho, fl, sn, a1, a2, a3, a4, a5) := by
  rcases hn with rfl | rfl
  · exact br_f (by decide) ⟨pk_in 0 6 (by decide), nm_e ⟨1, br_t (by decide) ⟨vp_in_iff.mpr (by decide), nm_e (nm_r (e' := (1 : Int32)) (by decide) (H _ _ _ cs_us0))⟩⟩⟩
  · exact br_f (by decide) ⟨pk_in 0 6 (by decide), nm_e ⟨2, br_f (by decide) ⟨pk_in 0 6 (by decide), vp_in_iff.mpr (by decide), nm_e (nm_r (e' := (1 : Int32)) (by decide) (br_t (by decide) ⟨vp_in_iff.mpr (by decide), nm_e (nm_r (e' := (1 : Int32)) (by decide) (H _ _ _ cs_us0))⟩))⟩⟩⟩
theorem cs_rw {post : Int32 → St2 → Prop} {k : Int32}
    (HI : ¬ k < 0 → ¬ 10 < k → ∀ b5 : Nat → Int32, b5 (0 : Int32).toNatClampNeg = k → post 1 (ct, dr, 1, pt, kp, st, gr, gf, gs, ff, rg, ho, fl, sn, a1, a2, a3, a4, b5))
    (HO : ¬ (¬ k < 0 ∧ ¬ 10 < k) → post (-1) (ct, dr, 0, pt, kp, st, gr, gf, gs, ff, rg, ho, fl, sn, a1, a2, a3, a4, a5)) :
    wpX_raw post (ct, dr, 0, pt, kp, st, gr, gf, gs, ff, rg, ho, fl, sn, a1, a2, a3, a4, a5) k :=
  br_c (fun h => HO (fun p => p.1 h))
    (fun h => br_c (fun h9 => br_f (by decide) ⟨pk_in 0 96 (by decide), nm_e (nm_r (e' := (1 : Int32)) (by decide) (HI h (fun z => absurd h9 (Int32.not_le.mpr z)) _ pk_us))⟩)
      (fun h9 => HO (fun p => p.2 (Int32.not_le.mp h9))))
theorem cs_so {post : Int32 → St2 → Prop} {k d : Int32} (h0 : a5 (0 : Int32).toNatClampNeg = k) (hd : ¬ d < 0 ∧ ¬ 7 < d)
    (H : ∀ (r s1 s2 s3 s4 s5 : Int32) (b2 b3 : Nat → Int32), (cs_B k d → r = 1) → (¬ cs_B k d → r = 0) → post r (ct, dr, 1, pt, kp, s1, s2, s3, s4, s5, 1, 1, 0, r, a1, b2, b3, a4, a5)) :
    wpX_sound post (ct, dr, 1, pt, kp, st, gr, gf, gs, ff, rg, ho, f0, sn, a1, a2, a3, a4, a5) d := by
  refine br_f hd.1 (br_t (Int32.not_lt.mp hd.2) (br_t rfl (cs_ra h0 rfl rfl (fun h h' b1 b2 b3 u v => ?_) (fun h b1 b2 b3 u v => ?_) (fun h b1 b2 b3 u => ?_) (fun h h' b1 b2 b3 u => ?_) (fun h h' b1 b2 b3 u v => ?_) (fun h h' h'' h''' b1 b2 b3 u => ?_))))
  all_goals (obtain rfl := u rfl)
  · exact H 1 _ _ _ _ _ _ _ (fun _ => rfl) (fun n => absurd (Or.inl (Or.inl h)) n)
  · exact H 1 _ _ _ _ _ _ _ (fun _ => rfl) (fun n => absurd (Or.inl (Or.inl (cs_sep7 h))) n)
  · exact H 1 _ _ _ _ _ _ _ (fun _ => rfl) (fun n => absurd (Or.inr (Or.inl h)) n)
  · exact H 1 _ _ _ _ _ _ _ (fun _ => rfl) (fun n => absurd (Or.inr (Or.inr ⟨h, h'⟩)) n)
  · exact H 1 _ _ _ _ _ _ _ (fun _ => rfl) (fun n => absurd (Or.inl (Or.inr ⟨h, h'⟩)) n)
  · exact H 0 _ _ _ _ _ _ _ (fun y => absurd y (fun y => y.elim (fun y => y.elim (fun y => y h) h''') (fun y => y.elim h' h''))) (fun _ => rfl)
theorem cs_rd {post : Int32 → St2 → Prop} {k d : Int32} (h0 : a5 (0 : Int32).toNatClampNeg = k) (hd : ¬ d < 0 ∧ ¬ 7 < d)
    (HR : cs_R k d → ∀ (s1 s2 s3 s4 s5 s6 : Int32) (b1 b2 b3 : Nat → Int32), (k = 5 + (d &&& 1) → b1 0 = 2) → (¬ k = 5 + (d &&& 1) → b1 0 = 1) → post 1 (1, dr, 1, pt, kp, s1, s2, s3, s4, s5, 1, 1, 1, s6, b1, b2, b3, a4, a5))
    (HU : ¬ cs_R k d → ∀ (s1 s2 s3 s4 s5 s6 : Int32) (b2 b3 : Nat → Int32), post (-5) (ct, dr, 1, pt, kp, s1, s2, s3, s4, s5, 1, 1, 0, s6, a1, b2, b3, a4, a5)) :
    wpX_read post (ct, dr, 1, pt, kp, st, gr, gf, gs, ff, rg, ho, f0, sn, a1, a2, a3, a4, a5) d := by
  have hs9 : k = 9 → ¬ k = 5 + (d &&& 1) := fun e z => absurd (show (7 : Int32) ≤ k by rw [e]; decide) (cs_sep7 z)
  refine br_f hd.1 (br_t (Int32.not_lt.mp hd.2) (br_t rfl (cs_ra h0 rfl rfl (fun h h' b1 b2 b3 u v => ?_) (fun h b1 b2 b3 u v => ?_) (fun h b1 b2 b3 u => ?_) (fun h h' b1 b2 b3 u => ?_) (fun h h' b1 b2 b3 u v => ?_) (fun h h' h'' h''' b1 b2 b3 u => ?_))))
  all_goals (obtain rfl := u rfl)
  · refine br_f (by decide) (br_f (by decide) (cs_ra h0 rfl rfl (fun _ _ c1 c2 c3 _ w => HR (Or.inl h) _ _ _ _ _ _ c1 c2 c3 (fun z => absurd z h') (fun _ => w (by decide))) (fun z => absurd z h') (fun z => absurd (show (7 : Int32) ≤ k by rw [z]; decide) h) (fun z => absurd (show (7 : Int32) ≤ k by rw [z]; decide) h) (fun z => absurd (show (7 : Int32) ≤ k by rw [z]; decide) h) (fun z => absurd z h)))
  · refine br_f (by decide) (br_f (by decide) (cs_ra h0 rfl rfl (fun _ z => absurd h z) (fun _ c1 c2 c3 _ w => HR (Or.inl (cs_sep7 h)) _ _ _ _ _ _ c1 c2 c3 (fun _ => w (by decide)) (fun z => absurd h z)) (fun z => absurd (show (7 : Int32) ≤ k by rw [z]; decide) (cs_sep7 h)) (fun z => absurd (show (7 : Int32) ≤ k by rw [z]; decide) (cs_sep7 h)) (fun z => absurd (show (7 : Int32) ≤ k by rw [z]; decide) (cs_sep7 h)) (fun z => absurd z (cs_sep7 h))))
  · exact br_t rfl (HU (fun o => o.elim (fun n => n (by rw [h]; decide)) (fun p => absurd (h.symm.trans p.1) (by decide))) _ _ _ _ _ _ _ _)
  · exact br_t rfl (HU (fun o => o.elim (fun n => n (by rw [h]; decide)) (fun p => p.2 h')) _ _ _ _ _ _ _ _)
  · refine br_f (by decide) (br_f (by decide) (cs_ra h0 rfl rfl (fun z => absurd (show (7 : Int32) ≤ k by rw [h]; decide) z) (fun z => absurd z (hs9 h)) (fun z => absurd (h.symm.trans z) (by decide)) (fun z => absurd (h.symm.trans z) (by decide)) (fun _ _ c1 c2 c3 _ w => HR (Or.inr ⟨h, h'⟩) _ _ _ _ _ _ c1 c2 c3 (fun z => absurd z (hs9 h)) (fun _ => w (by decide))) (fun _ _ _ z => absurd ⟨h, h'⟩ z)))
  · exact br_t rfl (HU (fun o => o.elim (fun n => n h) h''') _ _ _ _ _ _ _ _)
/-- both readings of the empty text -/
theorem cs_so0 {post : Int32 → St2 → Prop} {d : Int32} (hd : ¬ d < 0 ∧ ¬ 7 < d)
    (H : post 0 (ct, dr, 0, pt, kp, 0, 0, 0, 0, 0, 1, 1, 0, 0, a1, a2, a3, a4, a5)) :
    wpX_sound post (ct, dr, 0, pt, kp, st, gr, gf, gs, ff, rg, ho, f0, sn, a1, a2, a3, a4, a5) d :=
  br_f hd.1 (br_t (Int32.not_lt.mp hd.2) (br_t rfl (cs_r0 rfl rfl H)))
theorem cs_rd0 {post : Int32 → St2 → Prop} {d : Int32} (hd : ¬ d < 0 ∧ ¬ 7 < d)
    (H : post 0 (0, dr, 0, pt, kp, 0, 0, 0, 0, 0, 1, 1, 1, 0, a1, a2, a3, a4, a5)) :
    wpX_read post (ct, dr, 0, pt, kp, st, gr, gf, gs, ff, rg, ho, f0, sn, a1, a2, a3, a4, a5) d :=
  br_f hd.1 (br_t (Int32.not_lt.mp hd.2) (br_t rfl (cs_r0 rfl rfl (br_f (by decide) (br_f (by decide) (cs_r0 rfl rfl H))))))
theorem cs_sox {post : Int32 → St2 → Prop} {d : Int32} (hd : ¬ (¬ d < 0 ∧ ¬ 7 < d))
    (H : post (-1) (ct, dr, ra, pt, kp, st, gr, gf, gs, ff, rg, ho, fl, sn, a1, a2, a3, a4, a5)) :
    wpX_sound post (ct, dr, ra, pt, kp, st, gr, gf, gs, ff, rg, ho, fl, sn, a1, a2, a3, a4, a5) d :=
  br_c (fun _ => br_f (by decide) H) (fun h => br_f (fun h7 => hd ⟨h, fun z => absurd h7 (Int32.not_le.mpr z)⟩) (br_f (by decide) H))
theorem cs_rdx {post : Int32 → St2 → Prop} {d : Int32} (hd : ¬ (¬ d < 0 ∧ ¬ 7 < d))
    (H : post (-1) (ct, dr, ra, pt, kp, st, gr, gf, gs, ff, rg, ho, fl, sn, a1, a2, a3, a4, a5)) :
    wpX_read post (ct, dr, ra, pt, kp, st, gr, gf, gs, ff, rg, ho, fl, sn, a1, a2, a3, a4, a5) d :=
  br_c (fun _ => br_f (by decide) H) (fun h => br_f (fun h7 => hd ⟨h, fun z => absurd h7 (Int32.not_le.mpr z)⟩) (br_f (by decide) H))
theorem cs_fl {post : Int32 → Prop} {r : Int32} (h : a1 0 = r) (H : post r) :
    wpX_fields post (1, dr, ra, pt, kp, st, gr, gf, gs, ff, rg, ho, fl, sn, a1, a2, a3, a4, a5) 0 := by
  refine br_f (by decide) (br_t (by decide) ⟨pk_in 0 6 (by decide), ?_⟩)
  rw [show (0 : Int32).toNatClampNeg = 0 from by decide, h]
  exact H
theorem cs_fl0 {post : Int32 → Prop} (H : post (-4)) :
    wpX_fields post (0, dr, ra, pt, kp, st, gr, gf, gs, ff, rg, ho, fl, sn, a1, a2, a3, a4, a5) 0 :=
  br_f (by decide) (br_f (by decide) H)
end
end
section
/-! ===== the law's tail: its flags and its six comparisons ===== -/
theorem cs_y {P : Prop} (p : P) : ((1 : Int32) = 0 ↔ ¬ P) := ⟨fun z => absurd z (by decide), fun n => absurd p n⟩
theorem cs_n {P : Prop} (p : ¬ P) : ((0 : Int32) = 0 ↔ ¬ P) := ⟨fun _ => p, fun _ => rfl⟩
theorem cs_p {x : Int32} {P : Prop} (e : x = 0 ↔ ¬ P) (h : ¬ x = 0) : P := Classical.byContradiction (fun n => h (e.mpr n))
/-- what the last comparison (and the one ahead of it) rests on -/
def cs_N (x8 x9 x12 x15 x19 : Int32) : Prop :=
  (x12 = 0 → x8 = -1) ∧ (¬ x12 = 0 → x8 = x19) ∧ (x12 = 0 → x9 = 1) ∧ (¬ x12 = 0 → x19 = -5 → x9 = 1) ∧ (¬ x12 = 0 → x19 = 0 → x9 = -4) ∧ (¬ x12 = 0 → ¬ x19 = -5 → ¬ x19 = 0 → x15 = 0 → x9 = 1) ∧ (¬ x12 = 0 → ¬ x19 = -5 → ¬ x19 = 0 → ¬ x15 = 0 → x9 = 2)
section
variable {post : Int32 → St0 → Prop} {mc ms kc ks : Nat} {k d x4 x6 x7 x8 x9 x10 x11 x12 x13 x14 x15 x17 x18 x19 z : Int32}
theorem cs_332 (hp : post 1 ()) (n : cs_N x8 x9 x12 x15 x19) (h8 : x8 = z) : wL_lawOf_332 post mc ms x9 x12 x15 x19 z x8 kc ks :=
  br_t h8 (br_c (fun q => br_t (n.2.2.1 q) hp) (fun q => br_c (fun w => br_t (n.2.2.2.1 q w) hp) (fun w => br_c (fun v => br_t (n.2.2.2.2.1 q v) hp) (fun v => br_c (fun u => br_t (n.2.2.2.2.2.1 q w v u) hp) (fun u => br_t (n.2.2.2.2.2.2 q w v u) hp)))))
theorem cs_316 (hp : post 1 ()) (n : cs_N x8 x9 x12 x15 x19) (h7 : x7 = z) : wL_lawOf_316 post mc ms x8 x9 x12 x15 x19 z x7 kc ks :=
  br_t h7 (br_c (fun q => cs_332 hp n (n.1 q)) (fun q => cs_332 hp n (n.2.1 q)))
theorem cs_287 (hp : post 1 ()) (n : cs_N x8 x9 x12 x15 x19) (h7 : x12 = 0 → x7 = -1) (h70 : ¬ x12 = 0 → (x11 = 0 ∨ x18 = 0) → x7 = 0) (h71 : ¬ x12 = 0 → ¬ x11 = 0 → ¬ x18 = 0 → x7 = 1) (h6 : x6 = z) :
    wL_lawOf_287 post mc ms x7 x8 x9 x11 x12 x15 x18 x19 z x6 kc ks :=
  br_t h6 (br_c (fun q => cs_316 hp n (h7 q)) (fun q => br_c (fun w => cs_316 hp n (h70 q (Or.inl w))) (fun w => br_c (fun v => cs_316 hp n (h70 q (Or.inr v))) (fun v => cs_316 hp n (h71 q w v)))))
theorem cs_252 (hp : post 1 ()) (n : cs_N x8 x9 x12 x15 x19) (h7 : x12 = 0 → x7 = -1) (h70 : ¬ x12 = 0 → (x11 = 0 ∨ x18 = 0) → x7 = 0) (h71 : ¬ x12 = 0 → ¬ x11 = 0 → ¬ x18 = 0 → x7 = 1)
    (h6 : x11 = 0 → x6 = -1) (h61 : ¬ x11 = 0 → x6 = 1) (h4 : x10 = 0 → x4 = -1) (h41 : ¬ x10 = 0 → x4 = 1) :
    wL_lawOf_252 post mc ms x4 1 x6 x7 x8 x9 x10 x11 x12 x15 x18 x19 kc ks :=
  have B : (x11 = 0 → wL_lawOf_287 post mc ms x7 x8 x9 x11 x12 x15 x18 x19 (-1) x6 kc ks) ∧ (¬ x11 = 0 → wL_lawOf_287 post mc ms x7 x8 x9 x11 x12 x15 x18 x19 1 x6 kc ks) :=
    br_c (fun q => cs_287 hp n h7 h70 h71 (h6 q)) (fun q => cs_287 hp n h7 h70 h71 (h61 q))
  br_c (fun q => br_t (h4 q) (br_t rfl B)) (fun q => br_t (h41 q) (br_t rfl B))
theorem cs_230 (H : ∀ x19 : Int32, (x11 = 0 → x19 = 0) → (¬ x11 = 0 → x17 = 0 → x19 = -5) → (¬ x11 = 0 → ¬ x17 = 0 → x19 = 1) → wL_lawOf_252 post mc ms x4 1 x6 x7 x8 x9 x10 x11 x12 x15 x18 x19 kc ks) :
    wL_lawOf_230 post mc ms x4 1 x6 x7 x8 x9 x10 x11 x12 x15 x17 x18 kc ks :=
  br_c (fun q => H 0 (fun _ => rfl) (fun w => absurd q w) (fun w => absurd q w))
    (fun q => br_c (fun w => H (-5) (fun v => absurd v q) (fun _ _ => rfl) (fun _ v => absurd w v)) (fun w => H 1 (fun v => absurd v q) (fun _ v => absurd v w) (fun _ _ => rfl)))
theorem cs_201 (H : ∀ x18 : Int32, (x18 = 0 ↔ ¬ (¬ x17 = 0 ∨ k = 7 ∨ (k = 8 ∧ x14 = 0))) → wL_lawOf_230 post mc ms x4 1 x6 x7 x8 x9 x10 x11 x12 x15 x17 x18 kc ks) :
    wL_lawOf_201 post mc ms k x4 1 x6 x7 x8 x9 x10 x11 x12 x14 x15 x17 kc ks :=
  br_c (fun q => br_c (fun e => H 1 (cs_y (Or.inr (Or.inl e)))) (fun e => br_c (fun e8 => br_c (fun w => H 1 (cs_y (Or.inr (Or.inr ⟨e8, w⟩)))) (fun w => H 0 (cs_n (fun p => p.elim (fun a => a q) (fun p => p.elim e (fun p => w p.2))))))
    (fun e8 => H 0 (cs_n (fun p => p.elim (fun a => a q) (fun p => p.elim e (fun p => e8 p.1))))))) (fun q => H 1 (cs_y (Or.inl q)))
theorem cs_168 (H : ∀ x17 : Int32, (x17 = 0 ↔ ¬ (x11 = 0 ∨ ¬ x15 = 0 ∨ ¬ z = 0 ∨ (k = 9 ∧ ¬ x14 = 0))) → wL_lawOf_201 post mc ms k x4 1 x6 x7 x8 x9 x10 x11 x12 x14 x15 x17 kc ks) :
    wL_lawOf_168 post mc ms k x4 1 x6 x7 x8 x9 x10 x11 x12 x14 x15 z kc ks :=
  br_c (fun q => H 1 (cs_y (Or.inl q))) (fun q => br_c (fun w => br_c (fun v => br_c (fun e => br_c
      (fun u => H 0 (cs_n (fun p => p.elim q (fun p => p.elim (fun a => a w) (fun p => p.elim (fun a => a v) (fun p => p.2 u))))))
      (fun u => H 1 (cs_y (Or.inr (Or.inr (Or.inr ⟨e, u⟩))))))
      (fun e => H 0 (cs_n (fun p => p.elim q (fun p => p.elim (fun a => a w) (fun p => p.elim (fun a => a v) (fun p => e p.1)))))))
      (fun v => H 1 (cs_y (Or.inr (Or.inr (Or.inl v))))))
      (fun w => H 1 (cs_y (Or.inr (Or.inl w)))))
theorem cs_144 (H : ∀ z : Int32, (z = 0 ↔ ¬ (¬ x11 = 0 ∧ ¬ 7 ≤ k ∧ ¬ k = x13)) → wL_lawOf_168 post mc ms k x4 1 x6 x7 x8 x9 x10 x11 x12 x14 x15 z kc ks) :
    wL_lawOf_144 post mc ms k x4 1 x6 x7 x8 x9 x10 x11 x12 x13 x14 x15 kc ks :=
  br_c (fun q => H 0 (cs_n (fun p => p.1 q))) (fun q => br_c (fun w => H 0 (cs_n (fun p => p.2.1 w))) (fun w => br_c (fun v => H 0 (cs_n (fun p => p.2.2 v))) (fun v => H 1 (cs_y ⟨q, w, v⟩))))
theorem cs_126 (H : ∀ x15 : Int32, (x15 = 0 ↔ ¬ (¬ x11 = 0 ∧ k = x13)) → wL_lawOf_144 post mc ms k x4 1 x6 x7 x8 x9 x10 x11 x12 x13 x14 x15 kc ks) :
    wL_lawOf_126 post mc ms k x4 1 x6 x7 x8 x9 x10 x11 x12 x13 x14 kc ks :=
  br_c (fun q => H 0 (cs_n (fun p => p.1 q))) (fun q => br_c (fun w => H 1 (cs_y ⟨q, w⟩)) (fun w => H 0 (cs_n (fun p => w p.2))))
theorem cs_113 (H : ∀ x14 : Int32, (x14 = 0 ↔ ¬ ¬ d &&& 2 = 0) → wL_lawOf_126 post mc ms k x4 1 x6 x7 x8 x9 x10 x11 x12 x13 x14 kc ks) :
    wL_lawOf_113 post mc ms k d x4 1 x6 x7 x8 x9 x10 x11 x12 x13 kc ks :=
  br_c (fun q => H 0 (cs_n (fun p => p q))) (fun q => H 1 (cs_y q))
theorem cs_98 (H : wL_lawOf_113 post mc ms k d x4 1 x6 x7 x8 x9 x10 x11 x12 (5 + (d &&& 1)) kc ks) :
    wL_lawOf_98 post mc ms k d x4 1 x6 x7 x8 x9 x10 x11 x12 kc ks := by
  rcases cs_sep d with ⟨h, h'⟩ | ⟨h, h'⟩
  · rw [h] at H
    exact br_f h' H
  · rw [h] at H
    exact br_t h' H
theorem cs_81 (H : ∀ x12 : Int32, (x12 = 0 ↔ ¬ (¬ d < 0 ∧ ¬ 7 < d)) → wL_lawOf_98 post mc ms k d x4 1 x6 x7 x8 x9 x10 x11 x12 kc ks) :
    wL_lawOf_81 post mc ms k d x4 1 x6 x7 x8 x9 x10 x11 kc ks :=
  br_c (fun q => H 0 (cs_n (fun p => p.1 q))) (fun q => br_c (fun w => H 0 (cs_n (fun p => p.2 w))) (fun w => H 1 (cs_y ⟨q, w⟩)))
theorem cs_64 (H : ∀ x11 : Int32, (x11 = 0 ↔ ¬ (¬ k < 0 ∧ ¬ 10 < k)) → wL_lawOf_81 post mc ms k d x4 1 x6 x7 x8 x9 x10 x11 kc ks) :
    wL_lawOf_64 post mc ms k d x4 1 x6 x7 x8 x9 x10 kc ks :=
  br_c (fun q => H 0 (cs_n (fun p => p.1 q))) (fun q => br_c (fun w => H 0 (cs_n (fun p => p.2 w))) (fun w => H 1 (cs_y ⟨q, w⟩)))
/-- what the calls answer, by k and d alone -/
def cs_P (k d x6 x7 x8 x9 : Int32) : Prop :=
  ((¬ (¬ k < 0 ∧ ¬ 10 < k) → x6 = -1) ∧ ((¬ k < 0 ∧ ¬ 10 < k) → x6 = 1)) ∧
  (¬ (¬ d < 0 ∧ ¬ 7 < d) → x7 = -1 ∧ x8 = -1 ∧ x9 = 1) ∧
  ((¬ d < 0 ∧ ¬ 7 < d) → ¬ (¬ k < 0 ∧ ¬ 10 < k) → x7 = 0 ∧ x8 = 0 ∧ x9 = -4) ∧
  ((¬ d < 0 ∧ ¬ 7 < d) → (¬ k < 0 ∧ ¬ 10 < k) → (cs_B k d → x7 = 1) ∧ (¬ cs_B k d → x7 = 0) ∧ (¬ cs_R k d → x8 = -5 ∧ x9 = 1) ∧ (cs_R k d → x8 = 1 ∧ (k = 5 + (d &&& 1) → x9 = 2) ∧ (¬ k = 5 + (d &&& 1) → x9 = 1)))
theorem cs_end (hp : post 1 ()) (P : cs_P k d x6 x7 x8 x9) (h4 : x10 = 0 → x4 = -1) (h41 : ¬ x10 = 0 → x4 = 1) : wL_lawOf_64 post mc ms k d x4 1 x6 x7 x8 x9 x10 kc ks := by
  obtain ⟨⟨p6, p61⟩, pd, pk, pi⟩ := P
  refine cs_64 (fun x11 e11 => cs_81 (fun x12 e12 => cs_98 (cs_113 (fun x14 e14 => cs_126 (fun x15 e15 => cs_144 (fun z ez => cs_168 (fun x17 e17 => cs_201 (fun x18 e18 => cs_230 (fun x19 d0 d5 d1 => ?_)))))))))
  have i14 : ¬ x14 = 0 ↔ ¬ d &&& 2 = 0 := ⟨fun h => cs_p e14 h, fun h q => (e14.mp q) h⟩
  have j14 : x14 = 0 → d &&& 2 = 0 := fun q => Classical.byContradiction (fun n => i14.mpr n q)
  have k14 : d &&& 2 = 0 → x14 = 0 := fun q => Classical.byContradiction (fun n => i14.mp n q)
  have R1 : ¬ x11 = 0 → ¬ x17 = 0 → cs_R k d := fun q w => by
    rcases cs_p e17 w with h | h | h | h
    · exact absurd h q
    · exact Or.inl (cs_sep7 (cs_p e15 h).2)
    · exact Or.inl (cs_p ez h).2.1
    · exact Or.inr ⟨h.1, i14.mp h.2⟩
  have R0 : ¬ x11 = 0 → x17 = 0 → ¬ cs_R k d := fun q w r => by
    refine e17.mp w ?_
    rcases r with h | h
    · by_cases e : k = 5 + (d &&& 1)
      · exact Or.inr (Or.inl (fun v => e15.mp v ⟨q, e⟩))
      · exact Or.inr (Or.inr (Or.inl (fun v => ez.mp v ⟨q, h, e⟩)))
    · exact Or.inr (Or.inr (Or.inr ⟨h.1, i14.mpr h.2⟩))
  have B1 : ¬ x11 = 0 → ¬ x18 = 0 → cs_B k d := fun q w => by
    rcases cs_p e18 w with h | h | h
    · exact Or.inl (R1 q h)
    · exact Or.inr (Or.inl h)
    · exact Or.inr (Or.inr ⟨h.1, j14 h.2⟩)
  have B0 : ¬ x11 = 0 → x18 = 0 → ¬ cs_B k d := fun q w b => by
    refine e18.mp w ?_
    rcases b with h | h | h
    · exact Or.inl (fun v => R0 q v h)
    · exact Or.inr (Or.inl h)
    · exact Or.inr (Or.inr ⟨h.1, k14 h.2⟩)
  refine cs_252 hp ⟨fun q => (pd (e12.mp q)).2.1, fun q => ?_, fun q => (pd (e12.mp q)).2.2, fun q w => ?_, fun q w => ?_, fun q w v u => ?_, fun q w v u => ?_⟩ (fun q => (pd (e12.mp q)).1) (fun q o => ?_) (fun q w v => (pi (cs_p e12 q) (cs_p e11 w)).1 (B1 w v)) (fun q => p6 (e11.mp q)) (fun q => p61 (cs_p e11 q)) h4 h41
  · by_cases h : x11 = 0
    · rw [d0 h]
      exact (pk (cs_p e12 q) (e11.mp h)).2.1
    · by_cases h' : x17 = 0
      · rw [d5 h h']
        exact ((pi (cs_p e12 q) (cs_p e11 h)).2.2.1 (R0 h h')).1
      · rw [d1 h h']
        exact ((pi (cs_p e12 q) (cs_p e11 h)).2.2.2 (R1 h h')).1
  · by_cases h : x11 = 0
    · exact absurd ((d0 h).symm.trans w) (by decide)
    · by_cases h' : x17 = 0
      · exact ((pi (cs_p e12 q) (cs_p e11 h)).2.2.1 (R0 h h')).2
      · exact absurd ((d1 h h').symm.trans w) (by decide)
  · by_cases h : x11 = 0
    · exact (pk (cs_p e12 q) (e11.mp h)).2.2
    · by_cases h' : x17 = 0
      · exact absurd ((d5 h h').symm.trans w) (by decide)
      · exact absurd ((d1 h h').symm.trans w) (by decide)
  · have h : ¬ x11 = 0 := fun a => v (d0 a)
    have h' : ¬ x17 = 0 := fun a => w (d5 h a)
    exact ((pi (cs_p e12 q) (cs_p e11 h)).2.2.2 (R1 h h')).2.2 (fun e => e15.mp u ⟨h, e⟩)
  · have h : ¬ x11 = 0 := fun a => v (d0 a)
    have h' : ¬ x17 = 0 := fun a => w (d5 h a)
    exact ((pi (cs_p e12 q) (cs_p e11 h)).2.2.2 (R1 h h')).2.1 (cs_p e15 u).2
  · by_cases h : x11 = 0
    · exact (pk (cs_p e12 q) (e11.mp h)).1
    · exact (pi (cs_p e12 q) (cs_p e11 h)).2.1 (B0 h (o.resolve_left h))
/-- the law's tail as it opens: on the first int -/
theorem cs_top {c : Int32} (hp : post 1 ()) (P : cs_P k d x6 x7 x8 x9) (h4 : (c < 0 ∨ 9 < c) → x4 = -1) (h41 : ¬ c < 0 → ¬ 9 < c → x4 = 1) :
    (c < 0 → wL_lawOf_63 post mc ms k d x4 1 x6 x7 x8 x9 kc ks) ∧ (¬ c < 0 → ((9 < c → wL_lawOf_63 post mc ms k d x4 1 x6 x7 x8 x9 kc ks) ∧ (¬ 9 < c → wL_lawOf_64 post mc ms k d x4 1 x6 x7 x8 x9 1 kc ks))) :=
  br_c (fun q => cs_end (x10 := 0) hp P (fun _ => h4 (Or.inl q)) (fun w => absurd rfl w))
    (fun q => br_c (fun w => cs_end (x10 := 0) hp P (fun _ => h4 (Or.inr w)) (fun w => absurd rfl w)) (fun w => cs_end (x10 := 1) hp P (fun z => absurd z (by decide)) (fun _ => h41 q w)))
end
/-! ===== the law ===== -/
theorem cs_law (c k d : Int32) : wpL_lawOf (fun r _ => r = 1) 6 337 () c k d := by
  refine ⟨by decide, by decide, 5, 318, by decide, by decide, by decide, by decide, by decide, by decide, by decide, by decide, by decide, by decide, by decide, by decide, ?_⟩
  refine cs_dr (fun r4 n b4 hn h4 h41 => cs_ar hn (fun b1 b2 b3 hb => ?_))
  by_cases hd : ¬ d < 0 ∧ ¬ 7 < d
  · refine cs_rw (fun k0 k10 b5 h5 => ?_) (fun ko => ?_)
    · refine cs_so h5 hd (fun r7 s1 s2 s3 s4 s5 c2 c3 y7 n7 => ?_)
      refine cs_rd h5 hd (fun hr s1 s2 s3 s4 s5 s6 e1 e2 e3 y2 y1 => ?_) (fun hr s1 s2 s3 s4 s5 s6 e2 e3 => ?_)
      · refine cs_fl rfl ?_
        exact cs_top rfl ⟨⟨fun n => absurd ⟨k0, k10⟩ n, fun _ => rfl⟩, fun n => absurd hd n, fun _ n => absurd ⟨k0, k10⟩ n, fun _ _ => ⟨y7, n7, fun n => absurd hr n, fun _ => ⟨rfl, y2, y1⟩⟩⟩ h4 h41
      · refine cs_fl hb ?_
        exact cs_top rfl ⟨⟨fun n => absurd ⟨k0, k10⟩ n, fun _ => rfl⟩, fun n => absurd hd n, fun _ n => absurd ⟨k0, k10⟩ n, fun _ _ => ⟨y7, n7, fun _ => ⟨rfl, rfl⟩, fun h => absurd h hr⟩⟩ h4 h41
    · refine cs_so0 hd (cs_rd0 hd (cs_fl0 ?_))
      exact cs_top rfl ⟨⟨fun _ => rfl, fun h => absurd h ko⟩, fun n => absurd hd n, fun _ _ => ⟨rfl, rfl, rfl⟩, fun _ h => absurd h ko⟩ h4 h41
  · refine cs_rw (fun k0 k10 b5 h5 => ?_) (fun ko => ?_)
    · refine cs_sox hd (cs_rdx hd (cs_fl hb ?_))
      exact cs_top rfl ⟨⟨fun n => absurd ⟨k0, k10⟩ n, fun _ => rfl⟩, fun _ => ⟨rfl, rfl, rfl⟩, fun h => absurd h hd, fun h => absurd h hd⟩ h4 h41
    · refine cs_sox hd (cs_rdx hd (cs_fl hb ?_))
      exact cs_top rfl ⟨⟨fun _ => rfl, fun h => absurd h ko⟩, fun _ => ⟨rfl, rfl, rfl⟩, fun h => absurd h hd, fun h => absurd h hd⟩ h4 h41
theorem cs_cell {post : Int32 → Prop} {L : Nat} {xs : Nat → Int32} {x : Int32} (i : Nat) (hx : x = nI i) (hi : i < 3) (hL : L ≤ 3) (H : ∀ r, post r) : wpL_cellAt post L xs () x := by
  subst hx
  exact pk_le L i (fun _ => H 0) (fun h => ⟨pk_in i L h, H _⟩)
/-! ===== WHAT IS OWED for CsvDialectLaw: one statement: the law answers true on every script of L ints xs ===== -/
theorem i_vc (xs : Nat → Int32) (L : Nat) (hL : L ≤ 3) : wpL_law (fun r => r = 1) L xs :=
  cs_cell 0 rfl (by decide) hL (fun c => cs_cell 1 rfl (by decide) hL (fun k => cs_cell 2 rfl (by decide) hL (fun d => ⟨6, 337, by decide, by decide, cs_law c k d⟩)))
end
