/-! BedBookModel: the tape is cut (printed out of tmpl/t_model9.txt) -/
set_option maxRecDepth 100000
/-- the first m tokens stand in the rows -/
def tokM (S P : Nat → Nat) (v : Nat → Int64) (m : Nat) (I : It) (L : Lt) : Prop := ∀ j, j < m → I 4 j = nI (S j) ∧ I 5 j = nI (P j) ∧ L 6 j = v j
/-- only what cutting writes has changed -/
def cutF (I I' : It) : Prop := ∀ a j, ¬ (a = 4 ∨ a = 5 ∨ (a = 0 ∧ (j = 2 ∨ j = 3 ∨ j = 7 ∨ j = 8))) → I' a j = I a j
theorem cutF.u2 {I I' : It} {a j : Nat} {x : Int32} (h : cutF I I') (q : a = 4 ∨ a = 5 ∨ (a = 0 ∧ (j = 2 ∨ j = 3 ∨ j = 7 ∨ j = 8))) : cutF I (u2 I' a j x) := by
  intro b i hb
  rw [u2_n _ _ (fun e => hb (by rw [e.1, e.2]; exact q))]
  exact h b i hb
abbrev spX4_cutAll : Sp := fun av T I L R uc us k => ∃ N : Nat, av = [.ref 0] ∧ T = TM ∧ R = RM ∧ I 0 2 = nI N ∧ N ≤ 600 ∧ ∀ (I' : It) (L' : Lt) (nt : Nat), nt ≤ N → (∀ j, j < nt → ¬ srt (I 1) N j = 0) → srt (I 1) N nt = 0 → tokM (srt (I 1) N) (plc (I 1) N) (vl (I 1) N) nt I' L' → I' 4 nt = 0 → I' 5 nt = nI N → I' 0 7 = 0 → I' 0 8 = 0 → I' 0 2 = 0 → cutF I I' → (∀ a, a ≠ 6 → L' a = L a) → k (.inl none) T I' L' R uc us
theorem eX4_cutAll_265 : dc cX4_cutAll 265 (.aload_n 0) 1 266 := ⟨by decide +kernel, rfl⟩
theorem eX4_cutAll_266 : dc cX4_cutAll 266 (.getfield 30) 3 269 := ⟨by decide +kernel, rfl⟩
theorem eX4_cutAll_269 : dc cX4_cutAll 269 (.iload_n 1) 1 270 := ⟨by decide +kernel, rfl⟩
theorem eX4_cutAll_270 : dc cX4_cutAll 270 (.lload 5) 2 272 := ⟨by decide +kernel, rfl⟩
theorem eX4_cutAll_272 : dc cX4_cutAll 272 (.lastore) 1 273 := ⟨by decide +kernel, rfl⟩
theorem eX4_cutAll_273 : dc cX4_cutAll 273 (.iinc 1 1) 3 276 := ⟨by decide +kernel, rfl⟩
theorem eX4_cutAll_276 : dj cX4_cutAll 276 (.goto (-259)) (-259) 17 279 := ⟨by decide +kernel, by decide, rfl⟩
theorem eX4_cutAll_129 : dc cX4_cutAll 129 (.aload_n 0) 1 130 := ⟨by decide +kernel, rfl⟩
theorem eX4_cutAll_130 : dc cX4_cutAll 130 (.getfield 24) 3 133 := ⟨by decide +kernel, rfl⟩
theorem eX4_cutAll_133 : dc cX4_cutAll 133 (.iload_n 1) 1 134 := ⟨by decide +kernel, rfl⟩
theorem eX4_cutAll_134 : dc cX4_cutAll 134 (.iload_n 2) 1 135 := ⟨by decide +kernel, rfl⟩
theorem eX4_cutAll_135 : dc cX4_cutAll 135 (.iload 4) 2 137 := ⟨by decide +kernel, rfl⟩
theorem eX4_cutAll_137 : dc cX4_cutAll 137 (.isub) 1 138 := ⟨by decide +kernel, rfl⟩
theorem eX4_cutAll_138 : dc cX4_cutAll 138 (.bipush 8) 2 140 := ⟨by decide +kernel, rfl⟩
theorem eX4_cutAll_140 : dj cX4_cutAll 140 (.if_icmp .le 7) 7 147 143 := ⟨by decide +kernel, by decide, rfl⟩
theorem eX4_cutAll_147 : dc cX4_cutAll 147 (.iconst 1) 1 148 := ⟨by decide +kernel, rfl⟩
theorem eX4_cutAll_148 : dc cX4_cutAll 148 (.iastore) 1 149 := ⟨by decide +kernel, rfl⟩
theorem eX4_cutAll_149 : dj cX4_cutAll 149 (.goto 116) 116 265 152 := ⟨by decide +kernel, by decide, rfl⟩
theorem eX4_cutAll_143 : dc cX4_cutAll 143 (.iconst 4) 1 144 := ⟨by decide +kernel, rfl⟩
theorem eX4_cutAll_144 : dj cX4_cutAll 144 (.goto 4) 4 148 147 := ⟨by decide +kernel, by decide, rfl⟩
theorem eX4_cutAll_70 : dc cX4_cutAll 70 (.iload_n 2) 1 71 := ⟨by decide +kernel, rfl⟩
theorem eX4_cutAll_71 : dc cX4_cutAll 71 (.aload_n 0) 1 72 := ⟨by decide +kernel, rfl⟩
theorem eX4_cutAll_72 : dc cX4_cutAll 72 (.getfield 172) 3 75 := ⟨by decide +kernel, rfl⟩
theorem flX4_172 : FL RX4 172 3 3 := ⟨_, _, _, _, rfl, by decide, by decide, Or.inl (lk q1242), Or.inl rfl⟩
theorem eX4_cutAll_75 : dj cX4_cutAll 75 (.if_icmp .ge 54) 54 129 78 := ⟨by decide +kernel, by decide, rfl⟩
theorem eX4_cutAll_78 : dc cX4_cutAll 78 (.aload_n 0) 1 79 := ⟨by decide +kernel, rfl⟩
theorem eX4_cutAll_79 : dc cX4_cutAll 79 (.getfield 14) 3 82 := ⟨by decide +kernel, rfl⟩
theorem eX4_cutAll_82 : dc cX4_cutAll 82 (.iload_n 2) 1 83 := ⟨by decide +kernel, rfl⟩
theorem eX4_cutAll_83 : dc cX4_cutAll 83 (.iaload) 1 84 := ⟨by decide +kernel, rfl⟩
theorem eX4_cutAll_84 : dc cX4_cutAll 84 (.invokestatic 168) 3 87 := ⟨by decide +kernel, rfl⟩
theorem eX4_cutAll_87 : dj cX4_cutAll 87 (.ifCond .eq 42) 42 129 90 := ⟨by decide +kernel, by decide, rfl⟩
theorem eX4_cutAll_90 : dc cX4_cutAll 90 (.iload_n 2) 1 91 := ⟨by decide +kernel, rfl⟩
theorem eX4_cutAll_91 : dc cX4_cutAll 91 (.iload 4) 2 93 := ⟨by decide +kernel, rfl⟩
theorem eX4_cutAll_93 : dc cX4_cutAll 93 (.isub) 1 94 := ⟨by decide +kernel, rfl⟩
theorem eX4_cutAll_94 : dc cX4_cutAll 94 (.bipush 8) 2 96 := ⟨by decide +kernel, rfl⟩
theorem eX4_cutAll_96 : dj cX4_cutAll 96 (.if_icmp .ge 23) 23 119 99 := ⟨by decide +kernel, by decide, rfl⟩
theorem eX4_cutAll_119 : dc cX4_cutAll 119 (.lload 5) 2 121 := ⟨by decide +kernel, rfl⟩
theorem eX4_cutAll_121 : dc cX4_cutAll 121 (.lstore 5) 2 123 := ⟨by decide +kernel, rfl⟩
theorem eX4_cutAll_123 : dc cX4_cutAll 123 (.iinc 2 1) 3 126 := ⟨by decide +kernel, rfl⟩
theorem eX4_cutAll_126 : dj cX4_cutAll 126 (.goto (-56)) (-56) 70 129 := ⟨by decide +kernel, by decide, rfl⟩
theorem eX4_cutAll_99 : dc cX4_cutAll 99 (.ldc2_w 175) 3 102 := ⟨by decide +kernel, rfl⟩
theorem eX4_cutAll_102 : dc cX4_cutAll 102 (.lload 5) 2 104 := ⟨by decide +kernel, rfl⟩
theorem eX4_cutAll_104 : dc cX4_cutAll 104 (.lmul) 1 105 := ⟨by decide +kernel, rfl⟩
theorem eX4_cutAll_105 : dc cX4_cutAll 105 (.aload_n 0) 1 106 := ⟨by decide +kernel, rfl⟩
theorem eX4_cutAll_106 : dc cX4_cutAll 106 (.getfield 14) 3 109 := ⟨by decide +kernel, rfl⟩
theorem eX4_cutAll_109 : dc cX4_cutAll 109 (.iload_n 2) 1 110 := ⟨by decide +kernel, rfl⟩
theorem eX4_cutAll_110 : dc cX4_cutAll 110 (.iaload) 1 111 := ⟨by decide +kernel, rfl⟩
theorem eX4_cutAll_111 : dc cX4_cutAll 111 (.invokestatic 177) 3 114 := ⟨by decide +kernel, rfl⟩
theorem pkX4_177 : PkS RX4 177 yX4_rank (.code yX4_rank cX4_rank 1 (some .int)) 1 1 := ⟨cwd_c, (lk q1424), (lk q1422), (lk q1423), (lk q67), nmd_c, ⟨⟨by decide, by decide⟩, by decide +kernel⟩, by decide⟩
theorem eX4_cutAll_114 : dc cX4_cutAll 114 (.i2l) 1 115 := ⟨by decide +kernel, rfl⟩
theorem eX4_cutAll_115 : dc cX4_cutAll 115 (.ladd) 1 116 := ⟨by decide +kernel, rfl⟩
theorem eX4_cutAll_116 : dj cX4_cutAll 116 (.goto 5) 5 121 119 := ⟨by decide +kernel, by decide, rfl⟩
theorem eX4_cutAll_218 : dc cX4_cutAll 218 (.aload_n 0) 1 219 := ⟨by decide +kernel, rfl⟩
theorem eX4_cutAll_219 : dc cX4_cutAll 219 (.getfield 24) 3 222 := ⟨by decide +kernel, rfl⟩
theorem eX4_cutAll_222 : dc cX4_cutAll 222 (.iload_n 1) 1 223 := ⟨by decide +kernel, rfl⟩
theorem eX4_cutAll_223 : dc cX4_cutAll 223 (.iload_n 2) 1 224 := ⟨by decide +kernel, rfl⟩
theorem eX4_cutAll_224 : dc cX4_cutAll 224 (.iload 4) 2 226 := ⟨by decide +kernel, rfl⟩
theorem eX4_cutAll_226 : dc cX4_cutAll 226 (.isub) 1 227 := ⟨by decide +kernel, rfl⟩
theorem eX4_cutAll_227 : dc cX4_cutAll 227 (.iconst 4) 1 228 := ⟨by decide +kernel, rfl⟩
theorem eX4_cutAll_228 : dj cX4_cutAll 228 (.if_icmp .le 7) 7 235 231 := ⟨by decide +kernel, by decide, rfl⟩
theorem eX4_cutAll_235 : dc cX4_cutAll 235 (.iconst 2) 1 236 := ⟨by decide +kernel, rfl⟩
theorem eX4_cutAll_236 : dc cX4_cutAll 236 (.iastore) 1 237 := ⟨by decide +kernel, rfl⟩
theorem eX4_cutAll_237 : dj cX4_cutAll 237 (.goto 28) 28 265 240 := ⟨by decide +kernel, by decide, rfl⟩
theorem eX4_cutAll_231 : dc cX4_cutAll 231 (.iconst 4) 1 232 := ⟨by decide +kernel, rfl⟩
theorem eX4_cutAll_232 : dj cX4_cutAll 232 (.goto 4) 4 236 235 := ⟨by decide +kernel, by decide, rfl⟩
theorem eX4_cutAll_159 : dc cX4_cutAll 159 (.iload_n 2) 1 160 := ⟨by decide +kernel, rfl⟩
theorem eX4_cutAll_160 : dc cX4_cutAll 160 (.aload_n 0) 1 161 := ⟨by decide +kernel, rfl⟩
theorem eX4_cutAll_161 : dc cX4_cutAll 161 (.getfield 172) 3 164 := ⟨by decide +kernel, rfl⟩
theorem eX4_cutAll_164 : dj cX4_cutAll 164 (.if_icmp .ge 54) 54 218 167 := ⟨by decide +kernel, by decide, rfl⟩
theorem eX4_cutAll_167 : dc cX4_cutAll 167 (.aload_n 0) 1 168 := ⟨by decide +kernel, rfl⟩
theorem eX4_cutAll_168 : dc cX4_cutAll 168 (.getfield 14) 3 171 := ⟨by decide +kernel, rfl⟩
theorem eX4_cutAll_171 : dc cX4_cutAll 171 (.iload_n 2) 1 172 := ⟨by decide +kernel, rfl⟩
theorem eX4_cutAll_172 : dc cX4_cutAll 172 (.iaload) 1 173 := ⟨by decide +kernel, rfl⟩
theorem eX4_cutAll_173 : dc cX4_cutAll 173 (.invokestatic 181) 3 176 := ⟨by decide +kernel, rfl⟩
theorem pkX4_181 : PkS RX4 181 yX4_isDigit (.code yX4_isDigit cX4_isDigit 1 (some .boolean)) 1 1 := ⟨cwd_c, (lk q1427), (lk q1425), (lk q1426), (lk q67), nmd_c, ⟨⟨by decide, by decide⟩, by decide +kernel⟩, by decide⟩
theorem eX4_cutAll_176 : dj cX4_cutAll 176 (.ifCond .eq 42) 42 218 179 := ⟨by decide +kernel, by decide, rfl⟩
theorem eX4_cutAll_179 : dc cX4_cutAll 179 (.iload_n 2) 1 180 := ⟨by decide +kernel, rfl⟩
theorem eX4_cutAll_180 : dc cX4_cutAll 180 (.iload 4) 2 182 := ⟨by decide +kernel, rfl⟩
theorem eX4_cutAll_182 : dc cX4_cutAll 182 (.isub) 1 183 := ⟨by decide +kernel, rfl⟩
theorem eX4_cutAll_183 : dc cX4_cutAll 183 (.iconst 4) 1 184 := ⟨by decide +kernel, rfl⟩
theorem eX4_cutAll_184 : dj cX4_cutAll 184 (.if_icmp .ge 24) 24 208 187 := ⟨by decide +kernel, by decide, rfl⟩
theorem eX4_cutAll_208 : dc cX4_cutAll 208 (.lload 5) 2 210 := ⟨by decide +kernel, rfl⟩
theorem eX4_cutAll_210 : dc cX4_cutAll 210 (.lstore 5) 2 212 := ⟨by decide +kernel, rfl⟩
theorem eX4_cutAll_212 : dc cX4_cutAll 212 (.iinc 2 1) 3 215 := ⟨by decide +kernel, rfl⟩
theorem eX4_cutAll_215 : dj cX4_cutAll 215 (.goto (-56)) (-56) 159 218 := ⟨by decide +kernel, by decide, rfl⟩
theorem eX4_cutAll_187 : dc cX4_cutAll 187 (.ldc2_w 184) 3 190 := ⟨by decide +kernel, rfl⟩
theorem eX4_cutAll_190 : dc cX4_cutAll 190 (.lload 5) 2 192 := ⟨by decide +kernel, rfl⟩
theorem eX4_cutAll_192 : dc cX4_cutAll 192 (.lmul) 1 193 := ⟨by decide +kernel, rfl⟩
theorem eX4_cutAll_193 : dc cX4_cutAll 193 (.aload_n 0) 1 194 := ⟨by decide +kernel, rfl⟩
theorem eX4_cutAll_194 : dc cX4_cutAll 194 (.getfield 14) 3 197 := ⟨by decide +kernel, rfl⟩
theorem eX4_cutAll_197 : dc cX4_cutAll 197 (.iload_n 2) 1 198 := ⟨by decide +kernel, rfl⟩
theorem eX4_cutAll_198 : dc cX4_cutAll 198 (.iaload) 1 199 := ⟨by decide +kernel, rfl⟩
theorem eX4_cutAll_199 : dc cX4_cutAll 199 (.i2l) 1 200 := ⟨by decide +kernel, rfl⟩
theorem eX4_cutAll_200 : dc cX4_cutAll 200 (.ladd) 1 201 := ⟨by decide +kernel, rfl⟩
theorem eX4_cutAll_201 : dc cX4_cutAll 201 (.ldc2_w 186) 3 204 := ⟨by decide +kernel, rfl⟩
theorem eX4_cutAll_204 : dc cX4_cutAll 204 (.lsub) 1 205 := ⟨by decide +kernel, rfl⟩
theorem eX4_cutAll_205 : dj cX4_cutAll 205 (.goto 5) 5 210 208 := ⟨by decide +kernel, by decide, rfl⟩
theorem eX4_cutAll_17 : dc cX4_cutAll 17 (.iload_n 2) 1 18 := ⟨by decide +kernel, rfl⟩
theorem eX4_cutAll_18 : dc cX4_cutAll 18 (.aload_n 0) 1 19 := ⟨by decide +kernel, rfl⟩
theorem eX4_cutAll_19 : dc cX4_cutAll 19 (.getfield 172) 3 22 := ⟨by decide +kernel, rfl⟩
theorem eX4_cutAll_22 : dj cX4_cutAll 22 (.if_icmp .ge 257) 257 279 25 := ⟨by decide +kernel, by decide, rfl⟩
theorem eX4_cutAll_279 : dc cX4_cutAll 279 (.aload_n 0) 1 280 := ⟨by decide +kernel, rfl⟩
theorem eX4_cutAll_280 : dc cX4_cutAll 280 (.getfield 24) 3 283 := ⟨by decide +kernel, rfl⟩
theorem eX4_cutAll_283 : dc cX4_cutAll 283 (.iload_n 1) 1 284 := ⟨by decide +kernel, rfl⟩
theorem eX4_cutAll_284 : dc cX4_cutAll 284 (.iconst 0) 1 285 := ⟨by decide +kernel, rfl⟩
theorem eX4_cutAll_285 : dc cX4_cutAll 285 (.iastore) 1 286 := ⟨by decide +kernel, rfl⟩
theorem eX4_cutAll_286 : dc cX4_cutAll 286 (.aload_n 0) 1 287 := ⟨by decide +kernel, rfl⟩
theorem eX4_cutAll_287 : dc cX4_cutAll 287 (.getfield 27) 3 290 := ⟨by decide +kernel, rfl⟩
theorem eX4_cutAll_290 : dc cX4_cutAll 290 (.iload_n 1) 1 291 := ⟨by decide +kernel, rfl⟩
theorem eX4_cutAll_291 : dc cX4_cutAll 291 (.aload_n 0) 1 292 := ⟨by decide +kernel, rfl⟩
theorem eX4_cutAll_292 : dc cX4_cutAll 292 (.getfield 172) 3 295 := ⟨by decide +kernel, rfl⟩
theorem eX4_cutAll_295 : dc cX4_cutAll 295 (.iastore) 1 296 := ⟨by decide +kernel, rfl⟩
theorem eX4_cutAll_296 : dc cX4_cutAll 296 (.aload_n 0) 1 297 := ⟨by decide +kernel, rfl⟩
theorem eX4_cutAll_297 : dc cX4_cutAll 297 (.iconst 0) 1 298 := ⟨by decide +kernel, rfl⟩
theorem eX4_cutAll_298 : dc cX4_cutAll 298 (.putfield 191) 3 301 := ⟨by decide +kernel, rfl⟩
theorem eX4_cutAll_301 : dc cX4_cutAll 301 (.aload_n 0) 1 302 := ⟨by decide +kernel, rfl⟩
theorem eX4_cutAll_302 : dc cX4_cutAll 302 (.iconst 0) 1 303 := ⟨by decide +kernel, rfl⟩
theorem eX4_cutAll_303 : dc cX4_cutAll 303 (.putfield 194) 3 306 := ⟨by decide +kernel, rfl⟩
theorem eX4_cutAll_306 : dc cX4_cutAll 306 (.return_) 1 307 := ⟨by decide +kernel, rfl⟩
theorem eX4_cutAll_25 : dc cX4_cutAll 25 (.aload_n 0) 1 26 := ⟨by decide +kernel, rfl⟩
theorem eX4_cutAll_26 : dc cX4_cutAll 26 (.getfield 14) 3 29 := ⟨by decide +kernel, rfl⟩
theorem eX4_cutAll_29 : dc cX4_cutAll 29 (.iload_n 2) 1 30 := ⟨by decide +kernel, rfl⟩
theorem eX4_cutAll_30 : dc cX4_cutAll 30 (.iaload) 1 31 := ⟨by decide +kernel, rfl⟩
theorem eX4_cutAll_31 : dc cX4_cutAll 31 (.istore_n 3) 1 32 := ⟨by decide +kernel, rfl⟩
theorem eX4_cutAll_32 : dc cX4_cutAll 32 (.iload_n 3) 1 33 := ⟨by decide +kernel, rfl⟩
theorem eX4_cutAll_33 : dc cX4_cutAll 33 (.bipush 10) 2 35 := ⟨by decide +kernel, rfl⟩
theorem eX4_cutAll_35 : dj cX4_cutAll 35 (.if_icmp .eq 9) 9 44 38 := ⟨by decide +kernel, by decide, rfl⟩
theorem eX4_cutAll_44 : dc cX4_cutAll 44 (.iinc 2 1) 3 47 := ⟨by decide +kernel, rfl⟩
theorem eX4_cutAll_47 : dj cX4_cutAll 47 (.goto (-30)) (-30) 17 50 := ⟨by decide +kernel, by decide, rfl⟩
theorem eX4_cutAll_38 : dc cX4_cutAll 38 (.iload_n 3) 1 39 := ⟨by decide +kernel, rfl⟩
theorem eX4_cutAll_39 : dc cX4_cutAll 39 (.bipush 32) 2 41 := ⟨by decide +kernel, rfl⟩
theorem eX4_cutAll_41 : dj cX4_cutAll 41 (.if_icmp .ne 9) 9 50 44 := ⟨by decide +kernel, by decide, rfl⟩
theorem eX4_cutAll_50 : dc cX4_cutAll 50 (.iload_n 2) 1 51 := ⟨by decide +kernel, rfl⟩
theorem eX4_cutAll_51 : dc cX4_cutAll 51 (.istore 4) 2 53 := ⟨by decide +kernel, rfl⟩
theorem eX4_cutAll_53 : dc cX4_cutAll 53 (.lconst 0) 1 54 := ⟨by decide +kernel, rfl⟩
theorem eX4_cutAll_54 : dc cX4_cutAll 54 (.lstore 5) 2 56 := ⟨by decide +kernel, rfl⟩
theorem eX4_cutAll_56 : dc cX4_cutAll 56 (.aload_n 0) 1 57 := ⟨by decide +kernel, rfl⟩
theorem eX4_cutAll_57 : dc cX4_cutAll 57 (.getfield 27) 3 60 := ⟨by decide +kernel, rfl⟩
theorem eX4_cutAll_60 : dc cX4_cutAll 60 (.iload_n 1) 1 61 := ⟨by decide +kernel, rfl⟩
theorem eX4_cutAll_61 : dc cX4_cutAll 61 (.iload_n 2) 1 62 := ⟨by decide +kernel, rfl⟩
theorem eX4_cutAll_62 : dc cX4_cutAll 62 (.iastore) 1 63 := ⟨by decide +kernel, rfl⟩
theorem eX4_cutAll_63 : dc cX4_cutAll 63 (.iload_n 3) 1 64 := ⟨by decide +kernel, rfl⟩
theorem eX4_cutAll_64 : dc cX4_cutAll 64 (.invokestatic 168) 3 67 := ⟨by decide +kernel, rfl⟩
theorem eX4_cutAll_67 : dj cX4_cutAll 67 (.ifCond .eq 85) 85 152 70 := ⟨by decide +kernel, by decide, rfl⟩
theorem eX4_cutAll_152 : dc cX4_cutAll 152 (.iload_n 3) 1 153 := ⟨by decide +kernel, rfl⟩
theorem eX4_cutAll_153 : dc cX4_cutAll 153 (.invokestatic 181) 3 156 := ⟨by decide +kernel, rfl⟩
theorem eX4_cutAll_156 : dj cX4_cutAll 156 (.ifCond .eq 84) 84 240 159 := ⟨by decide +kernel, by decide, rfl⟩
theorem eX4_cutAll_240 : dc cX4_cutAll 240 (.iload_n 3) 1 241 := ⟨by decide +kernel, rfl⟩
theorem eX4_cutAll_241 : dc cX4_cutAll 241 (.i2l) 1 242 := ⟨by decide +kernel, rfl⟩
theorem eX4_cutAll_242 : dc cX4_cutAll 242 (.lstore 5) 2 244 := ⟨by decide +kernel, rfl⟩
theorem eX4_cutAll_244 : dc cX4_cutAll 244 (.aload_n 0) 1 245 := ⟨by decide +kernel, rfl⟩
theorem eX4_cutAll_245 : dc cX4_cutAll 245 (.getfield 24) 3 248 := ⟨by decide +kernel, rfl⟩
theorem eX4_cutAll_248 : dc cX4_cutAll 248 (.iload_n 1) 1 249 := ⟨by decide +kernel, rfl⟩
theorem eX4_cutAll_249 : dc cX4_cutAll 249 (.iload_n 3) 1 250 := ⟨by decide +kernel, rfl⟩
theorem eX4_cutAll_250 : dc cX4_cutAll 250 (.invokestatic 188) 3 253 := ⟨by decide +kernel, rfl⟩
theorem pkX4_188 : PkS RX4 188 yX4_isSignOf (.code yX4_isSignOf cX4_isSignOf 1 (some .boolean)) 1 1 := ⟨cwd_c, (lk q1432), (lk q1430), (lk q1431), (lk q67), nmd_c, ⟨⟨by decide, by decide⟩, by decide +kernel⟩, by decide⟩
theorem eX4_cutAll_253 : dj cX4_cutAll 253 (.ifCond .eq 7) 7 260 256 := ⟨by decide +kernel, by decide, rfl⟩
theorem eX4_cutAll_260 : dc cX4_cutAll 260 (.iconst 4) 1 261 := ⟨by decide +kernel, rfl⟩
theorem eX4_cutAll_261 : dc cX4_cutAll 261 (.iastore) 1 262 := ⟨by decide +kernel, rfl⟩
theorem eX4_cutAll_262 : dc cX4_cutAll 262 (.iinc 2 1) 3 265 := ⟨by decide +kernel, rfl⟩
theorem eX4_cutAll_256 : dc cX4_cutAll 256 (.iconst 3) 1 257 := ⟨by decide +kernel, rfl⟩
theorem eX4_cutAll_257 : dj cX4_cutAll 257 (.goto 4) 4 261 260 := ⟨by decide +kernel, by decide, rfl⟩
theorem eX4_cutAll_0 : dc cX4_cutAll 0 (.aload_n 0) 1 1 := ⟨by decide +kernel, rfl⟩
theorem eX4_cutAll_1 : dc cX4_cutAll 1 (.aload_n 0) 1 2 := ⟨by decide +kernel, rfl⟩
theorem eX4_cutAll_2 : dc cX4_cutAll 2 (.getfield 11) 3 5 := ⟨by decide +kernel, rfl⟩
theorem eX4_cutAll_5 : dc cX4_cutAll 5 (.putfield 172) 3 8 := ⟨by decide +kernel, rfl⟩
theorem pflX4_172 {nm : String} : (FL RX4 172 3 3 ∧ FN 3 3) ∨ (FF RX4 172 3 3 ∧ nm = "<init>") := Or.inl ⟨flX4_172, fun C Tb N h => by cases h; rfl⟩
theorem eX4_cutAll_8 : dc cX4_cutAll 8 (.aload_n 0) 1 9 := ⟨by decide +kernel, rfl⟩
theorem eX4_cutAll_9 : dc cX4_cutAll 9 (.iconst 0) 1 10 := ⟨by decide +kernel, rfl⟩
theorem eX4_cutAll_10 : dc cX4_cutAll 10 (.putfield 11) 3 13 := ⟨by decide +kernel, rfl⟩
theorem eX4_cutAll_13 : dc cX4_cutAll 13 (.iconst 0) 1 14 := ⟨by decide +kernel, rfl⟩
theorem eX4_cutAll_14 : dc cX4_cutAll 14 (.istore_n 1) 1 15 := ⟨by decide +kernel, rfl⟩
theorem eX4_cutAll_15 : dc cX4_cutAll 15 (.iconst 0) 1 16 := ⟨by decide +kernel, rfl⟩
theorem eX4_cutAll_16 : dc cX4_cutAll 16 (.istore_n 2) 1 17 := ⟨by decide +kernel, rfl⟩
set_option maxHeartbeats 8000000 in
theorem ctX4_cutAll (l : Launch) : Ct l yX4_cutAll (.code yX4_cutAll cX4_cutAll 7 none) 3 spX4_cutAll := by
  refine Ct.of (own := RX4) (nm := "cutAll") (by decide) rfl rfl ?_
  rintro X av T I L R uc us rfl g hN hu hz ⟨N, rfl, rfl, rfl, hN, hN6, hk⟩
  refine VE.go (ls := [some (.ref 0), none, none, none, none, none, none]) g hu hz (fun _ => rfl) (fun _ => Nat.le_of_ble_eq_true rfl) ?_
  generalize ht : I 1 = t at hk
  have loop : ∀ (n m kk : Nat) (I' : It) (L' : Lt), N + 1 ≤ kk + n → kk ≤ N → pos t N m ≤ kk → sc bW t N kk = plc t N m → (∀ j, j < m → ¬ srt t N j = 0) → tokM (srt t N) (plc t N) (vl t N) m I' L' → I' 0 3 = nI N → I' 0 2 = 0 → cutF I I' → (∀ a, a ≠ 6 → L' a = L a) → V X TM I' L' RM uc us 17 [some (.ref 0), some (.int (nI m)), some (.int (nI kk)), none, none, none, none] [] := by
    intro n
    induction n with
    | zero => intro m kk I' L' h1 h2; exact absurd h1 (by omega)
    | succ n ih =>
      intro m kk I' L' h1 h2 h3 h4 h5 h6 h7 h7' h8 h9
      have hm := tok_le (t := t) (n := N) m h5
      have h1t : ∀ j, I' 1 j = t j := fun j => by rw [h8 1 j (by omega), ht]
      have tail : ∀ (I2 : It) (kE : Nat) (v : Int64) (l3 l4 : Option Value), kk < N → kE = tkE t N (pos t N m) → v = vl t N m → kk < kE → I2 = u2 (u2 I' 5 m (nI (plc t N m))) 4 m (nI (srt t N m)) → ¬ srt t N m = 0 → V X TM I2 L' RM uc us 265 [some (.ref 0), some (.int (nI m)), some (.int (nI kE)), l3, l4, some (.long v), none] [] := by
        intro I2 kE v l3 l4 hkN hE hv hlt hI2 hs
        subst hE hv
        have hEN := (tkE_b (t := t) (pos_le (t := t) (n := N) m)).2.1
        refine V_aload_0 g eX4_cutAll_265 ?_
        refine V_getR g eX4_cutAll_266 flX4_30 rfl rfl rfl ?_
        refine V_iload_1 g eX4_cutAll_269 ?_
        refine V_lload_5 g eX4_cutAll_270 ?_
        refine V_lastN g eX4_cutAll_272 rfl (by omega) (by decide) ?_
        refine V_iinc_1 (v := 1) g eX4_cutAll_273 (by decide) (by decide) rfl ?_
        refine V_goto g eX4_cutAll_276 ?_
        rw [nI_1]
        refine V_kill_3 (V_kill_4 (V_kill_5 ?_))
        refine ih (m + 1) _ I2 _ (by omega) hEN (Nat.le_refl _) rfl (lt_s h5 hs) ?_ ?_ ?_ ?_ ?_
        · intro j hj
          by_cases e : j = m
          · subst e; rw [hI2]; exact ⟨by simp [u2], by simp [u2], by rw [u2_s]⟩
          · have := h6 j (by omega); rw [hI2]; simp only [u2, e, and_false, if_false]; exact this
        · rw [hI2]; simp [u2, h7]
        · rw [hI2]; simp [u2, h7']
        · rw [hI2]; exact (h8.u2 (by simp)).u2 (by simp)
        · intro a ha; rw [u2_o _ _ ha]; exact h9 a ha
      have lett : kk < N → plc t N m = kk → isLt (t kk) → ∀ (q kp : Nat) (l3 : Option Value), N + 1 ≤ kp + q → kk ≤ kp → kp ≤ N → sc bL t N kp = sc bL t N kk → lok l3 = true → V X TM (u2 I' 5 m (nI kk)) L' RM uc us 70 [some (.ref 0), some (.int (nI m)), some (.int (nI kp)), l3, some (.int (nI kk)), some (.long (hsh t kk (min (kp - kk) 8))), none] [] := by
        intro hkN hpl hlt q
        have hpF : tkF t N (pos t N m) = kk := hpl
        induction q with
        | zero => intro kp l3 g1 g2 g3; exact absurd g1 (by omega)
        | succ q iq =>
          intro kp l3 g1 g2 g3 g4 g5
          have fin : sc bL t N kk = kp → V X TM (u2 I' 5 m (nI kk)) L' RM uc us 129 [some (.ref 0), some (.int (nI m)), some (.int (nI kp)), l3, some (.int (nI kk)), some (.long (hsh t kk (min (kp - kk) 8))), none] [] := by
            intro hE
            have hEE : tkE t N (pos t N m) = kp := by unfold tkE; rw [hpF, if_pos hkN, if_pos hlt, hE]
            have hkp : kk < kp := by have := (tkE_b (t := t) (pos_le (t := t) (n := N) m)).2.2; omega
            have hv : hsh t kk (min (kp - kk) 8) = vl t N m := by unfold vl tkV; rw [hpF, if_pos hlt, hEE]
            have hK : srt t N m = if 8 < kp - kk then 4 else 1 := by unfold srt tkK; rw [hpF, if_pos hkN, if_pos hlt, hEE]
            refine V_aload_0 g eX4_cutAll_129 ?_
            refine V_getR g eX4_cutAll_130 flX4_24 rfl rfl rfl ?_
            refine V_iload_1 g eX4_cutAll_133 ?_
            refine V_iload_2 g eX4_cutAll_134 ?_
            refine V_iload_4 g eX4_cutAll_135 ?_
            refine V_isubN g eX4_cutAll_137 (by omega) ?_
            refine V_bipush (v := 8) g eX4_cutAll_138 (by decide) ?_
            refine V_icmp_le g eX4_cutAll_140 (fun c_140 => ?_) (fun c_140 => ?_)
            · refine V_iconst (v := 1) g eX4_cutAll_147 (by decide) ?_
              refine V_iastN g eX4_cutAll_148 rfl (by omega) (by decide) ?_
              refine V_goto g eX4_cutAll_149 ?_
              have q_140 := nI_le' (a := kp - kk) (b := 8) (by omega) (by decide) c_140
              rw [if_neg (by omega)] at hK
              refine tail _ kp _ _ _ hkN hEE.symm hv hkp ?_ (by rw [hK]; decide)
              rw [hpl, hK]; rfl
            · refine V_iconst (v := 4) g eX4_cutAll_143 (by decide) ?_
              refine V_goto g eX4_cutAll_144 ?_
              refine V_iastN g eX4_cutAll_148 rfl (by omega) (by decide) ?_
              refine V_goto g eX4_cutAll_149 ?_
              have q_140 := nI_nle' (a := kp - kk) (b := 8) (by omega) (by decide) c_140
              rw [if_pos (by omega)] at hK
              refine tail _ kp _ _ _ hkN hEE.symm hv hkp ?_ (by rw [hK]; decide)
              rw [hpl, hK]; rfl
          refine V_iload_2 g eX4_cutAll_70 ?_
          refine V_aload_0 g eX4_cutAll_71 ?_
          refine V_getI g eX4_cutAll_72 flX4_172 rfl rfl ?_
          refine V_top (y := nI N) (by simp [u2, h7]) ?_
          refine V_icmp_ge g eX4_cutAll_75 (fun c_75 => ?_) (fun c_75 => ?_)
          · have q_75 := nI_le' (a := N) (b := kp) (by omega) (by omega) c_75
            exact fin (by rw [← g4, sc_n (by omega)])
          · have q_75 := nI_nle' (a := N) (b := kp) (by omega) (by omega) c_75
            refine V_aload_0 g eX4_cutAll_78 ?_
            refine V_getR g eX4_cutAll_79 flX4_14 rfl rfl rfl ?_
            refine V_iload_2 g eX4_cutAll_82 ?_
            refine V_ialdN g eX4_cutAll_83 rfl (by omega) (by decide) ?_
            refine V_top (y := t kp) (by simp [u2, h1t]) ?_
            refine V_cs1 g (ctX4_isLetter _) eX4_cutAll_84 pkX4_168 (by decide) (Nat.le_of_ble_eq_true rfl) ?_
            refine ⟨_, rfl, rfl, rfl, ?_⟩
            refine V_if_eqB g eX4_cutAll_87 (fun c_87 => ?_) (fun c_87 => ?_)
            · exact fin (by rw [← g4, sc_n (fun q => c_87 (bL_iff.mp q.2))])
            · refine V_iload_2 g eX4_cutAll_90 ?_
              refine V_iload_4 g eX4_cutAll_91 ?_
              refine V_isubN g eX4_cutAll_93 (by omega) ?_
              refine V_bipush (v := 8) g eX4_cutAll_94 (by decide) ?_
              refine V_icmp_ge g eX4_cutAll_96 (fun c_96 => ?_) (fun c_96 => ?_)
              · refine V_lload_5 g eX4_cutAll_119 ?_
                refine V_lstore_5 g eX4_cutAll_121 (by decide) rfl ?_
                refine V_iinc_2 (v := 1) g eX4_cutAll_123 (by decide) (by decide) rfl ?_
                refine V_goto g eX4_cutAll_126 ?_
                have q_96 := nI_le' (a := 8) (b := kp - kk) (by decide) (by omega) c_96
                rw [nI_1]
                refine V_ls (ls' := [some (.ref 0), some (.int (nI m)), some (.int (nI (kp + 1))), l3, some (.int (nI kk)), some (.long (hsh t kk (min (kp + 1 - kk) 8))), none]) ?_ (iq (kp + 1) l3 (by omega) (by omega) (by omega) (by rw [← g4, sc_y q_75 (bL_iff.mpr c_87)]) g5)
                rw [show min (kp - kk) 8 = 8 by omega, show min (kp + 1 - kk) 8 = 8 by omega]
              · refine V_ldc2 g eX4_cutAll_99 (lk q1421) ?_
                refine V_lload_5 g eX4_cutAll_102 ?_
                refine V_lmul g eX4_cutAll_104 ?_
                refine V_aload_0 g eX4_cutAll_105 ?_
                refine V_getR g eX4_cutAll_106 flX4_14 rfl rfl rfl ?_
                refine V_iload_2 g eX4_cutAll_109 ?_
                refine V_ialdN g eX4_cutAll_110 rfl (by omega) (by decide) ?_
                refine V_top (y := t kp) (by simp [u2, h1t]) ?_
                refine V_cs1 g (ctX4_rank _) eX4_cutAll_111 pkX4_177 (by decide) (Nat.le_of_ble_eq_true rfl) ?_
                refine ⟨_, rfl, rfl, rfl, ?_⟩
                rw [if_pos c_87]
                refine V_i2l g eX4_cutAll_114 ?_
                refine V_ladd g eX4_cutAll_115 ?_
                refine V_goto g eX4_cutAll_116 ?_
                refine V_lstore_5 g eX4_cutAll_121 (by decide) rfl ?_
                refine V_iinc_2 (v := 1) g eX4_cutAll_123 (by decide) (by decide) rfl ?_
                refine V_goto g eX4_cutAll_126 ?_
                have q_96 := nI_nle' (a := 8) (b := kp - kk) (by decide) (by omega) c_96
                rw [nI_1]
                refine V_ls (ls' := [some (.ref 0), some (.int (nI m)), some (.int (nI (kp + 1))), l3, some (.int (nI kk)), some (.long (hsh t kk (min (kp + 1 - kk) 8))), none]) ?_ (iq (kp + 1) l3 (by omega) (by omega) (by omega) (by rw [← g4, sc_y q_75 (bL_iff.mpr c_87)]) g5)
                rw [show min (kp - kk) 8 = kp - kk by omega, show min (kp + 1 - kk) 8 = (kp - kk) + 1 by omega, hsh, show kk + (kp - kk) = kp by omega]
      have digi : kk < N → plc t N m = kk → ¬ isLt (t kk) → isDg (t kk) → ∀ (q kp : Nat) (l3 : Option Value), N + 1 ≤ kp + q → kk ≤ kp → kp ≤ N → sc bD t N kp = sc bD t N kk → lok l3 = true → V X TM (u2 I' 5 m (nI kk)) L' RM uc us 159 [some (.ref 0), some (.int (nI m)), some (.int (nI kp)), l3, some (.int (nI kk)), some (.long (dgs t kk (min (kp - kk) 4))), none] [] := by
        intro hkN hpl hnl hlt q
        have hpF : tkF t N (pos t N m) = kk := hpl
        induction q with
        | zero => intro kp l3 g1 g2 g3; exact absurd g1 (by omega)
        | succ q iq =>
          intro kp l3 g1 g2 g3 g4 g5
          have fin : sc bD t N kk = kp → V X TM (u2 I' 5 m (nI kk)) L' RM uc us 218 [some (.ref 0), some (.int (nI m)), some (.int (nI kp)), l3, some (.int (nI kk)), some (.long (dgs t kk (min (kp - kk) 4))), none] [] := by
            intro hE
            have hEE : tkE t N (pos t N m) = kp := by unfold tkE; rw [hpF, if_pos hkN, if_neg hnl, if_pos hlt, hE]
            have hkp : kk < kp := by have := (tkE_b (t := t) (pos_le (t := t) (n := N) m)).2.2; omega
            have hv : dgs t kk (min (kp - kk) 4) = vl t N m := by unfold vl tkV; rw [hpF, if_neg hnl, if_pos hlt, hEE]
            have hK : srt t N m = if 4 < kp - kk then 4 else 2 := by unfold srt tkK; rw [hpF, if_pos hkN, if_neg hnl, if_pos hlt, hEE]
            refine V_aload_0 g eX4_cutAll_218 ?_
            refine V_getR g eX4_cutAll_219 flX4_24 rfl rfl rfl ?_
            refine V_iload_1 g eX4_cutAll_222 ?_
            refine V_iload_2 g eX4_cutAll_223 ?_
            refine V_iload_4 g eX4_cutAll_224 ?_
            refine V_isubN g eX4_cutAll_226 (by omega) ?_
            refine V_iconst (v := 4) g eX4_cutAll_227 (by decide) ?_
            refine V_icmp_le g eX4_cutAll_228 (fun c_228 => ?_) (fun c_228 => ?_)
            · refine V_iconst (v := 2) g eX4_cutAll_235 (by decide) ?_
              refine V_iastN g eX4_cutAll_236 rfl (by omega) (by decide) ?_
              refine V_goto g eX4_cutAll_237 ?_
              have q_228 := nI_le' (a := kp - kk) (b := 4) (by omega) (by decide) c_228
              rw [if_neg (by omega)] at hK
              refine tail _ kp _ _ _ hkN hEE.symm hv hkp ?_ (by rw [hK]; decide)
              rw [hpl, hK]; rfl
            · refine V_iconst (v := 4) g eX4_cutAll_231 (by decide) ?_
              refine V_goto g eX4_cutAll_232 ?_
              refine V_iastN g eX4_cutAll_236 rfl (by omega) (by decide) ?_
              refine V_goto g eX4_cutAll_237 ?_
              have q_228 := nI_nle' (a := kp - kk) (b := 4) (by omega) (by decide) c_228
              rw [if_pos (by omega)] at hK
              refine tail _ kp _ _ _ hkN hEE.symm hv hkp ?_ (by rw [hK]; decide)
              rw [hpl, hK]; rfl
          refine V_iload_2 g eX4_cutAll_159 ?_
          refine V_aload_0 g eX4_cutAll_160 ?_
          refine V_getI g eX4_cutAll_161 flX4_172 rfl rfl ?_
          refine V_top (y := nI N) (by simp [u2, h7]) ?_
          refine V_icmp_ge g eX4_cutAll_164 (fun c_164 => ?_) (fun c_164 => ?_)
          · have q_164 := nI_le' (a := N) (b := kp) (by omega) (by omega) c_164
            exact fin (by rw [← g4, sc_n (by omega)])
          · have q_164 := nI_nle' (a := N) (b := kp) (by omega) (by omega) c_164
            refine V_aload_0 g eX4_cutAll_167 ?_
            refine V_getR g eX4_cutAll_168 flX4_14 rfl rfl rfl ?_
            refine V_iload_2 g eX4_cutAll_171 ?_
            refine V_ialdN g eX4_cutAll_172 rfl (by omega) (by decide) ?_
            refine V_top (y := t kp) (by simp [u2, h1t]) ?_
            refine V_cs1 g (ctX4_isDigit _) eX4_cutAll_173 pkX4_181 (by decide) (Nat.le_of_ble_eq_true rfl) ?_
            refine ⟨_, rfl, rfl, rfl, ?_⟩
            refine V_if_eqB g eX4_cutAll_176 (fun c_176 => ?_) (fun c_176 => ?_)
            · exact fin (by rw [← g4, sc_n (fun q => c_176 (bD_iff.mp q.2))])
            · refine V_iload_2 g eX4_cutAll_179 ?_
              refine V_iload_4 g eX4_cutAll_180 ?_
              refine V_isubN g eX4_cutAll_182 (by omega) ?_
              refine V_iconst (v := 4) g eX4_cutAll_183 (by decide) ?_
              refine V_icmp_ge g eX4_cutAll_184 (fun c_184 => ?_) (fun c_184 => ?_)
              · refine V_lload_5 g eX4_cutAll_208 ?_
                refine V_lstore_5 g eX4_cutAll_210 (by decide) rfl ?_
                refine V_iinc_2 (v := 1) g eX4_cutAll_212 (by decide) (by decide) rfl ?_
                refine V_goto g eX4_cutAll_215 ?_
                have q_184 := nI_le' (a := 4) (b := kp - kk) (by decide) (by omega) c_184
                rw [nI_1]
                refine V_ls (ls' := [some (.ref 0), some (.int (nI m)), some (.int (nI (kp + 1))), l3, some (.int (nI kk)), some (.long (dgs t kk (min (kp + 1 - kk) 4))), none]) ?_ (iq (kp + 1) l3 (by omega) (by omega) (by omega) (by rw [← g4, sc_y q_164 (bD_iff.mpr c_176)]) g5)
                rw [show min (kp - kk) 4 = 4 by omega, show min (kp + 1 - kk) 4 = 4 by omega]
              · refine V_ldc2 g eX4_cutAll_187 (lk q1428) ?_
                refine V_lload_5 g eX4_cutAll_190 ?_
                refine V_lmul g eX4_cutAll_192 ?_
                refine V_aload_0 g eX4_cutAll_193 ?_
                refine V_getR g eX4_cutAll_194 flX4_14 rfl rfl rfl ?_
                refine V_iload_2 g eX4_cutAll_197 ?_
                refine V_ialdN g eX4_cutAll_198 rfl (by omega) (by decide) ?_
                refine V_top (y := t kp) (by simp [u2, h1t]) ?_
                refine V_i2l g eX4_cutAll_199 ?_
                refine V_ladd g eX4_cutAll_200 ?_
                refine V_ldc2 g eX4_cutAll_201 (lk q1429) ?_
                refine V_lsub g eX4_cutAll_204 ?_
                refine V_goto g eX4_cutAll_205 ?_
                refine V_lstore_5 g eX4_cutAll_210 (by decide) rfl ?_
                refine V_iinc_2 (v := 1) g eX4_cutAll_212 (by decide) (by decide) rfl ?_
                refine V_goto g eX4_cutAll_215 ?_
                have q_184 := nI_nle' (a := 4) (b := kp - kk) (by decide) (by omega) c_184
                rw [nI_1]
                refine V_ls (ls' := [some (.ref 0), some (.int (nI m)), some (.int (nI (kp + 1))), l3, some (.int (nI kk)), some (.long (dgs t kk (min (kp + 1 - kk) 4))), none]) ?_ (iq (kp + 1) l3 (by omega) (by omega) (by omega) (by rw [← g4, sc_y q_164 (bD_iff.mpr c_176)]) g5)
                rw [show min (kp - kk) 4 = kp - kk by omega, show min (kp + 1 - kk) 4 = (kp - kk) + 1 by omega, dgs, show kk + (kp - kk) = kp by omega]
      refine V_iload_2 g eX4_cutAll_17 ?_
      refine V_aload_0 g eX4_cutAll_18 ?_
      refine V_getI g eX4_cutAll_19 flX4_172 rfl rfl ?_
      refine V_top (y := nI N) h7 ?_
      refine V_icmp_ge g eX4_cutAll_22 (fun c_22 => ?_) (fun c_22 => ?_)
      · refine V_aload_0 g eX4_cutAll_279 ?_
        refine V_getR g eX4_cutAll_280 flX4_24 rfl rfl rfl ?_
        refine V_iload_1 g eX4_cutAll_283 ?_
        refine V_iconst (v := 0) g eX4_cutAll_284 (by decide) ?_
        refine V_iastN g eX4_cutAll_285 rfl (by omega) (by decide) ?_
        refine V_aload_0 g eX4_cutAll_286 ?_
        refine V_getR g eX4_cutAll_287 flX4_27 rfl rfl rfl ?_
        refine V_iload_1 g eX4_cutAll_290 ?_
        refine V_aload_0 g eX4_cutAll_291 ?_
        refine V_getI g eX4_cutAll_292 flX4_172 rfl rfl ?_
        refine V_top (y := nI N) (by simp [u2, h7]) ?_
        refine V_iastN g eX4_cutAll_295 rfl (by omega) (by decide) ?_
        refine V_aload_0 g eX4_cutAll_296 ?_
        refine V_iconst (v := 0) g eX4_cutAll_297 (by decide) ?_
        refine V_putI g eX4_cutAll_298 pflX4_191 rfl rfl rfl rfl ?_
        refine V_aload_0 g eX4_cutAll_301 ?_
        refine V_iconst (v := 0) g eX4_cutAll_302 (by decide) ?_
        refine V_putI g eX4_cutAll_303 pflX4_194 rfl rfl rfl rfl ?_
        refine V_vret g eX4_cutAll_306 ?_
        have q_22 := nI_le' (a := N) (b := kk) (by omega) (by omega) c_22
        obtain rfl : kk = N := by omega
        have hpN : plc t kk m = kk := by rw [← h4, sc_n (by omega)]
        refine hk _ _ m (by have := plc_le (t := t) (n := kk) (i := m); have := pos_le (t := t) (n := kk) m; omega) h5 (srt_0.mpr hpN) ?_ (by simp [u2]) (by simp [u2]) (by simp [u2]) (by simp [u2]) (by simp [u2, h7']) ((((h8.u2 (by simp)).u2 (by simp)).u2 (by simp)).u2 (by simp)) h9
        intro j hj
        have := h6 j hj
        have e : j ≠ m := by omega
        simp [u2, e]
        exact this
      · have q_22 := nI_nle' (a := N) (b := kk) (by omega) (by omega) c_22
        refine V_aload_0 g eX4_cutAll_25 ?_
        refine V_getR g eX4_cutAll_26 flX4_14 rfl rfl rfl ?_
        refine V_iload_2 g eX4_cutAll_29 ?_
        refine V_ialdN g eX4_cutAll_30 rfl (by omega) (by decide) ?_
        refine V_top (y := t kk) (h1t kk) ?_
        refine V_istore_3 g eX4_cutAll_31 (by decide) rfl ?_
        refine V_iload_3 g eX4_cutAll_32 ?_
        refine V_bipush (v := 10) g eX4_cutAll_33 (by decide) ?_
        refine V_icmp_eq g eX4_cutAll_35 (fun c_35 => ?_) (fun c_35 => ?_)
        · refine V_iinc_2 (v := 1) g eX4_cutAll_44 (by decide) (by decide) rfl ?_
          refine V_goto g eX4_cutAll_47 ?_
          rw [nI_1]
          refine V_kill_3 ?_
          exact ih m (kk + 1) I' L' (by omega) (by omega) (by omega) (by rw [← h4, sc_y q_22 (bW_iff.mpr (Or.inl c_35))]) h5 h6 h7 h7' h8 h9
        · refine V_iload_3 g eX4_cutAll_38 ?_
          refine V_bipush (v := 32) g eX4_cutAll_39 (by decide) ?_
          refine V_icmp_ne g eX4_cutAll_41 (fun c_41 => ?_) (fun c_41 => ?_)
          · have hpl : plc t N m = kk := by rw [← h4, sc_n (fun q => by rcases bW_iff.mp q.2 with q | q; exact c_35 q; exact c_41 q)]
            have hpF : tkF t N (pos t N m) = kk := hpl
            refine V_iload_2 g eX4_cutAll_50 ?_
            refine V_istore_4 g eX4_cutAll_51 (by decide) rfl ?_
            refine V_lconst (v := 0) g eX4_cutAll_53 (by decide) ?_
            refine V_lstore_5 g eX4_cutAll_54 (by decide) rfl ?_
            refine V_aload_0 g eX4_cutAll_56 ?_
            refine V_getR g eX4_cutAll_57 flX4_27 rfl rfl rfl ?_
            refine V_iload_1 g eX4_cutAll_60 ?_
            refine V_iload_2 g eX4_cutAll_61 ?_
            refine V_iastN g eX4_cutAll_62 rfl (by omega) (by decide) ?_
            refine V_iload_3 g eX4_cutAll_63 ?_
            refine V_cs1 g (ctX4_isLetter _) eX4_cutAll_64 pkX4_168 (by decide) (Nat.le_of_ble_eq_true rfl) ?_
            refine ⟨_, rfl, rfl, rfl, ?_⟩
            refine V_if_eqB g eX4_cutAll_67 (fun c_67 => ?_) (fun c_67 => ?_)
            · refine V_iload_3 g eX4_cutAll_152 ?_
              refine V_cs1 g (ctX4_isDigit _) eX4_cutAll_153 pkX4_181 (by decide) (Nat.le_of_ble_eq_true rfl) ?_
              refine ⟨_, rfl, rfl, rfl, ?_⟩
              refine V_if_eqB g eX4_cutAll_156 (fun c_156 => ?_) (fun c_156 => ?_)
              · have hEE : tkE t N (pos t N m) = kk + 1 := by unfold tkE; rw [hpF, if_pos q_22, if_neg c_67, if_neg c_156]
                have hv : (t kk).toInt64 = vl t N m := by unfold vl tkV; rw [hpF, if_neg c_67, if_neg c_156]
                have hK : srt t N m = if isSg (t kk) then 3 else 4 := by unfold srt tkK; rw [hpF, if_pos q_22, if_neg c_67, if_neg c_156]
                refine V_iload_3 g eX4_cutAll_240 ?_
                refine V_i2l g eX4_cutAll_241 ?_
                refine V_lstore_5 g eX4_cutAll_242 (by decide) rfl ?_
                refine V_aload_0 g eX4_cutAll_244 ?_
                refine V_getR g eX4_cutAll_245 flX4_24 rfl rfl rfl ?_
                refine V_iload_1 g eX4_cutAll_248 ?_
                refine V_iload_3 g eX4_cutAll_249 ?_
                refine V_cs1 g (ctX4_isSignOf _) eX4_cutAll_250 pkX4_188 (by decide) (Nat.le_of_ble_eq_true rfl) ?_
                refine ⟨_, rfl, rfl, rfl, ?_⟩
                refine V_if_eqB g eX4_cutAll_253 (fun c_253 => ?_) (fun c_253 => ?_)
                · refine V_iconst (v := 4) g eX4_cutAll_260 (by decide) ?_
                  refine V_iastN g eX4_cutAll_261 rfl (by omega) (by decide) ?_
                  refine V_iinc_2 (v := 1) g eX4_cutAll_262 (by decide) (by decide) rfl ?_
                  rw [nI_1]
                  rw [if_neg c_253] at hK
                  refine tail _ (kk + 1) _ _ _ q_22 hEE.symm hv (by omega) ?_ (by rw [hK]; decide)
                  rw [hpl, hK]; rfl
                · refine V_iconst (v := 3) g eX4_cutAll_256 (by decide) ?_
                  refine V_goto g eX4_cutAll_257 ?_
                  refine V_iastN g eX4_cutAll_261 rfl (by omega) (by decide) ?_
                  refine V_iinc_2 (v := 1) g eX4_cutAll_262 (by decide) (by decide) rfl ?_
                  rw [nI_1]
                  rw [if_pos c_253] at hK
                  refine tail _ (kk + 1) _ _ _ q_22 hEE.symm hv (by omega) ?_ (by rw [hK]; decide)
                  rw [hpl, hK]; rfl
              · refine V_ls (ls' := [some (.ref 0), some (.int (nI m)), some (.int (nI kk)), some (.int (t kk)), some (.int (nI kk)), some (.long (dgs t kk (min (kk - kk) 4))), none]) (by rw [Nat.sub_self]; rfl) ?_
                exact digi q_22 hpl c_67 c_156 (N + 1) kk _ (by omega) (by omega) h2 rfl rfl
            · refine V_ls (ls' := [some (.ref 0), some (.int (nI m)), some (.int (nI kk)), some (.int (t kk)), some (.int (nI kk)), some (.long (hsh t kk (min (kk - kk) 8))), none]) (by rw [Nat.sub_self]; rfl) ?_
              exact lett q_22 hpl c_67 (N + 1) kk _ (by omega) (by omega) h2 rfl rfl
          · refine V_iinc_2 (v := 1) g eX4_cutAll_44 (by decide) (by decide) rfl ?_
            refine V_goto g eX4_cutAll_47 ?_
            rw [nI_1]
            refine V_kill_3 ?_
            exact ih m (kk + 1) I' L' (by omega) (by omega) (by omega) (by rw [← h4, sc_y q_22 (bW_iff.mpr (Or.inr c_41))]) h5 h6 h7 h7' h8 h9
  refine V_aload_0 g eX4_cutAll_0 ?_
  refine V_aload_0 g eX4_cutAll_1 ?_
  refine V_getI g eX4_cutAll_2 flX4_11 rfl rfl ?_
  refine V_top (y := nI N) hN ?_
  refine V_putI g eX4_cutAll_5 pflX4_172 rfl rfl rfl rfl ?_
  refine V_aload_0 g eX4_cutAll_8 ?_
  refine V_iconst (v := 0) g eX4_cutAll_9 (by decide) ?_
  refine V_putI g eX4_cutAll_10 pflX4_11 rfl rfl rfl rfl ?_
  refine V_iconst (v := 0) g eX4_cutAll_13 (by decide) ?_
  refine V_istore_1 g eX4_cutAll_14 (by decide) rfl ?_
  refine V_iconst (v := 0) g eX4_cutAll_15 (by decide) ?_
  refine V_istore_2 g eX4_cutAll_16 (by decide) rfl ?_
  exact loop (N + 1) 0 0 _ _ (by omega) (by omega) (Nat.le_refl _) rfl (fun j hj => absurd hj (by omega)) (fun j hj => absurd hj (by omega)) (by simp [u2]) (by simp [u2]) (cutF.u2 (cutF.u2 (fun a j _ => rfl) (by simp)) (by simp)) (fun _ _ => rfl)

